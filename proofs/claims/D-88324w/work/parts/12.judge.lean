/-! the judgement: a point of a method's body, over an abstract heap (printed by gen/mkjudge.py) -/
abbrev LV : Type := Int32 ⊕ (Int64 ⊕ Option Nat)
abbrev vi (x : Int32) : LV := Sum.inl x
abbrev vl (x : Int64) : LV := Sum.inr (Sum.inl x)
abbrev vr (r : Option Nat) : LV := Sum.inr (Sum.inr r)
def tv : LV → Value := fun v => match v with
  | .inl x => .int x
  | .inr (.inl x) => .long x
  | .inr (.inr r) => va_rf r
def lc : LV → Nat := fun v => match v with
  | .inr (.inl _) => 2
  | _ => 1
theorem lc_ok (v : LV) : (tv v).category = lc v := by
  rcases v with x | x | r
  · rfl
  · rfl
  · cases r <;> rfl
abbrev LL : Type := List (Nat × LV)
def ls_tv (L : LL) : List (Nat × Value) := L.map (fun q => (q.1, tv q.2))
def ls_ok (i w : Nat) (q : Nat × LV) : Bool := !(q.1 == i) && (!(w == 2 && q.1 == i + 1) && !(q.1 + 1 == i && lc q.2 == 2))
def ls_put (i : Nat) (v : LV) (L : LL) : LL := (i, v) :: L.filter (ls_ok i (lc v))
theorem ls_tv_at {L : LL} {j i : Nat} {v : LV} (h : L[j]? = some (i, v)) : (ls_tv L)[j]? = some (i, tv v) := by simp [ls_tv, h]
theorem ls_put1 (i : Nat) (v : LV) (L : LL) (h : lc v = 1) : ls_tv (ls_put i v L) = (i, tv v) :: (ls_tv L).filter (fun q => !(q.1 == i) && !(q.1 + 1 == i && q.2.category == 2)) := by
  unfold ls_put ls_tv
  rw [List.map_cons, List.filter_map]
  congr 2
  apply List.filter_congr
  intro q _
  simp [ls_ok, h, lc_ok]
theorem ls_put2 (i : Nat) (v : LV) (L : LL) (h : lc v = 2) : ls_tv (ls_put i v L) = (i, tv v) :: (ls_tv L).filter (fun q => !(q.1 == i) && (!(q.1 == i + 1) && !(q.1 + 1 == i && q.2.category == 2))) := by
  unfold ls_put ls_tv
  rw [List.map_cons, List.filter_map]
  congr 2
  apply List.filter_congr
  intro q _
  simp [ls_ok, h, lc_ok]
/-- what stands fast in a method's walk: launch, places of the world, code, own class, locals, room (frames, locals), cells and slots at its start and at its end, what is owed at the end, the answer's type, constructor or not, the handlers -/
abbrev CfT : Type := Launch × PG × ByteArray × String × Nat × (Nat × Nat) × (Nat × Nat) × (Nat × Nat) × (List Frame → Array Value → State → State → Prop) × Option FieldType × Bool × List ExceptionTableEntry
def cf_l (c : CfT) : Launch := c.1
def cf_g (c : CfT) : PG := c.2.1
def cf_cc (c : CfT) : ByteArray := c.2.2.1
def cf_ow (c : CfT) : String := c.2.2.2.1
def cf_nL (c : CfT) : Nat := c.2.2.2.2.1
def cf_rm (c : CfT) : Nat × Nat := c.2.2.2.2.2.1
def cf_in (c : CfT) : Nat × Nat := c.2.2.2.2.2.2.1
def cf_fi (c : CfT) : Nat × Nat := c.2.2.2.2.2.2.2.1
def cf_Q (c : CfT) : List Frame → Array Value → State → State → Prop := c.2.2.2.2.2.2.2.2.1
def cf_re (c : CfT) : Option FieldType := c.2.2.2.2.2.2.2.2.2.1
def cf_ct (c : CfT) : Bool := c.2.2.2.2.2.2.2.2.2.2.1
def cf_ex (c : CfT) : List ExceptionTableEntry := c.2.2.2.2.2.2.2.2.2.2.2
def cf_R (c : CfT) : Room := { frames := (cf_rm c).1, cells := (cf_fi c).1 - (cf_in c).1, slots := (cf_fi c).2 - (cf_in c).2, locals := (cf_rm c).2 }
def Fix (f : CfT) (p : Program) (s : State) (m : MethodId) (args : Array Value) (meth : Method) (c : Code) : Prop :=
  p.tables.exec = Jvm.exec ∧ c.code = cf_cc f ∧ c.maxLocals = cf_nL f ∧ s.vm.findClass (cf_ow f) = some m.cls ∧ (∀ w ∈ lw_all, w.before args s = true) ∧ EV (cf_g f) s ∧ meth.sig.returnType = cf_re f ∧ meth.locks = false ∧ (cf_ct f = true → meth.name = "<init>") ∧ c.exceptionTable.toList = cf_ex f
def JJ (f : CfT) (S : HS) (mo : MO) (pc : Nat) (L : LL) (st : List LV) : Prop :=
  (h_nx S ≤ (cf_fi f).1 ∧ h_sl S ≤ (cf_fi f).2) ∧
  ∀ (p : Program) (e : Env) (s : State) (m : MethodId) (args : Array Value) (below : List Frame) (meth : Method) (c : Code), Fix f p s m args meth c →
    ∀ (ls : Array Slot) (H : Heap) (locs : List Loc) (cells slots : Nat), lv_has ls (cf_nL f) (ls_tv L) → Wd (cf_g f) S mo H → va_S (g_A (cf_g f)) s.heap H locs → cells + (cf_in f).1 = h_nx S → slots + (cf_in f).2 = h_sl S →
      W p (cf_l f) e (cf_R f) s m args below meth c H locs cells slots (cf_Q f below args s) (F0 m pc ls (st.map tv))
section JR
variable {f : CfT} {S S' : HS} {mo : MO} {pc : Nat} {L L' : LL} {st : List LV} {cc : ByteArray}
theorem j_iconst (hc : cf_cc f = cc) {n : Int} {v : Int32} (d : decode cc pc = .ok (.iconst n, 1)) (hv : Int32.ofInt n = v) (K : JJ f S mo (pc + 1) L (vi v :: st)) : JJ f S mo pc L (st) :=
  ⟨K.1, fun p e s m args below meth c X ls H locs cells slots hl hW hS h1 h2 => lv_iconst X.1 (X.2.1.trans hc) d hv (K.2 p e s m args below meth c X ls H locs cells slots hl hW hS h1 h2)⟩
theorem j_bipush (hc : cf_cc f = cc) {n : Int} {v : Int32} (d : decode cc pc = .ok (.bipush n, 2)) (hv : (Int8.ofInt n).toInt32 = v) (K : JJ f S mo (pc + 2) L (vi v :: st)) : JJ f S mo pc L (st) :=
  ⟨K.1, fun p e s m args below meth c X ls H locs cells slots hl hW hS h1 h2 => lv_bipush X.1 (X.2.1.trans hc) d hv (K.2 p e s m args below meth c X ls H locs cells slots hl hW hS h1 h2)⟩
theorem j_sipush (hc : cf_cc f = cc) {n : Int} {v : Int32} (d : decode cc pc = .ok (.sipush n, 3)) (hv : (Int16.ofInt n).toInt32 = v) (K : JJ f S mo (pc + 3) L (vi v :: st)) : JJ f S mo pc L (st) :=
  ⟨K.1, fun p e s m args below meth c X ls H locs cells slots hl hW hS h1 h2 => lv_sipush X.1 (X.2.1.trans hc) d hv (K.2 p e s m args below meth c X ls H locs cells slots hl hW hS h1 h2)⟩
theorem j_lconst (hc : cf_cc f = cc) {n : Fin 2} {v : Int64} (d : decode cc pc = .ok (.lconst n, 1)) (hv : Int64.ofNat (n : Nat) = v) (K : JJ f S mo (pc + 1) L (vl v :: st)) : JJ f S mo pc L (st) :=
  ⟨K.1, fun p e s m args below meth c X ls H locs cells slots hl hW hS h1 h2 => lv_lconst X.1 (X.2.1.trans hc) d hv (K.2 p e s m args below meth c X ls H locs cells slots hl hW hS h1 h2)⟩
theorem j_null (hc : cf_cc f = cc) (d : decode cc pc = .ok (.aconst_null, 1)) (K : JJ f S mo (pc + 1) L (vr none :: st)) : JJ f S mo pc L (st) :=
  ⟨K.1, fun p e s m args below meth c X ls H locs cells slots hl hW hS h1 h2 => lv_null X.1 (X.2.1.trans hc) d (K.2 p e s m args below meth c X ls H locs cells slots hl hW hS h1 h2)⟩
theorem j_iload_n (hc : cf_cc f = cc) {k : Fin 4} {i : Nat} {x : Int32} (d : decode cc pc = .ok (.iload_n k, 1)) (j : Nat) (hv : L[j]? = some (i, vi x)) (hi : (k : Nat) = i) (K : JJ f S mo (pc + 1) L (vi x :: st)) : JJ f S mo pc L (st) :=
  ⟨K.1, fun p e s m args below meth c X ls H locs cells slots hl hW hS h1 h2 => lv_iload_n X.1 (X.2.1.trans hc) d hi (lv_at hl j (ls_tv_at hv)) (K.2 p e s m args below meth c X ls H locs cells slots hl hW hS h1 h2)⟩
theorem j_iload (hc : cf_cc f = cc) {i : Nat} {x : Int32} (d : decode cc pc = .ok (.iload i, 2)) (j : Nat) (hv : L[j]? = some (i, vi x)) (K : JJ f S mo (pc + 2) L (vi x :: st)) : JJ f S mo pc L (st) :=
  ⟨K.1, fun p e s m args below meth c X ls H locs cells slots hl hW hS h1 h2 => lv_iload X.1 (X.2.1.trans hc) d (lv_at hl j (ls_tv_at hv)) (K.2 p e s m args below meth c X ls H locs cells slots hl hW hS h1 h2)⟩
theorem j_lload_n (hc : cf_cc f = cc) {k : Fin 4} {i : Nat} {x : Int64} (d : decode cc pc = .ok (.lload_n k, 1)) (j : Nat) (hv : L[j]? = some (i, vl x)) (hi : (k : Nat) = i) (K : JJ f S mo (pc + 1) L (vl x :: st)) : JJ f S mo pc L (st) :=
  ⟨K.1, fun p e s m args below meth c X ls H locs cells slots hl hW hS h1 h2 => lv_lload_n X.1 (X.2.1.trans hc) d hi (lv_at hl j (ls_tv_at hv)) (K.2 p e s m args below meth c X ls H locs cells slots hl hW hS h1 h2)⟩
theorem j_lload (hc : cf_cc f = cc) {i : Nat} {x : Int64} (d : decode cc pc = .ok (.lload i, 2)) (j : Nat) (hv : L[j]? = some (i, vl x)) (K : JJ f S mo (pc + 2) L (vl x :: st)) : JJ f S mo pc L (st) :=
  ⟨K.1, fun p e s m args below meth c X ls H locs cells slots hl hW hS h1 h2 => lv_lload X.1 (X.2.1.trans hc) d (lv_at hl j (ls_tv_at hv)) (K.2 p e s m args below meth c X ls H locs cells slots hl hW hS h1 h2)⟩
theorem j_aload_n (hc : cf_cc f = cc) {k : Fin 4} {i : Nat} {x : Option Nat} (d : decode cc pc = .ok (.aload_n k, 1)) (j : Nat) (hv : L[j]? = some (i, vr x)) (hi : (k : Nat) = i) (K : JJ f S mo (pc + 1) L (vr x :: st)) : JJ f S mo pc L st :=
  ⟨K.1, fun p e s m args below meth c X ls H locs cells slots hl hW hS h1 h2 => by
    have h := K.2 p e s m args below meth c X ls H locs cells slots hl hW hS h1 h2
    have q := lv_at hl j (ls_tv_at hv)
    cases x with
    | none => exact lv_aload_nN X.1 (X.2.1.trans hc) d hi q h
    | some a => exact lv_aload_n X.1 (X.2.1.trans hc) d hi q h⟩
theorem j_aload (hc : cf_cc f = cc) {i : Nat} {x : Option Nat} (d : decode cc pc = .ok (.aload i, 2)) (j : Nat) (hv : L[j]? = some (i, vr x)) (K : JJ f S mo (pc + 2) L (vr x :: st)) : JJ f S mo pc L st :=
  ⟨K.1, fun p e s m args below meth c X ls H locs cells slots hl hW hS h1 h2 => by
    have h := K.2 p e s m args below meth c X ls H locs cells slots hl hW hS h1 h2
    have q := lv_at hl j (ls_tv_at hv)
    cases x with
    | none => exact lv_aloadN X.1 (X.2.1.trans hc) d q h
    | some a => exact lv_aload X.1 (X.2.1.trans hc) d q h⟩
theorem j_istore_n (hc : cf_cc f = cc) {k : Fin 4} {i nL : Nat} {x : Int32} (d : decode cc pc = .ok (.istore_n k, 1)) (hi : (k : Nat) = i) (hn : cf_nL f = nL) (hb : i < nL) (hp : ls_put i (vi x) L = L') (K : JJ f S mo (pc + 1) L' st) : JJ f S mo pc L (vi x :: st) :=
  ⟨K.1, fun p e s m args below meth c X ls H locs cells slots hl hW hS h1 h2 => lv_istore_n X.1 (X.2.1.trans hc) d hi hl (by rw [hn]; exact hb) (by rw [← hp, ls_put1 _ _ _ rfl]; rfl) (fun ls2 hl2 => K.2 p e s m args below meth c X ls2 H locs cells slots hl2 hW hS h1 h2)⟩
theorem j_istore (hc : cf_cc f = cc) {i nL : Nat} {x : Int32} (d : decode cc pc = .ok (.istore i, 2)) (hn : cf_nL f = nL) (hb : i < nL) (hp : ls_put i (vi x) L = L') (K : JJ f S mo (pc + 2) L' st) : JJ f S mo pc L (vi x :: st) :=
  ⟨K.1, fun p e s m args below meth c X ls H locs cells slots hl hW hS h1 h2 => lv_istore X.1 (X.2.1.trans hc) d hl (by rw [hn]; exact hb) (by rw [← hp, ls_put1 _ _ _ rfl]; rfl) (fun ls2 hl2 => K.2 p e s m args below meth c X ls2 H locs cells slots hl2 hW hS h1 h2)⟩
theorem j_lstore_n (hc : cf_cc f = cc) {k : Fin 4} {i nL : Nat} {x : Int64} (d : decode cc pc = .ok (.lstore_n k, 1)) (hi : (k : Nat) = i) (hn : cf_nL f = nL) (hb : i + 1 < nL) (hp : ls_put i (vl x) L = L') (K : JJ f S mo (pc + 1) L' st) : JJ f S mo pc L (vl x :: st) :=
  ⟨K.1, fun p e s m args below meth c X ls H locs cells slots hl hW hS h1 h2 => lv_lstore_n X.1 (X.2.1.trans hc) d hi hl (by rw [hn]; exact hb) (by rw [← hp, ls_put2 _ _ _ rfl]; rfl) (fun ls2 hl2 => K.2 p e s m args below meth c X ls2 H locs cells slots hl2 hW hS h1 h2)⟩
theorem j_lstore (hc : cf_cc f = cc) {i nL : Nat} {x : Int64} (d : decode cc pc = .ok (.lstore i, 2)) (hn : cf_nL f = nL) (hb : i + 1 < nL) (hp : ls_put i (vl x) L = L') (K : JJ f S mo (pc + 2) L' st) : JJ f S mo pc L (vl x :: st) :=
  ⟨K.1, fun p e s m args below meth c X ls H locs cells slots hl hW hS h1 h2 => lv_lstore X.1 (X.2.1.trans hc) d hl (by rw [hn]; exact hb) (by rw [← hp, ls_put2 _ _ _ rfl]; rfl) (fun ls2 hl2 => K.2 p e s m args below meth c X ls2 H locs cells slots hl2 hW hS h1 h2)⟩
theorem j_astore_n (hc : cf_cc f = cc) {k : Fin 4} {i nL : Nat} {x : Option Nat} (d : decode cc pc = .ok (.astore_n k, 1)) (hi : (k : Nat) = i) (hn : cf_nL f = nL) (hb : i < nL) (hp : ls_put i (vr x) L = L') (K : JJ f S mo (pc + 1) L' st) : JJ f S mo pc L (vr x :: st) :=
  ⟨K.1, fun p e s m args below meth c X ls H locs cells slots hl hW hS h1 h2 => by
    have h := fun ls2 hl2 => K.2 p e s m args below meth c X ls2 H locs cells slots hl2 hW hS h1 h2
    have hp2 := ls_put1 i (vr x) L rfl
    rw [hp] at hp2
    cases x with
    | none => exact lv_astore_nN X.1 (X.2.1.trans hc) d hi hl (by rw [hn]; exact hb) hp2.symm h
    | some a => exact lv_astore_n X.1 (X.2.1.trans hc) d hi hl (by rw [hn]; exact hb) hp2.symm h⟩
theorem j_astore (hc : cf_cc f = cc) {i nL : Nat} {x : Option Nat} (d : decode cc pc = .ok (.astore i, 2)) (hn : cf_nL f = nL) (hb : i < nL) (hp : ls_put i (vr x) L = L') (K : JJ f S mo (pc + 2) L' st) : JJ f S mo pc L (vr x :: st) :=
  ⟨K.1, fun p e s m args below meth c X ls H locs cells slots hl hW hS h1 h2 => by
    have h := fun ls2 hl2 => K.2 p e s m args below meth c X ls2 H locs cells slots hl2 hW hS h1 h2
    have hp2 := ls_put1 i (vr x) L rfl
    rw [hp] at hp2
    cases x with
    | none => exact lv_astoreN X.1 (X.2.1.trans hc) d hl (by rw [hn]; exact hb) hp2.symm h
    | some a => exact lv_astore X.1 (X.2.1.trans hc) d hl (by rw [hn]; exact hb) hp2.symm h⟩
theorem j_iinc (hc : cf_cc f = cc) {i nL : Nat} {n : Int} {x v : Int32} (d : decode cc pc = .ok (.iinc i n, 3)) (j : Nat) (hj : L[j]? = some (i, vi x)) (hv : x + Int32.ofInt n = v) (hn : cf_nL f = nL) (hb : i < nL) (hp : ls_put i (vi v) L = L') (K : JJ f S mo (pc + 3) L' st) : JJ f S mo pc L st :=
  ⟨K.1, fun p e s m args below meth c X ls H locs cells slots hl hW hS h1 h2 => lv_iinc X.1 (X.2.1.trans hc) d hl (ls_tv_at hj) hv (by rw [hn]; exact hb) (by rw [← hp, ls_put1 _ _ _ rfl]; rfl) (fun ls2 hl2 => K.2 p e s m args below meth c X ls2 H locs cells slots hl2 hW hS h1 h2)⟩
theorem j_iadd (hc : cf_cc f = cc) {x y : Int32} (d : decode cc pc = .ok (.iadd, 1)) (K : JJ f S mo (pc + 1) L (vi (x + y) :: st)) : JJ f S mo pc L (vi y :: vi x :: st) :=
  ⟨K.1, fun p e s m args below meth c X ls H locs cells slots hl hW hS h1 h2 => lv_iadd X.1 (X.2.1.trans hc) d (K.2 p e s m args below meth c X ls H locs cells slots hl hW hS h1 h2)⟩
theorem j_isub (hc : cf_cc f = cc) {x y : Int32} (d : decode cc pc = .ok (.isub, 1)) (K : JJ f S mo (pc + 1) L (vi (x - y) :: st)) : JJ f S mo pc L (vi y :: vi x :: st) :=
  ⟨K.1, fun p e s m args below meth c X ls H locs cells slots hl hW hS h1 h2 => lv_isub X.1 (X.2.1.trans hc) d (K.2 p e s m args below meth c X ls H locs cells slots hl hW hS h1 h2)⟩
theorem j_imul (hc : cf_cc f = cc) {x y : Int32} (d : decode cc pc = .ok (.imul, 1)) (K : JJ f S mo (pc + 1) L (vi (x * y) :: st)) : JJ f S mo pc L (vi y :: vi x :: st) :=
  ⟨K.1, fun p e s m args below meth c X ls H locs cells slots hl hW hS h1 h2 => lv_imul X.1 (X.2.1.trans hc) d (K.2 p e s m args below meth c X ls H locs cells slots hl hW hS h1 h2)⟩
theorem j_iand (hc : cf_cc f = cc) {x y : Int32} (d : decode cc pc = .ok (.iand, 1)) (K : JJ f S mo (pc + 1) L (vi (x &&& y) :: st)) : JJ f S mo pc L (vi y :: vi x :: st) :=
  ⟨K.1, fun p e s m args below meth c X ls H locs cells slots hl hW hS h1 h2 => lv_iand X.1 (X.2.1.trans hc) d (K.2 p e s m args below meth c X ls H locs cells slots hl hW hS h1 h2)⟩
theorem j_ior (hc : cf_cc f = cc) {x y : Int32} (d : decode cc pc = .ok (.ior, 1)) (K : JJ f S mo (pc + 1) L (vi (x ||| y) :: st)) : JJ f S mo pc L (vi y :: vi x :: st) :=
  ⟨K.1, fun p e s m args below meth c X ls H locs cells slots hl hW hS h1 h2 => lv_ior X.1 (X.2.1.trans hc) d (K.2 p e s m args below meth c X ls H locs cells slots hl hW hS h1 h2)⟩
theorem j_ixor (hc : cf_cc f = cc) {x y : Int32} (d : decode cc pc = .ok (.ixor, 1)) (K : JJ f S mo (pc + 1) L (vi (x ^^^ y) :: st)) : JJ f S mo pc L (vi y :: vi x :: st) :=
  ⟨K.1, fun p e s m args below meth c X ls H locs cells slots hl hW hS h1 h2 => lv_ixor X.1 (X.2.1.trans hc) d (K.2 p e s m args below meth c X ls H locs cells slots hl hW hS h1 h2)⟩
theorem j_ishl (hc : cf_cc f = cc) {x y : Int32} (d : decode cc pc = .ok (.ishl, 1)) (K : JJ f S mo (pc + 1) L (vi (x <<< (y &&& 31)) :: st)) : JJ f S mo pc L (vi y :: vi x :: st) :=
  ⟨K.1, fun p e s m args below meth c X ls H locs cells slots hl hW hS h1 h2 => lv_ishl X.1 (X.2.1.trans hc) d (K.2 p e s m args below meth c X ls H locs cells slots hl hW hS h1 h2)⟩
theorem j_ishr (hc : cf_cc f = cc) {x y : Int32} (d : decode cc pc = .ok (.ishr, 1)) (K : JJ f S mo (pc + 1) L (vi (x >>> (y &&& 31)) :: st)) : JJ f S mo pc L (vi y :: vi x :: st) :=
  ⟨K.1, fun p e s m args below meth c X ls H locs cells slots hl hW hS h1 h2 => lv_ishr X.1 (X.2.1.trans hc) d (K.2 p e s m args below meth c X ls H locs cells slots hl hW hS h1 h2)⟩
theorem j_idiv (hc : cf_cc f = cc) {x y : Int32} (d : decode cc pc = .ok (.idiv, 1)) (hne : ¬ y = 0) (K : JJ f S mo (pc + 1) L (vi (x / y) :: st)) : JJ f S mo pc L (vi y :: vi x :: st) :=
  ⟨K.1, fun p e s m args below meth c X ls H locs cells slots hl hW hS h1 h2 => lv_idiv X.1 (X.2.1.trans hc) d hne (K.2 p e s m args below meth c X ls H locs cells slots hl hW hS h1 h2)⟩
theorem j_irem (hc : cf_cc f = cc) {x y : Int32} (d : decode cc pc = .ok (.irem, 1)) (hne : ¬ y = 0) (K : JJ f S mo (pc + 1) L (vi (x - x / y * y) :: st)) : JJ f S mo pc L (vi y :: vi x :: st) :=
  ⟨K.1, fun p e s m args below meth c X ls H locs cells slots hl hW hS h1 h2 => lv_irem X.1 (X.2.1.trans hc) d hne (K.2 p e s m args below meth c X ls H locs cells slots hl hW hS h1 h2)⟩
theorem j_ineg (hc : cf_cc f = cc) {x : Int32} (d : decode cc pc = .ok (.ineg, 1)) (K : JJ f S mo (pc + 1) L (vi (-x) :: st)) : JJ f S mo pc L (vi x :: st) :=
  ⟨K.1, fun p e s m args below meth c X ls H locs cells slots hl hW hS h1 h2 => lv_ineg X.1 (X.2.1.trans hc) d (K.2 p e s m args below meth c X ls H locs cells slots hl hW hS h1 h2)⟩
theorem j_iushr (hc : cf_cc f = cc) {x y : Int32} (d : decode cc pc = .ok (.iushr, 1)) (K : JJ f S mo (pc + 1) L (vi ((x.toUInt32 >>> (y.toUInt32 &&& Int32.toUInt32 31)).toInt32) :: st)) : JJ f S mo pc L (vi y :: vi x :: st) :=
  ⟨K.1, fun p e s m args below meth c X ls H locs cells slots hl hW hS h1 h2 => lv_iushr X.1 (X.2.1.trans hc) d rfl (K.2 p e s m args below meth c X ls H locs cells slots hl hW hS h1 h2)⟩
theorem j_i2b (hc : cf_cc f = cc) {x : Int32} (d : decode cc pc = .ok (.i2b, 1)) (K : JJ f S mo (pc + 1) L (vi x.toInt8.toInt32 :: st)) : JJ f S mo pc L (vi x :: st) :=
  ⟨K.1, fun p e s m args below meth c X ls H locs cells slots hl hW hS h1 h2 => lv_i2b X.1 (X.2.1.trans hc) d rfl (K.2 p e s m args below meth c X ls H locs cells slots hl hW hS h1 h2)⟩
theorem j_i2c (hc : cf_cc f = cc) {x : Int32} (d : decode cc pc = .ok (.i2c, 1)) (K : JJ f S mo (pc + 1) L (vi (x.toUInt32 % 65536).toInt32 :: st)) : JJ f S mo pc L (vi x :: st) :=
  ⟨K.1, fun p e s m args below meth c X ls H locs cells slots hl hW hS h1 h2 => lv_i2c X.1 (X.2.1.trans hc) d rfl (K.2 p e s m args below meth c X ls H locs cells slots hl hW hS h1 h2)⟩
theorem j_i2l (hc : cf_cc f = cc) {x : Int32} (d : decode cc pc = .ok (.i2l, 1)) (K : JJ f S mo (pc + 1) L (vl x.toInt64 :: st)) : JJ f S mo pc L (vi x :: st) :=
  ⟨K.1, fun p e s m args below meth c X ls H locs cells slots hl hW hS h1 h2 => lv_i2l X.1 (X.2.1.trans hc) d rfl (K.2 p e s m args below meth c X ls H locs cells slots hl hW hS h1 h2)⟩
theorem j_ladd (hc : cf_cc f = cc) {x y : Int64} (d : decode cc pc = .ok (.ladd, 1)) (K : JJ f S mo (pc + 1) L (vl (x + y) :: st)) : JJ f S mo pc L (vl y :: vl x :: st) :=
  ⟨K.1, fun p e s m args below meth c X ls H locs cells slots hl hW hS h1 h2 => lv_ladd X.1 (X.2.1.trans hc) d (K.2 p e s m args below meth c X ls H locs cells slots hl hW hS h1 h2)⟩
theorem j_lsub (hc : cf_cc f = cc) {x y : Int64} (d : decode cc pc = .ok (.lsub, 1)) (K : JJ f S mo (pc + 1) L (vl (x - y) :: st)) : JJ f S mo pc L (vl y :: vl x :: st) :=
  ⟨K.1, fun p e s m args below meth c X ls H locs cells slots hl hW hS h1 h2 => lv_lsub X.1 (X.2.1.trans hc) d (K.2 p e s m args below meth c X ls H locs cells slots hl hW hS h1 h2)⟩
theorem j_lmul (hc : cf_cc f = cc) {x y : Int64} (d : decode cc pc = .ok (.lmul, 1)) (K : JJ f S mo (pc + 1) L (vl (x * y) :: st)) : JJ f S mo pc L (vl y :: vl x :: st) :=
  ⟨K.1, fun p e s m args below meth c X ls H locs cells slots hl hW hS h1 h2 => lv_lmul X.1 (X.2.1.trans hc) d (K.2 p e s m args below meth c X ls H locs cells slots hl hW hS h1 h2)⟩
theorem j_dup (hc : cf_cc f = cc) {v : LV} (d : decode cc pc = .ok (.dup, 1)) (hv : lc v = 1) (K : JJ f S mo (pc + 1) L (v :: v :: st)) : JJ f S mo pc L (v :: st) :=
  ⟨K.1, fun p e s m args below meth c X ls H locs cells slots hl hW hS h1 h2 => lv_dup X.1 (X.2.1.trans hc) d ((lc_ok v).trans hv) (K.2 p e s m args below meth c X ls H locs cells slots hl hW hS h1 h2)⟩
theorem j_pop (hc : cf_cc f = cc) {v : LV} (d : decode cc pc = .ok (.pop, 1)) (hv : lc v = 1) (K : JJ f S mo (pc + 1) L (st)) : JJ f S mo pc L (v :: st) :=
  ⟨K.1, fun p e s m args below meth c X ls H locs cells slots hl hW hS h1 h2 => lv_pop X.1 (X.2.1.trans hc) d ((lc_ok v).trans hv) (K.2 p e s m args below meth c X ls H locs cells slots hl hW hS h1 h2)⟩
theorem j_dup_x1 (hc : cf_cc f = cc) {v w : LV} (d : decode cc pc = .ok (.dup_x1, 1)) (hv : lc v = 1) (hw : lc w = 1) (K : JJ f S mo (pc + 1) L (v :: w :: v :: st)) : JJ f S mo pc L (v :: w :: st) :=
  ⟨K.1, fun p e s m args below meth c X ls H locs cells slots hl hW hS h1 h2 => lv_dup_x1 X.1 (X.2.1.trans hc) d ((lc_ok v).trans hv) ((lc_ok w).trans hw) (K.2 p e s m args below meth c X ls H locs cells slots hl hW hS h1 h2)⟩
theorem j_dup2_11 (hc : cf_cc f = cc) {v w : LV} (d : decode cc pc = .ok (.dup2, 1)) (hv : lc v = 1) (hw : lc w = 1) (K : JJ f S mo (pc + 1) L (v :: w :: v :: w :: st)) : JJ f S mo pc L (v :: w :: st) :=
  ⟨K.1, fun p e s m args below meth c X ls H locs cells slots hl hW hS h1 h2 => lv_dup2_11 X.1 (X.2.1.trans hc) d ((lc_ok v).trans hv) ((lc_ok w).trans hw) (K.2 p e s m args below meth c X ls H locs cells slots hl hW hS h1 h2)⟩
theorem j_dup2_2 (hc : cf_cc f = cc) {v : LV} (d : decode cc pc = .ok (.dup2, 1)) (hv : lc v = 2) (K : JJ f S mo (pc + 1) L (v :: v :: st)) : JJ f S mo pc L (v :: st) :=
  ⟨K.1, fun p e s m args below meth c X ls H locs cells slots hl hW hS h1 h2 => lv_dup2_2 X.1 (X.2.1.trans hc) d ((lc_ok v).trans hv) (K.2 p e s m args below meth c X ls H locs cells slots hl hW hS h1 h2)⟩
theorem j_icmp_eq (hc : cf_cc f = cc) {x y : Int32} {off : Int} {tgt : Nat} (d : decode cc pc = .ok (.if_icmp .eq off, 3)) (ht : (pc : Int) + off = (tgt : Int)) (kt : x = y → JJ f S mo tgt L st) (kf : ¬ x = y → JJ f S mo (pc + 3) L st) : JJ f S mo pc L (vi y :: vi x :: st) := by
  by_cases hh : x = y
  · exact ⟨(kt hh).1, fun p e s m args below meth c X ls H locs cells slots hl hW hS h1 h2 => lv_icmp_eq X.1 (X.2.1.trans hc) d ht (fun q => (kt q).2 p e s m args below meth c X ls H locs cells slots hl hW hS h1 h2) (fun q => absurd hh q)⟩
  · exact ⟨(kf hh).1, fun p e s m args below meth c X ls H locs cells slots hl hW hS h1 h2 => lv_icmp_eq X.1 (X.2.1.trans hc) d ht (fun q => absurd q hh) (fun q => (kf q).2 p e s m args below meth c X ls H locs cells slots hl hW hS h1 h2)⟩
theorem j_if_eq (hc : cf_cc f = cc) {x : Int32} {off : Int} {tgt : Nat} (d : decode cc pc = .ok (.ifCond .eq off, 3)) (ht : (pc : Int) + off = (tgt : Int)) (kt : x = 0 → JJ f S mo tgt L st) (kf : ¬ x = 0 → JJ f S mo (pc + 3) L st) : JJ f S mo pc L (vi x :: st) := by
  by_cases hh : x = 0
  · exact ⟨(kt hh).1, fun p e s m args below meth c X ls H locs cells slots hl hW hS h1 h2 => lv_if_eq X.1 (X.2.1.trans hc) d ht (fun q => (kt q).2 p e s m args below meth c X ls H locs cells slots hl hW hS h1 h2) (fun q => absurd hh q)⟩
  · exact ⟨(kf hh).1, fun p e s m args below meth c X ls H locs cells slots hl hW hS h1 h2 => lv_if_eq X.1 (X.2.1.trans hc) d ht (fun q => absurd q hh) (fun q => (kf q).2 p e s m args below meth c X ls H locs cells slots hl hW hS h1 h2)⟩
theorem j_icmp_ne (hc : cf_cc f = cc) {x y : Int32} {off : Int} {tgt : Nat} (d : decode cc pc = .ok (.if_icmp .ne off, 3)) (ht : (pc : Int) + off = (tgt : Int)) (kt : ¬ x = y → JJ f S mo tgt L st) (kf : x = y → JJ f S mo (pc + 3) L st) : JJ f S mo pc L (vi y :: vi x :: st) := by
  by_cases hh : x = y
  · exact ⟨(kf hh).1, fun p e s m args below meth c X ls H locs cells slots hl hW hS h1 h2 => lv_icmp_ne X.1 (X.2.1.trans hc) d ht (fun q => absurd hh q) (fun q => (kf q).2 p e s m args below meth c X ls H locs cells slots hl hW hS h1 h2)⟩
  · exact ⟨(kt hh).1, fun p e s m args below meth c X ls H locs cells slots hl hW hS h1 h2 => lv_icmp_ne X.1 (X.2.1.trans hc) d ht (fun q => (kt q).2 p e s m args below meth c X ls H locs cells slots hl hW hS h1 h2) (fun q => absurd q hh)⟩
theorem j_if_ne (hc : cf_cc f = cc) {x : Int32} {off : Int} {tgt : Nat} (d : decode cc pc = .ok (.ifCond .ne off, 3)) (ht : (pc : Int) + off = (tgt : Int)) (kt : ¬ x = 0 → JJ f S mo tgt L st) (kf : x = 0 → JJ f S mo (pc + 3) L st) : JJ f S mo pc L (vi x :: st) := by
  by_cases hh : x = 0
  · exact ⟨(kf hh).1, fun p e s m args below meth c X ls H locs cells slots hl hW hS h1 h2 => lv_if_ne X.1 (X.2.1.trans hc) d ht (fun q => absurd hh q) (fun q => (kf q).2 p e s m args below meth c X ls H locs cells slots hl hW hS h1 h2)⟩
  · exact ⟨(kt hh).1, fun p e s m args below meth c X ls H locs cells slots hl hW hS h1 h2 => lv_if_ne X.1 (X.2.1.trans hc) d ht (fun q => (kt q).2 p e s m args below meth c X ls H locs cells slots hl hW hS h1 h2) (fun q => absurd q hh)⟩
theorem j_icmp_lt (hc : cf_cc f = cc) {x y : Int32} {off : Int} {tgt : Nat} (d : decode cc pc = .ok (.if_icmp .lt off, 3)) (ht : (pc : Int) + off = (tgt : Int)) (kt : x < y → JJ f S mo tgt L st) (kf : ¬ x < y → JJ f S mo (pc + 3) L st) : JJ f S mo pc L (vi y :: vi x :: st) := by
  by_cases hh : x < y
  · exact ⟨(kt hh).1, fun p e s m args below meth c X ls H locs cells slots hl hW hS h1 h2 => lv_icmp_lt X.1 (X.2.1.trans hc) d ht (fun q => (kt q).2 p e s m args below meth c X ls H locs cells slots hl hW hS h1 h2) (fun q => absurd hh q)⟩
  · exact ⟨(kf hh).1, fun p e s m args below meth c X ls H locs cells slots hl hW hS h1 h2 => lv_icmp_lt X.1 (X.2.1.trans hc) d ht (fun q => absurd q hh) (fun q => (kf q).2 p e s m args below meth c X ls H locs cells slots hl hW hS h1 h2)⟩
theorem j_if_lt (hc : cf_cc f = cc) {x : Int32} {off : Int} {tgt : Nat} (d : decode cc pc = .ok (.ifCond .lt off, 3)) (ht : (pc : Int) + off = (tgt : Int)) (kt : x < 0 → JJ f S mo tgt L st) (kf : ¬ x < 0 → JJ f S mo (pc + 3) L st) : JJ f S mo pc L (vi x :: st) := by
  by_cases hh : x < 0
  · exact ⟨(kt hh).1, fun p e s m args below meth c X ls H locs cells slots hl hW hS h1 h2 => lv_if_lt X.1 (X.2.1.trans hc) d ht (fun q => (kt q).2 p e s m args below meth c X ls H locs cells slots hl hW hS h1 h2) (fun q => absurd hh q)⟩
  · exact ⟨(kf hh).1, fun p e s m args below meth c X ls H locs cells slots hl hW hS h1 h2 => lv_if_lt X.1 (X.2.1.trans hc) d ht (fun q => absurd q hh) (fun q => (kf q).2 p e s m args below meth c X ls H locs cells slots hl hW hS h1 h2)⟩
theorem j_icmp_ge (hc : cf_cc f = cc) {x y : Int32} {off : Int} {tgt : Nat} (d : decode cc pc = .ok (.if_icmp .ge off, 3)) (ht : (pc : Int) + off = (tgt : Int)) (kt : y ≤ x → JJ f S mo tgt L st) (kf : ¬ y ≤ x → JJ f S mo (pc + 3) L st) : JJ f S mo pc L (vi y :: vi x :: st) := by
  by_cases hh : y ≤ x
  · exact ⟨(kt hh).1, fun p e s m args below meth c X ls H locs cells slots hl hW hS h1 h2 => lv_icmp_ge X.1 (X.2.1.trans hc) d ht (fun q => (kt q).2 p e s m args below meth c X ls H locs cells slots hl hW hS h1 h2) (fun q => absurd hh q)⟩
  · exact ⟨(kf hh).1, fun p e s m args below meth c X ls H locs cells slots hl hW hS h1 h2 => lv_icmp_ge X.1 (X.2.1.trans hc) d ht (fun q => absurd q hh) (fun q => (kf q).2 p e s m args below meth c X ls H locs cells slots hl hW hS h1 h2)⟩
theorem j_if_ge (hc : cf_cc f = cc) {x : Int32} {off : Int} {tgt : Nat} (d : decode cc pc = .ok (.ifCond .ge off, 3)) (ht : (pc : Int) + off = (tgt : Int)) (kt : 0 ≤ x → JJ f S mo tgt L st) (kf : ¬ 0 ≤ x → JJ f S mo (pc + 3) L st) : JJ f S mo pc L (vi x :: st) := by
  by_cases hh : 0 ≤ x
  · exact ⟨(kt hh).1, fun p e s m args below meth c X ls H locs cells slots hl hW hS h1 h2 => lv_if_ge X.1 (X.2.1.trans hc) d ht (fun q => (kt q).2 p e s m args below meth c X ls H locs cells slots hl hW hS h1 h2) (fun q => absurd hh q)⟩
  · exact ⟨(kf hh).1, fun p e s m args below meth c X ls H locs cells slots hl hW hS h1 h2 => lv_if_ge X.1 (X.2.1.trans hc) d ht (fun q => absurd q hh) (fun q => (kf q).2 p e s m args below meth c X ls H locs cells slots hl hW hS h1 h2)⟩
theorem j_icmp_gt (hc : cf_cc f = cc) {x y : Int32} {off : Int} {tgt : Nat} (d : decode cc pc = .ok (.if_icmp .gt off, 3)) (ht : (pc : Int) + off = (tgt : Int)) (kt : y < x → JJ f S mo tgt L st) (kf : ¬ y < x → JJ f S mo (pc + 3) L st) : JJ f S mo pc L (vi y :: vi x :: st) := by
  by_cases hh : y < x
  · exact ⟨(kt hh).1, fun p e s m args below meth c X ls H locs cells slots hl hW hS h1 h2 => lv_icmp_gt X.1 (X.2.1.trans hc) d ht (fun q => (kt q).2 p e s m args below meth c X ls H locs cells slots hl hW hS h1 h2) (fun q => absurd hh q)⟩
  · exact ⟨(kf hh).1, fun p e s m args below meth c X ls H locs cells slots hl hW hS h1 h2 => lv_icmp_gt X.1 (X.2.1.trans hc) d ht (fun q => absurd q hh) (fun q => (kf q).2 p e s m args below meth c X ls H locs cells slots hl hW hS h1 h2)⟩
theorem j_if_gt (hc : cf_cc f = cc) {x : Int32} {off : Int} {tgt : Nat} (d : decode cc pc = .ok (.ifCond .gt off, 3)) (ht : (pc : Int) + off = (tgt : Int)) (kt : 0 < x → JJ f S mo tgt L st) (kf : ¬ 0 < x → JJ f S mo (pc + 3) L st) : JJ f S mo pc L (vi x :: st) := by
  by_cases hh : 0 < x
  · exact ⟨(kt hh).1, fun p e s m args below meth c X ls H locs cells slots hl hW hS h1 h2 => lv_if_gt X.1 (X.2.1.trans hc) d ht (fun q => (kt q).2 p e s m args below meth c X ls H locs cells slots hl hW hS h1 h2) (fun q => absurd hh q)⟩
  · exact ⟨(kf hh).1, fun p e s m args below meth c X ls H locs cells slots hl hW hS h1 h2 => lv_if_gt X.1 (X.2.1.trans hc) d ht (fun q => absurd q hh) (fun q => (kf q).2 p e s m args below meth c X ls H locs cells slots hl hW hS h1 h2)⟩
theorem j_icmp_le (hc : cf_cc f = cc) {x y : Int32} {off : Int} {tgt : Nat} (d : decode cc pc = .ok (.if_icmp .le off, 3)) (ht : (pc : Int) + off = (tgt : Int)) (kt : x ≤ y → JJ f S mo tgt L st) (kf : ¬ x ≤ y → JJ f S mo (pc + 3) L st) : JJ f S mo pc L (vi y :: vi x :: st) := by
  by_cases hh : x ≤ y
  · exact ⟨(kt hh).1, fun p e s m args below meth c X ls H locs cells slots hl hW hS h1 h2 => lv_icmp_le X.1 (X.2.1.trans hc) d ht (fun q => (kt q).2 p e s m args below meth c X ls H locs cells slots hl hW hS h1 h2) (fun q => absurd hh q)⟩
  · exact ⟨(kf hh).1, fun p e s m args below meth c X ls H locs cells slots hl hW hS h1 h2 => lv_icmp_le X.1 (X.2.1.trans hc) d ht (fun q => absurd q hh) (fun q => (kf q).2 p e s m args below meth c X ls H locs cells slots hl hW hS h1 h2)⟩
theorem j_if_le (hc : cf_cc f = cc) {x : Int32} {off : Int} {tgt : Nat} (d : decode cc pc = .ok (.ifCond .le off, 3)) (ht : (pc : Int) + off = (tgt : Int)) (kt : x ≤ 0 → JJ f S mo tgt L st) (kf : ¬ x ≤ 0 → JJ f S mo (pc + 3) L st) : JJ f S mo pc L (vi x :: st) := by
  by_cases hh : x ≤ 0
  · exact ⟨(kt hh).1, fun p e s m args below meth c X ls H locs cells slots hl hW hS h1 h2 => lv_if_le X.1 (X.2.1.trans hc) d ht (fun q => (kt q).2 p e s m args below meth c X ls H locs cells slots hl hW hS h1 h2) (fun q => absurd hh q)⟩
  · exact ⟨(kf hh).1, fun p e s m args below meth c X ls H locs cells slots hl hW hS h1 h2 => lv_if_le X.1 (X.2.1.trans hc) d ht (fun q => absurd q hh) (fun q => (kf q).2 p e s m args below meth c X ls H locs cells slots hl hW hS h1 h2)⟩
theorem j_acmp_eq (hc : cf_cc f = cc) {x y : Option Nat} {off : Int} {tgt : Nat} (d : decode cc pc = .ok (.if_acmp .eq off, 3)) (ht : (pc : Int) + off = (tgt : Int)) (kt : x = y → JJ f S mo tgt L st) (kf : ¬ x = y → JJ f S mo (pc + 3) L st) : JJ f S mo pc L (vr y :: vr x :: st) := by
  by_cases hh : x = y
  · exact ⟨(kt hh).1, fun p e s m args below meth c X ls H locs cells slots hl hW hS h1 h2 => lv_acmp_eq X.1 (X.2.1.trans hc) d ht (fun q => (kt q).2 p e s m args below meth c X ls H locs cells slots hl hW hS h1 h2) (fun q => absurd hh q)⟩
  · exact ⟨(kf hh).1, fun p e s m args below meth c X ls H locs cells slots hl hW hS h1 h2 => lv_acmp_eq X.1 (X.2.1.trans hc) d ht (fun q => absurd q hh) (fun q => (kf q).2 p e s m args below meth c X ls H locs cells slots hl hW hS h1 h2)⟩
theorem j_acmp_ne (hc : cf_cc f = cc) {x y : Option Nat} {off : Int} {tgt : Nat} (d : decode cc pc = .ok (.if_acmp .ne off, 3)) (ht : (pc : Int) + off = (tgt : Int)) (kt : ¬ x = y → JJ f S mo tgt L st) (kf : x = y → JJ f S mo (pc + 3) L st) : JJ f S mo pc L (vr y :: vr x :: st) := by
  by_cases hh : x = y
  · exact ⟨(kf hh).1, fun p e s m args below meth c X ls H locs cells slots hl hW hS h1 h2 => lv_acmp_ne X.1 (X.2.1.trans hc) d ht (fun q => absurd hh q) (fun q => (kf q).2 p e s m args below meth c X ls H locs cells slots hl hW hS h1 h2)⟩
  · exact ⟨(kt hh).1, fun p e s m args below meth c X ls H locs cells slots hl hW hS h1 h2 => lv_acmp_ne X.1 (X.2.1.trans hc) d ht (fun q => (kt q).2 p e s m args below meth c X ls H locs cells slots hl hW hS h1 h2) (fun q => absurd q hh)⟩
theorem j_ifnull (hc : cf_cc f = cc) {x : Option Nat} {off : Int} {tgt : Nat} (d : decode cc pc = .ok (.ifnull off, 3)) (ht : (pc : Int) + off = (tgt : Int)) (kt : x = none → JJ f S mo tgt L st) (kf : ∀ a, x = some a → JJ f S mo (pc + 3) L st) : JJ f S mo pc L (vr x :: st) := by
  cases x with
  | none => exact ⟨(kt rfl).1, fun p e s m args below meth c X ls H locs cells slots hl hW hS h1 h2 => lv_ifnullN X.1 (X.2.1.trans hc) d ht ((kt rfl).2 p e s m args below meth c X ls H locs cells slots hl hW hS h1 h2)⟩
  | some a => exact ⟨(kf a rfl).1, fun p e s m args below meth c X ls H locs cells slots hl hW hS h1 h2 => lv_ifnull X.1 (X.2.1.trans hc) d ((kf a rfl).2 p e s m args below meth c X ls H locs cells slots hl hW hS h1 h2)⟩
theorem j_ifnonnull (hc : cf_cc f = cc) {x : Option Nat} {off : Int} {tgt : Nat} (d : decode cc pc = .ok (.ifnonnull off, 3)) (ht : (pc : Int) + off = (tgt : Int)) (kt : ∀ a, x = some a → JJ f S mo tgt L st) (kf : x = none → JJ f S mo (pc + 3) L st) : JJ f S mo pc L (vr x :: st) := by
  cases x with
  | none => exact ⟨(kf rfl).1, fun p e s m args below meth c X ls H locs cells slots hl hW hS h1 h2 => lv_ifnonnullN X.1 (X.2.1.trans hc) d ((kf rfl).2 p e s m args below meth c X ls H locs cells slots hl hW hS h1 h2)⟩
  | some a => exact ⟨(kt a rfl).1, fun p e s m args below meth c X ls H locs cells slots hl hW hS h1 h2 => lv_ifnonnull X.1 (X.2.1.trans hc) d ht ((kt a rfl).2 p e s m args below meth c X ls H locs cells slots hl hW hS h1 h2)⟩
theorem j_goto (hc : cf_cc f = cc) {off : Int} {tgt : Nat} (d : decode cc pc = .ok (.goto off, 3)) (ht : (pc : Int) + off = (tgt : Int)) (K : JJ f S mo tgt L st) : JJ f S mo pc L st :=
  ⟨K.1, fun p e s m args below meth c X ls H locs cells slots hl hW hS h1 h2 => lv_goto X.1 (X.2.1.trans hc) d ht (K.2 p e s m args below meth c X ls H locs cells slots hl hW hS h1 h2)⟩
theorem j_loc (ks : List Nat) (hp : ks.filterMap (fun k => L[k]?) = L') (K : JJ f S mo pc L' st) : JJ f S mo pc L st :=
  ⟨K.1, fun p e s m args below meth c X ls H locs cells slots hl hW hS h1 h2 => K.2 p e s m args below meth c X ls H locs cells slots (lv_sub hl ks (by
    rw [← hp]
    unfold lv_pick ls_tv
    rw [List.map_filterMap]
    congr 1
    funext k
    simp)) hW hS h1 h2⟩
end JR
