theorem of_slot {s : State} {o n d : String} {i q : Nat} {v : Value} {F : Nat → Prop} {cell : Cell} (hK : SlotIs s o n d i) (h : va_OF o n d v q F s s.heap) (hc : s.heap[q]? = some cell) : cell.slots[i]? = some v := by
  obtain ⟨cf, kf, fi, fd, k1, k2⟩ := hK
  obtain ⟨cf', k', i', f', cell', g1, -, g3, -, g5, -⟩ := h
  cases k1.symm.trans g1
  cases hc.symm.trans g3
  rw [← k2]
  exact g5
theorem ofNat_mod32 (n : Nat) : n.toInt32 = Int32.ofNat (n % 4294967296) := by
  apply Int32.toBitVec_inj.mp
  apply BitVec.eq_of_toNat_eq
  show (BitVec.ofNat 32 n).toNat = (BitVec.ofNat 32 (n % 4294967296)).toNat
  simp
theorem rf_of {s : State} {C n d : String} {F : Nat → Prop} (h : va_Zq C n d F s s.heap) : ∃ r : Option Nat, va_Z C n d (va_rf r) F s s.heap := by
  rcases h with h | ⟨t, h⟩
  · exact ⟨none, h⟩
  · exact ⟨some t, h⟩
theorem st_emp {A : Array Value} {s : State} {F : Nat → Prop} (hA : ∀ a : Nat, a < s.heap.size → ¬ F a) {C n : String} {cO : ClassId} (hRA : s.vm.findClass "[Ljava/lang/Object;" = some cO) (hl : (Cond.laysStatic C n "[Ljava/lang/Object;").before A s = true) (hini : (Cond.initialized C).before A s = true)
    (har : (Cond.arrayOf (.static C n "[Ljava/lang/Object;") (.object "java/lang/Object")).before A s = true) (hex : (Cond.exactly (.static C n "[Ljava/lang/Object;") "[Ljava/lang/Object;").before A s = true) (hle : (Cond.eq (.length (.static C n "[Ljava/lang/Object;")) (.int 0)).before A s = true) :
    ∃ t : Nat, (Term.static C n "[Ljava/lang/Object;").eval A s none [] s = some (.ref t) ∧ va_Z C n "[Ljava/lang/Object;" (va_rf (some t)) F s s.heap ∧ P35 s cO t := by
  obtain ⟨t, ht, cell, h1, h2, h3, h4, h5, -⟩ := va_Tof (ty := .object "java/lang/Object") (N := 0) (f := fun _ => .null) (A := F) (by decide) har (va_eqt hle) (fun j hj => absurd hj (Nat.not_lt_zero j)) hA
  obtain ⟨a, c, cA, kA, q1, q2, q3, q4, q5, q6, -⟩ := Cond.exactly_spec (args := A) (first := s) (o := none) (s := s) (idx := []) (t := .static C n "[Ljava/lang/Object;") (cls := "[Ljava/lang/Object;") hex
  cases q1.symm.trans ht
  cases q3.symm.trans h1
  refine ⟨t, ht, va_Zof hl hini ht hA, cell, h1, h2, h3, cl_n_N h1 h5 (by decide), ?_, q5⟩
  rw [q6]
  exact Option.some.inj (q2.symm.trans hRA)
