theorem st_all {s : State} {b L : Nat} {xs : Nat → Int32} (hL : L < 2 ^ 31) (hts : ∀ w ∈ lw_tbl, w.before #[Value.ref b] s = true) (hgv : (Jvm.Cond.and given_1 narrow_1).before #[Value.ref b] s = true) (hX : va_X b L xs s s.heap) :
    ∃ g : PG, g_Hs g = s.heap ∧ EV g s ∧ Wd g (g_cs g) none s.heap ∧ CF (g_cs g) b L xs ∧ h_nx (g_cs g) = g_n0 g ∧ h_sl (g_cs g) = 0 := by
  have hs := flat_of_before _ hgv
  have hA : ∀ a : Nat, a < s.heap.size → ¬ (fun q => s.heap.size ≤ q) a := fun a h1 h2 => absurd h1 (Nat.not_lt.mpr h2)
  have hta : ∀ w ∈ lw_all, w.before #[Value.ref b] s = true := fun w h => hts w (lw_all_tbl h)
  obtain ⟨D, hD⟩ := st_D hta
  obtain ⟨ac, hac⟩ := st_ac hts
  have hS := st_sAll hA hts hs
  have h1 : ∀ j : Nat, ∃ x : Nat × Nat, ∀ r, strTab[j]? = some r → ∃ z w : Int32, vk_R r.1 r.2.1 r.2.2 x.1 s ∧ (∃ cell : Cell, s.heap[x.1]? = some cell ∧ cell.vm.isStatics = false ∧ cell.vm ≠ .unknown ∧ s.vm.findClass "java/lang/String" = some cell.cls) ∧ va_OF "java/lang/String" "value" "[B" (.ref x.2) x.1 (fun q => s.heap.size ≤ q) s s.heap ∧ va_OF "java/lang/String" "coder" "B" (.int 0) x.1 (fun q => s.heap.size ≤ q) s s.heap ∧ va_OF "java/lang/String" "hash" "I" (.int z) x.1 (fun q => s.heap.size ≤ q) s s.heap ∧ va_OF "java/lang/String" "hashIsZero" "Z" (.int w) x.1 (fun q => s.heap.size ≤ q) s s.heap ∧ va_T .byte x.2 (strB j).length (fun i => .int ((strB j).getD i 0)) (fun q => s.heap.size ≤ q) s s.heap := by
    intro j
    cases hj : strTab[j]? with
    | none => exact ⟨(0, 0), fun r h => by cases h⟩
    | some r =>
      obtain ⟨q, v, z, w, h⟩ := hS j r hj
      exact ⟨(q, v), fun r' h' => by cases h'; exact ⟨z, w, h⟩⟩
  obtain ⟨qv, hqv⟩ := Classical.axiomOfChoice h1
  have hO : s.vm.findClass "[Ljava/lang/Object;" = some (ac 35) := by
    obtain ⟨k, comp, -, -, -, h5⟩ := (hac 35 (by omega) (by omega)).2
    exact h5
  obtain ⟨e0, t0, z0, p0⟩ := st_emp hA hO (C := "java/util/ArrayList") (n := "EMPTY_ELEMENTDATA") (hts _ q550) (hta _ q89) (hs _ (by decide +kernel)) (hs _ (by decide +kernel)) (hs _ (by decide +kernel))
  obtain ⟨e1, t1, z1, p1⟩ := st_emp hA hO (C := "java/util/ArrayList") (n := "DEFAULTCAPACITY_EMPTY_ELEMENTDATA") (hts _ q214) (hta _ q89) (hs _ (by decide +kernel)) (hs _ (by decide +kernel)) (hs _ (by decide +kernel))
  have hne : e1 ≠ e0 := va_neR (hs (Jvm.Cond.not (Jvm.Cond.eq (Jvm.Term.static "java/util/ArrayList" "DEFAULTCAPACITY_EMPTY_ELEMENTDATA" "[Ljava/lang/Object;") (Jvm.Term.static "java/util/ArrayList" "EMPTY_ELEMENTDATA" "[Ljava/lang/Object;"))) (by decide +kernel)) t1 t0
  obtain ⟨r0, y0⟩ := rf_of (va_Zqof (hts _ q154) (hta _ q83) (hs _ (by decide +kernel)) hA)
  obtain ⟨r1, y1⟩ := rf_of (va_Zqof (hts _ q156) (hta _ q83) (hs _ (by decide +kernel)) hA)
  obtain ⟨r2, y2⟩ := rf_of (va_Zqof (hts _ q435) (hta _ q93) (hs _ (by decide +kernel)) hA)
  have y3 := va_Zof (v := .int 1) (hts _ q376) (hta _ q91) (va_eqt (hs (Jvm.Cond.eq (Jvm.Term.static "java/lang/String" "COMPACT_STRINGS" "Z") (Jvm.Term.int (1 : Int32))) (by decide +kernel))) hA
  obtain ⟨mi, y4⟩ := va_Mi.of (hs (Jvm.Cond.isRef (Jvm.Term.mirror "[Ljava/lang/Object;")) (by decide +kernel))
  obtain ⟨cl, hcl⟩ := st_cl s (D.1 13) (ac 35) (D.2 13)
  have hJ := hD 13 _ ci_J6
  obtain ⟨hJs, hJ1, hJ2⟩ := hJ
  let ks : Nat → Nat := fun j => if j = 30 then e0 else if j = 31 then e1 else if j = 32 then mi else (qv j).1
  let kr : Nat → Option Nat := fun j => if j = 0 then r0 else if j = 1 then r1 else r2
  have hks : ∀ j, j < 26 → ks j = (qv j).1 := fun j hj => by
    show (if j = 30 then e0 else if j = 31 then e1 else if j = 32 then mi else (qv j).1) = _
    rw [if_neg (by omega), if_neg (by omega), if_neg (by omega)]
  refine ⟨(D, ac, s.heap, cs_ s.heap (D.2 13) cl ks kr, ks, kr), rfl, ⟨⟨hD, fun k q h => ?_⟩, st_EN hts, ⟨fun a c _ h2 h3 h4 => ?_, fun a t _ h2 h3 => ?_⟩, fun j q h => ?_, y3, z0, z1, y0, y1, y2, y4⟩, ⟨rfl, ⟨Nat.le_refl _, rfl, rfl⟩, fun _ _ => rfl, fun q _ => ⟨h_eq.rf _ _, rfl⟩, fun q hq => ?_, fun q h1 h2 => ?_, fun a M h => by cases h⟩, ⟨fun j hj => ?_, ?_, ?_, ?_, fun h => hne h.symm⟩, rfl, rfl⟩
  · match k, h with
    | 0, h => cases h; exact hac 31 (by omega) (by omega)
    | 1, h => cases h; exact hac 32 (by omega) (by omega)
    | 2, h => cases h; exact hac 33 (by omega) (by omega)
    | 3, h => cases h; exact hac 34 (by omega) (by omega)
    | 4, h => cases h; exact hac 35 (by omega) (by omega)
    | 5, h => cases h; exact hac 36 (by omega) (by omega)
    | 6, h => cases h; exact hac 37 (by omega) (by omega)
    | 7, h => cases h; exact hac 38 (by omega) (by omega)
    | k + 8, h => cases h
  · have h2' : cl a = c := h2
    rcases (hcl a).2.2.2.2 with h | ⟨h, hp⟩ | ⟨h, hp⟩ | ⟨h, hp⟩ | ⟨h, hp⟩
    · exact absurd (h2'.symm.trans h) h3
    · rw [h] at h2'
      subst h2'
      obtain ⟨cell, p1, p2, p3, p4, p5, p6, p7, p8⟩ := hp
      refine ⟨_, cell, ci_J6, p1, p2, p3, p4, fun k hk => ?_⟩
      match k, hk with
      | 0, _ => exact p5
      | 1, _ => exact p6
      | 2, _ => exact p7
      | 3, _ => exact p8
    · omega
    · omega
    · omega
  · have h2' : cl a = t := h2
    have hmk : ∀ (ty : FieldType) (u : Nat), PAr s ty a → aty u = ty → (∀ j, av (cs_ s.heap (D.2 13) cl ks kr) u a j = .int (cl_i s.heap a j)) → u ≠ 35 → obA s (D, ac, s.heap, cs_ s.heap (D.2 13) cl ks kr, ks, kr) (cs_ s.heap (D.2 13) cl ks kr) u a s.heap := by
      intro ty u hp e1 e2 e3
      obtain ⟨cell, p1, p2, p3, p4⟩ := hp
      have hn := cl_n_of p1
      refine ⟨cell, p1, by rw [e1]; exact p2, p3, ⟨?_, ?_⟩, fun j hj => ?_, fun h => ?_⟩
      · show cl_n s.heap a ≤ _
        rw [hn]
        exact Nat.mod_le _ _
      · show _ = Int32.ofNat (cl_n s.heap a)
        rw [hn]
        exact ofNat_mod32 _
      · rw [e2]
        exact p4 j hj
      · rcases h with h | h
        · exact absurd h e3
        · cases h
    rcases (hcl a).2.2.2.2 with h | ⟨h, hp⟩ | ⟨h, hp⟩ | ⟨h, hp⟩ | ⟨h, hp⟩
    · omega
    · omega
    · rw [h] at h2'
      subst h2'
      exact ⟨by omega, hmk _ 32 hp rfl (fun _ => rfl) (by omega)⟩
    · rw [h] at h2'
      subst h2'
      exact ⟨by omega, hmk _ 31 hp rfl (fun _ => rfl) (by omega)⟩
    · rw [h] at h2'
      subst h2'
      obtain ⟨cell, p1, p2, p3, p4, p5, p6⟩ := hp
      refine ⟨by omega, cell, p1, p2, p3, ⟨?_, ?_⟩, fun j hj => ?_, fun _ => ⟨p5, p6⟩⟩
      · show cl_n s.heap a ≤ _
        rw [p4]
        exact Nat.zero_le _
      · show _ = Int32.ofNat (cl_n s.heap a)
        rw [cl_n_of p1]
        exact ofNat_mod32 _
      · have hj' : j < cl_n s.heap a := hj
        rw [p4] at hj'
        exact absurd hj' (Nat.not_lt_zero j)
  · have hj : j < 26 := by
      have := (List.getElem?_eq_some_iff.mp h).1
      exact this
    show vk_R q.1 q.2.1 q.2.2 (ks j) s
    rw [hks j hj]
    obtain ⟨z, w, h9, -⟩ := hqv j q h
    exact h9
  · have hq' : s.heap.size ≤ q := hq
    have hn : s.heap[q]? = none := Array.getElem?_eq_none hq'
    have hi : ∀ j, cl_i s.heap q j = 0 := fun j => by unfold cl_i; rw [hn]
    have hr : ∀ j, cl_r s.heap q j = none := fun j => by unfold cl_r; rw [hn]
    have hnn : cl_n s.heap q = 0 := by unfold cl_n; rw [hn]
    refine ⟨?_, hnn, rfl, fun k => ?_, fun _ => rfl, fun k => ?_, fun j => hi j, fun _ => rfl, fun _ => rfl⟩
    · show cl q = 0
      rcases (hcl q).2.2.2.2 with h | ⟨-, c, p1, -⟩ | ⟨-, c, p1, -⟩ | ⟨-, c, p1, -⟩ | ⟨-, c, p1, -⟩
      · exact h
      all_goals (rw [hn] at p1; cases p1)
    · show (if 142 ≤ k ∧ k ≤ 144 then cl_i s.heap q (D.2 13 (k - 141)) else 0) = 0
      split
      · exact hi _
      · rfl
    · show (if k = 141 then cl_r s.heap q (D.2 13 0) else none) = none
      split
      · exact hr _
      · rfl
  · have h1' : s.heap.size ≤ q := h1
    have hn : s.heap[q]? = none := Array.getElem?_eq_none h1'
    have h2' : cl q ≠ 0 := h2
    rcases (hcl q).2.2.2.2 with h | ⟨-, c, p1, -⟩ | ⟨-, c, p1, -⟩ | ⟨-, c, p1, -⟩ | ⟨-, c, p1, -⟩
    · exact absurd h h2'
    all_goals (rw [hn] at p1; cases p1)
  · show StrAt _ (ks j) (strB j)
    rw [hks j hj]
    have hr : ∃ r, strTab[j]? = some r := ⟨_, List.getElem?_eq_getElem (by exact hj)⟩
    obtain ⟨r, hr⟩ := hr
    obtain ⟨z, w, -, ⟨cell, c1, c2, c3, c4⟩, f0, f1, f2, f3, hT⟩ := hqv j r hr
    have s0 := of_slot (hJs 0 (show 0 < 4 by omega)) f0 c1
    have s1 := of_slot (hJs 1 (show 1 < 4 by omega)) f1 c1
    have s2 := of_slot (hJs 2 (show 2 < 4 by omega)) f2 c1
    have s3 := of_slot (hJs 3 (show 3 < 4 by omega)) f3 c1
    have e0 := cl_r_of c1 s0
    have hp : P13 s.heap (D.1 13) (D.2 13) (qv j).1 := ⟨cell, c1, c3, c2, Option.some.inj (c4.symm.trans hJ1), by rw [e0]; exact s0, by rw [cl_i_of c1 s1]; exact s1, by rw [cl_i_of c1 s2]; exact s2, by rw [cl_i_of c1 s3]; exact s3⟩
    obtain ⟨cv, v1, v2, v3, v4, v5, v6, -⟩ := hT
    have hlen : (strB j).length < 2 ^ 31 := by
      have h9 : ∀ j, j < 26 → (strB j).length < 2 ^ 31 := by decide
      exact h9 j hj
    have hN := cl_n_N v1 v5 hlen
    refine ⟨(hcl _).1 hp, ?_, (qv j).2, e0, (hcl _).2.1 (not13 hJ2 v1 v2) ⟨cv, v1, v2, v3, fun i hi => ?_⟩, hN, fun k hk => cl_i_of v1 (v6 k hk)⟩
    · show (if 142 ≤ 142 ∧ 142 ≤ 144 then cl_i s.heap (qv j).1 (D.2 13 (142 - 141)) else 0) = 0
      rw [if_pos (by omega)]
      exact cl_i_of c1 s1
    · rw [hN] at hi
      have := v6 i hi
      rw [cl_i_of v1 this]
      exact this
  · obtain ⟨scr, c1, c2, c3, c4, c5⟩ := hX
    have hN : cl_n s.heap b = L := cl_n_N c1 (by rw [c4]) hL
    refine ⟨(hcl b).2.2.1 (not13 hJ2 c1 c2) (notAr c1 c2 (by decide)) ⟨scr, c1, c2, c3, fun i hi => ?_⟩, hN, fun k hk => cl_i_of c1 (c5 k hk)⟩
    rw [hN] at hi
    rw [cl_i_of c1 (c5 i hi)]
    exact c5 i hi
  · have p0' := p0
    obtain ⟨c, c1, c2, c3, c4, -⟩ := p0'
    exact ⟨(hcl e0).2.2.2.1 (not13 hJ2 c1 c2) (notAr c1 c2 (by decide)) (notAr c1 c2 (by decide)) p0, c4⟩
  · have p1' := p1
    obtain ⟨c, c1, c2, c3, c4, -⟩ := p1'
    exact ⟨(hcl e1).2.2.2.1 (not13 hJ2 c1 c2) (notAr c1 c2 (by decide)) (notAr c1 c2 (by decide)) p1, c4⟩
