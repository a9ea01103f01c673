/-! retype's law: tables up to the one retyped stay -/
theorem tt_congr {T T' : Nat → Nat} {l : List Tk} (h : ∀ v ∈ uc l, T v = T' v) : l.map (tt T) = l.map (tt T') := by
  induction l with
  | nil => rfl
  | cons x l ih =>
    rw [List.map_cons, List.map_cons, ih (fun v hv => h v (by
      rw [uc_cons]
      split
      · exact List.mem_cons_of_mem _ hv
      · exact hv))]
    congr 1
    unfold tt
    by_cases e : x.1 = 2
    · have hx := h x.2.1 (by rw [uc_cons, if_pos e]; exact List.mem_cons_self)
      rw [hx]
    · simp only [if_neg e]
theorem evt_congr {T T' : Nat → Nat} {l : List Tk} (h : ∀ v ∈ uc l, T v = T' v) : evt T l = evt T' l ∧ tyv T l = tyv T' l := by
  have e : evt T l = evt T' l := by
    unfold evt
    rw [tt_congr h]
  refine ⟨e, ?_⟩
  unfold tyv
  rw [e]
def tys (s : SP) : Nat → Nat := fun v => z_ty s (v / 8) (v % 8)
/-- made tables' types are what their formulas tell -/
def SIt (s : SP) : Prop := ∀ q, q < z_n s → z_th s q = true → made s q = true → (∀ c, c < z_nc s q → c3 (evt (tys s) (z_fo s q c)).2 = 0 ∧ tyv (tys s) (z_fo s q c) = z_ty s q c) ∧ (z_hw s q = true → c3 (evt (tys s) (z_fo s q 6)).2 = 0 ∧ c3 (evt (tys s) (z_fo s q 7)).2 = 0 ∧ tyv (tys s) (z_fo s q 6) = tyv (tys s) (z_fo s q 7))
theorem up_self {α : Type} (f : Nat → α) (i : Nat) : h_up f i (f i) = f := by
  funext j
  unfold h_up
  by_cases e : j = i
  · rw [if_pos e, e]
  · rw [if_neg e]
theorem rt_cs_id {s : SP} (hs : SI s) (ht : SIt s) {q : Nat} (hq : q < z_n s) (hth : z_th s q = true) (hm : made s q = true) {T : Nat → Nat} (hT : ∀ v, isCd s q v → T v = tys s v) (hT2 : ∀ k, k < z_nc s q → T (8 * q + k) = z_ty s q k) (o : Nat) (ws : List Nat) : ∀ (r k : Nat), k + r ≤ z_nc s q → rt_cs s q r k (T, o, ws) = (T, o, ws)
  | 0, _, _ => rfl
  | r + 1, k, h => by
    have hc := evt_congr (T := T) (T' := tys s) (l := z_fo s q k) (fun v hv => hT v (hs.2.2.2.1 q hq hth hm k (Or.inl (by omega)) v hv))
    obtain ⟨h1, h2⟩ := (ht q hq hth hm).1 k (by omega)
    have e : rt_c s q k (T, o, ws) = (T, o, ws) := by
      unfold rt_c
      rw [if_pos (by rw [hc.1]; exact h1)]
      have e1 : h_up T (8 * q + k) (tyv T (z_fo s q k)) = T := by
        rw [hc.2, h2, ← hT2 k (by omega), up_self]
      show (h_up T (8 * q + k) (tyv T (z_fo s q k)), o + rt_n s q k (h_up T (8 * q + k) (tyv T (z_fo s q k))), ws) = _
      rw [e1]
      unfold rt_n
      rw [if_pos (hT2 k (by omega)), Nat.add_zero]
    show rt_cs s q r (k + 1) (rt_c s q k (T, o, ws)) = _
    rw [e]
    exact rt_cs_id hs ht hq hth hm hT hT2 o ws r (k + 1) (by omega)
