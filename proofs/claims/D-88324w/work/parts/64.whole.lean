/-- what the plain law starts from -/
def In0 (S : HS) (b L : Nat) (xs : Nat → Int32) : Prop := CF S b L xs ∧ (∀ q, h_nx S ≤ q → h_zero S q) ∧ (∀ q, q < h_nx S → h_wr S q = false) ∧ h_sl S = 0
def PURE : Prop := ∀ (S : HS) (b L : Nat) (xs : Nat → Int32), L ≤ 384 → In0 S b L xs → ∃ S1, f_L_law b S = some S1 ∧ h_nx S1 ≤ h_nx S + 1200128 ∧ h_sl S1 ≤ 5501098
theorem law_of_pure (hP : PURE) {p : Program} {e : Env} {s : State} {m : MethodId} {below : List Frame} {meth : Method} {c : Code} (l : Launch) {b L : Nat} {xs : Nat → Int32} (hL : L ≤ 384)
    (x1 : p.tables.exec = Jvm.exec) (x2 : c.code = code) (x3 : meth.sig.returnType = ret) (x4 : c.maxLocals = 4) (x5 : s.vm.findClass "TableCatalogLaw" = some m.cls) (hts : ∀ w ∈ lw_tbl, w.before #[Value.ref b] s = true) (hX : va_X b L xs s s.heap) (x8 : meth.locks = false) (hgv : (Jvm.Cond.and given_1 narrow_1).before #[Value.ref b] s = true) :
    W p l e room_1 s m #[Value.ref b] below meth c s.heap [] 0 0 (LZ below s) (entryFrame m ([Value.ref b] : List Value).toArray 4) := by
  obtain ⟨g, g1, hE, hW, hC, g2, g3⟩ := st_all (Nat.lt_of_le_of_lt hL (by decide)) hts hgv hX
  have hn0 : s.heap.size = g_n0 g := by
    show _ = (g_Hs g).size
    rw [g1]
  obtain ⟨S1, hf, b1, b2⟩ := hP (g_cs g) b L xs hL ⟨hC, hW.2.2.2.2.1, fun q hq => (hW.2.2.2.1 q (by omega)).2, g3⟩
  rw [g2] at b1
  have hJ := w_L_law (f := (l, g, code, "TableCatalogLaw", 4, (8192, 100000), (g_n0 g, 0), (g_n0 g + 1200128, 5501098), (fun below args s' t => s'.heap.size ≤ g_n0 g → LZ below s' t), ret, false, c.exceptionTable.toList)) rfl rfl rfl rfl rfl rfl ⟨Nat.add_sub_cancel_left _ _, rfl, rfl, fun _ _ _ _ h => h⟩ ⟨b1, b2⟩ hf
  have hR : cf_R (l, g, code, "TableCatalogLaw", 4, (8192, 100000), (g_n0 g, 0), (g_n0 g + 1200128, 5501098), (fun below args s' t => s'.heap.size ≤ g_n0 g → LZ below s' t), ret, false, c.exceptionTable.toList) = room_1 := by
    show ({ frames := 8192, cells := (g_n0 g + 1200128) - g_n0 g, slots := 5501098 - 0, locals := 100000 } : Room) = room_1
    rw [Nat.add_sub_cancel_left]
    rfl
  have hlv := lv_entry (([vr (some b)] : List LV).map tv) (n := 4) (Nat.le_of_ble_eq_true rfl)
  rw [ls_args_tv] at hlv
  have k := hJ.2 p e s m #[Value.ref b] below meth c ⟨x1, x2, x4, x5, fun w h => hts w (lw_all_tbl h), hE, x3, x8, fun h => (by cases h), rfl⟩ _ s.heap [] 0 0 hlv hW va_S.rf (by rw [g2]; exact Nat.zero_add _) (by rw [g3]; rfl)
  rw [hR] at k
  rw [show (([Value.ref b] : List Value).toArray) = ((([vr (some b)] : List LV).map tv)).toArray from rfl, lg_entry_eq]
  exact W.mono (fun t ht => ht (Nat.le_of_eq hn0)) k
