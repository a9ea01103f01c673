theorem C_feed {S : HS} {a : Nat} {s : SP} (h : RC S a s) (hb : SB s) (a1 b1 c1 d1 e1 : Int32) : ∃ T, f_X0_feed a a1 b1 c1 d1 e1 S = some ((sp_feed s a1 b1 c1 d1 e1).1, T) ∧ CE S T a (sp_feed s a1 b1 c1 d1 e1).2 0 := by
  have hR := h
  obtain ⟨hF, hs, ho, hk, hz, tb, ty, ht⟩ := h
  have h8 := hs.2.2.2.2.1
  have htl := hb.2.2.1
  have hna := hb.2.1
  have hx := hF.1
  unfold f_X0_feed
  by_cases e20 : z_tl s + 20 ≤ 400
  · rw [show sp_feed s a1 b1 c1 d1 e1 = (i_ (z_tl s + 20), fd_s s a1 b1 c1 d1 e1) from if_pos e20]
    have g0 : FE a S S (z_tl s) 0 (fbyte a1 b1 c1 d1 e1) := ⟨fun _ _ _ => rfl, h8, ⟨rfl, rfl, rfl⟩, fun _ _ => rfl, Kp.rf S a, id, fun _ _ => rfl, fun i hi => absurd hi (Nat.not_lt_zero i)⟩
    have hB : ∀ k m, k < 5 → m < 4 → fbyte a1 b1 c1 d1 e1 (4 * k + m) = fb (fpick a1 b1 c1 d1 e1 (4 * k)) m := by
      intro k m hk hm
      unfold fbyte
      rw [show (4 * k + m) % 4 = m by omega]
      congr 1
      unfold fpick
      have : k = 0 ∨ k = 1 ∨ k = 2 ∨ k = 3 ∨ k = 4 := by omega
      rcases this with rfl | rfl | rfl | rfl | rfl
      · rw [if_pos (by omega), if_pos (by omega)]
      · rw [if_neg (by omega), if_pos (by omega), if_neg (by omega), if_pos (by omega)]
      · rw [if_neg (by omega), if_neg (by omega), if_pos (by omega), if_neg (by omega), if_neg (by omega), if_pos (by omega)]
      · rw [if_neg (by omega), if_neg (by omega), if_neg (by omega), if_pos (by omega), if_neg (by omega), if_neg (by omega), if_neg (by omega), if_pos (by omega)]
      · rw [if_neg (by omega), if_neg (by omega), if_neg (by omega), if_neg (by omega), if_neg (by omega), if_neg (by omega), if_neg (by omega), if_neg (by omega)]
    obtain ⟨U1, p1, g1⟩ := C_put (x := a1) hF g0 (by omega) (fun m hm => hB 0 m (by decide) hm)
    obtain ⟨U2, p2, g2⟩ := C_put (x := b1) hF g1 (by omega) (fun m hm => hB 1 m (by decide) hm)
    obtain ⟨U3, p3, g3⟩ := C_put (x := c1) hF g2 (by omega) (fun m hm => hB 2 m (by decide) hm)
    obtain ⟨U4, p4, g4⟩ := C_put (x := d1) hF g3 (by omega) (fun m hm => hB 3 m (by decide) hm)
    obtain ⟨U5, p5, g5⟩ := C_put (x := e1) hF g4 (by omega) (fun m hm => hB 4 m (by decide) hm)
    have cl : ∀ {U : HS} {k : Nat}, FE a S U (z_tl s) k (fbyte a1 b1 c1 d1 e1) → h_cl U a = 1 := fun g => fx_cl0 (g.2.2.2.2.1.fx hF)
    obtain ⟨f1, f2, ⟨f3, f4, f5⟩, f6, f7, f8, f9, f10⟩ := g5
    refine ⟨U5, ?_, ⟨f7.fx hF, ?_, ?_, ?_, f8 hz, tb, ty, ?_⟩, f7, by omega, by omega⟩
    · rw [bfI (fx_cl0 hF), h8, l_20, i_add, l_400, if_pos (by rw [i_le (by omega) (by omega)]; omega), bcls (fx_cl0 hF), ob1 p1, bcls (cl g1), ob1 p2, bcls (cl g2), ob1 p3, bcls (cl g3), ob1 p4, bcls (cl g4), ob1 p5, bfI (fx_cl0 (f7.fx hF)), f2]
    · obtain ⟨s1, s2, s3, s4, s5, s6⟩ := hs
      refine ⟨by rw [f1 _ _ (by omega)]; exact s1, by rw [f1 _ _ (by omega)]; exact s2, by rw [f1 _ _ (by omega)]; exact s3, by rw [f1 _ _ (by omega)]; exact s4, f2, fun k hk => ?_⟩
      have hk' : k < z_tl s + 20 := hk
      show _ = sb (if z_tl s ≤ k ∧ k < z_tl s + 20 then fbyte a1 b1 c1 d1 e1 (k - z_tl s) else z_tp s k)
      by_cases ek : k < z_tl s
      · rw [if_neg (by omega), f9 k ek]
        exact s6 k ek
      · rw [if_pos (by omega)]
        have := f10 (k - z_tl s) (by omega)
        rwa [show z_tl s + (k - z_tl s) = k by omega] at this
    · exact ⟨by rw [f1 _ _ (by omega)]; exact ho.1, fun k hk => by rw [f6 _ (by omega)]; exact ho.2 k hk⟩
    · refine ⟨by rw [f1 _ _ (by omega)]; exact hk.1, fun k hk' => ?_⟩
      have hk'' : k < z_na s := hk'
      rw [f6 _ (by omega)]
      exact hk.2 k hk''
    · exact (ht.kp f7 hF (by rw [f3]) (fun b j hb => f1 _ _ (by omega)) (fun y hy => f6 _ (by omega))).spp rfl rfl (fun _ _ _ h => h) (fun _ _ h => h)
  · rw [show sp_feed s a1 b1 c1 d1 e1 = (i_m, s) from if_neg e20]
    refine ⟨S, ?_, CE.rf hR 0⟩
    rw [bfI (fx_cl0 hF), h8, l_20, i_add, l_400, if_neg (by rw [i_le (by omega) (by omega)]; omega)]
    rfl
