/-! x: a wise rule learns -/
set_option maxRecDepth 100000
section XTW
variable {G : GG} {w : GW} {xa : Nat → Nat} {rr : Option Nat} {o : OS} {im : IM}
theorem XT.rule (h : XT G w xa rr o im) {s : Nat} (hs : s < 8) (hk : o.2.2.2.1 0 s = 2) : w (xa (40 + s)) = some (rCell (o.2.2.2.1 3 s) (o.2.2.2.1 4 s) (xa (50 + s))) ∧ (o.2.2.2.1 3 s = 6 → ∃ T, w (xa (50 + s)) = some (.inl (G.2.1 1, 125, .inr (.inl T))) ∧ ∀ j, 125 ≤ j → T j = lN 0) := by
  rcases h.shelf hs with ⟨q, -⟩ | ⟨q, -⟩ | ⟨-, -, h3⟩
  · rw [q] at hk; cases hk
  · rw [q] at hk; cases hk
  · exact h3
theorem XT.wise (h : XT G w xa rr o im) {s : Nat} (hs : s < 8) (hk : o.2.2.2.1 0 s = 2) (h6 : o.2.2.2.1 3 s = 6) : w (xa (40 + s)) = some (.inr (11, [.int (nI (o.2.2.2.1 4 s)), .ref (xa (50 + s))])) := by
  have := (h.rule hs hk).1
  rw [h6] at this
  exact this
theorem XT.thenput (h : XT G w xa rr o im) {s : Nat} (hs : s < 8) (hk : o.2.2.2.1 0 s = 2) (h6 : o.2.2.2.1 3 s = 6) {T : Nat → Int64} (hz : ∀ j, 125 ≤ j → T j = lN 0) : XT G (gu w (xa (50 + s)) (.inl (G.2.1 1, 125, .inr (.inl T)))) xa rr o im := by
  obtain ⟨C, hW, hC⟩ := h
  have hc : ∃ T0, C (50 + s) = some (.inl (G.2.1 1, 125, .inr (.inl T0))) ∧ C (30 + s) = some (.inr (3, [.ref (xa (40 + s))])) ∧ C (40 + s) = some (rCell (o.2.2.2.1 3 s) (o.2.2.2.1 4 s) (xa (50 + s))) := by
    rcases hC.cs s hs with ⟨q, -⟩ | ⟨q, -⟩ | ⟨-, h3, h4, h5⟩
    · rw [q] at hk; cases hk
    · rw [q] at hk; cases hk
    · obtain ⟨T0, h7, -⟩ := h5 h6
      exact ⟨T0, h7, h3, h4⟩
  obtain ⟨T0, hc, h30, h40⟩ := hc
  obtain ⟨g0, g1, g2, g3, g4, g5, g6, g7⟩ := hC.high (k := 50 + s) (e := .inl (G.2.1 1, 125, .inr (.inl T))) (by omega)
  refine ⟨setC C (50 + s) _, hW.put hc, ⟨?_, ?_, ?_, ?_, ?_, ?_, g6, g7, ?_, hC.cn⟩⟩
  · rw [g0]; exact hC.c0
  · rw [g1]; exact hC.c1
  · rw [g2]; exact hC.c2
  · rw [g3]; exact hC.c3
  · rw [g4]; exact hC.c4
  · intro i hi
    rw [g5 i hi]; exact hC.cw i hi
  · intro t ht
    by_cases hts : t = s
    · subst hts
      exact Or.inr (Or.inr ⟨hk, by rw [setC_n (by omega)]; exact h30, by rw [setC_n (by omega)]; exact h40, fun _ => ⟨T, setC_s, hz⟩⟩)
    · have := hC.cs t ht
      unfold ShC at this ⊢
      rw [setC_n (by omega), setC_n (by omega), setC_n (by omega)]
      exact this
end XTW
theorem cpy125 {f g : Nat → Int64} (hf : ∀ j, 125 ≤ j → f j = lN 0) (hg : ∀ j, 125 ≤ j → g j = lN 0) : va_cpy f g (nI 0).toNatClampNeg (nI 0).toNatClampNeg (nI 125).toNatClampNeg = f := by
  rw [nI_clamp (by omega), nI_clamp (by omega)]
  funext j
  unfold va_cpy
  by_cases h : j < 125
  · rw [if_pos ⟨by omega, by omega⟩, show 0 + (j - 0) = j by omega]
  · rw [if_neg (by omega), hf j (by omega), hg j (by omega)]
set_option maxHeartbeats 2000000 in
theorem m_X12_learns {l : Launch} {G : GG} {w : GW} {xa : Nat → Nat} {rr : Option Nat} {o : OS} {im : IM} (hX : XT G w xa rr o im) (hO : oInv o) {s : Nat} (hs : s < 8) (hk2 : o.2.2.2.1 0 s = 2) (hk6 : o.2.2.2.1 3 s = 6) : gM l G yX12_learns cX12_learns 2 none 12 7 507 [.ref (xa (40 + s)), .ref (xa 5)] w (pV (fun w1 => ∃ xa2 rr2, (∀ k, k ≠ 13 → k ≠ 14 → k ≠ 15 → xa2 k = xa k) ∧ XT G w1 xa2 rr2 o im ∧ w1 (xa2 (50 + s)) = some (.inl (G.2.1 1, 125, .inr (.inl (wiseT o.1 (o.2.2.2.1 4 s))))))) := by
  refine Z.met (own := "ThreeSizes$Wise") (nm := "learns") (lv := [(0, .ref (xa (40 + s))), (1, .ref (xa 5))]) (by decide) rfl rfl (Nat.le_of_ble_eq_true rfl) rfl (fun κ X => ?_)
  have hI := hO.1
  have hq9 := hO.2.1 s hs
  have hwh := wiseH_le (o.2.2.2.1 4 s)
  refine z_new X dX12_learns_0 in_X13 tyX13 tyX13_ok (ci := 12) (fs := [.null, .null, .int 0]) q614 q615 q90 rfl (fun j hj => by rcases (show j = 0 ∨ j = 1 ∨ j = 2 by omega) with rfl | rfl | rfl <;> rfl) (by omega) (by omega) (fun q1 hq1 => ?_)
  have hXq1 := XT.fresh hX hq1 (e := .inr (12, [.null, .null, .int 0]))
  refine z_dup X dX12_learns_3 rfl ?_
  refine z_aload_n X dX12_learns_4 rfl 1 rfl ?_
  refine z_null X dX12_learns_5 ?_
  refine z_cv (z_runI (rest := [.ref (q1)]) (n := 2) X [.ref (xa 5), .null] (m_X13_initN hXq1.wall hI (wq := q1) gu_s) dX12_learns_6 (lw_meth q618) q90 q616 q617 rfl hs_X13_init rfl ⟨Nat.le_of_ble_eq_true rfl, Nat.le_of_ble_eq_true rfl⟩ ⟨by omega, by omega⟩ rfl (Nat.le_of_ble_eq_true rfl)) (fun w4 h3 => ?_)
  rw [gu_gu] at h3
  subst h3
  have hXn5 := XT.fresh hX hq1 (e := .inr (12, [.ref (xa 5), .null, .int (nI (100 - sumTo (o.1.1 4) (o.1.2 0)))]))
  refine z_aload_n X dX12_learns_9 rfl 0 rfl ?_
  refine z_cip (z_runV (rest := [.ref (q1)]) (n := 0) X [] (m_X12_hours (hXn5.wise hs hk2 hk6) (by omega)) dX12_learns_10 (hXn5.wise hs hk2 hk6) rfl (lw_V q635 q636 q637 q88 q638) hv_X12_hours rfl ⟨Nat.le_of_ble_eq_true rfl, Nat.le_of_ble_eq_true rfl⟩ ⟨by omega, by omega⟩ rfl (Nat.le_of_ble_eq_true rfl)) ?_
  refine z_ca (z_runV (rest := []) (n := 1) X [.int (nI (wiseH (o.2.2.2.1 4 s)))] (m_x_after hXn5 hO (wq := q1) gu_s (n := wiseH (o.2.2.2.1 4 s)) (by omega)) dX12_learns_13 gu_s rfl (lw_V q642 q643 q644 q90 q645) hv_X13_after rfl ⟨Nat.le_of_ble_eq_true rfl, Nat.le_of_ble_eq_true rfl⟩ ⟨by omega, by omega⟩ rfl (Nat.le_of_ble_eq_true rfl)) (fun r6 w8 h7 => ?_)
  obtain ⟨xa7, rr7, hk7, hX7, hr7, hq7⟩ := h7
  rw [← hk7 (40 + s) (by omega) (by omega) (by omega)]
  rw [← hk7 5 (by omega) (by omega) (by omega)]
  refine z_iconst (v := nI (0)) X dX12_learns_16 ci0 ?_
  refine z_aload_n X dX12_learns_17 rfl 0 rfl ?_
  refine z_get X dX12_learns_18 (hX7.wise hs hk2 hk6) in_X12 rfl 1 (Nat.le_of_ble_eq_true rfl) q570 rfl ?_
  refine z_iconst (v := nI (0)) X dX12_learns_21 ci0 ?_
  refine z_bipush (v := nI (125)) X dX12_learns_22 (by decide) ?_
  obtain ⟨T9, hT9, hz9⟩ := (hX7.rule hs hk2).2 hk6
  refine z_cpyL (t := 1) (ty := .long) X rfl rfl hr7 hT9 (nI_pos (by decide)) (nI_pos (by decide)) (nI_pos (by decide)) (by rw [nI_clamp (by omega), nI_clamp (by omega)]; omega) (by rw [nI_clamp (by omega), nI_clamp (by omega)]; omega) (fun _ _ => rfl) dX12_learns_24 q740 (Nat.le_of_ble_eq_true rfl) (by omega) ?_
  rw [cpy125 (fun j hj => vals_hi _ j hj) hz9]
  have hX9 := hX7.thenput hs hk2 hk6 (T := wiseT o.1 (o.2.2.2.1 4 s)) (fun j hj => vals_hi _ j hj)
  exact z_vret X dX12_learns_27 (by omega) (by omega) ⟨rfl, ⟨_, _, hk7, hX9, gu_s⟩⟩
