/-! x: what a rule brings -/
set_option maxRecDepth 100000
theorem m_x_afterR {l : Launch} {G : GG} {w : GW} {xa : Nat → Nat} {rr : Option Nat} {o : OS} {im : IM} (hX : XT G w xa rr o im) (hO : oInv o) {q kd ra tq : Nat} {T : Nat → Int64} (hR : RuleW G w q kd ra tq T) (htq : kd = 6 → ∀ q0, rr = some q0 → tq ≠ xa 14 ∧ tq ≠ xa 15) {wq : Nat} (hq : w wq = some (.inr (12, [.ref (xa 5), .ref q, .int (nI (100 - sumTo (o.1.1 4) (o.1.2 0)))]))) {n : Nat} (hn : n ≤ 24) : gM l G yX13_after cX13_after 6 (some (.array (.long))) 8 6 504 [.ref wq, .int (nI n)] w (pA (fun x w1 => ∃ xa2 rr2, (∀ k, k ≠ 13 → k ≠ 14 → k ≠ 15 → xa2 k = xa k) ∧ XT G w1 xa2 rr2 o im ∧ w1 x = some (.inl (G.2.1 1, 125, .inr (.inl (vals o.1 (rRule o.1 kd ra T) n)))))) := by
  obtain ⟨ro, T1, hRo, hr⟩ := hX.rows
  have hwr : ∀ q0, rr = some q0 → ∀ k, k < 2 → wq ≠ ro k := fun q0 h0 k hk e => by
    have h1 := (hRo q0 h0).2.1 k hk
    rw [← e, hq] at h1
    cases h1
  have key : ∃ t2, RuleW G w q kd ra t2 T ∧ ∀ q0, rr = some q0 → ∀ k, k < 2 → t2 ≠ ro k := by
    by_cases h6 : kd = 6
    · refine ⟨tq, hR, fun q0 h0 k hk e => ?_⟩
      rcases hr with h1 | ⟨h1, h2, h3⟩
      · rw [h1] at h0; cases h0
      · obtain ⟨a1, a2⟩ := htq h6 q0 h0
        rcases (show k = 0 ∨ k = 1 by omega) with rfl | rfl
        · exact a1 (e.trans h2)
        · exact a2 (e.trans h3)
    · refine ⟨wq, ⟨hR.1, ?_, fun h => absurd h h6⟩, hwr⟩
      rw [hR.2.1]
      unfold rCell
      rw [if_neg h6, if_neg h6]
  obtain ⟨t2, hR2, ht2⟩ := key
  have h := m_X13_after (l := l) hRo hX.wall hO.1 (wq := wq) (rl := some q) hq (tq := t2) (r := rRule o.1 kd ra T) (Or.inr ⟨q, kd, ra, T, rfl, hR2, rfl⟩) ht2 hn
  refine gM.mono h fun v w1 hv => ?_
  obtain ⟨x, rfl, ha⟩ := hv
  obtain ⟨xa2, rr2, h1, h2, h3⟩ := hX.aft hr ha
  exact ⟨x, rfl, xa2, rr2, h1, h2, h3⟩
set_option maxHeartbeats 2000000 in
theorem m_x_valueF_1 {l : Launch} {G : GG} {w : GW} {xa : Nat → Nat} {rr : Option Nat} {o : OS} {im : IM} (hX : XT G w xa rr o im) (hO : oInv o) {q ra : Nat} (hra : ra < 100) (hru : w q = some (.inr (6, [.int (nI ra)]))) {n : Nat} (hn : n ≤ 24) : gM l G yX0_valueOf cX0_valueOf 3 (some .long) 16 14 1014 [.ref (xa 0), .ref (q), .int (nI (n))] w (pL (fun r w1 => ∃ xa2 rr2, (∀ k, k ≠ 13 → k ≠ 14 → k ≠ 15 → xa2 k = xa k) ∧ XT G w1 xa2 rr2 o im ∧ r = vals o.1 (rRule o.1 1 ra (wiseT o.1 ra)) n (stOf o.1))) := by
  refine Z.met (own := "ThreeSizes") (nm := "valueOf") (lv := [(0, .ref (xa 0)), (1, .ref (q)), (2, .int (nI (n)))]) (by decide) rfl rfl (Nat.le_of_ble_eq_true rfl) rfl (fun κ X => ?_)
  have hI := hO.1
  have hs5 := stOf_lt hI
  refine z_new X dX0_valueOf_0 in_X13 tyX13 tyX13_ok (ci := 12) (fs := [.null, .null, .int 0]) q1205 q615 q90 rfl (fun j hj => by rcases (show j = 0 ∨ j = 1 ∨ j = 2 by omega) with rfl | rfl | rfl <;> rfl) (by omega) (by omega) (fun q1 hq1 => ?_)
  have hXq1 := XT.fresh hX hq1 (e := .inr (12, [.null, .null, .int 0]))
  refine z_dup X dX0_valueOf_3 rfl ?_
  refine z_aload_n X dX0_valueOf_4 rfl 0 rfl ?_
  refine z_get X dX0_valueOf_5 hXq1.ob in_X0 rfl 0 (Nat.le_of_ble_eq_true rfl) q233 rfl ?_
  refine z_get X dX0_valueOf_8 hXq1.day in_X1 rfl 0 (Nat.le_of_ble_eq_true rfl) q190 rfl ?_
  refine z_aload_n X dX0_valueOf_11 rfl 1 rfl ?_
  refine z_cv (z_runI (rest := [.ref (q1)]) (n := 2) X [.ref (xa 5), .ref (q)] (m_X13_initR_1 hXq1 hO (gu_f hq1 hru) gu_s) dX0_valueOf_12 (lw_meth q618) q90 q1206 q617 rfl hs_X13_init rfl ⟨Nat.le_of_ble_eq_true rfl, Nat.le_of_ble_eq_true rfl⟩ ⟨by omega, by omega⟩ rfl (Nat.le_of_ble_eq_true rfl)) (fun w4 h3 => ?_)
  rw [gu_gu] at h3
  subst h3
  have hXn5 := XT.fresh hX hq1 (e := .inr (12, [.ref (xa 5), .ref q, .int (nI (100 - sumTo (o.1.1 4) (o.1.2 0)))]))
  have hR9 : RuleW G (gu w q1 (.inr (12, [.ref (xa 5), .ref q, .int (nI (100 - sumTo (o.1.1 4) (o.1.2 0)))]))) q 1 ra 0 (wiseT o.1 ra) := ⟨⟨by decide, by decide, hra⟩, gu_f hq1 hru, fun h => absurd h (by decide)⟩
  refine z_iload_n X dX0_valueOf_15 rfl 2 rfl ?_
  refine z_ca (z_runV (rest := []) (n := 1) X [.int (nI (n))] (m_x_afterR hXn5 hO hR9 (fun h => absurd h (by decide)) (wq := q1) gu_s (n := n) (by omega)) dX0_valueOf_16 gu_s rfl (lw_V q1207 q643 q644 q90 q645) hv_X13_after rfl ⟨Nat.le_of_ble_eq_true rfl, Nat.le_of_ble_eq_true rfl⟩ ⟨by omega, by omega⟩ rfl (Nat.le_of_ble_eq_true rfl)) (fun r6 w8 h7 => ?_)
  obtain ⟨xa3, rr3, hk3, hX3, hr3⟩ := h7
  rw [← hk3 0 (by omega) (by omega) (by omega)]
  refine z_aload_n X dX0_valueOf_19 rfl 0 rfl ?_
  refine z_get X dX0_valueOf_20 hX3.ob in_X0 rfl 0 (Nat.le_of_ble_eq_true rfl) q233 rfl ?_
  refine z_get X dX0_valueOf_23 hX3.day in_X1 rfl 0 (Nat.le_of_ble_eq_true rfl) q190 rfl ?_
  refine z_cip (z_runV (rest := [.ref (r6)]) (n := 0) X [] (m_X2_state hX3.wall hI) dX0_valueOf_26 (wl_o hX3.wall) rfl (lw_V q1173 q743 q744 q68 q745) hv_X2_state rfl ⟨Nat.le_of_ble_eq_true rfl, Nat.le_of_ble_eq_true rfl⟩ ⟨by omega, by omega⟩ rfl (Nat.le_of_ble_eq_true rfl)) ?_
  refine z_laN (v := vals o.1 (rRule o.1 1 ra (wiseT o.1 ra)) n (stOf o.1)) X dX0_valueOf_29 hr3 (by omega) (by omega) rfl ?_
  exact z_lret X dX0_valueOf_30 (by omega) (by omega) ⟨_, rfl, ⟨xa3, _, hk3, hX3, rfl⟩⟩
set_option maxHeartbeats 2000000 in
theorem m_x_valueF_2 {l : Launch} {G : GG} {w : GW} {xa : Nat → Nat} {rr : Option Nat} {o : OS} {im : IM} (hX : XT G w xa rr o im) (hO : oInv o) {q ra : Nat} (hra : ra < 100) (hru : w q = some (.inr (7, [.int (nI ra)]))) {n : Nat} (hn : n ≤ 24) : gM l G yX0_valueOf cX0_valueOf 3 (some .long) 16 14 1014 [.ref (xa 0), .ref (q), .int (nI (n))] w (pL (fun r w1 => ∃ xa2 rr2, (∀ k, k ≠ 13 → k ≠ 14 → k ≠ 15 → xa2 k = xa k) ∧ XT G w1 xa2 rr2 o im ∧ r = vals o.1 (rRule o.1 2 ra (wiseT o.1 ra)) n (stOf o.1))) := by
  refine Z.met (own := "ThreeSizes") (nm := "valueOf") (lv := [(0, .ref (xa 0)), (1, .ref (q)), (2, .int (nI (n)))]) (by decide) rfl rfl (Nat.le_of_ble_eq_true rfl) rfl (fun κ X => ?_)
  have hI := hO.1
  have hs5 := stOf_lt hI
  refine z_new X dX0_valueOf_0 in_X13 tyX13 tyX13_ok (ci := 12) (fs := [.null, .null, .int 0]) q1205 q615 q90 rfl (fun j hj => by rcases (show j = 0 ∨ j = 1 ∨ j = 2 by omega) with rfl | rfl | rfl <;> rfl) (by omega) (by omega) (fun q1 hq1 => ?_)
  have hXq1 := XT.fresh hX hq1 (e := .inr (12, [.null, .null, .int 0]))
  refine z_dup X dX0_valueOf_3 rfl ?_
  refine z_aload_n X dX0_valueOf_4 rfl 0 rfl ?_
  refine z_get X dX0_valueOf_5 hXq1.ob in_X0 rfl 0 (Nat.le_of_ble_eq_true rfl) q233 rfl ?_
  refine z_get X dX0_valueOf_8 hXq1.day in_X1 rfl 0 (Nat.le_of_ble_eq_true rfl) q190 rfl ?_
  refine z_aload_n X dX0_valueOf_11 rfl 1 rfl ?_
  refine z_cv (z_runI (rest := [.ref (q1)]) (n := 2) X [.ref (xa 5), .ref (q)] (m_X13_initR_2 hXq1 hO (gu_f hq1 hru) gu_s) dX0_valueOf_12 (lw_meth q618) q90 q1206 q617 rfl hs_X13_init rfl ⟨Nat.le_of_ble_eq_true rfl, Nat.le_of_ble_eq_true rfl⟩ ⟨by omega, by omega⟩ rfl (Nat.le_of_ble_eq_true rfl)) (fun w4 h3 => ?_)
  rw [gu_gu] at h3
  subst h3
  have hXn5 := XT.fresh hX hq1 (e := .inr (12, [.ref (xa 5), .ref q, .int (nI (100 - sumTo (o.1.1 4) (o.1.2 0)))]))
  have hR9 : RuleW G (gu w q1 (.inr (12, [.ref (xa 5), .ref q, .int (nI (100 - sumTo (o.1.1 4) (o.1.2 0)))]))) q 2 ra 0 (wiseT o.1 ra) := ⟨⟨by decide, by decide, hra⟩, gu_f hq1 hru, fun h => absurd h (by decide)⟩
  refine z_iload_n X dX0_valueOf_15 rfl 2 rfl ?_
  refine z_ca (z_runV (rest := []) (n := 1) X [.int (nI (n))] (m_x_afterR hXn5 hO hR9 (fun h => absurd h (by decide)) (wq := q1) gu_s (n := n) (by omega)) dX0_valueOf_16 gu_s rfl (lw_V q1207 q643 q644 q90 q645) hv_X13_after rfl ⟨Nat.le_of_ble_eq_true rfl, Nat.le_of_ble_eq_true rfl⟩ ⟨by omega, by omega⟩ rfl (Nat.le_of_ble_eq_true rfl)) (fun r6 w8 h7 => ?_)
  obtain ⟨xa3, rr3, hk3, hX3, hr3⟩ := h7
  rw [← hk3 0 (by omega) (by omega) (by omega)]
  refine z_aload_n X dX0_valueOf_19 rfl 0 rfl ?_
  refine z_get X dX0_valueOf_20 hX3.ob in_X0 rfl 0 (Nat.le_of_ble_eq_true rfl) q233 rfl ?_
  refine z_get X dX0_valueOf_23 hX3.day in_X1 rfl 0 (Nat.le_of_ble_eq_true rfl) q190 rfl ?_
  refine z_cip (z_runV (rest := [.ref (r6)]) (n := 0) X [] (m_X2_state hX3.wall hI) dX0_valueOf_26 (wl_o hX3.wall) rfl (lw_V q1173 q743 q744 q68 q745) hv_X2_state rfl ⟨Nat.le_of_ble_eq_true rfl, Nat.le_of_ble_eq_true rfl⟩ ⟨by omega, by omega⟩ rfl (Nat.le_of_ble_eq_true rfl)) ?_
  refine z_laN (v := vals o.1 (rRule o.1 2 ra (wiseT o.1 ra)) n (stOf o.1)) X dX0_valueOf_29 hr3 (by omega) (by omega) rfl ?_
  exact z_lret X dX0_valueOf_30 (by omega) (by omega) ⟨_, rfl, ⟨xa3, _, hk3, hX3, rfl⟩⟩
set_option maxHeartbeats 2000000 in
theorem m_x_valueF_3 {l : Launch} {G : GG} {w : GW} {xa : Nat → Nat} {rr : Option Nat} {o : OS} {im : IM} (hX : XT G w xa rr o im) (hO : oInv o) {q ra : Nat} (hra : ra < 100) (hru : w q = some (.inr (8, [.int (nI ra)]))) {n : Nat} (hn : n ≤ 24) : gM l G yX0_valueOf cX0_valueOf 3 (some .long) 16 14 1014 [.ref (xa 0), .ref (q), .int (nI (n))] w (pL (fun r w1 => ∃ xa2 rr2, (∀ k, k ≠ 13 → k ≠ 14 → k ≠ 15 → xa2 k = xa k) ∧ XT G w1 xa2 rr2 o im ∧ r = vals o.1 (rRule o.1 3 ra (wiseT o.1 ra)) n (stOf o.1))) := by
  refine Z.met (own := "ThreeSizes") (nm := "valueOf") (lv := [(0, .ref (xa 0)), (1, .ref (q)), (2, .int (nI (n)))]) (by decide) rfl rfl (Nat.le_of_ble_eq_true rfl) rfl (fun κ X => ?_)
  have hI := hO.1
  have hs5 := stOf_lt hI
  refine z_new X dX0_valueOf_0 in_X13 tyX13 tyX13_ok (ci := 12) (fs := [.null, .null, .int 0]) q1205 q615 q90 rfl (fun j hj => by rcases (show j = 0 ∨ j = 1 ∨ j = 2 by omega) with rfl | rfl | rfl <;> rfl) (by omega) (by omega) (fun q1 hq1 => ?_)
  have hXq1 := XT.fresh hX hq1 (e := .inr (12, [.null, .null, .int 0]))
  refine z_dup X dX0_valueOf_3 rfl ?_
  refine z_aload_n X dX0_valueOf_4 rfl 0 rfl ?_
  refine z_get X dX0_valueOf_5 hXq1.ob in_X0 rfl 0 (Nat.le_of_ble_eq_true rfl) q233 rfl ?_
  refine z_get X dX0_valueOf_8 hXq1.day in_X1 rfl 0 (Nat.le_of_ble_eq_true rfl) q190 rfl ?_
  refine z_aload_n X dX0_valueOf_11 rfl 1 rfl ?_
  refine z_cv (z_runI (rest := [.ref (q1)]) (n := 2) X [.ref (xa 5), .ref (q)] (m_X13_initR_3 hXq1 hO (gu_f hq1 hru) gu_s) dX0_valueOf_12 (lw_meth q618) q90 q1206 q617 rfl hs_X13_init rfl ⟨Nat.le_of_ble_eq_true rfl, Nat.le_of_ble_eq_true rfl⟩ ⟨by omega, by omega⟩ rfl (Nat.le_of_ble_eq_true rfl)) (fun w4 h3 => ?_)
  rw [gu_gu] at h3
  subst h3
  have hXn5 := XT.fresh hX hq1 (e := .inr (12, [.ref (xa 5), .ref q, .int (nI (100 - sumTo (o.1.1 4) (o.1.2 0)))]))
  have hR9 : RuleW G (gu w q1 (.inr (12, [.ref (xa 5), .ref q, .int (nI (100 - sumTo (o.1.1 4) (o.1.2 0)))]))) q 3 ra 0 (wiseT o.1 ra) := ⟨⟨by decide, by decide, hra⟩, gu_f hq1 hru, fun h => absurd h (by decide)⟩
  refine z_iload_n X dX0_valueOf_15 rfl 2 rfl ?_
  refine z_ca (z_runV (rest := []) (n := 1) X [.int (nI (n))] (m_x_afterR hXn5 hO hR9 (fun h => absurd h (by decide)) (wq := q1) gu_s (n := n) (by omega)) dX0_valueOf_16 gu_s rfl (lw_V q1207 q643 q644 q90 q645) hv_X13_after rfl ⟨Nat.le_of_ble_eq_true rfl, Nat.le_of_ble_eq_true rfl⟩ ⟨by omega, by omega⟩ rfl (Nat.le_of_ble_eq_true rfl)) (fun r6 w8 h7 => ?_)
  obtain ⟨xa3, rr3, hk3, hX3, hr3⟩ := h7
  rw [← hk3 0 (by omega) (by omega) (by omega)]
  refine z_aload_n X dX0_valueOf_19 rfl 0 rfl ?_
  refine z_get X dX0_valueOf_20 hX3.ob in_X0 rfl 0 (Nat.le_of_ble_eq_true rfl) q233 rfl ?_
  refine z_get X dX0_valueOf_23 hX3.day in_X1 rfl 0 (Nat.le_of_ble_eq_true rfl) q190 rfl ?_
  refine z_cip (z_runV (rest := [.ref (r6)]) (n := 0) X [] (m_X2_state hX3.wall hI) dX0_valueOf_26 (wl_o hX3.wall) rfl (lw_V q1173 q743 q744 q68 q745) hv_X2_state rfl ⟨Nat.le_of_ble_eq_true rfl, Nat.le_of_ble_eq_true rfl⟩ ⟨by omega, by omega⟩ rfl (Nat.le_of_ble_eq_true rfl)) ?_
  refine z_laN (v := vals o.1 (rRule o.1 3 ra (wiseT o.1 ra)) n (stOf o.1)) X dX0_valueOf_29 hr3 (by omega) (by omega) rfl ?_
  exact z_lret X dX0_valueOf_30 (by omega) (by omega) ⟨_, rfl, ⟨xa3, _, hk3, hX3, rfl⟩⟩
set_option maxHeartbeats 2000000 in
theorem m_x_valueF_4 {l : Launch} {G : GG} {w : GW} {xa : Nat → Nat} {rr : Option Nat} {o : OS} {im : IM} (hX : XT G w xa rr o im) (hO : oInv o) {q ra : Nat} (hra : ra < 100) (hru : w q = some (.inr (9, [.int (nI ra)]))) {n : Nat} (hn : n ≤ 24) : gM l G yX0_valueOf cX0_valueOf 3 (some .long) 16 14 1014 [.ref (xa 0), .ref (q), .int (nI (n))] w (pL (fun r w1 => ∃ xa2 rr2, (∀ k, k ≠ 13 → k ≠ 14 → k ≠ 15 → xa2 k = xa k) ∧ XT G w1 xa2 rr2 o im ∧ r = vals o.1 (rRule o.1 4 ra (wiseT o.1 ra)) n (stOf o.1))) := by
  refine Z.met (own := "ThreeSizes") (nm := "valueOf") (lv := [(0, .ref (xa 0)), (1, .ref (q)), (2, .int (nI (n)))]) (by decide) rfl rfl (Nat.le_of_ble_eq_true rfl) rfl (fun κ X => ?_)
  have hI := hO.1
  have hs5 := stOf_lt hI
  refine z_new X dX0_valueOf_0 in_X13 tyX13 tyX13_ok (ci := 12) (fs := [.null, .null, .int 0]) q1205 q615 q90 rfl (fun j hj => by rcases (show j = 0 ∨ j = 1 ∨ j = 2 by omega) with rfl | rfl | rfl <;> rfl) (by omega) (by omega) (fun q1 hq1 => ?_)
  have hXq1 := XT.fresh hX hq1 (e := .inr (12, [.null, .null, .int 0]))
  refine z_dup X dX0_valueOf_3 rfl ?_
  refine z_aload_n X dX0_valueOf_4 rfl 0 rfl ?_
  refine z_get X dX0_valueOf_5 hXq1.ob in_X0 rfl 0 (Nat.le_of_ble_eq_true rfl) q233 rfl ?_
  refine z_get X dX0_valueOf_8 hXq1.day in_X1 rfl 0 (Nat.le_of_ble_eq_true rfl) q190 rfl ?_
  refine z_aload_n X dX0_valueOf_11 rfl 1 rfl ?_
  refine z_cv (z_runI (rest := [.ref (q1)]) (n := 2) X [.ref (xa 5), .ref (q)] (m_X13_initR_4 hXq1 hO (gu_f hq1 hru) gu_s) dX0_valueOf_12 (lw_meth q618) q90 q1206 q617 rfl hs_X13_init rfl ⟨Nat.le_of_ble_eq_true rfl, Nat.le_of_ble_eq_true rfl⟩ ⟨by omega, by omega⟩ rfl (Nat.le_of_ble_eq_true rfl)) (fun w4 h3 => ?_)
  rw [gu_gu] at h3
  subst h3
  have hXn5 := XT.fresh hX hq1 (e := .inr (12, [.ref (xa 5), .ref q, .int (nI (100 - sumTo (o.1.1 4) (o.1.2 0)))]))
  have hR9 : RuleW G (gu w q1 (.inr (12, [.ref (xa 5), .ref q, .int (nI (100 - sumTo (o.1.1 4) (o.1.2 0)))]))) q 4 ra 0 (wiseT o.1 ra) := ⟨⟨by decide, by decide, hra⟩, gu_f hq1 hru, fun h => absurd h (by decide)⟩
  refine z_iload_n X dX0_valueOf_15 rfl 2 rfl ?_
  refine z_ca (z_runV (rest := []) (n := 1) X [.int (nI (n))] (m_x_afterR hXn5 hO hR9 (fun h => absurd h (by decide)) (wq := q1) gu_s (n := n) (by omega)) dX0_valueOf_16 gu_s rfl (lw_V q1207 q643 q644 q90 q645) hv_X13_after rfl ⟨Nat.le_of_ble_eq_true rfl, Nat.le_of_ble_eq_true rfl⟩ ⟨by omega, by omega⟩ rfl (Nat.le_of_ble_eq_true rfl)) (fun r6 w8 h7 => ?_)
  obtain ⟨xa3, rr3, hk3, hX3, hr3⟩ := h7
  rw [← hk3 0 (by omega) (by omega) (by omega)]
  refine z_aload_n X dX0_valueOf_19 rfl 0 rfl ?_
  refine z_get X dX0_valueOf_20 hX3.ob in_X0 rfl 0 (Nat.le_of_ble_eq_true rfl) q233 rfl ?_
  refine z_get X dX0_valueOf_23 hX3.day in_X1 rfl 0 (Nat.le_of_ble_eq_true rfl) q190 rfl ?_
  refine z_cip (z_runV (rest := [.ref (r6)]) (n := 0) X [] (m_X2_state hX3.wall hI) dX0_valueOf_26 (wl_o hX3.wall) rfl (lw_V q1173 q743 q744 q68 q745) hv_X2_state rfl ⟨Nat.le_of_ble_eq_true rfl, Nat.le_of_ble_eq_true rfl⟩ ⟨by omega, by omega⟩ rfl (Nat.le_of_ble_eq_true rfl)) ?_
  refine z_laN (v := vals o.1 (rRule o.1 4 ra (wiseT o.1 ra)) n (stOf o.1)) X dX0_valueOf_29 hr3 (by omega) (by omega) rfl ?_
  exact z_lret X dX0_valueOf_30 (by omega) (by omega) ⟨_, rfl, ⟨xa3, _, hk3, hX3, rfl⟩⟩
set_option maxHeartbeats 2000000 in
theorem m_x_valueF_5 {l : Launch} {G : GG} {w : GW} {xa : Nat → Nat} {rr : Option Nat} {o : OS} {im : IM} (hX : XT G w xa rr o im) (hO : oInv o) {q ra : Nat} (hra : ra < 100) (hru : w q = some (.inr (10, [.int (nI ra)]))) {n : Nat} (hn : n ≤ 24) : gM l G yX0_valueOf cX0_valueOf 3 (some .long) 16 14 1014 [.ref (xa 0), .ref (q), .int (nI (n))] w (pL (fun r w1 => ∃ xa2 rr2, (∀ k, k ≠ 13 → k ≠ 14 → k ≠ 15 → xa2 k = xa k) ∧ XT G w1 xa2 rr2 o im ∧ r = vals o.1 (rRule o.1 5 ra (wiseT o.1 ra)) n (stOf o.1))) := by
  refine Z.met (own := "ThreeSizes") (nm := "valueOf") (lv := [(0, .ref (xa 0)), (1, .ref (q)), (2, .int (nI (n)))]) (by decide) rfl rfl (Nat.le_of_ble_eq_true rfl) rfl (fun κ X => ?_)
  have hI := hO.1
  have hs5 := stOf_lt hI
  refine z_new X dX0_valueOf_0 in_X13 tyX13 tyX13_ok (ci := 12) (fs := [.null, .null, .int 0]) q1205 q615 q90 rfl (fun j hj => by rcases (show j = 0 ∨ j = 1 ∨ j = 2 by omega) with rfl | rfl | rfl <;> rfl) (by omega) (by omega) (fun q1 hq1 => ?_)
  have hXq1 := XT.fresh hX hq1 (e := .inr (12, [.null, .null, .int 0]))
  refine z_dup X dX0_valueOf_3 rfl ?_
  refine z_aload_n X dX0_valueOf_4 rfl 0 rfl ?_
  refine z_get X dX0_valueOf_5 hXq1.ob in_X0 rfl 0 (Nat.le_of_ble_eq_true rfl) q233 rfl ?_
  refine z_get X dX0_valueOf_8 hXq1.day in_X1 rfl 0 (Nat.le_of_ble_eq_true rfl) q190 rfl ?_
  refine z_aload_n X dX0_valueOf_11 rfl 1 rfl ?_
  refine z_cv (z_runI (rest := [.ref (q1)]) (n := 2) X [.ref (xa 5), .ref (q)] (m_X13_initR_5 hXq1 hO (gu_f hq1 hru) gu_s) dX0_valueOf_12 (lw_meth q618) q90 q1206 q617 rfl hs_X13_init rfl ⟨Nat.le_of_ble_eq_true rfl, Nat.le_of_ble_eq_true rfl⟩ ⟨by omega, by omega⟩ rfl (Nat.le_of_ble_eq_true rfl)) (fun w4 h3 => ?_)
  rw [gu_gu] at h3
  subst h3
  have hXn5 := XT.fresh hX hq1 (e := .inr (12, [.ref (xa 5), .ref q, .int (nI (100 - sumTo (o.1.1 4) (o.1.2 0)))]))
  have hR9 : RuleW G (gu w q1 (.inr (12, [.ref (xa 5), .ref q, .int (nI (100 - sumTo (o.1.1 4) (o.1.2 0)))]))) q 5 ra 0 (wiseT o.1 ra) := ⟨⟨by decide, by decide, hra⟩, gu_f hq1 hru, fun h => absurd h (by decide)⟩
  refine z_iload_n X dX0_valueOf_15 rfl 2 rfl ?_
  refine z_ca (z_runV (rest := []) (n := 1) X [.int (nI (n))] (m_x_afterR hXn5 hO hR9 (fun h => absurd h (by decide)) (wq := q1) gu_s (n := n) (by omega)) dX0_valueOf_16 gu_s rfl (lw_V q1207 q643 q644 q90 q645) hv_X13_after rfl ⟨Nat.le_of_ble_eq_true rfl, Nat.le_of_ble_eq_true rfl⟩ ⟨by omega, by omega⟩ rfl (Nat.le_of_ble_eq_true rfl)) (fun r6 w8 h7 => ?_)
  obtain ⟨xa3, rr3, hk3, hX3, hr3⟩ := h7
  rw [← hk3 0 (by omega) (by omega) (by omega)]
  refine z_aload_n X dX0_valueOf_19 rfl 0 rfl ?_
  refine z_get X dX0_valueOf_20 hX3.ob in_X0 rfl 0 (Nat.le_of_ble_eq_true rfl) q233 rfl ?_
  refine z_get X dX0_valueOf_23 hX3.day in_X1 rfl 0 (Nat.le_of_ble_eq_true rfl) q190 rfl ?_
  refine z_cip (z_runV (rest := [.ref (r6)]) (n := 0) X [] (m_X2_state hX3.wall hI) dX0_valueOf_26 (wl_o hX3.wall) rfl (lw_V q1173 q743 q744 q68 q745) hv_X2_state rfl ⟨Nat.le_of_ble_eq_true rfl, Nat.le_of_ble_eq_true rfl⟩ ⟨by omega, by omega⟩ rfl (Nat.le_of_ble_eq_true rfl)) ?_
  refine z_laN (v := vals o.1 (rRule o.1 5 ra (wiseT o.1 ra)) n (stOf o.1)) X dX0_valueOf_29 hr3 (by omega) (by omega) rfl ?_
  exact z_lret X dX0_valueOf_30 (by omega) (by omega) ⟨_, rfl, ⟨xa3, _, hk3, hX3, rfl⟩⟩
set_option maxHeartbeats 2000000 in
theorem m_x_valueW {l : Launch} {G : GG} {w : GW} {xa : Nat → Nat} {rr : Option Nat} {o : OS} {im : IM} (hX : XT G w xa rr o im) (hO : oInv o) {s : Nat} (hs : s < 8) (hk2 : o.2.2.2.1 0 s = 2) (hk6 : o.2.2.2.1 3 s = 6) {n : Nat} (hn : n ≤ 24) : gM l G yX0_valueOf cX0_valueOf 3 (some .long) 16 14 1014 [.ref (xa 0), .ref (xa (40 + s)), .int (nI (n))] w (pL (fun r w1 => ∃ xa2 rr2, (∀ k, k ≠ 13 → k ≠ 14 → k ≠ 15 → xa2 k = xa k) ∧ XT G w1 xa2 rr2 o im ∧ r = vals o.1 (rRule o.1 (o.2.2.2.1 3 s) (o.2.2.2.1 4 s) (wiseT o.1 (o.2.2.2.1 4 s))) n (stOf o.1))) := by
  refine Z.met (own := "ThreeSizes") (nm := "valueOf") (lv := [(0, .ref (xa 0)), (1, .ref (xa (40 + s))), (2, .int (nI (n)))]) (by decide) rfl rfl (Nat.le_of_ble_eq_true rfl) rfl (fun κ X => ?_)
  have hI := hO.1
  have hs5 := stOf_lt hI
  have hq9 := hO.2.1 s hs
  refine z_new X dX0_valueOf_0 in_X13 tyX13 tyX13_ok (ci := 12) (fs := [.null, .null, .int 0]) q1205 q615 q90 rfl (fun j hj => by rcases (show j = 0 ∨ j = 1 ∨ j = 2 by omega) with rfl | rfl | rfl <;> rfl) (by omega) (by omega) (fun q1 hq1 => ?_)
  have hXq1 := XT.fresh hX hq1 (e := .inr (12, [.null, .null, .int 0]))
  refine z_dup X dX0_valueOf_3 rfl ?_
  refine z_aload_n X dX0_valueOf_4 rfl 0 rfl ?_
  refine z_get X dX0_valueOf_5 hXq1.ob in_X0 rfl 0 (Nat.le_of_ble_eq_true rfl) q233 rfl ?_
  refine z_get X dX0_valueOf_8 hXq1.day in_X1 rfl 0 (Nat.le_of_ble_eq_true rfl) q190 rfl ?_
  refine z_aload_n X dX0_valueOf_11 rfl 1 rfl ?_
  refine z_cv (z_runI (rest := [.ref (q1)]) (n := 2) X [.ref (xa 5), .ref (xa (40 + s))] (m_X13_initW hX hO hs hk2 hk6 hq1) dX0_valueOf_12 (lw_meth q618) q90 q1206 q617 rfl hs_X13_init rfl ⟨Nat.le_of_ble_eq_true rfl, Nat.le_of_ble_eq_true rfl⟩ ⟨by omega, by omega⟩ rfl (Nat.le_of_ble_eq_true rfl)) (fun w4 h3 => ?_)
  obtain ⟨xa2, rr2, hk2_, hX2, ht2, hq2⟩ := h3
  rw [← hk2_ 0 (by omega) (by omega) (by omega)]
  rw [← hk2_ (40 + s) (by omega) (by omega) (by omega)]
  have hR9 : RuleW G w4 (xa2 (40 + s)) (o.2.2.2.1 3 s) (o.2.2.2.1 4 s) (xa2 (50 + s)) (wiseT o.1 (o.2.2.2.1 4 s)) := ⟨⟨by omega, by omega, by omega⟩, (hX2.rule hs hk2).1, fun _ => ht2⟩
  refine z_iload_n X dX0_valueOf_15 rfl 2 rfl ?_
  refine z_ca (z_runV (rest := []) (n := 1) X [.int (nI (n))] (m_x_afterR hX2 hO hR9 (fun _ => hX2.wne hs hk2 hk6) (wq := q1) hq2 (n := n) (by omega)) dX0_valueOf_16 hq2 rfl (lw_V q1207 q643 q644 q90 q645) hv_X13_after rfl ⟨Nat.le_of_ble_eq_true rfl, Nat.le_of_ble_eq_true rfl⟩ ⟨by omega, by omega⟩ rfl (Nat.le_of_ble_eq_true rfl)) (fun r5 w7 h6 => ?_)
  obtain ⟨xa3, rr3, hk3, hX3, hr3⟩ := h6
  rw [← hk3 0 (by omega) (by omega) (by omega)]
  rw [← hk3 (40 + s) (by omega) (by omega) (by omega)]
  refine z_aload_n X dX0_valueOf_19 rfl 0 rfl ?_
  refine z_get X dX0_valueOf_20 hX3.ob in_X0 rfl 0 (Nat.le_of_ble_eq_true rfl) q233 rfl ?_
  refine z_get X dX0_valueOf_23 hX3.day in_X1 rfl 0 (Nat.le_of_ble_eq_true rfl) q190 rfl ?_
  refine z_cip (z_runV (rest := [.ref (r5)]) (n := 0) X [] (m_X2_state hX3.wall hI) dX0_valueOf_26 (wl_o hX3.wall) rfl (lw_V q1173 q743 q744 q68 q745) hv_X2_state rfl ⟨Nat.le_of_ble_eq_true rfl, Nat.le_of_ble_eq_true rfl⟩ ⟨by omega, by omega⟩ rfl (Nat.le_of_ble_eq_true rfl)) ?_
  refine z_laN (v := vals o.1 (rRule o.1 (o.2.2.2.1 3 s) (o.2.2.2.1 4 s) (wiseT o.1 (o.2.2.2.1 4 s))) n (stOf o.1)) X dX0_valueOf_29 hr3 (by omega) (by omega) rfl ?_
  exact z_lret X dX0_valueOf_30 (by omega) (by omega) ⟨_, rfl, ⟨xa3, _, (fun k a b c => (hk3 k a b c).trans (hk2_ k a b c)), hX3, rfl⟩⟩
theorem m_x_valueS {l : Launch} {G : GG} {w : GW} {xa : Nat → Nat} {rr : Option Nat} {o : OS} {im : IM} (hX : XT G w xa rr o im) (hO : oInv o) {s : Nat} (hs : s < 8) (hk2 : o.2.2.2.1 0 s = 2) {n : Nat} (hn : n ≤ 24) : gM l G yX0_valueOf cX0_valueOf 3 (some .long) 16 14 1014 [.ref (xa 0), .ref (xa (40 + s)), .int (nI n)] w (pL (fun r w1 => ∃ xa2 rr2, (∀ k, k ≠ 13 → k ≠ 14 → k ≠ 15 → xa2 k = xa k) ∧ XT G w1 xa2 rr2 o im ∧ r = shV o s n)) := by
  have hq9 := hO.2.1 s hs
  have hkd : 1 ≤ o.2.2.2.1 3 s ∧ o.2.2.2.1 3 s ≤ 6 := ⟨hq9.2.2.2.2.1 hk2, hq9.2.2.2.1⟩
  have hru := (hX.rule hs hk2).1
  have hra : o.2.2.2.1 4 s < 100 := by omega
  unfold shV
  rw [rgM_k hkd.1]
  rcases kd_cases hkd with h | h | h | h | h | h
  · rw [h] at hru ⊢; exact m_x_valueF_1 hX hO hra hru hn
  · rw [h] at hru ⊢; exact m_x_valueF_2 hX hO hra hru hn
  · rw [h] at hru ⊢; exact m_x_valueF_3 hX hO hra hru hn
  · rw [h] at hru ⊢; exact m_x_valueF_4 hX hO hra hru hn
  · rw [h] at hru ⊢; exact m_x_valueF_5 hX hO hra hru hn
  · exact m_x_valueW hX hO hs hk2 h hn
