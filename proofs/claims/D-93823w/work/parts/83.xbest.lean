/-! x: best, price, worst, now -/
set_option maxRecDepth 100000
theorem AftW.frame {G : GG} {w w1 : GW} {aw : Nat → Nat} {rr : Option Nat} {ro : Nat → Nat} {S : WS} {V : Nat → Int64} {x : Nat} (h : AftW G w aw rr ro S V x w1) {b : Nat} {e : va_E} (hb : w b = some e) (h5 : b ≠ aw 0) (hr : ∀ q0, rr = some q0 → b ≠ ro 0 ∧ b ≠ ro 1) : w1 b = some e := by
  obtain ⟨q1, ro1, T1, a1, a2, a3, a4, a5, a6⟩ := h
  exact a6 b e hb h5 hr
theorem gM.mono {l : Launch} {G : GG} {y : MethodName} {c : ByteArray} {nL : Nat} {ret : Option FieldType} {d mc ms : Nat} {as : List Value} {w : GW} {p1 p2 : Option Value → GW → Prop} (h : gM l G y c nL ret d mc ms as w p1) (hp : ∀ v w1, p1 v w1 → p2 v w1) : gM l G y c nL ret d mc ms as w p2 := fun sz => by
  intro p e ha hc hk s m args below hf happ hP hK
  obtain ⟨n, o, h1, h2, h3, h4, h5⟩ := h sz p e ha hc hk s m args below hf happ hP hK
  refine ⟨n, o, h1, h2, h3, ?_, h5⟩
  obtain ⟨⟨v, w1, g1, g2, g3, g4⟩, g5⟩ := h4
  exact ⟨⟨v, w1, g1, hp v w1 g2, g3, g4⟩, g5⟩
theorem m_x_after {l : Launch} {G : GG} {w : GW} {xa : Nat → Nat} {rr : Option Nat} {o : OS} {im : IM} (hX : XT G w xa rr o im) (hO : oInv o) {wq : Nat} (hq : w wq = some (.inr (12, [.ref (xa 5), .null, .int (nI (100 - sumTo (o.1.1 4) (o.1.2 0)))]))) {n : Nat} (hn : n ≤ 24) : gM l G yX13_after cX13_after 6 (some (.array (.long))) 8 6 504 [.ref wq, .int (nI n)] w (pA (fun x w1 => ∃ xa2 rr2, (∀ k, k ≠ 13 → k ≠ 14 → k ≠ 15 → xa2 k = xa k) ∧ XT G w1 xa2 rr2 o im ∧ w1 x = some (.inl (G.2.1 1, 125, .inr (.inl (vals o.1 (rBest o.1) n)))) ∧ w1 wq = some (.inr (12, [.ref (xa2 5), .null, .int (nI (100 - sumTo (o.1.1 4) (o.1.2 0)))])))) := by
  obtain ⟨ro, T, hRo, hr⟩ := hX.rows
  have htq : ∀ q0, rr = some q0 → ∀ k, k < 2 → wq ≠ ro k := fun q0 h0 k hk e => by
    have h1 := (hRo q0 h0).2.1 k hk
    rw [← e, hq] at h1
    cases h1
  have h := m_X13_after (l := l) hRo hX.wall hO.1 (wq := wq) (rl := none) hq (tq := wq) (r := rBest o.1) (Or.inl ⟨rfl, rfl⟩) htq hn
  refine gM.mono h fun v w1 hv => ?_
  obtain ⟨x, rfl, ha⟩ := hv
  have h5 : wq ≠ xa 5 := fun e => by
    have h1 := hX.wall.1 0 rfl
    have h2 : w (xa 5) = some (wCt G (xw xa) rr o.1 0) := h1
    rw [← e, hq] at h2
    simp [wCt] at h2
  have hf := ha.frame (b := wq) hq h5 (fun q0 h0 => ⟨htq q0 h0 0 (by omega), htq q0 h0 1 (by omega)⟩)
  obtain ⟨xa2, rr2, h1, h2, h3⟩ := hX.aft hr ha
  exact ⟨x, rfl, xa2, rr2, h1, h2, h3, by rw [h1 5 (by decide) (by decide) (by decide)]; exact hf⟩
set_option maxHeartbeats 2000000 in
theorem m_x_best {l : Launch} {G : GG} {w : GW} {xa : Nat → Nat} {rr : Option Nat} {o : OS} {im : IM} (hX : XT G w xa rr o im) (hO : oInv o) {n : Nat} (hn : n ≤ 24) : gM l G yX0_best_2 cX0_best_2 2 (some .long) 10 7 507 [.ref (xa 5), .int (nI (n))] w (pL (fun r w1 => ∃ xa2 rr2, (∀ k, k ≠ 13 → k ≠ 14 → k ≠ 15 → xa2 k = xa k) ∧ XT G w1 xa2 rr2 o im ∧ r = bestV o.1 n)) := by
  refine Z.met (own := "ThreeSizes") (nm := "best") (lv := [(0, .ref (xa 5)), (1, .int (nI (n)))]) (by decide) rfl rfl (Nat.le_of_ble_eq_true rfl) rfl (fun κ X => ?_)
  have hI := hO.1
  have hs := stOf_lt hI
  refine z_new X dX0_best_2_0 in_X13 tyX13 tyX13_ok (ci := 12) (fs := [.null, .null, .int 0]) q1205 q615 q90 rfl (fun j hj => by rcases (show j = 0 ∨ j = 1 ∨ j = 2 by omega) with rfl | rfl | rfl <;> rfl) (by omega) (by omega) (fun q1 hq1 => ?_)
  have hXq1 := XT.fresh hX hq1 (e := .inr (12, [.null, .null, .int 0]))
  refine z_dup X dX0_best_2_3 rfl ?_
  refine z_aload_n X dX0_best_2_4 rfl 0 rfl ?_
  refine z_null X dX0_best_2_5 ?_
  refine z_cv (z_runI (rest := [.ref (q1)]) (n := 2) X [.ref (xa 5), .null] (m_X13_initN hXq1.wall hI (wq := q1) gu_s) dX0_best_2_6 (lw_meth q618) q90 q1206 q617 rfl hs_X13_init rfl ⟨Nat.le_of_ble_eq_true rfl, Nat.le_of_ble_eq_true rfl⟩ ⟨by omega, by omega⟩ rfl (Nat.le_of_ble_eq_true rfl)) (fun w4 h3 => ?_)
  rw [gu_gu] at h3
  subst h3
  have hXn5 := XT.fresh hX hq1 (e := .inr (12, [.ref (xa 5), .null, .int (nI (100 - sumTo (o.1.1 4) (o.1.2 0)))]))
  refine z_iload_n X dX0_best_2_9 rfl 1 rfl ?_
  refine z_ca (z_runV (rest := []) (n := 1) X [.int (nI (n))] (m_x_after hXn5 hO (wq := q1) gu_s (n := n) (by omega)) dX0_best_2_10 gu_s rfl (lw_V q1207 q643 q644 q90 q645) hv_X13_after rfl ⟨Nat.le_of_ble_eq_true rfl, Nat.le_of_ble_eq_true rfl⟩ ⟨by omega, by omega⟩ rfl (Nat.le_of_ble_eq_true rfl)) (fun r6 w8 h7 => ?_)
  obtain ⟨xa7, rr7, hk7, hX7, hr7, hq7⟩ := h7
  rw [← hk7 5 (by omega) (by omega) (by omega)]
  refine z_aload_n X dX0_best_2_13 rfl 0 rfl ?_
  refine z_cip (z_runV (rest := [.ref (r6)]) (n := 0) X [] (m_X2_state hX7.wall hI) dX0_best_2_14 (wl_o hX7.wall) rfl (lw_V q1173 q743 q744 q68 q745) hv_X2_state rfl ⟨Nat.le_of_ble_eq_true rfl, Nat.le_of_ble_eq_true rfl⟩ ⟨by omega, by omega⟩ rfl (Nat.le_of_ble_eq_true rfl)) ?_
  refine z_laN (v := vals o.1 (rBest o.1) n (stOf o.1)) X dX0_best_2_17 hr7 (by omega) (by omega) rfl ?_
  exact z_lret X dX0_best_2_18 (by omega) (by omega) ⟨_, rfl, ⟨xa7, _, hk7, hX7, rfl⟩⟩
