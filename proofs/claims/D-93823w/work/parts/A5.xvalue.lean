/-! x: value, gap, head, keep -/
set_option maxRecDepth 100000
theorem el_same {α : Type} {o : Option Nat} {d : α} : el o d (fun _ => d) = d := by cases o <;> rfl
theorem el_or (o : Option Nat) : o = none ∨ ∃ x, o = some x := by
  cases o with
  | none => exact Or.inl rfl
  | some x => exact Or.inr ⟨x, rfl⟩
theorem m_x_valueK {l : Launch} {G : GG} {w : GW} {xa : Nat → Nat} {rr : Option Nat} {o : OS} {im : IM} (hX : XT G w xa rr o im) (hO : oInv o) {q ra : Nat} (hra : ra < 100) (hru : w q = some (.inr (7, [.int (nI ra)]))) {n : Nat} (hn : n ≤ 24) : gM l G yX0_valueOf cX0_valueOf 3 (some .long) 16 14 1014 [.ref (xa 0), .ref q, .int (nI n)] w (pL (fun r w1 => ∃ xa2 rr2, (∀ k, k ≠ 13 → k ≠ 14 → k ≠ 15 → xa2 k = xa k) ∧ XT G w1 xa2 rr2 o im ∧ r = keepV o n ra)) := by
  unfold keepV
  rw [rgM_k (by decide)]
  exact m_x_valueF_2 hX hO hra hru hn
set_option maxHeartbeats 2000000 in
theorem x_value {l : Launch} {G : GG} (hl : l.stackTraces = false) {w : GW} {xa : Nat → Nat} {rr : Option Nat} {o : OS} {im : IM} (hX : XT G w xa rr o im) (hO : oInv o) {s n : Int32} : gMX l G yX0_value (wsW_ yX0_value cX0_value 4 (some .long) [(0, 14, 15, 122)]) 30 15 1021 [.ref (xa 0), .int (s), .int (n)] w (pL (fun r w1 => XE G (xa 0) w1 (spValue o s n).2 im ∧ r = (spValue o s n).1)) (pN) := by
  refine Z.metW (own := "ThreeSizes") (nm := "value") (lv := [(0, .ref (xa 0)), (1, .int (s)), (2, .int (n))]) (by decide) rfl rfl (Nat.le_of_ble_eq_true rfl) rfl (fun κ X Y V0 => ?_)
  have V := V0 hl
  have hI := hO.1
  have h6 := hI.2.1
  have ht200 := hO.2.2.2
  refine z_aload_n X dX0_value_0 rfl 0 rfl ?_
  refine z_aload_n X dX0_value_1 rfl 0 rfl ?_
  refine z_iload_n X dX0_value_2 rfl 2 rfl ?_
  refine z_cip (z_runS (rest := [.ref (xa 0), .ref (xa 0)]) (n := 1) X [.int (n)] (m_X0_isHours (v := n)) dX0_value_3 (lw_S q1198 q1199 q66 q1200) hs_X0_isHours rfl ⟨Nat.le_of_ble_eq_true rfl, Nat.le_of_ble_eq_true rfl⟩ ⟨by omega, by omega⟩ rfl (Nat.le_of_ble_eq_true rfl)) ?_
  refine z_iload_n X dX0_value_6 rfl 1 rfl ?_
  refine z_xa (z_runXV (rest := [.ref (xa 0)]) (n := 2) X [.int (bI (decide (nI 0 ≤ n ∧ n ≤ nI 24))), .int (s)] (m_X0_ruleFor hX hO (mb := decide (nI 0 ≤ n ∧ n ≤ nI 24)) (s := s)) dX0_value_7 hX.ob rfl (lw_V q1179 q1181 qs15 q66 q1182) hv_X0_ruleFor rfl ⟨Nat.le_of_ble_eq_true rfl, Nat.le_of_ble_eq_true rfl⟩ ⟨by omega, by omega⟩ rfl (Nat.le_of_ble_eq_true rfl)) (fun r1 w3 h2 => ?_) (fun E4 q5 w7 h6 => ?_)
  · have hn9 := h2
    obtain ⟨sN, sNh, rfl, hmb2, hk2, rfl, rfl⟩ := h2
    have e1 := rgb_nI (lo := 0) (hi := 7) (k := sN) ⟨by omega, by omega⟩ (by decide)
    obtain ⟨nN, nNl, nNh, rfl, e2⟩ := rgb_t (lo := 0) (hi := 24) (by decide) (by decide) (of_decide_eq_true hmb2)
    have hq9 := hO.2.1 sN (by omega)
    refine z_iload_n X dX0_value_10 rfl 2 rfl ?_
    refine z_cl (z_runV (rest := []) (n := 2) X [.ref (xa (40 + sN)), .int (nI (nN))] (m_x_valueS hX hO (s := sN) (by omega) hk2 (n := nN) (by omega)) dX0_value_11 hX.ob rfl (lw_V q1201 q1203 qs17 q66 q1204) hv_X0_valueOf rfl ⟨Nat.le_of_ble_eq_true rfl, Nat.le_of_ble_eq_true rfl⟩ ⟨by omega, by omega⟩ rfl (Nat.le_of_ble_eq_true rfl)) (fun r8 w10 h9 => ?_)
    obtain ⟨xa9, rr9, hk9, hX9, r8e⟩ := h9
    rw [r8e]
    rw [← hk9 0 (by omega) (by omega) (by omega)]
    have e : spValue o (nI sN) (nI nN) = (shV o sN nN, o) := by
      unfold spValue
      repeat (first | rw [el_some (by assumption)] | rw [el_none (by assumption)] | rw [if_pos (by omega)] | rw [if_neg (by omega)] | rw [if_pos (by assumption)] | rw [if_neg (ts_n (by assumption))])
      all_goals first | rfl | (exfalso; omega)
    exact z_lret X dX0_value_14 (by omega) (by omega) ⟨_, rfl, (by rw [e]; exact ⟨⟨_, _, (hk9 0 (by decide) (by decide) (by decide)), hX9⟩, rfl⟩)⟩
  · have hx9 := h6
    obtain ⟨by9, ⟨rfl, hn6, rfl⟩, hb6⟩ := h6
    rcases hb6 with ⟨rfl, hA6 | hA6⟩ | ⟨rfl, hm6, sN, sNh, rfl, hk9⟩ | ⟨rfl, hm6, sN, sNh, rfl, hk9⟩
    · have e3 : rgb 0 24 n = none := rgb_f (of_decide_eq_false hA6)
      have hX6 := XT.fresh hX hn6 (e := .inr (5, [.null, .null, .null, .null, .null, .int 0, .int (-2)]))
      refine zt_catch X Y [] (0, 14, 15, 122) [] rfl zp_n rfl (by decide) q364 q390 rfl ?_
      refine z_astore_n (lv2 := [(3, .ref (q5)), (0, .ref (xa 0)), (1, .int (s)), (2, .int (n))]) X dX0_value_15 rfl (Nat.le_of_ble_eq_true rfl) rfl ?_
      refine z_aload_n X dX0_value_16 rfl 1 rfl ?_
      refine z_aload_n X dX0_value_17 rfl 0 rfl ?_
      refine z_get X dX0_value_18 gu_s in_X5 rfl 6 (Nat.le_of_ble_eq_true rfl) q410 rfl ?_
      refine z_cl (z_runV (rest := []) (n := 1) X [.int ((-2))] (m_X0_noDeep_2 hX6) dX0_value_21 hX6.ob rfl (lw_V q1189 q1191 qs16 q66 q1192) hv_X0_noDeep rfl ⟨Nat.le_of_ble_eq_true rfl, Nat.le_of_ble_eq_true rfl⟩ ⟨by omega, by omega⟩ rfl (Nat.le_of_ble_eq_true rfl)) (fun r11 w13 h12 => ?_)
      obtain ⟨r11e, hX12⟩ := h12
      rw [r11e]
      have e : spValue o s n = (-1000000000000 + ((-2) : Int32).toInt64, oRef o 2) := by
        unfold spValue
        repeat (first | rw [el_some (by assumption)] | rw [el_none (by assumption)] | rw [if_pos (by omega)] | rw [if_neg (by omega)] | rw [if_pos (by assumption)] | rw [if_neg (ts_n (by assumption))])
        all_goals first | rfl | (rcases el_or (rgb 0 7 s) with h9 | ⟨x9, h9⟩ <;> (repeat (first | rw [el_some (by assumption)] | rw [el_none (by assumption)] | rw [if_pos (by omega)] | rw [if_neg (by omega)] | rw [if_pos (by assumption)] | rw [if_neg (ts_n (by assumption))])) <;> rfl) | (exfalso; omega)
      exact z_lret X dX0_value_24 (by omega) (by omega) ⟨_, rfl, (by rw [e]; exact ⟨⟨_, _, rfl, hX12⟩, rfl⟩)⟩
    · have hX6 := XT.fresh hX hn6 (e := .inr (5, [.null, .null, .null, .null, .null, .int 0, .int (-2)]))
      refine zt_catch X Y [] (0, 14, 15, 122) [] rfl zp_n rfl (by decide) q364 q390 rfl ?_
      refine z_astore_n (lv2 := [(3, .ref (q5)), (0, .ref (xa 0)), (1, .int (s)), (2, .int (n))]) X dX0_value_15 rfl (Nat.le_of_ble_eq_true rfl) rfl ?_
      refine z_aload_n X dX0_value_16 rfl 1 rfl ?_
      refine z_aload_n X dX0_value_17 rfl 0 rfl ?_
      refine z_get X dX0_value_18 gu_s in_X5 rfl 6 (Nat.le_of_ble_eq_true rfl) q410 rfl ?_
      refine z_cl (z_runV (rest := []) (n := 1) X [.int ((-2))] (m_X0_noDeep_2 hX6) dX0_value_21 hX6.ob rfl (lw_V q1189 q1191 qs16 q66 q1192) hv_X0_noDeep rfl ⟨Nat.le_of_ble_eq_true rfl, Nat.le_of_ble_eq_true rfl⟩ ⟨by omega, by omega⟩ rfl (Nat.le_of_ble_eq_true rfl)) (fun r14 w16 h15 => ?_)
      obtain ⟨r14e, hX15⟩ := h15
      rw [r14e]
      have e : spValue o s n = (-1000000000000 + ((-2) : Int32).toInt64, oRef o 2) := by
        unfold spValue
        repeat (first | rw [el_some (by assumption)] | rw [el_none (by assumption)] | rw [if_pos (by omega)] | rw [if_neg (by omega)] | rw [if_pos (by assumption)] | rw [if_neg (ts_n (by assumption))])
        all_goals first | rfl | (exfalso; omega)
      exact z_lret X dX0_value_24 (by omega) (by omega) ⟨_, rfl, (by rw [e]; exact ⟨⟨_, _, rfl, hX15⟩, rfl⟩)⟩
    · have e4 := rgb_nI (lo := 0) (hi := 7) (k := sN) ⟨by omega, by omega⟩ (by decide)
      obtain ⟨nN, nNl, nNh, rfl, e5⟩ := rgb_t (lo := 0) (hi := 24) (by decide) (by decide) (of_decide_eq_true hm6)
      have hX6 := XT.fresh hX hn6 (e := .inr (5, [.null, .null, .null, .null, .null, .int 0, .int (-4)]))
      refine zt_catch X Y [] (0, 14, 15, 122) [] rfl zp_n rfl (by decide) q364 q390 rfl ?_
      refine z_astore_n (lv2 := [(3, .ref (q5)), (0, .ref (xa 0)), (1, .int (nI (sN))), (2, .int (nI (nN)))]) X dX0_value_15 rfl (Nat.le_of_ble_eq_true rfl) rfl ?_
      refine z_aload_n X dX0_value_16 rfl 1 rfl ?_
      refine z_aload_n X dX0_value_17 rfl 0 rfl ?_
      refine z_get X dX0_value_18 gu_s in_X5 rfl 6 (Nat.le_of_ble_eq_true rfl) q410 rfl ?_
      refine z_cl (z_runV (rest := []) (n := 1) X [.int ((-4))] (m_X0_noDeep_4 hX6) dX0_value_21 hX6.ob rfl (lw_V q1189 q1191 qs16 q66 q1192) hv_X0_noDeep rfl ⟨Nat.le_of_ble_eq_true rfl, Nat.le_of_ble_eq_true rfl⟩ ⟨by omega, by omega⟩ rfl (Nat.le_of_ble_eq_true rfl)) (fun r17 w19 h18 => ?_)
      obtain ⟨r17e, hX18⟩ := h18
      rw [r17e]
      have e : spValue o (nI sN) (nI nN) = (-1000000000000 + ((-4) : Int32).toInt64, oRef o 4) := by
        unfold spValue
        repeat (first | rw [el_some (by assumption)] | rw [el_none (by assumption)] | rw [if_pos (by omega)] | rw [if_neg (by omega)] | rw [if_pos (by assumption)] | rw [if_neg (ts_n (by assumption))])
        all_goals first | rfl | (exfalso; omega)
      exact z_lret X dX0_value_24 (by omega) (by omega) ⟨_, rfl, (by rw [e]; exact ⟨⟨_, _, rfl, hX18⟩, rfl⟩)⟩
    · have e6 := rgb_nI (lo := 0) (hi := 7) (k := sN) ⟨by omega, by omega⟩ (by decide)
      obtain ⟨nN, nNl, nNh, rfl, e7⟩ := rgb_t (lo := 0) (hi := 24) (by decide) (by decide) (of_decide_eq_true hm6)
      have hX6 := XT.fresh hX hn6 (e := .inr (5, [.null, .null, .null, .null, .null, .int 0, .int (-3)]))
      refine zt_catch X Y [] (0, 14, 15, 122) [] rfl zp_n rfl (by decide) q364 q390 rfl ?_
      refine z_astore_n (lv2 := [(3, .ref (q5)), (0, .ref (xa 0)), (1, .int (nI (sN))), (2, .int (nI (nN)))]) X dX0_value_15 rfl (Nat.le_of_ble_eq_true rfl) rfl ?_
      refine z_aload_n X dX0_value_16 rfl 1 rfl ?_
      refine z_aload_n X dX0_value_17 rfl 0 rfl ?_
      refine z_get X dX0_value_18 gu_s in_X5 rfl 6 (Nat.le_of_ble_eq_true rfl) q410 rfl ?_
      refine z_cl (z_runV (rest := []) (n := 1) X [.int ((-3))] (m_X0_noDeep_3 hX6) dX0_value_21 hX6.ob rfl (lw_V q1189 q1191 qs16 q66 q1192) hv_X0_noDeep rfl ⟨Nat.le_of_ble_eq_true rfl, Nat.le_of_ble_eq_true rfl⟩ ⟨by omega, by omega⟩ rfl (Nat.le_of_ble_eq_true rfl)) (fun r20 w22 h21 => ?_)
      obtain ⟨r20e, hX21⟩ := h21
      rw [r20e]
      have e : spValue o (nI sN) (nI nN) = (-1000000000000 + ((-3) : Int32).toInt64, oRef o 3) := by
        unfold spValue
        repeat (first | rw [el_some (by assumption)] | rw [el_none (by assumption)] | rw [if_pos (by omega)] | rw [if_neg (by omega)] | rw [if_pos (by assumption)] | rw [if_neg (ts_n (by assumption))])
        all_goals first | rfl | (exfalso; omega)
      exact z_lret X dX0_value_24 (by omega) (by omega) ⟨_, rfl, (by rw [e]; exact ⟨⟨_, _, rfl, hX21⟩, rfl⟩)⟩
set_option maxHeartbeats 2000000 in
theorem x_gap {l : Launch} {G : GG} (hl : l.stackTraces = false) {w : GW} {xa : Nat → Nat} {rr : Option Nat} {o : OS} {im : IM} (hX : XT G w xa rr o im) (hO : oInv o) {s n : Int32} : gMX l G yX0_gap (wsW_ yX0_gap cX0_gap 4 (some .long) [(0, 28, 29, 122)]) 30 22 1528 [.ref (xa 0), .int (s), .int (n)] w (pL (fun r w1 => XE G (xa 0) w1 (spGap o s n).2 im ∧ r = (spGap o s n).1)) (pN) := by
  refine Z.metW (own := "ThreeSizes") (nm := "gap") (lv := [(0, .ref (xa 0)), (1, .int (s)), (2, .int (n))]) (by decide) rfl rfl (Nat.le_of_ble_eq_true rfl) rfl (fun κ X Y V0 => ?_)
  have V := V0 hl
  have hI := hO.1
  have h6 := hI.2.1
  have ht200 := hO.2.2.2
  refine z_aload_n X dX0_gap_0 rfl 0 rfl ?_
  refine z_iload_n X dX0_gap_1 rfl 2 rfl ?_
  refine z_cip (z_runS (rest := [.ref (xa 0)]) (n := 1) X [.int (n)] (m_X0_isHours (v := n)) dX0_gap_2 (lw_S q1198 q1199 q66 q1200) hs_X0_isHours rfl ⟨Nat.le_of_ble_eq_true rfl, Nat.le_of_ble_eq_true rfl⟩ ⟨by omega, by omega⟩ rfl (Nat.le_of_ble_eq_true rfl)) ?_
  refine z_iload_n X dX0_gap_5 rfl 1 rfl ?_
  refine z_xa (z_runXV (rest := []) (n := 2) X [.int (bI (decide (nI 0 ≤ n ∧ n ≤ nI 24))), .int (s)] (m_X0_ruleFor hX hO (mb := decide (nI 0 ≤ n ∧ n ≤ nI 24)) (s := s)) dX0_gap_6 hX.ob rfl (lw_V q1179 q1181 qs15 q66 q1182) hv_X0_ruleFor rfl ⟨Nat.le_of_ble_eq_true rfl, Nat.le_of_ble_eq_true rfl⟩ ⟨by omega, by omega⟩ rfl (Nat.le_of_ble_eq_true rfl)) (fun r1 w3 h2 => ?_) (fun E4 q5 w7 h6 => ?_)
  · have hn9 := h2
    obtain ⟨sN, sNh, rfl, hmb2, hk2, rfl, rfl⟩ := h2
    have e1 := rgb_nI (lo := 0) (hi := 7) (k := sN) ⟨by omega, by omega⟩ (by decide)
    obtain ⟨nN, nNl, nNh, rfl, e2⟩ := rgb_t (lo := 0) (hi := 24) (by decide) (by decide) (of_decide_eq_true hmb2)
    have hq9 := hO.2.1 sN (by omega)
    refine z_astore_n (lv2 := [(3, .ref (xa (40 + sN))), (0, .ref (xa 0)), (1, .int (nI (sN))), (2, .int (nI (nN)))]) X dX0_gap_9 rfl (Nat.le_of_ble_eq_true rfl) rfl ?_
    refine z_aload_n X dX0_gap_10 rfl 1 rfl ?_
    refine z_get X dX0_gap_11 hX.ob in_X0 rfl 0 (Nat.le_of_ble_eq_true rfl) q233 rfl ?_
    refine z_get X dX0_gap_14 hX.day in_X1 rfl 0 (Nat.le_of_ble_eq_true rfl) q190 rfl ?_
    refine z_iload_n X dX0_gap_17 rfl 3 rfl ?_
    refine z_cl (z_runS (rest := []) (n := 2) X [.ref (xa 5), .int (nI (nN))] (m_x_best hX hO (n := nN) (by omega)) dX0_gap_18 (lw_S q1212 q1213 q66 q1214) hs_X0_best_2 rfl ⟨Nat.le_of_ble_eq_true rfl, Nat.le_of_ble_eq_true rfl⟩ ⟨by omega, by omega⟩ rfl (Nat.le_of_ble_eq_true rfl)) (fun r8 w10 h9 => ?_)
    obtain ⟨xa9, rr9, hk9, hX9, r8e⟩ := h9
    rw [r8e]
    rw [← hk9 (40 + sN) (by omega) (by omega) (by omega)]
    rw [← hk9 0 (by omega) (by omega) (by omega)]
    refine z_aload_n X dX0_gap_21 rfl 1 rfl ?_
    refine z_aload_n X dX0_gap_22 rfl 0 rfl ?_
    refine z_iload_n X dX0_gap_23 rfl 3 rfl ?_
    refine z_cl (z_runV (rest := [.long (bestV o.1 nN)]) (n := 2) X [.ref (xa9 (40 + sN)), .int (nI (nN))] (m_x_valueS hX9 hO (s := sN) (by omega) hk2 (n := nN) (by omega)) dX0_gap_24 hX9.ob rfl (lw_V q1201 q1203 qs17 q66 q1204) hv_X0_valueOf rfl ⟨Nat.le_of_ble_eq_true rfl, Nat.le_of_ble_eq_true rfl⟩ ⟨by omega, by omega⟩ rfl (Nat.le_of_ble_eq_true rfl)) (fun r11 w13 h12 => ?_)
    obtain ⟨xa12, rr12, hk12, hX12, r11e⟩ := h12
    rw [r11e]
    rw [← hk12 (40 + sN) (by omega) (by omega) (by omega)]
    rw [← hk12 0 (by omega) (by omega) (by omega)]
    refine z_lsub (v := (bestV o.1 nN) - (shV o sN nN)) X dX0_gap_27 rfl ?_
    have e : spGap o (nI sN) (nI nN) = ((bestV o.1 nN) - (shV o sN nN), o) := by
      unfold spGap
      repeat (first | rw [el_some (by assumption)] | rw [el_none (by assumption)] | rw [if_pos (by omega)] | rw [if_neg (by omega)] | rw [if_pos (by assumption)] | rw [if_neg (ts_n (by assumption))])
      all_goals first | rfl | (exfalso; omega)
    exact z_lret X dX0_gap_28 (by omega) (by omega) ⟨_, rfl, (by rw [e]; exact ⟨⟨_, _, ((hk12 0 (by decide) (by decide) (by decide)).trans (hk9 0 (by decide) (by decide) (by decide))), hX12⟩, rfl⟩)⟩
  · have hx9 := h6
    obtain ⟨by9, ⟨rfl, hn6, rfl⟩, hb6⟩ := h6
    rcases hb6 with ⟨rfl, hA6 | hA6⟩ | ⟨rfl, hm6, sN, sNh, rfl, hk9⟩ | ⟨rfl, hm6, sN, sNh, rfl, hk9⟩
    · have e3 : rgb 0 24 n = none := rgb_f (of_decide_eq_false hA6)
      have hX6 := XT.fresh hX hn6 (e := .inr (5, [.null, .null, .null, .null, .null, .int 0, .int (-2)]))
      refine zt_catch X Y [] (0, 28, 29, 122) [] rfl zp_n rfl (by decide) q364 q390 rfl ?_
      refine z_astore_n (lv2 := [(3, .ref (q5)), (0, .ref (xa 0)), (1, .int (s)), (2, .int (n))]) X dX0_gap_29 rfl (Nat.le_of_ble_eq_true rfl) rfl ?_
      refine z_aload_n X dX0_gap_30 rfl 1 rfl ?_
      refine z_aload_n X dX0_gap_31 rfl 0 rfl ?_
      refine z_get X dX0_gap_32 gu_s in_X5 rfl 6 (Nat.le_of_ble_eq_true rfl) q410 rfl ?_
      refine z_cl (z_runV (rest := []) (n := 1) X [.int ((-2))] (m_X0_noDeep_2 hX6) dX0_gap_35 hX6.ob rfl (lw_V q1189 q1191 qs16 q66 q1192) hv_X0_noDeep rfl ⟨Nat.le_of_ble_eq_true rfl, Nat.le_of_ble_eq_true rfl⟩ ⟨by omega, by omega⟩ rfl (Nat.le_of_ble_eq_true rfl)) (fun r14 w16 h15 => ?_)
      obtain ⟨r14e, hX15⟩ := h15
      rw [r14e]
      have e : spGap o s n = (-1000000000000 + ((-2) : Int32).toInt64, oRef o 2) := by
        unfold spGap
        repeat (first | rw [el_some (by assumption)] | rw [el_none (by assumption)] | rw [if_pos (by omega)] | rw [if_neg (by omega)] | rw [if_pos (by assumption)] | rw [if_neg (ts_n (by assumption))])
        all_goals first | rfl | (rcases el_or (rgb 0 7 s) with h9 | ⟨x9, h9⟩ <;> (repeat (first | rw [el_some (by assumption)] | rw [el_none (by assumption)] | rw [if_pos (by omega)] | rw [if_neg (by omega)] | rw [if_pos (by assumption)] | rw [if_neg (ts_n (by assumption))])) <;> rfl) | (exfalso; omega)
      exact z_lret X dX0_gap_38 (by omega) (by omega) ⟨_, rfl, (by rw [e]; exact ⟨⟨_, _, rfl, hX15⟩, rfl⟩)⟩
    · have hX6 := XT.fresh hX hn6 (e := .inr (5, [.null, .null, .null, .null, .null, .int 0, .int (-2)]))
      refine zt_catch X Y [] (0, 28, 29, 122) [] rfl zp_n rfl (by decide) q364 q390 rfl ?_
      refine z_astore_n (lv2 := [(3, .ref (q5)), (0, .ref (xa 0)), (1, .int (s)), (2, .int (n))]) X dX0_gap_29 rfl (Nat.le_of_ble_eq_true rfl) rfl ?_
      refine z_aload_n X dX0_gap_30 rfl 1 rfl ?_
      refine z_aload_n X dX0_gap_31 rfl 0 rfl ?_
      refine z_get X dX0_gap_32 gu_s in_X5 rfl 6 (Nat.le_of_ble_eq_true rfl) q410 rfl ?_
      refine z_cl (z_runV (rest := []) (n := 1) X [.int ((-2))] (m_X0_noDeep_2 hX6) dX0_gap_35 hX6.ob rfl (lw_V q1189 q1191 qs16 q66 q1192) hv_X0_noDeep rfl ⟨Nat.le_of_ble_eq_true rfl, Nat.le_of_ble_eq_true rfl⟩ ⟨by omega, by omega⟩ rfl (Nat.le_of_ble_eq_true rfl)) (fun r17 w19 h18 => ?_)
      obtain ⟨r17e, hX18⟩ := h18
      rw [r17e]
      have e : spGap o s n = (-1000000000000 + ((-2) : Int32).toInt64, oRef o 2) := by
        unfold spGap
        repeat (first | rw [el_some (by assumption)] | rw [el_none (by assumption)] | rw [if_pos (by omega)] | rw [if_neg (by omega)] | rw [if_pos (by assumption)] | rw [if_neg (ts_n (by assumption))])
        all_goals first | rfl | (exfalso; omega)
      exact z_lret X dX0_gap_38 (by omega) (by omega) ⟨_, rfl, (by rw [e]; exact ⟨⟨_, _, rfl, hX18⟩, rfl⟩)⟩
    · have e4 := rgb_nI (lo := 0) (hi := 7) (k := sN) ⟨by omega, by omega⟩ (by decide)
      obtain ⟨nN, nNl, nNh, rfl, e5⟩ := rgb_t (lo := 0) (hi := 24) (by decide) (by decide) (of_decide_eq_true hm6)
      have hX6 := XT.fresh hX hn6 (e := .inr (5, [.null, .null, .null, .null, .null, .int 0, .int (-4)]))
      refine zt_catch X Y [] (0, 28, 29, 122) [] rfl zp_n rfl (by decide) q364 q390 rfl ?_
      refine z_astore_n (lv2 := [(3, .ref (q5)), (0, .ref (xa 0)), (1, .int (nI (sN))), (2, .int (nI (nN)))]) X dX0_gap_29 rfl (Nat.le_of_ble_eq_true rfl) rfl ?_
      refine z_aload_n X dX0_gap_30 rfl 1 rfl ?_
      refine z_aload_n X dX0_gap_31 rfl 0 rfl ?_
      refine z_get X dX0_gap_32 gu_s in_X5 rfl 6 (Nat.le_of_ble_eq_true rfl) q410 rfl ?_
      refine z_cl (z_runV (rest := []) (n := 1) X [.int ((-4))] (m_X0_noDeep_4 hX6) dX0_gap_35 hX6.ob rfl (lw_V q1189 q1191 qs16 q66 q1192) hv_X0_noDeep rfl ⟨Nat.le_of_ble_eq_true rfl, Nat.le_of_ble_eq_true rfl⟩ ⟨by omega, by omega⟩ rfl (Nat.le_of_ble_eq_true rfl)) (fun r20 w22 h21 => ?_)
      obtain ⟨r20e, hX21⟩ := h21
      rw [r20e]
      have e : spGap o (nI sN) (nI nN) = (-1000000000000 + ((-4) : Int32).toInt64, oRef o 4) := by
        unfold spGap
        repeat (first | rw [el_some (by assumption)] | rw [el_none (by assumption)] | rw [if_pos (by omega)] | rw [if_neg (by omega)] | rw [if_pos (by assumption)] | rw [if_neg (ts_n (by assumption))])
        all_goals first | rfl | (exfalso; omega)
      exact z_lret X dX0_gap_38 (by omega) (by omega) ⟨_, rfl, (by rw [e]; exact ⟨⟨_, _, rfl, hX21⟩, rfl⟩)⟩
    · have e6 := rgb_nI (lo := 0) (hi := 7) (k := sN) ⟨by omega, by omega⟩ (by decide)
      obtain ⟨nN, nNl, nNh, rfl, e7⟩ := rgb_t (lo := 0) (hi := 24) (by decide) (by decide) (of_decide_eq_true hm6)
      have hX6 := XT.fresh hX hn6 (e := .inr (5, [.null, .null, .null, .null, .null, .int 0, .int (-3)]))
      refine zt_catch X Y [] (0, 28, 29, 122) [] rfl zp_n rfl (by decide) q364 q390 rfl ?_
      refine z_astore_n (lv2 := [(3, .ref (q5)), (0, .ref (xa 0)), (1, .int (nI (sN))), (2, .int (nI (nN)))]) X dX0_gap_29 rfl (Nat.le_of_ble_eq_true rfl) rfl ?_
      refine z_aload_n X dX0_gap_30 rfl 1 rfl ?_
      refine z_aload_n X dX0_gap_31 rfl 0 rfl ?_
      refine z_get X dX0_gap_32 gu_s in_X5 rfl 6 (Nat.le_of_ble_eq_true rfl) q410 rfl ?_
      refine z_cl (z_runV (rest := []) (n := 1) X [.int ((-3))] (m_X0_noDeep_3 hX6) dX0_gap_35 hX6.ob rfl (lw_V q1189 q1191 qs16 q66 q1192) hv_X0_noDeep rfl ⟨Nat.le_of_ble_eq_true rfl, Nat.le_of_ble_eq_true rfl⟩ ⟨by omega, by omega⟩ rfl (Nat.le_of_ble_eq_true rfl)) (fun r23 w25 h24 => ?_)
      obtain ⟨r23e, hX24⟩ := h24
      rw [r23e]
      have e : spGap o (nI sN) (nI nN) = (-1000000000000 + ((-3) : Int32).toInt64, oRef o 3) := by
        unfold spGap
        repeat (first | rw [el_some (by assumption)] | rw [el_none (by assumption)] | rw [if_pos (by omega)] | rw [if_neg (by omega)] | rw [if_pos (by assumption)] | rw [if_neg (ts_n (by assumption))])
        all_goals first | rfl | (exfalso; omega)
      exact z_lret X dX0_gap_38 (by omega) (by omega) ⟨_, rfl, (by rw [e]; exact ⟨⟨_, _, rfl, hX24⟩, rfl⟩)⟩
set_option maxHeartbeats 2000000 in
theorem x_keep {l : Launch} {G : GG} {w : GW} {xa : Nat → Nat} {rr : Option Nat} {o : OS} {im : IM} (hX : XT G w xa rr o im) (hO : oInv o) {n : Int32} : gM l G yX0_keep cX0_keep 8 (some .int) 30 75 5075 [.ref (xa 0), .int (n)] w (pI (fun r w1 => XE G (xa 0) w1 (spKeep o n).2 im ∧ r = (spKeep o n).1)) := by
  refine Z.met (own := "ThreeSizes") (nm := "keep") (lv := [(0, .ref (xa 0)), (1, .int (n))]) (by decide) rfl rfl (Nat.le_of_ble_eq_true rfl) rfl (fun κ X => ?_)
  have hI := hO.1
  have h6 := hI.2.1
  have ht200 := hO.2.2.2
  refine z_iload_n X dX0_keep_0 rfl 1 rfl ?_
  refine z_cip (z_runS (rest := []) (n := 1) X [.int (n)] (m_X0_isHours (v := n)) dX0_keep_1 (lw_S q1198 q1199 q66 q1200) hs_X0_isHours rfl ⟨Nat.le_of_ble_eq_true rfl, Nat.le_of_ble_eq_true rfl⟩ ⟨by omega, by omega⟩ rfl (Nat.le_of_ble_eq_true rfl)) ?_
  refine z_if_ne (tgt := 14) X dX0_keep_4 (by decide) bI_d (fun c1 => ?_) (fun c1 => ?_)
  · have c1 := Classical.not_not.mp c1
    obtain ⟨nN, nNl, nNh, rfl, e1⟩ := rgb_t (lo := 0) (hi := 24) (by decide) (by decide) (c1)
    refine z_iconst (v := nI (0)) X dX0_keep_14 ci0 ?_
    refine z_istore_n (lv2 := [(2, .int (nI (0))), (0, .ref (xa 0)), (1, .int (nI (nN)))]) X dX0_keep_15 rfl (Nat.le_of_ble_eq_true rfl) rfl ?_
    refine z_aload_n X dX0_keep_16 rfl 1 rfl ?_
    refine z_new X dX0_keep_17 in_X8 tyX8 tyX8_ok (ci := 7) (fs := [.int 0]) q532 q533 q84 rfl (fun j hj => by rcases (show j = 0 by omega) with rfl <;> rfl) (by omega) (by omega) (fun q2 hq2 => ?_)
    have hXq2 := XT.fresh hX hq2 (e := .inr (7, [.int 0]))
    refine z_dup X dX0_keep_20 rfl ?_
    refine z_iconst (v := nI (0)) X dX0_keep_21 ci0 ?_
    refine z_cv (z_runI (rest := [.ref (q2), .ref (xa 0)]) (n := 1) X [.int (nI (0))] (m_X8_init_X8 gu_s (ra := 0)) dX0_keep_22 (lw_meth q536) q84 q534 q535 rfl hs_X8_init rfl ⟨Nat.le_of_ble_eq_true rfl, Nat.le_of_ble_eq_true rfl⟩ ⟨by omega, by omega⟩ rfl (Nat.le_of_ble_eq_true rfl)) (fun w5 h4 => ?_)
    rw [gu_gu] at h4
    subst h4
    have hXn6 := XT.fresh hX hq2 (e := .inr (7, [.int (nI (0))]))
    refine z_iload_n X dX0_keep_25 rfl 2 rfl ?_
    refine z_cl (z_runV (rest := []) (n := 2) X [.ref (q2), .int (nI (nN))] (m_x_valueK hXn6 hO (q := q2) (ra := 0) (by omega) gu_s (n := nN) (by omega)) dX0_keep_26 hXn6.ob rfl (lw_V q1201 q1203 qs17 q66 q1204) hv_X0_valueOf rfl ⟨Nat.le_of_ble_eq_true rfl, Nat.le_of_ble_eq_true rfl⟩ ⟨by omega, by omega⟩ rfl (Nat.le_of_ble_eq_true rfl)) (fun r7 w9 h8 => ?_)
    obtain ⟨xa8, rr8, hk8, hX8, r7e⟩ := h8
    rw [r7e]
    rw [← hk8 0 (by omega) (by omega) (by omega)]
    refine z_lstore_n (lv2 := [(3, .long (keepV o nN 0)), (2, .int (nI (0))), (0, .ref (xa8 0)), (1, .int (nI (nN)))]) X dX0_keep_29 rfl (Nat.le_of_ble_eq_true rfl) rfl ?_
    refine z_iconst (v := nI (1)) X dX0_keep_30 ci1 ?_
    refine z_istore (lv2 := [(5, .int (nI (1))), (3, .long (keepV o nN 0)), (2, .int (nI (0))), (0, .ref (xa8 0)), (1, .int (nI (nN)))]) X dX0_keep_31 (Nat.le_of_ble_eq_true rfl) rfl ?_
    have lk : ∀ (lq i : Nat) (w3 : GW) (xa3 : Nat → Nat) (rr3 : Option Nat), i + lq = 5 → xa3 0 = xa 0 → XT G w3 xa3 rr3 o im → 1 ≤ i → Z κ w3 [(5, .int (nI (i))), (3, .long (mxV (fun _ => true) (keepV o nN) i)), (2, .int (oI (mxTo (fun _ => true) (keepV o nN) i))), (1, .int (nI (nN))), (0, .ref (xa3 0))] (15 * i) (1015 * i) 33 [] := by
      intro lq
      induction lq with
      | zero =>
        intro i w3 xa3 rr3 lh h03 hX3 hi1
        obtain rfl : 5 = i := by omega
        refine z_iload X dX0_keep_33 0 rfl ?_
        refine z_iconst (v := nI (4)) X dX0_keep_35 ci4 ?_
        refine z_icmp_gt_t (tgt := 74) X dX0_keep_36 (by decide) ((nI_ltI (by omega) (by omega)).mpr (by omega)) ?_
        refine z_iload_n X dX0_keep_74 rfl 2 rfl ?_
        have e : spKeep o (nI nN) = (oI (mxTo (fun _ => true) (keepV o nN) 5), o) := by
          unfold spKeep
          repeat (first | rw [el_some (by assumption)] | rw [el_none (by assumption)] | rw [if_pos (by omega)] | rw [if_neg (by omega)] | rw [if_pos (by assumption)] | rw [if_neg (ts_n (by assumption))])
          all_goals first | rfl | (exfalso; omega)
        exact z_iret X dX0_keep_75 (by omega) (by omega) ⟨_, rfl, (by rw [e]; exact ⟨⟨_, _, h03, hX3⟩, rfl⟩)⟩
      | succ lq ih =>
        intro i w3 xa3 rr3 lh h03 hX3 hi1
        have hne : ¬ mxTo (fun _ => true) (keepV o nN) i = none := keep_ne i hi1
        refine z_iload X dX0_keep_33 0 rfl ?_
        refine z_iconst (v := nI (4)) X dX0_keep_35 ci4 ?_
        refine z_icmp_gt_f (tgt := 74) X dX0_keep_36 (by decide) (fun h => absurd ((nI_ltI (by omega) (by omega)).mp h) (by omega)) ?_
        refine z_aload_n X dX0_keep_39 rfl 4 rfl ?_
        refine z_new X dX0_keep_40 in_X8 tyX8 tyX8_ok (ci := 7) (fs := [.int 0]) q532 q533 q84 rfl (fun j hj => by rcases (show j = 0 by omega) with rfl <;> rfl) (by omega) (by omega) (fun q10 hq10 => ?_)
        have hXq10 := XT.fresh hX3 hq10 (e := .inr (7, [.int 0]))
        refine z_dup X dX0_keep_43 rfl ?_
        refine z_iload X dX0_keep_44 0 rfl ?_
        refine z_cv (z_runI (rest := [.ref (q10), .ref (xa3 0)]) (n := 1) X [.int (nI (i))] (m_X8_init_X8 gu_s (ra := i)) dX0_keep_46 (lw_meth q536) q84 q534 q535 rfl hs_X8_init rfl ⟨Nat.le_of_ble_eq_true rfl, Nat.le_of_ble_eq_true rfl⟩ ⟨by omega, by omega⟩ rfl (Nat.le_of_ble_eq_true rfl)) (fun w13 h12 => ?_)
        rw [gu_gu] at h12
        subst h12
        have hXn14 := XT.fresh hX3 hq10 (e := .inr (7, [.int (nI (i))]))
        refine z_iload_n X dX0_keep_49 rfl 3 rfl ?_
        refine z_cl (z_runV (rest := []) (n := 2) X [.ref (q10), .int (nI (nN))] (m_x_valueK hXn14 hO (q := q10) (ra := i) (by omega) gu_s (n := nN) (by omega)) dX0_keep_50 hXn14.ob rfl (lw_V q1201 q1203 qs17 q66 q1204) hv_X0_valueOf rfl ⟨Nat.le_of_ble_eq_true rfl, Nat.le_of_ble_eq_true rfl⟩ ⟨by omega, by omega⟩ rfl (Nat.le_of_ble_eq_true rfl)) (fun r15 w17 h16 => ?_)
        obtain ⟨xa16, rr16, hk16, hX16, r15e⟩ := h16
        rw [r15e]
        rw [← hk16 0 (by omega) (by omega) (by omega)]
        refine z_lstore (lv2 := [(6, .long (keepV o nN i)), (5, .int (nI (i))), (3, .long (mxV (fun _ => true) (keepV o nN) i)), (2, .int (oI (mxTo (fun _ => true) (keepV o nN) i))), (1, .int (nI (nN))), (0, .ref (xa16 0))]) X dX0_keep_53 (Nat.le_of_ble_eq_true rfl) rfl ?_
        refine z_lload X dX0_keep_55 0 rfl ?_
        refine z_lload_n X dX0_keep_57 rfl 2 rfl ?_
        refine z_lcmp (v := lg_cmp (keepV o nN i) (mxV (fun _ => true) (keepV o nN) i)) X dX0_keep_58 rfl ?_
        refine z_if_le (tgt := 68) X dX0_keep_59 (by decide) (lg_cmp_le _ _) (fun c18 => ?_) (fun c18 => ?_)
        · refine z_iinc (v := nI (i + 1)) (lv2 := [(5, .int (nI (i + 1))), (6, .long (keepV o nN i)), (3, .long (mxV (fun _ => true) (keepV o nN) i)), (2, .int (oI (mxTo (fun _ => true) (keepV o nN) i))), (1, .int (nI (nN))), (0, .ref (xa16 0))]) X dX0_keep_68 1 rfl (nI_1 _) (Nat.le_of_ble_eq_true rfl) rfl ?_
          refine z_goto (tgt := 33) X dX0_keep_71 (by decide) ?_
          refine Z.lv [0, 2, 3, 4, 5] rfl ?_
          have e : mxTo (fun _ => true) (keepV o nN) (i + 1) = mxTo (fun _ => true) (keepV o nN) i := mx_le (p := fun _ => true) (f := keepV o nN) hne (Int64.not_lt.mpr c18)
          have e2 : mxV (fun _ => true) (keepV o nN) (i + 1) = mxV (fun _ => true) (keepV o nN) i := mxV_eq e
          have kk := ih (i + 1) _ _ _ (by omega) ((hk16 0 (by decide) (by decide) (by decide)).trans h03) hX16 (by omega)
          rw [e, e2] at kk
          exact Z.up (by omega) (by omega) kk
        · refine z_iload X dX0_keep_62 1 rfl ?_
          refine z_istore_n (lv2 := [(2, .int (nI (i))), (6, .long (keepV o nN i)), (5, .int (nI (i))), (3, .long (mxV (fun _ => true) (keepV o nN) i)), (1, .int (nI (nN))), (0, .ref (xa16 0))]) X dX0_keep_64 rfl (Nat.le_of_ble_eq_true rfl) rfl ?_
          refine z_lload X dX0_keep_65 1 rfl ?_
          refine z_lstore_n (lv2 := [(3, .long (keepV o nN i)), (2, .int (nI (i))), (6, .long (keepV o nN i)), (5, .int (nI (i))), (1, .int (nI (nN))), (0, .ref (xa16 0))]) X dX0_keep_67 rfl (Nat.le_of_ble_eq_true rfl) rfl ?_
          refine z_iinc (v := nI (i + 1)) (lv2 := [(5, .int (nI (i + 1))), (3, .long (keepV o nN i)), (2, .int (nI (i))), (6, .long (keepV o nN i)), (1, .int (nI (nN))), (0, .ref (xa16 0))]) X dX0_keep_68 3 rfl (nI_1 _) (Nat.le_of_ble_eq_true rfl) rfl ?_
          refine z_goto (tgt := 33) X dX0_keep_71 (by decide) ?_
          refine Z.lv [0, 1, 2, 4, 5] rfl ?_
          have e : mxTo (fun _ => true) (keepV o nN) (i + 1) = some i := mx_gt (p := fun _ => true) (f := keepV o nN) rfl hne (Int64.not_le.mp c18)
          have e2 : mxV (fun _ => true) (keepV o nN) (i + 1) = keepV o nN i := mxV_of e
          have kk := ih (i + 1) _ _ _ (by omega) ((hk16 0 (by decide) (by decide) (by decide)).trans h03) hX16 (by omega)
          rw [e, e2] at kk
          exact Z.up (by omega) (by omega) kk
    refine Z.lv [0, 1, 2, 4, 3] rfl ?_
    refine Z.up (by omega) (by omega) (lk (5 - 1) 1 _ _ _ (by omega) (hk8 0 (by decide) (by decide) (by decide)) hX8 (by omega))
  · have e2 : rgb 0 24 n = none := rgb_f c1
    refine z_aload_n X dX0_keep_7 rfl 0 rfl ?_
    refine z_bipush (v := (-2)) X dX0_keep_8 (by decide) ?_
    refine z_ci (z_runV (rest := []) (n := 1) X [.int ((-2))] (m_X0_no_2 hX) dX0_keep_10 hX.ob rfl (lw_V q350 q352 qs2 q66 q353) hv_X0_no rfl ⟨Nat.le_of_ble_eq_true rfl, Nat.le_of_ble_eq_true rfl⟩ ⟨by omega, by omega⟩ rfl (Nat.le_of_ble_eq_true rfl)) (fun r19 w21 h20 => ?_)
    obtain ⟨r19e, hX20⟩ := h20
    rw [r19e]
    have e : spKeep o n = ((-2), oRef o 2) := by
      unfold spKeep
      repeat (first | rw [el_some (by assumption)] | rw [el_none (by assumption)] | rw [if_pos (by omega)] | rw [if_neg (by omega)] | rw [if_pos (by assumption)] | rw [if_neg (ts_n (by assumption))])
      all_goals first | rfl | (exfalso; omega)
    exact z_iret X dX0_keep_13 (by omega) (by omega) ⟨_, rfl, (by rw [e]; exact ⟨⟨_, _, rfl, hX20⟩, rfl⟩)⟩
set_option maxHeartbeats 2000000 in
theorem x_head {l : Launch} {G : GG} {w : GW} {xa : Nat → Nat} {rr : Option Nat} {o : OS} {im : IM} (hX : XT G w xa rr o im) (hO : oInv o) {n : Int32} : gM l G yX0_head cX0_head 8 (some .int) 30 112 8112 [.ref (xa 0), .int (n)] w (pI (fun r w1 => XE G (xa 0) w1 (spHead o n).2 im ∧ r = (spHead o n).1)) := by
  refine Z.met (own := "ThreeSizes") (nm := "head") (lv := [(0, .ref (xa 0)), (1, .int (n))]) (by decide) rfl rfl (Nat.le_of_ble_eq_true rfl) rfl (fun κ X => ?_)
  have hI := hO.1
  have h6 := hI.2.1
  have ht200 := hO.2.2.2
  refine z_iload_n X dX0_head_0 rfl 1 rfl ?_
  refine z_cip (z_runS (rest := []) (n := 1) X [.int (n)] (m_X0_isHours (v := n)) dX0_head_1 (lw_S q1198 q1199 q66 q1200) hs_X0_isHours rfl ⟨Nat.le_of_ble_eq_true rfl, Nat.le_of_ble_eq_true rfl⟩ ⟨by omega, by omega⟩ rfl (Nat.le_of_ble_eq_true rfl)) ?_
  refine z_if_ne (tgt := 14) X dX0_head_4 (by decide) bI_d (fun c1 => ?_) (fun c1 => ?_)
  · have c1 := Classical.not_not.mp c1
    obtain ⟨nN, nNl, nNh, rfl, e1⟩ := rgb_t (lo := 0) (hi := 24) (by decide) (by decide) (c1)
    refine z_iconst (v := -1) X dX0_head_14 cim1 ?_
    refine z_istore_n (lv2 := [(2, .int (-1)), (0, .ref (xa 0)), (1, .int (nI (nN)))]) X dX0_head_15 rfl (Nat.le_of_ble_eq_true rfl) rfl ?_
    refine z_lconst (v := lN 0) X dX0_head_16 cl0 ?_
    refine z_lstore_n (lv2 := [(3, .long (lN (0))), (2, .int (-1)), (0, .ref (xa 0)), (1, .int (nI (nN)))]) X dX0_head_17 rfl (Nat.le_of_ble_eq_true rfl) rfl ?_
    refine z_iconst (v := nI (0)) X dX0_head_18 ci0 ?_
    refine z_istore (lv2 := [(5, .int (nI (0))), (3, .long (lN (0))), (2, .int (-1)), (0, .ref (xa 0)), (1, .int (nI (nN)))]) X dX0_head_19 (Nat.le_of_ble_eq_true rfl) rfl ?_
    have lh2 : ∀ (lq i : Nat) (w3 : GW) (xa3 : Nat → Nat) (rr3 : Option Nat), i + lq = 8 → xa3 0 = xa 0 → XT G w3 xa3 rr3 o im → Z κ w3 [(5, .int (nI (i))), (3, .long (mxV (fun s => decide (o.2.2.2.1 0 s = 2)) (fun s => shV o s nN) i)), (2, .int (oI (mxTo (fun s => decide (o.2.2.2.1 0 s = 2)) (fun s => shV o s nN) i))), (1, .int (nI (nN))), (0, .ref (xa3 0))] (14 * i) (1014 * i) 21 [] := by
      intro lq
      induction lq with
      | zero =>
        intro i w3 xa3 rr3 lh h03 hX3
        obtain rfl : 8 = i := by omega
        refine z_iload X dX0_head_21 0 rfl ?_
        refine z_bipush (v := nI (8)) X dX0_head_23 (by decide) ?_
        refine z_icmp_ge_t (tgt := 91) X dX0_head_25 (by decide) ((nI_leI (by omega) (by omega)).mpr (by omega)) ?_
        refine z_iload_n X dX0_head_91 rfl 2 rfl ?_
        refine z_iconst (v := -1) X dX0_head_92 cim1 ?_
        refine z_icmp_ne (tgt := 105) X dX0_head_93 (by decide) (oI_m1 (fun z h => by have := (mxTo_lt _ _ h).1; omega)) (fun c2 => ?_) (fun c2 => ?_)
        · refine z_iload_n X dX0_head_105 rfl 2 rfl ?_
          obtain ⟨y, hy⟩ := Option.ne_none_iff_exists.mp c2
          have e : spHead o (nI nN) = (oI (mxTo (fun s => decide (o.2.2.2.1 0 s = 2)) (fun s => shV o s nN) 8), o) := by
            unfold spHead
            rw [el_some (by assumption), ← hy]
            rfl
          exact z_iret X dX0_head_106 (by omega) (by omega) ⟨_, rfl, (by rw [e]; exact ⟨⟨_, _, h03, hX3⟩, rfl⟩)⟩
        · refine z_aload_n X dX0_head_96 rfl 4 rfl ?_
          refine z_bipush (v := (-5)) X dX0_head_97 (by decide) ?_
          refine z_ci (z_runV (rest := []) (n := 1) X [.int ((-5))] (m_X0_no_5 hX3) dX0_head_99 hX3.ob rfl (lw_V q350 q352 qs2 q66 q353) hv_X0_no rfl ⟨Nat.le_of_ble_eq_true rfl, Nat.le_of_ble_eq_true rfl⟩ ⟨by omega, by omega⟩ rfl (Nat.le_of_ble_eq_true rfl)) (fun r3 w5 h4 => ?_)
          obtain ⟨r3e, hX4⟩ := h4
          rw [r3e]
          refine z_goto (tgt := 106) X dX0_head_102 (by decide) ?_
          have e : spHead o (nI nN) = ((-5), oRef o 5) := by
            unfold spHead
            rw [el_some (by assumption), c2]
            rfl
          exact z_iret X dX0_head_106 (by omega) (by omega) ⟨_, rfl, (by rw [e]; exact ⟨⟨_, _, h03, hX4⟩, rfl⟩)⟩
      | succ lq ih =>
        intro i w3 xa3 rr3 lh h03 hX3
        refine z_iload X dX0_head_21 0 rfl ?_
        refine z_bipush (v := nI (8)) X dX0_head_23 (by decide) ?_
        refine z_icmp_ge_f (tgt := 91) X dX0_head_25 (by decide) (fun h => absurd ((nI_leI (by omega) (by omega)).mp h) (by omega)) ?_
        refine z_aload_n X dX0_head_28 rfl 4 rfl ?_
        refine z_get X dX0_head_29 hX3.ob in_X0 rfl 2 (Nat.le_of_ble_eq_true rfl) q235 rfl ?_
        refine z_iload X dX0_head_32 0 rfl ?_
        refine z_aN7 (v := .ref (xa3 (30 + i))) X dX0_head_34 hX3.sh (by omega) (by omega) (shF_at (by omega)) ?_
        have hq9 := hO.2.1 i (by omega)
        rcases hX3.shelf (s := i) (by omega) with ⟨hk9, hs9⟩ | ⟨hk9, hs9, f9, hr9, ho9, he9⟩ | ⟨hk9, hs9, hr9, hl9⟩
        · skip
          refine z_get X dX0_head_35 hs9 in_X3 rfl 0 (Nat.le_of_ble_eq_true rfl) q229 rfl ?_
          refine z_instNl X dX0_head_38 ?_
          refine z_if_ne_f (tgt := 47) X dX0_head_41 (by decide) (by decide) ?_
          refine z_goto (tgt := 85) X dX0_head_44 (by decide) ?_
          refine z_iinc (v := nI (i + 1)) (lv2 := [(5, .int (nI (i + 1))), (3, .long (mxV (fun s => decide (o.2.2.2.1 0 s = 2)) (fun s => shV o s nN) i)), (2, .int (oI (mxTo (fun s => decide (o.2.2.2.1 0 s = 2)) (fun s => shV o s nN) i))), (1, .int (nI (nN))), (0, .ref (xa3 0))]) X dX0_head_85 0 rfl (nI_1 _) (Nat.le_of_ble_eq_true rfl) rfl ?_
          refine z_goto (tgt := 21) X dX0_head_88 (by decide) ?_
          have e : mxTo (fun s => decide (o.2.2.2.1 0 s = 2)) (fun s => shV o s nN) (i + 1) = mxTo (fun s => decide (o.2.2.2.1 0 s = 2)) (fun s => shV o s nN) i := mx_no (p := fun s => decide (o.2.2.2.1 0 s = 2)) (f := fun s => shV o s nN) (decide_eq_false (by omega))
          have e2 : mxV (fun s => decide (o.2.2.2.1 0 s = 2)) (fun s => shV o s nN) (i + 1) = mxV (fun s => decide (o.2.2.2.1 0 s = 2)) (fun s => shV o s nN) i := mxV_eq e
          have kk := ih (i + 1) _ _ _ (by omega) h03 hX3
          rw [e, e2] at kk
          exact Z.up (by omega) (by omega) kk
        · skip
          refine z_get X dX0_head_35 hs9 in_X3 rfl 0 (Nat.le_of_ble_eq_true rfl) q229 rfl ?_
          refine z_instRow X hq9.2.1 hr9 dX0_head_38 q388 ?_
          refine z_if_ne_f (tgt := 47) X dX0_head_41 (by decide) (by decide) ?_
          refine z_goto (tgt := 85) X dX0_head_44 (by decide) ?_
          refine z_iinc (v := nI (i + 1)) (lv2 := [(5, .int (nI (i + 1))), (3, .long (mxV (fun s => decide (o.2.2.2.1 0 s = 2)) (fun s => shV o s nN) i)), (2, .int (oI (mxTo (fun s => decide (o.2.2.2.1 0 s = 2)) (fun s => shV o s nN) i))), (1, .int (nI (nN))), (0, .ref (xa3 0))]) X dX0_head_85 0 rfl (nI_1 _) (Nat.le_of_ble_eq_true rfl) rfl ?_
          refine z_goto (tgt := 21) X dX0_head_88 (by decide) ?_
          have e : mxTo (fun s => decide (o.2.2.2.1 0 s = 2)) (fun s => shV o s nN) (i + 1) = mxTo (fun s => decide (o.2.2.2.1 0 s = 2)) (fun s => shV o s nN) i := mx_no (p := fun s => decide (o.2.2.2.1 0 s = 2)) (f := fun s => shV o s nN) (decide_eq_false (by omega))
          have e2 : mxV (fun s => decide (o.2.2.2.1 0 s = 2)) (fun s => shV o s nN) (i + 1) = mxV (fun s => decide (o.2.2.2.1 0 s = 2)) (fun s => shV o s nN) i := mxV_eq e
          have kk := ih (i + 1) _ _ _ (by omega) h03 hX3
          rw [e, e2] at kk
          exact Z.up (by omega) (by omega) kk
        · skip
          refine z_get X dX0_head_35 hs9 in_X3 rfl 0 (Nat.le_of_ble_eq_true rfl) q229 rfl ?_
          refine z_instR X ⟨hq9.2.2.2.2.1 hk9, hq9.2.2.2.1⟩ hr9 dX0_head_38 q388 ?_
          refine z_if_ne_t (tgt := 47) X dX0_head_41 (by decide) (by decide) ?_
          refine z_aload_n X dX0_head_47 rfl 4 rfl ?_
          refine z_aload_n X dX0_head_48 rfl 4 rfl ?_
          refine z_get X dX0_head_49 hX3.ob in_X0 rfl 2 (Nat.le_of_ble_eq_true rfl) q235 rfl ?_
          refine z_iload X dX0_head_52 0 rfl ?_
          refine z_aN7 (v := .ref (xa3 (30 + i))) X dX0_head_54 hX3.sh (by omega) (by omega) (shF_at (by omega)) ?_
          refine z_get X dX0_head_55 hs9 in_X3 rfl 0 (Nat.le_of_ble_eq_true rfl) q229 rfl ?_
          refine z_castR X ⟨hq9.2.2.2.2.1 hk9, hq9.2.2.2.1⟩ hr9 dX0_head_58 q388 ?_
          refine z_iload_n X dX0_head_61 rfl 3 rfl ?_
          refine z_cl (z_runV (rest := []) (n := 2) X [.ref (xa3 (40 + i)), .int (nI (nN))] (m_x_valueS hX3 hO (s := i) (by omega) hk9 (n := nN) (by omega)) dX0_head_62 hX3.ob rfl (lw_V q1201 q1203 qs17 q66 q1204) hv_X0_valueOf rfl ⟨Nat.le_of_ble_eq_true rfl, Nat.le_of_ble_eq_true rfl⟩ ⟨by omega, by omega⟩ rfl (Nat.le_of_ble_eq_true rfl)) (fun r6 w8 h7 => ?_)
          obtain ⟨xa7, rr7, hk7, hX7, r6e⟩ := h7
          rw [r6e]
          rw [← hk7 0 (by omega) (by omega) (by omega)]
          refine z_lstore (lv2 := [(6, .long (shV o i nN)), (5, .int (nI (i))), (3, .long (mxV (fun s => decide (o.2.2.2.1 0 s = 2)) (fun s => shV o s nN) i)), (2, .int (oI (mxTo (fun s => decide (o.2.2.2.1 0 s = 2)) (fun s => shV o s nN) i))), (1, .int (nI (nN))), (0, .ref (xa7 0))]) X dX0_head_65 (Nat.le_of_ble_eq_true rfl) rfl ?_
          refine z_iload_n X dX0_head_67 rfl 3 rfl ?_
          refine z_iconst (v := -1) X dX0_head_68 cim1 ?_
          refine z_icmp_eq (tgt := 79) X dX0_head_69 (by decide) (oI_m1 (fun z h => by have := (mxTo_lt _ _ h).1; omega)) (fun c9 => ?_) (fun c9 => ?_)
          · refine z_iload X dX0_head_79 1 rfl ?_
            refine z_istore_n (lv2 := [(2, .int (nI (i))), (6, .long (shV o i nN)), (5, .int (nI (i))), (3, .long (mxV (fun s => decide (o.2.2.2.1 0 s = 2)) (fun s => shV o s nN) i)), (1, .int (nI (nN))), (0, .ref (xa7 0))]) X dX0_head_81 rfl (Nat.le_of_ble_eq_true rfl) rfl ?_
            refine z_lload X dX0_head_82 1 rfl ?_
            refine z_lstore_n (lv2 := [(3, .long (shV o i nN)), (2, .int (nI (i))), (6, .long (shV o i nN)), (5, .int (nI (i))), (1, .int (nI (nN))), (0, .ref (xa7 0))]) X dX0_head_84 rfl (Nat.le_of_ble_eq_true rfl) rfl ?_
            refine z_iinc (v := nI (i + 1)) (lv2 := [(5, .int (nI (i + 1))), (3, .long (shV o i nN)), (2, .int (nI (i))), (6, .long (shV o i nN)), (1, .int (nI (nN))), (0, .ref (xa7 0))]) X dX0_head_85 3 rfl (nI_1 _) (Nat.le_of_ble_eq_true rfl) rfl ?_
            refine z_goto (tgt := 21) X dX0_head_88 (by decide) ?_
            refine Z.lv [0, 1, 2, 4, 5] rfl ?_
            have e : mxTo (fun s => decide (o.2.2.2.1 0 s = 2)) (fun s => shV o s nN) (i + 1) = some i := mx_new (p := fun s => decide (o.2.2.2.1 0 s = 2)) (f := fun s => shV o s nN) (decide_eq_true (by omega)) c9
            have e2 : mxV (fun s => decide (o.2.2.2.1 0 s = 2)) (fun s => shV o s nN) (i + 1) = shV o i nN := mxV_of e
            have kk := ih (i + 1) _ _ _ (by omega) ((hk7 0 (by decide) (by decide) (by decide)).trans h03) hX7
            rw [e, e2] at kk
            exact Z.up (by omega) (by omega) kk
          · refine z_lload X dX0_head_72 0 rfl ?_
            refine z_lload_n X dX0_head_74 rfl 2 rfl ?_
            refine z_lcmp (v := lg_cmp (shV o i nN) (mxV (fun s => decide (o.2.2.2.1 0 s = 2)) (fun s => shV o s nN) i)) X dX0_head_75 rfl ?_
            refine z_if_le (tgt := 85) X dX0_head_76 (by decide) (lg_cmp_le _ _) (fun c10 => ?_) (fun c10 => ?_)
            · refine z_iinc (v := nI (i + 1)) (lv2 := [(5, .int (nI (i + 1))), (6, .long (shV o i nN)), (3, .long (mxV (fun s => decide (o.2.2.2.1 0 s = 2)) (fun s => shV o s nN) i)), (2, .int (oI (mxTo (fun s => decide (o.2.2.2.1 0 s = 2)) (fun s => shV o s nN) i))), (1, .int (nI (nN))), (0, .ref (xa7 0))]) X dX0_head_85 1 rfl (nI_1 _) (Nat.le_of_ble_eq_true rfl) rfl ?_
              refine z_goto (tgt := 21) X dX0_head_88 (by decide) ?_
              refine Z.lv [0, 2, 3, 4, 5] rfl ?_
              have e : mxTo (fun s => decide (o.2.2.2.1 0 s = 2)) (fun s => shV o s nN) (i + 1) = mxTo (fun s => decide (o.2.2.2.1 0 s = 2)) (fun s => shV o s nN) i := mx_le (p := fun s => decide (o.2.2.2.1 0 s = 2)) (f := fun s => shV o s nN) c9 (Int64.not_lt.mpr c10)
              have e2 : mxV (fun s => decide (o.2.2.2.1 0 s = 2)) (fun s => shV o s nN) (i + 1) = mxV (fun s => decide (o.2.2.2.1 0 s = 2)) (fun s => shV o s nN) i := mxV_eq e
              have kk := ih (i + 1) _ _ _ (by omega) ((hk7 0 (by decide) (by decide) (by decide)).trans h03) hX7
              rw [e, e2] at kk
              exact Z.up (by omega) (by omega) kk
            · refine z_iload X dX0_head_79 1 rfl ?_
              refine z_istore_n (lv2 := [(2, .int (nI (i))), (6, .long (shV o i nN)), (5, .int (nI (i))), (3, .long (mxV (fun s => decide (o.2.2.2.1 0 s = 2)) (fun s => shV o s nN) i)), (1, .int (nI (nN))), (0, .ref (xa7 0))]) X dX0_head_81 rfl (Nat.le_of_ble_eq_true rfl) rfl ?_
              refine z_lload X dX0_head_82 1 rfl ?_
              refine z_lstore_n (lv2 := [(3, .long (shV o i nN)), (2, .int (nI (i))), (6, .long (shV o i nN)), (5, .int (nI (i))), (1, .int (nI (nN))), (0, .ref (xa7 0))]) X dX0_head_84 rfl (Nat.le_of_ble_eq_true rfl) rfl ?_
              refine z_iinc (v := nI (i + 1)) (lv2 := [(5, .int (nI (i + 1))), (3, .long (shV o i nN)), (2, .int (nI (i))), (6, .long (shV o i nN)), (1, .int (nI (nN))), (0, .ref (xa7 0))]) X dX0_head_85 3 rfl (nI_1 _) (Nat.le_of_ble_eq_true rfl) rfl ?_
              refine z_goto (tgt := 21) X dX0_head_88 (by decide) ?_
              refine Z.lv [0, 1, 2, 4, 5] rfl ?_
              have e : mxTo (fun s => decide (o.2.2.2.1 0 s = 2)) (fun s => shV o s nN) (i + 1) = some i := mx_gt (p := fun s => decide (o.2.2.2.1 0 s = 2)) (f := fun s => shV o s nN) (decide_eq_true (by omega)) c9 (Int64.not_le.mp c10)
              have e2 : mxV (fun s => decide (o.2.2.2.1 0 s = 2)) (fun s => shV o s nN) (i + 1) = shV o i nN := mxV_of e
              have kk := ih (i + 1) _ _ _ (by omega) ((hk7 0 (by decide) (by decide) (by decide)).trans h03) hX7
              rw [e, e2] at kk
              exact Z.up (by omega) (by omega) kk
    refine Z.lv [0, 1, 2, 4, 3] rfl ?_
    refine Z.up (by omega) (by omega) (lh2 (8 - 0) 0 _ _ _ (by omega) rfl hX)
  · have e2 : rgb 0 24 n = none := rgb_f c1
    refine z_aload_n X dX0_head_7 rfl 0 rfl ?_
    refine z_bipush (v := (-2)) X dX0_head_8 (by decide) ?_
    refine z_ci (z_runV (rest := []) (n := 1) X [.int ((-2))] (m_X0_no_2 hX) dX0_head_10 hX.ob rfl (lw_V q350 q352 qs2 q66 q353) hv_X0_no rfl ⟨Nat.le_of_ble_eq_true rfl, Nat.le_of_ble_eq_true rfl⟩ ⟨by omega, by omega⟩ rfl (Nat.le_of_ble_eq_true rfl)) (fun r11 w13 h12 => ?_)
    obtain ⟨r11e, hX12⟩ := h12
    rw [r11e]
    have e : spHead o n = ((-2), oRef o 2) := by
      unfold spHead
      rw [el_none (by assumption)]
      rfl
    exact z_iret X dX0_head_13 (by omega) (by omega) ⟨_, rfl, (by rw [e]; exact ⟨⟨_, _, rfl, hX12⟩, rfl⟩)⟩
