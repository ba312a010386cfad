/-! x: row, rule -/
set_option maxRecDepth 100000
theorem XT.sheet {G : GG} {w : GW} {xa : Nat → Nat} {rr : Option Nat} {o : OS} {im : IM} (h : XT G w xa rr o im) {s : Nat} (hs : s < 8) : ∃ v, w (xa (30 + s)) = some (.inr (3, [v])) := by
  rcases h.shelf hs with ⟨-, q⟩ | ⟨-, q, -⟩ | ⟨-, q, -⟩
  · exact ⟨_, q⟩
  · exact ⟨_, q⟩
  · exact ⟨_, q⟩
set_option maxHeartbeats 2000000 in
theorem m_X0_rowOf {l : Launch} {G : GG} (hl : l.stackTraces = false) {w : GW} {k : Nat} (hk : k ≤ 4) {n : Int32} (hn : n ≤ nI 40) : gMX l G yX0_rowOf (ws_ yX0_rowOf cX0_rowOf 2 (some (.object "java/lang/Object"))) 165 3 54 [.int (nI (k)), .int (n)] w (pA (fun r w1 => ∃ m, m ≤ 40 ∧ n = nI m ∧ w r = none ∧ w1 = gu w r (rowE G k m (fun _ => 0)))) (fun E x w1 => E = "java/lang/NegativeArraySizeException" ∧ rgb 0 40 n = none ∧ w1 = w) := by
  refine Z.metX (own := "ThreeSizes") (nm := "rowOf") (lv := [(0, .int (nI (k))), (1, .int (n))]) (by decide) rfl rfl (Nat.le_of_ble_eq_true rfl) rfl (fun κ X Y V0 => ?_)
  have V := V0 hl
  by_cases h0 : n < 0
  · skip
    refine z_iload_n X dX0_rowOf_0 rfl 0 rfl ?_
    rcases (show k = 0 ∨ k = 1 ∨ k = 2 ∨ k = 3 ∨ k = 4 by omega) with rfl | rfl | rfl | rfl | rfl
    · skip
      refine z_tabIn (off := 31) (tgt := 32) X dX0_rowOf_1 (by decide) (by decide) (by decide) (by decide) ?_
      refine z_iload_n X dX0_rowOf_32 rfl 1 rfl ?_
      refine zt_newZ X V h0 dX0_rowOf_33 (Nat.le_of_ble_eq_true rfl) (by omega) ⟨(by omega), (by omega)⟩ (fun q1 => ?_)
      exact zt_out X Y zp_n ⟨rfl, rgb_f (fun z => by rcases z with ⟨z1, z2⟩; exact absurd (Int32.lt_of_le_of_lt z1 h0) (by decide)), rfl⟩ ⟨by omega, by omega⟩
    · skip
      refine z_tabIn (off := 35) (tgt := 36) X dX0_rowOf_1 (by decide) (by decide) (by decide) (by decide) ?_
      refine z_iload_n X dX0_rowOf_36 rfl 1 rfl ?_
      refine zt_newZ X V h0 dX0_rowOf_37 (Nat.le_of_ble_eq_true rfl) (by omega) ⟨(by omega), (by omega)⟩ (fun q2 => ?_)
      exact zt_out X Y zp_n ⟨rfl, rgb_f (fun z => by rcases z with ⟨z1, z2⟩; exact absurd (Int32.lt_of_le_of_lt z1 h0) (by decide)), rfl⟩ ⟨by omega, by omega⟩
    · skip
      refine z_tabIn (off := 39) (tgt := 40) X dX0_rowOf_1 (by decide) (by decide) (by decide) (by decide) ?_
      refine z_iload_n X dX0_rowOf_40 rfl 1 rfl ?_
      refine zt_newZ X V h0 dX0_rowOf_41 (Nat.le_of_ble_eq_true rfl) (by omega) ⟨(by omega), (by omega)⟩ (fun q3 => ?_)
      exact zt_out X Y zp_n ⟨rfl, rgb_f (fun z => by rcases z with ⟨z1, z2⟩; exact absurd (Int32.lt_of_le_of_lt z1 h0) (by decide)), rfl⟩ ⟨by omega, by omega⟩
    · skip
      refine z_tabIn (off := 43) (tgt := 44) X dX0_rowOf_1 (by decide) (by decide) (by decide) (by decide) ?_
      refine z_iload_n X dX0_rowOf_44 rfl 1 rfl ?_
      refine zt_newZ X V h0 dX0_rowOf_45 (Nat.le_of_ble_eq_true rfl) (by omega) ⟨(by omega), (by omega)⟩ (fun q4 => ?_)
      exact zt_out X Y zp_n ⟨rfl, rgb_f (fun z => by rcases z with ⟨z1, z2⟩; exact absurd (Int32.lt_of_le_of_lt z1 h0) (by decide)), rfl⟩ ⟨by omega, by omega⟩
    · skip
      refine z_tabOut (tgt := 48) X dX0_rowOf_1 (by decide) (by decide) ?_
      refine z_iload_n X dX0_rowOf_48 rfl 1 rfl ?_
      refine zt_newZ X V h0 dX0_rowOf_49 (Nat.le_of_ble_eq_true rfl) (by omega) ⟨(by omega), (by omega)⟩ (fun q5 => ?_)
      exact zt_out X Y zp_n ⟨rfl, rgb_f (fun z => by rcases z with ⟨z1, z2⟩; exact absurd (Int32.lt_of_le_of_lt z1 h0) (by decide)), rfl⟩ ⟨by omega, by omega⟩
  · obtain ⟨m, hm, rfl⟩ := nI_of h0
    have hm40 := (nI_leI (by omega) (by omega)).mp hn
    refine z_iload_n X dX0_rowOf_0 rfl 0 rfl ?_
    rcases (show k = 0 ∨ k = 1 ∨ k = 2 ∨ k = 3 ∨ k = 4 by omega) with rfl | rfl | rfl | rfl | rfl
    · skip
      refine z_tabIn (off := 31) (tgt := 32) X dX0_rowOf_1 (by decide) (by decide) (by decide) (by decide) ?_
      refine z_iload_n X dX0_rowOf_32 rfl 1 rfl ?_
      refine z_newb X (m) dX0_rowOf_33 q339 (nI_pos (by omega)) (nI_clamp (by omega)) (by simp only [componentBytes]; omega) (by omega) (by omega) (fun q6 hq6 => ?_)
      exact z_aret X dX0_rowOf_35 (Or.inl ⟨_, rfl⟩) (by omega) (by omega) ⟨_, rfl, ⟨m, hm40, rfl, hq6, rfl⟩⟩
    · skip
      refine z_tabIn (off := 35) (tgt := 36) X dX0_rowOf_1 (by decide) (by decide) (by decide) (by decide) ?_
      refine z_iload_n X dX0_rowOf_36 rfl 1 rfl ?_
      refine z_news X (m) dX0_rowOf_37 q357 (nI_pos (by omega)) (nI_clamp (by omega)) (by simp only [componentBytes]; omega) (by omega) (by omega) (fun q7 hq7 => ?_)
      exact z_aret X dX0_rowOf_39 (Or.inl ⟨_, rfl⟩) (by omega) (by omega) ⟨_, rfl, ⟨m, hm40, rfl, hq7, rfl⟩⟩
    · skip
      refine z_tabIn (off := 39) (tgt := 40) X dX0_rowOf_1 (by decide) (by decide) (by decide) (by decide) ?_
      refine z_iload_n X dX0_rowOf_40 rfl 1 rfl ?_
      refine z_newi X (m) dX0_rowOf_41 q188 (nI_pos (by omega)) (nI_clamp (by omega)) (by simp only [componentBytes]; omega) (by omega) (by omega) (fun q8 hq8 => ?_)
      exact z_aret X dX0_rowOf_43 (Or.inl ⟨_, rfl⟩) (by omega) (by omega) ⟨_, rfl, ⟨m, hm40, rfl, hq8, rfl⟩⟩
    · skip
      refine z_tabIn (off := 43) (tgt := 44) X dX0_rowOf_1 (by decide) (by decide) (by decide) (by decide) ?_
      refine z_iload_n X dX0_rowOf_44 rfl 1 rfl ?_
      refine z_newl X (m) dX0_rowOf_45 q358 (nI_pos (by omega)) (nI_clamp (by omega)) (by simp only [componentBytes]; omega) (by omega) (by omega) (fun q9 hq9 => ?_)
      exact z_aret X dX0_rowOf_47 (Or.inl ⟨_, rfl⟩) (by omega) (by omega) ⟨_, rfl, ⟨m, hm40, rfl, hq9, rfl⟩⟩
    · skip
      refine z_tabOut (tgt := 48) X dX0_rowOf_1 (by decide) (by decide) ?_
      refine z_iload_n X dX0_rowOf_48 rfl 1 rfl ?_
      refine z_newz X (m) dX0_rowOf_49 q359 (nI_pos (by omega)) (nI_clamp (by omega)) (by simp only [componentBytes]; omega) (by omega) (by omega) (fun q10 hq10 => ?_)
      exact z_aret X dX0_rowOf_51 (Or.inl ⟨_, rfl⟩) (by omega) (by omega) ⟨_, rfl, ⟨m, hm40, rfl, hq10, rfl⟩⟩
set_option maxHeartbeats 2000000 in
theorem x_row {l : Launch} {G : GG} (hl : l.stackTraces = false) {w : GW} {xa : Nat → Nat} {rr : Option Nat} {o : OS} {im : IM} (hX : XT G w xa rr o im) (hO : oInv o) {s k n : Int32} : gMX l G yX0_row (wsW_ yX0_row cX0_row 5 (some .int) [(29, 43, 46, 118)]) 170 3 54 [.ref (xa 0), .int (s), .int (k), .int (n)] w (pI (fun r w1 => XE G (xa 0) w1 (spRow o s k n).2 im ∧ r = (spRow o s k n).1)) (pN) := by
  refine Z.metW (own := "ThreeSizes") (nm := "row") (lv := [(0, .ref (xa 0)), (1, .int (s)), (2, .int (k)), (3, .int (n))]) (by decide) rfl rfl (Nat.le_of_ble_eq_true rfl) rfl (fun κ X Y V0 => ?_)
  have V := V0 hl
  have hI := hO.1
  have h6 := hI.2.1
  have ht200 := hO.2.2.2
  refine z_iload_n X dX0_row_0 rfl 1 rfl ?_
  refine z_cip (z_runS (rest := []) (n := 1) X [.int (s)] (m_X0_isShelf (v := s)) dX0_row_1 (lw_S q344 q345 q66 q346) hs_X0_isShelf rfl ⟨Nat.le_of_ble_eq_true rfl, Nat.le_of_ble_eq_true rfl⟩ ⟨by omega, by omega⟩ rfl (Nat.le_of_ble_eq_true rfl)) ?_
  refine z_if_eq (tgt := 22) X dX0_row_4 (by decide) bI_d (fun c1 => ?_) (fun c1 => ?_)
  · have e1 : rgb 0 7 s = none := rgb_f c1
    refine z_aload_n X dX0_row_22 rfl 0 rfl ?_
    refine z_bipush (v := (-2)) X dX0_row_23 (by decide) ?_
    refine z_ci (z_runV (rest := []) (n := 1) X [.int ((-2))] (m_X0_no_2 hX) dX0_row_25 hX.ob rfl (lw_V q350 q352 qs2 q66 q353) hv_X0_no rfl ⟨Nat.le_of_ble_eq_true rfl, Nat.le_of_ble_eq_true rfl⟩ ⟨by omega, by omega⟩ rfl (Nat.le_of_ble_eq_true rfl)) (fun r2 w4 h3 => ?_)
    obtain ⟨r2e, hX3⟩ := h3
    rw [r2e]
    have e : spRow o s k n = ((-2), oRef o 2) := by
      unfold spRow
      repeat (first | rw [el_some (by assumption)] | rw [el_none (by assumption)] | rw [if_pos (by omega)] | rw [if_neg (by omega)] | rw [if_pos (by assumption)] | rw [if_neg (ts_n (by assumption))])
      all_goals first | rfl | (exfalso; omega)
    exact z_iret X dX0_row_28 (by omega) (by omega) ⟨_, rfl, (by rw [e]; exact ⟨⟨_, _, rfl, hX3⟩, rfl⟩)⟩
  · have c1 := Classical.not_not.mp c1
    obtain ⟨sN, sNl, sNh, rfl, e2⟩ := rgb_t (lo := 0) (hi := 7) (by decide) (by decide) (c1)
    by_cases c5 : nI 0 ≤ k ∧ k ≤ nI 4
    · obtain ⟨kN, kNl, kNh, rfl, e3⟩ := rgb_t (lo := 0) (hi := 4) (by decide) (by decide) c5
      refine z_iload_n X dX0_row_7 rfl 2 rfl ?_
      refine z_if_lt_f (tgt := 22) X dX0_row_8 (by decide) (nI_pos (by omega)) ?_
      refine z_iload_n X dX0_row_11 rfl 2 rfl ?_
      refine z_iconst (v := nI (4)) X dX0_row_12 ci4 ?_
      refine z_icmp_gt_f (tgt := 22) X dX0_row_13 (by decide) (fun h => absurd ((nI_ltI (by omega) (by omega)).mp h) (by omega)) ?_
      refine z_iload_n X dX0_row_16 rfl 3 rfl ?_
      refine z_bipush (v := nI (40)) X dX0_row_17 (by decide) ?_
      refine z_icmp_le (tgt := 29) X dX0_row_19 (by decide) Iff.rfl (fun c6 => ?_) (fun c6 => ?_)
      · refine z_aload_n X dX0_row_29 rfl 0 rfl ?_
        refine z_get X dX0_row_30 hX.ob in_X0 rfl 2 (Nat.le_of_ble_eq_true rfl) q235 rfl ?_
        refine z_iload_n X dX0_row_33 rfl 1 rfl ?_
        refine z_aN7 (v := .ref (xa (30 + sN))) X dX0_row_34 hX.sh (by omega) (by omega) (shF_at (by omega)) ?_
        obtain ⟨v30, h30⟩ := hX.sheet (s := sN) (by omega)
        refine z_iload_n X dX0_row_35 rfl 2 rfl ?_
        refine z_iload_n X dX0_row_36 rfl 3 rfl ?_
        refine z_xa (z_runXS (rest := [.ref (xa (30 + sN))]) (n := 2) X [.int (nI (kN)), .int (n)] (m_X0_rowOf hl (k := kN) (by omega) (n := n) c6) dX0_row_37 (lw_S q354 q355 q66 q356) hs_X0_rowOf rfl ⟨Nat.le_of_ble_eq_true rfl, Nat.le_of_ble_eq_true rfl⟩ ⟨by omega, by omega⟩ rfl (Nat.le_of_ble_eq_true rfl)) (fun r7 w9 h8 => ?_) (fun E10 q11 w13 h12 => ?_)
        · have hn9 := h8
          obtain ⟨nN, nNh, rfl, hq9, rfl⟩ := h8
          have e4 := rgb_nI (lo := 0) (hi := 40) (k := nN) ⟨by omega, by omega⟩ (by decide)
          refine z_put X dX0_row_40 (gu_f hq9 h30) in_X3 tyX3 tyX3_ok nmX3 rfl 0 (Nat.le_of_ble_eq_true rfl) q229 rfl rfl rfl (Nat.le_of_ble_eq_true rfl) ?_
          obtain ⟨xa9, hk9, hX9⟩ := XT.setrow hX (s := sN) (by omega) (q := r7) (k := kN) (n := nN) (by omega) hq9
          refine z_goto (tgt := 55) X dX0_row_43 (by decide) ?_
          refine z_iconst (v := nI (1)) X dX0_row_55 ci1 ?_
          have e : spRow o (nI sN) (nI kN) (nI nN) = (nI (1), (setRow o sN kN nN)) := by
            unfold spRow
            repeat (first | rw [el_some (by assumption)] | rw [el_none (by assumption)] | rw [if_pos (by omega)] | rw [if_neg (by omega)] | rw [if_pos (by assumption)] | rw [if_neg (ts_n (by assumption))])
            all_goals first | rfl | (exfalso; omega)
          exact z_iret X dX0_row_56 (by omega) (by omega) ⟨_, rfl, (by rw [e]; exact ⟨⟨_, _, (hk9 0 (by omega) (by omega)), hX9⟩, rfl⟩)⟩
        · have hx9 := h12
          obtain ⟨rfl, e5, rfl⟩ := h12
          refine zt_catch X Y [] (29, 43, 46, 118) [] rfl zp_n rfl (by decide) q256 q321 rfl ?_
          refine z_astore (lv2 := [(4, .ref (q11)), (0, .ref (xa 0)), (1, .int (nI (sN))), (2, .int (nI (kN))), (3, .int (n))]) X dX0_row_46 (Nat.le_of_ble_eq_true rfl) rfl ?_
          refine z_aload_n X dX0_row_48 rfl 1 rfl ?_
          refine z_bipush (v := (-2)) X dX0_row_49 (by decide) ?_
          refine z_ci (z_runV (rest := []) (n := 1) X [.int ((-2))] (m_X0_no_2 hX) dX0_row_51 hX.ob rfl (lw_V q350 q352 qs2 q66 q353) hv_X0_no rfl ⟨Nat.le_of_ble_eq_true rfl, Nat.le_of_ble_eq_true rfl⟩ ⟨by omega, by omega⟩ rfl (Nat.le_of_ble_eq_true rfl)) (fun r14 w16 h15 => ?_)
          obtain ⟨r14e, hX15⟩ := h15
          rw [r14e]
          have e : spRow o (nI sN) (nI kN) n = ((-2), oRef o 2) := by
            unfold spRow
            repeat (first | rw [el_some (by assumption)] | rw [el_none (by assumption)] | rw [if_pos (by omega)] | rw [if_neg (by omega)] | rw [if_pos (by assumption)] | rw [if_neg (ts_n (by assumption))])
            all_goals first | rfl | (exfalso; omega)
          exact z_iret X dX0_row_54 (by omega) (by omega) ⟨_, rfl, (by rw [e]; exact ⟨⟨_, _, rfl, hX15⟩, rfl⟩)⟩
      · have e6 : rgb 0 40 n = none := rgb_f (fun q => c6 q.2)
        refine z_aload_n X dX0_row_22 rfl 0 rfl ?_
        refine z_bipush (v := (-2)) X dX0_row_23 (by decide) ?_
        refine z_ci (z_runV (rest := []) (n := 1) X [.int ((-2))] (m_X0_no_2 hX) dX0_row_25 hX.ob rfl (lw_V q350 q352 qs2 q66 q353) hv_X0_no rfl ⟨Nat.le_of_ble_eq_true rfl, Nat.le_of_ble_eq_true rfl⟩ ⟨by omega, by omega⟩ rfl (Nat.le_of_ble_eq_true rfl)) (fun r17 w19 h18 => ?_)
        obtain ⟨r17e, hX18⟩ := h18
        rw [r17e]
        have e : spRow o (nI sN) (nI kN) n = ((-2), oRef o 2) := by
          unfold spRow
          repeat (first | rw [el_some (by assumption)] | rw [el_none (by assumption)] | rw [if_pos (by omega)] | rw [if_neg (by omega)] | rw [if_pos (by assumption)] | rw [if_neg (ts_n (by assumption))])
          all_goals first | rfl | (exfalso; omega)
        exact z_iret X dX0_row_28 (by omega) (by omega) ⟨_, rfl, (by rw [e]; exact ⟨⟨_, _, rfl, hX18⟩, rfl⟩)⟩
    · have e3 : rgb 0 4 k = none := rgb_f c5
      refine z_iload_n X dX0_row_7 rfl 2 rfl ?_
      refine z_if_lt (tgt := 22) X dX0_row_8 (by decide) Iff.rfl (fun c20 => ?_) (fun c20 => ?_)
      · refine z_aload_n X dX0_row_22 rfl 0 rfl ?_
        refine z_bipush (v := (-2)) X dX0_row_23 (by decide) ?_
        refine z_ci (z_runV (rest := []) (n := 1) X [.int ((-2))] (m_X0_no_2 hX) dX0_row_25 hX.ob rfl (lw_V q350 q352 qs2 q66 q353) hv_X0_no rfl ⟨Nat.le_of_ble_eq_true rfl, Nat.le_of_ble_eq_true rfl⟩ ⟨by omega, by omega⟩ rfl (Nat.le_of_ble_eq_true rfl)) (fun r21 w23 h22 => ?_)
        obtain ⟨r21e, hX22⟩ := h22
        rw [r21e]
        have e : spRow o (nI sN) k n = ((-2), oRef o 2) := by
          unfold spRow
          repeat (first | rw [el_some (by assumption)] | rw [el_none (by assumption)] | rw [if_pos (by omega)] | rw [if_neg (by omega)] | rw [if_pos (by assumption)] | rw [if_neg (ts_n (by assumption))])
          all_goals first | rfl | (exfalso; omega)
        exact z_iret X dX0_row_28 (by omega) (by omega) ⟨_, rfl, (by rw [e]; exact ⟨⟨_, _, rfl, hX22⟩, rfl⟩)⟩
      · refine z_iload_n X dX0_row_11 rfl 2 rfl ?_
        refine z_iconst (v := nI (4)) X dX0_row_12 ci4 ?_
        refine z_icmp_gt_t (tgt := 22) X dX0_row_13 (by decide) (Int32.not_le.mp (fun h => c5 ⟨Int32.not_lt.mp c20, h⟩)) ?_
        refine z_aload_n X dX0_row_22 rfl 0 rfl ?_
        refine z_bipush (v := (-2)) X dX0_row_23 (by decide) ?_
        refine z_ci (z_runV (rest := []) (n := 1) X [.int ((-2))] (m_X0_no_2 hX) dX0_row_25 hX.ob rfl (lw_V q350 q352 qs2 q66 q353) hv_X0_no rfl ⟨Nat.le_of_ble_eq_true rfl, Nat.le_of_ble_eq_true rfl⟩ ⟨by omega, by omega⟩ rfl (Nat.le_of_ble_eq_true rfl)) (fun r24 w26 h25 => ?_)
        obtain ⟨r24e, hX25⟩ := h25
        rw [r24e]
        have e : spRow o (nI sN) k n = ((-2), oRef o 2) := by
          unfold spRow
          repeat (first | rw [el_some (by assumption)] | rw [el_none (by assumption)] | rw [if_pos (by omega)] | rw [if_neg (by omega)] | rw [if_pos (by assumption)] | rw [if_neg (ts_n (by assumption))])
          all_goals first | rfl | (exfalso; omega)
        exact z_iret X dX0_row_28 (by omega) (by omega) ⟨_, rfl, (by rw [e]; exact ⟨⟨_, _, rfl, hX25⟩, rfl⟩)⟩
set_option maxHeartbeats 2000000 in
theorem x_rule {l : Launch} {G : GG} {w : GW} {xa : Nat → Nat} {rr : Option Nat} {o : OS} {im : IM} (hX : XT G w xa rr o im) (hO : oInv o) {s k a : Int32} : gM l G yX0_rule cX0_rule 4 (some .int) 20 2 127 [.ref (xa 0), .int (s), .int (k), .int (a)] w (pI (fun r w1 => XE G (xa 0) w1 (spRule o s k a).2 im ∧ r = (spRule o s k a).1)) := by
  refine Z.met (own := "ThreeSizes") (nm := "rule") (lv := [(0, .ref (xa 0)), (1, .int (s)), (2, .int (k)), (3, .int (a))]) (by decide) rfl rfl (Nat.le_of_ble_eq_true rfl) rfl (fun κ X => ?_)
  have hI := hO.1
  have h6 := hI.2.1
  have ht200 := hO.2.2.2
  refine z_iload_n X dX0_rule_0 rfl 1 rfl ?_
  refine z_cip (z_runS (rest := []) (n := 1) X [.int (s)] (m_X0_isShelf (v := s)) dX0_rule_1 (lw_S q344 q345 q66 q346) hs_X0_isShelf rfl ⟨Nat.le_of_ble_eq_true rfl, Nat.le_of_ble_eq_true rfl⟩ ⟨by omega, by omega⟩ rfl (Nat.le_of_ble_eq_true rfl)) ?_
  refine z_if_eq (tgt := 27) X dX0_rule_4 (by decide) bI_d (fun c1 => ?_) (fun c1 => ?_)
  · have e1 : rgb 0 7 s = none := rgb_f c1
    refine z_aload_n X dX0_rule_27 rfl 0 rfl ?_
    refine z_bipush (v := (-2)) X dX0_rule_28 (by decide) ?_
    refine z_ci (z_runV (rest := []) (n := 1) X [.int ((-2))] (m_X0_no_2 hX) dX0_rule_30 hX.ob rfl (lw_V q350 q352 qs2 q66 q353) hv_X0_no rfl ⟨Nat.le_of_ble_eq_true rfl, Nat.le_of_ble_eq_true rfl⟩ ⟨by omega, by omega⟩ rfl (Nat.le_of_ble_eq_true rfl)) (fun r2 w4 h3 => ?_)
    obtain ⟨r2e, hX3⟩ := h3
    rw [r2e]
    have e : spRule o s k a = ((-2), oRef o 2) := by
      unfold spRule
      repeat (first | rw [el_some (by assumption)] | rw [el_none (by assumption)] | rw [if_pos (by omega)] | rw [if_neg (by omega)] | rw [if_pos (by assumption)] | rw [if_neg (ts_n (by assumption))])
      all_goals first | rfl | (exfalso; omega)
    exact z_iret X dX0_rule_33 (by omega) (by omega) ⟨_, rfl, (by rw [e]; exact ⟨⟨_, _, rfl, hX3⟩, rfl⟩)⟩
  · have c1 := Classical.not_not.mp c1
    obtain ⟨sN, sNl, sNh, rfl, e2⟩ := rgb_t (lo := 0) (hi := 7) (by decide) (by decide) (c1)
    refine z_iload_n X dX0_rule_7 rfl 2 rfl ?_
    refine z_iconst (v := nI (1)) X dX0_rule_8 ci1 ?_
    refine z_bipush (v := nI (6)) X dX0_rule_9 (by decide) ?_
    refine z_cip (z_runS (rest := []) (n := 3) X [.int (k), .int (nI (1)), .int (nI (6))] m_X0_isIn dX0_rule_11 (lw_S q347 q348 q66 q349) hs_X0_isIn rfl ⟨Nat.le_of_ble_eq_true rfl, Nat.le_of_ble_eq_true rfl⟩ ⟨by omega, by omega⟩ rfl (Nat.le_of_ble_eq_true rfl)) ?_
    refine z_if_eq (tgt := 27) X dX0_rule_14 (by decide) bI_d (fun c5 => ?_) (fun c5 => ?_)
    · have e3 : rgb 1 6 k = none := rgb_f c5
      refine z_aload_n X dX0_rule_27 rfl 0 rfl ?_
      refine z_bipush (v := (-2)) X dX0_rule_28 (by decide) ?_
      refine z_ci (z_runV (rest := []) (n := 1) X [.int ((-2))] (m_X0_no_2 hX) dX0_rule_30 hX.ob rfl (lw_V q350 q352 qs2 q66 q353) hv_X0_no rfl ⟨Nat.le_of_ble_eq_true rfl, Nat.le_of_ble_eq_true rfl⟩ ⟨by omega, by omega⟩ rfl (Nat.le_of_ble_eq_true rfl)) (fun r6 w8 h7 => ?_)
      obtain ⟨r6e, hX7⟩ := h7
      rw [r6e]
      have e : spRule o (nI sN) k a = ((-2), oRef o 2) := by
        unfold spRule
        repeat (first | rw [el_some (by assumption)] | rw [el_none (by assumption)] | rw [if_pos (by omega)] | rw [if_neg (by omega)] | rw [if_pos (by assumption)] | rw [if_neg (ts_n (by assumption))])
        all_goals first | rfl | (exfalso; omega)
      exact z_iret X dX0_rule_33 (by omega) (by omega) ⟨_, rfl, (by rw [e]; exact ⟨⟨_, _, rfl, hX7⟩, rfl⟩)⟩
    · have c5 := Classical.not_not.mp c5
      obtain ⟨kN, kNl, kNh, rfl, e4⟩ := rgb_t (lo := 1) (hi := 6) (by decide) (by decide) (c5)
      refine z_iload_n X dX0_rule_17 rfl 3 rfl ?_
      refine z_iconst (v := nI (0)) X dX0_rule_18 ci0 ?_
      refine z_bipush (v := nI (99)) X dX0_rule_19 (by decide) ?_
      refine z_cip (z_runS (rest := []) (n := 3) X [.int (a), .int (nI (0)), .int (nI (99))] m_X0_isIn dX0_rule_21 (lw_S q347 q348 q66 q349) hs_X0_isIn rfl ⟨Nat.le_of_ble_eq_true rfl, Nat.le_of_ble_eq_true rfl⟩ ⟨by omega, by omega⟩ rfl (Nat.le_of_ble_eq_true rfl)) ?_
      refine z_if_ne (tgt := 34) X dX0_rule_24 (by decide) bI_d (fun c9 => ?_) (fun c9 => ?_)
      · have c9 := Classical.not_not.mp c9
        obtain ⟨aN, aNl, aNh, rfl, e5⟩ := rgb_t (lo := 0) (hi := 99) (by decide) (by decide) (c9)
        refine z_aload_n X dX0_rule_34 rfl 0 rfl ?_
        refine z_get X dX0_rule_35 hX.ob in_X0 rfl 2 (Nat.le_of_ble_eq_true rfl) q235 rfl ?_
        refine z_iload_n X dX0_rule_38 rfl 1 rfl ?_
        refine z_aN7 (v := .ref (xa (30 + sN))) X dX0_rule_39 hX.sh (by omega) (by omega) (shF_at (by omega)) ?_
        obtain ⟨v30, h30⟩ := hX.sheet (s := sN) (by omega)
        refine z_iload_n X dX0_rule_40 rfl 2 rfl ?_
        refine z_iload_n X dX0_rule_41 rfl 3 rfl ?_
        refine z_ca (z_runS (rest := [.ref (xa (30 + sN))]) (n := 2) X [.int (nI (kN)), .int (nI (aN))] (m_X0_ruleOf (kd := kN) (ra := aN) (by omega)) dX0_rule_42 (lw_S q509 q510 q66 q511) hs_X0_ruleOf rfl ⟨Nat.le_of_ble_eq_true rfl, Nat.le_of_ble_eq_true rfl⟩ ⟨by omega, by omega⟩ rfl (Nat.le_of_ble_eq_true rfl)) (fun r10 w12 h11 => ?_)
        obtain ⟨hm9, hq9⟩ := h11
        have hm9c := hm9
        obtain ⟨tq9, m1, m2, m3⟩ := hm9c
        refine z_put X dX0_rule_45 (m3 _ _ (fun z => by rw [← z, h30] at hq9; cases hq9) h30) in_X3 tyX3 tyX3_ok nmX3 rfl 0 (Nat.le_of_ble_eq_true rfl) q229 rfl rfl rfl (Nat.le_of_ble_eq_true rfl) ?_
        obtain ⟨xa9, hk9, hX9⟩ := XT.setrule hX (s := sN) (by omega) hm9 hq9
        refine z_iconst (v := nI (1)) X dX0_rule_48 ci1 ?_
        have e : spRule o (nI sN) (nI kN) (nI aN) = (nI (1), (setRule o sN kN aN)) := by
          unfold spRule
          repeat (first | rw [el_some (by assumption)] | rw [el_none (by assumption)] | rw [if_pos (by omega)] | rw [if_neg (by omega)] | rw [if_pos (by assumption)] | rw [if_neg (ts_n (by assumption))])
          all_goals first | rfl | (exfalso; omega)
        exact z_iret X dX0_rule_49 (by omega) (by omega) ⟨_, rfl, (by rw [e]; exact ⟨⟨_, _, (hk9 0 (by omega) (by omega)), hX9⟩, rfl⟩)⟩
      · have e6 : rgb 0 99 a = none := rgb_f c9
        refine z_aload_n X dX0_rule_27 rfl 0 rfl ?_
        refine z_bipush (v := (-2)) X dX0_rule_28 (by decide) ?_
        refine z_ci (z_runV (rest := []) (n := 1) X [.int ((-2))] (m_X0_no_2 hX) dX0_rule_30 hX.ob rfl (lw_V q350 q352 qs2 q66 q353) hv_X0_no rfl ⟨Nat.le_of_ble_eq_true rfl, Nat.le_of_ble_eq_true rfl⟩ ⟨by omega, by omega⟩ rfl (Nat.le_of_ble_eq_true rfl)) (fun r13 w15 h14 => ?_)
        obtain ⟨r13e, hX14⟩ := h14
        rw [r13e]
        have e : spRule o (nI sN) (nI kN) a = ((-2), oRef o 2) := by
          unfold spRule
          repeat (first | rw [el_some (by assumption)] | rw [el_none (by assumption)] | rw [if_pos (by omega)] | rw [if_neg (by omega)] | rw [if_pos (by assumption)] | rw [if_neg (ts_n (by assumption))])
          all_goals first | rfl | (exfalso; omega)
        exact z_iret X dX0_rule_33 (by omega) (by omega) ⟨_, rfl, (by rw [e]; exact ⟨⟨_, _, rfl, hX14⟩, rfl⟩)⟩
