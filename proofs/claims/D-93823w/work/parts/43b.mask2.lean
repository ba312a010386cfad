/-! THE MODEL: what is asked of rules and values, second -/
set_option maxRecDepth 100000
set_option maxHeartbeats 2000000 in
theorem m_X4_now {l : Launch} {G : GG} {wb w : GW} {ad : Nat → Nat} {m : MSt} (hM : MM G wb w ad m) {o : OS} (hT : MT o m) (hO : oInv o) {k n : Int32} : gM l G yX4_now cX4_now 3 (some .int) 7 0 0 [.ref (ad 0), .int (k), .int (n)] w (pI (fun r w1 => ∃ m2, MM G wb w1 ad m2 ∧ MT (spNow o k n).2 m2 ∧ r = (spNow o k n).1)) := by
  refine Z.met (own := "ThreeSizesModel") (nm := "now") (lv := [(0, .ref (ad 0)), (1, .int (k)), (2, .int (n))]) (by decide) rfl rfl (Nat.le_of_ble_eq_true rfl) rfl (fun κ X => ?_)
  have hI := hO.1
  have h6 := hI.2.1
  have ht200 := hO.2.2.2
  have hst := stOf_lt hI
  refine z_aload_n X dX4_now_0 rfl 0 rfl ?_
  refine z_iload_n X dX4_now_1 rfl 1 rfl ?_
  refine z_i2l (v := (k).toInt64) X dX4_now_2 rfl ?_
  refine z_cip (z_runV (rest := []) (n := 1) X [.long ((k).toInt64)] (m_X4_isSortI hM hT.1 hI (v := k)) dX4_now_3 (mm_o hM) rfl (lw_V q1672 q1674 qs42 q70 q1675) hv_X4_isSort rfl ⟨Nat.le_of_ble_eq_true rfl, Nat.le_of_ble_eq_true rfl⟩ ⟨by omega, by omega⟩ rfl (Nat.le_of_ble_eq_true rfl)) ?_
  refine z_if_eq (tgt := 16) X dX4_now_6 (by decide) bI_d (fun c1 => ?_) (fun c1 => ?_)
  · have e1 : rgn (o.1.2 0) k = none := rgn_f c1
    refine z_aload_n X dX4_now_16 rfl 0 rfl ?_
    refine z_bipush (v := (-2)) X dX4_now_17 (by decide) ?_
    refine z_ci (z_runV (rest := []) (n := 1) X [.int ((-2))] (m_X4_refuse hM (k := 2) (by decide) (v := (-2)) rfl) dX4_now_19 (mm_o hM) rfl (lw_V q1546 q1548 qs27 q70 q1549) hv_X4_refuse rfl ⟨Nat.le_of_ble_eq_true rfl, Nat.le_of_ble_eq_true rfl⟩ ⟨by omega, by omega⟩ rfl (Nat.le_of_ble_eq_true rfl)) (fun r2 w4 h3 => ?_)
    obtain ⟨hM3, r2e⟩ := h3
    rw [r2e]
    have hT3 := MT.ref hT (k := 2) (by decide)
    have e : spNow o k n = ((-2), oRef o 2) := by
      unfold spNow
      repeat (first | rw [el_some (by assumption)] | rw [el_none (by assumption)] | rw [if_pos (by omega)] | rw [if_neg (by omega)] | rw [if_pos (by assumption)] | rw [if_neg (ts_n (by assumption))])
      all_goals first | rfl | (exfalso; omega)
    exact z_iret X dX4_now_22 (by omega) (by omega) ⟨_, rfl, (by rw [e]; exact ⟨_, hM3, hT3, rfl⟩)⟩
  · have c1 := Classical.not_not.mp c1
    obtain ⟨kN, kNh, rfl, e2⟩ := rgn_t (n := o.1.2 0) (by omega) c1
    refine z_iload_n X dX4_now_9 rfl 2 rfl ?_
    refine z_cip (z_runS (rest := []) (n := 1) X [.int (n)] (m_X4_areHours (v := n)) dX4_now_10 (lw_S q1797 q1798 q70 q1799) hs_X4_areHours rfl ⟨Nat.le_of_ble_eq_true rfl, Nat.le_of_ble_eq_true rfl⟩ ⟨by omega, by omega⟩ rfl (Nat.le_of_ble_eq_true rfl)) ?_
    refine z_if_ne (tgt := 23) X dX4_now_13 (by decide) bI_d (fun c5 => ?_) (fun c5 => ?_)
    · have c5 := Classical.not_not.mp c5
      obtain ⟨nN, nNl, nNh, rfl, e3⟩ := rgb_t (lo := 0) (hi := 24) (by decide) (by decide) (c5)
      refine z_aload_n X dX4_now_23 rfl 0 rfl ?_
      refine z_iload_n X dX4_now_24 rfl 2 rfl ?_
      refine z_iconst (v := nI (0)) X dX4_now_25 ci0 ?_
      refine z_iconst (v := nI (0)) X dX4_now_26 ci0 ?_
      refine z_iconst (v := -1) X dX4_now_27 cim1 ?_
      refine z_cv (z_runV (rest := []) (n := 4) X [.int (nI (nN)), .int (nI (0)), .int (nI (0)), .int (-1)] (m_X4_solve hM hT.1 hI (n := nN) (kd := 0) (a := 0) (by omega) (by omega) (by omega) (T := wiseT o.1 0) (fun h => by cases h) (lt := none) (fun y h => by cases h)) dX4_now_28 (mm_o hM) rfl (lw_V q1600 q1602 qs31 q70 q1603) hv_X4_solve rfl ⟨Nat.le_of_ble_eq_true rfl, Nat.le_of_ble_eq_true rfl⟩ ⟨by omega, by omega⟩ rfl (Nat.le_of_ble_eq_true rfl)) (fun w8 h7 => ?_)
      obtain ⟨mv7, hM7, hQ7⟩ := h7
      have hT7 := MT.KM hT (KM.of hQ7.2.1 hQ7.1)
      refine z_aload_n X dX4_now_31 rfl 0 rfl ?_
      refine z_iload_n X dX4_now_32 rfl 1 rfl ?_
      refine z_aload_n X dX4_now_33 rfl 0 rfl ?_
      refine z_cip (z_runV (rest := [.int (nI (kN)), .ref (ad 0)]) (n := 0) X [] (m_X4_stateNow hM7 hT7.1 hI) dX4_now_34 (mm_o hM7) rfl (lw_V q1585 q1587 qs28 q70 q1588) hv_X4_stateNow rfl ⟨Nat.le_of_ble_eq_true rfl, Nat.le_of_ble_eq_true rfl⟩ ⟨by omega, by omega⟩ rfl (Nat.le_of_ble_eq_true rfl)) ?_
      refine z_aload_n X dX4_now_37 rfl 0 rfl ?_
      refine z_mg28 X hM7 dX4_now_38 ?_
      refine z_iload_n X dX4_now_41 rfl 2 rfl ?_
      refine z_aN6 (v := .ref (ad (70 + nN))) X dX4_now_42 (mm_29 hM7) (by omega) (by omega) rfl ?_
      have hbf : bestO o.1 kN (stOf o.1) (mv7.2.1 (70 + nN)) = bestO o.1 kN (stOf o.1) (fun j => vals o.1 (rBest o.1) nN j) := bestTo_congr (fun j hj => (hQ7.2.2 nN (Nat.le_refl _) j hj).trans valsL_0) (by omega) 3
      refine z_cip (z_runV (rest := []) (n := 3) X [.int (nI (kN)), .int (nI (stOf o.1)), .ref (ad (70 + nN))] (m_X4_bestFor hM7 hT7.1 hI (ix := kN) (st := stOf o.1) (by omega) (by omega) (mmr_70 hM7 (by omega))) dX4_now_43 (mm_o hM7) rfl (lw_V q1620 q1622 qs35 q70 q1623) hv_X4_bestFor rfl ⟨Nat.le_of_ble_eq_true rfl, Nat.le_of_ble_eq_true rfl⟩ ⟨by omega, by omega⟩ rfl (Nat.le_of_ble_eq_true rfl)) ?_
      rw [hbf]
      have e : spNow o (nI kN) (nI nN) = (oI (bestO o.1 kN (stOf o.1) (fun j => vals o.1 (rBest o.1) nN j)), o) := by
        unfold spNow
        repeat (first | rw [el_some (by assumption)] | rw [el_none (by assumption)] | rw [if_pos (by omega)] | rw [if_neg (by omega)] | rw [if_pos (by assumption)] | rw [if_neg (ts_n (by assumption))])
        all_goals first | rfl | (exfalso; omega)
      exact z_iret X dX4_now_46 (by omega) (by omega) ⟨_, rfl, (by rw [e]; exact ⟨_, hM7, hT7, rfl⟩)⟩
    · have e4 : rgb 0 24 n = none := rgb_f c5
      refine z_aload_n X dX4_now_16 rfl 0 rfl ?_
      refine z_bipush (v := (-2)) X dX4_now_17 (by decide) ?_
      refine z_ci (z_runV (rest := []) (n := 1) X [.int ((-2))] (m_X4_refuse hM (k := 2) (by decide) (v := (-2)) rfl) dX4_now_19 (mm_o hM) rfl (lw_V q1546 q1548 qs27 q70 q1549) hv_X4_refuse rfl ⟨Nat.le_of_ble_eq_true rfl, Nat.le_of_ble_eq_true rfl⟩ ⟨by omega, by omega⟩ rfl (Nat.le_of_ble_eq_true rfl)) (fun r9 w11 h10 => ?_)
      obtain ⟨hM10, r9e⟩ := h10
      rw [r9e]
      have hT10 := MT.ref hT (k := 2) (by decide)
      have e : spNow o (nI kN) n = ((-2), oRef o 2) := by
        unfold spNow
        repeat (first | rw [el_some (by assumption)] | rw [el_none (by assumption)] | rw [if_pos (by omega)] | rw [if_neg (by omega)] | rw [if_pos (by assumption)] | rw [if_neg (ts_n (by assumption))])
        all_goals first | rfl | (exfalso; omega)
      exact z_iret X dX4_now_22 (by omega) (by omega) ⟨_, rfl, (by rw [e]; exact ⟨_, hM10, hT10, rfl⟩)⟩
set_option maxHeartbeats 2000000 in
theorem m_X4_gets {l : Launch} {G : GG} {wb w : GW} {ad : Nat → Nat} {m : MSt} (hM : MM G wb w ad m) {o : OS} (hT : MT o m) (hO : oInv o) {s k st : Int32} : gM l G yX4_gets cX4_gets 5 (some .int) 9 0 0 [.ref (ad 0), .int (s), .int (k), .int (st)] w (pI (fun r w1 => ∃ m2, MM G wb w1 ad m2 ∧ MT (spGets o s k st).2 m2 ∧ r = (spGets o s k st).1)) := by
  refine Z.met (own := "ThreeSizesModel") (nm := "gets") (lv := [(0, .ref (ad 0)), (1, .int (s)), (2, .int (k)), (3, .int (st))]) (by decide) rfl rfl (Nat.le_of_ble_eq_true rfl) rfl (fun κ X => ?_)
  have hI := hO.1
  have h6 := hI.2.1
  have ht200 := hO.2.2.2
  refine z_iload_n X dX4_gets_0 rfl 1 rfl ?_
  refine z_i2l (v := (s).toInt64) X dX4_gets_1 rfl ?_
  refine z_lconst (v := lN 0) X dX4_gets_2 cl0 ?_
  refine z_ldc2 X dX4_gets_3 q1540 ?_
  refine z_cip (z_runS (rest := []) (n := 3) X [.long ((s).toInt64), .long (lN (0)), .long ((7))] m_X4_in dX4_gets_6 (lw_S q1541 q1542 q70 q1543) hs_X4_in rfl ⟨Nat.le_of_ble_eq_true rfl, Nat.le_of_ble_eq_true rfl⟩ ⟨by omega, by omega⟩ rfl (Nat.le_of_ble_eq_true rfl)) ?_
  refine z_if_eq (tgt := 29) X dX4_gets_9 (by decide) bI_d (fun c1 => ?_) (fun c1 => ?_)
  · have e1 : rgb 0 7 s = none := rgb_f (fun q => c1 ((in32 (lo := nI 0) (hi := nI 7)).mpr q))
    refine z_aload_n X dX4_gets_29 rfl 0 rfl ?_
    refine z_bipush (v := (-2)) X dX4_gets_30 (by decide) ?_
    refine z_ci (z_runV (rest := []) (n := 1) X [.int ((-2))] (m_X4_refuse hM (k := 2) (by decide) (v := (-2)) rfl) dX4_gets_32 (mm_o hM) rfl (lw_V q1546 q1548 qs27 q70 q1549) hv_X4_refuse rfl ⟨Nat.le_of_ble_eq_true rfl, Nat.le_of_ble_eq_true rfl⟩ ⟨by omega, by omega⟩ rfl (Nat.le_of_ble_eq_true rfl)) (fun r2 w4 h3 => ?_)
    obtain ⟨hM3, r2e⟩ := h3
    rw [r2e]
    have hT3 := MT.ref hT (k := 2) (by decide)
    have e : spGets o s k st = ((-2), oRef o 2) := by
      unfold spGets
      repeat (first | rw [el_some (by assumption)] | rw [el_none (by assumption)] | rw [if_pos (by omega)] | rw [if_neg (by omega)] | rw [if_pos (by assumption)] | rw [if_neg (ts_n (by assumption))])
      all_goals first | rfl | (exfalso; omega)
    exact z_iret X dX4_gets_35 (by omega) (by omega) ⟨_, rfl, (by rw [e]; exact ⟨_, hM3, hT3, rfl⟩)⟩
  · have c1 := Classical.not_not.mp c1
    obtain ⟨sN, sNl, sNh, rfl, e2⟩ := rgb_t (lo := 0) (hi := 7) (by decide) (by decide) ((in32 (lo := nI 0) (hi := nI 7)).mp c1)
    have hqs := hO.2.1 sN (by omega)
    refine z_aload_n X dX4_gets_12 rfl 0 rfl ?_
    refine z_iload_n X dX4_gets_13 rfl 2 rfl ?_
    refine z_i2l (v := (k).toInt64) X dX4_gets_14 rfl ?_
    refine z_cip (z_runV (rest := []) (n := 1) X [.long ((k).toInt64)] (m_X4_isSortI hM hT.1 hI (v := k)) dX4_gets_15 (mm_o hM) rfl (lw_V q1672 q1674 qs42 q70 q1675) hv_X4_isSort rfl ⟨Nat.le_of_ble_eq_true rfl, Nat.le_of_ble_eq_true rfl⟩ ⟨by omega, by omega⟩ rfl (Nat.le_of_ble_eq_true rfl)) ?_
    refine z_if_eq (tgt := 29) X dX4_gets_18 (by decide) bI_d (fun c5 => ?_) (fun c5 => ?_)
    · have e3 : rgn (o.1.2 0) k = none := rgn_f c5
      refine z_aload_n X dX4_gets_29 rfl 0 rfl ?_
      refine z_bipush (v := (-2)) X dX4_gets_30 (by decide) ?_
      refine z_ci (z_runV (rest := []) (n := 1) X [.int ((-2))] (m_X4_refuse hM (k := 2) (by decide) (v := (-2)) rfl) dX4_gets_32 (mm_o hM) rfl (lw_V q1546 q1548 qs27 q70 q1549) hv_X4_refuse rfl ⟨Nat.le_of_ble_eq_true rfl, Nat.le_of_ble_eq_true rfl⟩ ⟨by omega, by omega⟩ rfl (Nat.le_of_ble_eq_true rfl)) (fun r6 w8 h7 => ?_)
      obtain ⟨hM7, r6e⟩ := h7
      rw [r6e]
      have hT7 := MT.ref hT (k := 2) (by decide)
      have e : spGets o (nI sN) k st = ((-2), oRef o 2) := by
        unfold spGets
        repeat (first | rw [el_some (by assumption)] | rw [el_none (by assumption)] | rw [if_pos (by omega)] | rw [if_neg (by omega)] | rw [if_pos (by assumption)] | rw [if_neg (ts_n (by assumption))])
        all_goals first | rfl | (exfalso; omega)
      exact z_iret X dX4_gets_35 (by omega) (by omega) ⟨_, rfl, (by rw [e]; exact ⟨_, hM7, hT7, rfl⟩)⟩
    · have c5 := Classical.not_not.mp c5
      obtain ⟨kN, kNh, rfl, e4⟩ := rgn_t (n := o.1.2 0) (by omega) c5
      by_cases c9 : nI 0 ≤ st ∧ st ≤ nI 124
      · obtain ⟨stN, stNl, stNh, rfl, e5⟩ := rgb_t (lo := 0) (hi := 124) (by decide) (by decide) c9
        refine z_aload_n X dX4_gets_21 rfl 0 rfl ?_
        refine z_iload_n X dX4_gets_22 rfl 3 rfl ?_
        refine z_cip (z_runV (rest := []) (n := 1) X [.int (nI (stN))] (m_X4_isState hM hT.1 hI (st := stN) (by omega)) dX4_gets_23 (mm_o hM) rfl (lw_V q1604 q1606 qs32 q70 q1607) hv_X4_isState rfl ⟨Nat.le_of_ble_eq_true rfl, Nat.le_of_ble_eq_true rfl⟩ ⟨by omega, by omega⟩ rfl (Nat.le_of_ble_eq_true rfl)) ?_
        refine z_if_ne (tgt := 36) X dX4_gets_26 (by decide) bI_0 (fun c10 => ?_) (fun c10 => ?_)
        · have c10 := ts_t c10
          refine z_aload_n X dX4_gets_36 rfl 0 rfl ?_
          refine z_iload_n X dX4_gets_37 rfl 1 rfl ?_
          refine z_ci (z_runV (rest := []) (n := 1) X [.int (nI (sN))] (m_X4_noRule hM hT hO (s := nI (sN))) dX4_gets_38 (mm_o hM) rfl (lw_V q1785 q1787 qs53 q70 q1788) hv_X4_noRule rfl ⟨Nat.le_of_ble_eq_true rfl, Nat.le_of_ble_eq_true rfl⟩ ⟨by omega, by omega⟩ rfl (Nat.le_of_ble_eq_true rfl)) (fun r11 w13 h12 => ?_)
          obtain ⟨mv12, hM12, hQ12⟩ := h12
          rcases hQ12 with ⟨e6, rfl, hTn12⟩ | ⟨k15, k15h, k15e, e7, (⟨q14, rfl, hTn12⟩ | ⟨q14, rfl, hTn12⟩ | ⟨q14, rfl, hTn12⟩)⟩
          · exact absurd (rgb_nI (lo := 0) (hi := 7) (k := sN) (by omega) (by decide)) (by rw [e6]; exact fun h => by cases h)
          · obtain rfl : sN = k15 := (nI_eq (by omega) (by omega)).mp k15e
            refine z_istore (lv2 := [(4, .int ((-3))), (0, .ref (ad 0)), (1, .int (nI (sN))), (2, .int (nI (kN))), (3, .int (nI (stN)))]) X dX4_gets_41 (Nat.le_of_ble_eq_true rfl) rfl ?_
            refine z_iload X dX4_gets_43 0 rfl ?_
            refine z_if_eq_f (tgt := 53) X dX4_gets_45 (by decide) (by decide) ?_
            refine z_iload X dX4_gets_48 0 rfl ?_
            refine z_goto (tgt := 71) X dX4_gets_50 (by decide) ?_
            have e : spGets o (nI sN) (nI kN) (nI stN) = ((-3), oRef o 3) := by
              unfold spGets
              repeat (first | rw [el_some (by assumption)] | rw [el_none (by assumption)] | rw [if_pos (by omega)] | rw [if_neg (by omega)] | rw [if_pos (by assumption)] | rw [if_neg (ts_n (by assumption))])
              all_goals first | rfl | (exfalso; omega)
            exact z_iret X dX4_gets_71 (by omega) (by omega) ⟨_, rfl, (by rw [e]; exact ⟨_, hM12, hTn12, rfl⟩)⟩
          · obtain rfl : sN = k15 := (nI_eq (by omega) (by omega)).mp k15e
            refine z_istore (lv2 := [(4, .int ((-4))), (0, .ref (ad 0)), (1, .int (nI (sN))), (2, .int (nI (kN))), (3, .int (nI (stN)))]) X dX4_gets_41 (Nat.le_of_ble_eq_true rfl) rfl ?_
            refine z_iload X dX4_gets_43 0 rfl ?_
            refine z_if_eq_f (tgt := 53) X dX4_gets_45 (by decide) (by decide) ?_
            refine z_iload X dX4_gets_48 0 rfl ?_
            refine z_goto (tgt := 71) X dX4_gets_50 (by decide) ?_
            have e : spGets o (nI sN) (nI kN) (nI stN) = ((-4), oRef o 4) := by
              unfold spGets
              repeat (first | rw [el_some (by assumption)] | rw [el_none (by assumption)] | rw [if_pos (by omega)] | rw [if_neg (by omega)] | rw [if_pos (by assumption)] | rw [if_neg (ts_n (by assumption))])
              all_goals first | rfl | (exfalso; omega)
            exact z_iret X dX4_gets_71 (by omega) (by omega) ⟨_, rfl, (by rw [e]; exact ⟨_, hM12, hTn12, rfl⟩)⟩
          · obtain rfl : sN = k15 := (nI_eq (by omega) (by omega)).mp k15e
            refine z_istore (lv2 := [(4, .int (nI (0))), (0, .ref (ad 0)), (1, .int (nI (sN))), (2, .int (nI (kN))), (3, .int (nI (stN)))]) X dX4_gets_41 (Nat.le_of_ble_eq_true rfl) rfl ?_
            refine z_iload X dX4_gets_43 0 rfl ?_
            refine z_if_eq_t (tgt := 53) X dX4_gets_45 (by decide) (by decide) ?_
            refine z_aload_n X dX4_gets_53 rfl 1 rfl ?_
            refine z_aload_n X dX4_gets_54 rfl 1 rfl ?_
            refine z_mg5 X hM12 dX4_gets_55 ?_
            refine z_iload_n X dX4_gets_58 rfl 2 rfl ?_
            refine z_iaN (v := nI (o.2.2.2.1 3 sN)) X dX4_gets_59 (mm_6 hM12) (by omega) (by omega) ((hTn12.2.2.2.1 sN (by omega)).2.2.2.1) ?_
            refine z_aload_n X dX4_gets_60 rfl 1 rfl ?_
            refine z_mg6 X hM12 dX4_gets_61 ?_
            refine z_iload_n X dX4_gets_64 rfl 2 rfl ?_
            refine z_iaN (v := nI (o.2.2.2.1 4 sN)) X dX4_gets_65 (mm_7 hM12) (by omega) (by omega) ((hTn12.2.2.2.1 sN (by omega)).2.2.2.2) ?_
            refine z_iload_n X dX4_gets_66 rfl 3 rfl ?_
            refine z_iload_n X dX4_gets_67 rfl 4 rfl ?_
            refine z_ci (z_runV (rest := []) (n := 4) X [.int (nI (o.2.2.2.1 3 sN)), .int (nI (o.2.2.2.1 4 sN)), .int (nI (kN)), .int (nI (stN))] (m_X4_gives hM12 hTn12.1 hI (a := o.2.2.2.1 4 sN) (by omega) (ix := kN) (st := stN) (by omega) (isSt_iff.mp (by assumption)) (kd := o.2.2.2.1 3 sN) (by omega)) dX4_gets_68 (mm_o hM12) rfl (lw_V q1592 q1594 qs29 q70 q1595) hv_X4_gives rfl ⟨Nat.le_of_ble_eq_true rfl, Nat.le_of_ble_eq_true rfl⟩ ⟨by omega, by omega⟩ rfl (Nat.le_of_ble_eq_true rfl)) (fun r16 w18 h17 => ?_)
            obtain ⟨mv17, hM17, hQ17, r16e⟩ := h17
            rw [r16e]
            have hT17 := MT.KM hTn12 hQ17
            have e : spGets o (nI sN) (nI kN) (nI stN) = (oI (rget o.1 (o.2.2.2.1 3 sN) (o.2.2.2.1 4 sN) (wiseT o.1 (o.2.2.2.1 4 sN)) kN stN), o) := by
              unfold spGets
              repeat (first | rw [el_some (by assumption)] | rw [el_none (by assumption)] | rw [if_pos (by omega)] | rw [if_neg (by omega)] | rw [if_pos (by assumption)] | rw [if_neg (ts_n (by assumption))])
              all_goals first | rfl | (exfalso; omega)
            exact z_iret X dX4_gets_71 (by omega) (by omega) ⟨_, rfl, (by rw [e]; exact ⟨_, hM17, hT17, rfl⟩)⟩
        · refine z_aload_n X dX4_gets_29 rfl 0 rfl ?_
          refine z_bipush (v := (-2)) X dX4_gets_30 (by decide) ?_
          refine z_ci (z_runV (rest := []) (n := 1) X [.int ((-2))] (m_X4_refuse hM (k := 2) (by decide) (v := (-2)) rfl) dX4_gets_32 (mm_o hM) rfl (lw_V q1546 q1548 qs27 q70 q1549) hv_X4_refuse rfl ⟨Nat.le_of_ble_eq_true rfl, Nat.le_of_ble_eq_true rfl⟩ ⟨by omega, by omega⟩ rfl (Nat.le_of_ble_eq_true rfl)) (fun r19 w21 h20 => ?_)
          obtain ⟨hM20, r19e⟩ := h20
          rw [r19e]
          have hT20 := MT.ref hT (k := 2) (by decide)
          have e : spGets o (nI sN) (nI kN) (nI stN) = ((-2), oRef o 2) := by
            unfold spGets
            repeat (first | rw [el_some (by assumption)] | rw [el_none (by assumption)] | rw [if_pos (by omega)] | rw [if_neg (by omega)] | rw [if_pos (by assumption)] | rw [if_neg (ts_n (by assumption))])
            all_goals first | rfl | (exfalso; omega)
          exact z_iret X dX4_gets_35 (by omega) (by omega) ⟨_, rfl, (by rw [e]; exact ⟨_, hM20, hT20, rfl⟩)⟩
      · have e5 : rgb 0 124 st = none := rgb_f c9
        refine z_aload_n X dX4_gets_21 rfl 0 rfl ?_
        refine z_iload_n X dX4_gets_22 rfl 3 rfl ?_
        refine z_cip (z_runV (rest := []) (n := 1) X [.int (st)] (m_X4_isStateF hM (v := st) c9) dX4_gets_23 (mm_o hM) rfl (lw_V q1604 q1606 qs32 q70 q1607) hv_X4_isState rfl ⟨Nat.le_of_ble_eq_true rfl, Nat.le_of_ble_eq_true rfl⟩ ⟨by omega, by omega⟩ rfl (Nat.le_of_ble_eq_true rfl)) ?_
        refine z_if_ne_f (tgt := 36) X dX4_gets_26 (by decide) (bI_0.mpr rfl) ?_
        refine z_aload_n X dX4_gets_29 rfl 0 rfl ?_
        refine z_bipush (v := (-2)) X dX4_gets_30 (by decide) ?_
        refine z_ci (z_runV (rest := []) (n := 1) X [.int ((-2))] (m_X4_refuse hM (k := 2) (by decide) (v := (-2)) rfl) dX4_gets_32 (mm_o hM) rfl (lw_V q1546 q1548 qs27 q70 q1549) hv_X4_refuse rfl ⟨Nat.le_of_ble_eq_true rfl, Nat.le_of_ble_eq_true rfl⟩ ⟨by omega, by omega⟩ rfl (Nat.le_of_ble_eq_true rfl)) (fun r22 w24 h23 => ?_)
        obtain ⟨hM23, r22e⟩ := h23
        rw [r22e]
        have hT23 := MT.ref hT (k := 2) (by decide)
        have e : spGets o (nI sN) (nI kN) st = ((-2), oRef o 2) := by
          unfold spGets
          repeat (first | rw [el_some (by assumption)] | rw [el_none (by assumption)] | rw [if_pos (by omega)] | rw [if_neg (by omega)] | rw [if_pos (by assumption)] | rw [if_neg (ts_n (by assumption))])
          all_goals first | rfl | (exfalso; omega)
        exact z_iret X dX4_gets_35 (by omega) (by omega) ⟨_, rfl, (by rw [e]; exact ⟨_, hM23, hT23, rfl⟩)⟩
