/-! x: worst, price -/
set_option maxRecDepth 100000
set_option maxHeartbeats 2000000 in
theorem x_price {l : Launch} {G : GG} {w : GW} {xa : Nat → Nat} {rr : Option Nat} {o : OS} {im : IM} (hX : XT G w xa rr o im) (hO : oInv o) {z n : Int32} : gM l G yX0_price cX0_price 5 (some .long) 20 7 507 [.ref (xa 0), .int (z), .int (n)] w (pL (fun r w1 => XE G (xa 0) w1 (spPrice o z n).2 im ∧ r = (spPrice o z n).1)) := by
  refine Z.met (own := "ThreeSizes") (nm := "price") (lv := [(0, .ref (xa 0)), (1, .int (z)), (2, .int (n))]) (by decide) rfl rfl (Nat.le_of_ble_eq_true rfl) rfl (fun κ X => ?_)
  have hI := hO.1
  have h6 := hI.2.1
  have ht200 := hO.2.2.2
  have hs := stOf_lt hI
  refine z_iload_n X dX0_price_0 rfl 1 rfl ?_
  refine z_cip (z_runS (rest := []) (n := 1) X [.int (z)] (m_X0_isSize (v := z)) dX0_price_1 (lw_S q771 q772 q66 q773) hs_X0_isSize rfl ⟨Nat.le_of_ble_eq_true rfl, Nat.le_of_ble_eq_true rfl⟩ ⟨by omega, by omega⟩ rfl (Nat.le_of_ble_eq_true rfl)) ?_
  refine z_if_eq (tgt := 14) X dX0_price_4 (by decide) bI_d (fun c1 => ?_) (fun c1 => ?_)
  · have e1 : rgb 0 2 z = none := rgb_f c1
    refine z_aload_n X dX0_price_14 rfl 0 rfl ?_
    refine z_bipush (v := (-2)) X dX0_price_15 (by decide) ?_
    refine z_cl (z_runV (rest := []) (n := 1) X [.int ((-2))] (m_X0_noDeep_2 hX) dX0_price_17 hX.ob rfl (lw_V q1189 q1191 qs16 q66 q1192) hv_X0_noDeep rfl ⟨Nat.le_of_ble_eq_true rfl, Nat.le_of_ble_eq_true rfl⟩ ⟨by omega, by omega⟩ rfl (Nat.le_of_ble_eq_true rfl)) (fun r2 w4 h3 => ?_)
    obtain ⟨r2e, hX3⟩ := h3
    rw [r2e]
    have e : spPrice o z n = (-1000000000000 + ((-2) : Int32).toInt64, oRef o 2) := by
      unfold spPrice
      repeat (first | rw [el_some (by assumption)] | rw [el_none (by assumption)] | rw [if_pos (by omega)] | rw [if_neg (by omega)] | rw [if_pos (by assumption)] | rw [if_neg (ts_n (by assumption))])
      all_goals first | rfl | (exfalso; omega)
    exact z_lret X dX0_price_20 (by omega) (by omega) ⟨_, rfl, (by rw [e]; exact ⟨⟨_, _, rfl, hX3⟩, rfl⟩)⟩
  · have c1 := Classical.not_not.mp c1
    obtain ⟨zN, zNl, zNh, rfl, e2⟩ := rgb_t (lo := 0) (hi := 2) (by decide) (by decide) (c1)
    refine z_iload_n X dX0_price_7 rfl 2 rfl ?_
    refine z_cip (z_runS (rest := []) (n := 1) X [.int (n)] (m_X0_isHours (v := n)) dX0_price_8 (lw_S q1198 q1199 q66 q1200) hs_X0_isHours rfl ⟨Nat.le_of_ble_eq_true rfl, Nat.le_of_ble_eq_true rfl⟩ ⟨by omega, by omega⟩ rfl (Nat.le_of_ble_eq_true rfl)) ?_
    refine z_if_ne (tgt := 21) X dX0_price_11 (by decide) bI_d (fun c5 => ?_) (fun c5 => ?_)
    · have c5 := Classical.not_not.mp c5
      obtain ⟨nN, nNl, nNh, rfl, e3⟩ := rgb_t (lo := 0) (hi := 24) (by decide) (by decide) (c5)
      have wz := hI.1 zN (by omega)
      refine z_aload_n X dX0_price_21 rfl 0 rfl ?_
      refine z_get X dX0_price_22 hX.ob in_X0 rfl 0 (Nat.le_of_ble_eq_true rfl) q233 rfl ?_
      refine z_get X dX0_price_25 hX.day in_X1 rfl 0 (Nat.le_of_ble_eq_true rfl) q190 rfl ?_
      refine z_iload_n X dX0_price_28 rfl 1 rfl ?_
      refine z_cip (z_runV (rest := []) (n := 1) X [.int (nI (zN))] (m_X2_free hX.wall hI (z := zN) (by omega)) dX0_price_29 (wl_o hX.wall) rfl (lw_V q1172 q747 q748 q68 q749) hv_X2_free rfl ⟨Nat.le_of_ble_eq_true rfl, Nat.le_of_ble_eq_true rfl⟩ ⟨by omega, by omega⟩ rfl (Nat.le_of_ble_eq_true rfl)) ?_
      refine z_if_ne (tgt := 42) X dX0_price_32 (by decide) (nz_eq (by omega)) (fun c6 => ?_) (fun c6 => ?_)
      · have hp := st_ge (S := o.1) (z := zN) (by omega) (by omega)
        have hpq := price_eq hI (z := zN) (by omega) (by omega) nN
        refine z_new X dX0_price_42 in_X13 tyX13 tyX13_ok (ci := 12) (fs := [.null, .null, .int 0]) q1205 q615 q90 rfl (fun j hj => by rcases (show j = 0 ∨ j = 1 ∨ j = 2 by omega) with rfl | rfl | rfl <;> rfl) (by omega) (by omega) (fun q7 hq7 => ?_)
        have hXq7 := XT.fresh hX hq7 (e := .inr (12, [.null, .null, .int 0]))
        refine z_dup X dX0_price_45 rfl ?_
        refine z_aload_n X dX0_price_46 rfl 0 rfl ?_
        refine z_get X dX0_price_47 hXq7.ob in_X0 rfl 0 (Nat.le_of_ble_eq_true rfl) q233 rfl ?_
        refine z_get X dX0_price_50 hXq7.day in_X1 rfl 0 (Nat.le_of_ble_eq_true rfl) q190 rfl ?_
        refine z_null X dX0_price_53 ?_
        refine z_cv (z_runI (rest := [.ref (q7)]) (n := 2) X [.ref (xa 5), .null] (m_X13_initN hXq7.wall hI (wq := q7) gu_s) dX0_price_54 (lw_meth q618) q90 q1206 q617 rfl hs_X13_init rfl ⟨Nat.le_of_ble_eq_true rfl, Nat.le_of_ble_eq_true rfl⟩ ⟨by omega, by omega⟩ rfl (Nat.le_of_ble_eq_true rfl)) (fun w10 h9 => ?_)
        rw [gu_gu] at h9
        subst h9
        have hXn11 := XT.fresh hX hq7 (e := .inr (12, [.ref (xa 5), .null, .int (nI (100 - sumTo (o.1.1 4) (o.1.2 0)))]))
        refine z_iload_n X dX0_price_57 rfl 2 rfl ?_
        refine z_ca (z_runV (rest := []) (n := 1) X [.int (nI (nN))] (m_x_after hXn11 hO (wq := q7) gu_s (n := nN) (by omega)) dX0_price_58 gu_s rfl (lw_V q1207 q643 q644 q90 q645) hv_X13_after rfl ⟨Nat.le_of_ble_eq_true rfl, Nat.le_of_ble_eq_true rfl⟩ ⟨by omega, by omega⟩ rfl (Nat.le_of_ble_eq_true rfl)) (fun r12 w14 h13 => ?_)
        obtain ⟨xa13, rr13, hk13, hX13, hr13, hq13⟩ := h13
        rw [← hk13 0 (by omega) (by omega) (by omega)]
        refine z_astore_n (lv2 := [(3, .ref (r12)), (0, .ref (xa13 0)), (1, .int (nI (zN))), (2, .int (nI (nN)))]) X dX0_price_61 rfl (Nat.le_of_ble_eq_true rfl) rfl ?_
        refine z_aload_n X dX0_price_62 rfl 1 rfl ?_
        refine z_get X dX0_price_63 hX13.ob in_X0 rfl 0 (Nat.le_of_ble_eq_true rfl) q233 rfl ?_
        refine z_get X dX0_price_66 hX13.day in_X1 rfl 0 (Nat.le_of_ble_eq_true rfl) q190 rfl ?_
        refine z_cip (z_runV (rest := []) (n := 0) X [] (m_X2_state hX13.wall hI) dX0_price_69 (wl_o hX13.wall) rfl (lw_V q1173 q743 q744 q68 q745) hv_X2_state rfl ⟨Nat.le_of_ble_eq_true rfl, Nat.le_of_ble_eq_true rfl⟩ ⟨by omega, by omega⟩ rfl (Nat.le_of_ble_eq_true rfl)) ?_
        refine z_istore (lv2 := [(4, .int (nI (stOf o.1))), (3, .ref (r12)), (0, .ref (xa13 0)), (1, .int (nI (zN))), (2, .int (nI (nN)))]) X dX0_price_72 (Nat.le_of_ble_eq_true rfl) rfl ?_
        refine z_aload_n X dX0_price_74 rfl 1 rfl ?_
        refine z_iload X dX0_price_75 0 rfl ?_
        refine z_laN (v := vals o.1 (rBest o.1) nN (stOf o.1)) X dX0_price_77 hr13 (by omega) (by omega) rfl ?_
        refine z_aload_n X dX0_price_78 rfl 1 rfl ?_
        refine z_iload X dX0_price_79 0 rfl ?_
        refine z_iload_n X dX0_price_81 rfl 3 rfl ?_
        refine z_cip (z_runS (rest := [.int (nI (stOf o.1)), .ref (r12), .long (vals o.1 (rBest o.1) nN (stOf o.1))]) (n := 1) X [.int (nI (zN))] (m_X0_step (z := zN) (c := pw5 zN) (by omega) rfl) dX0_price_82 (lw_S q663 q664 q66 q665) hs_X0_step rfl ⟨Nat.le_of_ble_eq_true rfl, Nat.le_of_ble_eq_true rfl⟩ ⟨by omega, by omega⟩ rfl (Nat.le_of_ble_eq_true rfl)) ?_
        refine z_isub (v := nI (stOf o.1 - pw5 zN)) X dX0_price_85 (pk_sub (by omega)) ?_
        refine z_laN (v := vals o.1 (rBest o.1) nN (stOf o.1 - pw5 zN)) X dX0_price_86 hr13 (by omega) (by omega) rfl ?_
        refine z_lsub (v := bestV o.1 nN - bestV (wPut o.1 1 zN (o.1.1 1 zN + 1)) nN) X dX0_price_87 (by rw [hpq]; rfl) ?_
        have e : spPrice o (nI zN) (nI nN) = (bestV o.1 nN - bestV (wPut o.1 1 zN (o.1.1 1 zN + 1)) nN, o) := by
          unfold spPrice
          repeat (first | rw [el_some (by assumption)] | rw [el_none (by assumption)] | rw [if_pos (by omega)] | rw [if_neg (by omega)] | rw [if_pos (by assumption)] | rw [if_neg (ts_n (by assumption))])
          all_goals first | rfl | (exfalso; omega)
        exact z_lret X dX0_price_88 (by omega) (by omega) ⟨_, rfl, (by rw [e]; exact ⟨⟨_, _, (hk13 0 (by decide) (by decide) (by decide)), hX13⟩, rfl⟩)⟩
      · refine z_aload_n X dX0_price_35 rfl 0 rfl ?_
        refine z_bipush (v := (-5)) X dX0_price_36 (by decide) ?_
        refine z_cl (z_runV (rest := []) (n := 1) X [.int ((-5))] (m_X0_noDeep_5 hX) dX0_price_38 hX.ob rfl (lw_V q1189 q1191 qs16 q66 q1192) hv_X0_noDeep rfl ⟨Nat.le_of_ble_eq_true rfl, Nat.le_of_ble_eq_true rfl⟩ ⟨by omega, by omega⟩ rfl (Nat.le_of_ble_eq_true rfl)) (fun r15 w17 h16 => ?_)
        obtain ⟨r15e, hX16⟩ := h16
        rw [r15e]
        have e : spPrice o (nI zN) (nI nN) = (-1000000000000 + ((-5) : Int32).toInt64, oRef o 5) := by
          unfold spPrice
          repeat (first | rw [el_some (by assumption)] | rw [el_none (by assumption)] | rw [if_pos (by omega)] | rw [if_neg (by omega)] | rw [if_pos (by assumption)] | rw [if_neg (ts_n (by assumption))])
          all_goals first | rfl | (exfalso; omega)
        exact z_lret X dX0_price_41 (by omega) (by omega) ⟨_, rfl, (by rw [e]; exact ⟨⟨_, _, rfl, hX16⟩, rfl⟩)⟩
    · have e4 : rgb 0 24 n = none := rgb_f c5
      refine z_aload_n X dX0_price_14 rfl 0 rfl ?_
      refine z_bipush (v := (-2)) X dX0_price_15 (by decide) ?_
      refine z_cl (z_runV (rest := []) (n := 1) X [.int ((-2))] (m_X0_noDeep_2 hX) dX0_price_17 hX.ob rfl (lw_V q1189 q1191 qs16 q66 q1192) hv_X0_noDeep rfl ⟨Nat.le_of_ble_eq_true rfl, Nat.le_of_ble_eq_true rfl⟩ ⟨by omega, by omega⟩ rfl (Nat.le_of_ble_eq_true rfl)) (fun r18 w20 h19 => ?_)
      obtain ⟨r18e, hX19⟩ := h19
      rw [r18e]
      have e : spPrice o (nI zN) n = (-1000000000000 + ((-2) : Int32).toInt64, oRef o 2) := by
        unfold spPrice
        repeat (first | rw [el_some (by assumption)] | rw [el_none (by assumption)] | rw [if_pos (by omega)] | rw [if_neg (by omega)] | rw [if_pos (by assumption)] | rw [if_neg (ts_n (by assumption))])
        all_goals first | rfl | (exfalso; omega)
      exact z_lret X dX0_price_20 (by omega) (by omega) ⟨_, rfl, (by rw [e]; exact ⟨⟨_, _, rfl, hX19⟩, rfl⟩)⟩
set_option maxHeartbeats 2000000 in
theorem x_worst {l : Launch} {G : GG} {w : GW} {xa : Nat → Nat} {rr : Option Nat} {o : OS} {im : IM} (hX : XT G w xa rr o im) (hO : oInv o) {n : Int32} : gM l G yX0_worst cX0_worst 5 (some .int) 20 7 507 [.ref (xa 0), .int (n)] w (pI (fun r w1 => XE G (xa 0) w1 (spWorst o n).2 im ∧ r = (spWorst o n).1)) := by
  refine Z.met (own := "ThreeSizes") (nm := "worst") (lv := [(0, .ref (xa 0)), (1, .int (n))]) (by decide) rfl rfl (Nat.le_of_ble_eq_true rfl) rfl (fun κ X => ?_)
  have hI := hO.1
  have h6 := hI.2.1
  have ht200 := hO.2.2.2
  have hs := stOf_lt hI
  refine z_iload_n X dX0_worst_0 rfl 1 rfl ?_
  refine z_cip (z_runS (rest := []) (n := 1) X [.int (n)] (m_X0_isHours (v := n)) dX0_worst_1 (lw_S q1198 q1199 q66 q1200) hs_X0_isHours rfl ⟨Nat.le_of_ble_eq_true rfl, Nat.le_of_ble_eq_true rfl⟩ ⟨by omega, by omega⟩ rfl (Nat.le_of_ble_eq_true rfl)) ?_
  refine z_if_ne (tgt := 14) X dX0_worst_4 (by decide) bI_d (fun c1 => ?_) (fun c1 => ?_)
  · have c1 := Classical.not_not.mp c1
    obtain ⟨nN, nNl, nNh, rfl, e1⟩ := rgb_t (lo := 0) (hi := 24) (by decide) (by decide) (c1)
    refine z_new X dX0_worst_14 in_X13 tyX13 tyX13_ok (ci := 12) (fs := [.null, .null, .int 0]) q1205 q615 q90 rfl (fun j hj => by rcases (show j = 0 ∨ j = 1 ∨ j = 2 by omega) with rfl | rfl | rfl <;> rfl) (by omega) (by omega) (fun q2 hq2 => ?_)
    have hXq2 := XT.fresh hX hq2 (e := .inr (12, [.null, .null, .int 0]))
    refine z_dup X dX0_worst_17 rfl ?_
    refine z_aload_n X dX0_worst_18 rfl 0 rfl ?_
    refine z_get X dX0_worst_19 hXq2.ob in_X0 rfl 0 (Nat.le_of_ble_eq_true rfl) q233 rfl ?_
    refine z_get X dX0_worst_22 hXq2.day in_X1 rfl 0 (Nat.le_of_ble_eq_true rfl) q190 rfl ?_
    refine z_null X dX0_worst_25 ?_
    refine z_cv (z_runI (rest := [.ref (q2)]) (n := 2) X [.ref (xa 5), .null] (m_X13_initN hXq2.wall hI (wq := q2) gu_s) dX0_worst_26 (lw_meth q618) q90 q1206 q617 rfl hs_X13_init rfl ⟨Nat.le_of_ble_eq_true rfl, Nat.le_of_ble_eq_true rfl⟩ ⟨by omega, by omega⟩ rfl (Nat.le_of_ble_eq_true rfl)) (fun w5 h4 => ?_)
    rw [gu_gu] at h4
    subst h4
    have hXn6 := XT.fresh hX hq2 (e := .inr (12, [.ref (xa 5), .null, .int (nI (100 - sumTo (o.1.1 4) (o.1.2 0)))]))
    refine z_iload_n X dX0_worst_29 rfl 1 rfl ?_
    refine z_ca (z_runV (rest := []) (n := 1) X [.int (nI (nN))] (m_x_after hXn6 hO (wq := q2) gu_s (n := nN) (by omega)) dX0_worst_30 gu_s rfl (lw_V q1207 q643 q644 q90 q645) hv_X13_after rfl ⟨Nat.le_of_ble_eq_true rfl, Nat.le_of_ble_eq_true rfl⟩ ⟨by omega, by omega⟩ rfl (Nat.le_of_ble_eq_true rfl)) (fun r7 w9 h8 => ?_)
    obtain ⟨xa8, rr8, hk8, hX8, hr8, hq8⟩ := h8
    rw [← hk8 0 (by omega) (by omega) (by omega)]
    refine z_astore_n (lv2 := [(2, .ref (r7)), (0, .ref (xa8 0)), (1, .int (nI (nN)))]) X dX0_worst_33 rfl (Nat.le_of_ble_eq_true rfl) rfl ?_
    refine z_iconst (v := nI (0)) X dX0_worst_34 ci0 ?_
    refine z_istore_n (lv2 := [(3, .int (nI (0))), (2, .ref (r7)), (0, .ref (xa8 0)), (1, .int (nI (nN)))]) X dX0_worst_35 rfl (Nat.le_of_ble_eq_true rfl) rfl ?_
    refine z_iconst (v := nI (1)) X dX0_worst_36 ci1 ?_
    refine z_istore (lv2 := [(4, .int (nI (1))), (3, .int (nI (0))), (2, .ref (r7)), (0, .ref (xa8 0)), (1, .int (nI (nN)))]) X dX0_worst_37 (Nat.le_of_ble_eq_true rfl) rfl ?_
    have lp : ∀ (lq i : Nat) (y : Nat), i + lq = 125 → mnTo (isSt o.1) (vals o.1 (rBest o.1) nN) i = some y → y < 125 → Z κ w9 [(4, .int (nI (i))), (3, .int (nI (y))), (2, .ref (r7)), (0, .ref (xa8 0)), (1, .int (nI (nN)))] (0 + 1 + 6) (0 + 3 + 504) 39 [] := by
      intro lq
      induction lq with
      | zero =>
        intro i y lh hy hy2
        obtain rfl : 125 = i := by omega
        refine z_iload X dX0_worst_39 0 rfl ?_
        refine z_bipush (v := nI (125)) X dX0_worst_41 (by decide) ?_
        refine z_icmp_ge_t (tgt := 81) X dX0_worst_43 (by decide) ((nI_leI (by omega) (by omega)).mpr (by omega)) ?_
        refine z_iload_n X dX0_worst_81 rfl 1 rfl ?_
        have e : spWorst o (nI nN) = (nI (y), o) := by
          unfold spWorst
          repeat (first | rw [el_some (by assumption)] | rw [el_none (by assumption)] | rw [if_pos (by omega)] | rw [if_neg (by omega)] | rw [if_pos (by assumption)] | rw [if_neg (ts_n (by assumption))])
          all_goals first | rfl | (rw [hy]; rfl) | (exfalso; omega)
        exact z_iret X dX0_worst_82 (by omega) (by omega) ⟨_, rfl, (by rw [e]; exact ⟨⟨_, _, (hk8 0 (by decide) (by decide) (by decide)), hX8⟩, rfl⟩)⟩
      | succ lq ih =>
        intro i y lh hy hy2
        refine z_iload X dX0_worst_39 0 rfl ?_
        refine z_bipush (v := nI (125)) X dX0_worst_41 (by decide) ?_
        refine z_icmp_ge_f (tgt := 81) X dX0_worst_43 (by decide) (fun h => absurd ((nI_leI (by omega) (by omega)).mp h) (by omega)) ?_
        refine z_aload_n X dX0_worst_46 rfl 3 rfl ?_
        refine z_get X dX0_worst_47 hX8.ob in_X0 rfl 0 (Nat.le_of_ble_eq_true rfl) q233 rfl ?_
        refine z_get X dX0_worst_50 hX8.day in_X1 rfl 0 (Nat.le_of_ble_eq_true rfl) q190 rfl ?_
        refine z_iload X dX0_worst_53 0 rfl ?_
        refine z_cip (z_runV (rest := []) (n := 1) X [.int (nI (i))] (m_X2_isState hX8.wall hI (st := i) (by omega)) dX0_worst_55 (wl_o hX8.wall) rfl (lw_V q1178 q656 q657 q68 q658) hv_X2_isState rfl ⟨Nat.le_of_ble_eq_true rfl, Nat.le_of_ble_eq_true rfl⟩ ⟨by omega, by omega⟩ rfl (Nat.le_of_ble_eq_true rfl)) ?_
        refine z_if_eq (tgt := 75) X dX0_worst_58 (by decide) bI_0 (fun c10 => ?_) (fun c10 => ?_)
        · refine z_iinc (v := nI (i + 1)) (lv2 := [(4, .int (nI (i + 1))), (3, .int (nI (y))), (2, .ref (r7)), (0, .ref (xa8 0)), (1, .int (nI (nN)))]) X dX0_worst_75 0 rfl (nI_1 _) (Nat.le_of_ble_eq_true rfl) rfl ?_
          refine z_goto (tgt := 39) X dX0_worst_78 (by decide) ?_
          exact ih (i + 1) _ (by omega) (mnTo_stay hy (fun q => by first | exact absurd q.2 (Int64.not_lt.mpr (by assumption)) | exact absurd q.1 (ts_n (by assumption)))) (by omega)
        · have c10 := ts_t c10
          refine z_aload_n X dX0_worst_61 rfl 2 rfl ?_
          refine z_iload X dX0_worst_62 0 rfl ?_
          refine z_laN (v := vals o.1 (rBest o.1) nN i) X dX0_worst_64 hr8 (by omega) (by omega) rfl ?_
          refine z_aload_n X dX0_worst_65 rfl 2 rfl ?_
          refine z_iload_n X dX0_worst_66 rfl 1 rfl ?_
          refine z_laN (v := vals o.1 (rBest o.1) nN y) X dX0_worst_67 hr8 (by omega) (by omega) rfl ?_
          refine z_lcmp (v := lg_cmp (vals o.1 (rBest o.1) nN i) (vals o.1 (rBest o.1) nN y)) X dX0_worst_68 rfl ?_
          refine z_if_ge (tgt := 75) X dX0_worst_69 (by decide) (lg_cmp_ge _ _) (fun c11 => ?_) (fun c11 => ?_)
          · refine z_iinc (v := nI (i + 1)) (lv2 := [(4, .int (nI (i + 1))), (3, .int (nI (y))), (2, .ref (r7)), (0, .ref (xa8 0)), (1, .int (nI (nN)))]) X dX0_worst_75 0 rfl (nI_1 _) (Nat.le_of_ble_eq_true rfl) rfl ?_
            refine z_goto (tgt := 39) X dX0_worst_78 (by decide) ?_
            exact ih (i + 1) _ (by omega) (mnTo_stay hy (fun q => by first | exact absurd q.2 (Int64.not_lt.mpr (by assumption)) | exact absurd q.1 (ts_n (by assumption)))) (by omega)
          · refine z_iload X dX0_worst_72 0 rfl ?_
            refine z_istore_n (lv2 := [(3, .int (nI (i))), (4, .int (nI (i))), (2, .ref (r7)), (0, .ref (xa8 0)), (1, .int (nI (nN)))]) X dX0_worst_74 rfl (Nat.le_of_ble_eq_true rfl) rfl ?_
            refine z_iinc (v := nI (i + 1)) (lv2 := [(4, .int (nI (i + 1))), (3, .int (nI (i))), (2, .ref (r7)), (0, .ref (xa8 0)), (1, .int (nI (nN)))]) X dX0_worst_75 1 rfl (nI_1 _) (Nat.le_of_ble_eq_true rfl) rfl ?_
            refine z_goto (tgt := 39) X dX0_worst_78 (by decide) ?_
            exact ih (i + 1) _ (by omega) (mnTo_hit hy (ts_t (by assumption)) (Int64.not_le.mp (by assumption))) (by omega)
    exact lp 124 1 0 (by omega) mnTo_1 (by omega)
  · have e2 : rgb 0 24 n = none := rgb_f c1
    refine z_aload_n X dX0_worst_7 rfl 0 rfl ?_
    refine z_bipush (v := (-2)) X dX0_worst_8 (by decide) ?_
    refine z_ci (z_runV (rest := []) (n := 1) X [.int ((-2))] (m_X0_no_2 hX) dX0_worst_10 hX.ob rfl (lw_V q350 q352 qs2 q66 q353) hv_X0_no rfl ⟨Nat.le_of_ble_eq_true rfl, Nat.le_of_ble_eq_true rfl⟩ ⟨by omega, by omega⟩ rfl (Nat.le_of_ble_eq_true rfl)) (fun r12 w14 h13 => ?_)
    obtain ⟨r12e, hX13⟩ := h13
    rw [r12e]
    have e : spWorst o n = ((-2), oRef o 2) := by
      unfold spWorst
      repeat (first | rw [el_some (by assumption)] | rw [el_none (by assumption)] | rw [if_pos (by omega)] | rw [if_neg (by omega)] | rw [if_pos (by assumption)] | rw [if_neg (ts_n (by assumption))])
      all_goals first | rfl | (rw [hy]; rfl) | (exfalso; omega)
    exact z_iret X dX0_worst_13 (by omega) (by omega) ⟨_, rfl, (by rw [e]; exact ⟨⟨_, _, rfl, hX13⟩, rfl⟩)⟩
