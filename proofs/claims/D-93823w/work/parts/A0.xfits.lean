/-! x: fits -/
set_option maxRecDepth 100000
set_option maxHeartbeats 2000000 in
theorem x_fits {l : Launch} {G : GG} {w : GW} {xa : Nat → Nat} {rr : Option Nat} {o : OS} {im : IM} (hX : XT G w xa rr o im) (hO : oInv o) {k : Int32} : gM l G yX0_fits cX0_fits 4 (some .int) 6 0 0 [.ref (xa 0), .int (k)] w (pI (fun r w1 => XE G (xa 0) w1 (spFits o k).2 im ∧ r = (spFits o k).1)) := by
  refine Z.met (own := "ThreeSizes") (nm := "fits") (lv := [(0, .ref (xa 0)), (1, .int (k))]) (by decide) rfl rfl (Nat.le_of_ble_eq_true rfl) rfl (fun κ X => ?_)
  have hI := hO.1
  have h6 := hI.2.1
  have ht200 := hO.2.2.2
  have hs := stOf_lt hI
  refine z_aload_n X dX0_fits_0 rfl 0 rfl ?_
  refine z_iload_n X dX0_fits_1 rfl 1 rfl ?_
  refine z_cip (z_runV (rest := []) (n := 1) X [.int (k)] (m_X0_isSort hX hO (v := k)) dX0_fits_2 hX.ob rfl (lw_V q798 q800 qs6 q66 q801) hv_X0_isSort rfl ⟨Nat.le_of_ble_eq_true rfl, Nat.le_of_ble_eq_true rfl⟩ ⟨by omega, by omega⟩ rfl (Nat.le_of_ble_eq_true rfl)) ?_
  refine z_if_ne (tgt := 15) X dX0_fits_5 (by decide) bI_d (fun c1 => ?_) (fun c1 => ?_)
  · have c1 := Classical.not_not.mp c1
    obtain ⟨kN, kNh, rfl, e1⟩ := rgn_t (n := o.1.2 0) (by omega) c1
    refine z_iconst (v := nI (0)) X dX0_fits_15 ci0 ?_
    refine z_istore_n (lv2 := [(2, .int (nI (0))), (0, .ref (xa 0)), (1, .int (nI (kN)))]) X dX0_fits_16 rfl (Nat.le_of_ble_eq_true rfl) rfl ?_
    refine z_iconst (v := nI (0)) X dX0_fits_17 ci0 ?_
    refine z_istore_n (lv2 := [(3, .int (nI (0))), (2, .int (nI (0))), (0, .ref (xa 0)), (1, .int (nI (kN)))]) X dX0_fits_18 rfl (Nat.le_of_ble_eq_true rfl) rfl ?_
    refine z_iload_n X dX0_fits_19 rfl 0 rfl ?_
    refine z_iconst (v := nI (3)) X dX0_fits_20 ci3 ?_
    refine z_icmp_ge_f (tgt := 65) X dX0_fits_21 (by decide) (by decide) ?_
    refine z_iload_n X dX0_fits_24 rfl 1 rfl ?_
    refine z_aload_n X dX0_fits_25 rfl 2 rfl ?_
    refine z_get X dX0_fits_26 hX.ob in_X0 rfl 0 (Nat.le_of_ble_eq_true rfl) q233 rfl ?_
    refine z_get X dX0_fits_29 hX.day in_X1 rfl 0 (Nat.le_of_ble_eq_true rfl) q190 rfl ?_
    refine z_iload_n X dX0_fits_32 rfl 3 rfl ?_
    refine z_iload_n X dX0_fits_33 rfl 0 rfl ?_
    refine z_aload_n X dX0_fits_34 rfl 2 rfl ?_
    refine z_get X dX0_fits_35 hX.ob in_X0 rfl 0 (Nat.le_of_ble_eq_true rfl) q233 rfl ?_
    refine z_get X dX0_fits_38 hX.day in_X1 rfl 0 (Nat.le_of_ble_eq_true rfl) q190 rfl ?_
    refine z_cip (z_runV (rest := [.int (nI (0)), .int (nI (kN)), .ref (xa 5), .int (nI (0))]) (n := 0) X [] (m_X2_state hX.wall hI) dX0_fits_41 (wl_o hX.wall) rfl (lw_V q1173 q743 q744 q68 q745) hv_X2_state rfl ⟨Nat.le_of_ble_eq_true rfl, Nat.le_of_ble_eq_true rfl⟩ ⟨by omega, by omega⟩ rfl (Nat.le_of_ble_eq_true rfl)) ?_
    refine z_cip (z_runV (rest := [.int (nI (0))]) (n := 3) X [.int (nI (kN)), .int (nI (0)), .int (nI (stOf o.1))] (m_X2_fits hX.wall hI (i := kN) (z := 0) (st := stOf o.1) (by omega) (by omega) (by omega)) dX0_fits_44 (wl_o hX.wall) rfl (lw_V q683 q684 q685 q68 q686) hv_X2_fits rfl ⟨Nat.le_of_ble_eq_true rfl, Nat.le_of_ble_eq_true rfl⟩ ⟨by omega, by omega⟩ rfl (Nat.le_of_ble_eq_true rfl)) ?_
    refine z_if_eq (tgt := 56) X dX0_fits_47 (by decide) bI_0 (fun c2 => ?_) (fun c2 => ?_)
    · refine z_iconst (v := nI (0)) X dX0_fits_56 ci0 ?_
      refine z_ior (v := (nI (0)) ||| (nI (0))) X dX0_fits_57 rfl ?_
      refine z_istore_n (lv2 := [(2, .int ((nI (0)) ||| (nI (0)))), (3, .int (nI (0))), (0, .ref (xa 0)), (1, .int (nI (kN)))]) X dX0_fits_58 rfl (Nat.le_of_ble_eq_true rfl) rfl ?_
      refine z_iinc (v := nI (1)) (lv2 := [(3, .int (nI (1))), (2, .int ((nI (0)) ||| (nI (0)))), (0, .ref (xa 0)), (1, .int (nI (kN)))]) X dX0_fits_59 1 rfl (nI_1 _) (Nat.le_of_ble_eq_true rfl) rfl ?_
      refine z_goto (tgt := 19) X dX0_fits_62 (by decide) ?_
      refine z_iload_n X dX0_fits_19 rfl 0 rfl ?_
      refine z_iconst (v := nI (3)) X dX0_fits_20 ci3 ?_
      refine z_icmp_ge_f (tgt := 65) X dX0_fits_21 (by decide) (by decide) ?_
      refine z_iload_n X dX0_fits_24 rfl 1 rfl ?_
      refine z_aload_n X dX0_fits_25 rfl 2 rfl ?_
      refine z_get X dX0_fits_26 hX.ob in_X0 rfl 0 (Nat.le_of_ble_eq_true rfl) q233 rfl ?_
      refine z_get X dX0_fits_29 hX.day in_X1 rfl 0 (Nat.le_of_ble_eq_true rfl) q190 rfl ?_
      refine z_iload_n X dX0_fits_32 rfl 3 rfl ?_
      refine z_iload_n X dX0_fits_33 rfl 0 rfl ?_
      refine z_aload_n X dX0_fits_34 rfl 2 rfl ?_
      refine z_get X dX0_fits_35 hX.ob in_X0 rfl 0 (Nat.le_of_ble_eq_true rfl) q233 rfl ?_
      refine z_get X dX0_fits_38 hX.day in_X1 rfl 0 (Nat.le_of_ble_eq_true rfl) q190 rfl ?_
      refine z_cip (z_runV (rest := [.int (nI (1)), .int (nI (kN)), .ref (xa 5), .int ((nI (0)) ||| (nI (0)))]) (n := 0) X [] (m_X2_state hX.wall hI) dX0_fits_41 (wl_o hX.wall) rfl (lw_V q1173 q743 q744 q68 q745) hv_X2_state rfl ⟨Nat.le_of_ble_eq_true rfl, Nat.le_of_ble_eq_true rfl⟩ ⟨by omega, by omega⟩ rfl (Nat.le_of_ble_eq_true rfl)) ?_
      refine z_cip (z_runV (rest := [.int ((nI (0)) ||| (nI (0)))]) (n := 3) X [.int (nI (kN)), .int (nI (1)), .int (nI (stOf o.1))] (m_X2_fits hX.wall hI (i := kN) (z := 1) (st := stOf o.1) (by omega) (by omega) (by omega)) dX0_fits_44 (wl_o hX.wall) rfl (lw_V q683 q684 q685 q68 q686) hv_X2_fits rfl ⟨Nat.le_of_ble_eq_true rfl, Nat.le_of_ble_eq_true rfl⟩ ⟨by omega, by omega⟩ rfl (Nat.le_of_ble_eq_true rfl)) ?_
      refine z_if_eq (tgt := 56) X dX0_fits_47 (by decide) bI_0 (fun c3 => ?_) (fun c3 => ?_)
      · refine z_iconst (v := nI (0)) X dX0_fits_56 ci0 ?_
        refine z_ior (v := ((nI (0)) ||| (nI (0))) ||| (nI (0))) X dX0_fits_57 rfl ?_
        refine z_istore_n (lv2 := [(2, .int (((nI (0)) ||| (nI (0))) ||| (nI (0)))), (3, .int (nI (1))), (0, .ref (xa 0)), (1, .int (nI (kN)))]) X dX0_fits_58 rfl (Nat.le_of_ble_eq_true rfl) rfl ?_
        refine z_iinc (v := nI (2)) (lv2 := [(3, .int (nI (2))), (2, .int (((nI (0)) ||| (nI (0))) ||| (nI (0)))), (0, .ref (xa 0)), (1, .int (nI (kN)))]) X dX0_fits_59 1 rfl (nI_1 _) (Nat.le_of_ble_eq_true rfl) rfl ?_
        refine z_goto (tgt := 19) X dX0_fits_62 (by decide) ?_
        refine z_iload_n X dX0_fits_19 rfl 0 rfl ?_
        refine z_iconst (v := nI (3)) X dX0_fits_20 ci3 ?_
        refine z_icmp_ge_f (tgt := 65) X dX0_fits_21 (by decide) (by decide) ?_
        refine z_iload_n X dX0_fits_24 rfl 1 rfl ?_
        refine z_aload_n X dX0_fits_25 rfl 2 rfl ?_
        refine z_get X dX0_fits_26 hX.ob in_X0 rfl 0 (Nat.le_of_ble_eq_true rfl) q233 rfl ?_
        refine z_get X dX0_fits_29 hX.day in_X1 rfl 0 (Nat.le_of_ble_eq_true rfl) q190 rfl ?_
        refine z_iload_n X dX0_fits_32 rfl 3 rfl ?_
        refine z_iload_n X dX0_fits_33 rfl 0 rfl ?_
        refine z_aload_n X dX0_fits_34 rfl 2 rfl ?_
        refine z_get X dX0_fits_35 hX.ob in_X0 rfl 0 (Nat.le_of_ble_eq_true rfl) q233 rfl ?_
        refine z_get X dX0_fits_38 hX.day in_X1 rfl 0 (Nat.le_of_ble_eq_true rfl) q190 rfl ?_
        refine z_cip (z_runV (rest := [.int (nI (2)), .int (nI (kN)), .ref (xa 5), .int (((nI (0)) ||| (nI (0))) ||| (nI (0)))]) (n := 0) X [] (m_X2_state hX.wall hI) dX0_fits_41 (wl_o hX.wall) rfl (lw_V q1173 q743 q744 q68 q745) hv_X2_state rfl ⟨Nat.le_of_ble_eq_true rfl, Nat.le_of_ble_eq_true rfl⟩ ⟨by omega, by omega⟩ rfl (Nat.le_of_ble_eq_true rfl)) ?_
        refine z_cip (z_runV (rest := [.int (((nI (0)) ||| (nI (0))) ||| (nI (0)))]) (n := 3) X [.int (nI (kN)), .int (nI (2)), .int (nI (stOf o.1))] (m_X2_fits hX.wall hI (i := kN) (z := 2) (st := stOf o.1) (by omega) (by omega) (by omega)) dX0_fits_44 (wl_o hX.wall) rfl (lw_V q683 q684 q685 q68 q686) hv_X2_fits rfl ⟨Nat.le_of_ble_eq_true rfl, Nat.le_of_ble_eq_true rfl⟩ ⟨by omega, by omega⟩ rfl (Nat.le_of_ble_eq_true rfl)) ?_
        refine z_if_eq (tgt := 56) X dX0_fits_47 (by decide) bI_0 (fun c4 => ?_) (fun c4 => ?_)
        · refine z_iconst (v := nI (0)) X dX0_fits_56 ci0 ?_
          refine z_ior (v := (((nI (0)) ||| (nI (0))) ||| (nI (0))) ||| (nI (0))) X dX0_fits_57 rfl ?_
          refine z_istore_n (lv2 := [(2, .int ((((nI (0)) ||| (nI (0))) ||| (nI (0))) ||| (nI (0)))), (3, .int (nI (2))), (0, .ref (xa 0)), (1, .int (nI (kN)))]) X dX0_fits_58 rfl (Nat.le_of_ble_eq_true rfl) rfl ?_
          refine z_iinc (v := nI (3)) (lv2 := [(3, .int (nI (3))), (2, .int ((((nI (0)) ||| (nI (0))) ||| (nI (0))) ||| (nI (0)))), (0, .ref (xa 0)), (1, .int (nI (kN)))]) X dX0_fits_59 1 rfl (nI_1 _) (Nat.le_of_ble_eq_true rfl) rfl ?_
          refine z_goto (tgt := 19) X dX0_fits_62 (by decide) ?_
          refine z_iload_n X dX0_fits_19 rfl 0 rfl ?_
          refine z_iconst (v := nI (3)) X dX0_fits_20 ci3 ?_
          refine z_icmp_ge_t (tgt := 65) X dX0_fits_21 (by decide) (by decide) ?_
          refine z_iload_n X dX0_fits_65 rfl 1 rfl ?_
          have e : spFits o (nI kN) = ((((nI (0)) ||| (nI (0))) ||| (nI (0))) ||| (nI (0)), o) := by
            unfold spFits
            repeat (first | rw [el_some (by assumption)] | rw [el_none (by assumption)] | rw [if_pos (by omega)] | rw [if_neg (by omega)] | rw [if_pos (by assumption)] | rw [if_neg (ts_n (by assumption))])
            all_goals first | rfl | (unfold fitTo fitTo fitTo fitTo; simp_all; try decide)
          exact z_iret X dX0_fits_66 (by omega) (by omega) ⟨_, rfl, (by rw [e]; exact ⟨⟨_, _, rfl, hX⟩, rfl⟩)⟩
        · have c4 := ts_t c4
          refine z_iconst (v := nI (1)) X dX0_fits_50 ci1 ?_
          refine z_iload_n X dX0_fits_51 rfl 0 rfl ?_
          refine z_ishl (v := (nI (1)) <<< ((nI (2)) &&& 31)) X dX0_fits_52 rfl ?_
          refine z_goto (tgt := 57) X dX0_fits_53 (by decide) ?_
          refine z_ior (v := (((nI (0)) ||| (nI (0))) ||| (nI (0))) ||| ((nI (1)) <<< ((nI (2)) &&& 31))) X dX0_fits_57 rfl ?_
          refine z_istore_n (lv2 := [(2, .int ((((nI (0)) ||| (nI (0))) ||| (nI (0))) ||| ((nI (1)) <<< ((nI (2)) &&& 31)))), (3, .int (nI (2))), (0, .ref (xa 0)), (1, .int (nI (kN)))]) X dX0_fits_58 rfl (Nat.le_of_ble_eq_true rfl) rfl ?_
          refine z_iinc (v := nI (3)) (lv2 := [(3, .int (nI (3))), (2, .int ((((nI (0)) ||| (nI (0))) ||| (nI (0))) ||| ((nI (1)) <<< ((nI (2)) &&& 31)))), (0, .ref (xa 0)), (1, .int (nI (kN)))]) X dX0_fits_59 1 rfl (nI_1 _) (Nat.le_of_ble_eq_true rfl) rfl ?_
          refine z_goto (tgt := 19) X dX0_fits_62 (by decide) ?_
          refine z_iload_n X dX0_fits_19 rfl 0 rfl ?_
          refine z_iconst (v := nI (3)) X dX0_fits_20 ci3 ?_
          refine z_icmp_ge_t (tgt := 65) X dX0_fits_21 (by decide) (by decide) ?_
          refine z_iload_n X dX0_fits_65 rfl 1 rfl ?_
          have e : spFits o (nI kN) = ((((nI (0)) ||| (nI (0))) ||| (nI (0))) ||| ((nI (1)) <<< ((nI (2)) &&& 31)), o) := by
            unfold spFits
            repeat (first | rw [el_some (by assumption)] | rw [el_none (by assumption)] | rw [if_pos (by omega)] | rw [if_neg (by omega)] | rw [if_pos (by assumption)] | rw [if_neg (ts_n (by assumption))])
            all_goals first | rfl | (unfold fitTo fitTo fitTo fitTo; simp_all; try decide)
          exact z_iret X dX0_fits_66 (by omega) (by omega) ⟨_, rfl, (by rw [e]; exact ⟨⟨_, _, rfl, hX⟩, rfl⟩)⟩
      · have c3 := ts_t c3
        refine z_iconst (v := nI (1)) X dX0_fits_50 ci1 ?_
        refine z_iload_n X dX0_fits_51 rfl 0 rfl ?_
        refine z_ishl (v := (nI (1)) <<< ((nI (1)) &&& 31)) X dX0_fits_52 rfl ?_
        refine z_goto (tgt := 57) X dX0_fits_53 (by decide) ?_
        refine z_ior (v := ((nI (0)) ||| (nI (0))) ||| ((nI (1)) <<< ((nI (1)) &&& 31))) X dX0_fits_57 rfl ?_
        refine z_istore_n (lv2 := [(2, .int (((nI (0)) ||| (nI (0))) ||| ((nI (1)) <<< ((nI (1)) &&& 31)))), (3, .int (nI (1))), (0, .ref (xa 0)), (1, .int (nI (kN)))]) X dX0_fits_58 rfl (Nat.le_of_ble_eq_true rfl) rfl ?_
        refine z_iinc (v := nI (2)) (lv2 := [(3, .int (nI (2))), (2, .int (((nI (0)) ||| (nI (0))) ||| ((nI (1)) <<< ((nI (1)) &&& 31)))), (0, .ref (xa 0)), (1, .int (nI (kN)))]) X dX0_fits_59 1 rfl (nI_1 _) (Nat.le_of_ble_eq_true rfl) rfl ?_
        refine z_goto (tgt := 19) X dX0_fits_62 (by decide) ?_
        refine z_iload_n X dX0_fits_19 rfl 0 rfl ?_
        refine z_iconst (v := nI (3)) X dX0_fits_20 ci3 ?_
        refine z_icmp_ge_f (tgt := 65) X dX0_fits_21 (by decide) (by decide) ?_
        refine z_iload_n X dX0_fits_24 rfl 1 rfl ?_
        refine z_aload_n X dX0_fits_25 rfl 2 rfl ?_
        refine z_get X dX0_fits_26 hX.ob in_X0 rfl 0 (Nat.le_of_ble_eq_true rfl) q233 rfl ?_
        refine z_get X dX0_fits_29 hX.day in_X1 rfl 0 (Nat.le_of_ble_eq_true rfl) q190 rfl ?_
        refine z_iload_n X dX0_fits_32 rfl 3 rfl ?_
        refine z_iload_n X dX0_fits_33 rfl 0 rfl ?_
        refine z_aload_n X dX0_fits_34 rfl 2 rfl ?_
        refine z_get X dX0_fits_35 hX.ob in_X0 rfl 0 (Nat.le_of_ble_eq_true rfl) q233 rfl ?_
        refine z_get X dX0_fits_38 hX.day in_X1 rfl 0 (Nat.le_of_ble_eq_true rfl) q190 rfl ?_
        refine z_cip (z_runV (rest := [.int (nI (2)), .int (nI (kN)), .ref (xa 5), .int (((nI (0)) ||| (nI (0))) ||| ((nI (1)) <<< ((nI (1)) &&& 31)))]) (n := 0) X [] (m_X2_state hX.wall hI) dX0_fits_41 (wl_o hX.wall) rfl (lw_V q1173 q743 q744 q68 q745) hv_X2_state rfl ⟨Nat.le_of_ble_eq_true rfl, Nat.le_of_ble_eq_true rfl⟩ ⟨by omega, by omega⟩ rfl (Nat.le_of_ble_eq_true rfl)) ?_
        refine z_cip (z_runV (rest := [.int (((nI (0)) ||| (nI (0))) ||| ((nI (1)) <<< ((nI (1)) &&& 31)))]) (n := 3) X [.int (nI (kN)), .int (nI (2)), .int (nI (stOf o.1))] (m_X2_fits hX.wall hI (i := kN) (z := 2) (st := stOf o.1) (by omega) (by omega) (by omega)) dX0_fits_44 (wl_o hX.wall) rfl (lw_V q683 q684 q685 q68 q686) hv_X2_fits rfl ⟨Nat.le_of_ble_eq_true rfl, Nat.le_of_ble_eq_true rfl⟩ ⟨by omega, by omega⟩ rfl (Nat.le_of_ble_eq_true rfl)) ?_
        refine z_if_eq (tgt := 56) X dX0_fits_47 (by decide) bI_0 (fun c5 => ?_) (fun c5 => ?_)
        · refine z_iconst (v := nI (0)) X dX0_fits_56 ci0 ?_
          refine z_ior (v := (((nI (0)) ||| (nI (0))) ||| ((nI (1)) <<< ((nI (1)) &&& 31))) ||| (nI (0))) X dX0_fits_57 rfl ?_
          refine z_istore_n (lv2 := [(2, .int ((((nI (0)) ||| (nI (0))) ||| ((nI (1)) <<< ((nI (1)) &&& 31))) ||| (nI (0)))), (3, .int (nI (2))), (0, .ref (xa 0)), (1, .int (nI (kN)))]) X dX0_fits_58 rfl (Nat.le_of_ble_eq_true rfl) rfl ?_
          refine z_iinc (v := nI (3)) (lv2 := [(3, .int (nI (3))), (2, .int ((((nI (0)) ||| (nI (0))) ||| ((nI (1)) <<< ((nI (1)) &&& 31))) ||| (nI (0)))), (0, .ref (xa 0)), (1, .int (nI (kN)))]) X dX0_fits_59 1 rfl (nI_1 _) (Nat.le_of_ble_eq_true rfl) rfl ?_
          refine z_goto (tgt := 19) X dX0_fits_62 (by decide) ?_
          refine z_iload_n X dX0_fits_19 rfl 0 rfl ?_
          refine z_iconst (v := nI (3)) X dX0_fits_20 ci3 ?_
          refine z_icmp_ge_t (tgt := 65) X dX0_fits_21 (by decide) (by decide) ?_
          refine z_iload_n X dX0_fits_65 rfl 1 rfl ?_
          have e : spFits o (nI kN) = ((((nI (0)) ||| (nI (0))) ||| ((nI (1)) <<< ((nI (1)) &&& 31))) ||| (nI (0)), o) := by
            unfold spFits
            repeat (first | rw [el_some (by assumption)] | rw [el_none (by assumption)] | rw [if_pos (by omega)] | rw [if_neg (by omega)] | rw [if_pos (by assumption)] | rw [if_neg (ts_n (by assumption))])
            all_goals first | rfl | (unfold fitTo fitTo fitTo fitTo; simp_all; try decide)
          exact z_iret X dX0_fits_66 (by omega) (by omega) ⟨_, rfl, (by rw [e]; exact ⟨⟨_, _, rfl, hX⟩, rfl⟩)⟩
        · have c5 := ts_t c5
          refine z_iconst (v := nI (1)) X dX0_fits_50 ci1 ?_
          refine z_iload_n X dX0_fits_51 rfl 0 rfl ?_
          refine z_ishl (v := (nI (1)) <<< ((nI (2)) &&& 31)) X dX0_fits_52 rfl ?_
          refine z_goto (tgt := 57) X dX0_fits_53 (by decide) ?_
          refine z_ior (v := (((nI (0)) ||| (nI (0))) ||| ((nI (1)) <<< ((nI (1)) &&& 31))) ||| ((nI (1)) <<< ((nI (2)) &&& 31))) X dX0_fits_57 rfl ?_
          refine z_istore_n (lv2 := [(2, .int ((((nI (0)) ||| (nI (0))) ||| ((nI (1)) <<< ((nI (1)) &&& 31))) ||| ((nI (1)) <<< ((nI (2)) &&& 31)))), (3, .int (nI (2))), (0, .ref (xa 0)), (1, .int (nI (kN)))]) X dX0_fits_58 rfl (Nat.le_of_ble_eq_true rfl) rfl ?_
          refine z_iinc (v := nI (3)) (lv2 := [(3, .int (nI (3))), (2, .int ((((nI (0)) ||| (nI (0))) ||| ((nI (1)) <<< ((nI (1)) &&& 31))) ||| ((nI (1)) <<< ((nI (2)) &&& 31)))), (0, .ref (xa 0)), (1, .int (nI (kN)))]) X dX0_fits_59 1 rfl (nI_1 _) (Nat.le_of_ble_eq_true rfl) rfl ?_
          refine z_goto (tgt := 19) X dX0_fits_62 (by decide) ?_
          refine z_iload_n X dX0_fits_19 rfl 0 rfl ?_
          refine z_iconst (v := nI (3)) X dX0_fits_20 ci3 ?_
          refine z_icmp_ge_t (tgt := 65) X dX0_fits_21 (by decide) (by decide) ?_
          refine z_iload_n X dX0_fits_65 rfl 1 rfl ?_
          have e : spFits o (nI kN) = ((((nI (0)) ||| (nI (0))) ||| ((nI (1)) <<< ((nI (1)) &&& 31))) ||| ((nI (1)) <<< ((nI (2)) &&& 31)), o) := by
            unfold spFits
            repeat (first | rw [el_some (by assumption)] | rw [el_none (by assumption)] | rw [if_pos (by omega)] | rw [if_neg (by omega)] | rw [if_pos (by assumption)] | rw [if_neg (ts_n (by assumption))])
            all_goals first | rfl | (unfold fitTo fitTo fitTo fitTo; simp_all; try decide)
          exact z_iret X dX0_fits_66 (by omega) (by omega) ⟨_, rfl, (by rw [e]; exact ⟨⟨_, _, rfl, hX⟩, rfl⟩)⟩
    · have c2 := ts_t c2
      refine z_iconst (v := nI (1)) X dX0_fits_50 ci1 ?_
      refine z_iload_n X dX0_fits_51 rfl 0 rfl ?_
      refine z_ishl (v := (nI (1)) <<< ((nI (0)) &&& 31)) X dX0_fits_52 rfl ?_
      refine z_goto (tgt := 57) X dX0_fits_53 (by decide) ?_
      refine z_ior (v := (nI (0)) ||| ((nI (1)) <<< ((nI (0)) &&& 31))) X dX0_fits_57 rfl ?_
      refine z_istore_n (lv2 := [(2, .int ((nI (0)) ||| ((nI (1)) <<< ((nI (0)) &&& 31)))), (3, .int (nI (0))), (0, .ref (xa 0)), (1, .int (nI (kN)))]) X dX0_fits_58 rfl (Nat.le_of_ble_eq_true rfl) rfl ?_
      refine z_iinc (v := nI (1)) (lv2 := [(3, .int (nI (1))), (2, .int ((nI (0)) ||| ((nI (1)) <<< ((nI (0)) &&& 31)))), (0, .ref (xa 0)), (1, .int (nI (kN)))]) X dX0_fits_59 1 rfl (nI_1 _) (Nat.le_of_ble_eq_true rfl) rfl ?_
      refine z_goto (tgt := 19) X dX0_fits_62 (by decide) ?_
      refine z_iload_n X dX0_fits_19 rfl 0 rfl ?_
      refine z_iconst (v := nI (3)) X dX0_fits_20 ci3 ?_
      refine z_icmp_ge_f (tgt := 65) X dX0_fits_21 (by decide) (by decide) ?_
      refine z_iload_n X dX0_fits_24 rfl 1 rfl ?_
      refine z_aload_n X dX0_fits_25 rfl 2 rfl ?_
      refine z_get X dX0_fits_26 hX.ob in_X0 rfl 0 (Nat.le_of_ble_eq_true rfl) q233 rfl ?_
      refine z_get X dX0_fits_29 hX.day in_X1 rfl 0 (Nat.le_of_ble_eq_true rfl) q190 rfl ?_
      refine z_iload_n X dX0_fits_32 rfl 3 rfl ?_
      refine z_iload_n X dX0_fits_33 rfl 0 rfl ?_
      refine z_aload_n X dX0_fits_34 rfl 2 rfl ?_
      refine z_get X dX0_fits_35 hX.ob in_X0 rfl 0 (Nat.le_of_ble_eq_true rfl) q233 rfl ?_
      refine z_get X dX0_fits_38 hX.day in_X1 rfl 0 (Nat.le_of_ble_eq_true rfl) q190 rfl ?_
      refine z_cip (z_runV (rest := [.int (nI (1)), .int (nI (kN)), .ref (xa 5), .int ((nI (0)) ||| ((nI (1)) <<< ((nI (0)) &&& 31)))]) (n := 0) X [] (m_X2_state hX.wall hI) dX0_fits_41 (wl_o hX.wall) rfl (lw_V q1173 q743 q744 q68 q745) hv_X2_state rfl ⟨Nat.le_of_ble_eq_true rfl, Nat.le_of_ble_eq_true rfl⟩ ⟨by omega, by omega⟩ rfl (Nat.le_of_ble_eq_true rfl)) ?_
      refine z_cip (z_runV (rest := [.int ((nI (0)) ||| ((nI (1)) <<< ((nI (0)) &&& 31)))]) (n := 3) X [.int (nI (kN)), .int (nI (1)), .int (nI (stOf o.1))] (m_X2_fits hX.wall hI (i := kN) (z := 1) (st := stOf o.1) (by omega) (by omega) (by omega)) dX0_fits_44 (wl_o hX.wall) rfl (lw_V q683 q684 q685 q68 q686) hv_X2_fits rfl ⟨Nat.le_of_ble_eq_true rfl, Nat.le_of_ble_eq_true rfl⟩ ⟨by omega, by omega⟩ rfl (Nat.le_of_ble_eq_true rfl)) ?_
      refine z_if_eq (tgt := 56) X dX0_fits_47 (by decide) bI_0 (fun c6 => ?_) (fun c6 => ?_)
      · refine z_iconst (v := nI (0)) X dX0_fits_56 ci0 ?_
        refine z_ior (v := ((nI (0)) ||| ((nI (1)) <<< ((nI (0)) &&& 31))) ||| (nI (0))) X dX0_fits_57 rfl ?_
        refine z_istore_n (lv2 := [(2, .int (((nI (0)) ||| ((nI (1)) <<< ((nI (0)) &&& 31))) ||| (nI (0)))), (3, .int (nI (1))), (0, .ref (xa 0)), (1, .int (nI (kN)))]) X dX0_fits_58 rfl (Nat.le_of_ble_eq_true rfl) rfl ?_
        refine z_iinc (v := nI (2)) (lv2 := [(3, .int (nI (2))), (2, .int (((nI (0)) ||| ((nI (1)) <<< ((nI (0)) &&& 31))) ||| (nI (0)))), (0, .ref (xa 0)), (1, .int (nI (kN)))]) X dX0_fits_59 1 rfl (nI_1 _) (Nat.le_of_ble_eq_true rfl) rfl ?_
        refine z_goto (tgt := 19) X dX0_fits_62 (by decide) ?_
        refine z_iload_n X dX0_fits_19 rfl 0 rfl ?_
        refine z_iconst (v := nI (3)) X dX0_fits_20 ci3 ?_
        refine z_icmp_ge_f (tgt := 65) X dX0_fits_21 (by decide) (by decide) ?_
        refine z_iload_n X dX0_fits_24 rfl 1 rfl ?_
        refine z_aload_n X dX0_fits_25 rfl 2 rfl ?_
        refine z_get X dX0_fits_26 hX.ob in_X0 rfl 0 (Nat.le_of_ble_eq_true rfl) q233 rfl ?_
        refine z_get X dX0_fits_29 hX.day in_X1 rfl 0 (Nat.le_of_ble_eq_true rfl) q190 rfl ?_
        refine z_iload_n X dX0_fits_32 rfl 3 rfl ?_
        refine z_iload_n X dX0_fits_33 rfl 0 rfl ?_
        refine z_aload_n X dX0_fits_34 rfl 2 rfl ?_
        refine z_get X dX0_fits_35 hX.ob in_X0 rfl 0 (Nat.le_of_ble_eq_true rfl) q233 rfl ?_
        refine z_get X dX0_fits_38 hX.day in_X1 rfl 0 (Nat.le_of_ble_eq_true rfl) q190 rfl ?_
        refine z_cip (z_runV (rest := [.int (nI (2)), .int (nI (kN)), .ref (xa 5), .int (((nI (0)) ||| ((nI (1)) <<< ((nI (0)) &&& 31))) ||| (nI (0)))]) (n := 0) X [] (m_X2_state hX.wall hI) dX0_fits_41 (wl_o hX.wall) rfl (lw_V q1173 q743 q744 q68 q745) hv_X2_state rfl ⟨Nat.le_of_ble_eq_true rfl, Nat.le_of_ble_eq_true rfl⟩ ⟨by omega, by omega⟩ rfl (Nat.le_of_ble_eq_true rfl)) ?_
        refine z_cip (z_runV (rest := [.int (((nI (0)) ||| ((nI (1)) <<< ((nI (0)) &&& 31))) ||| (nI (0)))]) (n := 3) X [.int (nI (kN)), .int (nI (2)), .int (nI (stOf o.1))] (m_X2_fits hX.wall hI (i := kN) (z := 2) (st := stOf o.1) (by omega) (by omega) (by omega)) dX0_fits_44 (wl_o hX.wall) rfl (lw_V q683 q684 q685 q68 q686) hv_X2_fits rfl ⟨Nat.le_of_ble_eq_true rfl, Nat.le_of_ble_eq_true rfl⟩ ⟨by omega, by omega⟩ rfl (Nat.le_of_ble_eq_true rfl)) ?_
        refine z_if_eq (tgt := 56) X dX0_fits_47 (by decide) bI_0 (fun c7 => ?_) (fun c7 => ?_)
        · refine z_iconst (v := nI (0)) X dX0_fits_56 ci0 ?_
          refine z_ior (v := (((nI (0)) ||| ((nI (1)) <<< ((nI (0)) &&& 31))) ||| (nI (0))) ||| (nI (0))) X dX0_fits_57 rfl ?_
          refine z_istore_n (lv2 := [(2, .int ((((nI (0)) ||| ((nI (1)) <<< ((nI (0)) &&& 31))) ||| (nI (0))) ||| (nI (0)))), (3, .int (nI (2))), (0, .ref (xa 0)), (1, .int (nI (kN)))]) X dX0_fits_58 rfl (Nat.le_of_ble_eq_true rfl) rfl ?_
          refine z_iinc (v := nI (3)) (lv2 := [(3, .int (nI (3))), (2, .int ((((nI (0)) ||| ((nI (1)) <<< ((nI (0)) &&& 31))) ||| (nI (0))) ||| (nI (0)))), (0, .ref (xa 0)), (1, .int (nI (kN)))]) X dX0_fits_59 1 rfl (nI_1 _) (Nat.le_of_ble_eq_true rfl) rfl ?_
          refine z_goto (tgt := 19) X dX0_fits_62 (by decide) ?_
          refine z_iload_n X dX0_fits_19 rfl 0 rfl ?_
          refine z_iconst (v := nI (3)) X dX0_fits_20 ci3 ?_
          refine z_icmp_ge_t (tgt := 65) X dX0_fits_21 (by decide) (by decide) ?_
          refine z_iload_n X dX0_fits_65 rfl 1 rfl ?_
          have e : spFits o (nI kN) = ((((nI (0)) ||| ((nI (1)) <<< ((nI (0)) &&& 31))) ||| (nI (0))) ||| (nI (0)), o) := by
            unfold spFits
            repeat (first | rw [el_some (by assumption)] | rw [el_none (by assumption)] | rw [if_pos (by omega)] | rw [if_neg (by omega)] | rw [if_pos (by assumption)] | rw [if_neg (ts_n (by assumption))])
            all_goals first | rfl | (unfold fitTo fitTo fitTo fitTo; simp_all; try decide)
          exact z_iret X dX0_fits_66 (by omega) (by omega) ⟨_, rfl, (by rw [e]; exact ⟨⟨_, _, rfl, hX⟩, rfl⟩)⟩
        · have c7 := ts_t c7
          refine z_iconst (v := nI (1)) X dX0_fits_50 ci1 ?_
          refine z_iload_n X dX0_fits_51 rfl 0 rfl ?_
          refine z_ishl (v := (nI (1)) <<< ((nI (2)) &&& 31)) X dX0_fits_52 rfl ?_
          refine z_goto (tgt := 57) X dX0_fits_53 (by decide) ?_
          refine z_ior (v := (((nI (0)) ||| ((nI (1)) <<< ((nI (0)) &&& 31))) ||| (nI (0))) ||| ((nI (1)) <<< ((nI (2)) &&& 31))) X dX0_fits_57 rfl ?_
          refine z_istore_n (lv2 := [(2, .int ((((nI (0)) ||| ((nI (1)) <<< ((nI (0)) &&& 31))) ||| (nI (0))) ||| ((nI (1)) <<< ((nI (2)) &&& 31)))), (3, .int (nI (2))), (0, .ref (xa 0)), (1, .int (nI (kN)))]) X dX0_fits_58 rfl (Nat.le_of_ble_eq_true rfl) rfl ?_
          refine z_iinc (v := nI (3)) (lv2 := [(3, .int (nI (3))), (2, .int ((((nI (0)) ||| ((nI (1)) <<< ((nI (0)) &&& 31))) ||| (nI (0))) ||| ((nI (1)) <<< ((nI (2)) &&& 31)))), (0, .ref (xa 0)), (1, .int (nI (kN)))]) X dX0_fits_59 1 rfl (nI_1 _) (Nat.le_of_ble_eq_true rfl) rfl ?_
          refine z_goto (tgt := 19) X dX0_fits_62 (by decide) ?_
          refine z_iload_n X dX0_fits_19 rfl 0 rfl ?_
          refine z_iconst (v := nI (3)) X dX0_fits_20 ci3 ?_
          refine z_icmp_ge_t (tgt := 65) X dX0_fits_21 (by decide) (by decide) ?_
          refine z_iload_n X dX0_fits_65 rfl 1 rfl ?_
          have e : spFits o (nI kN) = ((((nI (0)) ||| ((nI (1)) <<< ((nI (0)) &&& 31))) ||| (nI (0))) ||| ((nI (1)) <<< ((nI (2)) &&& 31)), o) := by
            unfold spFits
            repeat (first | rw [el_some (by assumption)] | rw [el_none (by assumption)] | rw [if_pos (by omega)] | rw [if_neg (by omega)] | rw [if_pos (by assumption)] | rw [if_neg (ts_n (by assumption))])
            all_goals first | rfl | (unfold fitTo fitTo fitTo fitTo; simp_all; try decide)
          exact z_iret X dX0_fits_66 (by omega) (by omega) ⟨_, rfl, (by rw [e]; exact ⟨⟨_, _, rfl, hX⟩, rfl⟩)⟩
      · have c6 := ts_t c6
        refine z_iconst (v := nI (1)) X dX0_fits_50 ci1 ?_
        refine z_iload_n X dX0_fits_51 rfl 0 rfl ?_
        refine z_ishl (v := (nI (1)) <<< ((nI (1)) &&& 31)) X dX0_fits_52 rfl ?_
        refine z_goto (tgt := 57) X dX0_fits_53 (by decide) ?_
        refine z_ior (v := ((nI (0)) ||| ((nI (1)) <<< ((nI (0)) &&& 31))) ||| ((nI (1)) <<< ((nI (1)) &&& 31))) X dX0_fits_57 rfl ?_
        refine z_istore_n (lv2 := [(2, .int (((nI (0)) ||| ((nI (1)) <<< ((nI (0)) &&& 31))) ||| ((nI (1)) <<< ((nI (1)) &&& 31)))), (3, .int (nI (1))), (0, .ref (xa 0)), (1, .int (nI (kN)))]) X dX0_fits_58 rfl (Nat.le_of_ble_eq_true rfl) rfl ?_
        refine z_iinc (v := nI (2)) (lv2 := [(3, .int (nI (2))), (2, .int (((nI (0)) ||| ((nI (1)) <<< ((nI (0)) &&& 31))) ||| ((nI (1)) <<< ((nI (1)) &&& 31)))), (0, .ref (xa 0)), (1, .int (nI (kN)))]) X dX0_fits_59 1 rfl (nI_1 _) (Nat.le_of_ble_eq_true rfl) rfl ?_
        refine z_goto (tgt := 19) X dX0_fits_62 (by decide) ?_
        refine z_iload_n X dX0_fits_19 rfl 0 rfl ?_
        refine z_iconst (v := nI (3)) X dX0_fits_20 ci3 ?_
        refine z_icmp_ge_f (tgt := 65) X dX0_fits_21 (by decide) (by decide) ?_
        refine z_iload_n X dX0_fits_24 rfl 1 rfl ?_
        refine z_aload_n X dX0_fits_25 rfl 2 rfl ?_
        refine z_get X dX0_fits_26 hX.ob in_X0 rfl 0 (Nat.le_of_ble_eq_true rfl) q233 rfl ?_
        refine z_get X dX0_fits_29 hX.day in_X1 rfl 0 (Nat.le_of_ble_eq_true rfl) q190 rfl ?_
        refine z_iload_n X dX0_fits_32 rfl 3 rfl ?_
        refine z_iload_n X dX0_fits_33 rfl 0 rfl ?_
        refine z_aload_n X dX0_fits_34 rfl 2 rfl ?_
        refine z_get X dX0_fits_35 hX.ob in_X0 rfl 0 (Nat.le_of_ble_eq_true rfl) q233 rfl ?_
        refine z_get X dX0_fits_38 hX.day in_X1 rfl 0 (Nat.le_of_ble_eq_true rfl) q190 rfl ?_
        refine z_cip (z_runV (rest := [.int (nI (2)), .int (nI (kN)), .ref (xa 5), .int (((nI (0)) ||| ((nI (1)) <<< ((nI (0)) &&& 31))) ||| ((nI (1)) <<< ((nI (1)) &&& 31)))]) (n := 0) X [] (m_X2_state hX.wall hI) dX0_fits_41 (wl_o hX.wall) rfl (lw_V q1173 q743 q744 q68 q745) hv_X2_state rfl ⟨Nat.le_of_ble_eq_true rfl, Nat.le_of_ble_eq_true rfl⟩ ⟨by omega, by omega⟩ rfl (Nat.le_of_ble_eq_true rfl)) ?_
        refine z_cip (z_runV (rest := [.int (((nI (0)) ||| ((nI (1)) <<< ((nI (0)) &&& 31))) ||| ((nI (1)) <<< ((nI (1)) &&& 31)))]) (n := 3) X [.int (nI (kN)), .int (nI (2)), .int (nI (stOf o.1))] (m_X2_fits hX.wall hI (i := kN) (z := 2) (st := stOf o.1) (by omega) (by omega) (by omega)) dX0_fits_44 (wl_o hX.wall) rfl (lw_V q683 q684 q685 q68 q686) hv_X2_fits rfl ⟨Nat.le_of_ble_eq_true rfl, Nat.le_of_ble_eq_true rfl⟩ ⟨by omega, by omega⟩ rfl (Nat.le_of_ble_eq_true rfl)) ?_
        refine z_if_eq (tgt := 56) X dX0_fits_47 (by decide) bI_0 (fun c8 => ?_) (fun c8 => ?_)
        · refine z_iconst (v := nI (0)) X dX0_fits_56 ci0 ?_
          refine z_ior (v := (((nI (0)) ||| ((nI (1)) <<< ((nI (0)) &&& 31))) ||| ((nI (1)) <<< ((nI (1)) &&& 31))) ||| (nI (0))) X dX0_fits_57 rfl ?_
          refine z_istore_n (lv2 := [(2, .int ((((nI (0)) ||| ((nI (1)) <<< ((nI (0)) &&& 31))) ||| ((nI (1)) <<< ((nI (1)) &&& 31))) ||| (nI (0)))), (3, .int (nI (2))), (0, .ref (xa 0)), (1, .int (nI (kN)))]) X dX0_fits_58 rfl (Nat.le_of_ble_eq_true rfl) rfl ?_
          refine z_iinc (v := nI (3)) (lv2 := [(3, .int (nI (3))), (2, .int ((((nI (0)) ||| ((nI (1)) <<< ((nI (0)) &&& 31))) ||| ((nI (1)) <<< ((nI (1)) &&& 31))) ||| (nI (0)))), (0, .ref (xa 0)), (1, .int (nI (kN)))]) X dX0_fits_59 1 rfl (nI_1 _) (Nat.le_of_ble_eq_true rfl) rfl ?_
          refine z_goto (tgt := 19) X dX0_fits_62 (by decide) ?_
          refine z_iload_n X dX0_fits_19 rfl 0 rfl ?_
          refine z_iconst (v := nI (3)) X dX0_fits_20 ci3 ?_
          refine z_icmp_ge_t (tgt := 65) X dX0_fits_21 (by decide) (by decide) ?_
          refine z_iload_n X dX0_fits_65 rfl 1 rfl ?_
          have e : spFits o (nI kN) = ((((nI (0)) ||| ((nI (1)) <<< ((nI (0)) &&& 31))) ||| ((nI (1)) <<< ((nI (1)) &&& 31))) ||| (nI (0)), o) := by
            unfold spFits
            repeat (first | rw [el_some (by assumption)] | rw [el_none (by assumption)] | rw [if_pos (by omega)] | rw [if_neg (by omega)] | rw [if_pos (by assumption)] | rw [if_neg (ts_n (by assumption))])
            all_goals first | rfl | (unfold fitTo fitTo fitTo fitTo; simp_all; try decide)
          exact z_iret X dX0_fits_66 (by omega) (by omega) ⟨_, rfl, (by rw [e]; exact ⟨⟨_, _, rfl, hX⟩, rfl⟩)⟩
        · have c8 := ts_t c8
          refine z_iconst (v := nI (1)) X dX0_fits_50 ci1 ?_
          refine z_iload_n X dX0_fits_51 rfl 0 rfl ?_
          refine z_ishl (v := (nI (1)) <<< ((nI (2)) &&& 31)) X dX0_fits_52 rfl ?_
          refine z_goto (tgt := 57) X dX0_fits_53 (by decide) ?_
          refine z_ior (v := (((nI (0)) ||| ((nI (1)) <<< ((nI (0)) &&& 31))) ||| ((nI (1)) <<< ((nI (1)) &&& 31))) ||| ((nI (1)) <<< ((nI (2)) &&& 31))) X dX0_fits_57 rfl ?_
          refine z_istore_n (lv2 := [(2, .int ((((nI (0)) ||| ((nI (1)) <<< ((nI (0)) &&& 31))) ||| ((nI (1)) <<< ((nI (1)) &&& 31))) ||| ((nI (1)) <<< ((nI (2)) &&& 31)))), (3, .int (nI (2))), (0, .ref (xa 0)), (1, .int (nI (kN)))]) X dX0_fits_58 rfl (Nat.le_of_ble_eq_true rfl) rfl ?_
          refine z_iinc (v := nI (3)) (lv2 := [(3, .int (nI (3))), (2, .int ((((nI (0)) ||| ((nI (1)) <<< ((nI (0)) &&& 31))) ||| ((nI (1)) <<< ((nI (1)) &&& 31))) ||| ((nI (1)) <<< ((nI (2)) &&& 31)))), (0, .ref (xa 0)), (1, .int (nI (kN)))]) X dX0_fits_59 1 rfl (nI_1 _) (Nat.le_of_ble_eq_true rfl) rfl ?_
          refine z_goto (tgt := 19) X dX0_fits_62 (by decide) ?_
          refine z_iload_n X dX0_fits_19 rfl 0 rfl ?_
          refine z_iconst (v := nI (3)) X dX0_fits_20 ci3 ?_
          refine z_icmp_ge_t (tgt := 65) X dX0_fits_21 (by decide) (by decide) ?_
          refine z_iload_n X dX0_fits_65 rfl 1 rfl ?_
          have e : spFits o (nI kN) = ((((nI (0)) ||| ((nI (1)) <<< ((nI (0)) &&& 31))) ||| ((nI (1)) <<< ((nI (1)) &&& 31))) ||| ((nI (1)) <<< ((nI (2)) &&& 31)), o) := by
            unfold spFits
            repeat (first | rw [el_some (by assumption)] | rw [el_none (by assumption)] | rw [if_pos (by omega)] | rw [if_neg (by omega)] | rw [if_pos (by assumption)] | rw [if_neg (ts_n (by assumption))])
            all_goals first | rfl | (unfold fitTo fitTo fitTo fitTo; simp_all; try decide)
          exact z_iret X dX0_fits_66 (by omega) (by omega) ⟨_, rfl, (by rw [e]; exact ⟨⟨_, _, rfl, hX⟩, rfl⟩)⟩
  · have e2 : rgn (o.1.2 0) k = none := rgn_f c1
    refine z_aload_n X dX0_fits_8 rfl 0 rfl ?_
    refine z_bipush (v := (-2)) X dX0_fits_9 (by decide) ?_
    refine z_ci (z_runV (rest := []) (n := 1) X [.int ((-2))] (m_X0_no_2 hX) dX0_fits_11 hX.ob rfl (lw_V q350 q352 qs2 q66 q353) hv_X0_no rfl ⟨Nat.le_of_ble_eq_true rfl, Nat.le_of_ble_eq_true rfl⟩ ⟨by omega, by omega⟩ rfl (Nat.le_of_ble_eq_true rfl)) (fun r9 w11 h10 => ?_)
    obtain ⟨r9e, hX10⟩ := h10
    rw [r9e]
    have e : spFits o k = ((-2), oRef o 2) := by
      unfold spFits
      repeat (first | rw [el_some (by assumption)] | rw [el_none (by assumption)] | rw [if_pos (by omega)] | rw [if_neg (by omega)] | rw [if_pos (by assumption)] | rw [if_neg (ts_n (by assumption))])
      all_goals first | rfl | (unfold fitTo fitTo fitTo fitTo; simp_all; try decide)
    exact z_iret X dX0_fits_14 (by omega) (by omega) ⟨_, rfl, (by rw [e]; exact ⟨⟨_, _, rfl, hX10⟩, rfl⟩)⟩
