/-! x: board, feast -/
set_option maxRecDepth 100000
theorem brd_min {b : Nat} (h : b ≤ 4) : (if nI (b + 3) < nI 4 then nI (b + 3) else nI 4) = nI (if 1 < b then 4 else b + 3) := by
  rw [min_nI (by omega) (by omega)]
  congr 1
  split <;> split <;> omega
set_option maxHeartbeats 2000000 in
theorem m_X2_allF {l : Launch} {G : GG} {w : GW} {aw : Nat → Nat} {rr : Option Nat} {S : WS} (hW : WallW G w aw rr S) (h6 : S.2 0 ≤ 6) (hs : sumTo (S.1 4) (S.2 0) ≤ 1000) : gM l G yX2_all cX2_all 3 (some .int) 1 0 0 [.ref (aw 0)] w (pI (fun r w1 => r = nI (sumTo (S.1 4) (S.2 0)) ∧ w1 = w)) := by
  refine Z.met (own := "ThreeSizes$Wall") (nm := "all") (lv := [(0, .ref (aw 0))]) (by decide) rfl rfl (Nat.le_of_ble_eq_true rfl) rfl (fun κ X => ?_)
  refine z_iconst (v := nI (0)) X dX2_all_0 ci0 ?_
  refine z_istore_n (lv2 := [(1, .int (nI (0))), (0, .ref (aw 0))]) X dX2_all_1 rfl (Nat.le_of_ble_eq_true rfl) rfl ?_
  refine z_iconst (v := nI (0)) X dX2_all_2 ci0 ?_
  refine z_istore_n (lv2 := [(2, .int (nI (0))), (1, .int (nI (0))), (0, .ref (aw 0))]) X dX2_all_3 rfl (Nat.le_of_ble_eq_true rfl) rfl ?_
  have lp : ∀ (lq i : Nat), i + lq = S.2 0 → Z κ w [(2, .int (nI (i))), (1, .int (nI (sumTo (S.1 4) i))), (0, .ref (aw 0))] 0 0 4 [] := by
    intro lq
    induction lq with
    | zero =>
      intro i lh
      have hle := sumTo_le (f := S.1 4) (i := i) (n := S.2 0) (by omega)
      refine z_iload_n X dX2_all_4 rfl 0 rfl ?_
      refine z_aload_n X dX2_all_5 rfl 2 rfl ?_
      refine z_get X dX2_all_6 (wl_o hW) in_X2 rfl 8 (Nat.le_of_ble_eq_true rfl) q151 rfl ?_
      refine z_icmp_ge_t (tgt := 27) X dX2_all_9 (by decide) ((nI_leI (by omega) (by omega)).mpr (by omega)) ?_
      refine z_iload_n X dX2_all_27 rfl 1 rfl ?_
      exact z_iret X dX2_all_28 (by omega) (by omega) ⟨_, rfl, ⟨by rw [show i = S.2 0 by omega], rfl⟩⟩
    | succ lq ih =>
      intro i lh
      have hle := sumTo_le (f := S.1 4) (i := i + 1) (n := S.2 0) (by omega)
      simp only [sumTo] at hle
      refine z_iload_n X dX2_all_4 rfl 0 rfl ?_
      refine z_aload_n X dX2_all_5 rfl 2 rfl ?_
      refine z_get X dX2_all_6 (wl_o hW) in_X2 rfl 8 (Nat.le_of_ble_eq_true rfl) q151 rfl ?_
      refine z_icmp_ge_f (tgt := 27) X dX2_all_9 (by decide) (fun h => absurd ((nI_leI (by omega) (by omega)).mp h) (by omega)) ?_
      refine z_iload_n X dX2_all_12 rfl 1 rfl ?_
      refine z_aload_n X dX2_all_13 rfl 2 rfl ?_
      refine z_get X dX2_all_14 (wl_o hW) in_X2 rfl 4 (Nat.le_of_ble_eq_true rfl) q138 rfl ?_
      refine z_iload_n X dX2_all_17 rfl 0 rfl ?_
      refine z_iaN (v := nI (S.1 4 i)) X dX2_all_18 (wl_5 hW) (by omega) (by omega) rfl ?_
      refine z_iadd (v := nI (sumTo (S.1 4) i + (S.1 4 i))) X dX2_all_19 (nI_add _ _) ?_
      refine z_istore_n (lv2 := [(1, .int (nI (sumTo (S.1 4) i + (S.1 4 i)))), (2, .int (nI (i))), (0, .ref (aw 0))]) X dX2_all_20 rfl (Nat.le_of_ble_eq_true rfl) rfl ?_
      refine z_iinc (v := nI (i + 1)) (lv2 := [(2, .int (nI (i + 1))), (1, .int (nI (sumTo (S.1 4) i + (S.1 4 i)))), (0, .ref (aw 0))]) X dX2_all_21 1 rfl (nI_1 _) (Nat.le_of_ble_eq_true rfl) rfl ?_
      refine z_goto (tgt := 4) X dX2_all_24 (by decide) ?_
      exact ih (i + 1) (by omega)
  exact lp (S.2 0) 0 (by omega)
set_option maxHeartbeats 2000000 in
theorem x_board {l : Launch} {G : GG} {w : GW} {xa : Nat → Nat} {rr : Option Nat} {o : OS} {im : IM} (hX : XT G w xa rr o im) (hO : oInv o) {n : Int32} : gM l G yX0_board cX0_board 3 (some .long) 20 22 1058 [.ref (xa 0), .int (n)] w (pL (fun r w1 => XE G (xa 0) w1 (spBoard o n).2 im ∧ r = (spBoard o n).1)) := by
  refine Z.met (own := "ThreeSizes") (nm := "board") (lv := [(0, .ref (xa 0)), (1, .int (n))]) (by decide) rfl rfl (Nat.le_of_ble_eq_true rfl) rfl (fun κ X => ?_)
  have hI := hO.1
  have h6 := hI.2.1
  have ht200 := hO.2.2.2
  refine z_iload_n X dX0_board_0 rfl 1 rfl ?_
  refine z_cip (z_runS (rest := []) (n := 1) X [.int (n)] (m_X0_isHours (v := n)) dX0_board_1 (lw_S q1198 q1199 q66 q1200) hs_X0_isHours rfl ⟨Nat.le_of_ble_eq_true rfl, Nat.le_of_ble_eq_true rfl⟩ ⟨by omega, by omega⟩ rfl (Nat.le_of_ble_eq_true rfl)) ?_
  refine z_if_ne (tgt := 14) X dX0_board_4 (by decide) bI_d (fun c1 => ?_) (fun c1 => ?_)
  · have c1 := Classical.not_not.mp c1
    obtain ⟨nN, nNl, nNh, rfl, e1⟩ := rgb_t (lo := 0) (hi := 24) (by decide) (by decide) (c1)
    have hz := hI.1 2 (by omega)
    have hz0 := hI.1 0 (by omega)
    refine z_aload_n X dX0_board_14 rfl 0 rfl ?_
    refine z_get X dX0_board_15 hX.ob in_X0 rfl 0 (Nat.le_of_ble_eq_true rfl) q233 rfl ?_
    refine z_get X dX0_board_18 hX.day in_X1 rfl 0 (Nat.le_of_ble_eq_true rfl) q190 rfl ?_
    refine z_iconst (v := nI (2)) X dX0_board_21 ci2 ?_
    refine z_cip (z_runV (rest := []) (n := 1) X [.int (nI (2))] (m_X2_free hX.wall hI (z := 2) (by omega)) dX0_board_22 (wl_o hX.wall) rfl (lw_V q1172 q747 q748 q68 q749) hv_X2_free rfl ⟨Nat.le_of_ble_eq_true rfl, Nat.le_of_ble_eq_true rfl⟩ ⟨by omega, by omega⟩ rfl (Nat.le_of_ble_eq_true rfl)) ?_
    refine z_if_ne (tgt := 35) X dX0_board_25 (by decide) (nz_eq (by omega)) (fun c2 => ?_) (fun c2 => ?_)
    · refine z_aload_n X dX0_board_35 rfl 0 rfl ?_
      refine z_get X dX0_board_36 hX.ob in_X0 rfl 0 (Nat.le_of_ble_eq_true rfl) q233 rfl ?_
      refine z_get X dX0_board_39 hX.day in_X1 rfl 0 (Nat.le_of_ble_eq_true rfl) q190 rfl ?_
      refine z_ca (z_runV (rest := []) (n := 0) X [] (m_X2_copied hX.wall hX.norm) dX0_board_42 (wl_o hX.wall) rfl (lw_V q821 q822 q823 q68 q824) hv_X2_copied rfl ⟨Nat.le_of_ble_eq_true rfl, Nat.le_of_ble_eq_true rfl⟩ ⟨by omega, by omega⟩ rfl (Nat.le_of_ble_eq_true rfl)) (fun r3 w5 h4 => ?_)
      obtain ⟨at_, rfl, hWt, hkp, hfr⟩ := h4
      obtain ⟨wt0, hT0, hWt0⟩ := Two.start hkp hfr hWt
      refine z_astore_n (lv2 := [(2, .ref (at_ 0)), (0, .ref (xa 0)), (1, .int (nI (nN)))]) X dX0_board_45 rfl (Nat.le_of_ble_eq_true rfl) rfl ?_
      refine z_aload_n X dX0_board_46 rfl 0 rfl ?_
      refine z_get X dX0_board_47 (wl_o (hWt0.mono hT0.2.1)) in_X2 rfl 0 (Nat.le_of_ble_eq_true rfl) q125 rfl ?_
      refine z_iconst (v := nI (2)) X dX0_board_50 ci2 ?_
      refine z_dup2 X dX0_board_51 rfl rfl ?_
      refine z_iaN (v := nI (o.1.1 0 2)) X dX0_board_52 (wl_1 (hWt0.mono hT0.2.1)) (by omega) (by omega) rfl ?_
      refine z_iconst (v := nI (1)) X dX0_board_53 ci1 ?_
      refine z_isub (v := nI (o.1.1 0 2 - 1)) X dX0_board_54 (pk_sub (by omega)) ?_
      refine z_isN X dX0_board_55 (wl_1 (hWt0.mono hT0.2.1)) (by omega) (by omega) ?_
      have hWt6 : WallW G _ at_ none (wPut o.1 0 2 (o.1.1 0 2 - 1)) := wl_put hWt0 0 (by decide) 3 2 (o.1.1 0 2 - 1) rfl
      have hTt6 := hT0.putR (hWt0.1 1 rfl) (e := .inl (G.2.1 0, 3, .inl (upd (fun j => nI (o.1.1 0 j)) 2 (nI (o.1.1 0 2 - 1)))))
      have hVt6 : wInv (wPut o.1 0 2 (o.1.1 0 2 - 1)) := wInv_box hI (by omega) (by omega)
      refine z_aload_n X dX0_board_56 rfl 0 rfl ?_
      refine z_get X dX0_board_57 (wl_o (hWt6.mono hTt6.2.1)) in_X2 rfl 0 (Nat.le_of_ble_eq_true rfl) q125 rfl ?_
      refine z_iconst (v := nI (0)) X dX0_board_60 ci0 ?_
      refine z_iconst (v := nI (4)) X dX0_board_61 ci4 ?_
      refine z_aload_n X dX0_board_62 rfl 0 rfl ?_
      refine z_get X dX0_board_63 (wl_o (hWt6.mono hTt6.2.1)) in_X2 rfl 0 (Nat.le_of_ble_eq_true rfl) q125 rfl ?_
      refine z_iconst (v := nI (0)) X dX0_board_66 ci0 ?_
      refine z_iaN (v := nI (o.1.1 0 0)) X dX0_board_67 (wl_1 (hWt6.mono hTt6.2.1)) (by omega) (by omega) (congrArg nI (wPut_ne (by decide))) ?_
      refine z_iconst (v := nI (3)) X dX0_board_68 ci3 ?_
      refine z_iadd (v := nI (o.1.1 0 0 + 3)) X dX0_board_69 (nI_add _ _) ?_
      refine z_min (v := nI (brd o.1)) X dX0_board_70 q1336 (brd_min (by omega)) (by omega) ⟨by omega, by omega⟩ (Nat.le_of_ble_eq_true rfl) ?_
      refine z_isN X dX0_board_73 (wl_1 (hWt6.mono hTt6.2.1)) (by omega) (by omega) ?_
      have hWt7 : WallW G _ at_ none (wPut (wPut o.1 0 2 (o.1.1 0 2 - 1)) 0 0 (brd o.1)) := wl_put hWt6 0 (by decide) 3 0 (brd o.1) rfl
      have hTt7 := hTt6.putR (hWt6.1 1 rfl) (e := .inl (G.2.1 0, 3, .inl (upd (fun j => nI ((wPut o.1 0 2 (o.1.1 0 2 - 1)).1 0 j)) 0 (nI (brd o.1)))))
      have hVt7 : wInv (wPut (wPut o.1 0 2 (o.1.1 0 2 - 1)) 0 0 (brd o.1)) := wInv_box hVt6 (by rw [wPut_oth (by decide)]; unfold brd; split <;> omega) (by unfold brd; split <;> omega)
      refine z_aload_n X dX0_board_74 rfl 0 rfl ?_
      refine z_iload_n X dX0_board_75 rfl 2 rfl ?_
      refine z_cl (z_runS (rest := []) (n := 2) X [.ref (at_ 0), .int (nI (nN))] (gM.frameL (m_W_best rowsO_none hWt7 hVt7 (n := nN) (by omega)) hTt7.2.1) dX0_board_76 (lw_S q1212 q1213 q66 q1214) hs_X0_best_2 rfl ⟨Nat.le_of_ble_eq_true rfl, Nat.le_of_ble_eq_true rfl⟩ ⟨by omega, by omega⟩ rfl (Nat.le_of_ble_eq_true rfl)) (fun r8 w10 h9 => ?_)
      obtain ⟨wt9, ⟨r8e, q9, ro9, T9, hW9, hR9⟩, hf9⟩ := h9
      rw [r8e]
      have hT9 := hTt7.right hf9
      refine z_aload_n X dX0_board_79 rfl 1 rfl ?_
      refine z_get X dX0_board_80 (hX.mono hT9.1).ob in_X0 rfl 0 (Nat.le_of_ble_eq_true rfl) q233 rfl ?_
      refine z_get X dX0_board_83 (hX.mono hT9.1).day in_X1 rfl 0 (Nat.le_of_ble_eq_true rfl) q190 rfl ?_
      refine z_iload_n X dX0_board_86 rfl 2 rfl ?_
      refine z_cl (z_runS (rest := [.long (bestV (wPut (wPut o.1 0 2 (o.1.1 0 2 - 1)) 0 0 (brd o.1)) nN)]) (n := 2) X [.ref (xa 5), .int (nI (nN))] (gM.frameL (m_x_best hX hO (n := nN) (by omega)) hT9.1) dX0_board_87 (lw_S q1212 q1213 q66 q1214) hs_X0_best_2 rfl ⟨Nat.le_of_ble_eq_true rfl, Nat.le_of_ble_eq_true rfl⟩ ⟨by omega, by omega⟩ rfl (Nat.le_of_ble_eq_true rfl)) (fun r11 w13 h12 => ?_)
      obtain ⟨wx12, ⟨xa12, rr12, hk12, hX12, r11e⟩, hf12⟩ := h12
      rw [r11e]
      have hT12 := hT9.left hf12
      rw [← hk12 0 (by omega) (by omega) (by omega)]
      refine z_lsub (v := (bestV (wPut (wPut o.1 0 2 (o.1.1 0 2 - 1)) 0 0 (brd o.1)) nN) - (bestV o.1 nN)) X dX0_board_90 rfl ?_
      have e : spBoard o (nI nN) = ((bestV (wPut (wPut o.1 0 2 (o.1.1 0 2 - 1)) 0 0 (brd o.1)) nN) - (bestV o.1 nN), o) := by
        unfold spBoard wBoard
        repeat (first | rw [el_some (by assumption)] | rw [el_none (by assumption)] | rw [if_pos (by omega)] | rw [if_neg (by omega)] | rw [if_pos (by assumption)] | rw [if_neg (ts_n (by assumption))])
        all_goals first | rfl | (exfalso; omega)
      exact z_lret X dX0_board_91 (by omega) (by omega) ⟨_, rfl, (by rw [e]; exact ⟨⟨_, _, (hk12 0 (by decide) (by decide) (by decide)), (hX12.mono hT12.1)⟩, rfl⟩)⟩
    · refine z_aload_n X dX0_board_28 rfl 0 rfl ?_
      refine z_bipush (v := (-5)) X dX0_board_29 (by decide) ?_
      refine z_cl (z_runV (rest := []) (n := 1) X [.int ((-5))] (m_X0_noDeep_5 hX) dX0_board_31 hX.ob rfl (lw_V q1189 q1191 qs16 q66 q1192) hv_X0_noDeep rfl ⟨Nat.le_of_ble_eq_true rfl, Nat.le_of_ble_eq_true rfl⟩ ⟨by omega, by omega⟩ rfl (Nat.le_of_ble_eq_true rfl)) (fun r14 w16 h15 => ?_)
      obtain ⟨r14e, hX15⟩ := h15
      rw [r14e]
      have e : spBoard o (nI nN) = (-1000000000000 + ((-5) : Int32).toInt64, oRef o 5) := by
        unfold spBoard wBoard
        repeat (first | rw [el_some (by assumption)] | rw [el_none (by assumption)] | rw [if_pos (by omega)] | rw [if_neg (by omega)] | rw [if_pos (by assumption)] | rw [if_neg (ts_n (by assumption))])
        all_goals first | rfl | (exfalso; omega)
      exact z_lret X dX0_board_34 (by omega) (by omega) ⟨_, rfl, (by rw [e]; exact ⟨⟨_, _, rfl, hX15⟩, rfl⟩)⟩
  · have e2 : rgb 0 24 n = none := rgb_f c1
    refine z_aload_n X dX0_board_7 rfl 0 rfl ?_
    refine z_bipush (v := (-2)) X dX0_board_8 (by decide) ?_
    refine z_cl (z_runV (rest := []) (n := 1) X [.int ((-2))] (m_X0_noDeep_2 hX) dX0_board_10 hX.ob rfl (lw_V q1189 q1191 qs16 q66 q1192) hv_X0_noDeep rfl ⟨Nat.le_of_ble_eq_true rfl, Nat.le_of_ble_eq_true rfl⟩ ⟨by omega, by omega⟩ rfl (Nat.le_of_ble_eq_true rfl)) (fun r17 w19 h18 => ?_)
    obtain ⟨r17e, hX18⟩ := h18
    rw [r17e]
    have e : spBoard o n = (-1000000000000 + ((-2) : Int32).toInt64, oRef o 2) := by
      unfold spBoard wBoard
      repeat (first | rw [el_some (by assumption)] | rw [el_none (by assumption)] | rw [if_pos (by omega)] | rw [if_neg (by omega)] | rw [if_pos (by assumption)] | rw [if_neg (ts_n (by assumption))])
      all_goals first | rfl | (exfalso; omega)
    exact z_lret X dX0_board_13 (by omega) (by omega) ⟨_, rfl, (by rw [e]; exact ⟨⟨_, _, rfl, hX18⟩, rfl⟩)⟩
set_option maxHeartbeats 2000000 in
theorem x_feast {l : Launch} {G : GG} {w : GW} {xa : Nat → Nat} {rr : Option Nat} {o : OS} {im : IM} (hX : XT G w xa rr o im) (hO : oInv o) {k n : Int32} : gM l G yX0_feast cX0_feast 5 (some .long) 20 22 1058 [.ref (xa 0), .int (k), .int (n)] w (pL (fun r w1 => XE G (xa 0) w1 (spFeast o k n).2 im ∧ r = (spFeast o k n).1)) := by
  refine Z.met (own := "ThreeSizes") (nm := "feast") (lv := [(0, .ref (xa 0)), (1, .int (k)), (2, .int (n))]) (by decide) rfl rfl (Nat.le_of_ble_eq_true rfl) rfl (fun κ X => ?_)
  have hI := hO.1
  have h6 := hI.2.1
  have ht200 := hO.2.2.2
  refine z_iload_n X dX0_feast_0 rfl 1 rfl ?_
  refine z_iconst (v := nI (0)) X dX0_feast_1 ci0 ?_
  refine z_bipush (v := nI (50)) X dX0_feast_2 (by decide) ?_
  refine z_cip (z_runS (rest := []) (n := 3) X [.int (k), .int (nI (0)), .int (nI (50))] m_X0_isIn dX0_feast_4 (lw_S q347 q348 q66 q349) hs_X0_isIn rfl ⟨Nat.le_of_ble_eq_true rfl, Nat.le_of_ble_eq_true rfl⟩ ⟨by omega, by omega⟩ rfl (Nat.le_of_ble_eq_true rfl)) ?_
  refine z_if_eq (tgt := 17) X dX0_feast_7 (by decide) bI_d (fun c1 => ?_) (fun c1 => ?_)
  · have e1 : rgb 0 50 k = none := rgb_f c1
    refine z_aload_n X dX0_feast_17 rfl 0 rfl ?_
    refine z_bipush (v := (-2)) X dX0_feast_18 (by decide) ?_
    refine z_cl (z_runV (rest := []) (n := 1) X [.int ((-2))] (m_X0_noDeep_2 hX) dX0_feast_20 hX.ob rfl (lw_V q1189 q1191 qs16 q66 q1192) hv_X0_noDeep rfl ⟨Nat.le_of_ble_eq_true rfl, Nat.le_of_ble_eq_true rfl⟩ ⟨by omega, by omega⟩ rfl (Nat.le_of_ble_eq_true rfl)) (fun r2 w4 h3 => ?_)
    obtain ⟨r2e, hX3⟩ := h3
    rw [r2e]
    have e : spFeast o k n = (-1000000000000 + ((-2) : Int32).toInt64, oRef o 2) := by
      unfold spFeast
      repeat (first | rw [el_some (by assumption)] | rw [el_none (by assumption)] | rw [if_pos (by omega)] | rw [if_neg (by omega)] | rw [if_pos (by assumption)] | rw [if_neg (ts_n (by assumption))])
      all_goals first | rfl | (exfalso; omega)
    exact z_lret X dX0_feast_23 (by omega) (by omega) ⟨_, rfl, (by rw [e]; exact ⟨⟨_, _, rfl, hX3⟩, rfl⟩)⟩
  · have c1 := Classical.not_not.mp c1
    obtain ⟨kN, kNl, kNh, rfl, e2⟩ := rgb_t (lo := 0) (hi := 50) (by decide) (by decide) (c1)
    refine z_iload_n X dX0_feast_10 rfl 2 rfl ?_
    refine z_cip (z_runS (rest := []) (n := 1) X [.int (n)] (m_X0_isHours (v := n)) dX0_feast_11 (lw_S q1198 q1199 q66 q1200) hs_X0_isHours rfl ⟨Nat.le_of_ble_eq_true rfl, Nat.le_of_ble_eq_true rfl⟩ ⟨by omega, by omega⟩ rfl (Nat.le_of_ble_eq_true rfl)) ?_
    refine z_if_ne (tgt := 24) X dX0_feast_14 (by decide) bI_d (fun c5 => ?_) (fun c5 => ?_)
    · have c5 := Classical.not_not.mp c5
      obtain ⟨nN, nNl, nNh, rfl, e3⟩ := rgb_t (lo := 0) (hi := 24) (by decide) (by decide) (c5)
      have hmul : kN * o.1.2 0 ≤ 50 * 6 := Nat.mul_le_mul (by omega) h6
      have hs4 := hI.2.2.2.1
      refine z_aload_n X dX0_feast_24 rfl 0 rfl ?_
      refine z_get X dX0_feast_25 hX.ob in_X0 rfl 0 (Nat.le_of_ble_eq_true rfl) q233 rfl ?_
      refine z_get X dX0_feast_28 hX.day in_X1 rfl 0 (Nat.le_of_ble_eq_true rfl) q190 rfl ?_
      refine z_ca (z_runV (rest := []) (n := 0) X [] (m_X2_copied hX.wall hX.norm) dX0_feast_31 (wl_o hX.wall) rfl (lw_V q821 q822 q823 q68 q824) hv_X2_copied rfl ⟨Nat.le_of_ble_eq_true rfl, Nat.le_of_ble_eq_true rfl⟩ ⟨by omega, by omega⟩ rfl (Nat.le_of_ble_eq_true rfl)) (fun r6 w8 h7 => ?_)
      obtain ⟨at_, rfl, hWt, hkp, hfr⟩ := h7
      obtain ⟨wt0, hT0, hWt0⟩ := Two.start hkp hfr hWt
      refine z_astore_n (lv2 := [(3, .ref (at_ 0)), (0, .ref (xa 0)), (1, .int (nI (kN))), (2, .int (nI (nN)))]) X dX0_feast_34 rfl (Nat.le_of_ble_eq_true rfl) rfl ?_
      refine z_iconst (v := nI (0)) X dX0_feast_35 ci0 ?_
      refine z_istore (lv2 := [(4, .int (nI (0))), (3, .ref (at_ 0)), (0, .ref (xa 0)), (1, .int (nI (kN))), (2, .int (nI (nN)))]) X dX0_feast_36 (Nat.le_of_ble_eq_true rfl) rfl ?_
      have lf : ∀ (lq i : Nat) (w3 wt3 : GW), i + lq = o.1.2 0 → Two w3 w wt3 → WallW G wt3 at_ none (wPl o.1 kN i) → Z κ w3 [(4, .int (nI (i))), (3, .ref (at_ 0)), (0, .ref (xa 0)), (1, .int (nI (kN))), (2, .int (nI (nN)))] 8 44 38 [] := by
        intro lq
        induction lq with
        | zero =>
          intro i w3 wt3 lh hT3 hW3
          obtain rfl : i = o.1.2 0 := by omega
          have hsp := sumTo_pl (S := o.1) (k := kN) (m := o.1.2 0) (o.1.2 0) (Nat.le_refl _)
          refine z_iload X dX0_feast_38 0 rfl ?_
          refine z_aload_n X dX0_feast_40 rfl 1 rfl ?_
          refine z_get X dX0_feast_41 (wl_o (hW3.mono hT3.2.1)) in_X2 rfl 8 (Nat.le_of_ble_eq_true rfl) q156 rfl ?_
          rw [show (wPl o.1 kN (o.1.2 0)).2 0 = o.1.2 0 from rfl]
          refine z_icmp_ge_t (tgt := 64) X dX0_feast_44 (by decide) ((nI_leI (by omega) (by omega)).mpr (by omega)) ?_
          refine z_aload_n X dX0_feast_64 rfl 1 rfl ?_
          refine z_cip (z_runV (rest := []) (n := 0) X [] (m_X2_allF (hW3.mono hT3.2.1) h6 (by show sumTo ((wPl o.1 kN (o.1.2 0)).1 4) (o.1.2 0) ≤ 1000; omega)) dX0_feast_65 (wl_o (hW3.mono hT3.2.1)) rfl (lw_V q781 q621 q622 q68 q623) hv_X2_all rfl ⟨Nat.le_of_ble_eq_true rfl, Nat.le_of_ble_eq_true rfl⟩ ⟨by omega, by omega⟩ rfl (Nat.le_of_ble_eq_true rfl)) ?_
          rw [show (wPl o.1 kN (o.1.2 0)).2 0 = o.1.2 0 from rfl, hsp]
          refine z_bipush (v := nI (100)) X dX0_feast_68 (by decide) ?_
          refine z_icmp_le (tgt := 82) X dX0_feast_70 (by decide) (nI_leI (by omega) (by omega)) (fun c9 => ?_) (fun c9 => ?_)
          · have hIP := wInv_pl hI (k := kN) (by omega)
            refine z_aload_n X dX0_feast_82 rfl 1 rfl ?_
            refine z_iload_n X dX0_feast_83 rfl 4 rfl ?_
            refine z_cl (z_runS (rest := []) (n := 2) X [.ref (at_ 0), .int (nI (nN))] (gM.frameL (m_W_best rowsO_none hW3 hIP (n := nN) (by omega)) hT3.2.1) dX0_feast_84 (lw_S q1212 q1213 q66 q1214) hs_X0_best_2 rfl ⟨Nat.le_of_ble_eq_true rfl, Nat.le_of_ble_eq_true rfl⟩ ⟨by omega, by omega⟩ rfl (Nat.le_of_ble_eq_true rfl)) (fun r10 w12 h11 => ?_)
            obtain ⟨wt11, ⟨r10e, q11, ro11, T11, hW11, hR11⟩, hf11⟩ := h11
            rw [r10e]
            have hT11 := hT3.right hf11
            refine z_aload_n X dX0_feast_87 rfl 2 rfl ?_
            refine z_get X dX0_feast_88 (hX.mono hT11.1).ob in_X0 rfl 0 (Nat.le_of_ble_eq_true rfl) q233 rfl ?_
            refine z_get X dX0_feast_91 (hX.mono hT11.1).day in_X1 rfl 0 (Nat.le_of_ble_eq_true rfl) q190 rfl ?_
            refine z_iload_n X dX0_feast_94 rfl 4 rfl ?_
            refine z_cl (z_runS (rest := [.long (bestV (wPl o.1 kN (o.1.2 0)) nN)]) (n := 2) X [.ref (xa 5), .int (nI (nN))] (gM.frameL (m_x_best hX hO (n := nN) (by omega)) hT11.1) dX0_feast_95 (lw_S q1212 q1213 q66 q1214) hs_X0_best_2 rfl ⟨Nat.le_of_ble_eq_true rfl, Nat.le_of_ble_eq_true rfl⟩ ⟨by omega, by omega⟩ rfl (Nat.le_of_ble_eq_true rfl)) (fun r13 w15 h14 => ?_)
            obtain ⟨wx14, ⟨xa14, rr14, hk14, hX14, r13e⟩, hf14⟩ := h14
            rw [r13e]
            have hT14 := hT11.left hf14
            rw [← hk14 0 (by omega) (by omega) (by omega)]
            refine z_lsub (v := (bestV (wPl o.1 kN (o.1.2 0)) nN) - (bestV o.1 nN)) X dX0_feast_98 rfl ?_
            have e : spFeast o (nI kN) (nI nN) = ((bestV (wPl o.1 kN (o.1.2 0)) nN) - (bestV o.1 nN), o) := by
              unfold spFeast
              repeat (first | rw [el_some (by assumption)] | rw [el_none (by assumption)] | rw [if_pos (by omega)] | rw [if_neg (by omega)] | rw [if_pos (by assumption)] | rw [if_neg (ts_n (by assumption))])
              all_goals first | rfl | (exfalso; omega)
            exact z_lret X dX0_feast_99 (by omega) (by omega) ⟨_, rfl, (by rw [e]; exact ⟨⟨_, _, (hk14 0 (by decide) (by decide) (by decide)), (hX14.mono hT14.1)⟩, rfl⟩)⟩
          · refine z_aload_n X dX0_feast_73 rfl 2 rfl ?_
            refine z_bipush (v := (-5)) X dX0_feast_74 (by decide) ?_
            refine z_cl (z_runV (rest := []) (n := 1) X [.int ((-5))] (m_X0_noDeep_5 (hX.mono hT3.1)) dX0_feast_76 (hX.mono hT3.1).ob rfl (lw_V q1189 q1191 qs16 q66 q1192) hv_X0_noDeep rfl ⟨Nat.le_of_ble_eq_true rfl, Nat.le_of_ble_eq_true rfl⟩ ⟨by omega, by omega⟩ rfl (Nat.le_of_ble_eq_true rfl)) (fun r16 w18 h17 => ?_)
            obtain ⟨r16e, hX17⟩ := h17
            rw [r16e]
            refine z_goto (tgt := 99) X dX0_feast_79 (by decide) ?_
            have e : spFeast o (nI kN) (nI nN) = (-1000000000000 + ((-5) : Int32).toInt64, oRef o 5) := by
              unfold spFeast
              repeat (first | rw [el_some (by assumption)] | rw [el_none (by assumption)] | rw [if_pos (by omega)] | rw [if_neg (by omega)] | rw [if_pos (by assumption)] | rw [if_neg (ts_n (by assumption))])
              all_goals first | rfl | (exfalso; omega)
            exact z_lret X dX0_feast_99 (by omega) (by omega) ⟨_, rfl, (by rw [e]; exact ⟨⟨_, _, rfl, hX17⟩, rfl⟩)⟩
        | succ lq ih =>
          intro i w3 wt3 lh hT3 hW3
          refine z_iload X dX0_feast_38 0 rfl ?_
          refine z_aload_n X dX0_feast_40 rfl 1 rfl ?_
          refine z_get X dX0_feast_41 (wl_o (hW3.mono hT3.2.1)) in_X2 rfl 8 (Nat.le_of_ble_eq_true rfl) q156 rfl ?_
          rw [show (wPl o.1 kN i).2 0 = o.1.2 0 from rfl]
          refine z_icmp_ge_f (tgt := 64) X dX0_feast_44 (by decide) (fun h => absurd ((nI_leI (by omega) (by omega)).mp h) (by omega)) ?_
          refine z_aload_n X dX0_feast_47 rfl 1 rfl ?_
          refine z_get X dX0_feast_48 (wl_o (hW3.mono hT3.2.1)) in_X2 rfl 4 (Nat.le_of_ble_eq_true rfl) q141 rfl ?_
          refine z_iload X dX0_feast_51 0 rfl ?_
          refine z_dup2 X dX0_feast_53 rfl rfl ?_
          refine z_iaN (v := nI (o.1.1 4 i)) X dX0_feast_54 (wl_5 (hW3.mono hT3.2.1)) (by omega) (by omega) (congrArg nI wPl_at) ?_
          refine z_iload_n X dX0_feast_55 rfl 3 rfl ?_
          refine z_iadd (v := nI (o.1.1 4 i + kN)) X dX0_feast_56 (nI_add _ _) ?_
          refine z_isN X dX0_feast_57 (wl_5 (hW3.mono hT3.2.1)) (by omega) (by omega) ?_
          have hWt19 : WallW G _ at_ none (wPut (wPl o.1 kN i) 4 i (o.1.1 4 i + kN)) := wl_put hW3 4 (by decide) 6 i (o.1.1 4 i + kN) rfl
          have hTt19 := hT3.putR (hW3.1 5 rfl) (e := .inl (G.2.1 0, 6, .inl (upd (fun j => nI ((wPl o.1 kN i).1 4 j)) i (nI (o.1.1 4 i + kN)))))
          refine z_iinc (v := nI (i + 1)) (lv2 := [(4, .int (nI (i + 1))), (3, .ref (at_ 0)), (0, .ref (xa 0)), (1, .int (nI (kN))), (2, .int (nI (nN)))]) X dX0_feast_58 0 rfl (nI_1 _) (Nat.le_of_ble_eq_true rfl) rfl ?_
          refine z_goto (tgt := 38) X dX0_feast_61 (by decide) ?_
          exact ih (i + 1) _ _ (by omega) hTt19 (wPl_1 ▸ hWt19)
      exact Z.up (by omega) (by omega) (lf (o.1.2 0) 0 _ _ (by omega) hT0 (wPl_0.symm ▸ hWt0))
    · have e4 : rgb 0 24 n = none := rgb_f c5
      refine z_aload_n X dX0_feast_17 rfl 0 rfl ?_
      refine z_bipush (v := (-2)) X dX0_feast_18 (by decide) ?_
      refine z_cl (z_runV (rest := []) (n := 1) X [.int ((-2))] (m_X0_noDeep_2 hX) dX0_feast_20 hX.ob rfl (lw_V q1189 q1191 qs16 q66 q1192) hv_X0_noDeep rfl ⟨Nat.le_of_ble_eq_true rfl, Nat.le_of_ble_eq_true rfl⟩ ⟨by omega, by omega⟩ rfl (Nat.le_of_ble_eq_true rfl)) (fun r20 w22 h21 => ?_)
      obtain ⟨r20e, hX21⟩ := h21
      rw [r20e]
      have e : spFeast o (nI kN) n = (-1000000000000 + ((-2) : Int32).toInt64, oRef o 2) := by
        unfold spFeast
        repeat (first | rw [el_some (by assumption)] | rw [el_none (by assumption)] | rw [if_pos (by omega)] | rw [if_neg (by omega)] | rw [if_pos (by assumption)] | rw [if_neg (ts_n (by assumption))])
        all_goals first | rfl | (exfalso; omega)
      exact z_lret X dX0_feast_23 (by omega) (by omega) ⟨_, rfl, (by rw [e]; exact ⟨⟨_, _, rfl, hX21⟩, rfl⟩)⟩
