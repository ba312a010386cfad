/-! LEAVES: states, the wall methods that only read -/
set_option maxRecDepth 100000
set_option maxHeartbeats 2000000 in
theorem m_X0_step {l : Launch} {G : GG} {z c : Nat} {w : GW} (hz : z < 3) (hc : pw5 z = c) : gM l G yX0_step cX0_step 1 (some .int) 1 0 0 [.int (nI (z))] w (pI (fun r w1 => r = nI c ∧ w1 = w)) := by
  refine Z.met (own := "ThreeSizes") (nm := "step") (lv := [(0, .int (nI (z)))]) (by decide) rfl rfl (Nat.le_of_ble_eq_true rfl) rfl (fun κ X => ?_)
  refine z_iload_n X dX0_step_0 rfl 0 rfl ?_
  refine z_if_ne (tgt := 8) X dX0_step_1 (by decide) (nz_eq (by omega)) (fun c1 => ?_) (fun c1 => ?_)
  · refine z_iload_n X dX0_step_8 rfl 0 rfl ?_
    refine z_iconst (v := nI (1)) X dX0_step_9 ci1 ?_
    refine z_icmp_ne (tgt := 17) X dX0_step_10 (by decide) (nI_eq (by omega) (by omega)) (fun c2 => ?_) (fun c2 => ?_)
    · refine z_bipush (v := nI (25)) X dX0_step_17 (by decide) ?_
      exact z_iret X dX0_step_19 (by omega) (by omega) ⟨_, rfl, ⟨by rw [← hc]; first | (rw [show z = 0 by omega]; rfl) | (rw [show z = 1 by omega]; rfl) | (rw [show z = 2 by omega]; rfl), rfl⟩⟩
    · refine z_iconst (v := nI (5)) X dX0_step_13 ci5 ?_
      refine z_goto (tgt := 19) X dX0_step_14 (by decide) ?_
      exact z_iret X dX0_step_19 (by omega) (by omega) ⟨_, rfl, ⟨by rw [← hc]; first | (rw [show z = 0 by omega]; rfl) | (rw [show z = 1 by omega]; rfl) | (rw [show z = 2 by omega]; rfl), rfl⟩⟩
  · refine z_iconst (v := nI (1)) X dX0_step_4 ci1 ?_
    refine z_goto (tgt := 19) X dX0_step_5 (by decide) ?_
    exact z_iret X dX0_step_19 (by omega) (by omega) ⟨_, rfl, ⟨by rw [← hc]; first | (rw [show z = 0 by omega]; rfl) | (rw [show z = 1 by omega]; rfl) | (rw [show z = 2 by omega]; rfl), rfl⟩⟩
set_option maxHeartbeats 2000000 in
theorem m_X0_isIn {l : Launch} {G : GG} {v lo hi : Int32} {w : GW} : gM l G yX0_isIn cX0_isIn 3 (some .boolean) 1 0 0 [.int (v), .int (lo), .int (hi)] w (pI (fun r w1 => r = bI (decide (lo ≤ v ∧ v ≤ hi)) ∧ w1 = w)) := by
  refine Z.met (own := "ThreeSizes") (nm := "isIn") (lv := [(0, .int (v)), (1, .int (lo)), (2, .int (hi))]) (by decide) rfl rfl (Nat.le_of_ble_eq_true rfl) rfl (fun κ X => ?_)
  refine z_iload_n X dX0_isIn_0 rfl 0 rfl ?_
  refine z_iload_n X dX0_isIn_1 rfl 1 rfl ?_
  refine z_icmp_lt (tgt := 14) X dX0_isIn_2 (by decide) Iff.rfl (fun c1 => ?_) (fun c1 => ?_)
  · refine z_iconst (v := nI (0)) X dX0_isIn_14 ci0 ?_
    exact z_zret X dX0_isIn_15 (by omega) (by omega) bz0 ⟨_, rfl, ⟨by first | exact in_f1 (by assumption) | exact in_f2 (by assumption) | exact in_t (by assumption) (by assumption), rfl⟩⟩
  · refine z_iload_n X dX0_isIn_5 rfl 0 rfl ?_
    refine z_iload_n X dX0_isIn_6 rfl 2 rfl ?_
    refine z_icmp_gt (tgt := 14) X dX0_isIn_7 (by decide) Iff.rfl (fun c2 => ?_) (fun c2 => ?_)
    · refine z_iconst (v := nI (0)) X dX0_isIn_14 ci0 ?_
      exact z_zret X dX0_isIn_15 (by omega) (by omega) bz0 ⟨_, rfl, ⟨by first | exact in_f1 (by assumption) | exact in_f2 (by assumption) | exact in_t (by assumption) (by assumption), rfl⟩⟩
    · refine z_iconst (v := nI (1)) X dX0_isIn_10 ci1 ?_
      refine z_goto (tgt := 15) X dX0_isIn_11 (by decide) ?_
      exact z_zret X dX0_isIn_15 (by omega) (by omega) bz1 ⟨_, rfl, ⟨by first | exact in_f1 (by assumption) | exact in_f2 (by assumption) | exact in_t (by assumption) (by assumption), rfl⟩⟩
set_option maxHeartbeats 2000000 in
theorem m_X0_freeOf {l : Launch} {G : GG} {st z : Nat} {w : GW} (hs : st < 125) (hz : z < 3) : gM l G yX0_freeOf cX0_freeOf 2 (some .int) 2 0 0 [.int (nI (st)), .int (nI (z))] w (pI (fun r w1 => r = nI (fr st z) ∧ w1 = w)) := by
  refine Z.met (own := "ThreeSizes") (nm := "freeOf") (lv := [(0, .int (nI (st))), (1, .int (nI (z)))]) (by decide) rfl rfl (Nat.le_of_ble_eq_true rfl) rfl (fun κ X => ?_)
  have hp := pw5_pos z
  have hd := Nat.div_le_self st (pw5 z)
  refine z_iload_n X dX0_freeOf_0 rfl 0 rfl ?_
  refine z_iload_n X dX0_freeOf_1 rfl 1 rfl ?_
  refine z_cip (z_runS (rest := [.int (nI (st))]) (n := 1) X [.int (nI (z))] (m_X0_step (z := z) (by omega) rfl) dX0_freeOf_2 (lw_S q663 q664 q66 q665) hs_X0_step rfl ⟨Nat.le_of_ble_eq_true rfl, Nat.le_of_ble_eq_true rfl⟩ ⟨by omega, by omega⟩ rfl (Nat.le_of_ble_eq_true rfl)) ?_
  refine z_idiv (v := nI (st / (pw5 z))) X dX0_freeOf_5 (nI_ne0 (by omega) (by omega)) (pk_div (by omega) (by omega) (by omega)) ?_
  refine z_iconst (v := nI (5)) X dX0_freeOf_6 ci5 ?_
  refine z_irem (v := nI ((st / (pw5 z)) % 5)) X dX0_freeOf_7 (by decide) (pk_rem (by omega) (by omega) (by omega)) ?_
  exact z_iret X dX0_freeOf_8 (by omega) (by omega) ⟨_, rfl, ⟨rfl, rfl⟩⟩
set_option maxHeartbeats 2000000 in
theorem m_X2_free {l : Launch} {G : GG} {w : GW} {aw : Nat → Nat} {rr : Option Nat} {S : WS} (hW : WallW G w aw rr S) (hI : wInv S) {z : Nat} (hz : z < 3) : gM l G yX2_free cX2_free 2 (some .int) 1 0 0 [.ref (aw 0), .int (nI (z))] w (pI (fun r w1 => r = nI (S.1 0 z - S.1 1 z) ∧ w1 = w)) := by
  refine Z.met (own := "ThreeSizes$Wall") (nm := "free") (lv := [(0, .ref (aw 0)), (1, .int (nI (z)))]) (by decide) rfl rfl (Nat.le_of_ble_eq_true rfl) rfl (fun κ X => ?_)
  have h1 := hI.1 z hz
  refine z_aload_n X dX2_free_0 rfl 0 rfl ?_
  refine z_get X dX2_free_1 (wl_o hW) in_X2 rfl 0 (Nat.le_of_ble_eq_true rfl) q122 rfl ?_
  refine z_iload_n X dX2_free_4 rfl 1 rfl ?_
  refine z_iaN (v := nI (S.1 0 z)) X dX2_free_5 (wl_1 hW) (by omega) (by omega) rfl ?_
  refine z_aload_n X dX2_free_6 rfl 0 rfl ?_
  refine z_get X dX2_free_7 (wl_o hW) in_X2 rfl 1 (Nat.le_of_ble_eq_true rfl) q126 rfl ?_
  refine z_iload_n X dX2_free_10 rfl 1 rfl ?_
  refine z_iaN (v := nI (S.1 1 z)) X dX2_free_11 (wl_2 hW) (by omega) (by omega) rfl ?_
  refine z_isub (v := nI (S.1 0 z - (S.1 1 z))) X dX2_free_12 (pk_sub (by omega)) ?_
  exact z_iret X dX2_free_13 (by omega) (by omega) ⟨_, rfl, ⟨rfl, rfl⟩⟩
set_option maxHeartbeats 2000000 in
theorem m_X2_state {l : Launch} {G : GG} {w : GW} {aw : Nat → Nat} {rr : Option Nat} {S : WS} (hW : WallW G w aw rr S) (hI : wInv S) : gM l G yX2_state cX2_state 3 (some .int) 3 0 0 [.ref (aw 0)] w (pI (fun r w1 => r = nI (stOf S) ∧ w1 = w)) := by
  refine Z.met (own := "ThreeSizes$Wall") (nm := "state") (lv := [(0, .ref (aw 0))]) (by decide) rfl rfl (Nat.le_of_ble_eq_true rfl) rfl (fun κ X => ?_)
  refine z_iconst (v := nI (0)) X dX2_state_0 ci0 ?_
  refine z_istore_n (lv2 := [(1, .int (nI (0))), (0, .ref (aw 0))]) X dX2_state_1 rfl (Nat.le_of_ble_eq_true rfl) rfl ?_
  refine z_iconst (v := nI (0)) X dX2_state_2 ci0 ?_
  refine z_istore_n (lv2 := [(2, .int (nI (0))), (1, .int (nI (0))), (0, .ref (aw 0))]) X dX2_state_3 rfl (Nat.le_of_ble_eq_true rfl) rfl ?_
  refine z_iload_n X dX2_state_4 rfl 0 rfl ?_
  refine z_iconst (v := nI (3)) X dX2_state_5 ci3 ?_
  refine z_icmp_ge_f (tgt := 28) X dX2_state_6 (by decide) (by decide) ?_
  refine z_iload_n X dX2_state_9 rfl 1 rfl ?_
  refine z_iload_n X dX2_state_10 rfl 0 rfl ?_
  refine z_cip (z_runSN (rest := [.int (nI (0))]) (n := 1) X [.int (nI (0))] (m_X0_step (z := 0) (c := 1) (by omega) rfl) dX2_state_11 (lw_meth q665) q697 q66 q664 hs_X0_step rfl ⟨Nat.le_of_ble_eq_true rfl, Nat.le_of_ble_eq_true rfl⟩ ⟨by omega, by omega⟩ rfl (Nat.le_of_ble_eq_true rfl)) ?_
  refine z_aload_n X dX2_state_14 rfl 2 rfl ?_
  refine z_iload_n X dX2_state_15 rfl 0 rfl ?_
  refine z_cip (z_runV (rest := [.int (nI (1)), .int (nI (0))]) (n := 1) X [.int (nI (0))] (m_X2_free hW hI (z := 0) (by omega)) dX2_state_16 (wl_o hW) rfl (lw_V q746 q747 q748 q68 q749) hv_X2_free rfl ⟨Nat.le_of_ble_eq_true rfl, Nat.le_of_ble_eq_true rfl⟩ ⟨by omega, by omega⟩ rfl (Nat.le_of_ble_eq_true rfl)) ?_
  refine z_imul (v := nI (1 * (S.1 0 0 - S.1 1 0))) X dX2_state_19 (pk_mul _ _) ?_
  refine z_iadd (v := nI (0 + (1 * (S.1 0 0 - S.1 1 0)))) X dX2_state_20 (nI_add _ _) ?_
  refine z_istore_n (lv2 := [(1, .int (nI (0 + (1 * (S.1 0 0 - S.1 1 0))))), (2, .int (nI (0))), (0, .ref (aw 0))]) X dX2_state_21 rfl (Nat.le_of_ble_eq_true rfl) rfl ?_
  refine z_iinc (v := nI (1)) (lv2 := [(2, .int (nI (1))), (1, .int (nI (0 + (1 * (S.1 0 0 - S.1 1 0))))), (0, .ref (aw 0))]) X dX2_state_22 1 rfl (nI_1 _) (Nat.le_of_ble_eq_true rfl) rfl ?_
  refine z_goto (tgt := 4) X dX2_state_25 (by decide) ?_
  refine z_iload_n X dX2_state_4 rfl 0 rfl ?_
  refine z_iconst (v := nI (3)) X dX2_state_5 ci3 ?_
  refine z_icmp_ge_f (tgt := 28) X dX2_state_6 (by decide) (by decide) ?_
  refine z_iload_n X dX2_state_9 rfl 1 rfl ?_
  refine z_iload_n X dX2_state_10 rfl 0 rfl ?_
  refine z_cip (z_runSN (rest := [.int (nI (0 + (1 * (S.1 0 0 - S.1 1 0))))]) (n := 1) X [.int (nI (1))] (m_X0_step (z := 1) (c := 5) (by omega) rfl) dX2_state_11 (lw_meth q665) q697 q66 q664 hs_X0_step rfl ⟨Nat.le_of_ble_eq_true rfl, Nat.le_of_ble_eq_true rfl⟩ ⟨by omega, by omega⟩ rfl (Nat.le_of_ble_eq_true rfl)) ?_
  refine z_aload_n X dX2_state_14 rfl 2 rfl ?_
  refine z_iload_n X dX2_state_15 rfl 0 rfl ?_
  refine z_cip (z_runV (rest := [.int (nI (5)), .int (nI (0 + (1 * (S.1 0 0 - S.1 1 0))))]) (n := 1) X [.int (nI (1))] (m_X2_free hW hI (z := 1) (by omega)) dX2_state_16 (wl_o hW) rfl (lw_V q746 q747 q748 q68 q749) hv_X2_free rfl ⟨Nat.le_of_ble_eq_true rfl, Nat.le_of_ble_eq_true rfl⟩ ⟨by omega, by omega⟩ rfl (Nat.le_of_ble_eq_true rfl)) ?_
  refine z_imul (v := nI (5 * (S.1 0 1 - S.1 1 1))) X dX2_state_19 (pk_mul _ _) ?_
  refine z_iadd (v := nI (0 + (1 * (S.1 0 0 - S.1 1 0)) + (5 * (S.1 0 1 - S.1 1 1)))) X dX2_state_20 (nI_add _ _) ?_
  refine z_istore_n (lv2 := [(1, .int (nI (0 + (1 * (S.1 0 0 - S.1 1 0)) + (5 * (S.1 0 1 - S.1 1 1))))), (2, .int (nI (1))), (0, .ref (aw 0))]) X dX2_state_21 rfl (Nat.le_of_ble_eq_true rfl) rfl ?_
  refine z_iinc (v := nI (2)) (lv2 := [(2, .int (nI (2))), (1, .int (nI (0 + (1 * (S.1 0 0 - S.1 1 0)) + (5 * (S.1 0 1 - S.1 1 1))))), (0, .ref (aw 0))]) X dX2_state_22 1 rfl (nI_1 _) (Nat.le_of_ble_eq_true rfl) rfl ?_
  refine z_goto (tgt := 4) X dX2_state_25 (by decide) ?_
  refine z_iload_n X dX2_state_4 rfl 0 rfl ?_
  refine z_iconst (v := nI (3)) X dX2_state_5 ci3 ?_
  refine z_icmp_ge_f (tgt := 28) X dX2_state_6 (by decide) (by decide) ?_
  refine z_iload_n X dX2_state_9 rfl 1 rfl ?_
  refine z_iload_n X dX2_state_10 rfl 0 rfl ?_
  refine z_cip (z_runSN (rest := [.int (nI (0 + (1 * (S.1 0 0 - S.1 1 0)) + (5 * (S.1 0 1 - S.1 1 1))))]) (n := 1) X [.int (nI (2))] (m_X0_step (z := 2) (c := 25) (by omega) rfl) dX2_state_11 (lw_meth q665) q697 q66 q664 hs_X0_step rfl ⟨Nat.le_of_ble_eq_true rfl, Nat.le_of_ble_eq_true rfl⟩ ⟨by omega, by omega⟩ rfl (Nat.le_of_ble_eq_true rfl)) ?_
  refine z_aload_n X dX2_state_14 rfl 2 rfl ?_
  refine z_iload_n X dX2_state_15 rfl 0 rfl ?_
  refine z_cip (z_runV (rest := [.int (nI (25)), .int (nI (0 + (1 * (S.1 0 0 - S.1 1 0)) + (5 * (S.1 0 1 - S.1 1 1))))]) (n := 1) X [.int (nI (2))] (m_X2_free hW hI (z := 2) (by omega)) dX2_state_16 (wl_o hW) rfl (lw_V q746 q747 q748 q68 q749) hv_X2_free rfl ⟨Nat.le_of_ble_eq_true rfl, Nat.le_of_ble_eq_true rfl⟩ ⟨by omega, by omega⟩ rfl (Nat.le_of_ble_eq_true rfl)) ?_
  refine z_imul (v := nI (25 * (S.1 0 2 - S.1 1 2))) X dX2_state_19 (pk_mul _ _) ?_
  refine z_iadd (v := nI (0 + (1 * (S.1 0 0 - S.1 1 0)) + (5 * (S.1 0 1 - S.1 1 1)) + (25 * (S.1 0 2 - S.1 1 2)))) X dX2_state_20 (nI_add _ _) ?_
  refine z_istore_n (lv2 := [(1, .int (nI (0 + (1 * (S.1 0 0 - S.1 1 0)) + (5 * (S.1 0 1 - S.1 1 1)) + (25 * (S.1 0 2 - S.1 1 2))))), (2, .int (nI (2))), (0, .ref (aw 0))]) X dX2_state_21 rfl (Nat.le_of_ble_eq_true rfl) rfl ?_
  refine z_iinc (v := nI (3)) (lv2 := [(2, .int (nI (3))), (1, .int (nI (0 + (1 * (S.1 0 0 - S.1 1 0)) + (5 * (S.1 0 1 - S.1 1 1)) + (25 * (S.1 0 2 - S.1 1 2))))), (0, .ref (aw 0))]) X dX2_state_22 1 rfl (nI_1 _) (Nat.le_of_ble_eq_true rfl) rfl ?_
  refine z_goto (tgt := 4) X dX2_state_25 (by decide) ?_
  refine z_iload_n X dX2_state_4 rfl 0 rfl ?_
  refine z_iconst (v := nI (3)) X dX2_state_5 ci3 ?_
  refine z_icmp_ge_t (tgt := 28) X dX2_state_6 (by decide) (by decide) ?_
  refine z_iload_n X dX2_state_28 rfl 1 rfl ?_
  exact z_iret X dX2_state_29 (by omega) (by omega) ⟨_, rfl, ⟨by congr 1; unfold stOf; omega, rfl⟩⟩
set_option maxHeartbeats 2000000 in
theorem m_X2_all {l : Launch} {G : GG} {w : GW} {aw : Nat → Nat} {rr : Option Nat} {S : WS} (hW : WallW G w aw rr S) (hI : wInv S) : gM l G yX2_all cX2_all 3 (some .int) 1 0 0 [.ref (aw 0)] w (pI (fun r w1 => r = nI (sumTo (S.1 4) (S.2 0)) ∧ w1 = w)) := by
  refine Z.met (own := "ThreeSizes$Wall") (nm := "all") (lv := [(0, .ref (aw 0))]) (by decide) rfl rfl (Nat.le_of_ble_eq_true rfl) rfl (fun κ X => ?_)
  have h6 := hI.2.1
  have hs := hI.2.2.2.1
  refine z_iconst (v := nI (0)) X dX2_all_0 ci0 ?_
  refine z_istore_n (lv2 := [(1, .int (nI (0))), (0, .ref (aw 0))]) X dX2_all_1 rfl (Nat.le_of_ble_eq_true rfl) rfl ?_
  refine z_iconst (v := nI (0)) X dX2_all_2 ci0 ?_
  refine z_istore_n (lv2 := [(2, .int (nI (0))), (1, .int (nI (0))), (0, .ref (aw 0))]) X dX2_all_3 rfl (Nat.le_of_ble_eq_true rfl) rfl ?_
  have lp : ∀ (q i : Nat), i + q = S.2 0 → Z κ w [(2, .int (nI i)), (1, .int (nI (sumTo (S.1 4) i))), (0, .ref (aw 0))] 0 0 4 [] := by
    intro q
    induction q with
    | zero =>
      intro i hq
      have hle := sumTo_le (f := S.1 4) (i := i) (n := S.2 0) (by omega)
      refine z_iload_n X dX2_all_4 rfl 0 rfl ?_
      refine z_aload_n X dX2_all_5 rfl 2 rfl ?_
      refine z_get X dX2_all_6 (wl_o hW) in_X2 rfl 8 (Nat.le_of_ble_eq_true rfl) q151 rfl ?_
      refine z_icmp_ge_t (tgt := 27) X dX2_all_9 (by decide) ((nI_leI (by omega) (by omega)).mpr (by omega)) ?_
      refine z_iload_n X dX2_all_27 rfl 1 rfl ?_
      exact z_iret X dX2_all_28 (by omega) (by omega) ⟨_, rfl, ⟨by rw [show i = S.2 0 by omega], rfl⟩⟩
    | succ q ih =>
      intro i hq
      have hle := sumTo_le (f := S.1 4) (i := i + 1) (n := S.2 0) (by omega)
      simp only [sumTo] at hle
      refine z_iload_n X dX2_all_4 rfl 0 rfl ?_
      refine z_aload_n X dX2_all_5 rfl 2 rfl ?_
      refine z_get X dX2_all_6 (wl_o hW) in_X2 rfl 8 (Nat.le_of_ble_eq_true rfl) q151 rfl ?_
      refine z_icmp_ge_f (tgt := 27) X dX2_all_9 (by decide) (fun h => absurd ((nI_leI (by omega) (by omega)).mp h) (by omega)) ?_
      refine z_iload_n X dX2_all_12 rfl 1 rfl ?_
      refine z_aload_n X dX2_all_13 rfl 2 rfl ?_
      refine z_get X dX2_all_14 (wl_o hW) in_X2 rfl 4 (Nat.le_of_ble_eq_true rfl) q138 rfl ?_
      refine z_iload_n X dX2_all_17 rfl 0 rfl ?_
      refine z_iaN (v := nI (S.1 4 i)) X dX2_all_18 (wl_5 hW) (by omega) (by omega) rfl ?_
      refine z_iadd (v := nI (sumTo (S.1 4) i + (S.1 4 i))) X dX2_all_19 (nI_add _ _) ?_
      refine z_istore_n (lv2 := [(1, .int (nI (sumTo (S.1 4) i + (S.1 4 i)))), (2, .int (nI (i))), (0, .ref (aw 0))]) X dX2_all_20 rfl (Nat.le_of_ble_eq_true rfl) rfl ?_
      refine z_iinc (v := nI (i + 1)) (lv2 := [(2, .int (nI (i + 1))), (1, .int (nI (sumTo (S.1 4) i + (S.1 4 i)))), (0, .ref (aw 0))]) X dX2_all_21 1 rfl (nI_1 _) (Nat.le_of_ble_eq_true rfl) rfl ?_
      refine z_goto (tgt := 4) X dX2_all_24 (by decide) ?_
      exact ih (i + 1) (by omega)
  exact lp (S.2 0) 0 (by omega)
set_option maxHeartbeats 2000000 in
theorem m_X2_fits {l : Launch} {G : GG} {w : GW} {aw : Nat → Nat} {rr : Option Nat} {S : WS} (hW : WallW G w aw rr S) (hI : wInv S) {i z st : Nat} (hi : i < S.2 0) (hz : z < 3) (hs : st < 125) : gM l G yX2_fits cX2_fits 4 (some .boolean) 3 0 0 [.ref (aw 0), .int (nI (i)), .int (nI (z)), .int (nI (st))] w (pI (fun r w1 => r = bI (fitsB S i z st) ∧ w1 = w)) := by
  refine Z.met (own := "ThreeSizes$Wall") (nm := "fits") (lv := [(0, .ref (aw 0)), (1, .int (nI (i))), (2, .int (nI (z))), (3, .int (nI (st)))]) (by decide) rfl rfl (Nat.le_of_ble_eq_true rfl) rfl (fun κ X => ?_)
  have h6 := hI.2.1
  have h1 := hI.2.2.1 i hi
  have h7 := fr_lt st z
  refine z_iload_n X dX2_fits_0 rfl 2 rfl ?_
  refine z_aload_n X dX2_fits_1 rfl 0 rfl ?_
  refine z_get X dX2_fits_2 (wl_o hW) in_X2 rfl 3 (Nat.le_of_ble_eq_true rfl) q135 rfl ?_
  refine z_iload_n X dX2_fits_5 rfl 1 rfl ?_
  refine z_iaN (v := nI (S.1 3 i)) X dX2_fits_6 (wl_4 hW) (by omega) (by omega) rfl ?_
  refine z_icmp_lt (tgt := 22) X dX2_fits_7 (by decide) (nI_ltI (by omega) (by omega)) (fun c1 => ?_) (fun c1 => ?_)
  · refine z_iconst (v := nI (0)) X dX2_fits_22 ci0 ?_
    exact z_zret X dX2_fits_23 (by omega) (by omega) bz0 ⟨_, rfl, ⟨bz_f (by simp only [fitsB, Bool.and_eq_false_iff, Bool.and_eq_true, decide_eq_false_iff_not, decide_eq_true_eq]; omega), rfl⟩⟩
  · refine z_iload_n X dX2_fits_10 rfl 3 rfl ?_
    refine z_iload_n X dX2_fits_11 rfl 2 rfl ?_
    refine z_cip (z_runSN (rest := []) (n := 2) X [.int (nI (st)), .int (nI (z))] (m_X0_freeOf (st := st) (z := z) (by omega) (by omega)) dX2_fits_12 (lw_meth q662) q660 q66 q661 hs_X0_freeOf rfl ⟨Nat.le_of_ble_eq_true rfl, Nat.le_of_ble_eq_true rfl⟩ ⟨by omega, by omega⟩ rfl (Nat.le_of_ble_eq_true rfl)) ?_
    refine z_if_le (tgt := 22) X dX2_fits_15 (by decide) (nz_le (by omega)) (fun c2 => ?_) (fun c2 => ?_)
    · refine z_iconst (v := nI (0)) X dX2_fits_22 ci0 ?_
      exact z_zret X dX2_fits_23 (by omega) (by omega) bz0 ⟨_, rfl, ⟨bz_f (by simp only [fitsB, Bool.and_eq_false_iff, Bool.and_eq_true, decide_eq_false_iff_not, decide_eq_true_eq]; omega), rfl⟩⟩
    · refine z_iconst (v := nI (1)) X dX2_fits_18 ci1 ?_
      refine z_goto (tgt := 23) X dX2_fits_19 (by decide) ?_
      exact z_zret X dX2_fits_23 (by omega) (by omega) bz1 ⟨_, rfl, ⟨bz_t (by simp only [fitsB, Bool.and_eq_false_iff, Bool.and_eq_true, decide_eq_false_iff_not, decide_eq_true_eq]; omega), rfl⟩⟩
set_option maxHeartbeats 2000000 in
theorem m_X2_lost {l : Launch} {G : GG} {w : GW} {aw : Nat → Nat} {rr : Option Nat} {S : WS} (hW : WallW G w aw rr S) (hI : wInv S) {i : Nat} (hi : i < S.2 0) : gM l G yX2_lost cX2_lost 2 (some .long) 1 0 0 [.ref (aw 0), .int (nI (i))] w (pL (fun r w1 => r = lostL S i ∧ w1 = w)) := by
  refine Z.met (own := "ThreeSizes$Wall") (nm := "lost") (lv := [(0, .ref (aw 0)), (1, .int (nI (i)))]) (by decide) rfl rfl (Nat.le_of_ble_eq_true rfl) rfl (fun κ X => ?_)
  have h6 := hI.2.1
  refine z_ldc2 X dX2_lost_0 q695 ?_
  refine z_aload_n X dX2_lost_3 rfl 0 rfl ?_
  refine z_get X dX2_lost_4 (wl_o hW) in_X2 rfl 9 (Nat.le_of_ble_eq_true rfl) q157 rfl ?_
  refine z_aload_n X dX2_lost_7 rfl 0 rfl ?_
  refine z_get X dX2_lost_8 (wl_o hW) in_X2 rfl 5 (Nat.le_of_ble_eq_true rfl) q142 rfl ?_
  refine z_iload_n X dX2_lost_11 rfl 1 rfl ?_
  refine z_iaN (v := nI (S.1 5 i)) X dX2_lost_12 (wl_6 hW) (by omega) (by omega) rfl ?_
  refine z_aload_n X dX2_lost_13 rfl 0 rfl ?_
  refine z_get X dX2_lost_14 (wl_o hW) in_X2 rfl 10 (Nat.le_of_ble_eq_true rfl) q161 rfl ?_
  refine z_isub (v := nI (S.1 5 i) - nI (S.2 2)) X dX2_lost_17 rfl ?_
  refine z_imul (v := (nI (S.2 1)) * (nI (S.1 5 i) - nI (S.2 2))) X dX2_lost_18 rfl ?_
  refine z_bipush (v := nI (10)) X dX2_lost_19 (by decide) ?_
  refine z_aload_n X dX2_lost_21 rfl 0 rfl ?_
  refine z_get X dX2_lost_22 (wl_o hW) in_X2 rfl 9 (Nat.le_of_ble_eq_true rfl) q157 rfl ?_
  refine z_isub (v := nI (10) - nI (S.2 1)) X dX2_lost_25 rfl ?_
  refine z_aload_n X dX2_lost_26 rfl 0 rfl ?_
  refine z_get X dX2_lost_27 (wl_o hW) in_X2 rfl 6 (Nat.le_of_ble_eq_true rfl) q147 rfl ?_
  refine z_iload_n X dX2_lost_30 rfl 1 rfl ?_
  refine z_iaN (v := nI (S.1 6 i)) X dX2_lost_31 (wl_7 hW) (by omega) (by omega) rfl ?_
  refine z_imul (v := (nI (10) - nI (S.2 1)) * (nI (S.1 6 i))) X dX2_lost_32 rfl ?_
  refine z_isub (v := (nI (S.2 1)) * (nI (S.1 5 i) - nI (S.2 2)) - ((nI (10) - nI (S.2 1)) * (nI (S.1 6 i)))) X dX2_lost_33 rfl ?_
  refine z_i2l (v := ((nI (S.2 1)) * (nI (S.1 5 i) - nI (S.2 2)) - ((nI (10) - nI (S.2 1)) * (nI (S.1 6 i)))).toInt64) X dX2_lost_34 rfl ?_
  refine z_lmul (v := (100000) * (((nI (S.2 1)) * (nI (S.1 5 i) - nI (S.2 2)) - ((nI (10) - nI (S.2 1)) * (nI (S.1 6 i)))).toInt64)) X dX2_lost_35 rfl ?_
  exact z_lret X dX2_lost_36 (by omega) (by omega) ⟨_, rfl, ⟨rfl, rfl⟩⟩
