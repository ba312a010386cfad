/-! x: a day draws; kinds -/
set_option maxRecDepth 100000
set_option maxHeartbeats 2000000 in
theorem m_X7_kind {l : Launch} {G : GG} {w : GW} {q : Nat} : gM l G yX7_kind cX7_kind 1 (some .int) 1 0 0 [.ref (q)] w (pI (fun r w1 => r = nI 1 ∧ w1 = w)) := by
  refine Z.met (own := "ThreeSizes$Least") (nm := "kind") (lv := [(0, .ref (q))]) (by decide) rfl rfl (Nat.le_of_ble_eq_true rfl) rfl (fun κ X => ?_)
  refine z_iconst (v := nI (1)) X dX7_kind_0 ci1 ?_
  exact z_iret X dX7_kind_1 (by omega) (by omega) ⟨_, rfl, ⟨rfl, rfl⟩⟩
set_option maxHeartbeats 2000000 in
theorem m_X8_kind {l : Launch} {G : GG} {w : GW} {q : Nat} : gM l G yX8_kind cX8_kind 1 (some .int) 1 0 0 [.ref (q)] w (pI (fun r w1 => r = nI 2 ∧ w1 = w)) := by
  refine Z.met (own := "ThreeSizes$Keep") (nm := "kind") (lv := [(0, .ref (q))]) (by decide) rfl rfl (Nat.le_of_ble_eq_true rfl) rfl (fun κ X => ?_)
  refine z_iconst (v := nI (2)) X dX8_kind_0 ci2 ?_
  exact z_iret X dX8_kind_1 (by omega) (by omega) ⟨_, rfl, ⟨rfl, rfl⟩⟩
set_option maxHeartbeats 2000000 in
theorem m_X9_kind {l : Launch} {G : GG} {w : GW} {q : Nat} : gM l G yX9_kind cX9_kind 1 (some .int) 1 0 0 [.ref (q)] w (pI (fun r w1 => r = nI 3 ∧ w1 = w)) := by
  refine Z.met (own := "ThreeSizes$Some") (nm := "kind") (lv := [(0, .ref (q))]) (by decide) rfl rfl (Nat.le_of_ble_eq_true rfl) rfl (fun κ X => ?_)
  refine z_iconst (v := nI (3)) X dX9_kind_0 ci3 ?_
  exact z_iret X dX9_kind_1 (by omega) (by omega) ⟨_, rfl, ⟨rfl, rfl⟩⟩
set_option maxHeartbeats 2000000 in
theorem m_X10_kind {l : Launch} {G : GG} {w : GW} {q : Nat} : gM l G yX10_kind cX10_kind 1 (some .int) 1 0 0 [.ref (q)] w (pI (fun r w1 => r = nI 4 ∧ w1 = w)) := by
  refine Z.met (own := "ThreeSizes$Great") (nm := "kind") (lv := [(0, .ref (q))]) (by decide) rfl rfl (Nat.le_of_ble_eq_true rfl) rfl (fun κ X => ?_)
  refine z_iconst (v := nI (4)) X dX10_kind_0 ci4 ?_
  exact z_iret X dX10_kind_1 (by omega) (by omega) ⟨_, rfl, ⟨rfl, rfl⟩⟩
set_option maxHeartbeats 2000000 in
theorem m_X11_kind {l : Launch} {G : GG} {w : GW} {q : Nat} : gM l G yX11_kind cX11_kind 1 (some .int) 1 0 0 [.ref (q)] w (pI (fun r w1 => r = nI 5 ∧ w1 = w)) := by
  refine Z.met (own := "ThreeSizes$Even") (nm := "kind") (lv := [(0, .ref (q))]) (by decide) rfl rfl (Nat.le_of_ble_eq_true rfl) rfl (fun κ X => ?_)
  refine z_iconst (v := nI (5)) X dX11_kind_0 ci5 ?_
  exact z_iret X dX11_kind_1 (by omega) (by omega) ⟨_, rfl, ⟨rfl, rfl⟩⟩
set_option maxHeartbeats 2000000 in
theorem m_X12_kind {l : Launch} {G : GG} {w : GW} {q : Nat} : gM l G yX12_kind cX12_kind 1 (some .int) 1 0 0 [.ref (q)] w (pI (fun r w1 => r = nI 6 ∧ w1 = w)) := by
  refine Z.met (own := "ThreeSizes$Wise") (nm := "kind") (lv := [(0, .ref (q))]) (by decide) rfl rfl (Nat.le_of_ble_eq_true rfl) rfl (fun κ X => ?_)
  refine z_bipush (v := nI (6)) X dX12_kind_0 (by decide) ?_
  exact z_iret X dX12_kind_2 (by omega) (by omega) ⟨_, rfl, ⟨rfl, rfl⟩⟩
set_option maxHeartbeats 2000000 in
theorem m_X1_draw {l : Launch} {G : GG} {w : GW} {xa : Nat → Nat} {rr : Option Nat} {o : OS} {im : IM} (hX : XT G w xa rr o im) {b : Nat} (hb : 0 < b ∧ b ≤ 100) : gM l G yX1_draw cX1_draw 2 (some .int) 1 0 0 [.ref (xa 4), .int (nI (b))] w (pI (fun r w1 => r = nI (drN o.2.2.1 b) ∧ XT G w1 xa rr (oSeed o) im)) := by
  refine Z.met (own := "ThreeSizes$Day") (nm := "draw") (lv := [(0, .ref (xa 4)), (1, .int (nI (b)))]) (by decide) rfl rfl (Nat.le_of_ble_eq_true rfl) rfl (fun κ X => ?_)
  refine z_aload_n X dX1_draw_0 rfl 0 rfl ?_
  refine z_aload_n X dX1_draw_1 rfl 0 rfl ?_
  refine z_get X dX1_draw_2 hX.day in_X1 rfl 1 (Nat.le_of_ble_eq_true rfl) q191 rfl ?_
  refine z_ldc X dX1_draw_5 q1370 ?_
  refine z_imul (v := o.2.2.1 * (1103515245)) X dX1_draw_7 rfl ?_
  refine z_sipush (v := nI (12345)) X dX1_draw_8 (by decide) ?_
  refine z_iadd (v := sdN o.2.2.1) X dX1_draw_11 rfl ?_
  refine z_put X dX1_draw_12 hX.day in_X1 tyX1 tyX1_ok nmX1 rfl 1 (Nat.le_of_ble_eq_true rfl) q191 rfl rfl rfl (Nat.le_of_ble_eq_true rfl) ?_
  have hX1 : XT G _ xa rr (oSeed o) im := XT.dput hX (sd := sdN o.2.2.1) (dy := o.2.1) rfl
  refine z_aload_n X dX1_draw_15 rfl 0 rfl ?_
  refine z_get X dX1_draw_16 hX1.day in_X1 rfl 1 (Nat.le_of_ble_eq_true rfl) q191 rfl ?_
  refine z_bipush (v := nI (16)) X dX1_draw_19 (by decide) ?_
  refine z_iushr (v := nI ((sdN o.2.2.1).toBitVec.toNat / 65536)) X dX1_draw_21 ush_is ?_
  refine z_iload_n X dX1_draw_22 rfl 1 rfl ?_
  refine z_irem (v := nI (drN o.2.2.1 b)) X dX1_draw_23 (nI_ne0 (by omega) (by omega)) (pk_rem (Nat.lt_trans ush_lt (by decide)) (by omega) (by omega)) ?_
  exact z_iret X dX1_draw_24 (by omega) (by omega) ⟨_, rfl, ⟨rfl, hX1⟩⟩
