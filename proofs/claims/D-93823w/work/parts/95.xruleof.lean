/-! x: a wise rule made; ruleOf -/
set_option maxRecDepth 100000
def MadeR (G : GG) (w w1 : GW) (q kd ra : Nat) : Prop := ∃ tq, w1 q = some (rCell kd ra tq) ∧ (kd = 6 → w1 tq = some (.inl (G.2.1 1, 125, .inr (.inl (fun _ => 0)))) ∧ tq ≠ q ∧ w tq = none) ∧ ∀ b e, b ≠ q → w b = some e → w1 b = some e
set_option maxHeartbeats 2000000 in
theorem m_X12_init {l : Launch} {G : GG} {w : GW} {q ra : Nat} (hq : w q = some (.inr (11, [.int 0, .null]))) : gM l G yX12_init cX12_init 2 none 6 1 125 [.ref (q), .int (nI (ra))] w (pV (fun w1 => MadeR G w w1 q 6 ra)) := by
  refine Z.met (own := "ThreeSizes$Wise") (nm := "<init>") (lv := [(0, .ref (q)), (1, .int (nI (ra)))]) (by decide) rfl rfl (Nat.le_of_ble_eq_true rfl) rfl (fun κ X => ?_)
  refine z_aload_n X dX12_init_0 rfl 0 rfl ?_
  refine z_iload_n X dX12_init_1 rfl 1 rfl ?_
  refine z_cv (z_runI (rest := []) (n := 1) X [.int (nI (ra))] (m_X6_init_X12 hq (ra := ra)) dX12_init_2 (lw_meth q519) q82 q569 q518 rfl hs_X6_init rfl ⟨Nat.le_of_ble_eq_true rfl, Nat.le_of_ble_eq_true rfl⟩ ⟨by omega, by omega⟩ rfl (Nat.le_of_ble_eq_true rfl)) (fun w3 h2 => ?_)
  subst h2
  refine z_aload_n X dX12_init_5 rfl 0 rfl ?_
  refine z_bipush (v := nI (125)) X dX12_init_6 (by decide) ?_
  refine z_newl X (125) dX12_init_8 q358 (nI_pos (by omega)) (nI_clamp (by omega)) (by simp only [componentBytes]; omega) (by omega) (by omega) (fun q4 hq4 => ?_)
  refine z_putF X dX12_init_10 (gu_f hq4 gu_s) in_X12 tyX12 tyX12_ok nmX12 rfl 1 (Nat.le_of_ble_eq_true rfl) q570 rfl rfl rfl rfl rfl (Nat.le_of_ble_eq_true rfl) ?_
  have hne : q4 ≠ q := fun z => by rw [z, gu_s] at hq4; cases hq4
  exact z_vret X dX12_init_13 (by omega) (by omega) ⟨rfl, ⟨q4, gu_s, fun _ => ⟨by rw [gu_n hne]; exact gu_s, hne, by rw [gu_n hne] at hq4; exact hq4⟩, fun b e hb he => by rw [gu_n hb, gu_n (fun z => by rw [gu_n hne] at hq4; rw [z, hq4] at he; cases he), gu_n hb]; exact he⟩⟩
set_option maxHeartbeats 2000000 in
theorem m_X0_ruleOf {l : Launch} {G : GG} {w : GW} {kd ra : Nat} (hk : 1 ≤ kd ∧ kd ≤ 6) : gM l G yX0_ruleOf cX0_ruleOf 2 (some (.object "ThreeSizes$Rule")) 8 2 127 [.int (nI (kd)), .int (nI (ra))] w (pA (fun r w1 => MadeR G w w1 r kd ra ∧ w r = none)) := by
  refine Z.met (own := "ThreeSizes") (nm := "ruleOf") (lv := [(0, .int (nI (kd))), (1, .int (nI (ra)))]) (by decide) rfl rfl (Nat.le_of_ble_eq_true rfl) rfl (fun κ X => ?_)
  refine z_iload_n X dX0_ruleOf_0 rfl 0 rfl ?_
  rcases (show kd = 1 ∨ kd = 2 ∨ kd = 3 ∨ kd = 4 ∨ kd = 5 ∨ kd = 6 by omega) with rfl | rfl | rfl | rfl | rfl | rfl
  · skip
    refine z_tabIn (off := 35) (tgt := 36) X dX0_ruleOf_1 (by decide) (by decide) (by decide) (by decide) ?_
    refine z_new X dX0_ruleOf_36 in_X7 tyX7 tyX7_ok (ci := 6) (fs := [.int 0]) q512 q513 q83 rfl (fun j hj => by rcases (show j = 0 by omega) with rfl <;> rfl) (by omega) (by omega) (fun q1 hq1 => ?_)
    refine z_dup X dX0_ruleOf_39 rfl ?_
    refine z_iload_n X dX0_ruleOf_40 rfl 1 rfl ?_
    refine z_cv (z_runI (rest := [.ref (q1)]) (n := 1) X [.int (nI (ra))] (m_X7_init_X7 gu_s (ra := ra)) dX0_ruleOf_41 (lw_meth q516) q83 q514 q515 rfl hs_X7_init rfl ⟨Nat.le_of_ble_eq_true rfl, Nat.le_of_ble_eq_true rfl⟩ ⟨by omega, by omega⟩ rfl (Nat.le_of_ble_eq_true rfl)) (fun w4 h3 => ?_)
    rw [gu_gu] at h3
    subst h3
    exact z_aret X dX0_ruleOf_44 (Or.inl ⟨_, rfl⟩) (by omega) (by omega) ⟨_, rfl, ⟨⟨0, gu_s, (fun z => absurd z (by decide)), fun b e hb he => by rw [gu_n hb]; exact he⟩, hq1⟩⟩
  · skip
    refine z_tabIn (off := 44) (tgt := 45) X dX0_ruleOf_1 (by decide) (by decide) (by decide) (by decide) ?_
    refine z_new X dX0_ruleOf_45 in_X8 tyX8 tyX8_ok (ci := 7) (fs := [.int 0]) q532 q533 q84 rfl (fun j hj => by rcases (show j = 0 by omega) with rfl <;> rfl) (by omega) (by omega) (fun q5 hq5 => ?_)
    refine z_dup X dX0_ruleOf_48 rfl ?_
    refine z_iload_n X dX0_ruleOf_49 rfl 1 rfl ?_
    refine z_cv (z_runI (rest := [.ref (q5)]) (n := 1) X [.int (nI (ra))] (m_X8_init_X8 gu_s (ra := ra)) dX0_ruleOf_50 (lw_meth q536) q84 q534 q535 rfl hs_X8_init rfl ⟨Nat.le_of_ble_eq_true rfl, Nat.le_of_ble_eq_true rfl⟩ ⟨by omega, by omega⟩ rfl (Nat.le_of_ble_eq_true rfl)) (fun w8 h7 => ?_)
    rw [gu_gu] at h7
    subst h7
    exact z_aret X dX0_ruleOf_53 (Or.inl ⟨_, rfl⟩) (by omega) (by omega) ⟨_, rfl, ⟨⟨0, gu_s, (fun z => absurd z (by decide)), fun b e hb he => by rw [gu_n hb]; exact he⟩, hq5⟩⟩
  · skip
    refine z_tabIn (off := 53) (tgt := 54) X dX0_ruleOf_1 (by decide) (by decide) (by decide) (by decide) ?_
    refine z_new X dX0_ruleOf_54 in_X9 tyX9 tyX9_ok (ci := 8) (fs := [.int 0]) q540 q541 q85 rfl (fun j hj => by rcases (show j = 0 by omega) with rfl <;> rfl) (by omega) (by omega) (fun q9 hq9 => ?_)
    refine z_dup X dX0_ruleOf_57 rfl ?_
    refine z_iload_n X dX0_ruleOf_58 rfl 1 rfl ?_
    refine z_cv (z_runI (rest := [.ref (q9)]) (n := 1) X [.int (nI (ra))] (m_X9_init_X9 gu_s (ra := ra)) dX0_ruleOf_59 (lw_meth q544) q85 q542 q543 rfl hs_X9_init rfl ⟨Nat.le_of_ble_eq_true rfl, Nat.le_of_ble_eq_true rfl⟩ ⟨by omega, by omega⟩ rfl (Nat.le_of_ble_eq_true rfl)) (fun w12 h11 => ?_)
    rw [gu_gu] at h11
    subst h11
    exact z_aret X dX0_ruleOf_62 (Or.inl ⟨_, rfl⟩) (by omega) (by omega) ⟨_, rfl, ⟨⟨0, gu_s, (fun z => absurd z (by decide)), fun b e hb he => by rw [gu_n hb]; exact he⟩, hq9⟩⟩
  · skip
    refine z_tabIn (off := 62) (tgt := 63) X dX0_ruleOf_1 (by decide) (by decide) (by decide) (by decide) ?_
    refine z_new X dX0_ruleOf_63 in_X10 tyX10 tyX10_ok (ci := 9) (fs := [.int 0]) q548 q549 q86 rfl (fun j hj => by rcases (show j = 0 by omega) with rfl <;> rfl) (by omega) (by omega) (fun q13 hq13 => ?_)
    refine z_dup X dX0_ruleOf_66 rfl ?_
    refine z_iload_n X dX0_ruleOf_67 rfl 1 rfl ?_
    refine z_cv (z_runI (rest := [.ref (q13)]) (n := 1) X [.int (nI (ra))] (m_X10_init_X10 gu_s (ra := ra)) dX0_ruleOf_68 (lw_meth q552) q86 q550 q551 rfl hs_X10_init rfl ⟨Nat.le_of_ble_eq_true rfl, Nat.le_of_ble_eq_true rfl⟩ ⟨by omega, by omega⟩ rfl (Nat.le_of_ble_eq_true rfl)) (fun w16 h15 => ?_)
    rw [gu_gu] at h15
    subst h15
    exact z_aret X dX0_ruleOf_71 (Or.inl ⟨_, rfl⟩) (by omega) (by omega) ⟨_, rfl, ⟨⟨0, gu_s, (fun z => absurd z (by decide)), fun b e hb he => by rw [gu_n hb]; exact he⟩, hq13⟩⟩
  · skip
    refine z_tabIn (off := 71) (tgt := 72) X dX0_ruleOf_1 (by decide) (by decide) (by decide) (by decide) ?_
    refine z_new X dX0_ruleOf_72 in_X11 tyX11 tyX11_ok (ci := 10) (fs := [.int 0]) q556 q557 q87 rfl (fun j hj => by rcases (show j = 0 by omega) with rfl <;> rfl) (by omega) (by omega) (fun q17 hq17 => ?_)
    refine z_dup X dX0_ruleOf_75 rfl ?_
    refine z_iload_n X dX0_ruleOf_76 rfl 1 rfl ?_
    refine z_cv (z_runI (rest := [.ref (q17)]) (n := 1) X [.int (nI (ra))] (m_X11_init_X11 gu_s (ra := ra)) dX0_ruleOf_77 (lw_meth q560) q87 q558 q559 rfl hs_X11_init rfl ⟨Nat.le_of_ble_eq_true rfl, Nat.le_of_ble_eq_true rfl⟩ ⟨by omega, by omega⟩ rfl (Nat.le_of_ble_eq_true rfl)) (fun w20 h19 => ?_)
    rw [gu_gu] at h19
    subst h19
    exact z_aret X dX0_ruleOf_80 (Or.inl ⟨_, rfl⟩) (by omega) (by omega) ⟨_, rfl, ⟨⟨0, gu_s, (fun z => absurd z (by decide)), fun b e hb he => by rw [gu_n hb]; exact he⟩, hq17⟩⟩
  · skip
    refine z_tabOut (tgt := 81) X dX0_ruleOf_1 (by decide) (by decide) ?_
    refine z_new X dX0_ruleOf_81 in_X12 tyX12 tyX12_ok (ci := 11) (fs := [.int 0, .null]) q564 q565 q88 rfl (fun j hj => by rcases (show j = 0 ∨ j = 1 by omega) with rfl | rfl <;> rfl) (by omega) (by omega) (fun q21 hq21 => ?_)
    refine z_dup X dX0_ruleOf_84 rfl ?_
    refine z_iload_n X dX0_ruleOf_85 rfl 1 rfl ?_
    refine z_cv (z_runI (rest := [.ref (q21)]) (n := 1) X [.int (nI (ra))] (m_X12_init gu_s (ra := ra)) dX0_ruleOf_86 (lw_meth q568) q88 q566 q567 rfl hs_X12_init rfl ⟨Nat.le_of_ble_eq_true rfl, Nat.le_of_ble_eq_true rfl⟩ ⟨by omega, by omega⟩ rfl (Nat.le_of_ble_eq_true rfl)) (fun w24 h23 => ?_)
    obtain ⟨tq, h1, h2, h3⟩ := h23
    exact z_aret X dX0_ruleOf_89 (Or.inl ⟨_, rfl⟩) (by omega) (by omega) ⟨_, rfl, ⟨⟨tq, h1, fun z => ⟨(h2 z).1, (h2 z).2.1, by have := (h2 z).2.2; rwa [gu_n (h2 z).2.1] at this⟩, fun b e hb he => h3 b e hb (gu_f hq21 he)⟩, hq21⟩⟩
