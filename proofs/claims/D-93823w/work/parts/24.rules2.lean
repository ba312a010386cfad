/-! RULES: gets, by class; any rule by its kind -/
set_option maxRecDepth 100000
theorem leTo_stay {p : Nat → Bool} {i y : Nat} (h : leTo p i = some y) : ∀ n, i ≤ n → leTo p n = some y := by
  intro n
  induction n with
  | zero => intro hn; obtain rfl : i = 0 := by omega
            exact h
  | succ n ih =>
    intro hn
    rcases Nat.lt_or_ge n i with q | q
    · rw [show n + 1 = i by omega]; exact h
    · simp only [leTo, ih q]
theorem leTo_hit {p : Nat → Bool} {i n : Nat} (hn : leTo p i = none) (hp : p i = true) (h : i < n) : leTo p n = some i :=
  leTo_stay (i := i + 1) (by simp only [leTo, hn]; exact if_pos hp) n h
set_option maxHeartbeats 2000000 in
theorem m_X7_gets_1 {l : Launch} {G : GG} {w : GW} {aw : Nat → Nat} {rr : Option Nat} {S : WS} (hW : WallW G w aw rr S) (hI : wInv S) {q a : Nat} (hq : w q = some (.inr (6, [.int (nI a)]))) (ha : a < 100) {ix st : Nat} (hi : ix < S.2 0) (hs : st < 125) : gM l G yX7_gets cX7_gets 5 (some .int) 4 0 0 [.ref (q), .ref (aw 0), .int (nI (ix)), .int (nI (st))] w (pI (fun r w1 => r = oI (leTo (fun z => fitsB S ix z st) 3) ∧ w1 = w)) := by
  refine Z.met (own := "ThreeSizes$Least") (nm := "gets") (lv := [(0, .ref (q)), (1, .ref (aw 0)), (2, .int (nI (ix))), (3, .int (nI (st)))]) (by decide) rfl rfl (Nat.le_of_ble_eq_true rfl) rfl (fun κ X => ?_)
  have h6 := hI.2.1
  have h5 := hI.2.2.1 ix hi
  refine z_iconst (v := nI (0)) X dX7_gets_0 ci0 ?_
  refine z_istore (lv2 := [(4, .int (nI (0))), (0, .ref (q)), (1, .ref (aw 0)), (2, .int (nI (ix))), (3, .int (nI (st)))]) X dX7_gets_1 (Nat.le_of_ble_eq_true rfl) rfl ?_
  have lp : ∀ (lq i : Nat), i + lq = 3 → leTo (fun z => fitsB S ix z st) i = none → Z κ w [(4, .int (nI (i))), (0, .ref (q)), (1, .ref (aw 0)), (2, .int (nI (ix))), (3, .int (nI (st)))] 0 0 3 [] := by
    intro lq
    induction lq with
    | zero =>
      intro i lh hn
      obtain rfl : i = 3 := by omega
      refine z_iload X dX7_gets_3 0 rfl ?_
      refine z_iconst (v := nI (3)) X dX7_gets_5 ci3 ?_
      refine z_icmp_ge_t (tgt := 41) X dX7_gets_6 (by decide) ((nI_leI (by omega) (by omega)).mpr (by omega)) ?_
      refine z_iconst (v := -1) X dX7_gets_41 cim1 ?_
      exact z_iret X dX7_gets_42 (by omega) (by omega) ⟨_, rfl, ⟨(by rw [hn]; rfl), rfl⟩⟩
    | succ lq ih =>
      intro i lh hn
      have hi3 : i < 3 := by omega
      refine z_iload X dX7_gets_3 0 rfl ?_
      refine z_iconst (v := nI (3)) X dX7_gets_5 ci3 ?_
      refine z_icmp_ge_f (tgt := 41) X dX7_gets_6 (by decide) (fun h => absurd ((nI_leI (by omega) (by omega)).mp h) (by omega)) ?_
      refine z_aload_n X dX7_gets_9 rfl 2 rfl ?_
      refine z_iload_n X dX7_gets_10 rfl 3 rfl ?_
      refine z_iload X dX7_gets_11 0 rfl ?_
      refine z_iload_n X dX7_gets_13 rfl 4 rfl ?_
      refine z_cip (z_runV (rest := []) (n := 3) X [.int (nI (ix)), .int (nI (i)), .int (nI (st))] (m_X2_fits hW hI (i := ix) (z := i) (st := st) (by omega) (by omega) (by omega)) dX7_gets_14 (wl_o hW) rfl (lw_V q718 q684 q685 q68 q686) hv_X2_fits rfl ⟨Nat.le_of_ble_eq_true rfl, Nat.le_of_ble_eq_true rfl⟩ ⟨by omega, by omega⟩ rfl (Nat.le_of_ble_eq_true rfl)) ?_
      refine z_if_eq (tgt := 35) X dX7_gets_17 (by decide) bI_0 (fun c1 => ?_) (fun c1 => ?_)
      · refine z_iinc (v := nI (i + 1)) (lv2 := [(4, .int (nI (i + 1))), (0, .ref (q)), (1, .ref (aw 0)), (2, .int (nI (ix))), (3, .int (nI (st)))]) X dX7_gets_35 0 rfl (nI_1 _) (Nat.le_of_ble_eq_true rfl) rfl ?_
        refine z_goto (tgt := 3) X dX7_gets_38 (by decide) ?_
        have e : leTo (fun z => fitsB S ix z st) (i + 1) = none := by simp only [leTo, hn]; exact if_neg (fun h => by rw [c1] at h; cases h)
        exact ih (i + 1) (by omega) e
      · have c1 := ts_t c1
        refine z_aload_n X dX7_gets_20 rfl 1 rfl ?_
        refine z_aload_n X dX7_gets_21 rfl 2 rfl ?_
        refine z_iload_n X dX7_gets_22 rfl 3 rfl ?_
        refine z_iload X dX7_gets_23 0 rfl ?_
        refine z_iload_n X dX7_gets_25 rfl 4 rfl ?_
        refine z_cip (z_runV (rest := []) (n := 4) X [.ref (aw 0), .int (nI (ix)), .int (nI (i)), .int (nI (st))] m_X7_isKept dX7_gets_26 hq rfl (lw_V q719 q720 q721 q83 q728) hv_X7_isKept rfl ⟨Nat.le_of_ble_eq_true rfl, Nat.le_of_ble_eq_true rfl⟩ ⟨by omega, by omega⟩ rfl (Nat.le_of_ble_eq_true rfl)) ?_
        refine z_if_ne_f (tgt := 35) X dX7_gets_29 (by decide) (by decide) ?_
        refine z_iload X dX7_gets_32 0 rfl ?_
        have hp : (fun z => fitsB S ix z st) i = true := by show fitsB S ix i st = true; exact c1
        exact z_iret X dX7_gets_34 (by omega) (by omega) ⟨_, rfl, ⟨(oI_s (leTo_hit hn hp (by omega))).symm, rfl⟩⟩
  exact lp 3 0 (by omega) rfl
set_option maxHeartbeats 2000000 in
theorem m_X7_gets_2 {l : Launch} {G : GG} {w : GW} {aw : Nat → Nat} {rr : Option Nat} {S : WS} (hW : WallW G w aw rr S) (hI : wInv S) {q a : Nat} (hq : w q = some (.inr (7, [.int (nI a)]))) (ha : a < 100) {ix st : Nat} (hi : ix < S.2 0) (hs : st < 125) : gM l G yX7_gets cX7_gets 5 (some .int) 4 0 0 [.ref (q), .ref (aw 0), .int (nI (ix)), .int (nI (st))] w (pI (fun r w1 => r = oI (leTo (fun z => fitsB S ix z st && !keptB S a ix z st) 3) ∧ w1 = w)) := by
  refine Z.met (own := "ThreeSizes$Least") (nm := "gets") (lv := [(0, .ref (q)), (1, .ref (aw 0)), (2, .int (nI (ix))), (3, .int (nI (st)))]) (by decide) rfl rfl (Nat.le_of_ble_eq_true rfl) rfl (fun κ X => ?_)
  have h6 := hI.2.1
  have h5 := hI.2.2.1 ix hi
  refine z_iconst (v := nI (0)) X dX7_gets_0 ci0 ?_
  refine z_istore (lv2 := [(4, .int (nI (0))), (0, .ref (q)), (1, .ref (aw 0)), (2, .int (nI (ix))), (3, .int (nI (st)))]) X dX7_gets_1 (Nat.le_of_ble_eq_true rfl) rfl ?_
  have lp : ∀ (lq i : Nat), i + lq = 3 → leTo (fun z => fitsB S ix z st && !keptB S a ix z st) i = none → Z κ w [(4, .int (nI (i))), (0, .ref (q)), (1, .ref (aw 0)), (2, .int (nI (ix))), (3, .int (nI (st)))] 0 0 3 [] := by
    intro lq
    induction lq with
    | zero =>
      intro i lh hn
      obtain rfl : i = 3 := by omega
      refine z_iload X dX7_gets_3 0 rfl ?_
      refine z_iconst (v := nI (3)) X dX7_gets_5 ci3 ?_
      refine z_icmp_ge_t (tgt := 41) X dX7_gets_6 (by decide) ((nI_leI (by omega) (by omega)).mpr (by omega)) ?_
      refine z_iconst (v := -1) X dX7_gets_41 cim1 ?_
      exact z_iret X dX7_gets_42 (by omega) (by omega) ⟨_, rfl, ⟨(by rw [hn]; rfl), rfl⟩⟩
    | succ lq ih =>
      intro i lh hn
      have hi3 : i < 3 := by omega
      refine z_iload X dX7_gets_3 0 rfl ?_
      refine z_iconst (v := nI (3)) X dX7_gets_5 ci3 ?_
      refine z_icmp_ge_f (tgt := 41) X dX7_gets_6 (by decide) (fun h => absurd ((nI_leI (by omega) (by omega)).mp h) (by omega)) ?_
      refine z_aload_n X dX7_gets_9 rfl 2 rfl ?_
      refine z_iload_n X dX7_gets_10 rfl 3 rfl ?_
      refine z_iload X dX7_gets_11 0 rfl ?_
      refine z_iload_n X dX7_gets_13 rfl 4 rfl ?_
      refine z_cip (z_runV (rest := []) (n := 3) X [.int (nI (ix)), .int (nI (i)), .int (nI (st))] (m_X2_fits hW hI (i := ix) (z := i) (st := st) (by omega) (by omega) (by omega)) dX7_gets_14 (wl_o hW) rfl (lw_V q718 q684 q685 q68 q686) hv_X2_fits rfl ⟨Nat.le_of_ble_eq_true rfl, Nat.le_of_ble_eq_true rfl⟩ ⟨by omega, by omega⟩ rfl (Nat.le_of_ble_eq_true rfl)) ?_
      refine z_if_eq (tgt := 35) X dX7_gets_17 (by decide) bI_0 (fun c1 => ?_) (fun c1 => ?_)
      · refine z_iinc (v := nI (i + 1)) (lv2 := [(4, .int (nI (i + 1))), (0, .ref (q)), (1, .ref (aw 0)), (2, .int (nI (ix))), (3, .int (nI (st)))]) X dX7_gets_35 0 rfl (nI_1 _) (Nat.le_of_ble_eq_true rfl) rfl ?_
        refine z_goto (tgt := 3) X dX7_gets_38 (by decide) ?_
        have e : leTo (fun z => fitsB S ix z st && !keptB S a ix z st) (i + 1) = none := by simp only [leTo, hn]; exact if_neg (fun h => by rw [c1] at h; cases h)
        exact ih (i + 1) (by omega) e
      · have c1 := ts_t c1
        refine z_aload_n X dX7_gets_20 rfl 1 rfl ?_
        refine z_aload_n X dX7_gets_21 rfl 2 rfl ?_
        refine z_iload_n X dX7_gets_22 rfl 3 rfl ?_
        refine z_iload X dX7_gets_23 0 rfl ?_
        refine z_iload_n X dX7_gets_25 rfl 4 rfl ?_
        refine z_cip (z_runO (owner := "ThreeSizes$Least") (x := ⟨"ThreeSizes$Least", "isKept", "(LThreeSizes$Wall;III)Z"⟩) (rest := []) (n := 4) X [.ref (aw 0), .int (nI (ix)), .int (nI (i)), .int (nI (st))] (m_X8_isKept hW hI hq (i := ix) (z := i) (st := st) (by omega) (by omega) (by omega) ha) dX7_gets_26 hq rfl (lw_app (lw_in _ [719, 722, 720, 723, 724, 84] (by decide +kernel) (by decide +kernel)) (lw_meth q725)) q728 (by decide +kernel) rfl ⟨Nat.le_of_ble_eq_true rfl, Nat.le_of_ble_eq_true rfl⟩ ⟨by omega, by omega⟩ rfl (Nat.le_of_ble_eq_true rfl)) ?_
        refine z_if_ne (tgt := 35) X dX7_gets_29 (by decide) bI_0 (fun c2 => ?_) (fun c2 => ?_)
        · have c2 := ts_t c2
          refine z_iinc (v := nI (i + 1)) (lv2 := [(4, .int (nI (i + 1))), (0, .ref (q)), (1, .ref (aw 0)), (2, .int (nI (ix))), (3, .int (nI (st)))]) X dX7_gets_35 0 rfl (nI_1 _) (Nat.le_of_ble_eq_true rfl) rfl ?_
          refine z_goto (tgt := 3) X dX7_gets_38 (by decide) ?_
          have e : leTo (fun z => fitsB S ix z st && !keptB S a ix z st) (i + 1) = none := by simp only [leTo, hn]; exact if_neg (fun h => by rw [c1, c2] at h; cases h)
          exact ih (i + 1) (by omega) e
        · refine z_iload X dX7_gets_32 0 rfl ?_
          have hp : (fun z => fitsB S ix z st && !keptB S a ix z st) i = true := by show (fitsB S ix i st && !keptB S a ix i st) = true; rw [c1, c2]; rfl
          exact z_iret X dX7_gets_34 (by omega) (by omega) ⟨_, rfl, ⟨(oI_s (leTo_hit hn hp (by omega))).symm, rfl⟩⟩
  exact lp 3 0 (by omega) rfl
set_option maxHeartbeats 2000000 in
theorem m_X7_gets_3 {l : Launch} {G : GG} {w : GW} {aw : Nat → Nat} {rr : Option Nat} {S : WS} (hW : WallW G w aw rr S) (hI : wInv S) {q a : Nat} (hq : w q = some (.inr (8, [.int (nI a)]))) (ha : a < 100) {ix st : Nat} (hi : ix < S.2 0) (hs : st < 125) : gM l G yX7_gets cX7_gets 5 (some .int) 4 0 0 [.ref (q), .ref (aw 0), .int (nI (ix)), .int (nI (st))] w (pI (fun r w1 => r = oI (leTo (fun z => fitsB S ix z st) 3) ∧ w1 = w)) := by
  refine Z.met (own := "ThreeSizes$Least") (nm := "gets") (lv := [(0, .ref (q)), (1, .ref (aw 0)), (2, .int (nI (ix))), (3, .int (nI (st)))]) (by decide) rfl rfl (Nat.le_of_ble_eq_true rfl) rfl (fun κ X => ?_)
  have h6 := hI.2.1
  have h5 := hI.2.2.1 ix hi
  refine z_iconst (v := nI (0)) X dX7_gets_0 ci0 ?_
  refine z_istore (lv2 := [(4, .int (nI (0))), (0, .ref (q)), (1, .ref (aw 0)), (2, .int (nI (ix))), (3, .int (nI (st)))]) X dX7_gets_1 (Nat.le_of_ble_eq_true rfl) rfl ?_
  have lp : ∀ (lq i : Nat), i + lq = 3 → leTo (fun z => fitsB S ix z st) i = none → Z κ w [(4, .int (nI (i))), (0, .ref (q)), (1, .ref (aw 0)), (2, .int (nI (ix))), (3, .int (nI (st)))] 0 0 3 [] := by
    intro lq
    induction lq with
    | zero =>
      intro i lh hn
      obtain rfl : i = 3 := by omega
      refine z_iload X dX7_gets_3 0 rfl ?_
      refine z_iconst (v := nI (3)) X dX7_gets_5 ci3 ?_
      refine z_icmp_ge_t (tgt := 41) X dX7_gets_6 (by decide) ((nI_leI (by omega) (by omega)).mpr (by omega)) ?_
      refine z_iconst (v := -1) X dX7_gets_41 cim1 ?_
      exact z_iret X dX7_gets_42 (by omega) (by omega) ⟨_, rfl, ⟨(by rw [hn]; rfl), rfl⟩⟩
    | succ lq ih =>
      intro i lh hn
      have hi3 : i < 3 := by omega
      refine z_iload X dX7_gets_3 0 rfl ?_
      refine z_iconst (v := nI (3)) X dX7_gets_5 ci3 ?_
      refine z_icmp_ge_f (tgt := 41) X dX7_gets_6 (by decide) (fun h => absurd ((nI_leI (by omega) (by omega)).mp h) (by omega)) ?_
      refine z_aload_n X dX7_gets_9 rfl 2 rfl ?_
      refine z_iload_n X dX7_gets_10 rfl 3 rfl ?_
      refine z_iload X dX7_gets_11 0 rfl ?_
      refine z_iload_n X dX7_gets_13 rfl 4 rfl ?_
      refine z_cip (z_runV (rest := []) (n := 3) X [.int (nI (ix)), .int (nI (i)), .int (nI (st))] (m_X2_fits hW hI (i := ix) (z := i) (st := st) (by omega) (by omega) (by omega)) dX7_gets_14 (wl_o hW) rfl (lw_V q718 q684 q685 q68 q686) hv_X2_fits rfl ⟨Nat.le_of_ble_eq_true rfl, Nat.le_of_ble_eq_true rfl⟩ ⟨by omega, by omega⟩ rfl (Nat.le_of_ble_eq_true rfl)) ?_
      refine z_if_eq (tgt := 35) X dX7_gets_17 (by decide) bI_0 (fun c1 => ?_) (fun c1 => ?_)
      · refine z_iinc (v := nI (i + 1)) (lv2 := [(4, .int (nI (i + 1))), (0, .ref (q)), (1, .ref (aw 0)), (2, .int (nI (ix))), (3, .int (nI (st)))]) X dX7_gets_35 0 rfl (nI_1 _) (Nat.le_of_ble_eq_true rfl) rfl ?_
        refine z_goto (tgt := 3) X dX7_gets_38 (by decide) ?_
        have e : leTo (fun z => fitsB S ix z st) (i + 1) = none := by simp only [leTo, hn]; exact if_neg (fun h => by rw [c1] at h; cases h)
        exact ih (i + 1) (by omega) e
      · have c1 := ts_t c1
        refine z_aload_n X dX7_gets_20 rfl 1 rfl ?_
        refine z_aload_n X dX7_gets_21 rfl 2 rfl ?_
        refine z_iload_n X dX7_gets_22 rfl 3 rfl ?_
        refine z_iload X dX7_gets_23 0 rfl ?_
        refine z_iload_n X dX7_gets_25 rfl 4 rfl ?_
        refine z_cip (z_runU (owner := "ThreeSizes$Least") (x := ⟨"ThreeSizes$Least", "isKept", "(LThreeSizes$Wall;III)Z"⟩) (rest := []) (n := 4) X [.ref (aw 0), .int (nI (ix)), .int (nI (i)), .int (nI (st))] m_X7_isKept dX7_gets_26 hq rfl (lw_app (lw_in _ [719, 722, 727, 720, 83] (by decide +kernel) (by decide +kernel)) (lw_meth q728)) (by decide +kernel) (by decide +kernel) rfl ⟨Nat.le_of_ble_eq_true rfl, Nat.le_of_ble_eq_true rfl⟩ ⟨by omega, by omega⟩ rfl (Nat.le_of_ble_eq_true rfl)) ?_
        refine z_if_ne_f (tgt := 35) X dX7_gets_29 (by decide) (by decide) ?_
        refine z_iload X dX7_gets_32 0 rfl ?_
        have hp : (fun z => fitsB S ix z st) i = true := by show fitsB S ix i st = true; exact c1
        exact z_iret X dX7_gets_34 (by omega) (by omega) ⟨_, rfl, ⟨(oI_s (leTo_hit hn hp (by omega))).symm, rfl⟩⟩
  exact lp 3 0 (by omega) rfl
set_option maxHeartbeats 2000000 in
theorem m_X9_gets {l : Launch} {G : GG} {w : GW} {aw : Nat → Nat} {rr : Option Nat} {S : WS} (hW : WallW G w aw rr S) (hI : wInv S) {q a : Nat} (hq : w q = some (.inr (8, [.int (nI a)]))) (ha : a < 100) {ix st : Nat} (hi : ix < S.2 0) (hs : st < 125) : gM l G yX9_gets cX9_gets 4 (some .int) 5 0 0 [.ref (q), .ref (aw 0), .int (nI (ix)), .int (nI (st))] w (pI (fun r w1 => r = oI (if S.1 5 ix < a then none else leTo (fun z => fitsB S ix z st) 3) ∧ w1 = w)) := by
  refine Z.met (own := "ThreeSizes$Some") (nm := "gets") (lv := [(0, .ref (q)), (1, .ref (aw 0)), (2, .int (nI (ix))), (3, .int (nI (st)))]) (by decide) rfl rfl (Nat.le_of_ble_eq_true rfl) rfl (fun κ X => ?_)
  have h6 := hI.2.1
  have h5 := hI.2.2.1 ix hi
  refine z_aload_n X dX9_gets_0 rfl 1 rfl ?_
  refine z_get X dX9_gets_1 (wl_o hW) in_X2 rfl 5 (Nat.le_of_ble_eq_true rfl) q144 rfl ?_
  refine z_iload_n X dX9_gets_4 rfl 2 rfl ?_
  refine z_iaN (v := nI (S.1 5 ix)) X dX9_gets_5 (wl_6 hW) (by omega) (by omega) rfl ?_
  refine z_aload_n X dX9_gets_6 rfl 0 rfl ?_
  refine z_getI X dX9_gets_7 hq in_X9 rfl 0 (Nat.le_of_ble_eq_true rfl) q524 q525 rfl ?_
  refine z_icmp_ge (tgt := 17) X dX9_gets_10 (by decide) (nI_leI (by omega) (by omega)) (fun c1 => ?_) (fun c1 => ?_)
  · refine z_aload_n X dX9_gets_17 rfl 0 rfl ?_
    refine z_aload_n X dX9_gets_18 rfl 1 rfl ?_
    refine z_iload_n X dX9_gets_19 rfl 2 rfl ?_
    refine z_iload_n X dX9_gets_20 rfl 3 rfl ?_
    refine z_cip (z_runSU (rest := []) (n := 3) X [.ref (aw 0), .int (nI (ix)), .int (nI (st))] (m_X7_gets_3 hW hI hq ha hi hs) dX9_gets_21 hq rfl (lw_app (lw_in _ [733, 1951, 547, 716, 83] (by decide +kernel) (by decide +kernel)) (lw_meth q717)) (by decide +kernel) rfl ⟨Nat.le_of_ble_eq_true rfl, Nat.le_of_ble_eq_true rfl⟩ ⟨by omega, by omega⟩ rfl (Nat.le_of_ble_eq_true rfl)) ?_
    exact z_iret X dX9_gets_24 (by omega) (by omega) ⟨_, rfl, ⟨by rw [if_neg (by omega)], rfl⟩⟩
  · refine z_iconst (v := -1) X dX9_gets_13 cim1 ?_
    refine z_goto (tgt := 24) X dX9_gets_14 (by decide) ?_
    exact z_iret X dX9_gets_24 (by omega) (by omega) ⟨_, rfl, ⟨by rw [if_pos (by omega)]; rfl, rfl⟩⟩
set_option maxHeartbeats 2000000 in
theorem m_X10_isRather {l : Launch} {G : GG} {w : GW} {q x y z : Nat} {v3 : Int32} : gM l G yX10_isRather cX10_isRather 4 (some .boolean) 1 0 0 [.ref (q), .int (nI (x)), .int (nI (y)), .int (v3)] w (pI (fun r w1 => r = nI 1 ∧ w1 = w)) := by
  refine Z.met (own := "ThreeSizes$Great") (nm := "isRather") (lv := [(0, .ref (q)), (1, .int (nI (x))), (2, .int (nI (y))), (3, .int (v3))]) (by decide) rfl rfl (Nat.le_of_ble_eq_true rfl) rfl (fun κ X => ?_)
  refine z_iconst (v := nI (1)) X dX10_isRather_0 ci1 ?_
  exact z_zret X dX10_isRather_1 (by omega) (by omega) bz1 ⟨_, rfl, ⟨rfl, rfl⟩⟩
set_option maxHeartbeats 2000000 in
theorem m_X11_isRather {l : Launch} {G : GG} {w : GW} {q a st z y : Nat} (hq : w q = some (.inr (10, [.int (nI a)]))) (hs : st < 125) (hz : z < 3) (hy : y < 3) : gM l G yX11_isRather cX11_isRather 4 (some .boolean) 3 0 0 [.ref (q), .int (nI (st)), .int (nI (z)), .int (nI (y))] w (pI (fun r w1 => r = bI (decide (fr st y ≤ fr st z)) ∧ w1 = w)) := by
  refine Z.met (own := "ThreeSizes$Even") (nm := "isRather") (lv := [(0, .ref (q)), (1, .int (nI (st))), (2, .int (nI (z))), (3, .int (nI (y)))]) (by decide) rfl rfl (Nat.le_of_ble_eq_true rfl) rfl (fun κ X => ?_)
  have f1 := fr_lt st y
  have f2 := fr_lt st z
  refine z_aload_n X dX11_isRather_0 rfl 0 rfl ?_
  refine z_iload_n X dX11_isRather_1 rfl 1 rfl ?_
  refine z_iload_n X dX11_isRather_2 rfl 2 rfl ?_
  refine z_iload_n X dX11_isRather_3 rfl 3 rfl ?_
  refine z_cip (z_runSU (rest := []) (n := 3) X [.int (nI (st)), .int (nI (z)), .int (nI (y))] (m_X10_isRather (z := 0)) dX11_isRather_4 hq rfl (lw_app (lw_in _ [711, 707, 563, 705, 86] (by decide +kernel) (by decide +kernel)) (lw_meth q712)) (by decide +kernel) rfl ⟨Nat.le_of_ble_eq_true rfl, Nat.le_of_ble_eq_true rfl⟩ ⟨by omega, by omega⟩ rfl (Nat.le_of_ble_eq_true rfl)) ?_
  refine z_if_eq_f (tgt := 27) X dX11_isRather_7 (by decide) (by decide) ?_
  refine z_iload_n X dX11_isRather_10 rfl 1 rfl ?_
  refine z_iload_n X dX11_isRather_11 rfl 2 rfl ?_
  refine z_cip (z_runSN (rest := []) (n := 2) X [.int (nI (st)), .int (nI (z))] (m_X0_freeOf (st := st) (z := z) (by omega) (by omega)) dX11_isRather_12 (lw_meth q662) q713 q66 q661 hs_X0_freeOf rfl ⟨Nat.le_of_ble_eq_true rfl, Nat.le_of_ble_eq_true rfl⟩ ⟨by omega, by omega⟩ rfl (Nat.le_of_ble_eq_true rfl)) ?_
  refine z_iload_n X dX11_isRather_15 rfl 1 rfl ?_
  refine z_iload_n X dX11_isRather_16 rfl 3 rfl ?_
  refine z_cip (z_runSN (rest := [.int (nI (fr st z))]) (n := 2) X [.int (nI (st)), .int (nI (y))] (m_X0_freeOf (st := st) (z := y) (by omega) (by omega)) dX11_isRather_17 (lw_meth q662) q713 q66 q661 hs_X0_freeOf rfl ⟨Nat.le_of_ble_eq_true rfl, Nat.le_of_ble_eq_true rfl⟩ ⟨by omega, by omega⟩ rfl (Nat.le_of_ble_eq_true rfl)) ?_
  refine z_icmp_lt (tgt := 27) X dX11_isRather_20 (by decide) (nI_ltI (by omega) (by omega)) (fun c1 => ?_) (fun c1 => ?_)
  · refine z_iconst (v := nI (0)) X dX11_isRather_27 ci0 ?_
    exact z_zret X dX11_isRather_28 (by omega) (by omega) bz0 ⟨_, rfl, ⟨bz_f (by simp only [decide_eq_false_iff_not, decide_eq_true_eq]; omega), rfl⟩⟩
  · refine z_iconst (v := nI (1)) X dX11_isRather_23 ci1 ?_
    refine z_goto (tgt := 28) X dX11_isRather_24 (by decide) ?_
    exact z_zret X dX11_isRather_28 (by omega) (by omega) bz1 ⟨_, rfl, ⟨bz_t (by simp only [decide_eq_false_iff_not, decide_eq_true_eq]; omega), rfl⟩⟩
set_option maxHeartbeats 2000000 in
theorem m_X10_gets_4 {l : Launch} {G : GG} {w : GW} {aw : Nat → Nat} {rr : Option Nat} {S : WS} (hW : WallW G w aw rr S) (hI : wInv S) {q a : Nat} (hq : w q = some (.inr (9, [.int (nI a)]))) (ha : a < 100) {ix st : Nat} (hi : ix < S.2 0) (hs : st < 125) : gM l G yX10_gets cX10_gets 6 (some .int) 4 0 0 [.ref (q), .ref (aw 0), .int (nI (ix)), .int (nI (st))] w (pI (fun r w1 => r = oI (grTo (fun z => fitsB S ix z st) 3) ∧ w1 = w)) := by
  refine Z.met (own := "ThreeSizes$Great") (nm := "gets") (lv := [(0, .ref (q)), (1, .ref (aw 0)), (2, .int (nI (ix))), (3, .int (nI (st)))]) (by decide) rfl rfl (Nat.le_of_ble_eq_true rfl) rfl (fun κ X => ?_)
  have h6 := hI.2.1
  have h5 := hI.2.2.1 ix hi
  refine z_iconst (v := -1) X dX10_gets_0 cim1 ?_
  refine z_istore (lv2 := [(4, .int (-1)), (0, .ref (q)), (1, .ref (aw 0)), (2, .int (nI (ix))), (3, .int (nI (st)))]) X dX10_gets_1 (Nat.le_of_ble_eq_true rfl) rfl ?_
  refine z_iconst (v := nI (0)) X dX10_gets_3 ci0 ?_
  refine z_istore (lv2 := [(5, .int (nI (0))), (4, .int (-1)), (0, .ref (q)), (1, .ref (aw 0)), (2, .int (nI (ix))), (3, .int (nI (st)))]) X dX10_gets_4 (Nat.le_of_ble_eq_true rfl) rfl ?_
  have lp : ∀ (lq i : Nat), i + lq = 3 → Z κ w [(5, .int (nI (i))), (4, .int (oI (grTo (fun z => fitsB S ix z st) i))), (0, .ref (q)), (1, .ref (aw 0)), (2, .int (nI (ix))), (3, .int (nI (st)))] 0 0 6 [] := by
    intro lq
    induction lq with
    | zero =>
      intro i lh
      obtain rfl : i = 3 := by omega
      refine z_iload X dX10_gets_6 0 rfl ?_
      refine z_iconst (v := nI (3)) X dX10_gets_8 ci3 ?_
      refine z_icmp_ge_t (tgt := 51) X dX10_gets_9 (by decide) ((nI_leI (by omega) (by omega)).mpr (by omega)) ?_
      refine z_iload X dX10_gets_51 1 rfl ?_
      exact z_iret X dX10_gets_53 (by omega) (by omega) ⟨_, rfl, ⟨rfl, rfl⟩⟩
    | succ lq ih =>
      intro i lh
      have hi3 : i < 3 := by omega
      refine z_iload X dX10_gets_6 0 rfl ?_
      refine z_iconst (v := nI (3)) X dX10_gets_8 ci3 ?_
      refine z_icmp_ge_f (tgt := 51) X dX10_gets_9 (by decide) (fun h => absurd ((nI_leI (by omega) (by omega)).mp h) (by omega)) ?_
      refine z_aload_n X dX10_gets_12 rfl 3 rfl ?_
      refine z_iload_n X dX10_gets_13 rfl 4 rfl ?_
      refine z_iload X dX10_gets_14 0 rfl ?_
      refine z_iload_n X dX10_gets_16 rfl 5 rfl ?_
      refine z_cip (z_runV (rest := []) (n := 3) X [.int (nI (ix)), .int (nI (i)), .int (nI (st))] (m_X2_fits hW hI (i := ix) (z := i) (st := st) (by omega) (by omega) (by omega)) dX10_gets_17 (wl_o hW) rfl (lw_V q703 q684 q685 q68 q686) hv_X2_fits rfl ⟨Nat.le_of_ble_eq_true rfl, Nat.le_of_ble_eq_true rfl⟩ ⟨by omega, by omega⟩ rfl (Nat.le_of_ble_eq_true rfl)) ?_
      refine z_if_eq (tgt := 45) X dX10_gets_20 (by decide) bI_0 (fun c1 => ?_) (fun c1 => ?_)
      · refine z_iinc (v := nI (i + 1)) (lv2 := [(5, .int (nI (i + 1))), (4, .int (oI (grTo (fun z => fitsB S ix z st) i))), (0, .ref (q)), (1, .ref (aw 0)), (2, .int (nI (ix))), (3, .int (nI (st)))]) X dX10_gets_45 0 rfl (nI_1 _) (Nat.le_of_ble_eq_true rfl) rfl ?_
        refine z_goto (tgt := 6) X dX10_gets_48 (by decide) ?_
        have e : grTo (fun z => fitsB S ix z st) (i + 1) = grTo (fun z => fitsB S ix z st) i := if_neg (fun h => Bool.noConfusion (c1.symm.trans h))
        have k := ih (i + 1) (by omega)
        rw [e] at k
        exact k
      · have c1 := ts_t c1
        refine z_iload X dX10_gets_23 1 rfl ?_
        refine z_iconst (v := -1) X dX10_gets_25 cim1 ?_
        refine z_icmp_eq (tgt := 41) X dX10_gets_26 (by decide) (oI_m1 (fun z h => by have := (grTo_lt _ _ h).1; omega)) (fun c2 => ?_) (fun c2 => ?_)
        · refine z_iload X dX10_gets_41 0 rfl ?_
          refine z_istore (lv2 := [(4, .int (nI (i))), (5, .int (nI (i))), (0, .ref (q)), (1, .ref (aw 0)), (2, .int (nI (ix))), (3, .int (nI (st)))]) X dX10_gets_43 (Nat.le_of_ble_eq_true rfl) rfl ?_
          refine z_iinc (v := nI (i + 1)) (lv2 := [(5, .int (nI (i + 1))), (4, .int (nI (i))), (0, .ref (q)), (1, .ref (aw 0)), (2, .int (nI (ix))), (3, .int (nI (st)))]) X dX10_gets_45 1 rfl (nI_1 _) (Nat.le_of_ble_eq_true rfl) rfl ?_
          refine z_goto (tgt := 6) X dX10_gets_48 (by decide) ?_
          have e : grTo (fun z => fitsB S ix z st) (i + 1) = some i := if_pos c1
          have k := ih (i + 1) (by omega)
          rw [e] at k
          exact k
        · refine z_aload_n X dX10_gets_29 rfl 2 rfl ?_
          refine z_iload_n X dX10_gets_30 rfl 5 rfl ?_
          refine z_iload X dX10_gets_31 0 rfl ?_
          refine z_iload X dX10_gets_33 1 rfl ?_
          refine z_cip (z_runV (rest := []) (n := 3) X [.int (nI (st)), .int (nI (i)), .int (oI (grTo (fun z => fitsB S ix z st) i))] (m_X10_isRather (z := 0)) dX10_gets_35 hq rfl (lw_V q704 q705 q706 q86 q712) hv_X10_isRather rfl ⟨Nat.le_of_ble_eq_true rfl, Nat.le_of_ble_eq_true rfl⟩ ⟨by omega, by omega⟩ rfl (Nat.le_of_ble_eq_true rfl)) ?_
          refine z_if_eq_f (tgt := 45) X dX10_gets_38 (by decide) (by decide) ?_
          refine z_iload X dX10_gets_41 0 rfl ?_
          refine z_istore (lv2 := [(4, .int (nI (i))), (5, .int (nI (i))), (0, .ref (q)), (1, .ref (aw 0)), (2, .int (nI (ix))), (3, .int (nI (st)))]) X dX10_gets_43 (Nat.le_of_ble_eq_true rfl) rfl ?_
          refine z_iinc (v := nI (i + 1)) (lv2 := [(5, .int (nI (i + 1))), (4, .int (nI (i))), (0, .ref (q)), (1, .ref (aw 0)), (2, .int (nI (ix))), (3, .int (nI (st)))]) X dX10_gets_45 1 rfl (nI_1 _) (Nat.le_of_ble_eq_true rfl) rfl ?_
          refine z_goto (tgt := 6) X dX10_gets_48 (by decide) ?_
          have e : grTo (fun z => fitsB S ix z st) (i + 1) = some i := if_pos c1
          have k := ih (i + 1) (by omega)
          rw [e] at k
          exact k
  exact lp (3) 0 (by omega)
set_option maxHeartbeats 2000000 in
theorem m_X10_gets_5 {l : Launch} {G : GG} {w : GW} {aw : Nat → Nat} {rr : Option Nat} {S : WS} (hW : WallW G w aw rr S) (hI : wInv S) {q a : Nat} (hq : w q = some (.inr (10, [.int (nI a)]))) (ha : a < 100) {ix st : Nat} (hi : ix < S.2 0) (hs : st < 125) : gM l G yX10_gets cX10_gets 6 (some .int) 4 0 0 [.ref (q), .ref (aw 0), .int (nI (ix)), .int (nI (st))] w (pI (fun r w1 => r = oI (evTo S ix st 3) ∧ w1 = w)) := by
  refine Z.met (own := "ThreeSizes$Great") (nm := "gets") (lv := [(0, .ref (q)), (1, .ref (aw 0)), (2, .int (nI (ix))), (3, .int (nI (st)))]) (by decide) rfl rfl (Nat.le_of_ble_eq_true rfl) rfl (fun κ X => ?_)
  have h6 := hI.2.1
  have h5 := hI.2.2.1 ix hi
  refine z_iconst (v := -1) X dX10_gets_0 cim1 ?_
  refine z_istore (lv2 := [(4, .int (-1)), (0, .ref (q)), (1, .ref (aw 0)), (2, .int (nI (ix))), (3, .int (nI (st)))]) X dX10_gets_1 (Nat.le_of_ble_eq_true rfl) rfl ?_
  refine z_iconst (v := nI (0)) X dX10_gets_3 ci0 ?_
  refine z_istore (lv2 := [(5, .int (nI (0))), (4, .int (-1)), (0, .ref (q)), (1, .ref (aw 0)), (2, .int (nI (ix))), (3, .int (nI (st)))]) X dX10_gets_4 (Nat.le_of_ble_eq_true rfl) rfl ?_
  have lp : ∀ (lq i : Nat), i + lq = 3 → Z κ w [(5, .int (nI (i))), (4, .int (oI (evTo S ix st i))), (0, .ref (q)), (1, .ref (aw 0)), (2, .int (nI (ix))), (3, .int (nI (st)))] 0 0 6 [] := by
    intro lq
    induction lq with
    | zero =>
      intro i lh
      obtain rfl : i = 3 := by omega
      refine z_iload X dX10_gets_6 0 rfl ?_
      refine z_iconst (v := nI (3)) X dX10_gets_8 ci3 ?_
      refine z_icmp_ge_t (tgt := 51) X dX10_gets_9 (by decide) ((nI_leI (by omega) (by omega)).mpr (by omega)) ?_
      refine z_iload X dX10_gets_51 1 rfl ?_
      exact z_iret X dX10_gets_53 (by omega) (by omega) ⟨_, rfl, ⟨rfl, rfl⟩⟩
    | succ lq ih =>
      intro i lh
      have hi3 : i < 3 := by omega
      refine z_iload X dX10_gets_6 0 rfl ?_
      refine z_iconst (v := nI (3)) X dX10_gets_8 ci3 ?_
      refine z_icmp_ge_f (tgt := 51) X dX10_gets_9 (by decide) (fun h => absurd ((nI_leI (by omega) (by omega)).mp h) (by omega)) ?_
      refine z_aload_n X dX10_gets_12 rfl 3 rfl ?_
      refine z_iload_n X dX10_gets_13 rfl 4 rfl ?_
      refine z_iload X dX10_gets_14 0 rfl ?_
      refine z_iload_n X dX10_gets_16 rfl 5 rfl ?_
      refine z_cip (z_runV (rest := []) (n := 3) X [.int (nI (ix)), .int (nI (i)), .int (nI (st))] (m_X2_fits hW hI (i := ix) (z := i) (st := st) (by omega) (by omega) (by omega)) dX10_gets_17 (wl_o hW) rfl (lw_V q703 q684 q685 q68 q686) hv_X2_fits rfl ⟨Nat.le_of_ble_eq_true rfl, Nat.le_of_ble_eq_true rfl⟩ ⟨by omega, by omega⟩ rfl (Nat.le_of_ble_eq_true rfl)) ?_
      refine z_if_eq (tgt := 45) X dX10_gets_20 (by decide) bI_0 (fun c1 => ?_) (fun c1 => ?_)
      · refine z_iinc (v := nI (i + 1)) (lv2 := [(5, .int (nI (i + 1))), (4, .int (oI (evTo S ix st i))), (0, .ref (q)), (1, .ref (aw 0)), (2, .int (nI (ix))), (3, .int (nI (st)))]) X dX10_gets_45 0 rfl (nI_1 _) (Nat.le_of_ble_eq_true rfl) rfl ?_
        refine z_goto (tgt := 6) X dX10_gets_48 (by decide) ?_
        have e : evTo S ix st (i + 1) = evTo S ix st i := if_neg (fun h => Bool.noConfusion (c1.symm.trans h.1))
        have k := ih (i + 1) (by omega)
        rw [e] at k
        exact k
      · have c1 := ts_t c1
        refine z_iload X dX10_gets_23 1 rfl ?_
        refine z_iconst (v := -1) X dX10_gets_25 cim1 ?_
        refine z_icmp_eq (tgt := 41) X dX10_gets_26 (by decide) (oI_m1 (fun z h => by have := (evTo_lt _ _ h).1; omega)) (fun c2 => ?_) (fun c2 => ?_)
        · refine z_iload X dX10_gets_41 0 rfl ?_
          refine z_istore (lv2 := [(4, .int (nI (i))), (5, .int (nI (i))), (0, .ref (q)), (1, .ref (aw 0)), (2, .int (nI (ix))), (3, .int (nI (st)))]) X dX10_gets_43 (Nat.le_of_ble_eq_true rfl) rfl ?_
          refine z_iinc (v := nI (i + 1)) (lv2 := [(5, .int (nI (i + 1))), (4, .int (nI (i))), (0, .ref (q)), (1, .ref (aw 0)), (2, .int (nI (ix))), (3, .int (nI (st)))]) X dX10_gets_45 1 rfl (nI_1 _) (Nat.le_of_ble_eq_true rfl) rfl ?_
          refine z_goto (tgt := 6) X dX10_gets_48 (by decide) ?_
          have e : evTo S ix st (i + 1) = some i := if_pos ⟨c1, by rw [c2]; rfl⟩
          have k := ih (i + 1) (by omega)
          rw [e] at k
          exact k
        · obtain ⟨y, hy⟩ := Option.ne_none_iff_exists.mp c2
          have hy2 := (evTo_lt i y hy.symm).1
          rw [← hy]
          refine z_aload_n X dX10_gets_29 rfl 2 rfl ?_
          refine z_iload_n X dX10_gets_30 rfl 5 rfl ?_
          refine z_iload X dX10_gets_31 0 rfl ?_
          refine z_iload X dX10_gets_33 1 rfl ?_
          refine z_cip (z_runO (owner := "ThreeSizes$Great") (x := ⟨"ThreeSizes$Great", "isRather", "(III)Z"⟩) (rest := []) (n := 3) X [.int (nI (st)), .int (nI (i)), .int (nI (y))] (m_X11_isRather hq hs (z := i) (y := y) (by omega) (by omega)) dX10_gets_35 hq rfl (lw_app (lw_in _ [704, 707, 705, 708, 709, 87] (by decide +kernel) (by decide +kernel)) (lw_meth q710)) q712 (by decide +kernel) rfl ⟨Nat.le_of_ble_eq_true rfl, Nat.le_of_ble_eq_true rfl⟩ ⟨by omega, by omega⟩ rfl (Nat.le_of_ble_eq_true rfl)) ?_
          refine z_if_eq (tgt := 45) X dX10_gets_38 (by decide) bI_d (fun c3 => ?_) (fun c3 => ?_)
          · refine z_iinc (v := nI (i + 1)) (lv2 := [(5, .int (nI (i + 1))), (4, .int (nI (y))), (0, .ref (q)), (1, .ref (aw 0)), (2, .int (nI (ix))), (3, .int (nI (st)))]) X dX10_gets_45 0 rfl (nI_1 _) (Nat.le_of_ble_eq_true rfl) rfl ?_
            refine z_goto (tgt := 6) X dX10_gets_48 (by decide) ?_
            have e : evTo S ix st (i + 1) = some y := (if_neg (fun h => by have h2 := h.2; rw [← hy] at h2; simp only [evOk, decide_eq_true_eq] at h2; exact c3 h2)).trans hy.symm
            have k := ih (i + 1) (by omega)
            rw [e] at k
            exact k
          · have c3 := Classical.not_not.mp c3
            refine z_iload X dX10_gets_41 0 rfl ?_
            refine z_istore (lv2 := [(4, .int (nI (i))), (5, .int (nI (i))), (0, .ref (q)), (1, .ref (aw 0)), (2, .int (nI (ix))), (3, .int (nI (st)))]) X dX10_gets_43 (Nat.le_of_ble_eq_true rfl) rfl ?_
            refine z_iinc (v := nI (i + 1)) (lv2 := [(5, .int (nI (i + 1))), (4, .int (nI (i))), (0, .ref (q)), (1, .ref (aw 0)), (2, .int (nI (ix))), (3, .int (nI (st)))]) X dX10_gets_45 1 rfl (nI_1 _) (Nat.le_of_ble_eq_true rfl) rfl ?_
            refine z_goto (tgt := 6) X dX10_gets_48 (by decide) ?_
            have e : evTo S ix st (i + 1) = some i := if_pos ⟨c1, by rw [← hy]; simp only [evOk, decide_eq_true_eq]; exact c3⟩
            have k := ih (i + 1) (by omega)
            rw [e] at k
            exact k
  exact lp (3) 0 (by omega)
set_option maxHeartbeats 2000000 in
theorem m_X12_gets {l : Launch} {G : GG} {w : GW} {aw : Nat → Nat} {rr : Option Nat} {S : WS} (hW : WallW G w aw rr S) (hI : wInv S) {q a tq : Nat} {T : Nat → Int64} (hq : w q = some (.inr (11, [.int (nI a), .ref tq]))) (ht : w tq = some (.inl (G.2.1 1, 125, .inr (.inl T)))) {ix st : Nat} (hi : ix < S.2 0) (hs : st < 125) : gM l G yX12_gets cX12_gets 4 (some .int) 5 0 0 [.ref (q), .ref (aw 0), .int (nI (ix)), .int (nI (st))] w (pI (fun r w1 => r = oI (bestO S ix st T) ∧ w1 = w)) := by
  refine Z.met (own := "ThreeSizes$Wise") (nm := "gets") (lv := [(0, .ref (q)), (1, .ref (aw 0)), (2, .int (nI (ix))), (3, .int (nI (st)))]) (by decide) rfl rfl (Nat.le_of_ble_eq_true rfl) rfl (fun κ X => ?_)
  refine z_aload_n X dX12_gets_0 rfl 1 rfl ?_
  refine z_iload_n X dX12_gets_1 rfl 2 rfl ?_
  refine z_iload_n X dX12_gets_2 rfl 3 rfl ?_
  refine z_aload_n X dX12_gets_3 rfl 0 rfl ?_
  refine z_get X dX12_gets_4 hq in_X12 rfl 1 (Nat.le_of_ble_eq_true rfl) q570 rfl ?_
  refine z_cip (z_runSN (rest := []) (n := 4) X [.ref (aw 0), .int (nI (ix)), .int (nI (st)), .ref (tq)] (m_X0_bestOf hW hI (ix := ix) (st := st) (by omega) (by omega) ht) dX12_gets_7 (lw_meth q682) q737 q66 q681 hs_X0_bestOf rfl ⟨Nat.le_of_ble_eq_true rfl, Nat.le_of_ble_eq_true rfl⟩ ⟨by omega, by omega⟩ rfl (Nat.le_of_ble_eq_true rfl)) ?_
  exact z_iret X dX12_gets_10 (by omega) (by omega) ⟨_, rfl, ⟨rfl, rfl⟩⟩
/-- a rule as an object: its kind, its number, what it has learnt -/
def rCell (kd a tq : Nat) : va_E := if kd = 6 then .inr (11, [.int (nI a), .ref tq]) else .inr (kd + 5, [.int (nI a)])
def RuleW (G : GG) (w : GW) (q kd a tq : Nat) (T : Nat → Int64) : Prop := (1 ≤ kd ∧ kd ≤ 6 ∧ a < 100) ∧ w q = some (rCell kd a tq) ∧ (kd = 6 → w tq = some (.inl (G.2.1 1, 125, .inr (.inl T))))
theorem kd_cases {kd : Nat} (h : 1 ≤ kd ∧ kd ≤ 6) : kd = 1 ∨ kd = 2 ∨ kd = 3 ∨ kd = 4 ∨ kd = 5 ∨ kd = 6 := by omega
section ZRG
variable {κ : ZK} {cc : ByteArray} {own nm : String} {nL : Nat} {ret : Option FieldType} {l : Launch} {d mc ms : Nat} {G : GG} {w0 w : GW} {post : Option Value → GW → Prop} {lv : List (Nat × Value)} {a b pc : Nat} {st rest : List Value}
theorem z_rgets (X : ZX κ cc own nL ret nm l d mc ms G w0 post) {i q kd ra tq ix s : Nat} {T : Nat → Int64} {aw : Nat → Nat} {rr : Option Nat} {S : WS} (hW : WallW G w aw rr S) (hI : wInv S) (hR : RuleW G w q kd ra tq T) (hi : ix < S.2 0) (hs : s < 125) (hdg : decode cc pc = .ok (.invokevirtual i, 3)) (h1 : Cond.methodLink own i ⟨"ThreeSizes$Rule", "gets", "(LThreeSizes$Wall;II)I"⟩ ∈ defaultWords_1) (hd : 6 ≤ d) (hst : st = [.int (nI s), .int (nI ix), .ref (aw 0)] ++ .ref q :: rest) (hW8 : (rest.map fun v => v.category).sum ≤ 8) (hf : a + 0 ≤ mc ∧ b + 0 ≤ ms) (k : Z κ w lv (a + 0) (b + 0) (pc + 3) (.int (oI (rget S kd ra T ix s)) :: rest)) : Z κ w lv a b pc st := by
  obtain ⟨⟨k1, k2, ha⟩, hq, ht⟩ := hR
  have hsm : Cond.sameMethod "ThreeSizes$Rule" "ThreeSizes$Says" "gets" "(LThreeSizes$Wall;II)I" ∈ defaultWords_1 := List.mem_of_getElem? (i := 1) rfl
  rcases kd_cases ⟨k1, k2⟩ with rfl | rfl | rfl | rfl | rfl | rfl

  · exact z_cip (z_runG (owner := "ThreeSizes$Says") (n := 3) (rest := rest) X [.ref (aw 0), .int (nI ix), .int (nI s)] (m_X7_gets_1 hW hI hq ha hi hs) hdg hq rfl h1 hsm q729 q716 q83 q717 q699 (by decide +kernel) rfl ⟨by omega, by omega⟩ hf hst hW8) k
  · exact z_cip (z_runG (owner := "ThreeSizes$Says") (n := 3) (rest := rest) X [.ref (aw 0), .int (nI ix), .int (nI s)] (m_X7_gets_2 hW hI hq ha hi hs) hdg hq rfl h1 hsm q715 q716 q83 q717 q699 (by decide +kernel) rfl ⟨by omega, by omega⟩ hf hst hW8) k
  · exact z_cip (z_runG (owner := "ThreeSizes$Says") (n := 3) (rest := rest) X [.ref (aw 0), .int (nI ix), .int (nI s)] (m_X9_gets hW hI hq ha hi hs) hdg hq rfl h1 hsm q730 q731 q85 q732 q699 (by decide +kernel) rfl ⟨by omega, by omega⟩ hf hst hW8) k
  · exact z_cip (z_runG (owner := "ThreeSizes$Says") (n := 3) (rest := rest) X [.ref (aw 0), .int (nI ix), .int (nI s)] (m_X10_gets_4 hW hI hq ha hi hs) hdg hq rfl h1 hsm q714 q701 q86 q702 q699 (by decide +kernel) rfl ⟨by omega, by omega⟩ hf hst hW8) k
  · exact z_cip (z_runG (owner := "ThreeSizes$Says") (n := 3) (rest := rest) X [.ref (aw 0), .int (nI ix), .int (nI s)] (m_X10_gets_5 hW hI hq ha hi hs) hdg hq rfl h1 hsm q700 q701 q86 q702 q699 (by decide +kernel) rfl ⟨by omega, by omega⟩ hf hst hW8) k
  · exact z_cip (z_runG (owner := "ThreeSizes$Says") (n := 3) (rest := rest) X [.ref (aw 0), .int (nI ix), .int (nI s)] (m_X12_gets hW hI hq (ht rfl) hi hs) hdg hq rfl h1 hsm q734 q735 q88 q736 q699 (by decide +kernel) rfl ⟨by omega, by omega⟩ hf hst hW8) k
end ZRG
