/-! THE MODEL: sorts of a row -/
set_option maxRecDepth 100000
theorem adv4 {i : Nat} : nI (4 * i) + Int32.ofInt 4 = nI (4 * (i + 1)) := by rw [show 4 * (i + 1) = 4 * i + 4 by omega]; exact nI_add _ _
theorem adds_go {f : Nat → Int64} {n i : Nat} {S : WS} (h : addK S (f (4 * i)) (f (4 * i + 1)) (f (4 * i + 2)) (f (4 * i + 3)) = 0) : addsTo f (n + 1) i S = addsTo f n (i + 1) (addS S (f (4 * i)) (f (4 * i + 1)) (f (4 * i + 2)) (f (4 * i + 3))) := by simp only [addsTo]; exact if_pos h
theorem adds_no {f : Nat → Int64} {n i k : Nat} {S : WS} (h : addK S (f (4 * i)) (f (4 * i + 1)) (f (4 * i + 2)) (f (4 * i + 3)) = k) (hk : k ≠ 0) : addsTo f (n + 1) i S = (i, S) := by simp only [addsTo]; exact if_neg (by rw [h]; exact hk)
set_option maxHeartbeats 2000000 in
theorem m_X4_sorts {l : Launch} {G : GG} {wb w : GW} {ad : Nat → Nat} {m : MSt} (hM : MM G wb w ad m) {o : OS} (hT : MT o m) (hO : oInv o) {s n : Int32} : gM l G yX4_sorts cX4_sorts 6 (some .int) 4 0 0 [.ref (ad 0), .int (s), .int (n)] w (pI (fun r w1 => ∃ m2, MM G wb w1 ad m2 ∧ MT (spSorts o s n).2 m2 ∧ r = (spSorts o s n).1)) := by
  refine Z.met (own := "ThreeSizesModel") (nm := "sorts") (lv := [(0, .ref (ad 0)), (1, .int (s)), (2, .int (n))]) (by decide) rfl rfl (Nat.le_of_ble_eq_true rfl) rfl (fun κ X => ?_)
  have hI := hO.1
  have h6 := hI.2.1
  have ht200 := hO.2.2.2
  refine z_aload_n X dX4_sorts_0 rfl 0 rfl ?_
  refine z_iload_n X dX4_sorts_1 rfl 1 rfl ?_
  refine z_ci (z_runV (rest := []) (n := 1) X [.int (s)] (m_X4_noRow hM hT hO (s := s)) dX4_sorts_2 (mm_o hM) rfl (lw_V q1664 q1666 qs41 q70 q1667) hv_X4_noRow rfl ⟨Nat.le_of_ble_eq_true rfl, Nat.le_of_ble_eq_true rfl⟩ ⟨by omega, by omega⟩ rfl (Nat.le_of_ble_eq_true rfl)) (fun r1 w3 h2 => ?_)
  obtain ⟨mv2, hM2, hQ2⟩ := h2
  rcases hQ2 with ⟨e1, rfl, hTn2⟩ | ⟨sN, sNh, rfl, e2, (⟨q4, rfl, hTn2⟩ | ⟨q4, rfl, hTn2⟩ | ⟨q4, rfl, hTn2⟩)⟩
  · skip
    refine z_istore_n (lv2 := [(3, .int ((-2))), (0, .ref (ad 0)), (1, .int (s)), (2, .int (n))]) X dX4_sorts_5 rfl (Nat.le_of_ble_eq_true rfl) rfl ?_
    refine z_iload_n X dX4_sorts_6 rfl 0 rfl ?_
    refine z_if_eq_f (tgt := 12) X dX4_sorts_7 (by decide) (by decide) ?_
    refine z_iload_n X dX4_sorts_10 rfl 0 rfl ?_
    have e : spSorts o s n = ((-2), oRef o 2) := by
      unfold spSorts
      repeat (first | rw [el_some (by assumption)] | rw [el_none (by assumption)] | rw [if_pos (by omega)] | rw [if_neg (by omega)] | rw [if_pos (by assumption)] | rw [if_neg (ts_n (by assumption))])
      all_goals first | rfl | (exfalso; omega)
    exact z_iret X dX4_sorts_11 (by omega) (by omega) ⟨_, rfl, (by rw [e]; exact ⟨_, hM2, hTn2, rfl⟩)⟩
  · skip
    have hqsN := hO.2.1 sN (by omega)
    refine z_istore_n (lv2 := [(3, .int ((-3))), (0, .ref (ad 0)), (1, .int (nI (sN))), (2, .int (n))]) X dX4_sorts_5 rfl (Nat.le_of_ble_eq_true rfl) rfl ?_
    refine z_iload_n X dX4_sorts_6 rfl 0 rfl ?_
    refine z_if_eq_f (tgt := 12) X dX4_sorts_7 (by decide) (by decide) ?_
    refine z_iload_n X dX4_sorts_10 rfl 0 rfl ?_
    have e : spSorts o (nI sN) n = ((-3), oRef o 3) := by
      unfold spSorts
      repeat (first | rw [el_some (by assumption)] | rw [el_none (by assumption)] | rw [if_pos (by omega)] | rw [if_neg (by omega)] | rw [if_pos (by assumption)] | rw [if_neg (ts_n (by assumption))])
      all_goals first | rfl | (exfalso; omega)
    exact z_iret X dX4_sorts_11 (by omega) (by omega) ⟨_, rfl, (by rw [e]; exact ⟨_, hM2, hTn2, rfl⟩)⟩
  · skip
    have hqsN := hO.2.1 sN (by omega)
    refine z_istore_n (lv2 := [(3, .int ((-4))), (0, .ref (ad 0)), (1, .int (nI (sN))), (2, .int (n))]) X dX4_sorts_5 rfl (Nat.le_of_ble_eq_true rfl) rfl ?_
    refine z_iload_n X dX4_sorts_6 rfl 0 rfl ?_
    refine z_if_eq_f (tgt := 12) X dX4_sorts_7 (by decide) (by decide) ?_
    refine z_iload_n X dX4_sorts_10 rfl 0 rfl ?_
    have e : spSorts o (nI sN) n = ((-4), oRef o 4) := by
      unfold spSorts
      repeat (first | rw [el_some (by assumption)] | rw [el_none (by assumption)] | rw [if_pos (by omega)] | rw [if_neg (by omega)] | rw [if_pos (by assumption)] | rw [if_neg (ts_n (by assumption))])
      all_goals first | rfl | (exfalso; omega)
    exact z_iret X dX4_sorts_11 (by omega) (by omega) ⟨_, rfl, (by rw [e]; exact ⟨_, hM2, hTn2, rfl⟩)⟩
  · skip
    have hqsN := hO.2.1 sN (by omega)
    refine z_istore_n (lv2 := [(3, .int (nI (0))), (0, .ref (ad 0)), (1, .int (nI (sN))), (2, .int (n))]) X dX4_sorts_5 rfl (Nat.le_of_ble_eq_true rfl) rfl ?_
    refine z_iload_n X dX4_sorts_6 rfl 0 rfl ?_
    refine z_if_eq_t (tgt := 12) X dX4_sorts_7 (by decide) (by decide) ?_
    refine z_iload_n X dX4_sorts_12 rfl 3 rfl ?_
    refine z_if_lt (tgt := 32) X dX4_sorts_13 (by decide) Iff.rfl (fun c5 => ?_) (fun c5 => ?_)
    · refine z_aload_n X dX4_sorts_32 rfl 1 rfl ?_
      refine z_bipush (v := (-2)) X dX4_sorts_33 (by decide) ?_
      refine z_ci (z_runV (rest := []) (n := 1) X [.int ((-2))] (m_X4_refuse hM2 (k := 2) (by decide) (v := (-2)) rfl) dX4_sorts_35 (mm_o hM2) rfl (lw_V q1546 q1548 qs27 q70 q1549) hv_X4_refuse rfl ⟨Nat.le_of_ble_eq_true rfl, Nat.le_of_ble_eq_true rfl⟩ ⟨by omega, by omega⟩ rfl (Nat.le_of_ble_eq_true rfl)) (fun r6 w8 h7 => ?_)
      obtain ⟨hM7, r6e⟩ := h7
      rw [r6e]
      have hT7 := MT.ref hTn2 (k := 2) (by decide)
      have e : spSorts o (nI sN) n = ((-2), oRef o 2) := by
        unfold spSorts
        rw [el_some (by assumption), if_neg (by omega), if_neg (by omega), el_none (rgb_f (fun h => absurd c5 (Int32.not_lt.mpr h.1)))]
        rfl
      exact z_iret X dX4_sorts_38 (by omega) (by omega) ⟨_, rfl, (by rw [e]; exact ⟨_, hM7, hT7, rfl⟩)⟩
    · obtain ⟨nN, nNh, rfl⟩ := nI_of c5
      refine z_iload_n X dX4_sorts_16 rfl 3 rfl ?_
      refine z_iconst (v := nI (4)) X dX4_sorts_17 ci4 ?_
      refine z_irem (v := nI (nN % 4)) X dX4_sorts_18 (by decide) (pk_rem (by omega) (by omega) (by omega)) ?_
      refine z_if_ne (tgt := 32) X dX4_sorts_19 (by decide) (nz_eq (by omega)) (fun c9 => ?_) (fun c9 => ?_)
      · refine z_aload_n X dX4_sorts_32 rfl 1 rfl ?_
        refine z_bipush (v := (-2)) X dX4_sorts_33 (by decide) ?_
        refine z_ci (z_runV (rest := []) (n := 1) X [.int ((-2))] (m_X4_refuse hM2 (k := 2) (by decide) (v := (-2)) rfl) dX4_sorts_35 (mm_o hM2) rfl (lw_V q1546 q1548 qs27 q70 q1549) hv_X4_refuse rfl ⟨Nat.le_of_ble_eq_true rfl, Nat.le_of_ble_eq_true rfl⟩ ⟨by omega, by omega⟩ rfl (Nat.le_of_ble_eq_true rfl)) (fun r10 w12 h11 => ?_)
        obtain ⟨hM11, r10e⟩ := h11
        rw [r10e]
        have hT11 := MT.ref hTn2 (k := 2) (by decide)
        have e : spSorts o (nI sN) (nI nN) = ((-2), oRef o 2) := by
          unfold spSorts
          rw [el_some (by assumption), if_neg (by omega), if_neg (by omega)]
          by_cases hz : nN ≤ o.2.2.2.1 2 sN
          · rw [el_some (rgb_nI (by omega) (by omega)), if_neg (by omega)]; rfl
          · rw [el_none (rgb_f (fun h => hz ((nI_leI (by omega) (by omega)).mp h.2)))]; rfl
        exact z_iret X dX4_sorts_38 (by omega) (by omega) ⟨_, rfl, (by rw [e]; exact ⟨_, hM11, hT11, rfl⟩)⟩
      · refine z_iload_n X dX4_sorts_22 rfl 3 rfl ?_
        refine z_aload_n X dX4_sorts_23 rfl 1 rfl ?_
        refine z_mg2 X hM2 dX4_sorts_24 ?_
        refine z_iload_n X dX4_sorts_27 rfl 2 rfl ?_
        refine z_iaN (v := nI (o.2.2.2.1 2 sN)) X dX4_sorts_28 (mm_3 hM2) (by omega) (by omega) ((hTn2.2.2.2.1 sN (by omega)).2.2.1) ?_
        refine z_icmp_le (tgt := 39) X dX4_sorts_29 (by decide) (nI_leI (by omega) (by omega)) (fun c13 => ?_) (fun c13 => ?_)
        · refine z_iconst (v := nI (0)) X dX4_sorts_39 ci0 ?_
          refine z_istore (lv2 := [(4, .int (nI (0))), (3, .int (nI (0))), (0, .ref (ad 0)), (1, .int (nI (sN))), (2, .int (nI (nN)))]) X dX4_sorts_40 (Nat.le_of_ble_eq_true rfl) rfl ?_
          refine z_iconst (v := nI (0)) X dX4_sorts_42 ci0 ?_
          refine z_istore (lv2 := [(5, .int (nI (0))), (4, .int (nI (0))), (3, .int (nI (0))), (0, .ref (ad 0)), (1, .int (nI (sN))), (2, .int (nI (nN)))]) X dX4_sorts_43 (Nat.le_of_ble_eq_true rfl) rfl ?_
          have ls : ∀ (lq i : Nat) (w2 : GW) (m2 : MSt) (S2 : WS), i + lq = nN / 4 → MM G wb w2 ad m2 → MT (oW o S2) m2 → wInv S2 → addsTo (o.2.2.2.2.1 sN) lq i S2 = addsTo (o.2.2.2.2.1 sN) (nN / 4) 0 o.1 → Z κ w2 [(5, .int (nI (4 * i))), (4, .int (nI (i))), (0, .ref (ad 0)), (1, .int (nI (sN))), (2, .int (nI (nN)))] 0 0 45 [] := by
            intro lq
            induction lq with
            | zero =>
              intro i w2 m2 S2 lh hM2 hT2x hS2 hadd
              refine z_iload X dX4_sorts_45 0 rfl ?_
              refine z_iload_n X dX4_sorts_47 rfl 4 rfl ?_
              refine z_icmp_ge_t (tgt := 112) X dX4_sorts_48 (by decide) ((nI_leI (by omega) (by omega)).mpr (by omega)) ?_
              refine z_iload X dX4_sorts_112 1 rfl ?_
              have ex : (i, S2) = _ := hadd
              have e : spSorts o (nI sN) (nI nN) = (nI i, oW o S2) := by
                unfold spSorts
                rw [el_some (by assumption), if_neg (by omega), if_neg (by omega), el_some (rgb_nI (by omega) (by omega)), if_pos (by omega), ← ex]
                all_goals rfl
              exact z_iret X dX4_sorts_114 (by omega) (by omega) ⟨_, rfl, (by rw [e]; exact ⟨_, hM2, hT2x, rfl⟩)⟩
            | succ lq ih =>
              intro i w2 m2 S2 lh hM2 hT2x hS2 hadd
              refine z_iload X dX4_sorts_45 0 rfl ?_
              refine z_iload_n X dX4_sorts_47 rfl 4 rfl ?_
              refine z_icmp_ge_f (tgt := 112) X dX4_sorts_48 (by decide) (fun h => absurd ((nI_leI (by omega) (by omega)).mp h) (by omega)) ?_
              refine z_aload_n X dX4_sorts_51 rfl 2 rfl ?_
              refine z_aload_n X dX4_sorts_52 rfl 2 rfl ?_
              refine z_mg3 X hM2 dX4_sorts_53 ?_
              refine z_iload_n X dX4_sorts_56 rfl 3 rfl ?_
              refine z_aN6 (v := .ref (ad (40 + sN))) X dX4_sorts_57 (mm_4 hM2) (by omega) (by omega) rfl ?_
              refine z_iload X dX4_sorts_58 0 rfl ?_
              refine z_laN (v := (o.2.2.2.2.1 sN) (4 * i)) X dX4_sorts_60 (mmr_40 hM2 (by omega)) (by omega) (by omega) (hT2x.2.2.2.2.1 sN (by omega) (4 * i) (by omega)) ?_
              refine z_aload_n X dX4_sorts_61 rfl 2 rfl ?_
              refine z_mg3 X hM2 dX4_sorts_62 ?_
              refine z_iload_n X dX4_sorts_65 rfl 3 rfl ?_
              refine z_aN6 (v := .ref (ad (40 + sN))) X dX4_sorts_66 (mm_4 hM2) (by omega) (by omega) rfl ?_
              refine z_iload X dX4_sorts_67 0 rfl ?_
              refine z_iconst (v := nI (1)) X dX4_sorts_69 ci1 ?_
              refine z_iadd (v := nI (4 * i + 1)) X dX4_sorts_70 (nI_add _ _) ?_
              refine z_laN (v := (o.2.2.2.2.1 sN) (4 * i + 1)) X dX4_sorts_71 (mmr_40 hM2 (by omega)) (by omega) (by omega) (hT2x.2.2.2.2.1 sN (by omega) (4 * i + 1) (by omega)) ?_
              refine z_aload_n X dX4_sorts_72 rfl 2 rfl ?_
              refine z_mg3 X hM2 dX4_sorts_73 ?_
              refine z_iload_n X dX4_sorts_76 rfl 3 rfl ?_
              refine z_aN6 (v := .ref (ad (40 + sN))) X dX4_sorts_77 (mm_4 hM2) (by omega) (by omega) rfl ?_
              refine z_iload X dX4_sorts_78 0 rfl ?_
              refine z_iconst (v := nI (2)) X dX4_sorts_80 ci2 ?_
              refine z_iadd (v := nI (4 * i + 2)) X dX4_sorts_81 (nI_add _ _) ?_
              refine z_laN (v := (o.2.2.2.2.1 sN) (4 * i + 2)) X dX4_sorts_82 (mmr_40 hM2 (by omega)) (by omega) (by omega) (hT2x.2.2.2.2.1 sN (by omega) (4 * i + 2) (by omega)) ?_
              refine z_aload_n X dX4_sorts_83 rfl 2 rfl ?_
              refine z_mg3 X hM2 dX4_sorts_84 ?_
              refine z_iload_n X dX4_sorts_87 rfl 3 rfl ?_
              refine z_aN6 (v := .ref (ad (40 + sN))) X dX4_sorts_88 (mm_4 hM2) (by omega) (by omega) rfl ?_
              refine z_iload X dX4_sorts_89 0 rfl ?_
              refine z_iconst (v := nI (3)) X dX4_sorts_91 ci3 ?_
              refine z_iadd (v := nI (4 * i + 3)) X dX4_sorts_92 (nI_add _ _) ?_
              refine z_laN (v := (o.2.2.2.2.1 sN) (4 * i + 3)) X dX4_sorts_93 (mmr_40 hM2 (by omega)) (by omega) (by omega) (hT2x.2.2.2.2.1 sN (by omega) (4 * i + 3) (by omega)) ?_
              refine z_ci (z_runV (rest := []) (n := 4) X [.long ((o.2.2.2.2.1 sN) (4 * i)), .long ((o.2.2.2.2.1 sN) (4 * i + 1)), .long ((o.2.2.2.2.1 sN) (4 * i + 2)), .long ((o.2.2.2.2.1 sN) (4 * i + 3))] (m_X4_add hM2 hT2x (oInv.w hO hS2) (a := (o.2.2.2.2.1 sN) (4 * i)) (b := (o.2.2.2.2.1 sN) (4 * i + 1)) (c := (o.2.2.2.2.1 sN) (4 * i + 2)) (d := (o.2.2.2.2.1 sN) (4 * i + 3))) dX4_sorts_94 (mm_o hM2) rfl (lw_V q1655 q1657 qs40 q70 q1658) hv_X4_add rfl ⟨Nat.le_of_ble_eq_true rfl, Nat.le_of_ble_eq_true rfl⟩ ⟨by omega, by omega⟩ rfl (Nat.le_of_ble_eq_true rfl)) (fun r14 w16 h15 => ?_)
              obtain ⟨mv15, hM15, hQ15⟩ := h15
              rcases hQ15 with ⟨ea, rfl, hs6, hI9, hT9⟩ | ⟨ea, rfl, hT9⟩ | ⟨ea, rfl, hT9⟩ | ⟨ea, rfl, hT9⟩
              · skip
                refine z_if_ge_t (tgt := 103) X dX4_sorts_97 (by decide) (nI_pos' (Nat.lt_trans hs6 (by decide))) ?_
                refine z_iinc (v := nI (i + 1)) (lv2 := [(4, .int (nI (i + 1))), (5, .int (nI (4 * i))), (0, .ref (ad 0)), (1, .int (nI (sN))), (2, .int (nI (nN)))]) X dX4_sorts_103 1 rfl (nI_1 _) (Nat.le_of_ble_eq_true rfl) rfl ?_
                refine z_iinc (v := nI (4 * (i + 1))) (lv2 := [(5, .int (nI (4 * (i + 1)))), (4, .int (nI (i + 1))), (0, .ref (ad 0)), (1, .int (nI (sN))), (2, .int (nI (nN)))]) X dX4_sorts_106 1 rfl adv4 (Nat.le_of_ble_eq_true rfl) rfl ?_
                refine z_goto (tgt := 45) X dX4_sorts_109 (by decide) ?_
                exact ih (i + 1) _ _ _ (by omega) hM15 hT9 hI9 ((adds_go ea).symm.trans hadd)
              · skip
                refine z_if_ge_f (tgt := 103) X dX4_sorts_97 (by decide) (by decide) ?_
                refine z_iload X dX4_sorts_100 1 rfl ?_
                have ex := (adds_no (n := lq) ea (by decide)).symm.trans hadd
                have e : spSorts o (nI sN) (nI nN) = (nI i, oW o S2) := by
                  unfold spSorts
                  rw [el_some (by assumption), if_neg (by omega), if_neg (by omega), el_some (rgb_nI (by omega) (by omega)), if_pos (by omega), ← ex]
                  all_goals rfl
                exact z_iret X dX4_sorts_102 (by omega) (by omega) ⟨_, rfl, (by rw [e]; exact ⟨_, hM15, hT9, rfl⟩)⟩
              · skip
                refine z_if_ge_f (tgt := 103) X dX4_sorts_97 (by decide) (by decide) ?_
                refine z_iload X dX4_sorts_100 1 rfl ?_
                have ex := (adds_no (n := lq) ea (by decide)).symm.trans hadd
                have e : spSorts o (nI sN) (nI nN) = (nI i, oW o S2) := by
                  unfold spSorts
                  rw [el_some (by assumption), if_neg (by omega), if_neg (by omega), el_some (rgb_nI (by omega) (by omega)), if_pos (by omega), ← ex]
                  all_goals rfl
                exact z_iret X dX4_sorts_102 (by omega) (by omega) ⟨_, rfl, (by rw [e]; exact ⟨_, hM15, hT9, rfl⟩)⟩
              · skip
                refine z_if_ge_f (tgt := 103) X dX4_sorts_97 (by decide) (by decide) ?_
                refine z_iload X dX4_sorts_100 1 rfl ?_
                have ex := (adds_no (n := lq) ea (by decide)).symm.trans hadd
                have e : spSorts o (nI sN) (nI nN) = (nI i, oW o S2) := by
                  unfold spSorts
                  rw [el_some (by assumption), if_neg (by omega), if_neg (by omega), el_some (rgb_nI (by omega) (by omega)), if_pos (by omega), ← ex]
                  all_goals rfl
                exact z_iret X dX4_sorts_102 (by omega) (by omega) ⟨_, rfl, (by rw [e]; exact ⟨_, hM15, hT9, rfl⟩)⟩
          refine Z.lv [0, 1, 3, 4, 5] rfl ?_
          exact ls (nN / 4) 0 w3 mv2 o.1 (by omega) hM2 hTn2 hI rfl
        · refine z_aload_n X dX4_sorts_32 rfl 1 rfl ?_
          refine z_bipush (v := (-2)) X dX4_sorts_33 (by decide) ?_
          refine z_ci (z_runV (rest := []) (n := 1) X [.int ((-2))] (m_X4_refuse hM2 (k := 2) (by decide) (v := (-2)) rfl) dX4_sorts_35 (mm_o hM2) rfl (lw_V q1546 q1548 qs27 q70 q1549) hv_X4_refuse rfl ⟨Nat.le_of_ble_eq_true rfl, Nat.le_of_ble_eq_true rfl⟩ ⟨by omega, by omega⟩ rfl (Nat.le_of_ble_eq_true rfl)) (fun r17 w19 h18 => ?_)
          obtain ⟨hM18, r17e⟩ := h18
          rw [r17e]
          have hT18 := MT.ref hTn2 (k := 2) (by decide)
          have e : spSorts o (nI sN) (nI nN) = ((-2), oRef o 2) := by
            unfold spSorts
            rw [el_some (by assumption), if_neg (by omega), if_neg (by omega)]
            by_cases hz : nN ≤ o.2.2.2.1 2 sN
            · rw [el_some (rgb_nI (by omega) (by omega)), if_neg (by omega)]; rfl
            · rw [el_none (rgb_f (fun h => hz ((nI_leI (by omega) (by omega)).mp h.2)))]; rfl
          exact z_iret X dX4_sorts_38 (by omega) (by omega) ⟨_, rfl, (by rw [e]; exact ⟨_, hM18, hT18, rfl⟩)⟩
