/-! THE MODEL: says, head, keep, status -/
set_option maxRecDepth 100000
set_option maxHeartbeats 2000000 in
theorem m_X4_says {l : Launch} {G : GG} {wb w : GW} {ad : Nat → Nat} {m : MSt} (hM : MM G wb w ad m) {o : OS} (hT : MT o m) (hO : oInv o) {s k : Int32} : gM l G yX4_says cX4_says 3 (some .int) 9 0 0 [.ref (ad 0), .int (s), .int (k)] w (pI (fun r w1 => ∃ m2, MM G wb w1 ad m2 ∧ MT (spSays o s k).2 m2 ∧ r = (spSays o s k).1)) := by
  refine Z.met (own := "ThreeSizesModel") (nm := "says") (lv := [(0, .ref (ad 0)), (1, .int (s)), (2, .int (k))]) (by decide) rfl rfl (Nat.le_of_ble_eq_true rfl) rfl (fun κ X => ?_)
  have hI := hO.1
  have h6 := hI.2.1
  have ht200 := hO.2.2.2
  refine z_iload_n X dX4_says_0 rfl 1 rfl ?_
  refine z_i2l (v := (s).toInt64) X dX4_says_1 rfl ?_
  refine z_lconst (v := lN 0) X dX4_says_2 cl0 ?_
  refine z_ldc2 X dX4_says_3 q1540 ?_
  refine z_cip (z_runS (rest := []) (n := 3) X [.long ((s).toInt64), .long (lN (0)), .long ((7))] m_X4_in dX4_says_6 (lw_S q1541 q1542 q70 q1543) hs_X4_in rfl ⟨Nat.le_of_ble_eq_true rfl, Nat.le_of_ble_eq_true rfl⟩ ⟨by omega, by omega⟩ rfl (Nat.le_of_ble_eq_true rfl)) ?_
  refine z_if_eq (tgt := 24) X dX4_says_9 (by decide) bI_d (fun c1 => ?_) (fun c1 => ?_)
  · have e1 : rgb 0 7 s = none := rgb_f (fun q => c1 ((in32 (lo := nI 0) (hi := nI 7)).mpr q))
    refine z_aload_n X dX4_says_24 rfl 0 rfl ?_
    refine z_bipush (v := (-2)) X dX4_says_25 (by decide) ?_
    refine z_ci (z_runV (rest := []) (n := 1) X [.int ((-2))] (m_X4_refuse hM (k := 2) (by decide) (v := (-2)) rfl) dX4_says_27 (mm_o hM) rfl (lw_V q1546 q1548 qs27 q70 q1549) hv_X4_refuse rfl ⟨Nat.le_of_ble_eq_true rfl, Nat.le_of_ble_eq_true rfl⟩ ⟨by omega, by omega⟩ rfl (Nat.le_of_ble_eq_true rfl)) (fun r2 w4 h3 => ?_)
    obtain ⟨hM3, r2e⟩ := h3
    rw [r2e]
    have hT3 := MT.ref hT (k := 2) (by decide)
    have e : spSays o s k = ((-2), oRef o 2) := by
      unfold spSays
      repeat (first | rw [el_some (by assumption)] | rw [el_none (by assumption)])
      repeat (first | rw [if_pos (by omega)] | rw [if_neg (by omega)])
      all_goals first | rfl | (exfalso; omega)
    exact z_iret X dX4_says_30 (by omega) (by omega) ⟨_, rfl, (by rw [e]; exact ⟨_, hM3, hT3, rfl⟩)⟩
  · have c1 := Classical.not_not.mp c1
    obtain ⟨sN, sNl, sNh, rfl, e2⟩ := rgb_t (lo := 0) (hi := 7) (by decide) (by decide) ((in32 (lo := nI 0) (hi := nI 7)).mp c1)
    refine z_iload_n X dX4_says_12 rfl 2 rfl ?_
    refine z_i2l (v := (k).toInt64) X dX4_says_13 rfl ?_
    refine z_lconst (v := lN 0) X dX4_says_14 cl0 ?_
    refine z_ldc2 X dX4_says_15 q1573 ?_
    refine z_cip (z_runS (rest := []) (n := 3) X [.long ((k).toInt64), .long (lN (0)), .long ((6))] m_X4_in dX4_says_18 (lw_S q1541 q1542 q70 q1543) hs_X4_in rfl ⟨Nat.le_of_ble_eq_true rfl, Nat.le_of_ble_eq_true rfl⟩ ⟨by omega, by omega⟩ rfl (Nat.le_of_ble_eq_true rfl)) ?_
    refine z_if_ne (tgt := 31) X dX4_says_21 (by decide) bI_d (fun c5 => ?_) (fun c5 => ?_)
    · have c5 := Classical.not_not.mp c5
      obtain ⟨kN, kNl, kNh, rfl, e3⟩ := rgb_t (lo := 0) (hi := 6) (by decide) (by decide) ((in32 (lo := nI 0) (hi := nI 6)).mp c5)
      have hqs := hO.2.1 sN (by omega)
      have hst := stOf_is hI
      refine z_aload_n X dX4_says_31 rfl 0 rfl ?_
      refine z_mg0 X hM dX4_says_32 ?_
      refine z_iload_n X dX4_says_35 rfl 1 rfl ?_
      refine z_iaN (v := nI (o.2.2.2.1 0 sN)) X dX4_says_36 (mm_1 hM) (by omega) (by omega) ((hT.2.2.2.1 sN (by omega)).1) ?_
      refine z_iconst (v := nI (1)) X dX4_says_37 ci1 ?_
      refine z_icmp_eq (tgt := 64) X dX4_says_38 (by decide) (nI_eq (by omega) (by omega)) (fun c6 => ?_) (fun c6 => ?_)
      · refine z_aload_n X dX4_says_64 rfl 0 rfl ?_
        refine z_bipush (v := (-3)) X dX4_says_65 (by decide) ?_
        refine z_ci (z_runV (rest := []) (n := 1) X [.int ((-3))] (m_X4_refuse hM (k := 3) (by decide) (v := (-3)) rfl) dX4_says_67 (mm_o hM) rfl (lw_V q1546 q1548 qs27 q70 q1549) hv_X4_refuse rfl ⟨Nat.le_of_ble_eq_true rfl, Nat.le_of_ble_eq_true rfl⟩ ⟨by omega, by omega⟩ rfl (Nat.le_of_ble_eq_true rfl)) (fun r7 w9 h8 => ?_)
        obtain ⟨hM8, r7e⟩ := h8
        rw [r7e]
        have hT8 := MT.ref hT (k := 3) (by decide)
        have hcond : o.2.2.2.1 0 sN = 1 ∨ (o.2.2.2.1 0 sN = 2 ∧ under (o.2.2.2.1 3 sN) kN = false) := Or.inl (by omega)
        have e : spSays o (nI sN) (nI kN) = ((-3), oRef o 3) := by
          unfold spSays
          repeat (first | rw [el_some (by assumption)] | rw [el_none (by assumption)])
          rw [if_pos hcond]
          repeat (first | rw [if_pos (by omega)] | rw [if_neg (by omega)])
          all_goals first | rfl | (exfalso; omega)
        exact z_iret X dX4_says_70 (by omega) (by omega) ⟨_, rfl, (by rw [e]; exact ⟨_, hM8, hT8, rfl⟩)⟩
      · refine z_aload_n X dX4_says_41 rfl 0 rfl ?_
        refine z_mg0 X hM dX4_says_42 ?_
        refine z_iload_n X dX4_says_45 rfl 1 rfl ?_
        refine z_iaN (v := nI (o.2.2.2.1 0 sN)) X dX4_says_46 (mm_1 hM) (by omega) (by omega) ((hT.2.2.2.1 sN (by omega)).1) ?_
        refine z_iconst (v := nI (2)) X dX4_says_47 ci2 ?_
        refine z_icmp_ne (tgt := 71) X dX4_says_48 (by decide) (nI_eq (by omega) (by omega)) (fun c10 => ?_) (fun c10 => ?_)
        · refine z_aload_n X dX4_says_71 rfl 0 rfl ?_
          refine z_mg0 X hM dX4_says_72 ?_
          refine z_iload_n X dX4_says_75 rfl 1 rfl ?_
          refine z_iaN (v := nI (o.2.2.2.1 0 sN)) X dX4_says_76 (mm_1 hM) (by omega) (by omega) ((hT.2.2.2.1 sN (by omega)).1) ?_
          refine z_if_ne (tgt := 87) X dX4_says_77 (by decide) (nz_eq (by omega)) (fun c11 => ?_) (fun c11 => ?_)
          · refine z_iload_n X dX4_says_87 rfl 2 rfl ?_
            refine z_if_ne (tgt := 98) X dX4_says_88 (by decide) (nz_eq (by omega)) (fun c12 => ?_) (fun c12 => ?_)
            · refine z_iload_n X dX4_says_98 rfl 2 rfl ?_
              refine z_bipush (v := nI (6)) X dX4_says_99 (by decide) ?_
              refine z_icmp_ne (tgt := 114) X dX4_says_101 (by decide) (nI_eq (by omega) (by omega)) (fun c13 => ?_) (fun c13 => ?_)
              · refine z_aload_n X dX4_says_114 rfl 0 rfl ?_
                refine z_mgv13 X hM dX4_says_115 hT.1.2.1 ?_
                refine z_if_ne (tgt := 130) X dX4_says_118 (by decide) (nz_eq (by omega)) (fun c14 => ?_) (fun c14 => ?_)
                · refine z_aload_n X dX4_says_130 rfl 0 rfl ?_
                  refine z_aload_n X dX4_says_131 rfl 0 rfl ?_
                  refine z_mg5 X hM dX4_says_132 ?_
                  refine z_iload_n X dX4_says_135 rfl 1 rfl ?_
                  refine z_iaN (v := nI (o.2.2.2.1 3 sN)) X dX4_says_136 (mm_6 hM) (by omega) (by omega) ((hT.2.2.2.1 sN (by omega)).2.2.2.1) ?_
                  refine z_aload_n X dX4_says_137 rfl 0 rfl ?_
                  refine z_mg6 X hM dX4_says_138 ?_
                  refine z_iload_n X dX4_says_141 rfl 1 rfl ?_
                  refine z_iaN (v := nI (o.2.2.2.1 4 sN)) X dX4_says_142 (mm_7 hM) (by omega) (by omega) ((hT.2.2.2.1 sN (by omega)).2.2.2.2) ?_
                  refine z_iconst (v := nI (0)) X dX4_says_143 ci0 ?_
                  refine z_aload_n X dX4_says_144 rfl 0 rfl ?_
                  refine z_cip (z_runV (rest := [.int (nI (0)), .int (nI (o.2.2.2.1 4 sN)), .int (nI (o.2.2.2.1 3 sN)), .ref (ad 0)]) (n := 0) X [] (m_X4_stateNow hM hT.1 hI) dX4_says_145 (mm_o hM) rfl (lw_V q1585 q1587 qs28 q70 q1588) hv_X4_stateNow rfl ⟨Nat.le_of_ble_eq_true rfl, Nat.le_of_ble_eq_true rfl⟩ ⟨by omega, by omega⟩ rfl (Nat.le_of_ble_eq_true rfl)) ?_
                  refine z_ci (z_runV (rest := []) (n := 4) X [.int (nI (o.2.2.2.1 3 sN)), .int (nI (o.2.2.2.1 4 sN)), .int (nI (0)), .int (nI (stOf o.1))] (m_X4_gives hM hT.1 hI (a := o.2.2.2.1 4 sN) (by omega) (ix := 0) (st := stOf o.1) (by omega) hst (kd := o.2.2.2.1 3 sN) (by omega)) dX4_says_148 (mm_o hM) rfl (lw_V q1592 q1594 qs29 q70 q1595) hv_X4_gives rfl ⟨Nat.le_of_ble_eq_true rfl, Nat.le_of_ble_eq_true rfl⟩ ⟨by omega, by omega⟩ rfl (Nat.le_of_ble_eq_true rfl)) (fun r15 w17 h16 => ?_)
                  obtain ⟨mv16, hM16, hQ16, r15e⟩ := h16
                  rw [r15e]
                  have hT16 := MT.KM hT hQ16
                  have hcond : ¬ (o.2.2.2.1 0 sN = 1 ∨ (o.2.2.2.1 0 sN = 2 ∧ under (o.2.2.2.1 3 sN) kN = false)) := fun h => h.elim (fun q => by omega) (fun q => by omega)
                  have e : spSays o (nI sN) (nI kN) = (oI (rget o.1 (o.2.2.2.1 3 sN) (o.2.2.2.1 4 sN) (wiseT o.1 (o.2.2.2.1 4 sN)) 0 (stOf o.1)), o) := by
                    unfold spSays
                    repeat (first | rw [el_some (by assumption)] | rw [el_none (by assumption)])
                    rw [if_neg hcond]
                    repeat (first | rw [if_pos (by omega)] | rw [if_neg (by omega)])
                    all_goals first | rfl | (exfalso; omega)
                  exact z_iret X dX4_says_151 (by omega) (by omega) ⟨_, rfl, (by rw [e]; exact ⟨_, hM16, hT16, rfl⟩)⟩
                · refine z_aload_n X dX4_says_121 rfl 0 rfl ?_
                  refine z_bipush (v := (-5)) X dX4_says_122 (by decide) ?_
                  refine z_ci (z_runV (rest := []) (n := 1) X [.int ((-5))] (m_X4_refuse hM (k := 5) (by decide) (v := (-5)) rfl) dX4_says_124 (mm_o hM) rfl (lw_V q1546 q1548 qs27 q70 q1549) hv_X4_refuse rfl ⟨Nat.le_of_ble_eq_true rfl, Nat.le_of_ble_eq_true rfl⟩ ⟨by omega, by omega⟩ rfl (Nat.le_of_ble_eq_true rfl)) (fun r18 w20 h19 => ?_)
                  obtain ⟨hM19, r18e⟩ := h19
                  rw [r18e]
                  have hT19 := MT.ref hT (k := 5) (by decide)
                  refine z_goto (tgt := 151) X dX4_says_127 (by decide) ?_
                  have hcond : ¬ (o.2.2.2.1 0 sN = 1 ∨ (o.2.2.2.1 0 sN = 2 ∧ under (o.2.2.2.1 3 sN) kN = false)) := fun h => h.elim (fun q => by omega) (fun q => by omega)
                  have e : spSays o (nI sN) (nI kN) = ((-5), oRef o 5) := by
                    unfold spSays
                    repeat (first | rw [el_some (by assumption)] | rw [el_none (by assumption)])
                    rw [if_neg hcond]
                    repeat (first | rw [if_pos (by omega)] | rw [if_neg (by omega)])
                    all_goals first | rfl | (exfalso; omega)
                  exact z_iret X dX4_says_151 (by omega) (by omega) ⟨_, rfl, (by rw [e]; exact ⟨_, hM19, hT19, rfl⟩)⟩
              · refine z_aload_n X dX4_says_104 rfl 0 rfl ?_
                refine z_mg6 X hM dX4_says_105 ?_
                refine z_iload_n X dX4_says_108 rfl 1 rfl ?_
                refine z_iaN (v := nI (o.2.2.2.1 4 sN)) X dX4_says_109 (mm_7 hM) (by omega) (by omega) ((hT.2.2.2.1 sN (by omega)).2.2.2.2) ?_
                refine z_cip (z_runS (rest := []) (n := 1) X [.int (nI (o.2.2.2.1 4 sN))] (m_X4_hoursOf (a := o.2.2.2.1 4 sN) (by omega)) dX4_says_110 (lw_S q1582 q1583 q70 q1584) hs_X4_hoursOf rfl ⟨Nat.le_of_ble_eq_true rfl, Nat.le_of_ble_eq_true rfl⟩ ⟨by omega, by omega⟩ rfl (Nat.le_of_ble_eq_true rfl)) ?_
                have hcond : ¬ (o.2.2.2.1 0 sN = 1 ∨ (o.2.2.2.1 0 sN = 2 ∧ under (o.2.2.2.1 3 sN) kN = false)) := fun h => h.elim (fun q => by omega) (fun q => by omega)
                have e : spSays o (nI sN) (nI kN) = (nI (wiseH (o.2.2.2.1 4 sN)), o) := by
                  unfold spSays
                  repeat (first | rw [el_some (by assumption)] | rw [el_none (by assumption)])
                  rw [if_neg hcond]
                  repeat (first | rw [if_pos (by omega)] | rw [if_neg (by omega)])
                  all_goals first | rfl | (exfalso; omega)
                exact z_iret X dX4_says_113 (by omega) (by omega) ⟨_, rfl, (by rw [e]; exact ⟨_, hM, hT, rfl⟩)⟩
            · refine z_aload_n X dX4_says_91 rfl 0 rfl ?_
              refine z_mg6 X hM dX4_says_92 ?_
              refine z_iload_n X dX4_says_95 rfl 1 rfl ?_
              refine z_iaN (v := nI (o.2.2.2.1 4 sN)) X dX4_says_96 (mm_7 hM) (by omega) (by omega) ((hT.2.2.2.1 sN (by omega)).2.2.2.2) ?_
              have hcond : ¬ (o.2.2.2.1 0 sN = 1 ∨ (o.2.2.2.1 0 sN = 2 ∧ under (o.2.2.2.1 3 sN) kN = false)) := fun h => h.elim (fun q => by omega) (fun q => by omega)
              have e : spSays o (nI sN) (nI kN) = (nI (o.2.2.2.1 4 sN), o) := by
                unfold spSays
                repeat (first | rw [el_some (by assumption)] | rw [el_none (by assumption)])
                rw [if_neg hcond]
                repeat (first | rw [if_pos (by omega)] | rw [if_neg (by omega)])
                all_goals first | rfl | (exfalso; omega)
              exact z_iret X dX4_says_97 (by omega) (by omega) ⟨_, rfl, (by rw [e]; exact ⟨_, hM, hT, rfl⟩)⟩
          · refine z_aload_n X dX4_says_80 rfl 0 rfl ?_
            refine z_bipush (v := (-4)) X dX4_says_81 (by decide) ?_
            refine z_ci (z_runV (rest := []) (n := 1) X [.int ((-4))] (m_X4_refuse hM (k := 4) (by decide) (v := (-4)) rfl) dX4_says_83 (mm_o hM) rfl (lw_V q1546 q1548 qs27 q70 q1549) hv_X4_refuse rfl ⟨Nat.le_of_ble_eq_true rfl, Nat.le_of_ble_eq_true rfl⟩ ⟨by omega, by omega⟩ rfl (Nat.le_of_ble_eq_true rfl)) (fun r21 w23 h22 => ?_)
            obtain ⟨hM22, r21e⟩ := h22
            rw [r21e]
            have hT22 := MT.ref hT (k := 4) (by decide)
            have hcond : ¬ (o.2.2.2.1 0 sN = 1 ∨ (o.2.2.2.1 0 sN = 2 ∧ under (o.2.2.2.1 3 sN) kN = false)) := fun h => h.elim (fun q => by omega) (fun q => by omega)
            have e : spSays o (nI sN) (nI kN) = ((-4), oRef o 4) := by
              unfold spSays
              repeat (first | rw [el_some (by assumption)] | rw [el_none (by assumption)])
              rw [if_neg hcond]
              repeat (first | rw [if_pos (by omega)] | rw [if_neg (by omega)])
              all_goals first | rfl | (exfalso; omega)
            exact z_iret X dX4_says_86 (by omega) (by omega) ⟨_, rfl, (by rw [e]; exact ⟨_, hM22, hT22, rfl⟩)⟩
        · refine z_aload_n X dX4_says_51 rfl 0 rfl ?_
          refine z_mg5 X hM dX4_says_52 ?_
          refine z_iload_n X dX4_says_55 rfl 1 rfl ?_
          refine z_iaN (v := nI (o.2.2.2.1 3 sN)) X dX4_says_56 (mm_6 hM) (by omega) (by omega) ((hT.2.2.2.1 sN (by omega)).2.2.2.1) ?_
          refine z_iload_n X dX4_says_57 rfl 2 rfl ?_
          refine z_cip (z_runS (rest := []) (n := 2) X [.int (nI (o.2.2.2.1 3 sN)), .int (nI (kN))] (m_X4_isUnder (k := o.2.2.2.1 3 sN) (f := kN) (by omega) (by omega)) dX4_says_58 (lw_S q1579 q1580 q70 q1581) hs_X4_isUnder rfl ⟨Nat.le_of_ble_eq_true rfl, Nat.le_of_ble_eq_true rfl⟩ ⟨by omega, by omega⟩ rfl (Nat.le_of_ble_eq_true rfl)) ?_
          refine z_if_ne (tgt := 71) X dX4_says_61 (by decide) bI_0 (fun c24 => ?_) (fun c24 => ?_)
          · have c24 := ts_t c24
            refine z_aload_n X dX4_says_71 rfl 0 rfl ?_
            refine z_mg0 X hM dX4_says_72 ?_
            refine z_iload_n X dX4_says_75 rfl 1 rfl ?_
            refine z_iaN (v := nI (o.2.2.2.1 0 sN)) X dX4_says_76 (mm_1 hM) (by omega) (by omega) ((hT.2.2.2.1 sN (by omega)).1) ?_
            refine z_if_ne (tgt := 87) X dX4_says_77 (by decide) (nz_eq (by omega)) (fun c25 => ?_) (fun c25 => ?_)
            · refine z_iload_n X dX4_says_87 rfl 2 rfl ?_
              refine z_if_ne (tgt := 98) X dX4_says_88 (by decide) (nz_eq (by omega)) (fun c26 => ?_) (fun c26 => ?_)
              · refine z_iload_n X dX4_says_98 rfl 2 rfl ?_
                refine z_bipush (v := nI (6)) X dX4_says_99 (by decide) ?_
                refine z_icmp_ne (tgt := 114) X dX4_says_101 (by decide) (nI_eq (by omega) (by omega)) (fun c27 => ?_) (fun c27 => ?_)
                · refine z_aload_n X dX4_says_114 rfl 0 rfl ?_
                  refine z_mgv13 X hM dX4_says_115 hT.1.2.1 ?_
                  refine z_if_ne (tgt := 130) X dX4_says_118 (by decide) (nz_eq (by omega)) (fun c28 => ?_) (fun c28 => ?_)
                  · refine z_aload_n X dX4_says_130 rfl 0 rfl ?_
                    refine z_aload_n X dX4_says_131 rfl 0 rfl ?_
                    refine z_mg5 X hM dX4_says_132 ?_
                    refine z_iload_n X dX4_says_135 rfl 1 rfl ?_
                    refine z_iaN (v := nI (o.2.2.2.1 3 sN)) X dX4_says_136 (mm_6 hM) (by omega) (by omega) ((hT.2.2.2.1 sN (by omega)).2.2.2.1) ?_
                    refine z_aload_n X dX4_says_137 rfl 0 rfl ?_
                    refine z_mg6 X hM dX4_says_138 ?_
                    refine z_iload_n X dX4_says_141 rfl 1 rfl ?_
                    refine z_iaN (v := nI (o.2.2.2.1 4 sN)) X dX4_says_142 (mm_7 hM) (by omega) (by omega) ((hT.2.2.2.1 sN (by omega)).2.2.2.2) ?_
                    refine z_iconst (v := nI (0)) X dX4_says_143 ci0 ?_
                    refine z_aload_n X dX4_says_144 rfl 0 rfl ?_
                    refine z_cip (z_runV (rest := [.int (nI (0)), .int (nI (o.2.2.2.1 4 sN)), .int (nI (o.2.2.2.1 3 sN)), .ref (ad 0)]) (n := 0) X [] (m_X4_stateNow hM hT.1 hI) dX4_says_145 (mm_o hM) rfl (lw_V q1585 q1587 qs28 q70 q1588) hv_X4_stateNow rfl ⟨Nat.le_of_ble_eq_true rfl, Nat.le_of_ble_eq_true rfl⟩ ⟨by omega, by omega⟩ rfl (Nat.le_of_ble_eq_true rfl)) ?_
                    refine z_ci (z_runV (rest := []) (n := 4) X [.int (nI (o.2.2.2.1 3 sN)), .int (nI (o.2.2.2.1 4 sN)), .int (nI (0)), .int (nI (stOf o.1))] (m_X4_gives hM hT.1 hI (a := o.2.2.2.1 4 sN) (by omega) (ix := 0) (st := stOf o.1) (by omega) hst (kd := o.2.2.2.1 3 sN) (by omega)) dX4_says_148 (mm_o hM) rfl (lw_V q1592 q1594 qs29 q70 q1595) hv_X4_gives rfl ⟨Nat.le_of_ble_eq_true rfl, Nat.le_of_ble_eq_true rfl⟩ ⟨by omega, by omega⟩ rfl (Nat.le_of_ble_eq_true rfl)) (fun r29 w31 h30 => ?_)
                    obtain ⟨mv30, hM30, hQ30, r29e⟩ := h30
                    rw [r29e]
                    have hT30 := MT.KM hT hQ30
                    have hcond : ¬ (o.2.2.2.1 0 sN = 1 ∨ (o.2.2.2.1 0 sN = 2 ∧ under (o.2.2.2.1 3 sN) kN = false)) := fun h => h.elim (fun q => by omega) (fun q => by rw [c24] at q; exact Bool.noConfusion q.2)
                    have e : spSays o (nI sN) (nI kN) = (oI (rget o.1 (o.2.2.2.1 3 sN) (o.2.2.2.1 4 sN) (wiseT o.1 (o.2.2.2.1 4 sN)) 0 (stOf o.1)), o) := by
                      unfold spSays
                      repeat (first | rw [el_some (by assumption)] | rw [el_none (by assumption)])
                      rw [if_neg hcond]
                      repeat (first | rw [if_pos (by omega)] | rw [if_neg (by omega)])
                      all_goals first | rfl | (exfalso; omega)
                    exact z_iret X dX4_says_151 (by omega) (by omega) ⟨_, rfl, (by rw [e]; exact ⟨_, hM30, hT30, rfl⟩)⟩
                  · refine z_aload_n X dX4_says_121 rfl 0 rfl ?_
                    refine z_bipush (v := (-5)) X dX4_says_122 (by decide) ?_
                    refine z_ci (z_runV (rest := []) (n := 1) X [.int ((-5))] (m_X4_refuse hM (k := 5) (by decide) (v := (-5)) rfl) dX4_says_124 (mm_o hM) rfl (lw_V q1546 q1548 qs27 q70 q1549) hv_X4_refuse rfl ⟨Nat.le_of_ble_eq_true rfl, Nat.le_of_ble_eq_true rfl⟩ ⟨by omega, by omega⟩ rfl (Nat.le_of_ble_eq_true rfl)) (fun r32 w34 h33 => ?_)
                    obtain ⟨hM33, r32e⟩ := h33
                    rw [r32e]
                    have hT33 := MT.ref hT (k := 5) (by decide)
                    refine z_goto (tgt := 151) X dX4_says_127 (by decide) ?_
                    have hcond : ¬ (o.2.2.2.1 0 sN = 1 ∨ (o.2.2.2.1 0 sN = 2 ∧ under (o.2.2.2.1 3 sN) kN = false)) := fun h => h.elim (fun q => by omega) (fun q => by rw [c24] at q; exact Bool.noConfusion q.2)
                    have e : spSays o (nI sN) (nI kN) = ((-5), oRef o 5) := by
                      unfold spSays
                      repeat (first | rw [el_some (by assumption)] | rw [el_none (by assumption)])
                      rw [if_neg hcond]
                      repeat (first | rw [if_pos (by omega)] | rw [if_neg (by omega)])
                      all_goals first | rfl | (exfalso; omega)
                    exact z_iret X dX4_says_151 (by omega) (by omega) ⟨_, rfl, (by rw [e]; exact ⟨_, hM33, hT33, rfl⟩)⟩
                · refine z_aload_n X dX4_says_104 rfl 0 rfl ?_
                  refine z_mg6 X hM dX4_says_105 ?_
                  refine z_iload_n X dX4_says_108 rfl 1 rfl ?_
                  refine z_iaN (v := nI (o.2.2.2.1 4 sN)) X dX4_says_109 (mm_7 hM) (by omega) (by omega) ((hT.2.2.2.1 sN (by omega)).2.2.2.2) ?_
                  refine z_cip (z_runS (rest := []) (n := 1) X [.int (nI (o.2.2.2.1 4 sN))] (m_X4_hoursOf (a := o.2.2.2.1 4 sN) (by omega)) dX4_says_110 (lw_S q1582 q1583 q70 q1584) hs_X4_hoursOf rfl ⟨Nat.le_of_ble_eq_true rfl, Nat.le_of_ble_eq_true rfl⟩ ⟨by omega, by omega⟩ rfl (Nat.le_of_ble_eq_true rfl)) ?_
                  have hcond : ¬ (o.2.2.2.1 0 sN = 1 ∨ (o.2.2.2.1 0 sN = 2 ∧ under (o.2.2.2.1 3 sN) kN = false)) := fun h => h.elim (fun q => by omega) (fun q => by rw [c24] at q; exact Bool.noConfusion q.2)
                  have e : spSays o (nI sN) (nI kN) = (nI (wiseH (o.2.2.2.1 4 sN)), o) := by
                    unfold spSays
                    repeat (first | rw [el_some (by assumption)] | rw [el_none (by assumption)])
                    rw [if_neg hcond]
                    repeat (first | rw [if_pos (by omega)] | rw [if_neg (by omega)])
                    all_goals first | rfl | (exfalso; omega)
                  exact z_iret X dX4_says_113 (by omega) (by omega) ⟨_, rfl, (by rw [e]; exact ⟨_, hM, hT, rfl⟩)⟩
              · refine z_aload_n X dX4_says_91 rfl 0 rfl ?_
                refine z_mg6 X hM dX4_says_92 ?_
                refine z_iload_n X dX4_says_95 rfl 1 rfl ?_
                refine z_iaN (v := nI (o.2.2.2.1 4 sN)) X dX4_says_96 (mm_7 hM) (by omega) (by omega) ((hT.2.2.2.1 sN (by omega)).2.2.2.2) ?_
                have hcond : ¬ (o.2.2.2.1 0 sN = 1 ∨ (o.2.2.2.1 0 sN = 2 ∧ under (o.2.2.2.1 3 sN) kN = false)) := fun h => h.elim (fun q => by omega) (fun q => by rw [c24] at q; exact Bool.noConfusion q.2)
                have e : spSays o (nI sN) (nI kN) = (nI (o.2.2.2.1 4 sN), o) := by
                  unfold spSays
                  repeat (first | rw [el_some (by assumption)] | rw [el_none (by assumption)])
                  rw [if_neg hcond]
                  repeat (first | rw [if_pos (by omega)] | rw [if_neg (by omega)])
                  all_goals first | rfl | (exfalso; omega)
                exact z_iret X dX4_says_97 (by omega) (by omega) ⟨_, rfl, (by rw [e]; exact ⟨_, hM, hT, rfl⟩)⟩
            · refine z_aload_n X dX4_says_80 rfl 0 rfl ?_
              refine z_bipush (v := (-4)) X dX4_says_81 (by decide) ?_
              refine z_ci (z_runV (rest := []) (n := 1) X [.int ((-4))] (m_X4_refuse hM (k := 4) (by decide) (v := (-4)) rfl) dX4_says_83 (mm_o hM) rfl (lw_V q1546 q1548 qs27 q70 q1549) hv_X4_refuse rfl ⟨Nat.le_of_ble_eq_true rfl, Nat.le_of_ble_eq_true rfl⟩ ⟨by omega, by omega⟩ rfl (Nat.le_of_ble_eq_true rfl)) (fun r35 w37 h36 => ?_)
              obtain ⟨hM36, r35e⟩ := h36
              rw [r35e]
              have hT36 := MT.ref hT (k := 4) (by decide)
              have hcond : ¬ (o.2.2.2.1 0 sN = 1 ∨ (o.2.2.2.1 0 sN = 2 ∧ under (o.2.2.2.1 3 sN) kN = false)) := fun h => h.elim (fun q => by omega) (fun q => by rw [c24] at q; exact Bool.noConfusion q.2)
              have e : spSays o (nI sN) (nI kN) = ((-4), oRef o 4) := by
                unfold spSays
                repeat (first | rw [el_some (by assumption)] | rw [el_none (by assumption)])
                rw [if_neg hcond]
                repeat (first | rw [if_pos (by omega)] | rw [if_neg (by omega)])
                all_goals first | rfl | (exfalso; omega)
              exact z_iret X dX4_says_86 (by omega) (by omega) ⟨_, rfl, (by rw [e]; exact ⟨_, hM36, hT36, rfl⟩)⟩
          · refine z_aload_n X dX4_says_64 rfl 0 rfl ?_
            refine z_bipush (v := (-3)) X dX4_says_65 (by decide) ?_
            refine z_ci (z_runV (rest := []) (n := 1) X [.int ((-3))] (m_X4_refuse hM (k := 3) (by decide) (v := (-3)) rfl) dX4_says_67 (mm_o hM) rfl (lw_V q1546 q1548 qs27 q70 q1549) hv_X4_refuse rfl ⟨Nat.le_of_ble_eq_true rfl, Nat.le_of_ble_eq_true rfl⟩ ⟨by omega, by omega⟩ rfl (Nat.le_of_ble_eq_true rfl)) (fun r38 w40 h39 => ?_)
            obtain ⟨hM39, r38e⟩ := h39
            rw [r38e]
            have hT39 := MT.ref hT (k := 3) (by decide)
            have hcond : o.2.2.2.1 0 sN = 1 ∨ (o.2.2.2.1 0 sN = 2 ∧ under (o.2.2.2.1 3 sN) kN = false) := Or.inr ⟨by omega, c24⟩
            have e : spSays o (nI sN) (nI kN) = ((-3), oRef o 3) := by
              unfold spSays
              repeat (first | rw [el_some (by assumption)] | rw [el_none (by assumption)])
              rw [if_pos hcond]
              repeat (first | rw [if_pos (by omega)] | rw [if_neg (by omega)])
              all_goals first | rfl | (exfalso; omega)
            exact z_iret X dX4_says_70 (by omega) (by omega) ⟨_, rfl, (by rw [e]; exact ⟨_, hM39, hT39, rfl⟩)⟩
    · have e4 : rgb 0 6 k = none := rgb_f (fun q => c5 ((in32 (lo := nI 0) (hi := nI 6)).mpr q))
      refine z_aload_n X dX4_says_24 rfl 0 rfl ?_
      refine z_bipush (v := (-2)) X dX4_says_25 (by decide) ?_
      refine z_ci (z_runV (rest := []) (n := 1) X [.int ((-2))] (m_X4_refuse hM (k := 2) (by decide) (v := (-2)) rfl) dX4_says_27 (mm_o hM) rfl (lw_V q1546 q1548 qs27 q70 q1549) hv_X4_refuse rfl ⟨Nat.le_of_ble_eq_true rfl, Nat.le_of_ble_eq_true rfl⟩ ⟨by omega, by omega⟩ rfl (Nat.le_of_ble_eq_true rfl)) (fun r41 w43 h42 => ?_)
      obtain ⟨hM42, r41e⟩ := h42
      rw [r41e]
      have hT42 := MT.ref hT (k := 2) (by decide)
      have e : spSays o (nI sN) k = ((-2), oRef o 2) := by
        unfold spSays
        repeat (first | rw [el_some (by assumption)] | rw [el_none (by assumption)])
        repeat (first | rw [if_pos (by omega)] | rw [if_neg (by omega)])
        all_goals first | rfl | (exfalso; omega)
      exact z_iret X dX4_says_30 (by omega) (by omega) ⟨_, rfl, (by rw [e]; exact ⟨_, hM42, hT42, rfl⟩)⟩
theorem keep_ne {f : Nat → Int64} : ∀ i, 1 ≤ i → ¬ mxTo (fun _ => true) f i = none := by
  intro i hi
  obtain ⟨k, rfl⟩ : ∃ k, i = k + 1 := ⟨i - 1, by omega⟩
  simp only [mxTo]
  split
  · exact fun h => by cases h
  · split <;> exact fun h => by cases h
set_option maxHeartbeats 2000000 in
theorem m_X4_keep {l : Launch} {G : GG} {wb w : GW} {ad : Nat → Nat} {m : MSt} (hM : MM G wb w ad m) {o : OS} (hT : MT o m) (hO : oInv o) {n : Int32} : gM l G yX4_keep cX4_keep 8 (some .int) 10 0 0 [.ref (ad 0), .int (n)] w (pI (fun r w1 => ∃ m2, MM G wb w1 ad m2 ∧ MT (spKeep o n).2 m2 ∧ r = (spKeep o n).1)) := by
  refine Z.met (own := "ThreeSizesModel") (nm := "keep") (lv := [(0, .ref (ad 0)), (1, .int (n))]) (by decide) rfl rfl (Nat.le_of_ble_eq_true rfl) rfl (fun κ X => ?_)
  have hI := hO.1
  have h6 := hI.2.1
  have ht200 := hO.2.2.2
  refine z_iload_n X dX4_keep_0 rfl 1 rfl ?_
  refine z_cip (z_runS (rest := []) (n := 1) X [.int (n)] (m_X4_areHours (v := n)) dX4_keep_1 (lw_S q1797 q1798 q70 q1799) hs_X4_areHours rfl ⟨Nat.le_of_ble_eq_true rfl, Nat.le_of_ble_eq_true rfl⟩ ⟨by omega, by omega⟩ rfl (Nat.le_of_ble_eq_true rfl)) ?_
  refine z_if_ne (tgt := 14) X dX4_keep_4 (by decide) bI_d (fun c1 => ?_) (fun c1 => ?_)
  · have c1 := Classical.not_not.mp c1
    obtain ⟨nN, nNl, nNh, rfl, e1⟩ := rgb_t (lo := 0) (hi := 24) (by decide) (by decide) (c1)
    refine z_iconst (v := nI (0)) X dX4_keep_14 ci0 ?_
    refine z_istore_n (lv2 := [(2, .int (nI (0))), (0, .ref (ad 0)), (1, .int (nI (nN)))]) X dX4_keep_15 rfl (Nat.le_of_ble_eq_true rfl) rfl ?_
    refine z_aload_n X dX4_keep_16 rfl 1 rfl ?_
    refine z_iconst (v := nI (2)) X dX4_keep_17 ci2 ?_
    refine z_iconst (v := nI (0)) X dX4_keep_18 ci0 ?_
    refine z_iload_n X dX4_keep_19 rfl 2 rfl ?_
    refine z_cl (z_runV (rest := []) (n := 3) X [.int (nI (2)), .int (nI (0)), .int (nI (nN))] (m_X4_valueBy hM hT.1 hI (a := 0) (n := nN) (by omega) (by omega) (kd := 2) (by omega)) dX4_keep_20 (mm_o hM) rfl (lw_V q1801 q1803 qs55 q70 q1804) hv_X4_valueBy rfl ⟨Nat.le_of_ble_eq_true rfl, Nat.le_of_ble_eq_true rfl⟩ ⟨by omega, by omega⟩ rfl (Nat.le_of_ble_eq_true rfl)) (fun r2 w4 h3 => ?_)
    obtain ⟨mv3, hM3, hQ3, r2e⟩ := h3
    rw [r2e]
    have hT3 := MT.KM hT hQ3
    refine z_lstore_n (lv2 := [(3, .long (vals o.1 (rgM o.1 2 0 (wiseT o.1 0)) nN (stOf o.1))), (2, .int (nI (0))), (0, .ref (ad 0)), (1, .int (nI (nN)))]) X dX4_keep_23 rfl (Nat.le_of_ble_eq_true rfl) rfl ?_
    refine z_iconst (v := nI (1)) X dX4_keep_24 ci1 ?_
    refine z_istore (lv2 := [(5, .int (nI (1))), (3, .long (vals o.1 (rgM o.1 2 0 (wiseT o.1 0)) nN (stOf o.1))), (2, .int (nI (0))), (0, .ref (ad 0)), (1, .int (nI (nN)))]) X dX4_keep_25 (Nat.le_of_ble_eq_true rfl) rfl ?_
    have lk : ∀ (lq i : Nat) (w2 : GW) (m2 : MSt), i + lq = 5 → 1 ≤ i → MM G wb w2 ad m2 → MT o m2 → Z κ w2 [(5, .int (nI (i))), (3, .long (mxV (fun _ => true) (keepV o nN) i)), (2, .int (oI (mxTo (fun _ => true) (keepV o nN) i))), (1, .int (nI (nN))), (0, .ref (ad 0))] 0 0 27 [] := by
      intro lq
      induction lq with
      | zero =>
        intro i w2 m2 lh hi1 hM2 hT2x
        obtain rfl : i = 5 := by omega
        refine z_iload X dX4_keep_27 0 rfl ?_
        refine z_iconst (v := nI (4)) X dX4_keep_29 ci4 ?_
        refine z_icmp_gt_t (tgt := 62) X dX4_keep_30 (by decide) ((nI_ltI (by omega) (by omega)).mpr (by omega)) ?_
        refine z_iload_n X dX4_keep_62 rfl 2 rfl ?_
        have e : spKeep o (nI nN) = (oI (mxTo (fun _ => true) (keepV o nN) 5), o) := by
          unfold spKeep
          repeat (first | rw [el_some (by assumption)] | rw [el_none (by assumption)] | rw [if_pos (by omega)] | rw [if_neg (by omega)] | rw [if_pos (by assumption)] | rw [if_neg (ts_n (by assumption))])
          all_goals first | rfl | (exfalso; omega)
        exact z_iret X dX4_keep_63 (by omega) (by omega) ⟨_, rfl, (by rw [e]; exact ⟨_, hM2, hT2x, rfl⟩)⟩
      | succ lq ih =>
        intro i w2 m2 lh hi1 hM2 hT2x
        have hne : ¬ mxTo (fun _ => true) (keepV o nN) i = none := keep_ne i hi1
        refine z_iload X dX4_keep_27 0 rfl ?_
        refine z_iconst (v := nI (4)) X dX4_keep_29 ci4 ?_
        refine z_icmp_gt_f (tgt := 62) X dX4_keep_30 (by decide) (fun h => absurd ((nI_ltI (by omega) (by omega)).mp h) (by omega)) ?_
        refine z_aload_n X dX4_keep_33 rfl 4 rfl ?_
        refine z_iconst (v := nI (2)) X dX4_keep_34 ci2 ?_
        refine z_iload X dX4_keep_35 0 rfl ?_
        refine z_iload_n X dX4_keep_37 rfl 3 rfl ?_
        refine z_cl (z_runV (rest := []) (n := 3) X [.int (nI (2)), .int (nI (i)), .int (nI (nN))] (m_X4_valueBy hM2 hT2x.1 hI (a := i) (n := nN) (by omega) (by omega) (kd := 2) (by omega)) dX4_keep_38 (mm_o hM2) rfl (lw_V q1801 q1803 qs55 q70 q1804) hv_X4_valueBy rfl ⟨Nat.le_of_ble_eq_true rfl, Nat.le_of_ble_eq_true rfl⟩ ⟨by omega, by omega⟩ rfl (Nat.le_of_ble_eq_true rfl)) (fun r5 w7 h6 => ?_)
        obtain ⟨mv6, hM6, hQ6, r5e⟩ := h6
        rw [r5e]
        have hT6 := MT.KM hT2x hQ6
        refine z_lstore (lv2 := [(6, .long (vals o.1 (rgM o.1 2 i (wiseT o.1 i)) nN (stOf o.1))), (5, .int (nI (i))), (3, .long (mxV (fun _ => true) (keepV o nN) i)), (2, .int (oI (mxTo (fun _ => true) (keepV o nN) i))), (1, .int (nI (nN))), (0, .ref (ad 0))]) X dX4_keep_41 (Nat.le_of_ble_eq_true rfl) rfl ?_
        refine z_lload X dX4_keep_43 0 rfl ?_
        refine z_lload_n X dX4_keep_45 rfl 2 rfl ?_
        refine z_lcmp (v := lg_cmp (vals o.1 (rgM o.1 2 i (wiseT o.1 i)) nN (stOf o.1)) (mxV (fun _ => true) (keepV o nN) i)) X dX4_keep_46 rfl ?_
        refine z_if_le (tgt := 56) X dX4_keep_47 (by decide) (lg_cmp_le _ _) (fun c8 => ?_) (fun c8 => ?_)
        · refine z_iinc (v := nI (i + 1)) (lv2 := [(5, .int (nI (i + 1))), (6, .long (vals o.1 (rgM o.1 2 i (wiseT o.1 i)) nN (stOf o.1))), (3, .long (mxV (fun _ => true) (keepV o nN) i)), (2, .int (oI (mxTo (fun _ => true) (keepV o nN) i))), (1, .int (nI (nN))), (0, .ref (ad 0))]) X dX4_keep_56 1 rfl (nI_1 _) (Nat.le_of_ble_eq_true rfl) rfl ?_
          refine z_goto (tgt := 27) X dX4_keep_59 (by decide) ?_
          refine Z.lv [0, 2, 3, 4, 5] rfl ?_
          have e : mxTo (fun _ => true) (keepV o nN) (i + 1) = mxTo (fun _ => true) (keepV o nN) i := mx_le (p := fun _ => true) (f := keepV o nN) hne (Int64.not_lt.mpr c8)
          have e2 : mxV (fun _ => true) (keepV o nN) (i + 1) = mxV (fun _ => true) (keepV o nN) i := mxV_eq e
          have kk := ih (i + 1) _ _ (by omega) (by omega) hM6 hT6
          rw [e, e2] at kk
          exact kk
        · refine z_iload X dX4_keep_50 1 rfl ?_
          refine z_istore_n (lv2 := [(2, .int (nI (i))), (6, .long (vals o.1 (rgM o.1 2 i (wiseT o.1 i)) nN (stOf o.1))), (5, .int (nI (i))), (3, .long (mxV (fun _ => true) (keepV o nN) i)), (1, .int (nI (nN))), (0, .ref (ad 0))]) X dX4_keep_52 rfl (Nat.le_of_ble_eq_true rfl) rfl ?_
          refine z_lload X dX4_keep_53 1 rfl ?_
          refine z_lstore_n (lv2 := [(3, .long (vals o.1 (rgM o.1 2 i (wiseT o.1 i)) nN (stOf o.1))), (2, .int (nI (i))), (6, .long (vals o.1 (rgM o.1 2 i (wiseT o.1 i)) nN (stOf o.1))), (5, .int (nI (i))), (1, .int (nI (nN))), (0, .ref (ad 0))]) X dX4_keep_55 rfl (Nat.le_of_ble_eq_true rfl) rfl ?_
          refine z_iinc (v := nI (i + 1)) (lv2 := [(5, .int (nI (i + 1))), (3, .long (vals o.1 (rgM o.1 2 i (wiseT o.1 i)) nN (stOf o.1))), (2, .int (nI (i))), (6, .long (vals o.1 (rgM o.1 2 i (wiseT o.1 i)) nN (stOf o.1))), (1, .int (nI (nN))), (0, .ref (ad 0))]) X dX4_keep_56 3 rfl (nI_1 _) (Nat.le_of_ble_eq_true rfl) rfl ?_
          refine z_goto (tgt := 27) X dX4_keep_59 (by decide) ?_
          refine Z.lv [0, 1, 2, 4, 5] rfl ?_
          have e : mxTo (fun _ => true) (keepV o nN) (i + 1) = some i := mx_gt (p := fun _ => true) (f := keepV o nN) rfl hne (Int64.not_le.mp c8)
          have e2 : mxV (fun _ => true) (keepV o nN) (i + 1) = keepV o nN i := mxV_of e
          have kk := ih (i + 1) _ _ (by omega) (by omega) hM6 hT6
          rw [e, e2] at kk
          exact kk
    refine Z.lv [0, 1, 2, 4, 3] rfl ?_
    exact lk 4 1 w4 mv3 (by omega) (by omega) hM3 hT3
  · have e2 : rgb 0 24 n = none := rgb_f c1
    refine z_aload_n X dX4_keep_7 rfl 0 rfl ?_
    refine z_bipush (v := (-2)) X dX4_keep_8 (by decide) ?_
    refine z_ci (z_runV (rest := []) (n := 1) X [.int ((-2))] (m_X4_refuse hM (k := 2) (by decide) (v := (-2)) rfl) dX4_keep_10 (mm_o hM) rfl (lw_V q1546 q1548 qs27 q70 q1549) hv_X4_refuse rfl ⟨Nat.le_of_ble_eq_true rfl, Nat.le_of_ble_eq_true rfl⟩ ⟨by omega, by omega⟩ rfl (Nat.le_of_ble_eq_true rfl)) (fun r9 w11 h10 => ?_)
    obtain ⟨hM10, r9e⟩ := h10
    rw [r9e]
    have hT10 := MT.ref hT (k := 2) (by decide)
    have e : spKeep o n = ((-2), oRef o 2) := by
      unfold spKeep
      repeat (first | rw [el_some (by assumption)] | rw [el_none (by assumption)] | rw [if_pos (by omega)] | rw [if_neg (by omega)] | rw [if_pos (by assumption)] | rw [if_neg (ts_n (by assumption))])
      all_goals first | rfl | (exfalso; omega)
    exact z_iret X dX4_keep_13 (by omega) (by omega) ⟨_, rfl, (by rw [e]; exact ⟨_, hM10, hT10, rfl⟩)⟩
set_option maxHeartbeats 2000000 in
theorem m_X4_head {l : Launch} {G : GG} {wb w : GW} {ad : Nat → Nat} {m : MSt} (hM : MM G wb w ad m) {o : OS} (hT : MT o m) (hO : oInv o) {n : Int32} : gM l G yX4_head cX4_head 8 (some .int) 10 0 0 [.ref (ad 0), .int (n)] w (pI (fun r w1 => ∃ m2, MM G wb w1 ad m2 ∧ MT (spHead o n).2 m2 ∧ r = (spHead o n).1)) := by
  refine Z.met (own := "ThreeSizesModel") (nm := "head") (lv := [(0, .ref (ad 0)), (1, .int (n))]) (by decide) rfl rfl (Nat.le_of_ble_eq_true rfl) rfl (fun κ X => ?_)
  have hI := hO.1
  have h6 := hI.2.1
  have ht200 := hO.2.2.2
  refine z_iload_n X dX4_head_0 rfl 1 rfl ?_
  refine z_cip (z_runS (rest := []) (n := 1) X [.int (n)] (m_X4_areHours (v := n)) dX4_head_1 (lw_S q1797 q1798 q70 q1799) hs_X4_areHours rfl ⟨Nat.le_of_ble_eq_true rfl, Nat.le_of_ble_eq_true rfl⟩ ⟨by omega, by omega⟩ rfl (Nat.le_of_ble_eq_true rfl)) ?_
  refine z_if_ne (tgt := 14) X dX4_head_4 (by decide) bI_d (fun c1 => ?_) (fun c1 => ?_)
  · have c1 := Classical.not_not.mp c1
    obtain ⟨nN, nNl, nNh, rfl, e1⟩ := rgb_t (lo := 0) (hi := 24) (by decide) (by decide) (c1)
    refine z_iconst (v := -1) X dX4_head_14 cim1 ?_
    refine z_istore_n (lv2 := [(2, .int (-1)), (0, .ref (ad 0)), (1, .int (nI (nN)))]) X dX4_head_15 rfl (Nat.le_of_ble_eq_true rfl) rfl ?_
    refine z_lconst (v := lN 0) X dX4_head_16 cl0 ?_
    refine z_lstore_n (lv2 := [(3, .long (lN (0))), (2, .int (-1)), (0, .ref (ad 0)), (1, .int (nI (nN)))]) X dX4_head_17 rfl (Nat.le_of_ble_eq_true rfl) rfl ?_
    refine z_iconst (v := nI (0)) X dX4_head_18 ci0 ?_
    refine z_istore (lv2 := [(5, .int (nI (0))), (3, .long (lN (0))), (2, .int (-1)), (0, .ref (ad 0)), (1, .int (nI (nN)))]) X dX4_head_19 (Nat.le_of_ble_eq_true rfl) rfl ?_
    have lh2 : ∀ (lq i : Nat) (w2 : GW) (m2 : MSt), i + lq = 8 → MM G wb w2 ad m2 → MT o m2 → Z κ w2 [(5, .int (nI (i))), (3, .long (mxV (fun s => decide (o.2.2.2.1 0 s = 2)) (fun s => shV o s nN) i)), (2, .int (oI (mxTo (fun s => decide (o.2.2.2.1 0 s = 2)) (fun s => shV o s nN) i))), (1, .int (nI (nN))), (0, .ref (ad 0))] 0 0 21 [] := by
      intro lq
      induction lq with
      | zero =>
        intro i w2 m2 lh hM2 hT2x
        obtain rfl : i = 8 := by omega
        refine z_iload X dX4_head_21 0 rfl ?_
        refine z_bipush (v := nI (8)) X dX4_head_23 (by decide) ?_
        refine z_icmp_ge_t (tgt := 84) X dX4_head_25 (by decide) ((nI_leI (by omega) (by omega)).mpr (by omega)) ?_
        refine z_iload_n X dX4_head_84 rfl 2 rfl ?_
        refine z_iconst (v := -1) X dX4_head_85 cim1 ?_
        refine z_icmp_ne (tgt := 98) X dX4_head_86 (by decide) (oI_m1 (fun z h => by have := (mxTo_lt _ _ h).1; omega)) (fun c2 => ?_) (fun c2 => ?_)
        · refine z_iload_n X dX4_head_98 rfl 2 rfl ?_
          obtain ⟨y, hy⟩ := Option.ne_none_iff_exists.mp c2
          have e : spHead o (nI nN) = (oI (mxTo (fun s => decide (o.2.2.2.1 0 s = 2)) (fun s => shV o s nN) 8), o) := by
            unfold spHead
            rw [el_some (by assumption), ← hy]
            rfl
          exact z_iret X dX4_head_99 (by omega) (by omega) ⟨_, rfl, (by rw [e]; exact ⟨_, hM2, hT2x, rfl⟩)⟩
        · refine z_aload_n X dX4_head_89 rfl 4 rfl ?_
          refine z_bipush (v := (-5)) X dX4_head_90 (by decide) ?_
          refine z_ci (z_runV (rest := []) (n := 1) X [.int ((-5))] (m_X4_refuse hM2 (k := 5) (by decide) (v := (-5)) rfl) dX4_head_92 (mm_o hM2) rfl (lw_V q1546 q1548 qs27 q70 q1549) hv_X4_refuse rfl ⟨Nat.le_of_ble_eq_true rfl, Nat.le_of_ble_eq_true rfl⟩ ⟨by omega, by omega⟩ rfl (Nat.le_of_ble_eq_true rfl)) (fun r3 w5 h4 => ?_)
          obtain ⟨hM4, r3e⟩ := h4
          rw [r3e]
          have hT4 := MT.ref hT2x (k := 5) (by decide)
          refine z_goto (tgt := 99) X dX4_head_95 (by decide) ?_
          have e : spHead o (nI nN) = ((-5), oRef o 5) := by
            unfold spHead
            rw [el_some (by assumption), c2]
            rfl
          exact z_iret X dX4_head_99 (by omega) (by omega) ⟨_, rfl, (by rw [e]; exact ⟨_, hM4, hT4, rfl⟩)⟩
      | succ lq ih =>
        intro i w2 m2 lh hM2 hT2x
        have hqi := hO.2.1 i (by omega)
        refine z_iload X dX4_head_21 0 rfl ?_
        refine z_bipush (v := nI (8)) X dX4_head_23 (by decide) ?_
        refine z_icmp_ge_f (tgt := 84) X dX4_head_25 (by decide) (fun h => absurd ((nI_leI (by omega) (by omega)).mp h) (by omega)) ?_
        refine z_aload_n X dX4_head_28 rfl 4 rfl ?_
        refine z_mg0 X hM2 dX4_head_29 ?_
        refine z_iload X dX4_head_32 0 rfl ?_
        refine z_iaN (v := nI (o.2.2.2.1 0 i)) X dX4_head_34 (mm_1 hM2) (by omega) (by omega) ((hT2x.2.2.2.1 i (by omega)).1) ?_
        refine z_iconst (v := nI (2)) X dX4_head_35 ci2 ?_
        refine z_icmp_ne (tgt := 78) X dX4_head_36 (by decide) (nI_eq (by omega) (by omega)) (fun c6 => ?_) (fun c6 => ?_)
        · refine z_iinc (v := nI (i + 1)) (lv2 := [(5, .int (nI (i + 1))), (3, .long (mxV (fun s => decide (o.2.2.2.1 0 s = 2)) (fun s => shV o s nN) i)), (2, .int (oI (mxTo (fun s => decide (o.2.2.2.1 0 s = 2)) (fun s => shV o s nN) i))), (1, .int (nI (nN))), (0, .ref (ad 0))]) X dX4_head_78 0 rfl (nI_1 _) (Nat.le_of_ble_eq_true rfl) rfl ?_
          refine z_goto (tgt := 21) X dX4_head_81 (by decide) ?_
          have e : mxTo (fun s => decide (o.2.2.2.1 0 s = 2)) (fun s => shV o s nN) (i + 1) = mxTo (fun s => decide (o.2.2.2.1 0 s = 2)) (fun s => shV o s nN) i := mx_no (p := fun s => decide (o.2.2.2.1 0 s = 2)) (f := fun s => shV o s nN) (decide_eq_false (by omega))
          have e2 : mxV (fun s => decide (o.2.2.2.1 0 s = 2)) (fun s => shV o s nN) (i + 1) = mxV (fun s => decide (o.2.2.2.1 0 s = 2)) (fun s => shV o s nN) i := mxV_eq e
          have kk := ih (i + 1) _ _ (by omega) hM2 hT2x
          rw [e, e2] at kk
          exact kk
        · refine z_aload_n X dX4_head_39 rfl 4 rfl ?_
          refine z_aload_n X dX4_head_40 rfl 4 rfl ?_
          refine z_mg5 X hM2 dX4_head_41 ?_
          refine z_iload X dX4_head_44 0 rfl ?_
          refine z_iaN (v := nI (o.2.2.2.1 3 i)) X dX4_head_46 (mm_6 hM2) (by omega) (by omega) ((hT2x.2.2.2.1 i (by omega)).2.2.2.1) ?_
          refine z_aload_n X dX4_head_47 rfl 4 rfl ?_
          refine z_mg6 X hM2 dX4_head_48 ?_
          refine z_iload X dX4_head_51 0 rfl ?_
          refine z_iaN (v := nI (o.2.2.2.1 4 i)) X dX4_head_53 (mm_7 hM2) (by omega) (by omega) ((hT2x.2.2.2.1 i (by omega)).2.2.2.2) ?_
          refine z_iload_n X dX4_head_54 rfl 3 rfl ?_
          refine z_cl (z_runV (rest := []) (n := 3) X [.int (nI (o.2.2.2.1 3 i)), .int (nI (o.2.2.2.1 4 i)), .int (nI (nN))] (m_X4_valueBy hM2 hT2x.1 hI (a := o.2.2.2.1 4 i) (n := nN) (by omega) (by omega) (kd := o.2.2.2.1 3 i) (by omega)) dX4_head_55 (mm_o hM2) rfl (lw_V q1801 q1803 qs55 q70 q1804) hv_X4_valueBy rfl ⟨Nat.le_of_ble_eq_true rfl, Nat.le_of_ble_eq_true rfl⟩ ⟨by omega, by omega⟩ rfl (Nat.le_of_ble_eq_true rfl)) (fun r7 w9 h8 => ?_)
          obtain ⟨mv8, hM8, hQ8, r7e⟩ := h8
          rw [r7e]
          have hT8 := MT.KM hT2x hQ8
          refine z_lstore (lv2 := [(6, .long (vals o.1 (rgM o.1 (o.2.2.2.1 3 i) (o.2.2.2.1 4 i) (wiseT o.1 (o.2.2.2.1 4 i))) nN (stOf o.1))), (5, .int (nI (i))), (3, .long (mxV (fun s => decide (o.2.2.2.1 0 s = 2)) (fun s => shV o s nN) i)), (2, .int (oI (mxTo (fun s => decide (o.2.2.2.1 0 s = 2)) (fun s => shV o s nN) i))), (1, .int (nI (nN))), (0, .ref (ad 0))]) X dX4_head_58 (Nat.le_of_ble_eq_true rfl) rfl ?_
          refine z_iload_n X dX4_head_60 rfl 3 rfl ?_
          refine z_iconst (v := -1) X dX4_head_61 cim1 ?_
          refine z_icmp_eq (tgt := 72) X dX4_head_62 (by decide) (oI_m1 (fun z h => by have := (mxTo_lt _ _ h).1; omega)) (fun c10 => ?_) (fun c10 => ?_)
          · refine z_iload X dX4_head_72 1 rfl ?_
            refine z_istore_n (lv2 := [(2, .int (nI (i))), (6, .long (vals o.1 (rgM o.1 (o.2.2.2.1 3 i) (o.2.2.2.1 4 i) (wiseT o.1 (o.2.2.2.1 4 i))) nN (stOf o.1))), (5, .int (nI (i))), (3, .long (mxV (fun s => decide (o.2.2.2.1 0 s = 2)) (fun s => shV o s nN) i)), (1, .int (nI (nN))), (0, .ref (ad 0))]) X dX4_head_74 rfl (Nat.le_of_ble_eq_true rfl) rfl ?_
            refine z_lload X dX4_head_75 1 rfl ?_
            refine z_lstore_n (lv2 := [(3, .long (vals o.1 (rgM o.1 (o.2.2.2.1 3 i) (o.2.2.2.1 4 i) (wiseT o.1 (o.2.2.2.1 4 i))) nN (stOf o.1))), (2, .int (nI (i))), (6, .long (vals o.1 (rgM o.1 (o.2.2.2.1 3 i) (o.2.2.2.1 4 i) (wiseT o.1 (o.2.2.2.1 4 i))) nN (stOf o.1))), (5, .int (nI (i))), (1, .int (nI (nN))), (0, .ref (ad 0))]) X dX4_head_77 rfl (Nat.le_of_ble_eq_true rfl) rfl ?_
            refine z_iinc (v := nI (i + 1)) (lv2 := [(5, .int (nI (i + 1))), (3, .long (vals o.1 (rgM o.1 (o.2.2.2.1 3 i) (o.2.2.2.1 4 i) (wiseT o.1 (o.2.2.2.1 4 i))) nN (stOf o.1))), (2, .int (nI (i))), (6, .long (vals o.1 (rgM o.1 (o.2.2.2.1 3 i) (o.2.2.2.1 4 i) (wiseT o.1 (o.2.2.2.1 4 i))) nN (stOf o.1))), (1, .int (nI (nN))), (0, .ref (ad 0))]) X dX4_head_78 3 rfl (nI_1 _) (Nat.le_of_ble_eq_true rfl) rfl ?_
            refine z_goto (tgt := 21) X dX4_head_81 (by decide) ?_
            refine Z.lv [0, 1, 2, 4, 5] rfl ?_
            have e : mxTo (fun s => decide (o.2.2.2.1 0 s = 2)) (fun s => shV o s nN) (i + 1) = some i := mx_new (p := fun s => decide (o.2.2.2.1 0 s = 2)) (f := fun s => shV o s nN) (decide_eq_true (by omega)) c10
            have e2 : mxV (fun s => decide (o.2.2.2.1 0 s = 2)) (fun s => shV o s nN) (i + 1) = shV o i nN := mxV_of e
            have kk := ih (i + 1) _ _ (by omega) hM8 hT8
            rw [e, e2] at kk
            exact kk
          · refine z_lload X dX4_head_65 0 rfl ?_
            refine z_lload_n X dX4_head_67 rfl 2 rfl ?_
            refine z_lcmp (v := lg_cmp (vals o.1 (rgM o.1 (o.2.2.2.1 3 i) (o.2.2.2.1 4 i) (wiseT o.1 (o.2.2.2.1 4 i))) nN (stOf o.1)) (mxV (fun s => decide (o.2.2.2.1 0 s = 2)) (fun s => shV o s nN) i)) X dX4_head_68 rfl ?_
            refine z_if_le (tgt := 78) X dX4_head_69 (by decide) (lg_cmp_le _ _) (fun c11 => ?_) (fun c11 => ?_)
            · refine z_iinc (v := nI (i + 1)) (lv2 := [(5, .int (nI (i + 1))), (6, .long (vals o.1 (rgM o.1 (o.2.2.2.1 3 i) (o.2.2.2.1 4 i) (wiseT o.1 (o.2.2.2.1 4 i))) nN (stOf o.1))), (3, .long (mxV (fun s => decide (o.2.2.2.1 0 s = 2)) (fun s => shV o s nN) i)), (2, .int (oI (mxTo (fun s => decide (o.2.2.2.1 0 s = 2)) (fun s => shV o s nN) i))), (1, .int (nI (nN))), (0, .ref (ad 0))]) X dX4_head_78 1 rfl (nI_1 _) (Nat.le_of_ble_eq_true rfl) rfl ?_
              refine z_goto (tgt := 21) X dX4_head_81 (by decide) ?_
              refine Z.lv [0, 2, 3, 4, 5] rfl ?_
              have e : mxTo (fun s => decide (o.2.2.2.1 0 s = 2)) (fun s => shV o s nN) (i + 1) = mxTo (fun s => decide (o.2.2.2.1 0 s = 2)) (fun s => shV o s nN) i := mx_le (p := fun s => decide (o.2.2.2.1 0 s = 2)) (f := fun s => shV o s nN) c10 (Int64.not_lt.mpr c11)
              have e2 : mxV (fun s => decide (o.2.2.2.1 0 s = 2)) (fun s => shV o s nN) (i + 1) = mxV (fun s => decide (o.2.2.2.1 0 s = 2)) (fun s => shV o s nN) i := mxV_eq e
              have kk := ih (i + 1) _ _ (by omega) hM8 hT8
              rw [e, e2] at kk
              exact kk
            · refine z_iload X dX4_head_72 1 rfl ?_
              refine z_istore_n (lv2 := [(2, .int (nI (i))), (6, .long (vals o.1 (rgM o.1 (o.2.2.2.1 3 i) (o.2.2.2.1 4 i) (wiseT o.1 (o.2.2.2.1 4 i))) nN (stOf o.1))), (5, .int (nI (i))), (3, .long (mxV (fun s => decide (o.2.2.2.1 0 s = 2)) (fun s => shV o s nN) i)), (1, .int (nI (nN))), (0, .ref (ad 0))]) X dX4_head_74 rfl (Nat.le_of_ble_eq_true rfl) rfl ?_
              refine z_lload X dX4_head_75 1 rfl ?_
              refine z_lstore_n (lv2 := [(3, .long (vals o.1 (rgM o.1 (o.2.2.2.1 3 i) (o.2.2.2.1 4 i) (wiseT o.1 (o.2.2.2.1 4 i))) nN (stOf o.1))), (2, .int (nI (i))), (6, .long (vals o.1 (rgM o.1 (o.2.2.2.1 3 i) (o.2.2.2.1 4 i) (wiseT o.1 (o.2.2.2.1 4 i))) nN (stOf o.1))), (5, .int (nI (i))), (1, .int (nI (nN))), (0, .ref (ad 0))]) X dX4_head_77 rfl (Nat.le_of_ble_eq_true rfl) rfl ?_
              refine z_iinc (v := nI (i + 1)) (lv2 := [(5, .int (nI (i + 1))), (3, .long (vals o.1 (rgM o.1 (o.2.2.2.1 3 i) (o.2.2.2.1 4 i) (wiseT o.1 (o.2.2.2.1 4 i))) nN (stOf o.1))), (2, .int (nI (i))), (6, .long (vals o.1 (rgM o.1 (o.2.2.2.1 3 i) (o.2.2.2.1 4 i) (wiseT o.1 (o.2.2.2.1 4 i))) nN (stOf o.1))), (1, .int (nI (nN))), (0, .ref (ad 0))]) X dX4_head_78 3 rfl (nI_1 _) (Nat.le_of_ble_eq_true rfl) rfl ?_
              refine z_goto (tgt := 21) X dX4_head_81 (by decide) ?_
              refine Z.lv [0, 1, 2, 4, 5] rfl ?_
              have e : mxTo (fun s => decide (o.2.2.2.1 0 s = 2)) (fun s => shV o s nN) (i + 1) = some i := mx_gt (p := fun s => decide (o.2.2.2.1 0 s = 2)) (f := fun s => shV o s nN) (decide_eq_true (by omega)) c10 (Int64.not_le.mp c11)
              have e2 : mxV (fun s => decide (o.2.2.2.1 0 s = 2)) (fun s => shV o s nN) (i + 1) = shV o i nN := mxV_of e
              have kk := ih (i + 1) _ _ (by omega) hM8 hT8
              rw [e, e2] at kk
              exact kk
    refine Z.lv [0, 1, 2, 4, 3] rfl ?_
    exact lh2 8 0 w m (by omega) hM hT
  · have e2 : rgb 0 24 n = none := rgb_f c1
    refine z_aload_n X dX4_head_7 rfl 0 rfl ?_
    refine z_bipush (v := (-2)) X dX4_head_8 (by decide) ?_
    refine z_ci (z_runV (rest := []) (n := 1) X [.int ((-2))] (m_X4_refuse hM (k := 2) (by decide) (v := (-2)) rfl) dX4_head_10 (mm_o hM) rfl (lw_V q1546 q1548 qs27 q70 q1549) hv_X4_refuse rfl ⟨Nat.le_of_ble_eq_true rfl, Nat.le_of_ble_eq_true rfl⟩ ⟨by omega, by omega⟩ rfl (Nat.le_of_ble_eq_true rfl)) (fun r12 w14 h13 => ?_)
    obtain ⟨hM13, r12e⟩ := h13
    rw [r12e]
    have hT13 := MT.ref hT (k := 2) (by decide)
    have e : spHead o n = ((-2), oRef o 2) := by
      unfold spHead
      rw [el_none (by assumption)]
      rfl
    exact z_iret X dX4_head_13 (by omega) (by omega) ⟨_, rfl, (by rw [e]; exact ⟨_, hM13, hT13, rfl⟩)⟩
set_option maxHeartbeats 2000000 in
theorem m_X4_status {l : Launch} {G : GG} {wb w : GW} {ad : Nat → Nat} {m : MSt} (hM : MM G wb w ad m) {o : OS} (hT : MT o m) (hO : oInv o) {w_ : Int32} : gM l G yX4_status cX4_status 4 (some .int) 2 0 0 [.ref (ad 0), .int (w_)] w (pI (fun r w1 => r = spStatus o w_ ∧ w1 = w)) := by
  refine Z.met (own := "ThreeSizesModel") (nm := "status") (lv := [(0, .ref (ad 0)), (1, .int (w_))]) (by decide) rfl rfl (Nat.le_of_ble_eq_true rfl) rfl (fun κ X => ?_)
  have hI := hO.1
  have h6 := hI.2.1
  have ht200 := hO.2.2.2
  have b0 := hI.1 0 (by omega)
  have b1 := hI.1 1 (by omega)
  have b2 := hI.1 2 (by omega)
  refine z_iload_n X dX4_status_0 rfl 1 rfl ?_
  by_cases c1 : nI 0 ≤ w_ ∧ w_ ≤ nI 11
  · obtain ⟨w_N, w_Nl, w_Nh, rfl, e1⟩ := rgb_t (lo := 0) (hi := 11) (by decide) (by decide) c1
    rcases (show w_N = 0 ∨ w_N = 1 ∨ w_N = 2 ∨ w_N = 3 ∨ w_N = 4 ∨ w_N = 5 ∨ w_N = 6 ∨ w_N = 7 ∨ w_N = 8 ∨ w_N = 9 ∨ w_N = 10 ∨ w_N = 11 by omega) with rfl | rfl | rfl | rfl | rfl | rfl | rfl | rfl | rfl | rfl | rfl | rfl
    · skip
      refine z_tabIn (off := 63) (tgt := 64) X dX4_status_1 (by decide) (by decide) (by decide) (by decide) ?_
      refine z_aload_n X dX4_status_64 rfl 0 rfl ?_
      refine z_mgv13 X hM dX4_status_65 hT.1.2.1 ?_
      have e : spStatus o (nI 0) = nI (o.1.2 0) := by
        unfold spStatus
        repeat (first | rw [el_some (by assumption)] | rw [el_none (by assumption)] | rw [if_pos (by omega)] | rw [if_neg (by omega)] | rw [if_pos (by assumption)] | rw [if_neg (ts_n (by assumption))])
        all_goals first | rfl | (exfalso; omega)
      exact z_iret X dX4_status_68 (by omega) (by omega) ⟨_, rfl, ⟨e.symm, rfl⟩⟩
    · skip
      refine z_tabIn (off := 68) (tgt := 69) X dX4_status_1 (by decide) (by decide) (by decide) (by decide) ?_
      refine z_aload_n X dX4_status_69 rfl 0 rfl ?_
      refine z_mg10 X hM dX4_status_70 ?_
      refine z_iload_n X dX4_status_73 rfl 1 rfl ?_
      refine z_iconst (v := nI (1)) X dX4_status_74 ci1 ?_
      refine z_isub (v := nI (0)) X dX4_status_75 (pk_sub (by decide)) ?_
      refine z_iaN (v := nI (o.1.1 0 0)) X dX4_status_76 (mm_11 hM) (by omega) (by omega) (hT.1.1 0 (by omega)).1 ?_
      have e : spStatus o (nI 1) = nI (o.1.1 0 0) := by
        unfold spStatus
        repeat (first | rw [el_some (by assumption)] | rw [el_none (by assumption)] | rw [if_pos (by omega)] | rw [if_neg (by omega)] | rw [if_pos (by assumption)] | rw [if_neg (ts_n (by assumption))])
        all_goals first | rfl | (exfalso; omega)
      exact z_iret X dX4_status_77 (by omega) (by omega) ⟨_, rfl, ⟨e.symm, rfl⟩⟩
    · skip
      refine z_tabIn (off := 68) (tgt := 69) X dX4_status_1 (by decide) (by decide) (by decide) (by decide) ?_
      refine z_aload_n X dX4_status_69 rfl 0 rfl ?_
      refine z_mg10 X hM dX4_status_70 ?_
      refine z_iload_n X dX4_status_73 rfl 1 rfl ?_
      refine z_iconst (v := nI (1)) X dX4_status_74 ci1 ?_
      refine z_isub (v := nI (1)) X dX4_status_75 (pk_sub (by decide)) ?_
      refine z_iaN (v := nI (o.1.1 0 1)) X dX4_status_76 (mm_11 hM) (by omega) (by omega) (hT.1.1 1 (by omega)).1 ?_
      have e : spStatus o (nI 2) = nI (o.1.1 0 1) := by
        unfold spStatus
        repeat (first | rw [el_some (by assumption)] | rw [el_none (by assumption)] | rw [if_pos (by omega)] | rw [if_neg (by omega)] | rw [if_pos (by assumption)] | rw [if_neg (ts_n (by assumption))])
        all_goals first | rfl | (exfalso; omega)
      exact z_iret X dX4_status_77 (by omega) (by omega) ⟨_, rfl, ⟨e.symm, rfl⟩⟩
    · skip
      refine z_tabIn (off := 68) (tgt := 69) X dX4_status_1 (by decide) (by decide) (by decide) (by decide) ?_
      refine z_aload_n X dX4_status_69 rfl 0 rfl ?_
      refine z_mg10 X hM dX4_status_70 ?_
      refine z_iload_n X dX4_status_73 rfl 1 rfl ?_
      refine z_iconst (v := nI (1)) X dX4_status_74 ci1 ?_
      refine z_isub (v := nI (2)) X dX4_status_75 (pk_sub (by decide)) ?_
      refine z_iaN (v := nI (o.1.1 0 2)) X dX4_status_76 (mm_11 hM) (by omega) (by omega) (hT.1.1 2 (by omega)).1 ?_
      have e : spStatus o (nI 3) = nI (o.1.1 0 2) := by
        unfold spStatus
        repeat (first | rw [el_some (by assumption)] | rw [el_none (by assumption)] | rw [if_pos (by omega)] | rw [if_neg (by omega)] | rw [if_pos (by assumption)] | rw [if_neg (ts_n (by assumption))])
        all_goals first | rfl | (exfalso; omega)
      exact z_iret X dX4_status_77 (by omega) (by omega) ⟨_, rfl, ⟨e.symm, rfl⟩⟩
    · skip
      refine z_tabIn (off := 77) (tgt := 78) X dX4_status_1 (by decide) (by decide) (by decide) (by decide) ?_
      refine z_aload_n X dX4_status_78 rfl 0 rfl ?_
      refine z_mg11 X hM dX4_status_79 ?_
      refine z_iload_n X dX4_status_82 rfl 1 rfl ?_
      refine z_iconst (v := nI (4)) X dX4_status_83 ci4 ?_
      refine z_isub (v := nI (0)) X dX4_status_84 (pk_sub (by decide)) ?_
      refine z_iaN (v := nI (o.1.1 1 0)) X dX4_status_85 (mm_12 hM) (by omega) (by omega) (hT.1.1 0 (by omega)).2.1 ?_
      have e : spStatus o (nI 4) = nI (o.1.1 1 0) := by
        unfold spStatus
        repeat (first | rw [el_some (by assumption)] | rw [el_none (by assumption)] | rw [if_pos (by omega)] | rw [if_neg (by omega)] | rw [if_pos (by assumption)] | rw [if_neg (ts_n (by assumption))])
        all_goals first | rfl | (exfalso; omega)
      exact z_iret X dX4_status_86 (by omega) (by omega) ⟨_, rfl, ⟨e.symm, rfl⟩⟩
    · skip
      refine z_tabIn (off := 77) (tgt := 78) X dX4_status_1 (by decide) (by decide) (by decide) (by decide) ?_
      refine z_aload_n X dX4_status_78 rfl 0 rfl ?_
      refine z_mg11 X hM dX4_status_79 ?_
      refine z_iload_n X dX4_status_82 rfl 1 rfl ?_
      refine z_iconst (v := nI (4)) X dX4_status_83 ci4 ?_
      refine z_isub (v := nI (1)) X dX4_status_84 (pk_sub (by decide)) ?_
      refine z_iaN (v := nI (o.1.1 1 1)) X dX4_status_85 (mm_12 hM) (by omega) (by omega) (hT.1.1 1 (by omega)).2.1 ?_
      have e : spStatus o (nI 5) = nI (o.1.1 1 1) := by
        unfold spStatus
        repeat (first | rw [el_some (by assumption)] | rw [el_none (by assumption)] | rw [if_pos (by omega)] | rw [if_neg (by omega)] | rw [if_pos (by assumption)] | rw [if_neg (ts_n (by assumption))])
        all_goals first | rfl | (exfalso; omega)
      exact z_iret X dX4_status_86 (by omega) (by omega) ⟨_, rfl, ⟨e.symm, rfl⟩⟩
    · skip
      refine z_tabIn (off := 77) (tgt := 78) X dX4_status_1 (by decide) (by decide) (by decide) (by decide) ?_
      refine z_aload_n X dX4_status_78 rfl 0 rfl ?_
      refine z_mg11 X hM dX4_status_79 ?_
      refine z_iload_n X dX4_status_82 rfl 1 rfl ?_
      refine z_iconst (v := nI (4)) X dX4_status_83 ci4 ?_
      refine z_isub (v := nI (2)) X dX4_status_84 (pk_sub (by decide)) ?_
      refine z_iaN (v := nI (o.1.1 1 2)) X dX4_status_85 (mm_12 hM) (by omega) (by omega) (hT.1.1 2 (by omega)).2.1 ?_
      have e : spStatus o (nI 6) = nI (o.1.1 1 2) := by
        unfold spStatus
        repeat (first | rw [el_some (by assumption)] | rw [el_none (by assumption)] | rw [if_pos (by omega)] | rw [if_neg (by omega)] | rw [if_pos (by assumption)] | rw [if_neg (ts_n (by assumption))])
        all_goals first | rfl | (exfalso; omega)
      exact z_iret X dX4_status_86 (by omega) (by omega) ⟨_, rfl, ⟨e.symm, rfl⟩⟩
    · skip
      refine z_tabIn (off := 86) (tgt := 87) X dX4_status_1 (by decide) (by decide) (by decide) (by decide) ?_
      refine z_aload_n X dX4_status_87 rfl 0 rfl ?_
      refine z_mgv8 X hM dX4_status_88 hT.2.2.2.2.2.2.1 ?_
      have e : spStatus o (nI 7) = nI (o.2.2.2.2.2.2.1) := by
        unfold spStatus
        repeat (first | rw [el_some (by assumption)] | rw [el_none (by assumption)] | rw [if_pos (by omega)] | rw [if_neg (by omega)] | rw [if_pos (by assumption)] | rw [if_neg (ts_n (by assumption))])
        all_goals first | rfl | (exfalso; omega)
      exact z_iret X dX4_status_91 (by omega) (by omega) ⟨_, rfl, ⟨e.symm, rfl⟩⟩
    · skip
      refine z_tabIn (off := 91) (tgt := 92) X dX4_status_1 (by decide) (by decide) (by decide) (by decide) ?_
      refine z_aload_n X dX4_status_92 rfl 0 rfl ?_
      refine z_mgv17 X hM dX4_status_93 hT.2.2.1 ?_
      have e : spStatus o (nI 8) = o.2.2.1 := by
        unfold spStatus
        repeat (first | rw [el_some (by assumption)] | rw [el_none (by assumption)] | rw [if_pos (by omega)] | rw [if_neg (by omega)] | rw [if_pos (by assumption)] | rw [if_neg (ts_n (by assumption))])
        all_goals first | rfl | (exfalso; omega)
      exact z_iret X dX4_status_96 (by omega) (by omega) ⟨_, rfl, ⟨e.symm, rfl⟩⟩
    · skip
      refine z_tabIn (off := 96) (tgt := 97) X dX4_status_1 (by decide) (by decide) (by decide) (by decide) ?_
      refine z_iconst (v := nI (0)) X dX4_status_97 ci0 ?_
      refine z_istore_n (lv2 := [(2, .int (nI (0))), (0, .ref (ad 0)), (1, .int (nI (9)))]) X dX4_status_98 rfl (Nat.le_of_ble_eq_true rfl) rfl ?_
      refine z_iconst (v := nI (0)) X dX4_status_99 ci0 ?_
      refine z_istore_n (lv2 := [(3, .int (nI (0))), (2, .int (nI (0))), (0, .ref (ad 0)), (1, .int (nI (9)))]) X dX4_status_100 rfl (Nat.le_of_ble_eq_true rfl) rfl ?_
      have ls2 : ∀ (lq i : Nat), i + lq = 8 → Z κ w [(3, .int (nI (i))), (2, .int (nI (heldTo o i))), (0, .ref (ad 0))] 0 0 101 [] := by
        intro lq
        induction lq with
        | zero =>
          intro i lh
          obtain rfl : i = 8 := by omega
          refine z_iload_n X dX4_status_101 rfl 0 rfl ?_
          refine z_bipush (v := nI (8)) X dX4_status_102 (by decide) ?_
          refine z_icmp_ge_t (tgt := 130) X dX4_status_104 (by decide) ((nI_leI (by omega) (by omega)).mpr (by omega)) ?_
          refine z_iload_n X dX4_status_130 rfl 1 rfl ?_
          have e : spStatus o (nI 9) = nI (heldTo o 8) := by
            unfold spStatus
            repeat (first | rw [el_some (by assumption)] | rw [el_none (by assumption)] | rw [if_pos (by omega)] | rw [if_neg (by omega)] | rw [if_pos (by assumption)] | rw [if_neg (ts_n (by assumption))])
            all_goals first | rfl | (exfalso; omega)
          exact z_iret X dX4_status_131 (by omega) (by omega) ⟨_, rfl, ⟨e.symm, rfl⟩⟩
        | succ lq ih =>
          intro i lh
          have hqi := hO.2.1 i (by omega)
          refine z_iload_n X dX4_status_101 rfl 0 rfl ?_
          refine z_bipush (v := nI (8)) X dX4_status_102 (by decide) ?_
          refine z_icmp_ge_f (tgt := 130) X dX4_status_104 (by decide) (fun h => absurd ((nI_leI (by omega) (by omega)).mp h) (by omega)) ?_
          refine z_iload_n X dX4_status_107 rfl 1 rfl ?_
          refine z_aload_n X dX4_status_108 rfl 2 rfl ?_
          refine z_mg0 X hM dX4_status_109 ?_
          refine z_iload_n X dX4_status_112 rfl 0 rfl ?_
          refine z_iaN (v := nI (o.2.2.2.1 0 i)) X dX4_status_113 (mm_1 hM) (by omega) (by omega) ((hT.2.2.2.1 i (by omega)).1) ?_
          refine z_if_eq (tgt := 121) X dX4_status_114 (by decide) (nz_eq (by omega)) (fun c2 => ?_) (fun c2 => ?_)
          · refine z_iconst (v := nI (0)) X dX4_status_121 ci0 ?_
            refine z_iadd (v := nI (heldTo o i + 0)) X dX4_status_122 (nI_add _ _) ?_
            refine z_istore_n (lv2 := [(2, .int (nI (heldTo o i + 0))), (3, .int (nI (i))), (0, .ref (ad 0))]) X dX4_status_123 rfl (Nat.le_of_ble_eq_true rfl) rfl ?_
            refine z_iinc (v := nI (i + 1)) (lv2 := [(3, .int (nI (i + 1))), (2, .int (nI (heldTo o i + 0))), (0, .ref (ad 0))]) X dX4_status_124 1 rfl (nI_1 _) (Nat.le_of_ble_eq_true rfl) rfl ?_
            refine z_goto (tgt := 101) X dX4_status_127 (by decide) ?_
            have e : heldTo o (i + 1) = heldTo o i + 0 := by unfold heldTo; simp only [sumTo]; rw [if_pos (by omega)]
            have kk := ih (i + 1) (by omega)
            rw [e] at kk
            exact kk
          · refine z_iconst (v := nI (1)) X dX4_status_117 ci1 ?_
            refine z_goto (tgt := 122) X dX4_status_118 (by decide) ?_
            refine z_iadd (v := nI (heldTo o i + 1)) X dX4_status_122 (nI_add _ _) ?_
            refine z_istore_n (lv2 := [(2, .int (nI (heldTo o i + 1))), (3, .int (nI (i))), (0, .ref (ad 0))]) X dX4_status_123 rfl (Nat.le_of_ble_eq_true rfl) rfl ?_
            refine z_iinc (v := nI (i + 1)) (lv2 := [(3, .int (nI (i + 1))), (2, .int (nI (heldTo o i + 1))), (0, .ref (ad 0))]) X dX4_status_124 1 rfl (nI_1 _) (Nat.le_of_ble_eq_true rfl) rfl ?_
            refine z_goto (tgt := 101) X dX4_status_127 (by decide) ?_
            have e : heldTo o (i + 1) = heldTo o i + 1 := by unfold heldTo; simp only [sumTo]; rw [if_neg (by omega)]
            have kk := ih (i + 1) (by omega)
            rw [e] at kk
            exact kk
      refine Z.lv [0, 1, 2] rfl ?_
      exact ls2 (8) 0 (by omega)
    · skip
      refine z_tabIn (off := 131) (tgt := 132) X dX4_status_1 (by decide) (by decide) (by decide) (by decide) ?_
      refine z_aload_n X dX4_status_132 rfl 0 rfl ?_
      refine z_mg15 X hM dX4_status_133 ?_
      refine z_iload_n X dX4_status_136 rfl 1 rfl ?_
      refine z_bipush (v := nI (10)) X dX4_status_137 (by decide) ?_
      refine z_isub (v := nI (0)) X dX4_status_139 (pk_sub (by decide)) ?_
      refine z_iaN (v := nI (o.1.2 1)) X dX4_status_140 (mm_16 hM) (by omega) (by omega) hT.1.2.2.2.1 ?_
      have e : spStatus o (nI 10) = nI (o.1.2 1) := by
        unfold spStatus
        repeat (first | rw [el_some (by assumption)] | rw [el_none (by assumption)] | rw [if_pos (by omega)] | rw [if_neg (by omega)] | rw [if_pos (by assumption)] | rw [if_neg (ts_n (by assumption))])
        all_goals first | rfl | (exfalso; omega)
      exact z_iret X dX4_status_141 (by omega) (by omega) ⟨_, rfl, ⟨e.symm, rfl⟩⟩
    · skip
      refine z_tabIn (off := 131) (tgt := 132) X dX4_status_1 (by decide) (by decide) (by decide) (by decide) ?_
      refine z_aload_n X dX4_status_132 rfl 0 rfl ?_
      refine z_mg15 X hM dX4_status_133 ?_
      refine z_iload_n X dX4_status_136 rfl 1 rfl ?_
      refine z_bipush (v := nI (10)) X dX4_status_137 (by decide) ?_
      refine z_isub (v := nI (1)) X dX4_status_139 (pk_sub (by decide)) ?_
      refine z_iaN (v := nI (o.1.2 2)) X dX4_status_140 (mm_16 hM) (by omega) (by omega) hT.1.2.2.2.2 ?_
      have e : spStatus o (nI 11) = nI (o.1.2 2) := by
        unfold spStatus
        repeat (first | rw [el_some (by assumption)] | rw [el_none (by assumption)] | rw [if_pos (by omega)] | rw [if_neg (by omega)] | rw [if_pos (by assumption)] | rw [if_neg (ts_n (by assumption))])
        all_goals first | rfl | (exfalso; omega)
      exact z_iret X dX4_status_141 (by omega) (by omega) ⟨_, rfl, ⟨e.symm, rfl⟩⟩
  · have e1 : rgb 0 11 w_ = none := rgb_f c1
    refine z_tabOut (tgt := 142) X dX4_status_1 (sw_out (lo := 0) (hi := 11) (by decide) (by decide) c1) (by decide) ?_
    refine z_iload_n X dX4_status_142 rfl 1 rfl ?_
    refine z_i2l (v := (w_).toInt64) X dX4_status_143 rfl ?_
    refine z_ldc2 X dX4_status_144 q1947 ?_
    refine z_ldc2 X dX4_status_147 q1948 ?_
    refine z_cip (z_runS (rest := []) (n := 3) X [.long ((w_).toInt64), .long ((12)), .long ((16))] m_X4_in dX4_status_150 (lw_S q1541 q1542 q70 q1543) hs_X4_in rfl ⟨Nat.le_of_ble_eq_true rfl, Nat.le_of_ble_eq_true rfl⟩ ⟨by omega, by omega⟩ rfl (Nat.le_of_ble_eq_true rfl)) ?_
    refine z_if_eq (tgt := 168) X dX4_status_153 (by decide) bI_d (fun c3 => ?_) (fun c3 => ?_)
    · have e2 : rgb 12 16 w_ = none := rgb_f (fun q => c3 ((in32 (lo := nI 12) (hi := nI 16)).mpr q))
      refine z_iconst (v := -1) X dX4_status_168 cim1 ?_
      have e : spStatus o w_ = -1 := by
        unfold spStatus
        repeat (first | rw [el_some (by assumption)] | rw [el_none (by assumption)] | rw [if_pos (by omega)] | rw [if_neg (by omega)] | rw [if_pos (by assumption)] | rw [if_neg (ts_n (by assumption))])
        all_goals first | rfl | (exfalso; omega)
      exact z_iret X dX4_status_169 (by omega) (by omega) ⟨_, rfl, ⟨e.symm, rfl⟩⟩
    · have c3 := Classical.not_not.mp c3
      obtain ⟨w_N, w_Nl, w_Nh, rfl, e3⟩ := rgb_t (lo := 12) (hi := 16) (by decide) (by decide) ((in32 (lo := nI 12) (hi := nI 16)).mp c3)
      refine z_aload_n X dX4_status_156 rfl 0 rfl ?_
      refine z_mg9 X hM dX4_status_157 ?_
      refine z_iload_n X dX4_status_160 rfl 1 rfl ?_
      refine z_bipush (v := nI (10)) X dX4_status_161 (by decide) ?_
      refine z_isub (v := nI (w_N - 10)) X dX4_status_163 (pk_sub (by omega)) ?_
      refine z_iaN (v := o.2.2.2.2.2.2.2 (w_N - 10)) X dX4_status_164 (mm_10 hM) (by omega) (by omega) (hT.2.2.2.2.2.2.2 (w_N - 10) (by omega)) ?_
      refine z_goto (tgt := 169) X dX4_status_165 (by decide) ?_
      have e : spStatus o (nI w_N) = o.2.2.2.2.2.2.2 (w_N - 10) := by
        unfold spStatus
        repeat (first | rw [el_some (by assumption)] | rw [el_none (by assumption)] | rw [if_pos (by omega)] | rw [if_neg (by omega)] | rw [if_pos (by assumption)] | rw [if_neg (ts_n (by assumption))])
        all_goals first | rfl | (exfalso; omega)
      exact z_iret X dX4_status_169 (by omega) (by omega) ⟨_, rfl, ⟨e.symm, rfl⟩⟩
