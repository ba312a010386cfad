/-! THE MODEL: whether there is such a placing -/
set_option maxRecDepth 100000
def plEl {α : Type} (o : OS) (s t k : Int32) (b : Nat → α) (f : Nat → Nat → Nat → α) : α := el (rgb 0 7 s) (b 2) fun s => el (rgb 0 7 t) (b 2) fun t => el (rgb 0 6 k) (b 2) fun k => if o.2.2.2.1 0 s = 2 ∨ o.2.2.2.1 0 t = 2 then b 3 else if o.2.2.2.1 0 s = 0 ∨ o.2.2.2.1 0 t = 0 then b 4 else if cartB o s k = true ∧ k ≤ o.2.2.2.1 2 t then f s t k else b 2
def PlQ (o : OS) (s t k : Int32) (r : Int32) (m2 : MSt) : Prop := (∃ c : Nat, (c = 2 ∨ c = 3 ∨ c = 4) ∧ r = Int32.ofInt (-(c : Int)) ∧ MT (oRef o c) m2 ∧ ∀ f : Nat → Nat → Nat → Int32 × OS, plEl o s t k (bad o) f = bad o c) ∨ ∃ a b n, a < 8 ∧ b < 8 ∧ n ≤ 6 ∧ n ≤ o.2.2.2.1 2 b ∧ s = nI a ∧ t = nI b ∧ k = nI n ∧ r = nI 0 ∧ MT o m2 ∧ (∀ i, i < n → m2.1 31 i = nI (tnl (o.2.2.2.2.1 a i)) ∧ tnl (o.2.2.2.2.1 a i) < o.1.2 0) ∧ ∀ f : Nat → Nat → Nat → Int32 × OS, plEl o (nI a) (nI b) (nI n) (bad o) f = f a b n
set_option maxHeartbeats 2000000 in
theorem m_X4_noPlacing {l : Launch} {G : GG} {wb w : GW} {ad : Nat → Nat} {m : MSt} (hM : MM G wb w ad m) {o : OS} (hT : MT o m) (hO : oInv o) {s t k : Int32} : gM l G yX4_noPlacing cX4_noPlacing 4 (some .int) 4 0 0 [.ref (ad 0), .int (s), .int (t), .int (k)] w (pI (fun r w1 => ∃ m2, MM G wb w1 ad m2 ∧ PlQ o s t k r m2)) := by
  refine Z.met (own := "ThreeSizesModel") (nm := "noPlacing") (lv := [(0, .ref (ad 0)), (1, .int (s)), (2, .int (t)), (3, .int (k))]) (by decide) rfl rfl (Nat.le_of_ble_eq_true rfl) rfl (fun κ X => ?_)
  have hI := hO.1
  refine z_iload_n X dX4_noPlacing_0 rfl 1 rfl ?_
  refine z_i2l (v := (s).toInt64) X dX4_noPlacing_1 rfl ?_
  refine z_lconst (v := lN 0) X dX4_noPlacing_2 cl0 ?_
  refine z_ldc2 X dX4_noPlacing_3 q1540 ?_
  refine z_cip (z_runS (rest := []) (n := 3) X [.long ((s).toInt64), .long (lN (0)), .long ((7))] m_X4_in dX4_noPlacing_6 (lw_S q1541 q1542 q70 q1543) hs_X4_in rfl ⟨Nat.le_of_ble_eq_true rfl, Nat.le_of_ble_eq_true rfl⟩ ⟨by omega, by omega⟩ rfl (Nat.le_of_ble_eq_true rfl)) ?_
  refine z_if_eq (tgt := 36) X dX4_noPlacing_9 (by decide) bI_d (fun c1 => ?_) (fun c1 => ?_)
  · have e1 : rgb 0 7 s = none := rgb_f (fun q => c1 ((in32 (lo := nI 0) (hi := nI 7)).mpr q))
    refine z_aload_n X dX4_noPlacing_36 rfl 0 rfl ?_
    refine z_bipush (v := (-2)) X dX4_noPlacing_37 (by decide) ?_
    refine z_ci (z_runV (rest := []) (n := 1) X [.int ((-2))] (m_X4_refuse hM (k := 2) (by decide) (v := (-2)) rfl) dX4_noPlacing_39 (mm_o hM) rfl (lw_V q1546 q1548 qs27 q70 q1549) hv_X4_refuse rfl ⟨Nat.le_of_ble_eq_true rfl, Nat.le_of_ble_eq_true rfl⟩ ⟨by omega, by omega⟩ rfl (Nat.le_of_ble_eq_true rfl)) (fun r2 w4 h3 => ?_)
    obtain ⟨hM3, r2e⟩ := h3
    rw [r2e]
    have hT3 := MT.ref hT (k := 2) (by decide)
    have e : ∀ f : Nat → Nat → Nat → Int32 × OS, plEl o s t k (bad o) f = bad o 2 := by
      intro f
      unfold plEl
      repeat (first | rw [el_some (by assumption)] | rw [el_none (by assumption)] | rw [if_pos (by omega)] | rw [if_neg (by omega)])
      all_goals first | rfl | (exfalso; omega)
    exact z_iret X dX4_noPlacing_42 (by omega) (by omega) ⟨_, rfl, ⟨_, hM3, Or.inl ⟨2, by omega, rfl, hT3, e⟩⟩⟩
  · have c1 := Classical.not_not.mp c1
    obtain ⟨sN, sNl, sNh, rfl, e2⟩ := rgb_t (lo := 0) (hi := 7) (by decide) (by decide) ((in32 (lo := nI 0) (hi := nI 7)).mp c1)
    refine z_iload_n X dX4_noPlacing_12 rfl 2 rfl ?_
    refine z_i2l (v := (t).toInt64) X dX4_noPlacing_13 rfl ?_
    refine z_lconst (v := lN 0) X dX4_noPlacing_14 cl0 ?_
    refine z_ldc2 X dX4_noPlacing_15 q1540 ?_
    refine z_cip (z_runS (rest := []) (n := 3) X [.long ((t).toInt64), .long (lN (0)), .long ((7))] m_X4_in dX4_noPlacing_18 (lw_S q1541 q1542 q70 q1543) hs_X4_in rfl ⟨Nat.le_of_ble_eq_true rfl, Nat.le_of_ble_eq_true rfl⟩ ⟨by omega, by omega⟩ rfl (Nat.le_of_ble_eq_true rfl)) ?_
    refine z_if_eq (tgt := 36) X dX4_noPlacing_21 (by decide) bI_d (fun c5 => ?_) (fun c5 => ?_)
    · have e3 : rgb 0 7 t = none := rgb_f (fun q => c5 ((in32 (lo := nI 0) (hi := nI 7)).mpr q))
      refine z_aload_n X dX4_noPlacing_36 rfl 0 rfl ?_
      refine z_bipush (v := (-2)) X dX4_noPlacing_37 (by decide) ?_
      refine z_ci (z_runV (rest := []) (n := 1) X [.int ((-2))] (m_X4_refuse hM (k := 2) (by decide) (v := (-2)) rfl) dX4_noPlacing_39 (mm_o hM) rfl (lw_V q1546 q1548 qs27 q70 q1549) hv_X4_refuse rfl ⟨Nat.le_of_ble_eq_true rfl, Nat.le_of_ble_eq_true rfl⟩ ⟨by omega, by omega⟩ rfl (Nat.le_of_ble_eq_true rfl)) (fun r6 w8 h7 => ?_)
      obtain ⟨hM7, r6e⟩ := h7
      rw [r6e]
      have hT7 := MT.ref hT (k := 2) (by decide)
      have e : ∀ f : Nat → Nat → Nat → Int32 × OS, plEl o (nI sN) t k (bad o) f = bad o 2 := by
        intro f
        unfold plEl
        repeat (first | rw [el_some (by assumption)] | rw [el_none (by assumption)] | rw [if_pos (by omega)] | rw [if_neg (by omega)])
        all_goals first | rfl | (exfalso; omega)
      exact z_iret X dX4_noPlacing_42 (by omega) (by omega) ⟨_, rfl, ⟨_, hM7, Or.inl ⟨2, by omega, rfl, hT7, e⟩⟩⟩
    · have c5 := Classical.not_not.mp c5
      obtain ⟨tN, tNl, tNh, rfl, e4⟩ := rgb_t (lo := 0) (hi := 7) (by decide) (by decide) ((in32 (lo := nI 0) (hi := nI 7)).mp c5)
      refine z_iload_n X dX4_noPlacing_24 rfl 3 rfl ?_
      refine z_i2l (v := (k).toInt64) X dX4_noPlacing_25 rfl ?_
      refine z_lconst (v := lN 0) X dX4_noPlacing_26 cl0 ?_
      refine z_ldc2 X dX4_noPlacing_27 q1573 ?_
      refine z_cip (z_runS (rest := []) (n := 3) X [.long ((k).toInt64), .long (lN (0)), .long ((6))] m_X4_in dX4_noPlacing_30 (lw_S q1541 q1542 q70 q1543) hs_X4_in rfl ⟨Nat.le_of_ble_eq_true rfl, Nat.le_of_ble_eq_true rfl⟩ ⟨by omega, by omega⟩ rfl (Nat.le_of_ble_eq_true rfl)) ?_
      refine z_if_ne (tgt := 43) X dX4_noPlacing_33 (by decide) bI_d (fun c9 => ?_) (fun c9 => ?_)
      · have c9 := Classical.not_not.mp c9
        obtain ⟨kN, kNl, kNh, rfl, e5⟩ := rgb_t (lo := 0) (hi := 6) (by decide) (by decide) ((in32 (lo := nI 0) (hi := nI 6)).mp c9)
        have hqs := hO.2.1 sN (by omega)
        have hqt := hO.2.1 tN (by omega)
        refine z_aload_n X dX4_noPlacing_43 rfl 0 rfl ?_
        refine z_mg0 X hM dX4_noPlacing_44 ?_
        refine z_iload_n X dX4_noPlacing_47 rfl 1 rfl ?_
        refine z_iaN (v := nI (o.2.2.2.1 0 sN)) X dX4_noPlacing_48 (mm_1 hM) (by omega) (by omega) ((hT.2.2.2.1 sN (by omega)).1) ?_
        refine z_iconst (v := nI (2)) X dX4_noPlacing_49 ci2 ?_
        refine z_icmp_eq (tgt := 63) X dX4_noPlacing_50 (by decide) (nI_eq (by omega) (by omega)) (fun c10 => ?_) (fun c10 => ?_)
        · refine z_aload_n X dX4_noPlacing_63 rfl 0 rfl ?_
          refine z_bipush (v := (-3)) X dX4_noPlacing_64 (by decide) ?_
          refine z_ci (z_runV (rest := []) (n := 1) X [.int ((-3))] (m_X4_refuse hM (k := 3) (by decide) (v := (-3)) rfl) dX4_noPlacing_66 (mm_o hM) rfl (lw_V q1546 q1548 qs27 q70 q1549) hv_X4_refuse rfl ⟨Nat.le_of_ble_eq_true rfl, Nat.le_of_ble_eq_true rfl⟩ ⟨by omega, by omega⟩ rfl (Nat.le_of_ble_eq_true rfl)) (fun r11 w13 h12 => ?_)
          obtain ⟨hM12, r11e⟩ := h12
          rw [r11e]
          have hT12 := MT.ref hT (k := 3) (by decide)
          have e : ∀ f : Nat → Nat → Nat → Int32 × OS, plEl o (nI sN) (nI tN) (nI kN) (bad o) f = bad o 3 := by
            intro f
            unfold plEl
            repeat (first | rw [el_some (by assumption)] | rw [el_none (by assumption)] | rw [if_pos (by omega)] | rw [if_neg (by omega)])
            all_goals first | rfl | (exfalso; omega)
          exact z_iret X dX4_noPlacing_69 (by omega) (by omega) ⟨_, rfl, ⟨_, hM12, Or.inl ⟨3, by omega, rfl, hT12, e⟩⟩⟩
        · refine z_aload_n X dX4_noPlacing_53 rfl 0 rfl ?_
          refine z_mg0 X hM dX4_noPlacing_54 ?_
          refine z_iload_n X dX4_noPlacing_57 rfl 2 rfl ?_
          refine z_iaN (v := nI (o.2.2.2.1 0 tN)) X dX4_noPlacing_58 (mm_1 hM) (by omega) (by omega) ((hT.2.2.2.1 tN (by omega)).1) ?_
          refine z_iconst (v := nI (2)) X dX4_noPlacing_59 ci2 ?_
          refine z_icmp_ne (tgt := 70) X dX4_noPlacing_60 (by decide) (nI_eq (by omega) (by omega)) (fun c14 => ?_) (fun c14 => ?_)
          · refine z_aload_n X dX4_noPlacing_70 rfl 0 rfl ?_
            refine z_mg0 X hM dX4_noPlacing_71 ?_
            refine z_iload_n X dX4_noPlacing_74 rfl 1 rfl ?_
            refine z_iaN (v := nI (o.2.2.2.1 0 sN)) X dX4_noPlacing_75 (mm_1 hM) (by omega) (by omega) ((hT.2.2.2.1 sN (by omega)).1) ?_
            refine z_if_eq (tgt := 88) X dX4_noPlacing_76 (by decide) (nz_eq (by omega)) (fun c15 => ?_) (fun c15 => ?_)
            · refine z_aload_n X dX4_noPlacing_88 rfl 0 rfl ?_
              refine z_bipush (v := (-4)) X dX4_noPlacing_89 (by decide) ?_
              refine z_ci (z_runV (rest := []) (n := 1) X [.int ((-4))] (m_X4_refuse hM (k := 4) (by decide) (v := (-4)) rfl) dX4_noPlacing_91 (mm_o hM) rfl (lw_V q1546 q1548 qs27 q70 q1549) hv_X4_refuse rfl ⟨Nat.le_of_ble_eq_true rfl, Nat.le_of_ble_eq_true rfl⟩ ⟨by omega, by omega⟩ rfl (Nat.le_of_ble_eq_true rfl)) (fun r16 w18 h17 => ?_)
              obtain ⟨hM17, r16e⟩ := h17
              rw [r16e]
              have hT17 := MT.ref hT (k := 4) (by decide)
              have e : ∀ f : Nat → Nat → Nat → Int32 × OS, plEl o (nI sN) (nI tN) (nI kN) (bad o) f = bad o 4 := by
                intro f
                unfold plEl
                repeat (first | rw [el_some (by assumption)] | rw [el_none (by assumption)] | rw [if_pos (by omega)] | rw [if_neg (by omega)])
                all_goals first | rfl | (exfalso; omega)
              exact z_iret X dX4_noPlacing_94 (by omega) (by omega) ⟨_, rfl, ⟨_, hM17, Or.inl ⟨4, by omega, rfl, hT17, e⟩⟩⟩
            · refine z_aload_n X dX4_noPlacing_79 rfl 0 rfl ?_
              refine z_mg0 X hM dX4_noPlacing_80 ?_
              refine z_iload_n X dX4_noPlacing_83 rfl 2 rfl ?_
              refine z_iaN (v := nI (o.2.2.2.1 0 tN)) X dX4_noPlacing_84 (mm_1 hM) (by omega) (by omega) ((hT.2.2.2.1 tN (by omega)).1) ?_
              refine z_if_ne (tgt := 95) X dX4_noPlacing_85 (by decide) (nz_eq (by omega)) (fun c19 => ?_) (fun c19 => ?_)
              · refine z_aload_n X dX4_noPlacing_95 rfl 0 rfl ?_
                refine z_iload_n X dX4_noPlacing_96 rfl 1 rfl ?_
                refine z_iload_n X dX4_noPlacing_97 rfl 3 rfl ?_
                refine z_ci (z_runV (rest := []) (n := 2) X [.int (nI (sN)), .int (nI (kN))] (m_X4_areSorts hM hT hO (s := sN) (k := kN) (by omega) (by omega)) dX4_noPlacing_98 (mm_o hM) rfl (lw_V q1834 q1836 qs57 q70 q1837) hv_X4_areSorts rfl ⟨Nat.le_of_ble_eq_true rfl, Nat.le_of_ble_eq_true rfl⟩ ⟨by omega, by omega⟩ rfl (Nat.le_of_ble_eq_true rfl)) (fun r20 w22 h21 => ?_)
                obtain ⟨mv21, hM21, hK21, hQ21⟩ := h21
                have hT21 := hT.K31 hK21
                rcases hQ21 with ⟨hcb, rfl, hca⟩ | ⟨hcb, rfl⟩
                · skip
                  refine z_if_eq_f (tgt := 118) X dX4_noPlacing_101 (by decide) (by decide) ?_
                  refine z_aload_n X dX4_noPlacing_104 rfl 0 rfl ?_
                  refine z_mg2 X hM21 dX4_noPlacing_105 ?_
                  refine z_iload_n X dX4_noPlacing_108 rfl 2 rfl ?_
                  refine z_iaN (v := nI (o.2.2.2.1 2 tN)) X dX4_noPlacing_109 (mm_3 hM21) (by omega) (by omega) ((hT21.2.2.2.1 tN (by omega)).2.2.1) ?_
                  refine z_iload_n X dX4_noPlacing_110 rfl 3 rfl ?_
                  refine z_icmp_lt (tgt := 118) X dX4_noPlacing_111 (by decide) (nI_ltI (by omega) (by omega)) (fun c23 => ?_) (fun c23 => ?_)
                  · refine z_aload_n X dX4_noPlacing_118 rfl 0 rfl ?_
                    refine z_bipush (v := (-2)) X dX4_noPlacing_119 (by decide) ?_
                    refine z_ci (z_runV (rest := []) (n := 1) X [.int ((-2))] (m_X4_refuse hM21 (k := 2) (by decide) (v := (-2)) rfl) dX4_noPlacing_121 (mm_o hM21) rfl (lw_V q1546 q1548 qs27 q70 q1549) hv_X4_refuse rfl ⟨Nat.le_of_ble_eq_true rfl, Nat.le_of_ble_eq_true rfl⟩ ⟨by omega, by omega⟩ rfl (Nat.le_of_ble_eq_true rfl)) (fun r24 w26 h25 => ?_)
                    obtain ⟨hM25, r24e⟩ := h25
                    rw [r24e]
                    have hT25 := MT.ref hT21 (k := 2) (by decide)
                    have e : ∀ f : Nat → Nat → Nat → Int32 × OS, plEl o (nI sN) (nI tN) (nI kN) (bad o) f = bad o 2 := by
                      intro f
                      unfold plEl
                      rw [el_some (by assumption), el_some (by assumption), el_some (by assumption), if_neg (by omega), if_neg (by omega)]
                      exact if_neg (fun q => by omega)
                    exact z_iret X dX4_noPlacing_124 (by omega) (by omega) ⟨_, rfl, ⟨_, hM25, Or.inl ⟨2, by omega, rfl, hT25, e⟩⟩⟩
                  · refine z_iconst (v := nI (0)) X dX4_noPlacing_114 ci0 ?_
                    refine z_goto (tgt := 124) X dX4_noPlacing_115 (by decide) ?_
                    have e : ∀ f : Nat → Nat → Nat → Int32 × OS, plEl o (nI sN) (nI tN) (nI kN) (bad o) f = f sN tN kN := by
                      intro f
                      unfold plEl
                      rw [el_some (by assumption), el_some (by assumption), el_some (by assumption), if_neg (by omega), if_neg (by omega)]
                      exact if_pos ⟨hcb, by omega⟩
                    exact z_iret X dX4_noPlacing_124 (by omega) (by omega) ⟨_, rfl, ⟨_, hM21, Or.inr ⟨sN, tN, kN, by omega, by omega, by omega, by omega, rfl, rfl, rfl, rfl, hT21, hca, e⟩⟩⟩
                · skip
                  refine z_if_eq_t (tgt := 118) X dX4_noPlacing_101 (by decide) (by decide) ?_
                  refine z_aload_n X dX4_noPlacing_118 rfl 0 rfl ?_
                  refine z_bipush (v := (-2)) X dX4_noPlacing_119 (by decide) ?_
                  refine z_ci (z_runV (rest := []) (n := 1) X [.int ((-2))] (m_X4_refuse hM21 (k := 2) (by decide) (v := (-2)) rfl) dX4_noPlacing_121 (mm_o hM21) rfl (lw_V q1546 q1548 qs27 q70 q1549) hv_X4_refuse rfl ⟨Nat.le_of_ble_eq_true rfl, Nat.le_of_ble_eq_true rfl⟩ ⟨by omega, by omega⟩ rfl (Nat.le_of_ble_eq_true rfl)) (fun r27 w29 h28 => ?_)
                  obtain ⟨hM28, r27e⟩ := h28
                  rw [r27e]
                  have hT28 := MT.ref hT21 (k := 2) (by decide)
                  have e : ∀ f : Nat → Nat → Nat → Int32 × OS, plEl o (nI sN) (nI tN) (nI kN) (bad o) f = bad o 2 := by
                    intro f
                    unfold plEl
                    rw [el_some (by assumption), el_some (by assumption), el_some (by assumption), if_neg (by omega), if_neg (by omega)]
                    exact if_neg (fun q => ts_n hcb q.1)
                  exact z_iret X dX4_noPlacing_124 (by omega) (by omega) ⟨_, rfl, ⟨_, hM28, Or.inl ⟨2, by omega, rfl, hT28, e⟩⟩⟩
              · refine z_aload_n X dX4_noPlacing_88 rfl 0 rfl ?_
                refine z_bipush (v := (-4)) X dX4_noPlacing_89 (by decide) ?_
                refine z_ci (z_runV (rest := []) (n := 1) X [.int ((-4))] (m_X4_refuse hM (k := 4) (by decide) (v := (-4)) rfl) dX4_noPlacing_91 (mm_o hM) rfl (lw_V q1546 q1548 qs27 q70 q1549) hv_X4_refuse rfl ⟨Nat.le_of_ble_eq_true rfl, Nat.le_of_ble_eq_true rfl⟩ ⟨by omega, by omega⟩ rfl (Nat.le_of_ble_eq_true rfl)) (fun r30 w32 h31 => ?_)
                obtain ⟨hM31, r30e⟩ := h31
                rw [r30e]
                have hT31 := MT.ref hT (k := 4) (by decide)
                have e : ∀ f : Nat → Nat → Nat → Int32 × OS, plEl o (nI sN) (nI tN) (nI kN) (bad o) f = bad o 4 := by
                  intro f
                  unfold plEl
                  repeat (first | rw [el_some (by assumption)] | rw [el_none (by assumption)] | rw [if_pos (by omega)] | rw [if_neg (by omega)])
                  all_goals first | rfl | (exfalso; omega)
                exact z_iret X dX4_noPlacing_94 (by omega) (by omega) ⟨_, rfl, ⟨_, hM31, Or.inl ⟨4, by omega, rfl, hT31, e⟩⟩⟩
          · refine z_aload_n X dX4_noPlacing_63 rfl 0 rfl ?_
            refine z_bipush (v := (-3)) X dX4_noPlacing_64 (by decide) ?_
            refine z_ci (z_runV (rest := []) (n := 1) X [.int ((-3))] (m_X4_refuse hM (k := 3) (by decide) (v := (-3)) rfl) dX4_noPlacing_66 (mm_o hM) rfl (lw_V q1546 q1548 qs27 q70 q1549) hv_X4_refuse rfl ⟨Nat.le_of_ble_eq_true rfl, Nat.le_of_ble_eq_true rfl⟩ ⟨by omega, by omega⟩ rfl (Nat.le_of_ble_eq_true rfl)) (fun r33 w35 h34 => ?_)
            obtain ⟨hM34, r33e⟩ := h34
            rw [r33e]
            have hT34 := MT.ref hT (k := 3) (by decide)
            have e : ∀ f : Nat → Nat → Nat → Int32 × OS, plEl o (nI sN) (nI tN) (nI kN) (bad o) f = bad o 3 := by
              intro f
              unfold plEl
              repeat (first | rw [el_some (by assumption)] | rw [el_none (by assumption)] | rw [if_pos (by omega)] | rw [if_neg (by omega)])
              all_goals first | rfl | (exfalso; omega)
            exact z_iret X dX4_noPlacing_69 (by omega) (by omega) ⟨_, rfl, ⟨_, hM34, Or.inl ⟨3, by omega, rfl, hT34, e⟩⟩⟩
      · have e6 : rgb 0 6 k = none := rgb_f (fun q => c9 ((in32 (lo := nI 0) (hi := nI 6)).mpr q))
        refine z_aload_n X dX4_noPlacing_36 rfl 0 rfl ?_
        refine z_bipush (v := (-2)) X dX4_noPlacing_37 (by decide) ?_
        refine z_ci (z_runV (rest := []) (n := 1) X [.int ((-2))] (m_X4_refuse hM (k := 2) (by decide) (v := (-2)) rfl) dX4_noPlacing_39 (mm_o hM) rfl (lw_V q1546 q1548 qs27 q70 q1549) hv_X4_refuse rfl ⟨Nat.le_of_ble_eq_true rfl, Nat.le_of_ble_eq_true rfl⟩ ⟨by omega, by omega⟩ rfl (Nat.le_of_ble_eq_true rfl)) (fun r36 w38 h37 => ?_)
        obtain ⟨hM37, r36e⟩ := h37
        rw [r36e]
        have hT37 := MT.ref hT (k := 2) (by decide)
        have e : ∀ f : Nat → Nat → Nat → Int32 × OS, plEl o (nI sN) (nI tN) k (bad o) f = bad o 2 := by
          intro f
          unfold plEl
          repeat (first | rw [el_some (by assumption)] | rw [el_none (by assumption)] | rw [if_pos (by omega)] | rw [if_neg (by omega)])
          all_goals first | rfl | (exfalso; omega)
        exact z_iret X dX4_noPlacing_42 (by omega) (by omega) ⟨_, rfl, ⟨_, hM37, Or.inl ⟨2, by omega, rfl, hT37, e⟩⟩⟩
