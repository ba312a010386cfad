/-! THE MODEL: the tape is fed, rows are copied, sorts of a row -/
set_option maxRecDepth 100000
set_option maxHeartbeats 2000000 in
theorem m_X4_feed {l : Launch} {G : GG} {wb w : GW} {ad : Nat → Nat} {m : MSt} (hM : MM G wb w ad m) {o : OS} (hT : MT o m) (hO : oInv o) {v n : Int32} : gM l G yX4_feed cX4_feed 4 (some .int) 2 0 0 [.ref (ad 0), .int (v), .int (n)] w (pI (fun r w1 => ∃ m2, MM G wb w1 ad m2 ∧ MT (spFeed o v n).2 m2 ∧ r = (spFeed o v n).1)) := by
  refine Z.met (own := "ThreeSizesModel") (nm := "feed") (lv := [(0, .ref (ad 0)), (1, .int (v)), (2, .int (n))]) (by decide) rfl rfl (Nat.le_of_ble_eq_true rfl) rfl (fun κ X => ?_)
  have hI := hO.1
  have h6 := hI.2.1
  have ht200 := hO.2.2.2
  refine z_iload_n X dX4_feed_0 rfl 2 rfl ?_
  refine z_i2l (v := (n).toInt64) X dX4_feed_1 rfl ?_
  refine z_lconst (v := lN 1) X dX4_feed_2 cl1 ?_
  refine z_ldc2 X dX4_feed_3 q1544 ?_
  refine z_cip (z_runS (rest := []) (n := 3) X [.long ((n).toInt64), .long (lN (1)), .long ((4))] m_X4_in dX4_feed_6 (lw_S q1541 q1542 q70 q1543) hs_X4_in rfl ⟨Nat.le_of_ble_eq_true rfl, Nat.le_of_ble_eq_true rfl⟩ ⟨by omega, by omega⟩ rfl (Nat.le_of_ble_eq_true rfl)) ?_
  refine z_if_ne (tgt := 19) X dX4_feed_9 (by decide) bI_d (fun c1 => ?_) (fun c1 => ?_)
  · have c1 := Classical.not_not.mp c1
    obtain ⟨nN, nNl, nNh, rfl, e1⟩ := rgb_t (lo := 1) (hi := 4) (by decide) (by decide) ((in32 (lo := nI 1) (hi := nI 4)).mp c1)
    refine z_iload_n X dX4_feed_19 rfl 2 rfl ?_
    refine z_sipush (v := nI (200)) X dX4_feed_20 (by decide) ?_
    refine z_aload_n X dX4_feed_23 rfl 0 rfl ?_
    refine z_mgv8 X hM dX4_feed_24 hT.2.2.2.2.2.2.1 ?_
    refine z_isub (v := nI (200 - o.2.2.2.2.2.2.1)) X dX4_feed_27 (pk_sub (by omega)) ?_
    refine z_icmp_le (tgt := 38) X dX4_feed_28 (by decide) (nI_leI (by omega) (by omega)) (fun c2 => ?_) (fun c2 => ?_)
    · refine z_iload_n X dX4_feed_38 rfl 2 rfl ?_
      refine z_iconst (v := nI (1)) X dX4_feed_39 ci1 ?_
      refine z_isub (v := nI nN - nI 1) X dX4_feed_40 rfl ?_
      refine z_istore_n (lv2 := [(3, .int (nI nN - nI 1)), (0, .ref (ad 0)), (1, .int (v)), (2, .int (nI (nN)))]) X dX4_feed_41 rfl (Nat.le_of_ble_eq_true rfl) rfl ?_
      have lf : ∀ (lq i : Nat) (w2 : GW) (m2 : MSt) (t : Nat → Nat) (sz : Nat), i + lq = nN → sz + lq = o.2.2.2.2.2.2.1 + nN → MM G wb w2 ad m2 → MT (oTape o t sz) m2 → (fedTo t sz v lq).1 = (fedTo o.2.2.2.2.2.1 o.2.2.2.2.2.2.1 v nN).1 → Z κ w2 [(3, .int (nI lq - nI 1)), (0, .ref (ad 0)), (1, .int (v)), (2, .int (nI (nN)))] 0 0 42 [] := by
        intro lq
        induction lq with
        | zero =>
          intro i w2 m2 t sz lh hsz hM2 hT2x hfd
          have h8 : m2.2.2.1 8 = nI sz := hT2x.2.2.2.2.2.2.1
          refine z_iload_n X dX4_feed_42 rfl 0 rfl ?_
          refine z_if_lt_t (tgt := 78) X dX4_feed_43 (by decide) (by decide) ?_
          refine z_aload_n X dX4_feed_78 rfl 1 rfl ?_
          refine z_mgv8 X hM2 dX4_feed_79 h8 ?_
          obtain rfl : sz = o.2.2.2.2.2.2.1 + nN := by omega
          have hT7 : MT (oTape o (fedTo o.2.2.2.2.2.1 o.2.2.2.2.2.2.1 v nN).1 (o.2.2.2.2.2.2.1 + nN)) m2 := by rw [← hfd]; exact hT2x
          have e : spFeed o v (nI nN) = (nI (o.2.2.2.2.2.2.1 + nN), oTape o (fedTo o.2.2.2.2.2.1 o.2.2.2.2.2.2.1 v nN).1 (o.2.2.2.2.2.2.1 + nN)) := by
            unfold spFeed
            repeat (first | rw [el_some (by assumption)] | rw [el_none (by assumption)] | rw [if_pos (by omega)] | rw [if_neg (by omega)] | rw [if_pos (by assumption)] | rw [if_neg (ts_n (by assumption))])
            all_goals first | rfl | (exfalso; omega)
          exact z_iret X dX4_feed_82 (by omega) (by omega) ⟨_, rfl, (by rw [e]; exact ⟨_, hM2, hT7, rfl⟩)⟩
        | succ lq ih =>
          intro i w2 m2 t sz lh hsz hM2 hT2x hfd
          have h8 : m2.2.2.1 8 = nI sz := hT2x.2.2.2.2.2.2.1
          rw [show nI (lq + 1) - nI 1 = nI lq from nI_pred lq]
          refine z_iload_n X dX4_feed_42 rfl 0 rfl ?_
          refine z_if_lt_f (tgt := 78) X dX4_feed_43 (by decide) (fun h => nI_pos (by omega) h) ?_
          refine z_aload_n X dX4_feed_46 rfl 1 rfl ?_
          refine z_mg7 X hM2 dX4_feed_47 ?_
          refine z_aload_n X dX4_feed_50 rfl 1 rfl ?_
          refine z_dup X dX4_feed_51 rfl ?_
          refine z_mgv8 X hM2 dX4_feed_52 h8 ?_
          refine z_dup_x1 X dX4_feed_55 rfl rfl ?_
          refine z_iconst (v := nI (1)) X dX4_feed_56 ci1 ?_
          refine z_iadd (v := nI (sz + 1)) X dX4_feed_57 (nI_add _ _) ?_
          refine z_mp8 X hM2 dX4_feed_58 (fun u3 hM3 => ?_)
          refine z_iload_n X dX4_feed_61 rfl 2 rfl ?_
          refine z_bipush (v := nI (8)) X dX4_feed_62 (by decide) ?_
          refine z_iload_n X dX4_feed_64 rfl 0 rfl ?_
          refine z_imul (v := nI (8 * lq)) X dX4_feed_65 (pk_mul _ _) ?_
          refine z_ishr (v := v >>> ((nI (8 * lq)) &&& 31)) X dX4_feed_66 rfl ?_
          refine z_sipush (v := nI (255)) X dX4_feed_67 (by decide) ?_
          refine z_iand (v := nI (byteN v lq)) X dX4_feed_70 byte_is ?_
          refine z_mst (n := 200) (j := sz) X hM3 8 dX4_feed_71 rfl rfl rfl (by omega) (by omega) (fun u4 hM4 => ?_)
          refine z_iinc (v := nI lq - nI 1) (lv2 := [(3, .int (nI lq - nI 1)), (0, .ref (ad 0)), (1, .int (v)), (2, .int (nI (nN)))]) X dX4_feed_72 0 rfl (dec1 _) (Nat.le_of_ble_eq_true rfl) rfl ?_
          refine z_goto (tgt := 42) X dX4_feed_75 (by decide) ?_
          exact ih (i + 1) _ _ (fun x => if x = sz then byteN v lq else t x) (sz + 1) (by omega) (by omega) hM4 hT2x.feed hfd
      exact lf nN 0 w m o.2.2.2.2.2.1 o.2.2.2.2.2.2.1 (by omega) (by omega) hM hT rfl
    · refine z_aload_n X dX4_feed_31 rfl 0 rfl ?_
      refine z_bipush (v := (-6)) X dX4_feed_32 (by decide) ?_
      refine z_ci (z_runV (rest := []) (n := 1) X [.int ((-6))] (m_X4_refuse hM (k := 6) (by decide) (v := (-6)) rfl) dX4_feed_34 (mm_o hM) rfl (lw_V q1546 q1548 qs27 q70 q1549) hv_X4_refuse rfl ⟨Nat.le_of_ble_eq_true rfl, Nat.le_of_ble_eq_true rfl⟩ ⟨by omega, by omega⟩ rfl (Nat.le_of_ble_eq_true rfl)) (fun r5 w7 h6 => ?_)
      obtain ⟨hM6, r5e⟩ := h6
      rw [r5e]
      have hT6 := MT.ref hT (k := 6) (by decide)
      have e : spFeed o v (nI nN) = ((-6), oRef o 6) := by
        unfold spFeed
        repeat (first | rw [el_some (by assumption)] | rw [el_none (by assumption)] | rw [if_pos (by omega)] | rw [if_neg (by omega)] | rw [if_pos (by assumption)] | rw [if_neg (ts_n (by assumption))])
        all_goals first | rfl | (exfalso; omega)
      exact z_iret X dX4_feed_37 (by omega) (by omega) ⟨_, rfl, (by rw [e]; exact ⟨_, hM6, hT6, rfl⟩)⟩
  · have e2 : rgb 1 4 n = none := rgb_f (fun q => c1 ((in32 (lo := nI 1) (hi := nI 4)).mpr q))
    refine z_aload_n X dX4_feed_12 rfl 0 rfl ?_
    refine z_bipush (v := (-2)) X dX4_feed_13 (by decide) ?_
    refine z_ci (z_runV (rest := []) (n := 1) X [.int ((-2))] (m_X4_refuse hM (k := 2) (by decide) (v := (-2)) rfl) dX4_feed_15 (mm_o hM) rfl (lw_V q1546 q1548 qs27 q70 q1549) hv_X4_refuse rfl ⟨Nat.le_of_ble_eq_true rfl, Nat.le_of_ble_eq_true rfl⟩ ⟨by omega, by omega⟩ rfl (Nat.le_of_ble_eq_true rfl)) (fun r8 w10 h9 => ?_)
    obtain ⟨hM9, r8e⟩ := h9
    rw [r8e]
    have hT9 := MT.ref hT (k := 2) (by decide)
    have e : spFeed o v n = ((-2), oRef o 2) := by
      unfold spFeed
      repeat (first | rw [el_some (by assumption)] | rw [el_none (by assumption)] | rw [if_pos (by omega)] | rw [if_neg (by omega)] | rw [if_pos (by assumption)] | rw [if_neg (ts_n (by assumption))])
      all_goals first | rfl | (exfalso; omega)
    exact z_iret X dX4_feed_18 (by omega) (by omega) ⟨_, rfl, (by rw [e]; exact ⟨_, hM9, hT9, rfl⟩)⟩
theorem cpy_step {f g : Nat → Int64} {m : MSt} {c i j k : Nat} (h : ∀ x, x < 40 → m.2.1 c x = cpyV f g i j k x) (hj : j + k < 40) : ∀ x, x < 40 → (mL m c (j + k) (f (i + k))).2.1 c x = cpyV f g i j (k + 1) x := by
  intro x hx
  rw [mL_own]
  unfold cpyV
  by_cases q : x = j + k
  · subst q; rw [pk_uLs, if_pos (by omega)]; congr 1; omega
  · rw [pk_uLn q, h x hx]
    unfold cpyV
    by_cases z : j ≤ x ∧ x < j + k
    · rw [if_pos z, if_pos (by omega)]
    · rw [if_neg z, if_neg (by omega)]
theorem rgb_any (k : Nat) : rgb 0 40 (nI k) = some (tn (nI k)) ∨ rgb 0 40 (nI k) = none := by
  unfold rgb
  by_cases h : nI 0 ≤ nI k ∧ nI k ≤ nI 40
  · left; rw [if_pos h]
  · right; rw [if_neg h]
set_option maxHeartbeats 2000000 in
theorem m_X4_copy {l : Launch} {G : GG} {wb w : GW} {ad : Nat → Nat} {m : MSt} (hM : MM G wb w ad m) {o : OS} (hT : MT o m) (hO : oInv o) {p q i j n : Int32} : gM l G yX4_copy cX4_copy 7 (some .int) 2 0 0 [.ref (ad 0), .int (p), .int (q), .int (i), .int (j), .int (n)] w (pI (fun r w1 => ∃ m2, MM G wb w1 ad m2 ∧ MT (spCopy o p q i j n).2 m2 ∧ r = (spCopy o p q i j n).1)) := by
  refine Z.met (own := "ThreeSizesModel") (nm := "copy") (lv := [(0, .ref (ad 0)), (1, .int (p)), (2, .int (q)), (3, .int (i)), (4, .int (j)), (5, .int (n))]) (by decide) rfl rfl (Nat.le_of_ble_eq_true rfl) rfl (fun κ X => ?_)
  have hI := hO.1
  have h6 := hI.2.1
  have ht200 := hO.2.2.2
  refine z_iload_n X dX4_copy_0 rfl 1 rfl ?_
  refine z_i2l (v := (p).toInt64) X dX4_copy_1 rfl ?_
  refine z_lconst (v := lN 0) X dX4_copy_2 cl0 ?_
  refine z_ldc2 X dX4_copy_3 q1540 ?_
  refine z_cip (z_runS (rest := []) (n := 3) X [.long ((p).toInt64), .long (lN (0)), .long ((7))] m_X4_in dX4_copy_6 (lw_S q1541 q1542 q70 q1543) hs_X4_in rfl ⟨Nat.le_of_ble_eq_true rfl, Nat.le_of_ble_eq_true rfl⟩ ⟨by omega, by omega⟩ rfl (Nat.le_of_ble_eq_true rfl)) ?_
  refine z_if_eq (tgt := 24) X dX4_copy_9 (by decide) bI_d (fun c1 => ?_) (fun c1 => ?_)
  · have e1 : rgb 0 7 p = none := rgb_f (fun q => c1 ((in32 (lo := nI 0) (hi := nI 7)).mpr q))
    refine z_aload_n X dX4_copy_24 rfl 0 rfl ?_
    refine z_bipush (v := (-2)) X dX4_copy_25 (by decide) ?_
    refine z_ci (z_runV (rest := []) (n := 1) X [.int ((-2))] (m_X4_refuse hM (k := 2) (by decide) (v := (-2)) rfl) dX4_copy_27 (mm_o hM) rfl (lw_V q1546 q1548 qs27 q70 q1549) hv_X4_refuse rfl ⟨Nat.le_of_ble_eq_true rfl, Nat.le_of_ble_eq_true rfl⟩ ⟨by omega, by omega⟩ rfl (Nat.le_of_ble_eq_true rfl)) (fun r2 w4 h3 => ?_)
    obtain ⟨hM3, r2e⟩ := h3
    rw [r2e]
    have hT3 := MT.ref hT (k := 2) (by decide)
    have e : spCopy o p q i j n = ((-2), oRef o 2) := by
      unfold spCopy
      repeat (first | rw [el_some (by assumption)] | rw [el_none (by assumption)] | rw [if_pos (by omega)] | rw [if_neg (by omega)] | rw [if_pos (by assumption)] | rw [if_neg (ts_n (by assumption))])
      all_goals first | rfl | (exfalso; omega)
    exact z_iret X dX4_copy_30 (by omega) (by omega) ⟨_, rfl, (by rw [e]; exact ⟨_, hM3, hT3, rfl⟩)⟩
  · have c1 := Classical.not_not.mp c1
    obtain ⟨pN, pNl, pNh, rfl, e2⟩ := rgb_t (lo := 0) (hi := 7) (by decide) (by decide) ((in32 (lo := nI 0) (hi := nI 7)).mp c1)
    refine z_iload_n X dX4_copy_12 rfl 2 rfl ?_
    refine z_i2l (v := (q).toInt64) X dX4_copy_13 rfl ?_
    refine z_lconst (v := lN 0) X dX4_copy_14 cl0 ?_
    refine z_ldc2 X dX4_copy_15 q1540 ?_
    refine z_cip (z_runS (rest := []) (n := 3) X [.long ((q).toInt64), .long (lN (0)), .long ((7))] m_X4_in dX4_copy_18 (lw_S q1541 q1542 q70 q1543) hs_X4_in rfl ⟨Nat.le_of_ble_eq_true rfl, Nat.le_of_ble_eq_true rfl⟩ ⟨by omega, by omega⟩ rfl (Nat.le_of_ble_eq_true rfl)) ?_
    refine z_if_ne (tgt := 31) X dX4_copy_21 (by decide) bI_d (fun c5 => ?_) (fun c5 => ?_)
    · have c5 := Classical.not_not.mp c5
      obtain ⟨qN, qNl, qNh, rfl, e3⟩ := rgb_t (lo := 0) (hi := 7) (by decide) (by decide) ((in32 (lo := nI 0) (hi := nI 7)).mp c5)
      have hqp := hO.2.1 pN (by omega)
      have hqq := hO.2.1 qN (by omega)
      refine z_aload_n X dX4_copy_31 rfl 0 rfl ?_
      refine z_mg0 X hM dX4_copy_32 ?_
      refine z_iload_n X dX4_copy_35 rfl 1 rfl ?_
      refine z_iaN (v := nI (o.2.2.2.1 0 pN)) X dX4_copy_36 (mm_1 hM) (by omega) (by omega) ((hT.2.2.2.1 pN (by omega)).1) ?_
      refine z_iconst (v := nI (2)) X dX4_copy_37 ci2 ?_
      refine z_icmp_eq (tgt := 86) X dX4_copy_38 (by decide) (nI_eq (by omega) (by omega)) (fun c6 => ?_) (fun c6 => ?_)
      · refine z_aload_n X dX4_copy_86 rfl 0 rfl ?_
        refine z_bipush (v := (-3)) X dX4_copy_87 (by decide) ?_
        refine z_ci (z_runV (rest := []) (n := 1) X [.int ((-3))] (m_X4_refuse hM (k := 3) (by decide) (v := (-3)) rfl) dX4_copy_89 (mm_o hM) rfl (lw_V q1546 q1548 qs27 q70 q1549) hv_X4_refuse rfl ⟨Nat.le_of_ble_eq_true rfl, Nat.le_of_ble_eq_true rfl⟩ ⟨by omega, by omega⟩ rfl (Nat.le_of_ble_eq_true rfl)) (fun r7 w9 h8 => ?_)
        obtain ⟨hM8, r7e⟩ := h8
        rw [r7e]
        have hT8 := MT.ref hT (k := 3) (by decide)
        have e : spCopy o (nI pN) (nI qN) i j n = ((-3), oRef o 3) := by
          unfold spCopy
          repeat (first | rw [el_some (by assumption)] | rw [el_none (by assumption)] | rw [if_pos (by omega)] | rw [if_neg (by omega)] | rw [if_pos (by assumption)] | rw [if_neg (ts_n (by assumption))])
          all_goals first | rfl | (exfalso; omega)
        exact z_iret X dX4_copy_92 (by omega) (by omega) ⟨_, rfl, (by rw [e]; exact ⟨_, hM8, hT8, rfl⟩)⟩
      · refine z_aload_n X dX4_copy_41 rfl 0 rfl ?_
        refine z_mg0 X hM dX4_copy_42 ?_
        refine z_iload_n X dX4_copy_45 rfl 2 rfl ?_
        refine z_iaN (v := nI (o.2.2.2.1 0 qN)) X dX4_copy_46 (mm_1 hM) (by omega) (by omega) ((hT.2.2.2.1 qN (by omega)).1) ?_
        refine z_iconst (v := nI (2)) X dX4_copy_47 ci2 ?_
        refine z_icmp_eq (tgt := 86) X dX4_copy_48 (by decide) (nI_eq (by omega) (by omega)) (fun c10 => ?_) (fun c10 => ?_)
        · refine z_aload_n X dX4_copy_86 rfl 0 rfl ?_
          refine z_bipush (v := (-3)) X dX4_copy_87 (by decide) ?_
          refine z_ci (z_runV (rest := []) (n := 1) X [.int ((-3))] (m_X4_refuse hM (k := 3) (by decide) (v := (-3)) rfl) dX4_copy_89 (mm_o hM) rfl (lw_V q1546 q1548 qs27 q70 q1549) hv_X4_refuse rfl ⟨Nat.le_of_ble_eq_true rfl, Nat.le_of_ble_eq_true rfl⟩ ⟨by omega, by omega⟩ rfl (Nat.le_of_ble_eq_true rfl)) (fun r11 w13 h12 => ?_)
          obtain ⟨hM12, r11e⟩ := h12
          rw [r11e]
          have hT12 := MT.ref hT (k := 3) (by decide)
          have e : spCopy o (nI pN) (nI qN) i j n = ((-3), oRef o 3) := by
            unfold spCopy
            repeat (first | rw [el_some (by assumption)] | rw [el_none (by assumption)] | rw [if_pos (by omega)] | rw [if_neg (by omega)] | rw [if_pos (by assumption)] | rw [if_neg (ts_n (by assumption))])
            all_goals first | rfl | (exfalso; omega)
          exact z_iret X dX4_copy_92 (by omega) (by omega) ⟨_, rfl, (by rw [e]; exact ⟨_, hM12, hT12, rfl⟩)⟩
        · refine z_aload_n X dX4_copy_51 rfl 0 rfl ?_
          refine z_mg0 X hM dX4_copy_52 ?_
          refine z_iload_n X dX4_copy_55 rfl 1 rfl ?_
          refine z_iaN (v := nI (o.2.2.2.1 0 pN)) X dX4_copy_56 (mm_1 hM) (by omega) (by omega) ((hT.2.2.2.1 pN (by omega)).1) ?_
          refine z_iconst (v := nI (1)) X dX4_copy_57 ci1 ?_
          refine z_icmp_ne (tgt := 93) X dX4_copy_58 (by decide) (nI_eq (by omega) (by omega)) (fun c14 => ?_) (fun c14 => ?_)
          · refine z_aload_n X dX4_copy_93 rfl 0 rfl ?_
            refine z_mg0 X hM dX4_copy_94 ?_
            refine z_iload_n X dX4_copy_97 rfl 1 rfl ?_
            refine z_iaN (v := nI (o.2.2.2.1 0 pN)) X dX4_copy_98 (mm_1 hM) (by omega) (by omega) ((hT.2.2.2.1 pN (by omega)).1) ?_
            refine z_if_eq (tgt := 111) X dX4_copy_99 (by decide) (nz_eq (by omega)) (fun c15 => ?_) (fun c15 => ?_)
            · refine z_aload_n X dX4_copy_111 rfl 0 rfl ?_
              refine z_bipush (v := (-4)) X dX4_copy_112 (by decide) ?_
              refine z_ci (z_runV (rest := []) (n := 1) X [.int ((-4))] (m_X4_refuse hM (k := 4) (by decide) (v := (-4)) rfl) dX4_copy_114 (mm_o hM) rfl (lw_V q1546 q1548 qs27 q70 q1549) hv_X4_refuse rfl ⟨Nat.le_of_ble_eq_true rfl, Nat.le_of_ble_eq_true rfl⟩ ⟨by omega, by omega⟩ rfl (Nat.le_of_ble_eq_true rfl)) (fun r16 w18 h17 => ?_)
              obtain ⟨hM17, r16e⟩ := h17
              rw [r16e]
              have hT17 := MT.ref hT (k := 4) (by decide)
              have e : spCopy o (nI pN) (nI qN) i j n = ((-4), oRef o 4) := by
                unfold spCopy
                repeat (first | rw [el_some (by assumption)] | rw [el_none (by assumption)] | rw [if_pos (by omega)] | rw [if_neg (by omega)] | rw [if_pos (by assumption)] | rw [if_neg (ts_n (by assumption))])
                all_goals first | rfl | (exfalso; omega)
              exact z_iret X dX4_copy_117 (by omega) (by omega) ⟨_, rfl, (by rw [e]; exact ⟨_, hM17, hT17, rfl⟩)⟩
            · refine z_aload_n X dX4_copy_102 rfl 0 rfl ?_
              refine z_mg0 X hM dX4_copy_103 ?_
              refine z_iload_n X dX4_copy_106 rfl 2 rfl ?_
              refine z_iaN (v := nI (o.2.2.2.1 0 qN)) X dX4_copy_107 (mm_1 hM) (by omega) (by omega) ((hT.2.2.2.1 qN (by omega)).1) ?_
              refine z_if_ne (tgt := 118) X dX4_copy_108 (by decide) (nz_eq (by omega)) (fun c19 => ?_) (fun c19 => ?_)
              · exfalso
                omega
              · refine z_aload_n X dX4_copy_111 rfl 0 rfl ?_
                refine z_bipush (v := (-4)) X dX4_copy_112 (by decide) ?_
                refine z_ci (z_runV (rest := []) (n := 1) X [.int ((-4))] (m_X4_refuse hM (k := 4) (by decide) (v := (-4)) rfl) dX4_copy_114 (mm_o hM) rfl (lw_V q1546 q1548 qs27 q70 q1549) hv_X4_refuse rfl ⟨Nat.le_of_ble_eq_true rfl, Nat.le_of_ble_eq_true rfl⟩ ⟨by omega, by omega⟩ rfl (Nat.le_of_ble_eq_true rfl)) (fun r20 w22 h21 => ?_)
                obtain ⟨hM21, r20e⟩ := h21
                rw [r20e]
                have hT21 := MT.ref hT (k := 4) (by decide)
                have e : spCopy o (nI pN) (nI qN) i j n = ((-4), oRef o 4) := by
                  unfold spCopy
                  repeat (first | rw [el_some (by assumption)] | rw [el_none (by assumption)] | rw [if_pos (by omega)] | rw [if_neg (by omega)] | rw [if_pos (by assumption)] | rw [if_neg (ts_n (by assumption))])
                  all_goals first | rfl | (exfalso; omega)
                exact z_iret X dX4_copy_117 (by omega) (by omega) ⟨_, rfl, (by rw [e]; exact ⟨_, hM21, hT21, rfl⟩)⟩
          · refine z_aload_n X dX4_copy_61 rfl 0 rfl ?_
            refine z_mg0 X hM dX4_copy_62 ?_
            refine z_iload_n X dX4_copy_65 rfl 2 rfl ?_
            refine z_iaN (v := nI (o.2.2.2.1 0 qN)) X dX4_copy_66 (mm_1 hM) (by omega) (by omega) ((hT.2.2.2.1 qN (by omega)).1) ?_
            refine z_iconst (v := nI (1)) X dX4_copy_67 ci1 ?_
            refine z_icmp_ne (tgt := 93) X dX4_copy_68 (by decide) (nI_eq (by omega) (by omega)) (fun c23 => ?_) (fun c23 => ?_)
            · refine z_aload_n X dX4_copy_93 rfl 0 rfl ?_
              refine z_mg0 X hM dX4_copy_94 ?_
              refine z_iload_n X dX4_copy_97 rfl 1 rfl ?_
              refine z_iaN (v := nI (o.2.2.2.1 0 pN)) X dX4_copy_98 (mm_1 hM) (by omega) (by omega) ((hT.2.2.2.1 pN (by omega)).1) ?_
              refine z_if_eq (tgt := 111) X dX4_copy_99 (by decide) (nz_eq (by omega)) (fun c24 => ?_) (fun c24 => ?_)
              · refine z_aload_n X dX4_copy_111 rfl 0 rfl ?_
                refine z_bipush (v := (-4)) X dX4_copy_112 (by decide) ?_
                refine z_ci (z_runV (rest := []) (n := 1) X [.int ((-4))] (m_X4_refuse hM (k := 4) (by decide) (v := (-4)) rfl) dX4_copy_114 (mm_o hM) rfl (lw_V q1546 q1548 qs27 q70 q1549) hv_X4_refuse rfl ⟨Nat.le_of_ble_eq_true rfl, Nat.le_of_ble_eq_true rfl⟩ ⟨by omega, by omega⟩ rfl (Nat.le_of_ble_eq_true rfl)) (fun r25 w27 h26 => ?_)
                obtain ⟨hM26, r25e⟩ := h26
                rw [r25e]
                have hT26 := MT.ref hT (k := 4) (by decide)
                have e : spCopy o (nI pN) (nI qN) i j n = ((-4), oRef o 4) := by
                  unfold spCopy
                  repeat (first | rw [el_some (by assumption)] | rw [el_none (by assumption)] | rw [if_pos (by omega)] | rw [if_neg (by omega)] | rw [if_pos (by assumption)] | rw [if_neg (ts_n (by assumption))])
                  all_goals first | rfl | (exfalso; omega)
                exact z_iret X dX4_copy_117 (by omega) (by omega) ⟨_, rfl, (by rw [e]; exact ⟨_, hM26, hT26, rfl⟩)⟩
              · refine z_aload_n X dX4_copy_102 rfl 0 rfl ?_
                refine z_mg0 X hM dX4_copy_103 ?_
                refine z_iload_n X dX4_copy_106 rfl 2 rfl ?_
                refine z_iaN (v := nI (o.2.2.2.1 0 qN)) X dX4_copy_107 (mm_1 hM) (by omega) (by omega) ((hT.2.2.2.1 qN (by omega)).1) ?_
                refine z_if_ne (tgt := 118) X dX4_copy_108 (by decide) (nz_eq (by omega)) (fun c28 => ?_) (fun c28 => ?_)
                · exfalso
                  omega
                · refine z_aload_n X dX4_copy_111 rfl 0 rfl ?_
                  refine z_bipush (v := (-4)) X dX4_copy_112 (by decide) ?_
                  refine z_ci (z_runV (rest := []) (n := 1) X [.int ((-4))] (m_X4_refuse hM (k := 4) (by decide) (v := (-4)) rfl) dX4_copy_114 (mm_o hM) rfl (lw_V q1546 q1548 qs27 q70 q1549) hv_X4_refuse rfl ⟨Nat.le_of_ble_eq_true rfl, Nat.le_of_ble_eq_true rfl⟩ ⟨by omega, by omega⟩ rfl (Nat.le_of_ble_eq_true rfl)) (fun r29 w31 h30 => ?_)
                  obtain ⟨hM30, r29e⟩ := h30
                  rw [r29e]
                  have hT30 := MT.ref hT (k := 4) (by decide)
                  have e : spCopy o (nI pN) (nI qN) i j n = ((-4), oRef o 4) := by
                    unfold spCopy
                    repeat (first | rw [el_some (by assumption)] | rw [el_none (by assumption)] | rw [if_pos (by omega)] | rw [if_neg (by omega)] | rw [if_pos (by assumption)] | rw [if_neg (ts_n (by assumption))])
                    all_goals first | rfl | (exfalso; omega)
                  exact z_iret X dX4_copy_117 (by omega) (by omega) ⟨_, rfl, (by rw [e]; exact ⟨_, hM30, hT30, rfl⟩)⟩
            · refine z_aload_n X dX4_copy_71 rfl 0 rfl ?_
              refine z_mg1 X hM dX4_copy_72 ?_
              refine z_iload_n X dX4_copy_75 rfl 1 rfl ?_
              refine z_iaN (v := nI (o.2.2.2.1 1 pN)) X dX4_copy_76 (mm_2 hM) (by omega) (by omega) ((hT.2.2.2.1 pN (by omega)).2.1) ?_
              refine z_aload_n X dX4_copy_77 rfl 0 rfl ?_
              refine z_mg1 X hM dX4_copy_78 ?_
              refine z_iload_n X dX4_copy_81 rfl 2 rfl ?_
              refine z_iaN (v := nI (o.2.2.2.1 1 qN)) X dX4_copy_82 (mm_2 hM) (by omega) (by omega) ((hT.2.2.2.1 qN (by omega)).2.1) ?_
              refine z_icmp_eq (tgt := 93) X dX4_copy_83 (by decide) (nI_eq (by omega) (by omega)) (fun c32 => ?_) (fun c32 => ?_)
              · refine z_aload_n X dX4_copy_93 rfl 0 rfl ?_
                refine z_mg0 X hM dX4_copy_94 ?_
                refine z_iload_n X dX4_copy_97 rfl 1 rfl ?_
                refine z_iaN (v := nI (o.2.2.2.1 0 pN)) X dX4_copy_98 (mm_1 hM) (by omega) (by omega) ((hT.2.2.2.1 pN (by omega)).1) ?_
                refine z_if_eq (tgt := 111) X dX4_copy_99 (by decide) (nz_eq (by omega)) (fun c33 => ?_) (fun c33 => ?_)
                · refine z_aload_n X dX4_copy_111 rfl 0 rfl ?_
                  refine z_bipush (v := (-4)) X dX4_copy_112 (by decide) ?_
                  refine z_ci (z_runV (rest := []) (n := 1) X [.int ((-4))] (m_X4_refuse hM (k := 4) (by decide) (v := (-4)) rfl) dX4_copy_114 (mm_o hM) rfl (lw_V q1546 q1548 qs27 q70 q1549) hv_X4_refuse rfl ⟨Nat.le_of_ble_eq_true rfl, Nat.le_of_ble_eq_true rfl⟩ ⟨by omega, by omega⟩ rfl (Nat.le_of_ble_eq_true rfl)) (fun r34 w36 h35 => ?_)
                  obtain ⟨hM35, r34e⟩ := h35
                  rw [r34e]
                  have hT35 := MT.ref hT (k := 4) (by decide)
                  have e : spCopy o (nI pN) (nI qN) i j n = ((-4), oRef o 4) := by
                    unfold spCopy
                    repeat (first | rw [el_some (by assumption)] | rw [el_none (by assumption)] | rw [if_pos (by omega)] | rw [if_neg (by omega)] | rw [if_pos (by assumption)] | rw [if_neg (ts_n (by assumption))])
                    all_goals first | rfl | (exfalso; omega)
                  exact z_iret X dX4_copy_117 (by omega) (by omega) ⟨_, rfl, (by rw [e]; exact ⟨_, hM35, hT35, rfl⟩)⟩
                · refine z_aload_n X dX4_copy_102 rfl 0 rfl ?_
                  refine z_mg0 X hM dX4_copy_103 ?_
                  refine z_iload_n X dX4_copy_106 rfl 2 rfl ?_
                  refine z_iaN (v := nI (o.2.2.2.1 0 qN)) X dX4_copy_107 (mm_1 hM) (by omega) (by omega) ((hT.2.2.2.1 qN (by omega)).1) ?_
                  refine z_if_ne (tgt := 118) X dX4_copy_108 (by decide) (nz_eq (by omega)) (fun c37 => ?_) (fun c37 => ?_)
                  · refine z_iload X dX4_copy_118 5 rfl ?_
                    refine z_if_lt (tgt := 181) X dX4_copy_120 (by decide) Iff.rfl (fun c38 => ?_) (fun c38 => ?_)
                    · refine z_aload_n X dX4_copy_181 rfl 0 rfl ?_
                      refine z_bipush (v := (-2)) X dX4_copy_182 (by decide) ?_
                      refine z_ci (z_runV (rest := []) (n := 1) X [.int ((-2))] (m_X4_refuse hM (k := 2) (by decide) (v := (-2)) rfl) dX4_copy_184 (mm_o hM) rfl (lw_V q1546 q1548 qs27 q70 q1549) hv_X4_refuse rfl ⟨Nat.le_of_ble_eq_true rfl, Nat.le_of_ble_eq_true rfl⟩ ⟨by omega, by omega⟩ rfl (Nat.le_of_ble_eq_true rfl)) (fun r39 w41 h40 => ?_)
                      obtain ⟨hM40, r39e⟩ := h40
                      rw [r39e]
                      have hT40 := MT.ref hT (k := 2) (by decide)
                      have e : spCopy o (nI pN) (nI qN) i j n = ((-2), oRef o 2) := by
                        unfold spCopy
                        repeat (first | rw [el_some (by assumption)] | rw [el_none (by assumption)] | rw [if_pos (by omega)] | rw [if_neg (by omega)] | rw [if_pos (by assumption)] | rw [if_neg (ts_n (by assumption))])
                        have hneg : rgb 0 40 n = none := rgb_f (fun h => absurd c38 (Int32.not_lt.mpr h.1))
                        rw [el_none hneg]
                        all_goals rfl
                      exact z_iret X dX4_copy_187 (by omega) (by omega) ⟨_, rfl, (by rw [e]; exact ⟨_, hM40, hT40, rfl⟩)⟩
                    · obtain ⟨nN, nNh, rfl⟩ := nI_of c38
                      refine z_iload_n X dX4_copy_123 rfl 3 rfl ?_
                      refine z_if_lt (tgt := 181) X dX4_copy_124 (by decide) Iff.rfl (fun c42 => ?_) (fun c42 => ?_)
                      · refine z_aload_n X dX4_copy_181 rfl 0 rfl ?_
                        refine z_bipush (v := (-2)) X dX4_copy_182 (by decide) ?_
                        refine z_ci (z_runV (rest := []) (n := 1) X [.int ((-2))] (m_X4_refuse hM (k := 2) (by decide) (v := (-2)) rfl) dX4_copy_184 (mm_o hM) rfl (lw_V q1546 q1548 qs27 q70 q1549) hv_X4_refuse rfl ⟨Nat.le_of_ble_eq_true rfl, Nat.le_of_ble_eq_true rfl⟩ ⟨by omega, by omega⟩ rfl (Nat.le_of_ble_eq_true rfl)) (fun r43 w45 h44 => ?_)
                        obtain ⟨hM44, r43e⟩ := h44
                        rw [r43e]
                        have hT44 := MT.ref hT (k := 2) (by decide)
                        have e : spCopy o (nI pN) (nI qN) i j (nI nN) = ((-2), oRef o 2) := by
                          unfold spCopy
                          repeat (first | rw [el_some (by assumption)] | rw [el_none (by assumption)] | rw [if_pos (by omega)] | rw [if_neg (by omega)] | rw [if_pos (by assumption)] | rw [if_neg (ts_n (by assumption))])
                          have hneg : rgb 0 40 i = none := rgb_f (fun h => absurd c42 (Int32.not_lt.mpr h.1))
                          rcases (rgb_any nN) with hn | hn
                          rotate_left
                          · rw [el_none hn]; rfl
                          rw [el_some hn]
                          rw [el_none hneg]
                          all_goals rfl
                        exact z_iret X dX4_copy_187 (by omega) (by omega) ⟨_, rfl, (by rw [e]; exact ⟨_, hM44, hT44, rfl⟩)⟩
                      · obtain ⟨iN, iNh, rfl⟩ := nI_of c42
                        refine z_iload X dX4_copy_127 4 rfl ?_
                        refine z_if_lt (tgt := 181) X dX4_copy_129 (by decide) Iff.rfl (fun c46 => ?_) (fun c46 => ?_)
                        · refine z_aload_n X dX4_copy_181 rfl 0 rfl ?_
                          refine z_bipush (v := (-2)) X dX4_copy_182 (by decide) ?_
                          refine z_ci (z_runV (rest := []) (n := 1) X [.int ((-2))] (m_X4_refuse hM (k := 2) (by decide) (v := (-2)) rfl) dX4_copy_184 (mm_o hM) rfl (lw_V q1546 q1548 qs27 q70 q1549) hv_X4_refuse rfl ⟨Nat.le_of_ble_eq_true rfl, Nat.le_of_ble_eq_true rfl⟩ ⟨by omega, by omega⟩ rfl (Nat.le_of_ble_eq_true rfl)) (fun r47 w49 h48 => ?_)
                          obtain ⟨hM48, r47e⟩ := h48
                          rw [r47e]
                          have hT48 := MT.ref hT (k := 2) (by decide)
                          have e : spCopy o (nI pN) (nI qN) (nI iN) j (nI nN) = ((-2), oRef o 2) := by
                            unfold spCopy
                            repeat (first | rw [el_some (by assumption)] | rw [el_none (by assumption)] | rw [if_pos (by omega)] | rw [if_neg (by omega)] | rw [if_pos (by assumption)] | rw [if_neg (ts_n (by assumption))])
                            have hneg : rgb 0 40 j = none := rgb_f (fun h => absurd c46 (Int32.not_lt.mpr h.1))
                            rcases (rgb_any nN) with hn | hn
                            rotate_left
                            · rw [el_none hn]; rfl
                            rw [el_some hn]
                            rcases (rgb_any iN) with hi | hi
                            rotate_left
                            · rw [el_none hi]; rfl
                            rw [el_some hi]
                            rw [el_none hneg]
                            all_goals rfl
                          exact z_iret X dX4_copy_187 (by omega) (by omega) ⟨_, rfl, (by rw [e]; exact ⟨_, hM48, hT48, rfl⟩)⟩
                        · obtain ⟨jN, jNh, rfl⟩ := nI_of c46
                          refine z_iload X dX4_copy_132 5 rfl ?_
                          refine z_aload_n X dX4_copy_134 rfl 0 rfl ?_
                          refine z_mg2 X hM dX4_copy_135 ?_
                          refine z_iload_n X dX4_copy_138 rfl 1 rfl ?_
                          refine z_iaN (v := nI (o.2.2.2.1 2 pN)) X dX4_copy_139 (mm_3 hM) (by omega) (by omega) ((hT.2.2.2.1 pN (by omega)).2.2.1) ?_
                          refine z_icmp_gt (tgt := 181) X dX4_copy_140 (by decide) (nI_ltI (by omega) (by omega)) (fun c50 => ?_) (fun c50 => ?_)
                          · refine z_aload_n X dX4_copy_181 rfl 0 rfl ?_
                            refine z_bipush (v := (-2)) X dX4_copy_182 (by decide) ?_
                            refine z_ci (z_runV (rest := []) (n := 1) X [.int ((-2))] (m_X4_refuse hM (k := 2) (by decide) (v := (-2)) rfl) dX4_copy_184 (mm_o hM) rfl (lw_V q1546 q1548 qs27 q70 q1549) hv_X4_refuse rfl ⟨Nat.le_of_ble_eq_true rfl, Nat.le_of_ble_eq_true rfl⟩ ⟨by omega, by omega⟩ rfl (Nat.le_of_ble_eq_true rfl)) (fun r51 w53 h52 => ?_)
                            obtain ⟨hM52, r51e⟩ := h52
                            rw [r51e]
                            have hT52 := MT.ref hT (k := 2) (by decide)
                            have e : spCopy o (nI pN) (nI qN) (nI iN) (nI jN) (nI nN) = ((-2), oRef o 2) := by
                              unfold spCopy
                              repeat (first | rw [el_some (by assumption)] | rw [el_none (by assumption)] | rw [if_pos (by omega)] | rw [if_neg (by omega)] | rw [if_pos (by assumption)] | rw [if_neg (ts_n (by assumption))])
                              have tnn := tn_nI (k := nN) (by omega)
                              rcases (rgb_any nN) with hn | hn
                              rotate_left
                              · rw [el_none hn]; rfl
                              rw [el_some hn]
                              have tni := tn_nI (k := iN) (by omega)
                              rcases (rgb_any iN) with hi | hi
                              rotate_left
                              · rw [el_none hi]; rfl
                              rw [el_some hi]
                              have tnj := tn_nI (k := jN) (by omega)
                              rcases (rgb_any jN) with hj | hj
                              rotate_left
                              · rw [el_none hj]; rfl
                              rw [el_some hj]
                              rw [if_neg (by omega)]
                              all_goals rfl
                            exact z_iret X dX4_copy_187 (by omega) (by omega) ⟨_, rfl, (by rw [e]; exact ⟨_, hM52, hT52, rfl⟩)⟩
                          · refine z_iload X dX4_copy_143 5 rfl ?_
                            refine z_aload_n X dX4_copy_145 rfl 0 rfl ?_
                            refine z_mg2 X hM dX4_copy_146 ?_
                            refine z_iload_n X dX4_copy_149 rfl 2 rfl ?_
                            refine z_iaN (v := nI (o.2.2.2.1 2 qN)) X dX4_copy_150 (mm_3 hM) (by omega) (by omega) ((hT.2.2.2.1 qN (by omega)).2.2.1) ?_
                            refine z_icmp_gt (tgt := 181) X dX4_copy_151 (by decide) (nI_ltI (by omega) (by omega)) (fun c54 => ?_) (fun c54 => ?_)
                            · refine z_aload_n X dX4_copy_181 rfl 0 rfl ?_
                              refine z_bipush (v := (-2)) X dX4_copy_182 (by decide) ?_
                              refine z_ci (z_runV (rest := []) (n := 1) X [.int ((-2))] (m_X4_refuse hM (k := 2) (by decide) (v := (-2)) rfl) dX4_copy_184 (mm_o hM) rfl (lw_V q1546 q1548 qs27 q70 q1549) hv_X4_refuse rfl ⟨Nat.le_of_ble_eq_true rfl, Nat.le_of_ble_eq_true rfl⟩ ⟨by omega, by omega⟩ rfl (Nat.le_of_ble_eq_true rfl)) (fun r55 w57 h56 => ?_)
                              obtain ⟨hM56, r55e⟩ := h56
                              rw [r55e]
                              have hT56 := MT.ref hT (k := 2) (by decide)
                              have e : spCopy o (nI pN) (nI qN) (nI iN) (nI jN) (nI nN) = ((-2), oRef o 2) := by
                                unfold spCopy
                                repeat (first | rw [el_some (by assumption)] | rw [el_none (by assumption)] | rw [if_pos (by omega)] | rw [if_neg (by omega)] | rw [if_pos (by assumption)] | rw [if_neg (ts_n (by assumption))])
                                have tnn := tn_nI (k := nN) (by omega)
                                rcases (rgb_any nN) with hn | hn
                                rotate_left
                                · rw [el_none hn]; rfl
                                rw [el_some hn]
                                have tni := tn_nI (k := iN) (by omega)
                                rcases (rgb_any iN) with hi | hi
                                rotate_left
                                · rw [el_none hi]; rfl
                                rw [el_some hi]
                                have tnj := tn_nI (k := jN) (by omega)
                                rcases (rgb_any jN) with hj | hj
                                rotate_left
                                · rw [el_none hj]; rfl
                                rw [el_some hj]
                                rw [if_neg (by omega)]
                                all_goals rfl
                              exact z_iret X dX4_copy_187 (by omega) (by omega) ⟨_, rfl, (by rw [e]; exact ⟨_, hM56, hT56, rfl⟩)⟩
                            · refine z_iload_n X dX4_copy_154 rfl 3 rfl ?_
                              refine z_aload_n X dX4_copy_155 rfl 0 rfl ?_
                              refine z_mg2 X hM dX4_copy_156 ?_
                              refine z_iload_n X dX4_copy_159 rfl 1 rfl ?_
                              refine z_iaN (v := nI (o.2.2.2.1 2 pN)) X dX4_copy_160 (mm_3 hM) (by omega) (by omega) ((hT.2.2.2.1 pN (by omega)).2.2.1) ?_
                              refine z_iload X dX4_copy_161 5 rfl ?_
                              refine z_isub (v := nI (o.2.2.2.1 2 pN - nN)) X dX4_copy_163 (pk_sub (by omega)) ?_
                              refine z_icmp_gt (tgt := 181) X dX4_copy_164 (by decide) (nI_ltI (by omega) (by omega)) (fun c58 => ?_) (fun c58 => ?_)
                              · refine z_aload_n X dX4_copy_181 rfl 0 rfl ?_
                                refine z_bipush (v := (-2)) X dX4_copy_182 (by decide) ?_
                                refine z_ci (z_runV (rest := []) (n := 1) X [.int ((-2))] (m_X4_refuse hM (k := 2) (by decide) (v := (-2)) rfl) dX4_copy_184 (mm_o hM) rfl (lw_V q1546 q1548 qs27 q70 q1549) hv_X4_refuse rfl ⟨Nat.le_of_ble_eq_true rfl, Nat.le_of_ble_eq_true rfl⟩ ⟨by omega, by omega⟩ rfl (Nat.le_of_ble_eq_true rfl)) (fun r59 w61 h60 => ?_)
                                obtain ⟨hM60, r59e⟩ := h60
                                rw [r59e]
                                have hT60 := MT.ref hT (k := 2) (by decide)
                                have e : spCopy o (nI pN) (nI qN) (nI iN) (nI jN) (nI nN) = ((-2), oRef o 2) := by
                                  unfold spCopy
                                  repeat (first | rw [el_some (by assumption)] | rw [el_none (by assumption)] | rw [if_pos (by omega)] | rw [if_neg (by omega)] | rw [if_pos (by assumption)] | rw [if_neg (ts_n (by assumption))])
                                  have tnn := tn_nI (k := nN) (by omega)
                                  rcases (rgb_any nN) with hn | hn
                                  rotate_left
                                  · rw [el_none hn]; rfl
                                  rw [el_some hn]
                                  have tni := tn_nI (k := iN) (by omega)
                                  rcases (rgb_any iN) with hi | hi
                                  rotate_left
                                  · rw [el_none hi]; rfl
                                  rw [el_some hi]
                                  have tnj := tn_nI (k := jN) (by omega)
                                  rcases (rgb_any jN) with hj | hj
                                  rotate_left
                                  · rw [el_none hj]; rfl
                                  rw [el_some hj]
                                  rw [if_neg (by omega)]
                                  all_goals rfl
                                exact z_iret X dX4_copy_187 (by omega) (by omega) ⟨_, rfl, (by rw [e]; exact ⟨_, hM60, hT60, rfl⟩)⟩
                              · refine z_iload X dX4_copy_167 4 rfl ?_
                                refine z_aload_n X dX4_copy_169 rfl 0 rfl ?_
                                refine z_mg2 X hM dX4_copy_170 ?_
                                refine z_iload_n X dX4_copy_173 rfl 2 rfl ?_
                                refine z_iaN (v := nI (o.2.2.2.1 2 qN)) X dX4_copy_174 (mm_3 hM) (by omega) (by omega) ((hT.2.2.2.1 qN (by omega)).2.2.1) ?_
                                refine z_iload X dX4_copy_175 5 rfl ?_
                                refine z_isub (v := nI (o.2.2.2.1 2 qN - nN)) X dX4_copy_177 (pk_sub (by omega)) ?_
                                refine z_icmp_le (tgt := 188) X dX4_copy_178 (by decide) (nI_leI (by omega) (by omega)) (fun c62 => ?_) (fun c62 => ?_)
                                · refine z_iconst (v := nI (0)) X dX4_copy_188 ci0 ?_
                                  refine z_istore (lv2 := [(6, .int (nI (0))), (0, .ref (ad 0)), (1, .int (nI (pN))), (2, .int (nI (qN))), (3, .int (nI (iN))), (4, .int (nI (jN))), (5, .int (nI (nN)))]) X dX4_copy_189 (Nat.le_of_ble_eq_true rfl) rfl ?_
                                  have lc : ∀ (lq k : Nat) (w2 : GW) (m2 : MSt), k + lq = nN → MM G wb w2 ad m2 → m2.1 = m.1 → m2.2.2 = m.2.2 → (∀ c, c ≠ 5 → m2.2.1 c = m.2.1 c) → (∀ t, t < k → m2.2.1 5 t = o.2.2.2.2.1 pN (iN + t)) → Z κ w2 [(6, .int (nI (k))), (0, .ref (ad 0)), (1, .int (nI (pN))), (2, .int (nI (qN))), (3, .int (nI (iN))), (4, .int (nI (jN))), (5, .int (nI (nN)))] 0 0 191 [] := by
                                    intro lq
                                    induction lq with
                                    | zero =>
                                      intro k w2 m2 lh hM2 r1 r2 r3 r4
                                      obtain rfl : nN = k := by omega
                                      refine z_iload X dX4_copy_191 0 rfl ?_
                                      refine z_iload X dX4_copy_193 6 rfl ?_
                                      refine z_icmp_ge_t (tgt := 222) X dX4_copy_195 (by decide) ((nI_leI (by omega) (by omega)).mpr (by omega)) ?_
                                      refine z_iconst (v := nI (0)) X dX4_copy_222 ci0 ?_
                                      refine z_istore (lv2 := [(6, .int (nI (0))), (0, .ref (ad 0)), (1, .int (nI (pN))), (2, .int (nI (qN))), (3, .int (nI (iN))), (4, .int (nI (jN))), (5, .int (nI (nN)))]) X dX4_copy_223 (Nat.le_of_ble_eq_true rfl) rfl ?_
                                      have lc2 : ∀ (lq k : Nat) (w3 : GW) (m3 : MSt), k + lq = nN → MM G wb w3 ad m3 → m3.1 = m2.1 → m3.2.2 = m2.2.2 → (∀ c, c ≠ 40 + qN → m3.2.1 c = m2.2.1 c) → (∀ x, x < 40 → m3.2.1 (40 + qN) x = cpyV (o.2.2.2.2.1 pN) (o.2.2.2.2.1 qN) iN jN k x) → Z κ w3 [(6, .int (nI (k))), (0, .ref (ad 0)), (1, .int (nI (pN))), (2, .int (nI (qN))), (3, .int (nI (iN))), (4, .int (nI (jN))), (5, .int (nI (nN)))] 0 0 225 [] := by
                                        intro lq
                                        induction lq with
                                        | zero =>
                                          intro k w3 m3 lh hM3 s1 s2 s3 s4
                                          obtain rfl : nN = k := by omega
                                          refine z_iload X dX4_copy_225 0 rfl ?_
                                          refine z_iload X dX4_copy_227 6 rfl ?_
                                          refine z_icmp_ge_t (tgt := 257) X dX4_copy_229 (by decide) ((nI_leI (by omega) (by omega)).mpr (by omega)) ?_
                                          refine z_iload X dX4_copy_257 6 rfl ?_
                                          have hT8 : MT (setCopy o pN qN iN jN nN) m3 := hT.copy (s1.trans r1) (s2.trans r2) (fun t ht tq x hx => (congrFun (s3 _ (by omega)) x).trans (congrFun (r3 _ (by omega)) x)) s4
                                          have e : spCopy o (nI pN) (nI qN) (nI iN) (nI jN) (nI nN) = (nI (nN), setCopy o pN qN iN jN nN) := by
                                            unfold spCopy
                                            repeat (first | rw [el_some (by assumption)] | rw [el_none (by assumption)] | rw [if_pos (by omega)] | rw [if_neg (by omega)] | rw [if_pos (by assumption)] | rw [if_neg (ts_n (by assumption))])
                                            rw [el_some (rgb_nI (by omega) (by decide)), el_some (rgb_nI (by omega) (by decide)), el_some (rgb_nI (by omega) (by decide)), if_pos (by omega)]
                                          exact z_iret X dX4_copy_259 (by omega) (by omega) ⟨_, rfl, (by rw [e]; exact ⟨_, hM3, hT8, rfl⟩)⟩
                                        | succ lq ih =>
                                          intro k w3 m3 lh hM3 s1 s2 s3 s4
                                          refine z_iload X dX4_copy_225 0 rfl ?_
                                          refine z_iload X dX4_copy_227 6 rfl ?_
                                          refine z_icmp_ge_f (tgt := 257) X dX4_copy_229 (by decide) (fun h => absurd ((nI_leI (by omega) (by omega)).mp h) (by omega)) ?_
                                          refine z_aload_n X dX4_copy_232 rfl 1 rfl ?_
                                          refine z_mg3 X hM3 dX4_copy_233 ?_
                                          refine z_iload_n X dX4_copy_236 rfl 3 rfl ?_
                                          refine z_aN6 (v := .ref (ad (40 + qN))) X dX4_copy_237 (mm_4 hM3) (by omega) (by omega) rfl ?_
                                          refine z_iload X dX4_copy_238 5 rfl ?_
                                          refine z_iload X dX4_copy_240 0 rfl ?_
                                          refine z_iadd (v := nI (jN + k)) X dX4_copy_242 (nI_add _ _) ?_
                                          refine z_aload_n X dX4_copy_243 rfl 1 rfl ?_
                                          refine z_mg4 X hM3 dX4_copy_244 ?_
                                          refine z_iload X dX4_copy_247 0 rfl ?_
                                          refine z_laN (v := o.2.2.2.2.1 pN (iN + k)) X dX4_copy_249 (mm_5 hM3) (by omega) (by omega) ((congrFun (s3 5 (by omega)) k).trans (r4 k (by omega))) ?_
                                          refine z_mstL (n := 40) (j := jN + k) X hM3 (40 + qN) dX4_copy_250 (mP_40 (by omega)) (mK_40 (by omega)) (mLen_40 (by omega)) (by omega) (by omega) (fun u63 hM63 => ?_)
                                          refine z_iinc (v := nI (k + 1)) (lv2 := [(6, .int (nI (k + 1))), (0, .ref (ad 0)), (1, .int (nI (pN))), (2, .int (nI (qN))), (3, .int (nI (iN))), (4, .int (nI (jN))), (5, .int (nI (nN)))]) X dX4_copy_251 0 rfl (nI_1 _) (Nat.le_of_ble_eq_true rfl) rfl ?_
                                          refine z_goto (tgt := 225) X dX4_copy_254 (by decide) ?_
                                          exact ih (k + 1) _ _ (by omega) hM63 s1 s2 (fun c hc => (mL_oth hc).trans (s3 c hc)) (cpy_step s4 (by omega))
                                      exact lc2 nN 0 w2 m2 (by omega) hM2 rfl rfl (fun _ _ => rfl) (fun x hx => by rw [r3 _ (by omega), hT.2.2.2.2.1 _ (by omega) x hx]; exact (if_neg (by omega)).symm)
                                    | succ lq ih =>
                                      intro k w2 m2 lh hM2 r1 r2 r3 r4
                                      refine z_iload X dX4_copy_191 0 rfl ?_
                                      refine z_iload X dX4_copy_193 6 rfl ?_
                                      refine z_icmp_ge_f (tgt := 222) X dX4_copy_195 (by decide) (fun h => absurd ((nI_leI (by omega) (by omega)).mp h) (by omega)) ?_
                                      refine z_aload_n X dX4_copy_198 rfl 1 rfl ?_
                                      refine z_mg4 X hM2 dX4_copy_199 ?_
                                      refine z_iload X dX4_copy_202 0 rfl ?_
                                      refine z_aload_n X dX4_copy_204 rfl 1 rfl ?_
                                      refine z_mg3 X hM2 dX4_copy_205 ?_
                                      refine z_iload_n X dX4_copy_208 rfl 2 rfl ?_
                                      refine z_aN6 (v := .ref (ad (40 + pN))) X dX4_copy_209 (mm_4 hM2) (by omega) (by omega) rfl ?_
                                      refine z_iload_n X dX4_copy_210 rfl 4 rfl ?_
                                      refine z_iload X dX4_copy_211 0 rfl ?_
                                      refine z_iadd (v := nI (iN + k)) X dX4_copy_213 (nI_add _ _) ?_
                                      refine z_laN (v := o.2.2.2.2.1 pN (iN + k)) X dX4_copy_214 (mmr_40 hM2 (by omega)) (by omega) (by omega) ((congrFun (r3 (40 + pN) (by omega)) (iN + k)).trans (hT.2.2.2.2.1 pN (by omega) (iN + k) (by omega))) ?_
                                      refine z_mstL (n := 40) (j := k) X hM2 5 dX4_copy_215 rfl rfl rfl (by omega) (by omega) (fun u64 hM64 => ?_)
                                      refine z_iinc (v := nI (k + 1)) (lv2 := [(6, .int (nI (k + 1))), (0, .ref (ad 0)), (1, .int (nI (pN))), (2, .int (nI (qN))), (3, .int (nI (iN))), (4, .int (nI (jN))), (5, .int (nI (nN)))]) X dX4_copy_216 0 rfl (nI_1 _) (Nat.le_of_ble_eq_true rfl) rfl ?_
                                      refine z_goto (tgt := 191) X dX4_copy_219 (by decide) ?_
                                      exact ih (k + 1) _ _ (by omega) hM64 r1 r2 (fun c hc => (mL_oth hc).trans (r3 c hc)) (mL_row (p := fun t x => x = o.2.2.2.2.1 pN (iN + t)) r4 rfl)
                                  exact lc nN 0 w m (by omega) hM rfl rfl (fun _ _ => rfl) (fun t ht => absurd ht (by omega))
                                · refine z_aload_n X dX4_copy_181 rfl 0 rfl ?_
                                  refine z_bipush (v := (-2)) X dX4_copy_182 (by decide) ?_
                                  refine z_ci (z_runV (rest := []) (n := 1) X [.int ((-2))] (m_X4_refuse hM (k := 2) (by decide) (v := (-2)) rfl) dX4_copy_184 (mm_o hM) rfl (lw_V q1546 q1548 qs27 q70 q1549) hv_X4_refuse rfl ⟨Nat.le_of_ble_eq_true rfl, Nat.le_of_ble_eq_true rfl⟩ ⟨by omega, by omega⟩ rfl (Nat.le_of_ble_eq_true rfl)) (fun r65 w67 h66 => ?_)
                                  obtain ⟨hM66, r65e⟩ := h66
                                  rw [r65e]
                                  have hT66 := MT.ref hT (k := 2) (by decide)
                                  have e : spCopy o (nI pN) (nI qN) (nI iN) (nI jN) (nI nN) = ((-2), oRef o 2) := by
                                    unfold spCopy
                                    repeat (first | rw [el_some (by assumption)] | rw [el_none (by assumption)] | rw [if_pos (by omega)] | rw [if_neg (by omega)] | rw [if_pos (by assumption)] | rw [if_neg (ts_n (by assumption))])
                                    have tnn := tn_nI (k := nN) (by omega)
                                    rcases (rgb_any nN) with hn | hn
                                    rotate_left
                                    · rw [el_none hn]; rfl
                                    rw [el_some hn]
                                    have tni := tn_nI (k := iN) (by omega)
                                    rcases (rgb_any iN) with hi | hi
                                    rotate_left
                                    · rw [el_none hi]; rfl
                                    rw [el_some hi]
                                    have tnj := tn_nI (k := jN) (by omega)
                                    rcases (rgb_any jN) with hj | hj
                                    rotate_left
                                    · rw [el_none hj]; rfl
                                    rw [el_some hj]
                                    rw [if_neg (by omega)]
                                    all_goals rfl
                                  exact z_iret X dX4_copy_187 (by omega) (by omega) ⟨_, rfl, (by rw [e]; exact ⟨_, hM66, hT66, rfl⟩)⟩
                  · refine z_aload_n X dX4_copy_111 rfl 0 rfl ?_
                    refine z_bipush (v := (-4)) X dX4_copy_112 (by decide) ?_
                    refine z_ci (z_runV (rest := []) (n := 1) X [.int ((-4))] (m_X4_refuse hM (k := 4) (by decide) (v := (-4)) rfl) dX4_copy_114 (mm_o hM) rfl (lw_V q1546 q1548 qs27 q70 q1549) hv_X4_refuse rfl ⟨Nat.le_of_ble_eq_true rfl, Nat.le_of_ble_eq_true rfl⟩ ⟨by omega, by omega⟩ rfl (Nat.le_of_ble_eq_true rfl)) (fun r68 w70 h69 => ?_)
                    obtain ⟨hM69, r68e⟩ := h69
                    rw [r68e]
                    have hT69 := MT.ref hT (k := 4) (by decide)
                    have e : spCopy o (nI pN) (nI qN) i j n = ((-4), oRef o 4) := by
                      unfold spCopy
                      repeat (first | rw [el_some (by assumption)] | rw [el_none (by assumption)] | rw [if_pos (by omega)] | rw [if_neg (by omega)] | rw [if_pos (by assumption)] | rw [if_neg (ts_n (by assumption))])
                      all_goals first | rfl | (exfalso; omega)
                    exact z_iret X dX4_copy_117 (by omega) (by omega) ⟨_, rfl, (by rw [e]; exact ⟨_, hM69, hT69, rfl⟩)⟩
              · refine z_aload_n X dX4_copy_86 rfl 0 rfl ?_
                refine z_bipush (v := (-3)) X dX4_copy_87 (by decide) ?_
                refine z_ci (z_runV (rest := []) (n := 1) X [.int ((-3))] (m_X4_refuse hM (k := 3) (by decide) (v := (-3)) rfl) dX4_copy_89 (mm_o hM) rfl (lw_V q1546 q1548 qs27 q70 q1549) hv_X4_refuse rfl ⟨Nat.le_of_ble_eq_true rfl, Nat.le_of_ble_eq_true rfl⟩ ⟨by omega, by omega⟩ rfl (Nat.le_of_ble_eq_true rfl)) (fun r71 w73 h72 => ?_)
                obtain ⟨hM72, r71e⟩ := h72
                rw [r71e]
                have hT72 := MT.ref hT (k := 3) (by decide)
                have e : spCopy o (nI pN) (nI qN) i j n = ((-3), oRef o 3) := by
                  unfold spCopy
                  repeat (first | rw [el_some (by assumption)] | rw [el_none (by assumption)] | rw [if_pos (by omega)] | rw [if_neg (by omega)] | rw [if_pos (by assumption)] | rw [if_neg (ts_n (by assumption))])
                  all_goals first | rfl | (exfalso; omega)
                exact z_iret X dX4_copy_92 (by omega) (by omega) ⟨_, rfl, (by rw [e]; exact ⟨_, hM72, hT72, rfl⟩)⟩
    · have e4 : rgb 0 7 q = none := rgb_f (fun q => c5 ((in32 (lo := nI 0) (hi := nI 7)).mpr q))
      refine z_aload_n X dX4_copy_24 rfl 0 rfl ?_
      refine z_bipush (v := (-2)) X dX4_copy_25 (by decide) ?_
      refine z_ci (z_runV (rest := []) (n := 1) X [.int ((-2))] (m_X4_refuse hM (k := 2) (by decide) (v := (-2)) rfl) dX4_copy_27 (mm_o hM) rfl (lw_V q1546 q1548 qs27 q70 q1549) hv_X4_refuse rfl ⟨Nat.le_of_ble_eq_true rfl, Nat.le_of_ble_eq_true rfl⟩ ⟨by omega, by omega⟩ rfl (Nat.le_of_ble_eq_true rfl)) (fun r74 w76 h75 => ?_)
      obtain ⟨hM75, r74e⟩ := h75
      rw [r74e]
      have hT75 := MT.ref hT (k := 2) (by decide)
      have e : spCopy o (nI pN) q i j n = ((-2), oRef o 2) := by
        unfold spCopy
        repeat (first | rw [el_some (by assumption)] | rw [el_none (by assumption)] | rw [if_pos (by omega)] | rw [if_neg (by omega)] | rw [if_pos (by assumption)] | rw [if_neg (ts_n (by assumption))])
        all_goals first | rfl | (exfalso; omega)
      exact z_iret X dX4_copy_30 (by omega) (by omega) ⟨_, rfl, (by rw [e]; exact ⟨_, hM75, hT75, rfl⟩)⟩
