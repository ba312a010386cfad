/-! x: feed -/
set_option maxRecDepth 100000
set_option maxHeartbeats 2000000 in
theorem x_feed {l : Launch} {G : GG} {w : GW} {xa : Nat → Nat} {rr : Option Nat} {o : OS} {im : IM} (hX : XT G w xa rr o im) (hO : oInv o) {v n : Int32} : gM l G yX0_feed cX0_feed 4 (some .int) 4 0 0 [.ref (xa 0), .int (v), .int (n)] w (pI (fun r w1 => XE G (xa 0) w1 (spFeed o v n).2 im ∧ r = (spFeed o v n).1)) := by
  refine Z.met (own := "ThreeSizes") (nm := "feed") (lv := [(0, .ref (xa 0)), (1, .int (v)), (2, .int (n))]) (by decide) rfl rfl (Nat.le_of_ble_eq_true rfl) rfl (fun κ X => ?_)
  have hI := hO.1
  have h6 := hI.2.1
  have ht200 := hO.2.2.2
  refine z_iload_n X dX0_feed_0 rfl 2 rfl ?_
  refine z_iconst (v := nI (1)) X dX0_feed_1 ci1 ?_
  refine z_iconst (v := nI (4)) X dX0_feed_2 ci4 ?_
  refine z_cip (z_runS (rest := []) (n := 3) X [.int (n), .int (nI (1)), .int (nI (4))] m_X0_isIn dX0_feed_3 (lw_S q347 q348 q66 q349) hs_X0_isIn rfl ⟨Nat.le_of_ble_eq_true rfl, Nat.le_of_ble_eq_true rfl⟩ ⟨by omega, by omega⟩ rfl (Nat.le_of_ble_eq_true rfl)) ?_
  refine z_if_ne (tgt := 16) X dX0_feed_6 (by decide) bI_d (fun c1 => ?_) (fun c1 => ?_)
  · have c1 := Classical.not_not.mp c1
    obtain ⟨nN, nNl, nNh, rfl, e1⟩ := rgb_t (lo := 1) (hi := 4) (by decide) (by decide) (c1)
    refine z_aload_n X dX0_feed_16 rfl 0 rfl ?_
    refine z_get X dX0_feed_17 hX.ob in_X0 rfl 4 (Nat.le_of_ble_eq_true rfl) q237 rfl ?_
    refine z_iload_n X dX0_feed_20 rfl 2 rfl ?_
    refine z_iadd (v := nI (o.2.2.2.2.2.2.1 + nN)) X dX0_feed_21 (nI_add _ _) ?_
    refine z_sipush (v := nI (200)) X dX0_feed_22 (by decide) ?_
    refine z_icmp_le (tgt := 35) X dX0_feed_25 (by decide) (nI_leI (by omega) (by omega)) (fun c2 => ?_) (fun c2 => ?_)
    · refine z_iload_n X dX0_feed_35 rfl 2 rfl ?_
      refine z_iconst (v := nI (1)) X dX0_feed_36 ci1 ?_
      refine z_isub (v := nI nN - nI 1) X dX0_feed_37 rfl ?_
      refine z_istore_n (lv2 := [(3, .int (nI nN - nI 1)), (0, .ref (xa 0)), (1, .int (v)), (2, .int (nI (nN)))]) X dX0_feed_38 rfl (Nat.le_of_ble_eq_true rfl) rfl ?_
      have lf : ∀ (lq i : Nat) (w3 : GW) (t : Nat → Nat) (sz : Nat), i + lq = nN → sz + lq = o.2.2.2.2.2.2.1 + nN → XT G w3 xa rr (oTape o t sz) im → (fedTo t sz v lq).1 = (fedTo o.2.2.2.2.2.1 o.2.2.2.2.2.2.1 v nN).1 → Z κ w3 [(3, .int (nI lq - nI 1)), (0, .ref (xa 0)), (1, .int (v)), (2, .int (nI (nN)))] 0 0 39 [] := by
        intro lq
        induction lq with
        | zero =>
          intro i w3 t sz lh hsz hX3 hfd
          refine z_iload_n X dX0_feed_39 rfl 0 rfl ?_
          refine z_if_lt_t (tgt := 75) X dX0_feed_40 (by decide) (by decide) ?_
          refine z_aload_n X dX0_feed_75 rfl 1 rfl ?_
          refine z_get X dX0_feed_76 hX3.ob in_X0 rfl 4 (Nat.le_of_ble_eq_true rfl) q237 rfl ?_
          obtain rfl : sz = o.2.2.2.2.2.2.1 + nN := by omega
          have hX7 : XT G w3 xa rr (oTape o (fedTo o.2.2.2.2.2.1 o.2.2.2.2.2.2.1 v nN).1 (o.2.2.2.2.2.2.1 + nN)) im := by rw [← hfd]; exact hX3
          have e : spFeed o v (nI nN) = (nI (o.2.2.2.2.2.2.1 + nN), (oTape o (fedTo o.2.2.2.2.2.1 o.2.2.2.2.2.2.1 v nN).1 (o.2.2.2.2.2.2.1 + nN))) := by
            unfold spFeed
            repeat (first | rw [el_some (by assumption)] | rw [el_none (by assumption)] | rw [if_pos (by omega)] | rw [if_neg (by omega)] | rw [if_pos (by assumption)] | rw [if_neg (ts_n (by assumption))])
            all_goals first | rfl | (exfalso; omega)
          exact z_iret X dX0_feed_79 (by omega) (by omega) ⟨_, rfl, (by rw [e]; exact ⟨⟨_, _, rfl, hX7⟩, rfl⟩)⟩
        | succ lq ih =>
          intro i w3 t sz lh hsz hX3 hfd
          rw [show nI (lq + 1) - nI 1 = nI lq from nI_pred lq]
          refine z_iload_n X dX0_feed_39 rfl 0 rfl ?_
          refine z_if_lt_f (tgt := 75) X dX0_feed_40 (by decide) (fun h => nI_pos (by omega) h) ?_
          refine z_aload_n X dX0_feed_43 rfl 1 rfl ?_
          refine z_get X dX0_feed_44 hX3.ob in_X0 rfl 3 (Nat.le_of_ble_eq_true rfl) q236 rfl ?_
          refine z_aload_n X dX0_feed_47 rfl 1 rfl ?_
          refine z_dup X dX0_feed_48 rfl ?_
          refine z_get X dX0_feed_49 hX3.ob in_X0 rfl 4 (Nat.le_of_ble_eq_true rfl) q237 rfl ?_
          rw [show (oTape o t sz).2.2.2.2.2.2.1 = sz from rfl]
          refine z_dup_x1 X dX0_feed_52 rfl rfl ?_
          refine z_iconst (v := nI (1)) X dX0_feed_53 ci1 ?_
          refine z_iadd (v := nI (sz + 1)) X dX0_feed_54 (nI_add _ _) ?_
          refine z_put X dX0_feed_55 hX3.ob in_X0 tyX0 tyX0_ok nmX0 rfl 4 (Nat.le_of_ble_eq_true rfl) q237 rfl rfl rfl (Nat.le_of_ble_eq_true rfl) ?_
          have hXa : XT G _ xa rr (oTape o t (sz + 1)) im := XT.szput hX3 (n := sz + 1)
          obtain ⟨f9, hf9, hv9⟩ := hXa.tape
          refine z_iload_n X dX0_feed_58 rfl 2 rfl ?_
          refine z_bipush (v := nI (8)) X dX0_feed_59 (by decide) ?_
          refine z_iload_n X dX0_feed_61 rfl 0 rfl ?_
          refine z_imul (v := nI (8 * lq)) X dX0_feed_62 (pk_mul _ _) ?_
          refine z_ishr (v := v >>> ((nI (8 * lq)) &&& 31)) X dX0_feed_63 rfl ?_
          refine z_sipush (v := nI (255)) X dX0_feed_64 (by decide) ?_
          refine z_iand (v := nI (byteN v lq)) X dX0_feed_67 byte_is ?_
          refine z_isN X dX0_feed_68 hf9 (by omega) (by omega) ?_
          have hXb : XT G _ xa rr (oTape o (fun x => if x = sz then byteN v lq else t x) (sz + 1)) im := XT.tput hXa hf9 (j := sz) (v := byteN v lq) (by omega)
          refine z_iinc (v := nI lq - nI 1) (lv2 := [(3, .int (nI lq - nI 1)), (0, .ref (xa 0)), (1, .int (v)), (2, .int (nI (nN)))]) X dX0_feed_69 0 rfl (dec1 _) (Nat.le_of_ble_eq_true rfl) rfl ?_
          refine z_goto (tgt := 39) X dX0_feed_72 (by decide) ?_
          exact ih (i + 1) _ (fun x => if x = sz then byteN v lq else t x) (sz + 1) (by omega) (by omega) hXb hfd
      exact lf nN 0 _ o.2.2.2.2.2.1 o.2.2.2.2.2.2.1 (by omega) (by omega) hX rfl
    · refine z_aload_n X dX0_feed_28 rfl 0 rfl ?_
      refine z_bipush (v := (-6)) X dX0_feed_29 (by decide) ?_
      refine z_ci (z_runV (rest := []) (n := 1) X [.int ((-6))] (m_X0_no_6 hX) dX0_feed_31 hX.ob rfl (lw_V q350 q352 qs2 q66 q353) hv_X0_no rfl ⟨Nat.le_of_ble_eq_true rfl, Nat.le_of_ble_eq_true rfl⟩ ⟨by omega, by omega⟩ rfl (Nat.le_of_ble_eq_true rfl)) (fun r3 w5 h4 => ?_)
      obtain ⟨r3e, hX4⟩ := h4
      rw [r3e]
      have e : spFeed o v (nI nN) = ((-6), oRef o 6) := by
        unfold spFeed
        repeat (first | rw [el_some (by assumption)] | rw [el_none (by assumption)] | rw [if_pos (by omega)] | rw [if_neg (by omega)] | rw [if_pos (by assumption)] | rw [if_neg (ts_n (by assumption))])
        all_goals first | rfl | (exfalso; omega)
      exact z_iret X dX0_feed_34 (by omega) (by omega) ⟨_, rfl, (by rw [e]; exact ⟨⟨_, _, rfl, hX4⟩, rfl⟩)⟩
  · have e2 : rgb 1 4 n = none := rgb_f c1
    refine z_aload_n X dX0_feed_9 rfl 0 rfl ?_
    refine z_bipush (v := (-2)) X dX0_feed_10 (by decide) ?_
    refine z_ci (z_runV (rest := []) (n := 1) X [.int ((-2))] (m_X0_no_2 hX) dX0_feed_12 hX.ob rfl (lw_V q350 q352 qs2 q66 q353) hv_X0_no rfl ⟨Nat.le_of_ble_eq_true rfl, Nat.le_of_ble_eq_true rfl⟩ ⟨by omega, by omega⟩ rfl (Nat.le_of_ble_eq_true rfl)) (fun r6 w8 h7 => ?_)
    obtain ⟨r6e, hX7⟩ := h7
    rw [r6e]
    have e : spFeed o v n = ((-2), oRef o 2) := by
      unfold spFeed
      repeat (first | rw [el_some (by assumption)] | rw [el_none (by assumption)] | rw [if_pos (by omega)] | rw [if_neg (by omega)] | rw [if_pos (by assumption)] | rw [if_neg (ts_n (by assumption))])
      all_goals first | rfl | (exfalso; omega)
    exact z_iret X dX0_feed_15 (by omega) (by omega) ⟨_, rfl, (by rw [e]; exact ⟨⟨_, _, rfl, hX7⟩, rfl⟩)⟩
