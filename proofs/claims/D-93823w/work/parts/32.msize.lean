/-! THE MODEL: what a sort gets, what is placed, what is fetched -/
set_option maxRecDepth 100000
set_option maxHeartbeats 2000000 in
theorem m_X4_bestFor {l : Launch} {G : GG} {wb w : GW} {ad : Nat → Nat} {m : MSt} (hM : MM G wb w ad m) {S : WS} (hR : MR S m) (hI : wInv S) {ix st : Nat} (hi : ix < S.2 0) (hs : st < 125) {tq : Nat} {T : Nat → Int64} (ht : w tq = some (.inl (G.2.1 1, 125, .inr (.inl T)))) : gM l G yX4_bestFor cX4_bestFor 10 (some .int) 3 0 0 [.ref (ad 0), .int (nI (ix)), .int (nI (st)), .ref (tq)] w (pI (fun r w1 => r = oI (bestO S ix st T) ∧ w1 = w)) := by
  refine Z.met (own := "ThreeSizesModel") (nm := "bestFor") (lv := [(0, .ref (ad 0)), (1, .int (nI (ix))), (2, .int (nI (st))), (3, .ref (tq))]) (by decide) rfl rfl (Nat.le_of_ble_eq_true rfl) rfl (fun κ X => ?_)
  have h6 := hI.2.1
  have h5 := hI.2.2.1 ix hi
  refine z_iconst (v := -1) X dX4_bestFor_0 cim1 ?_
  refine z_istore (lv2 := [(4, .int (-1)), (0, .ref (ad 0)), (1, .int (nI (ix))), (2, .int (nI (st))), (3, .ref (tq))]) X dX4_bestFor_1 (Nat.le_of_ble_eq_true rfl) rfl ?_
  refine z_aload_n X dX4_bestFor_3 rfl 1 rfl ?_
  refine z_iload_n X dX4_bestFor_4 rfl 2 rfl ?_
  refine z_clp (z_runV (rest := []) (n := 1) X [.int (nI (ix))] (m_X4_lostOf hM hR hI (i := ix) (by omega)) dX4_bestFor_5 (mm_o hM) rfl (lw_V q1624 q1626 qs36 q70 q1627) hv_X4_lostOf rfl ⟨Nat.le_of_ble_eq_true rfl, Nat.le_of_ble_eq_true rfl⟩ ⟨by omega, by omega⟩ rfl (Nat.le_of_ble_eq_true rfl)) ?_
  refine z_aload_n X dX4_bestFor_8 rfl 4 rfl ?_
  refine z_iload_n X dX4_bestFor_9 rfl 3 rfl ?_
  refine z_laN (v := T st) X dX4_bestFor_10 ht (by omega) (by omega) rfl ?_
  refine z_ladd (v := (lostL S ix) + (T st)) X dX4_bestFor_11 rfl ?_
  refine z_lstore (lv2 := [(5, .long ((lostL S ix) + (T st))), (4, .int (-1)), (0, .ref (ad 0)), (1, .int (nI (ix))), (2, .int (nI (st))), (3, .ref (tq))]) X dX4_bestFor_12 (Nat.le_of_ble_eq_true rfl) rfl ?_
  refine z_iconst (v := nI (0)) X dX4_bestFor_14 ci0 ?_
  refine z_istore (lv2 := [(7, .int (nI (0))), (5, .long ((lostL S ix) + (T st))), (4, .int (-1)), (0, .ref (ad 0)), (1, .int (nI (ix))), (2, .int (nI (st))), (3, .ref (tq))]) X dX4_bestFor_15 (Nat.le_of_ble_eq_true rfl) rfl ?_
  have lp : ∀ (lq i : Nat), i + lq = 3 → Z κ w [(7, .int (nI (i))), (5, .long (bring S ix (bestTo S ix st T i) st T)), (4, .int (oI (bestTo S ix st T i))), (0, .ref (ad 0)), (1, .int (nI (ix))), (2, .int (nI (st))), (3, .ref (tq))] 0 0 17 [] := by
    intro lq
    induction lq with
    | zero =>
      intro i lh
      obtain rfl : i = 3 := by omega
      refine z_iload X dX4_bestFor_17 0 rfl ?_
      refine z_iconst (v := nI (3)) X dX4_bestFor_19 ci3 ?_
      refine z_icmp_ge_t (tgt := 81) X dX4_bestFor_20 (by decide) ((nI_leI (by omega) (by omega)).mpr (by omega)) ?_
      refine z_iload X dX4_bestFor_81 2 rfl ?_
      exact z_iret X dX4_bestFor_83 (by omega) (by omega) ⟨_, rfl, ⟨rfl, rfl⟩⟩
    | succ lq ih =>
      intro i lh
      have hi3 : i < 3 := by omega
      refine z_iload X dX4_bestFor_17 0 rfl ?_
      refine z_iconst (v := nI (3)) X dX4_bestFor_19 ci3 ?_
      refine z_icmp_ge_f (tgt := 81) X dX4_bestFor_20 (by decide) (fun h => absurd ((nI_leI (by omega) (by omega)).mp h) (by omega)) ?_
      refine z_aload_n X dX4_bestFor_23 rfl 3 rfl ?_
      refine z_iload_n X dX4_bestFor_24 rfl 4 rfl ?_
      refine z_iload_n X dX4_bestFor_25 rfl 5 rfl ?_
      refine z_iload X dX4_bestFor_26 0 rfl ?_
      refine z_cip (z_runV (rest := []) (n := 3) X [.int (nI (ix)), .int (nI (st)), .int (nI (i))] (m_X4_mayGet hM hR hI (i := ix) (st := st) (z := i) (by omega) (by omega) (by omega)) dX4_bestFor_28 (mm_o hM) rfl (lw_V q1629 q1631 qs37 q70 q1632) hv_X4_mayGet rfl ⟨Nat.le_of_ble_eq_true rfl, Nat.le_of_ble_eq_true rfl⟩ ⟨by omega, by omega⟩ rfl (Nat.le_of_ble_eq_true rfl)) ?_
      refine z_if_eq (tgt := 75) X dX4_bestFor_31 (by decide) bI_0 (fun c1 => ?_) (fun c1 => ?_)
      · refine z_iinc (v := nI (i + 1)) (lv2 := [(7, .int (nI (i + 1))), (5, .long (bring S ix (bestTo S ix st T i) st T)), (4, .int (oI (bestTo S ix st T i))), (0, .ref (ad 0)), (1, .int (nI (ix))), (2, .int (nI (st))), (3, .ref (tq))]) X dX4_bestFor_75 0 rfl (nI_1 _) (Nat.le_of_ble_eq_true rfl) rfl ?_
        refine z_goto (tgt := 17) X dX4_bestFor_78 (by decide) ?_
        have e : bestTo S ix st T (i + 1) = bestTo S ix st T i := if_neg (fun h => Bool.noConfusion (c1.symm.trans h.1))
        have kk := ih (i + 1) (by omega)
        rw [e] at kk
        exact kk
      · have c1 := ts_t c1
        refine z_ldc2 X dX4_bestFor_34 q1633 ?_
        refine z_aload_n X dX4_bestFor_37 rfl 3 rfl ?_
        refine z_mg14 X hM dX4_bestFor_38 ?_
        refine z_iload_n X dX4_bestFor_41 rfl 4 rfl ?_
        refine z_aN5 (v := .ref (ad (50 + ix))) X dX4_bestFor_42 (mm_15 hM) (by omega) (by omega) rfl ?_
        refine z_iconst (v := nI (2)) X dX4_bestFor_43 ci2 ?_
        refine z_iaN (v := nI (S.1 5 ix)) X dX4_bestFor_44 (mmr_50 hM (by omega)) (by omega) (by omega) (hR.2.2.1 ix (by omega)).2.2.1 ?_
        refine z_i2l (v := lN (S.1 5 ix)) X dX4_bestFor_45 (nI_l (by omega)) ?_
        refine z_lmul (v := (1000000) * (lN (S.1 5 ix))) X dX4_bestFor_46 rfl ?_
        have hg := fr_ge (fits_of c1).2
        refine z_aload_n X dX4_bestFor_47 rfl 6 rfl ?_
        refine z_iload_n X dX4_bestFor_48 rfl 5 rfl ?_
        refine z_iload X dX4_bestFor_49 0 rfl ?_
        refine z_cip (z_runS (rest := [.int (nI (st)), .ref (tq), .long ((1000000) * (lN (S.1 5 ix)))]) (n := 1) X [.int (nI (i))] (m_X4_oneOf (z := i) (by omega)) dX4_bestFor_51 (lw_S q1634 q1635 q70 q1636) hs_X4_oneOf rfl ⟨Nat.le_of_ble_eq_true rfl, Nat.le_of_ble_eq_true rfl⟩ ⟨by omega, by omega⟩ rfl (Nat.le_of_ble_eq_true rfl)) ?_
        refine z_isub (v := nI (st - (pw5 i))) X dX4_bestFor_54 (pk_sub (by omega)) ?_
        refine z_laN (v := T (st - (pw5 i))) X dX4_bestFor_55 ht (by omega) (by omega) rfl ?_
        refine z_ladd (v := ((1000000) * (lN (S.1 5 ix))) + (T (st - (pw5 i)))) X dX4_bestFor_56 rfl ?_
        refine z_lstore (lv2 := [(8, .long (((1000000) * (lN (S.1 5 ix))) + (T (st - (pw5 i))))), (7, .int (nI (i))), (5, .long (bring S ix (bestTo S ix st T i) st T)), (4, .int (oI (bestTo S ix st T i))), (0, .ref (ad 0)), (1, .int (nI (ix))), (2, .int (nI (st))), (3, .ref (tq))]) X dX4_bestFor_57 (Nat.le_of_ble_eq_true rfl) rfl ?_
        refine z_lload X dX4_bestFor_59 0 rfl ?_
        refine z_lload X dX4_bestFor_61 2 rfl ?_
        refine z_lcmp (v := lg_cmp (((1000000) * (lN (S.1 5 ix))) + (T (st - (pw5 i)))) (bring S ix (bestTo S ix st T i) st T)) X dX4_bestFor_63 rfl ?_
        refine z_if_le (tgt := 75) X dX4_bestFor_64 (by decide) (lg_cmp_le _ _) (fun c2 => ?_) (fun c2 => ?_)
        · refine z_iinc (v := nI (i + 1)) (lv2 := [(7, .int (nI (i + 1))), (8, .long (((1000000) * (lN (S.1 5 ix))) + (T (st - (pw5 i))))), (5, .long (bring S ix (bestTo S ix st T i) st T)), (4, .int (oI (bestTo S ix st T i))), (0, .ref (ad 0)), (1, .int (nI (ix))), (2, .int (nI (st))), (3, .ref (tq))]) X dX4_bestFor_75 1 rfl (nI_1 _) (Nat.le_of_ble_eq_true rfl) rfl ?_
          refine z_goto (tgt := 17) X dX4_bestFor_78 (by decide) ?_
          refine Z.lv [0, 2, 3, 4, 5, 6, 7] rfl ?_
          have e : bestTo S ix st T (i + 1) = bestTo S ix st T i := if_neg (fun h => Int64.not_lt.mpr c2 h.2)
          have kk := ih (i + 1) (by omega)
          rw [e] at kk
          exact kk
        · refine z_iload X dX4_bestFor_67 1 rfl ?_
          refine z_istore (lv2 := [(4, .int (nI (i))), (8, .long (((1000000) * (lN (S.1 5 ix))) + (T (st - (pw5 i))))), (7, .int (nI (i))), (5, .long (bring S ix (bestTo S ix st T i) st T)), (0, .ref (ad 0)), (1, .int (nI (ix))), (2, .int (nI (st))), (3, .ref (tq))]) X dX4_bestFor_69 (Nat.le_of_ble_eq_true rfl) rfl ?_
          refine z_lload X dX4_bestFor_71 1 rfl ?_
          refine z_lstore (lv2 := [(5, .long (((1000000) * (lN (S.1 5 ix))) + (T (st - (pw5 i))))), (4, .int (nI (i))), (8, .long (((1000000) * (lN (S.1 5 ix))) + (T (st - (pw5 i))))), (7, .int (nI (i))), (0, .ref (ad 0)), (1, .int (nI (ix))), (2, .int (nI (st))), (3, .ref (tq))]) X dX4_bestFor_73 (Nat.le_of_ble_eq_true rfl) rfl ?_
          refine z_iinc (v := nI (i + 1)) (lv2 := [(7, .int (nI (i + 1))), (5, .long (((1000000) * (lN (S.1 5 ix))) + (T (st - (pw5 i))))), (4, .int (nI (i))), (8, .long (((1000000) * (lN (S.1 5 ix))) + (T (st - (pw5 i))))), (0, .ref (ad 0)), (1, .int (nI (ix))), (2, .int (nI (st))), (3, .ref (tq))]) X dX4_bestFor_75 3 rfl (nI_1 _) (Nat.le_of_ble_eq_true rfl) rfl ?_
          refine z_goto (tgt := 17) X dX4_bestFor_78 (by decide) ?_
          refine Z.lv [0, 1, 2, 4, 5, 6, 7] rfl ?_
          have e : bestTo S ix st T (i + 1) = some i := if_pos ⟨c1, Int64.not_le.mp c2⟩
          have kk := ih (i + 1) (by omega)
          rw [e] at kk
          exact kk
  exact lp (3) 0 (by omega)
set_option maxHeartbeats 2000000 in
theorem m_X4_sizeBy_1 {l : Launch} {G : GG} {wb w : GW} {ad : Nat → Nat} {m : MSt} (hM : MM G wb w ad m) {S : WS} (hR : MR S m) (hI : wInv S) {a : Nat} (ha : a < 100) {ix st : Nat} (hi : ix < S.2 0) (hs : st < 125) : gM l G yX4_sizeBy cX4_sizeBy 9 (some .int) 3 0 0 [.ref (ad 0), .int (nI (1)), .int (nI (a)), .int (nI (ix)), .int (nI (st))] w (pI (fun r w1 => r = oI (leTo (fun z => fitsB S ix z st) 3) ∧ w1 = w)) := by
  refine Z.met (own := "ThreeSizesModel") (nm := "sizeBy") (lv := [(0, .ref (ad 0)), (1, .int (nI (1))), (2, .int (nI (a))), (3, .int (nI (ix))), (4, .int (nI (st)))]) (by decide) rfl rfl (Nat.le_of_ble_eq_true rfl) rfl (fun κ X => ?_)
  have h6 := hI.2.1
  have h5 := hI.2.2.1 ix hi
  refine z_aload_n X dX4_sizeBy_0 rfl 0 rfl ?_
  refine z_mg14 X hM dX4_sizeBy_1 ?_
  refine z_iload_n X dX4_sizeBy_4 rfl 3 rfl ?_
  refine z_aN5 (v := .ref (ad (50 + ix))) X dX4_sizeBy_5 (mm_15 hM) (by omega) (by omega) rfl ?_
  refine z_iconst (v := nI (0)) X dX4_sizeBy_6 ci0 ?_
  refine z_iaN (v := nI (S.1 3 ix)) X dX4_sizeBy_7 (mmr_50 hM (by omega)) (by omega) (by omega) (hR.2.2.1 ix (by omega)).1 ?_
  refine z_istore (lv2 := [(5, .int (nI (S.1 3 ix))), (0, .ref (ad 0)), (1, .int (nI (1))), (2, .int (nI (a))), (3, .int (nI (ix))), (4, .int (nI (st)))]) X dX4_sizeBy_8 (Nat.le_of_ble_eq_true rfl) rfl ?_
  refine z_iload_n X dX4_sizeBy_10 rfl 2 rfl ?_
  refine z_bipush (v := nI (6)) X dX4_sizeBy_11 (by decide) ?_
  refine z_icmp_ne_t (tgt := 26) X dX4_sizeBy_13 (by decide) (by decide) ?_
  refine z_iload_n X dX4_sizeBy_26 rfl 2 rfl ?_
  refine z_iconst (v := nI (3)) X dX4_sizeBy_27 ci3 ?_
  refine z_icmp_ne_t (tgt := 45) X dX4_sizeBy_28 (by decide) (by decide) ?_
  refine z_iconst (v := -1) X dX4_sizeBy_45 cim1 ?_
  refine z_istore (lv2 := [(6, .int (-1)), (5, .int (nI (S.1 3 ix))), (0, .ref (ad 0)), (1, .int (nI (1))), (2, .int (nI (a))), (3, .int (nI (ix))), (4, .int (nI (st)))]) X dX4_sizeBy_46 (Nat.le_of_ble_eq_true rfl) rfl ?_
  refine z_iload X dX4_sizeBy_48 1 rfl ?_
  refine z_istore (lv2 := [(7, .int (nI (S.1 3 ix))), (6, .int (-1)), (5, .int (nI (S.1 3 ix))), (0, .ref (ad 0)), (1, .int (nI (1))), (2, .int (nI (a))), (3, .int (nI (ix))), (4, .int (nI (st)))]) X dX4_sizeBy_50 (Nat.le_of_ble_eq_true rfl) rfl ?_
  have h0 : leTo (fun z => fitsB S ix z st) (S.1 3 ix) = none := leTo_nil (p := fun z => fitsB S ix z st) _ (fun z hz => fits_lo hz)
  have key : Z κ w [(7, .int (nI ((S.1 3 ix)))), (6, .int (oI (leTo (fun z => fitsB S ix z st) (S.1 3 ix)))), (5, .int (nI (S.1 3 ix))), (0, .ref (ad 0)), (1, .int (nI (1))), (2, .int (nI (a))), (3, .int (nI (ix))), (4, .int (nI (st)))] 0 0 52 [] := by
    have lp : ∀ (lq i : Nat), i + lq = 3 → S.1 3 ix ≤ i → Z κ w [(7, .int (nI (i))), (6, .int (oI (leTo (fun z => fitsB S ix z st) i))), (5, .int (nI (S.1 3 ix))), (0, .ref (ad 0)), (1, .int (nI (1))), (2, .int (nI (a))), (3, .int (nI (ix))), (4, .int (nI (st)))] 0 0 52 [] := by
      intro lq
      induction lq with
      | zero =>
        intro i lh ho
        obtain rfl : i = 3 := by omega
        refine z_iload X dX4_sizeBy_52 0 rfl ?_
        refine z_iconst (v := nI (3)) X dX4_sizeBy_54 ci3 ?_
        refine z_icmp_ge_t (tgt := 201) X dX4_sizeBy_55 (by decide) ((nI_leI (by omega) (by omega)).mpr (by omega)) ?_
        refine z_iload X dX4_sizeBy_201 1 rfl ?_
        exact z_iret X dX4_sizeBy_203 (by omega) (by omega) ⟨_, rfl, ⟨rfl, rfl⟩⟩
      | succ lq ih =>
        intro i lh ho
        have hi3 : i < 3 := by omega
        refine z_iload X dX4_sizeBy_52 0 rfl ?_
        refine z_iconst (v := nI (3)) X dX4_sizeBy_54 ci3 ?_
        refine z_icmp_ge_f (tgt := 201) X dX4_sizeBy_55 (by decide) (fun h => absurd ((nI_leI (by omega) (by omega)).mp h) (by omega)) ?_
        refine z_aload_n X dX4_sizeBy_58 rfl 3 rfl ?_
        refine z_iload_n X dX4_sizeBy_59 rfl 6 rfl ?_
        refine z_iload X dX4_sizeBy_60 7 rfl ?_
        refine z_iload X dX4_sizeBy_62 0 rfl ?_
        refine z_cip (z_runV (rest := []) (n := 3) X [.int (nI (ix)), .int (nI (st)), .int (nI (i))] (m_X4_mayGet hM hR hI (i := ix) (st := st) (z := i) (by omega) (by omega) (by omega)) dX4_sizeBy_64 (mm_o hM) rfl (lw_V q1629 q1631 qs37 q70 q1632) hv_X4_mayGet rfl ⟨Nat.le_of_ble_eq_true rfl, Nat.le_of_ble_eq_true rfl⟩ ⟨by omega, by omega⟩ rfl (Nat.le_of_ble_eq_true rfl)) ?_
        refine z_if_ne (tgt := 73) X dX4_sizeBy_67 (by decide) bI_0 (fun c1 => ?_) (fun c1 => ?_)
        · have c1 := ts_t c1
          have hf9 := fr_lt st i
          refine z_iload X dX4_sizeBy_73 7 rfl ?_
          refine z_iload X dX4_sizeBy_75 0 rfl ?_
          refine z_cip (z_runS (rest := []) (n := 2) X [.int (nI (st)), .int (nI (i))] (m_X4_freeOf (st := st) (z := i) (by omega) (by omega)) dX4_sizeBy_77 (lw_S q1609 q1610 q70 q1611) hs_X4_freeOf rfl ⟨Nat.le_of_ble_eq_true rfl, Nat.le_of_ble_eq_true rfl⟩ ⟨by omega, by omega⟩ rfl (Nat.le_of_ble_eq_true rfl)) ?_
          refine z_istore (lv2 := [(8, .int (nI (fr st i))), (7, .int (nI (i))), (6, .int (oI (leTo (fun z => fitsB S ix z st) i))), (5, .int (nI (S.1 3 ix))), (0, .ref (ad 0)), (1, .int (nI (1))), (2, .int (nI (a))), (3, .int (nI (ix))), (4, .int (nI (st)))]) X dX4_sizeBy_80 (Nat.le_of_ble_eq_true rfl) rfl ?_
          refine z_iload_n X dX4_sizeBy_82 rfl 5 rfl ?_
          refine z_tabOut (tgt := 180) X dX4_sizeBy_83 (by decide) (by decide) ?_
          refine z_iload X dX4_sizeBy_180 2 rfl ?_
          refine z_iconst (v := -1) X dX4_sizeBy_182 cim1 ?_
          refine z_icmp_ne (tgt := 191) X dX4_sizeBy_183 (by decide) (oI_m1 (fun z h => by have := (leTo_lt _ _ h).1; omega)) (fun c2 => ?_) (fun c2 => ?_)
          · refine z_iload X dX4_sizeBy_191 2 rfl ?_
            refine z_istore (lv2 := [(6, .int (oI (leTo (fun z => fitsB S ix z st) i))), (8, .int (nI (fr st i))), (7, .int (nI (i))), (5, .int (nI (S.1 3 ix))), (0, .ref (ad 0)), (1, .int (nI (1))), (2, .int (nI (a))), (3, .int (nI (ix))), (4, .int (nI (st)))]) X dX4_sizeBy_193 (Nat.le_of_ble_eq_true rfl) rfl ?_
            refine z_iinc (v := nI (i + 1)) (lv2 := [(7, .int (nI (i + 1))), (6, .int (oI (leTo (fun z => fitsB S ix z st) i))), (8, .int (nI (fr st i))), (5, .int (nI (S.1 3 ix))), (0, .ref (ad 0)), (1, .int (nI (1))), (2, .int (nI (a))), (3, .int (nI (ix))), (4, .int (nI (st)))]) X dX4_sizeBy_195 2 rfl (nI_1 _) (Nat.le_of_ble_eq_true rfl) rfl ?_
            refine z_goto (tgt := 52) X dX4_sizeBy_198 (by decide) ?_
            refine Z.lv [0, 1, 3, 4, 5, 6, 7, 8] rfl ?_
            have e : leTo (fun z => fitsB S ix z st) (i + 1) = leTo (fun z => fitsB S ix z st) i := leTo_kp c2
            have kk := ih (i + 1) (by omega) (by omega)
            rw [e] at kk
            exact kk
          · refine z_iload X dX4_sizeBy_186 1 rfl ?_
            refine z_goto (tgt := 193) X dX4_sizeBy_188 (by decide) ?_
            refine z_istore (lv2 := [(6, .int (nI (i))), (8, .int (nI (fr st i))), (7, .int (nI (i))), (5, .int (nI (S.1 3 ix))), (0, .ref (ad 0)), (1, .int (nI (1))), (2, .int (nI (a))), (3, .int (nI (ix))), (4, .int (nI (st)))]) X dX4_sizeBy_193 (Nat.le_of_ble_eq_true rfl) rfl ?_
            refine z_iinc (v := nI (i + 1)) (lv2 := [(7, .int (nI (i + 1))), (6, .int (nI (i))), (8, .int (nI (fr st i))), (5, .int (nI (S.1 3 ix))), (0, .ref (ad 0)), (1, .int (nI (1))), (2, .int (nI (a))), (3, .int (nI (ix))), (4, .int (nI (st)))]) X dX4_sizeBy_195 2 rfl (nI_1 _) (Nat.le_of_ble_eq_true rfl) rfl ?_
            refine z_goto (tgt := 52) X dX4_sizeBy_198 (by decide) ?_
            refine Z.lv [0, 1, 3, 4, 5, 6, 7, 8] rfl ?_
            have e : leTo (fun z => fitsB S ix z st) (i + 1) = some i := leTo_yes (p := fun z => fitsB S ix z st) c2 c1
            have kk := ih (i + 1) (by omega) (by omega)
            rw [e] at kk
            exact kk
        · refine z_goto (tgt := 195) X dX4_sizeBy_70 (by decide) ?_
          refine z_iinc (v := nI (i + 1)) (lv2 := [(7, .int (nI (i + 1))), (6, .int (oI (leTo (fun z => fitsB S ix z st) i))), (5, .int (nI (S.1 3 ix))), (0, .ref (ad 0)), (1, .int (nI (1))), (2, .int (nI (a))), (3, .int (nI (ix))), (4, .int (nI (st)))]) X dX4_sizeBy_195 0 rfl (nI_1 _) (Nat.le_of_ble_eq_true rfl) rfl ?_
          refine z_goto (tgt := 52) X dX4_sizeBy_198 (by decide) ?_
          have e : leTo (fun z => fitsB S ix z st) (i + 1) = leTo (fun z => fitsB S ix z st) i := leTo_no (p := fun z => fitsB S ix z st) c1
          have kk := ih (i + 1) (by omega) (by omega)
          rw [e] at kk
          exact kk
    exact lp (3 - S.1 3 ix) (S.1 3 ix) (by omega) (Nat.le_refl _)
  rw [h0] at key
  exact key
set_option maxHeartbeats 2000000 in
theorem m_X4_sizeBy_2 {l : Launch} {G : GG} {wb w : GW} {ad : Nat → Nat} {m : MSt} (hM : MM G wb w ad m) {S : WS} (hR : MR S m) (hI : wInv S) {a : Nat} (ha : a < 100) {ix st : Nat} (hi : ix < S.2 0) (hs : st < 125) : gM l G yX4_sizeBy cX4_sizeBy 9 (some .int) 3 0 0 [.ref (ad 0), .int (nI (2)), .int (nI (a)), .int (nI (ix)), .int (nI (st))] w (pI (fun r w1 => r = oI (leTo (fun z => fitsB S ix z st && !keptB S a ix z st) 3) ∧ w1 = w)) := by
  refine Z.met (own := "ThreeSizesModel") (nm := "sizeBy") (lv := [(0, .ref (ad 0)), (1, .int (nI (2))), (2, .int (nI (a))), (3, .int (nI (ix))), (4, .int (nI (st)))]) (by decide) rfl rfl (Nat.le_of_ble_eq_true rfl) rfl (fun κ X => ?_)
  have h6 := hI.2.1
  have h5 := hI.2.2.1 ix hi
  refine z_aload_n X dX4_sizeBy_0 rfl 0 rfl ?_
  refine z_mg14 X hM dX4_sizeBy_1 ?_
  refine z_iload_n X dX4_sizeBy_4 rfl 3 rfl ?_
  refine z_aN5 (v := .ref (ad (50 + ix))) X dX4_sizeBy_5 (mm_15 hM) (by omega) (by omega) rfl ?_
  refine z_iconst (v := nI (0)) X dX4_sizeBy_6 ci0 ?_
  refine z_iaN (v := nI (S.1 3 ix)) X dX4_sizeBy_7 (mmr_50 hM (by omega)) (by omega) (by omega) (hR.2.2.1 ix (by omega)).1 ?_
  refine z_istore (lv2 := [(5, .int (nI (S.1 3 ix))), (0, .ref (ad 0)), (1, .int (nI (2))), (2, .int (nI (a))), (3, .int (nI (ix))), (4, .int (nI (st)))]) X dX4_sizeBy_8 (Nat.le_of_ble_eq_true rfl) rfl ?_
  refine z_iload_n X dX4_sizeBy_10 rfl 2 rfl ?_
  refine z_bipush (v := nI (6)) X dX4_sizeBy_11 (by decide) ?_
  refine z_icmp_ne_t (tgt := 26) X dX4_sizeBy_13 (by decide) (by decide) ?_
  refine z_iload_n X dX4_sizeBy_26 rfl 2 rfl ?_
  refine z_iconst (v := nI (3)) X dX4_sizeBy_27 ci3 ?_
  refine z_icmp_ne_t (tgt := 45) X dX4_sizeBy_28 (by decide) (by decide) ?_
  refine z_iconst (v := -1) X dX4_sizeBy_45 cim1 ?_
  refine z_istore (lv2 := [(6, .int (-1)), (5, .int (nI (S.1 3 ix))), (0, .ref (ad 0)), (1, .int (nI (2))), (2, .int (nI (a))), (3, .int (nI (ix))), (4, .int (nI (st)))]) X dX4_sizeBy_46 (Nat.le_of_ble_eq_true rfl) rfl ?_
  refine z_iload X dX4_sizeBy_48 1 rfl ?_
  refine z_istore (lv2 := [(7, .int (nI (S.1 3 ix))), (6, .int (-1)), (5, .int (nI (S.1 3 ix))), (0, .ref (ad 0)), (1, .int (nI (2))), (2, .int (nI (a))), (3, .int (nI (ix))), (4, .int (nI (st)))]) X dX4_sizeBy_50 (Nat.le_of_ble_eq_true rfl) rfl ?_
  have h0 : leTo (fun z => fitsB S ix z st && !keptB S a ix z st) (S.1 3 ix) = none := leTo_nil (p := fun z => fitsB S ix z st && !keptB S a ix z st) _ (fun z hz => by show (fitsB S ix z st && _) = false; rw [fits_lo hz]; rfl)
  have key : Z κ w [(7, .int (nI ((S.1 3 ix)))), (6, .int (oI (leTo (fun z => fitsB S ix z st && !keptB S a ix z st) (S.1 3 ix)))), (5, .int (nI (S.1 3 ix))), (0, .ref (ad 0)), (1, .int (nI (2))), (2, .int (nI (a))), (3, .int (nI (ix))), (4, .int (nI (st)))] 0 0 52 [] := by
    have lp : ∀ (lq i : Nat), i + lq = 3 → S.1 3 ix ≤ i → Z κ w [(7, .int (nI (i))), (6, .int (oI (leTo (fun z => fitsB S ix z st && !keptB S a ix z st) i))), (5, .int (nI (S.1 3 ix))), (0, .ref (ad 0)), (1, .int (nI (2))), (2, .int (nI (a))), (3, .int (nI (ix))), (4, .int (nI (st)))] 0 0 52 [] := by
      intro lq
      induction lq with
      | zero =>
        intro i lh ho
        obtain rfl : i = 3 := by omega
        refine z_iload X dX4_sizeBy_52 0 rfl ?_
        refine z_iconst (v := nI (3)) X dX4_sizeBy_54 ci3 ?_
        refine z_icmp_ge_t (tgt := 201) X dX4_sizeBy_55 (by decide) ((nI_leI (by omega) (by omega)).mpr (by omega)) ?_
        refine z_iload X dX4_sizeBy_201 1 rfl ?_
        exact z_iret X dX4_sizeBy_203 (by omega) (by omega) ⟨_, rfl, ⟨rfl, rfl⟩⟩
      | succ lq ih =>
        intro i lh ho
        have hi3 : i < 3 := by omega
        refine z_iload X dX4_sizeBy_52 0 rfl ?_
        refine z_iconst (v := nI (3)) X dX4_sizeBy_54 ci3 ?_
        refine z_icmp_ge_f (tgt := 201) X dX4_sizeBy_55 (by decide) (fun h => absurd ((nI_leI (by omega) (by omega)).mp h) (by omega)) ?_
        refine z_aload_n X dX4_sizeBy_58 rfl 3 rfl ?_
        refine z_iload_n X dX4_sizeBy_59 rfl 6 rfl ?_
        refine z_iload X dX4_sizeBy_60 7 rfl ?_
        refine z_iload X dX4_sizeBy_62 0 rfl ?_
        refine z_cip (z_runV (rest := []) (n := 3) X [.int (nI (ix)), .int (nI (st)), .int (nI (i))] (m_X4_mayGet hM hR hI (i := ix) (st := st) (z := i) (by omega) (by omega) (by omega)) dX4_sizeBy_64 (mm_o hM) rfl (lw_V q1629 q1631 qs37 q70 q1632) hv_X4_mayGet rfl ⟨Nat.le_of_ble_eq_true rfl, Nat.le_of_ble_eq_true rfl⟩ ⟨by omega, by omega⟩ rfl (Nat.le_of_ble_eq_true rfl)) ?_
        refine z_if_ne (tgt := 73) X dX4_sizeBy_67 (by decide) bI_0 (fun c1 => ?_) (fun c1 => ?_)
        · have c1 := ts_t c1
          have hf9 := fr_lt st i
          refine z_iload X dX4_sizeBy_73 7 rfl ?_
          refine z_iload X dX4_sizeBy_75 0 rfl ?_
          refine z_cip (z_runS (rest := []) (n := 2) X [.int (nI (st)), .int (nI (i))] (m_X4_freeOf (st := st) (z := i) (by omega) (by omega)) dX4_sizeBy_77 (lw_S q1609 q1610 q70 q1611) hs_X4_freeOf rfl ⟨Nat.le_of_ble_eq_true rfl, Nat.le_of_ble_eq_true rfl⟩ ⟨by omega, by omega⟩ rfl (Nat.le_of_ble_eq_true rfl)) ?_
          refine z_istore (lv2 := [(8, .int (nI (fr st i))), (7, .int (nI (i))), (6, .int (oI (leTo (fun z => fitsB S ix z st && !keptB S a ix z st) i))), (5, .int (nI (S.1 3 ix))), (0, .ref (ad 0)), (1, .int (nI (2))), (2, .int (nI (a))), (3, .int (nI (ix))), (4, .int (nI (st)))]) X dX4_sizeBy_80 (Nat.le_of_ble_eq_true rfl) rfl ?_
          refine z_iload_n X dX4_sizeBy_82 rfl 5 rfl ?_
          refine z_tabIn (off := 29) (tgt := 112) X dX4_sizeBy_83 (by decide) (by decide) (by decide) (by decide) ?_
          refine z_iload X dX4_sizeBy_112 2 rfl ?_
          refine z_iconst (v := -1) X dX4_sizeBy_114 cim1 ?_
          refine z_icmp_ne (tgt := 136) X dX4_sizeBy_115 (by decide) (oI_m1 (fun z h => by have := (leTo_lt _ _ h).1; omega)) (fun c2 => ?_) (fun c2 => ?_)
          · refine z_iload X dX4_sizeBy_136 2 rfl ?_
            refine z_istore (lv2 := [(6, .int (oI (leTo (fun z => fitsB S ix z st && !keptB S a ix z st) i))), (8, .int (nI (fr st i))), (7, .int (nI (i))), (5, .int (nI (S.1 3 ix))), (0, .ref (ad 0)), (1, .int (nI (2))), (2, .int (nI (a))), (3, .int (nI (ix))), (4, .int (nI (st)))]) X dX4_sizeBy_138 (Nat.le_of_ble_eq_true rfl) rfl ?_
            refine z_goto (tgt := 195) X dX4_sizeBy_140 (by decide) ?_
            refine z_iinc (v := nI (i + 1)) (lv2 := [(7, .int (nI (i + 1))), (6, .int (oI (leTo (fun z => fitsB S ix z st && !keptB S a ix z st) i))), (8, .int (nI (fr st i))), (5, .int (nI (S.1 3 ix))), (0, .ref (ad 0)), (1, .int (nI (2))), (2, .int (nI (a))), (3, .int (nI (ix))), (4, .int (nI (st)))]) X dX4_sizeBy_195 2 rfl (nI_1 _) (Nat.le_of_ble_eq_true rfl) rfl ?_
            refine z_goto (tgt := 52) X dX4_sizeBy_198 (by decide) ?_
            refine Z.lv [0, 1, 3, 4, 5, 6, 7, 8] rfl ?_
            have e : leTo (fun z => fitsB S ix z st && !keptB S a ix z st) (i + 1) = leTo (fun z => fitsB S ix z st && !keptB S a ix z st) i := leTo_kp c2
            have kk := ih (i + 1) (by omega) (by omega)
            rw [e] at kk
            exact kk
          · refine z_iload X dX4_sizeBy_118 1 rfl ?_
            refine z_iload X dX4_sizeBy_120 3 rfl ?_
            refine z_icmp_eq (tgt := 131) X dX4_sizeBy_122 (by decide) (nI_eq (by omega) (by omega)) (fun c3 => ?_) (fun c3 => ?_)
            · refine z_iload X dX4_sizeBy_131 1 rfl ?_
              refine z_goto (tgt := 138) X dX4_sizeBy_133 (by decide) ?_
              refine z_istore (lv2 := [(6, .int (nI (i))), (8, .int (nI (fr st i))), (7, .int (nI (i))), (5, .int (nI (S.1 3 ix))), (0, .ref (ad 0)), (1, .int (nI (2))), (2, .int (nI (a))), (3, .int (nI (ix))), (4, .int (nI (st)))]) X dX4_sizeBy_138 (Nat.le_of_ble_eq_true rfl) rfl ?_
              refine z_goto (tgt := 195) X dX4_sizeBy_140 (by decide) ?_
              refine z_iinc (v := nI (i + 1)) (lv2 := [(7, .int (nI (i + 1))), (6, .int (nI (i))), (8, .int (nI (fr st i))), (5, .int (nI (S.1 3 ix))), (0, .ref (ad 0)), (1, .int (nI (2))), (2, .int (nI (a))), (3, .int (nI (ix))), (4, .int (nI (st)))]) X dX4_sizeBy_195 2 rfl (nI_1 _) (Nat.le_of_ble_eq_true rfl) rfl ?_
              refine z_goto (tgt := 52) X dX4_sizeBy_198 (by decide) ?_
              refine Z.lv [0, 1, 3, 4, 5, 6, 7, 8] rfl ?_
              have e : leTo (fun z => fitsB S ix z st && !keptB S a ix z st) (i + 1) = some i := leTo_yes (p := fun z => fitsB S ix z st && !keptB S a ix z st) c2 (by show (fitsB S ix i st && !keptB S a ix i st) = true; rw [c1, show keptB S a ix i st = false from by simp only [keptB, Bool.and_eq_false_iff, Bool.and_eq_true, decide_eq_false_iff_not, decide_eq_true_eq]; omega]; rfl)
              have kk := ih (i + 1) (by omega) (by omega)
              rw [e] at kk
              exact kk
            · refine z_iload X dX4_sizeBy_125 0 rfl ?_
              refine z_iload_n X dX4_sizeBy_127 rfl 6 rfl ?_
              refine z_icmp_le (tgt := 136) X dX4_sizeBy_128 (by decide) (nI_leI (by omega) (by omega)) (fun c4 => ?_) (fun c4 => ?_)
              · refine z_iload X dX4_sizeBy_136 2 rfl ?_
                refine z_istore (lv2 := [(6, .int (oI (leTo (fun z => fitsB S ix z st && !keptB S a ix z st) i))), (8, .int (nI (fr st i))), (7, .int (nI (i))), (5, .int (nI (S.1 3 ix))), (0, .ref (ad 0)), (1, .int (nI (2))), (2, .int (nI (a))), (3, .int (nI (ix))), (4, .int (nI (st)))]) X dX4_sizeBy_138 (Nat.le_of_ble_eq_true rfl) rfl ?_
                refine z_goto (tgt := 195) X dX4_sizeBy_140 (by decide) ?_
                refine z_iinc (v := nI (i + 1)) (lv2 := [(7, .int (nI (i + 1))), (6, .int (oI (leTo (fun z => fitsB S ix z st && !keptB S a ix z st) i))), (8, .int (nI (fr st i))), (5, .int (nI (S.1 3 ix))), (0, .ref (ad 0)), (1, .int (nI (2))), (2, .int (nI (a))), (3, .int (nI (ix))), (4, .int (nI (st)))]) X dX4_sizeBy_195 2 rfl (nI_1 _) (Nat.le_of_ble_eq_true rfl) rfl ?_
                refine z_goto (tgt := 52) X dX4_sizeBy_198 (by decide) ?_
                refine Z.lv [0, 1, 3, 4, 5, 6, 7, 8] rfl ?_
                have e : leTo (fun z => fitsB S ix z st && !keptB S a ix z st) (i + 1) = leTo (fun z => fitsB S ix z st && !keptB S a ix z st) i := leTo_no (p := fun z => fitsB S ix z st && !keptB S a ix z st) (by show (fitsB S ix i st && !keptB S a ix i st) = false; rw [c1, show keptB S a ix i st = true from by simp only [keptB, Bool.and_eq_false_iff, Bool.and_eq_true, decide_eq_false_iff_not, decide_eq_true_eq]; omega]; rfl)
                have kk := ih (i + 1) (by omega) (by omega)
                rw [e] at kk
                exact kk
              · refine z_iload X dX4_sizeBy_131 1 rfl ?_
                refine z_goto (tgt := 138) X dX4_sizeBy_133 (by decide) ?_
                refine z_istore (lv2 := [(6, .int (nI (i))), (8, .int (nI (fr st i))), (7, .int (nI (i))), (5, .int (nI (S.1 3 ix))), (0, .ref (ad 0)), (1, .int (nI (2))), (2, .int (nI (a))), (3, .int (nI (ix))), (4, .int (nI (st)))]) X dX4_sizeBy_138 (Nat.le_of_ble_eq_true rfl) rfl ?_
                refine z_goto (tgt := 195) X dX4_sizeBy_140 (by decide) ?_
                refine z_iinc (v := nI (i + 1)) (lv2 := [(7, .int (nI (i + 1))), (6, .int (nI (i))), (8, .int (nI (fr st i))), (5, .int (nI (S.1 3 ix))), (0, .ref (ad 0)), (1, .int (nI (2))), (2, .int (nI (a))), (3, .int (nI (ix))), (4, .int (nI (st)))]) X dX4_sizeBy_195 2 rfl (nI_1 _) (Nat.le_of_ble_eq_true rfl) rfl ?_
                refine z_goto (tgt := 52) X dX4_sizeBy_198 (by decide) ?_
                refine Z.lv [0, 1, 3, 4, 5, 6, 7, 8] rfl ?_
                have e : leTo (fun z => fitsB S ix z st && !keptB S a ix z st) (i + 1) = some i := leTo_yes (p := fun z => fitsB S ix z st && !keptB S a ix z st) c2 (by show (fitsB S ix i st && !keptB S a ix i st) = true; rw [c1, show keptB S a ix i st = false from by simp only [keptB, Bool.and_eq_false_iff, Bool.and_eq_true, decide_eq_false_iff_not, decide_eq_true_eq]; omega]; rfl)
                have kk := ih (i + 1) (by omega) (by omega)
                rw [e] at kk
                exact kk
        · refine z_goto (tgt := 195) X dX4_sizeBy_70 (by decide) ?_
          refine z_iinc (v := nI (i + 1)) (lv2 := [(7, .int (nI (i + 1))), (6, .int (oI (leTo (fun z => fitsB S ix z st && !keptB S a ix z st) i))), (5, .int (nI (S.1 3 ix))), (0, .ref (ad 0)), (1, .int (nI (2))), (2, .int (nI (a))), (3, .int (nI (ix))), (4, .int (nI (st)))]) X dX4_sizeBy_195 0 rfl (nI_1 _) (Nat.le_of_ble_eq_true rfl) rfl ?_
          refine z_goto (tgt := 52) X dX4_sizeBy_198 (by decide) ?_
          have e : leTo (fun z => fitsB S ix z st && !keptB S a ix z st) (i + 1) = leTo (fun z => fitsB S ix z st && !keptB S a ix z st) i := leTo_no (p := fun z => fitsB S ix z st && !keptB S a ix z st) (by show (fitsB S ix i st && _) = false; rw [c1]; rfl)
          have kk := ih (i + 1) (by omega) (by omega)
          rw [e] at kk
          exact kk
    exact lp (3 - S.1 3 ix) (S.1 3 ix) (by omega) (Nat.le_refl _)
  rw [h0] at key
  exact key
set_option maxHeartbeats 2000000 in
theorem m_X4_sizeBy_3 {l : Launch} {G : GG} {wb w : GW} {ad : Nat → Nat} {m : MSt} (hM : MM G wb w ad m) {S : WS} (hR : MR S m) (hI : wInv S) {a : Nat} (ha : a < 100) {ix st : Nat} (hi : ix < S.2 0) (hs : st < 125) : gM l G yX4_sizeBy cX4_sizeBy 9 (some .int) 3 0 0 [.ref (ad 0), .int (nI (3)), .int (nI (a)), .int (nI (ix)), .int (nI (st))] w (pI (fun r w1 => r = oI ((if S.1 5 ix < a then none else leTo (fun z => fitsB S ix z st) 3)) ∧ w1 = w)) := by
  refine Z.met (own := "ThreeSizesModel") (nm := "sizeBy") (lv := [(0, .ref (ad 0)), (1, .int (nI (3))), (2, .int (nI (a))), (3, .int (nI (ix))), (4, .int (nI (st)))]) (by decide) rfl rfl (Nat.le_of_ble_eq_true rfl) rfl (fun κ X => ?_)
  have h6 := hI.2.1
  have h5 := hI.2.2.1 ix hi
  refine z_aload_n X dX4_sizeBy_0 rfl 0 rfl ?_
  refine z_mg14 X hM dX4_sizeBy_1 ?_
  refine z_iload_n X dX4_sizeBy_4 rfl 3 rfl ?_
  refine z_aN5 (v := .ref (ad (50 + ix))) X dX4_sizeBy_5 (mm_15 hM) (by omega) (by omega) rfl ?_
  refine z_iconst (v := nI (0)) X dX4_sizeBy_6 ci0 ?_
  refine z_iaN (v := nI (S.1 3 ix)) X dX4_sizeBy_7 (mmr_50 hM (by omega)) (by omega) (by omega) (hR.2.2.1 ix (by omega)).1 ?_
  refine z_istore (lv2 := [(5, .int (nI (S.1 3 ix))), (0, .ref (ad 0)), (1, .int (nI (3))), (2, .int (nI (a))), (3, .int (nI (ix))), (4, .int (nI (st)))]) X dX4_sizeBy_8 (Nat.le_of_ble_eq_true rfl) rfl ?_
  refine z_iload_n X dX4_sizeBy_10 rfl 2 rfl ?_
  refine z_bipush (v := nI (6)) X dX4_sizeBy_11 (by decide) ?_
  refine z_icmp_ne_t (tgt := 26) X dX4_sizeBy_13 (by decide) (by decide) ?_
  refine z_iload_n X dX4_sizeBy_26 rfl 2 rfl ?_
  refine z_iconst (v := nI (3)) X dX4_sizeBy_27 ci3 ?_
  refine z_icmp_ne_f (tgt := 45) X dX4_sizeBy_28 (by decide) (by decide) ?_
  refine z_aload_n X dX4_sizeBy_31 rfl 1 rfl ?_
  refine z_mg14 X hM dX4_sizeBy_32 ?_
  refine z_iload_n X dX4_sizeBy_35 rfl 4 rfl ?_
  refine z_aN5 (v := .ref (ad (50 + ix))) X dX4_sizeBy_36 (mm_15 hM) (by omega) (by omega) rfl ?_
  refine z_iconst (v := nI (2)) X dX4_sizeBy_37 ci2 ?_
  refine z_iaN (v := nI (S.1 5 ix)) X dX4_sizeBy_38 (mmr_50 hM (by omega)) (by omega) (by omega) (hR.2.2.1 ix (by omega)).2.2.1 ?_
  refine z_iload_n X dX4_sizeBy_39 rfl 3 rfl ?_
  refine z_icmp_ge (tgt := 45) X dX4_sizeBy_40 (by decide) (nI_leI (by omega) (by omega)) (fun c1 => ?_) (fun c1 => ?_)
  · refine z_iconst (v := -1) X dX4_sizeBy_45 cim1 ?_
    refine z_istore (lv2 := [(6, .int (-1)), (5, .int (nI (S.1 3 ix))), (0, .ref (ad 0)), (1, .int (nI (3))), (2, .int (nI (a))), (3, .int (nI (ix))), (4, .int (nI (st)))]) X dX4_sizeBy_46 (Nat.le_of_ble_eq_true rfl) rfl ?_
    refine z_iload X dX4_sizeBy_48 1 rfl ?_
    refine z_istore (lv2 := [(7, .int (nI (S.1 3 ix))), (6, .int (-1)), (5, .int (nI (S.1 3 ix))), (0, .ref (ad 0)), (1, .int (nI (3))), (2, .int (nI (a))), (3, .int (nI (ix))), (4, .int (nI (st)))]) X dX4_sizeBy_50 (Nat.le_of_ble_eq_true rfl) rfl ?_
    have h0 : leTo (fun z => fitsB S ix z st) (S.1 3 ix) = none := leTo_nil (p := fun z => fitsB S ix z st) _ (fun z hz => fits_lo hz)
    have key : Z κ w [(7, .int (nI ((S.1 3 ix)))), (6, .int (oI (leTo (fun z => fitsB S ix z st) (S.1 3 ix)))), (5, .int (nI (S.1 3 ix))), (0, .ref (ad 0)), (1, .int (nI (3))), (2, .int (nI (a))), (3, .int (nI (ix))), (4, .int (nI (st)))] 0 0 52 [] := by
      have lp : ∀ (lq i : Nat), i + lq = 3 → S.1 3 ix ≤ i → Z κ w [(7, .int (nI (i))), (6, .int (oI (leTo (fun z => fitsB S ix z st) i))), (5, .int (nI (S.1 3 ix))), (0, .ref (ad 0)), (1, .int (nI (3))), (2, .int (nI (a))), (3, .int (nI (ix))), (4, .int (nI (st)))] 0 0 52 [] := by
        intro lq
        induction lq with
        | zero =>
          intro i lh ho
          obtain rfl : i = 3 := by omega
          refine z_iload X dX4_sizeBy_52 0 rfl ?_
          refine z_iconst (v := nI (3)) X dX4_sizeBy_54 ci3 ?_
          refine z_icmp_ge_t (tgt := 201) X dX4_sizeBy_55 (by decide) ((nI_leI (by omega) (by omega)).mpr (by omega)) ?_
          refine z_iload X dX4_sizeBy_201 1 rfl ?_
          exact z_iret X dX4_sizeBy_203 (by omega) (by omega) ⟨_, rfl, ⟨by rw [if_neg (by omega)], rfl⟩⟩
        | succ lq ih =>
          intro i lh ho
          have hi3 : i < 3 := by omega
          refine z_iload X dX4_sizeBy_52 0 rfl ?_
          refine z_iconst (v := nI (3)) X dX4_sizeBy_54 ci3 ?_
          refine z_icmp_ge_f (tgt := 201) X dX4_sizeBy_55 (by decide) (fun h => absurd ((nI_leI (by omega) (by omega)).mp h) (by omega)) ?_
          refine z_aload_n X dX4_sizeBy_58 rfl 3 rfl ?_
          refine z_iload_n X dX4_sizeBy_59 rfl 6 rfl ?_
          refine z_iload X dX4_sizeBy_60 7 rfl ?_
          refine z_iload X dX4_sizeBy_62 0 rfl ?_
          refine z_cip (z_runV (rest := []) (n := 3) X [.int (nI (ix)), .int (nI (st)), .int (nI (i))] (m_X4_mayGet hM hR hI (i := ix) (st := st) (z := i) (by omega) (by omega) (by omega)) dX4_sizeBy_64 (mm_o hM) rfl (lw_V q1629 q1631 qs37 q70 q1632) hv_X4_mayGet rfl ⟨Nat.le_of_ble_eq_true rfl, Nat.le_of_ble_eq_true rfl⟩ ⟨by omega, by omega⟩ rfl (Nat.le_of_ble_eq_true rfl)) ?_
          refine z_if_ne (tgt := 73) X dX4_sizeBy_67 (by decide) bI_0 (fun c2 => ?_) (fun c2 => ?_)
          · have c2 := ts_t c2
            have hf9 := fr_lt st i
            refine z_iload X dX4_sizeBy_73 7 rfl ?_
            refine z_iload X dX4_sizeBy_75 0 rfl ?_
            refine z_cip (z_runS (rest := []) (n := 2) X [.int (nI (st)), .int (nI (i))] (m_X4_freeOf (st := st) (z := i) (by omega) (by omega)) dX4_sizeBy_77 (lw_S q1609 q1610 q70 q1611) hs_X4_freeOf rfl ⟨Nat.le_of_ble_eq_true rfl, Nat.le_of_ble_eq_true rfl⟩ ⟨by omega, by omega⟩ rfl (Nat.le_of_ble_eq_true rfl)) ?_
            refine z_istore (lv2 := [(8, .int (nI (fr st i))), (7, .int (nI (i))), (6, .int (oI (leTo (fun z => fitsB S ix z st) i))), (5, .int (nI (S.1 3 ix))), (0, .ref (ad 0)), (1, .int (nI (3))), (2, .int (nI (a))), (3, .int (nI (ix))), (4, .int (nI (st)))]) X dX4_sizeBy_80 (Nat.le_of_ble_eq_true rfl) rfl ?_
            refine z_iload_n X dX4_sizeBy_82 rfl 5 rfl ?_
            refine z_tabIn (off := 97) (tgt := 180) X dX4_sizeBy_83 (by decide) (by decide) (by decide) (by decide) ?_
            refine z_iload X dX4_sizeBy_180 2 rfl ?_
            refine z_iconst (v := -1) X dX4_sizeBy_182 cim1 ?_
            refine z_icmp_ne (tgt := 191) X dX4_sizeBy_183 (by decide) (oI_m1 (fun z h => by have := (leTo_lt _ _ h).1; omega)) (fun c3 => ?_) (fun c3 => ?_)
            · refine z_iload X dX4_sizeBy_191 2 rfl ?_
              refine z_istore (lv2 := [(6, .int (oI (leTo (fun z => fitsB S ix z st) i))), (8, .int (nI (fr st i))), (7, .int (nI (i))), (5, .int (nI (S.1 3 ix))), (0, .ref (ad 0)), (1, .int (nI (3))), (2, .int (nI (a))), (3, .int (nI (ix))), (4, .int (nI (st)))]) X dX4_sizeBy_193 (Nat.le_of_ble_eq_true rfl) rfl ?_
              refine z_iinc (v := nI (i + 1)) (lv2 := [(7, .int (nI (i + 1))), (6, .int (oI (leTo (fun z => fitsB S ix z st) i))), (8, .int (nI (fr st i))), (5, .int (nI (S.1 3 ix))), (0, .ref (ad 0)), (1, .int (nI (3))), (2, .int (nI (a))), (3, .int (nI (ix))), (4, .int (nI (st)))]) X dX4_sizeBy_195 2 rfl (nI_1 _) (Nat.le_of_ble_eq_true rfl) rfl ?_
              refine z_goto (tgt := 52) X dX4_sizeBy_198 (by decide) ?_
              refine Z.lv [0, 1, 3, 4, 5, 6, 7, 8] rfl ?_
              have e : leTo (fun z => fitsB S ix z st) (i + 1) = leTo (fun z => fitsB S ix z st) i := leTo_kp c3
              have kk := ih (i + 1) (by omega) (by omega)
              rw [e] at kk
              exact kk
            · refine z_iload X dX4_sizeBy_186 1 rfl ?_
              refine z_goto (tgt := 193) X dX4_sizeBy_188 (by decide) ?_
              refine z_istore (lv2 := [(6, .int (nI (i))), (8, .int (nI (fr st i))), (7, .int (nI (i))), (5, .int (nI (S.1 3 ix))), (0, .ref (ad 0)), (1, .int (nI (3))), (2, .int (nI (a))), (3, .int (nI (ix))), (4, .int (nI (st)))]) X dX4_sizeBy_193 (Nat.le_of_ble_eq_true rfl) rfl ?_
              refine z_iinc (v := nI (i + 1)) (lv2 := [(7, .int (nI (i + 1))), (6, .int (nI (i))), (8, .int (nI (fr st i))), (5, .int (nI (S.1 3 ix))), (0, .ref (ad 0)), (1, .int (nI (3))), (2, .int (nI (a))), (3, .int (nI (ix))), (4, .int (nI (st)))]) X dX4_sizeBy_195 2 rfl (nI_1 _) (Nat.le_of_ble_eq_true rfl) rfl ?_
              refine z_goto (tgt := 52) X dX4_sizeBy_198 (by decide) ?_
              refine Z.lv [0, 1, 3, 4, 5, 6, 7, 8] rfl ?_
              have e : leTo (fun z => fitsB S ix z st) (i + 1) = some i := leTo_yes (p := fun z => fitsB S ix z st) c3 c2
              have kk := ih (i + 1) (by omega) (by omega)
              rw [e] at kk
              exact kk
          · refine z_goto (tgt := 195) X dX4_sizeBy_70 (by decide) ?_
            refine z_iinc (v := nI (i + 1)) (lv2 := [(7, .int (nI (i + 1))), (6, .int (oI (leTo (fun z => fitsB S ix z st) i))), (5, .int (nI (S.1 3 ix))), (0, .ref (ad 0)), (1, .int (nI (3))), (2, .int (nI (a))), (3, .int (nI (ix))), (4, .int (nI (st)))]) X dX4_sizeBy_195 0 rfl (nI_1 _) (Nat.le_of_ble_eq_true rfl) rfl ?_
            refine z_goto (tgt := 52) X dX4_sizeBy_198 (by decide) ?_
            have e : leTo (fun z => fitsB S ix z st) (i + 1) = leTo (fun z => fitsB S ix z st) i := leTo_no (p := fun z => fitsB S ix z st) c2
            have kk := ih (i + 1) (by omega) (by omega)
            rw [e] at kk
            exact kk
      exact lp (3 - S.1 3 ix) (S.1 3 ix) (by omega) (Nat.le_refl _)
    rw [h0] at key
    exact key
  · refine z_iconst (v := -1) X dX4_sizeBy_43 cim1 ?_
    exact z_iret X dX4_sizeBy_44 (by omega) (by omega) ⟨_, rfl, ⟨by rw [if_pos (by omega)]; rfl, rfl⟩⟩
set_option maxHeartbeats 2000000 in
theorem m_X4_sizeBy_4 {l : Launch} {G : GG} {wb w : GW} {ad : Nat → Nat} {m : MSt} (hM : MM G wb w ad m) {S : WS} (hR : MR S m) (hI : wInv S) {a : Nat} (ha : a < 100) {ix st : Nat} (hi : ix < S.2 0) (hs : st < 125) : gM l G yX4_sizeBy cX4_sizeBy 9 (some .int) 3 0 0 [.ref (ad 0), .int (nI (4)), .int (nI (a)), .int (nI (ix)), .int (nI (st))] w (pI (fun r w1 => r = oI (grTo (fun z => fitsB S ix z st) 3) ∧ w1 = w)) := by
  refine Z.met (own := "ThreeSizesModel") (nm := "sizeBy") (lv := [(0, .ref (ad 0)), (1, .int (nI (4))), (2, .int (nI (a))), (3, .int (nI (ix))), (4, .int (nI (st)))]) (by decide) rfl rfl (Nat.le_of_ble_eq_true rfl) rfl (fun κ X => ?_)
  have h6 := hI.2.1
  have h5 := hI.2.2.1 ix hi
  refine z_aload_n X dX4_sizeBy_0 rfl 0 rfl ?_
  refine z_mg14 X hM dX4_sizeBy_1 ?_
  refine z_iload_n X dX4_sizeBy_4 rfl 3 rfl ?_
  refine z_aN5 (v := .ref (ad (50 + ix))) X dX4_sizeBy_5 (mm_15 hM) (by omega) (by omega) rfl ?_
  refine z_iconst (v := nI (0)) X dX4_sizeBy_6 ci0 ?_
  refine z_iaN (v := nI (S.1 3 ix)) X dX4_sizeBy_7 (mmr_50 hM (by omega)) (by omega) (by omega) (hR.2.2.1 ix (by omega)).1 ?_
  refine z_istore (lv2 := [(5, .int (nI (S.1 3 ix))), (0, .ref (ad 0)), (1, .int (nI (4))), (2, .int (nI (a))), (3, .int (nI (ix))), (4, .int (nI (st)))]) X dX4_sizeBy_8 (Nat.le_of_ble_eq_true rfl) rfl ?_
  refine z_iload_n X dX4_sizeBy_10 rfl 2 rfl ?_
  refine z_bipush (v := nI (6)) X dX4_sizeBy_11 (by decide) ?_
  refine z_icmp_ne_t (tgt := 26) X dX4_sizeBy_13 (by decide) (by decide) ?_
  refine z_iload_n X dX4_sizeBy_26 rfl 2 rfl ?_
  refine z_iconst (v := nI (3)) X dX4_sizeBy_27 ci3 ?_
  refine z_icmp_ne_t (tgt := 45) X dX4_sizeBy_28 (by decide) (by decide) ?_
  refine z_iconst (v := -1) X dX4_sizeBy_45 cim1 ?_
  refine z_istore (lv2 := [(6, .int (-1)), (5, .int (nI (S.1 3 ix))), (0, .ref (ad 0)), (1, .int (nI (4))), (2, .int (nI (a))), (3, .int (nI (ix))), (4, .int (nI (st)))]) X dX4_sizeBy_46 (Nat.le_of_ble_eq_true rfl) rfl ?_
  refine z_iload X dX4_sizeBy_48 1 rfl ?_
  refine z_istore (lv2 := [(7, .int (nI (S.1 3 ix))), (6, .int (-1)), (5, .int (nI (S.1 3 ix))), (0, .ref (ad 0)), (1, .int (nI (4))), (2, .int (nI (a))), (3, .int (nI (ix))), (4, .int (nI (st)))]) X dX4_sizeBy_50 (Nat.le_of_ble_eq_true rfl) rfl ?_
  have h0 : grTo (fun z => fitsB S ix z st) (S.1 3 ix) = none := grTo_nil (p := fun z => fitsB S ix z st) _ (fun z hz => fits_lo hz)
  have key : Z κ w [(7, .int (nI ((S.1 3 ix)))), (6, .int (oI (grTo (fun z => fitsB S ix z st) (S.1 3 ix)))), (5, .int (nI (S.1 3 ix))), (0, .ref (ad 0)), (1, .int (nI (4))), (2, .int (nI (a))), (3, .int (nI (ix))), (4, .int (nI (st)))] 0 0 52 [] := by
    have lp : ∀ (lq i : Nat), i + lq = 3 → S.1 3 ix ≤ i → Z κ w [(7, .int (nI (i))), (6, .int (oI (grTo (fun z => fitsB S ix z st) i))), (5, .int (nI (S.1 3 ix))), (0, .ref (ad 0)), (1, .int (nI (4))), (2, .int (nI (a))), (3, .int (nI (ix))), (4, .int (nI (st)))] 0 0 52 [] := by
      intro lq
      induction lq with
      | zero =>
        intro i lh ho
        obtain rfl : i = 3 := by omega
        refine z_iload X dX4_sizeBy_52 0 rfl ?_
        refine z_iconst (v := nI (3)) X dX4_sizeBy_54 ci3 ?_
        refine z_icmp_ge_t (tgt := 201) X dX4_sizeBy_55 (by decide) ((nI_leI (by omega) (by omega)).mpr (by omega)) ?_
        refine z_iload X dX4_sizeBy_201 1 rfl ?_
        exact z_iret X dX4_sizeBy_203 (by omega) (by omega) ⟨_, rfl, ⟨rfl, rfl⟩⟩
      | succ lq ih =>
        intro i lh ho
        have hi3 : i < 3 := by omega
        refine z_iload X dX4_sizeBy_52 0 rfl ?_
        refine z_iconst (v := nI (3)) X dX4_sizeBy_54 ci3 ?_
        refine z_icmp_ge_f (tgt := 201) X dX4_sizeBy_55 (by decide) (fun h => absurd ((nI_leI (by omega) (by omega)).mp h) (by omega)) ?_
        refine z_aload_n X dX4_sizeBy_58 rfl 3 rfl ?_
        refine z_iload_n X dX4_sizeBy_59 rfl 6 rfl ?_
        refine z_iload X dX4_sizeBy_60 7 rfl ?_
        refine z_iload X dX4_sizeBy_62 0 rfl ?_
        refine z_cip (z_runV (rest := []) (n := 3) X [.int (nI (ix)), .int (nI (st)), .int (nI (i))] (m_X4_mayGet hM hR hI (i := ix) (st := st) (z := i) (by omega) (by omega) (by omega)) dX4_sizeBy_64 (mm_o hM) rfl (lw_V q1629 q1631 qs37 q70 q1632) hv_X4_mayGet rfl ⟨Nat.le_of_ble_eq_true rfl, Nat.le_of_ble_eq_true rfl⟩ ⟨by omega, by omega⟩ rfl (Nat.le_of_ble_eq_true rfl)) ?_
        refine z_if_ne (tgt := 73) X dX4_sizeBy_67 (by decide) bI_0 (fun c1 => ?_) (fun c1 => ?_)
        · have c1 := ts_t c1
          have hf9 := fr_lt st i
          refine z_iload X dX4_sizeBy_73 7 rfl ?_
          refine z_iload X dX4_sizeBy_75 0 rfl ?_
          refine z_cip (z_runS (rest := []) (n := 2) X [.int (nI (st)), .int (nI (i))] (m_X4_freeOf (st := st) (z := i) (by omega) (by omega)) dX4_sizeBy_77 (lw_S q1609 q1610 q70 q1611) hs_X4_freeOf rfl ⟨Nat.le_of_ble_eq_true rfl, Nat.le_of_ble_eq_true rfl⟩ ⟨by omega, by omega⟩ rfl (Nat.le_of_ble_eq_true rfl)) ?_
          refine z_istore (lv2 := [(8, .int (nI (fr st i))), (7, .int (nI (i))), (6, .int (oI (grTo (fun z => fitsB S ix z st) i))), (5, .int (nI (S.1 3 ix))), (0, .ref (ad 0)), (1, .int (nI (4))), (2, .int (nI (a))), (3, .int (nI (ix))), (4, .int (nI (st)))]) X dX4_sizeBy_80 (Nat.le_of_ble_eq_true rfl) rfl ?_
          refine z_iload_n X dX4_sizeBy_82 rfl 5 rfl ?_
          refine z_tabIn (off := 60) (tgt := 143) X dX4_sizeBy_83 (by decide) (by decide) (by decide) (by decide) ?_
          refine z_iload X dX4_sizeBy_143 1 rfl ?_
          refine z_istore (lv2 := [(6, .int (nI (i))), (8, .int (nI (fr st i))), (7, .int (nI (i))), (5, .int (nI (S.1 3 ix))), (0, .ref (ad 0)), (1, .int (nI (4))), (2, .int (nI (a))), (3, .int (nI (ix))), (4, .int (nI (st)))]) X dX4_sizeBy_145 (Nat.le_of_ble_eq_true rfl) rfl ?_
          refine z_goto (tgt := 195) X dX4_sizeBy_147 (by decide) ?_
          refine z_iinc (v := nI (i + 1)) (lv2 := [(7, .int (nI (i + 1))), (6, .int (nI (i))), (8, .int (nI (fr st i))), (5, .int (nI (S.1 3 ix))), (0, .ref (ad 0)), (1, .int (nI (4))), (2, .int (nI (a))), (3, .int (nI (ix))), (4, .int (nI (st)))]) X dX4_sizeBy_195 2 rfl (nI_1 _) (Nat.le_of_ble_eq_true rfl) rfl ?_
          refine z_goto (tgt := 52) X dX4_sizeBy_198 (by decide) ?_
          refine Z.lv [0, 1, 3, 4, 5, 6, 7, 8] rfl ?_
          have e : grTo (fun z => fitsB S ix z st) (i + 1) = some i := if_pos c1
          have kk := ih (i + 1) (by omega) (by omega)
          rw [e] at kk
          exact kk
        · refine z_goto (tgt := 195) X dX4_sizeBy_70 (by decide) ?_
          refine z_iinc (v := nI (i + 1)) (lv2 := [(7, .int (nI (i + 1))), (6, .int (oI (grTo (fun z => fitsB S ix z st) i))), (5, .int (nI (S.1 3 ix))), (0, .ref (ad 0)), (1, .int (nI (4))), (2, .int (nI (a))), (3, .int (nI (ix))), (4, .int (nI (st)))]) X dX4_sizeBy_195 0 rfl (nI_1 _) (Nat.le_of_ble_eq_true rfl) rfl ?_
          refine z_goto (tgt := 52) X dX4_sizeBy_198 (by decide) ?_
          have e : grTo (fun z => fitsB S ix z st) (i + 1) = grTo (fun z => fitsB S ix z st) i := if_neg (fun h => Bool.noConfusion (c1.symm.trans h))
          have kk := ih (i + 1) (by omega) (by omega)
          rw [e] at kk
          exact kk
    exact lp (3 - S.1 3 ix) (S.1 3 ix) (by omega) (Nat.le_refl _)
  rw [h0] at key
  exact key
set_option maxHeartbeats 2000000 in
theorem m_X4_sizeBy_5 {l : Launch} {G : GG} {wb w : GW} {ad : Nat → Nat} {m : MSt} (hM : MM G wb w ad m) {S : WS} (hR : MR S m) (hI : wInv S) {a : Nat} (ha : a < 100) {ix st : Nat} (hi : ix < S.2 0) (hs : st < 125) : gM l G yX4_sizeBy cX4_sizeBy 9 (some .int) 3 0 0 [.ref (ad 0), .int (nI (5)), .int (nI (a)), .int (nI (ix)), .int (nI (st))] w (pI (fun r w1 => r = oI (evTo S ix st 3) ∧ w1 = w)) := by
  refine Z.met (own := "ThreeSizesModel") (nm := "sizeBy") (lv := [(0, .ref (ad 0)), (1, .int (nI (5))), (2, .int (nI (a))), (3, .int (nI (ix))), (4, .int (nI (st)))]) (by decide) rfl rfl (Nat.le_of_ble_eq_true rfl) rfl (fun κ X => ?_)
  have h6 := hI.2.1
  have h5 := hI.2.2.1 ix hi
  refine z_aload_n X dX4_sizeBy_0 rfl 0 rfl ?_
  refine z_mg14 X hM dX4_sizeBy_1 ?_
  refine z_iload_n X dX4_sizeBy_4 rfl 3 rfl ?_
  refine z_aN5 (v := .ref (ad (50 + ix))) X dX4_sizeBy_5 (mm_15 hM) (by omega) (by omega) rfl ?_
  refine z_iconst (v := nI (0)) X dX4_sizeBy_6 ci0 ?_
  refine z_iaN (v := nI (S.1 3 ix)) X dX4_sizeBy_7 (mmr_50 hM (by omega)) (by omega) (by omega) (hR.2.2.1 ix (by omega)).1 ?_
  refine z_istore (lv2 := [(5, .int (nI (S.1 3 ix))), (0, .ref (ad 0)), (1, .int (nI (5))), (2, .int (nI (a))), (3, .int (nI (ix))), (4, .int (nI (st)))]) X dX4_sizeBy_8 (Nat.le_of_ble_eq_true rfl) rfl ?_
  refine z_iload_n X dX4_sizeBy_10 rfl 2 rfl ?_
  refine z_bipush (v := nI (6)) X dX4_sizeBy_11 (by decide) ?_
  refine z_icmp_ne_t (tgt := 26) X dX4_sizeBy_13 (by decide) (by decide) ?_
  refine z_iload_n X dX4_sizeBy_26 rfl 2 rfl ?_
  refine z_iconst (v := nI (3)) X dX4_sizeBy_27 ci3 ?_
  refine z_icmp_ne_t (tgt := 45) X dX4_sizeBy_28 (by decide) (by decide) ?_
  refine z_iconst (v := -1) X dX4_sizeBy_45 cim1 ?_
  refine z_istore (lv2 := [(6, .int (-1)), (5, .int (nI (S.1 3 ix))), (0, .ref (ad 0)), (1, .int (nI (5))), (2, .int (nI (a))), (3, .int (nI (ix))), (4, .int (nI (st)))]) X dX4_sizeBy_46 (Nat.le_of_ble_eq_true rfl) rfl ?_
  refine z_iload X dX4_sizeBy_48 1 rfl ?_
  refine z_istore (lv2 := [(7, .int (nI (S.1 3 ix))), (6, .int (-1)), (5, .int (nI (S.1 3 ix))), (0, .ref (ad 0)), (1, .int (nI (5))), (2, .int (nI (a))), (3, .int (nI (ix))), (4, .int (nI (st)))]) X dX4_sizeBy_50 (Nat.le_of_ble_eq_true rfl) rfl ?_
  have h0 : evTo S ix st (S.1 3 ix) = none := evTo_nil _ (fun z hz => fits_lo hz)
  have key : Z κ w [(7, .int (nI ((S.1 3 ix)))), (6, .int (oI (evTo S ix st (S.1 3 ix)))), (5, .int (nI (S.1 3 ix))), (0, .ref (ad 0)), (1, .int (nI (5))), (2, .int (nI (a))), (3, .int (nI (ix))), (4, .int (nI (st)))] 0 0 52 [] := by
    have lp : ∀ (lq i : Nat), i + lq = 3 → S.1 3 ix ≤ i → Z κ w [(7, .int (nI (i))), (6, .int (oI (evTo S ix st i))), (5, .int (nI (S.1 3 ix))), (0, .ref (ad 0)), (1, .int (nI (5))), (2, .int (nI (a))), (3, .int (nI (ix))), (4, .int (nI (st)))] 0 0 52 [] := by
      intro lq
      induction lq with
      | zero =>
        intro i lh ho
        obtain rfl : i = 3 := by omega
        refine z_iload X dX4_sizeBy_52 0 rfl ?_
        refine z_iconst (v := nI (3)) X dX4_sizeBy_54 ci3 ?_
        refine z_icmp_ge_t (tgt := 201) X dX4_sizeBy_55 (by decide) ((nI_leI (by omega) (by omega)).mpr (by omega)) ?_
        refine z_iload X dX4_sizeBy_201 1 rfl ?_
        exact z_iret X dX4_sizeBy_203 (by omega) (by omega) ⟨_, rfl, ⟨rfl, rfl⟩⟩
      | succ lq ih =>
        intro i lh ho
        have hi3 : i < 3 := by omega
        refine z_iload X dX4_sizeBy_52 0 rfl ?_
        refine z_iconst (v := nI (3)) X dX4_sizeBy_54 ci3 ?_
        refine z_icmp_ge_f (tgt := 201) X dX4_sizeBy_55 (by decide) (fun h => absurd ((nI_leI (by omega) (by omega)).mp h) (by omega)) ?_
        refine z_aload_n X dX4_sizeBy_58 rfl 3 rfl ?_
        refine z_iload_n X dX4_sizeBy_59 rfl 6 rfl ?_
        refine z_iload X dX4_sizeBy_60 7 rfl ?_
        refine z_iload X dX4_sizeBy_62 0 rfl ?_
        refine z_cip (z_runV (rest := []) (n := 3) X [.int (nI (ix)), .int (nI (st)), .int (nI (i))] (m_X4_mayGet hM hR hI (i := ix) (st := st) (z := i) (by omega) (by omega) (by omega)) dX4_sizeBy_64 (mm_o hM) rfl (lw_V q1629 q1631 qs37 q70 q1632) hv_X4_mayGet rfl ⟨Nat.le_of_ble_eq_true rfl, Nat.le_of_ble_eq_true rfl⟩ ⟨by omega, by omega⟩ rfl (Nat.le_of_ble_eq_true rfl)) ?_
        refine z_if_ne (tgt := 73) X dX4_sizeBy_67 (by decide) bI_0 (fun c1 => ?_) (fun c1 => ?_)
        · have c1 := ts_t c1
          have hf9 := fr_lt st i
          refine z_iload X dX4_sizeBy_73 7 rfl ?_
          refine z_iload X dX4_sizeBy_75 0 rfl ?_
          refine z_cip (z_runS (rest := []) (n := 2) X [.int (nI (st)), .int (nI (i))] (m_X4_freeOf (st := st) (z := i) (by omega) (by omega)) dX4_sizeBy_77 (lw_S q1609 q1610 q70 q1611) hs_X4_freeOf rfl ⟨Nat.le_of_ble_eq_true rfl, Nat.le_of_ble_eq_true rfl⟩ ⟨by omega, by omega⟩ rfl (Nat.le_of_ble_eq_true rfl)) ?_
          refine z_istore (lv2 := [(8, .int (nI (fr st i))), (7, .int (nI (i))), (6, .int (oI (evTo S ix st i))), (5, .int (nI (S.1 3 ix))), (0, .ref (ad 0)), (1, .int (nI (5))), (2, .int (nI (a))), (3, .int (nI (ix))), (4, .int (nI (st)))]) X dX4_sizeBy_80 (Nat.le_of_ble_eq_true rfl) rfl ?_
          refine z_iload_n X dX4_sizeBy_82 rfl 5 rfl ?_
          refine z_tabIn (off := 67) (tgt := 150) X dX4_sizeBy_83 (by decide) (by decide) (by decide) (by decide) ?_
          refine z_iload X dX4_sizeBy_150 2 rfl ?_
          refine z_iconst (v := -1) X dX4_sizeBy_152 cim1 ?_
          refine z_icmp_eq (tgt := 168) X dX4_sizeBy_153 (by decide) (oI_m1 (fun z h => by have := (evTo_lt _ _ h).1; omega)) (fun c2 => ?_) (fun c2 => ?_)
          · refine z_iload X dX4_sizeBy_168 1 rfl ?_
            refine z_goto (tgt := 175) X dX4_sizeBy_170 (by decide) ?_
            refine z_istore (lv2 := [(6, .int (nI (i))), (8, .int (nI (fr st i))), (7, .int (nI (i))), (5, .int (nI (S.1 3 ix))), (0, .ref (ad 0)), (1, .int (nI (5))), (2, .int (nI (a))), (3, .int (nI (ix))), (4, .int (nI (st)))]) X dX4_sizeBy_175 (Nat.le_of_ble_eq_true rfl) rfl ?_
            refine z_goto (tgt := 195) X dX4_sizeBy_177 (by decide) ?_
            refine z_iinc (v := nI (i + 1)) (lv2 := [(7, .int (nI (i + 1))), (6, .int (nI (i))), (8, .int (nI (fr st i))), (5, .int (nI (S.1 3 ix))), (0, .ref (ad 0)), (1, .int (nI (5))), (2, .int (nI (a))), (3, .int (nI (ix))), (4, .int (nI (st)))]) X dX4_sizeBy_195 2 rfl (nI_1 _) (Nat.le_of_ble_eq_true rfl) rfl ?_
            refine z_goto (tgt := 52) X dX4_sizeBy_198 (by decide) ?_
            refine Z.lv [0, 1, 3, 4, 5, 6, 7, 8] rfl ?_
            have e : evTo S ix st (i + 1) = some i := if_pos ⟨c1, by rw [c2]; rfl⟩
            have kk := ih (i + 1) (by omega) (by omega)
            rw [e] at kk
            exact kk
          · obtain ⟨y, hy⟩ := Option.ne_none_iff_exists.mp c2
            have hy2 := (evTo_lt i y hy.symm).1
            have hf8 := fr_lt st y
            rw [← hy]
            refine z_iload X dX4_sizeBy_156 0 rfl ?_
            refine z_iload X dX4_sizeBy_158 8 rfl ?_
            refine z_iload X dX4_sizeBy_160 2 rfl ?_
            refine z_cip (z_runS (rest := [.int (nI (fr st i))]) (n := 2) X [.int (nI (st)), .int (nI (y))] (m_X4_freeOf (st := st) (z := y) (by omega) (by omega)) dX4_sizeBy_162 (lw_S q1609 q1610 q70 q1611) hs_X4_freeOf rfl ⟨Nat.le_of_ble_eq_true rfl, Nat.le_of_ble_eq_true rfl⟩ ⟨by omega, by omega⟩ rfl (Nat.le_of_ble_eq_true rfl)) ?_
            refine z_icmp_lt (tgt := 173) X dX4_sizeBy_165 (by decide) (nI_ltI (by omega) (by omega)) (fun c3 => ?_) (fun c3 => ?_)
            · refine z_iload X dX4_sizeBy_173 2 rfl ?_
              refine z_istore (lv2 := [(6, .int (nI (y))), (8, .int (nI (fr st i))), (7, .int (nI (i))), (5, .int (nI (S.1 3 ix))), (0, .ref (ad 0)), (1, .int (nI (5))), (2, .int (nI (a))), (3, .int (nI (ix))), (4, .int (nI (st)))]) X dX4_sizeBy_175 (Nat.le_of_ble_eq_true rfl) rfl ?_
              refine z_goto (tgt := 195) X dX4_sizeBy_177 (by decide) ?_
              refine z_iinc (v := nI (i + 1)) (lv2 := [(7, .int (nI (i + 1))), (6, .int (nI (y))), (8, .int (nI (fr st i))), (5, .int (nI (S.1 3 ix))), (0, .ref (ad 0)), (1, .int (nI (5))), (2, .int (nI (a))), (3, .int (nI (ix))), (4, .int (nI (st)))]) X dX4_sizeBy_195 2 rfl (nI_1 _) (Nat.le_of_ble_eq_true rfl) rfl ?_
              refine z_goto (tgt := 52) X dX4_sizeBy_198 (by decide) ?_
              refine Z.lv [0, 1, 3, 4, 5, 6, 7, 8] rfl ?_
              have e : evTo S ix st (i + 1) = some y := (if_neg (fun h => by have h2 := h.2; rw [← hy] at h2; simp only [evOk, decide_eq_true_eq] at h2; omega)).trans hy.symm
              have kk := ih (i + 1) (by omega) (by omega)
              rw [e] at kk
              exact kk
            · refine z_iload X dX4_sizeBy_168 1 rfl ?_
              refine z_goto (tgt := 175) X dX4_sizeBy_170 (by decide) ?_
              refine z_istore (lv2 := [(6, .int (nI (i))), (8, .int (nI (fr st i))), (7, .int (nI (i))), (5, .int (nI (S.1 3 ix))), (0, .ref (ad 0)), (1, .int (nI (5))), (2, .int (nI (a))), (3, .int (nI (ix))), (4, .int (nI (st)))]) X dX4_sizeBy_175 (Nat.le_of_ble_eq_true rfl) rfl ?_
              refine z_goto (tgt := 195) X dX4_sizeBy_177 (by decide) ?_
              refine z_iinc (v := nI (i + 1)) (lv2 := [(7, .int (nI (i + 1))), (6, .int (nI (i))), (8, .int (nI (fr st i))), (5, .int (nI (S.1 3 ix))), (0, .ref (ad 0)), (1, .int (nI (5))), (2, .int (nI (a))), (3, .int (nI (ix))), (4, .int (nI (st)))]) X dX4_sizeBy_195 2 rfl (nI_1 _) (Nat.le_of_ble_eq_true rfl) rfl ?_
              refine z_goto (tgt := 52) X dX4_sizeBy_198 (by decide) ?_
              refine Z.lv [0, 1, 3, 4, 5, 6, 7, 8] rfl ?_
              have e : evTo S ix st (i + 1) = some i := if_pos ⟨c1, by rw [← hy]; simp only [evOk, decide_eq_true_eq]; omega⟩
              have kk := ih (i + 1) (by omega) (by omega)
              rw [e] at kk
              exact kk
        · refine z_goto (tgt := 195) X dX4_sizeBy_70 (by decide) ?_
          refine z_iinc (v := nI (i + 1)) (lv2 := [(7, .int (nI (i + 1))), (6, .int (oI (evTo S ix st i))), (5, .int (nI (S.1 3 ix))), (0, .ref (ad 0)), (1, .int (nI (5))), (2, .int (nI (a))), (3, .int (nI (ix))), (4, .int (nI (st)))]) X dX4_sizeBy_195 0 rfl (nI_1 _) (Nat.le_of_ble_eq_true rfl) rfl ?_
          refine z_goto (tgt := 52) X dX4_sizeBy_198 (by decide) ?_
          have e : evTo S ix st (i + 1) = evTo S ix st i := if_neg (fun h => Bool.noConfusion (c1.symm.trans h.1))
          have kk := ih (i + 1) (by omega) (by omega)
          rw [e] at kk
          exact kk
    exact lp (3 - S.1 3 ix) (S.1 3 ix) (by omega) (Nat.le_refl _)
  rw [h0] at key
  exact key
set_option maxHeartbeats 2000000 in
theorem m_X4_sizeBy_6 {l : Launch} {G : GG} {wb w : GW} {ad : Nat → Nat} {m : MSt} (hM : MM G wb w ad m) {S : WS} (hR : MR S m) (hI : wInv S) {a : Nat} (ha : a < 100) {ix st : Nat} (hi : ix < S.2 0) (hs : st < 125) {T : Nat → Int64} (hw : m.1 (60 + ix) st = oI (bestO S ix st T)) : gM l G yX4_sizeBy cX4_sizeBy 9 (some .int) 3 0 0 [.ref (ad 0), .int (nI (6)), .int (nI (a)), .int (nI (ix)), .int (nI (st))] w (pI (fun r w1 => r = oI ((bestO S ix st T)) ∧ w1 = w)) := by
  refine Z.met (own := "ThreeSizesModel") (nm := "sizeBy") (lv := [(0, .ref (ad 0)), (1, .int (nI (6))), (2, .int (nI (a))), (3, .int (nI (ix))), (4, .int (nI (st)))]) (by decide) rfl rfl (Nat.le_of_ble_eq_true rfl) rfl (fun κ X => ?_)
  have h6 := hI.2.1
  have h5 := hI.2.2.1 ix hi
  refine z_aload_n X dX4_sizeBy_0 rfl 0 rfl ?_
  refine z_mg14 X hM dX4_sizeBy_1 ?_
  refine z_iload_n X dX4_sizeBy_4 rfl 3 rfl ?_
  refine z_aN5 (v := .ref (ad (50 + ix))) X dX4_sizeBy_5 (mm_15 hM) (by omega) (by omega) rfl ?_
  refine z_iconst (v := nI (0)) X dX4_sizeBy_6 ci0 ?_
  refine z_iaN (v := nI (S.1 3 ix)) X dX4_sizeBy_7 (mmr_50 hM (by omega)) (by omega) (by omega) (hR.2.2.1 ix (by omega)).1 ?_
  refine z_istore (lv2 := [(5, .int (nI (S.1 3 ix))), (0, .ref (ad 0)), (1, .int (nI (6))), (2, .int (nI (a))), (3, .int (nI (ix))), (4, .int (nI (st)))]) X dX4_sizeBy_8 (Nat.le_of_ble_eq_true rfl) rfl ?_
  refine z_iload_n X dX4_sizeBy_10 rfl 2 rfl ?_
  refine z_bipush (v := nI (6)) X dX4_sizeBy_11 (by decide) ?_
  refine z_icmp_ne_f (tgt := 26) X dX4_sizeBy_13 (by decide) (by decide) ?_
  refine z_aload_n X dX4_sizeBy_16 rfl 1 rfl ?_
  refine z_mg27 X hM dX4_sizeBy_17 ?_
  refine z_iload_n X dX4_sizeBy_20 rfl 4 rfl ?_
  refine z_aN5 (v := .ref (ad (60 + ix))) X dX4_sizeBy_21 (mm_28 hM) (by omega) (by omega) rfl ?_
  refine z_iload X dX4_sizeBy_22 5 rfl ?_
  refine z_iaN (v := oI (bestO S ix st T)) X dX4_sizeBy_24 (mmr_60 hM (by omega)) (by omega) (by omega) hw ?_
  exact z_iret X dX4_sizeBy_25 (by omega) (by omega) ⟨_, rfl, ⟨rfl, rfl⟩⟩
theorem m_X4_sizeBy {l : Launch} {G : GG} {wb w : GW} {ad : Nat → Nat} {m : MSt} (hM : MM G wb w ad m) {S : WS} (hR : MR S m) (hI : wInv S) {kd a : Nat} (hk : 1 ≤ kd ∧ kd ≤ 6) (ha : a < 100) {ix st : Nat} (hi : ix < S.2 0) (hs : st < 125) {T : Nat → Int64} (hw : kd = 6 → m.1 (60 + ix) st = oI (bestO S ix st T)) : gM l G yX4_sizeBy cX4_sizeBy 9 (some .int) 3 0 0 [.ref (ad 0), .int (nI kd), .int (nI a), .int (nI ix), .int (nI st)] w (pI (fun r w1 => r = oI (rget S kd a T ix st) ∧ w1 = w)) := by
  rcases kd_cases hk with rfl | rfl | rfl | rfl | rfl | rfl
  · exact m_X4_sizeBy_1 hM hR hI ha hi hs
  · exact m_X4_sizeBy_2 hM hR hI ha hi hs
  · exact m_X4_sizeBy_3 hM hR hI ha hi hs
  · exact m_X4_sizeBy_4 hM hR hI ha hi hs
  · exact m_X4_sizeBy_5 hM hR hI ha hi hs
  · exact m_X4_sizeBy_6 hM hR hI ha hi hs (hw rfl)
