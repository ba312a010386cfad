/-! THE MODEL: wise rules, values by a rule -/
set_option maxRecDepth 100000
/-- changed at most: values, what is behind, what wise rules give -/
def KM (m m2 : MSt) : Prop := KL m m2 ∧ ∀ c, ¬ (60 ≤ c ∧ c < 66) → m2.1 c = m.1 c
theorem KM.rf {m : MSt} : KM m m := ⟨KL.rf, fun _ _ => rfl⟩
theorem KM.trans {m m2 m3 : MSt} (h : KM m m2) (h2 : KM m2 m3) : KM m m3 := ⟨h.1.trans h2.1, fun c a => (h2.2 c a).trans (h.2 c a)⟩
theorem KM.of {m m2 : MSt} (h : KL m m2) (e : m2.1 = m.1) : KM m m2 := ⟨h, fun c _ => by rw [e]⟩
theorem KM.MR {S : WS} {m m2 : MSt} (h : KM m m2) (hR : MR S m) : MR S m2 := hR.kept (fun c hc => h.2 c (by omega)) (by rw [h.1.1])
/-- what wise rules give stands there -/
def WiseOk (S : WS) (a : Nat) (m : MSt) : Prop := ∀ k, k < S.2 0 → ∀ st, isStP S st → m.1 (60 + k) st = oI (bestO S k st (wiseT S a))
theorem valsL_0 {S : WS} {T : Nat → Int64} {a n j : Nat} : valsL S (rgM S 0 a T) none n n j = vals S (rBest S) n j := by rw [valsL_none, rgM_0]
theorem wiseH_le (a : Nat) : wiseH a ≤ 20 := by unfold wiseH; split <;> omega
theorem KL.seti {m m2 : MSt} (h : KL m m2) {c j : Nat} {x : Int32} : KL m (mI m2 c j x) := h
set_option maxHeartbeats 2000000 in
theorem m_X4_beWise {l : Launch} {G : GG} {wb w : GW} {ad : Nat → Nat} {m : MSt} (hM : MM G wb w ad m) {S : WS} (hR : MR S m) (hI : wInv S) {a : Nat} (ha : a < 100) : gM l G yX4_beWise cX4_beWise 4 none 7 0 0 [.ref (ad 0), .int (nI (a))] w (pV (fun w1 => ∃ m2, MM G wb w1 ad m2 ∧ KM m m2 ∧ WiseOk S a m2)) := by
  refine Z.met (own := "ThreeSizesModel") (nm := "beWise") (lv := [(0, .ref (ad 0)), (1, .int (nI (a)))]) (by decide) rfl rfl (Nat.le_of_ble_eq_true rfl) rfl (fun κ X => ?_)
  have h6 := hI.2.1
  have hwh := wiseH_le a
  refine z_aload_n X dX4_beWise_0 rfl 0 rfl ?_
  refine z_iload_n X dX4_beWise_1 rfl 1 rfl ?_
  refine z_cip (z_runS (rest := [.ref (ad 0)]) (n := 1) X [.int (nI (a))] (m_X4_hoursOf (a := a) (by omega)) dX4_beWise_2 (lw_S q1582 q1583 q70 q1584) hs_X4_hoursOf rfl ⟨Nat.le_of_ble_eq_true rfl, Nat.le_of_ble_eq_true rfl⟩ ⟨by omega, by omega⟩ rfl (Nat.le_of_ble_eq_true rfl)) ?_
  refine z_iconst (v := nI (0)) X dX4_beWise_5 ci0 ?_
  refine z_iconst (v := nI (0)) X dX4_beWise_6 ci0 ?_
  refine z_iconst (v := -1) X dX4_beWise_7 cim1 ?_
  refine z_cv (z_runV (rest := []) (n := 4) X [.int (nI (wiseH a)), .int (nI (0)), .int (nI (0)), .int (-1)] (m_X4_solve hM hR hI (n := wiseH a) (kd := 0) (a := 0) (by omega) (by omega) (by omega) (T := wiseT S 0) (fun h => by cases h) (lt := none) (fun y h => by cases h)) dX4_beWise_8 (mm_o hM) rfl (lw_V q1600 q1602 qs31 q70 q1603) hv_X4_solve rfl ⟨Nat.le_of_ble_eq_true rfl, Nat.le_of_ble_eq_true rfl⟩ ⟨by omega, by omega⟩ rfl (Nat.le_of_ble_eq_true rfl)) (fun w3 h2 => ?_)
  obtain ⟨mv2, hM2, hQ2⟩ := h2
  have hR2 : MR S mv2 := (KM.of hQ2.2.1 hQ2.1).MR hR
  refine z_iconst (v := nI (0)) X dX4_beWise_11 ci0 ?_
  refine z_istore_n (lv2 := [(2, .int (nI (0))), (0, .ref (ad 0)), (1, .int (nI (a)))]) X dX4_beWise_12 rfl (Nat.le_of_ble_eq_true rfl) rfl ?_
  have lk : ∀ (lq k : Nat) (w2 : GW) (m2 : MSt), k + lq = S.2 0 → MM G wb w2 ad m2 → KL m m2 → m2.2.1 = mv2.2.1 → (∀ c, ¬ (60 ≤ c ∧ c < 66) → m2.1 c = m.1 c) → (∀ x, x < k → ∀ j, isStP S j → m2.1 (60 + x) j = oI (bestO S x j (wiseT S a))) → Z κ w2 [(2, .int (nI (k))), (0, .ref (ad 0)), (1, .int (nI (a)))] 0 0 13 [] := by
    intro lq
    induction lq with
    | zero =>
      intro k w2 m2 lh hM2 h1 h2 h3 hA2
      obtain rfl : k = S.2 0 := by omega
      have hR2 : MR S m2 := KM.MR ⟨h1, h3⟩ hR
      refine z_iload_n X dX4_beWise_13 rfl 0 rfl ?_
      refine z_aload_n X dX4_beWise_14 rfl 1 rfl ?_
      refine z_mgv13 X hM2 dX4_beWise_15 hR2.2.1 ?_
      refine z_icmp_ge_t (tgt := 76) X dX4_beWise_18 (by decide) ((nI_leI (by omega) (by omega)).mpr (by omega)) ?_
      exact z_vret X dX4_beWise_76 (by omega) (by omega) ⟨rfl, ⟨m2, hM2, ⟨h1, h3⟩, hA2⟩⟩
    | succ lq ih =>
      intro k w2 m2 lh hM2 h1 h2 h3 hA2
      have hR2 : MR S m2 := KM.MR ⟨h1, h3⟩ hR
      refine z_iload_n X dX4_beWise_13 rfl 0 rfl ?_
      refine z_aload_n X dX4_beWise_14 rfl 1 rfl ?_
      refine z_mgv13 X hM2 dX4_beWise_15 hR2.2.1 ?_
      refine z_icmp_ge_f (tgt := 76) X dX4_beWise_18 (by decide) (fun h => absurd ((nI_leI (by omega) (by omega)).mp h) (by omega)) ?_
      refine z_iconst (v := nI (0)) X dX4_beWise_21 ci0 ?_
      refine z_istore_n (lv2 := [(3, .int (nI (0))), (2, .int (nI (k))), (0, .ref (ad 0)), (1, .int (nI (a)))]) X dX4_beWise_22 rfl (Nat.le_of_ble_eq_true rfl) rfl ?_
      have ls : ∀ (lq s : Nat) (w3 : GW) (m3 : MSt), s + lq = 125 → MM G wb w3 ad m3 → KL m m3 → m3.2.1 = mv2.2.1 → (∀ c, ¬ (60 ≤ c ∧ c < 66) → m3.1 c = m.1 c) → (∀ x, x < k → ∀ j, isStP S j → m3.1 (60 + x) j = oI (bestO S x j (wiseT S a))) → (∀ j, j < s → isStP S j → m3.1 (60 + k) j = oI (bestO S k j (wiseT S a))) → Z κ w3 [(3, .int (nI (s))), (2, .int (nI (k))), (0, .ref (ad 0)), (1, .int (nI (a)))] 0 0 23 [] := by
        intro lq
        induction lq with
        | zero =>
          intro s w3 m3 lh hM3 j1 j2 j3 hA3 hB
          obtain rfl : s = 125 := by omega
          have hR3 : MR S m3 := KM.MR ⟨j1, j3⟩ hR
          refine z_iload_n X dX4_beWise_23 rfl 0 rfl ?_
          refine z_bipush (v := nI (125)) X dX4_beWise_24 (by decide) ?_
          refine z_icmp_ge_t (tgt := 70) X dX4_beWise_26 (by decide) ((nI_leI (by omega) (by omega)).mpr (by omega)) ?_
          refine z_iinc (v := nI (k + 1)) (lv2 := [(2, .int (nI (k + 1))), (3, .int (nI (125))), (0, .ref (ad 0)), (1, .int (nI (a)))]) X dX4_beWise_70 1 rfl (nI_1 _) (Nat.le_of_ble_eq_true rfl) rfl ?_
          refine z_goto (tgt := 13) X dX4_beWise_73 (by decide) ?_
          refine Z.lv [0, 2, 3] rfl ?_
          exact ih (k + 1) w3 m3 (by omega) hM3 j1 j2 j3 (fun x hx j hj => by
            rcases Nat.lt_or_ge x k with q | q
            · exact hA3 x q j hj
            · obtain rfl : x = k := by omega
              exact hB j hj.1 hj)
        | succ lq ih =>
          intro s w3 m3 lh hM3 j1 j2 j3 hA3 hB
          have hR3 : MR S m3 := KM.MR ⟨j1, j3⟩ hR
          refine z_iload_n X dX4_beWise_23 rfl 0 rfl ?_
          refine z_bipush (v := nI (125)) X dX4_beWise_24 (by decide) ?_
          refine z_icmp_ge_f (tgt := 70) X dX4_beWise_26 (by decide) (fun h => absurd ((nI_leI (by omega) (by omega)).mp h) (by omega)) ?_
          refine z_aload_n X dX4_beWise_29 rfl 2 rfl ?_
          refine z_mg27 X hM3 dX4_beWise_30 ?_
          refine z_iload_n X dX4_beWise_33 rfl 1 rfl ?_
          refine z_aN5 (v := .ref (ad (60 + k))) X dX4_beWise_34 (mm_28 hM3) (by omega) (by omega) rfl ?_
          refine z_iload_n X dX4_beWise_35 rfl 0 rfl ?_
          refine z_aload_n X dX4_beWise_36 rfl 2 rfl ?_
          refine z_iload_n X dX4_beWise_37 rfl 0 rfl ?_
          refine z_cip (z_runV (rest := [.int (nI (s)), .ref (ad (60 + k))]) (n := 1) X [.int (nI (s))] (m_X4_isState hM3 hR3 hI (st := s) (by omega)) dX4_beWise_38 (mm_o hM3) rfl (lw_V q1604 q1606 qs32 q70 q1607) hv_X4_isState rfl ⟨Nat.le_of_ble_eq_true rfl, Nat.le_of_ble_eq_true rfl⟩ ⟨by omega, by omega⟩ rfl (Nat.le_of_ble_eq_true rfl)) ?_
          refine z_if_eq (tgt := 62) X dX4_beWise_41 (by decide) bI_0 (fun c4 => ?_) (fun c4 => ?_)
          · refine z_iconst (v := -1) X dX4_beWise_62 cim1 ?_
            refine z_mst (n := 125) (j := s) X hM3 (60 + k) dX4_beWise_63 (mP_60 (by omega)) (mK_60 (by omega)) (mLen_60 (by omega)) (by omega) (by omega) (fun u5 hM5 => ?_)
            refine z_iinc (v := nI (s + 1)) (lv2 := [(3, .int (nI (s + 1))), (2, .int (nI (k))), (0, .ref (ad 0)), (1, .int (nI (a)))]) X dX4_beWise_64 0 rfl (nI_1 _) (Nat.le_of_ble_eq_true rfl) rfl ?_
            refine z_goto (tgt := 23) X dX4_beWise_67 (by decide) ?_
            exact ih (s + 1) _ _ (by omega) hM5 j1.seti j2 (fun c hc => (mI_oth (by omega)).trans (j3 c hc)) (fun x hx2 j hj => by rw [mI_oth (by omega)]; exact hA3 x hx2 j hj) (mI_row (p := fun j x => isStP S j → x = oI (bestO S k j (wiseT S a))) hB (fun hs => absurd (isSt_iff.mpr hs) (by rw [c4]; exact Bool.false_ne_true)))
          · have c4 := ts_t c4
            refine z_aload_n X dX4_beWise_44 rfl 2 rfl ?_
            refine z_iload_n X dX4_beWise_45 rfl 1 rfl ?_
            refine z_iload_n X dX4_beWise_46 rfl 0 rfl ?_
            refine z_aload_n X dX4_beWise_47 rfl 2 rfl ?_
            refine z_mg28 X hM3 dX4_beWise_48 ?_
            refine z_iload_n X dX4_beWise_51 rfl 3 rfl ?_
            refine z_cip (z_runS (rest := [.ref (ad 29), .int (nI (s)), .int (nI (k)), .ref (ad 0), .int (nI (s)), .ref (ad (60 + k))]) (n := 1) X [.int (nI (a))] (m_X4_hoursOf (a := a) (by omega)) dX4_beWise_52 (lw_S q1582 q1583 q70 q1584) hs_X4_hoursOf rfl ⟨Nat.le_of_ble_eq_true rfl, Nat.le_of_ble_eq_true rfl⟩ ⟨by omega, by omega⟩ rfl (Nat.le_of_ble_eq_true rfl)) ?_
            refine z_aN6 (v := .ref (ad (70 + (wiseH a)))) X dX4_beWise_55 (mm_29 hM3) (by omega) (by omega) rfl ?_
            refine z_cip (z_runV (rest := [.int (nI (s)), .ref (ad (60 + k))]) (n := 3) X [.int (nI (k)), .int (nI (s)), .ref (ad (70 + (wiseH a)))] (m_X4_bestFor hM3 hR3 hI (ix := k) (st := s) (by omega) (by omega) (mmr_70 hM3 (by omega))) dX4_beWise_56 (mm_o hM3) rfl (lw_V q1620 q1622 qs35 q70 q1623) hv_X4_bestFor rfl ⟨Nat.le_of_ble_eq_true rfl, Nat.le_of_ble_eq_true rfl⟩ ⟨by omega, by omega⟩ rfl (Nat.le_of_ble_eq_true rfl)) ?_
            refine z_goto (tgt := 63) X dX4_beWise_59 (by decide) ?_
            refine z_mst (n := 125) (j := s) X hM3 (60 + k) dX4_beWise_63 (mP_60 (by omega)) (mK_60 (by omega)) (mLen_60 (by omega)) (by omega) (by omega) (fun u6 hM6 => ?_)
            refine z_iinc (v := nI (s + 1)) (lv2 := [(3, .int (nI (s + 1))), (2, .int (nI (k))), (0, .ref (ad 0)), (1, .int (nI (a)))]) X dX4_beWise_64 0 rfl (nI_1 _) (Nat.le_of_ble_eq_true rfl) rfl ?_
            refine z_goto (tgt := 23) X dX4_beWise_67 (by decide) ?_
            have hv : ∀ j, j < 125 → m3.2.1 (70 + wiseH a) j = wiseT S a j := fun j hj => by rw [j2]; exact (hQ2.2.2 (wiseH a) (Nat.le_refl _) j hj).trans valsL_0
            exact ih (s + 1) _ _ (by omega) hM6 j1.seti j2 (fun c hc => (mI_oth (by omega)).trans (j3 c hc)) (fun x hx2 j hj => by rw [mI_oth (by omega)]; exact hA3 x hx2 j hj) (mI_row (p := fun j x => isStP S j → x = oI (bestO S k j (wiseT S a))) hB (fun _ => congrArg oI (bestTo_congr (fun j hj => hv j hj) (by omega) 3)))
      exact ls 125 0 w2 m2 (by omega) hM2 h1 h2 h3 hA2 (fun j hj => absurd hj (by omega))
  exact lk (S.2 0) 0 w3 mv2 (by omega) hM2 hQ2.2.1 rfl (fun c _ => by rw [hQ2.1]) (fun x hx => absurd hx (by omega))
set_option maxHeartbeats 2000000 in
theorem m_X4_givesW {l : Launch} {G : GG} {wb w : GW} {ad : Nat → Nat} {m : MSt} (hM : MM G wb w ad m) {S : WS} (hR : MR S m) (hI : wInv S) {a : Nat} (ha : a < 100) {ix st : Nat} (hi : ix < S.2 0) (hs : isStP S st) : gM l G yX4_gives cX4_gives 5 (some .int) 8 0 0 [.ref (ad 0), .int (nI (6)), .int (nI (a)), .int (nI (ix)), .int (nI (st))] w (pI (fun r w1 => ∃ m2, MM G wb w1 ad m2 ∧ KM m m2 ∧ r = oI (rget S 6 a (wiseT S a) ix st))) := by
  refine Z.met (own := "ThreeSizesModel") (nm := "gives") (lv := [(0, .ref (ad 0)), (1, .int (nI (6))), (2, .int (nI (a))), (3, .int (nI (ix))), (4, .int (nI (st)))]) (by decide) rfl rfl (Nat.le_of_ble_eq_true rfl) rfl (fun κ X => ?_)
  have h7 := hI.2.1
  have h8 := hs.1
  refine z_iload_n X dX4_gives_0 rfl 1 rfl ?_
  refine z_bipush (v := nI (6)) X dX4_gives_1 (by decide) ?_
  refine z_icmp_ne_f (tgt := 11) X dX4_gives_3 (by decide) rfl ?_
  refine z_aload_n X dX4_gives_6 rfl 0 rfl ?_
  refine z_iload_n X dX4_gives_7 rfl 2 rfl ?_
  refine z_cv (z_runV (rest := []) (n := 1) X [.int (nI (a))] (m_X4_beWise hM hR hI (a := a) (by omega)) dX4_gives_8 (mm_o hM) rfl (lw_V q1596 q1598 qs30 q70 q1599) hv_X4_beWise rfl ⟨Nat.le_of_ble_eq_true rfl, Nat.le_of_ble_eq_true rfl⟩ ⟨by omega, by omega⟩ rfl (Nat.le_of_ble_eq_true rfl)) (fun w3 h2 => ?_)
  obtain ⟨mv2, hM2, hQ2⟩ := h2
  have hR2 : MR S mv2 := hQ2.1.MR hR
  refine z_aload_n X dX4_gives_11 rfl 0 rfl ?_
  refine z_iload_n X dX4_gives_12 rfl 1 rfl ?_
  refine z_iload_n X dX4_gives_13 rfl 2 rfl ?_
  refine z_iload_n X dX4_gives_14 rfl 3 rfl ?_
  refine z_iload X dX4_gives_15 4 rfl ?_
  refine z_cip (z_runV (rest := []) (n := 4) X [.int (nI (6)), .int (nI (a)), .int (nI (ix)), .int (nI (st))] (m_X4_sizeBy hM2 hR2 hI (kd := 6) (by omega) ha (ix := ix) (st := st) hi hs.1 (T := wiseT S a) (fun _ => hQ2.2 ix hi st hs)) dX4_gives_17 (mm_o hM2) rfl (lw_V q1637 q1639 qs38 q70 q1640) hv_X4_sizeBy rfl ⟨Nat.le_of_ble_eq_true rfl, Nat.le_of_ble_eq_true rfl⟩ ⟨by omega, by omega⟩ rfl (Nat.le_of_ble_eq_true rfl)) ?_
  exact z_iret X dX4_gives_20 (by omega) (by omega) ⟨_, rfl, ⟨_, hM2, hQ2.1, rfl⟩⟩
set_option maxHeartbeats 2000000 in
theorem m_X4_givesN {l : Launch} {G : GG} {wb w : GW} {ad : Nat → Nat} {m : MSt} (hM : MM G wb w ad m) {S : WS} (hR : MR S m) (hI : wInv S) {a : Nat} (ha : a < 100) {ix st : Nat} (hi : ix < S.2 0) (hs : isStP S st) {kd : Nat} (hk : 1 ≤ kd ∧ kd ≤ 6) (h6 : kd ≠ 6) : gM l G yX4_gives cX4_gives 5 (some .int) 8 0 0 [.ref (ad 0), .int (nI (kd)), .int (nI (a)), .int (nI (ix)), .int (nI (st))] w (pI (fun r w1 => ∃ m2, MM G wb w1 ad m2 ∧ KM m m2 ∧ r = oI (rget S kd a (wiseT S a) ix st))) := by
  refine Z.met (own := "ThreeSizesModel") (nm := "gives") (lv := [(0, .ref (ad 0)), (1, .int (nI (kd))), (2, .int (nI (a))), (3, .int (nI (ix))), (4, .int (nI (st)))]) (by decide) rfl rfl (Nat.le_of_ble_eq_true rfl) rfl (fun κ X => ?_)
  have h7 := hI.2.1
  have h8 := hs.1
  refine z_iload_n X dX4_gives_0 rfl 1 rfl ?_
  refine z_bipush (v := nI (6)) X dX4_gives_1 (by decide) ?_
  refine z_icmp_ne_t (tgt := 11) X dX4_gives_3 (by decide) (fun h => h6 ((nI_eq (by omega) (by omega)).mp h)) ?_
  refine z_aload_n X dX4_gives_11 rfl 0 rfl ?_
  refine z_iload_n X dX4_gives_12 rfl 1 rfl ?_
  refine z_iload_n X dX4_gives_13 rfl 2 rfl ?_
  refine z_iload_n X dX4_gives_14 rfl 3 rfl ?_
  refine z_iload X dX4_gives_15 4 rfl ?_
  refine z_cip (z_runV (rest := []) (n := 4) X [.int (nI (kd)), .int (nI (a)), .int (nI (ix)), .int (nI (st))] (m_X4_sizeBy hM hR hI (kd := kd) (by omega) ha (ix := ix) (st := st) hi hs.1 (T := wiseT S a) (fun h => absurd h h6)) dX4_gives_17 (mm_o hM) rfl (lw_V q1637 q1639 qs38 q70 q1640) hv_X4_sizeBy rfl ⟨Nat.le_of_ble_eq_true rfl, Nat.le_of_ble_eq_true rfl⟩ ⟨by omega, by omega⟩ rfl (Nat.le_of_ble_eq_true rfl)) ?_
  exact z_iret X dX4_gives_20 (by omega) (by omega) ⟨_, rfl, ⟨_, hM, KM.rf, rfl⟩⟩
theorem m_X4_gives {l : Launch} {G : GG} {wb w : GW} {ad : Nat → Nat} {m : MSt} (hM : MM G wb w ad m) {S : WS} (hR : MR S m) (hI : wInv S) {a : Nat} (ha : a < 100) {ix st : Nat} (hi : ix < S.2 0) (hs : isStP S st) {kd : Nat} (hk : 1 ≤ kd ∧ kd ≤ 6) : gM l G yX4_gives cX4_gives 5 (some .int) 8 0 0 [.ref (ad 0), .int (nI kd), .int (nI a), .int (nI ix), .int (nI st)] w (pI (fun r w1 => ∃ m2, MM G wb w1 ad m2 ∧ KM m m2 ∧ r = oI (rget S kd a (wiseT S a) ix st))) := by
  by_cases h6 : kd = 6
  · subst h6; exact m_X4_givesW hM hR hI ha hi hs
  · exact m_X4_givesN hM hR hI ha hi hs hk h6
set_option maxHeartbeats 2000000 in
theorem m_X4_valueByW {l : Launch} {G : GG} {wb w : GW} {ad : Nat → Nat} {m : MSt} (hM : MM G wb w ad m) {S : WS} (hR : MR S m) (hI : wInv S) {a n : Nat} (ha : a < 100) (hn : n ≤ 24) : gM l G yX4_valueBy cX4_valueBy 4 (some .long) 8 0 0 [.ref (ad 0), .int (nI (6)), .int (nI (a)), .int (nI (n))] w (pL (fun r w1 => ∃ m2, MM G wb w1 ad m2 ∧ KM m m2 ∧ r = vals S (rgM S 6 a (wiseT S a)) n (stOf S))) := by
  refine Z.met (own := "ThreeSizesModel") (nm := "valueBy") (lv := [(0, .ref (ad 0)), (1, .int (nI (6))), (2, .int (nI (a))), (3, .int (nI (n)))]) (by decide) rfl rfl (Nat.le_of_ble_eq_true rfl) rfl (fun κ X => ?_)
  have h7 := hI.2.1
  have h8 := stOf_lt hI
  refine z_iload_n X dX4_valueBy_0 rfl 1 rfl ?_
  refine z_bipush (v := nI (6)) X dX4_valueBy_1 (by decide) ?_
  refine z_icmp_ne_f (tgt := 11) X dX4_valueBy_3 (by decide) rfl ?_
  refine z_aload_n X dX4_valueBy_6 rfl 0 rfl ?_
  refine z_iload_n X dX4_valueBy_7 rfl 2 rfl ?_
  refine z_cv (z_runV (rest := []) (n := 1) X [.int (nI (a))] (m_X4_beWise hM hR hI (a := a) (by omega)) dX4_valueBy_8 (mm_o hM) rfl (lw_V q1596 q1598 qs30 q70 q1599) hv_X4_beWise rfl ⟨Nat.le_of_ble_eq_true rfl, Nat.le_of_ble_eq_true rfl⟩ ⟨by omega, by omega⟩ rfl (Nat.le_of_ble_eq_true rfl)) (fun w3 h2 => ?_)
  obtain ⟨mv2, hM2, hQ2⟩ := h2
  have hR2 : MR S mv2 := hQ2.1.MR hR
  refine z_aload_n X dX4_valueBy_11 rfl 0 rfl ?_
  refine z_iload_n X dX4_valueBy_12 rfl 3 rfl ?_
  refine z_iload_n X dX4_valueBy_13 rfl 1 rfl ?_
  refine z_iload_n X dX4_valueBy_14 rfl 2 rfl ?_
  refine z_iconst (v := -1) X dX4_valueBy_15 cim1 ?_
  refine z_cv (z_runV (rest := []) (n := 4) X [.int (nI (n)), .int (nI (6)), .int (nI (a)), .int (-1)] (m_X4_solve hM2 hR2 hI (n := n) (kd := 6) (a := a) (by omega) (by omega) (by omega) (T := wiseT S a) (fun _ => hQ2.2) (lt := none) (fun y h => by cases h)) dX4_valueBy_16 (mm_o hM2) rfl (lw_V q1600 q1602 qs31 q70 q1603) hv_X4_solve rfl ⟨Nat.le_of_ble_eq_true rfl, Nat.le_of_ble_eq_true rfl⟩ ⟨by omega, by omega⟩ rfl (Nat.le_of_ble_eq_true rfl)) (fun w6 h5 => ?_)
  obtain ⟨mv5, hM5, hQ5⟩ := h5
  have hR5 : MR S mv5 := (KM.of hQ5.2.1 hQ5.1).MR hR2
  refine z_aload_n X dX4_valueBy_19 rfl 0 rfl ?_
  refine z_mg28 X hM5 dX4_valueBy_20 ?_
  refine z_iload_n X dX4_valueBy_23 rfl 3 rfl ?_
  refine z_aN6 (v := .ref (ad (70 + n))) X dX4_valueBy_24 (mm_29 hM5) (by omega) (by omega) rfl ?_
  refine z_aload_n X dX4_valueBy_25 rfl 0 rfl ?_
  refine z_cip (z_runV (rest := [.ref (ad (70 + n))]) (n := 0) X [] (m_X4_stateNow hM5 hR5 hI) dX4_valueBy_26 (mm_o hM5) rfl (lw_V q1585 q1587 qs28 q70 q1588) hv_X4_stateNow rfl ⟨Nat.le_of_ble_eq_true rfl, Nat.le_of_ble_eq_true rfl⟩ ⟨by omega, by omega⟩ rfl (Nat.le_of_ble_eq_true rfl)) ?_
  refine z_laN (v := mv5.2.1 (70 + n) (stOf S)) X dX4_valueBy_29 (mmr_70 hM5 (by omega)) (by omega) (by omega) rfl ?_
  exact z_lret X dX4_valueBy_30 (by omega) (by omega) ⟨_, rfl, ⟨_, hM5, hQ2.1.trans (KM.of hQ5.2.1 hQ5.1), (hQ5.2.2 n (Nat.le_refl _) _ (stOf_lt hI)).trans valsL_none⟩⟩
set_option maxHeartbeats 2000000 in
theorem m_X4_valueByN {l : Launch} {G : GG} {wb w : GW} {ad : Nat → Nat} {m : MSt} (hM : MM G wb w ad m) {S : WS} (hR : MR S m) (hI : wInv S) {a n : Nat} (ha : a < 100) (hn : n ≤ 24) {kd : Nat} (hk : kd ≤ 6) (h6 : kd ≠ 6) : gM l G yX4_valueBy cX4_valueBy 4 (some .long) 8 0 0 [.ref (ad 0), .int (nI (kd)), .int (nI (a)), .int (nI (n))] w (pL (fun r w1 => ∃ m2, MM G wb w1 ad m2 ∧ KM m m2 ∧ r = vals S (rgM S kd a (wiseT S a)) n (stOf S))) := by
  refine Z.met (own := "ThreeSizesModel") (nm := "valueBy") (lv := [(0, .ref (ad 0)), (1, .int (nI (kd))), (2, .int (nI (a))), (3, .int (nI (n)))]) (by decide) rfl rfl (Nat.le_of_ble_eq_true rfl) rfl (fun κ X => ?_)
  have h7 := hI.2.1
  have h8 := stOf_lt hI
  refine z_iload_n X dX4_valueBy_0 rfl 1 rfl ?_
  refine z_bipush (v := nI (6)) X dX4_valueBy_1 (by decide) ?_
  refine z_icmp_ne_t (tgt := 11) X dX4_valueBy_3 (by decide) (fun h => h6 ((nI_eq (by omega) (by omega)).mp h)) ?_
  refine z_aload_n X dX4_valueBy_11 rfl 0 rfl ?_
  refine z_iload_n X dX4_valueBy_12 rfl 3 rfl ?_
  refine z_iload_n X dX4_valueBy_13 rfl 1 rfl ?_
  refine z_iload_n X dX4_valueBy_14 rfl 2 rfl ?_
  refine z_iconst (v := -1) X dX4_valueBy_15 cim1 ?_
  refine z_cv (z_runV (rest := []) (n := 4) X [.int (nI (n)), .int (nI (kd)), .int (nI (a)), .int (-1)] (m_X4_solve hM hR hI (n := n) (kd := kd) (a := a) (by omega) (by omega) (by omega) (T := wiseT S a) (fun h => absurd h h6) (lt := none) (fun y h => by cases h)) dX4_valueBy_16 (mm_o hM) rfl (lw_V q1600 q1602 qs31 q70 q1603) hv_X4_solve rfl ⟨Nat.le_of_ble_eq_true rfl, Nat.le_of_ble_eq_true rfl⟩ ⟨by omega, by omega⟩ rfl (Nat.le_of_ble_eq_true rfl)) (fun w3 h2 => ?_)
  obtain ⟨mv2, hM2, hQ2⟩ := h2
  have hR2 : MR S mv2 := (KM.of hQ2.2.1 hQ2.1).MR hR
  refine z_aload_n X dX4_valueBy_19 rfl 0 rfl ?_
  refine z_mg28 X hM2 dX4_valueBy_20 ?_
  refine z_iload_n X dX4_valueBy_23 rfl 3 rfl ?_
  refine z_aN6 (v := .ref (ad (70 + n))) X dX4_valueBy_24 (mm_29 hM2) (by omega) (by omega) rfl ?_
  refine z_aload_n X dX4_valueBy_25 rfl 0 rfl ?_
  refine z_cip (z_runV (rest := [.ref (ad (70 + n))]) (n := 0) X [] (m_X4_stateNow hM2 hR2 hI) dX4_valueBy_26 (mm_o hM2) rfl (lw_V q1585 q1587 qs28 q70 q1588) hv_X4_stateNow rfl ⟨Nat.le_of_ble_eq_true rfl, Nat.le_of_ble_eq_true rfl⟩ ⟨by omega, by omega⟩ rfl (Nat.le_of_ble_eq_true rfl)) ?_
  refine z_laN (v := mv2.2.1 (70 + n) (stOf S)) X dX4_valueBy_29 (mmr_70 hM2 (by omega)) (by omega) (by omega) rfl ?_
  exact z_lret X dX4_valueBy_30 (by omega) (by omega) ⟨_, rfl, ⟨_, hM2, KM.of hQ2.2.1 hQ2.1, (hQ2.2.2 n (Nat.le_refl _) _ (stOf_lt hI)).trans valsL_none⟩⟩
theorem m_X4_valueBy {l : Launch} {G : GG} {wb w : GW} {ad : Nat → Nat} {m : MSt} (hM : MM G wb w ad m) {S : WS} (hR : MR S m) (hI : wInv S) {a n : Nat} (ha : a < 100) (hn : n ≤ 24) {kd : Nat} (hk : kd ≤ 6) : gM l G yX4_valueBy cX4_valueBy 4 (some .long) 8 0 0 [.ref (ad 0), .int (nI kd), .int (nI a), .int (nI n)] w (pL (fun r w1 => ∃ m2, MM G wb w1 ad m2 ∧ KM m m2 ∧ r = vals S (rgM S kd a (wiseT S a)) n (stOf S))) := by
  by_cases h6 : kd = 6
  · subst h6; exact m_X4_valueByW hM hR hI ha hn
  · exact m_X4_valueByN hM hR hI ha hn hk h6
set_option maxHeartbeats 2000000 in
theorem m_X4_bestNow {l : Launch} {G : GG} {wb w : GW} {ad : Nat → Nat} {m : MSt} (hM : MM G wb w ad m) {S : WS} (hR : MR S m) (hI : wInv S) {n : Nat} (hn : n ≤ 24) : gM l G yX4_bestNow cX4_bestNow 2 (some .long) 9 0 0 [.ref (ad 0), .int (nI (n))] w (pL (fun r w1 => ∃ m2, MM G wb w1 ad m2 ∧ KM m m2 ∧ r = bestV S n)) := by
  refine Z.met (own := "ThreeSizesModel") (nm := "bestNow") (lv := [(0, .ref (ad 0)), (1, .int (nI (n)))]) (by decide) rfl rfl (Nat.le_of_ble_eq_true rfl) rfl (fun κ X => ?_)
  refine z_aload_n X dX4_bestNow_0 rfl 0 rfl ?_
  refine z_iconst (v := nI (0)) X dX4_bestNow_1 ci0 ?_
  refine z_iconst (v := nI (0)) X dX4_bestNow_2 ci0 ?_
  refine z_iload_n X dX4_bestNow_3 rfl 1 rfl ?_
  refine z_cl (z_runV (rest := []) (n := 3) X [.int (nI (0)), .int (nI (0)), .int (nI (n))] (m_X4_valueBy hM hR hI (a := 0) (n := n) (by omega) (by omega) (kd := 0) (by omega)) dX4_bestNow_4 (mm_o hM) rfl (lw_V q1801 q1803 qs55 q70 q1804) hv_X4_valueBy rfl ⟨Nat.le_of_ble_eq_true rfl, Nat.le_of_ble_eq_true rfl⟩ ⟨by omega, by omega⟩ rfl (Nat.le_of_ble_eq_true rfl)) (fun r1 w3 h2 => ?_)
  obtain ⟨mv2, hM2, hQ2, r1e⟩ := h2
  rw [r1e]
  have hR2 : MR S mv2 := hQ2.MR hR
  exact z_lret X dX4_bestNow_7 (by omega) (by omega) ⟨_, rfl, ⟨_, hM2, hQ2, by rw [rgM_0]; rfl⟩⟩
