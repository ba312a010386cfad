/-! THE MODEL: shelves, what there is -/
set_option maxRecDepth 100000
theorem leP {v : Int64} {n : Nat} (h : n ≤ 6) : v < lN n ↔ v ≤ (nI n - nI 1).toInt64 := by
  rw [Int64.le_iff_toInt_le, Int64.lt_iff_toInt_lt, Int32.toInt_toInt64, pk_sub_toInt (by omega) (by decide), lN_toInt (by omega)]; omega
theorem MR.put {S : WS} {m : MSt} (h : MR S m) {f i v : Nat} (hf : f < 3) (hi : i < 3) : MR (wPut S f i v) (mI m (11 + f) i (nI v)) := by
  obtain ⟨a, b, c, d, e⟩ := h
  refine ⟨fun j hj => ?_, b, fun k hk => ?_, ?_, ?_⟩
  · have aj := a j hj
    have oc : ∀ c, c ≠ 11 + f → (mI m (11 + f) i (nI v)).1 c = m.1 c := fun c hc => mI_oth hc
    have ow : (mI m (11 + f) i (nI v)).1 (11 + f) = upd (m.1 (11 + f)) i (nI v) := mI_own
    show _ = nI (ite _ _ _) ∧ _ = nI (ite _ _ _) ∧ _ = nI (ite _ _ _)
    rcases (show f = 0 ∨ f = 1 ∨ f = 2 by omega) with rfl | rfl | rfl
    · rw [show (11 : Nat) + 0 = 11 from rfl] at ow oc
      rw [show (11 : Nat) + 0 = 11 from rfl, ow, oc 12 (by decide), oc 13 (by decide)]
      by_cases q : j = i
      · subst q; simp [pk_us, aj]
      · simp [pk_un q, aj, q]
    · rw [show (11 : Nat) + 1 = 12 from rfl] at ow oc
      rw [show (11 : Nat) + 1 = 12 from rfl, ow, oc 11 (by decide), oc 13 (by decide)]
      by_cases q : j = i
      · subst q; simp [pk_us, aj]
      · simp [pk_un q, aj, q]
    · rw [show (11 : Nat) + 2 = 13 from rfl] at ow oc
      rw [show (11 : Nat) + 2 = 13 from rfl, ow, oc 11 (by decide), oc 12 (by decide)]
      by_cases q : j = i
      · subst q; simp [pk_us, aj]
      · simp [pk_un q, aj, q]
  · rw [mI_oth (by omega)]
    have ck := c k hk
    have o : ∀ f2, 3 ≤ f2 → (wPut S f i v).1 f2 k = S.1 f2 k := fun f2 h2 => if_neg (by omega)
    rw [o 3 (by omega), o 4 (by omega), o 5 (by omega), o 6 (by omega)]; exact ck
  · rw [mI_oth (by omega)]; exact d
  · rw [mI_oth (by omega)]; exact e
theorem MT.w {o : OS} {m m2 : MSt} (h : MT o m) {S : WS} (hR : MR S m2) (h1 : ∀ c, c = 1 ∨ c = 2 ∨ c = 3 ∨ c = 6 ∨ c = 7 ∨ c = 8 ∨ c = 10 ∨ c = 17 → m2.1 c = m.1 c) (h2 : ∀ s, s < 8 → m2.2.1 (40 + s) = m.2.1 (40 + s)) (h3 : ∀ k, k = 8 ∨ k = 17 → m2.2.2.1 k = m.2.2.1 k) : MT (oW o S) m2 := by
  obtain ⟨a, b, c, d, e, f, g, i⟩ := h
  refine ⟨hR, ?_, (h3 17 (by omega)).trans c, ?_, ?_, ?_, (h3 8 (by omega)).trans g, ?_⟩
  · rw [h1 17 (by omega)]; exact b
  · rw [h1 1 (by omega), h1 2 (by omega), h1 3 (by omega), h1 6 (by omega), h1 7 (by omega)]; exact d
  · intro s hs; rw [h2 s hs]; exact e s hs
  · rw [h1 8 (by omega)]; exact f
  · rw [h1 10 (by omega)]; exact i
theorem MT.put {o : OS} {m : MSt} (h : MT o m) {f i v : Nat} (hf : f < 3) (hi : i < 3) : MT (oW o (wPut o.1 f i v)) (mI m (11 + f) i (nI v)) := h.w (h.1.put hf hi) (fun c hc => mI_oth (by omega)) (fun _ _ => rfl) (fun _ _ => rfl)
theorem MR.put0 {S : WS} {m : MSt} (h : MR S m) {f v : Nat} (hf : f < 2) : MR (wPut0 S (1 + f) v) (mI m 16 f (nI v)) := by
  obtain ⟨a, b, c, d, e⟩ := h
  have ow : (mI m 16 f (nI v)).1 16 = upd (m.1 16) f (nI v) := mI_own
  refine ⟨fun j hj => ?_, ?_, fun k hk => ?_, ?_, ?_⟩
  · rw [mI_oth (by decide), mI_oth (by decide), mI_oth (by decide)]; exact a j hj
  · exact b.trans (congrArg nI (if_neg (by omega)).symm)
  · rw [mI_oth (by omega)]; exact c k hk
  · rw [ow]
    show _ = nI (ite _ _ _)
    rcases (show f = 0 ∨ f = 1 by omega) with rfl | rfl
    · rw [if_pos rfl, pk_us]
    · rw [if_neg (by decide), pk_un (by decide)]; exact d
  · rw [ow]
    show _ = nI (ite _ _ _)
    rcases (show f = 0 ∨ f = 1 by omega) with rfl | rfl
    · rw [if_neg (by decide), pk_un (by decide)]; exact e
    · rw [if_pos rfl, pk_us]
theorem MT.put0 {o : OS} {m : MSt} (h : MT o m) {f v : Nat} (hf : f < 2) : MT (oW o (wPut0 o.1 (1 + f) v)) (mI m 16 f (nI v)) := h.w (h.1.put0 hf) (fun c hc => mI_oth (by omega)) (fun _ _ => rfl) (fun _ _ => rfl)
theorem MT.tp {o : OS} {m : MSt} (h : MT o m) {n : Nat} : MT (oTape o o.2.2.2.2.2.1 n) (mF m 8 (nI n)) := by
  obtain ⟨a, b, c, d, e, f, g, i⟩ := h
  exact ⟨a, b, c, d, e, f, rfl, i⟩
set_option maxHeartbeats 2000000 in
theorem m_X4_fit {l : Launch} {G : GG} {k : Nat} {v : Int64} {w : GW} (hk : k ≤ 4) : gM l G yX4_fit cX4_fit 3 (some .long) 1 0 0 [.int (nI (k)), .long (v)] w (pL (fun r w1 => r = fitV k v ∧ w1 = w)) := by
  refine Z.met (own := "ThreeSizesModel") (nm := "fit") (lv := [(0, .int (nI (k))), (1, .long (v))]) (by decide) rfl rfl (Nat.le_of_ble_eq_true rfl) rfl (fun κ X => ?_)
  refine z_iload_n X dX4_fit_0 rfl 0 rfl ?_
  rcases (show k = 0 ∨ k = 1 ∨ k = 2 ∨ k = 3 ∨ k = 4 by omega) with rfl | rfl | rfl | rfl | rfl
  · skip
    refine z_tabIn (off := 31) (tgt := 32) X dX4_fit_1 (by decide) (by decide) (by decide) (by decide) ?_
    refine z_lload_n X dX4_fit_32 rfl 1 rfl ?_
    refine z_l2i (v := (v).toInt32) X dX4_fit_33 rfl ?_
    refine z_i2b (v := ((v).toInt32).toInt8.toInt32) X dX4_fit_34 rfl ?_
    refine z_i2l (v := (((v).toInt32).toInt8.toInt32).toInt64) X dX4_fit_35 rfl ?_
    exact z_lret X dX4_fit_36 (by omega) (by omega) ⟨_, rfl, ⟨rfl, rfl⟩⟩
  · skip
    refine z_tabIn (off := 36) (tgt := 37) X dX4_fit_1 (by decide) (by decide) (by decide) (by decide) ?_
    refine z_lload_n X dX4_fit_37 rfl 1 rfl ?_
    refine z_l2i (v := (v).toInt32) X dX4_fit_38 rfl ?_
    refine z_i2s (v := ((v).toInt32).toInt16.toInt32) X dX4_fit_39 rfl ?_
    refine z_i2l (v := (((v).toInt32).toInt16.toInt32).toInt64) X dX4_fit_40 rfl ?_
    exact z_lret X dX4_fit_41 (by omega) (by omega) ⟨_, rfl, ⟨rfl, rfl⟩⟩
  · skip
    refine z_tabIn (off := 41) (tgt := 42) X dX4_fit_1 (by decide) (by decide) (by decide) (by decide) ?_
    refine z_lload_n X dX4_fit_42 rfl 1 rfl ?_
    refine z_l2i (v := (v).toInt32) X dX4_fit_43 rfl ?_
    refine z_i2l (v := ((v).toInt32).toInt64) X dX4_fit_44 rfl ?_
    exact z_lret X dX4_fit_45 (by omega) (by omega) ⟨_, rfl, ⟨rfl, rfl⟩⟩
  · skip
    refine z_tabIn (off := 45) (tgt := 46) X dX4_fit_1 (by decide) (by decide) (by decide) (by decide) ?_
    refine z_lload_n X dX4_fit_46 rfl 1 rfl ?_
    exact z_lret X dX4_fit_47 (by omega) (by omega) ⟨_, rfl, ⟨rfl, rfl⟩⟩
  · skip
    refine z_tabOut (tgt := 48) X dX4_fit_1 (by decide) (by decide) ?_
    refine z_lload_n X dX4_fit_48 rfl 1 rfl ?_
    refine z_lconst (v := lN 0) X dX4_fit_49 cl0 ?_
    refine z_lcmp (v := lg_cmp (v) (lN (0))) X dX4_fit_50 rfl ?_
    refine z_if_eq (tgt := 58) X dX4_fit_51 (by decide) (lg_cmp_eq _ _) (fun c1 => ?_) (fun c1 => ?_)
    · refine z_lconst (v := lN 0) X dX4_fit_58 cl0 ?_
      exact z_lret X dX4_fit_59 (by omega) (by omega) ⟨_, rfl, ⟨(if_pos c1).symm, rfl⟩⟩
    · refine z_lconst (v := lN 1) X dX4_fit_54 cl1 ?_
      refine z_goto (tgt := 59) X dX4_fit_55 (by decide) ?_
      exact z_lret X dX4_fit_59 (by omega) (by omega) ⟨_, rfl, ⟨(if_neg c1).symm, rfl⟩⟩
set_option maxHeartbeats 2000000 in
theorem m_X4_isUnder {l : Launch} {G : GG} {k f : Nat} {w : GW} (hk : k ≤ 6) (hf : f ≤ 6) : gM l G yX4_isUnder cX4_isUnder 2 (some .boolean) 1 0 0 [.int (nI (k)), .int (nI (f))] w (pI (fun r w1 => r = bI (under k f) ∧ w1 = w)) := by
  refine Z.met (own := "ThreeSizesModel") (nm := "isUnder") (lv := [(0, .int (nI (k))), (1, .int (nI (f)))]) (by decide) rfl rfl (Nat.le_of_ble_eq_true rfl) rfl (fun κ X => ?_)
  refine z_iload_n X dX4_isUnder_0 rfl 1 rfl ?_
  refine z_if_eq (tgt := 34) X dX4_isUnder_1 (by decide) (nz_eq (by omega)) (fun c1 => ?_) (fun c1 => ?_)
  · refine z_iconst (v := nI (1)) X dX4_isUnder_34 ci1 ?_
    refine z_goto (tgt := 39) X dX4_isUnder_35 (by decide) ?_
    exact z_zret X dX4_isUnder_39 (by omega) (by omega) bz1 ⟨_, rfl, ⟨bz_t (by simp only [under, Bool.or_eq_true, Bool.or_eq_false_iff, decide_eq_true_eq, decide_eq_false_iff_not]; omega), rfl⟩⟩
  · refine z_iload_n X dX4_isUnder_4 rfl 0 rfl ?_
    refine z_iload_n X dX4_isUnder_5 rfl 1 rfl ?_
    refine z_icmp_eq (tgt := 34) X dX4_isUnder_6 (by decide) (nI_eq (by omega) (by omega)) (fun c2 => ?_) (fun c2 => ?_)
    · refine z_iconst (v := nI (1)) X dX4_isUnder_34 ci1 ?_
      refine z_goto (tgt := 39) X dX4_isUnder_35 (by decide) ?_
      exact z_zret X dX4_isUnder_39 (by omega) (by omega) bz1 ⟨_, rfl, ⟨bz_t (by simp only [under, Bool.or_eq_true, Bool.or_eq_false_iff, decide_eq_true_eq, decide_eq_false_iff_not]; omega), rfl⟩⟩
    · refine z_iload_n X dX4_isUnder_9 rfl 1 rfl ?_
      refine z_iconst (v := nI (1)) X dX4_isUnder_10 ci1 ?_
      refine z_icmp_ne (tgt := 24) X dX4_isUnder_11 (by decide) (nI_eq (by omega) (by omega)) (fun c3 => ?_) (fun c3 => ?_)
      · refine z_iload_n X dX4_isUnder_24 rfl 1 rfl ?_
        refine z_iconst (v := nI (4)) X dX4_isUnder_25 ci4 ?_
        refine z_icmp_ne (tgt := 38) X dX4_isUnder_26 (by decide) (nI_eq (by omega) (by omega)) (fun c4 => ?_) (fun c4 => ?_)
        · refine z_iconst (v := nI (0)) X dX4_isUnder_38 ci0 ?_
          exact z_zret X dX4_isUnder_39 (by omega) (by omega) bz0 ⟨_, rfl, ⟨bz_f (by simp only [under, Bool.or_eq_true, Bool.or_eq_false_iff, decide_eq_true_eq, decide_eq_false_iff_not]; omega), rfl⟩⟩
        · refine z_iload_n X dX4_isUnder_29 rfl 0 rfl ?_
          refine z_iconst (v := nI (5)) X dX4_isUnder_30 ci5 ?_
          refine z_icmp_ne (tgt := 38) X dX4_isUnder_31 (by decide) (nI_eq (by omega) (by omega)) (fun c5 => ?_) (fun c5 => ?_)
          · refine z_iconst (v := nI (0)) X dX4_isUnder_38 ci0 ?_
            exact z_zret X dX4_isUnder_39 (by omega) (by omega) bz0 ⟨_, rfl, ⟨bz_f (by simp only [under, Bool.or_eq_true, Bool.or_eq_false_iff, decide_eq_true_eq, decide_eq_false_iff_not]; omega), rfl⟩⟩
          · refine z_iconst (v := nI (1)) X dX4_isUnder_34 ci1 ?_
            refine z_goto (tgt := 39) X dX4_isUnder_35 (by decide) ?_
            exact z_zret X dX4_isUnder_39 (by omega) (by omega) bz1 ⟨_, rfl, ⟨bz_t (by simp only [under, Bool.or_eq_true, Bool.or_eq_false_iff, decide_eq_true_eq, decide_eq_false_iff_not]; omega), rfl⟩⟩
      · refine z_iload_n X dX4_isUnder_14 rfl 0 rfl ?_
        refine z_iconst (v := nI (2)) X dX4_isUnder_15 ci2 ?_
        refine z_icmp_eq (tgt := 34) X dX4_isUnder_16 (by decide) (nI_eq (by omega) (by omega)) (fun c6 => ?_) (fun c6 => ?_)
        · refine z_iconst (v := nI (1)) X dX4_isUnder_34 ci1 ?_
          refine z_goto (tgt := 39) X dX4_isUnder_35 (by decide) ?_
          exact z_zret X dX4_isUnder_39 (by omega) (by omega) bz1 ⟨_, rfl, ⟨bz_t (by simp only [under, Bool.or_eq_true, Bool.or_eq_false_iff, decide_eq_true_eq, decide_eq_false_iff_not]; omega), rfl⟩⟩
        · refine z_iload_n X dX4_isUnder_19 rfl 0 rfl ?_
          refine z_iconst (v := nI (3)) X dX4_isUnder_20 ci3 ?_
          refine z_icmp_eq (tgt := 34) X dX4_isUnder_21 (by decide) (nI_eq (by omega) (by omega)) (fun c7 => ?_) (fun c7 => ?_)
          · refine z_iconst (v := nI (1)) X dX4_isUnder_34 ci1 ?_
            refine z_goto (tgt := 39) X dX4_isUnder_35 (by decide) ?_
            exact z_zret X dX4_isUnder_39 (by omega) (by omega) bz1 ⟨_, rfl, ⟨bz_t (by simp only [under, Bool.or_eq_true, Bool.or_eq_false_iff, decide_eq_true_eq, decide_eq_false_iff_not]; omega), rfl⟩⟩
          · refine z_iload_n X dX4_isUnder_24 rfl 1 rfl ?_
            refine z_iconst (v := nI (4)) X dX4_isUnder_25 ci4 ?_
            refine z_icmp_ne (tgt := 38) X dX4_isUnder_26 (by decide) (nI_eq (by omega) (by omega)) (fun c8 => ?_) (fun c8 => ?_)
            · refine z_iconst (v := nI (0)) X dX4_isUnder_38 ci0 ?_
              exact z_zret X dX4_isUnder_39 (by omega) (by omega) bz0 ⟨_, rfl, ⟨bz_f (by simp only [under, Bool.or_eq_true, Bool.or_eq_false_iff, decide_eq_true_eq, decide_eq_false_iff_not]; omega), rfl⟩⟩
            · refine z_iload_n X dX4_isUnder_29 rfl 0 rfl ?_
              refine z_iconst (v := nI (5)) X dX4_isUnder_30 ci5 ?_
              refine z_icmp_ne (tgt := 38) X dX4_isUnder_31 (by decide) (nI_eq (by omega) (by omega)) (fun c9 => ?_) (fun c9 => ?_)
              · refine z_iconst (v := nI (0)) X dX4_isUnder_38 ci0 ?_
                exact z_zret X dX4_isUnder_39 (by omega) (by omega) bz0 ⟨_, rfl, ⟨bz_f (by simp only [under, Bool.or_eq_true, Bool.or_eq_false_iff, decide_eq_true_eq, decide_eq_false_iff_not]; omega), rfl⟩⟩
              · refine z_iconst (v := nI (1)) X dX4_isUnder_34 ci1 ?_
                refine z_goto (tgt := 39) X dX4_isUnder_35 (by decide) ?_
                exact z_zret X dX4_isUnder_39 (by omega) (by omega) bz1 ⟨_, rfl, ⟨bz_t (by simp only [under, Bool.or_eq_true, Bool.or_eq_false_iff, decide_eq_true_eq, decide_eq_false_iff_not]; omega), rfl⟩⟩
set_option maxHeartbeats 2000000 in
theorem m_X4_isSort {l : Launch} {G : GG} {wb w : GW} {ad : Nat → Nat} {m : MSt} (hM : MM G wb w ad m) {S : WS} (hR : MR S m) (hI : wInv S) {v : Int64} : gM l G yX4_isSort cX4_isSort 3 (some .boolean) 2 0 0 [.ref (ad 0), .long (v)] w (pI (fun r w1 => r = bI (decide (lN 0 ≤ v ∧ v < lN (S.2 0))) ∧ w1 = w)) := by
  refine Z.met (own := "ThreeSizesModel") (nm := "isSort") (lv := [(0, .ref (ad 0)), (1, .long (v))]) (by decide) rfl rfl (Nat.le_of_ble_eq_true rfl) rfl (fun κ X => ?_)
  have h6 := hI.2.1
  refine z_lload_n X dX4_isSort_0 rfl 1 rfl ?_
  refine z_lconst (v := lN 0) X dX4_isSort_1 cl0 ?_
  refine z_aload_n X dX4_isSort_2 rfl 0 rfl ?_
  refine z_mgv13 X hM dX4_isSort_3 hR.2.1 ?_
  refine z_iconst (v := nI (1)) X dX4_isSort_6 ci1 ?_
  refine z_isub (v := nI (S.2 0) - nI 1) X dX4_isSort_7 rfl ?_
  refine z_i2l (v := (nI (S.2 0) - nI 1).toInt64) X dX4_isSort_8 rfl ?_
  refine z_cip (z_runS (rest := []) (n := 3) X [.long (v), .long (lN (0)), .long ((nI (S.2 0) - nI 1).toInt64)] m_X4_in dX4_isSort_9 (lw_S q1541 q1542 q70 q1543) hs_X4_in rfl ⟨Nat.le_of_ble_eq_true rfl, Nat.le_of_ble_eq_true rfl⟩ ⟨by omega, by omega⟩ rfl (Nat.le_of_ble_eq_true rfl)) ?_
  exact z_zret X dX4_isSort_12 (by omega) (by omega) bI_n ⟨_, rfl, ⟨bI_iff (by rw [leP h6]), rfl⟩⟩
theorem m_X4_isSortI {l : Launch} {G : GG} {wb w : GW} {ad : Nat → Nat} {m : MSt} (hM : MM G wb w ad m) {S : WS} (hR : MR S m) (hI : wInv S) {v : Int32} : gM l G yX4_isSort cX4_isSort 3 (some .boolean) 2 0 0 [.ref (ad 0), .long (v.toInt64)] w (pI (fun r w1 => r = bI (decide (nI 0 ≤ v ∧ v < nI (S.2 0))) ∧ w1 = w)) := by
  have e : bI (decide (lN 0 ≤ v.toInt64 ∧ v.toInt64 < lN (S.2 0))) = bI (decide (nI 0 ≤ v ∧ v < nI (S.2 0))) := bI_iff (by
    have h6 := hI.2.1
    rw [leP h6]
    exact (in32 (lo := nI 0) (hi := nI (S.2 0) - nI 1) (v := v)).trans (and_congr Iff.rfl (le_pred (n := S.2 0) (by omega))))
  have h := m_X4_isSort (l := l) hM hR hI (v := v.toInt64)
  rw [e] at h
  exact h
set_option maxHeartbeats 2000000 in
theorem m_X4_set {l : Launch} {G : GG} {wb w : GW} {ad : Nat → Nat} {m : MSt} (hM : MM G wb w ad m) {o : OS} (hT : MT o m) (hO : oInv o) {s i : Int32} {v : Int64} : gM l G yX4_set cX4_set 5 (some .int) 2 0 0 [.ref (ad 0), .int (s), .int (i), .long (v)] w (pI (fun r w1 => ∃ m2, MM G wb w1 ad m2 ∧ MT (spSet o s i v).2 m2 ∧ r = (spSet o s i v).1)) := by
  refine Z.met (own := "ThreeSizesModel") (nm := "set") (lv := [(0, .ref (ad 0)), (1, .int (s)), (2, .int (i)), (3, .long (v))]) (by decide) rfl rfl (Nat.le_of_ble_eq_true rfl) rfl (fun κ X => ?_)
  have hI := hO.1
  have h6 := hI.2.1
  have ht200 := hO.2.2.2
  refine z_iload_n X dX4_set_0 rfl 1 rfl ?_
  refine z_i2l (v := (s).toInt64) X dX4_set_1 rfl ?_
  refine z_lconst (v := lN 0) X dX4_set_2 cl0 ?_
  refine z_ldc2 X dX4_set_3 q1540 ?_
  refine z_cip (z_runS (rest := []) (n := 3) X [.long ((s).toInt64), .long (lN (0)), .long ((7))] m_X4_in dX4_set_6 (lw_S q1541 q1542 q70 q1543) hs_X4_in rfl ⟨Nat.le_of_ble_eq_true rfl, Nat.le_of_ble_eq_true rfl⟩ ⟨by omega, by omega⟩ rfl (Nat.le_of_ble_eq_true rfl)) ?_
  refine z_if_ne (tgt := 19) X dX4_set_9 (by decide) bI_d (fun c1 => ?_) (fun c1 => ?_)
  · have c1 := Classical.not_not.mp c1
    obtain ⟨sN, sNl, sNh, rfl, e1⟩ := rgb_t (lo := 0) (hi := 7) (by decide) (by decide) ((in32 (lo := nI 0) (hi := nI 7)).mp c1)
    have hq := hO.2.1 sN (by omega)
    refine z_aload_n X dX4_set_19 rfl 0 rfl ?_
    refine z_mg0 X hM dX4_set_20 ?_
    refine z_iload_n X dX4_set_23 rfl 1 rfl ?_
    refine z_iaN (v := nI (o.2.2.2.1 0 sN)) X dX4_set_24 (mm_1 hM) (by omega) (by omega) ((hT.2.2.2.1 sN (by omega)).1) ?_
    refine z_iconst (v := nI (2)) X dX4_set_25 ci2 ?_
    refine z_icmp_ne (tgt := 36) X dX4_set_26 (by decide) (nI_eq (by omega) (by omega)) (fun c2 => ?_) (fun c2 => ?_)
    · refine z_aload_n X dX4_set_36 rfl 0 rfl ?_
      refine z_mg0 X hM dX4_set_37 ?_
      refine z_iload_n X dX4_set_40 rfl 1 rfl ?_
      refine z_iaN (v := nI (o.2.2.2.1 0 sN)) X dX4_set_41 (mm_1 hM) (by omega) (by omega) ((hT.2.2.2.1 sN (by omega)).1) ?_
      refine z_if_ne (tgt := 52) X dX4_set_42 (by decide) (nz_eq (by omega)) (fun c3 => ?_) (fun c3 => ?_)
      · refine z_iload_n X dX4_set_52 rfl 2 rfl ?_
        refine z_i2l (v := (i).toInt64) X dX4_set_53 rfl ?_
        refine z_lconst (v := lN 0) X dX4_set_54 cl0 ?_
        refine z_aload_n X dX4_set_55 rfl 0 rfl ?_
        refine z_mg2 X hM dX4_set_56 ?_
        refine z_iload_n X dX4_set_59 rfl 1 rfl ?_
        refine z_iaN (v := nI (o.2.2.2.1 2 sN)) X dX4_set_60 (mm_3 hM) (by omega) (by omega) ((hT.2.2.2.1 sN (by omega)).2.2.1) ?_
        refine z_iconst (v := nI (1)) X dX4_set_61 ci1 ?_
        refine z_isub (v := nI (o.2.2.2.1 2 sN) - nI 1) X dX4_set_62 rfl ?_
        refine z_i2l (v := (nI (o.2.2.2.1 2 sN) - nI 1).toInt64) X dX4_set_63 rfl ?_
        refine z_cip (z_runS (rest := []) (n := 3) X [.long ((i).toInt64), .long (lN (0)), .long ((nI (o.2.2.2.1 2 sN) - nI 1).toInt64)] m_X4_in dX4_set_64 (lw_S q1541 q1542 q70 q1543) hs_X4_in rfl ⟨Nat.le_of_ble_eq_true rfl, Nat.le_of_ble_eq_true rfl⟩ ⟨by omega, by omega⟩ rfl (Nat.le_of_ble_eq_true rfl)) ?_
        refine z_if_ne (tgt := 77) X dX4_set_67 (by decide) bI_d (fun c4 => ?_) (fun c4 => ?_)
        · have c4 := Classical.not_not.mp c4
          obtain ⟨iN, iNh, rfl, e2⟩ := rgn_t2 (n := o.2.2.2.1 2 sN) (by omega) (in32.mp c4)
          refine z_aload_n X dX4_set_77 rfl 0 rfl ?_
          refine z_mg3 X hM dX4_set_78 ?_
          refine z_iload_n X dX4_set_81 rfl 1 rfl ?_
          refine z_aN6 (v := .ref (ad (40 + sN))) X dX4_set_82 (mm_4 hM) (by omega) (by omega) rfl ?_
          refine z_iload_n X dX4_set_83 rfl 2 rfl ?_
          refine z_aload_n X dX4_set_84 rfl 0 rfl ?_
          refine z_mg1 X hM dX4_set_85 ?_
          refine z_iload_n X dX4_set_88 rfl 1 rfl ?_
          refine z_iaN (v := nI (o.2.2.2.1 1 sN)) X dX4_set_89 (mm_2 hM) (by omega) (by omega) ((hT.2.2.2.1 sN (by omega)).2.1) ?_
          refine z_lload_n X dX4_set_90 rfl 3 rfl ?_
          refine z_clp (z_runS (rest := [.int (nI (iN)), .ref (ad (40 + sN))]) (n := 2) X [.int (nI (o.2.2.2.1 1 sN)), .long (v)] (m_X4_fit (k := o.2.2.2.1 1 sN) (v := v) (by omega)) dX4_set_91 (lw_S q1554 q1555 q70 q1556) hs_X4_fit rfl ⟨Nat.le_of_ble_eq_true rfl, Nat.le_of_ble_eq_true rfl⟩ ⟨by omega, by omega⟩ rfl (Nat.le_of_ble_eq_true rfl)) ?_
          refine z_mstL (n := 40) (j := iN) X hM (40 + sN) dX4_set_94 (mP_40 (by omega)) (mK_40 (by omega)) (mLen_40 (by omega)) (by omega) (by omega) (fun u5 hM5 => ?_)
          refine z_iconst (v := nI (1)) X dX4_set_95 ci1 ?_
          have e : spSet o (nI sN) (nI iN) v = (nI (1), setEl o sN iN (fitV (o.2.2.2.1 1 sN) v)) := by
            unfold spSet
            repeat (first | rw [el_some (by assumption)] | rw [el_none (by assumption)] | rw [if_pos (by omega)] | rw [if_neg (by omega)])
            all_goals first | rfl | (exfalso; omega)
          exact z_iret X dX4_set_96 (by omega) (by omega) ⟨_, rfl, (by rw [e]; exact ⟨_, hM5, hT.el (by omega), rfl⟩)⟩
        · have e3 : rgn (o.2.2.2.1 2 sN) i = none := rgn_f2 (by omega) (fun q => c4 (in32.mpr q))
          refine z_aload_n X dX4_set_70 rfl 0 rfl ?_
          refine z_bipush (v := (-2)) X dX4_set_71 (by decide) ?_
          refine z_ci (z_runV (rest := []) (n := 1) X [.int ((-2))] (m_X4_refuse hM (k := 2) (by decide) (v := (-2)) rfl) dX4_set_73 (mm_o hM) rfl (lw_V q1546 q1548 qs27 q70 q1549) hv_X4_refuse rfl ⟨Nat.le_of_ble_eq_true rfl, Nat.le_of_ble_eq_true rfl⟩ ⟨by omega, by omega⟩ rfl (Nat.le_of_ble_eq_true rfl)) (fun r6 w8 h7 => ?_)
          obtain ⟨hM7, r6e⟩ := h7
          rw [r6e]
          have hT7 := MT.ref hT (k := 2) (by decide)
          have e : spSet o (nI sN) i v = ((-2), oRef o 2) := by
            unfold spSet
            repeat (first | rw [el_some (by assumption)] | rw [el_none (by assumption)] | rw [if_pos (by omega)] | rw [if_neg (by omega)])
            all_goals first | rfl | (exfalso; omega)
          exact z_iret X dX4_set_76 (by omega) (by omega) ⟨_, rfl, (by rw [e]; exact ⟨_, hM7, hT7, rfl⟩)⟩
      · refine z_aload_n X dX4_set_45 rfl 0 rfl ?_
        refine z_bipush (v := (-4)) X dX4_set_46 (by decide) ?_
        refine z_ci (z_runV (rest := []) (n := 1) X [.int ((-4))] (m_X4_refuse hM (k := 4) (by decide) (v := (-4)) rfl) dX4_set_48 (mm_o hM) rfl (lw_V q1546 q1548 qs27 q70 q1549) hv_X4_refuse rfl ⟨Nat.le_of_ble_eq_true rfl, Nat.le_of_ble_eq_true rfl⟩ ⟨by omega, by omega⟩ rfl (Nat.le_of_ble_eq_true rfl)) (fun r9 w11 h10 => ?_)
        obtain ⟨hM10, r9e⟩ := h10
        rw [r9e]
        have hT10 := MT.ref hT (k := 4) (by decide)
        have e : spSet o (nI sN) i v = ((-4), oRef o 4) := by
          unfold spSet
          repeat (first | rw [el_some (by assumption)] | rw [el_none (by assumption)] | rw [if_pos (by omega)] | rw [if_neg (by omega)])
          all_goals first | rfl | (exfalso; omega)
        exact z_iret X dX4_set_51 (by omega) (by omega) ⟨_, rfl, (by rw [e]; exact ⟨_, hM10, hT10, rfl⟩)⟩
    · refine z_aload_n X dX4_set_29 rfl 0 rfl ?_
      refine z_bipush (v := (-3)) X dX4_set_30 (by decide) ?_
      refine z_ci (z_runV (rest := []) (n := 1) X [.int ((-3))] (m_X4_refuse hM (k := 3) (by decide) (v := (-3)) rfl) dX4_set_32 (mm_o hM) rfl (lw_V q1546 q1548 qs27 q70 q1549) hv_X4_refuse rfl ⟨Nat.le_of_ble_eq_true rfl, Nat.le_of_ble_eq_true rfl⟩ ⟨by omega, by omega⟩ rfl (Nat.le_of_ble_eq_true rfl)) (fun r12 w14 h13 => ?_)
      obtain ⟨hM13, r12e⟩ := h13
      rw [r12e]
      have hT13 := MT.ref hT (k := 3) (by decide)
      have e : spSet o (nI sN) i v = ((-3), oRef o 3) := by
        unfold spSet
        repeat (first | rw [el_some (by assumption)] | rw [el_none (by assumption)] | rw [if_pos (by omega)] | rw [if_neg (by omega)])
        all_goals first | rfl | (exfalso; omega)
      exact z_iret X dX4_set_35 (by omega) (by omega) ⟨_, rfl, (by rw [e]; exact ⟨_, hM13, hT13, rfl⟩)⟩
  · have e4 : rgb 0 7 s = none := rgb_f (fun q => c1 ((in32 (lo := nI 0) (hi := nI 7)).mpr q))
    refine z_aload_n X dX4_set_12 rfl 0 rfl ?_
    refine z_bipush (v := (-2)) X dX4_set_13 (by decide) ?_
    refine z_ci (z_runV (rest := []) (n := 1) X [.int ((-2))] (m_X4_refuse hM (k := 2) (by decide) (v := (-2)) rfl) dX4_set_15 (mm_o hM) rfl (lw_V q1546 q1548 qs27 q70 q1549) hv_X4_refuse rfl ⟨Nat.le_of_ble_eq_true rfl, Nat.le_of_ble_eq_true rfl⟩ ⟨by omega, by omega⟩ rfl (Nat.le_of_ble_eq_true rfl)) (fun r15 w17 h16 => ?_)
    obtain ⟨hM16, r15e⟩ := h16
    rw [r15e]
    have hT16 := MT.ref hT (k := 2) (by decide)
    have e : spSet o s i v = ((-2), oRef o 2) := by
      unfold spSet
      repeat (first | rw [el_some (by assumption)] | rw [el_none (by assumption)] | rw [if_pos (by omega)] | rw [if_neg (by omega)])
      all_goals first | rfl | (exfalso; omega)
    exact z_iret X dX4_set_18 (by omega) (by omega) ⟨_, rfl, (by rw [e]; exact ⟨_, hM16, hT16, rfl⟩)⟩
set_option maxHeartbeats 2000000 in
theorem m_X4_element {l : Launch} {G : GG} {wb w : GW} {ad : Nat → Nat} {m : MSt} (hM : MM G wb w ad m) {o : OS} (hT : MT o m) (hO : oInv o) {s i : Int32} : gM l G yX4_element cX4_element 3 (some .long) 2 0 0 [.ref (ad 0), .int (s), .int (i)] w (pL (fun r w1 => r = spElement o s i ∧ w1 = w)) := by
  refine Z.met (own := "ThreeSizesModel") (nm := "element") (lv := [(0, .ref (ad 0)), (1, .int (s)), (2, .int (i))]) (by decide) rfl rfl (Nat.le_of_ble_eq_true rfl) rfl (fun κ X => ?_)
  have hI := hO.1
  have h6 := hI.2.1
  have ht200 := hO.2.2.2
  refine z_iload_n X dX4_element_0 rfl 1 rfl ?_
  refine z_i2l (v := (s).toInt64) X dX4_element_1 rfl ?_
  refine z_lconst (v := lN 0) X dX4_element_2 cl0 ?_
  refine z_ldc2 X dX4_element_3 q1540 ?_
  refine z_cip (z_runS (rest := []) (n := 3) X [.long ((s).toInt64), .long (lN (0)), .long ((7))] m_X4_in dX4_element_6 (lw_S q1541 q1542 q70 q1543) hs_X4_in rfl ⟨Nat.le_of_ble_eq_true rfl, Nat.le_of_ble_eq_true rfl⟩ ⟨by omega, by omega⟩ rfl (Nat.le_of_ble_eq_true rfl)) ?_
  refine z_if_eq (tgt := 51) X dX4_element_9 (by decide) bI_d (fun c1 => ?_) (fun c1 => ?_)
  · have e1 : rgb 0 7 s = none := rgb_f (fun q => c1 ((in32 (lo := nI 0) (hi := nI 7)).mpr q))
    refine z_lconst (v := lN 0) X dX4_element_51 cl0 ?_
    have e : spElement o s i = lN (0) := by
      unfold spElement
      repeat (first | rw [el_some (by assumption)] | rw [el_none (by assumption)] | rw [if_pos (by omega)] | rw [if_neg (by omega)])
      all_goals first | rfl | (exfalso; omega)
    exact z_lret X dX4_element_52 (by omega) (by omega) ⟨_, rfl, ⟨e.symm, rfl⟩⟩
  · have c1 := Classical.not_not.mp c1
    obtain ⟨sN, sNl, sNh, rfl, e2⟩ := rgb_t (lo := 0) (hi := 7) (by decide) (by decide) ((in32 (lo := nI 0) (hi := nI 7)).mp c1)
    have hq := hO.2.1 sN (by omega)
    refine z_aload_n X dX4_element_12 rfl 0 rfl ?_
    refine z_mg0 X hM dX4_element_13 ?_
    refine z_iload_n X dX4_element_16 rfl 1 rfl ?_
    refine z_iaN (v := nI (o.2.2.2.1 0 sN)) X dX4_element_17 (mm_1 hM) (by omega) (by omega) ((hT.2.2.2.1 sN (by omega)).1) ?_
    refine z_iconst (v := nI (1)) X dX4_element_18 ci1 ?_
    refine z_icmp_ne (tgt := 51) X dX4_element_19 (by decide) (nI_eq (by omega) (by omega)) (fun c2 => ?_) (fun c2 => ?_)
    · refine z_lconst (v := lN 0) X dX4_element_51 cl0 ?_
      have e : spElement o (nI sN) i = lN (0) := by
        unfold spElement
        repeat (first | rw [el_some (by assumption)] | rw [el_none (by assumption)] | rw [if_pos (by omega)] | rw [if_neg (by omega)])
        all_goals first | rfl | (exfalso; omega)
      exact z_lret X dX4_element_52 (by omega) (by omega) ⟨_, rfl, ⟨e.symm, rfl⟩⟩
    · refine z_iload_n X dX4_element_22 rfl 2 rfl ?_
      refine z_i2l (v := (i).toInt64) X dX4_element_23 rfl ?_
      refine z_lconst (v := lN 0) X dX4_element_24 cl0 ?_
      refine z_aload_n X dX4_element_25 rfl 0 rfl ?_
      refine z_mg2 X hM dX4_element_26 ?_
      refine z_iload_n X dX4_element_29 rfl 1 rfl ?_
      refine z_iaN (v := nI (o.2.2.2.1 2 sN)) X dX4_element_30 (mm_3 hM) (by omega) (by omega) ((hT.2.2.2.1 sN (by omega)).2.2.1) ?_
      refine z_iconst (v := nI (1)) X dX4_element_31 ci1 ?_
      refine z_isub (v := nI (o.2.2.2.1 2 sN) - nI 1) X dX4_element_32 rfl ?_
      refine z_i2l (v := (nI (o.2.2.2.1 2 sN) - nI 1).toInt64) X dX4_element_33 rfl ?_
      refine z_cip (z_runS (rest := []) (n := 3) X [.long ((i).toInt64), .long (lN (0)), .long ((nI (o.2.2.2.1 2 sN) - nI 1).toInt64)] m_X4_in dX4_element_34 (lw_S q1541 q1542 q70 q1543) hs_X4_in rfl ⟨Nat.le_of_ble_eq_true rfl, Nat.le_of_ble_eq_true rfl⟩ ⟨by omega, by omega⟩ rfl (Nat.le_of_ble_eq_true rfl)) ?_
      refine z_if_eq (tgt := 51) X dX4_element_37 (by decide) bI_d (fun c3 => ?_) (fun c3 => ?_)
      · have e3 : rgn (o.2.2.2.1 2 sN) i = none := rgn_f2 (by omega) (fun q => c3 (in32.mpr q))
        refine z_lconst (v := lN 0) X dX4_element_51 cl0 ?_
        have e : spElement o (nI sN) i = lN (0) := by
          unfold spElement
          repeat (first | rw [el_some (by assumption)] | rw [el_none (by assumption)] | rw [if_pos (by omega)] | rw [if_neg (by omega)])
          all_goals first | rfl | (exfalso; omega)
        exact z_lret X dX4_element_52 (by omega) (by omega) ⟨_, rfl, ⟨e.symm, rfl⟩⟩
      · have c3 := Classical.not_not.mp c3
        obtain ⟨iN, iNh, rfl, e4⟩ := rgn_t2 (n := o.2.2.2.1 2 sN) (by omega) (in32.mp c3)
        refine z_aload_n X dX4_element_40 rfl 0 rfl ?_
        refine z_mg3 X hM dX4_element_41 ?_
        refine z_iload_n X dX4_element_44 rfl 1 rfl ?_
        refine z_aN6 (v := .ref (ad (40 + sN))) X dX4_element_45 (mm_4 hM) (by omega) (by omega) rfl ?_
        refine z_iload_n X dX4_element_46 rfl 2 rfl ?_
        refine z_laN (v := o.2.2.2.2.1 sN iN) X dX4_element_47 (mmr_40 hM (by omega)) (by omega) (by omega) (hT.2.2.2.2.1 sN (by omega) iN (by omega)) ?_
        refine z_goto (tgt := 52) X dX4_element_48 (by decide) ?_
        have e : spElement o (nI sN) (nI iN) = o.2.2.2.2.1 sN iN := by
          unfold spElement
          repeat (first | rw [el_some (by assumption)] | rw [el_none (by assumption)] | rw [if_pos (by omega)] | rw [if_neg (by omega)])
          all_goals first | rfl | (exfalso; omega)
        exact z_lret X dX4_element_52 (by omega) (by omega) ⟨_, rfl, ⟨e.symm, rfl⟩⟩
set_option maxHeartbeats 2000000 in
theorem m_X4_holds {l : Launch} {G : GG} {wb w : GW} {ad : Nat → Nat} {m : MSt} (hM : MM G wb w ad m) {o : OS} (hT : MT o m) (hO : oInv o) {s : Int32} : gM l G yX4_holds cX4_holds 2 (some .int) 2 0 0 [.ref (ad 0), .int (s)] w (pI (fun r w1 => r = spHolds o s ∧ w1 = w)) := by
  refine Z.met (own := "ThreeSizesModel") (nm := "holds") (lv := [(0, .ref (ad 0)), (1, .int (s))]) (by decide) rfl rfl (Nat.le_of_ble_eq_true rfl) rfl (fun κ X => ?_)
  have hI := hO.1
  have h6 := hI.2.1
  have ht200 := hO.2.2.2
  refine z_iload_n X dX4_holds_0 rfl 1 rfl ?_
  refine z_i2l (v := (s).toInt64) X dX4_holds_1 rfl ?_
  refine z_lconst (v := lN 0) X dX4_holds_2 cl0 ?_
  refine z_ldc2 X dX4_holds_3 q1540 ?_
  refine z_cip (z_runS (rest := []) (n := 3) X [.long ((s).toInt64), .long (lN (0)), .long ((7))] m_X4_in dX4_holds_6 (lw_S q1541 q1542 q70 q1543) hs_X4_in rfl ⟨Nat.le_of_ble_eq_true rfl, Nat.le_of_ble_eq_true rfl⟩ ⟨by omega, by omega⟩ rfl (Nat.le_of_ble_eq_true rfl)) ?_
  refine z_if_eq (tgt := 21) X dX4_holds_9 (by decide) bI_d (fun c1 => ?_) (fun c1 => ?_)
  · have e1 : rgb 0 7 s = none := rgb_f (fun q => c1 ((in32 (lo := nI 0) (hi := nI 7)).mpr q))
    refine z_iconst (v := -1) X dX4_holds_21 cim1 ?_
    have e : spHolds o s = -1 := by
      unfold spHolds
      repeat (first | rw [el_some (by assumption)] | rw [el_none (by assumption)] | rw [if_pos (by omega)] | rw [if_neg (by omega)])
      all_goals first | rfl | (exfalso; omega)
    exact z_iret X dX4_holds_22 (by omega) (by omega) ⟨_, rfl, ⟨e.symm, rfl⟩⟩
  · have c1 := Classical.not_not.mp c1
    obtain ⟨sN, sNl, sNh, rfl, e2⟩ := rgb_t (lo := 0) (hi := 7) (by decide) (by decide) ((in32 (lo := nI 0) (hi := nI 7)).mp c1)
    have hq := hO.2.1 sN (by omega)
    refine z_aload_n X dX4_holds_12 rfl 0 rfl ?_
    refine z_mg0 X hM dX4_holds_13 ?_
    refine z_iload_n X dX4_holds_16 rfl 1 rfl ?_
    refine z_iaN (v := nI (o.2.2.2.1 0 sN)) X dX4_holds_17 (mm_1 hM) (by omega) (by omega) ((hT.2.2.2.1 sN (by omega)).1) ?_
    refine z_if_ne (tgt := 23) X dX4_holds_18 (by decide) (nz_eq (by omega)) (fun c2 => ?_) (fun c2 => ?_)
    · refine z_aload_n X dX4_holds_23 rfl 0 rfl ?_
      refine z_mg0 X hM dX4_holds_24 ?_
      refine z_iload_n X dX4_holds_27 rfl 1 rfl ?_
      refine z_iaN (v := nI (o.2.2.2.1 0 sN)) X dX4_holds_28 (mm_1 hM) (by omega) (by omega) ((hT.2.2.2.1 sN (by omega)).1) ?_
      refine z_iconst (v := nI (1)) X dX4_holds_29 ci1 ?_
      refine z_icmp_ne (tgt := 42) X dX4_holds_30 (by decide) (nI_eq (by omega) (by omega)) (fun c3 => ?_) (fun c3 => ?_)
      · refine z_bipush (v := nI (10)) X dX4_holds_42 (by decide) ?_
        refine z_aload_n X dX4_holds_44 rfl 0 rfl ?_
        refine z_mg5 X hM dX4_holds_45 ?_
        refine z_iload_n X dX4_holds_48 rfl 1 rfl ?_
        refine z_iaN (v := nI (o.2.2.2.1 3 sN)) X dX4_holds_49 (mm_6 hM) (by omega) (by omega) ((hT.2.2.2.1 sN (by omega)).2.2.2.1) ?_
        refine z_iadd (v := nI (10 + (o.2.2.2.1 3 sN))) X dX4_holds_50 (nI_add _ _) ?_
        have e : spHolds o (nI sN) = nI (10 + (o.2.2.2.1 3 sN)) := by
          unfold spHolds
          repeat (first | rw [el_some (by assumption)] | rw [el_none (by assumption)] | rw [if_pos (by omega)] | rw [if_neg (by omega)])
          all_goals first | rfl | (exfalso; omega)
        exact z_iret X dX4_holds_51 (by omega) (by omega) ⟨_, rfl, ⟨e.symm, rfl⟩⟩
      · refine z_aload_n X dX4_holds_33 rfl 0 rfl ?_
        refine z_mg1 X hM dX4_holds_34 ?_
        refine z_iload_n X dX4_holds_37 rfl 1 rfl ?_
        refine z_iaN (v := nI (o.2.2.2.1 1 sN)) X dX4_holds_38 (mm_2 hM) (by omega) (by omega) ((hT.2.2.2.1 sN (by omega)).2.1) ?_
        refine z_goto (tgt := 51) X dX4_holds_39 (by decide) ?_
        have e : spHolds o (nI sN) = nI (o.2.2.2.1 1 sN) := by
          unfold spHolds
          repeat (first | rw [el_some (by assumption)] | rw [el_none (by assumption)] | rw [if_pos (by omega)] | rw [if_neg (by omega)])
          all_goals first | rfl | (exfalso; omega)
        exact z_iret X dX4_holds_51 (by omega) (by omega) ⟨_, rfl, ⟨e.symm, rfl⟩⟩
    · refine z_iconst (v := -1) X dX4_holds_21 cim1 ?_
      have e : spHolds o (nI sN) = -1 := by
        unfold spHolds
        repeat (first | rw [el_some (by assumption)] | rw [el_none (by assumption)] | rw [if_pos (by omega)] | rw [if_neg (by omega)])
        all_goals first | rfl | (exfalso; omega)
      exact z_iret X dX4_holds_22 (by omega) (by omega) ⟨_, rfl, ⟨e.symm, rfl⟩⟩
set_option maxHeartbeats 2000000 in
theorem m_X4_rule {l : Launch} {G : GG} {wb w : GW} {ad : Nat → Nat} {m : MSt} (hM : MM G wb w ad m) {o : OS} (hT : MT o m) (hO : oInv o) {s k a : Int32} : gM l G yX4_rule cX4_rule 4 (some .int) 2 0 0 [.ref (ad 0), .int (s), .int (k), .int (a)] w (pI (fun r w1 => ∃ m2, MM G wb w1 ad m2 ∧ MT (spRule o s k a).2 m2 ∧ r = (spRule o s k a).1)) := by
  refine Z.met (own := "ThreeSizesModel") (nm := "rule") (lv := [(0, .ref (ad 0)), (1, .int (s)), (2, .int (k)), (3, .int (a))]) (by decide) rfl rfl (Nat.le_of_ble_eq_true rfl) rfl (fun κ X => ?_)
  have hI := hO.1
  have h6 := hI.2.1
  have ht200 := hO.2.2.2
  refine z_iload_n X dX4_rule_0 rfl 1 rfl ?_
  refine z_i2l (v := (s).toInt64) X dX4_rule_1 rfl ?_
  refine z_lconst (v := lN 0) X dX4_rule_2 cl0 ?_
  refine z_ldc2 X dX4_rule_3 q1540 ?_
  refine z_cip (z_runS (rest := []) (n := 3) X [.long ((s).toInt64), .long (lN (0)), .long ((7))] m_X4_in dX4_rule_6 (lw_S q1541 q1542 q70 q1543) hs_X4_in rfl ⟨Nat.le_of_ble_eq_true rfl, Nat.le_of_ble_eq_true rfl⟩ ⟨by omega, by omega⟩ rfl (Nat.le_of_ble_eq_true rfl)) ?_
  refine z_if_eq (tgt := 36) X dX4_rule_9 (by decide) bI_d (fun c1 => ?_) (fun c1 => ?_)
  · have e1 : rgb 0 7 s = none := rgb_f (fun q => c1 ((in32 (lo := nI 0) (hi := nI 7)).mpr q))
    refine z_aload_n X dX4_rule_36 rfl 0 rfl ?_
    refine z_bipush (v := (-2)) X dX4_rule_37 (by decide) ?_
    refine z_ci (z_runV (rest := []) (n := 1) X [.int ((-2))] (m_X4_refuse hM (k := 2) (by decide) (v := (-2)) rfl) dX4_rule_39 (mm_o hM) rfl (lw_V q1546 q1548 qs27 q70 q1549) hv_X4_refuse rfl ⟨Nat.le_of_ble_eq_true rfl, Nat.le_of_ble_eq_true rfl⟩ ⟨by omega, by omega⟩ rfl (Nat.le_of_ble_eq_true rfl)) (fun r2 w4 h3 => ?_)
    obtain ⟨hM3, r2e⟩ := h3
    rw [r2e]
    have hT3 := MT.ref hT (k := 2) (by decide)
    have e : spRule o s k a = ((-2), oRef o 2) := by
      unfold spRule
      repeat (first | rw [el_some (by assumption)] | rw [el_none (by assumption)] | rw [if_pos (by omega)] | rw [if_neg (by omega)])
      all_goals first | rfl | (exfalso; omega)
    exact z_iret X dX4_rule_42 (by omega) (by omega) ⟨_, rfl, (by rw [e]; exact ⟨_, hM3, hT3, rfl⟩)⟩
  · have c1 := Classical.not_not.mp c1
    obtain ⟨sN, sNl, sNh, rfl, e2⟩ := rgb_t (lo := 0) (hi := 7) (by decide) (by decide) ((in32 (lo := nI 0) (hi := nI 7)).mp c1)
    refine z_iload_n X dX4_rule_12 rfl 2 rfl ?_
    refine z_i2l (v := (k).toInt64) X dX4_rule_13 rfl ?_
    refine z_lconst (v := lN 1) X dX4_rule_14 cl1 ?_
    refine z_ldc2 X dX4_rule_15 q1573 ?_
    refine z_cip (z_runS (rest := []) (n := 3) X [.long ((k).toInt64), .long (lN (1)), .long ((6))] m_X4_in dX4_rule_18 (lw_S q1541 q1542 q70 q1543) hs_X4_in rfl ⟨Nat.le_of_ble_eq_true rfl, Nat.le_of_ble_eq_true rfl⟩ ⟨by omega, by omega⟩ rfl (Nat.le_of_ble_eq_true rfl)) ?_
    refine z_if_eq (tgt := 36) X dX4_rule_21 (by decide) bI_d (fun c5 => ?_) (fun c5 => ?_)
    · have e3 : rgb 1 6 k = none := rgb_f (fun q => c5 ((in32 (lo := nI 1) (hi := nI 6)).mpr q))
      refine z_aload_n X dX4_rule_36 rfl 0 rfl ?_
      refine z_bipush (v := (-2)) X dX4_rule_37 (by decide) ?_
      refine z_ci (z_runV (rest := []) (n := 1) X [.int ((-2))] (m_X4_refuse hM (k := 2) (by decide) (v := (-2)) rfl) dX4_rule_39 (mm_o hM) rfl (lw_V q1546 q1548 qs27 q70 q1549) hv_X4_refuse rfl ⟨Nat.le_of_ble_eq_true rfl, Nat.le_of_ble_eq_true rfl⟩ ⟨by omega, by omega⟩ rfl (Nat.le_of_ble_eq_true rfl)) (fun r6 w8 h7 => ?_)
      obtain ⟨hM7, r6e⟩ := h7
      rw [r6e]
      have hT7 := MT.ref hT (k := 2) (by decide)
      have e : spRule o (nI sN) k a = ((-2), oRef o 2) := by
        unfold spRule
        repeat (first | rw [el_some (by assumption)] | rw [el_none (by assumption)] | rw [if_pos (by omega)] | rw [if_neg (by omega)])
        all_goals first | rfl | (exfalso; omega)
      exact z_iret X dX4_rule_42 (by omega) (by omega) ⟨_, rfl, (by rw [e]; exact ⟨_, hM7, hT7, rfl⟩)⟩
    · have c5 := Classical.not_not.mp c5
      obtain ⟨kN, kNl, kNh, rfl, e4⟩ := rgb_t (lo := 1) (hi := 6) (by decide) (by decide) ((in32 (lo := nI 1) (hi := nI 6)).mp c5)
      refine z_iload_n X dX4_rule_24 rfl 3 rfl ?_
      refine z_i2l (v := (a).toInt64) X dX4_rule_25 rfl ?_
      refine z_lconst (v := lN 0) X dX4_rule_26 cl0 ?_
      refine z_ldc2 X dX4_rule_27 q1574 ?_
      refine z_cip (z_runS (rest := []) (n := 3) X [.long ((a).toInt64), .long (lN (0)), .long ((99))] m_X4_in dX4_rule_30 (lw_S q1541 q1542 q70 q1543) hs_X4_in rfl ⟨Nat.le_of_ble_eq_true rfl, Nat.le_of_ble_eq_true rfl⟩ ⟨by omega, by omega⟩ rfl (Nat.le_of_ble_eq_true rfl)) ?_
      refine z_if_ne (tgt := 43) X dX4_rule_33 (by decide) bI_d (fun c9 => ?_) (fun c9 => ?_)
      · have c9 := Classical.not_not.mp c9
        obtain ⟨aN, aNl, aNh, rfl, e5⟩ := rgb_t (lo := 0) (hi := 99) (by decide) (by decide) ((in32 (lo := nI 0) (hi := nI 99)).mp c9)
        refine z_aload_n X dX4_rule_43 rfl 0 rfl ?_
        refine z_mg0 X hM dX4_rule_44 ?_
        refine z_iload_n X dX4_rule_47 rfl 1 rfl ?_
        refine z_iconst (v := nI (2)) X dX4_rule_48 ci2 ?_
        refine z_mst (n := 8) (j := sN) X hM 1 dX4_rule_49 rfl rfl rfl (by omega) (by omega) (fun u10 hM10 => ?_)
        refine z_aload_n X dX4_rule_50 rfl 0 rfl ?_
        refine z_mg5 X hM10 dX4_rule_51 ?_
        refine z_iload_n X dX4_rule_54 rfl 1 rfl ?_
        refine z_iload_n X dX4_rule_55 rfl 2 rfl ?_
        refine z_mst (n := 8) (j := sN) X hM10 6 dX4_rule_56 rfl rfl rfl (by omega) (by omega) (fun u11 hM11 => ?_)
        refine z_aload_n X dX4_rule_57 rfl 0 rfl ?_
        refine z_mg6 X hM11 dX4_rule_58 ?_
        refine z_iload_n X dX4_rule_61 rfl 1 rfl ?_
        refine z_iload_n X dX4_rule_62 rfl 3 rfl ?_
        refine z_mst (n := 8) (j := sN) X hM11 7 dX4_rule_63 rfl rfl rfl (by omega) (by omega) (fun u12 hM12 => ?_)
        refine z_iconst (v := nI (1)) X dX4_rule_64 ci1 ?_
        have e : spRule o (nI sN) (nI kN) (nI aN) = (nI (1), setRule o sN kN aN) := by
          unfold spRule
          repeat (first | rw [el_some (by assumption)] | rw [el_none (by assumption)] | rw [if_pos (by omega)] | rw [if_neg (by omega)])
          all_goals first | rfl | (exfalso; omega)
        exact z_iret X dX4_rule_65 (by omega) (by omega) ⟨_, rfl, (by rw [e]; exact ⟨_, hM12, hT.rule (by omega), rfl⟩)⟩
      · have e6 : rgb 0 99 a = none := rgb_f (fun q => c9 ((in32 (lo := nI 0) (hi := nI 99)).mpr q))
        refine z_aload_n X dX4_rule_36 rfl 0 rfl ?_
        refine z_bipush (v := (-2)) X dX4_rule_37 (by decide) ?_
        refine z_ci (z_runV (rest := []) (n := 1) X [.int ((-2))] (m_X4_refuse hM (k := 2) (by decide) (v := (-2)) rfl) dX4_rule_39 (mm_o hM) rfl (lw_V q1546 q1548 qs27 q70 q1549) hv_X4_refuse rfl ⟨Nat.le_of_ble_eq_true rfl, Nat.le_of_ble_eq_true rfl⟩ ⟨by omega, by omega⟩ rfl (Nat.le_of_ble_eq_true rfl)) (fun r13 w15 h14 => ?_)
        obtain ⟨hM14, r13e⟩ := h14
        rw [r13e]
        have hT14 := MT.ref hT (k := 2) (by decide)
        have e : spRule o (nI sN) (nI kN) a = ((-2), oRef o 2) := by
          unfold spRule
          repeat (first | rw [el_some (by assumption)] | rw [el_none (by assumption)] | rw [if_pos (by omega)] | rw [if_neg (by omega)])
          all_goals first | rfl | (exfalso; omega)
        exact z_iret X dX4_rule_42 (by omega) (by omega) ⟨_, rfl, (by rw [e]; exact ⟨_, hM14, hT14, rfl⟩)⟩
set_option maxHeartbeats 2000000 in
theorem m_X4_sortOf {l : Launch} {G : GG} {wb w : GW} {ad : Nat → Nat} {m : MSt} (hM : MM G wb w ad m) {o : OS} (hT : MT o m) (hO : oInv o) {k w_ : Int32} : gM l G yX4_sortOf cX4_sortOf 3 (some .int) 3 0 0 [.ref (ad 0), .int (k), .int (w_)] w (pI (fun r w1 => ∃ m2, MM G wb w1 ad m2 ∧ MT (spSortOf o k w_).2 m2 ∧ r = (spSortOf o k w_).1)) := by
  refine Z.met (own := "ThreeSizesModel") (nm := "sortOf") (lv := [(0, .ref (ad 0)), (1, .int (k)), (2, .int (w_))]) (by decide) rfl rfl (Nat.le_of_ble_eq_true rfl) rfl (fun κ X => ?_)
  have hI := hO.1
  have h6 := hI.2.1
  have ht200 := hO.2.2.2
  refine z_aload_n X dX4_sortOf_0 rfl 0 rfl ?_
  refine z_iload_n X dX4_sortOf_1 rfl 1 rfl ?_
  refine z_i2l (v := (k).toInt64) X dX4_sortOf_2 rfl ?_
  refine z_cip (z_runV (rest := []) (n := 1) X [.long ((k).toInt64)] (m_X4_isSortI hM hT.1 hI (v := k)) dX4_sortOf_3 (mm_o hM) rfl (lw_V q1672 q1674 qs42 q70 q1675) hv_X4_isSort rfl ⟨Nat.le_of_ble_eq_true rfl, Nat.le_of_ble_eq_true rfl⟩ ⟨by omega, by omega⟩ rfl (Nat.le_of_ble_eq_true rfl)) ?_
  refine z_if_eq (tgt := 32) X dX4_sortOf_6 (by decide) bI_d (fun c1 => ?_) (fun c1 => ?_)
  · have e1 : rgn (o.1.2 0) k = none := rgn_f c1
    refine z_aload_n X dX4_sortOf_32 rfl 0 rfl ?_
    refine z_bipush (v := (-2)) X dX4_sortOf_33 (by decide) ?_
    refine z_ci (z_runV (rest := []) (n := 1) X [.int ((-2))] (m_X4_refuse hM (k := 2) (by decide) (v := (-2)) rfl) dX4_sortOf_35 (mm_o hM) rfl (lw_V q1546 q1548 qs27 q70 q1549) hv_X4_refuse rfl ⟨Nat.le_of_ble_eq_true rfl, Nat.le_of_ble_eq_true rfl⟩ ⟨by omega, by omega⟩ rfl (Nat.le_of_ble_eq_true rfl)) (fun r2 w4 h3 => ?_)
    obtain ⟨hM3, r2e⟩ := h3
    rw [r2e]
    have hT3 := MT.ref hT (k := 2) (by decide)
    have e : spSortOf o k w_ = ((-2), oRef o 2) := by
      unfold spSortOf
      repeat (first | rw [el_some (by assumption)] | rw [el_none (by assumption)] | rw [if_pos (by omega)] | rw [if_neg (by omega)])
      all_goals first | rfl | (exfalso; omega)
    exact z_iret X dX4_sortOf_38 (by omega) (by omega) ⟨_, rfl, (by rw [e]; exact ⟨_, hM3, hT3, rfl⟩)⟩
  · have c1 := Classical.not_not.mp c1
    obtain ⟨kN, kNh, rfl, e2⟩ := rgn_t (n := o.1.2 0) (by omega) c1
    refine z_iload_n X dX4_sortOf_9 rfl 2 rfl ?_
    refine z_i2l (v := (w_).toInt64) X dX4_sortOf_10 rfl ?_
    refine z_lconst (v := lN 0) X dX4_sortOf_11 cl0 ?_
    refine z_ldc2 X dX4_sortOf_12 q1676 ?_
    refine z_cip (z_runS (rest := []) (n := 3) X [.long ((w_).toInt64), .long (lN (0)), .long ((3))] m_X4_in dX4_sortOf_15 (lw_S q1541 q1542 q70 q1543) hs_X4_in rfl ⟨Nat.le_of_ble_eq_true rfl, Nat.le_of_ble_eq_true rfl⟩ ⟨by omega, by omega⟩ rfl (Nat.le_of_ble_eq_true rfl)) ?_
    refine z_if_eq (tgt := 32) X dX4_sortOf_18 (by decide) bI_d (fun c5 => ?_) (fun c5 => ?_)
    · have e3 : rgb 0 3 w_ = none := rgb_f (fun q => c5 ((in32 (lo := nI 0) (hi := nI 3)).mpr q))
      refine z_aload_n X dX4_sortOf_32 rfl 0 rfl ?_
      refine z_bipush (v := (-2)) X dX4_sortOf_33 (by decide) ?_
      refine z_ci (z_runV (rest := []) (n := 1) X [.int ((-2))] (m_X4_refuse hM (k := 2) (by decide) (v := (-2)) rfl) dX4_sortOf_35 (mm_o hM) rfl (lw_V q1546 q1548 qs27 q70 q1549) hv_X4_refuse rfl ⟨Nat.le_of_ble_eq_true rfl, Nat.le_of_ble_eq_true rfl⟩ ⟨by omega, by omega⟩ rfl (Nat.le_of_ble_eq_true rfl)) (fun r6 w8 h7 => ?_)
      obtain ⟨hM7, r6e⟩ := h7
      rw [r6e]
      have hT7 := MT.ref hT (k := 2) (by decide)
      have e : spSortOf o (nI kN) w_ = ((-2), oRef o 2) := by
        unfold spSortOf
        repeat (first | rw [el_some (by assumption)] | rw [el_none (by assumption)] | rw [if_pos (by omega)] | rw [if_neg (by omega)])
        all_goals first | rfl | (exfalso; omega)
      exact z_iret X dX4_sortOf_38 (by omega) (by omega) ⟨_, rfl, (by rw [e]; exact ⟨_, hM7, hT7, rfl⟩)⟩
    · have c5 := Classical.not_not.mp c5
      obtain ⟨w_N, w_Nl, w_Nh, rfl, e4⟩ := rgb_t (lo := 0) (hi := 3) (by decide) (by decide) ((in32 (lo := nI 0) (hi := nI 3)).mp c5)
      rcases (show w_N = 0 ∨ w_N = 1 ∨ w_N = 2 ∨ w_N = 3 by omega) with rfl | rfl | rfl | rfl
      · skip
        refine z_aload_n X dX4_sortOf_21 rfl 0 rfl ?_
        refine z_mg14 X hM dX4_sortOf_22 ?_
        refine z_iload_n X dX4_sortOf_25 rfl 1 rfl ?_
        refine z_aN5 (v := .ref (ad (50 + kN))) X dX4_sortOf_26 (mm_15 hM) (by omega) (by omega) rfl ?_
        refine z_iload_n X dX4_sortOf_27 rfl 2 rfl ?_
        refine z_iaN (v := nI (o.1.1 3 kN)) X dX4_sortOf_28 (mmr_50 hM (by omega)) (by omega) (by omega) (hT.1.2.2.1 kN (by omega)).1 ?_
        refine z_goto (tgt := 38) X dX4_sortOf_29 (by decide) ?_
        have e : spSortOf o (nI kN) (nI 0) = (nI (o.1.1 3 kN), o) := by
          unfold spSortOf
          repeat (first | rw [el_some (by assumption)] | rw [el_none (by assumption)] | rw [if_pos (by omega)] | rw [if_neg (by omega)])
          all_goals first | rfl | (exfalso; omega)
        exact z_iret X dX4_sortOf_38 (by omega) (by omega) ⟨_, rfl, (by rw [e]; exact ⟨_, hM, hT, rfl⟩)⟩
      · skip
        refine z_aload_n X dX4_sortOf_21 rfl 0 rfl ?_
        refine z_mg14 X hM dX4_sortOf_22 ?_
        refine z_iload_n X dX4_sortOf_25 rfl 1 rfl ?_
        refine z_aN5 (v := .ref (ad (50 + kN))) X dX4_sortOf_26 (mm_15 hM) (by omega) (by omega) rfl ?_
        refine z_iload_n X dX4_sortOf_27 rfl 2 rfl ?_
        refine z_iaN (v := nI (o.1.1 4 kN)) X dX4_sortOf_28 (mmr_50 hM (by omega)) (by omega) (by omega) (hT.1.2.2.1 kN (by omega)).2.1 ?_
        refine z_goto (tgt := 38) X dX4_sortOf_29 (by decide) ?_
        have e : spSortOf o (nI kN) (nI 1) = (nI (o.1.1 4 kN), o) := by
          unfold spSortOf
          repeat (first | rw [el_some (by assumption)] | rw [el_none (by assumption)] | rw [if_pos (by omega)] | rw [if_neg (by omega)])
          all_goals first | rfl | (exfalso; omega)
        exact z_iret X dX4_sortOf_38 (by omega) (by omega) ⟨_, rfl, (by rw [e]; exact ⟨_, hM, hT, rfl⟩)⟩
      · skip
        refine z_aload_n X dX4_sortOf_21 rfl 0 rfl ?_
        refine z_mg14 X hM dX4_sortOf_22 ?_
        refine z_iload_n X dX4_sortOf_25 rfl 1 rfl ?_
        refine z_aN5 (v := .ref (ad (50 + kN))) X dX4_sortOf_26 (mm_15 hM) (by omega) (by omega) rfl ?_
        refine z_iload_n X dX4_sortOf_27 rfl 2 rfl ?_
        refine z_iaN (v := nI (o.1.1 5 kN)) X dX4_sortOf_28 (mmr_50 hM (by omega)) (by omega) (by omega) (hT.1.2.2.1 kN (by omega)).2.2.1 ?_
        refine z_goto (tgt := 38) X dX4_sortOf_29 (by decide) ?_
        have e : spSortOf o (nI kN) (nI 2) = (nI (o.1.1 5 kN), o) := by
          unfold spSortOf
          repeat (first | rw [el_some (by assumption)] | rw [el_none (by assumption)] | rw [if_pos (by omega)] | rw [if_neg (by omega)])
          all_goals first | rfl | (exfalso; omega)
        exact z_iret X dX4_sortOf_38 (by omega) (by omega) ⟨_, rfl, (by rw [e]; exact ⟨_, hM, hT, rfl⟩)⟩
      · skip
        refine z_aload_n X dX4_sortOf_21 rfl 0 rfl ?_
        refine z_mg14 X hM dX4_sortOf_22 ?_
        refine z_iload_n X dX4_sortOf_25 rfl 1 rfl ?_
        refine z_aN5 (v := .ref (ad (50 + kN))) X dX4_sortOf_26 (mm_15 hM) (by omega) (by omega) rfl ?_
        refine z_iload_n X dX4_sortOf_27 rfl 2 rfl ?_
        refine z_iaN (v := nI (o.1.1 6 kN)) X dX4_sortOf_28 (mmr_50 hM (by omega)) (by omega) (by omega) (hT.1.2.2.1 kN (by omega)).2.2.2 ?_
        refine z_goto (tgt := 38) X dX4_sortOf_29 (by decide) ?_
        have e : spSortOf o (nI kN) (nI 3) = (nI (o.1.1 6 kN), o) := by
          unfold spSortOf
          repeat (first | rw [el_some (by assumption)] | rw [el_none (by assumption)] | rw [if_pos (by omega)] | rw [if_neg (by omega)])
          all_goals first | rfl | (exfalso; omega)
        exact z_iret X dX4_sortOf_38 (by omega) (by omega) ⟨_, rfl, (by rw [e]; exact ⟨_, hM, hT, rfl⟩)⟩
set_option maxHeartbeats 2000000 in
theorem m_X4_lost {l : Launch} {G : GG} {wb w : GW} {ad : Nat → Nat} {m : MSt} (hM : MM G wb w ad m) {o : OS} (hT : MT o m) (hO : oInv o) {k : Int32} : gM l G yX4_lost cX4_lost 2 (some .long) 3 0 0 [.ref (ad 0), .int (k)] w (pL (fun r w1 => ∃ m2, MM G wb w1 ad m2 ∧ MT (spLost o k).2 m2 ∧ r = (spLost o k).1)) := by
  refine Z.met (own := "ThreeSizesModel") (nm := "lost") (lv := [(0, .ref (ad 0)), (1, .int (k))]) (by decide) rfl rfl (Nat.le_of_ble_eq_true rfl) rfl (fun κ X => ?_)
  have hI := hO.1
  have h6 := hI.2.1
  have ht200 := hO.2.2.2
  refine z_aload_n X dX4_lost_0 rfl 0 rfl ?_
  refine z_iload_n X dX4_lost_1 rfl 1 rfl ?_
  refine z_i2l (v := (k).toInt64) X dX4_lost_2 rfl ?_
  refine z_cip (z_runV (rest := []) (n := 1) X [.long ((k).toInt64)] (m_X4_isSortI hM hT.1 hI (v := k)) dX4_lost_3 (mm_o hM) rfl (lw_V q1672 q1674 qs42 q70 q1675) hv_X4_isSort rfl ⟨Nat.le_of_ble_eq_true rfl, Nat.le_of_ble_eq_true rfl⟩ ⟨by omega, by omega⟩ rfl (Nat.le_of_ble_eq_true rfl)) ?_
  refine z_if_eq (tgt := 17) X dX4_lost_6 (by decide) bI_d (fun c1 => ?_) (fun c1 => ?_)
  · have e1 : rgn (o.1.2 0) k = none := rgn_f c1
    refine z_ldc2 X dX4_lost_17 q1780 ?_
    refine z_aload_n X dX4_lost_20 rfl 0 rfl ?_
    refine z_bipush (v := (-2)) X dX4_lost_21 (by decide) ?_
    refine z_ci (z_runV (rest := [.long ((-1000000000000))]) (n := 1) X [.int ((-2))] (m_X4_refuse hM (k := 2) (by decide) (v := (-2)) rfl) dX4_lost_23 (mm_o hM) rfl (lw_V q1546 q1548 qs27 q70 q1549) hv_X4_refuse rfl ⟨Nat.le_of_ble_eq_true rfl, Nat.le_of_ble_eq_true rfl⟩ ⟨by omega, by omega⟩ rfl (Nat.le_of_ble_eq_true rfl)) (fun r2 w4 h3 => ?_)
    obtain ⟨hM3, r2e⟩ := h3
    rw [r2e]
    have hT3 := MT.ref hT (k := 2) (by decide)
    refine z_i2l (v := ((-2)).toInt64) X dX4_lost_26 rfl ?_
    refine z_ladd (v := (-1000000000000) + (((-2)).toInt64)) X dX4_lost_27 rfl ?_
    have e : spLost o k = ((-1000000000000) + (((-2)).toInt64), oRef o 2) := by
      unfold spLost
      repeat (first | rw [el_some (by assumption)] | rw [el_none (by assumption)] | rw [if_pos (by omega)] | rw [if_neg (by omega)])
      all_goals first | rfl | (exfalso; omega)
    exact z_lret X dX4_lost_28 (by omega) (by omega) ⟨_, rfl, (by rw [e]; exact ⟨_, hM3, hT3, rfl⟩)⟩
  · have c1 := Classical.not_not.mp c1
    obtain ⟨kN, kNh, rfl, e2⟩ := rgn_t (n := o.1.2 0) (by omega) c1
    refine z_aload_n X dX4_lost_9 rfl 0 rfl ?_
    refine z_iload_n X dX4_lost_10 rfl 1 rfl ?_
    refine z_clp (z_runV (rest := []) (n := 1) X [.int (nI (kN))] (m_X4_lostOf hM hT.1 hI (i := kN) (by omega)) dX4_lost_11 (mm_o hM) rfl (lw_V q1624 q1626 qs36 q70 q1627) hv_X4_lostOf rfl ⟨Nat.le_of_ble_eq_true rfl, Nat.le_of_ble_eq_true rfl⟩ ⟨by omega, by omega⟩ rfl (Nat.le_of_ble_eq_true rfl)) ?_
    refine z_goto (tgt := 28) X dX4_lost_14 (by decide) ?_
    have e : spLost o (nI kN) = (lostL o.1 kN, o) := by
      unfold spLost
      repeat (first | rw [el_some (by assumption)] | rw [el_none (by assumption)] | rw [if_pos (by omega)] | rw [if_neg (by omega)])
      all_goals first | rfl | (exfalso; omega)
    exact z_lret X dX4_lost_28 (by omega) (by omega) ⟨_, rfl, (by rw [e]; exact ⟨_, hM, hT, rfl⟩)⟩
set_option maxHeartbeats 2000000 in
theorem m_X4_state {l : Launch} {G : GG} {wb w : GW} {ad : Nat → Nat} {m : MSt} (hM : MM G wb w ad m) {o : OS} (hT : MT o m) (hO : oInv o) {w_ : Int32} : gM l G yX4_state cX4_state 2 (some .int) 3 0 0 [.ref (ad 0), .int (w_)] w (pI (fun r w1 => ∃ m2, MM G wb w1 ad m2 ∧ MT (spState o w_).2 m2 ∧ r = (spState o w_).1)) := by
  refine Z.met (own := "ThreeSizesModel") (nm := "state") (lv := [(0, .ref (ad 0)), (1, .int (w_))]) (by decide) rfl rfl (Nat.le_of_ble_eq_true rfl) rfl (fun κ X => ?_)
  have hI := hO.1
  have h6 := hI.2.1
  have ht200 := hO.2.2.2
  have w0 := hI.1 0 (by omega)
  have w1_ := hI.1 1 (by omega)
  have w2_ := hI.1 2 (by omega)
  refine z_iload_n X dX4_state_0 rfl 1 rfl ?_
  by_cases c1 : nI 0 ≤ w_ ∧ w_ ≤ nI 2
  · obtain ⟨w_N, w_Nl, w_Nh, rfl, e1⟩ := rgb_t (lo := 0) (hi := 2) (by decide) (by decide) c1
    rcases (show w_N = 0 ∨ w_N = 1 ∨ w_N = 2 by omega) with rfl | rfl | rfl
    · skip
      refine z_tabIn (off := 27) (tgt := 28) X dX4_state_1 (by decide) (by decide) (by decide) (by decide) ?_
      refine z_aload_n X dX4_state_28 rfl 0 rfl ?_
      refine z_mg10 X hM dX4_state_29 ?_
      refine z_iconst (v := nI (0)) X dX4_state_32 ci0 ?_
      refine z_iaN (v := nI (o.1.1 0 0)) X dX4_state_33 (mm_11 hM) (by omega) (by omega) (hT.1.1 0 (by omega)).1 ?_
      refine z_aload_n X dX4_state_34 rfl 0 rfl ?_
      refine z_mg10 X hM dX4_state_35 ?_
      refine z_iconst (v := nI (1)) X dX4_state_38 ci1 ?_
      refine z_iaN (v := nI (o.1.1 0 1)) X dX4_state_39 (mm_11 hM) (by omega) (by omega) (hT.1.1 1 (by omega)).1 ?_
      refine z_iadd (v := nI (o.1.1 0 0 + (o.1.1 0 1))) X dX4_state_40 (nI_add _ _) ?_
      refine z_aload_n X dX4_state_41 rfl 0 rfl ?_
      refine z_mg10 X hM dX4_state_42 ?_
      refine z_iconst (v := nI (2)) X dX4_state_45 ci2 ?_
      refine z_iaN (v := nI (o.1.1 0 2)) X dX4_state_46 (mm_11 hM) (by omega) (by omega) (hT.1.1 2 (by omega)).1 ?_
      refine z_iadd (v := nI (o.1.1 0 0 + (o.1.1 0 1) + (o.1.1 0 2))) X dX4_state_47 (nI_add _ _) ?_
      refine z_aload_n X dX4_state_48 rfl 0 rfl ?_
      refine z_mg11 X hM dX4_state_49 ?_
      refine z_iconst (v := nI (0)) X dX4_state_52 ci0 ?_
      refine z_iaN (v := nI (o.1.1 1 0)) X dX4_state_53 (mm_12 hM) (by omega) (by omega) (hT.1.1 0 (by omega)).2.1 ?_
      refine z_isub (v := nI (o.1.1 0 0 + (o.1.1 0 1) + (o.1.1 0 2) - (o.1.1 1 0))) X dX4_state_54 (pk_sub (by omega)) ?_
      refine z_aload_n X dX4_state_55 rfl 0 rfl ?_
      refine z_mg11 X hM dX4_state_56 ?_
      refine z_iconst (v := nI (1)) X dX4_state_59 ci1 ?_
      refine z_iaN (v := nI (o.1.1 1 1)) X dX4_state_60 (mm_12 hM) (by omega) (by omega) (hT.1.1 1 (by omega)).2.1 ?_
      refine z_isub (v := nI (o.1.1 0 0 + (o.1.1 0 1) + (o.1.1 0 2) - (o.1.1 1 0) - (o.1.1 1 1))) X dX4_state_61 (pk_sub (by omega)) ?_
      refine z_aload_n X dX4_state_62 rfl 0 rfl ?_
      refine z_mg11 X hM dX4_state_63 ?_
      refine z_iconst (v := nI (2)) X dX4_state_66 ci2 ?_
      refine z_iaN (v := nI (o.1.1 1 2)) X dX4_state_67 (mm_12 hM) (by omega) (by omega) (hT.1.1 2 (by omega)).2.1 ?_
      refine z_isub (v := nI (o.1.1 0 0 + (o.1.1 0 1) + (o.1.1 0 2) - (o.1.1 1 0) - (o.1.1 1 1) - (o.1.1 1 2))) X dX4_state_68 (pk_sub (by omega)) ?_
      have e : spState o (nI 0) = (nI (o.1.1 0 0 + (o.1.1 0 1) + (o.1.1 0 2) - (o.1.1 1 0) - (o.1.1 1 1) - (o.1.1 1 2)), o) := by
        unfold spState
        repeat (first | rw [el_some (by assumption)] | rw [el_none (by assumption)] | rw [if_pos (by omega)] | rw [if_neg (by omega)])
        all_goals first | rfl | (exfalso; omega)
      exact z_iret X dX4_state_69 (by omega) (by omega) ⟨_, rfl, (by rw [e]; exact ⟨_, hM, hT, rfl⟩)⟩
    · skip
      refine z_tabIn (off := 69) (tgt := 70) X dX4_state_1 (by decide) (by decide) (by decide) (by decide) ?_
      refine z_aload_n X dX4_state_70 rfl 0 rfl ?_
      refine z_mg11 X hM dX4_state_71 ?_
      refine z_iconst (v := nI (0)) X dX4_state_74 ci0 ?_
      refine z_iaN (v := nI (o.1.1 1 0)) X dX4_state_75 (mm_12 hM) (by omega) (by omega) (hT.1.1 0 (by omega)).2.1 ?_
      refine z_aload_n X dX4_state_76 rfl 0 rfl ?_
      refine z_mg11 X hM dX4_state_77 ?_
      refine z_iconst (v := nI (1)) X dX4_state_80 ci1 ?_
      refine z_iaN (v := nI (o.1.1 1 1)) X dX4_state_81 (mm_12 hM) (by omega) (by omega) (hT.1.1 1 (by omega)).2.1 ?_
      refine z_iadd (v := nI (o.1.1 1 0 + (o.1.1 1 1))) X dX4_state_82 (nI_add _ _) ?_
      refine z_aload_n X dX4_state_83 rfl 0 rfl ?_
      refine z_mg11 X hM dX4_state_84 ?_
      refine z_iconst (v := nI (2)) X dX4_state_87 ci2 ?_
      refine z_iaN (v := nI (o.1.1 1 2)) X dX4_state_88 (mm_12 hM) (by omega) (by omega) (hT.1.1 2 (by omega)).2.1 ?_
      refine z_iadd (v := nI (o.1.1 1 0 + (o.1.1 1 1) + (o.1.1 1 2))) X dX4_state_89 (nI_add _ _) ?_
      have e : spState o (nI 1) = (nI (o.1.1 1 0 + (o.1.1 1 1) + (o.1.1 1 2)), o) := by
        unfold spState
        repeat (first | rw [el_some (by assumption)] | rw [el_none (by assumption)] | rw [if_pos (by omega)] | rw [if_neg (by omega)])
        all_goals first | rfl | (exfalso; omega)
      exact z_iret X dX4_state_90 (by omega) (by omega) ⟨_, rfl, (by rw [e]; exact ⟨_, hM, hT, rfl⟩)⟩
    · skip
      refine z_tabIn (off := 90) (tgt := 91) X dX4_state_1 (by decide) (by decide) (by decide) (by decide) ?_
      refine z_aload_n X dX4_state_91 rfl 0 rfl ?_
      refine z_cip (z_runV (rest := []) (n := 0) X [] (m_X4_stateNow hM hT.1 hI) dX4_state_92 (mm_o hM) rfl (lw_V q1585 q1587 qs28 q70 q1588) hv_X4_stateNow rfl ⟨Nat.le_of_ble_eq_true rfl, Nat.le_of_ble_eq_true rfl⟩ ⟨by omega, by omega⟩ rfl (Nat.le_of_ble_eq_true rfl)) ?_
      have e : spState o (nI 2) = (nI (stOf o.1), o) := by
        unfold spState
        repeat (first | rw [el_some (by assumption)] | rw [el_none (by assumption)] | rw [if_pos (by omega)] | rw [if_neg (by omega)])
        all_goals first | rfl | (exfalso; omega)
      exact z_iret X dX4_state_95 (by omega) (by omega) ⟨_, rfl, (by rw [e]; exact ⟨_, hM, hT, rfl⟩)⟩
  · have e1 : rgb 0 2 w_ = none := rgb_f c1
    refine z_tabOut (tgt := 96) X dX4_state_1 (sw_out (lo := 0) (hi := 2) (by decide) (by decide) c1) (by decide) ?_
    refine z_aload_n X dX4_state_96 rfl 0 rfl ?_
    refine z_bipush (v := (-2)) X dX4_state_97 (by decide) ?_
    refine z_ci (z_runV (rest := []) (n := 1) X [.int ((-2))] (m_X4_refuse hM (k := 2) (by decide) (v := (-2)) rfl) dX4_state_99 (mm_o hM) rfl (lw_V q1546 q1548 qs27 q70 q1549) hv_X4_refuse rfl ⟨Nat.le_of_ble_eq_true rfl, Nat.le_of_ble_eq_true rfl⟩ ⟨by omega, by omega⟩ rfl (Nat.le_of_ble_eq_true rfl)) (fun r2 w4 h3 => ?_)
    obtain ⟨hM3, r2e⟩ := h3
    rw [r2e]
    have hT3 := MT.ref hT (k := 2) (by decide)
    have e : spState o w_ = ((-2), oRef o 2) := by
      unfold spState
      repeat (first | rw [el_some (by assumption)] | rw [el_none (by assumption)] | rw [if_pos (by omega)] | rw [if_neg (by omega)])
      all_goals first | rfl | (exfalso; omega)
    exact z_iret X dX4_state_102 (by omega) (by omega) ⟨_, rfl, (by rw [e]; exact ⟨_, hM3, hT3, rfl⟩)⟩
set_option maxHeartbeats 2000000 in
theorem m_X4_wipe {l : Launch} {G : GG} {wb w : GW} {ad : Nat → Nat} {m : MSt} (hM : MM G wb w ad m) {o : OS} (hT : MT o m) (hO : oInv o) : gM l G yX4_wipe cX4_wipe 2 (some .int) 1 0 0 [.ref (ad 0)] w (pI (fun r w1 => ∃ m2, MM G wb w1 ad m2 ∧ MT (spWipe o ).2 m2 ∧ r = (spWipe o ).1)) := by
  refine Z.met (own := "ThreeSizesModel") (nm := "wipe") (lv := [(0, .ref (ad 0))]) (by decide) rfl rfl (Nat.le_of_ble_eq_true rfl) rfl (fun κ X => ?_)
  have hI := hO.1
  have h6 := hI.2.1
  have ht200 := hO.2.2.2
  refine z_aload_n X dX4_wipe_0 rfl 0 rfl ?_
  refine z_mgv8 X hM dX4_wipe_1 hT.2.2.2.2.2.2.1 ?_
  refine z_istore_n (lv2 := [(1, .int (nI (o.2.2.2.2.2.2.1))), (0, .ref (ad 0))]) X dX4_wipe_4 rfl (Nat.le_of_ble_eq_true rfl) rfl ?_
  refine z_aload_n X dX4_wipe_5 rfl 1 rfl ?_
  refine z_iconst (v := nI (0)) X dX4_wipe_6 ci0 ?_
  refine z_mp8 X hM dX4_wipe_7 (fun u1 hM1 => ?_)
  refine z_iload_n X dX4_wipe_10 rfl 0 rfl ?_
  have e : spWipe o  = (nI (o.2.2.2.2.2.2.1), oTape o o.2.2.2.2.2.1 0) := by
    unfold spWipe
    repeat (first | rw [el_some (by assumption)] | rw [el_none (by assumption)] | rw [if_pos (by omega)] | rw [if_neg (by omega)])
    all_goals first | rfl | (exfalso; omega)
  exact z_iret X dX4_wipe_11 (by omega) (by omega) ⟨_, rfl, (by rw [e]; exact ⟨_, hM1, hT.tp, rfl⟩)⟩
set_option maxHeartbeats 2000000 in
theorem m_X4_ask {l : Launch} {G : GG} {wb w : GW} {ad : Nat → Nat} {m : MSt} (hM : MM G wb w ad m) {o : OS} (hT : MT o m) (hO : oInv o) {w_ v : Int32} : gM l G yX4_ask cX4_ask 4 (some .int) 2 0 0 [.ref (ad 0), .int (w_), .int (v)] w (pI (fun r w1 => ∃ m2, MM G wb w1 ad m2 ∧ MT (spAsk o w_ v).2 m2 ∧ r = (spAsk o w_ v).1)) := by
  refine Z.met (own := "ThreeSizesModel") (nm := "ask") (lv := [(0, .ref (ad 0)), (1, .int (w_)), (2, .int (v))]) (by decide) rfl rfl (Nat.le_of_ble_eq_true rfl) rfl (fun κ X => ?_)
  have hI := hO.1
  have h6 := hI.2.1
  have ht200 := hO.2.2.2
  refine z_iload_n X dX4_ask_0 rfl 1 rfl ?_
  refine z_i2l (v := (w_).toInt64) X dX4_ask_1 rfl ?_
  refine z_lconst (v := lN 0) X dX4_ask_2 cl0 ?_
  refine z_lconst (v := lN 1) X dX4_ask_3 cl1 ?_
  refine z_cip (z_runS (rest := []) (n := 3) X [.long ((w_).toInt64), .long (lN (0)), .long (lN (1))] m_X4_in dX4_ask_4 (lw_S q1541 q1542 q70 q1543) hs_X4_in rfl ⟨Nat.le_of_ble_eq_true rfl, Nat.le_of_ble_eq_true rfl⟩ ⟨by omega, by omega⟩ rfl (Nat.le_of_ble_eq_true rfl)) ?_
  refine z_if_eq (tgt := 32) X dX4_ask_7 (by decide) bI_d (fun c1 => ?_) (fun c1 => ?_)
  · have e1 : rgb 0 1 w_ = none := rgb_f (fun q => c1 ((in32 (lo := nI 0) (hi := nI 1)).mpr q))
    refine z_aload_n X dX4_ask_32 rfl 0 rfl ?_
    refine z_bipush (v := (-2)) X dX4_ask_33 (by decide) ?_
    refine z_ci (z_runV (rest := []) (n := 1) X [.int ((-2))] (m_X4_refuse hM (k := 2) (by decide) (v := (-2)) rfl) dX4_ask_35 (mm_o hM) rfl (lw_V q1546 q1548 qs27 q70 q1549) hv_X4_refuse rfl ⟨Nat.le_of_ble_eq_true rfl, Nat.le_of_ble_eq_true rfl⟩ ⟨by omega, by omega⟩ rfl (Nat.le_of_ble_eq_true rfl)) (fun r2 w4 h3 => ?_)
    obtain ⟨hM3, r2e⟩ := h3
    rw [r2e]
    have hT3 := MT.ref hT (k := 2) (by decide)
    have e : spAsk o w_ v = ((-2), oRef o 2) := by
      unfold spAsk
      repeat (first | rw [el_some (by assumption)] | rw [el_none (by assumption)] | rw [if_pos (by omega)] | rw [if_neg (by omega)])
      all_goals first | rfl | (exfalso; omega)
    exact z_iret X dX4_ask_38 (by omega) (by omega) ⟨_, rfl, (by rw [e]; exact ⟨_, hM3, hT3, rfl⟩)⟩
  · have c1 := Classical.not_not.mp c1
    obtain ⟨w_N, w_Nl, w_Nh, rfl, e2⟩ := rgb_t (lo := 0) (hi := 1) (by decide) (by decide) ((in32 (lo := nI 0) (hi := nI 1)).mp c1)
    refine z_iload_n X dX4_ask_10 rfl 2 rfl ?_
    refine z_i2l (v := (v).toInt64) X dX4_ask_11 rfl ?_
    refine z_lconst (v := lN 0) X dX4_ask_12 cl0 ?_
    rcases (show w_N = 0 ∨ w_N = 1 by omega) with rfl | rfl
    · skip
      refine z_iload_n X dX4_ask_13 rfl 1 rfl ?_
      refine z_if_ne_f (tgt := 23) X dX4_ask_14 (by decide) (by decide) ?_
      refine z_ldc2 X dX4_ask_17 q1650 ?_
      refine z_goto (tgt := 26) X dX4_ask_20 (by decide) ?_
      refine z_cip (z_runS (rest := []) (n := 3) X [.long ((v).toInt64), .long (lN (0)), .long ((10))] m_X4_in dX4_ask_26 (lw_S q1541 q1542 q70 q1543) hs_X4_in rfl ⟨Nat.le_of_ble_eq_true rfl, Nat.le_of_ble_eq_true rfl⟩ ⟨by omega, by omega⟩ rfl (Nat.le_of_ble_eq_true rfl)) ?_
      refine z_if_ne (tgt := 39) X dX4_ask_29 (by decide) bI_d (fun c5 => ?_) (fun c5 => ?_)
      · have c5 := Classical.not_not.mp c5
        obtain ⟨vN, vNl, vNh, rfl, e3⟩ := rgb_t (lo := 0) (hi := 10) (by decide) (by decide) ((in32 (lo := nI 0) (hi := nI 10)).mp c5)
        refine z_aload_n X dX4_ask_39 rfl 0 rfl ?_
        refine z_mg15 X hM dX4_ask_40 ?_
        refine z_iload_n X dX4_ask_43 rfl 1 rfl ?_
        refine z_iaN (v := nI (o.1.2 1)) X dX4_ask_44 (mm_16 hM) (by omega) (by omega) hT.1.2.2.2.1 ?_
        refine z_istore_n (lv2 := [(3, .int (nI (o.1.2 1))), (0, .ref (ad 0)), (1, .int (nI (0))), (2, .int (nI (vN)))]) X dX4_ask_45 rfl (Nat.le_of_ble_eq_true rfl) rfl ?_
        refine z_aload_n X dX4_ask_46 rfl 1 rfl ?_
        refine z_mg15 X hM dX4_ask_47 ?_
        refine z_iload_n X dX4_ask_50 rfl 2 rfl ?_
        refine z_iload_n X dX4_ask_51 rfl 3 rfl ?_
        refine z_mst (n := 2) (j := 0) X hM 16 dX4_ask_52 rfl rfl rfl (by omega) (by omega) (fun u6 hM6 => ?_)
        refine z_iload_n X dX4_ask_53 rfl 0 rfl ?_
        have e : spAsk o (nI 0) (nI vN) = (nI (o.1.2 1), oW o (wPut0 o.1 (1 + 0) vN)) := by
          unfold spAsk
          repeat (first | rw [el_some (by assumption)] | rw [el_none (by assumption)] | rw [if_pos (by omega)] | rw [if_neg (by omega)])
          all_goals first | rfl | (exfalso; omega)
        exact z_iret X dX4_ask_54 (by omega) (by omega) ⟨_, rfl, (by rw [e]; exact ⟨_, hM6, (hT.put0 (by omega)), rfl⟩)⟩
      · have e4 : rgb 0 10 v = none := rgb_f (fun q => c5 ((in32 (lo := nI 0) (hi := nI 10)).mpr q))
        refine z_aload_n X dX4_ask_32 rfl 0 rfl ?_
        refine z_bipush (v := (-2)) X dX4_ask_33 (by decide) ?_
        refine z_ci (z_runV (rest := []) (n := 1) X [.int ((-2))] (m_X4_refuse hM (k := 2) (by decide) (v := (-2)) rfl) dX4_ask_35 (mm_o hM) rfl (lw_V q1546 q1548 qs27 q70 q1549) hv_X4_refuse rfl ⟨Nat.le_of_ble_eq_true rfl, Nat.le_of_ble_eq_true rfl⟩ ⟨by omega, by omega⟩ rfl (Nat.le_of_ble_eq_true rfl)) (fun r7 w9 h8 => ?_)
        obtain ⟨hM8, r7e⟩ := h8
        rw [r7e]
        have hT8 := MT.ref hT (k := 2) (by decide)
        have e : spAsk o (nI 0) v = ((-2), oRef o 2) := by
          unfold spAsk
          repeat (first | rw [el_some (by assumption)] | rw [el_none (by assumption)] | rw [if_pos (by omega)] | rw [if_neg (by omega)])
          all_goals first | rfl | (exfalso; omega)
        exact z_iret X dX4_ask_38 (by omega) (by omega) ⟨_, rfl, (by rw [e]; exact ⟨_, hM8, hT8, rfl⟩)⟩
    · skip
      refine z_iload_n X dX4_ask_13 rfl 1 rfl ?_
      refine z_if_ne_t (tgt := 23) X dX4_ask_14 (by decide) (by decide) ?_
      refine z_ldc2 X dX4_ask_23 q1574 ?_
      refine z_cip (z_runS (rest := []) (n := 3) X [.long ((v).toInt64), .long (lN (0)), .long ((99))] m_X4_in dX4_ask_26 (lw_S q1541 q1542 q70 q1543) hs_X4_in rfl ⟨Nat.le_of_ble_eq_true rfl, Nat.le_of_ble_eq_true rfl⟩ ⟨by omega, by omega⟩ rfl (Nat.le_of_ble_eq_true rfl)) ?_
      refine z_if_ne (tgt := 39) X dX4_ask_29 (by decide) bI_d (fun c10 => ?_) (fun c10 => ?_)
      · have c10 := Classical.not_not.mp c10
        obtain ⟨vN, vNl, vNh, rfl, e5⟩ := rgb_t (lo := 0) (hi := 99) (by decide) (by decide) ((in32 (lo := nI 0) (hi := nI 99)).mp c10)
        refine z_aload_n X dX4_ask_39 rfl 0 rfl ?_
        refine z_mg15 X hM dX4_ask_40 ?_
        refine z_iload_n X dX4_ask_43 rfl 1 rfl ?_
        refine z_iaN (v := nI (o.1.2 2)) X dX4_ask_44 (mm_16 hM) (by omega) (by omega) hT.1.2.2.2.2 ?_
        refine z_istore_n (lv2 := [(3, .int (nI (o.1.2 2))), (0, .ref (ad 0)), (1, .int (nI (1))), (2, .int (nI (vN)))]) X dX4_ask_45 rfl (Nat.le_of_ble_eq_true rfl) rfl ?_
        refine z_aload_n X dX4_ask_46 rfl 1 rfl ?_
        refine z_mg15 X hM dX4_ask_47 ?_
        refine z_iload_n X dX4_ask_50 rfl 2 rfl ?_
        refine z_iload_n X dX4_ask_51 rfl 3 rfl ?_
        refine z_mst (n := 2) (j := 1) X hM 16 dX4_ask_52 rfl rfl rfl (by omega) (by omega) (fun u11 hM11 => ?_)
        refine z_iload_n X dX4_ask_53 rfl 0 rfl ?_
        have e : spAsk o (nI 1) (nI vN) = (nI (o.1.2 2), oW o (wPut0 o.1 (1 + 1) vN)) := by
          unfold spAsk
          repeat (first | rw [el_some (by assumption)] | rw [el_none (by assumption)] | rw [if_pos (by omega)] | rw [if_neg (by omega)])
          all_goals first | rfl | (exfalso; omega)
        exact z_iret X dX4_ask_54 (by omega) (by omega) ⟨_, rfl, (by rw [e]; exact ⟨_, hM11, (hT.put0 (by omega)), rfl⟩)⟩
      · have e6 : rgb 0 99 v = none := rgb_f (fun q => c10 ((in32 (lo := nI 0) (hi := nI 99)).mpr q))
        refine z_aload_n X dX4_ask_32 rfl 0 rfl ?_
        refine z_bipush (v := (-2)) X dX4_ask_33 (by decide) ?_
        refine z_ci (z_runV (rest := []) (n := 1) X [.int ((-2))] (m_X4_refuse hM (k := 2) (by decide) (v := (-2)) rfl) dX4_ask_35 (mm_o hM) rfl (lw_V q1546 q1548 qs27 q70 q1549) hv_X4_refuse rfl ⟨Nat.le_of_ble_eq_true rfl, Nat.le_of_ble_eq_true rfl⟩ ⟨by omega, by omega⟩ rfl (Nat.le_of_ble_eq_true rfl)) (fun r12 w14 h13 => ?_)
        obtain ⟨hM13, r12e⟩ := h13
        rw [r12e]
        have hT13 := MT.ref hT (k := 2) (by decide)
        have e : spAsk o (nI 1) v = ((-2), oRef o 2) := by
          unfold spAsk
          repeat (first | rw [el_some (by assumption)] | rw [el_none (by assumption)] | rw [if_pos (by omega)] | rw [if_neg (by omega)])
          all_goals first | rfl | (exfalso; omega)
        exact z_iret X dX4_ask_38 (by omega) (by omega) ⟨_, rfl, (by rw [e]; exact ⟨_, hM13, hT13, rfl⟩)⟩
set_option maxHeartbeats 2000000 in
theorem m_X4_size {l : Launch} {G : GG} {wb w : GW} {ad : Nat → Nat} {m : MSt} (hM : MM G wb w ad m) {o : OS} (hT : MT o m) (hO : oInv o) {z w_ v : Int32} : gM l G yX4_size cX4_size 6 (some .int) 2 0 0 [.ref (ad 0), .int (z), .int (w_), .int (v)] w (pI (fun r w1 => ∃ m2, MM G wb w1 ad m2 ∧ MT (spSize o z w_ v).2 m2 ∧ r = (spSize o z w_ v).1)) := by
  refine Z.met (own := "ThreeSizesModel") (nm := "size") (lv := [(0, .ref (ad 0)), (1, .int (z)), (2, .int (w_)), (3, .int (v))]) (by decide) rfl rfl (Nat.le_of_ble_eq_true rfl) rfl (fun κ X => ?_)
  have hI := hO.1
  have h6 := hI.2.1
  have ht200 := hO.2.2.2
  refine z_iload_n X dX4_size_0 rfl 1 rfl ?_
  refine z_i2l (v := (z).toInt64) X dX4_size_1 rfl ?_
  refine z_lconst (v := lN 0) X dX4_size_2 cl0 ?_
  refine z_ldc2 X dX4_size_3 q1649 ?_
  refine z_cip (z_runS (rest := []) (n := 3) X [.long ((z).toInt64), .long (lN (0)), .long ((2))] m_X4_in dX4_size_6 (lw_S q1541 q1542 q70 q1543) hs_X4_in rfl ⟨Nat.le_of_ble_eq_true rfl, Nat.le_of_ble_eq_true rfl⟩ ⟨by omega, by omega⟩ rfl (Nat.le_of_ble_eq_true rfl)) ?_
  refine z_if_eq (tgt := 47) X dX4_size_9 (by decide) bI_d (fun c1 => ?_) (fun c1 => ?_)
  · have e1 : rgb 0 2 z = none := rgb_f (fun q => c1 ((in32 (lo := nI 0) (hi := nI 2)).mpr q))
    refine z_aload_n X dX4_size_47 rfl 0 rfl ?_
    refine z_bipush (v := (-2)) X dX4_size_48 (by decide) ?_
    refine z_ci (z_runV (rest := []) (n := 1) X [.int ((-2))] (m_X4_refuse hM (k := 2) (by decide) (v := (-2)) rfl) dX4_size_50 (mm_o hM) rfl (lw_V q1546 q1548 qs27 q70 q1549) hv_X4_refuse rfl ⟨Nat.le_of_ble_eq_true rfl, Nat.le_of_ble_eq_true rfl⟩ ⟨by omega, by omega⟩ rfl (Nat.le_of_ble_eq_true rfl)) (fun r2 w4 h3 => ?_)
    obtain ⟨hM3, r2e⟩ := h3
    rw [r2e]
    have hT3 := MT.ref hT (k := 2) (by decide)
    have e : spSize o z w_ v = ((-2), oRef o 2) := by
      unfold spSize
      repeat (first | rw [el_some (by assumption)] | rw [el_none (by assumption)] | rw [if_pos (by omega)] | rw [if_neg (by omega)])
      all_goals first | rfl | (exfalso; omega)
    exact z_iret X dX4_size_53 (by omega) (by omega) ⟨_, rfl, (by rw [e]; exact ⟨_, hM3, hT3, rfl⟩)⟩
  · have c1 := Classical.not_not.mp c1
    obtain ⟨zN, zNl, zNh, rfl, e2⟩ := rgb_t (lo := 0) (hi := 2) (by decide) (by decide) ((in32 (lo := nI 0) (hi := nI 2)).mp c1)
    refine z_iload_n X dX4_size_12 rfl 2 rfl ?_
    refine z_i2l (v := (w_).toInt64) X dX4_size_13 rfl ?_
    refine z_lconst (v := lN 0) X dX4_size_14 cl0 ?_
    refine z_ldc2 X dX4_size_15 q1649 ?_
    refine z_cip (z_runS (rest := []) (n := 3) X [.long ((w_).toInt64), .long (lN (0)), .long ((2))] m_X4_in dX4_size_18 (lw_S q1541 q1542 q70 q1543) hs_X4_in rfl ⟨Nat.le_of_ble_eq_true rfl, Nat.le_of_ble_eq_true rfl⟩ ⟨by omega, by omega⟩ rfl (Nat.le_of_ble_eq_true rfl)) ?_
    refine z_if_eq (tgt := 47) X dX4_size_21 (by decide) bI_d (fun c5 => ?_) (fun c5 => ?_)
    · have e3 : rgb 0 2 w_ = none := rgb_f (fun q => c5 ((in32 (lo := nI 0) (hi := nI 2)).mpr q))
      refine z_aload_n X dX4_size_47 rfl 0 rfl ?_
      refine z_bipush (v := (-2)) X dX4_size_48 (by decide) ?_
      refine z_ci (z_runV (rest := []) (n := 1) X [.int ((-2))] (m_X4_refuse hM (k := 2) (by decide) (v := (-2)) rfl) dX4_size_50 (mm_o hM) rfl (lw_V q1546 q1548 qs27 q70 q1549) hv_X4_refuse rfl ⟨Nat.le_of_ble_eq_true rfl, Nat.le_of_ble_eq_true rfl⟩ ⟨by omega, by omega⟩ rfl (Nat.le_of_ble_eq_true rfl)) (fun r6 w8 h7 => ?_)
      obtain ⟨hM7, r6e⟩ := h7
      rw [r6e]
      have hT7 := MT.ref hT (k := 2) (by decide)
      have e : spSize o (nI zN) w_ v = ((-2), oRef o 2) := by
        unfold spSize
        repeat (first | rw [el_some (by assumption)] | rw [el_none (by assumption)] | rw [if_pos (by omega)] | rw [if_neg (by omega)])
        all_goals first | rfl | (exfalso; omega)
      exact z_iret X dX4_size_53 (by omega) (by omega) ⟨_, rfl, (by rw [e]; exact ⟨_, hM7, hT7, rfl⟩)⟩
    · have c5 := Classical.not_not.mp c5
      obtain ⟨w_N, w_Nl, w_Nh, rfl, e4⟩ := rgb_t (lo := 0) (hi := 2) (by decide) (by decide) ((in32 (lo := nI 0) (hi := nI 2)).mp c5)
      refine z_iload_n X dX4_size_24 rfl 3 rfl ?_
      refine z_i2l (v := (v).toInt64) X dX4_size_25 rfl ?_
      refine z_lconst (v := lN 0) X dX4_size_26 cl0 ?_
      rcases (show w_N = 0 ∨ w_N = 1 ∨ w_N = 2 by omega) with rfl | rfl | rfl
      · skip
        have wz := hI.1 zN (by omega)
        refine z_iload_n X dX4_size_27 rfl 2 rfl ?_
        refine z_iconst (v := nI (2)) X dX4_size_28 ci2 ?_
        refine z_icmp_ne_t (tgt := 38) X dX4_size_29 (by decide) (by decide) ?_
        refine z_ldc2 X dX4_size_38 q1544 ?_
        refine z_cip (z_runS (rest := []) (n := 3) X [.long ((v).toInt64), .long (lN (0)), .long ((4))] m_X4_in dX4_size_41 (lw_S q1541 q1542 q70 q1543) hs_X4_in rfl ⟨Nat.le_of_ble_eq_true rfl, Nat.le_of_ble_eq_true rfl⟩ ⟨by omega, by omega⟩ rfl (Nat.le_of_ble_eq_true rfl)) ?_
        refine z_if_ne (tgt := 54) X dX4_size_44 (by decide) bI_d (fun c9 => ?_) (fun c9 => ?_)
        · have c9 := Classical.not_not.mp c9
          obtain ⟨vN, vNl, vNh, rfl, e5⟩ := rgb_t (lo := 0) (hi := 4) (by decide) (by decide) ((in32 (lo := nI 0) (hi := nI 4)).mp c9)
          refine z_iload_n X dX4_size_54 rfl 2 rfl ?_
          refine z_if_ne_f (tgt := 68) X dX4_size_55 (by decide) (by decide) ?_
          refine z_iload_n X dX4_size_58 rfl 3 rfl ?_
          refine z_aload_n X dX4_size_59 rfl 0 rfl ?_
          refine z_mg11 X hM dX4_size_60 ?_
          refine z_iload_n X dX4_size_63 rfl 1 rfl ?_
          refine z_iaN (v := nI (o.1.1 1 zN)) X dX4_size_64 (mm_12 hM) (by omega) (by omega) (hT.1.1 zN (by omega)).2.1 ?_
          refine z_icmp_lt (tgt := 83) X dX4_size_65 (by decide) (nI_ltI (by omega) (by omega)) (fun c10 => ?_) (fun c10 => ?_)
          · refine z_aload_n X dX4_size_83 rfl 0 rfl ?_
            refine z_bipush (v := (-5)) X dX4_size_84 (by decide) ?_
            refine z_ci (z_runV (rest := []) (n := 1) X [.int ((-5))] (m_X4_refuse hM (k := 5) (by decide) (v := (-5)) rfl) dX4_size_86 (mm_o hM) rfl (lw_V q1546 q1548 qs27 q70 q1549) hv_X4_refuse rfl ⟨Nat.le_of_ble_eq_true rfl, Nat.le_of_ble_eq_true rfl⟩ ⟨by omega, by omega⟩ rfl (Nat.le_of_ble_eq_true rfl)) (fun r11 w13 h12 => ?_)
            obtain ⟨hM12, r11e⟩ := h12
            rw [r11e]
            have hT12 := MT.ref hT (k := 5) (by decide)
            have e : spSize o (nI zN) (nI 0) (nI vN) = ((-5), oRef o 5) := by
              unfold spSize
              repeat (first | rw [el_some (by assumption)] | rw [el_none (by assumption)] | rw [if_pos (by omega)] | rw [if_neg (by omega)])
              all_goals first | rfl | (exfalso; omega)
            exact z_iret X dX4_size_89 (by omega) (by omega) ⟨_, rfl, (by rw [e]; exact ⟨_, hM12, hT12, rfl⟩)⟩
          · refine z_iload_n X dX4_size_68 rfl 2 rfl ?_
            refine z_iconst (v := nI (1)) X dX4_size_69 ci1 ?_
            refine z_icmp_ne_t (tgt := 90) X dX4_size_70 (by decide) (by decide) ?_
            refine z_iload_n X dX4_size_90 rfl 2 rfl ?_
            refine z_if_ne_f (tgt := 101) X dX4_size_91 (by decide) (by decide) ?_
            refine z_aload_n X dX4_size_94 rfl 0 rfl ?_
            refine z_mg10 X hM dX4_size_95 ?_
            refine z_goto (tgt := 117) X dX4_size_98 (by decide) ?_
            refine z_astore (lv2 := [(4, .ref (ad 11)), (0, .ref (ad 0)), (1, .int (nI (zN))), (2, .int (nI (0))), (3, .int (nI (vN)))]) X dX4_size_117 (Nat.le_of_ble_eq_true rfl) rfl ?_
            refine z_aload X dX4_size_119 0 rfl ?_
            refine z_iload_n X dX4_size_121 rfl 2 rfl ?_
            refine z_iaN (v := nI (o.1.1 0 zN)) X dX4_size_122 (mm_11 hM) (by omega) (by omega) (hT.1.1 zN (by omega)).1 ?_
            refine z_istore (lv2 := [(5, .int (nI (o.1.1 0 zN))), (4, .ref (ad 11)), (0, .ref (ad 0)), (1, .int (nI (zN))), (2, .int (nI (0))), (3, .int (nI (vN)))]) X dX4_size_123 (Nat.le_of_ble_eq_true rfl) rfl ?_
            refine z_aload X dX4_size_125 1 rfl ?_
            refine z_iload_n X dX4_size_127 rfl 3 rfl ?_
            refine z_iload_n X dX4_size_128 rfl 5 rfl ?_
            refine z_mst (n := 3) (j := zN) X hM 11 dX4_size_129 rfl rfl rfl (by omega) (by omega) (fun u14 hM14 => ?_)
            refine z_iload X dX4_size_130 0 rfl ?_
            have e : spSize o (nI zN) (nI 0) (nI vN) = (nI (o.1.1 0 zN), oW o (wPut o.1 0 zN vN)) := by
              unfold spSize
              repeat (first | rw [el_some (by assumption)] | rw [el_none (by assumption)] | rw [if_pos (by omega)] | rw [if_neg (by omega)])
              all_goals first | rfl | (exfalso; omega)
            exact z_iret X dX4_size_132 (by omega) (by omega) ⟨_, rfl, (by rw [e]; exact ⟨_, hM14, (hT.put (by omega) (by omega)), rfl⟩)⟩
        · have e6 : rgb 0 4 v = none := rgb_f (fun q => c9 ((in32 (lo := nI 0) (hi := nI 4)).mpr q))
          refine z_aload_n X dX4_size_47 rfl 0 rfl ?_
          refine z_bipush (v := (-2)) X dX4_size_48 (by decide) ?_
          refine z_ci (z_runV (rest := []) (n := 1) X [.int ((-2))] (m_X4_refuse hM (k := 2) (by decide) (v := (-2)) rfl) dX4_size_50 (mm_o hM) rfl (lw_V q1546 q1548 qs27 q70 q1549) hv_X4_refuse rfl ⟨Nat.le_of_ble_eq_true rfl, Nat.le_of_ble_eq_true rfl⟩ ⟨by omega, by omega⟩ rfl (Nat.le_of_ble_eq_true rfl)) (fun r15 w17 h16 => ?_)
          obtain ⟨hM16, r15e⟩ := h16
          rw [r15e]
          have hT16 := MT.ref hT (k := 2) (by decide)
          have e : spSize o (nI zN) (nI 0) v = ((-2), oRef o 2) := by
            unfold spSize
            repeat (first | rw [el_some (by assumption)] | rw [el_none (by assumption)] | rw [if_pos (by omega)] | rw [if_neg (by omega)])
            all_goals first | rfl | (exfalso; omega)
          exact z_iret X dX4_size_53 (by omega) (by omega) ⟨_, rfl, (by rw [e]; exact ⟨_, hM16, hT16, rfl⟩)⟩
      · skip
        have wz := hI.1 zN (by omega)
        refine z_iload_n X dX4_size_27 rfl 2 rfl ?_
        refine z_iconst (v := nI (2)) X dX4_size_28 ci2 ?_
        refine z_icmp_ne_t (tgt := 38) X dX4_size_29 (by decide) (by decide) ?_
        refine z_ldc2 X dX4_size_38 q1544 ?_
        refine z_cip (z_runS (rest := []) (n := 3) X [.long ((v).toInt64), .long (lN (0)), .long ((4))] m_X4_in dX4_size_41 (lw_S q1541 q1542 q70 q1543) hs_X4_in rfl ⟨Nat.le_of_ble_eq_true rfl, Nat.le_of_ble_eq_true rfl⟩ ⟨by omega, by omega⟩ rfl (Nat.le_of_ble_eq_true rfl)) ?_
        refine z_if_ne (tgt := 54) X dX4_size_44 (by decide) bI_d (fun c18 => ?_) (fun c18 => ?_)
        · have c18 := Classical.not_not.mp c18
          obtain ⟨vN, vNl, vNh, rfl, e7⟩ := rgb_t (lo := 0) (hi := 4) (by decide) (by decide) ((in32 (lo := nI 0) (hi := nI 4)).mp c18)
          refine z_iload_n X dX4_size_54 rfl 2 rfl ?_
          refine z_if_ne_t (tgt := 68) X dX4_size_55 (by decide) (by decide) ?_
          refine z_iload_n X dX4_size_68 rfl 2 rfl ?_
          refine z_iconst (v := nI (1)) X dX4_size_69 ci1 ?_
          refine z_icmp_ne_f (tgt := 90) X dX4_size_70 (by decide) (by decide) ?_
          refine z_iload_n X dX4_size_73 rfl 3 rfl ?_
          refine z_aload_n X dX4_size_74 rfl 0 rfl ?_
          refine z_mg10 X hM dX4_size_75 ?_
          refine z_iload_n X dX4_size_78 rfl 1 rfl ?_
          refine z_iaN (v := nI (o.1.1 0 zN)) X dX4_size_79 (mm_11 hM) (by omega) (by omega) (hT.1.1 zN (by omega)).1 ?_
          refine z_icmp_le (tgt := 90) X dX4_size_80 (by decide) (nI_leI (by omega) (by omega)) (fun c19 => ?_) (fun c19 => ?_)
          · refine z_iload_n X dX4_size_90 rfl 2 rfl ?_
            refine z_if_ne_t (tgt := 101) X dX4_size_91 (by decide) (by decide) ?_
            refine z_iload_n X dX4_size_101 rfl 2 rfl ?_
            refine z_iconst (v := nI (1)) X dX4_size_102 ci1 ?_
            refine z_icmp_ne_f (tgt := 113) X dX4_size_103 (by decide) (by decide) ?_
            refine z_aload_n X dX4_size_106 rfl 0 rfl ?_
            refine z_mg11 X hM dX4_size_107 ?_
            refine z_goto (tgt := 117) X dX4_size_110 (by decide) ?_
            refine z_astore (lv2 := [(4, .ref (ad 12)), (0, .ref (ad 0)), (1, .int (nI (zN))), (2, .int (nI (1))), (3, .int (nI (vN)))]) X dX4_size_117 (Nat.le_of_ble_eq_true rfl) rfl ?_
            refine z_aload X dX4_size_119 0 rfl ?_
            refine z_iload_n X dX4_size_121 rfl 2 rfl ?_
            refine z_iaN (v := nI (o.1.1 1 zN)) X dX4_size_122 (mm_12 hM) (by omega) (by omega) (hT.1.1 zN (by omega)).2.1 ?_
            refine z_istore (lv2 := [(5, .int (nI (o.1.1 1 zN))), (4, .ref (ad 12)), (0, .ref (ad 0)), (1, .int (nI (zN))), (2, .int (nI (1))), (3, .int (nI (vN)))]) X dX4_size_123 (Nat.le_of_ble_eq_true rfl) rfl ?_
            refine z_aload X dX4_size_125 1 rfl ?_
            refine z_iload_n X dX4_size_127 rfl 3 rfl ?_
            refine z_iload_n X dX4_size_128 rfl 5 rfl ?_
            refine z_mst (n := 3) (j := zN) X hM 12 dX4_size_129 rfl rfl rfl (by omega) (by omega) (fun u20 hM20 => ?_)
            refine z_iload X dX4_size_130 0 rfl ?_
            have e : spSize o (nI zN) (nI 1) (nI vN) = (nI (o.1.1 1 zN), oW o (wPut o.1 1 zN vN)) := by
              unfold spSize
              repeat (first | rw [el_some (by assumption)] | rw [el_none (by assumption)] | rw [if_pos (by omega)] | rw [if_neg (by omega)])
              all_goals first | rfl | (exfalso; omega)
            exact z_iret X dX4_size_132 (by omega) (by omega) ⟨_, rfl, (by rw [e]; exact ⟨_, hM20, (hT.put (by omega) (by omega)), rfl⟩)⟩
          · refine z_aload_n X dX4_size_83 rfl 0 rfl ?_
            refine z_bipush (v := (-5)) X dX4_size_84 (by decide) ?_
            refine z_ci (z_runV (rest := []) (n := 1) X [.int ((-5))] (m_X4_refuse hM (k := 5) (by decide) (v := (-5)) rfl) dX4_size_86 (mm_o hM) rfl (lw_V q1546 q1548 qs27 q70 q1549) hv_X4_refuse rfl ⟨Nat.le_of_ble_eq_true rfl, Nat.le_of_ble_eq_true rfl⟩ ⟨by omega, by omega⟩ rfl (Nat.le_of_ble_eq_true rfl)) (fun r21 w23 h22 => ?_)
            obtain ⟨hM22, r21e⟩ := h22
            rw [r21e]
            have hT22 := MT.ref hT (k := 5) (by decide)
            have e : spSize o (nI zN) (nI 1) (nI vN) = ((-5), oRef o 5) := by
              unfold spSize
              repeat (first | rw [el_some (by assumption)] | rw [el_none (by assumption)] | rw [if_pos (by omega)] | rw [if_neg (by omega)])
              all_goals first | rfl | (exfalso; omega)
            exact z_iret X dX4_size_89 (by omega) (by omega) ⟨_, rfl, (by rw [e]; exact ⟨_, hM22, hT22, rfl⟩)⟩
        · have e8 : rgb 0 4 v = none := rgb_f (fun q => c18 ((in32 (lo := nI 0) (hi := nI 4)).mpr q))
          refine z_aload_n X dX4_size_47 rfl 0 rfl ?_
          refine z_bipush (v := (-2)) X dX4_size_48 (by decide) ?_
          refine z_ci (z_runV (rest := []) (n := 1) X [.int ((-2))] (m_X4_refuse hM (k := 2) (by decide) (v := (-2)) rfl) dX4_size_50 (mm_o hM) rfl (lw_V q1546 q1548 qs27 q70 q1549) hv_X4_refuse rfl ⟨Nat.le_of_ble_eq_true rfl, Nat.le_of_ble_eq_true rfl⟩ ⟨by omega, by omega⟩ rfl (Nat.le_of_ble_eq_true rfl)) (fun r24 w26 h25 => ?_)
          obtain ⟨hM25, r24e⟩ := h25
          rw [r24e]
          have hT25 := MT.ref hT (k := 2) (by decide)
          have e : spSize o (nI zN) (nI 1) v = ((-2), oRef o 2) := by
            unfold spSize
            repeat (first | rw [el_some (by assumption)] | rw [el_none (by assumption)] | rw [if_pos (by omega)] | rw [if_neg (by omega)])
            all_goals first | rfl | (exfalso; omega)
          exact z_iret X dX4_size_53 (by omega) (by omega) ⟨_, rfl, (by rw [e]; exact ⟨_, hM25, hT25, rfl⟩)⟩
      · skip
        have wz := hI.1 zN (by omega)
        refine z_iload_n X dX4_size_27 rfl 2 rfl ?_
        refine z_iconst (v := nI (2)) X dX4_size_28 ci2 ?_
        refine z_icmp_ne_f (tgt := 38) X dX4_size_29 (by decide) (by decide) ?_
        refine z_ldc2 X dX4_size_32 q1650 ?_
        refine z_goto (tgt := 41) X dX4_size_35 (by decide) ?_
        refine z_cip (z_runS (rest := []) (n := 3) X [.long ((v).toInt64), .long (lN (0)), .long ((10))] m_X4_in dX4_size_41 (lw_S q1541 q1542 q70 q1543) hs_X4_in rfl ⟨Nat.le_of_ble_eq_true rfl, Nat.le_of_ble_eq_true rfl⟩ ⟨by omega, by omega⟩ rfl (Nat.le_of_ble_eq_true rfl)) ?_
        refine z_if_ne (tgt := 54) X dX4_size_44 (by decide) bI_d (fun c27 => ?_) (fun c27 => ?_)
        · have c27 := Classical.not_not.mp c27
          obtain ⟨vN, vNl, vNh, rfl, e9⟩ := rgb_t (lo := 0) (hi := 10) (by decide) (by decide) ((in32 (lo := nI 0) (hi := nI 10)).mp c27)
          refine z_iload_n X dX4_size_54 rfl 2 rfl ?_
          refine z_if_ne_t (tgt := 68) X dX4_size_55 (by decide) (by decide) ?_
          refine z_iload_n X dX4_size_68 rfl 2 rfl ?_
          refine z_iconst (v := nI (1)) X dX4_size_69 ci1 ?_
          refine z_icmp_ne_t (tgt := 90) X dX4_size_70 (by decide) (by decide) ?_
          refine z_iload_n X dX4_size_90 rfl 2 rfl ?_
          refine z_if_ne_t (tgt := 101) X dX4_size_91 (by decide) (by decide) ?_
          refine z_iload_n X dX4_size_101 rfl 2 rfl ?_
          refine z_iconst (v := nI (1)) X dX4_size_102 ci1 ?_
          refine z_icmp_ne_t (tgt := 113) X dX4_size_103 (by decide) (by decide) ?_
          refine z_aload_n X dX4_size_113 rfl 0 rfl ?_
          refine z_mg12 X hM dX4_size_114 ?_
          refine z_astore (lv2 := [(4, .ref (ad 13)), (0, .ref (ad 0)), (1, .int (nI (zN))), (2, .int (nI (2))), (3, .int (nI (vN)))]) X dX4_size_117 (Nat.le_of_ble_eq_true rfl) rfl ?_
          refine z_aload X dX4_size_119 0 rfl ?_
          refine z_iload_n X dX4_size_121 rfl 2 rfl ?_
          refine z_iaN (v := nI (o.1.1 2 zN)) X dX4_size_122 (mm_13 hM) (by omega) (by omega) (hT.1.1 zN (by omega)).2.2 ?_
          refine z_istore (lv2 := [(5, .int (nI (o.1.1 2 zN))), (4, .ref (ad 13)), (0, .ref (ad 0)), (1, .int (nI (zN))), (2, .int (nI (2))), (3, .int (nI (vN)))]) X dX4_size_123 (Nat.le_of_ble_eq_true rfl) rfl ?_
          refine z_aload X dX4_size_125 1 rfl ?_
          refine z_iload_n X dX4_size_127 rfl 3 rfl ?_
          refine z_iload_n X dX4_size_128 rfl 5 rfl ?_
          refine z_mst (n := 3) (j := zN) X hM 13 dX4_size_129 rfl rfl rfl (by omega) (by omega) (fun u28 hM28 => ?_)
          refine z_iload X dX4_size_130 0 rfl ?_
          have e : spSize o (nI zN) (nI 2) (nI vN) = (nI (o.1.1 2 zN), oW o (wPut o.1 2 zN vN)) := by
            unfold spSize
            repeat (first | rw [el_some (by assumption)] | rw [el_none (by assumption)] | rw [if_pos (by omega)] | rw [if_neg (by omega)])
            all_goals first | rfl | (exfalso; omega)
          exact z_iret X dX4_size_132 (by omega) (by omega) ⟨_, rfl, (by rw [e]; exact ⟨_, hM28, (hT.put (by omega) (by omega)), rfl⟩)⟩
        · have e10 : rgb 0 10 v = none := rgb_f (fun q => c27 ((in32 (lo := nI 0) (hi := nI 10)).mpr q))
          refine z_aload_n X dX4_size_47 rfl 0 rfl ?_
          refine z_bipush (v := (-2)) X dX4_size_48 (by decide) ?_
          refine z_ci (z_runV (rest := []) (n := 1) X [.int ((-2))] (m_X4_refuse hM (k := 2) (by decide) (v := (-2)) rfl) dX4_size_50 (mm_o hM) rfl (lw_V q1546 q1548 qs27 q70 q1549) hv_X4_refuse rfl ⟨Nat.le_of_ble_eq_true rfl, Nat.le_of_ble_eq_true rfl⟩ ⟨by omega, by omega⟩ rfl (Nat.le_of_ble_eq_true rfl)) (fun r29 w31 h30 => ?_)
          obtain ⟨hM30, r29e⟩ := h30
          rw [r29e]
          have hT30 := MT.ref hT (k := 2) (by decide)
          have e : spSize o (nI zN) (nI 2) v = ((-2), oRef o 2) := by
            unfold spSize
            repeat (first | rw [el_some (by assumption)] | rw [el_none (by assumption)] | rw [if_pos (by omega)] | rw [if_neg (by omega)])
            all_goals first | rfl | (exfalso; omega)
          exact z_iret X dX4_size_53 (by omega) (by omega) ⟨_, rfl, (by rw [e]; exact ⟨_, hM30, hT30, rfl⟩)⟩
