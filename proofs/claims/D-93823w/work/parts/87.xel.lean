/-! x: element, set, holds -/
set_option maxRecDepth 100000
theorem XT.row1 {G : GG} {w : GW} {xa : Nat → Nat} {rr : Option Nat} {o : OS} {im : IM} (h : XT G w xa rr o im) {s : Nat} (hs : s < 8) (hk : o.2.2.2.1 0 s = 1) : ∃ f, w (xa (40 + s)) = some (rowE G (o.2.2.2.1 1 s) (o.2.2.2.1 2 s) f) ∧ rowOk (o.2.2.2.1 1 s) (o.2.2.2.1 2 s) f ∧ ∀ i, i < o.2.2.2.1 2 s → f i = o.2.2.2.2.1 s i := by
  rcases h.shelf hs with ⟨q, -⟩ | ⟨-, -, h3⟩ | ⟨q, -⟩
  · rw [q] at hk; cases hk
  · exact h3
  · rw [q] at hk; cases hk
theorem vp_lt {n i : Nat} (hi : i < 2 ^ 31) (h : vp_in (nI i) n) : i < n := by
  have := vp_in_lt h
  rwa [nI_clamp hi] at this
theorem vp_nlt {n i : Nat} (hi : i < 2 ^ 31) (h : ¬ vp_in (nI i) n) : n ≤ i := by
  refine Nat.le_of_not_lt fun q => h ?_
  unfold vp_in
  rintro (h1 | h1)
  · exact nI_pos hi h1
  · rw [nI_clamp hi] at h1; omega
theorem vp_rgn {n : Nat} {i : Int32} (hn : n ≤ 40) (h : vp_in i n) : ∃ k, k < n ∧ i = nI k ∧ rgn n (nI k) = some k := by
  have h0 : ¬ i < 0 := fun q => h (Or.inl q)
  obtain ⟨k, hk, rfl⟩ := nI_of h0
  have := vp_lt hk h
  exact ⟨k, this, rfl, rgn_nI this (by omega)⟩
theorem vp_rgn0 {n : Nat} {i : Int32} (hn : n ≤ 40) (h : ¬ vp_in i n) : rgn n i = none := by
  refine rgn_f fun q => h ?_
  obtain ⟨k, hk, rfl⟩ := nI_nn q.1
  have := (nI_ltI hk (by omega)).mp q.2
  exact vp_in_nI this (by omega)
set_option maxHeartbeats 2000000 in
theorem x_element {l : Launch} {G : GG} (hl : l.stackTraces = false) {w : GW} {xa : Nat → Nat} {rr : Option Nat} {o : OS} {im : IM} (hX : XT G w xa rr o im) (hO : oInv o) {s i : Int32} : gMX l G yX0_element (wsW_ yX0_element cX0_element 4 (some .long) [(9, 18, 19, 122), (9, 18, 22, 136)]) 168 4 229 [.ref (xa 0), .int (s), .int (i)] w (pL (fun r w1 => XE G (xa 0) w1 o im ∧ r = spElement o s i)) (pN) := by
  refine Z.metW (own := "ThreeSizes") (nm := "element") (lv := [(0, .ref (xa 0)), (1, .int (s)), (2, .int (i))]) (by decide) rfl rfl (Nat.le_of_ble_eq_true rfl) rfl (fun κ X Y V0 => ?_)
  have V := V0 hl
  have hI := hO.1
  have h6 := hI.2.1
  refine z_iload_n X dX0_element_0 rfl 1 rfl ?_
  refine z_cip (z_runS (rest := []) (n := 1) X [.int (s)] (m_X0_isShelf (v := s)) dX0_element_1 (lw_S q344 q345 q66 q346) hs_X0_isShelf rfl ⟨Nat.le_of_ble_eq_true rfl, Nat.le_of_ble_eq_true rfl⟩ ⟨by omega, by omega⟩ rfl (Nat.le_of_ble_eq_true rfl)) ?_
  refine z_if_ne (tgt := 9) X dX0_element_4 (by decide) bI_d (fun c1 => ?_) (fun c1 => ?_)
  · have c1 := Classical.not_not.mp c1
    obtain ⟨sN, sNl, sNh, rfl, e1⟩ := rgb_t (lo := 0) (hi := 7) (by decide) (by decide) (c1)
    refine z_aload_n X dX0_element_9 rfl 0 rfl ?_
    refine z_iload_n X dX0_element_10 rfl 1 rfl ?_
    refine z_xa (z_runXV (rest := []) (n := 1) X [.int (nI (sN))] (m_X0_rowIn hX hO (s := sN) (by omega)) dX0_element_11 hX.ob rfl (lw_V q384 q386 qs3 q66 q387) hv_X0_rowIn rfl ⟨Nat.le_of_ble_eq_true rfl, Nat.le_of_ble_eq_true rfl⟩ ⟨by omega, by omega⟩ rfl (Nat.le_of_ble_eq_true rfl)) (fun r2 w4 h3 => ?_) (fun E5 q6 w8 h7 => ?_)
    · have hn9 := h3
      obtain ⟨hk3, rfl, rfl⟩ := h3
      obtain ⟨f3, hr3, ho3, he3⟩ := hX.row1 (s := sN) (by omega) hk3
      have hq3 := hO.2.1 sN (by omega)
      refine z_iload_n X dX0_element_14 rfl 2 rfl ?_
      refine z_xl (z_runXS (rest := []) (n := 2) X [.ref (xa (40 + sN)), .int (i)] (m_X0_elementOf hl (k := o.2.2.2.1 1 sN) (n := o.2.2.2.1 2 sN) (f := f3) hq3.2.1 hr3 ho3 hq3.2.2.1 (i := i)) dX0_element_15 (lw_S q477 q478 q66 q479) hs_X0_elementOf rfl ⟨Nat.le_of_ble_eq_true rfl, Nat.le_of_ble_eq_true rfl⟩ ⟨by omega, by omega⟩ rfl (Nat.le_of_ble_eq_true rfl)) (fun r9 w11 h10 => ?_) (fun E12 q13 w15 h14 => ?_)
      · have hn9 := h10
        obtain ⟨hi10, r9e, rfl⟩ := h10
        obtain ⟨iN, iNh, rfl, e2⟩ := vp_rgn hq3.2.2.1 hi10
        rw [nI_clamp (by omega), he3 iN (by omega)] at r9e
        rw [r9e]
        have e : spElement o (nI sN) (nI iN) = o.2.2.2.2.1 sN iN := by
          unfold spElement
          repeat (first | rw [el_some (by assumption)] | rw [el_none (by assumption)] | rw [if_pos (by omega)] | rw [if_neg (by omega)] | rw [if_pos (by assumption)] | rw [if_neg (ts_n (by assumption))])
          all_goals first | rfl | (exfalso; omega)
        exact z_lret X dX0_element_18 (by omega) (by omega) ⟨_, rfl, ⟨⟨_, _, rfl, hX⟩, e.symm⟩⟩
      · have hx9 := h14
        obtain ⟨rfl, hi14, rfl⟩ := h14
        have e3 := vp_rgn0 hq3.2.2.1 hi14
        refine zt_catch X Y [(9, 18, 19, 122)] (9, 18, 22, 136) [] rfl (zp_c (zp_o [false, false, false, false, true, false, true, false, true, true] (by decide) q364 rfl) zp_n) rfl (by decide) q365 q380 rfl ?_
        refine z_astore_n (lv2 := [(3, .ref (q13)), (0, .ref (xa 0)), (1, .int (nI (sN))), (2, .int (i))]) X dX0_element_22 rfl (Nat.le_of_ble_eq_true rfl) rfl ?_
        refine z_lconst (v := lN 0) X dX0_element_23 cl0 ?_
        have e : spElement o (nI sN) i = lN (0) := by
          unfold spElement
          repeat (first | rw [el_some (by assumption)] | rw [el_none (by assumption)] | rw [if_pos (by omega)] | rw [if_neg (by omega)] | rw [if_pos (by assumption)] | rw [if_neg (ts_n (by assumption))])
          all_goals first | rfl | (exfalso; omega)
        exact z_lret X dX0_element_24 (by omega) (by omega) ⟨_, rfl, ⟨⟨_, _, rfl, hX⟩, e.symm⟩⟩
    · have hx9 := h7
      obtain ⟨by9, ⟨rfl, hn7, rfl⟩, hb7⟩ := h7
      rcases hb7 with ⟨hk9, rfl⟩ | ⟨hk9, rfl⟩
      · have hX7 := XT.fresh hX hn7 (e := .inr (5, [.null, .null, .null, .null, .null, .int 0, .int (-3)]))
        refine zt_catch X Y [] (9, 18, 19, 122) [(9, 18, 22, 136)] rfl zp_n rfl (by decide) q364 q390 rfl ?_
        refine z_astore_n (lv2 := [(3, .ref (q6)), (0, .ref (xa 0)), (1, .int (nI (sN))), (2, .int (i))]) X dX0_element_19 rfl (Nat.le_of_ble_eq_true rfl) rfl ?_
        refine z_lconst (v := lN 0) X dX0_element_20 cl0 ?_
        have e : spElement o (nI sN) i = lN (0) := by
          unfold spElement
          repeat (first | rw [el_some (by assumption)] | rw [el_none (by assumption)] | rw [if_pos (by omega)] | rw [if_neg (by omega)] | rw [if_pos (by assumption)] | rw [if_neg (ts_n (by assumption))])
          all_goals first | rfl | (exfalso; omega)
        exact z_lret X dX0_element_21 (by omega) (by omega) ⟨_, rfl, ⟨⟨_, _, rfl, hX7⟩, e.symm⟩⟩
      · have hX7 := XT.fresh hX hn7 (e := .inr (5, [.null, .null, .null, .null, .null, .int 0, .int (-4)]))
        refine zt_catch X Y [] (9, 18, 19, 122) [(9, 18, 22, 136)] rfl zp_n rfl (by decide) q364 q390 rfl ?_
        refine z_astore_n (lv2 := [(3, .ref (q6)), (0, .ref (xa 0)), (1, .int (nI (sN))), (2, .int (i))]) X dX0_element_19 rfl (Nat.le_of_ble_eq_true rfl) rfl ?_
        refine z_lconst (v := lN 0) X dX0_element_20 cl0 ?_
        have e : spElement o (nI sN) i = lN (0) := by
          unfold spElement
          repeat (first | rw [el_some (by assumption)] | rw [el_none (by assumption)] | rw [if_pos (by omega)] | rw [if_neg (by omega)] | rw [if_pos (by assumption)] | rw [if_neg (ts_n (by assumption))])
          all_goals first | rfl | (exfalso; omega)
        exact z_lret X dX0_element_21 (by omega) (by omega) ⟨_, rfl, ⟨⟨_, _, rfl, hX7⟩, e.symm⟩⟩
  · have e4 : rgb 0 7 s = none := rgb_f c1
    refine z_lconst (v := lN 0) X dX0_element_7 cl0 ?_
    have e : spElement o s i = lN (0) := by
      unfold spElement
      repeat (first | rw [el_some (by assumption)] | rw [el_none (by assumption)] | rw [if_pos (by omega)] | rw [if_neg (by omega)] | rw [if_pos (by assumption)] | rw [if_neg (ts_n (by assumption))])
      all_goals first | rfl | (exfalso; omega)
    exact z_lret X dX0_element_8 (by omega) (by omega) ⟨_, rfl, ⟨⟨_, _, rfl, hX⟩, e.symm⟩⟩
