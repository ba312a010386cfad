/-! x: sorts -/
set_option maxRecDepth 100000
def partV (v : Int64) : Int32 := if lN 0 ≤ v ∧ v ≤ lN 100 then v.toInt32 else -1
theorem partV_in {lo hi : Nat} (hh : hi ≤ 100) (hl : lo ≤ hi) {v : Int64} (h : nI lo ≤ partV v ∧ partV v ≤ nI hi) : ∃ k, lo ≤ k ∧ k ≤ hi ∧ v = lN k ∧ partV v = nI k := by
  unfold partV at h ⊢
  by_cases q : lN 0 ≤ v ∧ v ≤ lN 100
  · rw [if_pos q] at h ⊢
    obtain ⟨k, -, k2, rfl, -⟩ := rgl_t (lo := 0) (hi := 100) (by decide) (by decide) q
    rw [lN_i] at h ⊢
    exact ⟨k, (nI_leI (by omega) (by omega)).mp h.1, (nI_leI (by omega) (by omega)).mp h.2, rfl, rfl⟩
  · rw [if_neg q] at h
    exact absurd (Int32.le_trans (nI_le (Nat.zero_le lo) (by omega)) h.1) (by decide)
theorem partV_N {k : Nat} (h : k ≤ 100) : partV (lN k) = nI k := by
  unfold partV
  rw [if_pos ⟨(lN_le (by omega) (by omega)).mpr (Nat.zero_le k), (lN_le (by omega) (by omega)).mpr h⟩, lN_i]
theorem partV_out {lo hi : Nat} (hh : hi ≤ 100) (hl : lo ≤ hi) {v : Int64} (h : ¬ (nI lo ≤ partV v ∧ partV v ≤ nI hi)) : rgl lo hi v = none := by
  refine rgl_f fun q => h ?_
  obtain ⟨k, k1, k2, rfl, -⟩ := rgl_t (lo := lo) (hi := hi) (by omega) hl q
  rw [partV_N (by omega)]
  exact ⟨nI_le k1 (by omega), nI_le k2 (by omega)⟩
theorem addK_P {S : WS} {a b c d : Int64} (h : ¬ mayP (partV a) (partV b) (partV c) (partV d)) : addK S a b c d = 2 := by
  unfold addK
  by_cases h1 : nI 0 ≤ partV a ∧ partV a ≤ nI 2
  · obtain ⟨k1, -, k1h, rfl, -⟩ := partV_in (by decide) (by decide) h1
    rw [el_some (rgl_lN (Nat.zero_le _) k1h (by omega))]
    by_cases h2 : nI 0 ≤ partV b ∧ partV b ≤ nI 100
    · obtain ⟨k2, -, k2h, rfl, -⟩ := partV_in (by decide) (by decide) h2
      rw [el_some (rgl_lN (Nat.zero_le _) k2h (by omega))]
      by_cases h3 : nI 1 ≤ partV c ∧ partV c ≤ nI 99
      · obtain ⟨k3, k3l, k3h, rfl, -⟩ := partV_in (by decide) (by decide) h3
        rw [el_some (rgl_lN k3l k3h (by omega)), el_none (partV_out (by decide) (by decide) (fun q => h ⟨h1, h2, h3, q⟩))]
      · rw [el_none (partV_out (by decide) (by decide) h3)]
    · rw [el_none (partV_out (by decide) (by decide) h2)]
  · rw [el_none (partV_out (by decide) (by decide) h1)]
theorem addK_L {S : WS} {z c v b : Nat} (hz : z ≤ 2) (hc : c ≤ 100) (hv1 : 1 ≤ v) (hv : v ≤ 99) (hb : b ≤ 99) : addK S (lN z) (lN c) (lN v) (lN b) = if 100 < sumTo (S.1 4) (S.2 0) + c then 5 else if S.2 0 = 6 then 6 else 0 := by
  have := addK_N (S := S) hz hc hv1 hv hb
  rw [nI_l (by omega), nI_l (by omega), nI_l (by omega), nI_l (by omega)] at this
  exact this
theorem addS_L {S : WS} {z c v b : Nat} (hz : z ≤ 2) (hc : c ≤ 100) (hv : v ≤ 99) (hb : b ≤ 99) : addS S (lN z) (lN c) (lN v) (lN b) = addN S z c v b := by
  rw [addS_N, tnl_lN (by omega), tnl_lN (by omega), tnl_lN (by omega), tnl_lN (by omega)]
set_option maxHeartbeats 2000000 in
theorem m_X0_part {l : Launch} {G : GG} (hl : l.stackTraces = false) {w : GW} {q k n : Nat} {f : Nat → Int64} (hk : k ≤ 4) (hR : w q = some (rowE G k n f)) (hO : rowOk k n f) (hn : n ≤ 40) {i : Nat} (hi : i < n) : gMX l G yX0_part (ws_ yX0_part cX0_part 4 (some .int)) 168 3 222 [.ref (q), .int (nI (i))] w (pI (fun r w1 => r = partV (f i) ∧ w1 = w)) (fun E x w1 => False) := by
  refine Z.metX (own := "ThreeSizes") (nm := "part") (lv := [(0, .ref (q)), (1, .int (nI (i)))]) (by decide) rfl rfl (Nat.le_of_ble_eq_true rfl) rfl (fun κ X Y V0 => ?_)
  have V := V0 hl
  refine z_aload_n X dX0_part_0 rfl 0 rfl ?_
  refine z_iload_n X dX0_part_1 rfl 1 rfl ?_
  refine z_xl (z_runXS (rest := []) (n := 2) X [.ref (q), .int (nI (i))] (m_X0_elementOf hl hk hR hO hn (i := nI i)) dX0_part_2 (lw_S q477 q478 q66 q479) hs_X0_elementOf rfl ⟨Nat.le_of_ble_eq_true rfl, Nat.le_of_ble_eq_true rfl⟩ ⟨by omega, by omega⟩ rfl (Nat.le_of_ble_eq_true rfl)) (fun r1 w3 h2 => ?_) (fun E4 qz5 w7 h6 => ?_)
  · have hn9 := h2
    obtain ⟨hi2, r1e, rfl⟩ := h2
    rw [nI_clamp (by omega)] at r1e
    rw [r1e]
    refine z_lstore_n (lv2 := [(2, .long (f i)), (0, .ref (q)), (1, .int (nI (i)))]) X dX0_part_5 rfl (Nat.le_of_ble_eq_true rfl) rfl ?_
    refine z_lload_n X dX0_part_6 rfl 0 rfl ?_
    refine z_lconst (v := lN 0) X dX0_part_7 cl0 ?_
    refine z_lcmp (v := lg_cmp (f i) (lN (0))) X dX0_part_8 rfl ?_
    refine z_if_lt (tgt := 20) X dX0_part_9 (by decide) (lg_cmp_lt _ _) (fun c8 => ?_) (fun c8 => ?_)
    · refine z_iconst (v := -1) X dX0_part_20 cim1 ?_
      refine z_goto (tgt := 26) X dX0_part_21 (by decide) ?_
      exact z_iret X dX0_part_26 (by omega) (by omega) ⟨_, rfl, ⟨(if_neg (fun q => absurd c8 (Int64.not_lt.mpr q.1))).symm, rfl⟩⟩
    · refine z_lload_n X dX0_part_12 rfl 0 rfl ?_
      refine z_ldc2 X dX0_part_13 q793 ?_
      refine z_lcmp (v := lg_cmp (f i) ((100))) X dX0_part_16 rfl ?_
      refine z_if_le (tgt := 24) X dX0_part_17 (by decide) (lg_cmp_le _ _) (fun c9 => ?_) (fun c9 => ?_)
      · refine z_lload_n X dX0_part_24 rfl 0 rfl ?_
        refine z_l2i (v := (f i).toInt32) X dX0_part_25 rfl ?_
        exact z_iret X dX0_part_26 (by omega) (by omega) ⟨_, rfl, ⟨(if_pos ⟨Int64.not_lt.mp c8, c9⟩).symm, rfl⟩⟩
      · refine z_iconst (v := -1) X dX0_part_20 cim1 ?_
        refine z_goto (tgt := 26) X dX0_part_21 (by decide) ?_
        exact z_iret X dX0_part_26 (by omega) (by omega) ⟨_, rfl, ⟨(if_neg (fun q => c9 q.2)).symm, rfl⟩⟩
  · have hx9 := h6
    exact absurd (vp_in_nI hi (by omega)) h6.2.1
set_option maxHeartbeats 2000000 in
theorem x_sorts {l : Launch} {G : GG} (hl : l.stackTraces = false) {w : GW} {xa : Nat → Nat} {rr : Option Nat} {o : OS} {im : IM} (hX : XT G w xa rr o im) (hO : oInv o) {s n : Int32} : gMX l G yX0_sorts (wsW_ yX0_sorts cX0_sorts 7 (some .int) [(14, 36, 184, 122), (37, 139, 184, 122), (140, 183, 184, 122), (14, 36, 194, 136), (37, 139, 194, 136), (140, 183, 194, 136)]) 172 214 15769 [.ref (xa 0), .int (s), .int (n)] w (pI (fun r w1 => XE G (xa 0) w1 (spSorts o s n).2 im ∧ r = (spSorts o s n).1)) (pN) := by
  refine Z.metW (own := "ThreeSizes") (nm := "sorts") (lv := [(0, .ref (xa 0)), (1, .int (s)), (2, .int (n))]) (by decide) rfl rfl (Nat.le_of_ble_eq_true rfl) rfl (fun κ X Y V0 => ?_)
  have V := V0 hl
  have hI := hO.1
  have h6 := hI.2.1
  have ht200 := hO.2.2.2
  refine z_iload_n X dX0_sorts_0 rfl 1 rfl ?_
  refine z_cip (z_runS (rest := []) (n := 1) X [.int (s)] (m_X0_isShelf (v := s)) dX0_sorts_1 (lw_S q344 q345 q66 q346) hs_X0_isShelf rfl ⟨Nat.le_of_ble_eq_true rfl, Nat.le_of_ble_eq_true rfl⟩ ⟨by omega, by omega⟩ rfl (Nat.le_of_ble_eq_true rfl)) ?_
  refine z_if_ne (tgt := 14) X dX0_sorts_4 (by decide) bI_d (fun c1 => ?_) (fun c1 => ?_)
  · have c1 := Classical.not_not.mp c1
    obtain ⟨sN, sNl, sNh, rfl, e1⟩ := rgb_t (lo := 0) (hi := 7) (by decide) (by decide) (c1)
    refine z_aload_n X dX0_sorts_14 rfl 0 rfl ?_
    refine z_iload_n X dX0_sorts_15 rfl 1 rfl ?_
    refine z_xa (z_runXV (rest := []) (n := 1) X [.int (nI (sN))] (m_X0_rowIn hX hO (s := sN) (by omega)) dX0_sorts_16 hX.ob rfl (lw_V q384 q386 qs3 q66 q387) hv_X0_rowIn rfl ⟨Nat.le_of_ble_eq_true rfl, Nat.le_of_ble_eq_true rfl⟩ ⟨by omega, by omega⟩ rfl (Nat.le_of_ble_eq_true rfl)) (fun r2 w4 h3 => ?_) (fun E5 qz6 w8 h7 => ?_)
    · have hn9 := h3
      obtain ⟨hk3, rfl, rfl⟩ := h3
      obtain ⟨f3, hr3, ho3, he3⟩ := hX.row1 (s := sN) (by omega) hk3
      have hq3 := hO.2.1 sN (by omega)
      refine z_astore_n (lv2 := [(3, .ref (xa (40 + sN))), (0, .ref (xa 0)), (1, .int (nI (sN))), (2, .int (n))]) X dX0_sorts_19 rfl (Nat.le_of_ble_eq_true rfl) rfl ?_
      have hq0 := hO.2.1 sN (by omega)
      refine z_iload_n X dX0_sorts_20 rfl 3 rfl ?_
      refine z_if_lt (tgt := 30) X dX0_sorts_21 (by decide) Iff.rfl (fun c9 => ?_) (fun c9 => ?_)
      · refine z_aload_n X dX0_sorts_30 rfl 1 rfl ?_
        refine z_bipush (v := (-2)) X dX0_sorts_31 (by decide) ?_
        refine z_ci (z_runV (rest := []) (n := 1) X [.int ((-2))] (m_X0_no_2 hX) dX0_sorts_33 hX.ob rfl (lw_V q350 q352 qs2 q66 q353) hv_X0_no rfl ⟨Nat.le_of_ble_eq_true rfl, Nat.le_of_ble_eq_true rfl⟩ ⟨by omega, by omega⟩ rfl (Nat.le_of_ble_eq_true rfl)) (fun r10 w12 h11 => ?_)
        obtain ⟨r10e, hX11⟩ := h11
        rw [r10e]
        have e : spSorts o (nI sN) n = ((-2), oRef o 2) := by
          unfold spSorts
          rw [el_some (by assumption), if_neg (by omega), if_neg (by omega), el_none (rgb_f (fun h => absurd c9 (Int32.not_lt.mpr h.1)))]
          rfl
        exact z_iret X dX0_sorts_36 (by omega) (by omega) ⟨_, rfl, (by rw [e]; exact ⟨⟨_, _, rfl, hX11⟩, rfl⟩)⟩
      · obtain ⟨nN, nNh, rfl⟩ := nI_of c9
        refine z_iload_n X dX0_sorts_24 rfl 3 rfl ?_
        refine z_iconst (v := nI (4)) X dX0_sorts_25 ci4 ?_
        refine z_irem (v := nI (nN % 4)) X dX0_sorts_26 (by decide) (pk_rem (by omega) (by omega) (by omega)) ?_
        refine z_if_eq (tgt := 37) X dX0_sorts_27 (by decide) (nz_eq (by omega)) (fun c13 => ?_) (fun c13 => ?_)
        · refine z_iload_n X dX0_sorts_37 rfl 3 rfl ?_
          refine z_if_le (tgt := 49) X dX0_sorts_38 (by decide) (nz_le (by omega)) (fun c14 => ?_) (fun c14 => ?_)
          · refine z_iconst (v := nI (0)) X dX0_sorts_49 ci0 ?_
            refine z_istore (lv2 := [(4, .int (nI (0))), (3, .ref (xa (40 + sN))), (0, .ref (xa 0)), (1, .int (nI (sN))), (2, .int (nI (nN)))]) X dX0_sorts_50 (Nat.le_of_ble_eq_true rfl) rfl ?_
            have hkr : o.2.2.2.1 0 sN = 1 := hk3
            have hqr := hO.2.1 sN (by omega)
            have hnle : nN ≤ o.2.2.2.1 2 sN := by omega
            have ls : ∀ (lq i : Nat) (w3 : GW) (S2 : WS), i + lq = nN / 4 → XT G w3 xa rr (oW o S2) im → wInv S2 → addsTo (o.2.2.2.2.1 sN) lq i S2 = addsTo (o.2.2.2.2.1 sN) (nN / 4) 0 o.1 → Z κ w3 [(4, .int (nI (4 * i))), (3, .ref (xa (40 + sN))), (0, .ref (xa 0)), (1, .int (nI (sN))), (2, .int (nI (nN)))] (4 + 21 * i) (229 + 1554 * i) 52 [] := by
              intro lq
              induction lq with
              | zero =>
                intro i w3 S2 lh hX3 hI hadd
                refine z_iload X dX0_sorts_52 0 rfl ?_
                refine z_iload_n X dX0_sorts_54 rfl 4 rfl ?_
                refine z_icmp_ge_t (tgt := 180) X dX0_sorts_55 (by decide) ((nI_leI (by omega) (by omega)).mpr (by omega)) ?_
                refine z_iload_n X dX0_sorts_180 rfl 4 rfl ?_
                refine z_iconst (v := nI (4)) X dX0_sorts_181 ci4 ?_
                refine z_idiv (v := nI (nN / 4)) X dX0_sorts_182 (by decide) (pk_div (by omega) (by omega) (by omega)) ?_
                have ex : (i, S2) = _ := hadd
                have e : spSorts o (nI sN) (nI nN) = (nI (nN / 4), oW o S2) := by
                  unfold spSorts
                  rw [el_some (by assumption), if_neg (by omega), if_neg (by omega), el_some (rgb_nI (by omega) (by omega)), if_pos (by omega), ← ex, show nN / 4 = i by omega]
                exact z_iret X dX0_sorts_183 (by omega) (by omega) ⟨_, rfl, (by rw [e]; exact ⟨⟨_, _, rfl, hX3⟩, rfl⟩)⟩
              | succ lq ih =>
                intro i w3 S2 lh hX3 hI hadd
                obtain ⟨f3, hr3, ho3, he3x⟩ := hX3.row1 (s := sN) (by omega) hkr
                have he3 : ∀ i, i < o.2.2.2.1 2 sN → f3 i = o.2.2.2.2.1 sN i := he3x
                have hsum := hI.2.2.2.1
                have h6 := hI.2.1
                refine z_iload X dX0_sorts_52 0 rfl ?_
                refine z_iload_n X dX0_sorts_54 rfl 4 rfl ?_
                refine z_icmp_ge_f (tgt := 180) X dX0_sorts_55 (by decide) (fun h => absurd ((nI_leI (by omega) (by omega)).mp h) (by omega)) ?_
                refine z_aload_n X dX0_sorts_58 rfl 1 rfl ?_
                refine z_iload X dX0_sorts_59 0 rfl ?_
                refine z_iconst (v := nI (1)) X dX0_sorts_61 ci1 ?_
                refine z_iadd (v := nI (4 * i + 1)) X dX0_sorts_62 (nI_add _ _) ?_
                refine z_xi (z_runXS (rest := []) (n := 2) X [.ref (xa (40 + sN)), .int (nI (4 * i + 1))] (m_X0_part hl (k := o.2.2.2.1 1 sN) (n := o.2.2.2.1 2 sN) (f := f3) hqr.2.1 hr3 ho3 hqr.2.2.1 (i := 4 * i + 1) (by omega)) dX0_sorts_63 (lw_S q790 q791 q66 q792) hs_X0_part rfl ⟨Nat.le_of_ble_eq_true rfl, Nat.le_of_ble_eq_true rfl⟩ ⟨by omega, by omega⟩ rfl (Nat.le_of_ble_eq_true rfl)) (fun r15 w17 h16 => ?_) (fun E18 qz19 w21 h20 => ?_)
                · have hn9 := h16
                  obtain ⟨r15e, rfl⟩ := h16
                  rw [he3 (4 * i + 1) (by omega)] at r15e
                  rw [r15e]
                  refine z_istore (lv2 := [(5, .int (partV ((o.2.2.2.2.1 sN) (4 * i + 1)))), (4, .int (nI (4 * i))), (3, .ref (xa (40 + sN))), (0, .ref (xa 0)), (1, .int (nI (sN))), (2, .int (nI (nN)))]) X dX0_sorts_66 (Nat.le_of_ble_eq_true rfl) rfl ?_
                  refine z_aload_n X dX0_sorts_68 rfl 2 rfl ?_
                  refine z_iload X dX0_sorts_69 1 rfl ?_
                  refine z_xi (z_runXS (rest := []) (n := 2) X [.ref (xa (40 + sN)), .int (nI (4 * i))] (m_X0_part hl (k := o.2.2.2.1 1 sN) (n := o.2.2.2.1 2 sN) (f := f3) hqr.2.1 hr3 ho3 hqr.2.2.1 (i := 4 * i) (by omega)) dX0_sorts_71 (lw_S q790 q791 q66 q792) hs_X0_part rfl ⟨Nat.le_of_ble_eq_true rfl, Nat.le_of_ble_eq_true rfl⟩ ⟨by omega, by omega⟩ rfl (Nat.le_of_ble_eq_true rfl)) (fun r22 w24 h23 => ?_) (fun E25 qz26 w28 h27 => ?_)
                  · have hn9 := h23
                    obtain ⟨r22e, rfl⟩ := h23
                    rw [he3 (4 * i) (by omega)] at r22e
                    rw [r22e]
                    refine z_iload X dX0_sorts_74 0 rfl ?_
                    refine z_aload_n X dX0_sorts_76 rfl 2 rfl ?_
                    refine z_iload X dX0_sorts_77 1 rfl ?_
                    refine z_iconst (v := nI (2)) X dX0_sorts_79 ci2 ?_
                    refine z_iadd (v := nI (4 * i + 2)) X dX0_sorts_80 (nI_add _ _) ?_
                    refine z_xi (z_runXS (rest := [.int (partV ((o.2.2.2.2.1 sN) (4 * i + 1))), .int (partV ((o.2.2.2.2.1 sN) (4 * i)))]) (n := 2) X [.ref (xa (40 + sN)), .int (nI (4 * i + 2))] (m_X0_part hl (k := o.2.2.2.1 1 sN) (n := o.2.2.2.1 2 sN) (f := f3) hqr.2.1 hr3 ho3 hqr.2.2.1 (i := 4 * i + 2) (by omega)) dX0_sorts_81 (lw_S q790 q791 q66 q792) hs_X0_part rfl ⟨Nat.le_of_ble_eq_true rfl, Nat.le_of_ble_eq_true rfl⟩ ⟨by omega, by omega⟩ rfl (Nat.le_of_ble_eq_true rfl)) (fun r29 w31 h30 => ?_) (fun E32 qz33 w35 h34 => ?_)
                    · have hn9 := h30
                      obtain ⟨r29e, rfl⟩ := h30
                      rw [he3 (4 * i + 2) (by omega)] at r29e
                      rw [r29e]
                      refine z_aload_n X dX0_sorts_84 rfl 2 rfl ?_
                      refine z_iload X dX0_sorts_85 1 rfl ?_
                      refine z_iconst (v := nI (3)) X dX0_sorts_87 ci3 ?_
                      refine z_iadd (v := nI (4 * i + 3)) X dX0_sorts_88 (nI_add _ _) ?_
                      refine z_xi (z_runXS (rest := [.int (partV ((o.2.2.2.2.1 sN) (4 * i + 2))), .int (partV ((o.2.2.2.2.1 sN) (4 * i + 1))), .int (partV ((o.2.2.2.2.1 sN) (4 * i)))]) (n := 2) X [.ref (xa (40 + sN)), .int (nI (4 * i + 3))] (m_X0_part hl (k := o.2.2.2.1 1 sN) (n := o.2.2.2.1 2 sN) (f := f3) hqr.2.1 hr3 ho3 hqr.2.2.1 (i := 4 * i + 3) (by omega)) dX0_sorts_89 (lw_S q790 q791 q66 q792) hs_X0_part rfl ⟨Nat.le_of_ble_eq_true rfl, Nat.le_of_ble_eq_true rfl⟩ ⟨by omega, by omega⟩ rfl (Nat.le_of_ble_eq_true rfl)) (fun r36 w38 h37 => ?_) (fun E39 qz40 w42 h41 => ?_)
                      · have hn9 := h37
                        obtain ⟨r36e, rfl⟩ := h37
                        rw [he3 (4 * i + 3) (by omega)] at r36e
                        rw [r36e]
                        refine z_cip (z_runS (rest := []) (n := 4) X [.int (partV ((o.2.2.2.2.1 sN) (4 * i))), .int (partV ((o.2.2.2.2.1 sN) (4 * i + 1))), .int (partV ((o.2.2.2.2.1 sN) (4 * i + 2))), .int (partV ((o.2.2.2.2.1 sN) (4 * i + 3)))] m_X0_mayBe dX0_sorts_92 (lw_S q778 q779 q66 q780) hs_X0_mayBe rfl ⟨Nat.le_of_ble_eq_true rfl, Nat.le_of_ble_eq_true rfl⟩ ⟨by omega, by omega⟩ rfl (Nat.le_of_ble_eq_true rfl)) ?_
                        refine z_istore (lv2 := [(6, .int (bI (decide (mayP (partV ((o.2.2.2.2.1 sN) (4 * i))) (partV ((o.2.2.2.2.1 sN) (4 * i + 1))) (partV ((o.2.2.2.2.1 sN) (4 * i + 2))) (partV ((o.2.2.2.2.1 sN) (4 * i + 3))))))), (5, .int (partV ((o.2.2.2.2.1 sN) (4 * i + 1)))), (4, .int (nI (4 * i))), (3, .ref (xa (40 + sN))), (0, .ref (xa 0)), (1, .int (nI (sN))), (2, .int (nI (nN)))]) X dX0_sorts_95 (Nat.le_of_ble_eq_true rfl) rfl ?_
                        refine z_iload X dX0_sorts_97 0 rfl ?_
                        refine z_if_eq (tgt := 135) X dX0_sorts_99 (by decide) bI_d (fun c43 => ?_) (fun c43 => ?_)
                        · refine z_iload X dX0_sorts_135 2 rfl ?_
                          refine z_iconst (v := nI (4)) X dX0_sorts_137 ci4 ?_
                          refine z_idiv (v := nI ((4 * i) / 4)) X dX0_sorts_138 (by decide) (pk_div (by omega) (by omega) (by omega)) ?_
                          have ea : addK S2 ((o.2.2.2.2.1 sN) (4 * i)) ((o.2.2.2.2.1 sN) (4 * i + 1)) ((o.2.2.2.2.1 sN) (4 * i + 2)) ((o.2.2.2.2.1 sN) (4 * i + 3)) = 2 := addK_P (by assumption)
                          have ex := (adds_no (n := lq) ea (by decide)).symm.trans hadd
                          have e : spSorts o (nI sN) (nI nN) = (nI ((4 * i) / 4), oW o S2) := by
                            unfold spSorts
                            rw [el_some (by assumption), if_neg (by omega), if_neg (by omega), el_some (rgb_nI (by omega) (by omega)), if_pos (by omega), ← ex, show (4 * i) / 4 = i by omega]
                          exact z_iret X dX0_sorts_139 (by omega) (by omega) ⟨_, rfl, (by rw [e]; exact ⟨⟨_, _, rfl, hX3⟩, rfl⟩)⟩
                        · have c43 := Classical.not_not.mp c43
                          have hm := c43
                          obtain ⟨zN, zl, zh, ez, pz⟩ := partV_in (lo := 0) (hi := 2) (by decide) (by decide) hm.1
                          obtain ⟨cN, cl, ch, ec, pc⟩ := partV_in (lo := 0) (hi := 100) (by decide) (by decide) hm.2.1
                          obtain ⟨vN, vl, vh, ev, pv⟩ := partV_in (lo := 1) (hi := 99) (by decide) (by decide) hm.2.2.1
                          obtain ⟨bN, bl, bh, eb, pb⟩ := partV_in (lo := 0) (hi := 99) (by decide) (by decide) hm.2.2.2
                          refine Z.lv [1, 2, 3, 4, 5, 6] rfl ?_
                          rw [pc]
                          have hK := addK_L (S := S2) zh ch vl vh bh
                          rw [← ez, ← ec, ← ev, ← eb] at hK
                          refine z_aload_n X dX0_sorts_102 rfl 3 rfl ?_
                          refine z_get X dX0_sorts_103 hX3.ob in_X0 rfl 0 (Nat.le_of_ble_eq_true rfl) q233 rfl ?_
                          refine z_get X dX0_sorts_106 hX3.day in_X1 rfl 0 (Nat.le_of_ble_eq_true rfl) q190 rfl ?_
                          refine z_cip (z_runV (rest := []) (n := 0) X [] (m_X2_all hX3.wall hI) dX0_sorts_109 (wl_o hX3.wall) rfl (lw_V q781 q621 q622 q68 q623) hv_X2_all rfl ⟨Nat.le_of_ble_eq_true rfl, Nat.le_of_ble_eq_true rfl⟩ ⟨by omega, by omega⟩ rfl (Nat.le_of_ble_eq_true rfl)) ?_
                          refine z_iload X dX0_sorts_112 0 rfl ?_
                          refine z_iadd (v := nI (sumTo (S2.1 4) (S2.2 0) + cN)) X dX0_sorts_114 (nI_add _ _) ?_
                          refine z_bipush (v := nI (100)) X dX0_sorts_115 (by decide) ?_
                          refine z_icmp_gt (tgt := 135) X dX0_sorts_117 (by decide) (nI_ltI (by omega) (by omega)) (fun c44 => ?_) (fun c44 => ?_)
                          · refine z_iload X dX0_sorts_135 1 rfl ?_
                            refine z_iconst (v := nI (4)) X dX0_sorts_137 ci4 ?_
                            refine z_idiv (v := nI ((4 * i) / 4)) X dX0_sorts_138 (by decide) (pk_div (by omega) (by omega) (by omega)) ?_
                            have ea : addK S2 ((o.2.2.2.2.1 sN) (4 * i)) ((o.2.2.2.2.1 sN) (4 * i + 1)) ((o.2.2.2.2.1 sN) (4 * i + 2)) ((o.2.2.2.2.1 sN) (4 * i + 3)) = 5 := by rw [hK, if_pos (by omega)]
                            have ex := (adds_no (n := lq) ea (by decide)).symm.trans hadd
                            have e : spSorts o (nI sN) (nI nN) = (nI ((4 * i) / 4), oW o S2) := by
                              unfold spSorts
                              rw [el_some (by assumption), if_neg (by omega), if_neg (by omega), el_some (rgb_nI (by omega) (by omega)), if_pos (by omega), ← ex, show (4 * i) / 4 = i by omega]
                            exact z_iret X dX0_sorts_139 (by omega) (by omega) ⟨_, rfl, (by rw [e]; exact ⟨⟨_, _, rfl, hX3⟩, rfl⟩)⟩
                          · refine z_aload_n X dX0_sorts_120 rfl 3 rfl ?_
                            refine z_get X dX0_sorts_121 hX3.ob in_X0 rfl 0 (Nat.le_of_ble_eq_true rfl) q233 rfl ?_
                            refine z_get X dX0_sorts_124 hX3.day in_X1 rfl 0 (Nat.le_of_ble_eq_true rfl) q190 rfl ?_
                            refine z_get X dX0_sorts_127 (wl_o hX3.wall) in_X2 rfl 8 (Nat.le_of_ble_eq_true rfl) q156 rfl ?_
                            rw [show (oW o S2).1.2 0 = S2.2 0 from rfl]
                            refine z_bipush (v := nI (6)) X dX0_sorts_130 (by decide) ?_
                            refine z_icmp_ne (tgt := 140) X dX0_sorts_132 (by decide) (nI_eq (by omega) (by omega)) (fun c45 => ?_) (fun c45 => ?_)
                            · refine z_aload_n X dX0_sorts_140 rfl 3 rfl ?_
                              refine z_get X dX0_sorts_141 hX3.ob in_X0 rfl 0 (Nat.le_of_ble_eq_true rfl) q233 rfl ?_
                              refine z_get X dX0_sorts_144 hX3.day in_X1 rfl 0 (Nat.le_of_ble_eq_true rfl) q190 rfl ?_
                              refine z_aload_n X dX0_sorts_147 rfl 2 rfl ?_
                              refine z_iload X dX0_sorts_148 1 rfl ?_
                              refine z_xi (z_runXS (rest := [.ref (xa 5)]) (n := 2) X [.ref (xa (40 + sN)), .int (nI (4 * i))] (m_X0_part hl (k := o.2.2.2.1 1 sN) (n := o.2.2.2.1 2 sN) (f := f3) hqr.2.1 hr3 ho3 hqr.2.2.1 (i := 4 * i) (by omega)) dX0_sorts_150 (lw_S q790 q791 q66 q792) hs_X0_part rfl ⟨Nat.le_of_ble_eq_true rfl, Nat.le_of_ble_eq_true rfl⟩ ⟨by omega, by omega⟩ rfl (Nat.le_of_ble_eq_true rfl)) (fun r46 w48 h47 => ?_) (fun E49 qz50 w52 h51 => ?_)
                              · have hn9 := h47
                                obtain ⟨r46e, rfl⟩ := h47
                                rw [he3 (4 * i) (by omega)] at r46e
                                rw [r46e]
                                rw [pz]
                                refine z_iload X dX0_sorts_153 0 rfl ?_
                                refine z_aload_n X dX0_sorts_155 rfl 2 rfl ?_
                                refine z_iload X dX0_sorts_156 1 rfl ?_
                                refine z_iconst (v := nI (2)) X dX0_sorts_158 ci2 ?_
                                refine z_iadd (v := nI (4 * i + 2)) X dX0_sorts_159 (nI_add _ _) ?_
                                refine z_xi (z_runXS (rest := [.int (nI (cN)), .int (nI (zN)), .ref (xa 5)]) (n := 2) X [.ref (xa (40 + sN)), .int (nI (4 * i + 2))] (m_X0_part hl (k := o.2.2.2.1 1 sN) (n := o.2.2.2.1 2 sN) (f := f3) hqr.2.1 hr3 ho3 hqr.2.2.1 (i := 4 * i + 2) (by omega)) dX0_sorts_160 (lw_S q790 q791 q66 q792) hs_X0_part rfl ⟨Nat.le_of_ble_eq_true rfl, Nat.le_of_ble_eq_true rfl⟩ ⟨by omega, by omega⟩ rfl (Nat.le_of_ble_eq_true rfl)) (fun r53 w55 h54 => ?_) (fun E56 qz57 w59 h58 => ?_)
                                · have hn9 := h54
                                  obtain ⟨r53e, rfl⟩ := h54
                                  rw [he3 (4 * i + 2) (by omega)] at r53e
                                  rw [r53e]
                                  rw [pv]
                                  refine z_aload_n X dX0_sorts_163 rfl 2 rfl ?_
                                  refine z_iload X dX0_sorts_164 1 rfl ?_
                                  refine z_iconst (v := nI (3)) X dX0_sorts_166 ci3 ?_
                                  refine z_iadd (v := nI (4 * i + 3)) X dX0_sorts_167 (nI_add _ _) ?_
                                  refine z_xi (z_runXS (rest := [.int (nI (vN)), .int (nI (cN)), .int (nI (zN)), .ref (xa 5)]) (n := 2) X [.ref (xa (40 + sN)), .int (nI (4 * i + 3))] (m_X0_part hl (k := o.2.2.2.1 1 sN) (n := o.2.2.2.1 2 sN) (f := f3) hqr.2.1 hr3 ho3 hqr.2.2.1 (i := 4 * i + 3) (by omega)) dX0_sorts_168 (lw_S q790 q791 q66 q792) hs_X0_part rfl ⟨Nat.le_of_ble_eq_true rfl, Nat.le_of_ble_eq_true rfl⟩ ⟨by omega, by omega⟩ rfl (Nat.le_of_ble_eq_true rfl)) (fun r60 w62 h61 => ?_) (fun E63 qz64 w66 h65 => ?_)
                                  · have hn9 := h61
                                    obtain ⟨r60e, rfl⟩ := h61
                                    rw [he3 (4 * i + 3) (by omega)] at r60e
                                    rw [r60e]
                                    rw [pb]
                                    refine z_cv (z_runV (rest := []) (n := 4) X [.int (nI (zN)), .int (nI (cN)), .int (nI (vN)), .int (nI (bN))] (m_X2_adds hX3.wall (by show S2.2 0 < 6; omega) (p := zN) (q := cN) (r := vN) (t := bN)) dX0_sorts_171 (wl_o hX3.wall) rfl (lw_V q782 q783 q784 q68 q785) hv_X2_adds rfl ⟨Nat.le_of_ble_eq_true rfl, Nat.le_of_ble_eq_true rfl⟩ ⟨by omega, by omega⟩ rfl (Nat.le_of_ble_eq_true rfl)) (fun w69 h68 => ?_)
                                    obtain ⟨ha9, hf9⟩ := h68
                                    have hX9 := hX3.wl ha9 (hX3.norm.add (by show S2.2 0 < 6; omega)) (fun b e hb hx => hf9 b e hb (fun i hi => hx i hi))
                                    refine z_iinc (v := nI (4 * (i + 1))) (lv2 := [(4, .int (nI (4 * (i + 1)))), (5, .int (nI (cN))), (3, .ref (xa (40 + sN))), (0, .ref (xa 0)), (1, .int (nI (sN))), (2, .int (nI (nN)))]) X dX0_sorts_174 1 rfl adv4 (Nat.le_of_ble_eq_true rfl) rfl ?_
                                    refine z_goto (tgt := 52) X dX0_sorts_177 (by decide) ?_
                                    refine Z.lv [0, 2, 3, 4, 5] rfl ?_
                                    have ea : addK S2 ((o.2.2.2.2.1 sN) (4 * i)) ((o.2.2.2.2.1 sN) (4 * i + 1)) ((o.2.2.2.2.1 sN) (4 * i + 2)) ((o.2.2.2.2.1 sN) (4 * i + 3)) = 0 := by rw [hK, if_neg (by omega), if_neg (by omega)]
                                    have eS : addS S2 ((o.2.2.2.2.1 sN) (4 * i)) ((o.2.2.2.2.1 sN) (4 * i + 1)) ((o.2.2.2.2.1 sN) (4 * i + 2)) ((o.2.2.2.2.1 sN) (4 * i + 3)) = addN S2 zN cN vN bN := by rw [ez, ec, ev, eb, addS_L zh ch vh bh]
                                    have hI9 : wInv (addN S2 zN cN vN bN) := by rw [← addS_L zh ch vh bh]; exact addS_inv hI zh ⟨vl, vh⟩ bh (by omega) (by omega)
                                    exact Z.up (by omega) (by omega) (ih (i + 1) _ (addN S2 zN cN vN bN) (by omega) hX9 hI9 (by rw [← eS]; exact (adds_go ea).symm.trans hadd))
                                  · have hx9 := h65
                                    exact h65.elim
                                · have hx9 := h58
                                  exact h58.elim
                              · have hx9 := h51
                                exact h51.elim
                            · refine z_iload X dX0_sorts_135 1 rfl ?_
                              refine z_iconst (v := nI (4)) X dX0_sorts_137 ci4 ?_
                              refine z_idiv (v := nI ((4 * i) / 4)) X dX0_sorts_138 (by decide) (pk_div (by omega) (by omega) (by omega)) ?_
                              have ea : addK S2 ((o.2.2.2.2.1 sN) (4 * i)) ((o.2.2.2.2.1 sN) (4 * i + 1)) ((o.2.2.2.2.1 sN) (4 * i + 2)) ((o.2.2.2.2.1 sN) (4 * i + 3)) = 6 := by rw [hK, if_neg (by omega), if_pos (by omega)]
                              have ex := (adds_no (n := lq) ea (by decide)).symm.trans hadd
                              have e : spSorts o (nI sN) (nI nN) = (nI ((4 * i) / 4), oW o S2) := by
                                unfold spSorts
                                rw [el_some (by assumption), if_neg (by omega), if_neg (by omega), el_some (rgb_nI (by omega) (by omega)), if_pos (by omega), ← ex, show (4 * i) / 4 = i by omega]
                              exact z_iret X dX0_sorts_139 (by omega) (by omega) ⟨_, rfl, (by rw [e]; exact ⟨⟨_, _, rfl, hX3⟩, rfl⟩)⟩
                      · have hx9 := h41
                        exact h41.elim
                    · have hx9 := h34
                      exact h34.elim
                  · have hx9 := h27
                    exact h27.elim
                · have hx9 := h20
                  exact h20.elim
            exact Z.up (by omega) (by omega) (ls (nN / 4) 0 _ _ (by omega) hX hI rfl)
          · refine z_aload_n X dX0_sorts_41 rfl 0 rfl ?_
            refine z_iload_n X dX0_sorts_42 rfl 3 rfl ?_
            refine z_iconst (v := nI (1)) X dX0_sorts_43 ci1 ?_
            refine z_isub (v := nI (nN - 1)) X dX0_sorts_44 (pk_sub (by omega)) ?_
            refine z_xl (z_runXS (rest := []) (n := 2) X [.ref (xa (40 + sN)), .int (nI (nN - 1))] (m_X0_elementOf hl (k := o.2.2.2.1 1 sN) (n := o.2.2.2.1 2 sN) (f := f3) hq3.2.1 hr3 ho3 hq3.2.2.1 (i := nI (nN - 1))) dX0_sorts_45 (lw_S q477 q478 q66 q479) hs_X0_elementOf rfl ⟨Nat.le_of_ble_eq_true rfl, Nat.le_of_ble_eq_true rfl⟩ ⟨by omega, by omega⟩ rfl (Nat.le_of_ble_eq_true rfl)) (fun r70 w72 h71 => ?_) (fun E73 qz74 w76 h75 => ?_)
            · have hn9 := h71
              obtain ⟨hi71, r70e, rfl⟩ := h71
              have hx71 := vp_lt (by omega) hi71
              rw [nI_clamp (by omega), he3 (nN - 1) (by omega)] at r70e
              rw [r70e]
              refine z_pop2l X dX0_sorts_48 rfl ?_
              refine z_iconst (v := nI (0)) X dX0_sorts_49 ci0 ?_
              refine z_istore (lv2 := [(4, .int (nI (0))), (3, .ref (xa (40 + sN))), (0, .ref (xa 0)), (1, .int (nI (sN))), (2, .int (nI (nN)))]) X dX0_sorts_50 (Nat.le_of_ble_eq_true rfl) rfl ?_
              have hkr : o.2.2.2.1 0 sN = 1 := hk3
              have hqr := hO.2.1 sN (by omega)
              have hnle : nN ≤ o.2.2.2.1 2 sN := by omega
              have ls : ∀ (lq i : Nat) (w3 : GW) (S2 : WS), i + lq = nN / 4 → XT G w3 xa rr (oW o S2) im → wInv S2 → addsTo (o.2.2.2.2.1 sN) lq i S2 = addsTo (o.2.2.2.2.1 sN) (nN / 4) 0 o.1 → Z κ w3 [(4, .int (nI (4 * i))), (3, .ref (xa (40 + sN))), (0, .ref (xa 0)), (1, .int (nI (sN))), (2, .int (nI (nN)))] (4 + 21 * i) (229 + 1554 * i) 52 [] := by
                intro lq
                induction lq with
                | zero =>
                  intro i w3 S2 lh hX3 hI hadd
                  refine z_iload X dX0_sorts_52 0 rfl ?_
                  refine z_iload_n X dX0_sorts_54 rfl 4 rfl ?_
                  refine z_icmp_ge_t (tgt := 180) X dX0_sorts_55 (by decide) ((nI_leI (by omega) (by omega)).mpr (by omega)) ?_
                  refine z_iload_n X dX0_sorts_180 rfl 4 rfl ?_
                  refine z_iconst (v := nI (4)) X dX0_sorts_181 ci4 ?_
                  refine z_idiv (v := nI (nN / 4)) X dX0_sorts_182 (by decide) (pk_div (by omega) (by omega) (by omega)) ?_
                  have ex : (i, S2) = _ := hadd
                  have e : spSorts o (nI sN) (nI nN) = (nI (nN / 4), oW o S2) := by
                    unfold spSorts
                    rw [el_some (by assumption), if_neg (by omega), if_neg (by omega), el_some (rgb_nI (by omega) (by omega)), if_pos (by omega), ← ex, show nN / 4 = i by omega]
                  exact z_iret X dX0_sorts_183 (by omega) (by omega) ⟨_, rfl, (by rw [e]; exact ⟨⟨_, _, rfl, hX3⟩, rfl⟩)⟩
                | succ lq ih =>
                  intro i w3 S2 lh hX3 hI hadd
                  obtain ⟨f3, hr3, ho3, he3x⟩ := hX3.row1 (s := sN) (by omega) hkr
                  have he3 : ∀ i, i < o.2.2.2.1 2 sN → f3 i = o.2.2.2.2.1 sN i := he3x
                  have hsum := hI.2.2.2.1
                  have h6 := hI.2.1
                  refine z_iload X dX0_sorts_52 0 rfl ?_
                  refine z_iload_n X dX0_sorts_54 rfl 4 rfl ?_
                  refine z_icmp_ge_f (tgt := 180) X dX0_sorts_55 (by decide) (fun h => absurd ((nI_leI (by omega) (by omega)).mp h) (by omega)) ?_
                  refine z_aload_n X dX0_sorts_58 rfl 1 rfl ?_
                  refine z_iload X dX0_sorts_59 0 rfl ?_
                  refine z_iconst (v := nI (1)) X dX0_sorts_61 ci1 ?_
                  refine z_iadd (v := nI (4 * i + 1)) X dX0_sorts_62 (nI_add _ _) ?_
                  refine z_xi (z_runXS (rest := []) (n := 2) X [.ref (xa (40 + sN)), .int (nI (4 * i + 1))] (m_X0_part hl (k := o.2.2.2.1 1 sN) (n := o.2.2.2.1 2 sN) (f := f3) hqr.2.1 hr3 ho3 hqr.2.2.1 (i := 4 * i + 1) (by omega)) dX0_sorts_63 (lw_S q790 q791 q66 q792) hs_X0_part rfl ⟨Nat.le_of_ble_eq_true rfl, Nat.le_of_ble_eq_true rfl⟩ ⟨by omega, by omega⟩ rfl (Nat.le_of_ble_eq_true rfl)) (fun r77 w79 h78 => ?_) (fun E80 qz81 w83 h82 => ?_)
                  · have hn9 := h78
                    obtain ⟨r77e, rfl⟩ := h78
                    rw [he3 (4 * i + 1) (by omega)] at r77e
                    rw [r77e]
                    refine z_istore (lv2 := [(5, .int (partV ((o.2.2.2.2.1 sN) (4 * i + 1)))), (4, .int (nI (4 * i))), (3, .ref (xa (40 + sN))), (0, .ref (xa 0)), (1, .int (nI (sN))), (2, .int (nI (nN)))]) X dX0_sorts_66 (Nat.le_of_ble_eq_true rfl) rfl ?_
                    refine z_aload_n X dX0_sorts_68 rfl 2 rfl ?_
                    refine z_iload X dX0_sorts_69 1 rfl ?_
                    refine z_xi (z_runXS (rest := []) (n := 2) X [.ref (xa (40 + sN)), .int (nI (4 * i))] (m_X0_part hl (k := o.2.2.2.1 1 sN) (n := o.2.2.2.1 2 sN) (f := f3) hqr.2.1 hr3 ho3 hqr.2.2.1 (i := 4 * i) (by omega)) dX0_sorts_71 (lw_S q790 q791 q66 q792) hs_X0_part rfl ⟨Nat.le_of_ble_eq_true rfl, Nat.le_of_ble_eq_true rfl⟩ ⟨by omega, by omega⟩ rfl (Nat.le_of_ble_eq_true rfl)) (fun r84 w86 h85 => ?_) (fun E87 qz88 w90 h89 => ?_)
                    · have hn9 := h85
                      obtain ⟨r84e, rfl⟩ := h85
                      rw [he3 (4 * i) (by omega)] at r84e
                      rw [r84e]
                      refine z_iload X dX0_sorts_74 0 rfl ?_
                      refine z_aload_n X dX0_sorts_76 rfl 2 rfl ?_
                      refine z_iload X dX0_sorts_77 1 rfl ?_
                      refine z_iconst (v := nI (2)) X dX0_sorts_79 ci2 ?_
                      refine z_iadd (v := nI (4 * i + 2)) X dX0_sorts_80 (nI_add _ _) ?_
                      refine z_xi (z_runXS (rest := [.int (partV ((o.2.2.2.2.1 sN) (4 * i + 1))), .int (partV ((o.2.2.2.2.1 sN) (4 * i)))]) (n := 2) X [.ref (xa (40 + sN)), .int (nI (4 * i + 2))] (m_X0_part hl (k := o.2.2.2.1 1 sN) (n := o.2.2.2.1 2 sN) (f := f3) hqr.2.1 hr3 ho3 hqr.2.2.1 (i := 4 * i + 2) (by omega)) dX0_sorts_81 (lw_S q790 q791 q66 q792) hs_X0_part rfl ⟨Nat.le_of_ble_eq_true rfl, Nat.le_of_ble_eq_true rfl⟩ ⟨by omega, by omega⟩ rfl (Nat.le_of_ble_eq_true rfl)) (fun r91 w93 h92 => ?_) (fun E94 qz95 w97 h96 => ?_)
                      · have hn9 := h92
                        obtain ⟨r91e, rfl⟩ := h92
                        rw [he3 (4 * i + 2) (by omega)] at r91e
                        rw [r91e]
                        refine z_aload_n X dX0_sorts_84 rfl 2 rfl ?_
                        refine z_iload X dX0_sorts_85 1 rfl ?_
                        refine z_iconst (v := nI (3)) X dX0_sorts_87 ci3 ?_
                        refine z_iadd (v := nI (4 * i + 3)) X dX0_sorts_88 (nI_add _ _) ?_
                        refine z_xi (z_runXS (rest := [.int (partV ((o.2.2.2.2.1 sN) (4 * i + 2))), .int (partV ((o.2.2.2.2.1 sN) (4 * i + 1))), .int (partV ((o.2.2.2.2.1 sN) (4 * i)))]) (n := 2) X [.ref (xa (40 + sN)), .int (nI (4 * i + 3))] (m_X0_part hl (k := o.2.2.2.1 1 sN) (n := o.2.2.2.1 2 sN) (f := f3) hqr.2.1 hr3 ho3 hqr.2.2.1 (i := 4 * i + 3) (by omega)) dX0_sorts_89 (lw_S q790 q791 q66 q792) hs_X0_part rfl ⟨Nat.le_of_ble_eq_true rfl, Nat.le_of_ble_eq_true rfl⟩ ⟨by omega, by omega⟩ rfl (Nat.le_of_ble_eq_true rfl)) (fun r98 w100 h99 => ?_) (fun E101 qz102 w104 h103 => ?_)
                        · have hn9 := h99
                          obtain ⟨r98e, rfl⟩ := h99
                          rw [he3 (4 * i + 3) (by omega)] at r98e
                          rw [r98e]
                          refine z_cip (z_runS (rest := []) (n := 4) X [.int (partV ((o.2.2.2.2.1 sN) (4 * i))), .int (partV ((o.2.2.2.2.1 sN) (4 * i + 1))), .int (partV ((o.2.2.2.2.1 sN) (4 * i + 2))), .int (partV ((o.2.2.2.2.1 sN) (4 * i + 3)))] m_X0_mayBe dX0_sorts_92 (lw_S q778 q779 q66 q780) hs_X0_mayBe rfl ⟨Nat.le_of_ble_eq_true rfl, Nat.le_of_ble_eq_true rfl⟩ ⟨by omega, by omega⟩ rfl (Nat.le_of_ble_eq_true rfl)) ?_
                          refine z_istore (lv2 := [(6, .int (bI (decide (mayP (partV ((o.2.2.2.2.1 sN) (4 * i))) (partV ((o.2.2.2.2.1 sN) (4 * i + 1))) (partV ((o.2.2.2.2.1 sN) (4 * i + 2))) (partV ((o.2.2.2.2.1 sN) (4 * i + 3))))))), (5, .int (partV ((o.2.2.2.2.1 sN) (4 * i + 1)))), (4, .int (nI (4 * i))), (3, .ref (xa (40 + sN))), (0, .ref (xa 0)), (1, .int (nI (sN))), (2, .int (nI (nN)))]) X dX0_sorts_95 (Nat.le_of_ble_eq_true rfl) rfl ?_
                          refine z_iload X dX0_sorts_97 0 rfl ?_
                          refine z_if_eq (tgt := 135) X dX0_sorts_99 (by decide) bI_d (fun c105 => ?_) (fun c105 => ?_)
                          · refine z_iload X dX0_sorts_135 2 rfl ?_
                            refine z_iconst (v := nI (4)) X dX0_sorts_137 ci4 ?_
                            refine z_idiv (v := nI ((4 * i) / 4)) X dX0_sorts_138 (by decide) (pk_div (by omega) (by omega) (by omega)) ?_
                            have ea : addK S2 ((o.2.2.2.2.1 sN) (4 * i)) ((o.2.2.2.2.1 sN) (4 * i + 1)) ((o.2.2.2.2.1 sN) (4 * i + 2)) ((o.2.2.2.2.1 sN) (4 * i + 3)) = 2 := addK_P (by assumption)
                            have ex := (adds_no (n := lq) ea (by decide)).symm.trans hadd
                            have e : spSorts o (nI sN) (nI nN) = (nI ((4 * i) / 4), oW o S2) := by
                              unfold spSorts
                              rw [el_some (by assumption), if_neg (by omega), if_neg (by omega), el_some (rgb_nI (by omega) (by omega)), if_pos (by omega), ← ex, show (4 * i) / 4 = i by omega]
                            exact z_iret X dX0_sorts_139 (by omega) (by omega) ⟨_, rfl, (by rw [e]; exact ⟨⟨_, _, rfl, hX3⟩, rfl⟩)⟩
                          · have c105 := Classical.not_not.mp c105
                            have hm := c105
                            obtain ⟨zN, zl, zh, ez, pz⟩ := partV_in (lo := 0) (hi := 2) (by decide) (by decide) hm.1
                            obtain ⟨cN, cl, ch, ec, pc⟩ := partV_in (lo := 0) (hi := 100) (by decide) (by decide) hm.2.1
                            obtain ⟨vN, vl, vh, ev, pv⟩ := partV_in (lo := 1) (hi := 99) (by decide) (by decide) hm.2.2.1
                            obtain ⟨bN, bl, bh, eb, pb⟩ := partV_in (lo := 0) (hi := 99) (by decide) (by decide) hm.2.2.2
                            refine Z.lv [1, 2, 3, 4, 5, 6] rfl ?_
                            rw [pc]
                            have hK := addK_L (S := S2) zh ch vl vh bh
                            rw [← ez, ← ec, ← ev, ← eb] at hK
                            refine z_aload_n X dX0_sorts_102 rfl 3 rfl ?_
                            refine z_get X dX0_sorts_103 hX3.ob in_X0 rfl 0 (Nat.le_of_ble_eq_true rfl) q233 rfl ?_
                            refine z_get X dX0_sorts_106 hX3.day in_X1 rfl 0 (Nat.le_of_ble_eq_true rfl) q190 rfl ?_
                            refine z_cip (z_runV (rest := []) (n := 0) X [] (m_X2_all hX3.wall hI) dX0_sorts_109 (wl_o hX3.wall) rfl (lw_V q781 q621 q622 q68 q623) hv_X2_all rfl ⟨Nat.le_of_ble_eq_true rfl, Nat.le_of_ble_eq_true rfl⟩ ⟨by omega, by omega⟩ rfl (Nat.le_of_ble_eq_true rfl)) ?_
                            refine z_iload X dX0_sorts_112 0 rfl ?_
                            refine z_iadd (v := nI (sumTo (S2.1 4) (S2.2 0) + cN)) X dX0_sorts_114 (nI_add _ _) ?_
                            refine z_bipush (v := nI (100)) X dX0_sorts_115 (by decide) ?_
                            refine z_icmp_gt (tgt := 135) X dX0_sorts_117 (by decide) (nI_ltI (by omega) (by omega)) (fun c106 => ?_) (fun c106 => ?_)
                            · refine z_iload X dX0_sorts_135 1 rfl ?_
                              refine z_iconst (v := nI (4)) X dX0_sorts_137 ci4 ?_
                              refine z_idiv (v := nI ((4 * i) / 4)) X dX0_sorts_138 (by decide) (pk_div (by omega) (by omega) (by omega)) ?_
                              have ea : addK S2 ((o.2.2.2.2.1 sN) (4 * i)) ((o.2.2.2.2.1 sN) (4 * i + 1)) ((o.2.2.2.2.1 sN) (4 * i + 2)) ((o.2.2.2.2.1 sN) (4 * i + 3)) = 5 := by rw [hK, if_pos (by omega)]
                              have ex := (adds_no (n := lq) ea (by decide)).symm.trans hadd
                              have e : spSorts o (nI sN) (nI nN) = (nI ((4 * i) / 4), oW o S2) := by
                                unfold spSorts
                                rw [el_some (by assumption), if_neg (by omega), if_neg (by omega), el_some (rgb_nI (by omega) (by omega)), if_pos (by omega), ← ex, show (4 * i) / 4 = i by omega]
                              exact z_iret X dX0_sorts_139 (by omega) (by omega) ⟨_, rfl, (by rw [e]; exact ⟨⟨_, _, rfl, hX3⟩, rfl⟩)⟩
                            · refine z_aload_n X dX0_sorts_120 rfl 3 rfl ?_
                              refine z_get X dX0_sorts_121 hX3.ob in_X0 rfl 0 (Nat.le_of_ble_eq_true rfl) q233 rfl ?_
                              refine z_get X dX0_sorts_124 hX3.day in_X1 rfl 0 (Nat.le_of_ble_eq_true rfl) q190 rfl ?_
                              refine z_get X dX0_sorts_127 (wl_o hX3.wall) in_X2 rfl 8 (Nat.le_of_ble_eq_true rfl) q156 rfl ?_
                              rw [show (oW o S2).1.2 0 = S2.2 0 from rfl]
                              refine z_bipush (v := nI (6)) X dX0_sorts_130 (by decide) ?_
                              refine z_icmp_ne (tgt := 140) X dX0_sorts_132 (by decide) (nI_eq (by omega) (by omega)) (fun c107 => ?_) (fun c107 => ?_)
                              · refine z_aload_n X dX0_sorts_140 rfl 3 rfl ?_
                                refine z_get X dX0_sorts_141 hX3.ob in_X0 rfl 0 (Nat.le_of_ble_eq_true rfl) q233 rfl ?_
                                refine z_get X dX0_sorts_144 hX3.day in_X1 rfl 0 (Nat.le_of_ble_eq_true rfl) q190 rfl ?_
                                refine z_aload_n X dX0_sorts_147 rfl 2 rfl ?_
                                refine z_iload X dX0_sorts_148 1 rfl ?_
                                refine z_xi (z_runXS (rest := [.ref (xa 5)]) (n := 2) X [.ref (xa (40 + sN)), .int (nI (4 * i))] (m_X0_part hl (k := o.2.2.2.1 1 sN) (n := o.2.2.2.1 2 sN) (f := f3) hqr.2.1 hr3 ho3 hqr.2.2.1 (i := 4 * i) (by omega)) dX0_sorts_150 (lw_S q790 q791 q66 q792) hs_X0_part rfl ⟨Nat.le_of_ble_eq_true rfl, Nat.le_of_ble_eq_true rfl⟩ ⟨by omega, by omega⟩ rfl (Nat.le_of_ble_eq_true rfl)) (fun r108 w110 h109 => ?_) (fun E111 qz112 w114 h113 => ?_)
                                · have hn9 := h109
                                  obtain ⟨r108e, rfl⟩ := h109
                                  rw [he3 (4 * i) (by omega)] at r108e
                                  rw [r108e]
                                  rw [pz]
                                  refine z_iload X dX0_sorts_153 0 rfl ?_
                                  refine z_aload_n X dX0_sorts_155 rfl 2 rfl ?_
                                  refine z_iload X dX0_sorts_156 1 rfl ?_
                                  refine z_iconst (v := nI (2)) X dX0_sorts_158 ci2 ?_
                                  refine z_iadd (v := nI (4 * i + 2)) X dX0_sorts_159 (nI_add _ _) ?_
                                  refine z_xi (z_runXS (rest := [.int (nI (cN)), .int (nI (zN)), .ref (xa 5)]) (n := 2) X [.ref (xa (40 + sN)), .int (nI (4 * i + 2))] (m_X0_part hl (k := o.2.2.2.1 1 sN) (n := o.2.2.2.1 2 sN) (f := f3) hqr.2.1 hr3 ho3 hqr.2.2.1 (i := 4 * i + 2) (by omega)) dX0_sorts_160 (lw_S q790 q791 q66 q792) hs_X0_part rfl ⟨Nat.le_of_ble_eq_true rfl, Nat.le_of_ble_eq_true rfl⟩ ⟨by omega, by omega⟩ rfl (Nat.le_of_ble_eq_true rfl)) (fun r115 w117 h116 => ?_) (fun E118 qz119 w121 h120 => ?_)
                                  · have hn9 := h116
                                    obtain ⟨r115e, rfl⟩ := h116
                                    rw [he3 (4 * i + 2) (by omega)] at r115e
                                    rw [r115e]
                                    rw [pv]
                                    refine z_aload_n X dX0_sorts_163 rfl 2 rfl ?_
                                    refine z_iload X dX0_sorts_164 1 rfl ?_
                                    refine z_iconst (v := nI (3)) X dX0_sorts_166 ci3 ?_
                                    refine z_iadd (v := nI (4 * i + 3)) X dX0_sorts_167 (nI_add _ _) ?_
                                    refine z_xi (z_runXS (rest := [.int (nI (vN)), .int (nI (cN)), .int (nI (zN)), .ref (xa 5)]) (n := 2) X [.ref (xa (40 + sN)), .int (nI (4 * i + 3))] (m_X0_part hl (k := o.2.2.2.1 1 sN) (n := o.2.2.2.1 2 sN) (f := f3) hqr.2.1 hr3 ho3 hqr.2.2.1 (i := 4 * i + 3) (by omega)) dX0_sorts_168 (lw_S q790 q791 q66 q792) hs_X0_part rfl ⟨Nat.le_of_ble_eq_true rfl, Nat.le_of_ble_eq_true rfl⟩ ⟨by omega, by omega⟩ rfl (Nat.le_of_ble_eq_true rfl)) (fun r122 w124 h123 => ?_) (fun E125 qz126 w128 h127 => ?_)
                                    · have hn9 := h123
                                      obtain ⟨r122e, rfl⟩ := h123
                                      rw [he3 (4 * i + 3) (by omega)] at r122e
                                      rw [r122e]
                                      rw [pb]
                                      refine z_cv (z_runV (rest := []) (n := 4) X [.int (nI (zN)), .int (nI (cN)), .int (nI (vN)), .int (nI (bN))] (m_X2_adds hX3.wall (by show S2.2 0 < 6; omega) (p := zN) (q := cN) (r := vN) (t := bN)) dX0_sorts_171 (wl_o hX3.wall) rfl (lw_V q782 q783 q784 q68 q785) hv_X2_adds rfl ⟨Nat.le_of_ble_eq_true rfl, Nat.le_of_ble_eq_true rfl⟩ ⟨by omega, by omega⟩ rfl (Nat.le_of_ble_eq_true rfl)) (fun w131 h130 => ?_)
                                      obtain ⟨ha9, hf9⟩ := h130
                                      have hX9 := hX3.wl ha9 (hX3.norm.add (by show S2.2 0 < 6; omega)) (fun b e hb hx => hf9 b e hb (fun i hi => hx i hi))
                                      refine z_iinc (v := nI (4 * (i + 1))) (lv2 := [(4, .int (nI (4 * (i + 1)))), (5, .int (nI (cN))), (3, .ref (xa (40 + sN))), (0, .ref (xa 0)), (1, .int (nI (sN))), (2, .int (nI (nN)))]) X dX0_sorts_174 1 rfl adv4 (Nat.le_of_ble_eq_true rfl) rfl ?_
                                      refine z_goto (tgt := 52) X dX0_sorts_177 (by decide) ?_
                                      refine Z.lv [0, 2, 3, 4, 5] rfl ?_
                                      have ea : addK S2 ((o.2.2.2.2.1 sN) (4 * i)) ((o.2.2.2.2.1 sN) (4 * i + 1)) ((o.2.2.2.2.1 sN) (4 * i + 2)) ((o.2.2.2.2.1 sN) (4 * i + 3)) = 0 := by rw [hK, if_neg (by omega), if_neg (by omega)]
                                      have eS : addS S2 ((o.2.2.2.2.1 sN) (4 * i)) ((o.2.2.2.2.1 sN) (4 * i + 1)) ((o.2.2.2.2.1 sN) (4 * i + 2)) ((o.2.2.2.2.1 sN) (4 * i + 3)) = addN S2 zN cN vN bN := by rw [ez, ec, ev, eb, addS_L zh ch vh bh]
                                      have hI9 : wInv (addN S2 zN cN vN bN) := by rw [← addS_L zh ch vh bh]; exact addS_inv hI zh ⟨vl, vh⟩ bh (by omega) (by omega)
                                      exact Z.up (by omega) (by omega) (ih (i + 1) _ (addN S2 zN cN vN bN) (by omega) hX9 hI9 (by rw [← eS]; exact (adds_go ea).symm.trans hadd))
                                    · have hx9 := h127
                                      exact h127.elim
                                  · have hx9 := h120
                                    exact h120.elim
                                · have hx9 := h113
                                  exact h113.elim
                              · refine z_iload X dX0_sorts_135 1 rfl ?_
                                refine z_iconst (v := nI (4)) X dX0_sorts_137 ci4 ?_
                                refine z_idiv (v := nI ((4 * i) / 4)) X dX0_sorts_138 (by decide) (pk_div (by omega) (by omega) (by omega)) ?_
                                have ea : addK S2 ((o.2.2.2.2.1 sN) (4 * i)) ((o.2.2.2.2.1 sN) (4 * i + 1)) ((o.2.2.2.2.1 sN) (4 * i + 2)) ((o.2.2.2.2.1 sN) (4 * i + 3)) = 6 := by rw [hK, if_neg (by omega), if_pos (by omega)]
                                have ex := (adds_no (n := lq) ea (by decide)).symm.trans hadd
                                have e : spSorts o (nI sN) (nI nN) = (nI ((4 * i) / 4), oW o S2) := by
                                  unfold spSorts
                                  rw [el_some (by assumption), if_neg (by omega), if_neg (by omega), el_some (rgb_nI (by omega) (by omega)), if_pos (by omega), ← ex, show (4 * i) / 4 = i by omega]
                                exact z_iret X dX0_sorts_139 (by omega) (by omega) ⟨_, rfl, (by rw [e]; exact ⟨⟨_, _, rfl, hX3⟩, rfl⟩)⟩
                        · have hx9 := h103
                          exact h103.elim
                      · have hx9 := h96
                        exact h96.elim
                    · have hx9 := h89
                      exact h89.elim
                  · have hx9 := h82
                    exact h82.elim
              exact Z.up (by omega) (by omega) (ls (nN / 4) 0 _ _ (by omega) hX hI rfl)
            · have hx9 := h75
              obtain ⟨rfl, hi75, rfl⟩ := h75
              have hx75 := vp_nlt (by omega) hi75
              refine zt_catch X Y [(14, 36, 184, 122), (37, 139, 184, 122), (140, 183, 184, 122), (14, 36, 194, 136)] (37, 139, 194, 136) [(140, 183, 194, 136)] rfl (zp_c (zp_f rfl) (zp_c (zp_o [false, false, false, false, true, false, true, false, true, true] (by decide) q364 rfl) (zp_c (zp_f rfl) (zp_c (zp_f rfl) zp_n)))) rfl (by decide) q365 q380 rfl ?_
              refine z_astore_n (lv2 := [(3, .ref (qz74)), (0, .ref (xa 0)), (1, .int (nI (sN))), (2, .int (nI (nN)))]) X dX0_sorts_194 rfl (Nat.le_of_ble_eq_true rfl) rfl ?_
              refine z_aload_n X dX0_sorts_195 rfl 1 rfl ?_
              refine z_bipush (v := (-2)) X dX0_sorts_196 (by decide) ?_
              refine z_ci (z_runV (rest := []) (n := 1) X [.int ((-2))] (m_X0_no_2 hX) dX0_sorts_198 hX.ob rfl (lw_V q350 q352 qs2 q66 q353) hv_X0_no rfl ⟨Nat.le_of_ble_eq_true rfl, Nat.le_of_ble_eq_true rfl⟩ ⟨by omega, by omega⟩ rfl (Nat.le_of_ble_eq_true rfl)) (fun r132 w134 h133 => ?_)
              obtain ⟨r132e, hX133⟩ := h133
              rw [r132e]
              have e : spSorts o (nI sN) (nI nN) = ((-2), oRef o 2) := by
                unfold spSorts
                rw [el_some (by assumption), if_neg (by omega), if_neg (by omega), el_none (rgb_f (fun h => absurd ((nI_leI (by omega) (by omega)).mp h.2) (by omega)))]
                rfl
              exact z_iret X dX0_sorts_201 (by omega) (by omega) ⟨_, rfl, (by rw [e]; exact ⟨⟨_, _, rfl, hX133⟩, rfl⟩)⟩
        · refine z_aload_n X dX0_sorts_30 rfl 1 rfl ?_
          refine z_bipush (v := (-2)) X dX0_sorts_31 (by decide) ?_
          refine z_ci (z_runV (rest := []) (n := 1) X [.int ((-2))] (m_X0_no_2 hX) dX0_sorts_33 hX.ob rfl (lw_V q350 q352 qs2 q66 q353) hv_X0_no rfl ⟨Nat.le_of_ble_eq_true rfl, Nat.le_of_ble_eq_true rfl⟩ ⟨by omega, by omega⟩ rfl (Nat.le_of_ble_eq_true rfl)) (fun r135 w137 h136 => ?_)
          obtain ⟨r135e, hX136⟩ := h136
          rw [r135e]
          have e : spSorts o (nI sN) (nI nN) = ((-2), oRef o 2) := by
            unfold spSorts
            rw [el_some (by assumption), if_neg (by omega), if_neg (by omega)]
            by_cases hz : nN ≤ o.2.2.2.1 2 sN
            · rw [el_some (rgb_nI (by omega) (by omega)), if_neg (by omega)]; rfl
            · rw [el_none (rgb_f (fun h => hz ((nI_leI (by omega) (by omega)).mp h.2)))]; rfl
          exact z_iret X dX0_sorts_36 (by omega) (by omega) ⟨_, rfl, (by rw [e]; exact ⟨⟨_, _, rfl, hX136⟩, rfl⟩)⟩
    · have hx9 := h7
      obtain ⟨by9, ⟨rfl, hn7, rfl⟩, hb7⟩ := h7
      rcases hb7 with ⟨hk9, rfl⟩ | ⟨hk9, rfl⟩
      · have hX7 := XT.fresh hX hn7 (e := .inr (5, [.null, .null, .null, .null, .null, .int 0, .int (-3)]))
        refine zt_catch X Y [] (14, 36, 184, 122) [(37, 139, 184, 122), (140, 183, 184, 122), (14, 36, 194, 136), (37, 139, 194, 136), (140, 183, 194, 136)] rfl zp_n rfl (by decide) q364 q390 rfl ?_
        refine z_astore_n (lv2 := [(3, .ref (qz6)), (0, .ref (xa 0)), (1, .int (nI (sN))), (2, .int (n))]) X dX0_sorts_184 rfl (Nat.le_of_ble_eq_true rfl) rfl ?_
        refine z_aload_n X dX0_sorts_185 rfl 1 rfl ?_
        refine z_aload_n X dX0_sorts_186 rfl 0 rfl ?_
        refine z_get X dX0_sorts_187 gu_s in_X5 rfl 6 (Nat.le_of_ble_eq_true rfl) q410 rfl ?_
        refine z_ci (z_runV (rest := []) (n := 1) X [.int ((-3))] (m_X0_no_3 hX7) dX0_sorts_190 hX7.ob rfl (lw_V q350 q352 qs2 q66 q353) hv_X0_no rfl ⟨Nat.le_of_ble_eq_true rfl, Nat.le_of_ble_eq_true rfl⟩ ⟨by omega, by omega⟩ rfl (Nat.le_of_ble_eq_true rfl)) (fun r138 w140 h139 => ?_)
        obtain ⟨r138e, hX139⟩ := h139
        rw [r138e]
        have e : spSorts o (nI sN) n = ((-3), oRef o 3) := by
          unfold spSorts
          repeat (first | rw [el_some (by assumption)] | rw [el_none (by assumption)] | rw [if_pos (by omega)] | rw [if_neg (by omega)] | rw [if_pos (by assumption)] | rw [if_neg (ts_n (by assumption))])
          all_goals first | rfl | (exfalso; omega)
        exact z_iret X dX0_sorts_193 (by omega) (by omega) ⟨_, rfl, (by rw [e]; exact ⟨⟨_, _, rfl, hX139⟩, rfl⟩)⟩
      · have hX7 := XT.fresh hX hn7 (e := .inr (5, [.null, .null, .null, .null, .null, .int 0, .int (-4)]))
        refine zt_catch X Y [] (14, 36, 184, 122) [(37, 139, 184, 122), (140, 183, 184, 122), (14, 36, 194, 136), (37, 139, 194, 136), (140, 183, 194, 136)] rfl zp_n rfl (by decide) q364 q390 rfl ?_
        refine z_astore_n (lv2 := [(3, .ref (qz6)), (0, .ref (xa 0)), (1, .int (nI (sN))), (2, .int (n))]) X dX0_sorts_184 rfl (Nat.le_of_ble_eq_true rfl) rfl ?_
        refine z_aload_n X dX0_sorts_185 rfl 1 rfl ?_
        refine z_aload_n X dX0_sorts_186 rfl 0 rfl ?_
        refine z_get X dX0_sorts_187 gu_s in_X5 rfl 6 (Nat.le_of_ble_eq_true rfl) q410 rfl ?_
        refine z_ci (z_runV (rest := []) (n := 1) X [.int ((-4))] (m_X0_no_4 hX7) dX0_sorts_190 hX7.ob rfl (lw_V q350 q352 qs2 q66 q353) hv_X0_no rfl ⟨Nat.le_of_ble_eq_true rfl, Nat.le_of_ble_eq_true rfl⟩ ⟨by omega, by omega⟩ rfl (Nat.le_of_ble_eq_true rfl)) (fun r141 w143 h142 => ?_)
        obtain ⟨r141e, hX142⟩ := h142
        rw [r141e]
        have e : spSorts o (nI sN) n = ((-4), oRef o 4) := by
          unfold spSorts
          repeat (first | rw [el_some (by assumption)] | rw [el_none (by assumption)] | rw [if_pos (by omega)] | rw [if_neg (by omega)] | rw [if_pos (by assumption)] | rw [if_neg (ts_n (by assumption))])
          all_goals first | rfl | (exfalso; omega)
        exact z_iret X dX0_sorts_193 (by omega) (by omega) ⟨_, rfl, (by rw [e]; exact ⟨⟨_, _, rfl, hX142⟩, rfl⟩)⟩
  · have e2 : rgb 0 7 s = none := rgb_f c1
    refine z_aload_n X dX0_sorts_7 rfl 0 rfl ?_
    refine z_bipush (v := (-2)) X dX0_sorts_8 (by decide) ?_
    refine z_ci (z_runV (rest := []) (n := 1) X [.int ((-2))] (m_X0_no_2 hX) dX0_sorts_10 hX.ob rfl (lw_V q350 q352 qs2 q66 q353) hv_X0_no rfl ⟨Nat.le_of_ble_eq_true rfl, Nat.le_of_ble_eq_true rfl⟩ ⟨by omega, by omega⟩ rfl (Nat.le_of_ble_eq_true rfl)) (fun r144 w146 h145 => ?_)
    obtain ⟨r144e, hX145⟩ := h145
    rw [r144e]
    have e : spSorts o s n = ((-2), oRef o 2) := by
      unfold spSorts
      rw [el_none (by assumption)]
      rfl
    exact z_iret X dX0_sorts_13 (by omega) (by omega) ⟨_, rfl, (by rw [e]; exact ⟨⟨_, _, rfl, hX145⟩, rfl⟩)⟩
