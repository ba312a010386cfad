/-! x: sort -/
set_option maxRecDepth 100000
theorem rgl_lN {lo hi k : Nat} (h1 : lo ≤ k) (h2 : k ≤ hi) (hh : hi < 2 ^ 31) : rgl lo hi (lN k) = some k := by
  unfold rgl
  rw [if_pos ⟨(lN_le (by omega) (by omega)).mpr h1, (lN_le (by omega) hh).mpr h2⟩, tnl_lN (by omega)]
theorem rgl_no {lo hi : Nat} (hl : lo < 2 ^ 31) (hh : hi < 2 ^ 31) {v : Int32} (h : ¬ (nI lo ≤ v ∧ v ≤ nI hi)) : rgl lo hi v.toInt64 = none := by
  refine rgl_f fun q => h (in32.mp ?_)
  rw [nI_l hl, nI_l hh]
  exact q
theorem addK_N {S : WS} {z c v b : Nat} (hz : z ≤ 2) (hc : c ≤ 100) (hv1 : 1 ≤ v) (hv : v ≤ 99) (hb : b ≤ 99) : addK S (nI z).toInt64 (nI c).toInt64 (nI v).toInt64 (nI b).toInt64 = if 100 < sumTo (S.1 4) (S.2 0) + c then 5 else if S.2 0 = 6 then 6 else 0 := by
  unfold addK
  rw [nI_l (by omega), nI_l (by omega), nI_l (by omega), nI_l (by omega), el_some (rgl_lN (Nat.zero_le _) hz (by omega)), el_some (rgl_lN (Nat.zero_le _) hc (by omega)), el_some (rgl_lN hv1 hv (by omega)), el_some (rgl_lN (Nat.zero_le _) hb (by omega))]
theorem addK_F {S : WS} {z c v b : Int32} (h : ¬ mayP z c v b) : addK S z.toInt64 c.toInt64 v.toInt64 b.toInt64 = 2 := by
  unfold addK
  by_cases h1 : nI 0 ≤ z ∧ z ≤ nI 2
  · obtain ⟨k1, -, k1h, rfl, -⟩ := rgb_t (lo := 0) (hi := 2) (by decide) (by decide) h1
    rw [nI_l (by omega), el_some (rgl_lN (Nat.zero_le _) k1h (by omega))]
    by_cases h2 : nI 0 ≤ c ∧ c ≤ nI 100
    · obtain ⟨k2, -, k2h, rfl, -⟩ := rgb_t (lo := 0) (hi := 100) (by decide) (by decide) h2
      rw [nI_l (by omega), el_some (rgl_lN (Nat.zero_le _) k2h (by omega))]
      by_cases h3 : nI 1 ≤ v ∧ v ≤ nI 99
      · obtain ⟨k3, k3l, k3h, rfl, -⟩ := rgb_t (lo := 1) (hi := 99) (by decide) (by decide) h3
        rw [nI_l (by omega), el_some (rgl_lN k3l k3h (by omega)), el_none (rgl_no (by omega) (by omega) (fun q => h ⟨h1, h2, h3, q⟩))]
      · rw [el_none (rgl_no (by omega) (by omega) h3)]
    · rw [el_none (rgl_no (by omega) (by omega) h2)]
  · rw [el_none (rgl_no (by omega) (by omega) h1)]
theorem addS_nI {S : WS} {z c v b : Nat} (hz : z ≤ 2) (hc : c ≤ 100) (hv : v ≤ 99) (hb : b ≤ 99) : addS S (nI z).toInt64 (nI c).toInt64 (nI v).toInt64 (nI b).toInt64 = addN S z c v b := by
  rw [addS_N, nI_l (by omega), nI_l (by omega), nI_l (by omega), nI_l (by omega), tnl_lN (by omega), tnl_lN (by omega), tnl_lN (by omega), tnl_lN (by omega)]
set_option maxHeartbeats 2000000 in
theorem x_sort {l : Launch} {G : GG} {w : GW} {xa : Nat → Nat} {rr : Option Nat} {o : OS} {im : IM} (hX : XT G w xa rr o im) (hO : oInv o) {z c v b : Int32} : gM l G yX0_sort cX0_sort 5 (some .int) 4 0 0 [.ref (xa 0), .int (z), .int (c), .int (v), .int (b)] w (pI (fun r w1 => XE G (xa 0) w1 (spSort o z c v b).2 im ∧ r = (spSort o z c v b).1)) := by
  refine Z.met (own := "ThreeSizes") (nm := "sort") (lv := [(0, .ref (xa 0)), (1, .int (z)), (2, .int (c)), (3, .int (v)), (4, .int (b))]) (by decide) rfl rfl (Nat.le_of_ble_eq_true rfl) rfl (fun κ X => ?_)
  have hI := hO.1
  have h6 := hI.2.1
  have ht200 := hO.2.2.2
  refine z_iload_n X dX0_sort_0 rfl 1 rfl ?_
  refine z_iload_n X dX0_sort_1 rfl 2 rfl ?_
  refine z_iload_n X dX0_sort_2 rfl 3 rfl ?_
  refine z_iload X dX0_sort_3 4 rfl ?_
  refine z_cip (z_runS (rest := []) (n := 4) X [.int (z), .int (c), .int (v), .int (b)] m_X0_mayBe dX0_sort_5 (lw_S q778 q779 q66 q780) hs_X0_mayBe rfl ⟨Nat.le_of_ble_eq_true rfl, Nat.le_of_ble_eq_true rfl⟩ ⟨by omega, by omega⟩ rfl (Nat.le_of_ble_eq_true rfl)) ?_
  refine z_if_ne (tgt := 18) X dX0_sort_8 (by decide) bI_d (fun c1 => ?_) (fun c1 => ?_)
  · have c1 := Classical.not_not.mp c1
    have hm : mayP z c v b := by assumption
    obtain ⟨zN, zl, zh, rfl, ez⟩ := rgb_t (lo := 0) (hi := 2) (by decide) (by decide) hm.1
    obtain ⟨cN, cl, ch, rfl, ec⟩ := rgb_t (lo := 0) (hi := 100) (by decide) (by decide) hm.2.1
    obtain ⟨vN, vl, vh, rfl, ev⟩ := rgb_t (lo := 1) (hi := 99) (by decide) (by decide) hm.2.2.1
    obtain ⟨bN, bl, bh, rfl, eb⟩ := rgb_t (lo := 0) (hi := 99) (by decide) (by decide) hm.2.2.2
    have hK := addK_N (S := o.1) zh ch vl vh bh
    have hsum := hI.2.2.2.1
    refine z_aload_n X dX0_sort_18 rfl 0 rfl ?_
    refine z_get X dX0_sort_19 hX.ob in_X0 rfl 0 (Nat.le_of_ble_eq_true rfl) q233 rfl ?_
    refine z_get X dX0_sort_22 hX.day in_X1 rfl 0 (Nat.le_of_ble_eq_true rfl) q190 rfl ?_
    refine z_cip (z_runV (rest := []) (n := 0) X [] (m_X2_all hX.wall hI) dX0_sort_25 (wl_o hX.wall) rfl (lw_V q781 q621 q622 q68 q623) hv_X2_all rfl ⟨Nat.le_of_ble_eq_true rfl, Nat.le_of_ble_eq_true rfl⟩ ⟨by omega, by omega⟩ rfl (Nat.le_of_ble_eq_true rfl)) ?_
    refine z_iload_n X dX0_sort_28 rfl 2 rfl ?_
    refine z_iadd (v := nI (sumTo (o.1.1 4) (o.1.2 0) + cN)) X dX0_sort_29 (nI_add _ _) ?_
    refine z_bipush (v := nI (100)) X dX0_sort_30 (by decide) ?_
    refine z_icmp_le (tgt := 42) X dX0_sort_32 (by decide) (nI_leI (by omega) (by omega)) (fun c2 => ?_) (fun c2 => ?_)
    · refine z_aload_n X dX0_sort_42 rfl 0 rfl ?_
      refine z_get X dX0_sort_43 hX.ob in_X0 rfl 0 (Nat.le_of_ble_eq_true rfl) q233 rfl ?_
      refine z_get X dX0_sort_46 hX.day in_X1 rfl 0 (Nat.le_of_ble_eq_true rfl) q190 rfl ?_
      refine z_get X dX0_sort_49 (wl_o hX.wall) in_X2 rfl 8 (Nat.le_of_ble_eq_true rfl) q156 rfl ?_
      refine z_bipush (v := nI (6)) X dX0_sort_52 (by decide) ?_
      refine z_icmp_ne (tgt := 64) X dX0_sort_54 (by decide) (nI_eq (by omega) (by omega)) (fun c3 => ?_) (fun c3 => ?_)
      · refine z_aload_n X dX0_sort_64 rfl 0 rfl ?_
        refine z_get X dX0_sort_65 hX.ob in_X0 rfl 0 (Nat.le_of_ble_eq_true rfl) q233 rfl ?_
        refine z_get X dX0_sort_68 hX.day in_X1 rfl 0 (Nat.le_of_ble_eq_true rfl) q190 rfl ?_
        refine z_iload_n X dX0_sort_71 rfl 1 rfl ?_
        refine z_iload_n X dX0_sort_72 rfl 2 rfl ?_
        refine z_iload_n X dX0_sort_73 rfl 3 rfl ?_
        refine z_iload X dX0_sort_74 4 rfl ?_
        refine z_cv (z_runV (rest := []) (n := 4) X [.int (nI (zN)), .int (nI (cN)), .int (nI (vN)), .int (nI (bN))] (m_X2_adds hX.wall (by omega) (p := zN) (q := cN) (r := vN) (t := bN)) dX0_sort_76 (wl_o hX.wall) rfl (lw_V q782 q783 q784 q68 q785) hv_X2_adds rfl ⟨Nat.le_of_ble_eq_true rfl, Nat.le_of_ble_eq_true rfl⟩ ⟨by omega, by omega⟩ rfl (Nat.le_of_ble_eq_true rfl)) (fun w6 h5 => ?_)
        obtain ⟨ha9, hf9⟩ := h5
        have hX9 := hX.wl ha9 (hX.norm.add (by omega)) (fun b e hb hx => hf9 b e hb (fun i hi => hx i hi))
        refine z_aload_n X dX0_sort_79 rfl 0 rfl ?_
        refine z_get X dX0_sort_80 hX9.ob in_X0 rfl 0 (Nat.le_of_ble_eq_true rfl) q233 rfl ?_
        refine z_get X dX0_sort_83 hX9.day in_X1 rfl 0 (Nat.le_of_ble_eq_true rfl) q190 rfl ?_
        refine z_get X dX0_sort_86 (wl_o hX9.wall) in_X2 rfl 8 (Nat.le_of_ble_eq_true rfl) q156 rfl ?_
        refine z_iconst (v := nI (1)) X dX0_sort_89 ci1 ?_
        refine z_isub (v := nI (o.1.2 0)) X dX0_sort_90 (pk_sub (by show 1 ≤ o.1.2 0 + 1; omega)) ?_
        have e : spSort o (nI zN) (nI cN) (nI vN) (nI bN) = (nI (o.1.2 0), (oW o (addN o.1 zN cN vN bN))) := by
          unfold spSort
          have hK2 : addK o.1 (nI zN).toInt64 (nI cN).toInt64 (nI vN).toInt64 (nI bN).toInt64 = 0 := by rw [hK, if_neg (by omega), if_neg (by omega)]
          rw [if_pos hK2, addS_nI zh ch vh bh]
        exact z_iret X dX0_sort_91 (by omega) (by omega) ⟨_, rfl, (by rw [e]; exact ⟨⟨_, _, rfl, hX9⟩, rfl⟩)⟩
      · refine z_aload_n X dX0_sort_57 rfl 0 rfl ?_
        refine z_bipush (v := (-6)) X dX0_sort_58 (by decide) ?_
        refine z_ci (z_runV (rest := []) (n := 1) X [.int ((-6))] (m_X0_no_6 hX) dX0_sort_60 hX.ob rfl (lw_V q350 q352 qs2 q66 q353) hv_X0_no rfl ⟨Nat.le_of_ble_eq_true rfl, Nat.le_of_ble_eq_true rfl⟩ ⟨by omega, by omega⟩ rfl (Nat.le_of_ble_eq_true rfl)) (fun r7 w9 h8 => ?_)
        obtain ⟨r7e, hX8⟩ := h8
        rw [r7e]
        have e : spSort o (nI zN) (nI cN) (nI vN) (nI bN) = ((-6), oRef o 6) := by
          unfold spSort
          have hK2 : addK o.1 (nI zN).toInt64 (nI cN).toInt64 (nI vN).toInt64 (nI bN).toInt64 = 6 := by rw [hK]; first | (rw [if_pos (by omega)]) | (rw [if_neg (by omega), if_pos (by omega)])
          rw [if_neg (by rw [hK2]; decide), hK2]; rfl
        exact z_iret X dX0_sort_63 (by omega) (by omega) ⟨_, rfl, (by rw [e]; exact ⟨⟨_, _, rfl, hX8⟩, rfl⟩)⟩
    · refine z_aload_n X dX0_sort_35 rfl 0 rfl ?_
      refine z_bipush (v := (-5)) X dX0_sort_36 (by decide) ?_
      refine z_ci (z_runV (rest := []) (n := 1) X [.int ((-5))] (m_X0_no_5 hX) dX0_sort_38 hX.ob rfl (lw_V q350 q352 qs2 q66 q353) hv_X0_no rfl ⟨Nat.le_of_ble_eq_true rfl, Nat.le_of_ble_eq_true rfl⟩ ⟨by omega, by omega⟩ rfl (Nat.le_of_ble_eq_true rfl)) (fun r10 w12 h11 => ?_)
      obtain ⟨r10e, hX11⟩ := h11
      rw [r10e]
      have e : spSort o (nI zN) (nI cN) (nI vN) (nI bN) = ((-5), oRef o 5) := by
        unfold spSort
        have hK2 : addK o.1 (nI zN).toInt64 (nI cN).toInt64 (nI vN).toInt64 (nI bN).toInt64 = 5 := by rw [hK]; first | (rw [if_pos (by omega)]) | (rw [if_neg (by omega), if_pos (by omega)])
        rw [if_neg (by rw [hK2]; decide), hK2]; rfl
      exact z_iret X dX0_sort_41 (by omega) (by omega) ⟨_, rfl, (by rw [e]; exact ⟨⟨_, _, rfl, hX11⟩, rfl⟩)⟩
  · refine z_aload_n X dX0_sort_11 rfl 0 rfl ?_
    refine z_bipush (v := (-2)) X dX0_sort_12 (by decide) ?_
    refine z_ci (z_runV (rest := []) (n := 1) X [.int ((-2))] (m_X0_no_2 hX) dX0_sort_14 hX.ob rfl (lw_V q350 q352 qs2 q66 q353) hv_X0_no rfl ⟨Nat.le_of_ble_eq_true rfl, Nat.le_of_ble_eq_true rfl⟩ ⟨by omega, by omega⟩ rfl (Nat.le_of_ble_eq_true rfl)) (fun r13 w15 h14 => ?_)
    obtain ⟨r13e, hX14⟩ := h14
    rw [r13e]
    have e : spSort o z c v b = ((-2), oRef o 2) := by
      unfold spSort
      rw [addK_F (by assumption)]; rfl
    exact z_iret X dX0_sort_17 (by omega) (by omega) ⟨_, rfl, (by rw [e]; exact ⟨⟨_, _, rfl, hX14⟩, rfl⟩)⟩
