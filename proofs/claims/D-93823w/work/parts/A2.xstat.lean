/-! x: status -/
set_option maxRecDepth 100000
set_option maxHeartbeats 2000000 in
theorem x_status {l : Launch} {G : GG} {w : GW} {xa : Nat → Nat} {rr : Option Nat} {o : OS} {im : IM} (hX : XT G w xa rr o im) (hO : oInv o) {w_ : Int32} : gM l G yX0_status cX0_status 2 (some .int) 6 0 0 [.ref (xa 0), .int (w_)] w (pI (fun r w1 => r = spStatus o w_ ∧ w1 = w)) := by
  refine Z.met (own := "ThreeSizes") (nm := "status") (lv := [(0, .ref (xa 0)), (1, .int (w_))]) (by decide) rfl rfl (Nat.le_of_ble_eq_true rfl) rfl (fun κ X => ?_)
  have hI := hO.1
  have h6 := hI.2.1
  have ht200 := hO.2.2.2
  obtain ⟨frfd, hfrfd, hvrfd⟩ := hX.rfd
  have b0 := hI.1 0 (by omega)
  have b1 := hI.1 1 (by omega)
  have b2 := hI.1 2 (by omega)
  have hl8 := heldTo_le o 8
  refine z_iload_n X dX0_status_0 rfl 1 rfl ?_
  refine z_bipush (v := nI (12)) X dX0_status_1 (by decide) ?_
  refine z_bipush (v := nI (16)) X dX0_status_3 (by decide) ?_
  refine z_cip (z_runS (rest := []) (n := 3) X [.int (w_), .int (nI (12)), .int (nI (16))] m_X0_isIn dX0_status_5 (lw_S q347 q348 q66 q349) hs_X0_isIn rfl ⟨Nat.le_of_ble_eq_true rfl, Nat.le_of_ble_eq_true rfl⟩ ⟨by omega, by omega⟩ rfl (Nat.le_of_ble_eq_true rfl)) ?_
  refine z_if_eq (tgt := 21) X dX0_status_8 (by decide) bI_d (fun c1 => ?_) (fun c1 => ?_)
  · have e1 : rgb 12 16 w_ = none := rgb_f c1
    refine z_iload_n X dX0_status_21 rfl 1 rfl ?_
    refine z_iconst (v := nI (1)) X dX0_status_22 ci1 ?_
    refine z_bipush (v := nI (6)) X dX0_status_23 (by decide) ?_
    refine z_cip (z_runS (rest := []) (n := 3) X [.int (w_), .int (nI (1)), .int (nI (6))] m_X0_isIn dX0_status_25 (lw_S q347 q348 q66 q349) hs_X0_isIn rfl ⟨Nat.le_of_ble_eq_true rfl, Nat.le_of_ble_eq_true rfl⟩ ⟨by omega, by omega⟩ rfl (Nat.le_of_ble_eq_true rfl)) ?_
    refine z_if_eq (tgt := 68) X dX0_status_28 (by decide) bI_d (fun c2 => ?_) (fun c2 => ?_)
    · have e2 : rgb 1 6 w_ = none := rgb_f c2
      refine z_iload_n X dX0_status_68 rfl 1 rfl ?_
      by_cases c3 : nI 0 ≤ w_ ∧ w_ ≤ nI 11
      · obtain ⟨w_N, w_Nl, w_Nh, rfl, e3⟩ := rgb_t (lo := 0) (hi := 11) (by decide) (by decide) c3
        rcases (show w_N = 0 ∨ w_N = 1 ∨ w_N = 2 ∨ w_N = 3 ∨ w_N = 4 ∨ w_N = 5 ∨ w_N = 6 ∨ w_N = 7 ∨ w_N = 8 ∨ w_N = 9 ∨ w_N = 10 ∨ w_N = 11 by omega) with rfl | rfl | rfl | rfl | rfl | rfl | rfl | rfl | rfl | rfl | rfl | rfl
        · skip
          refine z_tabIn (off := 63) (tgt := 132) X dX0_status_69 (by decide) (by decide) (by decide) (by decide) ?_
          refine z_aload_n X dX0_status_132 rfl 0 rfl ?_
          refine z_get X dX0_status_133 hX.ob in_X0 rfl 0 (Nat.le_of_ble_eq_true rfl) q233 rfl ?_
          refine z_get X dX0_status_136 hX.day in_X1 rfl 0 (Nat.le_of_ble_eq_true rfl) q190 rfl ?_
          refine z_get X dX0_status_139 (wl_o hX.wall) in_X2 rfl 8 (Nat.le_of_ble_eq_true rfl) q156 rfl ?_
          have e : spStatus o (nI 0) = nI (o.1.2 0) := by
            unfold spStatus
            repeat (first | rw [el_some (by assumption)] | rw [el_none (by assumption)] | rw [if_pos (by omega)] | rw [if_neg (by omega)] | rw [if_pos (by assumption)] | rw [if_neg (ts_n (by assumption))])
            all_goals first | rfl | exact absurd e2 (by decide) | exact absurd c2 (by decide) | (exfalso; omega)
          exact z_iret X dX0_status_142 (by omega) (by omega) ⟨_, rfl, ⟨e.symm, rfl⟩⟩
        · skip
          refine z_tabIn (off := 114) (tgt := 183) X dX0_status_69 (by decide) (by decide) (by decide) (by decide) ?_
          refine z_iconst (v := -1) X dX0_status_183 cim1 ?_
          have e : spStatus o (nI 1) = -1 := by
            unfold spStatus
            repeat (first | rw [el_some (by assumption)] | rw [el_none (by assumption)] | rw [if_pos (by omega)] | rw [if_neg (by omega)] | rw [if_pos (by assumption)] | rw [if_neg (ts_n (by assumption))])
            all_goals first | rfl | exact absurd e2 (by decide) | exact absurd c2 (by decide) | (exfalso; omega)
          exact z_iret X dX0_status_184 (by omega) (by omega) ⟨_, rfl, ⟨e.symm, rfl⟩⟩
        · skip
          refine z_tabIn (off := 114) (tgt := 183) X dX0_status_69 (by decide) (by decide) (by decide) (by decide) ?_
          refine z_iconst (v := -1) X dX0_status_183 cim1 ?_
          have e : spStatus o (nI 2) = -1 := by
            unfold spStatus
            repeat (first | rw [el_some (by assumption)] | rw [el_none (by assumption)] | rw [if_pos (by omega)] | rw [if_neg (by omega)] | rw [if_pos (by assumption)] | rw [if_neg (ts_n (by assumption))])
            all_goals first | rfl | exact absurd e2 (by decide) | exact absurd c2 (by decide) | (exfalso; omega)
          exact z_iret X dX0_status_184 (by omega) (by omega) ⟨_, rfl, ⟨e.symm, rfl⟩⟩
        · skip
          refine z_tabIn (off := 114) (tgt := 183) X dX0_status_69 (by decide) (by decide) (by decide) (by decide) ?_
          refine z_iconst (v := -1) X dX0_status_183 cim1 ?_
          have e : spStatus o (nI 3) = -1 := by
            unfold spStatus
            repeat (first | rw [el_some (by assumption)] | rw [el_none (by assumption)] | rw [if_pos (by omega)] | rw [if_neg (by omega)] | rw [if_pos (by assumption)] | rw [if_neg (ts_n (by assumption))])
            all_goals first | rfl | exact absurd e2 (by decide) | exact absurd c2 (by decide) | (exfalso; omega)
          exact z_iret X dX0_status_184 (by omega) (by omega) ⟨_, rfl, ⟨e.symm, rfl⟩⟩
        · skip
          refine z_tabIn (off := 114) (tgt := 183) X dX0_status_69 (by decide) (by decide) (by decide) (by decide) ?_
          refine z_iconst (v := -1) X dX0_status_183 cim1 ?_
          have e : spStatus o (nI 4) = -1 := by
            unfold spStatus
            repeat (first | rw [el_some (by assumption)] | rw [el_none (by assumption)] | rw [if_pos (by omega)] | rw [if_neg (by omega)] | rw [if_pos (by assumption)] | rw [if_neg (ts_n (by assumption))])
            all_goals first | rfl | exact absurd e2 (by decide) | exact absurd c2 (by decide) | (exfalso; omega)
          exact z_iret X dX0_status_184 (by omega) (by omega) ⟨_, rfl, ⟨e.symm, rfl⟩⟩
        · skip
          refine z_tabIn (off := 114) (tgt := 183) X dX0_status_69 (by decide) (by decide) (by decide) (by decide) ?_
          refine z_iconst (v := -1) X dX0_status_183 cim1 ?_
          have e : spStatus o (nI 5) = -1 := by
            unfold spStatus
            repeat (first | rw [el_some (by assumption)] | rw [el_none (by assumption)] | rw [if_pos (by omega)] | rw [if_neg (by omega)] | rw [if_pos (by assumption)] | rw [if_neg (ts_n (by assumption))])
            all_goals first | rfl | exact absurd e2 (by decide) | exact absurd c2 (by decide) | (exfalso; omega)
          exact z_iret X dX0_status_184 (by omega) (by omega) ⟨_, rfl, ⟨e.symm, rfl⟩⟩
        · skip
          refine z_tabIn (off := 114) (tgt := 183) X dX0_status_69 (by decide) (by decide) (by decide) (by decide) ?_
          refine z_iconst (v := -1) X dX0_status_183 cim1 ?_
          have e : spStatus o (nI 6) = -1 := by
            unfold spStatus
            repeat (first | rw [el_some (by assumption)] | rw [el_none (by assumption)] | rw [if_pos (by omega)] | rw [if_neg (by omega)] | rw [if_pos (by assumption)] | rw [if_neg (ts_n (by assumption))])
            all_goals first | rfl | exact absurd e2 (by decide) | exact absurd c2 (by decide) | (exfalso; omega)
          exact z_iret X dX0_status_184 (by omega) (by omega) ⟨_, rfl, ⟨e.symm, rfl⟩⟩
        · skip
          refine z_tabIn (off := 74) (tgt := 143) X dX0_status_69 (by decide) (by decide) (by decide) (by decide) ?_
          refine z_aload_n X dX0_status_143 rfl 0 rfl ?_
          refine z_get X dX0_status_144 hX.ob in_X0 rfl 4 (Nat.le_of_ble_eq_true rfl) q237 rfl ?_
          have e : spStatus o (nI 7) = nI (o.2.2.2.2.2.2.1) := by
            unfold spStatus
            repeat (first | rw [el_some (by assumption)] | rw [el_none (by assumption)] | rw [if_pos (by omega)] | rw [if_neg (by omega)] | rw [if_pos (by assumption)] | rw [if_neg (ts_n (by assumption))])
            all_goals first | rfl | exact absurd e2 (by decide) | exact absurd c2 (by decide) | (exfalso; omega)
          exact z_iret X dX0_status_147 (by omega) (by omega) ⟨_, rfl, ⟨e.symm, rfl⟩⟩
        · skip
          refine z_tabIn (off := 79) (tgt := 148) X dX0_status_69 (by decide) (by decide) (by decide) (by decide) ?_
          refine z_aload_n X dX0_status_148 rfl 0 rfl ?_
          refine z_get X dX0_status_149 hX.ob in_X0 rfl 0 (Nat.le_of_ble_eq_true rfl) q233 rfl ?_
          refine z_get X dX0_status_152 hX.day in_X1 rfl 1 (Nat.le_of_ble_eq_true rfl) q192 rfl ?_
          have e : spStatus o (nI 8) = o.2.2.1 := by
            unfold spStatus
            repeat (first | rw [el_some (by assumption)] | rw [el_none (by assumption)] | rw [if_pos (by omega)] | rw [if_neg (by omega)] | rw [if_pos (by assumption)] | rw [if_neg (ts_n (by assumption))])
            all_goals first | rfl | exact absurd e2 (by decide) | exact absurd c2 (by decide) | (exfalso; omega)
          exact z_iret X dX0_status_155 (by omega) (by omega) ⟨_, rfl, ⟨e.symm, rfl⟩⟩
        · skip
          refine z_tabIn (off := 87) (tgt := 156) X dX0_status_69 (by decide) (by decide) (by decide) (by decide) ?_
          refine z_aload_n X dX0_status_156 rfl 0 rfl ?_
          refine z_cip (z_runV (rest := []) (n := 0) X [] (m_X0_held hX hO) dX0_status_157 hX.ob rfl (lw_V q1408 q1410 qs26 q66 q1411) hv_X0_held rfl ⟨Nat.le_of_ble_eq_true rfl, Nat.le_of_ble_eq_true rfl⟩ ⟨by omega, by omega⟩ rfl (Nat.le_of_ble_eq_true rfl)) ?_
          have e : spStatus o (nI 9) = nI (heldTo o 8) := by
            unfold spStatus
            repeat (first | rw [el_some (by assumption)] | rw [el_none (by assumption)] | rw [if_pos (by omega)] | rw [if_neg (by omega)] | rw [if_pos (by assumption)] | rw [if_neg (ts_n (by assumption))])
            all_goals first | rfl | exact absurd e2 (by decide) | exact absurd c2 (by decide) | (exfalso; omega)
          exact z_iret X dX0_status_160 (by omega) (by omega) ⟨_, rfl, ⟨e.symm, rfl⟩⟩
        · skip
          refine z_tabIn (off := 92) (tgt := 161) X dX0_status_69 (by decide) (by decide) (by decide) (by decide) ?_
          refine z_aload_n X dX0_status_161 rfl 0 rfl ?_
          refine z_get X dX0_status_162 hX.ob in_X0 rfl 0 (Nat.le_of_ble_eq_true rfl) q233 rfl ?_
          refine z_get X dX0_status_165 hX.day in_X1 rfl 0 (Nat.le_of_ble_eq_true rfl) q190 rfl ?_
          refine z_get X dX0_status_168 (wl_o hX.wall) in_X2 rfl 9 (Nat.le_of_ble_eq_true rfl) q160 rfl ?_
          have e : spStatus o (nI 10) = nI (o.1.2 1) := by
            unfold spStatus
            repeat (first | rw [el_some (by assumption)] | rw [el_none (by assumption)] | rw [if_pos (by omega)] | rw [if_neg (by omega)] | rw [if_pos (by assumption)] | rw [if_neg (ts_n (by assumption))])
            all_goals first | rfl | exact absurd e2 (by decide) | exact absurd c2 (by decide) | (exfalso; omega)
          exact z_iret X dX0_status_171 (by omega) (by omega) ⟨_, rfl, ⟨e.symm, rfl⟩⟩
        · skip
          refine z_tabIn (off := 103) (tgt := 172) X dX0_status_69 (by decide) (by decide) (by decide) (by decide) ?_
          refine z_aload_n X dX0_status_172 rfl 0 rfl ?_
          refine z_get X dX0_status_173 hX.ob in_X0 rfl 0 (Nat.le_of_ble_eq_true rfl) q233 rfl ?_
          refine z_get X dX0_status_176 hX.day in_X1 rfl 0 (Nat.le_of_ble_eq_true rfl) q190 rfl ?_
          refine z_get X dX0_status_179 (wl_o hX.wall) in_X2 rfl 10 (Nat.le_of_ble_eq_true rfl) q164 rfl ?_
          have e : spStatus o (nI 11) = nI (o.1.2 2) := by
            unfold spStatus
            repeat (first | rw [el_some (by assumption)] | rw [el_none (by assumption)] | rw [if_pos (by omega)] | rw [if_neg (by omega)] | rw [if_pos (by assumption)] | rw [if_neg (ts_n (by assumption))])
            all_goals first | rfl | exact absurd e2 (by decide) | exact absurd c2 (by decide) | (exfalso; omega)
          exact z_iret X dX0_status_182 (by omega) (by omega) ⟨_, rfl, ⟨e.symm, rfl⟩⟩
      · have e3 : rgb 0 11 w_ = none := rgb_f c3
        refine z_tabOut (tgt := 183) X dX0_status_69 (sw_out (lo := 0) (hi := 11) (by decide) (by decide) c3) (by decide) ?_
        refine z_iconst (v := -1) X dX0_status_183 cim1 ?_
        have e : spStatus o w_ = -1 := by
          unfold spStatus
          repeat (first | rw [el_some (by assumption)] | rw [el_none (by assumption)] | rw [if_pos (by omega)] | rw [if_neg (by omega)] | rw [if_pos (by assumption)] | rw [if_neg (ts_n (by assumption))])
          all_goals first | rfl | exact absurd e2 (by decide) | exact absurd c2 (by decide) | (exfalso; omega)
        exact z_iret X dX0_status_184 (by omega) (by omega) ⟨_, rfl, ⟨e.symm, rfl⟩⟩
    · have c2 := Classical.not_not.mp c2
      obtain ⟨w_N, w_Nl, w_Nh, rfl, e4⟩ := rgb_t (lo := 1) (hi := 6) (by decide) (by decide) (c2)
      refine z_iload_n X dX0_status_31 rfl 1 rfl ?_
      refine z_iconst (v := nI (4)) X dX0_status_32 ci4 ?_
      refine z_icmp_ge (tgt := 53) X dX0_status_33 (by decide) (nI_leI (by omega) (by omega)) (fun c4 => ?_) (fun c4 => ?_)
      · refine z_aload_n X dX0_status_53 rfl 0 rfl ?_
        refine z_get X dX0_status_54 hX.ob in_X0 rfl 0 (Nat.le_of_ble_eq_true rfl) q233 rfl ?_
        refine z_get X dX0_status_57 hX.day in_X1 rfl 0 (Nat.le_of_ble_eq_true rfl) q190 rfl ?_
        refine z_get X dX0_status_60 (wl_o hX.wall) in_X2 rfl 1 (Nat.le_of_ble_eq_true rfl) q129 rfl ?_
        refine z_iload_n X dX0_status_63 rfl 1 rfl ?_
        refine z_iconst (v := nI (4)) X dX0_status_64 ci4 ?_
        refine z_isub (v := nI (w_N - 4)) X dX0_status_65 (pk_sub (by omega)) ?_
        refine z_iaN (v := nI (o.1.1 1 (w_N - 4))) X dX0_status_66 (wl_2 hX.wall) (by omega) (by omega) rfl ?_
        have e9 : rgb 0 11 (nI w_N) = some w_N := by
          rcases (show w_N = 1 ∨ w_N = 2 ∨ w_N = 3 ∨ w_N = 4 ∨ w_N = 5 ∨ w_N = 6 by omega) with h | h | h | h | h | h <;> subst h <;> first | rfl | decide
        have e : spStatus o (nI w_N) = nI (o.1.1 1 (w_N - 4)) := by
          unfold spStatus
          repeat (first | rw [el_some (by assumption)] | rw [el_none (by assumption)] | rw [if_pos (by omega)] | rw [if_neg (by omega)] | rw [if_pos (by assumption)] | rw [if_neg (ts_n (by assumption))])
          all_goals first | rfl | exact absurd e2 (by decide) | exact absurd c2 (by decide) | (exfalso; omega)
        exact z_iret X dX0_status_67 (by omega) (by omega) ⟨_, rfl, ⟨e.symm, rfl⟩⟩
      · refine z_aload_n X dX0_status_36 rfl 0 rfl ?_
        refine z_get X dX0_status_37 hX.ob in_X0 rfl 0 (Nat.le_of_ble_eq_true rfl) q233 rfl ?_
        refine z_get X dX0_status_40 hX.day in_X1 rfl 0 (Nat.le_of_ble_eq_true rfl) q190 rfl ?_
        refine z_get X dX0_status_43 (wl_o hX.wall) in_X2 rfl 0 (Nat.le_of_ble_eq_true rfl) q125 rfl ?_
        refine z_iload_n X dX0_status_46 rfl 1 rfl ?_
        refine z_iconst (v := nI (1)) X dX0_status_47 ci1 ?_
        refine z_isub (v := nI (w_N - 1)) X dX0_status_48 (pk_sub (by omega)) ?_
        refine z_iaN (v := nI (o.1.1 0 (w_N - 1))) X dX0_status_49 (wl_1 hX.wall) (by omega) (by omega) rfl ?_
        refine z_goto (tgt := 67) X dX0_status_50 (by decide) ?_
        have e9 : rgb 0 11 (nI w_N) = some w_N := by
          rcases (show w_N = 1 ∨ w_N = 2 ∨ w_N = 3 ∨ w_N = 4 ∨ w_N = 5 ∨ w_N = 6 by omega) with h | h | h | h | h | h <;> subst h <;> first | rfl | decide
        have e : spStatus o (nI w_N) = nI (o.1.1 0 (w_N - 1)) := by
          unfold spStatus
          repeat (first | rw [el_some (by assumption)] | rw [el_none (by assumption)] | rw [if_pos (by omega)] | rw [if_neg (by omega)] | rw [if_pos (by assumption)] | rw [if_neg (ts_n (by assumption))])
          all_goals first | rfl | exact absurd e2 (by decide) | exact absurd c2 (by decide) | (exfalso; omega)
        exact z_iret X dX0_status_67 (by omega) (by omega) ⟨_, rfl, ⟨e.symm, rfl⟩⟩
  · have c1 := Classical.not_not.mp c1
    obtain ⟨w_N, w_Nl, w_Nh, rfl, e5⟩ := rgb_t (lo := 12) (hi := 16) (by decide) (by decide) (c1)
    refine z_aload_n X dX0_status_11 rfl 0 rfl ?_
    refine z_get X dX0_status_12 hX.ob in_X0 rfl 5 (Nat.le_of_ble_eq_true rfl) q238 rfl ?_
    refine z_iload_n X dX0_status_15 rfl 1 rfl ?_
    refine z_bipush (v := nI (10)) X dX0_status_16 (by decide) ?_
    refine z_isub (v := nI (w_N - 10)) X dX0_status_18 (pk_sub (by omega)) ?_
    refine z_iaN (v := o.2.2.2.2.2.2.2 (w_N - 10)) X dX0_status_19 hfrfd (by omega) (by omega) (hvrfd (w_N - 10) (by omega)) ?_
    have e9 : rgb 0 11 (nI w_N) = none := by
      rcases (show w_N = 12 ∨ w_N = 13 ∨ w_N = 14 ∨ w_N = 15 ∨ w_N = 16 by omega) with h | h | h | h | h <;> subst h <;> first | rfl | decide
    have e : spStatus o (nI w_N) = o.2.2.2.2.2.2.2 (w_N - 10) := by
      unfold spStatus
      repeat (first | rw [el_some (by assumption)] | rw [el_none (by assumption)] | rw [if_pos (by omega)] | rw [if_neg (by omega)] | rw [if_pos (by assumption)] | rw [if_neg (ts_n (by assumption))])
      all_goals first | rfl | exact absurd e2 (by decide) | exact absurd c2 (by decide) | (exfalso; omega)
    exact z_iret X dX0_status_20 (by omega) (by omega) ⟨_, rfl, ⟨e.symm, rfl⟩⟩
