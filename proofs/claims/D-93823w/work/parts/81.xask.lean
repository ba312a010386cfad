/-! x: what refuses; the publics that ask and tell -/
set_option maxRecDepth 100000
def XE (G : GG) (x0 : Nat) (w1 : GW) (o : OS) (im : IM) : Prop := ∃ (xa : Nat → Nat) (rr : Option Nat), xa 0 = x0 ∧ XT G w1 xa rr o im
theorem shF_at {xa : Nat → Nat} {j : Nat} (h : j < 8) : va_rf (shF xa j) = .ref (xa (30 + j)) := by unfold shF; rw [if_pos h]; rfl
section XTM
variable {G : GG} {w : GW} {xa : Nat → Nat} {rr : Option Nat} {o : OS} {im : IM}
/-- another tape, size, day, seed: cells 0, 2, 4 -/
theorem XT.szput (h : XT G w xa rr o im) {n : Nat} : XT G (gu w (xa 0) (.inr (0, xFs xa im n))) xa rr (oTape o o.2.2.2.2.2.1 n) im := by
  obtain ⟨C, hW, hC⟩ := h
  obtain ⟨l1, l2, l3⟩ := hC.low (k := 0) (e := .inr (0, xFs xa im n)) (by omega)
  refine ⟨setC C 0 _, hW.put hC.c0, ⟨setC_s, ?_, ?_, ?_, ?_, ?_, l1, l2, l3, hC.cn⟩⟩
  · rw [setC_n (by omega)]; exact hC.c1
  · rw [setC_n (by omega)]; exact hC.c2
  · rw [setC_n (by omega)]; exact hC.c3
  · rw [setC_n (by omega)]; exact hC.c4
  · intro i hi
    rw [setC_n (by omega)]; exact hC.cw i hi
theorem XT.tput (h : XT G w xa rr o im) {f : Nat → Int32} (hf : w (xa 2) = some (.inl (G.2.1 0, 200, .inl f))) {j v : Nat} (hj : j < 200) : XT G (gu w (xa 2) (.inl (G.2.1 0, 200, .inl (upd f j (nI v))))) xa rr (oTape o (fun i => if i = j then v else o.2.2.2.2.2.1 i) o.2.2.2.2.2.2.1) im := by
  obtain ⟨C, hW, hC⟩ := h
  obtain ⟨f2, h1, h2⟩ := hC.c2
  have e : f = f2 := by
    have := hW.1 _ _ h1
    rw [hf] at this
    exact Sum.inl.inj (Prod.mk.inj (Prod.mk.inj (Sum.inl.inj (Option.some.inj this))).2).2
  subst e
  obtain ⟨l1, l2, l3⟩ := hC.low (k := 2) (e := .inl (G.2.1 0, 200, .inl (upd f j (nI v)))) (by omega)
  refine ⟨setC C 2 _, hW.put h1, ⟨?_, ?_, ?_, ?_, ?_, ?_, l1, l2, l3, hC.cn⟩⟩
  · rw [setC_n (by omega)]; exact hC.c0
  · rw [setC_n (by omega)]; exact hC.c1
  · refine ⟨_, setC_s, fun i hi => ?_⟩
    show upd f j (nI v) i = nI (if i = j then v else o.2.2.2.2.2.1 i)
    by_cases hij : i = j
    · subst hij; simp [upd]
    · simp only [upd, if_neg hij]; exact h2 i hi
  · rw [setC_n (by omega)]; exact hC.c3
  · rw [setC_n (by omega)]; exact hC.c4
  · intro i hi
    rw [setC_n (by omega)]; exact hC.cw i hi
theorem XT.dput (h : XT G w xa rr o im) {dy : Nat → Int32} {sd : Int32} {fs : List Value} (hf : fs = dFs (xa 5) sd dy) : XT G (gu w (xa 4) (.inr (1, fs))) xa rr (oDay o dy sd) im := by
  subst hf
  obtain ⟨C, hW, hC⟩ := h
  obtain ⟨l1, l2, l3⟩ := hC.low (k := 4) (e := .inr (1, dFs (xa 5) sd dy)) (by omega)
  refine ⟨setC C 4 _, hW.put hC.c4, ⟨?_, ?_, ?_, ?_, setC_s, ?_, l1, l2, l3, hC.cn⟩⟩
  · rw [setC_n (by omega)]; exact hC.c0
  · rw [setC_n (by omega)]; exact hC.c1
  · rw [setC_n (by omega)]; exact hC.c2
  · rw [setC_n (by omega)]; exact hC.c3
  · intro i hi
    rw [setC_n (by omega)]; exact hC.cw i hi
theorem XT.wsame (h : XT G w xa rr o im) {fs : List Value} (hf : fs = wFs (xw xa) rr o.1) : XT G (gu w (xa 5) (.inr (2, fs))) xa rr o im := by
  have e : gu w (xa 5) (.inr (2, fs)) = w := gu_self (by rw [hf]; exact wl_o h.wall)
  rw [e]; exact h
end XTM
set_option maxHeartbeats 2000000 in
theorem m_X0_no_2 {l : Launch} {G : GG} {w : GW} {xa : Nat → Nat} {rr : Option Nat} {o : OS} {im : IM} (hX : XT G w xa rr o im) : gM l G yX0_no cX0_no 2 (some .int) 1 0 0 [.ref (xa 0), .int ((-2))] w (pI (fun r w1 => r = (-2) ∧ XT G w1 xa rr (oRef o 2) im)) := by
  refine Z.met (own := "ThreeSizes") (nm := "no") (lv := [(0, .ref (xa 0)), (1, .int ((-2)))]) (by decide) rfl rfl (Nat.le_of_ble_eq_true rfl) rfl (fun κ X => ?_)
  obtain ⟨frfd, hfrfd, hvrfd⟩ := hX.rfd
  refine z_aload_n X dX0_no_0 rfl 0 rfl ?_
  refine z_get X dX0_no_1 hX.ob in_X0 rfl 5 (Nat.le_of_ble_eq_true rfl) q238 rfl ?_
  refine z_iload_n X dX0_no_4 rfl 1 rfl ?_
  refine z_ineg (v := nI (2)) X dX0_no_5 (by decide) ?_
  refine z_dup2 X dX0_no_6 rfl rfl ?_
  refine z_iaN (v := frfd 2) X dX0_no_7 hfrfd (by omega) (by omega) rfl ?_
  refine z_iconst (v := nI (1)) X dX0_no_8 ci1 ?_
  refine z_iadd (v := frfd 2 + (nI (1))) X dX0_no_9 rfl ?_
  refine z_isN X dX0_no_10 hfrfd (by omega) (by omega) ?_
  refine z_iload_n X dX0_no_11 rfl 1 rfl ?_
  exact z_iret X dX0_no_12 (by omega) (by omega) ⟨_, rfl, ⟨rfl, hX.ref hfrfd (k := 2) (by decide)⟩⟩
set_option maxHeartbeats 2000000 in
theorem m_X0_no_3 {l : Launch} {G : GG} {w : GW} {xa : Nat → Nat} {rr : Option Nat} {o : OS} {im : IM} (hX : XT G w xa rr o im) : gM l G yX0_no cX0_no 2 (some .int) 1 0 0 [.ref (xa 0), .int ((-3))] w (pI (fun r w1 => r = (-3) ∧ XT G w1 xa rr (oRef o 3) im)) := by
  refine Z.met (own := "ThreeSizes") (nm := "no") (lv := [(0, .ref (xa 0)), (1, .int ((-3)))]) (by decide) rfl rfl (Nat.le_of_ble_eq_true rfl) rfl (fun κ X => ?_)
  obtain ⟨frfd, hfrfd, hvrfd⟩ := hX.rfd
  refine z_aload_n X dX0_no_0 rfl 0 rfl ?_
  refine z_get X dX0_no_1 hX.ob in_X0 rfl 5 (Nat.le_of_ble_eq_true rfl) q238 rfl ?_
  refine z_iload_n X dX0_no_4 rfl 1 rfl ?_
  refine z_ineg (v := nI (3)) X dX0_no_5 (by decide) ?_
  refine z_dup2 X dX0_no_6 rfl rfl ?_
  refine z_iaN (v := frfd 3) X dX0_no_7 hfrfd (by omega) (by omega) rfl ?_
  refine z_iconst (v := nI (1)) X dX0_no_8 ci1 ?_
  refine z_iadd (v := frfd 3 + (nI (1))) X dX0_no_9 rfl ?_
  refine z_isN X dX0_no_10 hfrfd (by omega) (by omega) ?_
  refine z_iload_n X dX0_no_11 rfl 1 rfl ?_
  exact z_iret X dX0_no_12 (by omega) (by omega) ⟨_, rfl, ⟨rfl, hX.ref hfrfd (k := 3) (by decide)⟩⟩
set_option maxHeartbeats 2000000 in
theorem m_X0_no_4 {l : Launch} {G : GG} {w : GW} {xa : Nat → Nat} {rr : Option Nat} {o : OS} {im : IM} (hX : XT G w xa rr o im) : gM l G yX0_no cX0_no 2 (some .int) 1 0 0 [.ref (xa 0), .int ((-4))] w (pI (fun r w1 => r = (-4) ∧ XT G w1 xa rr (oRef o 4) im)) := by
  refine Z.met (own := "ThreeSizes") (nm := "no") (lv := [(0, .ref (xa 0)), (1, .int ((-4)))]) (by decide) rfl rfl (Nat.le_of_ble_eq_true rfl) rfl (fun κ X => ?_)
  obtain ⟨frfd, hfrfd, hvrfd⟩ := hX.rfd
  refine z_aload_n X dX0_no_0 rfl 0 rfl ?_
  refine z_get X dX0_no_1 hX.ob in_X0 rfl 5 (Nat.le_of_ble_eq_true rfl) q238 rfl ?_
  refine z_iload_n X dX0_no_4 rfl 1 rfl ?_
  refine z_ineg (v := nI (4)) X dX0_no_5 (by decide) ?_
  refine z_dup2 X dX0_no_6 rfl rfl ?_
  refine z_iaN (v := frfd 4) X dX0_no_7 hfrfd (by omega) (by omega) rfl ?_
  refine z_iconst (v := nI (1)) X dX0_no_8 ci1 ?_
  refine z_iadd (v := frfd 4 + (nI (1))) X dX0_no_9 rfl ?_
  refine z_isN X dX0_no_10 hfrfd (by omega) (by omega) ?_
  refine z_iload_n X dX0_no_11 rfl 1 rfl ?_
  exact z_iret X dX0_no_12 (by omega) (by omega) ⟨_, rfl, ⟨rfl, hX.ref hfrfd (k := 4) (by decide)⟩⟩
set_option maxHeartbeats 2000000 in
theorem m_X0_no_5 {l : Launch} {G : GG} {w : GW} {xa : Nat → Nat} {rr : Option Nat} {o : OS} {im : IM} (hX : XT G w xa rr o im) : gM l G yX0_no cX0_no 2 (some .int) 1 0 0 [.ref (xa 0), .int ((-5))] w (pI (fun r w1 => r = (-5) ∧ XT G w1 xa rr (oRef o 5) im)) := by
  refine Z.met (own := "ThreeSizes") (nm := "no") (lv := [(0, .ref (xa 0)), (1, .int ((-5)))]) (by decide) rfl rfl (Nat.le_of_ble_eq_true rfl) rfl (fun κ X => ?_)
  obtain ⟨frfd, hfrfd, hvrfd⟩ := hX.rfd
  refine z_aload_n X dX0_no_0 rfl 0 rfl ?_
  refine z_get X dX0_no_1 hX.ob in_X0 rfl 5 (Nat.le_of_ble_eq_true rfl) q238 rfl ?_
  refine z_iload_n X dX0_no_4 rfl 1 rfl ?_
  refine z_ineg (v := nI (5)) X dX0_no_5 (by decide) ?_
  refine z_dup2 X dX0_no_6 rfl rfl ?_
  refine z_iaN (v := frfd 5) X dX0_no_7 hfrfd (by omega) (by omega) rfl ?_
  refine z_iconst (v := nI (1)) X dX0_no_8 ci1 ?_
  refine z_iadd (v := frfd 5 + (nI (1))) X dX0_no_9 rfl ?_
  refine z_isN X dX0_no_10 hfrfd (by omega) (by omega) ?_
  refine z_iload_n X dX0_no_11 rfl 1 rfl ?_
  exact z_iret X dX0_no_12 (by omega) (by omega) ⟨_, rfl, ⟨rfl, hX.ref hfrfd (k := 5) (by decide)⟩⟩
set_option maxHeartbeats 2000000 in
theorem m_X0_no_6 {l : Launch} {G : GG} {w : GW} {xa : Nat → Nat} {rr : Option Nat} {o : OS} {im : IM} (hX : XT G w xa rr o im) : gM l G yX0_no cX0_no 2 (some .int) 1 0 0 [.ref (xa 0), .int ((-6))] w (pI (fun r w1 => r = (-6) ∧ XT G w1 xa rr (oRef o 6) im)) := by
  refine Z.met (own := "ThreeSizes") (nm := "no") (lv := [(0, .ref (xa 0)), (1, .int ((-6)))]) (by decide) rfl rfl (Nat.le_of_ble_eq_true rfl) rfl (fun κ X => ?_)
  obtain ⟨frfd, hfrfd, hvrfd⟩ := hX.rfd
  refine z_aload_n X dX0_no_0 rfl 0 rfl ?_
  refine z_get X dX0_no_1 hX.ob in_X0 rfl 5 (Nat.le_of_ble_eq_true rfl) q238 rfl ?_
  refine z_iload_n X dX0_no_4 rfl 1 rfl ?_
  refine z_ineg (v := nI (6)) X dX0_no_5 (by decide) ?_
  refine z_dup2 X dX0_no_6 rfl rfl ?_
  refine z_iaN (v := frfd 6) X dX0_no_7 hfrfd (by omega) (by omega) rfl ?_
  refine z_iconst (v := nI (1)) X dX0_no_8 ci1 ?_
  refine z_iadd (v := frfd 6 + (nI (1))) X dX0_no_9 rfl ?_
  refine z_isN X dX0_no_10 hfrfd (by omega) (by omega) ?_
  refine z_iload_n X dX0_no_11 rfl 1 rfl ?_
  exact z_iret X dX0_no_12 (by omega) (by omega) ⟨_, rfl, ⟨rfl, hX.ref hfrfd (k := 6) (by decide)⟩⟩
set_option maxHeartbeats 2000000 in
theorem m_X0_noDeep_2 {l : Launch} {G : GG} {w : GW} {xa : Nat → Nat} {rr : Option Nat} {o : OS} {im : IM} (hX : XT G w xa rr o im) : gM l G yX0_noDeep cX0_noDeep 2 (some .long) 2 0 0 [.ref (xa 0), .int ((-2))] w (pL (fun r w1 => r = -1000000000000 + (-2 : Int32).toInt64 ∧ XT G w1 xa rr (oRef o 2) im)) := by
  refine Z.met (own := "ThreeSizes") (nm := "noDeep") (lv := [(0, .ref (xa 0)), (1, .int ((-2)))]) (by decide) rfl rfl (Nat.le_of_ble_eq_true rfl) rfl (fun κ X => ?_)
  refine z_ldc2 X dX0_noDeep_0 q1193 ?_
  refine z_aload_n X dX0_noDeep_3 rfl 0 rfl ?_
  refine z_iload_n X dX0_noDeep_4 rfl 1 rfl ?_
  refine z_ci (z_runV (rest := [.long ((-1000000000000))]) (n := 1) X [.int ((-2))] (m_X0_no_2 hX) dX0_noDeep_5 hX.ob rfl (lw_V q350 q352 qs2 q66 q353) hv_X0_no rfl ⟨Nat.le_of_ble_eq_true rfl, Nat.le_of_ble_eq_true rfl⟩ ⟨by omega, by omega⟩ rfl (Nat.le_of_ble_eq_true rfl)) (fun r1 w3 h2 => ?_)
  obtain ⟨r1e, hX2⟩ := h2
  rw [r1e]
  refine z_i2l (v := ((-2)).toInt64) X dX0_noDeep_8 rfl ?_
  refine z_ladd (v := (-1000000000000) + (((-2)).toInt64)) X dX0_noDeep_9 rfl ?_
  exact z_lret X dX0_noDeep_10 (by omega) (by omega) ⟨_, rfl, ⟨rfl, hX2⟩⟩
set_option maxHeartbeats 2000000 in
theorem m_X0_noDeep_3 {l : Launch} {G : GG} {w : GW} {xa : Nat → Nat} {rr : Option Nat} {o : OS} {im : IM} (hX : XT G w xa rr o im) : gM l G yX0_noDeep cX0_noDeep 2 (some .long) 2 0 0 [.ref (xa 0), .int ((-3))] w (pL (fun r w1 => r = -1000000000000 + (-3 : Int32).toInt64 ∧ XT G w1 xa rr (oRef o 3) im)) := by
  refine Z.met (own := "ThreeSizes") (nm := "noDeep") (lv := [(0, .ref (xa 0)), (1, .int ((-3)))]) (by decide) rfl rfl (Nat.le_of_ble_eq_true rfl) rfl (fun κ X => ?_)
  refine z_ldc2 X dX0_noDeep_0 q1193 ?_
  refine z_aload_n X dX0_noDeep_3 rfl 0 rfl ?_
  refine z_iload_n X dX0_noDeep_4 rfl 1 rfl ?_
  refine z_ci (z_runV (rest := [.long ((-1000000000000))]) (n := 1) X [.int ((-3))] (m_X0_no_3 hX) dX0_noDeep_5 hX.ob rfl (lw_V q350 q352 qs2 q66 q353) hv_X0_no rfl ⟨Nat.le_of_ble_eq_true rfl, Nat.le_of_ble_eq_true rfl⟩ ⟨by omega, by omega⟩ rfl (Nat.le_of_ble_eq_true rfl)) (fun r1 w3 h2 => ?_)
  obtain ⟨r1e, hX2⟩ := h2
  rw [r1e]
  refine z_i2l (v := ((-3)).toInt64) X dX0_noDeep_8 rfl ?_
  refine z_ladd (v := (-1000000000000) + (((-3)).toInt64)) X dX0_noDeep_9 rfl ?_
  exact z_lret X dX0_noDeep_10 (by omega) (by omega) ⟨_, rfl, ⟨rfl, hX2⟩⟩
set_option maxHeartbeats 2000000 in
theorem m_X0_noDeep_4 {l : Launch} {G : GG} {w : GW} {xa : Nat → Nat} {rr : Option Nat} {o : OS} {im : IM} (hX : XT G w xa rr o im) : gM l G yX0_noDeep cX0_noDeep 2 (some .long) 2 0 0 [.ref (xa 0), .int ((-4))] w (pL (fun r w1 => r = -1000000000000 + (-4 : Int32).toInt64 ∧ XT G w1 xa rr (oRef o 4) im)) := by
  refine Z.met (own := "ThreeSizes") (nm := "noDeep") (lv := [(0, .ref (xa 0)), (1, .int ((-4)))]) (by decide) rfl rfl (Nat.le_of_ble_eq_true rfl) rfl (fun κ X => ?_)
  refine z_ldc2 X dX0_noDeep_0 q1193 ?_
  refine z_aload_n X dX0_noDeep_3 rfl 0 rfl ?_
  refine z_iload_n X dX0_noDeep_4 rfl 1 rfl ?_
  refine z_ci (z_runV (rest := [.long ((-1000000000000))]) (n := 1) X [.int ((-4))] (m_X0_no_4 hX) dX0_noDeep_5 hX.ob rfl (lw_V q350 q352 qs2 q66 q353) hv_X0_no rfl ⟨Nat.le_of_ble_eq_true rfl, Nat.le_of_ble_eq_true rfl⟩ ⟨by omega, by omega⟩ rfl (Nat.le_of_ble_eq_true rfl)) (fun r1 w3 h2 => ?_)
  obtain ⟨r1e, hX2⟩ := h2
  rw [r1e]
  refine z_i2l (v := ((-4)).toInt64) X dX0_noDeep_8 rfl ?_
  refine z_ladd (v := (-1000000000000) + (((-4)).toInt64)) X dX0_noDeep_9 rfl ?_
  exact z_lret X dX0_noDeep_10 (by omega) (by omega) ⟨_, rfl, ⟨rfl, hX2⟩⟩
set_option maxHeartbeats 2000000 in
theorem m_X0_noDeep_5 {l : Launch} {G : GG} {w : GW} {xa : Nat → Nat} {rr : Option Nat} {o : OS} {im : IM} (hX : XT G w xa rr o im) : gM l G yX0_noDeep cX0_noDeep 2 (some .long) 2 0 0 [.ref (xa 0), .int ((-5))] w (pL (fun r w1 => r = -1000000000000 + (-5 : Int32).toInt64 ∧ XT G w1 xa rr (oRef o 5) im)) := by
  refine Z.met (own := "ThreeSizes") (nm := "noDeep") (lv := [(0, .ref (xa 0)), (1, .int ((-5)))]) (by decide) rfl rfl (Nat.le_of_ble_eq_true rfl) rfl (fun κ X => ?_)
  refine z_ldc2 X dX0_noDeep_0 q1193 ?_
  refine z_aload_n X dX0_noDeep_3 rfl 0 rfl ?_
  refine z_iload_n X dX0_noDeep_4 rfl 1 rfl ?_
  refine z_ci (z_runV (rest := [.long ((-1000000000000))]) (n := 1) X [.int ((-5))] (m_X0_no_5 hX) dX0_noDeep_5 hX.ob rfl (lw_V q350 q352 qs2 q66 q353) hv_X0_no rfl ⟨Nat.le_of_ble_eq_true rfl, Nat.le_of_ble_eq_true rfl⟩ ⟨by omega, by omega⟩ rfl (Nat.le_of_ble_eq_true rfl)) (fun r1 w3 h2 => ?_)
  obtain ⟨r1e, hX2⟩ := h2
  rw [r1e]
  refine z_i2l (v := ((-5)).toInt64) X dX0_noDeep_8 rfl ?_
  refine z_ladd (v := (-1000000000000) + (((-5)).toInt64)) X dX0_noDeep_9 rfl ?_
  exact z_lret X dX0_noDeep_10 (by omega) (by omega) ⟨_, rfl, ⟨rfl, hX2⟩⟩
set_option maxHeartbeats 2000000 in
theorem m_X0_noDeep_6 {l : Launch} {G : GG} {w : GW} {xa : Nat → Nat} {rr : Option Nat} {o : OS} {im : IM} (hX : XT G w xa rr o im) : gM l G yX0_noDeep cX0_noDeep 2 (some .long) 2 0 0 [.ref (xa 0), .int ((-6))] w (pL (fun r w1 => r = -1000000000000 + (-6 : Int32).toInt64 ∧ XT G w1 xa rr (oRef o 6) im)) := by
  refine Z.met (own := "ThreeSizes") (nm := "noDeep") (lv := [(0, .ref (xa 0)), (1, .int ((-6)))]) (by decide) rfl rfl (Nat.le_of_ble_eq_true rfl) rfl (fun κ X => ?_)
  refine z_ldc2 X dX0_noDeep_0 q1193 ?_
  refine z_aload_n X dX0_noDeep_3 rfl 0 rfl ?_
  refine z_iload_n X dX0_noDeep_4 rfl 1 rfl ?_
  refine z_ci (z_runV (rest := [.long ((-1000000000000))]) (n := 1) X [.int ((-6))] (m_X0_no_6 hX) dX0_noDeep_5 hX.ob rfl (lw_V q350 q352 qs2 q66 q353) hv_X0_no rfl ⟨Nat.le_of_ble_eq_true rfl, Nat.le_of_ble_eq_true rfl⟩ ⟨by omega, by omega⟩ rfl (Nat.le_of_ble_eq_true rfl)) (fun r1 w3 h2 => ?_)
  obtain ⟨r1e, hX2⟩ := h2
  rw [r1e]
  refine z_i2l (v := ((-6)).toInt64) X dX0_noDeep_8 rfl ?_
  refine z_ladd (v := (-1000000000000) + (((-6)).toInt64)) X dX0_noDeep_9 rfl ?_
  exact z_lret X dX0_noDeep_10 (by omega) (by omega) ⟨_, rfl, ⟨rfl, hX2⟩⟩
set_option maxHeartbeats 2000000 in
theorem m_X0_isSort {l : Launch} {G : GG} {w : GW} {xa : Nat → Nat} {rr : Option Nat} {o : OS} {im : IM} (hX : XT G w xa rr o im) (hO : oInv o) {v : Int32} : gM l G yX0_isSort cX0_isSort 2 (some .boolean) 2 0 0 [.ref (xa 0), .int (v)] w (pI (fun r w1 => r = bI (decide (nI 0 ≤ v ∧ v < nI (o.1.2 0))) ∧ w1 = w)) := by
  refine Z.met (own := "ThreeSizes") (nm := "isSort") (lv := [(0, .ref (xa 0)), (1, .int (v))]) (by decide) rfl rfl (Nat.le_of_ble_eq_true rfl) rfl (fun κ X => ?_)
  have h6 := hO.1.2.1
  refine z_iload_n X dX0_isSort_0 rfl 1 rfl ?_
  refine z_iconst (v := nI (0)) X dX0_isSort_1 ci0 ?_
  refine z_aload_n X dX0_isSort_2 rfl 0 rfl ?_
  refine z_get X dX0_isSort_3 hX.ob in_X0 rfl 0 (Nat.le_of_ble_eq_true rfl) q233 rfl ?_
  refine z_get X dX0_isSort_6 hX.day in_X1 rfl 0 (Nat.le_of_ble_eq_true rfl) q190 rfl ?_
  refine z_get X dX0_isSort_9 (wl_o hX.wall) in_X2 rfl 8 (Nat.le_of_ble_eq_true rfl) q156 rfl ?_
  refine z_iconst (v := nI (1)) X dX0_isSort_12 ci1 ?_
  refine z_isub (v := nI (o.1.2 0) - nI 1) X dX0_isSort_13 rfl ?_
  refine z_cip (z_runS (rest := []) (n := 3) X [.int (v), .int (nI (0)), .int (nI (o.1.2 0) - nI 1)] m_X0_isIn dX0_isSort_14 (lw_S q347 q348 q66 q349) hs_X0_isIn rfl ⟨Nat.le_of_ble_eq_true rfl, Nat.le_of_ble_eq_true rfl⟩ ⟨by omega, by omega⟩ rfl (Nat.le_of_ble_eq_true rfl)) ?_
  exact z_zret X dX0_isSort_17 (by omega) (by omega) bI_n ⟨_, rfl, ⟨bI_iff (and_congr Iff.rfl (le_pred (n := o.1.2 0) (by omega))), rfl⟩⟩
set_option maxHeartbeats 2000000 in
theorem x_lost {l : Launch} {G : GG} {w : GW} {xa : Nat → Nat} {rr : Option Nat} {o : OS} {im : IM} (hX : XT G w xa rr o im) (hO : oInv o) {k : Int32} : gM l G yX0_lost cX0_lost 2 (some .long) 3 0 0 [.ref (xa 0), .int (k)] w (pL (fun r w1 => XE G (xa 0) w1 (spLost o k).2 im ∧ r = (spLost o k).1)) := by
  refine Z.met (own := "ThreeSizes") (nm := "lost") (lv := [(0, .ref (xa 0)), (1, .int (k))]) (by decide) rfl rfl (Nat.le_of_ble_eq_true rfl) rfl (fun κ X => ?_)
  have hI := hO.1
  have h6 := hI.2.1
  have ht200 := hO.2.2.2
  refine z_aload_n X dX0_lost_0 rfl 0 rfl ?_
  refine z_iload_n X dX0_lost_1 rfl 1 rfl ?_
  refine z_cip (z_runV (rest := []) (n := 1) X [.int (k)] (m_X0_isSort hX hO (v := k)) dX0_lost_2 hX.ob rfl (lw_V q798 q800 qs6 q66 q801) hv_X0_isSort rfl ⟨Nat.le_of_ble_eq_true rfl, Nat.le_of_ble_eq_true rfl⟩ ⟨by omega, by omega⟩ rfl (Nat.le_of_ble_eq_true rfl)) ?_
  refine z_if_eq (tgt := 22) X dX0_lost_5 (by decide) bI_d (fun c1 => ?_) (fun c1 => ?_)
  · have e1 : rgn (o.1.2 0) k = none := rgn_f c1
    refine z_aload_n X dX0_lost_22 rfl 0 rfl ?_
    refine z_bipush (v := (-2)) X dX0_lost_23 (by decide) ?_
    refine z_cl (z_runV (rest := []) (n := 1) X [.int ((-2))] (m_X0_noDeep_2 hX) dX0_lost_25 hX.ob rfl (lw_V q1189 q1191 qs16 q66 q1192) hv_X0_noDeep rfl ⟨Nat.le_of_ble_eq_true rfl, Nat.le_of_ble_eq_true rfl⟩ ⟨by omega, by omega⟩ rfl (Nat.le_of_ble_eq_true rfl)) (fun r2 w4 h3 => ?_)
    obtain ⟨r2e, hX3⟩ := h3
    rw [r2e]
    have e : spLost o k = (-1000000000000 + ((-2) : Int32).toInt64, oRef o 2) := by
      unfold spLost
      repeat (first | rw [el_some (by assumption)] | rw [el_none (by assumption)] | rw [if_pos (by omega)] | rw [if_neg (by omega)] | rw [if_pos (by assumption)] | rw [if_neg (ts_n (by assumption))])
      all_goals first | rfl | (exfalso; omega)
    exact z_lret X dX0_lost_28 (by omega) (by omega) ⟨_, rfl, (by rw [e]; exact ⟨⟨_, _, rfl, hX3⟩, rfl⟩)⟩
  · have c1 := Classical.not_not.mp c1
    obtain ⟨kN, kNh, rfl, e2⟩ := rgn_t (n := o.1.2 0) (by omega) c1
    refine z_aload_n X dX0_lost_8 rfl 0 rfl ?_
    refine z_get X dX0_lost_9 hX.ob in_X0 rfl 0 (Nat.le_of_ble_eq_true rfl) q233 rfl ?_
    refine z_get X dX0_lost_12 hX.day in_X1 rfl 0 (Nat.le_of_ble_eq_true rfl) q190 rfl ?_
    refine z_iload_n X dX0_lost_15 rfl 1 rfl ?_
    refine z_clp (z_runV (rest := []) (n := 1) X [.int (nI (kN))] (m_X2_lost hX.wall hI (i := kN) (by omega)) dX0_lost_16 (wl_o hX.wall) rfl (lw_V q1188 q692 q693 q68 q694) hv_X2_lost rfl ⟨Nat.le_of_ble_eq_true rfl, Nat.le_of_ble_eq_true rfl⟩ ⟨by omega, by omega⟩ rfl (Nat.le_of_ble_eq_true rfl)) ?_
    refine z_goto (tgt := 28) X dX0_lost_19 (by decide) ?_
    have e : spLost o (nI kN) = (lostL o.1 kN, o) := by
      unfold spLost
      repeat (first | rw [el_some (by assumption)] | rw [el_none (by assumption)] | rw [if_pos (by omega)] | rw [if_neg (by omega)] | rw [if_pos (by assumption)] | rw [if_neg (ts_n (by assumption))])
      all_goals first | rfl | (exfalso; omega)
    exact z_lret X dX0_lost_28 (by omega) (by omega) ⟨_, rfl, (by rw [e]; exact ⟨⟨_, _, rfl, hX⟩, rfl⟩)⟩
set_option maxHeartbeats 2000000 in
theorem x_sortOf {l : Launch} {G : GG} {w : GW} {xa : Nat → Nat} {rr : Option Nat} {o : OS} {im : IM} (hX : XT G w xa rr o im) (hO : oInv o) {k w_ : Int32} : gM l G yX0_sortOf_2 cX0_sortOf_2 3 (some .int) 3 0 0 [.ref (xa 0), .int (k), .int (w_)] w (pI (fun r w1 => XE G (xa 0) w1 (spSortOf o k w_).2 im ∧ r = (spSortOf o k w_).1)) := by
  refine Z.met (own := "ThreeSizes") (nm := "sortOf") (lv := [(0, .ref (xa 0)), (1, .int (k)), (2, .int (w_))]) (by decide) rfl rfl (Nat.le_of_ble_eq_true rfl) rfl (fun κ X => ?_)
  have hI := hO.1
  have h6 := hI.2.1
  have ht200 := hO.2.2.2
  refine z_aload_n X dX0_sortOf_2_0 rfl 0 rfl ?_
  refine z_iload_n X dX0_sortOf_2_1 rfl 1 rfl ?_
  refine z_cip (z_runV (rest := []) (n := 1) X [.int (k)] (m_X0_isSort hX hO (v := k)) dX0_sortOf_2_2 hX.ob rfl (lw_V q798 q800 qs6 q66 q801) hv_X0_isSort rfl ⟨Nat.le_of_ble_eq_true rfl, Nat.le_of_ble_eq_true rfl⟩ ⟨by omega, by omega⟩ rfl (Nat.le_of_ble_eq_true rfl)) ?_
  refine z_if_ne (tgt := 15) X dX0_sortOf_2_5 (by decide) bI_d (fun c1 => ?_) (fun c1 => ?_)
  · have c1 := Classical.not_not.mp c1
    obtain ⟨kN, kNh, rfl, e1⟩ := rgn_t (n := o.1.2 0) (by omega) c1
    refine z_iload_n X dX0_sortOf_2_15 rfl 2 rfl ?_
    by_cases c2 : nI 0 ≤ w_ ∧ w_ ≤ nI 3
    · obtain ⟨w_N, w_Nl, w_Nh, rfl, e2⟩ := rgb_t (lo := 0) (hi := 3) (by decide) (by decide) c2
      rcases (show w_N = 0 ∨ w_N = 1 ∨ w_N = 2 ∨ w_N = 3 by omega) with rfl | rfl | rfl | rfl
      · skip
        refine z_tabIn (off := 32) (tgt := 48) X dX0_sortOf_2_16 (by decide) (by decide) (by decide) (by decide) ?_
        refine z_aload_n X dX0_sortOf_2_48 rfl 0 rfl ?_
        refine z_get X dX0_sortOf_2_49 hX.ob in_X0 rfl 0 (Nat.le_of_ble_eq_true rfl) q233 rfl ?_
        refine z_get X dX0_sortOf_2_52 hX.day in_X1 rfl 0 (Nat.le_of_ble_eq_true rfl) q190 rfl ?_
        refine z_get X dX0_sortOf_2_55 (wl_o hX.wall) in_X2 rfl 3 (Nat.le_of_ble_eq_true rfl) q137 rfl ?_
        refine z_iload_n X dX0_sortOf_2_58 rfl 1 rfl ?_
        refine z_iaN (v := nI (o.1.1 3 kN)) X dX0_sortOf_2_59 (wl_4 hX.wall) (by omega) (by omega) rfl ?_
        have e : spSortOf o (nI kN) (nI 0) = (nI (o.1.1 3 kN), o) := by
          unfold spSortOf
          repeat (first | rw [el_some (by assumption)] | rw [el_none (by assumption)] | rw [if_pos (by omega)] | rw [if_neg (by omega)] | rw [if_pos (by assumption)] | rw [if_neg (ts_n (by assumption))])
          all_goals first | rfl | (exfalso; omega)
        exact z_iret X dX0_sortOf_2_60 (by omega) (by omega) ⟨_, rfl, (by rw [e]; exact ⟨⟨_, _, rfl, hX⟩, rfl⟩)⟩
      · skip
        refine z_tabIn (off := 45) (tgt := 61) X dX0_sortOf_2_16 (by decide) (by decide) (by decide) (by decide) ?_
        refine z_aload_n X dX0_sortOf_2_61 rfl 0 rfl ?_
        refine z_get X dX0_sortOf_2_62 hX.ob in_X0 rfl 0 (Nat.le_of_ble_eq_true rfl) q233 rfl ?_
        refine z_get X dX0_sortOf_2_65 hX.day in_X1 rfl 0 (Nat.le_of_ble_eq_true rfl) q190 rfl ?_
        refine z_get X dX0_sortOf_2_68 (wl_o hX.wall) in_X2 rfl 4 (Nat.le_of_ble_eq_true rfl) q141 rfl ?_
        refine z_iload_n X dX0_sortOf_2_71 rfl 1 rfl ?_
        refine z_iaN (v := nI (o.1.1 4 kN)) X dX0_sortOf_2_72 (wl_5 hX.wall) (by omega) (by omega) rfl ?_
        have e : spSortOf o (nI kN) (nI 1) = (nI (o.1.1 4 kN), o) := by
          unfold spSortOf
          repeat (first | rw [el_some (by assumption)] | rw [el_none (by assumption)] | rw [if_pos (by omega)] | rw [if_neg (by omega)] | rw [if_pos (by assumption)] | rw [if_neg (ts_n (by assumption))])
          all_goals first | rfl | (exfalso; omega)
        exact z_iret X dX0_sortOf_2_73 (by omega) (by omega) ⟨_, rfl, (by rw [e]; exact ⟨⟨_, _, rfl, hX⟩, rfl⟩)⟩
      · skip
        refine z_tabIn (off := 58) (tgt := 74) X dX0_sortOf_2_16 (by decide) (by decide) (by decide) (by decide) ?_
        refine z_aload_n X dX0_sortOf_2_74 rfl 0 rfl ?_
        refine z_get X dX0_sortOf_2_75 hX.ob in_X0 rfl 0 (Nat.le_of_ble_eq_true rfl) q233 rfl ?_
        refine z_get X dX0_sortOf_2_78 hX.day in_X1 rfl 0 (Nat.le_of_ble_eq_true rfl) q190 rfl ?_
        refine z_get X dX0_sortOf_2_81 (wl_o hX.wall) in_X2 rfl 5 (Nat.le_of_ble_eq_true rfl) q146 rfl ?_
        refine z_iload_n X dX0_sortOf_2_84 rfl 1 rfl ?_
        refine z_iaN (v := nI (o.1.1 5 kN)) X dX0_sortOf_2_85 (wl_6 hX.wall) (by omega) (by omega) rfl ?_
        have e : spSortOf o (nI kN) (nI 2) = (nI (o.1.1 5 kN), o) := by
          unfold spSortOf
          repeat (first | rw [el_some (by assumption)] | rw [el_none (by assumption)] | rw [if_pos (by omega)] | rw [if_neg (by omega)] | rw [if_pos (by assumption)] | rw [if_neg (ts_n (by assumption))])
          all_goals first | rfl | (exfalso; omega)
        exact z_iret X dX0_sortOf_2_86 (by omega) (by omega) ⟨_, rfl, (by rw [e]; exact ⟨⟨_, _, rfl, hX⟩, rfl⟩)⟩
      · skip
        refine z_tabIn (off := 71) (tgt := 87) X dX0_sortOf_2_16 (by decide) (by decide) (by decide) (by decide) ?_
        refine z_aload_n X dX0_sortOf_2_87 rfl 0 rfl ?_
        refine z_get X dX0_sortOf_2_88 hX.ob in_X0 rfl 0 (Nat.le_of_ble_eq_true rfl) q233 rfl ?_
        refine z_get X dX0_sortOf_2_91 hX.day in_X1 rfl 0 (Nat.le_of_ble_eq_true rfl) q190 rfl ?_
        refine z_get X dX0_sortOf_2_94 (wl_o hX.wall) in_X2 rfl 6 (Nat.le_of_ble_eq_true rfl) q149 rfl ?_
        refine z_iload_n X dX0_sortOf_2_97 rfl 1 rfl ?_
        refine z_iaN (v := nI (o.1.1 6 kN)) X dX0_sortOf_2_98 (wl_7 hX.wall) (by omega) (by omega) rfl ?_
        have e : spSortOf o (nI kN) (nI 3) = (nI (o.1.1 6 kN), o) := by
          unfold spSortOf
          repeat (first | rw [el_some (by assumption)] | rw [el_none (by assumption)] | rw [if_pos (by omega)] | rw [if_neg (by omega)] | rw [if_pos (by assumption)] | rw [if_neg (ts_n (by assumption))])
          all_goals first | rfl | (exfalso; omega)
        exact z_iret X dX0_sortOf_2_99 (by omega) (by omega) ⟨_, rfl, (by rw [e]; exact ⟨⟨_, _, rfl, hX⟩, rfl⟩)⟩
    · have e2 : rgb 0 3 w_ = none := rgb_f c2
      refine z_tabOut (tgt := 100) X dX0_sortOf_2_16 (sw_out (lo := 0) (hi := 3) (by decide) (by decide) c2) (by decide) ?_
      refine z_aload_n X dX0_sortOf_2_100 rfl 0 rfl ?_
      refine z_bipush (v := (-2)) X dX0_sortOf_2_101 (by decide) ?_
      refine z_ci (z_runV (rest := []) (n := 1) X [.int ((-2))] (m_X0_no_2 hX) dX0_sortOf_2_103 hX.ob rfl (lw_V q350 q352 qs2 q66 q353) hv_X0_no rfl ⟨Nat.le_of_ble_eq_true rfl, Nat.le_of_ble_eq_true rfl⟩ ⟨by omega, by omega⟩ rfl (Nat.le_of_ble_eq_true rfl)) (fun r3 w5 h4 => ?_)
      obtain ⟨r3e, hX4⟩ := h4
      rw [r3e]
      have e : spSortOf o (nI kN) w_ = ((-2), oRef o 2) := by
        unfold spSortOf
        repeat (first | rw [el_some (by assumption)] | rw [el_none (by assumption)] | rw [if_pos (by omega)] | rw [if_neg (by omega)] | rw [if_pos (by assumption)] | rw [if_neg (ts_n (by assumption))])
        all_goals first | rfl | (exfalso; omega)
      exact z_iret X dX0_sortOf_2_106 (by omega) (by omega) ⟨_, rfl, (by rw [e]; exact ⟨⟨_, _, rfl, hX4⟩, rfl⟩)⟩
  · have e3 : rgn (o.1.2 0) k = none := rgn_f c1
    refine z_aload_n X dX0_sortOf_2_8 rfl 0 rfl ?_
    refine z_bipush (v := (-2)) X dX0_sortOf_2_9 (by decide) ?_
    refine z_ci (z_runV (rest := []) (n := 1) X [.int ((-2))] (m_X0_no_2 hX) dX0_sortOf_2_11 hX.ob rfl (lw_V q350 q352 qs2 q66 q353) hv_X0_no rfl ⟨Nat.le_of_ble_eq_true rfl, Nat.le_of_ble_eq_true rfl⟩ ⟨by omega, by omega⟩ rfl (Nat.le_of_ble_eq_true rfl)) (fun r6 w8 h7 => ?_)
    obtain ⟨r6e, hX7⟩ := h7
    rw [r6e]
    have e : spSortOf o k w_ = ((-2), oRef o 2) := by
      unfold spSortOf
      repeat (first | rw [el_some (by assumption)] | rw [el_none (by assumption)] | rw [if_pos (by omega)] | rw [if_neg (by omega)] | rw [if_pos (by assumption)] | rw [if_neg (ts_n (by assumption))])
      all_goals first | rfl | (exfalso; omega)
    exact z_iret X dX0_sortOf_2_14 (by omega) (by omega) ⟨_, rfl, (by rw [e]; exact ⟨⟨_, _, rfl, hX7⟩, rfl⟩)⟩
set_option maxHeartbeats 2000000 in
theorem x_state {l : Launch} {G : GG} {w : GW} {xa : Nat → Nat} {rr : Option Nat} {o : OS} {im : IM} (hX : XT G w xa rr o im) (hO : oInv o) {w_ : Int32} : gM l G yX0_state cX0_state 3 (some .int) 5 0 0 [.ref (xa 0), .int (w_)] w (pI (fun r w1 => XE G (xa 0) w1 (spState o w_).2 im ∧ r = (spState o w_).1)) := by
  refine Z.met (own := "ThreeSizes") (nm := "state") (lv := [(0, .ref (xa 0)), (1, .int (w_))]) (by decide) rfl rfl (Nat.le_of_ble_eq_true rfl) rfl (fun κ X => ?_)
  have hI := hO.1
  have h6 := hI.2.1
  have ht200 := hO.2.2.2
  have w0 := hI.1 0 (by omega)
  have w1_ := hI.1 1 (by omega)
  have w2_ := hI.1 2 (by omega)
  refine z_aload_n X dX0_state_0 rfl 0 rfl ?_
  refine z_get X dX0_state_1 hX.ob in_X0 rfl 0 (Nat.le_of_ble_eq_true rfl) q233 rfl ?_
  refine z_get X dX0_state_4 hX.day in_X1 rfl 0 (Nat.le_of_ble_eq_true rfl) q190 rfl ?_
  refine z_astore_n (lv2 := [(2, .ref (xa 5)), (0, .ref (xa 0)), (1, .int (w_))]) X dX0_state_7 rfl (Nat.le_of_ble_eq_true rfl) rfl ?_
  refine z_iload_n X dX0_state_8 rfl 2 rfl ?_
  by_cases c1 : nI 0 ≤ w_ ∧ w_ ≤ nI 2
  · obtain ⟨w_N, w_Nl, w_Nh, rfl, e1⟩ := rgb_t (lo := 0) (hi := 2) (by decide) (by decide) c1
    rcases (show w_N = 0 ∨ w_N = 1 ∨ w_N = 2 by omega) with rfl | rfl | rfl
    · skip
      refine z_tabIn (off := 27) (tgt := 36) X dX0_state_9 (by decide) (by decide) (by decide) (by decide) ?_
      refine z_aload_n X dX0_state_36 rfl 0 rfl ?_
      refine z_iconst (v := nI (0)) X dX0_state_37 ci0 ?_
      refine z_cip (z_runV (rest := []) (n := 1) X [.int (nI (0))] (m_X2_free hX.wall hI (z := 0) (by omega)) dX0_state_38 (wl_o hX.wall) rfl (lw_V q1172 q747 q748 q68 q749) hv_X2_free rfl ⟨Nat.le_of_ble_eq_true rfl, Nat.le_of_ble_eq_true rfl⟩ ⟨by omega, by omega⟩ rfl (Nat.le_of_ble_eq_true rfl)) ?_
      refine z_aload_n X dX0_state_41 rfl 0 rfl ?_
      refine z_iconst (v := nI (1)) X dX0_state_42 ci1 ?_
      refine z_cip (z_runV (rest := [.int (nI (o.1.1 0 0 - o.1.1 1 0))]) (n := 1) X [.int (nI (1))] (m_X2_free hX.wall hI (z := 1) (by omega)) dX0_state_43 (wl_o hX.wall) rfl (lw_V q1172 q747 q748 q68 q749) hv_X2_free rfl ⟨Nat.le_of_ble_eq_true rfl, Nat.le_of_ble_eq_true rfl⟩ ⟨by omega, by omega⟩ rfl (Nat.le_of_ble_eq_true rfl)) ?_
      refine z_iadd (v := nI (o.1.1 0 0 - o.1.1 1 0 + (o.1.1 0 1 - o.1.1 1 1))) X dX0_state_46 (nI_add _ _) ?_
      refine z_aload_n X dX0_state_47 rfl 0 rfl ?_
      refine z_iconst (v := nI (2)) X dX0_state_48 ci2 ?_
      refine z_cip (z_runV (rest := [.int (nI (o.1.1 0 0 - o.1.1 1 0 + (o.1.1 0 1 - o.1.1 1 1)))]) (n := 1) X [.int (nI (2))] (m_X2_free hX.wall hI (z := 2) (by omega)) dX0_state_49 (wl_o hX.wall) rfl (lw_V q1172 q747 q748 q68 q749) hv_X2_free rfl ⟨Nat.le_of_ble_eq_true rfl, Nat.le_of_ble_eq_true rfl⟩ ⟨by omega, by omega⟩ rfl (Nat.le_of_ble_eq_true rfl)) ?_
      refine z_iadd (v := nI (o.1.1 0 0 - o.1.1 1 0 + (o.1.1 0 1 - o.1.1 1 1) + (o.1.1 0 2 - o.1.1 1 2))) X dX0_state_52 (nI_add _ _) ?_
      have e : spState o (nI 0) = (nI (o.1.1 0 0 - o.1.1 1 0 + (o.1.1 0 1 - o.1.1 1 1) + (o.1.1 0 2 - o.1.1 1 2)), o) := by
        unfold spState
        repeat (first | rw [el_some (by assumption)] | rw [el_none (by assumption)] | rw [if_pos (by omega)] | rw [if_neg (by omega)] | rw [if_pos (by assumption)] | rw [if_neg (ts_n (by assumption))])
        all_goals first | rfl | exact congrArg (fun n => (nI n, o)) (by omega) | (exfalso; omega)
      exact z_iret X dX0_state_53 (by omega) (by omega) ⟨_, rfl, (by rw [e]; exact ⟨⟨_, _, rfl, hX⟩, rfl⟩)⟩
    · skip
      refine z_tabIn (off := 45) (tgt := 54) X dX0_state_9 (by decide) (by decide) (by decide) (by decide) ?_
      refine z_aload_n X dX0_state_54 rfl 0 rfl ?_
      refine z_get X dX0_state_55 (wl_o hX.wall) in_X2 rfl 1 (Nat.le_of_ble_eq_true rfl) q129 rfl ?_
      refine z_iconst (v := nI (0)) X dX0_state_58 ci0 ?_
      refine z_iaN (v := nI (o.1.1 1 0)) X dX0_state_59 (wl_2 hX.wall) (by omega) (by omega) rfl ?_
      refine z_aload_n X dX0_state_60 rfl 0 rfl ?_
      refine z_get X dX0_state_61 (wl_o hX.wall) in_X2 rfl 1 (Nat.le_of_ble_eq_true rfl) q129 rfl ?_
      refine z_iconst (v := nI (1)) X dX0_state_64 ci1 ?_
      refine z_iaN (v := nI (o.1.1 1 1)) X dX0_state_65 (wl_2 hX.wall) (by omega) (by omega) rfl ?_
      refine z_iadd (v := nI (o.1.1 1 0 + (o.1.1 1 1))) X dX0_state_66 (nI_add _ _) ?_
      refine z_aload_n X dX0_state_67 rfl 0 rfl ?_
      refine z_get X dX0_state_68 (wl_o hX.wall) in_X2 rfl 1 (Nat.le_of_ble_eq_true rfl) q129 rfl ?_
      refine z_iconst (v := nI (2)) X dX0_state_71 ci2 ?_
      refine z_iaN (v := nI (o.1.1 1 2)) X dX0_state_72 (wl_2 hX.wall) (by omega) (by omega) rfl ?_
      refine z_iadd (v := nI (o.1.1 1 0 + (o.1.1 1 1) + (o.1.1 1 2))) X dX0_state_73 (nI_add _ _) ?_
      have e : spState o (nI 1) = (nI (o.1.1 1 0 + (o.1.1 1 1) + (o.1.1 1 2)), o) := by
        unfold spState
        repeat (first | rw [el_some (by assumption)] | rw [el_none (by assumption)] | rw [if_pos (by omega)] | rw [if_neg (by omega)] | rw [if_pos (by assumption)] | rw [if_neg (ts_n (by assumption))])
        all_goals first | rfl | exact congrArg (fun n => (nI n, o)) (by omega) | (exfalso; omega)
      exact z_iret X dX0_state_74 (by omega) (by omega) ⟨_, rfl, (by rw [e]; exact ⟨⟨_, _, rfl, hX⟩, rfl⟩)⟩
    · skip
      refine z_tabIn (off := 66) (tgt := 75) X dX0_state_9 (by decide) (by decide) (by decide) (by decide) ?_
      refine z_aload_n X dX0_state_75 rfl 0 rfl ?_
      refine z_cip (z_runV (rest := []) (n := 0) X [] (m_X2_state hX.wall hI) dX0_state_76 (wl_o hX.wall) rfl (lw_V q1173 q743 q744 q68 q745) hv_X2_state rfl ⟨Nat.le_of_ble_eq_true rfl, Nat.le_of_ble_eq_true rfl⟩ ⟨by omega, by omega⟩ rfl (Nat.le_of_ble_eq_true rfl)) ?_
      have e : spState o (nI 2) = (nI (stOf o.1), o) := by
        unfold spState
        repeat (first | rw [el_some (by assumption)] | rw [el_none (by assumption)] | rw [if_pos (by omega)] | rw [if_neg (by omega)] | rw [if_pos (by assumption)] | rw [if_neg (ts_n (by assumption))])
        all_goals first | rfl | exact congrArg (fun n => (nI n, o)) (by omega) | (exfalso; omega)
      exact z_iret X dX0_state_79 (by omega) (by omega) ⟨_, rfl, (by rw [e]; exact ⟨⟨_, _, rfl, hX⟩, rfl⟩)⟩
  · have e1 : rgb 0 2 w_ = none := rgb_f c1
    refine z_tabOut (tgt := 80) X dX0_state_9 (sw_out (lo := 0) (hi := 2) (by decide) (by decide) c1) (by decide) ?_
    refine z_aload_n X dX0_state_80 rfl 1 rfl ?_
    refine z_bipush (v := (-2)) X dX0_state_81 (by decide) ?_
    refine z_ci (z_runV (rest := []) (n := 1) X [.int ((-2))] (m_X0_no_2 hX) dX0_state_83 hX.ob rfl (lw_V q350 q352 qs2 q66 q353) hv_X0_no rfl ⟨Nat.le_of_ble_eq_true rfl, Nat.le_of_ble_eq_true rfl⟩ ⟨by omega, by omega⟩ rfl (Nat.le_of_ble_eq_true rfl)) (fun r2 w4 h3 => ?_)
    obtain ⟨r2e, hX3⟩ := h3
    rw [r2e]
    have e : spState o w_ = ((-2), oRef o 2) := by
      unfold spState
      repeat (first | rw [el_some (by assumption)] | rw [el_none (by assumption)] | rw [if_pos (by omega)] | rw [if_neg (by omega)] | rw [if_pos (by assumption)] | rw [if_neg (ts_n (by assumption))])
      all_goals first | rfl | exact congrArg (fun n => (nI n, o)) (by omega) | (exfalso; omega)
    exact z_iret X dX0_state_86 (by omega) (by omega) ⟨_, rfl, (by rw [e]; exact ⟨⟨_, _, rfl, hX3⟩, rfl⟩)⟩
set_option maxHeartbeats 2000000 in
theorem x_wipe {l : Launch} {G : GG} {w : GW} {xa : Nat → Nat} {rr : Option Nat} {o : OS} {im : IM} (hX : XT G w xa rr o im) (hO : oInv o) : gM l G yX0_wipe cX0_wipe 2 (some .int) 2 0 0 [.ref (xa 0)] w (pI (fun r w1 => XE G (xa 0) w1 (spWipe o ).2 im ∧ r = (spWipe o ).1)) := by
  refine Z.met (own := "ThreeSizes") (nm := "wipe") (lv := [(0, .ref (xa 0))]) (by decide) rfl rfl (Nat.le_of_ble_eq_true rfl) rfl (fun κ X => ?_)
  have hI := hO.1
  have h6 := hI.2.1
  have ht200 := hO.2.2.2
  refine z_aload_n X dX0_wipe_0 rfl 0 rfl ?_
  refine z_get X dX0_wipe_1 hX.ob in_X0 rfl 4 (Nat.le_of_ble_eq_true rfl) q237 rfl ?_
  refine z_istore_n (lv2 := [(1, .int (nI (o.2.2.2.2.2.2.1))), (0, .ref (xa 0))]) X dX0_wipe_4 rfl (Nat.le_of_ble_eq_true rfl) rfl ?_
  refine z_aload_n X dX0_wipe_5 rfl 1 rfl ?_
  refine z_iconst (v := nI (0)) X dX0_wipe_6 ci0 ?_
  refine z_put X dX0_wipe_7 hX.ob in_X0 tyX0 tyX0_ok nmX0 rfl 4 (Nat.le_of_ble_eq_true rfl) q237 rfl rfl rfl (Nat.le_of_ble_eq_true rfl) ?_
  have hXp1 := XT.szput hX (n := 0)
  refine z_iload_n X dX0_wipe_10 rfl 0 rfl ?_
  have e : spWipe o  = (nI (o.2.2.2.2.2.2.1), (oTape o o.2.2.2.2.2.1 0)) := by
    unfold spWipe
    repeat (first | rw [el_some (by assumption)] | rw [el_none (by assumption)] | rw [if_pos (by omega)] | rw [if_neg (by omega)] | rw [if_pos (by assumption)] | rw [if_neg (ts_n (by assumption))])
    all_goals first | rfl | (exfalso; omega)
  exact z_iret X dX0_wipe_11 (by omega) (by omega) ⟨_, rfl, (by rw [e]; exact ⟨⟨_, _, rfl, hXp1⟩, rfl⟩)⟩
set_option maxHeartbeats 2000000 in
theorem x_seed {l : Launch} {G : GG} {w : GW} {xa : Nat → Nat} {rr : Option Nat} {o : OS} {im : IM} (hX : XT G w xa rr o im) (hO : oInv o) {v : Int32} : gM l G yX0_seed cX0_seed 3 (some .int) 2 0 0 [.ref (xa 0), .int (v)] w (pI (fun r w1 => XE G (xa 0) w1 (spSeed o v).2 im ∧ r = (spSeed o v).1)) := by
  refine Z.met (own := "ThreeSizes") (nm := "seed") (lv := [(0, .ref (xa 0)), (1, .int (v))]) (by decide) rfl rfl (Nat.le_of_ble_eq_true rfl) rfl (fun κ X => ?_)
  have hI := hO.1
  have h6 := hI.2.1
  have ht200 := hO.2.2.2
  refine z_aload_n X dX0_seed_0 rfl 0 rfl ?_
  refine z_get X dX0_seed_1 hX.ob in_X0 rfl 0 (Nat.le_of_ble_eq_true rfl) q233 rfl ?_
  refine z_get X dX0_seed_4 hX.day in_X1 rfl 1 (Nat.le_of_ble_eq_true rfl) q192 rfl ?_
  refine z_istore_n (lv2 := [(2, .int (o.2.2.1)), (0, .ref (xa 0)), (1, .int (v))]) X dX0_seed_7 rfl (Nat.le_of_ble_eq_true rfl) rfl ?_
  refine z_aload_n X dX0_seed_8 rfl 1 rfl ?_
  refine z_get X dX0_seed_9 hX.ob in_X0 rfl 0 (Nat.le_of_ble_eq_true rfl) q233 rfl ?_
  refine z_iload_n X dX0_seed_12 rfl 2 rfl ?_
  refine z_put X dX0_seed_13 hX.day in_X1 tyX1 tyX1_ok nmX1 rfl 1 (Nat.le_of_ble_eq_true rfl) q192 rfl rfl rfl (Nat.le_of_ble_eq_true rfl) ?_
  have hXp1 := XT.dput hX (sd := v) (dy := o.2.1) rfl
  refine z_iload_n X dX0_seed_16 rfl 0 rfl ?_
  have e : spSeed o v = (o.2.2.1, (oDay o o.2.1 v)) := by
    unfold spSeed
    repeat (first | rw [el_some (by assumption)] | rw [el_none (by assumption)] | rw [if_pos (by omega)] | rw [if_neg (by omega)] | rw [if_pos (by assumption)] | rw [if_neg (ts_n (by assumption))])
    all_goals first | rfl | (exfalso; omega)
  exact z_iret X dX0_seed_17 (by omega) (by omega) ⟨_, rfl, (by rw [e]; exact ⟨⟨_, _, rfl, hXp1⟩, rfl⟩)⟩
set_option maxHeartbeats 2000000 in
theorem x_day {l : Launch} {G : GG} {w : GW} {xa : Nat → Nat} {rr : Option Nat} {o : OS} {im : IM} (hX : XT G w xa rr o im) (hO : oInv o) {w_ : Int32} : gM l G yX0_day cX0_day 2 (some .int) 2 0 0 [.ref (xa 0), .int (w_)] w (pI (fun r w1 => XE G (xa 0) w1 (spDay o w_).2 im ∧ r = (spDay o w_).1)) := by
  refine Z.met (own := "ThreeSizes") (nm := "day") (lv := [(0, .ref (xa 0)), (1, .int (w_))]) (by decide) rfl rfl (Nat.le_of_ble_eq_true rfl) rfl (fun κ X => ?_)
  have hI := hO.1
  have h6 := hI.2.1
  have ht200 := hO.2.2.2
  refine z_iload_n X dX0_day_0 rfl 1 rfl ?_
  by_cases c1 : nI 0 ≤ w_ ∧ w_ ≤ nI 5
  · obtain ⟨w_N, w_Nl, w_Nh, rfl, e1⟩ := rgb_t (lo := 0) (hi := 5) (by decide) (by decide) c1
    rcases (show w_N = 0 ∨ w_N = 1 ∨ w_N = 2 ∨ w_N = 3 ∨ w_N = 4 ∨ w_N = 5 by omega) with rfl | rfl | rfl | rfl | rfl | rfl
    · skip
      refine z_tabIn (off := 39) (tgt := 40) X dX0_day_1 (by decide) (by decide) (by decide) (by decide) ?_
      refine z_aload_n X dX0_day_40 rfl 0 rfl ?_
      refine z_get X dX0_day_41 hX.ob in_X0 rfl 0 (Nat.le_of_ble_eq_true rfl) q233 rfl ?_
      refine z_get X dX0_day_44 hX.day in_X1 rfl 2 (Nat.le_of_ble_eq_true rfl) q194 rfl ?_
      have e : spDay o (nI 0) = (o.2.1 0, o) := by
        unfold spDay
        repeat (first | rw [el_some (by assumption)] | rw [el_none (by assumption)] | rw [if_pos (by omega)] | rw [if_neg (by omega)] | rw [if_pos (by assumption)] | rw [if_neg (ts_n (by assumption))])
        all_goals first | rfl | (exfalso; omega)
      exact z_iret X dX0_day_47 (by omega) (by omega) ⟨_, rfl, (by rw [e]; exact ⟨⟨_, _, rfl, hX⟩, rfl⟩)⟩
    · skip
      refine z_tabIn (off := 47) (tgt := 48) X dX0_day_1 (by decide) (by decide) (by decide) (by decide) ?_
      refine z_aload_n X dX0_day_48 rfl 0 rfl ?_
      refine z_get X dX0_day_49 hX.ob in_X0 rfl 0 (Nat.le_of_ble_eq_true rfl) q233 rfl ?_
      refine z_get X dX0_day_52 hX.day in_X1 rfl 3 (Nat.le_of_ble_eq_true rfl) q196 rfl ?_
      have e : spDay o (nI 1) = (o.2.1 1, o) := by
        unfold spDay
        repeat (first | rw [el_some (by assumption)] | rw [el_none (by assumption)] | rw [if_pos (by omega)] | rw [if_neg (by omega)] | rw [if_pos (by assumption)] | rw [if_neg (ts_n (by assumption))])
        all_goals first | rfl | (exfalso; omega)
      exact z_iret X dX0_day_55 (by omega) (by omega) ⟨_, rfl, (by rw [e]; exact ⟨⟨_, _, rfl, hX⟩, rfl⟩)⟩
    · skip
      refine z_tabIn (off := 55) (tgt := 56) X dX0_day_1 (by decide) (by decide) (by decide) (by decide) ?_
      refine z_aload_n X dX0_day_56 rfl 0 rfl ?_
      refine z_get X dX0_day_57 hX.ob in_X0 rfl 0 (Nat.le_of_ble_eq_true rfl) q233 rfl ?_
      refine z_get X dX0_day_60 hX.day in_X1 rfl 4 (Nat.le_of_ble_eq_true rfl) q198 rfl ?_
      have e : spDay o (nI 2) = (o.2.1 2, o) := by
        unfold spDay
        repeat (first | rw [el_some (by assumption)] | rw [el_none (by assumption)] | rw [if_pos (by omega)] | rw [if_neg (by omega)] | rw [if_pos (by assumption)] | rw [if_neg (ts_n (by assumption))])
        all_goals first | rfl | (exfalso; omega)
      exact z_iret X dX0_day_63 (by omega) (by omega) ⟨_, rfl, (by rw [e]; exact ⟨⟨_, _, rfl, hX⟩, rfl⟩)⟩
    · skip
      refine z_tabIn (off := 63) (tgt := 64) X dX0_day_1 (by decide) (by decide) (by decide) (by decide) ?_
      refine z_aload_n X dX0_day_64 rfl 0 rfl ?_
      refine z_get X dX0_day_65 hX.ob in_X0 rfl 0 (Nat.le_of_ble_eq_true rfl) q233 rfl ?_
      refine z_get X dX0_day_68 hX.day in_X1 rfl 5 (Nat.le_of_ble_eq_true rfl) q200 rfl ?_
      have e : spDay o (nI 3) = (o.2.1 3, o) := by
        unfold spDay
        repeat (first | rw [el_some (by assumption)] | rw [el_none (by assumption)] | rw [if_pos (by omega)] | rw [if_neg (by omega)] | rw [if_pos (by assumption)] | rw [if_neg (ts_n (by assumption))])
        all_goals first | rfl | (exfalso; omega)
      exact z_iret X dX0_day_71 (by omega) (by omega) ⟨_, rfl, (by rw [e]; exact ⟨⟨_, _, rfl, hX⟩, rfl⟩)⟩
    · skip
      refine z_tabIn (off := 71) (tgt := 72) X dX0_day_1 (by decide) (by decide) (by decide) (by decide) ?_
      refine z_aload_n X dX0_day_72 rfl 0 rfl ?_
      refine z_get X dX0_day_73 hX.ob in_X0 rfl 0 (Nat.le_of_ble_eq_true rfl) q233 rfl ?_
      refine z_get X dX0_day_76 hX.day in_X1 rfl 6 (Nat.le_of_ble_eq_true rfl) q202 rfl ?_
      have e : spDay o (nI 4) = (o.2.1 4, o) := by
        unfold spDay
        repeat (first | rw [el_some (by assumption)] | rw [el_none (by assumption)] | rw [if_pos (by omega)] | rw [if_neg (by omega)] | rw [if_pos (by assumption)] | rw [if_neg (ts_n (by assumption))])
        all_goals first | rfl | (exfalso; omega)
      exact z_iret X dX0_day_79 (by omega) (by omega) ⟨_, rfl, (by rw [e]; exact ⟨⟨_, _, rfl, hX⟩, rfl⟩)⟩
    · skip
      refine z_tabIn (off := 79) (tgt := 80) X dX0_day_1 (by decide) (by decide) (by decide) (by decide) ?_
      refine z_aload_n X dX0_day_80 rfl 0 rfl ?_
      refine z_get X dX0_day_81 hX.ob in_X0 rfl 0 (Nat.le_of_ble_eq_true rfl) q233 rfl ?_
      refine z_get X dX0_day_84 hX.day in_X1 rfl 7 (Nat.le_of_ble_eq_true rfl) q204 rfl ?_
      have e : spDay o (nI 5) = (o.2.1 5, o) := by
        unfold spDay
        repeat (first | rw [el_some (by assumption)] | rw [el_none (by assumption)] | rw [if_pos (by omega)] | rw [if_neg (by omega)] | rw [if_pos (by assumption)] | rw [if_neg (ts_n (by assumption))])
        all_goals first | rfl | (exfalso; omega)
      exact z_iret X dX0_day_87 (by omega) (by omega) ⟨_, rfl, (by rw [e]; exact ⟨⟨_, _, rfl, hX⟩, rfl⟩)⟩
  · have e1 : rgb 0 5 w_ = none := rgb_f c1
    refine z_tabOut (tgt := 88) X dX0_day_1 (sw_out (lo := 0) (hi := 5) (by decide) (by decide) c1) (by decide) ?_
    refine z_ldcw X dX0_day_88 q1380 ?_
    refine z_aload_n X dX0_day_91 rfl 0 rfl ?_
    refine z_bipush (v := (-2)) X dX0_day_92 (by decide) ?_
    refine z_ci (z_runV (rest := [.int ((-1000000))]) (n := 1) X [.int ((-2))] (m_X0_no_2 hX) dX0_day_94 hX.ob rfl (lw_V q350 q352 qs2 q66 q353) hv_X0_no rfl ⟨Nat.le_of_ble_eq_true rfl, Nat.le_of_ble_eq_true rfl⟩ ⟨by omega, by omega⟩ rfl (Nat.le_of_ble_eq_true rfl)) (fun r2 w4 h3 => ?_)
    obtain ⟨r2e, hX3⟩ := h3
    rw [r2e]
    refine z_iadd (v := (-1000000) + (-2)) X dX0_day_97 rfl ?_
    have e : spDay o w_ = ((-1000000) + (-2), oRef o 2) := by
      unfold spDay
      repeat (first | rw [el_some (by assumption)] | rw [el_none (by assumption)] | rw [if_pos (by omega)] | rw [if_neg (by omega)] | rw [if_pos (by assumption)] | rw [if_neg (ts_n (by assumption))])
      all_goals first | rfl | (exfalso; omega)
    exact z_iret X dX0_day_98 (by omega) (by omega) ⟨_, rfl, (by rw [e]; exact ⟨⟨_, _, rfl, hX3⟩, rfl⟩)⟩
set_option maxHeartbeats 2000000 in
theorem x_ask {l : Launch} {G : GG} {w : GW} {xa : Nat → Nat} {rr : Option Nat} {o : OS} {im : IM} (hX : XT G w xa rr o im) (hO : oInv o) {w_ v : Int32} : gM l G yX0_ask cX0_ask 5 (some .int) 3 0 0 [.ref (xa 0), .int (w_), .int (v)] w (pI (fun r w1 => XE G (xa 0) w1 (spAsk o w_ v).2 im ∧ r = (spAsk o w_ v).1)) := by
  refine Z.met (own := "ThreeSizes") (nm := "ask") (lv := [(0, .ref (xa 0)), (1, .int (w_)), (2, .int (v))]) (by decide) rfl rfl (Nat.le_of_ble_eq_true rfl) rfl (fun κ X => ?_)
  have hI := hO.1
  have h6 := hI.2.1
  have ht200 := hO.2.2.2
  by_cases c1 : nI 0 ≤ w_ ∧ w_ ≤ nI 1
  · obtain ⟨w_N, w_Nl, w_Nh, rfl, e1⟩ := rgb_t (lo := 0) (hi := 1) (by decide) (by decide) c1
    refine z_iload_n X dX0_ask_0 rfl 1 rfl ?_
    refine z_if_ne (tgt := 14) X dX0_ask_1 (by decide) (nz_eq (by omega)) (fun c2 => ?_) (fun c2 => ?_)
    · refine z_iload_n X dX0_ask_14 rfl 1 rfl ?_
      refine z_iconst (v := nI (1)) X dX0_ask_15 ci1 ?_
      refine z_icmp_ne (tgt := 33) X dX0_ask_16 (by decide) (nI_eq (by omega) (by omega)) (fun c3 => ?_) (fun c3 => ?_)
      · refine z_iconst (v := nI (0)) X dX0_ask_33 ci0 ?_
        refine z_istore_n (lv2 := [(3, .int (nI (0))), (0, .ref (xa 0)), (1, .int (nI (w_N))), (2, .int (v))]) X dX0_ask_34 rfl (Nat.le_of_ble_eq_true rfl) rfl ?_
        refine z_iload_n X dX0_ask_35 rfl 0 rfl ?_
        refine z_if_ne_f (tgt := 46) X dX0_ask_36 (by decide) (by decide) ?_
        refine z_aload_n X dX0_ask_39 rfl 1 rfl ?_
        refine z_bipush (v := (-2)) X dX0_ask_40 (by decide) ?_
        refine z_ci (z_runV (rest := []) (n := 1) X [.int ((-2))] (m_X0_no_2 hX) dX0_ask_42 hX.ob rfl (lw_V q350 q352 qs2 q66 q353) hv_X0_no rfl ⟨Nat.le_of_ble_eq_true rfl, Nat.le_of_ble_eq_true rfl⟩ ⟨by omega, by omega⟩ rfl (Nat.le_of_ble_eq_true rfl)) (fun r4 w6 h5 => ?_)
        obtain ⟨r4e, hX5⟩ := h5
        rw [r4e]
        have e : spAsk o (nI w_N) v = ((-2), oRef o 2) := by
          unfold spAsk
          repeat (first | rw [el_some (by assumption)] | rw [el_none (by assumption)] | rw [if_pos (by omega)] | rw [if_neg (by omega)] | rw [if_pos (by assumption)] | rw [if_neg (ts_n (by assumption))])
          all_goals first | rfl | (exfalso; omega)
        exact z_iret X dX0_ask_45 (by omega) (by omega) ⟨_, rfl, (by rw [e]; exact ⟨⟨_, _, rfl, hX5⟩, rfl⟩)⟩
      · refine z_iload_n X dX0_ask_19 rfl 2 rfl ?_
        refine z_iconst (v := nI (0)) X dX0_ask_20 ci0 ?_
        refine z_bipush (v := nI (99)) X dX0_ask_21 (by decide) ?_
        refine z_cip (z_runS (rest := []) (n := 3) X [.int (v), .int (nI (0)), .int (nI (99))] m_X0_isIn dX0_ask_23 (lw_S q347 q348 q66 q349) hs_X0_isIn rfl ⟨Nat.le_of_ble_eq_true rfl, Nat.le_of_ble_eq_true rfl⟩ ⟨by omega, by omega⟩ rfl (Nat.le_of_ble_eq_true rfl)) ?_
        refine z_if_eq (tgt := 33) X dX0_ask_26 (by decide) bI_d (fun c7 => ?_) (fun c7 => ?_)
        · have e2 : rgb 0 99 v = none := rgb_f c7
          refine z_iconst (v := nI (0)) X dX0_ask_33 ci0 ?_
          refine z_istore_n (lv2 := [(3, .int (nI (0))), (0, .ref (xa 0)), (1, .int (nI (w_N))), (2, .int (v))]) X dX0_ask_34 rfl (Nat.le_of_ble_eq_true rfl) rfl ?_
          refine z_iload_n X dX0_ask_35 rfl 0 rfl ?_
          refine z_if_ne_f (tgt := 46) X dX0_ask_36 (by decide) (by decide) ?_
          refine z_aload_n X dX0_ask_39 rfl 1 rfl ?_
          refine z_bipush (v := (-2)) X dX0_ask_40 (by decide) ?_
          refine z_ci (z_runV (rest := []) (n := 1) X [.int ((-2))] (m_X0_no_2 hX) dX0_ask_42 hX.ob rfl (lw_V q350 q352 qs2 q66 q353) hv_X0_no rfl ⟨Nat.le_of_ble_eq_true rfl, Nat.le_of_ble_eq_true rfl⟩ ⟨by omega, by omega⟩ rfl (Nat.le_of_ble_eq_true rfl)) (fun r8 w10 h9 => ?_)
          obtain ⟨r8e, hX9⟩ := h9
          rw [r8e]
          have e : spAsk o (nI w_N) v = ((-2), oRef o 2) := by
            unfold spAsk
            repeat (first | rw [el_some (by assumption)] | rw [el_none (by assumption)] | rw [if_pos (by omega)] | rw [if_neg (by omega)] | rw [if_pos (by assumption)] | rw [if_neg (ts_n (by assumption))])
            all_goals first | rfl | (exfalso; omega)
          exact z_iret X dX0_ask_45 (by omega) (by omega) ⟨_, rfl, (by rw [e]; exact ⟨⟨_, _, rfl, hX9⟩, rfl⟩)⟩
        · have c7 := Classical.not_not.mp c7
          obtain ⟨vN, vNl, vNh, rfl, e3⟩ := rgb_t (lo := 0) (hi := 99) (by decide) (by decide) (c7)
          refine z_iconst (v := nI (1)) X dX0_ask_29 ci1 ?_
          refine z_goto (tgt := 34) X dX0_ask_30 (by decide) ?_
          refine z_istore_n (lv2 := [(3, .int (nI (1))), (0, .ref (xa 0)), (1, .int (nI (w_N))), (2, .int (nI (vN)))]) X dX0_ask_34 rfl (Nat.le_of_ble_eq_true rfl) rfl ?_
          refine z_iload_n X dX0_ask_35 rfl 0 rfl ?_
          refine z_if_ne_t (tgt := 46) X dX0_ask_36 (by decide) (by decide) ?_
          rcases (show w_N = 0 ∨ w_N = 1 by omega) with rfl | rfl
          · skip
            refine z_iload_n X dX0_ask_46 rfl 2 rfl ?_
            refine z_if_ne_f (tgt := 63) X dX0_ask_47 (by decide) (by decide) ?_
            refine z_aload_n X dX0_ask_50 rfl 1 rfl ?_
            refine z_get X dX0_ask_51 hX.ob in_X0 rfl 0 (Nat.le_of_ble_eq_true rfl) q233 rfl ?_
            refine z_get X dX0_ask_54 hX.day in_X1 rfl 0 (Nat.le_of_ble_eq_true rfl) q190 rfl ?_
            refine z_get X dX0_ask_57 (wl_o hX.wall) in_X2 rfl 9 (Nat.le_of_ble_eq_true rfl) q160 rfl ?_
            refine z_goto (tgt := 73) X dX0_ask_60 (by decide) ?_
            refine z_istore (lv2 := [(4, .int (nI (o.1.2 1))), (3, .int (nI (1))), (0, .ref (xa 0)), (1, .int (nI (0))), (2, .int (nI (vN)))]) X dX0_ask_73 (Nat.le_of_ble_eq_true rfl) rfl ?_
            refine z_aload_n X dX0_ask_75 rfl 2 rfl ?_
            refine z_get X dX0_ask_76 hX.ob in_X0 rfl 0 (Nat.le_of_ble_eq_true rfl) q233 rfl ?_
            refine z_get X dX0_ask_79 hX.day in_X1 rfl 0 (Nat.le_of_ble_eq_true rfl) q190 rfl ?_
            refine z_iload_n X dX0_ask_82 rfl 3 rfl ?_
            refine z_if_ne_f (tgt := 90) X dX0_ask_83 (by decide) (by decide) ?_
            refine z_iload_n X dX0_ask_86 rfl 4 rfl ?_
            refine z_goto (tgt := 100) X dX0_ask_87 (by decide) ?_
            refine z_put X dX0_ask_100 (wl_o hX.wall) in_X2 tyX2 tyX2_ok nmX2 rfl 9 (Nat.le_of_ble_eq_true rfl) q160 rfl rfl rfl (Nat.le_of_ble_eq_true rfl) ?_
            have hXp11 := XT.wputF hX 1 vN (by decide) rfl
            refine z_aload_n X dX0_ask_103 rfl 2 rfl ?_
            refine z_get X dX0_ask_104 hXp11.ob in_X0 rfl 0 (Nat.le_of_ble_eq_true rfl) q233 rfl ?_
            refine z_get X dX0_ask_107 hXp11.day in_X1 rfl 0 (Nat.le_of_ble_eq_true rfl) q190 rfl ?_
            refine z_iload_n X dX0_ask_110 rfl 3 rfl ?_
            refine z_iconst (v := nI (1)) X dX0_ask_111 ci1 ?_
            refine z_icmp_ne_t (tgt := 119) X dX0_ask_112 (by decide) (by decide) ?_
            refine z_aload_n X dX0_ask_119 rfl 2 rfl ?_
            refine z_get X dX0_ask_120 hXp11.ob in_X0 rfl 0 (Nat.le_of_ble_eq_true rfl) q233 rfl ?_
            refine z_get X dX0_ask_123 hXp11.day in_X1 rfl 0 (Nat.le_of_ble_eq_true rfl) q190 rfl ?_
            refine z_get X dX0_ask_126 (wl_o hXp11.wall) in_X2 rfl 10 (Nat.le_of_ble_eq_true rfl) q164 rfl ?_
            refine z_put X dX0_ask_129 (wl_o hXp11.wall) in_X2 tyX2 tyX2_ok nmX2 rfl 10 (Nat.le_of_ble_eq_true rfl) q164 rfl rfl rfl (Nat.le_of_ble_eq_true rfl) ?_
            have hXp12 := XT.wsame hXp11 rfl
            refine z_iload X dX0_ask_132 0 rfl ?_
            have e : spAsk o (nI 0) (nI vN) = (nI (o.1.2 1), (oW o (wPut0 o.1 1 vN))) := by
              unfold spAsk
              repeat (first | rw [el_some (by assumption)] | rw [el_none (by assumption)] | rw [if_pos (by omega)] | rw [if_neg (by omega)] | rw [if_pos (by assumption)] | rw [if_neg (ts_n (by assumption))])
              all_goals first | rfl | (exfalso; omega)
            exact z_iret X dX0_ask_134 (by omega) (by omega) ⟨_, rfl, (by rw [e]; exact ⟨⟨_, _, rfl, hXp12⟩, rfl⟩)⟩
          · skip
            refine z_iload_n X dX0_ask_46 rfl 2 rfl ?_
            refine z_if_ne_t (tgt := 63) X dX0_ask_47 (by decide) (by decide) ?_
            refine z_aload_n X dX0_ask_63 rfl 1 rfl ?_
            refine z_get X dX0_ask_64 hX.ob in_X0 rfl 0 (Nat.le_of_ble_eq_true rfl) q233 rfl ?_
            refine z_get X dX0_ask_67 hX.day in_X1 rfl 0 (Nat.le_of_ble_eq_true rfl) q190 rfl ?_
            refine z_get X dX0_ask_70 (wl_o hX.wall) in_X2 rfl 10 (Nat.le_of_ble_eq_true rfl) q164 rfl ?_
            refine z_istore (lv2 := [(4, .int (nI (o.1.2 2))), (3, .int (nI (1))), (0, .ref (xa 0)), (1, .int (nI (1))), (2, .int (nI (vN)))]) X dX0_ask_73 (Nat.le_of_ble_eq_true rfl) rfl ?_
            refine z_aload_n X dX0_ask_75 rfl 2 rfl ?_
            refine z_get X dX0_ask_76 hX.ob in_X0 rfl 0 (Nat.le_of_ble_eq_true rfl) q233 rfl ?_
            refine z_get X dX0_ask_79 hX.day in_X1 rfl 0 (Nat.le_of_ble_eq_true rfl) q190 rfl ?_
            refine z_iload_n X dX0_ask_82 rfl 3 rfl ?_
            refine z_if_ne_t (tgt := 90) X dX0_ask_83 (by decide) (by decide) ?_
            refine z_aload_n X dX0_ask_90 rfl 2 rfl ?_
            refine z_get X dX0_ask_91 hX.ob in_X0 rfl 0 (Nat.le_of_ble_eq_true rfl) q233 rfl ?_
            refine z_get X dX0_ask_94 hX.day in_X1 rfl 0 (Nat.le_of_ble_eq_true rfl) q190 rfl ?_
            refine z_get X dX0_ask_97 (wl_o hX.wall) in_X2 rfl 9 (Nat.le_of_ble_eq_true rfl) q160 rfl ?_
            refine z_put X dX0_ask_100 (wl_o hX.wall) in_X2 tyX2 tyX2_ok nmX2 rfl 9 (Nat.le_of_ble_eq_true rfl) q160 rfl rfl rfl (Nat.le_of_ble_eq_true rfl) ?_
            have hXp13 := XT.wsame hX rfl
            refine z_aload_n X dX0_ask_103 rfl 2 rfl ?_
            refine z_get X dX0_ask_104 hXp13.ob in_X0 rfl 0 (Nat.le_of_ble_eq_true rfl) q233 rfl ?_
            refine z_get X dX0_ask_107 hXp13.day in_X1 rfl 0 (Nat.le_of_ble_eq_true rfl) q190 rfl ?_
            refine z_iload_n X dX0_ask_110 rfl 3 rfl ?_
            refine z_iconst (v := nI (1)) X dX0_ask_111 ci1 ?_
            refine z_icmp_ne_f (tgt := 119) X dX0_ask_112 (by decide) (by decide) ?_
            refine z_iload_n X dX0_ask_115 rfl 4 rfl ?_
            refine z_goto (tgt := 129) X dX0_ask_116 (by decide) ?_
            refine z_put X dX0_ask_129 (wl_o hXp13.wall) in_X2 tyX2 tyX2_ok nmX2 rfl 10 (Nat.le_of_ble_eq_true rfl) q164 rfl rfl rfl (Nat.le_of_ble_eq_true rfl) ?_
            have hXp14 := XT.wputF hXp13 2 vN (by decide) rfl
            refine z_iload X dX0_ask_132 0 rfl ?_
            have e : spAsk o (nI 1) (nI vN) = (nI (o.1.2 2), (oW o (wPut0 o.1 2 vN))) := by
              unfold spAsk
              repeat (first | rw [el_some (by assumption)] | rw [el_none (by assumption)] | rw [if_pos (by omega)] | rw [if_neg (by omega)] | rw [if_pos (by assumption)] | rw [if_neg (ts_n (by assumption))])
              all_goals first | rfl | (exfalso; omega)
            exact z_iret X dX0_ask_134 (by omega) (by omega) ⟨_, rfl, (by rw [e]; exact ⟨⟨_, _, rfl, hXp14⟩, rfl⟩)⟩
    · refine z_iload_n X dX0_ask_4 rfl 2 rfl ?_
      refine z_iconst (v := nI (0)) X dX0_ask_5 ci0 ?_
      refine z_bipush (v := nI (10)) X dX0_ask_6 (by decide) ?_
      refine z_cip (z_runS (rest := []) (n := 3) X [.int (v), .int (nI (0)), .int (nI (10))] m_X0_isIn dX0_ask_8 (lw_S q347 q348 q66 q349) hs_X0_isIn rfl ⟨Nat.le_of_ble_eq_true rfl, Nat.le_of_ble_eq_true rfl⟩ ⟨by omega, by omega⟩ rfl (Nat.le_of_ble_eq_true rfl)) ?_
      refine z_goto (tgt := 34) X dX0_ask_11 (by decide) ?_
      refine z_istore_n (lv2 := [(3, .int (bI (decide (nI (0) ≤ v ∧ v ≤ nI (10))))), (0, .ref (xa 0)), (1, .int (nI (w_N))), (2, .int (v))]) X dX0_ask_34 rfl (Nat.le_of_ble_eq_true rfl) rfl ?_
      refine z_iload_n X dX0_ask_35 rfl 0 rfl ?_
      refine z_if_ne (tgt := 46) X dX0_ask_36 (by decide) bI_d (fun c15 => ?_) (fun c15 => ?_)
      · have c15 := Classical.not_not.mp c15
        obtain ⟨vN, vNl, vNh, rfl, e4⟩ := rgb_t (lo := 0) (hi := 10) (by decide) (by decide) (c15)
        rcases (show w_N = 0 ∨ w_N = 1 by omega) with rfl | rfl
        · skip
          refine z_iload_n X dX0_ask_46 rfl 2 rfl ?_
          refine z_if_ne_f (tgt := 63) X dX0_ask_47 (by decide) (by decide) ?_
          refine z_aload_n X dX0_ask_50 rfl 1 rfl ?_
          refine z_get X dX0_ask_51 hX.ob in_X0 rfl 0 (Nat.le_of_ble_eq_true rfl) q233 rfl ?_
          refine z_get X dX0_ask_54 hX.day in_X1 rfl 0 (Nat.le_of_ble_eq_true rfl) q190 rfl ?_
          refine z_get X dX0_ask_57 (wl_o hX.wall) in_X2 rfl 9 (Nat.le_of_ble_eq_true rfl) q160 rfl ?_
          refine z_goto (tgt := 73) X dX0_ask_60 (by decide) ?_
          refine z_istore (lv2 := [(4, .int (nI (o.1.2 1))), (3, .int (bI (decide (nI (0) ≤ (nI (vN)) ∧ (nI (vN)) ≤ nI (10))))), (0, .ref (xa 0)), (1, .int (nI (0))), (2, .int (nI (vN)))]) X dX0_ask_73 (Nat.le_of_ble_eq_true rfl) rfl ?_
          refine z_aload_n X dX0_ask_75 rfl 2 rfl ?_
          refine z_get X dX0_ask_76 hX.ob in_X0 rfl 0 (Nat.le_of_ble_eq_true rfl) q233 rfl ?_
          refine z_get X dX0_ask_79 hX.day in_X1 rfl 0 (Nat.le_of_ble_eq_true rfl) q190 rfl ?_
          refine z_iload_n X dX0_ask_82 rfl 3 rfl ?_
          refine z_if_ne_f (tgt := 90) X dX0_ask_83 (by decide) (by decide) ?_
          refine z_iload_n X dX0_ask_86 rfl 4 rfl ?_
          refine z_goto (tgt := 100) X dX0_ask_87 (by decide) ?_
          refine z_put X dX0_ask_100 (wl_o hX.wall) in_X2 tyX2 tyX2_ok nmX2 rfl 9 (Nat.le_of_ble_eq_true rfl) q160 rfl rfl rfl (Nat.le_of_ble_eq_true rfl) ?_
          have hXp16 := XT.wputF hX 1 vN (by decide) rfl
          refine z_aload_n X dX0_ask_103 rfl 2 rfl ?_
          refine z_get X dX0_ask_104 hXp16.ob in_X0 rfl 0 (Nat.le_of_ble_eq_true rfl) q233 rfl ?_
          refine z_get X dX0_ask_107 hXp16.day in_X1 rfl 0 (Nat.le_of_ble_eq_true rfl) q190 rfl ?_
          refine z_iload_n X dX0_ask_110 rfl 3 rfl ?_
          refine z_iconst (v := nI (1)) X dX0_ask_111 ci1 ?_
          refine z_icmp_ne_t (tgt := 119) X dX0_ask_112 (by decide) (by decide) ?_
          refine z_aload_n X dX0_ask_119 rfl 2 rfl ?_
          refine z_get X dX0_ask_120 hXp16.ob in_X0 rfl 0 (Nat.le_of_ble_eq_true rfl) q233 rfl ?_
          refine z_get X dX0_ask_123 hXp16.day in_X1 rfl 0 (Nat.le_of_ble_eq_true rfl) q190 rfl ?_
          refine z_get X dX0_ask_126 (wl_o hXp16.wall) in_X2 rfl 10 (Nat.le_of_ble_eq_true rfl) q164 rfl ?_
          refine z_put X dX0_ask_129 (wl_o hXp16.wall) in_X2 tyX2 tyX2_ok nmX2 rfl 10 (Nat.le_of_ble_eq_true rfl) q164 rfl rfl rfl (Nat.le_of_ble_eq_true rfl) ?_
          have hXp17 := XT.wsame hXp16 rfl
          refine z_iload X dX0_ask_132 0 rfl ?_
          have e : spAsk o (nI 0) (nI vN) = (nI (o.1.2 1), (oW o (wPut0 o.1 1 vN))) := by
            unfold spAsk
            repeat (first | rw [el_some (by assumption)] | rw [el_none (by assumption)] | rw [if_pos (by omega)] | rw [if_neg (by omega)] | rw [if_pos (by assumption)] | rw [if_neg (ts_n (by assumption))])
            all_goals first | rfl | (exfalso; omega)
          exact z_iret X dX0_ask_134 (by omega) (by omega) ⟨_, rfl, (by rw [e]; exact ⟨⟨_, _, rfl, hXp17⟩, rfl⟩)⟩
        · skip
          refine z_iload_n X dX0_ask_46 rfl 2 rfl ?_
          refine z_if_ne_t (tgt := 63) X dX0_ask_47 (by decide) (by decide) ?_
          refine z_aload_n X dX0_ask_63 rfl 1 rfl ?_
          refine z_get X dX0_ask_64 hX.ob in_X0 rfl 0 (Nat.le_of_ble_eq_true rfl) q233 rfl ?_
          refine z_get X dX0_ask_67 hX.day in_X1 rfl 0 (Nat.le_of_ble_eq_true rfl) q190 rfl ?_
          refine z_get X dX0_ask_70 (wl_o hX.wall) in_X2 rfl 10 (Nat.le_of_ble_eq_true rfl) q164 rfl ?_
          refine z_istore (lv2 := [(4, .int (nI (o.1.2 2))), (3, .int (bI (decide (nI (0) ≤ (nI (vN)) ∧ (nI (vN)) ≤ nI (10))))), (0, .ref (xa 0)), (1, .int (nI (1))), (2, .int (nI (vN)))]) X dX0_ask_73 (Nat.le_of_ble_eq_true rfl) rfl ?_
          refine z_aload_n X dX0_ask_75 rfl 2 rfl ?_
          refine z_get X dX0_ask_76 hX.ob in_X0 rfl 0 (Nat.le_of_ble_eq_true rfl) q233 rfl ?_
          refine z_get X dX0_ask_79 hX.day in_X1 rfl 0 (Nat.le_of_ble_eq_true rfl) q190 rfl ?_
          refine z_iload_n X dX0_ask_82 rfl 3 rfl ?_
          refine z_if_ne_t (tgt := 90) X dX0_ask_83 (by decide) (by decide) ?_
          refine z_aload_n X dX0_ask_90 rfl 2 rfl ?_
          refine z_get X dX0_ask_91 hX.ob in_X0 rfl 0 (Nat.le_of_ble_eq_true rfl) q233 rfl ?_
          refine z_get X dX0_ask_94 hX.day in_X1 rfl 0 (Nat.le_of_ble_eq_true rfl) q190 rfl ?_
          refine z_get X dX0_ask_97 (wl_o hX.wall) in_X2 rfl 9 (Nat.le_of_ble_eq_true rfl) q160 rfl ?_
          refine z_put X dX0_ask_100 (wl_o hX.wall) in_X2 tyX2 tyX2_ok nmX2 rfl 9 (Nat.le_of_ble_eq_true rfl) q160 rfl rfl rfl (Nat.le_of_ble_eq_true rfl) ?_
          have hXp18 := XT.wsame hX rfl
          refine z_aload_n X dX0_ask_103 rfl 2 rfl ?_
          refine z_get X dX0_ask_104 hXp18.ob in_X0 rfl 0 (Nat.le_of_ble_eq_true rfl) q233 rfl ?_
          refine z_get X dX0_ask_107 hXp18.day in_X1 rfl 0 (Nat.le_of_ble_eq_true rfl) q190 rfl ?_
          refine z_iload_n X dX0_ask_110 rfl 3 rfl ?_
          refine z_iconst (v := nI (1)) X dX0_ask_111 ci1 ?_
          refine z_icmp_ne_f (tgt := 119) X dX0_ask_112 (by decide) (by decide) ?_
          refine z_iload_n X dX0_ask_115 rfl 4 rfl ?_
          refine z_goto (tgt := 129) X dX0_ask_116 (by decide) ?_
          refine z_put X dX0_ask_129 (wl_o hXp18.wall) in_X2 tyX2 tyX2_ok nmX2 rfl 10 (Nat.le_of_ble_eq_true rfl) q164 rfl rfl rfl (Nat.le_of_ble_eq_true rfl) ?_
          have hXp19 := XT.wputF hXp18 2 vN (by decide) rfl
          refine z_iload X dX0_ask_132 0 rfl ?_
          have e : spAsk o (nI 1) (nI vN) = (nI (o.1.2 2), (oW o (wPut0 o.1 2 vN))) := by
            unfold spAsk
            repeat (first | rw [el_some (by assumption)] | rw [el_none (by assumption)] | rw [if_pos (by omega)] | rw [if_neg (by omega)] | rw [if_pos (by assumption)] | rw [if_neg (ts_n (by assumption))])
            all_goals first | rfl | (exfalso; omega)
          exact z_iret X dX0_ask_134 (by omega) (by omega) ⟨_, rfl, (by rw [e]; exact ⟨⟨_, _, rfl, hXp19⟩, rfl⟩)⟩
      · have e5 : rgb 0 10 v = none := rgb_f c15
        refine z_aload_n X dX0_ask_39 rfl 1 rfl ?_
        refine z_bipush (v := (-2)) X dX0_ask_40 (by decide) ?_
        refine z_ci (z_runV (rest := []) (n := 1) X [.int ((-2))] (m_X0_no_2 hX) dX0_ask_42 hX.ob rfl (lw_V q350 q352 qs2 q66 q353) hv_X0_no rfl ⟨Nat.le_of_ble_eq_true rfl, Nat.le_of_ble_eq_true rfl⟩ ⟨by omega, by omega⟩ rfl (Nat.le_of_ble_eq_true rfl)) (fun r20 w22 h21 => ?_)
        obtain ⟨r20e, hX21⟩ := h21
        rw [r20e]
        have e : spAsk o (nI w_N) v = ((-2), oRef o 2) := by
          unfold spAsk
          repeat (first | rw [el_some (by assumption)] | rw [el_none (by assumption)] | rw [if_pos (by omega)] | rw [if_neg (by omega)] | rw [if_pos (by assumption)] | rw [if_neg (ts_n (by assumption))])
          all_goals first | rfl | (exfalso; omega)
        exact z_iret X dX0_ask_45 (by omega) (by omega) ⟨_, rfl, (by rw [e]; exact ⟨⟨_, _, rfl, hX21⟩, rfl⟩)⟩
  · have e1 : rgb 0 1 w_ = none := rgb_f c1
    refine z_iload_n X dX0_ask_0 rfl 1 rfl ?_
    refine z_if_ne_t (tgt := 14) X dX0_ask_1 (by decide) (fun h => c1 (by rw [h]; decide)) ?_
    refine z_iload_n X dX0_ask_14 rfl 1 rfl ?_
    refine z_iconst (v := nI (1)) X dX0_ask_15 ci1 ?_
    refine z_icmp_ne_t (tgt := 33) X dX0_ask_16 (by decide) (fun h => c1 (by rw [h]; decide)) ?_
    refine z_iconst (v := nI (0)) X dX0_ask_33 ci0 ?_
    refine z_istore_n (lv2 := [(3, .int (nI (0))), (0, .ref (xa 0)), (1, .int (w_)), (2, .int (v))]) X dX0_ask_34 rfl (Nat.le_of_ble_eq_true rfl) rfl ?_
    refine z_iload_n X dX0_ask_35 rfl 0 rfl ?_
    refine z_if_ne_f (tgt := 46) X dX0_ask_36 (by decide) (by decide) ?_
    refine z_aload_n X dX0_ask_39 rfl 1 rfl ?_
    refine z_bipush (v := (-2)) X dX0_ask_40 (by decide) ?_
    refine z_ci (z_runV (rest := []) (n := 1) X [.int ((-2))] (m_X0_no_2 hX) dX0_ask_42 hX.ob rfl (lw_V q350 q352 qs2 q66 q353) hv_X0_no rfl ⟨Nat.le_of_ble_eq_true rfl, Nat.le_of_ble_eq_true rfl⟩ ⟨by omega, by omega⟩ rfl (Nat.le_of_ble_eq_true rfl)) (fun r23 w25 h24 => ?_)
    obtain ⟨r23e, hX24⟩ := h24
    rw [r23e]
    have e : spAsk o w_ v = ((-2), oRef o 2) := by
      unfold spAsk
      repeat (first | rw [el_some (by assumption)] | rw [el_none (by assumption)] | rw [if_pos (by omega)] | rw [if_neg (by omega)] | rw [if_pos (by assumption)] | rw [if_neg (ts_n (by assumption))])
      all_goals first | rfl | (exfalso; omega)
    exact z_iret X dX0_ask_45 (by omega) (by omega) ⟨_, rfl, (by rw [e]; exact ⟨⟨_, _, rfl, hX24⟩, rfl⟩)⟩
set_option maxHeartbeats 2000000 in
theorem x_size {l : Launch} {G : GG} {w : GW} {xa : Nat → Nat} {rr : Option Nat} {o : OS} {im : IM} (hX : XT G w xa rr o im) (hO : oInv o) {z w_ v : Int32} : gM l G yX0_size cX0_size 6 (some .int) 3 0 0 [.ref (xa 0), .int (z), .int (w_), .int (v)] w (pI (fun r w1 => XE G (xa 0) w1 (spSize o z w_ v).2 im ∧ r = (spSize o z w_ v).1)) := by
  refine Z.met (own := "ThreeSizes") (nm := "size") (lv := [(0, .ref (xa 0)), (1, .int (z)), (2, .int (w_)), (3, .int (v))]) (by decide) rfl rfl (Nat.le_of_ble_eq_true rfl) rfl (fun κ X => ?_)
  have hI := hO.1
  have h6 := hI.2.1
  have ht200 := hO.2.2.2
  refine z_iload_n X dX0_size_0 rfl 1 rfl ?_
  refine z_cip (z_runS (rest := []) (n := 1) X [.int (z)] (m_X0_isSize (v := z)) dX0_size_1 (lw_S q771 q772 q66 q773) hs_X0_isSize rfl ⟨Nat.le_of_ble_eq_true rfl, Nat.le_of_ble_eq_true rfl⟩ ⟨by omega, by omega⟩ rfl (Nat.le_of_ble_eq_true rfl)) ?_
  refine z_if_eq (tgt := 35) X dX0_size_4 (by decide) bI_d (fun c1 => ?_) (fun c1 => ?_)
  · have e1 : rgb 0 2 z = none := rgb_f c1
    refine z_aload_n X dX0_size_35 rfl 0 rfl ?_
    refine z_bipush (v := (-2)) X dX0_size_36 (by decide) ?_
    refine z_ci (z_runV (rest := []) (n := 1) X [.int ((-2))] (m_X0_no_2 hX) dX0_size_38 hX.ob rfl (lw_V q350 q352 qs2 q66 q353) hv_X0_no rfl ⟨Nat.le_of_ble_eq_true rfl, Nat.le_of_ble_eq_true rfl⟩ ⟨by omega, by omega⟩ rfl (Nat.le_of_ble_eq_true rfl)) (fun r2 w4 h3 => ?_)
    obtain ⟨r2e, hX3⟩ := h3
    rw [r2e]
    have e : spSize o z w_ v = ((-2), oRef o 2) := by
      unfold spSize
      repeat (first | rw [el_some (by assumption)] | rw [el_none (by assumption)] | rw [if_pos (by omega)] | rw [if_neg (by omega)] | rw [if_pos (by assumption)] | rw [if_neg (ts_n (by assumption))])
      all_goals first | rfl | (exfalso; omega)
    exact z_iret X dX0_size_41 (by omega) (by omega) ⟨_, rfl, (by rw [e]; exact ⟨⟨_, _, rfl, hX3⟩, rfl⟩)⟩
  · have c1 := Classical.not_not.mp c1
    obtain ⟨zN, zNl, zNh, rfl, e2⟩ := rgb_t (lo := 0) (hi := 2) (by decide) (by decide) (c1)
    refine z_iload_n X dX0_size_7 rfl 2 rfl ?_
    refine z_iconst (v := nI (0)) X dX0_size_8 ci0 ?_
    refine z_iconst (v := nI (2)) X dX0_size_9 ci2 ?_
    refine z_cip (z_runS (rest := []) (n := 3) X [.int (w_), .int (nI (0)), .int (nI (2))] m_X0_isIn dX0_size_10 (lw_S q347 q348 q66 q349) hs_X0_isIn rfl ⟨Nat.le_of_ble_eq_true rfl, Nat.le_of_ble_eq_true rfl⟩ ⟨by omega, by omega⟩ rfl (Nat.le_of_ble_eq_true rfl)) ?_
    refine z_if_eq (tgt := 35) X dX0_size_13 (by decide) bI_d (fun c5 => ?_) (fun c5 => ?_)
    · have e3 : rgb 0 2 w_ = none := rgb_f c5
      refine z_aload_n X dX0_size_35 rfl 0 rfl ?_
      refine z_bipush (v := (-2)) X dX0_size_36 (by decide) ?_
      refine z_ci (z_runV (rest := []) (n := 1) X [.int ((-2))] (m_X0_no_2 hX) dX0_size_38 hX.ob rfl (lw_V q350 q352 qs2 q66 q353) hv_X0_no rfl ⟨Nat.le_of_ble_eq_true rfl, Nat.le_of_ble_eq_true rfl⟩ ⟨by omega, by omega⟩ rfl (Nat.le_of_ble_eq_true rfl)) (fun r6 w8 h7 => ?_)
      obtain ⟨r6e, hX7⟩ := h7
      rw [r6e]
      have e : spSize o (nI zN) w_ v = ((-2), oRef o 2) := by
        unfold spSize
        repeat (first | rw [el_some (by assumption)] | rw [el_none (by assumption)] | rw [if_pos (by omega)] | rw [if_neg (by omega)] | rw [if_pos (by assumption)] | rw [if_neg (ts_n (by assumption))])
        all_goals first | rfl | (exfalso; omega)
      exact z_iret X dX0_size_41 (by omega) (by omega) ⟨_, rfl, (by rw [e]; exact ⟨⟨_, _, rfl, hX7⟩, rfl⟩)⟩
    · have c5 := Classical.not_not.mp c5
      obtain ⟨w_N, w_Nl, w_Nh, rfl, e4⟩ := rgb_t (lo := 0) (hi := 2) (by decide) (by decide) (c5)
      refine z_iload_n X dX0_size_16 rfl 3 rfl ?_
      refine z_iconst (v := nI (0)) X dX0_size_17 ci0 ?_
      refine z_iload_n X dX0_size_18 rfl 2 rfl ?_
      refine z_iconst (v := nI (2)) X dX0_size_19 ci2 ?_
      refine z_icmp_ne (tgt := 28) X dX0_size_20 (by decide) (nI_eq (by omega) (by omega)) (fun c9 => ?_) (fun c9 => ?_)
      · refine z_iconst (v := nI (4)) X dX0_size_28 ci4 ?_
        refine z_cip (z_runS (rest := []) (n := 3) X [.int (v), .int (nI (0)), .int (nI (4))] m_X0_isIn dX0_size_29 (lw_S q347 q348 q66 q349) hs_X0_isIn rfl ⟨Nat.le_of_ble_eq_true rfl, Nat.le_of_ble_eq_true rfl⟩ ⟨by omega, by omega⟩ rfl (Nat.le_of_ble_eq_true rfl)) ?_
        refine z_if_ne (tgt := 42) X dX0_size_32 (by decide) bI_d (fun c10 => ?_) (fun c10 => ?_)
        · have c10 := Classical.not_not.mp c10
          obtain ⟨vN, vNl, vNh, rfl, e5⟩ := rgb_t (lo := 0) (hi := 4) (by decide) (by decide) (c10)
          refine z_aload_n X dX0_size_42 rfl 0 rfl ?_
          refine z_get X dX0_size_43 hX.ob in_X0 rfl 0 (Nat.le_of_ble_eq_true rfl) q233 rfl ?_
          refine z_get X dX0_size_46 hX.day in_X1 rfl 0 (Nat.le_of_ble_eq_true rfl) q190 rfl ?_
          refine z_astore (lv2 := [(4, .ref (xa 5)), (0, .ref (xa 0)), (1, .int (nI (zN))), (2, .int (nI (w_N))), (3, .int (nI (vN)))]) X dX0_size_49 (Nat.le_of_ble_eq_true rfl) rfl ?_
          rcases (show w_N = 0 ∨ w_N = 1 ∨ w_N = 2 by omega) with rfl | rfl | rfl
          · skip
            have wz := hI.1 zN (by omega)
            refine z_iload_n X dX0_size_51 rfl 3 rfl ?_
            refine z_look (off := 28) (tgt := 80) X dX0_size_52 (by decide) (by decide) (by decide) ?_
            refine z_iload_n X dX0_size_80 rfl 4 rfl ?_
            refine z_aload X dX0_size_81 0 rfl ?_
            refine z_get X dX0_size_83 (wl_o hX.wall) in_X2 rfl 1 (Nat.le_of_ble_eq_true rfl) q129 rfl ?_
            refine z_iload_n X dX0_size_86 rfl 2 rfl ?_
            refine z_iaN (v := nI (o.1.1 1 zN)) X dX0_size_87 (wl_2 hX.wall) (by omega) (by omega) rfl ?_
            refine z_icmp_ge (tgt := 98) X dX0_size_88 (by decide) (nI_leI (by omega) (by omega)) (fun c11 => ?_) (fun c11 => ?_)
            · refine z_aload X dX0_size_98 0 rfl ?_
              refine z_get X dX0_size_100 (wl_o hX.wall) in_X2 rfl 0 (Nat.le_of_ble_eq_true rfl) q125 rfl ?_
              refine z_iload_n X dX0_size_103 rfl 2 rfl ?_
              refine z_iaN (v := nI (o.1.1 0 zN)) X dX0_size_104 (wl_1 hX.wall) (by omega) (by omega) rfl ?_
              refine z_istore (lv2 := [(5, .int (nI (o.1.1 0 zN))), (4, .ref (xa 5)), (0, .ref (xa 0)), (1, .int (nI (zN))), (2, .int (nI (0))), (3, .int (nI (vN)))]) X dX0_size_105 (Nat.le_of_ble_eq_true rfl) rfl ?_
              refine z_aload X dX0_size_107 1 rfl ?_
              refine z_get X dX0_size_109 (wl_o hX.wall) in_X2 rfl 0 (Nat.le_of_ble_eq_true rfl) q125 rfl ?_
              refine z_iload_n X dX0_size_112 rfl 3 rfl ?_
              refine z_iload_n X dX0_size_113 rfl 5 rfl ?_
              refine z_isN X dX0_size_114 (wl_1 hX.wall) (by omega) (by omega) ?_
              have hXp12 := XT.wput hX 0 (by decide) 3 zN vN rfl (by omega)
              refine z_goto (tgt := 173) X dX0_size_115 (by decide) ?_
              refine z_iload X dX0_size_173 0 rfl ?_
              have e : spSize o (nI zN) (nI 0) (nI vN) = (nI (o.1.1 0 zN), (oW o (wPut o.1 0 zN vN))) := by
                unfold spSize
                repeat (first | rw [el_some (by assumption)] | rw [el_none (by assumption)] | rw [if_pos (by omega)] | rw [if_neg (by omega)] | rw [if_pos (by assumption)] | rw [if_neg (ts_n (by assumption))])
                all_goals first | rfl | (exfalso; omega)
              exact z_iret X dX0_size_175 (by omega) (by omega) ⟨_, rfl, (by rw [e]; exact ⟨⟨_, _, rfl, hXp12⟩, rfl⟩)⟩
            · refine z_aload_n X dX0_size_91 rfl 1 rfl ?_
              refine z_bipush (v := (-5)) X dX0_size_92 (by decide) ?_
              refine z_ci (z_runV (rest := []) (n := 1) X [.int ((-5))] (m_X0_no_5 hX) dX0_size_94 hX.ob rfl (lw_V q350 q352 qs2 q66 q353) hv_X0_no rfl ⟨Nat.le_of_ble_eq_true rfl, Nat.le_of_ble_eq_true rfl⟩ ⟨by omega, by omega⟩ rfl (Nat.le_of_ble_eq_true rfl)) (fun r13 w15 h14 => ?_)
              obtain ⟨r13e, hX14⟩ := h14
              rw [r13e]
              have e : spSize o (nI zN) (nI 0) (nI vN) = ((-5), oRef o 5) := by
                unfold spSize
                repeat (first | rw [el_some (by assumption)] | rw [el_none (by assumption)] | rw [if_pos (by omega)] | rw [if_neg (by omega)] | rw [if_pos (by assumption)] | rw [if_neg (ts_n (by assumption))])
                all_goals first | rfl | (exfalso; omega)
              exact z_iret X dX0_size_97 (by omega) (by omega) ⟨_, rfl, (by rw [e]; exact ⟨⟨_, _, rfl, hX14⟩, rfl⟩)⟩
          · skip
            have wz := hI.1 zN (by omega)
            refine z_iload_n X dX0_size_51 rfl 3 rfl ?_
            refine z_look (off := 66) (tgt := 118) X dX0_size_52 (by decide) (by decide) (by decide) ?_
            refine z_iload_n X dX0_size_118 rfl 4 rfl ?_
            refine z_aload X dX0_size_119 0 rfl ?_
            refine z_get X dX0_size_121 (wl_o hX.wall) in_X2 rfl 0 (Nat.le_of_ble_eq_true rfl) q125 rfl ?_
            refine z_iload_n X dX0_size_124 rfl 2 rfl ?_
            refine z_iaN (v := nI (o.1.1 0 zN)) X dX0_size_125 (wl_1 hX.wall) (by omega) (by omega) rfl ?_
            refine z_icmp_le (tgt := 136) X dX0_size_126 (by decide) (nI_leI (by omega) (by omega)) (fun c16 => ?_) (fun c16 => ?_)
            · refine z_aload X dX0_size_136 0 rfl ?_
              refine z_get X dX0_size_138 (wl_o hX.wall) in_X2 rfl 1 (Nat.le_of_ble_eq_true rfl) q129 rfl ?_
              refine z_iload_n X dX0_size_141 rfl 2 rfl ?_
              refine z_iaN (v := nI (o.1.1 1 zN)) X dX0_size_142 (wl_2 hX.wall) (by omega) (by omega) rfl ?_
              refine z_istore (lv2 := [(5, .int (nI (o.1.1 1 zN))), (4, .ref (xa 5)), (0, .ref (xa 0)), (1, .int (nI (zN))), (2, .int (nI (1))), (3, .int (nI (vN)))]) X dX0_size_143 (Nat.le_of_ble_eq_true rfl) rfl ?_
              refine z_aload X dX0_size_145 1 rfl ?_
              refine z_get X dX0_size_147 (wl_o hX.wall) in_X2 rfl 1 (Nat.le_of_ble_eq_true rfl) q129 rfl ?_
              refine z_iload_n X dX0_size_150 rfl 3 rfl ?_
              refine z_iload_n X dX0_size_151 rfl 5 rfl ?_
              refine z_isN X dX0_size_152 (wl_2 hX.wall) (by omega) (by omega) ?_
              have hXp17 := XT.wput hX 1 (by decide) 3 zN vN rfl (by omega)
              refine z_goto (tgt := 173) X dX0_size_153 (by decide) ?_
              refine z_iload X dX0_size_173 0 rfl ?_
              have e : spSize o (nI zN) (nI 1) (nI vN) = (nI (o.1.1 1 zN), (oW o (wPut o.1 1 zN vN))) := by
                unfold spSize
                repeat (first | rw [el_some (by assumption)] | rw [el_none (by assumption)] | rw [if_pos (by omega)] | rw [if_neg (by omega)] | rw [if_pos (by assumption)] | rw [if_neg (ts_n (by assumption))])
                all_goals first | rfl | (exfalso; omega)
              exact z_iret X dX0_size_175 (by omega) (by omega) ⟨_, rfl, (by rw [e]; exact ⟨⟨_, _, rfl, hXp17⟩, rfl⟩)⟩
            · refine z_aload_n X dX0_size_129 rfl 1 rfl ?_
              refine z_bipush (v := (-5)) X dX0_size_130 (by decide) ?_
              refine z_ci (z_runV (rest := []) (n := 1) X [.int ((-5))] (m_X0_no_5 hX) dX0_size_132 hX.ob rfl (lw_V q350 q352 qs2 q66 q353) hv_X0_no rfl ⟨Nat.le_of_ble_eq_true rfl, Nat.le_of_ble_eq_true rfl⟩ ⟨by omega, by omega⟩ rfl (Nat.le_of_ble_eq_true rfl)) (fun r18 w20 h19 => ?_)
              obtain ⟨r18e, hX19⟩ := h19
              rw [r18e]
              have e : spSize o (nI zN) (nI 1) (nI vN) = ((-5), oRef o 5) := by
                unfold spSize
                repeat (first | rw [el_some (by assumption)] | rw [el_none (by assumption)] | rw [if_pos (by omega)] | rw [if_neg (by omega)] | rw [if_pos (by assumption)] | rw [if_neg (ts_n (by assumption))])
                all_goals first | rfl | (exfalso; omega)
              exact z_iret X dX0_size_135 (by omega) (by omega) ⟨_, rfl, (by rw [e]; exact ⟨⟨_, _, rfl, hX19⟩, rfl⟩)⟩
          · skip
            have wz := hI.1 zN (by omega)
            refine z_iload_n X dX0_size_51 rfl 3 rfl ?_
            refine z_look (off := 104) (tgt := 156) X dX0_size_52 (by decide) (by decide) (by decide) ?_
            refine z_aload X dX0_size_156 0 rfl ?_
            refine z_get X dX0_size_158 (wl_o hX.wall) in_X2 rfl 2 (Nat.le_of_ble_eq_true rfl) q134 rfl ?_
            refine z_iload_n X dX0_size_161 rfl 2 rfl ?_
            refine z_iaN (v := nI (o.1.1 2 zN)) X dX0_size_162 (wl_3 hX.wall) (by omega) (by omega) rfl ?_
            refine z_istore (lv2 := [(5, .int (nI (o.1.1 2 zN))), (4, .ref (xa 5)), (0, .ref (xa 0)), (1, .int (nI (zN))), (2, .int (nI (2))), (3, .int (nI (vN)))]) X dX0_size_163 (Nat.le_of_ble_eq_true rfl) rfl ?_
            refine z_aload X dX0_size_165 1 rfl ?_
            refine z_get X dX0_size_167 (wl_o hX.wall) in_X2 rfl 2 (Nat.le_of_ble_eq_true rfl) q134 rfl ?_
            refine z_iload_n X dX0_size_170 rfl 3 rfl ?_
            refine z_iload_n X dX0_size_171 rfl 5 rfl ?_
            refine z_isN X dX0_size_172 (wl_3 hX.wall) (by omega) (by omega) ?_
            have hXp21 := XT.wput hX 2 (by decide) 3 zN vN rfl (by omega)
            refine z_iload X dX0_size_173 0 rfl ?_
            have e : spSize o (nI zN) (nI 2) (nI vN) = (nI (o.1.1 2 zN), (oW o (wPut o.1 2 zN vN))) := by
              unfold spSize
              repeat (first | rw [el_some (by assumption)] | rw [el_none (by assumption)] | rw [if_pos (by omega)] | rw [if_neg (by omega)] | rw [if_pos (by assumption)] | rw [if_neg (ts_n (by assumption))])
              all_goals first | rfl | (exfalso; omega)
            exact z_iret X dX0_size_175 (by omega) (by omega) ⟨_, rfl, (by rw [e]; exact ⟨⟨_, _, rfl, hXp21⟩, rfl⟩)⟩
        · have e6 : rgb 0 4 v = none := rgb_f c10
          refine z_aload_n X dX0_size_35 rfl 0 rfl ?_
          refine z_bipush (v := (-2)) X dX0_size_36 (by decide) ?_
          refine z_ci (z_runV (rest := []) (n := 1) X [.int ((-2))] (m_X0_no_2 hX) dX0_size_38 hX.ob rfl (lw_V q350 q352 qs2 q66 q353) hv_X0_no rfl ⟨Nat.le_of_ble_eq_true rfl, Nat.le_of_ble_eq_true rfl⟩ ⟨by omega, by omega⟩ rfl (Nat.le_of_ble_eq_true rfl)) (fun r22 w24 h23 => ?_)
          obtain ⟨r22e, hX23⟩ := h23
          rw [r22e]
          have e : spSize o (nI zN) (nI w_N) v = ((-2), oRef o 2) := by
            unfold spSize
            repeat (first | rw [el_some (by assumption)] | rw [el_none (by assumption)] | rw [if_pos (by omega)] | rw [if_neg (by omega)] | rw [if_pos (by assumption)] | rw [if_neg (ts_n (by assumption))])
            all_goals first | rfl | (exfalso; omega)
          exact z_iret X dX0_size_41 (by omega) (by omega) ⟨_, rfl, (by rw [e]; exact ⟨⟨_, _, rfl, hX23⟩, rfl⟩)⟩
      · refine z_bipush (v := nI (10)) X dX0_size_23 (by decide) ?_
        refine z_goto (tgt := 29) X dX0_size_25 (by decide) ?_
        refine z_cip (z_runS (rest := []) (n := 3) X [.int (v), .int (nI (0)), .int (nI (10))] m_X0_isIn dX0_size_29 (lw_S q347 q348 q66 q349) hs_X0_isIn rfl ⟨Nat.le_of_ble_eq_true rfl, Nat.le_of_ble_eq_true rfl⟩ ⟨by omega, by omega⟩ rfl (Nat.le_of_ble_eq_true rfl)) ?_
        refine z_if_ne (tgt := 42) X dX0_size_32 (by decide) bI_d (fun c25 => ?_) (fun c25 => ?_)
        · have c25 := Classical.not_not.mp c25
          obtain ⟨vN, vNl, vNh, rfl, e7⟩ := rgb_t (lo := 0) (hi := 10) (by decide) (by decide) (c25)
          refine z_aload_n X dX0_size_42 rfl 0 rfl ?_
          refine z_get X dX0_size_43 hX.ob in_X0 rfl 0 (Nat.le_of_ble_eq_true rfl) q233 rfl ?_
          refine z_get X dX0_size_46 hX.day in_X1 rfl 0 (Nat.le_of_ble_eq_true rfl) q190 rfl ?_
          refine z_astore (lv2 := [(4, .ref (xa 5)), (0, .ref (xa 0)), (1, .int (nI (zN))), (2, .int (nI (w_N))), (3, .int (nI (vN)))]) X dX0_size_49 (Nat.le_of_ble_eq_true rfl) rfl ?_
          rcases (show w_N = 0 ∨ w_N = 1 ∨ w_N = 2 by omega) with rfl | rfl | rfl
          · skip
            have wz := hI.1 zN (by omega)
            refine z_iload_n X dX0_size_51 rfl 3 rfl ?_
            refine z_look (off := 28) (tgt := 80) X dX0_size_52 (by decide) (by decide) (by decide) ?_
            refine z_iload_n X dX0_size_80 rfl 4 rfl ?_
            refine z_aload X dX0_size_81 0 rfl ?_
            refine z_get X dX0_size_83 (wl_o hX.wall) in_X2 rfl 1 (Nat.le_of_ble_eq_true rfl) q129 rfl ?_
            refine z_iload_n X dX0_size_86 rfl 2 rfl ?_
            refine z_iaN (v := nI (o.1.1 1 zN)) X dX0_size_87 (wl_2 hX.wall) (by omega) (by omega) rfl ?_
            refine z_icmp_ge (tgt := 98) X dX0_size_88 (by decide) (nI_leI (by omega) (by omega)) (fun c26 => ?_) (fun c26 => ?_)
            · refine z_aload X dX0_size_98 0 rfl ?_
              refine z_get X dX0_size_100 (wl_o hX.wall) in_X2 rfl 0 (Nat.le_of_ble_eq_true rfl) q125 rfl ?_
              refine z_iload_n X dX0_size_103 rfl 2 rfl ?_
              refine z_iaN (v := nI (o.1.1 0 zN)) X dX0_size_104 (wl_1 hX.wall) (by omega) (by omega) rfl ?_
              refine z_istore (lv2 := [(5, .int (nI (o.1.1 0 zN))), (4, .ref (xa 5)), (0, .ref (xa 0)), (1, .int (nI (zN))), (2, .int (nI (0))), (3, .int (nI (vN)))]) X dX0_size_105 (Nat.le_of_ble_eq_true rfl) rfl ?_
              refine z_aload X dX0_size_107 1 rfl ?_
              refine z_get X dX0_size_109 (wl_o hX.wall) in_X2 rfl 0 (Nat.le_of_ble_eq_true rfl) q125 rfl ?_
              refine z_iload_n X dX0_size_112 rfl 3 rfl ?_
              refine z_iload_n X dX0_size_113 rfl 5 rfl ?_
              refine z_isN X dX0_size_114 (wl_1 hX.wall) (by omega) (by omega) ?_
              have hXp27 := XT.wput hX 0 (by decide) 3 zN vN rfl (by omega)
              refine z_goto (tgt := 173) X dX0_size_115 (by decide) ?_
              refine z_iload X dX0_size_173 0 rfl ?_
              have e : spSize o (nI zN) (nI 0) (nI vN) = (nI (o.1.1 0 zN), (oW o (wPut o.1 0 zN vN))) := by
                unfold spSize
                repeat (first | rw [el_some (by assumption)] | rw [el_none (by assumption)] | rw [if_pos (by omega)] | rw [if_neg (by omega)] | rw [if_pos (by assumption)] | rw [if_neg (ts_n (by assumption))])
                all_goals first | rfl | (exfalso; omega)
              exact z_iret X dX0_size_175 (by omega) (by omega) ⟨_, rfl, (by rw [e]; exact ⟨⟨_, _, rfl, hXp27⟩, rfl⟩)⟩
            · refine z_aload_n X dX0_size_91 rfl 1 rfl ?_
              refine z_bipush (v := (-5)) X dX0_size_92 (by decide) ?_
              refine z_ci (z_runV (rest := []) (n := 1) X [.int ((-5))] (m_X0_no_5 hX) dX0_size_94 hX.ob rfl (lw_V q350 q352 qs2 q66 q353) hv_X0_no rfl ⟨Nat.le_of_ble_eq_true rfl, Nat.le_of_ble_eq_true rfl⟩ ⟨by omega, by omega⟩ rfl (Nat.le_of_ble_eq_true rfl)) (fun r28 w30 h29 => ?_)
              obtain ⟨r28e, hX29⟩ := h29
              rw [r28e]
              have e : spSize o (nI zN) (nI 0) (nI vN) = ((-5), oRef o 5) := by
                unfold spSize
                repeat (first | rw [el_some (by assumption)] | rw [el_none (by assumption)] | rw [if_pos (by omega)] | rw [if_neg (by omega)] | rw [if_pos (by assumption)] | rw [if_neg (ts_n (by assumption))])
                all_goals first | rfl | (exfalso; omega)
              exact z_iret X dX0_size_97 (by omega) (by omega) ⟨_, rfl, (by rw [e]; exact ⟨⟨_, _, rfl, hX29⟩, rfl⟩)⟩
          · skip
            have wz := hI.1 zN (by omega)
            refine z_iload_n X dX0_size_51 rfl 3 rfl ?_
            refine z_look (off := 66) (tgt := 118) X dX0_size_52 (by decide) (by decide) (by decide) ?_
            refine z_iload_n X dX0_size_118 rfl 4 rfl ?_
            refine z_aload X dX0_size_119 0 rfl ?_
            refine z_get X dX0_size_121 (wl_o hX.wall) in_X2 rfl 0 (Nat.le_of_ble_eq_true rfl) q125 rfl ?_
            refine z_iload_n X dX0_size_124 rfl 2 rfl ?_
            refine z_iaN (v := nI (o.1.1 0 zN)) X dX0_size_125 (wl_1 hX.wall) (by omega) (by omega) rfl ?_
            refine z_icmp_le (tgt := 136) X dX0_size_126 (by decide) (nI_leI (by omega) (by omega)) (fun c31 => ?_) (fun c31 => ?_)
            · refine z_aload X dX0_size_136 0 rfl ?_
              refine z_get X dX0_size_138 (wl_o hX.wall) in_X2 rfl 1 (Nat.le_of_ble_eq_true rfl) q129 rfl ?_
              refine z_iload_n X dX0_size_141 rfl 2 rfl ?_
              refine z_iaN (v := nI (o.1.1 1 zN)) X dX0_size_142 (wl_2 hX.wall) (by omega) (by omega) rfl ?_
              refine z_istore (lv2 := [(5, .int (nI (o.1.1 1 zN))), (4, .ref (xa 5)), (0, .ref (xa 0)), (1, .int (nI (zN))), (2, .int (nI (1))), (3, .int (nI (vN)))]) X dX0_size_143 (Nat.le_of_ble_eq_true rfl) rfl ?_
              refine z_aload X dX0_size_145 1 rfl ?_
              refine z_get X dX0_size_147 (wl_o hX.wall) in_X2 rfl 1 (Nat.le_of_ble_eq_true rfl) q129 rfl ?_
              refine z_iload_n X dX0_size_150 rfl 3 rfl ?_
              refine z_iload_n X dX0_size_151 rfl 5 rfl ?_
              refine z_isN X dX0_size_152 (wl_2 hX.wall) (by omega) (by omega) ?_
              have hXp32 := XT.wput hX 1 (by decide) 3 zN vN rfl (by omega)
              refine z_goto (tgt := 173) X dX0_size_153 (by decide) ?_
              refine z_iload X dX0_size_173 0 rfl ?_
              have e : spSize o (nI zN) (nI 1) (nI vN) = (nI (o.1.1 1 zN), (oW o (wPut o.1 1 zN vN))) := by
                unfold spSize
                repeat (first | rw [el_some (by assumption)] | rw [el_none (by assumption)] | rw [if_pos (by omega)] | rw [if_neg (by omega)] | rw [if_pos (by assumption)] | rw [if_neg (ts_n (by assumption))])
                all_goals first | rfl | (exfalso; omega)
              exact z_iret X dX0_size_175 (by omega) (by omega) ⟨_, rfl, (by rw [e]; exact ⟨⟨_, _, rfl, hXp32⟩, rfl⟩)⟩
            · refine z_aload_n X dX0_size_129 rfl 1 rfl ?_
              refine z_bipush (v := (-5)) X dX0_size_130 (by decide) ?_
              refine z_ci (z_runV (rest := []) (n := 1) X [.int ((-5))] (m_X0_no_5 hX) dX0_size_132 hX.ob rfl (lw_V q350 q352 qs2 q66 q353) hv_X0_no rfl ⟨Nat.le_of_ble_eq_true rfl, Nat.le_of_ble_eq_true rfl⟩ ⟨by omega, by omega⟩ rfl (Nat.le_of_ble_eq_true rfl)) (fun r33 w35 h34 => ?_)
              obtain ⟨r33e, hX34⟩ := h34
              rw [r33e]
              have e : spSize o (nI zN) (nI 1) (nI vN) = ((-5), oRef o 5) := by
                unfold spSize
                repeat (first | rw [el_some (by assumption)] | rw [el_none (by assumption)] | rw [if_pos (by omega)] | rw [if_neg (by omega)] | rw [if_pos (by assumption)] | rw [if_neg (ts_n (by assumption))])
                all_goals first | rfl | (exfalso; omega)
              exact z_iret X dX0_size_135 (by omega) (by omega) ⟨_, rfl, (by rw [e]; exact ⟨⟨_, _, rfl, hX34⟩, rfl⟩)⟩
          · skip
            have wz := hI.1 zN (by omega)
            refine z_iload_n X dX0_size_51 rfl 3 rfl ?_
            refine z_look (off := 104) (tgt := 156) X dX0_size_52 (by decide) (by decide) (by decide) ?_
            refine z_aload X dX0_size_156 0 rfl ?_
            refine z_get X dX0_size_158 (wl_o hX.wall) in_X2 rfl 2 (Nat.le_of_ble_eq_true rfl) q134 rfl ?_
            refine z_iload_n X dX0_size_161 rfl 2 rfl ?_
            refine z_iaN (v := nI (o.1.1 2 zN)) X dX0_size_162 (wl_3 hX.wall) (by omega) (by omega) rfl ?_
            refine z_istore (lv2 := [(5, .int (nI (o.1.1 2 zN))), (4, .ref (xa 5)), (0, .ref (xa 0)), (1, .int (nI (zN))), (2, .int (nI (2))), (3, .int (nI (vN)))]) X dX0_size_163 (Nat.le_of_ble_eq_true rfl) rfl ?_
            refine z_aload X dX0_size_165 1 rfl ?_
            refine z_get X dX0_size_167 (wl_o hX.wall) in_X2 rfl 2 (Nat.le_of_ble_eq_true rfl) q134 rfl ?_
            refine z_iload_n X dX0_size_170 rfl 3 rfl ?_
            refine z_iload_n X dX0_size_171 rfl 5 rfl ?_
            refine z_isN X dX0_size_172 (wl_3 hX.wall) (by omega) (by omega) ?_
            have hXp36 := XT.wput hX 2 (by decide) 3 zN vN rfl (by omega)
            refine z_iload X dX0_size_173 0 rfl ?_
            have e : spSize o (nI zN) (nI 2) (nI vN) = (nI (o.1.1 2 zN), (oW o (wPut o.1 2 zN vN))) := by
              unfold spSize
              repeat (first | rw [el_some (by assumption)] | rw [el_none (by assumption)] | rw [if_pos (by omega)] | rw [if_neg (by omega)] | rw [if_pos (by assumption)] | rw [if_neg (ts_n (by assumption))])
              all_goals first | rfl | (exfalso; omega)
            exact z_iret X dX0_size_175 (by omega) (by omega) ⟨_, rfl, (by rw [e]; exact ⟨⟨_, _, rfl, hXp36⟩, rfl⟩)⟩
        · have e8 : rgb 0 10 v = none := rgb_f c25
          refine z_aload_n X dX0_size_35 rfl 0 rfl ?_
          refine z_bipush (v := (-2)) X dX0_size_36 (by decide) ?_
          refine z_ci (z_runV (rest := []) (n := 1) X [.int ((-2))] (m_X0_no_2 hX) dX0_size_38 hX.ob rfl (lw_V q350 q352 qs2 q66 q353) hv_X0_no rfl ⟨Nat.le_of_ble_eq_true rfl, Nat.le_of_ble_eq_true rfl⟩ ⟨by omega, by omega⟩ rfl (Nat.le_of_ble_eq_true rfl)) (fun r37 w39 h38 => ?_)
          obtain ⟨r37e, hX38⟩ := h38
          rw [r37e]
          have e : spSize o (nI zN) (nI w_N) v = ((-2), oRef o 2) := by
            unfold spSize
            repeat (first | rw [el_some (by assumption)] | rw [el_none (by assumption)] | rw [if_pos (by omega)] | rw [if_neg (by omega)] | rw [if_pos (by assumption)] | rw [if_neg (ts_n (by assumption))])
            all_goals first | rfl | (exfalso; omega)
          exact z_iret X dX0_size_41 (by omega) (by omega) ⟨_, rfl, (by rw [e]; exact ⟨⟨_, _, rfl, hX38⟩, rfl⟩)⟩
