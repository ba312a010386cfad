/-! x: set, holds; the rule of a shelf or a refusal -/
set_option maxRecDepth 100000
theorem XC.high {G : GG} {xa : Nat → Nat} {C : Nat → Option va_E} {rr : Option Nat} {o : OS} {im : IM} (h : XC G xa C rr o im) {k : Nat} {e : va_E} (hk : 30 ≤ k) :
    setC C k e 0 = C 0 ∧ setC C k e 1 = C 1 ∧ setC C k e 2 = C 2 ∧ setC C k e 3 = C 3 ∧ setC C k e 4 = C 4 ∧ (∀ i, i < 8 → setC C k e (5 + i) = C (5 + i)) ∧ RwC G xa (setC C k e) rr ∧ (∀ S dy sd, im = some (S, dy, sd) → setC C k e 20 = some (.inr (1, dFs (xa 21) sd dy)) ∧ (∀ i, i < 8 → setC C k e (21 + i) = some (wCt G (fun i => xa (21 + i)) none S i)) ∧ wNorm S ∧ wInv S) := by
  refine ⟨setC_n (by omega), setC_n (by omega), setC_n (by omega), setC_n (by omega), setC_n (by omega), fun i hi => setC_n (by omega), ?_, fun S dy sd hi => ?_⟩
  · rcases h.cr with h1 | ⟨h1, ro, T, h2, h3, h4, h5, h6, h7⟩
    · exact Or.inl h1
    · exact Or.inr ⟨h1, ro, T, h2, h3, by rw [setC_n (by omega)]; exact h4, by rw [setC_n (by omega)]; exact h5, by rw [setC_n (by omega)]; exact h6, h7⟩
  · obtain ⟨h1, h2, h3⟩ := h.ci S dy sd hi
    exact ⟨by rw [setC_n (by omega)]; exact h1, fun i hi2 => by rw [setC_n (by omega)]; exact h2 i hi2, h3⟩
theorem XT.elput {G : GG} {w : GW} {xa : Nat → Nat} {rr : Option Nat} {o : OS} {im : IM} (h : XT G w xa rr o im) {s i : Nat} (hs : s < 8) (hk : o.2.2.2.1 0 s = 1) (hk4 : o.2.2.2.1 1 s ≤ 4) {f : Nat → Int64} (ho : rowOk (o.2.2.2.1 1 s) (o.2.2.2.1 2 s) f) (he : ∀ i, i < o.2.2.2.1 2 s → f i = o.2.2.2.2.1 s i) {v : Int64} : XT G (gu w (xa (40 + s)) (rowE G (o.2.2.2.1 1 s) (o.2.2.2.1 2 s) (rowSt f i (fitV (o.2.2.2.1 1 s) v)))) xa rr (setEl o s i (fitV (o.2.2.2.1 1 s) v)) im := by
  obtain ⟨C, hW, hC⟩ := h
  have hc : ∃ f2, C (40 + s) = some (rowE G (o.2.2.2.1 1 s) (o.2.2.2.1 2 s) f2) ∧ C (30 + s) = some (.inr (3, [.ref (xa (40 + s))])) := by
    rcases hC.cs s hs with ⟨q, -⟩ | ⟨-, h3, f2, h4, -⟩ | ⟨q, -⟩
    · rw [q] at hk; cases hk
    · exact ⟨f2, h4, h3⟩
    · rw [q] at hk; cases hk
  obtain ⟨f2, hc, h30⟩ := hc
  obtain ⟨g0, g1, g2, g3, g4, g5, g6, g7⟩ := hC.high (k := 40 + s) (e := rowE G (o.2.2.2.1 1 s) (o.2.2.2.1 2 s) (rowSt f i (fitV (o.2.2.2.1 1 s) v))) (by omega)
  refine ⟨setC C (40 + s) _, hW.put hc, ⟨?_, ?_, ?_, ?_, ?_, ?_, g6, g7, ?_, hC.cn⟩⟩
  · rw [g0]; exact hC.c0
  · rw [g1]; exact hC.c1
  · rw [g2]; exact hC.c2
  · rw [g3]; exact hC.c3
  · rw [g4]; exact hC.c4
  · intro i hi
    rw [g5 i hi]; exact hC.cw i hi
  · intro t ht
    by_cases hts : t = s
    · subst hts
      refine Or.inr (Or.inl ⟨hk, by rw [setC_n (by omega)]; exact h30, _, setC_s, ho.st hk4 v, fun j hj => ?_⟩)
      show rowSt f i _ j = if t = t ∧ j = i then _ else _
      unfold rowSt
      by_cases hji : j = i
      · rw [if_pos hji, if_pos ⟨rfl, hji⟩]
      · rw [if_neg hji, if_neg (fun q => hji q.2)]; exact he j hj
    · have := hC.cs t ht
      have ee : ∀ j, (setEl o s i (fitV (o.2.2.2.1 1 s) v)).2.2.2.2.1 t j = o.2.2.2.2.1 t j := fun j => if_neg (fun q => hts q.1)
      unfold ShC at this ⊢
      rw [setC_n (by omega), setC_n (by omega), setC_n (by omega)]
      rcases this with q | ⟨q1, q2, f3, q3, q4, q5⟩ | q
      · exact Or.inl q
      · exact Or.inr (Or.inl ⟨q1, q2, f3, q3, q4, fun j hj => (q5 j hj).trans (ee j).symm⟩)
      · exact Or.inr (Or.inr q)
set_option maxHeartbeats 2000000 in
theorem x_set {l : Launch} {G : GG} (hl : l.stackTraces = false) {w : GW} {xa : Nat → Nat} {rr : Option Nat} {o : OS} {im : IM} (hX : XT G w xa rr o im) (hO : oInv o) {s i : Int32} {v : Int64} : gMX l G yX0_set (wsW_ yX0_set cX0_set 6 (some .int) [(14, 25, 26, 122), (14, 25, 38, 136)]) 168 4 229 [.ref (xa 0), .int (s), .int (i), .long (v)] w (pI (fun r w1 => XE G (xa 0) w1 (spSet o s i v).2 im ∧ r = (spSet o s i v).1)) (pN) := by
  refine Z.metW (own := "ThreeSizes") (nm := "set") (lv := [(0, .ref (xa 0)), (1, .int (s)), (2, .int (i)), (3, .long (v))]) (by decide) rfl rfl (Nat.le_of_ble_eq_true rfl) rfl (fun κ X Y V0 => ?_)
  have V := V0 hl
  have hI := hO.1
  have h6 := hI.2.1
  have ht200 := hO.2.2.2
  refine z_iload_n X dX0_set_0 rfl 1 rfl ?_
  refine z_cip (z_runS (rest := []) (n := 1) X [.int (s)] (m_X0_isShelf (v := s)) dX0_set_1 (lw_S q344 q345 q66 q346) hs_X0_isShelf rfl ⟨Nat.le_of_ble_eq_true rfl, Nat.le_of_ble_eq_true rfl⟩ ⟨by omega, by omega⟩ rfl (Nat.le_of_ble_eq_true rfl)) ?_
  refine z_if_ne (tgt := 14) X dX0_set_4 (by decide) bI_d (fun c1 => ?_) (fun c1 => ?_)
  · have c1 := Classical.not_not.mp c1
    obtain ⟨sN, sNl, sNh, rfl, e1⟩ := rgb_t (lo := 0) (hi := 7) (by decide) (by decide) (c1)
    refine z_aload_n X dX0_set_14 rfl 0 rfl ?_
    refine z_iload_n X dX0_set_15 rfl 1 rfl ?_
    refine z_xa (z_runXV (rest := []) (n := 1) X [.int (nI (sN))] (m_X0_rowIn hX hO (s := sN) (by omega)) dX0_set_16 hX.ob rfl (lw_V q384 q386 qs3 q66 q387) hv_X0_rowIn rfl ⟨Nat.le_of_ble_eq_true rfl, Nat.le_of_ble_eq_true rfl⟩ ⟨by omega, by omega⟩ rfl (Nat.le_of_ble_eq_true rfl)) (fun r2 w4 h3 => ?_) (fun E5 q6 w8 h7 => ?_)
    · have hn9 := h3
      obtain ⟨hk3, rfl, rfl⟩ := h3
      obtain ⟨f3, hr3, ho3, he3⟩ := hX.row1 (s := sN) (by omega) hk3
      have hq3 := hO.2.1 sN (by omega)
      refine z_iload_n X dX0_set_19 rfl 2 rfl ?_
      refine z_lload_n X dX0_set_20 rfl 3 rfl ?_
      refine z_xv (z_runXS (rest := []) (n := 3) X [.ref (xa (40 + sN)), .int (i), .long (v)] (m_X0_puts hl (k := o.2.2.2.1 1 sN) (n := o.2.2.2.1 2 sN) (f := f3) hq3.2.1 hr3 hq3.2.2.1 (i := i) (v := v)) dX0_set_21 (lw_S q415 q416 q66 q417) hs_X0_puts rfl ⟨Nat.le_of_ble_eq_true rfl, Nat.le_of_ble_eq_true rfl⟩ ⟨by omega, by omega⟩ rfl (Nat.le_of_ble_eq_true rfl)) (fun w11 h10 => ?_) (fun E12 q13 w15 h14 => ?_)
      · have hn9 := h10
        obtain ⟨hi10, rfl⟩ := h10
        obtain ⟨iN, iNh, rfl, e2⟩ := vp_rgn hq3.2.2.1 hi10
        rw [nI_clamp (by omega)]
        have hX10 := XT.elput hX (s := sN) (i := iN) (by omega) (by assumption) hq3.2.1 ho3 he3 (v := v)
        refine z_iconst (v := nI (1)) X dX0_set_24 ci1 ?_
        have e : spSet o (nI sN) (nI iN) v = (nI (1), (setEl o sN iN (fitV (o.2.2.2.1 1 sN) v))) := by
          unfold spSet
          repeat (first | rw [el_some (by assumption)] | rw [el_none (by assumption)] | rw [if_pos (by omega)] | rw [if_neg (by omega)] | rw [if_pos (by assumption)] | rw [if_neg (ts_n (by assumption))])
          all_goals first | rfl | (exfalso; omega)
        exact z_iret X dX0_set_25 (by omega) (by omega) ⟨_, rfl, (by rw [e]; exact ⟨⟨_, _, rfl, hX10⟩, rfl⟩)⟩
      · have hx9 := h14
        obtain ⟨rfl, hi14, rfl⟩ := h14
        have e3 := vp_rgn0 hq3.2.2.1 hi14
        refine zt_catch X Y [(14, 25, 26, 122)] (14, 25, 38, 136) [] rfl (zp_c (zp_o [false, false, false, false, true, false, true, false, true, true] (by decide) q364 rfl) zp_n) rfl (by decide) q365 q380 rfl ?_
        refine z_astore (lv2 := [(5, .ref (q13)), (0, .ref (xa 0)), (1, .int (nI (sN))), (2, .int (i)), (3, .long (v))]) X dX0_set_38 (Nat.le_of_ble_eq_true rfl) rfl ?_
        refine z_aload_n X dX0_set_40 rfl 1 rfl ?_
        refine z_bipush (v := (-2)) X dX0_set_41 (by decide) ?_
        refine z_ci (z_runV (rest := []) (n := 1) X [.int ((-2))] (m_X0_no_2 hX) dX0_set_43 hX.ob rfl (lw_V q350 q352 qs2 q66 q353) hv_X0_no rfl ⟨Nat.le_of_ble_eq_true rfl, Nat.le_of_ble_eq_true rfl⟩ ⟨by omega, by omega⟩ rfl (Nat.le_of_ble_eq_true rfl)) (fun r16 w18 h17 => ?_)
        obtain ⟨r16e, hX17⟩ := h17
        rw [r16e]
        have e : spSet o (nI sN) i v = ((-2), oRef o 2) := by
          unfold spSet
          repeat (first | rw [el_some (by assumption)] | rw [el_none (by assumption)] | rw [if_pos (by omega)] | rw [if_neg (by omega)] | rw [if_pos (by assumption)] | rw [if_neg (ts_n (by assumption))])
          all_goals first | rfl | (exfalso; omega)
        exact z_iret X dX0_set_46 (by omega) (by omega) ⟨_, rfl, (by rw [e]; exact ⟨⟨_, _, rfl, hX17⟩, rfl⟩)⟩
    · have hx9 := h7
      obtain ⟨by9, ⟨rfl, hn7, rfl⟩, hb7⟩ := h7
      rcases hb7 with ⟨hk9, rfl⟩ | ⟨hk9, rfl⟩
      · have hX7 := XT.fresh hX hn7 (e := .inr (5, [.null, .null, .null, .null, .null, .int 0, .int (-3)]))
        refine zt_catch X Y [] (14, 25, 26, 122) [(14, 25, 38, 136)] rfl zp_n rfl (by decide) q364 q390 rfl ?_
        refine z_astore (lv2 := [(5, .ref (q6)), (0, .ref (xa 0)), (1, .int (nI (sN))), (2, .int (i)), (3, .long (v))]) X dX0_set_26 (Nat.le_of_ble_eq_true rfl) rfl ?_
        refine z_aload_n X dX0_set_28 rfl 1 rfl ?_
        refine z_aload X dX0_set_29 0 rfl ?_
        refine z_get X dX0_set_31 gu_s in_X5 rfl 6 (Nat.le_of_ble_eq_true rfl) q410 rfl ?_
        refine z_ci (z_runV (rest := []) (n := 1) X [.int ((-3))] (m_X0_no_3 hX7) dX0_set_34 hX7.ob rfl (lw_V q350 q352 qs2 q66 q353) hv_X0_no rfl ⟨Nat.le_of_ble_eq_true rfl, Nat.le_of_ble_eq_true rfl⟩ ⟨by omega, by omega⟩ rfl (Nat.le_of_ble_eq_true rfl)) (fun r19 w21 h20 => ?_)
        obtain ⟨r19e, hX20⟩ := h20
        rw [r19e]
        have e : spSet o (nI sN) i v = ((-3), oRef o 3) := by
          unfold spSet
          repeat (first | rw [el_some (by assumption)] | rw [el_none (by assumption)] | rw [if_pos (by omega)] | rw [if_neg (by omega)] | rw [if_pos (by assumption)] | rw [if_neg (ts_n (by assumption))])
          all_goals first | rfl | (exfalso; omega)
        exact z_iret X dX0_set_37 (by omega) (by omega) ⟨_, rfl, (by rw [e]; exact ⟨⟨_, _, rfl, hX20⟩, rfl⟩)⟩
      · have hX7 := XT.fresh hX hn7 (e := .inr (5, [.null, .null, .null, .null, .null, .int 0, .int (-4)]))
        refine zt_catch X Y [] (14, 25, 26, 122) [(14, 25, 38, 136)] rfl zp_n rfl (by decide) q364 q390 rfl ?_
        refine z_astore (lv2 := [(5, .ref (q6)), (0, .ref (xa 0)), (1, .int (nI (sN))), (2, .int (i)), (3, .long (v))]) X dX0_set_26 (Nat.le_of_ble_eq_true rfl) rfl ?_
        refine z_aload_n X dX0_set_28 rfl 1 rfl ?_
        refine z_aload X dX0_set_29 0 rfl ?_
        refine z_get X dX0_set_31 gu_s in_X5 rfl 6 (Nat.le_of_ble_eq_true rfl) q410 rfl ?_
        refine z_ci (z_runV (rest := []) (n := 1) X [.int ((-4))] (m_X0_no_4 hX7) dX0_set_34 hX7.ob rfl (lw_V q350 q352 qs2 q66 q353) hv_X0_no rfl ⟨Nat.le_of_ble_eq_true rfl, Nat.le_of_ble_eq_true rfl⟩ ⟨by omega, by omega⟩ rfl (Nat.le_of_ble_eq_true rfl)) (fun r22 w24 h23 => ?_)
        obtain ⟨r22e, hX23⟩ := h23
        rw [r22e]
        have e : spSet o (nI sN) i v = ((-4), oRef o 4) := by
          unfold spSet
          repeat (first | rw [el_some (by assumption)] | rw [el_none (by assumption)] | rw [if_pos (by omega)] | rw [if_neg (by omega)] | rw [if_pos (by assumption)] | rw [if_neg (ts_n (by assumption))])
          all_goals first | rfl | (exfalso; omega)
        exact z_iret X dX0_set_37 (by omega) (by omega) ⟨_, rfl, (by rw [e]; exact ⟨⟨_, _, rfl, hX23⟩, rfl⟩)⟩
  · have e4 : rgb 0 7 s = none := rgb_f c1
    refine z_aload_n X dX0_set_7 rfl 0 rfl ?_
    refine z_bipush (v := (-2)) X dX0_set_8 (by decide) ?_
    refine z_ci (z_runV (rest := []) (n := 1) X [.int ((-2))] (m_X0_no_2 hX) dX0_set_10 hX.ob rfl (lw_V q350 q352 qs2 q66 q353) hv_X0_no rfl ⟨Nat.le_of_ble_eq_true rfl, Nat.le_of_ble_eq_true rfl⟩ ⟨by omega, by omega⟩ rfl (Nat.le_of_ble_eq_true rfl)) (fun r25 w27 h26 => ?_)
    obtain ⟨r25e, hX26⟩ := h26
    rw [r25e]
    have e : spSet o s i v = ((-2), oRef o 2) := by
      unfold spSet
      repeat (first | rw [el_some (by assumption)] | rw [el_none (by assumption)] | rw [if_pos (by omega)] | rw [if_neg (by omega)] | rw [if_pos (by assumption)] | rw [if_neg (ts_n (by assumption))])
      all_goals first | rfl | (exfalso; omega)
    exact z_iret X dX0_set_13 (by omega) (by omega) ⟨_, rfl, (by rw [e]; exact ⟨⟨_, _, rfl, hX26⟩, rfl⟩)⟩
