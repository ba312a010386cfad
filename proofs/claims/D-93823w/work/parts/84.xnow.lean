/-! x: best, now, worst, price -/
set_option maxRecDepth 100000
set_option maxHeartbeats 2000000 in
theorem x_best {l : Launch} {G : GG} {w : GW} {xa : Nat → Nat} {rr : Option Nat} {o : OS} {im : IM} (hX : XT G w xa rr o im) (hO : oInv o) {n : Int32} : gM l G yX0_best cX0_best 2 (some .long) 20 7 507 [.ref (xa 0), .int (n)] w (pL (fun r w1 => XE G (xa 0) w1 (spBest o n).2 im ∧ r = (spBest o n).1)) := by
  refine Z.met (own := "ThreeSizes") (nm := "best") (lv := [(0, .ref (xa 0)), (1, .int (n))]) (by decide) rfl rfl (Nat.le_of_ble_eq_true rfl) rfl (fun κ X => ?_)
  have hI := hO.1
  have h6 := hI.2.1
  have ht200 := hO.2.2.2
  refine z_iload_n X dX0_best_0 rfl 1 rfl ?_
  refine z_cip (z_runS (rest := []) (n := 1) X [.int (n)] (m_X0_isHours (v := n)) dX0_best_1 (lw_S q1198 q1199 q66 q1200) hs_X0_isHours rfl ⟨Nat.le_of_ble_eq_true rfl, Nat.le_of_ble_eq_true rfl⟩ ⟨by omega, by omega⟩ rfl (Nat.le_of_ble_eq_true rfl)) ?_
  refine z_if_eq (tgt := 21) X dX0_best_4 (by decide) bI_d (fun c1 => ?_) (fun c1 => ?_)
  · have e1 : rgb 0 24 n = none := rgb_f c1
    refine z_aload_n X dX0_best_21 rfl 0 rfl ?_
    refine z_bipush (v := (-2)) X dX0_best_22 (by decide) ?_
    refine z_cl (z_runV (rest := []) (n := 1) X [.int ((-2))] (m_X0_noDeep_2 hX) dX0_best_24 hX.ob rfl (lw_V q1189 q1191 qs16 q66 q1192) hv_X0_noDeep rfl ⟨Nat.le_of_ble_eq_true rfl, Nat.le_of_ble_eq_true rfl⟩ ⟨by omega, by omega⟩ rfl (Nat.le_of_ble_eq_true rfl)) (fun r2 w4 h3 => ?_)
    obtain ⟨r2e, hX3⟩ := h3
    rw [r2e]
    have e : spBest o n = (-1000000000000 + ((-2) : Int32).toInt64, oRef o 2) := by
      unfold spBest
      repeat (first | rw [el_some (by assumption)] | rw [el_none (by assumption)] | rw [if_pos (by omega)] | rw [if_neg (by omega)] | rw [if_pos (by assumption)] | rw [if_neg (ts_n (by assumption))])
      all_goals first | rfl | (exfalso; omega)
    exact z_lret X dX0_best_27 (by omega) (by omega) ⟨_, rfl, (by rw [e]; exact ⟨⟨_, _, rfl, hX3⟩, rfl⟩)⟩
  · have c1 := Classical.not_not.mp c1
    obtain ⟨nN, nNl, nNh, rfl, e2⟩ := rgb_t (lo := 0) (hi := 24) (by decide) (by decide) (c1)
    refine z_aload_n X dX0_best_7 rfl 0 rfl ?_
    refine z_get X dX0_best_8 hX.ob in_X0 rfl 0 (Nat.le_of_ble_eq_true rfl) q233 rfl ?_
    refine z_get X dX0_best_11 hX.day in_X1 rfl 0 (Nat.le_of_ble_eq_true rfl) q190 rfl ?_
    refine z_iload_n X dX0_best_14 rfl 1 rfl ?_
    refine z_cl (z_runS (rest := []) (n := 2) X [.ref (xa 5), .int (nI (nN))] (m_x_best hX hO (n := nN) (by omega)) dX0_best_15 (lw_S q1212 q1213 q66 q1214) hs_X0_best_2 rfl ⟨Nat.le_of_ble_eq_true rfl, Nat.le_of_ble_eq_true rfl⟩ ⟨by omega, by omega⟩ rfl (Nat.le_of_ble_eq_true rfl)) (fun r5 w7 h6 => ?_)
    obtain ⟨xa6, rr6, hk6, hX6, r5e⟩ := h6
    rw [r5e]
    rw [← hk6 0 (by omega) (by omega) (by omega)]
    refine z_goto (tgt := 27) X dX0_best_18 (by decide) ?_
    have e : spBest o (nI nN) = (bestV o.1 nN, o) := by
      unfold spBest
      repeat (first | rw [el_some (by assumption)] | rw [el_none (by assumption)] | rw [if_pos (by omega)] | rw [if_neg (by omega)] | rw [if_pos (by assumption)] | rw [if_neg (ts_n (by assumption))])
      all_goals first | rfl | (exfalso; omega)
    exact z_lret X dX0_best_27 (by omega) (by omega) ⟨_, rfl, (by rw [e]; exact ⟨⟨_, _, (hk6 0 (by decide) (by decide) (by decide)), hX6⟩, rfl⟩)⟩
set_option maxHeartbeats 2000000 in
theorem x_now {l : Launch} {G : GG} {w : GW} {xa : Nat → Nat} {rr : Option Nat} {o : OS} {im : IM} (hX : XT G w xa rr o im) (hO : oInv o) {k n : Int32} : gM l G yX0_now cX0_now 3 (some .int) 20 7 507 [.ref (xa 0), .int (k), .int (n)] w (pI (fun r w1 => XE G (xa 0) w1 (spNow o k n).2 im ∧ r = (spNow o k n).1)) := by
  refine Z.met (own := "ThreeSizes") (nm := "now") (lv := [(0, .ref (xa 0)), (1, .int (k)), (2, .int (n))]) (by decide) rfl rfl (Nat.le_of_ble_eq_true rfl) rfl (fun κ X => ?_)
  have hI := hO.1
  have h6 := hI.2.1
  have ht200 := hO.2.2.2
  have hs := stOf_lt hI
  refine z_aload_n X dX0_now_0 rfl 0 rfl ?_
  refine z_iload_n X dX0_now_1 rfl 1 rfl ?_
  refine z_cip (z_runV (rest := []) (n := 1) X [.int (k)] (m_X0_isSort hX hO (v := k)) dX0_now_2 hX.ob rfl (lw_V q798 q800 qs6 q66 q801) hv_X0_isSort rfl ⟨Nat.le_of_ble_eq_true rfl, Nat.le_of_ble_eq_true rfl⟩ ⟨by omega, by omega⟩ rfl (Nat.le_of_ble_eq_true rfl)) ?_
  refine z_if_eq (tgt := 15) X dX0_now_5 (by decide) bI_d (fun c1 => ?_) (fun c1 => ?_)
  · have e1 : rgn (o.1.2 0) k = none := rgn_f c1
    refine z_aload_n X dX0_now_15 rfl 0 rfl ?_
    refine z_bipush (v := (-2)) X dX0_now_16 (by decide) ?_
    refine z_ci (z_runV (rest := []) (n := 1) X [.int ((-2))] (m_X0_no_2 hX) dX0_now_18 hX.ob rfl (lw_V q350 q352 qs2 q66 q353) hv_X0_no rfl ⟨Nat.le_of_ble_eq_true rfl, Nat.le_of_ble_eq_true rfl⟩ ⟨by omega, by omega⟩ rfl (Nat.le_of_ble_eq_true rfl)) (fun r2 w4 h3 => ?_)
    obtain ⟨r2e, hX3⟩ := h3
    rw [r2e]
    have e : spNow o k n = ((-2), oRef o 2) := by
      unfold spNow
      repeat (first | rw [el_some (by assumption)] | rw [el_none (by assumption)] | rw [if_pos (by omega)] | rw [if_neg (by omega)] | rw [if_pos (by assumption)] | rw [if_neg (ts_n (by assumption))])
      all_goals first | rfl | (exfalso; omega)
    exact z_iret X dX0_now_21 (by omega) (by omega) ⟨_, rfl, (by rw [e]; exact ⟨⟨_, _, rfl, hX3⟩, rfl⟩)⟩
  · have c1 := Classical.not_not.mp c1
    obtain ⟨kN, kNh, rfl, e2⟩ := rgn_t (n := o.1.2 0) (by omega) c1
    refine z_iload_n X dX0_now_8 rfl 2 rfl ?_
    refine z_cip (z_runS (rest := []) (n := 1) X [.int (n)] (m_X0_isHours (v := n)) dX0_now_9 (lw_S q1198 q1199 q66 q1200) hs_X0_isHours rfl ⟨Nat.le_of_ble_eq_true rfl, Nat.le_of_ble_eq_true rfl⟩ ⟨by omega, by omega⟩ rfl (Nat.le_of_ble_eq_true rfl)) ?_
    refine z_if_ne (tgt := 22) X dX0_now_12 (by decide) bI_d (fun c5 => ?_) (fun c5 => ?_)
    · have c5 := Classical.not_not.mp c5
      obtain ⟨nN, nNl, nNh, rfl, e3⟩ := rgb_t (lo := 0) (hi := 24) (by decide) (by decide) (c5)
      refine z_aload_n X dX0_now_22 rfl 0 rfl ?_
      refine z_get X dX0_now_23 hX.ob in_X0 rfl 0 (Nat.le_of_ble_eq_true rfl) q233 rfl ?_
      refine z_get X dX0_now_26 hX.day in_X1 rfl 0 (Nat.le_of_ble_eq_true rfl) q190 rfl ?_
      refine z_iload_n X dX0_now_29 rfl 1 rfl ?_
      refine z_aload_n X dX0_now_30 rfl 0 rfl ?_
      refine z_get X dX0_now_31 hX.ob in_X0 rfl 0 (Nat.le_of_ble_eq_true rfl) q233 rfl ?_
      refine z_get X dX0_now_34 hX.day in_X1 rfl 0 (Nat.le_of_ble_eq_true rfl) q190 rfl ?_
      refine z_cip (z_runV (rest := [.int (nI (kN)), .ref (xa 5)]) (n := 0) X [] (m_X2_state hX.wall hI) dX0_now_37 (wl_o hX.wall) rfl (lw_V q1173 q743 q744 q68 q745) hv_X2_state rfl ⟨Nat.le_of_ble_eq_true rfl, Nat.le_of_ble_eq_true rfl⟩ ⟨by omega, by omega⟩ rfl (Nat.le_of_ble_eq_true rfl)) ?_
      refine z_new X dX0_now_40 in_X13 tyX13 tyX13_ok (ci := 12) (fs := [.null, .null, .int 0]) q1205 q615 q90 rfl (fun j hj => by rcases (show j = 0 ∨ j = 1 ∨ j = 2 by omega) with rfl | rfl | rfl <;> rfl) (by omega) (by omega) (fun q6 hq6 => ?_)
      have hXq6 := XT.fresh hX hq6 (e := .inr (12, [.null, .null, .int 0]))
      refine z_dup X dX0_now_43 rfl ?_
      refine z_aload_n X dX0_now_44 rfl 0 rfl ?_
      refine z_get X dX0_now_45 hXq6.ob in_X0 rfl 0 (Nat.le_of_ble_eq_true rfl) q233 rfl ?_
      refine z_get X dX0_now_48 hXq6.day in_X1 rfl 0 (Nat.le_of_ble_eq_true rfl) q190 rfl ?_
      refine z_null X dX0_now_51 ?_
      refine z_cv (z_runI (rest := [.ref (q6), .int (nI (stOf o.1)), .int (nI (kN)), .ref (xa 5)]) (n := 2) X [.ref (xa 5), .null] (m_X13_initN hXq6.wall hI (wq := q6) gu_s) dX0_now_52 (lw_meth q618) q90 q1206 q617 rfl hs_X13_init rfl ⟨Nat.le_of_ble_eq_true rfl, Nat.le_of_ble_eq_true rfl⟩ ⟨by omega, by omega⟩ rfl (Nat.le_of_ble_eq_true rfl)) (fun w9 h8 => ?_)
      rw [gu_gu] at h8
      subst h8
      have hXn10 := XT.fresh hX hq6 (e := .inr (12, [.ref (xa 5), .null, .int (nI (100 - sumTo (o.1.1 4) (o.1.2 0)))]))
      refine z_iload_n X dX0_now_55 rfl 2 rfl ?_
      refine z_ca (z_runV (rest := [.int (nI (stOf o.1)), .int (nI (kN)), .ref (xa 5)]) (n := 1) X [.int (nI (nN))] (m_x_after hXn10 hO (wq := q6) gu_s (n := nN) (by omega)) dX0_now_56 gu_s rfl (lw_V q1207 q643 q644 q90 q645) hv_X13_after rfl ⟨Nat.le_of_ble_eq_true rfl, Nat.le_of_ble_eq_true rfl⟩ ⟨by omega, by omega⟩ rfl (Nat.le_of_ble_eq_true rfl)) (fun r11 w13 h12 => ?_)
      obtain ⟨xa12, rr12, hk12, hX12, hr12, hq12⟩ := h12
      rw [← hk12 0 (by omega) (by omega) (by omega)]
      rw [← hk12 5 (by omega) (by omega) (by omega)]
      refine z_cip (z_runS (rest := []) (n := 4) X [.ref (xa12 5), .int (nI (kN)), .int (nI (stOf o.1)), .ref (r11)] (m_X0_bestOf hX12.wall hI (ix := kN) (st := stOf o.1) (tq := r11) (by omega) (by omega) hr12) dX0_now_59 (lw_S q1219 q681 q66 q682) hs_X0_bestOf rfl ⟨Nat.le_of_ble_eq_true rfl, Nat.le_of_ble_eq_true rfl⟩ ⟨by omega, by omega⟩ rfl (Nat.le_of_ble_eq_true rfl)) ?_
      have e : spNow o (nI kN) (nI nN) = (oI (bestO o.1 kN (stOf o.1) (vals o.1 (rBest o.1) nN)), o) := by
        unfold spNow
        repeat (first | rw [el_some (by assumption)] | rw [el_none (by assumption)] | rw [if_pos (by omega)] | rw [if_neg (by omega)] | rw [if_pos (by assumption)] | rw [if_neg (ts_n (by assumption))])
        all_goals first | rfl | (exfalso; omega)
      exact z_iret X dX0_now_62 (by omega) (by omega) ⟨_, rfl, (by rw [e]; exact ⟨⟨_, _, (hk12 0 (by decide) (by decide) (by decide)), hX12⟩, rfl⟩)⟩
    · have e4 : rgb 0 24 n = none := rgb_f c5
      refine z_aload_n X dX0_now_15 rfl 0 rfl ?_
      refine z_bipush (v := (-2)) X dX0_now_16 (by decide) ?_
      refine z_ci (z_runV (rest := []) (n := 1) X [.int ((-2))] (m_X0_no_2 hX) dX0_now_18 hX.ob rfl (lw_V q350 q352 qs2 q66 q353) hv_X0_no rfl ⟨Nat.le_of_ble_eq_true rfl, Nat.le_of_ble_eq_true rfl⟩ ⟨by omega, by omega⟩ rfl (Nat.le_of_ble_eq_true rfl)) (fun r14 w16 h15 => ?_)
      obtain ⟨r14e, hX15⟩ := h15
      rw [r14e]
      have e : spNow o (nI kN) n = ((-2), oRef o 2) := by
        unfold spNow
        repeat (first | rw [el_some (by assumption)] | rw [el_none (by assumption)] | rw [if_pos (by omega)] | rw [if_neg (by omega)] | rw [if_pos (by assumption)] | rw [if_neg (ts_n (by assumption))])
        all_goals first | rfl | (exfalso; omega)
      exact z_iret X dX0_now_21 (by omega) (by omega) ⟨_, rfl, (by rw [e]; exact ⟨⟨_, _, rfl, hX15⟩, rfl⟩)⟩
theorem mnTo_hit {p : Nat → Bool} {f : Nat → Int64} {i y : Nat} (h : mnTo p f i = some y) (hp : p i = true) (hf : f i < f y) : mnTo p f (i + 1) = some i := by
  show (match mnTo p f i with | none => _ | some y => _) = _
  rw [h]
  exact if_pos ⟨hp, hf⟩
theorem mnTo_stay {p : Nat → Bool} {f : Nat → Int64} {i y : Nat} (h : mnTo p f i = some y) (hn : ¬ (p i = true ∧ f i < f y)) : mnTo p f (i + 1) = some y := by
  show (match mnTo p f i with | none => _ | some y => _) = _
  rw [h]
  exact if_neg hn
theorem mnTo_1 {S : WS} {f : Nat → Int64} : mnTo (isSt S) f 1 = some 0 := by
  show (if isSt S 0 = true then some 0 else none) = some 0
  exact if_pos (isSt_iff.mpr ⟨by omega, Nat.zero_le _, Nat.zero_le _, Nat.zero_le _⟩)
theorem fe_isSt {S S2 : WS} (h : FE S S2) (st : Nat) : isSt S2 st = isSt S st := by unfold isSt; rw [h.2 0 (by decide)]
theorem fe_br {S S2 : WS} (h : FE S S2) (i : Nat) (o : Option Nat) (st : Nat) (V : Nat → Int64) : bring S2 i o st V = bring S i o st V := by
  cases o with
  | none => show lostL S2 i + V st = lostL S i + V st; unfold lostL; rw [h.1, h.2 5 (by decide), h.2 6 (by decide)]
  | some z => show 1000000 * lN (S2.1 5 i) + _ = 1000000 * lN (S.1 5 i) + _; rw [h.2 5 (by decide)]
theorem fe_cv {S S2 : WS} (h : FE S S2) {V : Nat → Int64} {st : Nat} : ∀ n, cvTo S2 (rBest S2) V st n = cvTo S (rBest S) V st n := by
  intro n
  induction n with
  | zero => show lN (100 - sumTo (S2.1 4) (S2.2 0)) * V st = lN (100 - sumTo (S.1 4) (S.2 0)) * V st; rw [h.1, h.2 4 (by decide)]
  | succ n ih =>
    show cvTo S2 (rBest S2) V st n + lN (S2.1 4 n) * bring S2 n (bestTo S2 n st V 3) st V = cvTo S (rBest S) V st n + lN (S.1 4 n) * bring S n (bestTo S n st V 3) st V
    rw [ih, FE.best h, fe_br h, h.2 4 (by decide)]
theorem fe_cm {S S2 : WS} (h : FE S S2) {V : Nat → Int64} {st : Nat} : comesV S2 (rBest S2) V st = comesV S (rBest S) V st := by
  unfold comesV
  rw [h.1]
  exact fe_cv h _
theorem fe_od {S S2 : WS} (h : FE S S2) {g : Nat → Nat} {st : Nat} (k : Nat) : ∀ n, oddTo S2 g st k n = oddTo S g st k n := by
  intro n
  induction n with
  | zero => rfl
  | succ n ih =>
    show oddTo S2 g st k n * oddZ S2 g st n (bitK k n) = oddTo S g st k n * oddZ S g st n (bitK k n)
    rw [ih]
    unfold oddZ
    rw [h.2 0 (by decide)]
theorem fe_hr {S S2 : WS} (h : FE S S2) {g : Nat → Nat} {V : Nat → Int64} {st : Nat} : ∀ k, hrTo S2 (rBest S2) g V st k = hrTo S (rBest S) g V st k := by
  intro k
  induction k with
  | zero => show lN 0 = lN 0; rfl
  | succ k ih =>
    show hrTo S2 (rBest S2) g V st k + (if oddTo S2 g st k 3 = 0 then lN 0 else lN (oddTo S2 g st k 3) * comesV S2 (rBest S2) V (nextTo st k 3)) = hrTo S (rBest S) g V st k + (if oddTo S g st k 3 = 0 then lN 0 else lN (oddTo S g st k 3) * comesV S (rBest S) V (nextTo st k 3))
    rw [ih, fe_od h, fe_cm h]
theorem fe_vals {S S2 : WS} (h : FE S S2) : ∀ n, vals S2 (rBest S2) n = vals S (rBest S) n := by
  intro n
  induction n with
  | zero => show (fun _ => lN 0 : Nat → Int64) = fun _ => lN 0; rfl
  | succ n ih =>
    funext st
    show (if isSt S2 st = true then hrTo S2 (rBest S2) (S2.1 2) (vals S2 (rBest S2) n) st 8 / 100000 else lN 0) = (if isSt S st = true then hrTo S (rBest S) (S.1 2) (vals S (rBest S) n) st 8 / 100000 else lN 0)
    rw [fe_isSt h, ih, h.2 2 (by decide), fe_hr h]
/-- what a box in use is worth: one full box more -/
theorem price_eq {S : WS} (hI : wInv S) {z : Nat} (hz : z < 3) (hf : S.1 1 z < S.1 0 z) (n : Nat) : bestV (wPut S 1 z (S.1 1 z + 1)) n = vals S (rBest S) n (stOf S - pw5 z) := by
  have e : stOf (wPut S 1 z (S.1 1 z + 1)) = stOf S - pw5 z := by
    have w0 := hI.1 0 (by omega)
    have w1 := hI.1 1 (by omega)
    have w2 := hI.1 2 (by omega)
    rcases (show z = 0 ∨ z = 1 ∨ z = 2 by omega) with rfl | rfl | rfl <;> simp only [stOf, wPut, pw5] <;> simp <;> omega
  unfold bestV
  rw [fe_vals (FE.rf.put (i := z) (v := S.1 1 z + 1)), e]
theorem st_ge {S : WS} {z : Nat} (hz : z < 3) (hf : S.1 1 z < S.1 0 z) : pw5 z ≤ stOf S := by
  rcases (show z = 0 ∨ z = 1 ∨ z = 2 by omega) with rfl | rfl | rfl <;> simp only [stOf, pw5] <;> simp <;> omega
