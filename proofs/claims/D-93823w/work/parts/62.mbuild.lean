/-! THE MODEL: how many boxes are best built -/
set_option maxRecDepth 100000
def takesN (st : Nat) : Nat := fr st 0 + 2 * fr st 1 + 4 * fr st 2
/-- boxes as a state says, none full -/
def wBld (S : WS) (st : Nat) : WS := (fun f i => if f = 0 ∧ i < 3 then fr st i else if f = 1 ∧ i < 3 then 0 else S.1 f i, S.2)
def bldO (S : WS) (v n : Nat) : Option Nat := mxTo (fun s => decide (takesN s ≤ v)) (fun s => bestV (wBld S s) n) 125
def spBuild (o : OS) (v n q : Int32) : Int32 × OS := el (rgb 0 30 v) (bad o 2) fun v => el (rgb 0 24 n) (bad o 2) fun n => el (rgb 0 1 q) (bad o 2) fun q => el (bldO o.1 v n) (bad o 2) fun y => (if q = 0 then nI y else nI (takesN y), o)
theorem mx_stays {p : Nat → Bool} {f : Nat → Int64} {k : Nat} (h : ∃ y, mxTo p f k = some y) : ∃ y, mxTo p f (k + 1) = some y := by
  obtain ⟨y, hy⟩ := h
  simp only [mxTo, hy]
  split
  · exact ⟨_, rfl⟩
  · exact ⟨_, rfl⟩
theorem bldO_some {S : WS} {v n : Nat} : ∃ y, bldO S v n = some y := by
  unfold bldO
  have h : ∀ k, ∃ y, mxTo (fun s => decide (takesN s ≤ v)) (fun s => bestV (wBld S s) n) (k + 1) = some y := by
    intro k
    induction k with
    | zero => exact ⟨0, mx_new (decide_eq_true (by simp [takesN, fr])) rfl⟩
    | succ k ih => exact mx_stays ih
  exact h 124
/-- but for boxes and what is full the same -/
def B01 (S S2 : WS) : Prop := S2.2 = S.2 ∧ ∀ f, 2 ≤ f → S2.1 f = S.1 f
theorem B01.rf {S : WS} : B01 S S := ⟨rfl, fun _ _ => rfl⟩
theorem B01.bld {S : WS} {st : Nat} : B01 S (wBld S st) := ⟨rfl, fun f hf => funext fun i => (if_neg (by omega)).trans (if_neg (by omega))⟩
theorem MR.bld {S S2 : WS} {m : MSt} {st : Nat} (h : MR (wPut (wPut (wPut (wPut (wPut (wPut S2 0 0 (fr st 0)) 1 0 0) 0 1 (fr st 1)) 1 1 0) 0 2 (fr st 2)) 1 2 0) m) (hB : B01 S S2) : MR (wBld S st) m := by
  obtain ⟨a, b, c, d, e⟩ := h
  obtain ⟨h1, h2⟩ := hB
  have hf : ∀ f, 2 ≤ f → (wPut (wPut (wPut (wPut (wPut (wPut S2 0 0 (fr st 0)) 1 0 0) 0 1 (fr st 1)) 1 1 0) 0 2 (fr st 2)) 1 2 0).1 f = (wBld S st).1 f := by
    intro f hf
    rw [wPut_oth (by omega), wPut_oth (by omega), wPut_oth (by omega), wPut_oth (by omega), wPut_oth (by omega), wPut_oth (by omega), h2 f hf]
    exact (B01.bld.2 f hf).symm
  have hs : S2.2 = S.2 := h1
  refine ⟨fun j hj => ?_, b.trans (by rw [show (wBld S st).2 = S2.2 from hs.symm]; rfl), fun k hk => ?_, d.trans (by rw [show (wBld S st).2 = S2.2 from hs.symm]; rfl), e.trans (by rw [show (wBld S st).2 = S2.2 from hs.symm]; rfl)⟩
  · have aj := a j hj
    rw [hf 2 (by omega)] at aj
    have e0 : (wBld S st).1 0 j = fr st j := by simp [wBld, hj]
    have e1 : (wBld S st).1 1 j = 0 := by simp [wBld, hj]
    rw [e0, e1]
    refine ⟨aj.1.trans (congrArg nI ?_), aj.2.1.trans (congrArg nI ?_), aj.2.2⟩
    · rw [wPut_oth (f2 := 0) (by decide)]
      rcases (show j = 0 ∨ j = 1 ∨ j = 2 by omega) with rfl | rfl | rfl
      · rw [wPut_ne (by decide), wPut_oth (f2 := 0) (by decide), wPut_ne (by decide), wPut_oth (f2 := 0) (by decide), wPut_own]
      · rw [wPut_ne (by decide), wPut_oth (f2 := 0) (by decide), wPut_own]
      · rw [wPut_own]
    · rcases (show j = 0 ∨ j = 1 ∨ j = 2 by omega) with rfl | rfl | rfl
      · rw [wPut_ne (by decide), wPut_oth (f2 := 1) (by decide), wPut_ne (by decide), wPut_oth (f2 := 1) (by decide), wPut_own]
      · rw [wPut_ne (by decide), wPut_oth (f2 := 1) (by decide), wPut_own]
      · rw [wPut_own]
  · have ck := c k hk
    rw [hf 3 (by omega), hf 4 (by omega), hf 5 (by omega), hf 6 (by omega)] at ck
    exact ck
theorem wInv_bld {S : WS} (h : wInv S) {st : Nat} : wInv (wBld S st) := by
  obtain ⟨a, b, c, d, e, f⟩ := h
  have o : ∀ f, 2 ≤ f → (wBld S st).1 f = S.1 f := B01.bld.2
  refine ⟨fun i hi => ?_, b, fun i hi => ?_, ?_, e, f⟩
  · have e0 : (wBld S st).1 0 i = fr st i := by simp [wBld, hi]
    have e1 : (wBld S st).1 1 i = 0 := by simp [wBld, hi]
    rw [e0, e1, o 2 (by omega)]
    have := fr_lt st i
    have := a i hi
    omega
  · rw [o 3 (by omega), o 5 (by omega), o 6 (by omega)]; exact c i hi
  · rw [o 4 (by omega)]; exact d
set_option maxHeartbeats 2000000 in
theorem m_X4_build {l : Launch} {G : GG} {wb w : GW} {ad : Nat → Nat} {m : MSt} (hM : MM G wb w ad m) {o : OS} (hT : MT o m) (hO : oInv o) {am : Nat → Nat} {t : Bool} (hTr : TrO G w ad m 19 am t) {v n q : Int32} : gM l G yX4_build cX4_build 11 (some .int) 10 68 4751 [.ref (ad 0), .int (v), .int (n), .int (q)] w (pI (fun r w1 => ∃ m2, TrQ G w ad m am t w1 m2 ∧ MT (spBuild o v n q).2 m2 ∧ r = (spBuild o v n q).1)) := by
  refine Z.met (own := "ThreeSizesModel") (nm := "build") (lv := [(0, .ref (ad 0)), (1, .int (v)), (2, .int (n)), (3, .int (q))]) (by decide) rfl rfl (Nat.le_of_ble_eq_true rfl) rfl (fun κ X => ?_)
  have hM0 := hM.1.mm
  have hI := hO.1
  have h6 := hI.2.1
  refine z_iload_n X dX4_build_0 rfl 1 rfl ?_
  refine z_i2l (v := (v).toInt64) X dX4_build_1 rfl ?_
  refine z_lconst (v := lN 0) X dX4_build_2 cl0 ?_
  refine z_ldc2 X dX4_build_3 q1862 ?_
  refine z_cip (z_runS (rest := []) (n := 3) X [.long ((v).toInt64), .long (lN (0)), .long ((30))] m_X4_in dX4_build_6 (lw_S q1541 q1542 q70 q1543) hs_X4_in rfl ⟨Nat.le_of_ble_eq_true rfl, Nat.le_of_ble_eq_true rfl⟩ ⟨by omega, by omega⟩ rfl (Nat.le_of_ble_eq_true rfl)) ?_
  refine z_if_eq (tgt := 29) X dX4_build_9 (by decide) bI_d (fun c1 => ?_) (fun c1 => ?_)
  · have e1 : rgb 0 30 v = none := rgb_f (fun q => c1 ((in32 (lo := nI 0) (hi := nI 30)).mpr q))
    refine z_aload_n X dX4_build_29 rfl 0 rfl ?_
    refine z_bipush (v := (-2)) X dX4_build_30 (by decide) ?_
    refine z_ci (z_runV (rest := []) (n := 1) X [.int ((-2))] (m_X4_refuse hM0 (k := 2) (by decide) (v := (-2)) rfl) dX4_build_32 (mm_o hM0) rfl (lw_V q1546 q1548 qs27 q70 q1549) hv_X4_refuse rfl ⟨Nat.le_of_ble_eq_true rfl, Nat.le_of_ble_eq_true rfl⟩ ⟨by omega, by omega⟩ rfl (Nat.le_of_ble_eq_true rfl)) (fun r2 w4 h3 => ?_)
    obtain ⟨hM3, r2e⟩ := h3
    rw [r2e]
    have hT3 := MT.ref hT (k := 2) (by decide)
    have e : spBuild o v n q = ((-2), oRef o 2) := by
      unfold spBuild
      repeat (first | rw [el_some (by assumption)] | rw [el_none (by assumption)] | rw [if_pos (by omega)] | rw [if_neg (by omega)] | rw [if_pos (by assumption)] | rw [if_neg (ts_n (by assumption))])
      all_goals first | rfl | (exfalso; omega)
    exact z_iret X dX4_build_35 (by omega) (by omega) ⟨_, rfl, (by rw [e]; exact ⟨_, TrQ.ofb hTr hM0 hM3, hT3, rfl⟩)⟩
  · have c1 := Classical.not_not.mp c1
    obtain ⟨vN, vNl, vNh, rfl, e2⟩ := rgb_t (lo := 0) (hi := 30) (by decide) (by decide) ((in32 (lo := nI 0) (hi := nI 30)).mp c1)
    refine z_iload_n X dX4_build_12 rfl 2 rfl ?_
    refine z_cip (z_runS (rest := []) (n := 1) X [.int (n)] (m_X4_areHours (v := n)) dX4_build_13 (lw_S q1797 q1798 q70 q1799) hs_X4_areHours rfl ⟨Nat.le_of_ble_eq_true rfl, Nat.le_of_ble_eq_true rfl⟩ ⟨by omega, by omega⟩ rfl (Nat.le_of_ble_eq_true rfl)) ?_
    refine z_if_eq (tgt := 29) X dX4_build_16 (by decide) bI_d (fun c5 => ?_) (fun c5 => ?_)
    · have e3 : rgb 0 24 n = none := rgb_f c5
      refine z_aload_n X dX4_build_29 rfl 0 rfl ?_
      refine z_bipush (v := (-2)) X dX4_build_30 (by decide) ?_
      refine z_ci (z_runV (rest := []) (n := 1) X [.int ((-2))] (m_X4_refuse hM0 (k := 2) (by decide) (v := (-2)) rfl) dX4_build_32 (mm_o hM0) rfl (lw_V q1546 q1548 qs27 q70 q1549) hv_X4_refuse rfl ⟨Nat.le_of_ble_eq_true rfl, Nat.le_of_ble_eq_true rfl⟩ ⟨by omega, by omega⟩ rfl (Nat.le_of_ble_eq_true rfl)) (fun r6 w8 h7 => ?_)
      obtain ⟨hM7, r6e⟩ := h7
      rw [r6e]
      have hT7 := MT.ref hT (k := 2) (by decide)
      have e : spBuild o (nI vN) n q = ((-2), oRef o 2) := by
        unfold spBuild
        repeat (first | rw [el_some (by assumption)] | rw [el_none (by assumption)] | rw [if_pos (by omega)] | rw [if_neg (by omega)] | rw [if_pos (by assumption)] | rw [if_neg (ts_n (by assumption))])
        all_goals first | rfl | (exfalso; omega)
      exact z_iret X dX4_build_35 (by omega) (by omega) ⟨_, rfl, (by rw [e]; exact ⟨_, TrQ.ofb hTr hM0 hM7, hT7, rfl⟩)⟩
    · have c5 := Classical.not_not.mp c5
      obtain ⟨nN, nNl, nNh, rfl, e4⟩ := rgb_t (lo := 0) (hi := 24) (by decide) (by decide) (c5)
      refine z_iload_n X dX4_build_19 rfl 3 rfl ?_
      refine z_i2l (v := (q).toInt64) X dX4_build_20 rfl ?_
      refine z_lconst (v := lN 0) X dX4_build_21 cl0 ?_
      refine z_lconst (v := lN 1) X dX4_build_22 cl1 ?_
      refine z_cip (z_runS (rest := []) (n := 3) X [.long ((q).toInt64), .long (lN (0)), .long (lN (1))] m_X4_in dX4_build_23 (lw_S q1541 q1542 q70 q1543) hs_X4_in rfl ⟨Nat.le_of_ble_eq_true rfl, Nat.le_of_ble_eq_true rfl⟩ ⟨by omega, by omega⟩ rfl (Nat.le_of_ble_eq_true rfl)) ?_
      refine z_if_ne (tgt := 36) X dX4_build_26 (by decide) bI_d (fun c9 => ?_) (fun c9 => ?_)
      · have c9 := Classical.not_not.mp c9
        obtain ⟨qN, qNl, qNh, rfl, e5⟩ := rgb_t (lo := 0) (hi := 1) (by decide) (by decide) ((in32 (lo := nI 0) (hi := nI 1)).mp c9)
        refine z_aload_n X dX4_build_36 rfl 0 rfl ?_
        refine z_ca (z_runV (rest := []) (n := 0) X [] (m_X4_fresh hM0 hTr) dX4_build_37 (mm_o hM0) rfl (lw_V q1693 q1695 qs43 q70 q1696) hv_X4_fresh rfl ⟨Nat.le_of_ble_eq_true rfl, Nat.le_of_ble_eq_true rfl⟩ ⟨by omega, by omega⟩ rfl (Nat.le_of_ble_eq_true rfl)) (fun r10 w12 h11 => ?_)
        obtain ⟨at_, mA, mB, r10e, hQ⟩ := h11
        rw [r10e]
        obtain ⟨hA, hB, hd, hq4, hq5, hq6, hRQ, ⟨mt9, hTk⟩⟩ := id hQ
        have hTA : MT o mA := hT.RQ hRQ
        have hRB0 : MR o.1 mB := (hTk.mk hT.mk).1
        have hF0 : ∀ b, (∀ i, mP i = true → b ≠ ad i) → (∀ i, mP i = true → b ≠ at_ i) → w12 b = w12 b := fun _ _ _ => rfl
        have hr0 : mA.2.2.2.2 18 = mA.2.2.2.2 18 ∧ mA.2.2.2.2 19 = mA.2.2.2.2 19 := ⟨rfl, rfl⟩
        refine z_astore (lv2 := [(4, .ref (at_ 0)), (0, .ref (ad 0)), (1, .int (nI (vN))), (2, .int (nI (nN))), (3, .int (nI (qN)))]) X dX4_build_40 (Nat.le_of_ble_eq_true rfl) rfl ?_
        refine z_iconst (v := -1) X dX4_build_42 cim1 ?_
        refine z_istore (lv2 := [(5, .int (-1)), (4, .ref (at_ 0)), (0, .ref (ad 0)), (1, .int (nI (vN))), (2, .int (nI (nN))), (3, .int (nI (qN)))]) X dX4_build_43 (Nat.le_of_ble_eq_true rfl) rfl ?_
        refine z_lconst (v := lN 0) X dX4_build_45 cl0 ?_
        refine z_lstore (lv2 := [(6, .long (lN (0))), (5, .int (-1)), (4, .ref (at_ 0)), (0, .ref (ad 0)), (1, .int (nI (vN))), (2, .int (nI (nN))), (3, .int (nI (qN)))]) X dX4_build_46 (Nat.le_of_ble_eq_true rfl) rfl ?_
        refine z_iconst (v := nI (0)) X dX4_build_48 ci0 ?_
        refine z_istore (lv2 := [(8, .int (nI (0))), (6, .long (lN (0))), (5, .int (-1)), (4, .ref (at_ 0)), (0, .ref (ad 0)), (1, .int (nI (vN))), (2, .int (nI (nN))), (3, .int (nI (qN)))]) X dX4_build_49 (Nat.le_of_ble_eq_true rfl) rfl ?_
        have lb : ∀ (lq i : Nat) (w2 : GW) (mt2 : MSt) (S2 : WS), i + lq = 125 → MM G w2 w2 ad mA → MM G w2 w2 at_ mt2 → MR S2 mt2 → B01 o.1 S2 → (∀ b, (∀ i, mP i = true → b ≠ ad i) → (∀ i, mP i = true → b ≠ at_ i) → w2 b = w12 b) → Z κ w2 [(8, .int (nI (i))), (6, .long (mxV (fun s => decide (takesN s ≤ vN)) (fun s => bestV (wBld o.1 s) nN) i)), (5, .int (oI (mxTo (fun s => decide (takesN s ≤ vN)) (fun s => bestV (wBld o.1 s) nN) i))), (4, .ref (at_ 0)), (0, .ref (ad 0)), (1, .int (nI (vN))), (2, .int (nI (nN))), (3, .int (nI (qN)))] 68 4751 51 [] := by
          intro lq
          induction lq with
          | zero =>
            intro i w2 mt2 S2 lh hA2 hB2 hRB2 hS2 hF2
            obtain rfl : 125 = i := by omega
            refine z_iload X dX4_build_51 0 rfl ?_
            refine z_bipush (v := nI (125)) X dX4_build_53 (by decide) ?_
            refine z_icmp_ge_t (tgt := 142) X dX4_build_55 (by decide) ((nI_leI (by omega) (by omega)).mpr (by omega)) ?_
            obtain ⟨y, hy⟩ := bldO_some (S := o.1) (v := vN) (n := nN)
            have hye : oI (mxTo (fun s => decide (takesN s ≤ vN)) (fun s => bestV (wBld o.1 s) nN) 125) = nI y := by rw [show mxTo (fun s => decide (takesN s ≤ vN)) (fun s => bestV (wBld o.1 s) nN) 125 = some y from hy]; rfl
            have hy2 : y < 125 := (mxTo_lt _ _ hy).1
            rw [hye]
            refine z_iload_n X dX4_build_142 rfl 7 rfl ?_
            refine z_if_ne (tgt := 151) X dX4_build_143 (by decide) (nz_eq (by omega)) (fun c13 => ?_) (fun c13 => ?_)
            · refine z_iload X dX4_build_151 2 rfl ?_
              refine z_cip (z_runS (rest := []) (n := 1) X [.int (nI (y))] (m_X4_takes (st := y) (by omega)) dX4_build_153 (lw_S q1863 q1864 q70 q1865) hs_X4_takes rfl ⟨Nat.le_of_ble_eq_true rfl, Nat.le_of_ble_eq_true rfl⟩ ⟨by omega, by omega⟩ rfl (Nat.le_of_ble_eq_true rfl)) ?_
              have e : spBuild o (nI vN) (nI nN) (nI qN) = (nI ((fr y 0 + 2 * fr y 1 + 4 * fr y 2)), o) := by
                unfold spBuild
                rw [el_some (by assumption), el_some (by assumption), el_some (by assumption), el_some hy]
                rw [if_neg (by omega)]
                rfl
              exact z_iret X dX4_build_156 (by omega) (by omega) ⟨_, rfl, (by rw [e]; exact ⟨_, TrQ.fin hQ hA2.1.mm hB2.1.mm hF2 hr0, hTA, rfl⟩)⟩
            · refine z_iload X dX4_build_146 2 rfl ?_
              refine z_goto (tgt := 156) X dX4_build_148 (by decide) ?_
              have e : spBuild o (nI vN) (nI nN) (nI qN) = (nI (y), o) := by
                unfold spBuild
                rw [el_some (by assumption), el_some (by assumption), el_some (by assumption), el_some hy]
                rw [if_pos (by omega)]
              exact z_iret X dX4_build_156 (by omega) (by omega) ⟨_, rfl, (by rw [e]; exact ⟨_, TrQ.fin hQ hA2.1.mm hB2.1.mm hF2 hr0, hTA, rfl⟩)⟩
          | succ lq ih =>
            intro i w2 mt2 S2 lh hA2 hB2 hRB2 hS2 hF2
            have f0 := fr_lt i 0
            have f1 := fr_lt i 1
            have f2 := fr_lt i 2
            refine z_iload X dX4_build_51 0 rfl ?_
            refine z_bipush (v := nI (125)) X dX4_build_53 (by decide) ?_
            refine z_icmp_ge_f (tgt := 142) X dX4_build_55 (by decide) (fun h => absurd ((nI_leI (by omega) (by omega)).mp h) (by omega)) ?_
            refine z_iload X dX4_build_58 0 rfl ?_
            refine z_cip (z_runS (rest := []) (n := 1) X [.int (nI (i))] (m_X4_takes (st := i) (by omega)) dX4_build_60 (lw_S q1863 q1864 q70 q1865) hs_X4_takes rfl ⟨Nat.le_of_ble_eq_true rfl, Nat.le_of_ble_eq_true rfl⟩ ⟨by omega, by omega⟩ rfl (Nat.le_of_ble_eq_true rfl)) ?_
            refine z_iload_n X dX4_build_63 rfl 5 rfl ?_
            refine z_icmp_gt (tgt := 136) X dX4_build_64 (by decide) (nI_ltI (by omega) (by omega)) (fun c14 => ?_) (fun c14 => ?_)
            · refine z_iinc (v := nI (i + 1)) (lv2 := [(8, .int (nI (i + 1))), (6, .long (mxV (fun s => decide (takesN s ≤ vN)) (fun s => bestV (wBld o.1 s) nN) i)), (5, .int (oI (mxTo (fun s => decide (takesN s ≤ vN)) (fun s => bestV (wBld o.1 s) nN) i))), (4, .ref (at_ 0)), (0, .ref (ad 0)), (1, .int (nI (vN))), (2, .int (nI (nN))), (3, .int (nI (qN)))]) X dX4_build_136 0 rfl (nI_1 _) (Nat.le_of_ble_eq_true rfl) rfl ?_
              refine z_goto (tgt := 51) X dX4_build_139 (by decide) ?_
              have e : mxTo (fun s => decide (takesN s ≤ vN)) (fun s => bestV (wBld o.1 s) nN) (i + 1) = mxTo (fun s => decide (takesN s ≤ vN)) (fun s => bestV (wBld o.1 s) nN) i := mx_no (p := fun s => decide (takesN s ≤ vN)) (f := fun s => bestV (wBld o.1 s) nN) (decide_eq_false (by unfold takesN; omega))
              have e2 : mxV (fun s => decide (takesN s ≤ vN)) (fun s => bestV (wBld o.1 s) nN) (i + 1) = mxV (fun s => decide (takesN s ≤ vN)) (fun s => bestV (wBld o.1 s) nN) i := mxV_eq e
              have kk := ih (i + 1) _ _ _ (by omega) hA2.1.mm hB2.1.mm hRB2 hS2 hF2
              rw [e, e2] at kk
              exact kk
            · refine z_iconst (v := nI (0)) X dX4_build_67 ci0 ?_
              refine z_istore (lv2 := [(9, .int (nI (0))), (8, .int (nI (i))), (6, .long (mxV (fun s => decide (takesN s ≤ vN)) (fun s => bestV (wBld o.1 s) nN) i)), (5, .int (oI (mxTo (fun s => decide (takesN s ≤ vN)) (fun s => bestV (wBld o.1 s) nN) i))), (4, .ref (at_ 0)), (0, .ref (ad 0)), (1, .int (nI (vN))), (2, .int (nI (nN))), (3, .int (nI (qN)))]) X dX4_build_68 (Nat.le_of_ble_eq_true rfl) rfl ?_
              refine z_iload X dX4_build_70 0 rfl ?_
              refine z_iconst (v := nI (3)) X dX4_build_72 ci3 ?_
              refine z_icmp_ge_f (tgt := 106) X dX4_build_73 (by decide) (by decide) ?_
              refine z_aload X dX4_build_76 4 rfl ?_
              refine z_mg10 X hB2 dX4_build_78 ?_
              refine z_iload X dX4_build_81 0 rfl ?_
              refine z_iload X dX4_build_83 1 rfl ?_
              refine z_iload X dX4_build_85 0 rfl ?_
              refine z_cip (z_runS (rest := [.int (nI (0)), .ref (at_ 11)]) (n := 2) X [.int (nI (i)), .int (nI (0))] (m_X4_freeOf (st := i) (z := 0) (by omega) (by omega)) dX4_build_87 (lw_S q1609 q1610 q70 q1611) hs_X4_freeOf rfl ⟨Nat.le_of_ble_eq_true rfl, Nat.le_of_ble_eq_true rfl⟩ ⟨by omega, by omega⟩ rfl (Nat.le_of_ble_eq_true rfl)) ?_
              refine z_mst (n := 3) (j := 0) X hB2.1.mm 11 dX4_build_90 rfl rfl rfl (by omega) (by omega) (fun u15 hM15 => ?_)
              have hs16 := hA2.side hM15 hd
              have hf17 := fun b (x : ∀ i, mP i = true → b ≠ ad i) (y : ∀ i, mP i = true → b ≠ at_ i) => (hM15.2.1 b y).trans (hF2 b x y)
              have hW18 : MR (wPut S2 0 0 (fr i 0)) (mI mt2 11 0 (nI (fr i 0))) := hRB2.put (f := 0) (by decide) (by omega)
              refine z_aload X dX4_build_91 4 rfl ?_
              refine z_mg11 X hM15 dX4_build_93 ?_
              refine z_iload X dX4_build_96 0 rfl ?_
              refine z_iconst (v := nI (0)) X dX4_build_98 ci0 ?_
              refine z_mst (n := 3) (j := 0) X hM15.1.mm 12 dX4_build_99 rfl rfl rfl (by omega) (by omega) (fun u19 hM19 => ?_)
              have hs20 := hs16.side hM19 hd
              have hf21 := fun b (x : ∀ i, mP i = true → b ≠ ad i) (y : ∀ i, mP i = true → b ≠ at_ i) => (hM19.2.1 b y).trans (hf17 b x y)
              have hW22 : MR (wPut (wPut S2 0 0 (fr i 0)) 1 0 0) (mI (mI mt2 11 0 (nI (fr i 0))) 12 0 (nI (0))) := hW18.put (f := 1) (by decide) (by omega)
              refine z_iinc (v := nI (1)) (lv2 := [(9, .int (nI (1))), (8, .int (nI (i))), (6, .long (mxV (fun s => decide (takesN s ≤ vN)) (fun s => bestV (wBld o.1 s) nN) i)), (5, .int (oI (mxTo (fun s => decide (takesN s ≤ vN)) (fun s => bestV (wBld o.1 s) nN) i))), (4, .ref (at_ 0)), (0, .ref (ad 0)), (1, .int (nI (vN))), (2, .int (nI (nN))), (3, .int (nI (qN)))]) X dX4_build_100 0 rfl (nI_1 _) (Nat.le_of_ble_eq_true rfl) rfl ?_
              refine z_goto (tgt := 70) X dX4_build_103 (by decide) ?_
              refine z_iload X dX4_build_70 0 rfl ?_
              refine z_iconst (v := nI (3)) X dX4_build_72 ci3 ?_
              refine z_icmp_ge_f (tgt := 106) X dX4_build_73 (by decide) (by decide) ?_
              refine z_aload X dX4_build_76 4 rfl ?_
              refine z_mg10 X hM19 dX4_build_78 ?_
              refine z_iload X dX4_build_81 0 rfl ?_
              refine z_iload X dX4_build_83 1 rfl ?_
              refine z_iload X dX4_build_85 0 rfl ?_
              refine z_cip (z_runS (rest := [.int (nI (1)), .ref (at_ 11)]) (n := 2) X [.int (nI (i)), .int (nI (1))] (m_X4_freeOf (st := i) (z := 1) (by omega) (by omega)) dX4_build_87 (lw_S q1609 q1610 q70 q1611) hs_X4_freeOf rfl ⟨Nat.le_of_ble_eq_true rfl, Nat.le_of_ble_eq_true rfl⟩ ⟨by omega, by omega⟩ rfl (Nat.le_of_ble_eq_true rfl)) ?_
              refine z_mst (n := 3) (j := 1) X hM19.1.mm 11 dX4_build_90 rfl rfl rfl (by omega) (by omega) (fun u23 hM23 => ?_)
              have hs24 := hs20.side hM23 hd
              have hf25 := fun b (x : ∀ i, mP i = true → b ≠ ad i) (y : ∀ i, mP i = true → b ≠ at_ i) => (hM23.2.1 b y).trans (hf21 b x y)
              have hW26 : MR (wPut (wPut (wPut S2 0 0 (fr i 0)) 1 0 0) 0 1 (fr i 1)) (mI (mI (mI mt2 11 0 (nI (fr i 0))) 12 0 (nI (0))) 11 1 (nI (fr i 1))) := hW22.put (f := 0) (by decide) (by omega)
              refine z_aload X dX4_build_91 4 rfl ?_
              refine z_mg11 X hM23 dX4_build_93 ?_
              refine z_iload X dX4_build_96 0 rfl ?_
              refine z_iconst (v := nI (0)) X dX4_build_98 ci0 ?_
              refine z_mst (n := 3) (j := 1) X hM23.1.mm 12 dX4_build_99 rfl rfl rfl (by omega) (by omega) (fun u27 hM27 => ?_)
              have hs28 := hs24.side hM27 hd
              have hf29 := fun b (x : ∀ i, mP i = true → b ≠ ad i) (y : ∀ i, mP i = true → b ≠ at_ i) => (hM27.2.1 b y).trans (hf25 b x y)
              have hW30 : MR (wPut (wPut (wPut (wPut S2 0 0 (fr i 0)) 1 0 0) 0 1 (fr i 1)) 1 1 0) (mI (mI (mI (mI mt2 11 0 (nI (fr i 0))) 12 0 (nI (0))) 11 1 (nI (fr i 1))) 12 1 (nI (0))) := hW26.put (f := 1) (by decide) (by omega)
              refine z_iinc (v := nI (2)) (lv2 := [(9, .int (nI (2))), (8, .int (nI (i))), (6, .long (mxV (fun s => decide (takesN s ≤ vN)) (fun s => bestV (wBld o.1 s) nN) i)), (5, .int (oI (mxTo (fun s => decide (takesN s ≤ vN)) (fun s => bestV (wBld o.1 s) nN) i))), (4, .ref (at_ 0)), (0, .ref (ad 0)), (1, .int (nI (vN))), (2, .int (nI (nN))), (3, .int (nI (qN)))]) X dX4_build_100 0 rfl (nI_1 _) (Nat.le_of_ble_eq_true rfl) rfl ?_
              refine z_goto (tgt := 70) X dX4_build_103 (by decide) ?_
              refine z_iload X dX4_build_70 0 rfl ?_
              refine z_iconst (v := nI (3)) X dX4_build_72 ci3 ?_
              refine z_icmp_ge_f (tgt := 106) X dX4_build_73 (by decide) (by decide) ?_
              refine z_aload X dX4_build_76 4 rfl ?_
              refine z_mg10 X hM27 dX4_build_78 ?_
              refine z_iload X dX4_build_81 0 rfl ?_
              refine z_iload X dX4_build_83 1 rfl ?_
              refine z_iload X dX4_build_85 0 rfl ?_
              refine z_cip (z_runS (rest := [.int (nI (2)), .ref (at_ 11)]) (n := 2) X [.int (nI (i)), .int (nI (2))] (m_X4_freeOf (st := i) (z := 2) (by omega) (by omega)) dX4_build_87 (lw_S q1609 q1610 q70 q1611) hs_X4_freeOf rfl ⟨Nat.le_of_ble_eq_true rfl, Nat.le_of_ble_eq_true rfl⟩ ⟨by omega, by omega⟩ rfl (Nat.le_of_ble_eq_true rfl)) ?_
              refine z_mst (n := 3) (j := 2) X hM27.1.mm 11 dX4_build_90 rfl rfl rfl (by omega) (by omega) (fun u31 hM31 => ?_)
              have hs32 := hs28.side hM31 hd
              have hf33 := fun b (x : ∀ i, mP i = true → b ≠ ad i) (y : ∀ i, mP i = true → b ≠ at_ i) => (hM31.2.1 b y).trans (hf29 b x y)
              have hW34 : MR (wPut (wPut (wPut (wPut (wPut S2 0 0 (fr i 0)) 1 0 0) 0 1 (fr i 1)) 1 1 0) 0 2 (fr i 2)) (mI (mI (mI (mI (mI mt2 11 0 (nI (fr i 0))) 12 0 (nI (0))) 11 1 (nI (fr i 1))) 12 1 (nI (0))) 11 2 (nI (fr i 2))) := hW30.put (f := 0) (by decide) (by omega)
              refine z_aload X dX4_build_91 4 rfl ?_
              refine z_mg11 X hM31 dX4_build_93 ?_
              refine z_iload X dX4_build_96 0 rfl ?_
              refine z_iconst (v := nI (0)) X dX4_build_98 ci0 ?_
              refine z_mst (n := 3) (j := 2) X hM31.1.mm 12 dX4_build_99 rfl rfl rfl (by omega) (by omega) (fun u35 hM35 => ?_)
              have hs36 := hs32.side hM35 hd
              have hf37 := fun b (x : ∀ i, mP i = true → b ≠ ad i) (y : ∀ i, mP i = true → b ≠ at_ i) => (hM35.2.1 b y).trans (hf33 b x y)
              have hW38 : MR (wPut (wPut (wPut (wPut (wPut (wPut S2 0 0 (fr i 0)) 1 0 0) 0 1 (fr i 1)) 1 1 0) 0 2 (fr i 2)) 1 2 0) (mI (mI (mI (mI (mI (mI mt2 11 0 (nI (fr i 0))) 12 0 (nI (0))) 11 1 (nI (fr i 1))) 12 1 (nI (0))) 11 2 (nI (fr i 2))) 12 2 (nI (0))) := hW34.put (f := 1) (by decide) (by omega)
              refine z_iinc (v := nI (3)) (lv2 := [(9, .int (nI (3))), (8, .int (nI (i))), (6, .long (mxV (fun s => decide (takesN s ≤ vN)) (fun s => bestV (wBld o.1 s) nN) i)), (5, .int (oI (mxTo (fun s => decide (takesN s ≤ vN)) (fun s => bestV (wBld o.1 s) nN) i))), (4, .ref (at_ 0)), (0, .ref (ad 0)), (1, .int (nI (vN))), (2, .int (nI (nN))), (3, .int (nI (qN)))]) X dX4_build_100 0 rfl (nI_1 _) (Nat.le_of_ble_eq_true rfl) rfl ?_
              refine z_goto (tgt := 70) X dX4_build_103 (by decide) ?_
              refine z_iload X dX4_build_70 0 rfl ?_
              refine z_iconst (v := nI (3)) X dX4_build_72 ci3 ?_
              refine z_icmp_ge_t (tgt := 106) X dX4_build_73 (by decide) (by decide) ?_
              have hRb := MR.bld hW38 hS2
              have hIb := wInv_bld hI (st := i)
              refine z_aload X dX4_build_106 4 rfl ?_
              refine z_iload_n X dX4_build_108 rfl 7 rfl ?_
              refine z_cl (z_runV (rest := []) (n := 1) X [.int (nI (nN))] (m_X4_bestNow hM35.1.mm hRb hIb (n := nN) (by omega)) dX4_build_109 (mm_o hM35) rfl (lw_V q1809 q1811 qs56 q70 q1812) hv_X4_bestNow rfl ⟨Nat.le_of_ble_eq_true rfl, Nat.le_of_ble_eq_true rfl⟩ ⟨by omega, by omega⟩ rfl (Nat.le_of_ble_eq_true rfl)) (fun r39 w41 h40 => ?_)
              obtain ⟨mv40, hM40, hQ40, r39e⟩ := h40
              rw [r39e]
              have hR40 := MR.KM hRb hQ40
              have hs42 := hs36.side hM40 hd
              have hf43 := fun b (x : ∀ i, mP i = true → b ≠ ad i) (y : ∀ i, mP i = true → b ≠ at_ i) => (hM40.2.1 b y).trans (hf37 b x y)
              refine z_lstore (lv2 := [(9, .long (bestV (wBld o.1 i) nN)), (8, .int (nI (i))), (6, .long (mxV (fun s => decide (takesN s ≤ vN)) (fun s => bestV (wBld o.1 s) nN) i)), (5, .int (oI (mxTo (fun s => decide (takesN s ≤ vN)) (fun s => bestV (wBld o.1 s) nN) i))), (4, .ref (at_ 0)), (0, .ref (ad 0)), (1, .int (nI (vN))), (2, .int (nI (nN))), (3, .int (nI (qN)))]) X dX4_build_112 (Nat.le_of_ble_eq_true rfl) rfl ?_
              refine z_iload X dX4_build_114 3 rfl ?_
              refine z_iconst (v := -1) X dX4_build_116 cim1 ?_
              refine z_icmp_eq (tgt := 128) X dX4_build_117 (by decide) (oI_m1 (fun z h => by have := (mxTo_lt _ _ h).1; omega)) (fun c44 => ?_) (fun c44 => ?_)
              · refine z_iload X dX4_build_128 1 rfl ?_
                refine z_istore (lv2 := [(5, .int (nI (i))), (9, .long (bestV (wBld o.1 i) nN)), (8, .int (nI (i))), (6, .long (mxV (fun s => decide (takesN s ≤ vN)) (fun s => bestV (wBld o.1 s) nN) i)), (4, .ref (at_ 0)), (0, .ref (ad 0)), (1, .int (nI (vN))), (2, .int (nI (nN))), (3, .int (nI (qN)))]) X dX4_build_130 (Nat.le_of_ble_eq_true rfl) rfl ?_
                refine z_lload X dX4_build_132 1 rfl ?_
                refine z_lstore (lv2 := [(6, .long (bestV (wBld o.1 i) nN)), (5, .int (nI (i))), (9, .long (bestV (wBld o.1 i) nN)), (8, .int (nI (i))), (4, .ref (at_ 0)), (0, .ref (ad 0)), (1, .int (nI (vN))), (2, .int (nI (nN))), (3, .int (nI (qN)))]) X dX4_build_134 (Nat.le_of_ble_eq_true rfl) rfl ?_
                refine z_iinc (v := nI (i + 1)) (lv2 := [(8, .int (nI (i + 1))), (6, .long (bestV (wBld o.1 i) nN)), (5, .int (nI (i))), (9, .long (bestV (wBld o.1 i) nN)), (4, .ref (at_ 0)), (0, .ref (ad 0)), (1, .int (nI (vN))), (2, .int (nI (nN))), (3, .int (nI (qN)))]) X dX4_build_136 3 rfl (nI_1 _) (Nat.le_of_ble_eq_true rfl) rfl ?_
                refine z_goto (tgt := 51) X dX4_build_139 (by decide) ?_
                refine Z.lv [0, 1, 2, 4, 5, 6, 7, 8] rfl ?_
                have e : mxTo (fun s => decide (takesN s ≤ vN)) (fun s => bestV (wBld o.1 s) nN) (i + 1) = some i := mx_new (p := fun s => decide (takesN s ≤ vN)) (f := fun s => bestV (wBld o.1 s) nN) (decide_eq_true (by unfold takesN; omega)) c44
                have e2 : mxV (fun s => decide (takesN s ≤ vN)) (fun s => bestV (wBld o.1 s) nN) (i + 1) = bestV (wBld o.1 i) nN := mxV_of e
                have kk := ih (i + 1) _ _ _ (by omega) hs42.1.mm hM40.1.mm hR40 B01.bld hf43
                rw [e, e2] at kk
                exact kk
              · refine z_lload X dX4_build_120 0 rfl ?_
                refine z_lload X dX4_build_122 2 rfl ?_
                refine z_lcmp (v := lg_cmp (bestV (wBld o.1 i) nN) (mxV (fun s => decide (takesN s ≤ vN)) (fun s => bestV (wBld o.1 s) nN) i)) X dX4_build_124 rfl ?_
                refine z_if_le (tgt := 136) X dX4_build_125 (by decide) (lg_cmp_le _ _) (fun c45 => ?_) (fun c45 => ?_)
                · refine z_iinc (v := nI (i + 1)) (lv2 := [(8, .int (nI (i + 1))), (9, .long (bestV (wBld o.1 i) nN)), (6, .long (mxV (fun s => decide (takesN s ≤ vN)) (fun s => bestV (wBld o.1 s) nN) i)), (5, .int (oI (mxTo (fun s => decide (takesN s ≤ vN)) (fun s => bestV (wBld o.1 s) nN) i))), (4, .ref (at_ 0)), (0, .ref (ad 0)), (1, .int (nI (vN))), (2, .int (nI (nN))), (3, .int (nI (qN)))]) X dX4_build_136 1 rfl (nI_1 _) (Nat.le_of_ble_eq_true rfl) rfl ?_
                  refine z_goto (tgt := 51) X dX4_build_139 (by decide) ?_
                  refine Z.lv [0, 2, 3, 4, 5, 6, 7, 8] rfl ?_
                  have e : mxTo (fun s => decide (takesN s ≤ vN)) (fun s => bestV (wBld o.1 s) nN) (i + 1) = mxTo (fun s => decide (takesN s ≤ vN)) (fun s => bestV (wBld o.1 s) nN) i := mx_le (p := fun s => decide (takesN s ≤ vN)) (f := fun s => bestV (wBld o.1 s) nN) c44 (Int64.not_lt.mpr c45)
                  have e2 : mxV (fun s => decide (takesN s ≤ vN)) (fun s => bestV (wBld o.1 s) nN) (i + 1) = mxV (fun s => decide (takesN s ≤ vN)) (fun s => bestV (wBld o.1 s) nN) i := mxV_eq e
                  have kk := ih (i + 1) _ _ _ (by omega) hs42.1.mm hM40.1.mm hR40 B01.bld hf43
                  rw [e, e2] at kk
                  exact kk
                · refine z_iload X dX4_build_128 1 rfl ?_
                  refine z_istore (lv2 := [(5, .int (nI (i))), (9, .long (bestV (wBld o.1 i) nN)), (8, .int (nI (i))), (6, .long (mxV (fun s => decide (takesN s ≤ vN)) (fun s => bestV (wBld o.1 s) nN) i)), (4, .ref (at_ 0)), (0, .ref (ad 0)), (1, .int (nI (vN))), (2, .int (nI (nN))), (3, .int (nI (qN)))]) X dX4_build_130 (Nat.le_of_ble_eq_true rfl) rfl ?_
                  refine z_lload X dX4_build_132 1 rfl ?_
                  refine z_lstore (lv2 := [(6, .long (bestV (wBld o.1 i) nN)), (5, .int (nI (i))), (9, .long (bestV (wBld o.1 i) nN)), (8, .int (nI (i))), (4, .ref (at_ 0)), (0, .ref (ad 0)), (1, .int (nI (vN))), (2, .int (nI (nN))), (3, .int (nI (qN)))]) X dX4_build_134 (Nat.le_of_ble_eq_true rfl) rfl ?_
                  refine z_iinc (v := nI (i + 1)) (lv2 := [(8, .int (nI (i + 1))), (6, .long (bestV (wBld o.1 i) nN)), (5, .int (nI (i))), (9, .long (bestV (wBld o.1 i) nN)), (4, .ref (at_ 0)), (0, .ref (ad 0)), (1, .int (nI (vN))), (2, .int (nI (nN))), (3, .int (nI (qN)))]) X dX4_build_136 3 rfl (nI_1 _) (Nat.le_of_ble_eq_true rfl) rfl ?_
                  refine z_goto (tgt := 51) X dX4_build_139 (by decide) ?_
                  refine Z.lv [0, 1, 2, 4, 5, 6, 7, 8] rfl ?_
                  have e : mxTo (fun s => decide (takesN s ≤ vN)) (fun s => bestV (wBld o.1 s) nN) (i + 1) = some i := mx_gt (p := fun s => decide (takesN s ≤ vN)) (f := fun s => bestV (wBld o.1 s) nN) (decide_eq_true (by unfold takesN; omega)) c44 (Int64.not_le.mp c45)
                  have e2 : mxV (fun s => decide (takesN s ≤ vN)) (fun s => bestV (wBld o.1 s) nN) (i + 1) = bestV (wBld o.1 i) nN := mxV_of e
                  have kk := ih (i + 1) _ _ _ (by omega) hs42.1.mm hM40.1.mm hR40 B01.bld hf43
                  rw [e, e2] at kk
                  exact kk
        exact Z.up (a' := 68) (b' := 4751) (by omega) (by omega) (lb 125 0 w12 mB o.1 (by omega) hA hB hRB0 B01.rf hF0)
      · have e6 : rgb 0 1 q = none := rgb_f (fun q => c9 ((in32 (lo := nI 0) (hi := nI 1)).mpr q))
        refine z_aload_n X dX4_build_29 rfl 0 rfl ?_
        refine z_bipush (v := (-2)) X dX4_build_30 (by decide) ?_
        refine z_ci (z_runV (rest := []) (n := 1) X [.int ((-2))] (m_X4_refuse hM0 (k := 2) (by decide) (v := (-2)) rfl) dX4_build_32 (mm_o hM0) rfl (lw_V q1546 q1548 qs27 q70 q1549) hv_X4_refuse rfl ⟨Nat.le_of_ble_eq_true rfl, Nat.le_of_ble_eq_true rfl⟩ ⟨by omega, by omega⟩ rfl (Nat.le_of_ble_eq_true rfl)) (fun r46 w48 h47 => ?_)
        obtain ⟨hM47, r46e⟩ := h47
        rw [r46e]
        have hT47 := MT.ref hT (k := 2) (by decide)
        have e : spBuild o (nI vN) (nI nN) q = ((-2), oRef o 2) := by
          unfold spBuild
          repeat (first | rw [el_some (by assumption)] | rw [el_none (by assumption)] | rw [if_pos (by omega)] | rw [if_neg (by omega)] | rw [if_pos (by assumption)] | rw [if_neg (ts_n (by assumption))])
          all_goals first | rfl | (exfalso; omega)
        exact z_iret X dX4_build_35 (by omega) (by omega) ⟨_, rfl, (by rw [e]; exact ⟨_, TrQ.ofb hTr hM0 hM47, hT47, rfl⟩)⟩
