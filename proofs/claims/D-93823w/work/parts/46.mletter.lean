/-! THE MODEL: fits, worst, letters -/
set_option maxRecDepth 100000
def fitTo (S : WS) (k : Nat) : Nat → Int32
  | 0 => nI 0
  | z + 1 => fitTo S k z ||| (if fitsB S k z (stOf S) = true then nI 1 <<< (nI z &&& 31) else nI 0)
def spFits (o : OS) (k : Int32) : Int32 × OS := el (rgn (o.1.2 0) k) (bad o 2) fun k => (fitTo o.1 k 3, o)
def mnTo (p : Nat → Bool) (f : Nat → Int64) : Nat → Option Nat
  | 0 => none
  | k + 1 => match mnTo p f k with
    | none => if p k = true then some k else none
    | some y => if p k = true ∧ f k < f y then some k else some y
def spWorst (o : OS) (n : Int32) : Int32 × OS := el (rgb 0 24 n) (bad o 2) fun n => (oI (mnTo (isSt o.1) (vals o.1 (rBest o.1) n) 125), o)
def letV (S : WS) (z n : Nat) : Int64 := valsL S (rBest S) (some z) n n (stOf S) - bestV S n
def spLetter (o : OS) (z n : Int32) : Int64 × OS := el (rgb 0 2 z) (badL o 2) fun z => el (rgb 1 24 n) (badL o 2) fun n => (letV o.1 z n, o)
def whTo (f : Nat → Int64) : Nat → Option Nat × Int64
  | 0 => (none, lN 0)
  | z + 1 => if (whTo f z).2 < f z then (some z, f z) else whTo f z
def spWhom (o : OS) (n : Int32) : Int32 × OS := el (rgb 1 24 n) (bad o 2) fun n => (oI (whTo (fun z => letV o.1 z n) 3).1, o)
theorem whTo_lt {f : Nat → Int64} : ∀ k y, (whTo f k).1 = some y → y < k := by
  intro k
  induction k with
  | zero => intro y h; cases h
  | succ k ih =>
    intro y h
    simp only [whTo] at h
    split at h
    · cases h; exact Nat.lt_succ_self _
    · exact Nat.lt_succ_of_lt (ih y h)
section MN
variable {p : Nat → Bool} {f : Nat → Int64} {k : Nat}
theorem mn_no (h : p k = false) : mnTo p f (k + 1) = mnTo p f k := by
  simp only [mnTo]
  split
  · next q => rw [q, if_neg (by rw [h]; exact Bool.false_ne_true)]
  · next y q => rw [q, if_neg (fun x => by rw [h] at x; exact Bool.false_ne_true x.1)]
theorem mn_new (h : p k = true) (hn : mnTo p f k = none) : mnTo p f (k + 1) = some k := by simp only [mnTo, hn]; exact if_pos h
theorem mn_lt {y : Nat} (h : p k = true) (hn : some y = mnTo p f k) (hv : f k < f y) : mnTo p f (k + 1) = some k := by simp only [mnTo, ← hn]; exact if_pos ⟨h, hv⟩
theorem mn_ge {y : Nat} (hn : some y = mnTo p f k) (hv : ¬ f k < f y) : mnTo p f (k + 1) = some y := by simp only [mnTo, ← hn]; exact if_neg (fun q => hv q.2)
theorem mnTo_lt : ∀ k y, mnTo p f k = some y → y < k := by
  intro k
  induction k with
  | zero => intro y h; cases h
  | succ k ih =>
    intro y h
    simp only [mnTo] at h
    split at h
    · split at h
      · cases h; exact Nat.lt_succ_self _
      · cases h
    · next z q =>
      split at h
      · cases h; exact Nat.lt_succ_self _
      · cases h; exact Nat.lt_succ_of_lt (ih _ q)
end MN
set_option maxHeartbeats 2000000 in
theorem m_X4_fits {l : Launch} {G : GG} {wb w : GW} {ad : Nat → Nat} {m : MSt} (hM : MM G wb w ad m) {o : OS} (hT : MT o m) (hO : oInv o) {k : Int32} : gM l G yX4_fits cX4_fits 4 (some .int) 4 0 0 [.ref (ad 0), .int (k)] w (pI (fun r w1 => ∃ m2, MM G wb w1 ad m2 ∧ MT (spFits o k).2 m2 ∧ r = (spFits o k).1)) := by
  refine Z.met (own := "ThreeSizesModel") (nm := "fits") (lv := [(0, .ref (ad 0)), (1, .int (k))]) (by decide) rfl rfl (Nat.le_of_ble_eq_true rfl) rfl (fun κ X => ?_)
  have hI := hO.1
  have h6 := hI.2.1
  have ht200 := hO.2.2.2
  refine z_aload_n X dX4_fits_0 rfl 0 rfl ?_
  refine z_iload_n X dX4_fits_1 rfl 1 rfl ?_
  refine z_i2l (v := (k).toInt64) X dX4_fits_2 rfl ?_
  refine z_cip (z_runV (rest := []) (n := 1) X [.long ((k).toInt64)] (m_X4_isSortI hM hT.1 hI (v := k)) dX4_fits_3 (mm_o hM) rfl (lw_V q1672 q1674 qs42 q70 q1675) hv_X4_isSort rfl ⟨Nat.le_of_ble_eq_true rfl, Nat.le_of_ble_eq_true rfl⟩ ⟨by omega, by omega⟩ rfl (Nat.le_of_ble_eq_true rfl)) ?_
  refine z_if_ne (tgt := 16) X dX4_fits_6 (by decide) bI_d (fun c1 => ?_) (fun c1 => ?_)
  · have c1 := Classical.not_not.mp c1
    obtain ⟨kN, kNh, rfl, e1⟩ := rgn_t (n := o.1.2 0) (by omega) c1
    refine z_iconst (v := nI (0)) X dX4_fits_16 ci0 ?_
    refine z_istore_n (lv2 := [(2, .int (nI (0))), (0, .ref (ad 0)), (1, .int (nI (kN)))]) X dX4_fits_17 rfl (Nat.le_of_ble_eq_true rfl) rfl ?_
    refine z_iconst (v := nI (0)) X dX4_fits_18 ci0 ?_
    refine z_istore_n (lv2 := [(3, .int (nI (0))), (2, .int (nI (0))), (0, .ref (ad 0)), (1, .int (nI (kN)))]) X dX4_fits_19 rfl (Nat.le_of_ble_eq_true rfl) rfl ?_
    have lf : ∀ (lq i : Nat), i + lq = 3 → Z κ w [(3, .int (nI (i))), (2, .int (fitTo o.1 kN i)), (1, .int (nI (kN))), (0, .ref (ad 0))] 0 0 20 [] := by
      intro lq
      induction lq with
      | zero =>
        intro i lh
        obtain rfl : 3 = i := by omega
        refine z_iload_n X dX4_fits_20 rfl 0 rfl ?_
        refine z_iconst (v := nI (3)) X dX4_fits_21 ci3 ?_
        refine z_icmp_ge_t (tgt := 54) X dX4_fits_22 (by decide) ((nI_leI (by omega) (by omega)).mpr (by omega)) ?_
        refine z_iload_n X dX4_fits_54 rfl 1 rfl ?_
        have e : spFits o (nI kN) = (fitTo o.1 kN 3, o) := by
          unfold spFits
          repeat (first | rw [el_some (by assumption)] | rw [el_none (by assumption)] | rw [if_pos (by omega)] | rw [if_neg (by omega)] | rw [if_pos (by assumption)] | rw [if_neg (ts_n (by assumption))])
          all_goals first | rfl | (exfalso; omega)
        exact z_iret X dX4_fits_55 (by omega) (by omega) ⟨_, rfl, (by rw [e]; exact ⟨_, hM, hT, rfl⟩)⟩
      | succ lq ih =>
        intro i lh
        have hst := stOf_lt hI
        refine z_iload_n X dX4_fits_20 rfl 0 rfl ?_
        refine z_iconst (v := nI (3)) X dX4_fits_21 ci3 ?_
        refine z_icmp_ge_f (tgt := 54) X dX4_fits_22 (by decide) (fun h => absurd ((nI_leI (by omega) (by omega)).mp h) (by omega)) ?_
        refine z_iload_n X dX4_fits_25 rfl 1 rfl ?_
        refine z_aload_n X dX4_fits_26 rfl 3 rfl ?_
        refine z_iload_n X dX4_fits_27 rfl 2 rfl ?_
        refine z_aload_n X dX4_fits_28 rfl 3 rfl ?_
        refine z_cip (z_runV (rest := [.int (nI (kN)), .ref (ad 0), .int (fitTo o.1 kN i)]) (n := 0) X [] (m_X4_stateNow hM hT.1 hI) dX4_fits_29 (mm_o hM) rfl (lw_V q1585 q1587 qs28 q70 q1588) hv_X4_stateNow rfl ⟨Nat.le_of_ble_eq_true rfl, Nat.le_of_ble_eq_true rfl⟩ ⟨by omega, by omega⟩ rfl (Nat.le_of_ble_eq_true rfl)) ?_
        refine z_iload_n X dX4_fits_32 rfl 0 rfl ?_
        refine z_cip (z_runV (rest := [.int (fitTo o.1 kN i)]) (n := 3) X [.int (nI (kN)), .int (nI (stOf o.1)), .int (nI (i))] (m_X4_mayGet hM hT.1 hI (i := kN) (st := stOf o.1) (z := i) (by omega) (by omega) (by omega)) dX4_fits_33 (mm_o hM) rfl (lw_V q1629 q1631 qs37 q70 q1632) hv_X4_mayGet rfl ⟨Nat.le_of_ble_eq_true rfl, Nat.le_of_ble_eq_true rfl⟩ ⟨by omega, by omega⟩ rfl (Nat.le_of_ble_eq_true rfl)) ?_
        refine z_if_eq (tgt := 45) X dX4_fits_36 (by decide) bI_0 (fun c2 => ?_) (fun c2 => ?_)
        · refine z_iconst (v := nI (0)) X dX4_fits_45 ci0 ?_
          refine z_ior (v := (fitTo o.1 kN i) ||| (nI (0))) X dX4_fits_46 rfl ?_
          refine z_istore_n (lv2 := [(2, .int ((fitTo o.1 kN i) ||| (nI (0)))), (3, .int (nI (i))), (1, .int (nI (kN))), (0, .ref (ad 0))]) X dX4_fits_47 rfl (Nat.le_of_ble_eq_true rfl) rfl ?_
          refine z_iinc (v := nI (i + 1)) (lv2 := [(3, .int (nI (i + 1))), (2, .int ((fitTo o.1 kN i) ||| (nI (0)))), (1, .int (nI (kN))), (0, .ref (ad 0))]) X dX4_fits_48 1 rfl (nI_1 _) (Nat.le_of_ble_eq_true rfl) rfl ?_
          refine z_goto (tgt := 20) X dX4_fits_51 (by decide) ?_
          have e : fitTo o.1 kN (i + 1) = (fitTo o.1 kN i) ||| (nI (0)) := by simp only [fitTo]; rw [if_neg (ts_n c2)]
          have kk := ih (i + 1) (by omega)
          rw [e] at kk
          exact kk
        · have c2 := ts_t c2
          refine z_iconst (v := nI (1)) X dX4_fits_39 ci1 ?_
          refine z_iload_n X dX4_fits_40 rfl 0 rfl ?_
          refine z_ishl (v := (nI (1)) <<< ((nI (i)) &&& 31)) X dX4_fits_41 rfl ?_
          refine z_goto (tgt := 46) X dX4_fits_42 (by decide) ?_
          refine z_ior (v := (fitTo o.1 kN i) ||| ((nI (1)) <<< ((nI (i)) &&& 31))) X dX4_fits_46 rfl ?_
          refine z_istore_n (lv2 := [(2, .int ((fitTo o.1 kN i) ||| ((nI (1)) <<< ((nI (i)) &&& 31)))), (3, .int (nI (i))), (1, .int (nI (kN))), (0, .ref (ad 0))]) X dX4_fits_47 rfl (Nat.le_of_ble_eq_true rfl) rfl ?_
          refine z_iinc (v := nI (i + 1)) (lv2 := [(3, .int (nI (i + 1))), (2, .int ((fitTo o.1 kN i) ||| ((nI (1)) <<< ((nI (i)) &&& 31)))), (1, .int (nI (kN))), (0, .ref (ad 0))]) X dX4_fits_48 1 rfl (nI_1 _) (Nat.le_of_ble_eq_true rfl) rfl ?_
          refine z_goto (tgt := 20) X dX4_fits_51 (by decide) ?_
          have e : fitTo o.1 kN (i + 1) = (fitTo o.1 kN i) ||| ((nI (1)) <<< ((nI (i)) &&& 31)) := by simp only [fitTo]; rw [if_pos c2]
          have kk := ih (i + 1) (by omega)
          rw [e] at kk
          exact kk
    refine Z.lv [0, 1, 3, 2] rfl ?_
    exact lf (3) 0 (by omega)
  · have e2 : rgn (o.1.2 0) k = none := rgn_f c1
    refine z_aload_n X dX4_fits_9 rfl 0 rfl ?_
    refine z_bipush (v := (-2)) X dX4_fits_10 (by decide) ?_
    refine z_ci (z_runV (rest := []) (n := 1) X [.int ((-2))] (m_X4_refuse hM (k := 2) (by decide) (v := (-2)) rfl) dX4_fits_12 (mm_o hM) rfl (lw_V q1546 q1548 qs27 q70 q1549) hv_X4_refuse rfl ⟨Nat.le_of_ble_eq_true rfl, Nat.le_of_ble_eq_true rfl⟩ ⟨by omega, by omega⟩ rfl (Nat.le_of_ble_eq_true rfl)) (fun r3 w5 h4 => ?_)
    obtain ⟨hM4, r3e⟩ := h4
    rw [r3e]
    have hT4 := MT.ref hT (k := 2) (by decide)
    have e : spFits o k = ((-2), oRef o 2) := by
      unfold spFits
      repeat (first | rw [el_some (by assumption)] | rw [el_none (by assumption)] | rw [if_pos (by omega)] | rw [if_neg (by omega)] | rw [if_pos (by assumption)] | rw [if_neg (ts_n (by assumption))])
      all_goals first | rfl | (exfalso; omega)
    exact z_iret X dX4_fits_15 (by omega) (by omega) ⟨_, rfl, (by rw [e]; exact ⟨_, hM4, hT4, rfl⟩)⟩
set_option maxHeartbeats 2000000 in
theorem m_X4_worst {l : Launch} {G : GG} {wb w : GW} {ad : Nat → Nat} {m : MSt} (hM : MM G wb w ad m) {o : OS} (hT : MT o m) (hO : oInv o) {n : Int32} : gM l G yX4_worst cX4_worst 4 (some .int) 7 0 0 [.ref (ad 0), .int (n)] w (pI (fun r w1 => ∃ m2, MM G wb w1 ad m2 ∧ MT (spWorst o n).2 m2 ∧ r = (spWorst o n).1)) := by
  refine Z.met (own := "ThreeSizesModel") (nm := "worst") (lv := [(0, .ref (ad 0)), (1, .int (n))]) (by decide) rfl rfl (Nat.le_of_ble_eq_true rfl) rfl (fun κ X => ?_)
  have hI := hO.1
  have h6 := hI.2.1
  have ht200 := hO.2.2.2
  refine z_iload_n X dX4_worst_0 rfl 1 rfl ?_
  refine z_cip (z_runS (rest := []) (n := 1) X [.int (n)] (m_X4_areHours (v := n)) dX4_worst_1 (lw_S q1797 q1798 q70 q1799) hs_X4_areHours rfl ⟨Nat.le_of_ble_eq_true rfl, Nat.le_of_ble_eq_true rfl⟩ ⟨by omega, by omega⟩ rfl (Nat.le_of_ble_eq_true rfl)) ?_
  refine z_if_ne (tgt := 14) X dX4_worst_4 (by decide) bI_d (fun c1 => ?_) (fun c1 => ?_)
  · have c1 := Classical.not_not.mp c1
    obtain ⟨nN, nNl, nNh, rfl, e1⟩ := rgb_t (lo := 0) (hi := 24) (by decide) (by decide) (c1)
    refine z_aload_n X dX4_worst_14 rfl 0 rfl ?_
    refine z_iload_n X dX4_worst_15 rfl 1 rfl ?_
    refine z_iconst (v := nI (0)) X dX4_worst_16 ci0 ?_
    refine z_iconst (v := nI (0)) X dX4_worst_17 ci0 ?_
    refine z_iconst (v := -1) X dX4_worst_18 cim1 ?_
    refine z_cv (z_runV (rest := []) (n := 4) X [.int (nI (nN)), .int (nI (0)), .int (nI (0)), .int (-1)] (m_X4_solve hM hT.1 hI (n := nN) (kd := 0) (a := 0) (by omega) (by omega) (by omega) (T := wiseT o.1 0) (fun h => by cases h) (lt := none) (fun y h => by cases h)) dX4_worst_19 (mm_o hM) rfl (lw_V q1600 q1602 qs31 q70 q1603) hv_X4_solve rfl ⟨Nat.le_of_ble_eq_true rfl, Nat.le_of_ble_eq_true rfl⟩ ⟨by omega, by omega⟩ rfl (Nat.le_of_ble_eq_true rfl)) (fun w4 h3 => ?_)
    obtain ⟨mv3, hM3, hQ3⟩ := h3
    have hT3 := MT.KM hT (KM.of hQ3.2.1 hQ3.1)
    refine z_iconst (v := -1) X dX4_worst_22 cim1 ?_
    refine z_istore_n (lv2 := [(2, .int (-1)), (0, .ref (ad 0)), (1, .int (nI (nN)))]) X dX4_worst_23 rfl (Nat.le_of_ble_eq_true rfl) rfl ?_
    refine z_iconst (v := nI (0)) X dX4_worst_24 ci0 ?_
    refine z_istore_n (lv2 := [(3, .int (nI (0))), (2, .int (-1)), (0, .ref (ad 0)), (1, .int (nI (nN)))]) X dX4_worst_25 rfl (Nat.le_of_ble_eq_true rfl) rfl ?_
    have lw : ∀ (lq i : Nat), i + lq = 125 → Z κ w4 [(3, .int (nI (i))), (2, .int (oI (mnTo (isSt o.1) (vals o.1 (rBest o.1) nN) i))), (1, .int (nI (nN))), (0, .ref (ad 0))] 0 0 26 [] := by
      intro lq
      induction lq with
      | zero =>
        intro i lh
        obtain rfl : 125 = i := by omega
        refine z_iload_n X dX4_worst_26 rfl 0 rfl ?_
        refine z_bipush (v := nI (125)) X dX4_worst_27 (by decide) ?_
        refine z_icmp_ge_t (tgt := 73) X dX4_worst_29 (by decide) ((nI_leI (by omega) (by omega)).mpr (by omega)) ?_
        refine z_iload_n X dX4_worst_73 rfl 1 rfl ?_
        have e : spWorst o (nI nN) = (oI (mnTo (isSt o.1) (vals o.1 (rBest o.1) nN) 125), o) := by
          unfold spWorst
          repeat (first | rw [el_some (by assumption)] | rw [el_none (by assumption)] | rw [if_pos (by omega)] | rw [if_neg (by omega)] | rw [if_pos (by assumption)] | rw [if_neg (ts_n (by assumption))])
          all_goals first | rfl | (exfalso; omega)
        exact z_iret X dX4_worst_74 (by omega) (by omega) ⟨_, rfl, (by rw [e]; exact ⟨_, hM3, hT3, rfl⟩)⟩
      | succ lq ih =>
        intro i lh
        refine z_iload_n X dX4_worst_26 rfl 0 rfl ?_
        refine z_bipush (v := nI (125)) X dX4_worst_27 (by decide) ?_
        refine z_icmp_ge_f (tgt := 73) X dX4_worst_29 (by decide) (fun h => absurd ((nI_leI (by omega) (by omega)).mp h) (by omega)) ?_
        refine z_aload_n X dX4_worst_32 rfl 3 rfl ?_
        refine z_iload_n X dX4_worst_33 rfl 0 rfl ?_
        refine z_cip (z_runV (rest := []) (n := 1) X [.int (nI (i))] (m_X4_isState hM3 hT3.1 hI (st := i) (by omega)) dX4_worst_34 (mm_o hM3) rfl (lw_V q1604 q1606 qs32 q70 q1607) hv_X4_isState rfl ⟨Nat.le_of_ble_eq_true rfl, Nat.le_of_ble_eq_true rfl⟩ ⟨by omega, by omega⟩ rfl (Nat.le_of_ble_eq_true rfl)) ?_
        refine z_if_eq (tgt := 67) X dX4_worst_37 (by decide) bI_0 (fun c5 => ?_) (fun c5 => ?_)
        · refine z_iinc (v := nI (i + 1)) (lv2 := [(3, .int (nI (i + 1))), (2, .int (oI (mnTo (isSt o.1) (vals o.1 (rBest o.1) nN) i))), (1, .int (nI (nN))), (0, .ref (ad 0))]) X dX4_worst_67 0 rfl (nI_1 _) (Nat.le_of_ble_eq_true rfl) rfl ?_
          refine z_goto (tgt := 26) X dX4_worst_70 (by decide) ?_
          have e : mnTo (isSt o.1) (vals o.1 (rBest o.1) nN) (i + 1) = mnTo (isSt o.1) (vals o.1 (rBest o.1) nN) i := mn_no c5
          have kk := ih (i + 1) (by omega)
          rw [e] at kk
          exact kk
        · have c5 := ts_t c5
          refine z_iload_n X dX4_worst_40 rfl 1 rfl ?_
          refine z_iconst (v := -1) X dX4_worst_41 cim1 ?_
          refine z_icmp_eq (tgt := 65) X dX4_worst_42 (by decide) (oI_m1 (fun z h => by have := mnTo_lt _ _ h; omega)) (fun c6 => ?_) (fun c6 => ?_)
          · refine z_iload_n X dX4_worst_65 rfl 0 rfl ?_
            refine z_istore_n (lv2 := [(2, .int (nI (i))), (3, .int (nI (i))), (1, .int (nI (nN))), (0, .ref (ad 0))]) X dX4_worst_66 rfl (Nat.le_of_ble_eq_true rfl) rfl ?_
            refine z_iinc (v := nI (i + 1)) (lv2 := [(3, .int (nI (i + 1))), (2, .int (nI (i))), (1, .int (nI (nN))), (0, .ref (ad 0))]) X dX4_worst_67 1 rfl (nI_1 _) (Nat.le_of_ble_eq_true rfl) rfl ?_
            refine z_goto (tgt := 26) X dX4_worst_70 (by decide) ?_
            have e : mnTo (isSt o.1) (vals o.1 (rBest o.1) nN) (i + 1) = some i := mn_new c5 c6
            have kk := ih (i + 1) (by omega)
            rw [e] at kk
            exact kk
          · obtain ⟨y, hy⟩ := Option.ne_none_iff_exists.mp c6
            have hy2 := mnTo_lt i y hy.symm
            rw [← hy]
            refine z_aload_n X dX4_worst_45 rfl 3 rfl ?_
            refine z_mg28 X hM3 dX4_worst_46 ?_
            refine z_iload_n X dX4_worst_49 rfl 2 rfl ?_
            refine z_aN6 (v := .ref (ad (70 + nN))) X dX4_worst_50 (mm_29 hM3) (by omega) (by omega) rfl ?_
            refine z_iload_n X dX4_worst_51 rfl 0 rfl ?_
            refine z_laN (v := vals o.1 (rBest o.1) nN i) X dX4_worst_52 (mmr_70 hM3 (by omega)) (by omega) (by omega) ((hQ3.2.2 nN (Nat.le_refl _) i (by omega)).trans valsL_0) ?_
            refine z_aload_n X dX4_worst_53 rfl 3 rfl ?_
            refine z_mg28 X hM3 dX4_worst_54 ?_
            refine z_iload_n X dX4_worst_57 rfl 2 rfl ?_
            refine z_aN6 (v := .ref (ad (70 + nN))) X dX4_worst_58 (mm_29 hM3) (by omega) (by omega) rfl ?_
            refine z_iload_n X dX4_worst_59 rfl 1 rfl ?_
            refine z_laN (v := vals o.1 (rBest o.1) nN y) X dX4_worst_60 (mmr_70 hM3 (by omega)) (by omega) (by omega) ((hQ3.2.2 nN (Nat.le_refl _) y (by omega)).trans valsL_0) ?_
            refine z_lcmp (v := lg_cmp (vals o.1 (rBest o.1) nN i) (vals o.1 (rBest o.1) nN y)) X dX4_worst_61 rfl ?_
            refine z_if_ge (tgt := 67) X dX4_worst_62 (by decide) (lg_cmp_ge _ _) (fun c7 => ?_) (fun c7 => ?_)
            · refine z_iinc (v := nI (i + 1)) (lv2 := [(3, .int (nI (i + 1))), (2, .int (nI (y))), (1, .int (nI (nN))), (0, .ref (ad 0))]) X dX4_worst_67 0 rfl (nI_1 _) (Nat.le_of_ble_eq_true rfl) rfl ?_
              refine z_goto (tgt := 26) X dX4_worst_70 (by decide) ?_
              have e : mnTo (isSt o.1) (vals o.1 (rBest o.1) nN) (i + 1) = some y := mn_ge hy (Int64.not_lt.mpr c7)
              have kk := ih (i + 1) (by omega)
              rw [e] at kk
              exact kk
            · refine z_iload_n X dX4_worst_65 rfl 0 rfl ?_
              refine z_istore_n (lv2 := [(2, .int (nI (i))), (3, .int (nI (i))), (1, .int (nI (nN))), (0, .ref (ad 0))]) X dX4_worst_66 rfl (Nat.le_of_ble_eq_true rfl) rfl ?_
              refine z_iinc (v := nI (i + 1)) (lv2 := [(3, .int (nI (i + 1))), (2, .int (nI (i))), (1, .int (nI (nN))), (0, .ref (ad 0))]) X dX4_worst_67 1 rfl (nI_1 _) (Nat.le_of_ble_eq_true rfl) rfl ?_
              refine z_goto (tgt := 26) X dX4_worst_70 (by decide) ?_
              have e : mnTo (isSt o.1) (vals o.1 (rBest o.1) nN) (i + 1) = some i := mn_lt c5 hy (Int64.not_le.mp c7)
              have kk := ih (i + 1) (by omega)
              rw [e] at kk
              exact kk
    refine Z.lv [0, 1, 3, 2] rfl ?_
    exact lw (125) 0 (by omega)
  · have e2 : rgb 0 24 n = none := rgb_f c1
    refine z_aload_n X dX4_worst_7 rfl 0 rfl ?_
    refine z_bipush (v := (-2)) X dX4_worst_8 (by decide) ?_
    refine z_ci (z_runV (rest := []) (n := 1) X [.int ((-2))] (m_X4_refuse hM (k := 2) (by decide) (v := (-2)) rfl) dX4_worst_10 (mm_o hM) rfl (lw_V q1546 q1548 qs27 q70 q1549) hv_X4_refuse rfl ⟨Nat.le_of_ble_eq_true rfl, Nat.le_of_ble_eq_true rfl⟩ ⟨by omega, by omega⟩ rfl (Nat.le_of_ble_eq_true rfl)) (fun r8 w10 h9 => ?_)
    obtain ⟨hM9, r8e⟩ := h9
    rw [r8e]
    have hT9 := MT.ref hT (k := 2) (by decide)
    have e : spWorst o n = ((-2), oRef o 2) := by
      unfold spWorst
      repeat (first | rw [el_some (by assumption)] | rw [el_none (by assumption)] | rw [if_pos (by omega)] | rw [if_neg (by omega)] | rw [if_pos (by assumption)] | rw [if_neg (ts_n (by assumption))])
      all_goals first | rfl | (exfalso; omega)
    exact z_iret X dX4_worst_13 (by omega) (by omega) ⟨_, rfl, (by rw [e]; exact ⟨_, hM9, hT9, rfl⟩)⟩
set_option maxHeartbeats 2000000 in
theorem m_X4_letterOf {l : Launch} {G : GG} {wb w : GW} {ad : Nat → Nat} {m : MSt} (hM : MM G wb w ad m) {o : OS} (hT : MT o m) (hO : oInv o) {z n : Nat} (hz : z < 3) (hn : 1 ≤ n ∧ n ≤ 24) : gM l G yX4_letterOf cX4_letterOf 5 (some .long) 10 0 0 [.ref (ad 0), .int (nI (z)), .int (nI (n))] w (pL (fun r w1 => ∃ m2, MM G wb w1 ad m2 ∧ MT o m2 ∧ r = letV o.1 z n)) := by
  refine Z.met (own := "ThreeSizesModel") (nm := "letterOf") (lv := [(0, .ref (ad 0)), (1, .int (nI (z))), (2, .int (nI (n)))]) (by decide) rfl rfl (Nat.le_of_ble_eq_true rfl) rfl (fun κ X => ?_)
  have hI := hO.1
  have hst := stOf_lt hI
  refine z_aload_n X dX4_letterOf_0 rfl 0 rfl ?_
  refine z_iload_n X dX4_letterOf_1 rfl 2 rfl ?_
  refine z_iconst (v := nI (0)) X dX4_letterOf_2 ci0 ?_
  refine z_iconst (v := nI (0)) X dX4_letterOf_3 ci0 ?_
  refine z_iload_n X dX4_letterOf_4 rfl 1 rfl ?_
  refine z_cv (z_runV (rest := []) (n := 4) X [.int (nI (n)), .int (nI (0)), .int (nI (0)), .int (nI (z))] (m_X4_solve hM hT.1 hI (n := n) (kd := 0) (a := 0) (by omega) (by omega) (by omega) (T := wiseT o.1 0) (fun h => by cases h) (lt := (some z)) (fun y h => by cases h; omega)) dX4_letterOf_5 (mm_o hM) rfl (lw_V q1600 q1602 qs31 q70 q1603) hv_X4_solve rfl ⟨Nat.le_of_ble_eq_true rfl, Nat.le_of_ble_eq_true rfl⟩ ⟨by omega, by omega⟩ rfl (Nat.le_of_ble_eq_true rfl)) (fun w3 h2 => ?_)
  obtain ⟨mv2, hM2, hQ2⟩ := h2
  have hT2 := MT.KM hT (KM.of hQ2.2.1 hQ2.1)
  refine z_aload_n X dX4_letterOf_8 rfl 0 rfl ?_
  refine z_mg28 X hM2 dX4_letterOf_9 ?_
  refine z_iload_n X dX4_letterOf_12 rfl 2 rfl ?_
  refine z_aN6 (v := .ref (ad (70 + n))) X dX4_letterOf_13 (mm_29 hM2) (by omega) (by omega) rfl ?_
  refine z_aload_n X dX4_letterOf_14 rfl 0 rfl ?_
  refine z_cip (z_runV (rest := [.ref (ad (70 + n))]) (n := 0) X [] (m_X4_stateNow hM2 hT2.1 hI) dX4_letterOf_15 (mm_o hM2) rfl (lw_V q1585 q1587 qs28 q70 q1588) hv_X4_stateNow rfl ⟨Nat.le_of_ble_eq_true rfl, Nat.le_of_ble_eq_true rfl⟩ ⟨by omega, by omega⟩ rfl (Nat.le_of_ble_eq_true rfl)) ?_
  refine z_laN (v := valsL o.1 (rBest o.1) (some z) n n (stOf o.1)) X dX4_letterOf_18 (mmr_70 hM2 (by omega)) (by omega) (by omega) ((hQ2.2.2 n (Nat.le_refl _) (stOf o.1) (by omega)).trans (by rw [rgM_0])) ?_
  refine z_lstore_n (lv2 := [(3, .long (valsL o.1 (rBest o.1) (some z) n n (stOf o.1))), (0, .ref (ad 0)), (1, .int (nI (z))), (2, .int (nI (n)))]) X dX4_letterOf_19 rfl (Nat.le_of_ble_eq_true rfl) rfl ?_
  refine z_lload_n X dX4_letterOf_20 rfl 0 rfl ?_
  refine z_aload_n X dX4_letterOf_21 rfl 1 rfl ?_
  refine z_iload_n X dX4_letterOf_22 rfl 3 rfl ?_
  refine z_cl (z_runV (rest := [.long (valsL o.1 (rBest o.1) (some z) n n (stOf o.1))]) (n := 1) X [.int (nI (n))] (m_X4_bestNow hM2 hT2.1 hI (n := n) (by omega)) dX4_letterOf_23 (mm_o hM2) rfl (lw_V q1809 q1811 qs56 q70 q1812) hv_X4_bestNow rfl ⟨Nat.le_of_ble_eq_true rfl, Nat.le_of_ble_eq_true rfl⟩ ⟨by omega, by omega⟩ rfl (Nat.le_of_ble_eq_true rfl)) (fun r4 w6 h5 => ?_)
  obtain ⟨mv5, hM5, hQ5, r4e⟩ := h5
  rw [r4e]
  have hT5 := MT.KM hT2 hQ5
  refine z_lsub (v := (valsL o.1 (rBest o.1) (some z) n n (stOf o.1)) - (bestV o.1 n)) X dX4_letterOf_26 rfl ?_
  exact z_lret X dX4_letterOf_27 (by omega) (by omega) ⟨_, rfl, ⟨_, hM5, hT5, rfl⟩⟩
set_option maxHeartbeats 2000000 in
theorem m_X4_letter {l : Launch} {G : GG} {wb w : GW} {ad : Nat → Nat} {m : MSt} (hM : MM G wb w ad m) {o : OS} (hT : MT o m) (hO : oInv o) {z n : Int32} : gM l G yX4_letter cX4_letter 3 (some .long) 11 0 0 [.ref (ad 0), .int (z), .int (n)] w (pL (fun r w1 => ∃ m2, MM G wb w1 ad m2 ∧ MT (spLetter o z n).2 m2 ∧ r = (spLetter o z n).1)) := by
  refine Z.met (own := "ThreeSizesModel") (nm := "letter") (lv := [(0, .ref (ad 0)), (1, .int (z)), (2, .int (n))]) (by decide) rfl rfl (Nat.le_of_ble_eq_true rfl) rfl (fun κ X => ?_)
  have hI := hO.1
  have h6 := hI.2.1
  have ht200 := hO.2.2.2
  refine z_iload_n X dX4_letter_0 rfl 1 rfl ?_
  refine z_i2l (v := (z).toInt64) X dX4_letter_1 rfl ?_
  refine z_lconst (v := lN 0) X dX4_letter_2 cl0 ?_
  refine z_ldc2 X dX4_letter_3 q1649 ?_
  refine z_cip (z_runS (rest := []) (n := 3) X [.long ((z).toInt64), .long (lN (0)), .long ((2))] m_X4_in dX4_letter_6 (lw_S q1541 q1542 q70 q1543) hs_X4_in rfl ⟨Nat.le_of_ble_eq_true rfl, Nat.le_of_ble_eq_true rfl⟩ ⟨by omega, by omega⟩ rfl (Nat.le_of_ble_eq_true rfl)) ?_
  refine z_if_eq (tgt := 33) X dX4_letter_9 (by decide) bI_d (fun c1 => ?_) (fun c1 => ?_)
  · have e1 : rgb 0 2 z = none := rgb_f (fun q => c1 ((in32 (lo := nI 0) (hi := nI 2)).mpr q))
    refine z_ldc2 X dX4_letter_33 q1780 ?_
    refine z_aload_n X dX4_letter_36 rfl 0 rfl ?_
    refine z_bipush (v := (-2)) X dX4_letter_37 (by decide) ?_
    refine z_ci (z_runV (rest := [.long ((-1000000000000))]) (n := 1) X [.int ((-2))] (m_X4_refuse hM (k := 2) (by decide) (v := (-2)) rfl) dX4_letter_39 (mm_o hM) rfl (lw_V q1546 q1548 qs27 q70 q1549) hv_X4_refuse rfl ⟨Nat.le_of_ble_eq_true rfl, Nat.le_of_ble_eq_true rfl⟩ ⟨by omega, by omega⟩ rfl (Nat.le_of_ble_eq_true rfl)) (fun r2 w4 h3 => ?_)
    obtain ⟨hM3, r2e⟩ := h3
    rw [r2e]
    have hT3 := MT.ref hT (k := 2) (by decide)
    refine z_i2l (v := ((-2)).toInt64) X dX4_letter_42 rfl ?_
    refine z_ladd (v := (-1000000000000) + (((-2)).toInt64)) X dX4_letter_43 rfl ?_
    have e : spLetter o z n = ((-1000000000000) + (((-2)).toInt64), oRef o 2) := by
      unfold spLetter
      repeat (first | rw [el_some (by assumption)] | rw [el_none (by assumption)] | rw [if_pos (by omega)] | rw [if_neg (by omega)] | rw [if_pos (by assumption)] | rw [if_neg (ts_n (by assumption))])
      all_goals first | rfl | (exfalso; omega)
    exact z_lret X dX4_letter_44 (by omega) (by omega) ⟨_, rfl, (by rw [e]; exact ⟨_, hM3, hT3, rfl⟩)⟩
  · have c1 := Classical.not_not.mp c1
    obtain ⟨zN, zNl, zNh, rfl, e2⟩ := rgb_t (lo := 0) (hi := 2) (by decide) (by decide) ((in32 (lo := nI 0) (hi := nI 2)).mp c1)
    refine z_iload_n X dX4_letter_12 rfl 2 rfl ?_
    refine z_i2l (v := (n).toInt64) X dX4_letter_13 rfl ?_
    refine z_lconst (v := lN 1) X dX4_letter_14 cl1 ?_
    refine z_ldc2 X dX4_letter_15 q1800 ?_
    refine z_cip (z_runS (rest := []) (n := 3) X [.long ((n).toInt64), .long (lN (1)), .long ((24))] m_X4_in dX4_letter_18 (lw_S q1541 q1542 q70 q1543) hs_X4_in rfl ⟨Nat.le_of_ble_eq_true rfl, Nat.le_of_ble_eq_true rfl⟩ ⟨by omega, by omega⟩ rfl (Nat.le_of_ble_eq_true rfl)) ?_
    refine z_if_eq (tgt := 33) X dX4_letter_21 (by decide) bI_d (fun c5 => ?_) (fun c5 => ?_)
    · have e3 : rgb 1 24 n = none := rgb_f (fun q => c5 ((in32 (lo := nI 1) (hi := nI 24)).mpr q))
      refine z_ldc2 X dX4_letter_33 q1780 ?_
      refine z_aload_n X dX4_letter_36 rfl 0 rfl ?_
      refine z_bipush (v := (-2)) X dX4_letter_37 (by decide) ?_
      refine z_ci (z_runV (rest := [.long ((-1000000000000))]) (n := 1) X [.int ((-2))] (m_X4_refuse hM (k := 2) (by decide) (v := (-2)) rfl) dX4_letter_39 (mm_o hM) rfl (lw_V q1546 q1548 qs27 q70 q1549) hv_X4_refuse rfl ⟨Nat.le_of_ble_eq_true rfl, Nat.le_of_ble_eq_true rfl⟩ ⟨by omega, by omega⟩ rfl (Nat.le_of_ble_eq_true rfl)) (fun r6 w8 h7 => ?_)
      obtain ⟨hM7, r6e⟩ := h7
      rw [r6e]
      have hT7 := MT.ref hT (k := 2) (by decide)
      refine z_i2l (v := ((-2)).toInt64) X dX4_letter_42 rfl ?_
      refine z_ladd (v := (-1000000000000) + (((-2)).toInt64)) X dX4_letter_43 rfl ?_
      have e : spLetter o (nI zN) n = ((-1000000000000) + (((-2)).toInt64), oRef o 2) := by
        unfold spLetter
        repeat (first | rw [el_some (by assumption)] | rw [el_none (by assumption)] | rw [if_pos (by omega)] | rw [if_neg (by omega)] | rw [if_pos (by assumption)] | rw [if_neg (ts_n (by assumption))])
        all_goals first | rfl | (exfalso; omega)
      exact z_lret X dX4_letter_44 (by omega) (by omega) ⟨_, rfl, (by rw [e]; exact ⟨_, hM7, hT7, rfl⟩)⟩
    · have c5 := Classical.not_not.mp c5
      obtain ⟨nN, nNl, nNh, rfl, e4⟩ := rgb_t (lo := 1) (hi := 24) (by decide) (by decide) ((in32 (lo := nI 1) (hi := nI 24)).mp c5)
      refine z_aload_n X dX4_letter_24 rfl 0 rfl ?_
      refine z_iload_n X dX4_letter_25 rfl 1 rfl ?_
      refine z_iload_n X dX4_letter_26 rfl 2 rfl ?_
      refine z_cl (z_runV (rest := []) (n := 2) X [.int (nI (zN)), .int (nI (nN))] (m_X4_letterOf hM hT hO (z := zN) (n := nN) (by omega) (by omega)) dX4_letter_27 (mm_o hM) rfl (lw_V q1898 q1900 qs62 q70 q1901) hv_X4_letterOf rfl ⟨Nat.le_of_ble_eq_true rfl, Nat.le_of_ble_eq_true rfl⟩ ⟨by omega, by omega⟩ rfl (Nat.le_of_ble_eq_true rfl)) (fun r9 w11 h10 => ?_)
      obtain ⟨mv10, hM10, hT10, r9e⟩ := h10
      rw [r9e]
      refine z_goto (tgt := 44) X dX4_letter_30 (by decide) ?_
      have e : spLetter o (nI zN) (nI nN) = (letV o.1 zN nN, o) := by
        unfold spLetter
        repeat (first | rw [el_some (by assumption)] | rw [el_none (by assumption)] | rw [if_pos (by omega)] | rw [if_neg (by omega)] | rw [if_pos (by assumption)] | rw [if_neg (ts_n (by assumption))])
        all_goals first | rfl | (exfalso; omega)
      exact z_lret X dX4_letter_44 (by omega) (by omega) ⟨_, rfl, (by rw [e]; exact ⟨_, hM10, hT10, rfl⟩)⟩
set_option maxHeartbeats 2000000 in
theorem m_X4_whom {l : Launch} {G : GG} {wb w : GW} {ad : Nat → Nat} {m : MSt} (hM : MM G wb w ad m) {o : OS} (hT : MT o m) (hO : oInv o) {n : Int32} : gM l G yX4_whom cX4_whom 8 (some .int) 11 0 0 [.ref (ad 0), .int (n)] w (pI (fun r w1 => ∃ m2, MM G wb w1 ad m2 ∧ MT (spWhom o n).2 m2 ∧ r = (spWhom o n).1)) := by
  refine Z.met (own := "ThreeSizesModel") (nm := "whom") (lv := [(0, .ref (ad 0)), (1, .int (n))]) (by decide) rfl rfl (Nat.le_of_ble_eq_true rfl) rfl (fun κ X => ?_)
  have hI := hO.1
  have h6 := hI.2.1
  have ht200 := hO.2.2.2
  refine z_iload_n X dX4_whom_0 rfl 1 rfl ?_
  refine z_i2l (v := (n).toInt64) X dX4_whom_1 rfl ?_
  refine z_lconst (v := lN 1) X dX4_whom_2 cl1 ?_
  refine z_ldc2 X dX4_whom_3 q1800 ?_
  refine z_cip (z_runS (rest := []) (n := 3) X [.long ((n).toInt64), .long (lN (1)), .long ((24))] m_X4_in dX4_whom_6 (lw_S q1541 q1542 q70 q1543) hs_X4_in rfl ⟨Nat.le_of_ble_eq_true rfl, Nat.le_of_ble_eq_true rfl⟩ ⟨by omega, by omega⟩ rfl (Nat.le_of_ble_eq_true rfl)) ?_
  refine z_if_ne (tgt := 19) X dX4_whom_9 (by decide) bI_d (fun c1 => ?_) (fun c1 => ?_)
  · have c1 := Classical.not_not.mp c1
    obtain ⟨nN, nNl, nNh, rfl, e1⟩ := rgb_t (lo := 1) (hi := 24) (by decide) (by decide) ((in32 (lo := nI 1) (hi := nI 24)).mp c1)
    refine z_iconst (v := -1) X dX4_whom_19 cim1 ?_
    refine z_istore_n (lv2 := [(2, .int (-1)), (0, .ref (ad 0)), (1, .int (nI (nN)))]) X dX4_whom_20 rfl (Nat.le_of_ble_eq_true rfl) rfl ?_
    refine z_lconst (v := lN 0) X dX4_whom_21 cl0 ?_
    refine z_lstore_n (lv2 := [(3, .long (lN (0))), (2, .int (-1)), (0, .ref (ad 0)), (1, .int (nI (nN)))]) X dX4_whom_22 rfl (Nat.le_of_ble_eq_true rfl) rfl ?_
    refine z_iconst (v := nI (0)) X dX4_whom_23 ci0 ?_
    refine z_istore (lv2 := [(5, .int (nI (0))), (3, .long (lN (0))), (2, .int (-1)), (0, .ref (ad 0)), (1, .int (nI (nN)))]) X dX4_whom_24 (Nat.le_of_ble_eq_true rfl) rfl ?_
    have lh2 : ∀ (lq i : Nat) (w2 : GW) (m2 : MSt), i + lq = 3 → MM G wb w2 ad m2 → MT o m2 → Z κ w2 [(5, .int (nI (i))), (3, .long ((whTo (fun z => letV o.1 z nN) i).2)), (2, .int (oI ((whTo (fun z => letV o.1 z nN) i).1))), (1, .int (nI (nN))), (0, .ref (ad 0))] 0 0 26 [] := by
      intro lq
      induction lq with
      | zero =>
        intro i w2 m2 lh hM2 hT2x
        obtain rfl : 3 = i := by omega
        refine z_iload X dX4_whom_26 0 rfl ?_
        refine z_iconst (v := nI (3)) X dX4_whom_28 ci3 ?_
        refine z_icmp_ge_t (tgt := 60) X dX4_whom_29 (by decide) ((nI_leI (by omega) (by omega)).mpr (by omega)) ?_
        refine z_iload_n X dX4_whom_60 rfl 2 rfl ?_
        have e : spWhom o (nI nN) = (oI ((whTo (fun z => letV o.1 z nN) 3).1), o) := by
          unfold spWhom
          repeat (first | rw [el_some (by assumption)] | rw [el_none (by assumption)] | rw [if_pos (by omega)] | rw [if_neg (by omega)] | rw [if_pos (by assumption)] | rw [if_neg (ts_n (by assumption))])
          all_goals first | rfl | (exfalso; omega)
        exact z_iret X dX4_whom_61 (by omega) (by omega) ⟨_, rfl, (by rw [e]; exact ⟨_, hM2, hT2x, rfl⟩)⟩
      | succ lq ih =>
        intro i w2 m2 lh hM2 hT2x
        refine z_iload X dX4_whom_26 0 rfl ?_
        refine z_iconst (v := nI (3)) X dX4_whom_28 ci3 ?_
        refine z_icmp_ge_f (tgt := 60) X dX4_whom_29 (by decide) (fun h => absurd ((nI_leI (by omega) (by omega)).mp h) (by omega)) ?_
        refine z_aload_n X dX4_whom_32 rfl 4 rfl ?_
        refine z_iload X dX4_whom_33 0 rfl ?_
        refine z_iload_n X dX4_whom_35 rfl 3 rfl ?_
        refine z_cl (z_runV (rest := []) (n := 2) X [.int (nI (i)), .int (nI (nN))] (m_X4_letterOf hM2 hT2x hO (z := i) (n := nN) (by omega) (by omega)) dX4_whom_36 (mm_o hM2) rfl (lw_V q1898 q1900 qs62 q70 q1901) hv_X4_letterOf rfl ⟨Nat.le_of_ble_eq_true rfl, Nat.le_of_ble_eq_true rfl⟩ ⟨by omega, by omega⟩ rfl (Nat.le_of_ble_eq_true rfl)) (fun r2 w4 h3 => ?_)
        obtain ⟨mv3, hM3, hT3, r2e⟩ := h3
        rw [r2e]
        refine z_lstore (lv2 := [(6, .long (letV o.1 i nN)), (5, .int (nI (i))), (3, .long ((whTo (fun z => letV o.1 z nN) i).2)), (2, .int (oI ((whTo (fun z => letV o.1 z nN) i).1))), (1, .int (nI (nN))), (0, .ref (ad 0))]) X dX4_whom_39 (Nat.le_of_ble_eq_true rfl) rfl ?_
        refine z_lload X dX4_whom_41 0 rfl ?_
        refine z_lload_n X dX4_whom_43 rfl 2 rfl ?_
        refine z_lcmp (v := lg_cmp (letV o.1 i nN) ((whTo (fun z => letV o.1 z nN) i).2)) X dX4_whom_44 rfl ?_
        refine z_if_le (tgt := 54) X dX4_whom_45 (by decide) (lg_cmp_le _ _) (fun c5 => ?_) (fun c5 => ?_)
        · refine z_iinc (v := nI (i + 1)) (lv2 := [(5, .int (nI (i + 1))), (6, .long (letV o.1 i nN)), (3, .long ((whTo (fun z => letV o.1 z nN) i).2)), (2, .int (oI ((whTo (fun z => letV o.1 z nN) i).1))), (1, .int (nI (nN))), (0, .ref (ad 0))]) X dX4_whom_54 1 rfl (nI_1 _) (Nat.le_of_ble_eq_true rfl) rfl ?_
          refine z_goto (tgt := 26) X dX4_whom_57 (by decide) ?_
          refine Z.lv [0, 2, 3, 4, 5] rfl ?_
          have e : whTo (fun z => letV o.1 z nN) (i + 1) = whTo (fun z => letV o.1 z nN) i := if_neg (Int64.not_lt.mpr c5)
          have kk := ih (i + 1) _ _ (by omega) hM3 hT3
          rw [e] at kk
          exact kk
        · refine z_iload X dX4_whom_48 1 rfl ?_
          refine z_istore_n (lv2 := [(2, .int (nI (i))), (6, .long (letV o.1 i nN)), (5, .int (nI (i))), (3, .long ((whTo (fun z => letV o.1 z nN) i).2)), (1, .int (nI (nN))), (0, .ref (ad 0))]) X dX4_whom_50 rfl (Nat.le_of_ble_eq_true rfl) rfl ?_
          refine z_lload X dX4_whom_51 1 rfl ?_
          refine z_lstore_n (lv2 := [(3, .long (letV o.1 i nN)), (2, .int (nI (i))), (6, .long (letV o.1 i nN)), (5, .int (nI (i))), (1, .int (nI (nN))), (0, .ref (ad 0))]) X dX4_whom_53 rfl (Nat.le_of_ble_eq_true rfl) rfl ?_
          refine z_iinc (v := nI (i + 1)) (lv2 := [(5, .int (nI (i + 1))), (3, .long (letV o.1 i nN)), (2, .int (nI (i))), (6, .long (letV o.1 i nN)), (1, .int (nI (nN))), (0, .ref (ad 0))]) X dX4_whom_54 3 rfl (nI_1 _) (Nat.le_of_ble_eq_true rfl) rfl ?_
          refine z_goto (tgt := 26) X dX4_whom_57 (by decide) ?_
          refine Z.lv [0, 1, 2, 4, 5] rfl ?_
          have e : whTo (fun z => letV o.1 z nN) (i + 1) = (some i, letV o.1 i nN) := if_pos (Int64.not_le.mp c5)
          have kk := ih (i + 1) _ _ (by omega) hM3 hT3
          rw [e] at kk
          exact kk
    refine Z.lv [0, 1, 2, 4, 3] rfl ?_
    exact lh2 3 0 w m (by omega) hM hT
  · have e2 : rgb 1 24 n = none := rgb_f (fun q => c1 ((in32 (lo := nI 1) (hi := nI 24)).mpr q))
    refine z_aload_n X dX4_whom_12 rfl 0 rfl ?_
    refine z_bipush (v := (-2)) X dX4_whom_13 (by decide) ?_
    refine z_ci (z_runV (rest := []) (n := 1) X [.int ((-2))] (m_X4_refuse hM (k := 2) (by decide) (v := (-2)) rfl) dX4_whom_15 (mm_o hM) rfl (lw_V q1546 q1548 qs27 q70 q1549) hv_X4_refuse rfl ⟨Nat.le_of_ble_eq_true rfl, Nat.le_of_ble_eq_true rfl⟩ ⟨by omega, by omega⟩ rfl (Nat.le_of_ble_eq_true rfl)) (fun r6 w8 h7 => ?_)
    obtain ⟨hM7, r6e⟩ := h7
    rw [r6e]
    have hT7 := MT.ref hT (k := 2) (by decide)
    have e : spWhom o n = ((-2), oRef o 2) := by
      unfold spWhom
      repeat (first | rw [el_some (by assumption)] | rw [el_none (by assumption)] | rw [if_pos (by omega)] | rw [if_neg (by omega)] | rw [if_pos (by assumption)] | rw [if_neg (ts_n (by assumption))])
      all_goals first | rfl | (exfalso; omega)
    exact z_iret X dX4_whom_18 (by omega) (by omega) ⟨_, rfl, (by rw [e]; exact ⟨_, hM7, hT7, rfl⟩)⟩
set_option maxHeartbeats 2000000 in
theorem m_X4_takes {l : Launch} {G : GG} {st : Nat} {w : GW} (hs : st < 125) : gM l G yX4_takes cX4_takes 1 (some .int) 2 0 0 [.int (nI (st))] w (pI (fun r w1 => r = nI (fr st 0 + 2 * fr st 1 + 4 * fr st 2) ∧ w1 = w)) := by
  refine Z.met (own := "ThreeSizesModel") (nm := "takes") (lv := [(0, .int (nI (st)))]) (by decide) rfl rfl (Nat.le_of_ble_eq_true rfl) rfl (fun κ X => ?_)
  have f0 := fr_lt st 0
  have f1 := fr_lt st 1
  have f2 := fr_lt st 2
  refine z_iload_n X dX4_takes_0 rfl 0 rfl ?_
  refine z_iconst (v := nI (0)) X dX4_takes_1 ci0 ?_
  refine z_cip (z_runS (rest := []) (n := 2) X [.int (nI (st)), .int (nI (0))] (m_X4_freeOf (st := st) (z := 0) (by omega) (by omega)) dX4_takes_2 (lw_S q1609 q1610 q70 q1611) hs_X4_freeOf rfl ⟨Nat.le_of_ble_eq_true rfl, Nat.le_of_ble_eq_true rfl⟩ ⟨by omega, by omega⟩ rfl (Nat.le_of_ble_eq_true rfl)) ?_
  refine z_iconst (v := nI (2)) X dX4_takes_5 ci2 ?_
  refine z_iload_n X dX4_takes_6 rfl 0 rfl ?_
  refine z_iconst (v := nI (1)) X dX4_takes_7 ci1 ?_
  refine z_cip (z_runS (rest := [.int (nI (2)), .int (nI (fr st 0))]) (n := 2) X [.int (nI (st)), .int (nI (1))] (m_X4_freeOf (st := st) (z := 1) (by omega) (by omega)) dX4_takes_8 (lw_S q1609 q1610 q70 q1611) hs_X4_freeOf rfl ⟨Nat.le_of_ble_eq_true rfl, Nat.le_of_ble_eq_true rfl⟩ ⟨by omega, by omega⟩ rfl (Nat.le_of_ble_eq_true rfl)) ?_
  refine z_imul (v := nI (2 * (fr st 1))) X dX4_takes_11 (pk_mul _ _) ?_
  refine z_iadd (v := nI (fr st 0 + (2 * (fr st 1)))) X dX4_takes_12 (nI_add _ _) ?_
  refine z_iconst (v := nI (4)) X dX4_takes_13 ci4 ?_
  refine z_iload_n X dX4_takes_14 rfl 0 rfl ?_
  refine z_iconst (v := nI (2)) X dX4_takes_15 ci2 ?_
  refine z_cip (z_runS (rest := [.int (nI (4)), .int (nI (fr st 0 + (2 * (fr st 1))))]) (n := 2) X [.int (nI (st)), .int (nI (2))] (m_X4_freeOf (st := st) (z := 2) (by omega) (by omega)) dX4_takes_16 (lw_S q1609 q1610 q70 q1611) hs_X4_freeOf rfl ⟨Nat.le_of_ble_eq_true rfl, Nat.le_of_ble_eq_true rfl⟩ ⟨by omega, by omega⟩ rfl (Nat.le_of_ble_eq_true rfl)) ?_
  refine z_imul (v := nI (4 * (fr st 2))) X dX4_takes_19 (pk_mul _ _) ?_
  refine z_iadd (v := nI (fr st 0 + (2 * (fr st 1)) + (4 * (fr st 2)))) X dX4_takes_20 (nI_add _ _) ?_
  exact z_iret X dX4_takes_21 (by omega) (by omega) ⟨_, rfl, ⟨rfl, rfl⟩⟩
set_option maxHeartbeats 2000000 in
theorem m_X4_isFree {l : Launch} {G : GG} {wb w : GW} {ad : Nat → Nat} {m : MSt} (hM : MM G wb w ad m) {S : WS} (hR : MR S m) (hI : wInv S) {z : Nat} (hz : z < 3) : gM l G yX4_isFree cX4_isFree 2 (some .boolean) 1 0 0 [.ref (ad 0), .int (nI (z))] w (pI (fun r w1 => r = bI (decide (S.1 1 z < S.1 0 z)) ∧ w1 = w)) := by
  refine Z.met (own := "ThreeSizesModel") (nm := "isFree") (lv := [(0, .ref (ad 0)), (1, .int (nI (z)))]) (by decide) rfl rfl (Nat.le_of_ble_eq_true rfl) rfl (fun κ X => ?_)
  have hz2 := hI.1 z hz
  refine z_aload_n X dX4_isFree_0 rfl 0 rfl ?_
  refine z_mg10 X hM dX4_isFree_1 ?_
  refine z_iload_n X dX4_isFree_4 rfl 1 rfl ?_
  refine z_iaN (v := nI (S.1 0 z)) X dX4_isFree_5 (mm_11 hM) (by omega) (by omega) (hR.1 z (by omega)).1 ?_
  refine z_aload_n X dX4_isFree_6 rfl 0 rfl ?_
  refine z_mg11 X hM dX4_isFree_7 ?_
  refine z_iload_n X dX4_isFree_10 rfl 1 rfl ?_
  refine z_iaN (v := nI (S.1 1 z)) X dX4_isFree_11 (mm_12 hM) (by omega) (by omega) (hR.1 z (by omega)).2.1 ?_
  refine z_icmp_le (tgt := 19) X dX4_isFree_12 (by decide) (nI_leI (by omega) (by omega)) (fun c1 => ?_) (fun c1 => ?_)
  · refine z_iconst (v := nI (0)) X dX4_isFree_19 ci0 ?_
    exact z_zret X dX4_isFree_20 (by omega) (by omega) bz0 ⟨_, rfl, ⟨bz_f (by simp only [decide_eq_true_eq, decide_eq_false_iff_not]; omega), rfl⟩⟩
  · refine z_iconst (v := nI (1)) X dX4_isFree_15 ci1 ?_
    refine z_goto (tgt := 20) X dX4_isFree_16 (by decide) ?_
    exact z_zret X dX4_isFree_20 (by omega) (by omega) bz1 ⟨_, rfl, ⟨bz_t (by simp only [decide_eq_true_eq, decide_eq_false_iff_not]; omega), rfl⟩⟩
