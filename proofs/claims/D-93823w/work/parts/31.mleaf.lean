/-! THE MODEL: leaves that only read -/
set_option maxRecDepth 100000
theorem in64_t {v lo hi : Int64} (h1 : ¬ v < lo) (h2 : ¬ hi < v) : nI 1 = bI (decide (lo ≤ v ∧ v ≤ hi)) := bz_t (decide_eq_true ⟨Int64.not_lt.mp h1, Int64.not_lt.mp h2⟩)
theorem in64_f1 {v lo hi : Int64} (h : v < lo) : nI 0 = bI (decide (lo ≤ v ∧ v ≤ hi)) := bz_f (decide_eq_false fun q => Int64.not_lt.mpr q.1 h)
theorem in64_f2 {v lo hi : Int64} (h : hi < v) : nI 0 = bI (decide (lo ≤ v ∧ v ≤ hi)) := bz_f (decide_eq_false fun q => Int64.not_lt.mpr q.2 h)
theorem le64 {a b : Int32} : a.toInt64 ≤ b.toInt64 ↔ a ≤ b := by
  rw [Int64.le_iff_toInt_le, Int32.le_iff_toInt_le, Int32.toInt_toInt64, Int32.toInt_toInt64]
theorem in32 {v lo hi : Int32} : (lo.toInt64 ≤ v.toInt64 ∧ v.toInt64 ≤ hi.toInt64) ↔ (lo ≤ v ∧ v ≤ hi) := by rw [le64, le64]
theorem bI_iff {p q : Prop} {hp : Decidable p} {hq : Decidable q} (h : p ↔ q) : bI (decide p) = bI (decide q) := by
  by_cases hh : p
  · rw [decide_eq_true hh, decide_eq_true (h.mp hh)]
  · rw [decide_eq_false hh, decide_eq_false (fun x => hh (h.mpr x))]
theorem leTo_no {p : Nat → Bool} {i : Nat} (h : p i = false) : leTo p (i + 1) = leTo p i := by
  simp only [leTo]
  split
  · next y hy => exact hy.symm
  · next hn => rw [hn, if_neg (by rw [h]; exact Bool.false_ne_true)]
theorem leTo_yes {p : Nat → Bool} {i : Nat} (hn : leTo p i = none) (hp : p i = true) : leTo p (i + 1) = some i := by simp only [leTo, hn]; exact if_pos hp
theorem leTo_kp {p : Nat → Bool} {i : Nat} (hn : ¬ leTo p i = none) : leTo p (i + 1) = leTo p i := by
  simp only [leTo]
  split
  · next y hy => exact hy.symm
  · next h => exact absurd h hn
theorem leTo_nil {p : Nat → Bool} : ∀ n, (∀ z, z < n → p z = false) → leTo p n = none := by
  intro n
  induction n with
  | zero => intro _; rfl
  | succ n ih => intro h; rw [leTo_no (h n (Nat.lt_succ_self _)), ih (fun z hz => h z (Nat.lt_succ_of_lt hz))]
theorem grTo_nil {p : Nat → Bool} : ∀ n, (∀ z, z < n → p z = false) → grTo p n = none := by
  intro n
  induction n with
  | zero => intro _; rfl
  | succ n ih => intro h; simp only [grTo]; rw [if_neg (by rw [h n (Nat.lt_succ_self _)]; exact Bool.false_ne_true), ih (fun z hz => h z (Nat.lt_succ_of_lt hz))]
theorem evTo_nil {S : WS} {i st : Nat} : ∀ n, (∀ z, z < n → fitsB S i z st = false) → evTo S i st n = none := by
  intro n
  induction n with
  | zero => intro _; rfl
  | succ n ih => intro h; simp only [evTo]; rw [if_neg (fun q => by rw [h n (Nat.lt_succ_self _)] at q; exact Bool.false_ne_true q.1), ih (fun z hz => h z (Nat.lt_succ_of_lt hz))]
theorem fits_lo {S : WS} {i z st : Nat} (h : z < S.1 3 i) : fitsB S i z st = false := by unfold fitsB; rw [decide_eq_false (by omega)]; rfl
set_option maxHeartbeats 2000000 in
theorem m_X4_in {l : Launch} {G : GG} {v lo hi : Int64} {w : GW} : gM l G yX4_in cX4_in 6 (some .boolean) 1 0 0 [.long (v), .long (lo), .long (hi)] w (pI (fun r w1 => r = bI (decide (lo ≤ v ∧ v ≤ hi)) ∧ w1 = w)) := by
  refine Z.met (own := "ThreeSizesModel") (nm := "in") (lv := [(0, .long (v)), (2, .long (lo)), (4, .long (hi))]) (by decide) rfl rfl (Nat.le_of_ble_eq_true rfl) rfl (fun κ X => ?_)
  refine z_lload_n X dX4_in_0 rfl 0 rfl ?_
  refine z_lload_n X dX4_in_1 rfl 1 rfl ?_
  refine z_lcmp (v := lg_cmp (v) (lo)) X dX4_in_2 rfl ?_
  refine z_if_lt (tgt := 17) X dX4_in_3 (by decide) (lg_cmp_lt _ _) (fun c1 => ?_) (fun c1 => ?_)
  · refine z_iconst (v := nI (0)) X dX4_in_17 ci0 ?_
    exact z_zret X dX4_in_18 (by omega) (by omega) bz0 ⟨_, rfl, ⟨by first | exact in64_f1 (by assumption) | exact in64_f2 (by assumption) | exact in64_t (by assumption) (by assumption), rfl⟩⟩
  · refine z_lload_n X dX4_in_6 rfl 0 rfl ?_
    refine z_lload X dX4_in_7 2 rfl ?_
    refine z_lcmp (v := lg_cmp (v) (hi)) X dX4_in_9 rfl ?_
    refine z_if_gt (tgt := 17) X dX4_in_10 (by decide) (lg_cmp_gt _ _) (fun c2 => ?_) (fun c2 => ?_)
    · refine z_iconst (v := nI (0)) X dX4_in_17 ci0 ?_
      exact z_zret X dX4_in_18 (by omega) (by omega) bz0 ⟨_, rfl, ⟨by first | exact in64_f1 (by assumption) | exact in64_f2 (by assumption) | exact in64_t (by assumption) (by assumption), rfl⟩⟩
    · refine z_iconst (v := nI (1)) X dX4_in_13 ci1 ?_
      refine z_goto (tgt := 18) X dX4_in_14 (by decide) ?_
      exact z_zret X dX4_in_18 (by omega) (by omega) bz1 ⟨_, rfl, ⟨by first | exact in64_f1 (by assumption) | exact in64_f2 (by assumption) | exact in64_t (by assumption) (by assumption), rfl⟩⟩
set_option maxHeartbeats 2000000 in
theorem m_X4_areHours {l : Launch} {G : GG} {v : Int32} {w : GW} : gM l G yX4_areHours cX4_areHours 1 (some .boolean) 2 0 0 [.int (v)] w (pI (fun r w1 => r = bI (decide (nI 0 ≤ v ∧ v ≤ nI 24)) ∧ w1 = w)) := by
  refine Z.met (own := "ThreeSizesModel") (nm := "areHours") (lv := [(0, .int (v))]) (by decide) rfl rfl (Nat.le_of_ble_eq_true rfl) rfl (fun κ X => ?_)
  refine z_iload_n X dX4_areHours_0 rfl 0 rfl ?_
  refine z_i2l (v := (v).toInt64) X dX4_areHours_1 rfl ?_
  refine z_lconst (v := lN 0) X dX4_areHours_2 cl0 ?_
  refine z_ldc2 X dX4_areHours_3 q1800 ?_
  refine z_cip (z_runS (rest := []) (n := 3) X [.long ((v).toInt64), .long (lN (0)), .long ((24))] m_X4_in dX4_areHours_6 (lw_S q1541 q1542 q70 q1543) hs_X4_in rfl ⟨Nat.le_of_ble_eq_true rfl, Nat.le_of_ble_eq_true rfl⟩ ⟨by omega, by omega⟩ rfl (Nat.le_of_ble_eq_true rfl)) ?_
  exact z_zret X dX4_areHours_9 (by omega) (by omega) bI_n ⟨_, rfl, ⟨bI_iff (in32 (lo := nI 0) (hi := nI 24)), rfl⟩⟩
set_option maxHeartbeats 2000000 in
theorem m_X4_freeOf {l : Launch} {G : GG} {st z : Nat} {w : GW} (hs : st < 125) (hz : z < 3) : gM l G yX4_freeOf cX4_freeOf 2 (some .int) 1 0 0 [.int (nI (st)), .int (nI (z))] w (pI (fun r w1 => r = nI (fr st z) ∧ w1 = w)) := by
  refine Z.met (own := "ThreeSizesModel") (nm := "freeOf") (lv := [(0, .int (nI (st))), (1, .int (nI (z)))]) (by decide) rfl rfl (Nat.le_of_ble_eq_true rfl) rfl (fun κ X => ?_)
  refine z_iload_n X dX4_freeOf_0 rfl 1 rfl ?_
  refine z_if_ne (tgt := 10) X dX4_freeOf_1 (by decide) (nz_eq (by omega)) (fun c1 => ?_) (fun c1 => ?_)
  · refine z_iload_n X dX4_freeOf_10 rfl 1 rfl ?_
    refine z_iconst (v := nI (1)) X dX4_freeOf_11 ci1 ?_
    refine z_icmp_ne (tgt := 23) X dX4_freeOf_12 (by decide) (nI_eq (by omega) (by omega)) (fun c2 => ?_) (fun c2 => ?_)
    · refine z_iload_n X dX4_freeOf_23 rfl 0 rfl ?_
      refine z_bipush (v := nI (25)) X dX4_freeOf_24 (by decide) ?_
      refine z_idiv (v := nI (st / 25)) X dX4_freeOf_26 (by decide) (pk_div (by omega) (by omega) (by omega)) ?_
      exact z_iret X dX4_freeOf_27 (by omega) (by omega) ⟨_, rfl, ⟨by congr 1; rcases (show z = 0 ∨ z = 1 ∨ z = 2 by omega) with rfl | rfl | rfl <;> simp only [fr, pw5_0, pw5_1, pw5_2] <;> omega, rfl⟩⟩
    · refine z_iload_n X dX4_freeOf_15 rfl 0 rfl ?_
      refine z_iconst (v := nI (5)) X dX4_freeOf_16 ci5 ?_
      refine z_idiv (v := nI (st / 5)) X dX4_freeOf_17 (by decide) (pk_div (by omega) (by omega) (by omega)) ?_
      refine z_iconst (v := nI (5)) X dX4_freeOf_18 ci5 ?_
      refine z_irem (v := nI ((st / 5) % 5)) X dX4_freeOf_19 (by decide) (pk_rem (by omega) (by omega) (by omega)) ?_
      refine z_goto (tgt := 27) X dX4_freeOf_20 (by decide) ?_
      exact z_iret X dX4_freeOf_27 (by omega) (by omega) ⟨_, rfl, ⟨by congr 1; rcases (show z = 0 ∨ z = 1 ∨ z = 2 by omega) with rfl | rfl | rfl <;> simp only [fr, pw5_0, pw5_1, pw5_2] <;> omega, rfl⟩⟩
  · refine z_iload_n X dX4_freeOf_4 rfl 0 rfl ?_
    refine z_iconst (v := nI (5)) X dX4_freeOf_5 ci5 ?_
    refine z_irem (v := nI (st % 5)) X dX4_freeOf_6 (by decide) (pk_rem (by omega) (by omega) (by omega)) ?_
    refine z_goto (tgt := 27) X dX4_freeOf_7 (by decide) ?_
    exact z_iret X dX4_freeOf_27 (by omega) (by omega) ⟨_, rfl, ⟨by congr 1; rcases (show z = 0 ∨ z = 1 ∨ z = 2 by omega) with rfl | rfl | rfl <;> simp only [fr, pw5_0, pw5_1, pw5_2] <;> omega, rfl⟩⟩
set_option maxHeartbeats 2000000 in
theorem m_X4_oneOf {l : Launch} {G : GG} {z : Nat} {w : GW} (hz : z < 3) : gM l G yX4_oneOf cX4_oneOf 1 (some .int) 1 0 0 [.int (nI (z))] w (pI (fun r w1 => r = nI (pw5 z) ∧ w1 = w)) := by
  refine Z.met (own := "ThreeSizesModel") (nm := "oneOf") (lv := [(0, .int (nI (z)))]) (by decide) rfl rfl (Nat.le_of_ble_eq_true rfl) rfl (fun κ X => ?_)
  refine z_iload_n X dX4_oneOf_0 rfl 0 rfl ?_
  refine z_if_ne (tgt := 8) X dX4_oneOf_1 (by decide) (nz_eq (by omega)) (fun c1 => ?_) (fun c1 => ?_)
  · refine z_iload_n X dX4_oneOf_8 rfl 0 rfl ?_
    refine z_iconst (v := nI (1)) X dX4_oneOf_9 ci1 ?_
    refine z_icmp_ne (tgt := 17) X dX4_oneOf_10 (by decide) (nI_eq (by omega) (by omega)) (fun c2 => ?_) (fun c2 => ?_)
    · refine z_bipush (v := nI (25)) X dX4_oneOf_17 (by decide) ?_
      exact z_iret X dX4_oneOf_19 (by omega) (by omega) ⟨_, rfl, ⟨by first | (rw [show z = 0 by omega]; rfl) | (rw [show z = 1 by omega]; rfl) | (rw [show z = 2 by omega]; rfl), rfl⟩⟩
    · refine z_iconst (v := nI (5)) X dX4_oneOf_13 ci5 ?_
      refine z_goto (tgt := 19) X dX4_oneOf_14 (by decide) ?_
      exact z_iret X dX4_oneOf_19 (by omega) (by omega) ⟨_, rfl, ⟨by first | (rw [show z = 0 by omega]; rfl) | (rw [show z = 1 by omega]; rfl) | (rw [show z = 2 by omega]; rfl), rfl⟩⟩
  · refine z_iconst (v := nI (1)) X dX4_oneOf_4 ci1 ?_
    refine z_goto (tgt := 19) X dX4_oneOf_5 (by decide) ?_
    exact z_iret X dX4_oneOf_19 (by omega) (by omega) ⟨_, rfl, ⟨by first | (rw [show z = 0 by omega]; rfl) | (rw [show z = 1 by omega]; rfl) | (rw [show z = 2 by omega]; rfl), rfl⟩⟩
set_option maxHeartbeats 2000000 in
theorem m_X4_code {l : Launch} {G : GG} {a b c : Nat} {w : GW} : gM l G yX4_code cX4_code 3 (some .int) 1 0 0 [.int (nI (a)), .int (nI (b)), .int (nI (c))] w (pI (fun r w1 => r = nI (a + 5 * b + 25 * c) ∧ w1 = w)) := by
  refine Z.met (own := "ThreeSizesModel") (nm := "code") (lv := [(0, .int (nI (a))), (1, .int (nI (b))), (2, .int (nI (c)))]) (by decide) rfl rfl (Nat.le_of_ble_eq_true rfl) rfl (fun κ X => ?_)
  refine z_iload_n X dX4_code_0 rfl 0 rfl ?_
  refine z_iconst (v := nI (5)) X dX4_code_1 ci5 ?_
  refine z_iload_n X dX4_code_2 rfl 1 rfl ?_
  refine z_imul (v := nI (5 * b)) X dX4_code_3 (pk_mul _ _) ?_
  refine z_iadd (v := nI (a + (5 * b))) X dX4_code_4 (nI_add _ _) ?_
  refine z_bipush (v := nI (25)) X dX4_code_5 (by decide) ?_
  refine z_iload_n X dX4_code_7 rfl 2 rfl ?_
  refine z_imul (v := nI (25 * c)) X dX4_code_8 (pk_mul _ _) ?_
  refine z_iadd (v := nI (a + (5 * b) + (25 * c))) X dX4_code_9 (nI_add _ _) ?_
  exact z_iret X dX4_code_10 (by omega) (by omega) ⟨_, rfl, ⟨rfl, rfl⟩⟩
set_option maxHeartbeats 2000000 in
theorem m_X4_stateNow {l : Launch} {G : GG} {wb w : GW} {ad : Nat → Nat} {m : MSt} (hM : MM G wb w ad m) {S : WS} (hR : MR S m) (hI : wInv S) : gM l G yX4_stateNow cX4_stateNow 1 (some .int) 2 0 0 [.ref (ad 0)] w (pI (fun r w1 => r = nI (stOf S) ∧ w1 = w)) := by
  refine Z.met (own := "ThreeSizesModel") (nm := "stateNow") (lv := [(0, .ref (ad 0))]) (by decide) rfl rfl (Nat.le_of_ble_eq_true rfl) rfl (fun κ X => ?_)
  have h0 := hI.1 0 (by omega)
  have h1 := hI.1 1 (by omega)
  have h2 := hI.1 2 (by omega)
  refine z_aload_n X dX4_stateNow_0 rfl 0 rfl ?_
  refine z_mg10 X hM dX4_stateNow_1 ?_
  refine z_iconst (v := nI (0)) X dX4_stateNow_4 ci0 ?_
  refine z_iaN (v := nI (S.1 0 0)) X dX4_stateNow_5 (mm_11 hM) (by omega) (by omega) (hR.1 0 (by omega)).1 ?_
  refine z_aload_n X dX4_stateNow_6 rfl 0 rfl ?_
  refine z_mg11 X hM dX4_stateNow_7 ?_
  refine z_iconst (v := nI (0)) X dX4_stateNow_10 ci0 ?_
  refine z_iaN (v := nI (S.1 1 0)) X dX4_stateNow_11 (mm_12 hM) (by omega) (by omega) (hR.1 0 (by omega)).2.1 ?_
  refine z_isub (v := nI (S.1 0 0 - (S.1 1 0))) X dX4_stateNow_12 (pk_sub (by omega)) ?_
  refine z_aload_n X dX4_stateNow_13 rfl 0 rfl ?_
  refine z_mg10 X hM dX4_stateNow_14 ?_
  refine z_iconst (v := nI (1)) X dX4_stateNow_17 ci1 ?_
  refine z_iaN (v := nI (S.1 0 1)) X dX4_stateNow_18 (mm_11 hM) (by omega) (by omega) (hR.1 1 (by omega)).1 ?_
  refine z_aload_n X dX4_stateNow_19 rfl 0 rfl ?_
  refine z_mg11 X hM dX4_stateNow_20 ?_
  refine z_iconst (v := nI (1)) X dX4_stateNow_23 ci1 ?_
  refine z_iaN (v := nI (S.1 1 1)) X dX4_stateNow_24 (mm_12 hM) (by omega) (by omega) (hR.1 1 (by omega)).2.1 ?_
  refine z_isub (v := nI (S.1 0 1 - (S.1 1 1))) X dX4_stateNow_25 (pk_sub (by omega)) ?_
  refine z_aload_n X dX4_stateNow_26 rfl 0 rfl ?_
  refine z_mg10 X hM dX4_stateNow_27 ?_
  refine z_iconst (v := nI (2)) X dX4_stateNow_30 ci2 ?_
  refine z_iaN (v := nI (S.1 0 2)) X dX4_stateNow_31 (mm_11 hM) (by omega) (by omega) (hR.1 2 (by omega)).1 ?_
  refine z_aload_n X dX4_stateNow_32 rfl 0 rfl ?_
  refine z_mg11 X hM dX4_stateNow_33 ?_
  refine z_iconst (v := nI (2)) X dX4_stateNow_36 ci2 ?_
  refine z_iaN (v := nI (S.1 1 2)) X dX4_stateNow_37 (mm_12 hM) (by omega) (by omega) (hR.1 2 (by omega)).2.1 ?_
  refine z_isub (v := nI (S.1 0 2 - (S.1 1 2))) X dX4_stateNow_38 (pk_sub (by omega)) ?_
  refine z_cip (z_runS (rest := []) (n := 3) X [.int (nI (S.1 0 0 - (S.1 1 0))), .int (nI (S.1 0 1 - (S.1 1 1))), .int (nI (S.1 0 2 - (S.1 1 2)))] (m_X4_code (a := S.1 0 0 - (S.1 1 0)) (b := S.1 0 1 - (S.1 1 1)) (c := S.1 0 2 - (S.1 1 2))) dX4_stateNow_39 (lw_S q1589 q1590 q70 q1591) hs_X4_code rfl ⟨Nat.le_of_ble_eq_true rfl, Nat.le_of_ble_eq_true rfl⟩ ⟨by omega, by omega⟩ rfl (Nat.le_of_ble_eq_true rfl)) ?_
  exact z_iret X dX4_stateNow_42 (by omega) (by omega) ⟨_, rfl, ⟨rfl, rfl⟩⟩
set_option maxHeartbeats 2000000 in
theorem m_X4_comes {l : Launch} {G : GG} {wb w : GW} {ad : Nat → Nat} {m : MSt} (hM : MM G wb w ad m) {S : WS} (hR : MR S m) (hI : wInv S) : gM l G yX4_comes cX4_comes 3 (some .int) 1 0 0 [.ref (ad 0)] w (pI (fun r w1 => r = nI (sumTo (S.1 4) (S.2 0)) ∧ w1 = w)) := by
  refine Z.met (own := "ThreeSizesModel") (nm := "comes") (lv := [(0, .ref (ad 0))]) (by decide) rfl rfl (Nat.le_of_ble_eq_true rfl) rfl (fun κ X => ?_)
  have h6 := hI.2.1
  refine z_iconst (v := nI (0)) X dX4_comes_0 ci0 ?_
  refine z_istore_n (lv2 := [(1, .int (nI (0))), (0, .ref (ad 0))]) X dX4_comes_1 rfl (Nat.le_of_ble_eq_true rfl) rfl ?_
  refine z_iconst (v := nI (0)) X dX4_comes_2 ci0 ?_
  refine z_istore_n (lv2 := [(2, .int (nI (0))), (1, .int (nI (0))), (0, .ref (ad 0))]) X dX4_comes_3 rfl (Nat.le_of_ble_eq_true rfl) rfl ?_
  have lp : ∀ (lq i : Nat), i + lq = S.2 0 → Z κ w [(2, .int (nI (i))), (1, .int (nI (sumTo (S.1 4) i))), (0, .ref (ad 0))] 0 0 4 [] := by
    intro lq
    induction lq with
    | zero =>
      intro i lh
      obtain rfl : i = S.2 0 := by omega
      refine z_iload_n X dX4_comes_4 rfl 0 rfl ?_
      refine z_aload_n X dX4_comes_5 rfl 2 rfl ?_
      refine z_mgv13 X hM dX4_comes_6 hR.2.1 ?_
      refine z_icmp_ge_t (tgt := 29) X dX4_comes_9 (by decide) ((nI_leI (by omega) (by omega)).mpr (by omega)) ?_
      refine z_iload_n X dX4_comes_29 rfl 1 rfl ?_
      exact z_iret X dX4_comes_30 (by omega) (by omega) ⟨_, rfl, ⟨rfl, rfl⟩⟩
    | succ lq ih =>
      intro i lh
      refine z_iload_n X dX4_comes_4 rfl 0 rfl ?_
      refine z_aload_n X dX4_comes_5 rfl 2 rfl ?_
      refine z_mgv13 X hM dX4_comes_6 hR.2.1 ?_
      refine z_icmp_ge_f (tgt := 29) X dX4_comes_9 (by decide) (fun h => absurd ((nI_leI (by omega) (by omega)).mp h) (by omega)) ?_
      refine z_iload_n X dX4_comes_12 rfl 1 rfl ?_
      refine z_aload_n X dX4_comes_13 rfl 2 rfl ?_
      refine z_mg14 X hM dX4_comes_14 ?_
      refine z_iload_n X dX4_comes_17 rfl 0 rfl ?_
      refine z_aN5 (v := .ref (ad (50 + i))) X dX4_comes_18 (mm_15 hM) (by omega) (by omega) rfl ?_
      refine z_iconst (v := nI (1)) X dX4_comes_19 ci1 ?_
      refine z_iaN (v := nI (S.1 4 i)) X dX4_comes_20 (mmr_50 hM (by omega)) (by omega) (by omega) (hR.2.2.1 i (by omega)).2.1 ?_
      refine z_iadd (v := nI (sumTo (S.1 4) i + (S.1 4 i))) X dX4_comes_21 (nI_add _ _) ?_
      refine z_istore_n (lv2 := [(1, .int (nI (sumTo (S.1 4) i + (S.1 4 i)))), (2, .int (nI (i))), (0, .ref (ad 0))]) X dX4_comes_22 rfl (Nat.le_of_ble_eq_true rfl) rfl ?_
      refine z_iinc (v := nI (i + 1)) (lv2 := [(2, .int (nI (i + 1))), (1, .int (nI (sumTo (S.1 4) i + (S.1 4 i)))), (0, .ref (ad 0))]) X dX4_comes_23 1 rfl (nI_1 _) (Nat.le_of_ble_eq_true rfl) rfl ?_
      refine z_goto (tgt := 4) X dX4_comes_26 (by decide) ?_
      exact ih (i + 1) (by omega)
  exact lp (S.2 0) 0 (by omega)
set_option maxHeartbeats 2000000 in
theorem m_X4_isState {l : Launch} {G : GG} {wb w : GW} {ad : Nat → Nat} {m : MSt} (hM : MM G wb w ad m) {S : WS} (hR : MR S m) (hI : wInv S) {st : Nat} (hs : st < 125) : gM l G yX4_isState cX4_isState 2 (some .boolean) 2 0 0 [.ref (ad 0), .int (nI (st))] w (pI (fun r w1 => r = bI (isSt S st) ∧ w1 = w)) := by
  refine Z.met (own := "ThreeSizesModel") (nm := "isState") (lv := [(0, .ref (ad 0)), (1, .int (nI (st)))]) (by decide) rfl rfl (Nat.le_of_ble_eq_true rfl) rfl (fun κ X => ?_)
  have h0 := hI.1 0 (by omega)
  have h1 := hI.1 1 (by omega)
  have h2 := hI.1 2 (by omega)
  have f0 := fr_lt st 0
  have f1 := fr_lt st 1
  have f2 := fr_lt st 2
  refine z_iload_n X dX4_isState_0 rfl 1 rfl ?_
  refine z_i2l (v := lN (st)) X dX4_isState_1 (nI_l (by omega)) ?_
  refine z_lconst (v := lN 0) X dX4_isState_2 cl0 ?_
  refine z_ldc2 X dX4_isState_3 q1608 ?_
  refine z_cip (z_runS (rest := []) (n := 3) X [.long (lN (st)), .long (lN (0)), .long ((124))] m_X4_in dX4_isState_6 (lw_S q1541 q1542 q70 q1543) hs_X4_in rfl ⟨Nat.le_of_ble_eq_true rfl, Nat.le_of_ble_eq_true rfl⟩ ⟨by omega, by omega⟩ rfl (Nat.le_of_ble_eq_true rfl)) ?_
  refine z_if_eq_f (tgt := 58) X dX4_isState_9 (by decide) (fun h => bI_d.mp h ⟨(lN_le (by omega) (by omega)).mpr (by omega), (lN_le (a := st) (b := 124) (by omega) (by omega)).mpr (by omega)⟩) ?_
  refine z_iload_n X dX4_isState_12 rfl 1 rfl ?_
  refine z_iconst (v := nI (0)) X dX4_isState_13 ci0 ?_
  refine z_cip (z_runS (rest := []) (n := 2) X [.int (nI (st)), .int (nI (0))] (m_X4_freeOf (st := st) (z := 0) (by omega) (by omega)) dX4_isState_14 (lw_S q1609 q1610 q70 q1611) hs_X4_freeOf rfl ⟨Nat.le_of_ble_eq_true rfl, Nat.le_of_ble_eq_true rfl⟩ ⟨by omega, by omega⟩ rfl (Nat.le_of_ble_eq_true rfl)) ?_
  refine z_aload_n X dX4_isState_17 rfl 0 rfl ?_
  refine z_mg10 X hM dX4_isState_18 ?_
  refine z_iconst (v := nI (0)) X dX4_isState_21 ci0 ?_
  refine z_iaN (v := nI (S.1 0 0)) X dX4_isState_22 (mm_11 hM) (by omega) (by omega) (hR.1 0 (by omega)).1 ?_
  refine z_icmp_gt (tgt := 58) X dX4_isState_23 (by decide) (nI_ltI (by omega) (by omega)) (fun c1 => ?_) (fun c1 => ?_)
  · refine z_iconst (v := nI (0)) X dX4_isState_58 ci0 ?_
    exact z_zret X dX4_isState_59 (by omega) (by omega) bz0 ⟨_, rfl, ⟨bz_f (by simp only [isSt, Bool.and_eq_false_iff, Bool.and_eq_true, decide_eq_false_iff_not, decide_eq_true_eq]; omega), rfl⟩⟩
  · refine z_iload_n X dX4_isState_26 rfl 1 rfl ?_
    refine z_iconst (v := nI (1)) X dX4_isState_27 ci1 ?_
    refine z_cip (z_runS (rest := []) (n := 2) X [.int (nI (st)), .int (nI (1))] (m_X4_freeOf (st := st) (z := 1) (by omega) (by omega)) dX4_isState_28 (lw_S q1609 q1610 q70 q1611) hs_X4_freeOf rfl ⟨Nat.le_of_ble_eq_true rfl, Nat.le_of_ble_eq_true rfl⟩ ⟨by omega, by omega⟩ rfl (Nat.le_of_ble_eq_true rfl)) ?_
    refine z_aload_n X dX4_isState_31 rfl 0 rfl ?_
    refine z_mg10 X hM dX4_isState_32 ?_
    refine z_iconst (v := nI (1)) X dX4_isState_35 ci1 ?_
    refine z_iaN (v := nI (S.1 0 1)) X dX4_isState_36 (mm_11 hM) (by omega) (by omega) (hR.1 1 (by omega)).1 ?_
    refine z_icmp_gt (tgt := 58) X dX4_isState_37 (by decide) (nI_ltI (by omega) (by omega)) (fun c2 => ?_) (fun c2 => ?_)
    · refine z_iconst (v := nI (0)) X dX4_isState_58 ci0 ?_
      exact z_zret X dX4_isState_59 (by omega) (by omega) bz0 ⟨_, rfl, ⟨bz_f (by simp only [isSt, Bool.and_eq_false_iff, Bool.and_eq_true, decide_eq_false_iff_not, decide_eq_true_eq]; omega), rfl⟩⟩
    · refine z_iload_n X dX4_isState_40 rfl 1 rfl ?_
      refine z_iconst (v := nI (2)) X dX4_isState_41 ci2 ?_
      refine z_cip (z_runS (rest := []) (n := 2) X [.int (nI (st)), .int (nI (2))] (m_X4_freeOf (st := st) (z := 2) (by omega) (by omega)) dX4_isState_42 (lw_S q1609 q1610 q70 q1611) hs_X4_freeOf rfl ⟨Nat.le_of_ble_eq_true rfl, Nat.le_of_ble_eq_true rfl⟩ ⟨by omega, by omega⟩ rfl (Nat.le_of_ble_eq_true rfl)) ?_
      refine z_aload_n X dX4_isState_45 rfl 0 rfl ?_
      refine z_mg10 X hM dX4_isState_46 ?_
      refine z_iconst (v := nI (2)) X dX4_isState_49 ci2 ?_
      refine z_iaN (v := nI (S.1 0 2)) X dX4_isState_50 (mm_11 hM) (by omega) (by omega) (hR.1 2 (by omega)).1 ?_
      refine z_icmp_gt (tgt := 58) X dX4_isState_51 (by decide) (nI_ltI (by omega) (by omega)) (fun c3 => ?_) (fun c3 => ?_)
      · refine z_iconst (v := nI (0)) X dX4_isState_58 ci0 ?_
        exact z_zret X dX4_isState_59 (by omega) (by omega) bz0 ⟨_, rfl, ⟨bz_f (by simp only [isSt, Bool.and_eq_false_iff, Bool.and_eq_true, decide_eq_false_iff_not, decide_eq_true_eq]; omega), rfl⟩⟩
      · refine z_iconst (v := nI (1)) X dX4_isState_54 ci1 ?_
        refine z_goto (tgt := 59) X dX4_isState_55 (by decide) ?_
        exact z_zret X dX4_isState_59 (by omega) (by omega) bz1 ⟨_, rfl, ⟨bz_t (by simp only [isSt, Bool.and_eq_false_iff, Bool.and_eq_true, decide_eq_false_iff_not, decide_eq_true_eq]; omega), rfl⟩⟩
set_option maxHeartbeats 2000000 in
theorem m_X4_isStateF {l : Launch} {G : GG} {wb w : GW} {ad : Nat → Nat} {m : MSt} (hM : MM G wb w ad m) {v : Int32} (hv : ¬ (nI 0 ≤ v ∧ v ≤ nI 124)) : gM l G yX4_isState cX4_isState 2 (some .boolean) 2 0 0 [.ref (ad 0), .int (v)] w (pI (fun r w1 => r = bI false ∧ w1 = w)) := by
  refine Z.met (own := "ThreeSizesModel") (nm := "isState") (lv := [(0, .ref (ad 0)), (1, .int (v))]) (by decide) rfl rfl (Nat.le_of_ble_eq_true rfl) rfl (fun κ X => ?_)
  refine z_iload_n X dX4_isState_0 rfl 1 rfl ?_
  refine z_i2l (v := (v).toInt64) X dX4_isState_1 rfl ?_
  refine z_lconst (v := lN 0) X dX4_isState_2 cl0 ?_
  refine z_ldc2 X dX4_isState_3 q1608 ?_
  refine z_cip (z_runS (rest := []) (n := 3) X [.long ((v).toInt64), .long (lN (0)), .long ((124))] m_X4_in dX4_isState_6 (lw_S q1541 q1542 q70 q1543) hs_X4_in rfl ⟨Nat.le_of_ble_eq_true rfl, Nat.le_of_ble_eq_true rfl⟩ ⟨by omega, by omega⟩ rfl (Nat.le_of_ble_eq_true rfl)) ?_
  refine z_if_eq_t (tgt := 58) X dX4_isState_9 (by decide) (bI_d.mpr (fun h => hv ((in32 (lo := nI 0) (hi := nI 124)).mp h))) ?_
  refine z_iconst (v := nI (0)) X dX4_isState_58 ci0 ?_
  exact z_zret X dX4_isState_59 (by omega) (by omega) bz0 ⟨_, rfl, ⟨rfl, rfl⟩⟩
set_option maxHeartbeats 2000000 in
theorem m_X4_lostOf {l : Launch} {G : GG} {wb w : GW} {ad : Nat → Nat} {m : MSt} (hM : MM G wb w ad m) {S : WS} (hR : MR S m) (hI : wInv S) {i : Nat} (hi : i < S.2 0) : gM l G yX4_lostOf cX4_lostOf 2 (some .long) 1 0 0 [.ref (ad 0), .int (nI (i))] w (pL (fun r w1 => r = lostL S i ∧ w1 = w)) := by
  refine Z.met (own := "ThreeSizesModel") (nm := "lostOf") (lv := [(0, .ref (ad 0)), (1, .int (nI (i)))]) (by decide) rfl rfl (Nat.le_of_ble_eq_true rfl) rfl (fun κ X => ?_)
  have h6 := hI.2.1
  refine z_ldc2 X dX4_lostOf_0 q1628 ?_
  refine z_aload_n X dX4_lostOf_3 rfl 0 rfl ?_
  refine z_mg15 X hM dX4_lostOf_4 ?_
  refine z_iconst (v := nI (0)) X dX4_lostOf_7 ci0 ?_
  refine z_iaN (v := nI (S.2 1)) X dX4_lostOf_8 (mm_16 hM) (by omega) (by omega) hR.2.2.2.1 ?_
  refine z_aload_n X dX4_lostOf_9 rfl 0 rfl ?_
  refine z_mg14 X hM dX4_lostOf_10 ?_
  refine z_iload_n X dX4_lostOf_13 rfl 1 rfl ?_
  refine z_aN5 (v := .ref (ad (50 + i))) X dX4_lostOf_14 (mm_15 hM) (by omega) (by omega) rfl ?_
  refine z_iconst (v := nI (2)) X dX4_lostOf_15 ci2 ?_
  refine z_iaN (v := nI (S.1 5 i)) X dX4_lostOf_16 (mmr_50 hM (by omega)) (by omega) (by omega) (hR.2.2.1 i (by omega)).2.2.1 ?_
  refine z_aload_n X dX4_lostOf_17 rfl 0 rfl ?_
  refine z_mg15 X hM dX4_lostOf_18 ?_
  refine z_iconst (v := nI (1)) X dX4_lostOf_21 ci1 ?_
  refine z_iaN (v := nI (S.2 2)) X dX4_lostOf_22 (mm_16 hM) (by omega) (by omega) hR.2.2.2.2 ?_
  refine z_isub (v := nI (S.1 5 i) - nI (S.2 2)) X dX4_lostOf_23 rfl ?_
  refine z_imul (v := (nI (S.2 1)) * (nI (S.1 5 i) - nI (S.2 2))) X dX4_lostOf_24 rfl ?_
  refine z_bipush (v := nI (10)) X dX4_lostOf_25 (by decide) ?_
  refine z_aload_n X dX4_lostOf_27 rfl 0 rfl ?_
  refine z_mg15 X hM dX4_lostOf_28 ?_
  refine z_iconst (v := nI (0)) X dX4_lostOf_31 ci0 ?_
  refine z_iaN (v := nI (S.2 1)) X dX4_lostOf_32 (mm_16 hM) (by omega) (by omega) hR.2.2.2.1 ?_
  refine z_isub (v := nI (10) - nI (S.2 1)) X dX4_lostOf_33 rfl ?_
  refine z_aload_n X dX4_lostOf_34 rfl 0 rfl ?_
  refine z_mg14 X hM dX4_lostOf_35 ?_
  refine z_iload_n X dX4_lostOf_38 rfl 1 rfl ?_
  refine z_aN5 (v := .ref (ad (50 + i))) X dX4_lostOf_39 (mm_15 hM) (by omega) (by omega) rfl ?_
  refine z_iconst (v := nI (3)) X dX4_lostOf_40 ci3 ?_
  refine z_iaN (v := nI (S.1 6 i)) X dX4_lostOf_41 (mmr_50 hM (by omega)) (by omega) (by omega) (hR.2.2.1 i (by omega)).2.2.2 ?_
  refine z_imul (v := (nI (10) - nI (S.2 1)) * (nI (S.1 6 i))) X dX4_lostOf_42 rfl ?_
  refine z_isub (v := (nI (S.2 1)) * (nI (S.1 5 i) - nI (S.2 2)) - ((nI (10) - nI (S.2 1)) * (nI (S.1 6 i)))) X dX4_lostOf_43 rfl ?_
  refine z_i2l (v := ((nI (S.2 1)) * (nI (S.1 5 i) - nI (S.2 2)) - ((nI (10) - nI (S.2 1)) * (nI (S.1 6 i)))).toInt64) X dX4_lostOf_44 rfl ?_
  refine z_lmul (v := (100000) * (((nI (S.2 1)) * (nI (S.1 5 i) - nI (S.2 2)) - ((nI (10) - nI (S.2 1)) * (nI (S.1 6 i)))).toInt64)) X dX4_lostOf_45 rfl ?_
  exact z_lret X dX4_lostOf_46 (by omega) (by omega) ⟨_, rfl, ⟨rfl, rfl⟩⟩
set_option maxHeartbeats 2000000 in
theorem m_X4_mayGet {l : Launch} {G : GG} {wb w : GW} {ad : Nat → Nat} {m : MSt} (hM : MM G wb w ad m) {S : WS} (hR : MR S m) (hI : wInv S) {i st z : Nat} (hi : i < S.2 0) (hs : st < 125) (hz : z < 3) : gM l G yX4_mayGet cX4_mayGet 4 (some .boolean) 2 0 0 [.ref (ad 0), .int (nI (i)), .int (nI (st)), .int (nI (z))] w (pI (fun r w1 => r = bI (fitsB S i z st) ∧ w1 = w)) := by
  refine Z.met (own := "ThreeSizesModel") (nm := "mayGet") (lv := [(0, .ref (ad 0)), (1, .int (nI (i))), (2, .int (nI (st))), (3, .int (nI (z)))]) (by decide) rfl rfl (Nat.le_of_ble_eq_true rfl) rfl (fun κ X => ?_)
  have h6 := hI.2.1
  have h5 := hI.2.2.1 i hi
  have h7 := fr_lt st z
  refine z_iload_n X dX4_mayGet_0 rfl 3 rfl ?_
  refine z_aload_n X dX4_mayGet_1 rfl 0 rfl ?_
  refine z_mg14 X hM dX4_mayGet_2 ?_
  refine z_iload_n X dX4_mayGet_5 rfl 1 rfl ?_
  refine z_aN5 (v := .ref (ad (50 + i))) X dX4_mayGet_6 (mm_15 hM) (by omega) (by omega) rfl ?_
  refine z_iconst (v := nI (0)) X dX4_mayGet_7 ci0 ?_
  refine z_iaN (v := nI (S.1 3 i)) X dX4_mayGet_8 (mmr_50 hM (by omega)) (by omega) (by omega) (hR.2.2.1 i (by omega)).1 ?_
  refine z_icmp_lt (tgt := 24) X dX4_mayGet_9 (by decide) (nI_ltI (by omega) (by omega)) (fun c1 => ?_) (fun c1 => ?_)
  · refine z_iconst (v := nI (0)) X dX4_mayGet_24 ci0 ?_
    exact z_zret X dX4_mayGet_25 (by omega) (by omega) bz0 ⟨_, rfl, ⟨bz_f (by simp only [fitsB, Bool.and_eq_false_iff, Bool.and_eq_true, decide_eq_false_iff_not, decide_eq_true_eq]; omega), rfl⟩⟩
  · refine z_iload_n X dX4_mayGet_12 rfl 2 rfl ?_
    refine z_iload_n X dX4_mayGet_13 rfl 3 rfl ?_
    refine z_cip (z_runS (rest := []) (n := 2) X [.int (nI (st)), .int (nI (z))] (m_X4_freeOf (st := st) (z := z) (by omega) (by omega)) dX4_mayGet_14 (lw_S q1609 q1610 q70 q1611) hs_X4_freeOf rfl ⟨Nat.le_of_ble_eq_true rfl, Nat.le_of_ble_eq_true rfl⟩ ⟨by omega, by omega⟩ rfl (Nat.le_of_ble_eq_true rfl)) ?_
    refine z_if_le (tgt := 24) X dX4_mayGet_17 (by decide) (nz_le (by omega)) (fun c2 => ?_) (fun c2 => ?_)
    · refine z_iconst (v := nI (0)) X dX4_mayGet_24 ci0 ?_
      exact z_zret X dX4_mayGet_25 (by omega) (by omega) bz0 ⟨_, rfl, ⟨bz_f (by simp only [fitsB, Bool.and_eq_false_iff, Bool.and_eq_true, decide_eq_false_iff_not, decide_eq_true_eq]; omega), rfl⟩⟩
    · refine z_iconst (v := nI (1)) X dX4_mayGet_20 ci1 ?_
      refine z_goto (tgt := 25) X dX4_mayGet_21 (by decide) ?_
      exact z_zret X dX4_mayGet_25 (by omega) (by omega) bz1 ⟨_, rfl, ⟨bz_t (by simp only [fitsB, Bool.and_eq_false_iff, Bool.and_eq_true, decide_eq_false_iff_not, decide_eq_true_eq]; omega), rfl⟩⟩
