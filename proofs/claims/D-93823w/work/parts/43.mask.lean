/-! THE MODEL: what is asked of rules and values -/
set_option maxRecDepth 100000
def oDay (o : OS) (d : Nat → Int32) (sd : Int32) : OS := (o.1, d, sd, o.2.2.2)
def spSeed (o : OS) (v : Int32) : Int32 × OS := (o.2.2.1, oDay o o.2.1 v)
def spDay (o : OS) (w : Int32) : Int32 × OS := el (rgb 0 5 w) (badM o 2) fun w => (o.2.1 w, o)
def heldTo (o : OS) (n : Nat) : Nat := sumTo (fun s => if o.2.2.2.1 0 s = 0 then 0 else 1) n
def spStatus (o : OS) (w : Int32) : Int32 := el (rgb 0 11 w) (el (rgb 12 16 w) (-1) fun w => o.2.2.2.2.2.2.2 (w - 10)) fun w => if w = 0 then nI (o.1.2 0) else if w ≤ 3 then nI (o.1.1 0 (w - 1)) else if w ≤ 6 then nI (o.1.1 1 (w - 4)) else if w = 7 then nI o.2.2.2.2.2.2.1 else if w = 8 then o.2.2.1 else if w = 9 then nI (heldTo o 8) else nI (o.1.2 (w - 9))
def mxV (p : Nat → Bool) (f : Nat → Int64) (k : Nat) : Int64 := match mxTo p f k with
  | none => 0
  | some y => f y
section MX
variable {p : Nat → Bool} {f : Nat → Int64} {k : Nat}
theorem mx_no (h : p k = false) : mxTo p f (k + 1) = mxTo p f k := by
  simp only [mxTo]
  split
  · next q => rw [q, if_neg (by rw [h]; exact Bool.false_ne_true)]
  · next y q => rw [q, if_neg (fun x => by rw [h] at x; exact Bool.false_ne_true x.1)]
theorem mx_new (h : p k = true) (hn : mxTo p f k = none) : mxTo p f (k + 1) = some k := by simp only [mxTo, hn]; exact if_pos h
theorem mx_gt (h : p k = true) (hn : ¬ mxTo p f k = none) (hv : mxV p f k < f k) : mxTo p f (k + 1) = some k := by
  simp only [mxTo]
  split
  · next q => exact absurd q hn
  · next y q =>
    have e : mxV p f k = f y := by unfold mxV; rw [q]
    rw [e] at hv
    exact if_pos ⟨h, hv⟩
theorem mx_le (hn : ¬ mxTo p f k = none) (hv : ¬ mxV p f k < f k) : mxTo p f (k + 1) = mxTo p f k := by
  simp only [mxTo]
  split
  · next q => exact absurd q hn
  · next y q =>
    have e : mxV p f k = f y := by unfold mxV; rw [q]
    rw [e] at hv
    rw [if_neg (fun x => hv x.2), q]
theorem mxV_of {j : Nat} (h : mxTo p f k = some j) : mxV p f k = f j := by unfold mxV; rw [h]
theorem mxV_eq {j : Nat} (h : mxTo p f k = mxTo p f j) : mxV p f k = mxV p f j := by unfold mxV; rw [h]
theorem mxTo_lt : ∀ k y, mxTo p f k = some y → y < k ∧ p y = true := by
  intro k
  induction k with
  | zero => intro y h; cases h
  | succ k ih =>
    intro y h
    simp only [mxTo] at h
    split at h
    · split at h
      · next q => cases h; exact ⟨Nat.lt_succ_self _, q⟩
      · cases h
    · next z q =>
      split at h
      · next q2 => cases h; exact ⟨Nat.lt_succ_self _, q2.1⟩
      · cases h; exact ⟨Nat.lt_succ_of_lt (ih _ q).1, (ih _ q).2⟩
end MX
theorem MT.sd {o : OS} {m : MSt} (h : MT o m) {v : Int32} : MT (oDay o o.2.1 v) (mF m 17 v) := by
  obtain ⟨a, b, c, d, e, f, g, i⟩ := h
  exact ⟨a, b, rfl, d, e, f, g, i⟩
/-- what a look for a rule finds -/
def RuleQ (o : OS) (s : Int32) (r : Int32) (m2 : MSt) (x y : Nat) : Prop := (rgb 0 7 s = none ∧ r = (-2) ∧ MT (oRef o 2) m2) ∨ ∃ k, k ≤ 7 ∧ s = nI k ∧ rgb 0 7 (nI k) = some k ∧ ((o.2.2.2.1 0 k = x ∧ r = (-3) ∧ MT (oRef o 3) m2) ∨ (o.2.2.2.1 0 k = 0 ∧ r = (-4) ∧ MT (oRef o 4) m2) ∨ (o.2.2.2.1 0 k = y ∧ r = nI 0 ∧ MT o m2))
def ValQ (o : OS) (s n : Int32) (r : Int64) (m2 : MSt) : Prop := (rgb 0 7 s = none ∧ r = (-2 : Int32).toInt64 ∧ MT (oRef o 2) m2) ∨ ∃ k, k ≤ 7 ∧ s = nI k ∧ rgb 0 7 (nI k) = some k ∧ ((rgb 0 24 n = none ∧ r = (-2 : Int32).toInt64 ∧ MT (oRef o 2) m2) ∨ ∃ j, j ≤ 24 ∧ n = nI j ∧ rgb 0 24 (nI j) = some j ∧ ((o.2.2.2.1 0 k = 1 ∧ r = (-3 : Int32).toInt64 ∧ MT (oRef o 3) m2) ∨ (o.2.2.2.1 0 k = 0 ∧ r = (-4 : Int32).toInt64 ∧ MT (oRef o 4) m2) ∨ (o.2.2.2.1 0 k = 2 ∧ r = lN 0 ∧ MT o m2)))
set_option maxHeartbeats 2000000 in
theorem m_X4_noRule {l : Launch} {G : GG} {wb w : GW} {ad : Nat → Nat} {m : MSt} (hM : MM G wb w ad m) {o : OS} (hT : MT o m) (hO : oInv o) {s : Int32} : gM l G yX4_noRule cX4_noRule 2 (some .int) 2 0 0 [.ref (ad 0), .int (s)] w (pI (fun r w1 => ∃ m2, MM G wb w1 ad m2 ∧ RuleQ o s r m2 1 2)) := by
  refine Z.met (own := "ThreeSizesModel") (nm := "noRule") (lv := [(0, .ref (ad 0)), (1, .int (s))]) (by decide) rfl rfl (Nat.le_of_ble_eq_true rfl) rfl (fun κ X => ?_)
  have hI := hO.1
  have h6 := hI.2.1
  refine z_iload_n X dX4_noRule_0 rfl 1 rfl ?_
  refine z_i2l (v := (s).toInt64) X dX4_noRule_1 rfl ?_
  refine z_lconst (v := lN 0) X dX4_noRule_2 cl0 ?_
  refine z_ldc2 X dX4_noRule_3 q1540 ?_
  refine z_cip (z_runS (rest := []) (n := 3) X [.long ((s).toInt64), .long (lN (0)), .long ((7))] m_X4_in dX4_noRule_6 (lw_S q1541 q1542 q70 q1543) hs_X4_in rfl ⟨Nat.le_of_ble_eq_true rfl, Nat.le_of_ble_eq_true rfl⟩ ⟨by omega, by omega⟩ rfl (Nat.le_of_ble_eq_true rfl)) ?_
  refine z_if_ne (tgt := 19) X dX4_noRule_9 (by decide) bI_d (fun c1 => ?_) (fun c1 => ?_)
  · have c1 := Classical.not_not.mp c1
    obtain ⟨sN, sNl, sNh, rfl, e1⟩ := rgb_t (lo := 0) (hi := 7) (by decide) (by decide) ((in32 (lo := nI 0) (hi := nI 7)).mp c1)
    have hq := hO.2.1 sN (by omega)
    refine z_aload_n X dX4_noRule_19 rfl 0 rfl ?_
    refine z_mg0 X hM dX4_noRule_20 ?_
    refine z_iload_n X dX4_noRule_23 rfl 1 rfl ?_
    refine z_iaN (v := nI (o.2.2.2.1 0 sN)) X dX4_noRule_24 (mm_1 hM) (by omega) (by omega) ((hT.2.2.2.1 sN (by omega)).1) ?_
    refine z_iconst (v := nI (1)) X dX4_noRule_25 ci1 ?_
    refine z_icmp_ne (tgt := 36) X dX4_noRule_26 (by decide) (nI_eq (by omega) (by omega)) (fun c2 => ?_) (fun c2 => ?_)
    · refine z_aload_n X dX4_noRule_36 rfl 0 rfl ?_
      refine z_mg0 X hM dX4_noRule_37 ?_
      refine z_iload_n X dX4_noRule_40 rfl 1 rfl ?_
      refine z_iaN (v := nI (o.2.2.2.1 0 sN)) X dX4_noRule_41 (mm_1 hM) (by omega) (by omega) ((hT.2.2.2.1 sN (by omega)).1) ?_
      refine z_if_ne (tgt := 54) X dX4_noRule_42 (by decide) (nz_eq (by omega)) (fun c3 => ?_) (fun c3 => ?_)
      · refine z_iconst (v := nI (0)) X dX4_noRule_54 ci0 ?_
        exact z_iret X dX4_noRule_55 (by omega) (by omega) ⟨_, rfl, ⟨_, hM, by first | exact Or.inl ⟨by assumption, rfl, hT⟩ | exact Or.inr ⟨_, by omega, rfl, by assumption, Or.inl ⟨by first | assumption | omega, rfl, hT⟩⟩ | exact Or.inr ⟨_, by omega, rfl, by assumption, Or.inr <| Or.inl ⟨by first | assumption | omega, rfl, hT⟩⟩ | exact Or.inr ⟨_, by omega, rfl, by assumption, Or.inr <| Or.inr ⟨by first | assumption | omega, rfl, hT⟩⟩⟩⟩
      · refine z_aload_n X dX4_noRule_45 rfl 0 rfl ?_
        refine z_bipush (v := (-4)) X dX4_noRule_46 (by decide) ?_
        refine z_ci (z_runV (rest := []) (n := 1) X [.int ((-4))] (m_X4_refuse hM (k := 4) (by decide) (v := (-4)) rfl) dX4_noRule_48 (mm_o hM) rfl (lw_V q1546 q1548 qs27 q70 q1549) hv_X4_refuse rfl ⟨Nat.le_of_ble_eq_true rfl, Nat.le_of_ble_eq_true rfl⟩ ⟨by omega, by omega⟩ rfl (Nat.le_of_ble_eq_true rfl)) (fun r4 w6 h5 => ?_)
        obtain ⟨hM5, r4e⟩ := h5
        rw [r4e]
        have hT5 := MT.ref hT (k := 4) (by decide)
        refine z_goto (tgt := 55) X dX4_noRule_51 (by decide) ?_
        exact z_iret X dX4_noRule_55 (by omega) (by omega) ⟨_, rfl, ⟨_, hM5, by first | exact Or.inl ⟨by assumption, rfl, hT5⟩ | exact Or.inr ⟨_, by omega, rfl, by assumption, Or.inl ⟨by first | assumption | omega, rfl, hT5⟩⟩ | exact Or.inr ⟨_, by omega, rfl, by assumption, Or.inr <| Or.inl ⟨by first | assumption | omega, rfl, hT5⟩⟩ | exact Or.inr ⟨_, by omega, rfl, by assumption, Or.inr <| Or.inr ⟨by first | assumption | omega, rfl, hT5⟩⟩⟩⟩
    · refine z_aload_n X dX4_noRule_29 rfl 0 rfl ?_
      refine z_bipush (v := (-3)) X dX4_noRule_30 (by decide) ?_
      refine z_ci (z_runV (rest := []) (n := 1) X [.int ((-3))] (m_X4_refuse hM (k := 3) (by decide) (v := (-3)) rfl) dX4_noRule_32 (mm_o hM) rfl (lw_V q1546 q1548 qs27 q70 q1549) hv_X4_refuse rfl ⟨Nat.le_of_ble_eq_true rfl, Nat.le_of_ble_eq_true rfl⟩ ⟨by omega, by omega⟩ rfl (Nat.le_of_ble_eq_true rfl)) (fun r7 w9 h8 => ?_)
      obtain ⟨hM8, r7e⟩ := h8
      rw [r7e]
      have hT8 := MT.ref hT (k := 3) (by decide)
      exact z_iret X dX4_noRule_35 (by omega) (by omega) ⟨_, rfl, ⟨_, hM8, by first | exact Or.inl ⟨by assumption, rfl, hT8⟩ | exact Or.inr ⟨_, by omega, rfl, by assumption, Or.inl ⟨by first | assumption | omega, rfl, hT8⟩⟩ | exact Or.inr ⟨_, by omega, rfl, by assumption, Or.inr <| Or.inl ⟨by first | assumption | omega, rfl, hT8⟩⟩ | exact Or.inr ⟨_, by omega, rfl, by assumption, Or.inr <| Or.inr ⟨by first | assumption | omega, rfl, hT8⟩⟩⟩⟩
  · have e2 : rgb 0 7 s = none := rgb_f (fun q => c1 ((in32 (lo := nI 0) (hi := nI 7)).mpr q))
    refine z_aload_n X dX4_noRule_12 rfl 0 rfl ?_
    refine z_bipush (v := (-2)) X dX4_noRule_13 (by decide) ?_
    refine z_ci (z_runV (rest := []) (n := 1) X [.int ((-2))] (m_X4_refuse hM (k := 2) (by decide) (v := (-2)) rfl) dX4_noRule_15 (mm_o hM) rfl (lw_V q1546 q1548 qs27 q70 q1549) hv_X4_refuse rfl ⟨Nat.le_of_ble_eq_true rfl, Nat.le_of_ble_eq_true rfl⟩ ⟨by omega, by omega⟩ rfl (Nat.le_of_ble_eq_true rfl)) (fun r10 w12 h11 => ?_)
    obtain ⟨hM11, r10e⟩ := h11
    rw [r10e]
    have hT11 := MT.ref hT (k := 2) (by decide)
    exact z_iret X dX4_noRule_18 (by omega) (by omega) ⟨_, rfl, ⟨_, hM11, by first | exact Or.inl ⟨by assumption, rfl, hT11⟩ | exact Or.inr ⟨_, by omega, rfl, by assumption, Or.inl ⟨by first | assumption | omega, rfl, hT11⟩⟩ | exact Or.inr ⟨_, by omega, rfl, by assumption, Or.inr <| Or.inl ⟨by first | assumption | omega, rfl, hT11⟩⟩ | exact Or.inr ⟨_, by omega, rfl, by assumption, Or.inr <| Or.inr ⟨by first | assumption | omega, rfl, hT11⟩⟩⟩⟩
set_option maxHeartbeats 2000000 in
theorem m_X4_noRow {l : Launch} {G : GG} {wb w : GW} {ad : Nat → Nat} {m : MSt} (hM : MM G wb w ad m) {o : OS} (hT : MT o m) (hO : oInv o) {s : Int32} : gM l G yX4_noRow cX4_noRow 2 (some .int) 2 0 0 [.ref (ad 0), .int (s)] w (pI (fun r w1 => ∃ m2, MM G wb w1 ad m2 ∧ RuleQ o s r m2 2 1)) := by
  refine Z.met (own := "ThreeSizesModel") (nm := "noRow") (lv := [(0, .ref (ad 0)), (1, .int (s))]) (by decide) rfl rfl (Nat.le_of_ble_eq_true rfl) rfl (fun κ X => ?_)
  have hI := hO.1
  have h6 := hI.2.1
  refine z_iload_n X dX4_noRow_0 rfl 1 rfl ?_
  refine z_i2l (v := (s).toInt64) X dX4_noRow_1 rfl ?_
  refine z_lconst (v := lN 0) X dX4_noRow_2 cl0 ?_
  refine z_ldc2 X dX4_noRow_3 q1540 ?_
  refine z_cip (z_runS (rest := []) (n := 3) X [.long ((s).toInt64), .long (lN (0)), .long ((7))] m_X4_in dX4_noRow_6 (lw_S q1541 q1542 q70 q1543) hs_X4_in rfl ⟨Nat.le_of_ble_eq_true rfl, Nat.le_of_ble_eq_true rfl⟩ ⟨by omega, by omega⟩ rfl (Nat.le_of_ble_eq_true rfl)) ?_
  refine z_if_ne (tgt := 19) X dX4_noRow_9 (by decide) bI_d (fun c1 => ?_) (fun c1 => ?_)
  · have c1 := Classical.not_not.mp c1
    obtain ⟨sN, sNl, sNh, rfl, e1⟩ := rgb_t (lo := 0) (hi := 7) (by decide) (by decide) ((in32 (lo := nI 0) (hi := nI 7)).mp c1)
    have hq := hO.2.1 sN (by omega)
    refine z_aload_n X dX4_noRow_19 rfl 0 rfl ?_
    refine z_mg0 X hM dX4_noRow_20 ?_
    refine z_iload_n X dX4_noRow_23 rfl 1 rfl ?_
    refine z_iaN (v := nI (o.2.2.2.1 0 sN)) X dX4_noRow_24 (mm_1 hM) (by omega) (by omega) ((hT.2.2.2.1 sN (by omega)).1) ?_
    refine z_iconst (v := nI (2)) X dX4_noRow_25 ci2 ?_
    refine z_icmp_ne (tgt := 36) X dX4_noRow_26 (by decide) (nI_eq (by omega) (by omega)) (fun c2 => ?_) (fun c2 => ?_)
    · refine z_aload_n X dX4_noRow_36 rfl 0 rfl ?_
      refine z_mg0 X hM dX4_noRow_37 ?_
      refine z_iload_n X dX4_noRow_40 rfl 1 rfl ?_
      refine z_iaN (v := nI (o.2.2.2.1 0 sN)) X dX4_noRow_41 (mm_1 hM) (by omega) (by omega) ((hT.2.2.2.1 sN (by omega)).1) ?_
      refine z_if_ne (tgt := 54) X dX4_noRow_42 (by decide) (nz_eq (by omega)) (fun c3 => ?_) (fun c3 => ?_)
      · refine z_iconst (v := nI (0)) X dX4_noRow_54 ci0 ?_
        exact z_iret X dX4_noRow_55 (by omega) (by omega) ⟨_, rfl, ⟨_, hM, by first | exact Or.inl ⟨by assumption, rfl, hT⟩ | exact Or.inr ⟨_, by omega, rfl, by assumption, Or.inl ⟨by first | assumption | omega, rfl, hT⟩⟩ | exact Or.inr ⟨_, by omega, rfl, by assumption, Or.inr <| Or.inl ⟨by first | assumption | omega, rfl, hT⟩⟩ | exact Or.inr ⟨_, by omega, rfl, by assumption, Or.inr <| Or.inr ⟨by first | assumption | omega, rfl, hT⟩⟩⟩⟩
      · refine z_aload_n X dX4_noRow_45 rfl 0 rfl ?_
        refine z_bipush (v := (-4)) X dX4_noRow_46 (by decide) ?_
        refine z_ci (z_runV (rest := []) (n := 1) X [.int ((-4))] (m_X4_refuse hM (k := 4) (by decide) (v := (-4)) rfl) dX4_noRow_48 (mm_o hM) rfl (lw_V q1546 q1548 qs27 q70 q1549) hv_X4_refuse rfl ⟨Nat.le_of_ble_eq_true rfl, Nat.le_of_ble_eq_true rfl⟩ ⟨by omega, by omega⟩ rfl (Nat.le_of_ble_eq_true rfl)) (fun r4 w6 h5 => ?_)
        obtain ⟨hM5, r4e⟩ := h5
        rw [r4e]
        have hT5 := MT.ref hT (k := 4) (by decide)
        refine z_goto (tgt := 55) X dX4_noRow_51 (by decide) ?_
        exact z_iret X dX4_noRow_55 (by omega) (by omega) ⟨_, rfl, ⟨_, hM5, by first | exact Or.inl ⟨by assumption, rfl, hT5⟩ | exact Or.inr ⟨_, by omega, rfl, by assumption, Or.inl ⟨by first | assumption | omega, rfl, hT5⟩⟩ | exact Or.inr ⟨_, by omega, rfl, by assumption, Or.inr <| Or.inl ⟨by first | assumption | omega, rfl, hT5⟩⟩ | exact Or.inr ⟨_, by omega, rfl, by assumption, Or.inr <| Or.inr ⟨by first | assumption | omega, rfl, hT5⟩⟩⟩⟩
    · refine z_aload_n X dX4_noRow_29 rfl 0 rfl ?_
      refine z_bipush (v := (-3)) X dX4_noRow_30 (by decide) ?_
      refine z_ci (z_runV (rest := []) (n := 1) X [.int ((-3))] (m_X4_refuse hM (k := 3) (by decide) (v := (-3)) rfl) dX4_noRow_32 (mm_o hM) rfl (lw_V q1546 q1548 qs27 q70 q1549) hv_X4_refuse rfl ⟨Nat.le_of_ble_eq_true rfl, Nat.le_of_ble_eq_true rfl⟩ ⟨by omega, by omega⟩ rfl (Nat.le_of_ble_eq_true rfl)) (fun r7 w9 h8 => ?_)
      obtain ⟨hM8, r7e⟩ := h8
      rw [r7e]
      have hT8 := MT.ref hT (k := 3) (by decide)
      exact z_iret X dX4_noRow_35 (by omega) (by omega) ⟨_, rfl, ⟨_, hM8, by first | exact Or.inl ⟨by assumption, rfl, hT8⟩ | exact Or.inr ⟨_, by omega, rfl, by assumption, Or.inl ⟨by first | assumption | omega, rfl, hT8⟩⟩ | exact Or.inr ⟨_, by omega, rfl, by assumption, Or.inr <| Or.inl ⟨by first | assumption | omega, rfl, hT8⟩⟩ | exact Or.inr ⟨_, by omega, rfl, by assumption, Or.inr <| Or.inr ⟨by first | assumption | omega, rfl, hT8⟩⟩⟩⟩
  · have e2 : rgb 0 7 s = none := rgb_f (fun q => c1 ((in32 (lo := nI 0) (hi := nI 7)).mpr q))
    refine z_aload_n X dX4_noRow_12 rfl 0 rfl ?_
    refine z_bipush (v := (-2)) X dX4_noRow_13 (by decide) ?_
    refine z_ci (z_runV (rest := []) (n := 1) X [.int ((-2))] (m_X4_refuse hM (k := 2) (by decide) (v := (-2)) rfl) dX4_noRow_15 (mm_o hM) rfl (lw_V q1546 q1548 qs27 q70 q1549) hv_X4_refuse rfl ⟨Nat.le_of_ble_eq_true rfl, Nat.le_of_ble_eq_true rfl⟩ ⟨by omega, by omega⟩ rfl (Nat.le_of_ble_eq_true rfl)) (fun r10 w12 h11 => ?_)
    obtain ⟨hM11, r10e⟩ := h11
    rw [r10e]
    have hT11 := MT.ref hT (k := 2) (by decide)
    exact z_iret X dX4_noRow_18 (by omega) (by omega) ⟨_, rfl, ⟨_, hM11, by first | exact Or.inl ⟨by assumption, rfl, hT11⟩ | exact Or.inr ⟨_, by omega, rfl, by assumption, Or.inl ⟨by first | assumption | omega, rfl, hT11⟩⟩ | exact Or.inr ⟨_, by omega, rfl, by assumption, Or.inr <| Or.inl ⟨by first | assumption | omega, rfl, hT11⟩⟩ | exact Or.inr ⟨_, by omega, rfl, by assumption, Or.inr <| Or.inr ⟨by first | assumption | omega, rfl, hT11⟩⟩⟩⟩
set_option maxHeartbeats 2000000 in
theorem m_X4_noValue {l : Launch} {G : GG} {wb w : GW} {ad : Nat → Nat} {m : MSt} (hM : MM G wb w ad m) {o : OS} (hT : MT o m) (hO : oInv o) {s n : Int32} : gM l G yX4_noValue cX4_noValue 3 (some .long) 4 0 0 [.ref (ad 0), .int (s), .int (n)] w (pL (fun r w1 => ∃ m2, MM G wb w1 ad m2 ∧ ValQ o s n r m2)) := by
  refine Z.met (own := "ThreeSizesModel") (nm := "noValue") (lv := [(0, .ref (ad 0)), (1, .int (s)), (2, .int (n))]) (by decide) rfl rfl (Nat.le_of_ble_eq_true rfl) rfl (fun κ X => ?_)
  have hI := hO.1
  have h6 := hI.2.1
  refine z_iload_n X dX4_noValue_0 rfl 1 rfl ?_
  refine z_i2l (v := (s).toInt64) X dX4_noValue_1 rfl ?_
  refine z_lconst (v := lN 0) X dX4_noValue_2 cl0 ?_
  refine z_ldc2 X dX4_noValue_3 q1540 ?_
  refine z_cip (z_runS (rest := []) (n := 3) X [.long ((s).toInt64), .long (lN (0)), .long ((7))] m_X4_in dX4_noValue_6 (lw_S q1541 q1542 q70 q1543) hs_X4_in rfl ⟨Nat.le_of_ble_eq_true rfl, Nat.le_of_ble_eq_true rfl⟩ ⟨by omega, by omega⟩ rfl (Nat.le_of_ble_eq_true rfl)) ?_
  refine z_if_eq (tgt := 19) X dX4_noValue_9 (by decide) bI_d (fun c1 => ?_) (fun c1 => ?_)
  · have e1 : rgb 0 7 s = none := rgb_f (fun q => c1 ((in32 (lo := nI 0) (hi := nI 7)).mpr q))
    refine z_aload_n X dX4_noValue_19 rfl 0 rfl ?_
    refine z_bipush (v := (-2)) X dX4_noValue_20 (by decide) ?_
    refine z_ci (z_runV (rest := []) (n := 1) X [.int ((-2))] (m_X4_refuse hM (k := 2) (by decide) (v := (-2)) rfl) dX4_noValue_22 (mm_o hM) rfl (lw_V q1546 q1548 qs27 q70 q1549) hv_X4_refuse rfl ⟨Nat.le_of_ble_eq_true rfl, Nat.le_of_ble_eq_true rfl⟩ ⟨by omega, by omega⟩ rfl (Nat.le_of_ble_eq_true rfl)) (fun r2 w4 h3 => ?_)
    obtain ⟨hM3, r2e⟩ := h3
    rw [r2e]
    have hT3 := MT.ref hT (k := 2) (by decide)
    refine z_i2l (v := ((-2)).toInt64) X dX4_noValue_25 rfl ?_
    exact z_lret X dX4_noValue_26 (by omega) (by omega) ⟨_, rfl, ⟨_, hM3, by first | exact Or.inl ⟨by assumption, rfl, hT3⟩ | exact Or.inr ⟨_, by omega, rfl, by assumption, Or.inl ⟨by assumption, rfl, hT3⟩⟩ | exact Or.inr ⟨_, by omega, rfl, by assumption, Or.inr ⟨_, by omega, rfl, by assumption, Or.inl ⟨by first | assumption | omega, rfl, hT3⟩⟩⟩ | exact Or.inr ⟨_, by omega, rfl, by assumption, Or.inr ⟨_, by omega, rfl, by assumption, Or.inr <| Or.inl ⟨by first | assumption | omega, rfl, hT3⟩⟩⟩ | exact Or.inr ⟨_, by omega, rfl, by assumption, Or.inr ⟨_, by omega, rfl, by assumption, Or.inr <| Or.inr ⟨by first | assumption | omega, rfl, hT3⟩⟩⟩⟩⟩
  · have c1 := Classical.not_not.mp c1
    obtain ⟨sN, sNl, sNh, rfl, e2⟩ := rgb_t (lo := 0) (hi := 7) (by decide) (by decide) ((in32 (lo := nI 0) (hi := nI 7)).mp c1)
    refine z_iload_n X dX4_noValue_12 rfl 2 rfl ?_
    refine z_cip (z_runS (rest := []) (n := 1) X [.int (n)] (m_X4_areHours (v := n)) dX4_noValue_13 (lw_S q1797 q1798 q70 q1799) hs_X4_areHours rfl ⟨Nat.le_of_ble_eq_true rfl, Nat.le_of_ble_eq_true rfl⟩ ⟨by omega, by omega⟩ rfl (Nat.le_of_ble_eq_true rfl)) ?_
    refine z_if_ne (tgt := 27) X dX4_noValue_16 (by decide) bI_d (fun c5 => ?_) (fun c5 => ?_)
    · have c5 := Classical.not_not.mp c5
      obtain ⟨nN, nNl, nNh, rfl, e3⟩ := rgb_t (lo := 0) (hi := 24) (by decide) (by decide) (c5)
      refine z_aload_n X dX4_noValue_27 rfl 0 rfl ?_
      refine z_iload_n X dX4_noValue_28 rfl 1 rfl ?_
      refine z_ci (z_runV (rest := []) (n := 1) X [.int (nI (sN))] (m_X4_noRule hM hT hO (s := nI (sN))) dX4_noValue_29 (mm_o hM) rfl (lw_V q1785 q1787 qs53 q70 q1788) hv_X4_noRule rfl ⟨Nat.le_of_ble_eq_true rfl, Nat.le_of_ble_eq_true rfl⟩ ⟨by omega, by omega⟩ rfl (Nat.le_of_ble_eq_true rfl)) (fun r6 w8 h7 => ?_)
      obtain ⟨mv7, hM7, hQ7⟩ := h7
      rcases hQ7 with ⟨e4, rfl, hTn7⟩ | ⟨k10, k10h, k10e, e5, (⟨q9, rfl, hTn7⟩ | ⟨q9, rfl, hTn7⟩ | ⟨q9, rfl, hTn7⟩)⟩
      · exact absurd (rgb_nI (lo := 0) (hi := 7) (k := sN) (by omega) (by decide)) (by rw [e4]; exact fun h => by cases h)
      · obtain rfl : sN = k10 := (nI_eq (by omega) (by omega)).mp k10e
        refine z_i2l (v := ((-3)).toInt64) X dX4_noValue_32 rfl ?_
        exact z_lret X dX4_noValue_33 (by omega) (by omega) ⟨_, rfl, ⟨_, hM7, by first | exact Or.inl ⟨by assumption, rfl, hTn7⟩ | exact Or.inr ⟨_, by omega, rfl, by assumption, Or.inl ⟨by assumption, rfl, hTn7⟩⟩ | exact Or.inr ⟨_, by omega, rfl, by assumption, Or.inr ⟨_, by omega, rfl, by assumption, Or.inl ⟨by first | assumption | omega, rfl, hTn7⟩⟩⟩ | exact Or.inr ⟨_, by omega, rfl, by assumption, Or.inr ⟨_, by omega, rfl, by assumption, Or.inr <| Or.inl ⟨by first | assumption | omega, rfl, hTn7⟩⟩⟩ | exact Or.inr ⟨_, by omega, rfl, by assumption, Or.inr ⟨_, by omega, rfl, by assumption, Or.inr <| Or.inr ⟨by first | assumption | omega, rfl, hTn7⟩⟩⟩⟩⟩
      · obtain rfl : sN = k10 := (nI_eq (by omega) (by omega)).mp k10e
        refine z_i2l (v := ((-4)).toInt64) X dX4_noValue_32 rfl ?_
        exact z_lret X dX4_noValue_33 (by omega) (by omega) ⟨_, rfl, ⟨_, hM7, by first | exact Or.inl ⟨by assumption, rfl, hTn7⟩ | exact Or.inr ⟨_, by omega, rfl, by assumption, Or.inl ⟨by assumption, rfl, hTn7⟩⟩ | exact Or.inr ⟨_, by omega, rfl, by assumption, Or.inr ⟨_, by omega, rfl, by assumption, Or.inl ⟨by first | assumption | omega, rfl, hTn7⟩⟩⟩ | exact Or.inr ⟨_, by omega, rfl, by assumption, Or.inr ⟨_, by omega, rfl, by assumption, Or.inr <| Or.inl ⟨by first | assumption | omega, rfl, hTn7⟩⟩⟩ | exact Or.inr ⟨_, by omega, rfl, by assumption, Or.inr ⟨_, by omega, rfl, by assumption, Or.inr <| Or.inr ⟨by first | assumption | omega, rfl, hTn7⟩⟩⟩⟩⟩
      · obtain rfl : sN = k10 := (nI_eq (by omega) (by omega)).mp k10e
        refine z_i2l (v := lN (0)) X dX4_noValue_32 (nI_l (by omega)) ?_
        exact z_lret X dX4_noValue_33 (by omega) (by omega) ⟨_, rfl, ⟨_, hM7, by first | exact Or.inl ⟨by assumption, rfl, hTn7⟩ | exact Or.inr ⟨_, by omega, rfl, by assumption, Or.inl ⟨by assumption, rfl, hTn7⟩⟩ | exact Or.inr ⟨_, by omega, rfl, by assumption, Or.inr ⟨_, by omega, rfl, by assumption, Or.inl ⟨by first | assumption | omega, rfl, hTn7⟩⟩⟩ | exact Or.inr ⟨_, by omega, rfl, by assumption, Or.inr ⟨_, by omega, rfl, by assumption, Or.inr <| Or.inl ⟨by first | assumption | omega, rfl, hTn7⟩⟩⟩ | exact Or.inr ⟨_, by omega, rfl, by assumption, Or.inr ⟨_, by omega, rfl, by assumption, Or.inr <| Or.inr ⟨by first | assumption | omega, rfl, hTn7⟩⟩⟩⟩⟩
    · have e6 : rgb 0 24 n = none := rgb_f c5
      refine z_aload_n X dX4_noValue_19 rfl 0 rfl ?_
      refine z_bipush (v := (-2)) X dX4_noValue_20 (by decide) ?_
      refine z_ci (z_runV (rest := []) (n := 1) X [.int ((-2))] (m_X4_refuse hM (k := 2) (by decide) (v := (-2)) rfl) dX4_noValue_22 (mm_o hM) rfl (lw_V q1546 q1548 qs27 q70 q1549) hv_X4_refuse rfl ⟨Nat.le_of_ble_eq_true rfl, Nat.le_of_ble_eq_true rfl⟩ ⟨by omega, by omega⟩ rfl (Nat.le_of_ble_eq_true rfl)) (fun r11 w13 h12 => ?_)
      obtain ⟨hM12, r11e⟩ := h12
      rw [r11e]
      have hT12 := MT.ref hT (k := 2) (by decide)
      refine z_i2l (v := ((-2)).toInt64) X dX4_noValue_25 rfl ?_
      exact z_lret X dX4_noValue_26 (by omega) (by omega) ⟨_, rfl, ⟨_, hM12, by first | exact Or.inl ⟨by assumption, rfl, hT12⟩ | exact Or.inr ⟨_, by omega, rfl, by assumption, Or.inl ⟨by assumption, rfl, hT12⟩⟩ | exact Or.inr ⟨_, by omega, rfl, by assumption, Or.inr ⟨_, by omega, rfl, by assumption, Or.inl ⟨by first | assumption | omega, rfl, hT12⟩⟩⟩ | exact Or.inr ⟨_, by omega, rfl, by assumption, Or.inr ⟨_, by omega, rfl, by assumption, Or.inr <| Or.inl ⟨by first | assumption | omega, rfl, hT12⟩⟩⟩ | exact Or.inr ⟨_, by omega, rfl, by assumption, Or.inr ⟨_, by omega, rfl, by assumption, Or.inr <| Or.inr ⟨by first | assumption | omega, rfl, hT12⟩⟩⟩⟩⟩
set_option maxHeartbeats 2000000 in
theorem m_X4_seed {l : Launch} {G : GG} {wb w : GW} {ad : Nat → Nat} {m : MSt} (hM : MM G wb w ad m) {o : OS} (hT : MT o m) (hO : oInv o) {v : Int32} : gM l G yX4_seed cX4_seed 3 (some .int) 1 0 0 [.ref (ad 0), .int (v)] w (pI (fun r w1 => ∃ m2, MM G wb w1 ad m2 ∧ MT (spSeed o v).2 m2 ∧ r = (spSeed o v).1)) := by
  refine Z.met (own := "ThreeSizesModel") (nm := "seed") (lv := [(0, .ref (ad 0)), (1, .int (v))]) (by decide) rfl rfl (Nat.le_of_ble_eq_true rfl) rfl (fun κ X => ?_)
  have hI := hO.1
  have h6 := hI.2.1
  have ht200 := hO.2.2.2
  refine z_aload_n X dX4_seed_0 rfl 0 rfl ?_
  refine z_mgv17 X hM dX4_seed_1 hT.2.2.1 ?_
  refine z_istore_n (lv2 := [(2, .int (o.2.2.1)), (0, .ref (ad 0)), (1, .int (v))]) X dX4_seed_4 rfl (Nat.le_of_ble_eq_true rfl) rfl ?_
  refine z_aload_n X dX4_seed_5 rfl 1 rfl ?_
  refine z_iload_n X dX4_seed_6 rfl 2 rfl ?_
  refine z_mp17 X hM dX4_seed_7 (fun u1 hM1 => ?_)
  refine z_iload_n X dX4_seed_10 rfl 0 rfl ?_
  have e : spSeed o v = (o.2.2.1, oDay o o.2.1 v) := by
    unfold spSeed
    repeat (first | rw [el_some (by assumption)] | rw [el_none (by assumption)] | rw [if_pos (by omega)] | rw [if_neg (by omega)] | rw [if_pos (by assumption)] | rw [if_neg (ts_n (by assumption))])
    all_goals first | rfl | (exfalso; omega)
  exact z_iret X dX4_seed_11 (by omega) (by omega) ⟨_, rfl, (by rw [e]; exact ⟨_, hM1, hT.sd, rfl⟩)⟩
set_option maxHeartbeats 2000000 in
theorem m_X4_day {l : Launch} {G : GG} {wb w : GW} {ad : Nat → Nat} {m : MSt} (hM : MM G wb w ad m) {o : OS} (hT : MT o m) (hO : oInv o) {w_ : Int32} : gM l G yX4_day cX4_day 2 (some .int) 2 0 0 [.ref (ad 0), .int (w_)] w (pI (fun r w1 => ∃ m2, MM G wb w1 ad m2 ∧ MT (spDay o w_).2 m2 ∧ r = (spDay o w_).1)) := by
  refine Z.met (own := "ThreeSizesModel") (nm := "day") (lv := [(0, .ref (ad 0)), (1, .int (w_))]) (by decide) rfl rfl (Nat.le_of_ble_eq_true rfl) rfl (fun κ X => ?_)
  have hI := hO.1
  have h6 := hI.2.1
  have ht200 := hO.2.2.2
  refine z_iload_n X dX4_day_0 rfl 1 rfl ?_
  refine z_i2l (v := (w_).toInt64) X dX4_day_1 rfl ?_
  refine z_lconst (v := lN 0) X dX4_day_2 cl0 ?_
  refine z_ldc2 X dX4_day_3 q1930 ?_
  refine z_cip (z_runS (rest := []) (n := 3) X [.long ((w_).toInt64), .long (lN (0)), .long ((5))] m_X4_in dX4_day_6 (lw_S q1541 q1542 q70 q1543) hs_X4_in rfl ⟨Nat.le_of_ble_eq_true rfl, Nat.le_of_ble_eq_true rfl⟩ ⟨by omega, by omega⟩ rfl (Nat.le_of_ble_eq_true rfl)) ?_
  refine z_if_eq (tgt := 21) X dX4_day_9 (by decide) bI_d (fun c1 => ?_) (fun c1 => ?_)
  · have e1 : rgb 0 5 w_ = none := rgb_f (fun q => c1 ((in32 (lo := nI 0) (hi := nI 5)).mpr q))
    refine z_aload_n X dX4_day_21 rfl 0 rfl ?_
    refine z_bipush (v := (-2)) X dX4_day_22 (by decide) ?_
    refine z_ci (z_runV (rest := []) (n := 1) X [.int ((-2))] (m_X4_refuse hM (k := 2) (by decide) (v := (-2)) rfl) dX4_day_24 (mm_o hM) rfl (lw_V q1546 q1548 qs27 q70 q1549) hv_X4_refuse rfl ⟨Nat.le_of_ble_eq_true rfl, Nat.le_of_ble_eq_true rfl⟩ ⟨by omega, by omega⟩ rfl (Nat.le_of_ble_eq_true rfl)) (fun r2 w4 h3 => ?_)
    obtain ⟨hM3, r2e⟩ := h3
    rw [r2e]
    have hT3 := MT.ref hT (k := 2) (by decide)
    refine z_ldcw X dX4_day_27 q1916 ?_
    refine z_isub (v := (-2) - (1000000)) X dX4_day_30 rfl ?_
    have e : spDay o w_ = ((-2) - (1000000), oRef o 2) := by
      unfold spDay
      repeat (first | rw [el_some (by assumption)] | rw [el_none (by assumption)] | rw [if_pos (by omega)] | rw [if_neg (by omega)] | rw [if_pos (by assumption)] | rw [if_neg (ts_n (by assumption))])
      all_goals first | rfl | (exfalso; omega)
    exact z_iret X dX4_day_31 (by omega) (by omega) ⟨_, rfl, (by rw [e]; exact ⟨_, hM3, hT3, rfl⟩)⟩
  · have c1 := Classical.not_not.mp c1
    obtain ⟨w_N, w_Nl, w_Nh, rfl, e2⟩ := rgb_t (lo := 0) (hi := 5) (by decide) (by decide) ((in32 (lo := nI 0) (hi := nI 5)).mp c1)
    refine z_aload_n X dX4_day_12 rfl 0 rfl ?_
    refine z_mg16 X hM dX4_day_13 ?_
    refine z_iload_n X dX4_day_16 rfl 1 rfl ?_
    refine z_iaN (v := o.2.1 w_N) X dX4_day_17 (mm_17 hM) (by omega) (by omega) (hT.2.1 w_N (by omega)) ?_
    refine z_goto (tgt := 31) X dX4_day_18 (by decide) ?_
    have e : spDay o (nI w_N) = (o.2.1 w_N, o) := by
      unfold spDay
      repeat (first | rw [el_some (by assumption)] | rw [el_none (by assumption)] | rw [if_pos (by omega)] | rw [if_neg (by omega)] | rw [if_pos (by assumption)] | rw [if_neg (ts_n (by assumption))])
      all_goals first | rfl | (exfalso; omega)
    exact z_iret X dX4_day_31 (by omega) (by omega) ⟨_, rfl, (by rw [e]; exact ⟨_, hM, hT, rfl⟩)⟩
set_option maxHeartbeats 2000000 in
theorem m_X4_best {l : Launch} {G : GG} {wb w : GW} {ad : Nat → Nat} {m : MSt} (hM : MM G wb w ad m) {o : OS} (hT : MT o m) (hO : oInv o) {n : Int32} : gM l G yX4_best cX4_best 2 (some .long) 10 0 0 [.ref (ad 0), .int (n)] w (pL (fun r w1 => ∃ m2, MM G wb w1 ad m2 ∧ MT (spBest o n).2 m2 ∧ r = (spBest o n).1)) := by
  refine Z.met (own := "ThreeSizesModel") (nm := "best") (lv := [(0, .ref (ad 0)), (1, .int (n))]) (by decide) rfl rfl (Nat.le_of_ble_eq_true rfl) rfl (fun κ X => ?_)
  have hI := hO.1
  have h6 := hI.2.1
  have ht200 := hO.2.2.2
  refine z_iload_n X dX4_best_0 rfl 1 rfl ?_
  refine z_cip (z_runS (rest := []) (n := 1) X [.int (n)] (m_X4_areHours (v := n)) dX4_best_1 (lw_S q1797 q1798 q70 q1799) hs_X4_areHours rfl ⟨Nat.le_of_ble_eq_true rfl, Nat.le_of_ble_eq_true rfl⟩ ⟨by omega, by omega⟩ rfl (Nat.le_of_ble_eq_true rfl)) ?_
  refine z_if_eq (tgt := 15) X dX4_best_4 (by decide) bI_d (fun c1 => ?_) (fun c1 => ?_)
  · have e1 : rgb 0 24 n = none := rgb_f c1
    refine z_ldc2 X dX4_best_15 q1780 ?_
    refine z_aload_n X dX4_best_18 rfl 0 rfl ?_
    refine z_bipush (v := (-2)) X dX4_best_19 (by decide) ?_
    refine z_ci (z_runV (rest := [.long ((-1000000000000))]) (n := 1) X [.int ((-2))] (m_X4_refuse hM (k := 2) (by decide) (v := (-2)) rfl) dX4_best_21 (mm_o hM) rfl (lw_V q1546 q1548 qs27 q70 q1549) hv_X4_refuse rfl ⟨Nat.le_of_ble_eq_true rfl, Nat.le_of_ble_eq_true rfl⟩ ⟨by omega, by omega⟩ rfl (Nat.le_of_ble_eq_true rfl)) (fun r2 w4 h3 => ?_)
    obtain ⟨hM3, r2e⟩ := h3
    rw [r2e]
    have hT3 := MT.ref hT (k := 2) (by decide)
    refine z_i2l (v := ((-2)).toInt64) X dX4_best_24 rfl ?_
    refine z_ladd (v := (-1000000000000) + (((-2)).toInt64)) X dX4_best_25 rfl ?_
    have e : spBest o n = ((-1000000000000) + (((-2)).toInt64), oRef o 2) := by
      unfold spBest
      repeat (first | rw [el_some (by assumption)] | rw [el_none (by assumption)] | rw [if_pos (by omega)] | rw [if_neg (by omega)] | rw [if_pos (by assumption)] | rw [if_neg (ts_n (by assumption))])
      all_goals first | rfl | (exfalso; omega)
    exact z_lret X dX4_best_26 (by omega) (by omega) ⟨_, rfl, (by rw [e]; exact ⟨_, hM3, hT3, rfl⟩)⟩
  · have c1 := Classical.not_not.mp c1
    obtain ⟨nN, nNl, nNh, rfl, e2⟩ := rgb_t (lo := 0) (hi := 24) (by decide) (by decide) (c1)
    refine z_aload_n X dX4_best_7 rfl 0 rfl ?_
    refine z_iload_n X dX4_best_8 rfl 1 rfl ?_
    refine z_cl (z_runV (rest := []) (n := 1) X [.int (nI (nN))] (m_X4_bestNow hM hT.1 hI (n := nN) (by omega)) dX4_best_9 (mm_o hM) rfl (lw_V q1809 q1811 qs56 q70 q1812) hv_X4_bestNow rfl ⟨Nat.le_of_ble_eq_true rfl, Nat.le_of_ble_eq_true rfl⟩ ⟨by omega, by omega⟩ rfl (Nat.le_of_ble_eq_true rfl)) (fun r5 w7 h6 => ?_)
    obtain ⟨mv6, hM6, hQ6, r5e⟩ := h6
    rw [r5e]
    have hT6 := MT.KM hT hQ6
    refine z_goto (tgt := 26) X dX4_best_12 (by decide) ?_
    have e : spBest o (nI nN) = (bestV o.1 nN, o) := by
      unfold spBest
      repeat (first | rw [el_some (by assumption)] | rw [el_none (by assumption)] | rw [if_pos (by omega)] | rw [if_neg (by omega)] | rw [if_pos (by assumption)] | rw [if_neg (ts_n (by assumption))])
      all_goals first | rfl | (exfalso; omega)
    exact z_lret X dX4_best_26 (by omega) (by omega) ⟨_, rfl, (by rw [e]; exact ⟨_, hM6, hT6, rfl⟩)⟩
set_option maxHeartbeats 2000000 in
theorem m_X4_value {l : Launch} {G : GG} {wb w : GW} {ad : Nat → Nat} {m : MSt} (hM : MM G wb w ad m) {o : OS} (hT : MT o m) (hO : oInv o) {s n : Int32} : gM l G yX4_value cX4_value 5 (some .long) 9 0 0 [.ref (ad 0), .int (s), .int (n)] w (pL (fun r w1 => ∃ m2, MM G wb w1 ad m2 ∧ MT (spValue o s n).2 m2 ∧ r = (spValue o s n).1)) := by
  refine Z.met (own := "ThreeSizesModel") (nm := "value") (lv := [(0, .ref (ad 0)), (1, .int (s)), (2, .int (n))]) (by decide) rfl rfl (Nat.le_of_ble_eq_true rfl) rfl (fun κ X => ?_)
  have hI := hO.1
  have h6 := hI.2.1
  have ht200 := hO.2.2.2
  refine z_aload_n X dX4_value_0 rfl 0 rfl ?_
  refine z_iload_n X dX4_value_1 rfl 1 rfl ?_
  refine z_iload_n X dX4_value_2 rfl 2 rfl ?_
  refine z_cl (z_runV (rest := []) (n := 2) X [.int (s), .int (n)] (m_X4_noValue hM hT hO (s := s) (n := n)) dX4_value_3 (mm_o hM) rfl (lw_V q1793 q1795 qs54 q70 q1796) hv_X4_noValue rfl ⟨Nat.le_of_ble_eq_true rfl, Nat.le_of_ble_eq_true rfl⟩ ⟨by omega, by omega⟩ rfl (Nat.le_of_ble_eq_true rfl)) (fun r1 w3 h2 => ?_)
  obtain ⟨mv2, hM2, hQ2⟩ := h2
  rcases hQ2 with ⟨e1, rfl, hTn2⟩ | ⟨sN, sNh, rfl, e2, (⟨e1, rfl, hTn2⟩ | ⟨nN, nNh, rfl, e3, (⟨q4, rfl, hTn2⟩ | ⟨q4, rfl, hTn2⟩ | ⟨q4, rfl, hTn2⟩)⟩)⟩
  · skip
    refine z_lstore_n (lv2 := [(3, .long (((-2) : Int32).toInt64)), (0, .ref (ad 0)), (1, .int (s)), (2, .int (n))]) X dX4_value_6 rfl (Nat.le_of_ble_eq_true rfl) rfl ?_
    refine z_lload_n X dX4_value_7 rfl 0 rfl ?_
    refine z_lconst (v := lN 0) X dX4_value_8 cl0 ?_
    refine z_lcmp (v := lg_cmp (((-2) : Int32).toInt64) (lN (0))) X dX4_value_9 rfl ?_
    refine z_if_eq_f (tgt := 21) X dX4_value_10 (by decide) (fun h => absurd ((lg_cmp_eq _ _).mp h) (by decide)) ?_
    refine z_ldc2 X dX4_value_13 q1780 ?_
    refine z_lload_n X dX4_value_16 rfl 0 rfl ?_
    refine z_ladd (v := (-1000000000000) + (((-2) : Int32).toInt64)) X dX4_value_17 rfl ?_
    refine z_goto (tgt := 38) X dX4_value_18 (by decide) ?_
    have e : spValue o s n = ((-1000000000000) + (((-2) : Int32).toInt64), oRef o 2) := by
      unfold spValue
      repeat (first | rw [el_some (by assumption)] | rw [el_none (by assumption)] | rw [if_pos (by omega)] | rw [if_neg (by omega)] | rw [if_pos (by assumption)] | rw [if_neg (ts_n (by assumption))])
      all_goals first | rfl | (exfalso; omega)
    exact z_lret X dX4_value_38 (by omega) (by omega) ⟨_, rfl, (by rw [e]; exact ⟨_, hM2, hTn2, rfl⟩)⟩
  · skip
    refine z_lstore_n (lv2 := [(3, .long (((-2) : Int32).toInt64)), (0, .ref (ad 0)), (1, .int (nI (sN))), (2, .int (n))]) X dX4_value_6 rfl (Nat.le_of_ble_eq_true rfl) rfl ?_
    refine z_lload_n X dX4_value_7 rfl 0 rfl ?_
    refine z_lconst (v := lN 0) X dX4_value_8 cl0 ?_
    refine z_lcmp (v := lg_cmp (((-2) : Int32).toInt64) (lN (0))) X dX4_value_9 rfl ?_
    refine z_if_eq_f (tgt := 21) X dX4_value_10 (by decide) (fun h => absurd ((lg_cmp_eq _ _).mp h) (by decide)) ?_
    refine z_ldc2 X dX4_value_13 q1780 ?_
    refine z_lload_n X dX4_value_16 rfl 0 rfl ?_
    refine z_ladd (v := (-1000000000000) + (((-2) : Int32).toInt64)) X dX4_value_17 rfl ?_
    refine z_goto (tgt := 38) X dX4_value_18 (by decide) ?_
    have e : spValue o (nI sN) n = ((-1000000000000) + (((-2) : Int32).toInt64), oRef o 2) := by
      unfold spValue
      repeat (first | rw [el_some (by assumption)] | rw [el_none (by assumption)] | rw [if_pos (by omega)] | rw [if_neg (by omega)] | rw [if_pos (by assumption)] | rw [if_neg (ts_n (by assumption))])
      all_goals first | rfl | (exfalso; omega)
    exact z_lret X dX4_value_38 (by omega) (by omega) ⟨_, rfl, (by rw [e]; exact ⟨_, hM2, hTn2, rfl⟩)⟩
  · skip
    have hqsN := hO.2.1 sN (by omega)
    refine z_lstore_n (lv2 := [(3, .long (((-3) : Int32).toInt64)), (0, .ref (ad 0)), (1, .int (nI (sN))), (2, .int (nI (nN)))]) X dX4_value_6 rfl (Nat.le_of_ble_eq_true rfl) rfl ?_
    refine z_lload_n X dX4_value_7 rfl 0 rfl ?_
    refine z_lconst (v := lN 0) X dX4_value_8 cl0 ?_
    refine z_lcmp (v := lg_cmp (((-3) : Int32).toInt64) (lN (0))) X dX4_value_9 rfl ?_
    refine z_if_eq_f (tgt := 21) X dX4_value_10 (by decide) (fun h => absurd ((lg_cmp_eq _ _).mp h) (by decide)) ?_
    refine z_ldc2 X dX4_value_13 q1780 ?_
    refine z_lload_n X dX4_value_16 rfl 0 rfl ?_
    refine z_ladd (v := (-1000000000000) + (((-3) : Int32).toInt64)) X dX4_value_17 rfl ?_
    refine z_goto (tgt := 38) X dX4_value_18 (by decide) ?_
    have e : spValue o (nI sN) (nI nN) = ((-1000000000000) + (((-3) : Int32).toInt64), oRef o 3) := by
      unfold spValue
      repeat (first | rw [el_some (by assumption)] | rw [el_none (by assumption)] | rw [if_pos (by omega)] | rw [if_neg (by omega)] | rw [if_pos (by assumption)] | rw [if_neg (ts_n (by assumption))])
      all_goals first | rfl | (exfalso; omega)
    exact z_lret X dX4_value_38 (by omega) (by omega) ⟨_, rfl, (by rw [e]; exact ⟨_, hM2, hTn2, rfl⟩)⟩
  · skip
    have hqsN := hO.2.1 sN (by omega)
    refine z_lstore_n (lv2 := [(3, .long (((-4) : Int32).toInt64)), (0, .ref (ad 0)), (1, .int (nI (sN))), (2, .int (nI (nN)))]) X dX4_value_6 rfl (Nat.le_of_ble_eq_true rfl) rfl ?_
    refine z_lload_n X dX4_value_7 rfl 0 rfl ?_
    refine z_lconst (v := lN 0) X dX4_value_8 cl0 ?_
    refine z_lcmp (v := lg_cmp (((-4) : Int32).toInt64) (lN (0))) X dX4_value_9 rfl ?_
    refine z_if_eq_f (tgt := 21) X dX4_value_10 (by decide) (fun h => absurd ((lg_cmp_eq _ _).mp h) (by decide)) ?_
    refine z_ldc2 X dX4_value_13 q1780 ?_
    refine z_lload_n X dX4_value_16 rfl 0 rfl ?_
    refine z_ladd (v := (-1000000000000) + (((-4) : Int32).toInt64)) X dX4_value_17 rfl ?_
    refine z_goto (tgt := 38) X dX4_value_18 (by decide) ?_
    have e : spValue o (nI sN) (nI nN) = ((-1000000000000) + (((-4) : Int32).toInt64), oRef o 4) := by
      unfold spValue
      repeat (first | rw [el_some (by assumption)] | rw [el_none (by assumption)] | rw [if_pos (by omega)] | rw [if_neg (by omega)] | rw [if_pos (by assumption)] | rw [if_neg (ts_n (by assumption))])
      all_goals first | rfl | (exfalso; omega)
    exact z_lret X dX4_value_38 (by omega) (by omega) ⟨_, rfl, (by rw [e]; exact ⟨_, hM2, hTn2, rfl⟩)⟩
  · skip
    have hqsN := hO.2.1 sN (by omega)
    refine z_lstore_n (lv2 := [(3, .long (lN (0))), (0, .ref (ad 0)), (1, .int (nI (sN))), (2, .int (nI (nN)))]) X dX4_value_6 rfl (Nat.le_of_ble_eq_true rfl) rfl ?_
    refine z_lload_n X dX4_value_7 rfl 0 rfl ?_
    refine z_lconst (v := lN 0) X dX4_value_8 cl0 ?_
    refine z_lcmp (v := lg_cmp (lN (0)) (lN (0))) X dX4_value_9 rfl ?_
    refine z_if_eq_t (tgt := 21) X dX4_value_10 (by decide) ((lg_cmp_eq _ _).mpr rfl) ?_
    refine z_aload_n X dX4_value_21 rfl 1 rfl ?_
    refine z_aload_n X dX4_value_22 rfl 1 rfl ?_
    refine z_mg5 X hM2 dX4_value_23 ?_
    refine z_iload_n X dX4_value_26 rfl 2 rfl ?_
    refine z_iaN (v := nI (o.2.2.2.1 3 sN)) X dX4_value_27 (mm_6 hM2) (by omega) (by omega) ((hTn2.2.2.2.1 sN (by omega)).2.2.2.1) ?_
    refine z_aload_n X dX4_value_28 rfl 1 rfl ?_
    refine z_mg6 X hM2 dX4_value_29 ?_
    refine z_iload_n X dX4_value_32 rfl 2 rfl ?_
    refine z_iaN (v := nI (o.2.2.2.1 4 sN)) X dX4_value_33 (mm_7 hM2) (by omega) (by omega) ((hTn2.2.2.2.1 sN (by omega)).2.2.2.2) ?_
    refine z_iload_n X dX4_value_34 rfl 3 rfl ?_
    refine z_cl (z_runV (rest := []) (n := 3) X [.int (nI (o.2.2.2.1 3 sN)), .int (nI (o.2.2.2.1 4 sN)), .int (nI (nN))] (m_X4_valueBy hM2 hTn2.1 hI (a := o.2.2.2.1 4 sN) (n := nN) (by omega) (by omega) (kd := o.2.2.2.1 3 sN) (by omega)) dX4_value_35 (mm_o hM2) rfl (lw_V q1801 q1803 qs55 q70 q1804) hv_X4_valueBy rfl ⟨Nat.le_of_ble_eq_true rfl, Nat.le_of_ble_eq_true rfl⟩ ⟨by omega, by omega⟩ rfl (Nat.le_of_ble_eq_true rfl)) (fun r5 w7 h6 => ?_)
    obtain ⟨mv6, hM6, hQ6, r5e⟩ := h6
    rw [r5e]
    have hT6 := MT.KM hTn2 hQ6
    have e : spValue o (nI sN) (nI nN) = (vals o.1 (rgM o.1 (o.2.2.2.1 3 sN) (o.2.2.2.1 4 sN) (wiseT o.1 (o.2.2.2.1 4 sN))) nN (stOf o.1), o) := by
      unfold spValue
      repeat (first | rw [el_some (by assumption)] | rw [el_none (by assumption)] | rw [if_pos (by omega)] | rw [if_neg (by omega)] | rw [if_pos (by assumption)] | rw [if_neg (ts_n (by assumption))])
      all_goals first | rfl | (exfalso; omega)
    exact z_lret X dX4_value_38 (by omega) (by omega) ⟨_, rfl, (by rw [e]; exact ⟨_, hM6, hT6, rfl⟩)⟩
set_option maxHeartbeats 2000000 in
theorem m_X4_gap {l : Launch} {G : GG} {wb w : GW} {ad : Nat → Nat} {m : MSt} (hM : MM G wb w ad m) {o : OS} (hT : MT o m) (hO : oInv o) {s n : Int32} : gM l G yX4_gap cX4_gap 5 (some .long) 10 0 0 [.ref (ad 0), .int (s), .int (n)] w (pL (fun r w1 => ∃ m2, MM G wb w1 ad m2 ∧ MT (spGap o s n).2 m2 ∧ r = (spGap o s n).1)) := by
  refine Z.met (own := "ThreeSizesModel") (nm := "gap") (lv := [(0, .ref (ad 0)), (1, .int (s)), (2, .int (n))]) (by decide) rfl rfl (Nat.le_of_ble_eq_true rfl) rfl (fun κ X => ?_)
  have hI := hO.1
  have h6 := hI.2.1
  have ht200 := hO.2.2.2
  refine z_aload_n X dX4_gap_0 rfl 0 rfl ?_
  refine z_iload_n X dX4_gap_1 rfl 1 rfl ?_
  refine z_iload_n X dX4_gap_2 rfl 2 rfl ?_
  refine z_cl (z_runV (rest := []) (n := 2) X [.int (s), .int (n)] (m_X4_noValue hM hT hO (s := s) (n := n)) dX4_gap_3 (mm_o hM) rfl (lw_V q1793 q1795 qs54 q70 q1796) hv_X4_noValue rfl ⟨Nat.le_of_ble_eq_true rfl, Nat.le_of_ble_eq_true rfl⟩ ⟨by omega, by omega⟩ rfl (Nat.le_of_ble_eq_true rfl)) (fun r1 w3 h2 => ?_)
  obtain ⟨mv2, hM2, hQ2⟩ := h2
  rcases hQ2 with ⟨e1, rfl, hTn2⟩ | ⟨sN, sNh, rfl, e2, (⟨e1, rfl, hTn2⟩ | ⟨nN, nNh, rfl, e3, (⟨q4, rfl, hTn2⟩ | ⟨q4, rfl, hTn2⟩ | ⟨q4, rfl, hTn2⟩)⟩)⟩
  · skip
    refine z_lstore_n (lv2 := [(3, .long (((-2) : Int32).toInt64)), (0, .ref (ad 0)), (1, .int (s)), (2, .int (n))]) X dX4_gap_6 rfl (Nat.le_of_ble_eq_true rfl) rfl ?_
    refine z_lload_n X dX4_gap_7 rfl 0 rfl ?_
    refine z_lconst (v := lN 0) X dX4_gap_8 cl0 ?_
    refine z_lcmp (v := lg_cmp (((-2) : Int32).toInt64) (lN (0))) X dX4_gap_9 rfl ?_
    refine z_if_eq_f (tgt := 21) X dX4_gap_10 (by decide) (fun h => absurd ((lg_cmp_eq _ _).mp h) (by decide)) ?_
    refine z_ldc2 X dX4_gap_13 q1780 ?_
    refine z_lload_n X dX4_gap_16 rfl 0 rfl ?_
    refine z_ladd (v := (-1000000000000) + (((-2) : Int32).toInt64)) X dX4_gap_17 rfl ?_
    refine z_goto (tgt := 44) X dX4_gap_18 (by decide) ?_
    have e : spGap o s n = ((-1000000000000) + (((-2) : Int32).toInt64), oRef o 2) := by
      unfold spGap
      repeat (first | rw [el_some (by assumption)] | rw [el_none (by assumption)] | rw [if_pos (by omega)] | rw [if_neg (by omega)] | rw [if_pos (by assumption)] | rw [if_neg (ts_n (by assumption))])
      all_goals first | rfl | (exfalso; omega)
    exact z_lret X dX4_gap_44 (by omega) (by omega) ⟨_, rfl, (by rw [e]; exact ⟨_, hM2, hTn2, rfl⟩)⟩
  · skip
    refine z_lstore_n (lv2 := [(3, .long (((-2) : Int32).toInt64)), (0, .ref (ad 0)), (1, .int (nI (sN))), (2, .int (n))]) X dX4_gap_6 rfl (Nat.le_of_ble_eq_true rfl) rfl ?_
    refine z_lload_n X dX4_gap_7 rfl 0 rfl ?_
    refine z_lconst (v := lN 0) X dX4_gap_8 cl0 ?_
    refine z_lcmp (v := lg_cmp (((-2) : Int32).toInt64) (lN (0))) X dX4_gap_9 rfl ?_
    refine z_if_eq_f (tgt := 21) X dX4_gap_10 (by decide) (fun h => absurd ((lg_cmp_eq _ _).mp h) (by decide)) ?_
    refine z_ldc2 X dX4_gap_13 q1780 ?_
    refine z_lload_n X dX4_gap_16 rfl 0 rfl ?_
    refine z_ladd (v := (-1000000000000) + (((-2) : Int32).toInt64)) X dX4_gap_17 rfl ?_
    refine z_goto (tgt := 44) X dX4_gap_18 (by decide) ?_
    have e : spGap o (nI sN) n = ((-1000000000000) + (((-2) : Int32).toInt64), oRef o 2) := by
      unfold spGap
      repeat (first | rw [el_some (by assumption)] | rw [el_none (by assumption)] | rw [if_pos (by omega)] | rw [if_neg (by omega)] | rw [if_pos (by assumption)] | rw [if_neg (ts_n (by assumption))])
      all_goals first | rfl | (exfalso; omega)
    exact z_lret X dX4_gap_44 (by omega) (by omega) ⟨_, rfl, (by rw [e]; exact ⟨_, hM2, hTn2, rfl⟩)⟩
  · skip
    have hqsN := hO.2.1 sN (by omega)
    refine z_lstore_n (lv2 := [(3, .long (((-3) : Int32).toInt64)), (0, .ref (ad 0)), (1, .int (nI (sN))), (2, .int (nI (nN)))]) X dX4_gap_6 rfl (Nat.le_of_ble_eq_true rfl) rfl ?_
    refine z_lload_n X dX4_gap_7 rfl 0 rfl ?_
    refine z_lconst (v := lN 0) X dX4_gap_8 cl0 ?_
    refine z_lcmp (v := lg_cmp (((-3) : Int32).toInt64) (lN (0))) X dX4_gap_9 rfl ?_
    refine z_if_eq_f (tgt := 21) X dX4_gap_10 (by decide) (fun h => absurd ((lg_cmp_eq _ _).mp h) (by decide)) ?_
    refine z_ldc2 X dX4_gap_13 q1780 ?_
    refine z_lload_n X dX4_gap_16 rfl 0 rfl ?_
    refine z_ladd (v := (-1000000000000) + (((-3) : Int32).toInt64)) X dX4_gap_17 rfl ?_
    refine z_goto (tgt := 44) X dX4_gap_18 (by decide) ?_
    have e : spGap o (nI sN) (nI nN) = ((-1000000000000) + (((-3) : Int32).toInt64), oRef o 3) := by
      unfold spGap
      repeat (first | rw [el_some (by assumption)] | rw [el_none (by assumption)] | rw [if_pos (by omega)] | rw [if_neg (by omega)] | rw [if_pos (by assumption)] | rw [if_neg (ts_n (by assumption))])
      all_goals first | rfl | (exfalso; omega)
    exact z_lret X dX4_gap_44 (by omega) (by omega) ⟨_, rfl, (by rw [e]; exact ⟨_, hM2, hTn2, rfl⟩)⟩
  · skip
    have hqsN := hO.2.1 sN (by omega)
    refine z_lstore_n (lv2 := [(3, .long (((-4) : Int32).toInt64)), (0, .ref (ad 0)), (1, .int (nI (sN))), (2, .int (nI (nN)))]) X dX4_gap_6 rfl (Nat.le_of_ble_eq_true rfl) rfl ?_
    refine z_lload_n X dX4_gap_7 rfl 0 rfl ?_
    refine z_lconst (v := lN 0) X dX4_gap_8 cl0 ?_
    refine z_lcmp (v := lg_cmp (((-4) : Int32).toInt64) (lN (0))) X dX4_gap_9 rfl ?_
    refine z_if_eq_f (tgt := 21) X dX4_gap_10 (by decide) (fun h => absurd ((lg_cmp_eq _ _).mp h) (by decide)) ?_
    refine z_ldc2 X dX4_gap_13 q1780 ?_
    refine z_lload_n X dX4_gap_16 rfl 0 rfl ?_
    refine z_ladd (v := (-1000000000000) + (((-4) : Int32).toInt64)) X dX4_gap_17 rfl ?_
    refine z_goto (tgt := 44) X dX4_gap_18 (by decide) ?_
    have e : spGap o (nI sN) (nI nN) = ((-1000000000000) + (((-4) : Int32).toInt64), oRef o 4) := by
      unfold spGap
      repeat (first | rw [el_some (by assumption)] | rw [el_none (by assumption)] | rw [if_pos (by omega)] | rw [if_neg (by omega)] | rw [if_pos (by assumption)] | rw [if_neg (ts_n (by assumption))])
      all_goals first | rfl | (exfalso; omega)
    exact z_lret X dX4_gap_44 (by omega) (by omega) ⟨_, rfl, (by rw [e]; exact ⟨_, hM2, hTn2, rfl⟩)⟩
  · skip
    have hqsN := hO.2.1 sN (by omega)
    refine z_lstore_n (lv2 := [(3, .long (lN (0))), (0, .ref (ad 0)), (1, .int (nI (sN))), (2, .int (nI (nN)))]) X dX4_gap_6 rfl (Nat.le_of_ble_eq_true rfl) rfl ?_
    refine z_lload_n X dX4_gap_7 rfl 0 rfl ?_
    refine z_lconst (v := lN 0) X dX4_gap_8 cl0 ?_
    refine z_lcmp (v := lg_cmp (lN (0)) (lN (0))) X dX4_gap_9 rfl ?_
    refine z_if_eq_t (tgt := 21) X dX4_gap_10 (by decide) ((lg_cmp_eq _ _).mpr rfl) ?_
    refine z_aload_n X dX4_gap_21 rfl 1 rfl ?_
    refine z_iload_n X dX4_gap_22 rfl 3 rfl ?_
    refine z_cl (z_runV (rest := []) (n := 1) X [.int (nI (nN))] (m_X4_bestNow hM2 hTn2.1 hI (n := nN) (by omega)) dX4_gap_23 (mm_o hM2) rfl (lw_V q1809 q1811 qs56 q70 q1812) hv_X4_bestNow rfl ⟨Nat.le_of_ble_eq_true rfl, Nat.le_of_ble_eq_true rfl⟩ ⟨by omega, by omega⟩ rfl (Nat.le_of_ble_eq_true rfl)) (fun r5 w7 h6 => ?_)
    obtain ⟨mv6, hM6, hQ6, r5e⟩ := h6
    rw [r5e]
    have hT6 := MT.KM hTn2 hQ6
    refine z_aload_n X dX4_gap_26 rfl 1 rfl ?_
    refine z_aload_n X dX4_gap_27 rfl 1 rfl ?_
    refine z_mg5 X hM6 dX4_gap_28 ?_
    refine z_iload_n X dX4_gap_31 rfl 2 rfl ?_
    refine z_iaN (v := nI (o.2.2.2.1 3 sN)) X dX4_gap_32 (mm_6 hM6) (by omega) (by omega) ((hT6.2.2.2.1 sN (by omega)).2.2.2.1) ?_
    refine z_aload_n X dX4_gap_33 rfl 1 rfl ?_
    refine z_mg6 X hM6 dX4_gap_34 ?_
    refine z_iload_n X dX4_gap_37 rfl 2 rfl ?_
    refine z_iaN (v := nI (o.2.2.2.1 4 sN)) X dX4_gap_38 (mm_7 hM6) (by omega) (by omega) ((hT6.2.2.2.1 sN (by omega)).2.2.2.2) ?_
    refine z_iload_n X dX4_gap_39 rfl 3 rfl ?_
    refine z_cl (z_runV (rest := [.long (bestV o.1 nN)]) (n := 3) X [.int (nI (o.2.2.2.1 3 sN)), .int (nI (o.2.2.2.1 4 sN)), .int (nI (nN))] (m_X4_valueBy hM6 hT6.1 hI (a := o.2.2.2.1 4 sN) (n := nN) (by omega) (by omega) (kd := o.2.2.2.1 3 sN) (by omega)) dX4_gap_40 (mm_o hM6) rfl (lw_V q1801 q1803 qs55 q70 q1804) hv_X4_valueBy rfl ⟨Nat.le_of_ble_eq_true rfl, Nat.le_of_ble_eq_true rfl⟩ ⟨by omega, by omega⟩ rfl (Nat.le_of_ble_eq_true rfl)) (fun r8 w10 h9 => ?_)
    obtain ⟨mv9, hM9, hQ9, r8e⟩ := h9
    rw [r8e]
    have hT9 := MT.KM hT6 hQ9
    refine z_lsub (v := (bestV o.1 nN) - (vals o.1 (rgM o.1 (o.2.2.2.1 3 sN) (o.2.2.2.1 4 sN) (wiseT o.1 (o.2.2.2.1 4 sN))) nN (stOf o.1))) X dX4_gap_43 rfl ?_
    have e : spGap o (nI sN) (nI nN) = ((bestV o.1 nN) - (vals o.1 (rgM o.1 (o.2.2.2.1 3 sN) (o.2.2.2.1 4 sN) (wiseT o.1 (o.2.2.2.1 4 sN))) nN (stOf o.1)), o) := by
      unfold spGap
      repeat (first | rw [el_some (by assumption)] | rw [el_none (by assumption)] | rw [if_pos (by omega)] | rw [if_neg (by omega)] | rw [if_pos (by assumption)] | rw [if_neg (ts_n (by assumption))])
      all_goals first | rfl | (exfalso; omega)
    exact z_lret X dX4_gap_44 (by omega) (by omega) ⟨_, rfl, (by rw [e]; exact ⟨_, hM9, hT9, rfl⟩)⟩
