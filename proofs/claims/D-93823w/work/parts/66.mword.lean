/-! THE MODEL: words and numbers of a text -/
set_option maxRecDepth 100000
theorem allTo_s {p : Nat → Bool} {k : Nat} (h : allTo p k = true) (hp : p k = true) : allTo p (k + 1) = true := by simp only [allTo, h, hp, Bool.and_self]
def isW (t : Nat → Nat) (n a : Nat) (byt : List Nat) : Bool := decide (tkK t n a = 1) && (decide (tkE t n a - tkF t n a = byt.length) && allTo (fun j => decide (t (tkF t n a + j) = byt.getD j 0)) byt.length)
theorem tkK_le {t : Nat → Nat} {n a : Nat} : tkK t n a ≤ 4 := by
  unfold tkK
  split
  · omega
  split
  · omega
  split
  · omega
  split <;> omega
theorem isW_1 {t : Nat → Nat} {n a : Nat} {byt : List Nat} (h : isW t n a byt = true) : tkK t n a = 1 := by
  unfold isW at h
  rw [Bool.and_eq_true] at h
  exact of_decide_eq_true h.1
/-- a number in bounds, or where it is wrong -/
def numR (t : Nat → Nat) (n a lo hi : Nat) : Sum Nat (Nat × Nat) := if tkK t n a = 2 ∧ lo ≤ tkN t n a ∧ tkN t n a ≤ hi then .inr (tkN t n a, tkE t n a) else .inl (tkF t n a)
theorem numR_y {t : Nat → Nat} {n a lo hi : Nat} (h : tkK t n a = 2 ∧ lo ≤ tkN t n a ∧ tkN t n a ≤ hi) : numR t n a lo hi = .inr (tkN t n a, tkE t n a) := if_pos h
theorem numR_n {t : Nat → Nat} {n a lo hi : Nat} (h : ¬ (tkK t n a = 2 ∧ lo ≤ tkN t n a ∧ tkN t n a ≤ hi)) : numR t n a lo hi = .inl (tkF t n a) := if_neg h
/-- the model has a greater number where there are more figures: out of all bounds alike -/
theorem dg_in {t : Nat → Nat} {n a hi : Nat} (h : hi ≤ 999) : (dgV t (tkF t n a) (tkE t n a) ≤ hi ↔ tkN t n a ≤ hi) ∧ (tkN t n a ≤ hi → dgV t (tkF t n a) (tkE t n a) = tkN t n a) := by
  unfold dgV tkN
  split
  · exact ⟨Iff.rfl, fun _ => rfl⟩
  · exact ⟨by omega, fun h2 => by omega⟩
theorem dg_lt {t : Nat → Nat} {f : Nat} (ht : ∀ i, i < 200 → t i < 256) : ∀ j, f + j ≤ 200 → dv t f j ≤ 300 * 11 ^ j := by
  intro j
  induction j with
  | zero => intro _; simp [dv]
  | succ j ih =>
    intro h
    have h1 := ih (by omega)
    have h2 := ht (f + j) (by omega)
    simp only [dv]
    rw [Nat.pow_succ]
    have h3 : 1 ≤ 11 ^ j := by
      have := Nat.pow_le_pow_right (show 0 < 11 by omega) (Nat.zero_le j)
      simpa using this
    omega
theorem dgV_lt {t : Nat → Nat} {n a : Nat} (ht : ∀ i, i < 200 → t i < 256) (hn : n ≤ 200) (ha : a ≤ n) : dgV t (tkF t n a) (tkE t n a) < 2 ^ 31 := by
  have h := tk_le (t := t) ha
  unfold dgV
  split
  · next q =>
    have h1 := dg_lt (f := tkF t n a) ht (tkE t n a - tkF t n a) (by omega)
    have h2 : (11 : Nat) ^ (tkE t n a - tkF t n a) ≤ 11 ^ 3 := Nat.pow_le_pow_right (by omega) q
    have h3 : (11 : Nat) ^ 3 = 1331 := rfl
    omega
  · omega
/-- a number is stored in cell c at j and the next token looked at; or it is wrong -/
def NumQ (t : Nat → Nat) (n a lo hi c j : Nat) (m : MSt) (r : Int32) (m2 : MSt) : Prop := (∃ v e, numR t n a lo hi = .inr (v, e) ∧ lo ≤ v ∧ v ≤ hi ∧ e ≤ n ∧ r = nI 1 ∧ KF (mI m c j (nI v)) m2 ∧ TokM t n e m2) ∨ (∃ f, numR t n a lo hi = .inl f ∧ f ≤ n ∧ r = nI 0 ∧ KF m m2 ∧ m2.2.2.1 24 = nI f)
def telR (t : Nat → Nat) (n a : Nat) (byt : List Nat) (lo hi : Nat) : Sum Nat (Nat × Nat) := if isW t n a byt = true then numR t n (tkE t n a) lo hi else .inl (tkF t n a)
def TelQ (t : Nat → Nat) (n a : Nat) (byt : List Nat) (lo hi c j : Nat) (m : MSt) (r : Int32) (m2 : MSt) : Prop := (∃ v e, telR t n a byt lo hi = .inr (v, e) ∧ lo ≤ v ∧ v ≤ hi ∧ e ≤ n ∧ r = nI 1 ∧ KF (mI m c j (nI v)) m2 ∧ TokM t n e m2) ∨ (∃ f, telR t n a byt lo hi = .inl f ∧ f ≤ n ∧ r = nI 0 ∧ KF m m2 ∧ m2.2.2.1 24 = nI f)
def perR (t : Nat → Nat) (n a : Nat) (byt : List Nat) (lo hi dfl : Nat) : Sum Nat (Nat × Nat) := if isW t n a byt = true then numR t n (tkE t n a) lo hi else .inr (dfl, a)
theorem KF.stI {m m2 : MSt} (h : KF m m2) {c j : Nat} {x : Int32} : KF (mI m c j x) (mI m2 c j x) := ⟨by show (fun c2 => if c2 = c then upd (m2.1 c) j x else m2.1 c2) = (fun c2 => if c2 = c then upd (m.1 c) j x else m.1 c2); rw [h.1], h.2.1, h.2.2⟩
set_option maxHeartbeats 2000000 in
theorem m_X4_isWord {l : Launch} {G : GG} {wb w : GW} {ad : Nat → Nat} {m : MSt} (hM : MM G wb w ad m) {t : Nat → Nat} {n : Nat} (hTp : TapM t n m) (hn : n ≤ 200) (ht : ∀ i, i < 200 → t i < 256) {a : Nat} (hTok : TokM t n a m) (ha : a ≤ n) {s : Nat} {byt : List Nat} {hh : Int32} (hS : StrK G s byt.length byt hh) (hb : ∀ j, j < byt.length → byt.getD j 0 < 256) (hbl : byt.length < 2 ^ 31) : gM l G yX4_isWord cX4_isWord 3 (some .boolean) 6 0 0 [.ref (ad 0), .ref (s)] w (pI (fun r w1 => r = bI (isW t n a byt) ∧ w1 = w)) := by
  refine Z.met (own := "ThreeSizesModel") (nm := "isWord") (lv := [(0, .ref (ad 0)), (1, .ref (s))]) (by decide) rfl rfl (Nat.le_of_ble_eq_true rfl) rfl (fun κ X => ?_)
  obtain ⟨h1, h2, h3⟩ := tk_le (t := t) ha
  have hK4 := tkK_le (t := t) (n := n) (a := a)
  obtain ⟨v, hSO, hBA⟩ := hS
  have hS2 : SO G w s v hh := Or.inr hSO
  have hB2 : BA G w v byt.length (fun j => nI (byt.getD j 0)) := Or.inr hBA
  refine z_aload_n X dX4_isWord_0 rfl 0 rfl ?_
  refine z_mgv21 X hM dX4_isWord_1 hTok.2.1 ?_
  refine z_iconst (v := nI (1)) X dX4_isWord_4 ci1 ?_
  refine z_icmp_ne (tgt := 24) X dX4_isWord_5 (by decide) (nI_eq (by omega) (by omega)) (fun c1 => ?_) (fun c1 => ?_)
  · refine z_iconst (v := nI (0)) X dX4_isWord_24 ci0 ?_
    exact z_zret X dX4_isWord_25 (by omega) (by omega) bz0 ⟨_, rfl, ⟨bz_f (by unfold isW; rw [decide_eq_false c1]; rfl), rfl⟩⟩
  · refine z_aload_n X dX4_isWord_8 rfl 0 rfl ?_
    refine z_mgv20 X hM dX4_isWord_9 hTok.1 ?_
    refine z_aload_n X dX4_isWord_12 rfl 0 rfl ?_
    refine z_mgv22 X hM dX4_isWord_13 hTok.2.2.1 ?_
    refine z_isub (v := nI (tkE t n a - (tkF t n a))) X dX4_isWord_16 (pk_sub (by omega)) ?_
    refine z_aload_n X dX4_isWord_17 rfl 1 rfl ?_
    refine z_cip (z_runVS (rest := [.int (nI (tkE t n a - (tkF t n a)))]) (n := 0) X [] (x_J4_length hS2 hB2) dX4_isWord_18 hS2 (lw_V q1730 q1731 q1732 q75 q1733) hv_J4_length rfl ⟨Nat.le_of_ble_eq_true rfl, Nat.le_of_ble_eq_true rfl⟩ ⟨by omega, by omega⟩ rfl (Nat.le_of_ble_eq_true rfl)) ?_
    refine z_icmp_eq (tgt := 26) X dX4_isWord_21 (by decide) (nI_eq (by omega) (by omega)) (fun c2 => ?_) (fun c2 => ?_)
    · refine z_iconst (v := nI (0)) X dX4_isWord_26 ci0 ?_
      refine z_istore_n (lv2 := [(2, .int (nI (0))), (0, .ref (ad 0)), (1, .ref (s))]) X dX4_isWord_27 rfl (Nat.le_of_ble_eq_true rfl) rfl ?_
      have lw : ∀ (lq i : Nat), i + lq = byt.length → allTo (fun j => decide (t (tkF t n a + j) = byt.getD j 0)) i = true → Z κ w [(2, .int (nI (i))), (0, .ref (ad 0)), (1, .ref (s))] 0 0 28 [] := by
        intro lq
        induction lq with
        | zero =>
          intro i lh hall
          obtain rfl : byt.length = i := by omega
          refine z_iload_n X dX4_isWord_28 rfl 0 rfl ?_
          refine z_aload_n X dX4_isWord_29 rfl 2 rfl ?_
          refine z_cip (z_runVS (rest := [.int (nI (byt.length))]) (n := 0) X [] (x_J4_length hS2 hB2) dX4_isWord_30 hS2 (lw_V q1730 q1731 q1732 q75 q1733) hv_J4_length rfl ⟨Nat.le_of_ble_eq_true rfl, Nat.le_of_ble_eq_true rfl⟩ ⟨by omega, by omega⟩ rfl (Nat.le_of_ble_eq_true rfl)) ?_
          refine z_icmp_ge_t (tgt := 63) X dX4_isWord_33 (by decide) ((nI_leI (by omega) (by omega)).mpr (by omega)) ?_
          refine z_iconst (v := nI (1)) X dX4_isWord_63 ci1 ?_
          exact z_zret X dX4_isWord_64 (by omega) (by omega) bz1 ⟨_, rfl, ⟨bz_t (by unfold isW; rw [decide_eq_true (by omega), decide_eq_true (by omega), hall]; rfl), rfl⟩⟩
        | succ lq ih =>
          intro i lh hall
          have hbi := hb i (by omega)
          have hti := ht (tkF t n a + i) (by omega)
          refine z_iload_n X dX4_isWord_28 rfl 0 rfl ?_
          refine z_aload_n X dX4_isWord_29 rfl 2 rfl ?_
          refine z_cip (z_runVS (rest := [.int (nI (i))]) (n := 0) X [] (x_J4_length hS2 hB2) dX4_isWord_30 hS2 (lw_V q1730 q1731 q1732 q75 q1733) hv_J4_length rfl ⟨Nat.le_of_ble_eq_true rfl, Nat.le_of_ble_eq_true rfl⟩ ⟨by omega, by omega⟩ rfl (Nat.le_of_ble_eq_true rfl)) ?_
          refine z_icmp_ge_f (tgt := 63) X dX4_isWord_33 (by decide) (fun h => absurd ((nI_leI (by omega) (by omega)).mp h) (by omega)) ?_
          refine z_aload_n X dX4_isWord_36 rfl 1 rfl ?_
          refine z_mg7 X hM dX4_isWord_37 ?_
          refine z_aload_n X dX4_isWord_40 rfl 1 rfl ?_
          refine z_mgv22 X hM dX4_isWord_41 hTok.2.2.1 ?_
          refine z_iload_n X dX4_isWord_44 rfl 0 rfl ?_
          refine z_iadd (v := nI (tkF t n a + i)) X dX4_isWord_45 (nI_add _ _) ?_
          refine z_iaN (v := nI (t (tkF t n a + i))) X dX4_isWord_46 (mm_8 hM) (by omega) (by omega) (hTp.1 (tkF t n a + i) (by omega)) ?_
          refine z_aload_n X dX4_isWord_47 rfl 2 rfl ?_
          refine z_iload_n X dX4_isWord_48 rfl 0 rfl ?_
          refine z_cip (z_runVS (rest := [.int (nI (t (tkF t n a + i)))]) (n := 1) X [.int (nI (i))] (x_J4_charAt hS2 hB2 (i := i) (by omega) (by omega) hb) dX4_isWord_49 hS2 (lw_V q1738 q1739 q1740 q75 q1741) hv_J4_charAt rfl ⟨Nat.le_of_ble_eq_true rfl, Nat.le_of_ble_eq_true rfl⟩ ⟨by omega, by omega⟩ rfl (Nat.le_of_ble_eq_true rfl)) ?_
          refine z_icmp_eq (tgt := 57) X dX4_isWord_52 (by decide) (nI_eq (by omega) (by omega)) (fun c3 => ?_) (fun c3 => ?_)
          · refine z_iinc (v := nI (i + 1)) (lv2 := [(2, .int (nI (i + 1))), (0, .ref (ad 0)), (1, .ref (s))]) X dX4_isWord_57 0 rfl (nI_1 _) (Nat.le_of_ble_eq_true rfl) rfl ?_
            refine z_goto (tgt := 28) X dX4_isWord_60 (by decide) ?_
            exact ih (i + 1) (by omega) (allTo_s hall (decide_eq_true c3))
          · refine z_iconst (v := nI (0)) X dX4_isWord_55 ci0 ?_
            exact z_zret X dX4_isWord_56 (by omega) (by omega) bz0 ⟨_, rfl, ⟨bz_f (by unfold isW; rw [allTo_no (i := i) (decide_eq_false c3) _ (by omega), Bool.and_false, Bool.and_false]), rfl⟩⟩
      exact lw byt.length 0 (by omega) rfl
    · refine z_iconst (v := nI (0)) X dX4_isWord_24 ci0 ?_
      exact z_zret X dX4_isWord_25 (by omega) (by omega) bz0 ⟨_, rfl, ⟨bz_f (by unfold isW; rw [decide_eq_false c2, Bool.false_and, Bool.and_false]), rfl⟩⟩
set_option maxHeartbeats 2000000 in
theorem m_X4_number {l : Launch} {G : GG} {wb w : GW} {ad : Nat → Nat} {m : MSt} (hM : MM G wb w ad m) {t : Nat → Nat} {n : Nat} (hTp : TapM t n m) (hn : n ≤ 200) (ht : ∀ i, i < 200 → t i < 256) {a : Nat} (hTok : TokM t n a m) (ha : a ≤ n) {c N j lo hi : Nat} (hc : mP c = true) (hk : mK c = 0) (hN : mLen c = N) (hj : j < N) (hN2 : N ≤ 200) (hc8 : c ≠ 8) (hhi : hi ≤ 999) (hlo : lo ≤ 999) : gM l G yX4_number cX4_number 5 (some .boolean) 3 0 0 [.ref (ad 0), .ref (ad c), .int (nI (j)), .int (nI (lo)), .int (nI (hi))] w (pI (fun r w1 => ∃ m2, MM G wb w1 ad m2 ∧ NumQ t n a lo hi c j m r m2)) := by
  refine Z.met (own := "ThreeSizesModel") (nm := "number") (lv := [(0, .ref (ad 0)), (1, .ref (ad c)), (2, .int (nI (j))), (3, .int (nI (lo))), (4, .int (nI (hi)))]) (by decide) rfl rfl (Nat.le_of_ble_eq_true rfl) rfl (fun κ X => ?_)
  obtain ⟨h1, h2, h3⟩ := tk_le (t := t) ha
  have hK4 := tkK_le (t := t) (n := n) (a := a)
  have hdl := dgV_lt (t := t) ht hn ha
  refine z_aload_n X dX4_number_0 rfl 0 rfl ?_
  refine z_mgv21 X hM dX4_number_1 hTok.2.1 ?_
  refine z_iconst (v := nI (2)) X dX4_number_4 ci2 ?_
  refine z_icmp_ne (tgt := 23) X dX4_number_5 (by decide) (nI_eq (by omega) (by omega)) (fun c1 => ?_) (fun c1 => ?_)
  · refine z_aload_n X dX4_number_23 rfl 0 rfl ?_
    refine z_ci (z_runV (rest := []) (n := 0) X [] (m_X4_wrong hM hTok.2.2.1) dX4_number_24 (mm_o hM) rfl (lw_V q1753 q1755 qs50 q70 q1756) hv_X4_wrong rfl ⟨Nat.le_of_ble_eq_true rfl, Nat.le_of_ble_eq_true rfl⟩ ⟨by omega, by omega⟩ rfl (Nat.le_of_ble_eq_true rfl)) (fun r2 w4 h3 => ?_)
    obtain ⟨mv3, hM3, hk3, hf3, r2e⟩ := h3
    rw [r2e]
    have hno : ¬ (tkK t n a = 2 ∧ lo ≤ tkN t n a ∧ tkN t n a ≤ hi) := fun q => c1 q.1
    exact z_zret X dX4_number_27 (by omega) (by omega) bz0 ⟨_, rfl, ⟨_, hM3, Or.inr ⟨_, numR_n hno, by omega, rfl, ((KF.rf).trans hk3), hf3⟩⟩⟩
  · refine z_aload_n X dX4_number_8 rfl 0 rfl ?_
    refine z_mgv23 X hM dX4_number_9 (hTok.2.2.2 c1) ?_
    refine z_iload_n X dX4_number_12 rfl 3 rfl ?_
    refine z_i2l (v := lN (lo)) X dX4_number_13 (nI_l (by omega)) ?_
    refine z_iload X dX4_number_14 4 rfl ?_
    refine z_i2l (v := lN (hi)) X dX4_number_16 (nI_l (by omega)) ?_
    refine z_cip (z_runS (rest := []) (n := 3) X [.long (lN (dgV t (tkF t n a) (tkE t n a))), .long (lN (lo)), .long (lN (hi))] m_X4_in dX4_number_17 (lw_S q1541 q1542 q70 q1543) hs_X4_in rfl ⟨Nat.le_of_ble_eq_true rfl, Nat.le_of_ble_eq_true rfl⟩ ⟨by omega, by omega⟩ rfl (Nat.le_of_ble_eq_true rfl)) ?_
    refine z_if_ne (tgt := 28) X dX4_number_20 (by decide) bI_d (fun c5 => ?_) (fun c5 => ?_)
    · have c5 := Classical.not_not.mp c5
      refine z_aload_n X dX4_number_28 rfl 1 rfl ?_
      refine z_iload_n X dX4_number_29 rfl 2 rfl ?_
      refine z_aload_n X dX4_number_30 rfl 0 rfl ?_
      refine z_mgv23 X hM dX4_number_31 (hTok.2.2.2 c1) ?_
      refine z_l2i (v := nI (dgV t (tkF t n a) (tkE t n a))) X dX4_number_34 (lN_i _) ?_
      obtain ⟨hlo9, hhi9⟩ : lo ≤ dgV t (tkF t n a) (tkE t n a) ∧ dgV t (tkF t n a) (tkE t n a) ≤ hi := ⟨(lN_le (by omega) (by omega)).mp c5.1, (lN_le (by omega) (by omega)).mp c5.2⟩
      have hdg := dg_in (t := t) (n := n) (a := a) (hi := hi) (by omega)
      have hv9 := hdg.1.mp hhi9
      have he9 := hdg.2 hv9
      rw [he9] at hlo9
      rw [he9]
      refine z_mst (n := N) (j := j) X hM c dX4_number_35 hc hk hN (by omega) (by omega) (fun u35 hM35 => ?_)
      have hTp35 : TapM t n (mI m c j (nI (tkN t n a))) := ⟨fun i hi => by rw [mI_oth (by omega)]; exact hTp.1 i hi, hTp.2⟩
      refine z_aload_n X dX4_number_36 rfl 0 rfl ?_
      refine z_cv (z_runV (rest := []) (n := 0) X [] (m_X4_look hM35 hTp35 hn ht hTok.1 (by omega)) dX4_number_37 (mm_o hM35) rfl (lw_V q1710 q1712 qs46 q70 q1713) hv_X4_look rfl ⟨Nat.le_of_ble_eq_true rfl, Nat.le_of_ble_eq_true rfl⟩ ⟨by omega, by omega⟩ rfl (Nat.le_of_ble_eq_true rfl)) (fun w8 h7 => ?_)
      obtain ⟨mv7, hM7, hk7, hTok7⟩ := h7
      refine z_iconst (v := nI (1)) X dX4_number_40 ci1 ?_
      exact z_zret X dX4_number_41 (by omega) (by omega) bz1 ⟨_, rfl, ⟨_, hM7, Or.inl ⟨_, _, numR_y ⟨c1, hlo9, hv9⟩, hlo9, hv9, by omega, rfl, hk7, hTok7⟩⟩⟩
    · refine z_aload_n X dX4_number_23 rfl 0 rfl ?_
      refine z_ci (z_runV (rest := []) (n := 0) X [] (m_X4_wrong hM hTok.2.2.1) dX4_number_24 (mm_o hM) rfl (lw_V q1753 q1755 qs50 q70 q1756) hv_X4_wrong rfl ⟨Nat.le_of_ble_eq_true rfl, Nat.le_of_ble_eq_true rfl⟩ ⟨by omega, by omega⟩ rfl (Nat.le_of_ble_eq_true rfl)) (fun r9 w11 h10 => ?_)
      obtain ⟨mv10, hM10, hk10, hf10, r9e⟩ := h10
      rw [r9e]
      have hno : ¬ (tkK t n a = 2 ∧ lo ≤ tkN t n a ∧ tkN t n a ≤ hi) := fun q => by
        have hdg := dg_in (t := t) (n := n) (a := a) (hi := hi) (by omega)
        have e9 := hdg.2 q.2.2
        exact c5 ⟨(lN_le (by omega) (by omega)).mpr (by omega), (lN_le (by omega) (by omega)).mpr (by omega)⟩
      exact z_zret X dX4_number_27 (by omega) (by omega) bz0 ⟨_, rfl, ⟨_, hM10, Or.inr ⟨_, numR_n hno, by omega, rfl, ((KF.rf).trans hk10), hf10⟩⟩⟩
theorem nq_n {t : Nat → Nat} {n a lo hi c j : Nat} {m m2 : MSt} {r : Int32} (h : NumQ t n a lo hi c j m r m2) : narrow .boolean (.int r) = .int r := by
  rcases h with ⟨x, y, q1, q2, q3, q4, rfl, q6, q7⟩ | ⟨x, q1, q2, rfl, q4, q5⟩
  · exact bz1
  · exact bz0
theorem tq_n {t : Nat → Nat} {n a lo hi c j : Nat} {byt : List Nat} {m m2 : MSt} {r : Int32} (h : TelQ t n a byt lo hi c j m r m2) : narrow .boolean (.int r) = .int r := by
  rcases h with ⟨x, y, q1, q2, q3, q4, rfl, q6, q7⟩ | ⟨x, q1, q2, rfl, q4, q5⟩
  · exact bz1
  · exact bz0
set_option maxHeartbeats 2000000 in
theorem m_X4_tells {l : Launch} {G : GG} {wb w : GW} {ad : Nat → Nat} {m : MSt} (hM : MM G wb w ad m) {t : Nat → Nat} {n : Nat} (hTp : TapM t n m) (hn : n ≤ 200) (ht : ∀ i, i < 200 → t i < 256) {a : Nat} (hTok : TokM t n a m) (ha : a ≤ n) {s : Nat} {byt : List Nat} {hh : Int32} (hS : StrK G s byt.length byt hh) (hb : ∀ j, j < byt.length → byt.getD j 0 < 256) (hbl : byt.length < 2 ^ 31) {c N j lo hi : Nat} (hc : mP c = true) (hk : mK c = 0) (hN : mLen c = N) (hj : j < N) (hN2 : N ≤ 200) (hc8 : c ≠ 8) (hhi : hi ≤ 999) (hlo : lo ≤ 999) : gM l G yX4_tells cX4_tells 6 (some .boolean) 7 0 0 [.ref (ad 0), .ref (s), .ref (ad c), .int (nI (j)), .int (nI (lo)), .int (nI (hi))] w (pI (fun r w1 => ∃ m2, MM G wb w1 ad m2 ∧ TelQ t n a byt lo hi c j m r m2)) := by
  refine Z.met (own := "ThreeSizesModel") (nm := "tells") (lv := [(0, .ref (ad 0)), (1, .ref (s)), (2, .ref (ad c)), (3, .int (nI (j))), (4, .int (nI (lo))), (5, .int (nI (hi)))]) (by decide) rfl rfl (Nat.le_of_ble_eq_true rfl) rfl (fun κ X => ?_)
  obtain ⟨h1, h2, h3⟩ := tk_le (t := t) ha
  have hK4 := tkK_le (t := t) (n := n) (a := a)
  obtain ⟨h4, h5, h6⟩ := tk_le (t := t) h3
  refine z_aload_n X dX4_tells_0 rfl 0 rfl ?_
  refine z_aload_n X dX4_tells_1 rfl 1 rfl ?_
  refine z_cip (z_runV (rest := []) (n := 1) X [.ref (s)] (m_X4_isWord hM hTp hn ht hTok (a := a) (by omega) hS hb hbl) dX4_tells_2 (mm_o hM) rfl (lw_V q1726 q1728 qs48 q70 q1729) hv_X4_isWord rfl ⟨Nat.le_of_ble_eq_true rfl, Nat.le_of_ble_eq_true rfl⟩ ⟨by omega, by omega⟩ rfl (Nat.le_of_ble_eq_true rfl)) ?_
  refine z_if_ne (tgt := 13) X dX4_tells_5 (by decide) bI_0 (fun c1 => ?_) (fun c1 => ?_)
  · have c1 := ts_t c1
    refine z_aload_n X dX4_tells_13 rfl 0 rfl ?_
    refine z_cv (z_runV (rest := []) (n := 0) X [] (m_X4_look hM hTp hn ht hTok.1 (by omega)) dX4_tells_14 (mm_o hM) rfl (lw_V q1710 q1712 qs46 q70 q1713) hv_X4_look rfl ⟨Nat.le_of_ble_eq_true rfl, Nat.le_of_ble_eq_true rfl⟩ ⟨by omega, by omega⟩ rfl (Nat.le_of_ble_eq_true rfl)) (fun w4 h3 => ?_)
    obtain ⟨mv3, hM3, hk3, hTok3⟩ := h3
    refine z_aload_n X dX4_tells_17 rfl 0 rfl ?_
    refine z_aload_n X dX4_tells_18 rfl 2 rfl ?_
    refine z_iload_n X dX4_tells_19 rfl 3 rfl ?_
    refine z_iload X dX4_tells_20 4 rfl ?_
    refine z_iload X dX4_tells_22 5 rfl ?_
    refine z_ci (z_runV (rest := []) (n := 4) X [.ref (ad c), .int (nI (j)), .int (nI (lo)), .int (nI (hi))] (m_X4_number hM3 (hk3.tap hTp) hn ht hTok3 h3 hc hk hN hj hN2 hc8 hhi hlo) dX4_tells_24 (mm_o hM3) rfl (lw_V q1757 q1759 qs51 q70 q1760) hv_X4_number rfl ⟨Nat.le_of_ble_eq_true rfl, Nat.le_of_ble_eq_true rfl⟩ ⟨by omega, by omega⟩ rfl (Nat.le_of_ble_eq_true rfl)) (fun r5 w7 h6 => ?_)
    obtain ⟨mv6, hM6, hQ6⟩ := h6
    have et : telR t n a byt lo hi = numR t n (tkE t n a) lo hi := if_pos c1
    have hq : TelQ t n a byt lo hi c j m r5 mv6 := by
      rcases hQ6 with ⟨x, y, q1, q2, q3, q4, q5, q6, q7⟩ | ⟨x, q1, q2, q3, q4, q5⟩
      · exact Or.inl ⟨x, y, et.trans q1, q2, q3, q4, q5, (hk3.stI).trans q6, q7⟩
      · exact Or.inr ⟨x, et.trans q1, q2, q3, hk3.trans q4, q5⟩
    exact z_zret X dX4_tells_27 (by omega) (by omega) (nq_n hQ6) ⟨_, rfl, ⟨_, hM6, hq⟩⟩
  · refine z_aload_n X dX4_tells_8 rfl 0 rfl ?_
    refine z_ci (z_runV (rest := []) (n := 0) X [] (m_X4_wrong hM hTok.2.2.1) dX4_tells_9 (mm_o hM) rfl (lw_V q1753 q1755 qs50 q70 q1756) hv_X4_wrong rfl ⟨Nat.le_of_ble_eq_true rfl, Nat.le_of_ble_eq_true rfl⟩ ⟨by omega, by omega⟩ rfl (Nat.le_of_ble_eq_true rfl)) (fun r8 w10 h9 => ?_)
    obtain ⟨mv9, hM9, hk9, hf9, r8e⟩ := h9
    rw [r8e]
    exact z_zret X dX4_tells_12 (by omega) (by omega) bz0 ⟨_, rfl, ⟨_, hM9, Or.inr ⟨_, if_neg (ts_n c1), by omega, rfl, ((KF.rf).trans hk9), hf9⟩⟩⟩
set_option maxHeartbeats 2000000 in
theorem m_X4_perhaps {l : Launch} {G : GG} {wb w : GW} {ad : Nat → Nat} {m : MSt} (hM : MM G wb w ad m) {t : Nat → Nat} {n : Nat} (hTp : TapM t n m) (hn : n ≤ 200) (ht : ∀ i, i < 200 → t i < 256) {a : Nat} (hTok : TokM t n a m) (ha : a ≤ n) {s : Nat} {byt : List Nat} {hh : Int32} (hS : StrK G s byt.length byt hh) (hb : ∀ j, j < byt.length → byt.getD j 0 < 256) (hbl : byt.length < 2 ^ 31) {c N j lo hi : Nat} (hc : mP c = true) (hk : mK c = 0) (hN : mLen c = N) (hj : j < N) (hN2 : N ≤ 200) (hc8 : c ≠ 8) (hhi : hi ≤ 999) (hlo : lo ≤ 999) : gM l G yX4_perhaps cX4_perhaps 6 (some .boolean) 8 0 0 [.ref (ad 0), .ref (s), .ref (ad c), .int (nI (j)), .int (nI (lo)), .int (nI (hi))] w (pI (fun r w1 => ∃ m2, MM G wb w1 ad m2 ∧ ((isW t n a byt = false ∧ r = nI 1 ∧ m2 = m) ∨ (isW t n a byt = true ∧ TelQ t n a byt lo hi c j m r m2)))) := by
  refine Z.met (own := "ThreeSizesModel") (nm := "perhaps") (lv := [(0, .ref (ad 0)), (1, .ref (s)), (2, .ref (ad c)), (3, .int (nI (j))), (4, .int (nI (lo))), (5, .int (nI (hi)))]) (by decide) rfl rfl (Nat.le_of_ble_eq_true rfl) rfl (fun κ X => ?_)
  obtain ⟨h1, h2, h3⟩ := tk_le (t := t) ha
  have hK4 := tkK_le (t := t) (n := n) (a := a)
  obtain ⟨h4, h5, h6⟩ := tk_le (t := t) h3
  refine z_aload_n X dX4_perhaps_0 rfl 0 rfl ?_
  refine z_aload_n X dX4_perhaps_1 rfl 1 rfl ?_
  refine z_cip (z_runV (rest := []) (n := 1) X [.ref (s)] (m_X4_isWord hM hTp hn ht hTok (a := a) (by omega) hS hb hbl) dX4_perhaps_2 (mm_o hM) rfl (lw_V q1726 q1728 qs48 q70 q1729) hv_X4_isWord rfl ⟨Nat.le_of_ble_eq_true rfl, Nat.le_of_ble_eq_true rfl⟩ ⟨by omega, by omega⟩ rfl (Nat.le_of_ble_eq_true rfl)) ?_
  refine z_if_eq (tgt := 22) X dX4_perhaps_5 (by decide) bI_0 (fun c1 => ?_) (fun c1 => ?_)
  · refine z_iconst (v := nI (1)) X dX4_perhaps_22 ci1 ?_
    refine z_goto (tgt := 27) X dX4_perhaps_23 (by decide) ?_
    exact z_zret X dX4_perhaps_27 (by omega) (by omega) bz1 ⟨_, rfl, ⟨_, hM, Or.inl ⟨c1, rfl, rfl⟩⟩⟩
  · have c1 := ts_t c1
    refine z_aload_n X dX4_perhaps_8 rfl 0 rfl ?_
    refine z_aload_n X dX4_perhaps_9 rfl 1 rfl ?_
    refine z_aload_n X dX4_perhaps_10 rfl 2 rfl ?_
    refine z_iload_n X dX4_perhaps_11 rfl 3 rfl ?_
    refine z_iload X dX4_perhaps_12 4 rfl ?_
    refine z_iload X dX4_perhaps_14 5 rfl ?_
    refine z_ci (z_runV (rest := []) (n := 5) X [.ref (s), .ref (ad c), .int (nI (j)), .int (nI (lo)), .int (nI (hi))] (m_X4_tells hM hTp hn ht hTok ha hS hb hbl hc hk hN hj hN2 hc8 hhi hlo) dX4_perhaps_16 (mm_o hM) rfl (lw_V q1749 q1751 qs49 q70 q1752) hv_X4_tells rfl ⟨Nat.le_of_ble_eq_true rfl, Nat.le_of_ble_eq_true rfl⟩ ⟨by omega, by omega⟩ rfl (Nat.le_of_ble_eq_true rfl)) (fun r2 w4 h3 => ?_)
    obtain ⟨mv3, hM3, hQ3⟩ := h3
    rcases hQ3 with ⟨x, y, q1, q2, q3, q4, rfl, q6, q7⟩ | ⟨x, q1, q2, rfl, q4, q5⟩
    · skip
      refine z_if_eq_f (tgt := 26) X dX4_perhaps_19 (by decide) (by decide) ?_
      refine z_iconst (v := nI (1)) X dX4_perhaps_22 ci1 ?_
      refine z_goto (tgt := 27) X dX4_perhaps_23 (by decide) ?_
      exact z_zret X dX4_perhaps_27 (by omega) (by omega) bz1 ⟨_, rfl, ⟨_, hM3, Or.inr ⟨c1, Or.inl ⟨x, y, q1, q2, q3, q4, rfl, q6, q7⟩⟩⟩⟩
    · skip
      refine z_if_eq_t (tgt := 26) X dX4_perhaps_19 (by decide) (by decide) ?_
      refine z_iconst (v := nI (0)) X dX4_perhaps_26 ci0 ?_
      exact z_zret X dX4_perhaps_27 (by omega) (by omega) bz0 ⟨_, rfl, ⟨_, hM3, Or.inr ⟨c1, Or.inr ⟨x, q1, q2, rfl, q4, q5⟩⟩⟩⟩
