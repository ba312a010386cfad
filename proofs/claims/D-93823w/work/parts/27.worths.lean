/-! WHAT STATES ARE WORTH: the class Worths -/
set_option maxRecDepth 100000
theorem sh_l : ∀ n, n < 32 → ((nI n &&& 31).toBitVec.smod 32).toNat = n := by decide +kernel
theorem bit_shr {k z : Nat} (hk : k < 2 ^ 31) (hz : z < 32) : nI k >>> (nI z &&& 31) = nI (k / 2 ^ z) := pk_shrN hk _ z (sh_l z hz)
theorem bit_and {n : Nat} (h : n < 2 ^ 31) : nI n &&& nI 1 = nI (n % 2) := pk_andN (by omega) 1 (by decide)
theorem bitK_lt (k z : Nat) : bitK k z < 2 := Nat.mod_lt _ (by omega)
theorem WallW.neO {G : GG} {w : GW} {aw : Nat → Nat} {rr : Option Nat} {S : WS} (hW : WallW G w aw rr S) {b c : Nat} {fs : List Value} (h : w b = some (.inr (c, fs))) (hc : c ≠ 2) : ∀ i, wP i = true → aw i ≠ b := by
  intro i hi e
  have h1 := hW.1 i hi
  rw [e, h] at h1
  unfold wCt at h1
  split at h1
  · have := Option.some.inj h1
    have := Sum.inr.inj this
    exact hc (congrArg Prod.fst this)
  · cases h1
/-- whose choice: nobody's rule, or a rule's -/
def RgW (G : GG) (w : GW) (rl : Option Nat) (tq : Nat) (S : WS) (r : RG) : Prop := (rl = none ∧ r = rBest S) ∨ ∃ q kd a T, rl = some q ∧ RuleW G w q kd a tq T ∧ r = rRule S kd a T
theorem RgW.lt {G : GG} {w : GW} {rl : Option Nat} {tq : Nat} {S : WS} {r : RG} (h : RgW G w rl tq S r) {V : Nat → Int64} {i st z : Nat} (hz : r V i st = some z) : z < 3 ∧ fitsB S i z st = true := by
  rcases h with ⟨-, rfl⟩ | ⟨q, kd, a, T, -, -, rfl⟩
  · exact bestTo_lt 3 z hz
  · exact rget_lt hz
/-- kept by whatever keeps all cells but longs, and tq -/
theorem RuleW.kept {G : GG} {w w1 : GW} {q kd a tq : Nat} {T : Nat → Int64} (h : RuleW G w q kd a tq T) (hk : ∀ b e, w b = some e → (∀ c n f, e = .inl (c, n, .inr (.inl f)) → b = tq) → w1 b = some e) : RuleW G w1 q kd a tq T := by
  obtain ⟨h1, h2, h3⟩ := h
  refine ⟨h1, hk _ _ h2 (fun c n f e => ?_), fun h6 => hk _ _ (h3 h6) (fun _ _ _ _ => rfl)⟩
  unfold rCell at e
  split at e <;> cases e
theorem RgW.kept {G : GG} {w w1 : GW} {rl : Option Nat} {tq : Nat} {S : WS} {r : RG} (h : RgW G w rl tq S r) (hk : ∀ b e, w b = some e → (∀ c n f, e = .inl (c, n, .inr (.inl f)) → b = tq) → w1 b = some e) : RgW G w1 rl tq S r := by
  rcases h with h | ⟨q, kd, a, T, h1, h2, h3⟩
  · exact Or.inl h
  · exact Or.inr ⟨q, kd, a, T, h1, h2.kept hk, h3⟩
theorem oddZ_le {S : WS} {g : Nat → Nat} {st z f : Nat} (hg : ∀ z, z < 3 → g z ≤ 10) (hz : z < 3) : oddZ S g st z f ≤ 10 := by
  have := hg z hz
  unfold oddZ
  split <;> split <;> omega
theorem oddTo_le {S : WS} {g : Nat → Nat} {st k : Nat} (hg : ∀ z, z < 3 → g z ≤ 10) : oddTo S g st k 3 ≤ 1000 := by
  have h0 := oddZ_le (S := S) (g := g) (st := st) (f := bitK k 0) hg (z := 0) (by omega)
  have h1 := oddZ_le (S := S) (g := g) (st := st) (f := bitK k 1) hg (z := 1) (by omega)
  have h2 := oddZ_le (S := S) (g := g) (st := st) (f := bitK k 2) hg (z := 2) (by omega)
  show 1 * _ * _ * _ ≤ 1000
  have a := Nat.mul_le_mul (Nat.mul_le_mul h0 h1) h2
  rw [Nat.one_mul]
  exact a
theorem oddTo_step {S : WS} {g : Nat → Nat} {st k n : Nat} (h : oddTo S g st k (n + 1) ≠ 0) : oddTo S g st k n ≠ 0 ∧ oddZ S g st n (bitK k n) ≠ 0 := by
  simp only [oddTo] at h
  exact ⟨fun e => h (by rw [e, Nat.zero_mul]), fun e => h (by rw [e, Nat.mul_zero])⟩
theorem oddZ_bit {S : WS} {g : Nat → Nat} {st z k : Nat} (h : oddZ S g st z (bitK k z) ≠ 0) : fr st z + bitK k z ≤ 4 ∨ bitK k z = 0 ∨ 4 < S.1 0 z := by
  have hb := bitK_lt k z
  have hf := fr_lt st z
  unfold oddZ at h
  by_cases h1 : bitK k z = 1
  · rw [if_pos h1] at h
    by_cases h2 : fr st z < S.1 0 z
    · omega
    · rw [if_neg h2] at h; exact absurd rfl h
  · omega
theorem nextTo_lt {S : WS} {g : Nat → Nat} {st k : Nat} (hs : st < 125) (hb : ∀ z, z < 3 → S.1 0 z ≤ 4) (h : oddTo S g st k 3 ≠ 0) : nextTo st k 3 < 125 := by
  have a2 := oddTo_step h
  have a1 := oddTo_step a2.1
  have a0 := oddTo_step a1.1
  have b0 := oddZ_bit a0.2
  have b1 := oddZ_bit a1.2
  have b2 := oddZ_bit a2.2
  have c0 := bitK_lt k 0
  have c1 := bitK_lt k 1
  have c2 := bitK_lt k 2
  have d0 := hb 0 (by omega)
  have d1 := hb 1 (by omega)
  have d2 := hb 2 (by omega)
  simp only [nextTo, fr, pw5_0, pw5_1, pw5_2] at *
  omega
/-- g below s, f from there on -/
def mixL (g f : Nat → Int64) (s : Nat) : Nat → Int64 := fun j => if j < s then g j else f j
theorem mixL_0 {g f : Nat → Int64} : mixL g f 0 = f := by funext j; simp [mixL]
theorem mixL_1 {g f : Nat → Int64} {s : Nat} {x : Int64} (hx : x = g s) : vp_updL (mixL g f s) s x = mixL g f (s + 1) := by
  subst hx
  funext j
  unfold vp_updL mixL
  by_cases h : j = s
  · subst h; simp
  · rw [if_neg h]
    by_cases h2 : j < s
    · rw [if_pos h2, if_pos (by omega)]
    · rw [if_neg h2, if_neg (by omega)]
theorem mixL_all {g f : Nat → Int64} (h : ∀ j, 125 ≤ j → f j = g j) : mixL g f 125 = g := by
  funext j
  unfold mixL
  by_cases hj : j < 125
  · rw [if_pos hj]
  · rw [if_neg hj]; exact h j (by omega)
theorem vals_hi {S : WS} {r : RG} : ∀ n j, 125 ≤ j → vals S r n j = lN 0 := by
  intro n j hj
  cases n with
  | zero => rfl
  | succ n =>
    simp only [vals]
    rw [if_neg]
    intro h
    have := (isSt_iff.mp h).1
    omega
set_option maxHeartbeats 2000000 in
theorem m_X13_initN {l : Launch} {G : GG} {w : GW} {aw : Nat → Nat} {rr : Option Nat} {S : WS} (hW : WallW G w aw rr S) (hI : wInv S) {wq : Nat} (hq : w wq = some (.inr (12, [.null, .null, .int 0]))) : gM l G yX13_init cX13_init 3 none 4 0 0 [.ref (wq), .ref (aw 0), .null] w (pV (fun w1 => w1 = gu w wq (.inr (12, [.ref (aw 0), va_rf none, .int (nI (100 - sumTo (S.1 4) (S.2 0)))])))) := by
  refine Z.met (own := "ThreeSizes$Worths") (nm := "<init>") (lv := [(0, .ref (wq)), (1, .ref (aw 0)), (2, .null)]) (by decide) rfl rfl (Nat.le_of_ble_eq_true rfl) rfl (fun κ X => ?_)
  have hs := hI.2.2.2.1
  have hne := WallW.neO hW hq (by decide)
  refine z_aload_n X dX13_init_0 rfl 0 rfl ?_
  refine z_objInit X dX13_init_1 q619 q108 q109 (Nat.le_of_ble_eq_true rfl) (Nat.le_of_ble_eq_true rfl) ?_
  refine z_aload_n X dX13_init_4 rfl 0 rfl ?_
  refine z_aload_n X dX13_init_5 rfl 1 rfl ?_
  refine z_putF X dX13_init_6 hq in_X13 tyX13 tyX13_ok nmX13 rfl 0 (Nat.le_of_ble_eq_true rfl) q625 rfl rfl rfl rfl rfl (Nat.le_of_ble_eq_true rfl) ?_
  show Z κ (gu w (wq) (.inr (12, [.ref (aw 0), .null, .int (0)]))) _ _ _ _ _
  have hW2 : WallW G _ aw rr S := Sx.other (b := wq) (e := .inr (12, [.ref (aw 0), .null, .int (0)])) hW hne
  refine z_aload_n X dX13_init_9 rfl 0 rfl ?_
  refine z_aload_nN X dX13_init_10 rfl 2 rfl ?_
  refine z_putF X dX13_init_11 gu_s in_X13 tyX13 tyX13_ok nmX13 rfl 1 (Nat.le_of_ble_eq_true rfl) q626 rfl rfl rfl rfl rfl (Nat.le_of_ble_eq_true rfl) ?_
  rw [gu_gu]
  show Z κ (gu w (wq) (.inr (12, [.ref (aw 0), .null, .int (0)]))) _ _ _ _ _
  have hW2 : WallW G _ aw rr S := Sx.other (b := wq) (e := .inr (12, [.ref (aw 0), .null, .int (0)])) hW hne
  refine z_aload_n X dX13_init_14 rfl 0 rfl ?_
  refine z_bipush (v := nI (100)) X dX13_init_15 (by decide) ?_
  refine z_aload_n X dX13_init_17 rfl 1 rfl ?_
  refine z_cip (z_runV (rest := [.int (nI (100)), .ref (wq)]) (n := 0) X [] (m_X2_all hW2 hI) dX13_init_18 (wl_o hW2) rfl (lw_V q620 q621 q622 q68 q623) hv_X2_all rfl ⟨Nat.le_of_ble_eq_true rfl, Nat.le_of_ble_eq_true rfl⟩ ⟨by omega, by omega⟩ rfl (Nat.le_of_ble_eq_true rfl)) ?_
  refine z_isub (v := nI (100 - (sumTo (S.1 4) (S.2 0)))) X dX13_init_21 (pk_sub (by omega)) ?_
  refine z_putF X dX13_init_22 gu_s in_X13 tyX13 tyX13_ok nmX13 rfl 2 (Nat.le_of_ble_eq_true rfl) q627 rfl rfl rfl rfl rfl (Nat.le_of_ble_eq_true rfl) ?_
  rw [gu_gu]
  show Z κ (gu w (wq) (.inr (12, [.ref (aw 0), .null, .int (nI (100 - (sumTo (S.1 4) (S.2 0))))]))) _ _ _ _ _
  have hW2 : WallW G _ aw rr S := Sx.other (b := wq) (e := .inr (12, [.ref (aw 0), .null, .int (nI (100 - (sumTo (S.1 4) (S.2 0))))])) hW hne
  refine z_aload_nN X dX13_init_25 rfl 2 rfl ?_
  refine z_isnullN (tgt := 34) X dX13_init_26 (by decide) ?_
  exact z_vret X dX13_init_34 (by omega) (by omega) ⟨rfl, rfl⟩
set_option maxHeartbeats 2000000 in
theorem m_X13_odds {l : Launch} {G : GG} {w : GW} {aw : Nat → Nat} {rr : Option Nat} {S : WS} {wq : Nat} {rl : Option Nat} (hq : w wq = some (.inr (12, [.ref (aw 0), va_rf rl, .int (nI (100 - sumTo (S.1 4) (S.2 0)))]))) (hW : WallW G w aw rr S) (hI : wInv S) {g : Nat → Nat} {gq : Nat} (hg : ∀ z, z < 3 → g z ≤ 10) (hG : w gq = some (.inl (G.2.1 0, 3, .inl (fun j => nI (g j))))) {st z f : Nat} (hs : st < 125) (hz : z < 3) (hf : f < 2) : gM l G yX13_odds cX13_odds 6 (some .int) 3 0 0 [.ref (wq), .int (nI (st)), .int (nI (z)), .int (nI (f)), .ref (gq)] w (pI (fun r w1 => r = nI (oddZ S g st z f) ∧ w1 = w)) := by
  refine Z.met (own := "ThreeSizes$Worths") (nm := "odds") (lv := [(0, .ref (wq)), (1, .int (nI (st))), (2, .int (nI (z))), (3, .int (nI (f))), (4, .ref (gq))]) (by decide) rfl rfl (Nat.le_of_ble_eq_true rfl) rfl (fun κ X => ?_)
  have h1 := hI.1 z hz
  have h2 := hg z hz
  have h3 := fr_lt st z
  refine z_iload_n X dX13_odds_0 rfl 1 rfl ?_
  refine z_iload_n X dX13_odds_1 rfl 2 rfl ?_
  refine z_cip (z_runSN (rest := []) (n := 2) X [.int (nI (st)), .int (nI (z))] (m_X0_freeOf (st := st) (z := z) (by omega) (by omega)) dX13_odds_2 (lw_meth q662) q674 q66 q661 hs_X0_freeOf rfl ⟨Nat.le_of_ble_eq_true rfl, Nat.le_of_ble_eq_true rfl⟩ ⟨by omega, by omega⟩ rfl (Nat.le_of_ble_eq_true rfl)) ?_
  refine z_aload_n X dX13_odds_5 rfl 0 rfl ?_
  refine z_get X dX13_odds_6 hq in_X13 rfl 0 (Nat.le_of_ble_eq_true rfl) q625 rfl ?_
  refine z_get X dX13_odds_9 (wl_o hW) in_X2 rfl 0 (Nat.le_of_ble_eq_true rfl) q123 rfl ?_
  refine z_iload_n X dX13_odds_12 rfl 2 rfl ?_
  refine z_iaN (v := nI (S.1 0 z)) X dX13_odds_13 (wl_1 hW) (by omega) (by omega) rfl ?_
  refine z_icmp_ge (tgt := 24) X dX13_odds_14 (by decide) (nI_leI (by omega) (by omega)) (fun c1 => ?_) (fun c1 => ?_)
  · refine z_iconst (v := nI (0)) X dX13_odds_24 ci0 ?_
    refine z_istore (lv2 := [(5, .int (nI (0))), (0, .ref (wq)), (1, .int (nI (st))), (2, .int (nI (z))), (3, .int (nI (f))), (4, .ref (gq))]) X dX13_odds_25 (Nat.le_of_ble_eq_true rfl) rfl ?_
    refine z_iload_n X dX13_odds_27 rfl 4 rfl ?_
    refine z_iconst (v := nI (1)) X dX13_odds_28 ci1 ?_
    refine z_icmp_ne (tgt := 37) X dX13_odds_29 (by decide) (nI_eq (by omega) (by omega)) (fun c2 => ?_) (fun c2 => ?_)
    · refine z_bipush (v := nI (10)) X dX13_odds_37 (by decide) ?_
      refine z_iload X dX13_odds_39 0 rfl ?_
      refine z_isub (v := nI (10)) X dX13_odds_41 (pk_sub (by decide)) ?_
      exact z_iret X dX13_odds_42 (by omega) (by omega) ⟨_, rfl, ⟨by unfold oddZ; first | rw [if_pos (by omega), if_pos (by omega)] | rw [if_pos (by omega), if_neg (by omega)] | rw [if_neg (by omega), if_pos (by omega)] | rw [if_neg (by omega), if_neg (by omega)], rfl⟩⟩
    · refine z_iload X dX13_odds_32 0 rfl ?_
      refine z_goto (tgt := 42) X dX13_odds_34 (by decide) ?_
      exact z_iret X dX13_odds_42 (by omega) (by omega) ⟨_, rfl, ⟨by unfold oddZ; first | rw [if_pos (by omega), if_pos (by omega)] | rw [if_pos (by omega), if_neg (by omega)] | rw [if_neg (by omega), if_pos (by omega)] | rw [if_neg (by omega), if_neg (by omega)], rfl⟩⟩
  · refine z_aload X dX13_odds_17 4 rfl ?_
    refine z_iload_n X dX13_odds_19 rfl 2 rfl ?_
    refine z_iaN (v := nI (g z)) X dX13_odds_20 hG (by omega) (by omega) rfl ?_
    refine z_goto (tgt := 25) X dX13_odds_21 (by decide) ?_
    refine z_istore (lv2 := [(5, .int (nI (g z))), (0, .ref (wq)), (1, .int (nI (st))), (2, .int (nI (z))), (3, .int (nI (f))), (4, .ref (gq))]) X dX13_odds_25 (Nat.le_of_ble_eq_true rfl) rfl ?_
    refine z_iload_n X dX13_odds_27 rfl 4 rfl ?_
    refine z_iconst (v := nI (1)) X dX13_odds_28 ci1 ?_
    refine z_icmp_ne (tgt := 37) X dX13_odds_29 (by decide) (nI_eq (by omega) (by omega)) (fun c3 => ?_) (fun c3 => ?_)
    · refine z_bipush (v := nI (10)) X dX13_odds_37 (by decide) ?_
      refine z_iload X dX13_odds_39 0 rfl ?_
      refine z_isub (v := nI (10 - (g z))) X dX13_odds_41 (pk_sub (by omega)) ?_
      exact z_iret X dX13_odds_42 (by omega) (by omega) ⟨_, rfl, ⟨by unfold oddZ; first | rw [if_pos (by omega), if_pos (by omega)] | rw [if_pos (by omega), if_neg (by omega)] | rw [if_neg (by omega), if_pos (by omega)] | rw [if_neg (by omega), if_neg (by omega)], rfl⟩⟩
    · refine z_iload X dX13_odds_32 0 rfl ?_
      refine z_goto (tgt := 42) X dX13_odds_34 (by decide) ?_
      exact z_iret X dX13_odds_42 (by omega) (by omega) ⟨_, rfl, ⟨by unfold oddZ; first | rw [if_pos (by omega), if_pos (by omega)] | rw [if_pos (by omega), if_neg (by omega)] | rw [if_neg (by omega), if_pos (by omega)] | rw [if_neg (by omega), if_neg (by omega)], rfl⟩⟩
set_option maxHeartbeats 2000000 in
theorem m_X13_comesN {l : Launch} {G : GG} {w : GW} {aw : Nat → Nat} {rr : Option Nat} {S : WS} {wq : Nat} (hq : w wq = some (.inr (12, [.ref (aw 0), .null, .int (nI (100 - sumTo (S.1 4) (S.2 0)))]))) (hW : WallW G w aw rr S) (hI : wInv S) {tn : Nat} {V : Nat → Int64} (ht : w tn = some (.inl (G.2.1 1, 125, .inr (.inl V)))) {st : Nat} (hs : st < 125) : gM l G yX13_comes cX13_comes 7 (some .long) 6 0 0 [.ref (wq), .int (nI (st)), .ref (tn)] w (pL (fun r w1 => r = comesV S (rBest S) V st ∧ w1 = w)) := by
  refine Z.met (own := "ThreeSizes$Worths") (nm := "comes") (lv := [(0, .ref (wq)), (1, .int (nI (st))), (2, .ref (tn))]) (by decide) rfl rfl (Nat.le_of_ble_eq_true rfl) rfl (fun κ X => ?_)
  have h6 := hI.2.1
  have hs5 := hI.2.2.2.1
  refine z_aload_n X dX13_comes_0 rfl 0 rfl ?_
  refine z_get X dX13_comes_1 hq in_X13 rfl 2 (Nat.le_of_ble_eq_true rfl) q627 rfl ?_
  refine z_i2l (v := lN ((100 - sumTo (S.1 4) (S.2 0)))) X dX13_comes_4 (nI_l (by omega)) ?_
  refine z_aload_n X dX13_comes_5 rfl 2 rfl ?_
  refine z_iload_n X dX13_comes_6 rfl 1 rfl ?_
  refine z_laN (v := V st) X dX13_comes_7 ht (by omega) (by omega) rfl ?_
  refine z_lmul (v := (lN ((100 - sumTo (S.1 4) (S.2 0)))) * (V st)) X dX13_comes_8 rfl ?_
  refine z_lstore_n (lv2 := [(3, .long ((lN ((100 - sumTo (S.1 4) (S.2 0)))) * (V st))), (0, .ref (wq)), (1, .int (nI (st))), (2, .ref (tn))]) X dX13_comes_9 rfl (Nat.le_of_ble_eq_true rfl) rfl ?_
  refine z_iconst (v := nI (0)) X dX13_comes_10 ci0 ?_
  refine z_istore (lv2 := [(5, .int (nI (0))), (3, .long ((lN ((100 - sumTo (S.1 4) (S.2 0)))) * (V st))), (0, .ref (wq)), (1, .int (nI (st))), (2, .ref (tn))]) X dX13_comes_11 (Nat.le_of_ble_eq_true rfl) rfl ?_
  have lp : ∀ (lq i : Nat), i + lq = S.2 0 → Z κ w [(5, .int (nI (i))), (3, .long (cvTo S (rBest S) V st i)), (0, .ref (wq)), (1, .int (nI (st))), (2, .ref (tn))] 0 0 13 [] := by
    intro lq
    induction lq with
    | zero =>
      intro i lh
      refine z_iload X dX13_comes_13 0 rfl ?_
      refine z_aload_n X dX13_comes_15 rfl 2 rfl ?_
      refine z_get X dX13_comes_16 hq in_X13 rfl 0 (Nat.le_of_ble_eq_true rfl) q625 rfl ?_
      refine z_get X dX13_comes_19 (wl_o hW) in_X2 rfl 8 (Nat.le_of_ble_eq_true rfl) q154 rfl ?_
      refine z_icmp_ge_t (tgt := 96) X dX13_comes_22 (by decide) ((nI_leI (by omega) (by omega)).mpr (by omega)) ?_
      refine z_lload_n X dX13_comes_96 rfl 1 rfl ?_
      exact z_lret X dX13_comes_97 (by omega) (by omega) ⟨_, rfl, ⟨by rw [show i = S.2 0 by omega]; rfl, rfl⟩⟩
    | succ lq ih =>
      intro i lh
      have h4 := sumTo_at (f := S.1 4) (i := i) (n := S.2 0) (by omega)
      refine z_iload X dX13_comes_13 0 rfl ?_
      refine z_aload_n X dX13_comes_15 rfl 2 rfl ?_
      refine z_get X dX13_comes_16 hq in_X13 rfl 0 (Nat.le_of_ble_eq_true rfl) q625 rfl ?_
      refine z_get X dX13_comes_19 (wl_o hW) in_X2 rfl 8 (Nat.le_of_ble_eq_true rfl) q154 rfl ?_
      refine z_icmp_ge_f (tgt := 96) X dX13_comes_22 (by decide) (fun h => absurd ((nI_leI (by omega) (by omega)).mp h) (by omega)) ?_
      refine z_aload_n X dX13_comes_25 rfl 2 rfl ?_
      refine z_get X dX13_comes_26 hq in_X13 rfl 1 (Nat.le_of_ble_eq_true rfl) q626 rfl ?_
      refine z_nonnullN X dX13_comes_29 ?_
      refine z_aload_n X dX13_comes_32 rfl 2 rfl ?_
      refine z_get X dX13_comes_33 hq in_X13 rfl 0 (Nat.le_of_ble_eq_true rfl) q625 rfl ?_
      refine z_iload X dX13_comes_36 0 rfl ?_
      refine z_iload_n X dX13_comes_38 rfl 3 rfl ?_
      refine z_aload_n X dX13_comes_39 rfl 4 rfl ?_
      refine z_cip (z_runSN (rest := []) (n := 4) X [.ref (aw 0), .int (nI (i)), .int (nI (st)), .ref (tn)] (m_X0_bestOf hW hI (ix := i) (st := st) (by omega) (by omega) ht) dX13_comes_40 (lw_meth q682) q680 q66 q681 hs_X0_bestOf rfl ⟨Nat.le_of_ble_eq_true rfl, Nat.le_of_ble_eq_true rfl⟩ ⟨by omega, by omega⟩ rfl (Nat.le_of_ble_eq_true rfl)) ?_
      refine z_goto (tgt := 60) X dX13_comes_43 (by decide) ?_
      refine z_istore (lv2 := [(6, .int (oI (bestO S i st V))), (5, .int (nI (i))), (3, .long (cvTo S (rBest S) V st i)), (0, .ref (wq)), (1, .int (nI (st))), (2, .ref (tn))]) X dX13_comes_60 (Nat.le_of_ble_eq_true rfl) rfl ?_
      refine z_lload_n X dX13_comes_62 rfl 2 rfl ?_
      refine z_aload_n X dX13_comes_63 rfl 3 rfl ?_
      refine z_get X dX13_comes_64 hq in_X13 rfl 0 (Nat.le_of_ble_eq_true rfl) q625 rfl ?_
      refine z_get X dX13_comes_67 (wl_o hW) in_X2 rfl 4 (Nat.le_of_ble_eq_true rfl) q140 rfl ?_
      refine z_iload X dX13_comes_70 1 rfl ?_
      refine z_iaN (v := nI (S.1 4 i)) X dX13_comes_72 (wl_5 hW) (by omega) (by omega) rfl ?_
      refine z_i2l (v := lN (S.1 4 i)) X dX13_comes_73 (nI_l (by omega)) ?_
      refine z_aload_n X dX13_comes_74 rfl 3 rfl ?_
      refine z_get X dX13_comes_75 hq in_X13 rfl 0 (Nat.le_of_ble_eq_true rfl) q625 rfl ?_
      refine z_iload X dX13_comes_78 1 rfl ?_
      refine z_iload X dX13_comes_80 0 rfl ?_
      refine z_iload_n X dX13_comes_82 rfl 4 rfl ?_
      refine z_aload_n X dX13_comes_83 rfl 5 rfl ?_
      refine z_clp (z_runV (rest := [.long (lN (S.1 4 i)), .long (cvTo S (rBest S) V st i)]) (n := 4) X [.int (nI (i)), .int (oI (bestO S i st V)), .int (nI (st)), .ref (tn)] (m_X2_brings hW hI (i := i) (st := st) (o := bestO S i st V) (by omega) (by omega) (fun z h => bestTo_lt 3 z h) ht) dX13_comes_84 (wl_o hW) rfl (lw_V q738 q688 q689 q68 q690) hv_X2_brings rfl ⟨Nat.le_of_ble_eq_true rfl, Nat.le_of_ble_eq_true rfl⟩ ⟨by omega, by omega⟩ rfl (Nat.le_of_ble_eq_true rfl)) ?_
      refine z_lmul (v := (lN (S.1 4 i)) * (bring S i (bestO S i st V) st V)) X dX13_comes_87 rfl ?_
      refine z_ladd (v := (cvTo S (rBest S) V st i) + ((lN (S.1 4 i)) * (bring S i (bestO S i st V) st V))) X dX13_comes_88 rfl ?_
      refine z_lstore_n (lv2 := [(3, .long ((cvTo S (rBest S) V st i) + ((lN (S.1 4 i)) * (bring S i (bestO S i st V) st V)))), (6, .int (oI (bestO S i st V))), (5, .int (nI (i))), (0, .ref (wq)), (1, .int (nI (st))), (2, .ref (tn))]) X dX13_comes_89 rfl (Nat.le_of_ble_eq_true rfl) rfl ?_
      refine z_iinc (v := nI (i + 1)) (lv2 := [(5, .int (nI (i + 1))), (3, .long ((cvTo S (rBest S) V st i) + ((lN (S.1 4 i)) * (bring S i (bestO S i st V) st V)))), (6, .int (oI (bestO S i st V))), (0, .ref (wq)), (1, .int (nI (st))), (2, .ref (tn))]) X dX13_comes_90 2 rfl (nI_1 _) (Nat.le_of_ble_eq_true rfl) rfl ?_
      refine z_goto (tgt := 13) X dX13_comes_93 (by decide) ?_
      refine Z.lv [0, 1, 3, 4, 5] rfl ?_
      exact ih (i + 1) (by omega)
  exact lp (S.2 0) 0 (by omega)
set_option maxHeartbeats 2000000 in
theorem m_X13_comesR {l : Launch} {G : GG} {w : GW} {aw : Nat → Nat} {rr : Option Nat} {S : WS} {wq : Nat} {q kd a tq : Nat} {T : Nat → Int64} (hR : RuleW G w q kd a tq T) (hq : w wq = some (.inr (12, [.ref (aw 0), .ref q, .int (nI (100 - sumTo (S.1 4) (S.2 0)))]))) (hW : WallW G w aw rr S) (hI : wInv S) {tn : Nat} {V : Nat → Int64} (ht : w tn = some (.inl (G.2.1 1, 125, .inr (.inl V)))) {st : Nat} (hs : st < 125) : gM l G yX13_comes cX13_comes 7 (some .long) 6 0 0 [.ref (wq), .int (nI (st)), .ref (tn)] w (pL (fun r w1 => r = comesV S (rRule S kd a T) V st ∧ w1 = w)) := by
  refine Z.met (own := "ThreeSizes$Worths") (nm := "comes") (lv := [(0, .ref (wq)), (1, .int (nI (st))), (2, .ref (tn))]) (by decide) rfl rfl (Nat.le_of_ble_eq_true rfl) rfl (fun κ X => ?_)
  have h6 := hI.2.1
  have hs5 := hI.2.2.2.1
  refine z_aload_n X dX13_comes_0 rfl 0 rfl ?_
  refine z_get X dX13_comes_1 hq in_X13 rfl 2 (Nat.le_of_ble_eq_true rfl) q627 rfl ?_
  refine z_i2l (v := lN ((100 - sumTo (S.1 4) (S.2 0)))) X dX13_comes_4 (nI_l (by omega)) ?_
  refine z_aload_n X dX13_comes_5 rfl 2 rfl ?_
  refine z_iload_n X dX13_comes_6 rfl 1 rfl ?_
  refine z_laN (v := V st) X dX13_comes_7 ht (by omega) (by omega) rfl ?_
  refine z_lmul (v := (lN ((100 - sumTo (S.1 4) (S.2 0)))) * (V st)) X dX13_comes_8 rfl ?_
  refine z_lstore_n (lv2 := [(3, .long ((lN ((100 - sumTo (S.1 4) (S.2 0)))) * (V st))), (0, .ref (wq)), (1, .int (nI (st))), (2, .ref (tn))]) X dX13_comes_9 rfl (Nat.le_of_ble_eq_true rfl) rfl ?_
  refine z_iconst (v := nI (0)) X dX13_comes_10 ci0 ?_
  refine z_istore (lv2 := [(5, .int (nI (0))), (3, .long ((lN ((100 - sumTo (S.1 4) (S.2 0)))) * (V st))), (0, .ref (wq)), (1, .int (nI (st))), (2, .ref (tn))]) X dX13_comes_11 (Nat.le_of_ble_eq_true rfl) rfl ?_
  have lp : ∀ (lq i : Nat), i + lq = S.2 0 → Z κ w [(5, .int (nI (i))), (3, .long (cvTo S (rRule S kd a T) V st i)), (0, .ref (wq)), (1, .int (nI (st))), (2, .ref (tn))] 0 0 13 [] := by
    intro lq
    induction lq with
    | zero =>
      intro i lh
      refine z_iload X dX13_comes_13 0 rfl ?_
      refine z_aload_n X dX13_comes_15 rfl 2 rfl ?_
      refine z_get X dX13_comes_16 hq in_X13 rfl 0 (Nat.le_of_ble_eq_true rfl) q625 rfl ?_
      refine z_get X dX13_comes_19 (wl_o hW) in_X2 rfl 8 (Nat.le_of_ble_eq_true rfl) q154 rfl ?_
      refine z_icmp_ge_t (tgt := 96) X dX13_comes_22 (by decide) ((nI_leI (by omega) (by omega)).mpr (by omega)) ?_
      refine z_lload_n X dX13_comes_96 rfl 1 rfl ?_
      exact z_lret X dX13_comes_97 (by omega) (by omega) ⟨_, rfl, ⟨by rw [show i = S.2 0 by omega]; rfl, rfl⟩⟩
    | succ lq ih =>
      intro i lh
      have h4 := sumTo_at (f := S.1 4) (i := i) (n := S.2 0) (by omega)
      refine z_iload X dX13_comes_13 0 rfl ?_
      refine z_aload_n X dX13_comes_15 rfl 2 rfl ?_
      refine z_get X dX13_comes_16 hq in_X13 rfl 0 (Nat.le_of_ble_eq_true rfl) q625 rfl ?_
      refine z_get X dX13_comes_19 (wl_o hW) in_X2 rfl 8 (Nat.le_of_ble_eq_true rfl) q154 rfl ?_
      refine z_icmp_ge_f (tgt := 96) X dX13_comes_22 (by decide) (fun h => absurd ((nI_leI (by omega) (by omega)).mp h) (by omega)) ?_
      refine z_aload_n X dX13_comes_25 rfl 2 rfl ?_
      refine z_get X dX13_comes_26 hq in_X13 rfl 1 (Nat.le_of_ble_eq_true rfl) q626 rfl ?_
      refine z_nonnull (tgt := 46) X dX13_comes_29 (by decide) ?_
      refine z_aload_n X dX13_comes_46 rfl 2 rfl ?_
      refine z_get X dX13_comes_47 hq in_X13 rfl 1 (Nat.le_of_ble_eq_true rfl) q626 rfl ?_
      refine z_aload_n X dX13_comes_50 rfl 2 rfl ?_
      refine z_get X dX13_comes_51 hq in_X13 rfl 0 (Nat.le_of_ble_eq_true rfl) q625 rfl ?_
      refine z_iload X dX13_comes_54 0 rfl ?_
      refine z_iload_n X dX13_comes_56 rfl 3 rfl ?_
      refine z_rgets (rest := []) X hW hI hR (ix := i) (s := st) (by omega) (by omega) dX13_comes_57 (List.mem_of_getElem? (i := 0) rfl) (by omega) rfl (Nat.le_of_ble_eq_true rfl) ⟨by omega, by omega⟩ ?_
      refine z_istore (lv2 := [(6, .int (oI (rget S kd a T i st))), (5, .int (nI (i))), (3, .long (cvTo S (rRule S kd a T) V st i)), (0, .ref (wq)), (1, .int (nI (st))), (2, .ref (tn))]) X dX13_comes_60 (Nat.le_of_ble_eq_true rfl) rfl ?_
      refine z_lload_n X dX13_comes_62 rfl 2 rfl ?_
      refine z_aload_n X dX13_comes_63 rfl 3 rfl ?_
      refine z_get X dX13_comes_64 hq in_X13 rfl 0 (Nat.le_of_ble_eq_true rfl) q625 rfl ?_
      refine z_get X dX13_comes_67 (wl_o hW) in_X2 rfl 4 (Nat.le_of_ble_eq_true rfl) q140 rfl ?_
      refine z_iload X dX13_comes_70 1 rfl ?_
      refine z_iaN (v := nI (S.1 4 i)) X dX13_comes_72 (wl_5 hW) (by omega) (by omega) rfl ?_
      refine z_i2l (v := lN (S.1 4 i)) X dX13_comes_73 (nI_l (by omega)) ?_
      refine z_aload_n X dX13_comes_74 rfl 3 rfl ?_
      refine z_get X dX13_comes_75 hq in_X13 rfl 0 (Nat.le_of_ble_eq_true rfl) q625 rfl ?_
      refine z_iload X dX13_comes_78 1 rfl ?_
      refine z_iload X dX13_comes_80 0 rfl ?_
      refine z_iload_n X dX13_comes_82 rfl 4 rfl ?_
      refine z_aload_n X dX13_comes_83 rfl 5 rfl ?_
      refine z_clp (z_runV (rest := [.long (lN (S.1 4 i)), .long (cvTo S (rRule S kd a T) V st i)]) (n := 4) X [.int (nI (i)), .int (oI (rget S kd a T i st)), .int (nI (st)), .ref (tn)] (m_X2_brings hW hI (i := i) (st := st) (o := rget S kd a T i st) (by omega) (by omega) (fun z h => rget_lt h) ht) dX13_comes_84 (wl_o hW) rfl (lw_V q738 q688 q689 q68 q690) hv_X2_brings rfl ⟨Nat.le_of_ble_eq_true rfl, Nat.le_of_ble_eq_true rfl⟩ ⟨by omega, by omega⟩ rfl (Nat.le_of_ble_eq_true rfl)) ?_
      refine z_lmul (v := (lN (S.1 4 i)) * (bring S i (rget S kd a T i st) st V)) X dX13_comes_87 rfl ?_
      refine z_ladd (v := (cvTo S (rRule S kd a T) V st i) + ((lN (S.1 4 i)) * (bring S i (rget S kd a T i st) st V))) X dX13_comes_88 rfl ?_
      refine z_lstore_n (lv2 := [(3, .long ((cvTo S (rRule S kd a T) V st i) + ((lN (S.1 4 i)) * (bring S i (rget S kd a T i st) st V)))), (6, .int (oI (rget S kd a T i st))), (5, .int (nI (i))), (0, .ref (wq)), (1, .int (nI (st))), (2, .ref (tn))]) X dX13_comes_89 rfl (Nat.le_of_ble_eq_true rfl) rfl ?_
      refine z_iinc (v := nI (i + 1)) (lv2 := [(5, .int (nI (i + 1))), (3, .long ((cvTo S (rRule S kd a T) V st i) + ((lN (S.1 4 i)) * (bring S i (rget S kd a T i st) st V)))), (6, .int (oI (rget S kd a T i st))), (0, .ref (wq)), (1, .int (nI (st))), (2, .ref (tn))]) X dX13_comes_90 2 rfl (nI_1 _) (Nat.le_of_ble_eq_true rfl) rfl ?_
      refine z_goto (tgt := 13) X dX13_comes_93 (by decide) ?_
      refine Z.lv [0, 1, 3, 4, 5] rfl ?_
      exact ih (i + 1) (by omega)
  exact lp (S.2 0) 0 (by omega)
theorem m_X13_comes {l : Launch} {G : GG} {w : GW} {aw : Nat → Nat} {rr : Option Nat} {S : WS} {wq : Nat} {rl : Option Nat} (hq : w wq = some (.inr (12, [.ref (aw 0), va_rf rl, .int (nI (100 - sumTo (S.1 4) (S.2 0)))]))) (hW : WallW G w aw rr S) (hI : wInv S) {tq : Nat} {r : RG} (hr : RgW G w rl tq S r) {tn : Nat} {V : Nat → Int64} (ht : w tn = some (.inl (G.2.1 1, 125, .inr (.inl V)))) {st : Nat} (hs : st < 125) : gM l G yX13_comes cX13_comes 7 (some .long) 6 0 0 [.ref wq, .int (nI st), .ref tn] w (pL (fun x w1 => x = comesV S r V st ∧ w1 = w)) := by
  rcases hr with ⟨rfl, rfl⟩ | ⟨q, kd, a, T, rfl, hR, rfl⟩
  · exact m_X13_comesN hq hW hI ht hs
  · exact m_X13_comesR hR hq hW hI ht hs
set_option maxHeartbeats 2000000 in
theorem m_X13_hour {l : Launch} {G : GG} {w : GW} {aw : Nat → Nat} {rr : Option Nat} {S : WS} {wq : Nat} {rl : Option Nat} (hq : w wq = some (.inr (12, [.ref (aw 0), va_rf rl, .int (nI (100 - sumTo (S.1 4) (S.2 0)))]))) (hW : WallW G w aw rr S) (hI : wInv S) {tq : Nat} {r : RG} (hr : RgW G w rl tq S r) {g : Nat → Nat} {gq : Nat} (hg : ∀ z, z < 3 → g z ≤ 10) (hG : w gq = some (.inl (G.2.1 0, 3, .inl (fun j => nI (g j))))) {tn : Nat} {T : Nat → Int64} (ht : w tn = some (.inl (G.2.1 1, 125, .inr (.inl T)))) {st : Nat} (hs : st < 125) : gM l G yX13_hour cX13_hour 11 (some .long) 7 0 0 [.ref (wq), .int (nI (st)), .ref (tn), .ref (gq)] w (pL (fun r_ w1 => r_ = hourV S r g T st ∧ w1 = w)) := by
  refine Z.met (own := "ThreeSizes$Worths") (nm := "hour") (lv := [(0, .ref (wq)), (1, .int (nI (st))), (2, .ref (tn)), (3, .ref (gq))]) (by decide) rfl rfl (Nat.le_of_ble_eq_true rfl) rfl (fun κ X => ?_)
  refine z_lconst (v := lN 0) X dX13_hour_0 cl0 ?_
  refine z_lstore (lv2 := [(4, .long (lN (0))), (0, .ref (wq)), (1, .int (nI (st))), (2, .ref (tn)), (3, .ref (gq))]) X dX13_hour_1 (Nat.le_of_ble_eq_true rfl) rfl ?_
  refine z_iconst (v := nI (0)) X dX13_hour_3 ci0 ?_
  refine z_istore (lv2 := [(6, .int (nI (0))), (4, .long (lN (0))), (0, .ref (wq)), (1, .int (nI (st))), (2, .ref (tn)), (3, .ref (gq))]) X dX13_hour_4 (Nat.le_of_ble_eq_true rfl) rfl ?_
  have lp : ∀ (lq k : Nat), k + lq = 8 → Z κ w [(6, .int (nI (k))), (4, .long (hrTo S r g T st k)), (0, .ref (wq)), (1, .int (nI (st))), (2, .ref (tn)), (3, .ref (gq))] 0 0 6 [] := by
    intro lq
    induction lq with
    | zero =>
      intro k lh
      obtain rfl : k = 8 := by omega
      refine z_iload X dX13_hour_6 0 rfl ?_
      refine z_bipush (v := nI (8)) X dX13_hour_8 (by decide) ?_
      refine z_icmp_ge_t (tgt := 102) X dX13_hour_10 (by decide) ((nI_leI (by omega) (by omega)).mpr (by omega)) ?_
      refine z_lload X dX13_hour_102 1 rfl ?_
      refine z_ldc2 X dX13_hour_104 q739 ?_
      refine z_ldiv (v := (hrTo S r g T st 8) / (100000)) X dX13_hour_107 (by decide) rfl ?_
      exact z_lret X dX13_hour_108 (by omega) (by omega) ⟨_, rfl, ⟨rfl, rfl⟩⟩
    | succ lq ih =>
      intro k lh
      refine z_iload X dX13_hour_6 0 rfl ?_
      refine z_bipush (v := nI (8)) X dX13_hour_8 (by decide) ?_
      refine z_icmp_ge_f (tgt := 102) X dX13_hour_10 (by decide) (fun h => absurd ((nI_leI (by omega) (by omega)).mp h) (by omega)) ?_
      refine z_iconst (v := nI (1)) X dX13_hour_13 ci1 ?_
      refine z_istore (lv2 := [(7, .int (nI (1))), (6, .int (nI (k))), (4, .long (hrTo S r g T st k)), (0, .ref (wq)), (1, .int (nI (st))), (2, .ref (tn)), (3, .ref (gq))]) X dX13_hour_14 (Nat.le_of_ble_eq_true rfl) rfl ?_
      refine z_iload_n X dX13_hour_16 rfl 4 rfl ?_
      refine z_istore (lv2 := [(8, .int (nI (st))), (7, .int (nI (1))), (6, .int (nI (k))), (4, .long (hrTo S r g T st k)), (0, .ref (wq)), (1, .int (nI (st))), (2, .ref (tn)), (3, .ref (gq))]) X dX13_hour_17 (Nat.le_of_ble_eq_true rfl) rfl ?_
      refine z_iconst (v := nI (0)) X dX13_hour_19 ci0 ?_
      refine z_istore (lv2 := [(9, .int (nI (0))), (8, .int (nI (st))), (7, .int (nI (1))), (6, .int (nI (k))), (4, .long (hrTo S r g T st k)), (0, .ref (wq)), (1, .int (nI (st))), (2, .ref (tn)), (3, .ref (gq))]) X dX13_hour_20 (Nat.le_of_ble_eq_true rfl) rfl ?_
      have lz : ∀ (lq z : Nat), z + lq = 3 → Z κ w [(9, .int (nI (z))), (8, .int (nI (nextTo st k z))), (7, .int (nI (oddTo S g st k z))), (6, .int (nI (k))), (4, .long (hrTo S r g T st k)), (0, .ref (wq)), (1, .int (nI (st))), (2, .ref (tn)), (3, .ref (gq))] 0 0 22 [] := by
        intro lq
        induction lq with
        | zero =>
          intro z lh
          obtain rfl : z = 3 := by omega
          refine z_iload X dX13_hour_22 0 rfl ?_
          refine z_iconst (v := nI (3)) X dX13_hour_24 ci3 ?_
          refine z_icmp_ge_t (tgt := 71) X dX13_hour_25 (by decide) ((nI_leI (by omega) (by omega)).mpr (by omega)) ?_
          have ho := oddTo_le (S := S) (st := st) (k := k) hg
          refine z_lload X dX13_hour_71 4 rfl ?_
          refine z_iload X dX13_hour_73 2 rfl ?_
          refine z_if_ne (tgt := 82) X dX13_hour_75 (by decide) (nz_eq (by omega)) (fun c1 => ?_) (fun c1 => ?_)
          · refine z_iload X dX13_hour_82 2 rfl ?_
            refine z_i2l (v := lN (oddTo S g st k 3)) X dX13_hour_84 (nI_l (by omega)) ?_
            have hn := nextTo_lt (g := g) hs (fun z hz => (hI.1 z hz).2.1) c1
            refine z_aload_n X dX13_hour_85 rfl 5 rfl ?_
            refine z_iload X dX13_hour_86 1 rfl ?_
            refine z_aload_n X dX13_hour_88 rfl 7 rfl ?_
            refine z_clp (z_runV (rest := [.long (lN (oddTo S g st k 3)), .long (hrTo S r g T st k)]) (n := 2) X [.int (nI (nextTo st k 3)), .ref (tn)] (m_X13_comes hq hW hI hr ht (st := nextTo st k 3) hn) dX13_hour_89 hq rfl (lw_V q676 q678 qs5 q90 q679) hv_X13_comes rfl ⟨Nat.le_of_ble_eq_true rfl, Nat.le_of_ble_eq_true rfl⟩ ⟨by omega, by omega⟩ rfl (Nat.le_of_ble_eq_true rfl)) ?_
            refine z_lmul (v := (lN (oddTo S g st k 3)) * (comesV S r T (nextTo st k 3))) X dX13_hour_92 rfl ?_
            refine z_ladd (v := (hrTo S r g T st k) + ((lN (oddTo S g st k 3)) * (comesV S r T (nextTo st k 3)))) X dX13_hour_93 rfl ?_
            refine z_lstore (lv2 := [(4, .long ((hrTo S r g T st k) + ((lN (oddTo S g st k 3)) * (comesV S r T (nextTo st k 3))))), (9, .int (nI (3))), (8, .int (nI (nextTo st k 3))), (7, .int (nI (oddTo S g st k 3))), (6, .int (nI (k))), (0, .ref (wq)), (1, .int (nI (st))), (2, .ref (tn)), (3, .ref (gq))]) X dX13_hour_94 (Nat.le_of_ble_eq_true rfl) rfl ?_
            refine z_iinc (v := nI (k + 1)) (lv2 := [(6, .int (nI (k + 1))), (4, .long ((hrTo S r g T st k) + ((lN (oddTo S g st k 3)) * (comesV S r T (nextTo st k 3))))), (9, .int (nI (3))), (8, .int (nI (nextTo st k 3))), (7, .int (nI (oddTo S g st k 3))), (0, .ref (wq)), (1, .int (nI (st))), (2, .ref (tn)), (3, .ref (gq))]) X dX13_hour_96 4 rfl (nI_1 _) (Nat.le_of_ble_eq_true rfl) rfl ?_
            refine z_goto (tgt := 6) X dX13_hour_99 (by decide) ?_
            refine Z.lv [0, 1, 5, 6, 7, 8] rfl ?_
            have e : hrTo S r g T st (k + 1) = hrTo S r g T st k + lN (oddTo S g st k 3) * comesV S r T (nextTo st k 3) := by simp only [hrTo]; rw [if_neg c1]
            have kk := ih (k + 1) (by omega)
            rw [e] at kk
            exact kk
          · refine z_lconst (v := lN 0) X dX13_hour_78 cl0 ?_
            refine z_goto (tgt := 93) X dX13_hour_79 (by decide) ?_
            refine z_ladd (v := (hrTo S r g T st k) + (lN (0))) X dX13_hour_93 rfl ?_
            refine z_lstore (lv2 := [(4, .long ((hrTo S r g T st k) + (lN (0)))), (9, .int (nI (3))), (8, .int (nI (nextTo st k 3))), (7, .int (nI (oddTo S g st k 3))), (6, .int (nI (k))), (0, .ref (wq)), (1, .int (nI (st))), (2, .ref (tn)), (3, .ref (gq))]) X dX13_hour_94 (Nat.le_of_ble_eq_true rfl) rfl ?_
            refine z_iinc (v := nI (k + 1)) (lv2 := [(6, .int (nI (k + 1))), (4, .long ((hrTo S r g T st k) + (lN (0)))), (9, .int (nI (3))), (8, .int (nI (nextTo st k 3))), (7, .int (nI (oddTo S g st k 3))), (0, .ref (wq)), (1, .int (nI (st))), (2, .ref (tn)), (3, .ref (gq))]) X dX13_hour_96 4 rfl (nI_1 _) (Nat.le_of_ble_eq_true rfl) rfl ?_
            refine z_goto (tgt := 6) X dX13_hour_99 (by decide) ?_
            refine Z.lv [0, 1, 5, 6, 7, 8] rfl ?_
            have e : hrTo S r g T st (k + 1) = hrTo S r g T st k + lN 0 := by simp only [hrTo]; rw [if_pos c1]
            have kk := ih (k + 1) (by omega)
            rw [e] at kk
            exact kk
        | succ lq ih =>
          intro z lh
          have hz3 : z < 3 := by omega
          have hd := Nat.div_le_self k (2 ^ z)
          have hb2 := bitK_lt k z
          refine z_iload X dX13_hour_22 0 rfl ?_
          refine z_iconst (v := nI (3)) X dX13_hour_24 ci3 ?_
          refine z_icmp_ge_f (tgt := 71) X dX13_hour_25 (by decide) (fun h => absurd ((nI_leI (by omega) (by omega)).mp h) (by omega)) ?_
          refine z_iload X dX13_hour_28 3 rfl ?_
          refine z_iload X dX13_hour_30 0 rfl ?_
          refine z_ishr (v := nI (k / 2 ^ z)) X dX13_hour_32 (bit_shr (by omega) (by omega)) ?_
          refine z_iconst (v := nI (1)) X dX13_hour_33 ci1 ?_
          refine z_iand (v := nI (bitK k z)) X dX13_hour_34 (bit_and (by omega)) ?_
          refine z_istore (lv2 := [(10, .int (nI (bitK k z))), (9, .int (nI (z))), (8, .int (nI (nextTo st k z))), (7, .int (nI (oddTo S g st k z))), (6, .int (nI (k))), (4, .long (hrTo S r g T st k)), (0, .ref (wq)), (1, .int (nI (st))), (2, .ref (tn)), (3, .ref (gq))]) X dX13_hour_35 (Nat.le_of_ble_eq_true rfl) rfl ?_
          refine z_iload X dX13_hour_37 3 rfl ?_
          refine z_aload_n X dX13_hour_39 rfl 6 rfl ?_
          refine z_iload_n X dX13_hour_40 rfl 7 rfl ?_
          refine z_iload X dX13_hour_41 1 rfl ?_
          refine z_iload X dX13_hour_43 0 rfl ?_
          refine z_aload_n X dX13_hour_45 rfl 9 rfl ?_
          refine z_cip (z_runV (rest := [.int (nI (oddTo S g st k z))]) (n := 4) X [.int (nI (st)), .int (nI (z)), .int (nI (bitK k z)), .ref (gq)] (m_X13_odds hq hW hI hg hG (st := st) (z := z) (f := bitK k z) (by omega) (by omega) (by have := bitK_lt k z; simp only [bitK] at this; omega)) dX13_hour_46 hq rfl (lw_V q670 q672 qs4 q90 q673) hv_X13_odds rfl ⟨Nat.le_of_ble_eq_true rfl, Nat.le_of_ble_eq_true rfl⟩ ⟨by omega, by omega⟩ rfl (Nat.le_of_ble_eq_true rfl)) ?_
          refine z_imul (v := nI ((oddTo S g st k z) * (oddZ S g st z (bitK k z)))) X dX13_hour_49 (pk_mul _ _) ?_
          refine z_istore (lv2 := [(7, .int (nI ((oddTo S g st k z) * (oddZ S g st z (bitK k z))))), (10, .int (nI (bitK k z))), (9, .int (nI (z))), (8, .int (nI (nextTo st k z))), (6, .int (nI (k))), (4, .long (hrTo S r g T st k)), (0, .ref (wq)), (1, .int (nI (st))), (2, .ref (tn)), (3, .ref (gq))]) X dX13_hour_50 (Nat.le_of_ble_eq_true rfl) rfl ?_
          refine z_iload X dX13_hour_52 3 rfl ?_
          refine z_iload X dX13_hour_54 1 rfl ?_
          refine z_iload X dX13_hour_56 2 rfl ?_
          refine z_cip (z_runSN (rest := [.int (nI (bitK k z)), .int (nI (nextTo st k z))]) (n := 1) X [.int (nI (z))] (m_X0_step (z := z) (by omega) rfl) dX13_hour_58 (lw_meth q665) q675 q66 q664 hs_X0_step rfl ⟨Nat.le_of_ble_eq_true rfl, Nat.le_of_ble_eq_true rfl⟩ ⟨by omega, by omega⟩ rfl (Nat.le_of_ble_eq_true rfl)) ?_
          refine z_imul (v := nI ((bitK k z) * (pw5 z))) X dX13_hour_61 (pk_mul _ _) ?_
          refine z_iadd (v := nI (nextTo st k z + ((bitK k z) * (pw5 z)))) X dX13_hour_62 (nI_add _ _) ?_
          refine z_istore (lv2 := [(8, .int (nI (nextTo st k z + ((bitK k z) * (pw5 z))))), (7, .int (nI ((oddTo S g st k z) * (oddZ S g st z (bitK k z))))), (10, .int (nI (bitK k z))), (9, .int (nI (z))), (6, .int (nI (k))), (4, .long (hrTo S r g T st k)), (0, .ref (wq)), (1, .int (nI (st))), (2, .ref (tn)), (3, .ref (gq))]) X dX13_hour_63 (Nat.le_of_ble_eq_true rfl) rfl ?_
          refine z_iinc (v := nI (z + 1)) (lv2 := [(9, .int (nI (z + 1))), (8, .int (nI (nextTo st k z + ((bitK k z) * (pw5 z))))), (7, .int (nI ((oddTo S g st k z) * (oddZ S g st z (bitK k z))))), (10, .int (nI (bitK k z))), (6, .int (nI (k))), (4, .long (hrTo S r g T st k)), (0, .ref (wq)), (1, .int (nI (st))), (2, .ref (tn)), (3, .ref (gq))]) X dX13_hour_65 3 rfl (nI_1 _) (Nat.le_of_ble_eq_true rfl) rfl ?_
          refine z_goto (tgt := 22) X dX13_hour_68 (by decide) ?_
          refine Z.lv [0, 1, 2, 4, 5, 6, 7, 8, 9] rfl ?_
          exact ih (z + 1) (by omega)
      exact lz (3) 0 (by omega)
  exact lp (8) 0 (by omega)
