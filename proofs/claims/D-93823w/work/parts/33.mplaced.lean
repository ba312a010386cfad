/-! THE MODEL: what is placed, what is fetched -/
set_option maxRecDepth 100000
theorem oI_z {z : Nat} {o : Option Nat} (hz : z < 2 ^ 31) (h : ∀ y, o = some y → y < 3) : nI z = oI o ↔ o = some z := by
  cases o with
  | none => exact ⟨fun q => absurd q (nI_nm1 hz), fun q => by cases q⟩
  | some y =>
    show nI z = nI y ↔ _
    rw [nI_eq hz (by have := h y rfl; omega)]
    constructor
    · intro q; rw [q]
    · intro q; exact (Option.some.inj q).symm
/-- kind 0: what is best -/
def rgM (S : WS) (kd a : Nat) (T : Nat → Int64) : RG := fun V i st => if kd = 0 then bestO S i st V else rget S kd a T i st
theorem rgM_0 {S : WS} {a : Nat} {T : Nat → Int64} : rgM S 0 a T = rBest S := by funext V i st; rfl
theorem rgM_k {S : WS} {kd a : Nat} {T : Nat → Int64} (h : 1 ≤ kd) : rgM S kd a T = rRule S kd a T := by funext V i st; exact if_neg (by omega)
theorem bring_congr {S : WS} {i st : Nat} {o : Option Nat} {V1 V2 : Nat → Int64} (h : ∀ j, j < 125 → V1 j = V2 j) (hs : st < 125) : bring S i o st V1 = bring S i o st V2 := by
  cases o with
  | none => simp only [bring, h st hs]
  | some z => simp only [bring, h (st - pw5 z) (by omega)]
theorem bestTo_congr {S : WS} {i st : Nat} {V1 V2 : Nat → Int64} (h : ∀ j, j < 125 → V1 j = V2 j) (hs : st < 125) : ∀ n, bestTo S i st V1 n = bestTo S i st V2 n := by
  intro n
  induction n with
  | zero => rfl
  | succ n ih =>
    simp only [bestTo]
    rw [ih, bring_congr (V2 := V2) h hs, bring_congr (V2 := V2) (o := some n) h hs]
theorem rgM_congr {S : WS} {kd a : Nat} {T : Nat → Int64} {i st : Nat} {V1 V2 : Nat → Int64} (h : ∀ j, j < 125 → V1 j = V2 j) (hs : st < 125) : rgM S kd a T V1 i st = rgM S kd a T V2 i st := by
  unfold rgM
  split
  · exact bestTo_congr h hs 3
  · rfl
theorem comesV_congr {S : WS} {kd a : Nat} {T : Nat → Int64} {st : Nat} {V1 V2 : Nat → Int64} (h : ∀ j, j < 125 → V1 j = V2 j) (hs : st < 125) : comesV S (rgM S kd a T) V1 st = comesV S (rgM S kd a T) V2 st := by
  have key : ∀ n, cvTo S (rgM S kd a T) V1 st n = cvTo S (rgM S kd a T) V2 st n := by
    intro n
    induction n with
    | zero => simp only [cvTo, h st hs]
    | succ n ih => simp only [cvTo]; rw [ih, rgM_congr (V2 := V2) h hs, bring_congr (V2 := V2) h hs]
  exact key _
def gLet (S : WS) (lt : Option Nat) (z : Nat) : Nat := if lt = some z then (if S.1 2 z + 3 ≤ 10 then S.1 2 z + 3 else 10) else S.1 2 z
theorem gLet_0 {S : WS} : gLet S none = S.1 2 := by funext z; exact if_neg (fun h => by cases h)
theorem gLet_le {S : WS} (hI : wInv S) {lt : Option Nat} {z : Nat} (hz : z < 3) : gLet S lt z ≤ 10 := by
  have := (hI.1 z hz).2.2
  unfold gLet
  split
  · split <;> omega
  · omega
theorem oddZ_free {S : WS} {g : Nat → Nat} {st z k : Nat} (h : oddZ S g st z (bitK k z) ≠ 0) (hf : fr st z ≤ S.1 0 z) : fr st z + bitK k z ≤ S.1 0 z := by
  have hb := bitK_lt k z
  unfold oddZ at h
  by_cases h1 : bitK k z = 1
  · rw [if_pos h1] at h
    by_cases h2 : fr st z < S.1 0 z
    · omega
    · rw [if_neg h2] at h; exact absurd rfl h
  · omega
theorem nextTo_is {S : WS} {g : Nat → Nat} {st k : Nat} (hs : isStP S st) (hb : ∀ z, z < 3 → S.1 0 z ≤ 4) (h : oddTo S g st k 3 ≠ 0) : isStP S (nextTo st k 3) := by
  have a2 := oddTo_step h
  have a1 := oddTo_step a2.1
  have a0 := oddTo_step a1.1
  obtain ⟨s0, s1, s2, s3⟩ := hs
  have b0 := oddZ_free a0.2 s1
  have b1 := oddZ_free a1.2 s2
  have b2 := oddZ_free a2.2 s3
  have d0 := hb 0 (by omega)
  have d1 := hb 1 (by omega)
  have d2 := hb 2 (by omega)
  clear a0 a1 a2 h
  have e : nextTo st k 3 = st + bitK k 0 + bitK k 1 * 5 + bitK k 2 * 25 := by simp only [nextTo, pw5_0, pw5_1, pw5_2, Nat.mul_one]
  rw [e]
  simp only [isStP, fr, pw5_0, pw5_1, pw5_2] at *
  generalize bitK k 0 = x at *
  generalize bitK k 1 = y at *
  generalize bitK k 2 = z at *
  generalize S.1 0 0 = p at *
  generalize S.1 0 1 = q at *
  generalize S.1 0 2 = r at *
  refine ⟨by omega, by omega, by omega, by omega⟩
set_option maxHeartbeats 2000000 in
theorem m_X4_placedB {l : Launch} {G : GG} {wb w : GW} {ad : Nat → Nat} {m : MSt} (hM : MM G wb w ad m) {S : WS} (hR : MR S m) (hI : wInv S) {tq : Nat} {V : Nat → Int64} (ht : w tq = some (.inl (G.2.1 1, 125, .inr (.inl V)))) {st a : Nat} (hs : st < 125) : gM l G yX4_placed cX4_placed 11 (some .long) 5 0 0 [.ref (ad 0), .int (nI (st)), .int (nI (0)), .int (nI (a)), .ref (tq)] w (pL (fun r w1 => r = comesV S (rBest S) V st ∧ w1 = w)) := by
  refine Z.met (own := "ThreeSizesModel") (nm := "placed") (lv := [(0, .ref (ad 0)), (1, .int (nI (st))), (2, .int (nI (0))), (3, .int (nI (a))), (4, .ref (tq))]) (by decide) rfl rfl (Nat.le_of_ble_eq_true rfl) rfl (fun κ X => ?_)
  have h6 := hI.2.1
  have hs5 := hI.2.2.2.1
  refine z_bipush (v := nI (100)) X dX4_placed_0 (by decide) ?_
  refine z_aload_n X dX4_placed_2 rfl 0 rfl ?_
  refine z_cip (z_runV (rest := [.int (nI (100))]) (n := 0) X [] (m_X4_comes hM hR hI) dX4_placed_3 (mm_o hM) rfl (lw_V q1616 q1618 qs34 q70 q1619) hv_X4_comes rfl ⟨Nat.le_of_ble_eq_true rfl, Nat.le_of_ble_eq_true rfl⟩ ⟨by omega, by omega⟩ rfl (Nat.le_of_ble_eq_true rfl)) ?_
  refine z_isub (v := nI (100 - (sumTo (S.1 4) (S.2 0)))) X dX4_placed_6 (pk_sub (by omega)) ?_
  refine z_i2l (v := lN (100 - (sumTo (S.1 4) (S.2 0)))) X dX4_placed_7 (nI_l (by omega)) ?_
  refine z_aload X dX4_placed_8 4 rfl ?_
  refine z_iload_n X dX4_placed_10 rfl 1 rfl ?_
  refine z_laN (v := V st) X dX4_placed_11 ht (by omega) (by omega) rfl ?_
  refine z_lmul (v := (lN (100 - (sumTo (S.1 4) (S.2 0)))) * (V st)) X dX4_placed_12 rfl ?_
  refine z_lstore (lv2 := [(5, .long ((lN (100 - (sumTo (S.1 4) (S.2 0)))) * (V st))), (0, .ref (ad 0)), (1, .int (nI (st))), (2, .int (nI (0))), (3, .int (nI (a))), (4, .ref (tq))]) X dX4_placed_13 (Nat.le_of_ble_eq_true rfl) rfl ?_
  refine z_iconst (v := nI (0)) X dX4_placed_15 ci0 ?_
  refine z_istore (lv2 := [(7, .int (nI (0))), (5, .long ((lN (100 - (sumTo (S.1 4) (S.2 0)))) * (V st))), (0, .ref (ad 0)), (1, .int (nI (st))), (2, .int (nI (0))), (3, .int (nI (a))), (4, .ref (tq))]) X dX4_placed_16 (Nat.le_of_ble_eq_true rfl) rfl ?_
  have lp : ∀ (lq i : Nat), i + lq = S.2 0 → Z κ w [(7, .int (nI (i))), (5, .long (cvTo S (rBest S) V st i)), (0, .ref (ad 0)), (1, .int (nI (st))), (2, .int (nI (0))), (3, .int (nI (a))), (4, .ref (tq))] 0 0 18 [] := by
    intro lq
    induction lq with
    | zero =>
      intro i lh
      obtain rfl : i = S.2 0 := by omega
      refine z_iload X dX4_placed_18 0 rfl ?_
      refine z_aload_n X dX4_placed_20 rfl 2 rfl ?_
      refine z_mgv13 X hM dX4_placed_21 hR.2.1 ?_
      refine z_icmp_ge_t (tgt := 125) X dX4_placed_24 (by decide) ((nI_leI (by omega) (by omega)).mpr (by omega)) ?_
      refine z_lload X dX4_placed_125 1 rfl ?_
      exact z_lret X dX4_placed_127 (by omega) (by omega) ⟨_, rfl, ⟨rfl, rfl⟩⟩
    | succ lq ih =>
      intro i lh
      have h4 := sumTo_at (f := S.1 4) (i := i) (n := S.2 0) (by omega)
      have h5 := hI.2.2.1 i (by omega)
      refine z_iload X dX4_placed_18 0 rfl ?_
      refine z_aload_n X dX4_placed_20 rfl 2 rfl ?_
      refine z_mgv13 X hM dX4_placed_21 hR.2.1 ?_
      refine z_icmp_ge_f (tgt := 125) X dX4_placed_24 (by decide) (fun h => absurd ((nI_leI (by omega) (by omega)).mp h) (by omega)) ?_
      refine z_iload_n X dX4_placed_27 rfl 4 rfl ?_
      refine z_if_ne_f (tgt := 43) X dX4_placed_28 (by decide) (by decide) ?_
      refine z_aload_n X dX4_placed_31 rfl 2 rfl ?_
      refine z_iload X dX4_placed_32 0 rfl ?_
      refine z_iload_n X dX4_placed_34 rfl 3 rfl ?_
      refine z_aload X dX4_placed_35 6 rfl ?_
      refine z_cip (z_runV (rest := []) (n := 3) X [.int (nI (i)), .int (nI (st)), .ref (tq)] (m_X4_bestFor hM hR hI (ix := i) (st := st) (by omega) (by omega) ht) dX4_placed_37 (mm_o hM) rfl (lw_V q1620 q1622 qs35 q70 q1623) hv_X4_bestFor rfl ⟨Nat.le_of_ble_eq_true rfl, Nat.le_of_ble_eq_true rfl⟩ ⟨by omega, by omega⟩ rfl (Nat.le_of_ble_eq_true rfl)) ?_
      refine z_goto (tgt := 52) X dX4_placed_40 (by decide) ?_
      refine z_istore (lv2 := [(8, .int (oI (bestO S i st V))), (7, .int (nI (i))), (5, .long (cvTo S (rBest S) V st i)), (0, .ref (ad 0)), (1, .int (nI (st))), (2, .int (nI (0))), (3, .int (nI (a))), (4, .ref (tq))]) X dX4_placed_52 (Nat.le_of_ble_eq_true rfl) rfl ?_
      refine z_iload X dX4_placed_54 0 rfl ?_
      refine z_iconst (v := -1) X dX4_placed_56 cim1 ?_
      refine z_icmp_ne (tgt := 74) X dX4_placed_57 (by decide) (oI_m1 (fun z h => by have := (bestTo_lt _ _ h).1; omega)) (fun c1 => ?_) (fun c1 => ?_)
      · obtain ⟨z, hz⟩ := Option.ne_none_iff_exists.mp c1
        have hz2 := bestTo_lt 3 z hz.symm
        have hz3 := fr_ge (fits_of hz2.2).2
        rw [← hz]
        refine z_ldc2 X dX4_placed_74 q1633 ?_
        refine z_aload_n X dX4_placed_77 rfl 3 rfl ?_
        refine z_mg14 X hM dX4_placed_78 ?_
        refine z_iload X dX4_placed_81 1 rfl ?_
        refine z_aN5 (v := .ref (ad (50 + i))) X dX4_placed_83 (mm_15 hM) (by omega) (by omega) rfl ?_
        refine z_iconst (v := nI (2)) X dX4_placed_84 ci2 ?_
        refine z_iaN (v := nI (S.1 5 i)) X dX4_placed_85 (mmr_50 hM (by omega)) (by omega) (by omega) (hR.2.2.1 i (by omega)).2.2.1 ?_
        refine z_i2l (v := lN (S.1 5 i)) X dX4_placed_86 (nI_l (by omega)) ?_
        refine z_lmul (v := (1000000) * (lN (S.1 5 i))) X dX4_placed_87 rfl ?_
        refine z_aload X dX4_placed_88 7 rfl ?_
        refine z_iload_n X dX4_placed_90 rfl 4 rfl ?_
        refine z_iload X dX4_placed_91 0 rfl ?_
        refine z_cip (z_runS (rest := [.int (nI (st)), .ref (tq), .long ((1000000) * (lN (S.1 5 i)))]) (n := 1) X [.int (nI (z))] (m_X4_oneOf (z := z) (by omega)) dX4_placed_93 (lw_S q1634 q1635 q70 q1636) hs_X4_oneOf rfl ⟨Nat.le_of_ble_eq_true rfl, Nat.le_of_ble_eq_true rfl⟩ ⟨by omega, by omega⟩ rfl (Nat.le_of_ble_eq_true rfl)) ?_
        refine z_isub (v := nI (st - (pw5 z))) X dX4_placed_96 (pk_sub (by omega)) ?_
        refine z_laN (v := V (st - (pw5 z))) X dX4_placed_97 ht (by omega) (by omega) rfl ?_
        refine z_ladd (v := ((1000000) * (lN (S.1 5 i))) + (V (st - (pw5 z)))) X dX4_placed_98 rfl ?_
        refine z_lstore (lv2 := [(9, .long (((1000000) * (lN (S.1 5 i))) + (V (st - (pw5 z))))), (8, .int (nI (z))), (7, .int (nI (i))), (5, .long (cvTo S (rBest S) V st i)), (0, .ref (ad 0)), (1, .int (nI (st))), (2, .int (nI (0))), (3, .int (nI (a))), (4, .ref (tq))]) X dX4_placed_99 (Nat.le_of_ble_eq_true rfl) rfl ?_
        refine z_lload X dX4_placed_101 3 rfl ?_
        refine z_aload_n X dX4_placed_103 rfl 4 rfl ?_
        refine z_mg14 X hM dX4_placed_104 ?_
        refine z_iload X dX4_placed_107 2 rfl ?_
        refine z_aN5 (v := .ref (ad (50 + i))) X dX4_placed_109 (mm_15 hM) (by omega) (by omega) rfl ?_
        refine z_iconst (v := nI (1)) X dX4_placed_110 ci1 ?_
        refine z_iaN (v := nI (S.1 4 i)) X dX4_placed_111 (mmr_50 hM (by omega)) (by omega) (by omega) (hR.2.2.1 i (by omega)).2.1 ?_
        refine z_i2l (v := lN (S.1 4 i)) X dX4_placed_112 (nI_l (by omega)) ?_
        refine z_lload X dX4_placed_113 0 rfl ?_
        refine z_lmul (v := (lN (S.1 4 i)) * (((1000000) * (lN (S.1 5 i))) + (V (st - (pw5 z))))) X dX4_placed_115 rfl ?_
        refine z_ladd (v := (cvTo S (rBest S) V st i) + ((lN (S.1 4 i)) * (((1000000) * (lN (S.1 5 i))) + (V (st - (pw5 z)))))) X dX4_placed_116 rfl ?_
        refine z_lstore (lv2 := [(5, .long ((cvTo S (rBest S) V st i) + ((lN (S.1 4 i)) * (((1000000) * (lN (S.1 5 i))) + (V (st - (pw5 z))))))), (9, .long (((1000000) * (lN (S.1 5 i))) + (V (st - (pw5 z))))), (8, .int (nI (z))), (7, .int (nI (i))), (0, .ref (ad 0)), (1, .int (nI (st))), (2, .int (nI (0))), (3, .int (nI (a))), (4, .ref (tq))]) X dX4_placed_117 (Nat.le_of_ble_eq_true rfl) rfl ?_
        refine z_iinc (v := nI (i + 1)) (lv2 := [(7, .int (nI (i + 1))), (5, .long ((cvTo S (rBest S) V st i) + ((lN (S.1 4 i)) * (((1000000) * (lN (S.1 5 i))) + (V (st - (pw5 z))))))), (9, .long (((1000000) * (lN (S.1 5 i))) + (V (st - (pw5 z))))), (8, .int (nI (z))), (0, .ref (ad 0)), (1, .int (nI (st))), (2, .int (nI (0))), (3, .int (nI (a))), (4, .ref (tq))]) X dX4_placed_119 3 rfl (nI_1 _) (Nat.le_of_ble_eq_true rfl) rfl ?_
        refine z_goto (tgt := 18) X dX4_placed_122 (by decide) ?_
        refine Z.lv [0, 1, 4, 5, 6, 7, 8] rfl ?_
        have e : cvTo S (rBest S) V st (i + 1) = (cvTo S (rBest S) V st i) + ((lN (S.1 4 i)) * (((1000000) * (lN (S.1 5 i))) + (V (st - (pw5 z))))) := by
          show cvTo S (rBest S) V st i + lN (S.1 4 i) * bring S i (bestO S i st V) st V = _
          rw [← hz]; rfl
        have kk := ih (i + 1) (by omega)
        rw [e] at kk
        exact kk
      · refine z_aload_n X dX4_placed_60 rfl 3 rfl ?_
        refine z_iload X dX4_placed_61 1 rfl ?_
        refine z_clp (z_runV (rest := []) (n := 1) X [.int (nI (i))] (m_X4_lostOf hM hR hI (i := i) (by omega)) dX4_placed_63 (mm_o hM) rfl (lw_V q1624 q1626 qs36 q70 q1627) hv_X4_lostOf rfl ⟨Nat.le_of_ble_eq_true rfl, Nat.le_of_ble_eq_true rfl⟩ ⟨by omega, by omega⟩ rfl (Nat.le_of_ble_eq_true rfl)) ?_
        refine z_aload X dX4_placed_66 7 rfl ?_
        refine z_iload_n X dX4_placed_68 rfl 4 rfl ?_
        refine z_laN (v := V st) X dX4_placed_69 ht (by omega) (by omega) rfl ?_
        refine z_ladd (v := (lostL S i) + (V st)) X dX4_placed_70 rfl ?_
        refine z_goto (tgt := 99) X dX4_placed_71 (by decide) ?_
        refine z_lstore (lv2 := [(9, .long ((lostL S i) + (V st))), (8, .int (oI (bestO S i st V))), (7, .int (nI (i))), (5, .long (cvTo S (rBest S) V st i)), (0, .ref (ad 0)), (1, .int (nI (st))), (2, .int (nI (0))), (3, .int (nI (a))), (4, .ref (tq))]) X dX4_placed_99 (Nat.le_of_ble_eq_true rfl) rfl ?_
        refine z_lload X dX4_placed_101 3 rfl ?_
        refine z_aload_n X dX4_placed_103 rfl 4 rfl ?_
        refine z_mg14 X hM dX4_placed_104 ?_
        refine z_iload X dX4_placed_107 2 rfl ?_
        refine z_aN5 (v := .ref (ad (50 + i))) X dX4_placed_109 (mm_15 hM) (by omega) (by omega) rfl ?_
        refine z_iconst (v := nI (1)) X dX4_placed_110 ci1 ?_
        refine z_iaN (v := nI (S.1 4 i)) X dX4_placed_111 (mmr_50 hM (by omega)) (by omega) (by omega) (hR.2.2.1 i (by omega)).2.1 ?_
        refine z_i2l (v := lN (S.1 4 i)) X dX4_placed_112 (nI_l (by omega)) ?_
        refine z_lload X dX4_placed_113 0 rfl ?_
        refine z_lmul (v := (lN (S.1 4 i)) * ((lostL S i) + (V st))) X dX4_placed_115 rfl ?_
        refine z_ladd (v := (cvTo S (rBest S) V st i) + ((lN (S.1 4 i)) * ((lostL S i) + (V st)))) X dX4_placed_116 rfl ?_
        refine z_lstore (lv2 := [(5, .long ((cvTo S (rBest S) V st i) + ((lN (S.1 4 i)) * ((lostL S i) + (V st))))), (9, .long ((lostL S i) + (V st))), (8, .int (oI (bestO S i st V))), (7, .int (nI (i))), (0, .ref (ad 0)), (1, .int (nI (st))), (2, .int (nI (0))), (3, .int (nI (a))), (4, .ref (tq))]) X dX4_placed_117 (Nat.le_of_ble_eq_true rfl) rfl ?_
        refine z_iinc (v := nI (i + 1)) (lv2 := [(7, .int (nI (i + 1))), (5, .long ((cvTo S (rBest S) V st i) + ((lN (S.1 4 i)) * ((lostL S i) + (V st))))), (9, .long ((lostL S i) + (V st))), (8, .int (oI (bestO S i st V))), (0, .ref (ad 0)), (1, .int (nI (st))), (2, .int (nI (0))), (3, .int (nI (a))), (4, .ref (tq))]) X dX4_placed_119 3 rfl (nI_1 _) (Nat.le_of_ble_eq_true rfl) rfl ?_
        refine z_goto (tgt := 18) X dX4_placed_122 (by decide) ?_
        refine Z.lv [0, 1, 4, 5, 6, 7, 8] rfl ?_
        have e : cvTo S (rBest S) V st (i + 1) = (cvTo S (rBest S) V st i) + ((lN (S.1 4 i)) * ((lostL S i) + (V st))) := by
          show cvTo S (rBest S) V st i + lN (S.1 4 i) * bring S i (bestO S i st V) st V = _
          rw [c1]; rfl
        have kk := ih (i + 1) (by omega)
        rw [e] at kk
        exact kk
  exact lp (S.2 0) 0 (by omega)
set_option maxHeartbeats 2000000 in
theorem m_X4_placedR {l : Launch} {G : GG} {wb w : GW} {ad : Nat → Nat} {m : MSt} (hM : MM G wb w ad m) {S : WS} (hR : MR S m) (hI : wInv S) {tq : Nat} {V : Nat → Int64} (ht : w tq = some (.inl (G.2.1 1, 125, .inr (.inl V)))) {st a : Nat} (hs : st < 125) {kd : Nat} (hk : 1 ≤ kd ∧ kd ≤ 6) (ha : a < 100) {T : Nat → Int64} (hw : kd = 6 → ∀ k, k < S.2 0 → m.1 (60 + k) st = oI (bestO S k st T)) : gM l G yX4_placed cX4_placed 11 (some .long) 5 0 0 [.ref (ad 0), .int (nI (st)), .int (nI (kd)), .int (nI (a)), .ref (tq)] w (pL (fun r w1 => r = comesV S (rRule S kd a T) V st ∧ w1 = w)) := by
  refine Z.met (own := "ThreeSizesModel") (nm := "placed") (lv := [(0, .ref (ad 0)), (1, .int (nI (st))), (2, .int (nI (kd))), (3, .int (nI (a))), (4, .ref (tq))]) (by decide) rfl rfl (Nat.le_of_ble_eq_true rfl) rfl (fun κ X => ?_)
  have h6 := hI.2.1
  have hs5 := hI.2.2.2.1
  refine z_bipush (v := nI (100)) X dX4_placed_0 (by decide) ?_
  refine z_aload_n X dX4_placed_2 rfl 0 rfl ?_
  refine z_cip (z_runV (rest := [.int (nI (100))]) (n := 0) X [] (m_X4_comes hM hR hI) dX4_placed_3 (mm_o hM) rfl (lw_V q1616 q1618 qs34 q70 q1619) hv_X4_comes rfl ⟨Nat.le_of_ble_eq_true rfl, Nat.le_of_ble_eq_true rfl⟩ ⟨by omega, by omega⟩ rfl (Nat.le_of_ble_eq_true rfl)) ?_
  refine z_isub (v := nI (100 - (sumTo (S.1 4) (S.2 0)))) X dX4_placed_6 (pk_sub (by omega)) ?_
  refine z_i2l (v := lN (100 - (sumTo (S.1 4) (S.2 0)))) X dX4_placed_7 (nI_l (by omega)) ?_
  refine z_aload X dX4_placed_8 4 rfl ?_
  refine z_iload_n X dX4_placed_10 rfl 1 rfl ?_
  refine z_laN (v := V st) X dX4_placed_11 ht (by omega) (by omega) rfl ?_
  refine z_lmul (v := (lN (100 - (sumTo (S.1 4) (S.2 0)))) * (V st)) X dX4_placed_12 rfl ?_
  refine z_lstore (lv2 := [(5, .long ((lN (100 - (sumTo (S.1 4) (S.2 0)))) * (V st))), (0, .ref (ad 0)), (1, .int (nI (st))), (2, .int (nI (kd))), (3, .int (nI (a))), (4, .ref (tq))]) X dX4_placed_13 (Nat.le_of_ble_eq_true rfl) rfl ?_
  refine z_iconst (v := nI (0)) X dX4_placed_15 ci0 ?_
  refine z_istore (lv2 := [(7, .int (nI (0))), (5, .long ((lN (100 - (sumTo (S.1 4) (S.2 0)))) * (V st))), (0, .ref (ad 0)), (1, .int (nI (st))), (2, .int (nI (kd))), (3, .int (nI (a))), (4, .ref (tq))]) X dX4_placed_16 (Nat.le_of_ble_eq_true rfl) rfl ?_
  have lp : ∀ (lq i : Nat), i + lq = S.2 0 → Z κ w [(7, .int (nI (i))), (5, .long (cvTo S (rRule S kd a T) V st i)), (0, .ref (ad 0)), (1, .int (nI (st))), (2, .int (nI (kd))), (3, .int (nI (a))), (4, .ref (tq))] 0 0 18 [] := by
    intro lq
    induction lq with
    | zero =>
      intro i lh
      obtain rfl : i = S.2 0 := by omega
      refine z_iload X dX4_placed_18 0 rfl ?_
      refine z_aload_n X dX4_placed_20 rfl 2 rfl ?_
      refine z_mgv13 X hM dX4_placed_21 hR.2.1 ?_
      refine z_icmp_ge_t (tgt := 125) X dX4_placed_24 (by decide) ((nI_leI (by omega) (by omega)).mpr (by omega)) ?_
      refine z_lload X dX4_placed_125 1 rfl ?_
      exact z_lret X dX4_placed_127 (by omega) (by omega) ⟨_, rfl, ⟨rfl, rfl⟩⟩
    | succ lq ih =>
      intro i lh
      have h4 := sumTo_at (f := S.1 4) (i := i) (n := S.2 0) (by omega)
      have h5 := hI.2.2.1 i (by omega)
      refine z_iload X dX4_placed_18 0 rfl ?_
      refine z_aload_n X dX4_placed_20 rfl 2 rfl ?_
      refine z_mgv13 X hM dX4_placed_21 hR.2.1 ?_
      refine z_icmp_ge_f (tgt := 125) X dX4_placed_24 (by decide) (fun h => absurd ((nI_leI (by omega) (by omega)).mp h) (by omega)) ?_
      refine z_iload_n X dX4_placed_27 rfl 4 rfl ?_
      refine z_if_ne_t (tgt := 43) X dX4_placed_28 (by decide) (fun h => absurd ((nz_eq (by omega)).mp h) (by omega)) ?_
      refine z_aload_n X dX4_placed_43 rfl 2 rfl ?_
      refine z_iload_n X dX4_placed_44 rfl 4 rfl ?_
      refine z_iload_n X dX4_placed_45 rfl 5 rfl ?_
      refine z_iload X dX4_placed_46 0 rfl ?_
      refine z_iload_n X dX4_placed_48 rfl 3 rfl ?_
      refine z_cip (z_runV (rest := []) (n := 4) X [.int (nI (kd)), .int (nI (a)), .int (nI (i)), .int (nI (st))] (m_X4_sizeBy hM hR hI hk ha (ix := i) (st := st) (by omega) (by omega) (T := T) (fun h6 => hw h6 i (by omega))) dX4_placed_49 (mm_o hM) rfl (lw_V q1637 q1639 qs38 q70 q1640) hv_X4_sizeBy rfl ⟨Nat.le_of_ble_eq_true rfl, Nat.le_of_ble_eq_true rfl⟩ ⟨by omega, by omega⟩ rfl (Nat.le_of_ble_eq_true rfl)) ?_
      refine z_istore (lv2 := [(8, .int (oI (rget S kd a T i st))), (7, .int (nI (i))), (5, .long (cvTo S (rRule S kd a T) V st i)), (0, .ref (ad 0)), (1, .int (nI (st))), (2, .int (nI (kd))), (3, .int (nI (a))), (4, .ref (tq))]) X dX4_placed_52 (Nat.le_of_ble_eq_true rfl) rfl ?_
      refine z_iload X dX4_placed_54 0 rfl ?_
      refine z_iconst (v := -1) X dX4_placed_56 cim1 ?_
      refine z_icmp_ne (tgt := 74) X dX4_placed_57 (by decide) (oI_m1 (fun z h => by have := (rget_lt h).1; omega)) (fun c1 => ?_) (fun c1 => ?_)
      · obtain ⟨z, hz⟩ := Option.ne_none_iff_exists.mp c1
        have hz2 := rget_lt hz.symm
        have hz3 := fr_ge (fits_of hz2.2).2
        rw [← hz]
        refine z_ldc2 X dX4_placed_74 q1633 ?_
        refine z_aload_n X dX4_placed_77 rfl 3 rfl ?_
        refine z_mg14 X hM dX4_placed_78 ?_
        refine z_iload X dX4_placed_81 1 rfl ?_
        refine z_aN5 (v := .ref (ad (50 + i))) X dX4_placed_83 (mm_15 hM) (by omega) (by omega) rfl ?_
        refine z_iconst (v := nI (2)) X dX4_placed_84 ci2 ?_
        refine z_iaN (v := nI (S.1 5 i)) X dX4_placed_85 (mmr_50 hM (by omega)) (by omega) (by omega) (hR.2.2.1 i (by omega)).2.2.1 ?_
        refine z_i2l (v := lN (S.1 5 i)) X dX4_placed_86 (nI_l (by omega)) ?_
        refine z_lmul (v := (1000000) * (lN (S.1 5 i))) X dX4_placed_87 rfl ?_
        refine z_aload X dX4_placed_88 7 rfl ?_
        refine z_iload_n X dX4_placed_90 rfl 4 rfl ?_
        refine z_iload X dX4_placed_91 0 rfl ?_
        refine z_cip (z_runS (rest := [.int (nI (st)), .ref (tq), .long ((1000000) * (lN (S.1 5 i)))]) (n := 1) X [.int (nI (z))] (m_X4_oneOf (z := z) (by omega)) dX4_placed_93 (lw_S q1634 q1635 q70 q1636) hs_X4_oneOf rfl ⟨Nat.le_of_ble_eq_true rfl, Nat.le_of_ble_eq_true rfl⟩ ⟨by omega, by omega⟩ rfl (Nat.le_of_ble_eq_true rfl)) ?_
        refine z_isub (v := nI (st - (pw5 z))) X dX4_placed_96 (pk_sub (by omega)) ?_
        refine z_laN (v := V (st - (pw5 z))) X dX4_placed_97 ht (by omega) (by omega) rfl ?_
        refine z_ladd (v := ((1000000) * (lN (S.1 5 i))) + (V (st - (pw5 z)))) X dX4_placed_98 rfl ?_
        refine z_lstore (lv2 := [(9, .long (((1000000) * (lN (S.1 5 i))) + (V (st - (pw5 z))))), (8, .int (nI (z))), (7, .int (nI (i))), (5, .long (cvTo S (rRule S kd a T) V st i)), (0, .ref (ad 0)), (1, .int (nI (st))), (2, .int (nI (kd))), (3, .int (nI (a))), (4, .ref (tq))]) X dX4_placed_99 (Nat.le_of_ble_eq_true rfl) rfl ?_
        refine z_lload X dX4_placed_101 3 rfl ?_
        refine z_aload_n X dX4_placed_103 rfl 4 rfl ?_
        refine z_mg14 X hM dX4_placed_104 ?_
        refine z_iload X dX4_placed_107 2 rfl ?_
        refine z_aN5 (v := .ref (ad (50 + i))) X dX4_placed_109 (mm_15 hM) (by omega) (by omega) rfl ?_
        refine z_iconst (v := nI (1)) X dX4_placed_110 ci1 ?_
        refine z_iaN (v := nI (S.1 4 i)) X dX4_placed_111 (mmr_50 hM (by omega)) (by omega) (by omega) (hR.2.2.1 i (by omega)).2.1 ?_
        refine z_i2l (v := lN (S.1 4 i)) X dX4_placed_112 (nI_l (by omega)) ?_
        refine z_lload X dX4_placed_113 0 rfl ?_
        refine z_lmul (v := (lN (S.1 4 i)) * (((1000000) * (lN (S.1 5 i))) + (V (st - (pw5 z))))) X dX4_placed_115 rfl ?_
        refine z_ladd (v := (cvTo S (rRule S kd a T) V st i) + ((lN (S.1 4 i)) * (((1000000) * (lN (S.1 5 i))) + (V (st - (pw5 z)))))) X dX4_placed_116 rfl ?_
        refine z_lstore (lv2 := [(5, .long ((cvTo S (rRule S kd a T) V st i) + ((lN (S.1 4 i)) * (((1000000) * (lN (S.1 5 i))) + (V (st - (pw5 z))))))), (9, .long (((1000000) * (lN (S.1 5 i))) + (V (st - (pw5 z))))), (8, .int (nI (z))), (7, .int (nI (i))), (0, .ref (ad 0)), (1, .int (nI (st))), (2, .int (nI (kd))), (3, .int (nI (a))), (4, .ref (tq))]) X dX4_placed_117 (Nat.le_of_ble_eq_true rfl) rfl ?_
        refine z_iinc (v := nI (i + 1)) (lv2 := [(7, .int (nI (i + 1))), (5, .long ((cvTo S (rRule S kd a T) V st i) + ((lN (S.1 4 i)) * (((1000000) * (lN (S.1 5 i))) + (V (st - (pw5 z))))))), (9, .long (((1000000) * (lN (S.1 5 i))) + (V (st - (pw5 z))))), (8, .int (nI (z))), (0, .ref (ad 0)), (1, .int (nI (st))), (2, .int (nI (kd))), (3, .int (nI (a))), (4, .ref (tq))]) X dX4_placed_119 3 rfl (nI_1 _) (Nat.le_of_ble_eq_true rfl) rfl ?_
        refine z_goto (tgt := 18) X dX4_placed_122 (by decide) ?_
        refine Z.lv [0, 1, 4, 5, 6, 7, 8] rfl ?_
        have e : cvTo S (rRule S kd a T) V st (i + 1) = (cvTo S (rRule S kd a T) V st i) + ((lN (S.1 4 i)) * (((1000000) * (lN (S.1 5 i))) + (V (st - (pw5 z))))) := by
          show cvTo S (rRule S kd a T) V st i + lN (S.1 4 i) * bring S i (rget S kd a T i st) st V = _
          rw [← hz]; rfl
        have kk := ih (i + 1) (by omega)
        rw [e] at kk
        exact kk
      · refine z_aload_n X dX4_placed_60 rfl 3 rfl ?_
        refine z_iload X dX4_placed_61 1 rfl ?_
        refine z_clp (z_runV (rest := []) (n := 1) X [.int (nI (i))] (m_X4_lostOf hM hR hI (i := i) (by omega)) dX4_placed_63 (mm_o hM) rfl (lw_V q1624 q1626 qs36 q70 q1627) hv_X4_lostOf rfl ⟨Nat.le_of_ble_eq_true rfl, Nat.le_of_ble_eq_true rfl⟩ ⟨by omega, by omega⟩ rfl (Nat.le_of_ble_eq_true rfl)) ?_
        refine z_aload X dX4_placed_66 7 rfl ?_
        refine z_iload_n X dX4_placed_68 rfl 4 rfl ?_
        refine z_laN (v := V st) X dX4_placed_69 ht (by omega) (by omega) rfl ?_
        refine z_ladd (v := (lostL S i) + (V st)) X dX4_placed_70 rfl ?_
        refine z_goto (tgt := 99) X dX4_placed_71 (by decide) ?_
        refine z_lstore (lv2 := [(9, .long ((lostL S i) + (V st))), (8, .int (oI (rget S kd a T i st))), (7, .int (nI (i))), (5, .long (cvTo S (rRule S kd a T) V st i)), (0, .ref (ad 0)), (1, .int (nI (st))), (2, .int (nI (kd))), (3, .int (nI (a))), (4, .ref (tq))]) X dX4_placed_99 (Nat.le_of_ble_eq_true rfl) rfl ?_
        refine z_lload X dX4_placed_101 3 rfl ?_
        refine z_aload_n X dX4_placed_103 rfl 4 rfl ?_
        refine z_mg14 X hM dX4_placed_104 ?_
        refine z_iload X dX4_placed_107 2 rfl ?_
        refine z_aN5 (v := .ref (ad (50 + i))) X dX4_placed_109 (mm_15 hM) (by omega) (by omega) rfl ?_
        refine z_iconst (v := nI (1)) X dX4_placed_110 ci1 ?_
        refine z_iaN (v := nI (S.1 4 i)) X dX4_placed_111 (mmr_50 hM (by omega)) (by omega) (by omega) (hR.2.2.1 i (by omega)).2.1 ?_
        refine z_i2l (v := lN (S.1 4 i)) X dX4_placed_112 (nI_l (by omega)) ?_
        refine z_lload X dX4_placed_113 0 rfl ?_
        refine z_lmul (v := (lN (S.1 4 i)) * ((lostL S i) + (V st))) X dX4_placed_115 rfl ?_
        refine z_ladd (v := (cvTo S (rRule S kd a T) V st i) + ((lN (S.1 4 i)) * ((lostL S i) + (V st)))) X dX4_placed_116 rfl ?_
        refine z_lstore (lv2 := [(5, .long ((cvTo S (rRule S kd a T) V st i) + ((lN (S.1 4 i)) * ((lostL S i) + (V st))))), (9, .long ((lostL S i) + (V st))), (8, .int (oI (rget S kd a T i st))), (7, .int (nI (i))), (0, .ref (ad 0)), (1, .int (nI (st))), (2, .int (nI (kd))), (3, .int (nI (a))), (4, .ref (tq))]) X dX4_placed_117 (Nat.le_of_ble_eq_true rfl) rfl ?_
        refine z_iinc (v := nI (i + 1)) (lv2 := [(7, .int (nI (i + 1))), (5, .long ((cvTo S (rRule S kd a T) V st i) + ((lN (S.1 4 i)) * ((lostL S i) + (V st))))), (9, .long ((lostL S i) + (V st))), (8, .int (oI (rget S kd a T i st))), (0, .ref (ad 0)), (1, .int (nI (st))), (2, .int (nI (kd))), (3, .int (nI (a))), (4, .ref (tq))]) X dX4_placed_119 3 rfl (nI_1 _) (Nat.le_of_ble_eq_true rfl) rfl ?_
        refine z_goto (tgt := 18) X dX4_placed_122 (by decide) ?_
        refine Z.lv [0, 1, 4, 5, 6, 7, 8] rfl ?_
        have e : cvTo S (rRule S kd a T) V st (i + 1) = (cvTo S (rRule S kd a T) V st i) + ((lN (S.1 4 i)) * ((lostL S i) + (V st))) := by
          show cvTo S (rRule S kd a T) V st i + lN (S.1 4 i) * bring S i (rget S kd a T i st) st V = _
          rw [c1]; rfl
        have kk := ih (i + 1) (by omega)
        rw [e] at kk
        exact kk
  exact lp (S.2 0) 0 (by omega)
theorem m_X4_placed {l : Launch} {G : GG} {wb w : GW} {ad : Nat → Nat} {m : MSt} (hM : MM G wb w ad m) {S : WS} (hR : MR S m) (hI : wInv S) {tq : Nat} {V : Nat → Int64} (ht : w tq = some (.inl (G.2.1 1, 125, .inr (.inl V)))) {st a kd : Nat} (hs : st < 125) (hk : kd ≤ 6) (ha : a < 100) {T : Nat → Int64} (hw : kd = 6 → ∀ k, k < S.2 0 → m.1 (60 + k) st = oI (bestO S k st T)) : gM l G yX4_placed cX4_placed 11 (some .long) 5 0 0 [.ref (ad 0), .int (nI st), .int (nI kd), .int (nI a), .ref tq] w (pL (fun r w1 => r = comesV S (rgM S kd a T) V st ∧ w1 = w)) := by
  by_cases h0 : kd = 0
  · subst h0; rw [rgM_0]; exact m_X4_placedB hM hR hI ht hs
  · rw [rgM_k (by omega)]; exact m_X4_placedR hM hR hI ht hs (by omega) ha hw
set_option maxHeartbeats 2000000 in
theorem m_X4_fetched {l : Launch} {G : GG} {wb w : GW} {ad : Nat → Nat} {m : MSt} (hM : MM G wb w ad m) {S : WS} (hR : MR S m) (hI : wInv S) {st : Nat} (hs : isStP S st) {lt : Option Nat} (hlt : ∀ y, lt = some y → y < 3) {r : RG} {V : Nat → Int64} (hB : ∀ j, isStP S j → m.2.1 30 j = comesV S r V j) : gM l G yX4_fetched cX4_fetched 12 (some .long) 2 0 0 [.ref (ad 0), .int (nI (st)), .int (oI (lt))] w (pL (fun r_ w1 => r_ = hrTo S r (gLet S lt) V st 8 ∧ w1 = w)) := by
  refine Z.met (own := "ThreeSizesModel") (nm := "fetched") (lv := [(0, .ref (ad 0)), (1, .int (nI (st))), (2, .int (oI (lt)))]) (by decide) rfl rfl (Nat.le_of_ble_eq_true rfl) rfl (fun κ X => ?_)
  have h5 := hs.1
  refine z_lconst (v := lN 0) X dX4_fetched_0 cl0 ?_
  refine z_lstore_n (lv2 := [(3, .long (lN (0))), (0, .ref (ad 0)), (1, .int (nI (st))), (2, .int (oI (lt)))]) X dX4_fetched_1 rfl (Nat.le_of_ble_eq_true rfl) rfl ?_
  refine z_iconst (v := nI (0)) X dX4_fetched_2 ci0 ?_
  refine z_istore (lv2 := [(5, .int (nI (0))), (3, .long (lN (0))), (0, .ref (ad 0)), (1, .int (nI (st))), (2, .int (oI (lt)))]) X dX4_fetched_3 (Nat.le_of_ble_eq_true rfl) rfl ?_
  have lp : ∀ (lq k : Nat), k + lq = 8 → Z κ w [(5, .int (nI (k))), (3, .long (hrTo S r (gLet S lt) V st k)), (0, .ref (ad 0)), (1, .int (nI (st))), (2, .int (oI (lt)))] 0 0 5 [] := by
    intro lq
    induction lq with
    | zero =>
      intro k lh
      obtain rfl : k = 8 := by omega
      refine z_iload X dX4_fetched_5 0 rfl ?_
      refine z_bipush (v := nI (8)) X dX4_fetched_7 (by decide) ?_
      refine z_icmp_ge_t (tgt := 191) X dX4_fetched_9 (by decide) ((nI_leI (by omega) (by omega)).mpr (by omega)) ?_
      refine z_lload_n X dX4_fetched_191 rfl 1 rfl ?_
      exact z_lret X dX4_fetched_192 (by omega) (by omega) ⟨_, rfl, ⟨rfl, rfl⟩⟩
    | succ lq ih =>
      intro k lh
      refine z_iload X dX4_fetched_5 0 rfl ?_
      refine z_bipush (v := nI (8)) X dX4_fetched_7 (by decide) ?_
      refine z_icmp_ge_f (tgt := 191) X dX4_fetched_9 (by decide) (fun h => absurd ((nI_leI (by omega) (by omega)).mp h) (by omega)) ?_
      refine z_lconst (v := lN 1) X dX4_fetched_12 cl1 ?_
      refine z_lstore (lv2 := [(6, .long (lN (1))), (5, .int (nI (k))), (3, .long (hrTo S r (gLet S lt) V st k)), (0, .ref (ad 0)), (1, .int (nI (st))), (2, .int (oI (lt)))]) X dX4_fetched_13 (Nat.le_of_ble_eq_true rfl) rfl ?_
      refine z_iload_n X dX4_fetched_15 rfl 4 rfl ?_
      refine z_istore (lv2 := [(8, .int (nI (st))), (6, .long (lN (1))), (5, .int (nI (k))), (3, .long (hrTo S r (gLet S lt) V st k)), (0, .ref (ad 0)), (1, .int (nI (st))), (2, .int (oI (lt)))]) X dX4_fetched_16 (Nat.le_of_ble_eq_true rfl) rfl ?_
      refine z_iconst (v := nI (0)) X dX4_fetched_18 ci0 ?_
      refine z_istore (lv2 := [(9, .int (nI (0))), (8, .int (nI (st))), (6, .long (lN (1))), (5, .int (nI (k))), (3, .long (hrTo S r (gLet S lt) V st k)), (0, .ref (ad 0)), (1, .int (nI (st))), (2, .int (oI (lt)))]) X dX4_fetched_19 (Nat.le_of_ble_eq_true rfl) rfl ?_
      have lz : ∀ (lq z : Nat), z + lq = 3 → Z κ w [(9, .int (nI (z))), (8, .int (nI (nextTo st k z))), (6, .long (lN (oddTo S (gLet S lt) st k z))), (5, .int (nI (k))), (3, .long (hrTo S r (gLet S lt) V st k)), (0, .ref (ad 0)), (1, .int (nI (st))), (2, .int (oI (lt)))] 0 0 21 [] := by
        intro lq
        induction lq with
        | zero =>
          intro z lh
          obtain rfl : z = 3 := by omega
          refine z_iload X dX4_fetched_21 0 rfl ?_
          refine z_iconst (v := nI (3)) X dX4_fetched_23 ci3 ?_
          refine z_icmp_ge_t (tgt := 161) X dX4_fetched_24 (by decide) ((nI_leI (by omega) (by omega)).mpr (by omega)) ?_
          have ho := oddTo_le (S := S) (st := st) (k := k) (g := gLet S lt) (fun z hz => gLet_le hI hz)
          refine z_lload_n X dX4_fetched_161 rfl 4 rfl ?_
          refine z_lload X dX4_fetched_162 2 rfl ?_
          refine z_lconst (v := lN 0) X dX4_fetched_164 cl0 ?_
          refine z_lcmp (v := lg_cmp (lN (oddTo S (gLet S lt) st k 3)) (lN (0))) X dX4_fetched_165 rfl ?_
          refine z_if_ne (tgt := 173) X dX4_fetched_166 (by decide) (lg_cmp_eq _ _) (fun c1 => ?_) (fun c1 => ?_)
          · have hn0 : oddTo S (gLet S lt) st k 3 ≠ 0 := fun e => c1 (by rw [e])
            have hn := nextTo_is hs (fun z hz => (hI.1 z hz).2.1) hn0
            have hn5 := hn.1
            refine z_lload X dX4_fetched_173 2 rfl ?_
            refine z_aload_n X dX4_fetched_175 rfl 5 rfl ?_
            refine z_mg29 X hM dX4_fetched_176 ?_
            refine z_iload X dX4_fetched_179 1 rfl ?_
            refine z_laN (v := comesV S r V (nextTo st k 3)) X dX4_fetched_181 (mm_30 hM) (by omega) (by omega) (hB (nextTo st k 3) hn) ?_
            refine z_lmul (v := (lN (oddTo S (gLet S lt) st k 3)) * (comesV S r V (nextTo st k 3))) X dX4_fetched_182 rfl ?_
            refine z_ladd (v := (hrTo S r (gLet S lt) V st k) + ((lN (oddTo S (gLet S lt) st k 3)) * (comesV S r V (nextTo st k 3)))) X dX4_fetched_183 rfl ?_
            refine z_lstore_n (lv2 := [(3, .long ((hrTo S r (gLet S lt) V st k) + ((lN (oddTo S (gLet S lt) st k 3)) * (comesV S r V (nextTo st k 3))))), (9, .int (nI (3))), (8, .int (nI (nextTo st k 3))), (6, .long (lN (oddTo S (gLet S lt) st k 3))), (5, .int (nI (k))), (0, .ref (ad 0)), (1, .int (nI (st))), (2, .int (oI (lt)))]) X dX4_fetched_184 rfl (Nat.le_of_ble_eq_true rfl) rfl ?_
            refine z_iinc (v := nI (k + 1)) (lv2 := [(5, .int (nI (k + 1))), (3, .long ((hrTo S r (gLet S lt) V st k) + ((lN (oddTo S (gLet S lt) st k 3)) * (comesV S r V (nextTo st k 3))))), (9, .int (nI (3))), (8, .int (nI (nextTo st k 3))), (6, .long (lN (oddTo S (gLet S lt) st k 3))), (0, .ref (ad 0)), (1, .int (nI (st))), (2, .int (oI (lt)))]) X dX4_fetched_185 4 rfl (nI_1 _) (Nat.le_of_ble_eq_true rfl) rfl ?_
            refine z_goto (tgt := 5) X dX4_fetched_188 (by decide) ?_
            refine Z.lv [0, 1, 5, 6, 7] rfl ?_
            have e : hrTo S r (gLet S lt) V st (k + 1) = (hrTo S r (gLet S lt) V st k) + ((lN (oddTo S (gLet S lt) st k 3)) * (comesV S r V (nextTo st k 3))) := by simp only [hrTo]; rw [if_neg hn0]
            have kk := ih (k + 1) (by omega)
            rw [e] at kk
            exact kk
          · refine z_lconst (v := lN 0) X dX4_fetched_169 cl0 ?_
            refine z_goto (tgt := 183) X dX4_fetched_170 (by decide) ?_
            refine z_ladd (v := (hrTo S r (gLet S lt) V st k) + (lN (0))) X dX4_fetched_183 rfl ?_
            refine z_lstore_n (lv2 := [(3, .long ((hrTo S r (gLet S lt) V st k) + (lN (0)))), (9, .int (nI (3))), (8, .int (nI (nextTo st k 3))), (6, .long (lN (oddTo S (gLet S lt) st k 3))), (5, .int (nI (k))), (0, .ref (ad 0)), (1, .int (nI (st))), (2, .int (oI (lt)))]) X dX4_fetched_184 rfl (Nat.le_of_ble_eq_true rfl) rfl ?_
            refine z_iinc (v := nI (k + 1)) (lv2 := [(5, .int (nI (k + 1))), (3, .long ((hrTo S r (gLet S lt) V st k) + (lN (0)))), (9, .int (nI (3))), (8, .int (nI (nextTo st k 3))), (6, .long (lN (oddTo S (gLet S lt) st k 3))), (0, .ref (ad 0)), (1, .int (nI (st))), (2, .int (oI (lt)))]) X dX4_fetched_185 4 rfl (nI_1 _) (Nat.le_of_ble_eq_true rfl) rfl ?_
            refine z_goto (tgt := 5) X dX4_fetched_188 (by decide) ?_
            refine Z.lv [0, 1, 5, 6, 7] rfl ?_
            have e : hrTo S r (gLet S lt) V st (k + 1) = hrTo S r (gLet S lt) V st k + lN 0 := by simp only [hrTo]; rw [if_pos ((lN_eq (by omega) (by omega)).mp c1)]
            have kk := ih (k + 1) (by omega)
            rw [e] at kk
            exact kk
        | succ lq ih =>
          intro z lh
          have hz3 : z < 3 := by omega
          have hd := Nat.div_le_self k (2 ^ z)
          have hb2 := bitK_lt k z
          have hg1 := hI.1 z hz3
          have hf1 := fr_lt st z
          have hs2 : fr st z ≤ S.1 0 z := by rcases (show z = 0 ∨ z = 1 ∨ z = 2 by omega) with rfl | rfl | rfl <;> simp only [hs.2]
          refine z_iload X dX4_fetched_21 0 rfl ?_
          refine z_iconst (v := nI (3)) X dX4_fetched_23 ci3 ?_
          refine z_icmp_ge_f (tgt := 161) X dX4_fetched_24 (by decide) (fun h => absurd ((nI_leI (by omega) (by omega)).mp h) (by omega)) ?_
          refine z_iload X dX4_fetched_27 0 rfl ?_
          refine z_iload_n X dX4_fetched_29 rfl 7 rfl ?_
          refine z_icmp_ne (tgt := 64) X dX4_fetched_30 (by decide) (oI_z (by omega) (by assumption)) (fun c2 => ?_) (fun c2 => ?_)
          · refine z_aload_n X dX4_fetched_64 rfl 5 rfl ?_
            refine z_mg12 X hM dX4_fetched_65 ?_
            refine z_iload X dX4_fetched_68 0 rfl ?_
            refine z_iaN (v := nI (S.1 2 z)) X dX4_fetched_70 (mm_13 hM) (by omega) (by omega) (hR.1 z (by omega)).2.2 ?_
            have hgl : gLet S lt z = S.1 2 z := by unfold gLet; exact if_neg c2
            refine z_istore (lv2 := [(10, .int (nI (S.1 2 z))), (9, .int (nI (z))), (8, .int (nI (nextTo st k z))), (6, .long (lN (oddTo S (gLet S lt) st k z))), (5, .int (nI (k))), (3, .long (hrTo S r (gLet S lt) V st k)), (0, .ref (ad 0)), (1, .int (nI (st))), (2, .int (oI (lt)))]) X dX4_fetched_71 (Nat.le_of_ble_eq_true rfl) rfl ?_
            refine z_iload_n X dX4_fetched_73 rfl 7 rfl ?_
            refine z_iload X dX4_fetched_74 1 rfl ?_
            refine z_cip (z_runS (rest := []) (n := 2) X [.int (nI (st)), .int (nI (z))] (m_X4_freeOf (st := st) (z := z) (by omega) (by omega)) dX4_fetched_76 (lw_S q1609 q1610 q70 q1611) hs_X4_freeOf rfl ⟨Nat.le_of_ble_eq_true rfl, Nat.le_of_ble_eq_true rfl⟩ ⟨by omega, by omega⟩ rfl (Nat.le_of_ble_eq_true rfl)) ?_
            refine z_aload_n X dX4_fetched_79 rfl 6 rfl ?_
            refine z_mg10 X hM dX4_fetched_80 ?_
            refine z_iload X dX4_fetched_83 1 rfl ?_
            refine z_iaN (v := nI (S.1 0 z)) X dX4_fetched_85 (mm_11 hM) (by omega) (by omega) (hR.1 z (by omega)).1 ?_
            refine z_icmp_ne (tgt := 93) X dX4_fetched_86 (by decide) (nI_eq (by omega) (by omega)) (fun c3 => ?_) (fun c3 => ?_)
            · refine z_iload X dX4_fetched_93 0 rfl ?_
              refine z_istore (lv2 := [(10, .int (nI (S.1 2 z))), (9, .int (nI (z))), (8, .int (nI (nextTo st k z))), (6, .long (lN (oddTo S (gLet S lt) st k z))), (5, .int (nI (k))), (3, .long (hrTo S r (gLet S lt) V st k)), (0, .ref (ad 0)), (1, .int (nI (st))), (2, .int (oI (lt)))]) X dX4_fetched_95 (Nat.le_of_ble_eq_true rfl) rfl ?_
              refine z_iload X dX4_fetched_97 4 rfl ?_
              refine z_iload X dX4_fetched_99 1 rfl ?_
              refine z_ishr (v := nI (k / 2 ^ z)) X dX4_fetched_101 (bit_shr (by omega) (by omega)) ?_
              refine z_iconst (v := nI (1)) X dX4_fetched_102 ci1 ?_
              refine z_iand (v := nI (bitK k z)) X dX4_fetched_103 (bit_and (by omega)) ?_
              refine z_if_eq (tgt := 111) X dX4_fetched_104 (by decide) (nz_eq (by omega)) (fun c4 => ?_) (fun c4 => ?_)
              · refine z_iconst (v := nI (0)) X dX4_fetched_111 ci0 ?_
                refine z_istore (lv2 := [(11, .int (nI (0))), (10, .int (nI (S.1 2 z))), (9, .int (nI (z))), (8, .int (nI (nextTo st k z))), (6, .long (lN (oddTo S (gLet S lt) st k z))), (5, .int (nI (k))), (3, .long (hrTo S r (gLet S lt) V st k)), (0, .ref (ad 0)), (1, .int (nI (st))), (2, .int (oI (lt)))]) X dX4_fetched_112 (Nat.le_of_ble_eq_true rfl) rfl ?_
                refine z_lload X dX4_fetched_114 4 rfl ?_
                refine z_iload X dX4_fetched_116 0 rfl ?_
                refine z_if_eq_t (tgt := 127) X dX4_fetched_118 (by decide) (by decide) ?_
                refine z_bipush (v := nI (10)) X dX4_fetched_127 (by decide) ?_
                refine z_iload X dX4_fetched_129 1 rfl ?_
                refine z_isub (v := nI (10 - (S.1 2 z))) X dX4_fetched_131 (pk_sub (by omega)) ?_
                refine z_i2l (v := lN (10 - (S.1 2 z))) X dX4_fetched_132 (nI_l (by omega)) ?_
                refine z_lmul (v := lN (oddTo S (gLet S lt) st k z * (10 - (S.1 2 z)))) X dX4_fetched_133 (lN_mul _ _) ?_
                refine z_lstore (lv2 := [(6, .long (lN (oddTo S (gLet S lt) st k z * (10 - (S.1 2 z))))), (11, .int (nI (0))), (10, .int (nI (S.1 2 z))), (9, .int (nI (z))), (8, .int (nI (nextTo st k z))), (5, .int (nI (k))), (3, .long (hrTo S r (gLet S lt) V st k)), (0, .ref (ad 0)), (1, .int (nI (st))), (2, .int (oI (lt)))]) X dX4_fetched_134 (Nat.le_of_ble_eq_true rfl) rfl ?_
                refine z_iload X dX4_fetched_136 4 rfl ?_
                refine z_iload X dX4_fetched_138 1 rfl ?_
                refine z_if_eq_t (tgt := 151) X dX4_fetched_140 (by decide) (by decide) ?_
                refine z_iconst (v := nI (0)) X dX4_fetched_151 ci0 ?_
                refine z_iadd (v := nI (nextTo st k z + 0)) X dX4_fetched_152 (nI_add _ _) ?_
                refine z_istore (lv2 := [(8, .int (nI (nextTo st k z + 0))), (6, .long (lN (oddTo S (gLet S lt) st k z * (10 - (S.1 2 z))))), (11, .int (nI (0))), (10, .int (nI (S.1 2 z))), (9, .int (nI (z))), (5, .int (nI (k))), (3, .long (hrTo S r (gLet S lt) V st k)), (0, .ref (ad 0)), (1, .int (nI (st))), (2, .int (oI (lt)))]) X dX4_fetched_153 (Nat.le_of_ble_eq_true rfl) rfl ?_
                refine z_iinc (v := nI (z + 1)) (lv2 := [(9, .int (nI (z + 1))), (8, .int (nI (nextTo st k z + 0))), (6, .long (lN (oddTo S (gLet S lt) st k z * (10 - (S.1 2 z))))), (11, .int (nI (0))), (10, .int (nI (S.1 2 z))), (5, .int (nI (k))), (3, .long (hrTo S r (gLet S lt) V st k)), (0, .ref (ad 0)), (1, .int (nI (st))), (2, .int (oI (lt)))]) X dX4_fetched_155 4 rfl (nI_1 _) (Nat.le_of_ble_eq_true rfl) rfl ?_
                refine z_goto (tgt := 21) X dX4_fetched_158 (by decide) ?_
                refine Z.lv [0, 1, 2, 5, 6, 7, 8, 9] rfl ?_
                have hb3 : bitK k z = 0 := by omega
                have e1 : oddZ S (gLet S lt) st z (bitK k z) = (10 - (S.1 2 z)) := by
                  unfold oddZ
                  rw [hb3]
                  first | rw [if_pos rfl] | rw [if_neg (by decide)]
                  first | rw [if_pos (by omega)] | rw [if_neg (by omega)]
                  all_goals first | rfl | omega
                have e2 : oddTo S (gLet S lt) st k (z + 1) = oddTo S (gLet S lt) st k z * (10 - (S.1 2 z)) := by show oddTo S (gLet S lt) st k z * oddZ S (gLet S lt) st z (bitK k z) = _; rw [e1]
                have e3 : nextTo st k (z + 1) = nextTo st k z + 0 := by show nextTo st k z + bitK k z * pw5 z = _; rw [hb3]; rw [Nat.zero_mul]
                have kk := ih (z + 1) (by omega)
                rw [e2, e3] at kk
                exact kk
              · refine z_iconst (v := nI (1)) X dX4_fetched_107 ci1 ?_
                refine z_goto (tgt := 112) X dX4_fetched_108 (by decide) ?_
                refine z_istore (lv2 := [(11, .int (nI (1))), (10, .int (nI (S.1 2 z))), (9, .int (nI (z))), (8, .int (nI (nextTo st k z))), (6, .long (lN (oddTo S (gLet S lt) st k z))), (5, .int (nI (k))), (3, .long (hrTo S r (gLet S lt) V st k)), (0, .ref (ad 0)), (1, .int (nI (st))), (2, .int (oI (lt)))]) X dX4_fetched_112 (Nat.le_of_ble_eq_true rfl) rfl ?_
                refine z_lload X dX4_fetched_114 4 rfl ?_
                refine z_iload X dX4_fetched_116 0 rfl ?_
                refine z_if_eq_f (tgt := 127) X dX4_fetched_118 (by decide) (by decide) ?_
                refine z_iload X dX4_fetched_121 1 rfl ?_
                refine z_i2l (v := lN (S.1 2 z)) X dX4_fetched_123 (nI_l (by omega)) ?_
                refine z_goto (tgt := 133) X dX4_fetched_124 (by decide) ?_
                refine z_lmul (v := lN (oddTo S (gLet S lt) st k z * (S.1 2 z))) X dX4_fetched_133 (lN_mul _ _) ?_
                refine z_lstore (lv2 := [(6, .long (lN (oddTo S (gLet S lt) st k z * (S.1 2 z)))), (11, .int (nI (1))), (10, .int (nI (S.1 2 z))), (9, .int (nI (z))), (8, .int (nI (nextTo st k z))), (5, .int (nI (k))), (3, .long (hrTo S r (gLet S lt) V st k)), (0, .ref (ad 0)), (1, .int (nI (st))), (2, .int (oI (lt)))]) X dX4_fetched_134 (Nat.le_of_ble_eq_true rfl) rfl ?_
                refine z_iload X dX4_fetched_136 4 rfl ?_
                refine z_iload X dX4_fetched_138 1 rfl ?_
                refine z_if_eq_f (tgt := 151) X dX4_fetched_140 (by decide) (by decide) ?_
                refine z_iload X dX4_fetched_143 3 rfl ?_
                refine z_cip (z_runS (rest := [.int (nI (nextTo st k z))]) (n := 1) X [.int (nI (z))] (m_X4_oneOf (z := z) (by omega)) dX4_fetched_145 (lw_S q1634 q1635 q70 q1636) hs_X4_oneOf rfl ⟨Nat.le_of_ble_eq_true rfl, Nat.le_of_ble_eq_true rfl⟩ ⟨by omega, by omega⟩ rfl (Nat.le_of_ble_eq_true rfl)) ?_
                refine z_goto (tgt := 152) X dX4_fetched_148 (by decide) ?_
                refine z_iadd (v := nI (nextTo st k z + (pw5 z))) X dX4_fetched_152 (nI_add _ _) ?_
                refine z_istore (lv2 := [(8, .int (nI (nextTo st k z + (pw5 z)))), (6, .long (lN (oddTo S (gLet S lt) st k z * (S.1 2 z)))), (11, .int (nI (1))), (10, .int (nI (S.1 2 z))), (9, .int (nI (z))), (5, .int (nI (k))), (3, .long (hrTo S r (gLet S lt) V st k)), (0, .ref (ad 0)), (1, .int (nI (st))), (2, .int (oI (lt)))]) X dX4_fetched_153 (Nat.le_of_ble_eq_true rfl) rfl ?_
                refine z_iinc (v := nI (z + 1)) (lv2 := [(9, .int (nI (z + 1))), (8, .int (nI (nextTo st k z + (pw5 z)))), (6, .long (lN (oddTo S (gLet S lt) st k z * (S.1 2 z)))), (11, .int (nI (1))), (10, .int (nI (S.1 2 z))), (5, .int (nI (k))), (3, .long (hrTo S r (gLet S lt) V st k)), (0, .ref (ad 0)), (1, .int (nI (st))), (2, .int (oI (lt)))]) X dX4_fetched_155 4 rfl (nI_1 _) (Nat.le_of_ble_eq_true rfl) rfl ?_
                refine z_goto (tgt := 21) X dX4_fetched_158 (by decide) ?_
                refine Z.lv [0, 1, 2, 5, 6, 7, 8, 9] rfl ?_
                have hb3 : bitK k z = 1 := by omega
                have e1 : oddZ S (gLet S lt) st z (bitK k z) = (S.1 2 z) := by
                  unfold oddZ
                  rw [hb3]
                  first | rw [if_pos rfl] | rw [if_neg (by decide)]
                  first | rw [if_pos (by omega)] | rw [if_neg (by omega)]
                  all_goals first | rfl | omega
                have e2 : oddTo S (gLet S lt) st k (z + 1) = oddTo S (gLet S lt) st k z * (S.1 2 z) := by show oddTo S (gLet S lt) st k z * oddZ S (gLet S lt) st z (bitK k z) = _; rw [e1]
                have e3 : nextTo st k (z + 1) = nextTo st k z + (pw5 z) := by show nextTo st k z + bitK k z * pw5 z = _; rw [hb3]; rw [Nat.one_mul]
                have kk := ih (z + 1) (by omega)
                rw [e2, e3] at kk
                exact kk
            · refine z_iconst (v := nI (0)) X dX4_fetched_89 ci0 ?_
              refine z_goto (tgt := 95) X dX4_fetched_90 (by decide) ?_
              refine z_istore (lv2 := [(10, .int (nI (0))), (9, .int (nI (z))), (8, .int (nI (nextTo st k z))), (6, .long (lN (oddTo S (gLet S lt) st k z))), (5, .int (nI (k))), (3, .long (hrTo S r (gLet S lt) V st k)), (0, .ref (ad 0)), (1, .int (nI (st))), (2, .int (oI (lt)))]) X dX4_fetched_95 (Nat.le_of_ble_eq_true rfl) rfl ?_
              refine z_iload X dX4_fetched_97 4 rfl ?_
              refine z_iload X dX4_fetched_99 1 rfl ?_
              refine z_ishr (v := nI (k / 2 ^ z)) X dX4_fetched_101 (bit_shr (by omega) (by omega)) ?_
              refine z_iconst (v := nI (1)) X dX4_fetched_102 ci1 ?_
              refine z_iand (v := nI (bitK k z)) X dX4_fetched_103 (bit_and (by omega)) ?_
              refine z_if_eq (tgt := 111) X dX4_fetched_104 (by decide) (nz_eq (by omega)) (fun c5 => ?_) (fun c5 => ?_)
              · refine z_iconst (v := nI (0)) X dX4_fetched_111 ci0 ?_
                refine z_istore (lv2 := [(11, .int (nI (0))), (10, .int (nI (0))), (9, .int (nI (z))), (8, .int (nI (nextTo st k z))), (6, .long (lN (oddTo S (gLet S lt) st k z))), (5, .int (nI (k))), (3, .long (hrTo S r (gLet S lt) V st k)), (0, .ref (ad 0)), (1, .int (nI (st))), (2, .int (oI (lt)))]) X dX4_fetched_112 (Nat.le_of_ble_eq_true rfl) rfl ?_
                refine z_lload X dX4_fetched_114 4 rfl ?_
                refine z_iload X dX4_fetched_116 0 rfl ?_
                refine z_if_eq_t (tgt := 127) X dX4_fetched_118 (by decide) (by decide) ?_
                refine z_bipush (v := nI (10)) X dX4_fetched_127 (by decide) ?_
                refine z_iload X dX4_fetched_129 1 rfl ?_
                refine z_isub (v := nI (10)) X dX4_fetched_131 (pk_sub (by decide)) ?_
                refine z_i2l (v := lN (10)) X dX4_fetched_132 (nI_l (by omega)) ?_
                refine z_lmul (v := lN (oddTo S (gLet S lt) st k z * 10)) X dX4_fetched_133 (lN_mul _ _) ?_
                refine z_lstore (lv2 := [(6, .long (lN (oddTo S (gLet S lt) st k z * 10))), (11, .int (nI (0))), (10, .int (nI (0))), (9, .int (nI (z))), (8, .int (nI (nextTo st k z))), (5, .int (nI (k))), (3, .long (hrTo S r (gLet S lt) V st k)), (0, .ref (ad 0)), (1, .int (nI (st))), (2, .int (oI (lt)))]) X dX4_fetched_134 (Nat.le_of_ble_eq_true rfl) rfl ?_
                refine z_iload X dX4_fetched_136 4 rfl ?_
                refine z_iload X dX4_fetched_138 1 rfl ?_
                refine z_if_eq_t (tgt := 151) X dX4_fetched_140 (by decide) (by decide) ?_
                refine z_iconst (v := nI (0)) X dX4_fetched_151 ci0 ?_
                refine z_iadd (v := nI (nextTo st k z + 0)) X dX4_fetched_152 (nI_add _ _) ?_
                refine z_istore (lv2 := [(8, .int (nI (nextTo st k z + 0))), (6, .long (lN (oddTo S (gLet S lt) st k z * 10))), (11, .int (nI (0))), (10, .int (nI (0))), (9, .int (nI (z))), (5, .int (nI (k))), (3, .long (hrTo S r (gLet S lt) V st k)), (0, .ref (ad 0)), (1, .int (nI (st))), (2, .int (oI (lt)))]) X dX4_fetched_153 (Nat.le_of_ble_eq_true rfl) rfl ?_
                refine z_iinc (v := nI (z + 1)) (lv2 := [(9, .int (nI (z + 1))), (8, .int (nI (nextTo st k z + 0))), (6, .long (lN (oddTo S (gLet S lt) st k z * 10))), (11, .int (nI (0))), (10, .int (nI (0))), (5, .int (nI (k))), (3, .long (hrTo S r (gLet S lt) V st k)), (0, .ref (ad 0)), (1, .int (nI (st))), (2, .int (oI (lt)))]) X dX4_fetched_155 4 rfl (nI_1 _) (Nat.le_of_ble_eq_true rfl) rfl ?_
                refine z_goto (tgt := 21) X dX4_fetched_158 (by decide) ?_
                refine Z.lv [0, 1, 2, 5, 6, 7, 8, 9] rfl ?_
                have hb3 : bitK k z = 0 := by omega
                have e1 : oddZ S (gLet S lt) st z (bitK k z) = 10 := by
                  unfold oddZ
                  rw [hb3]
                  first | rw [if_pos rfl] | rw [if_neg (by decide)]
                  first | rw [if_pos (by omega)] | rw [if_neg (by omega)]
                  all_goals first | rfl | omega
                have e2 : oddTo S (gLet S lt) st k (z + 1) = oddTo S (gLet S lt) st k z * 10 := by show oddTo S (gLet S lt) st k z * oddZ S (gLet S lt) st z (bitK k z) = _; rw [e1]
                have e3 : nextTo st k (z + 1) = nextTo st k z + 0 := by show nextTo st k z + bitK k z * pw5 z = _; rw [hb3]; rw [Nat.zero_mul]
                have kk := ih (z + 1) (by omega)
                rw [e2, e3] at kk
                exact kk
              · refine z_iconst (v := nI (1)) X dX4_fetched_107 ci1 ?_
                refine z_goto (tgt := 112) X dX4_fetched_108 (by decide) ?_
                refine z_istore (lv2 := [(11, .int (nI (1))), (10, .int (nI (0))), (9, .int (nI (z))), (8, .int (nI (nextTo st k z))), (6, .long (lN (oddTo S (gLet S lt) st k z))), (5, .int (nI (k))), (3, .long (hrTo S r (gLet S lt) V st k)), (0, .ref (ad 0)), (1, .int (nI (st))), (2, .int (oI (lt)))]) X dX4_fetched_112 (Nat.le_of_ble_eq_true rfl) rfl ?_
                refine z_lload X dX4_fetched_114 4 rfl ?_
                refine z_iload X dX4_fetched_116 0 rfl ?_
                refine z_if_eq_f (tgt := 127) X dX4_fetched_118 (by decide) (by decide) ?_
                refine z_iload X dX4_fetched_121 1 rfl ?_
                refine z_i2l (v := lN (0)) X dX4_fetched_123 (nI_l (by omega)) ?_
                refine z_goto (tgt := 133) X dX4_fetched_124 (by decide) ?_
                refine z_lmul (v := lN (oddTo S (gLet S lt) st k z * 0)) X dX4_fetched_133 (lN_mul _ _) ?_
                refine z_lstore (lv2 := [(6, .long (lN (oddTo S (gLet S lt) st k z * 0))), (11, .int (nI (1))), (10, .int (nI (0))), (9, .int (nI (z))), (8, .int (nI (nextTo st k z))), (5, .int (nI (k))), (3, .long (hrTo S r (gLet S lt) V st k)), (0, .ref (ad 0)), (1, .int (nI (st))), (2, .int (oI (lt)))]) X dX4_fetched_134 (Nat.le_of_ble_eq_true rfl) rfl ?_
                refine z_iload X dX4_fetched_136 4 rfl ?_
                refine z_iload X dX4_fetched_138 1 rfl ?_
                refine z_if_eq_f (tgt := 151) X dX4_fetched_140 (by decide) (by decide) ?_
                refine z_iload X dX4_fetched_143 3 rfl ?_
                refine z_cip (z_runS (rest := [.int (nI (nextTo st k z))]) (n := 1) X [.int (nI (z))] (m_X4_oneOf (z := z) (by omega)) dX4_fetched_145 (lw_S q1634 q1635 q70 q1636) hs_X4_oneOf rfl ⟨Nat.le_of_ble_eq_true rfl, Nat.le_of_ble_eq_true rfl⟩ ⟨by omega, by omega⟩ rfl (Nat.le_of_ble_eq_true rfl)) ?_
                refine z_goto (tgt := 152) X dX4_fetched_148 (by decide) ?_
                refine z_iadd (v := nI (nextTo st k z + (pw5 z))) X dX4_fetched_152 (nI_add _ _) ?_
                refine z_istore (lv2 := [(8, .int (nI (nextTo st k z + (pw5 z)))), (6, .long (lN (oddTo S (gLet S lt) st k z * 0))), (11, .int (nI (1))), (10, .int (nI (0))), (9, .int (nI (z))), (5, .int (nI (k))), (3, .long (hrTo S r (gLet S lt) V st k)), (0, .ref (ad 0)), (1, .int (nI (st))), (2, .int (oI (lt)))]) X dX4_fetched_153 (Nat.le_of_ble_eq_true rfl) rfl ?_
                refine z_iinc (v := nI (z + 1)) (lv2 := [(9, .int (nI (z + 1))), (8, .int (nI (nextTo st k z + (pw5 z)))), (6, .long (lN (oddTo S (gLet S lt) st k z * 0))), (11, .int (nI (1))), (10, .int (nI (0))), (5, .int (nI (k))), (3, .long (hrTo S r (gLet S lt) V st k)), (0, .ref (ad 0)), (1, .int (nI (st))), (2, .int (oI (lt)))]) X dX4_fetched_155 4 rfl (nI_1 _) (Nat.le_of_ble_eq_true rfl) rfl ?_
                refine z_goto (tgt := 21) X dX4_fetched_158 (by decide) ?_
                refine Z.lv [0, 1, 2, 5, 6, 7, 8, 9] rfl ?_
                have hb3 : bitK k z = 1 := by omega
                have e1 : oddZ S (gLet S lt) st z (bitK k z) = 0 := by
                  unfold oddZ
                  rw [hb3]
                  first | rw [if_pos rfl] | rw [if_neg (by decide)]
                  first | rw [if_pos (by omega)] | rw [if_neg (by omega)]
                  all_goals first | rfl | omega
                have e2 : oddTo S (gLet S lt) st k (z + 1) = oddTo S (gLet S lt) st k z * 0 := by show oddTo S (gLet S lt) st k z * oddZ S (gLet S lt) st z (bitK k z) = _; rw [e1]
                have e3 : nextTo st k (z + 1) = nextTo st k z + (pw5 z) := by show nextTo st k z + bitK k z * pw5 z = _; rw [hb3]; rw [Nat.one_mul]
                have kk := ih (z + 1) (by omega)
                rw [e2, e3] at kk
                exact kk
          · refine z_aload_n X dX4_fetched_33 rfl 5 rfl ?_
            refine z_mg12 X hM dX4_fetched_34 ?_
            refine z_iload X dX4_fetched_37 0 rfl ?_
            refine z_iaN (v := nI (S.1 2 z)) X dX4_fetched_39 (mm_13 hM) (by omega) (by omega) (hR.1 z (by omega)).2.2 ?_
            refine z_iconst (v := nI (3)) X dX4_fetched_40 ci3 ?_
            refine z_iadd (v := nI (S.1 2 z + 3)) X dX4_fetched_41 (nI_add _ _) ?_
            refine z_bipush (v := nI (10)) X dX4_fetched_42 (by decide) ?_
            refine z_icmp_le (tgt := 52) X dX4_fetched_44 (by decide) (nI_leI (by omega) (by omega)) (fun c6 => ?_) (fun c6 => ?_)
            · refine z_aload_n X dX4_fetched_52 rfl 5 rfl ?_
              refine z_mg12 X hM dX4_fetched_53 ?_
              refine z_iload X dX4_fetched_56 0 rfl ?_
              refine z_iaN (v := nI (S.1 2 z)) X dX4_fetched_58 (mm_13 hM) (by omega) (by omega) (hR.1 z (by omega)).2.2 ?_
              refine z_iconst (v := nI (3)) X dX4_fetched_59 ci3 ?_
              refine z_iadd (v := nI (S.1 2 z + 3)) X dX4_fetched_60 (nI_add _ _) ?_
              refine z_goto (tgt := 71) X dX4_fetched_61 (by decide) ?_
              have hgl : gLet S lt z = S.1 2 z + 3 := by unfold gLet; rw [if_pos c2]; exact if_pos (by omega)
              refine z_istore (lv2 := [(10, .int (nI (S.1 2 z + 3))), (9, .int (nI (z))), (8, .int (nI (nextTo st k z))), (6, .long (lN (oddTo S (gLet S lt) st k z))), (5, .int (nI (k))), (3, .long (hrTo S r (gLet S lt) V st k)), (0, .ref (ad 0)), (1, .int (nI (st))), (2, .int (oI (lt)))]) X dX4_fetched_71 (Nat.le_of_ble_eq_true rfl) rfl ?_
              refine z_iload_n X dX4_fetched_73 rfl 7 rfl ?_
              refine z_iload X dX4_fetched_74 1 rfl ?_
              refine z_cip (z_runS (rest := []) (n := 2) X [.int (nI (st)), .int (nI (z))] (m_X4_freeOf (st := st) (z := z) (by omega) (by omega)) dX4_fetched_76 (lw_S q1609 q1610 q70 q1611) hs_X4_freeOf rfl ⟨Nat.le_of_ble_eq_true rfl, Nat.le_of_ble_eq_true rfl⟩ ⟨by omega, by omega⟩ rfl (Nat.le_of_ble_eq_true rfl)) ?_
              refine z_aload_n X dX4_fetched_79 rfl 6 rfl ?_
              refine z_mg10 X hM dX4_fetched_80 ?_
              refine z_iload X dX4_fetched_83 1 rfl ?_
              refine z_iaN (v := nI (S.1 0 z)) X dX4_fetched_85 (mm_11 hM) (by omega) (by omega) (hR.1 z (by omega)).1 ?_
              refine z_icmp_ne (tgt := 93) X dX4_fetched_86 (by decide) (nI_eq (by omega) (by omega)) (fun c7 => ?_) (fun c7 => ?_)
              · refine z_iload X dX4_fetched_93 0 rfl ?_
                refine z_istore (lv2 := [(10, .int (nI (S.1 2 z + 3))), (9, .int (nI (z))), (8, .int (nI (nextTo st k z))), (6, .long (lN (oddTo S (gLet S lt) st k z))), (5, .int (nI (k))), (3, .long (hrTo S r (gLet S lt) V st k)), (0, .ref (ad 0)), (1, .int (nI (st))), (2, .int (oI (lt)))]) X dX4_fetched_95 (Nat.le_of_ble_eq_true rfl) rfl ?_
                refine z_iload X dX4_fetched_97 4 rfl ?_
                refine z_iload X dX4_fetched_99 1 rfl ?_
                refine z_ishr (v := nI (k / 2 ^ z)) X dX4_fetched_101 (bit_shr (by omega) (by omega)) ?_
                refine z_iconst (v := nI (1)) X dX4_fetched_102 ci1 ?_
                refine z_iand (v := nI (bitK k z)) X dX4_fetched_103 (bit_and (by omega)) ?_
                refine z_if_eq (tgt := 111) X dX4_fetched_104 (by decide) (nz_eq (by omega)) (fun c8 => ?_) (fun c8 => ?_)
                · refine z_iconst (v := nI (0)) X dX4_fetched_111 ci0 ?_
                  refine z_istore (lv2 := [(11, .int (nI (0))), (10, .int (nI (S.1 2 z + 3))), (9, .int (nI (z))), (8, .int (nI (nextTo st k z))), (6, .long (lN (oddTo S (gLet S lt) st k z))), (5, .int (nI (k))), (3, .long (hrTo S r (gLet S lt) V st k)), (0, .ref (ad 0)), (1, .int (nI (st))), (2, .int (oI (lt)))]) X dX4_fetched_112 (Nat.le_of_ble_eq_true rfl) rfl ?_
                  refine z_lload X dX4_fetched_114 4 rfl ?_
                  refine z_iload X dX4_fetched_116 0 rfl ?_
                  refine z_if_eq_t (tgt := 127) X dX4_fetched_118 (by decide) (by decide) ?_
                  refine z_bipush (v := nI (10)) X dX4_fetched_127 (by decide) ?_
                  refine z_iload X dX4_fetched_129 1 rfl ?_
                  refine z_isub (v := nI (10 - (S.1 2 z + 3))) X dX4_fetched_131 (pk_sub (by omega)) ?_
                  refine z_i2l (v := lN (10 - (S.1 2 z + 3))) X dX4_fetched_132 (nI_l (by omega)) ?_
                  refine z_lmul (v := lN (oddTo S (gLet S lt) st k z * (10 - (S.1 2 z + 3)))) X dX4_fetched_133 (lN_mul _ _) ?_
                  refine z_lstore (lv2 := [(6, .long (lN (oddTo S (gLet S lt) st k z * (10 - (S.1 2 z + 3))))), (11, .int (nI (0))), (10, .int (nI (S.1 2 z + 3))), (9, .int (nI (z))), (8, .int (nI (nextTo st k z))), (5, .int (nI (k))), (3, .long (hrTo S r (gLet S lt) V st k)), (0, .ref (ad 0)), (1, .int (nI (st))), (2, .int (oI (lt)))]) X dX4_fetched_134 (Nat.le_of_ble_eq_true rfl) rfl ?_
                  refine z_iload X dX4_fetched_136 4 rfl ?_
                  refine z_iload X dX4_fetched_138 1 rfl ?_
                  refine z_if_eq_t (tgt := 151) X dX4_fetched_140 (by decide) (by decide) ?_
                  refine z_iconst (v := nI (0)) X dX4_fetched_151 ci0 ?_
                  refine z_iadd (v := nI (nextTo st k z + 0)) X dX4_fetched_152 (nI_add _ _) ?_
                  refine z_istore (lv2 := [(8, .int (nI (nextTo st k z + 0))), (6, .long (lN (oddTo S (gLet S lt) st k z * (10 - (S.1 2 z + 3))))), (11, .int (nI (0))), (10, .int (nI (S.1 2 z + 3))), (9, .int (nI (z))), (5, .int (nI (k))), (3, .long (hrTo S r (gLet S lt) V st k)), (0, .ref (ad 0)), (1, .int (nI (st))), (2, .int (oI (lt)))]) X dX4_fetched_153 (Nat.le_of_ble_eq_true rfl) rfl ?_
                  refine z_iinc (v := nI (z + 1)) (lv2 := [(9, .int (nI (z + 1))), (8, .int (nI (nextTo st k z + 0))), (6, .long (lN (oddTo S (gLet S lt) st k z * (10 - (S.1 2 z + 3))))), (11, .int (nI (0))), (10, .int (nI (S.1 2 z + 3))), (5, .int (nI (k))), (3, .long (hrTo S r (gLet S lt) V st k)), (0, .ref (ad 0)), (1, .int (nI (st))), (2, .int (oI (lt)))]) X dX4_fetched_155 4 rfl (nI_1 _) (Nat.le_of_ble_eq_true rfl) rfl ?_
                  refine z_goto (tgt := 21) X dX4_fetched_158 (by decide) ?_
                  refine Z.lv [0, 1, 2, 5, 6, 7, 8, 9] rfl ?_
                  have hb3 : bitK k z = 0 := by omega
                  have e1 : oddZ S (gLet S lt) st z (bitK k z) = (10 - (S.1 2 z + 3)) := by
                    unfold oddZ
                    rw [hb3]
                    first | rw [if_pos rfl] | rw [if_neg (by decide)]
                    first | rw [if_pos (by omega)] | rw [if_neg (by omega)]
                    all_goals first | rfl | omega
                  have e2 : oddTo S (gLet S lt) st k (z + 1) = oddTo S (gLet S lt) st k z * (10 - (S.1 2 z + 3)) := by show oddTo S (gLet S lt) st k z * oddZ S (gLet S lt) st z (bitK k z) = _; rw [e1]
                  have e3 : nextTo st k (z + 1) = nextTo st k z + 0 := by show nextTo st k z + bitK k z * pw5 z = _; rw [hb3]; rw [Nat.zero_mul]
                  have kk := ih (z + 1) (by omega)
                  rw [e2, e3] at kk
                  exact kk
                · refine z_iconst (v := nI (1)) X dX4_fetched_107 ci1 ?_
                  refine z_goto (tgt := 112) X dX4_fetched_108 (by decide) ?_
                  refine z_istore (lv2 := [(11, .int (nI (1))), (10, .int (nI (S.1 2 z + 3))), (9, .int (nI (z))), (8, .int (nI (nextTo st k z))), (6, .long (lN (oddTo S (gLet S lt) st k z))), (5, .int (nI (k))), (3, .long (hrTo S r (gLet S lt) V st k)), (0, .ref (ad 0)), (1, .int (nI (st))), (2, .int (oI (lt)))]) X dX4_fetched_112 (Nat.le_of_ble_eq_true rfl) rfl ?_
                  refine z_lload X dX4_fetched_114 4 rfl ?_
                  refine z_iload X dX4_fetched_116 0 rfl ?_
                  refine z_if_eq_f (tgt := 127) X dX4_fetched_118 (by decide) (by decide) ?_
                  refine z_iload X dX4_fetched_121 1 rfl ?_
                  refine z_i2l (v := lN (S.1 2 z + 3)) X dX4_fetched_123 (nI_l (by omega)) ?_
                  refine z_goto (tgt := 133) X dX4_fetched_124 (by decide) ?_
                  refine z_lmul (v := lN (oddTo S (gLet S lt) st k z * (S.1 2 z + 3))) X dX4_fetched_133 (lN_mul _ _) ?_
                  refine z_lstore (lv2 := [(6, .long (lN (oddTo S (gLet S lt) st k z * (S.1 2 z + 3)))), (11, .int (nI (1))), (10, .int (nI (S.1 2 z + 3))), (9, .int (nI (z))), (8, .int (nI (nextTo st k z))), (5, .int (nI (k))), (3, .long (hrTo S r (gLet S lt) V st k)), (0, .ref (ad 0)), (1, .int (nI (st))), (2, .int (oI (lt)))]) X dX4_fetched_134 (Nat.le_of_ble_eq_true rfl) rfl ?_
                  refine z_iload X dX4_fetched_136 4 rfl ?_
                  refine z_iload X dX4_fetched_138 1 rfl ?_
                  refine z_if_eq_f (tgt := 151) X dX4_fetched_140 (by decide) (by decide) ?_
                  refine z_iload X dX4_fetched_143 3 rfl ?_
                  refine z_cip (z_runS (rest := [.int (nI (nextTo st k z))]) (n := 1) X [.int (nI (z))] (m_X4_oneOf (z := z) (by omega)) dX4_fetched_145 (lw_S q1634 q1635 q70 q1636) hs_X4_oneOf rfl ⟨Nat.le_of_ble_eq_true rfl, Nat.le_of_ble_eq_true rfl⟩ ⟨by omega, by omega⟩ rfl (Nat.le_of_ble_eq_true rfl)) ?_
                  refine z_goto (tgt := 152) X dX4_fetched_148 (by decide) ?_
                  refine z_iadd (v := nI (nextTo st k z + (pw5 z))) X dX4_fetched_152 (nI_add _ _) ?_
                  refine z_istore (lv2 := [(8, .int (nI (nextTo st k z + (pw5 z)))), (6, .long (lN (oddTo S (gLet S lt) st k z * (S.1 2 z + 3)))), (11, .int (nI (1))), (10, .int (nI (S.1 2 z + 3))), (9, .int (nI (z))), (5, .int (nI (k))), (3, .long (hrTo S r (gLet S lt) V st k)), (0, .ref (ad 0)), (1, .int (nI (st))), (2, .int (oI (lt)))]) X dX4_fetched_153 (Nat.le_of_ble_eq_true rfl) rfl ?_
                  refine z_iinc (v := nI (z + 1)) (lv2 := [(9, .int (nI (z + 1))), (8, .int (nI (nextTo st k z + (pw5 z)))), (6, .long (lN (oddTo S (gLet S lt) st k z * (S.1 2 z + 3)))), (11, .int (nI (1))), (10, .int (nI (S.1 2 z + 3))), (5, .int (nI (k))), (3, .long (hrTo S r (gLet S lt) V st k)), (0, .ref (ad 0)), (1, .int (nI (st))), (2, .int (oI (lt)))]) X dX4_fetched_155 4 rfl (nI_1 _) (Nat.le_of_ble_eq_true rfl) rfl ?_
                  refine z_goto (tgt := 21) X dX4_fetched_158 (by decide) ?_
                  refine Z.lv [0, 1, 2, 5, 6, 7, 8, 9] rfl ?_
                  have hb3 : bitK k z = 1 := by omega
                  have e1 : oddZ S (gLet S lt) st z (bitK k z) = (S.1 2 z + 3) := by
                    unfold oddZ
                    rw [hb3]
                    first | rw [if_pos rfl] | rw [if_neg (by decide)]
                    first | rw [if_pos (by omega)] | rw [if_neg (by omega)]
                    all_goals first | rfl | omega
                  have e2 : oddTo S (gLet S lt) st k (z + 1) = oddTo S (gLet S lt) st k z * (S.1 2 z + 3) := by show oddTo S (gLet S lt) st k z * oddZ S (gLet S lt) st z (bitK k z) = _; rw [e1]
                  have e3 : nextTo st k (z + 1) = nextTo st k z + (pw5 z) := by show nextTo st k z + bitK k z * pw5 z = _; rw [hb3]; rw [Nat.one_mul]
                  have kk := ih (z + 1) (by omega)
                  rw [e2, e3] at kk
                  exact kk
              · refine z_iconst (v := nI (0)) X dX4_fetched_89 ci0 ?_
                refine z_goto (tgt := 95) X dX4_fetched_90 (by decide) ?_
                refine z_istore (lv2 := [(10, .int (nI (0))), (9, .int (nI (z))), (8, .int (nI (nextTo st k z))), (6, .long (lN (oddTo S (gLet S lt) st k z))), (5, .int (nI (k))), (3, .long (hrTo S r (gLet S lt) V st k)), (0, .ref (ad 0)), (1, .int (nI (st))), (2, .int (oI (lt)))]) X dX4_fetched_95 (Nat.le_of_ble_eq_true rfl) rfl ?_
                refine z_iload X dX4_fetched_97 4 rfl ?_
                refine z_iload X dX4_fetched_99 1 rfl ?_
                refine z_ishr (v := nI (k / 2 ^ z)) X dX4_fetched_101 (bit_shr (by omega) (by omega)) ?_
                refine z_iconst (v := nI (1)) X dX4_fetched_102 ci1 ?_
                refine z_iand (v := nI (bitK k z)) X dX4_fetched_103 (bit_and (by omega)) ?_
                refine z_if_eq (tgt := 111) X dX4_fetched_104 (by decide) (nz_eq (by omega)) (fun c9 => ?_) (fun c9 => ?_)
                · refine z_iconst (v := nI (0)) X dX4_fetched_111 ci0 ?_
                  refine z_istore (lv2 := [(11, .int (nI (0))), (10, .int (nI (0))), (9, .int (nI (z))), (8, .int (nI (nextTo st k z))), (6, .long (lN (oddTo S (gLet S lt) st k z))), (5, .int (nI (k))), (3, .long (hrTo S r (gLet S lt) V st k)), (0, .ref (ad 0)), (1, .int (nI (st))), (2, .int (oI (lt)))]) X dX4_fetched_112 (Nat.le_of_ble_eq_true rfl) rfl ?_
                  refine z_lload X dX4_fetched_114 4 rfl ?_
                  refine z_iload X dX4_fetched_116 0 rfl ?_
                  refine z_if_eq_t (tgt := 127) X dX4_fetched_118 (by decide) (by decide) ?_
                  refine z_bipush (v := nI (10)) X dX4_fetched_127 (by decide) ?_
                  refine z_iload X dX4_fetched_129 1 rfl ?_
                  refine z_isub (v := nI (10)) X dX4_fetched_131 (pk_sub (by decide)) ?_
                  refine z_i2l (v := lN (10)) X dX4_fetched_132 (nI_l (by omega)) ?_
                  refine z_lmul (v := lN (oddTo S (gLet S lt) st k z * 10)) X dX4_fetched_133 (lN_mul _ _) ?_
                  refine z_lstore (lv2 := [(6, .long (lN (oddTo S (gLet S lt) st k z * 10))), (11, .int (nI (0))), (10, .int (nI (0))), (9, .int (nI (z))), (8, .int (nI (nextTo st k z))), (5, .int (nI (k))), (3, .long (hrTo S r (gLet S lt) V st k)), (0, .ref (ad 0)), (1, .int (nI (st))), (2, .int (oI (lt)))]) X dX4_fetched_134 (Nat.le_of_ble_eq_true rfl) rfl ?_
                  refine z_iload X dX4_fetched_136 4 rfl ?_
                  refine z_iload X dX4_fetched_138 1 rfl ?_
                  refine z_if_eq_t (tgt := 151) X dX4_fetched_140 (by decide) (by decide) ?_
                  refine z_iconst (v := nI (0)) X dX4_fetched_151 ci0 ?_
                  refine z_iadd (v := nI (nextTo st k z + 0)) X dX4_fetched_152 (nI_add _ _) ?_
                  refine z_istore (lv2 := [(8, .int (nI (nextTo st k z + 0))), (6, .long (lN (oddTo S (gLet S lt) st k z * 10))), (11, .int (nI (0))), (10, .int (nI (0))), (9, .int (nI (z))), (5, .int (nI (k))), (3, .long (hrTo S r (gLet S lt) V st k)), (0, .ref (ad 0)), (1, .int (nI (st))), (2, .int (oI (lt)))]) X dX4_fetched_153 (Nat.le_of_ble_eq_true rfl) rfl ?_
                  refine z_iinc (v := nI (z + 1)) (lv2 := [(9, .int (nI (z + 1))), (8, .int (nI (nextTo st k z + 0))), (6, .long (lN (oddTo S (gLet S lt) st k z * 10))), (11, .int (nI (0))), (10, .int (nI (0))), (5, .int (nI (k))), (3, .long (hrTo S r (gLet S lt) V st k)), (0, .ref (ad 0)), (1, .int (nI (st))), (2, .int (oI (lt)))]) X dX4_fetched_155 4 rfl (nI_1 _) (Nat.le_of_ble_eq_true rfl) rfl ?_
                  refine z_goto (tgt := 21) X dX4_fetched_158 (by decide) ?_
                  refine Z.lv [0, 1, 2, 5, 6, 7, 8, 9] rfl ?_
                  have hb3 : bitK k z = 0 := by omega
                  have e1 : oddZ S (gLet S lt) st z (bitK k z) = 10 := by
                    unfold oddZ
                    rw [hb3]
                    first | rw [if_pos rfl] | rw [if_neg (by decide)]
                    first | rw [if_pos (by omega)] | rw [if_neg (by omega)]
                    all_goals first | rfl | omega
                  have e2 : oddTo S (gLet S lt) st k (z + 1) = oddTo S (gLet S lt) st k z * 10 := by show oddTo S (gLet S lt) st k z * oddZ S (gLet S lt) st z (bitK k z) = _; rw [e1]
                  have e3 : nextTo st k (z + 1) = nextTo st k z + 0 := by show nextTo st k z + bitK k z * pw5 z = _; rw [hb3]; rw [Nat.zero_mul]
                  have kk := ih (z + 1) (by omega)
                  rw [e2, e3] at kk
                  exact kk
                · refine z_iconst (v := nI (1)) X dX4_fetched_107 ci1 ?_
                  refine z_goto (tgt := 112) X dX4_fetched_108 (by decide) ?_
                  refine z_istore (lv2 := [(11, .int (nI (1))), (10, .int (nI (0))), (9, .int (nI (z))), (8, .int (nI (nextTo st k z))), (6, .long (lN (oddTo S (gLet S lt) st k z))), (5, .int (nI (k))), (3, .long (hrTo S r (gLet S lt) V st k)), (0, .ref (ad 0)), (1, .int (nI (st))), (2, .int (oI (lt)))]) X dX4_fetched_112 (Nat.le_of_ble_eq_true rfl) rfl ?_
                  refine z_lload X dX4_fetched_114 4 rfl ?_
                  refine z_iload X dX4_fetched_116 0 rfl ?_
                  refine z_if_eq_f (tgt := 127) X dX4_fetched_118 (by decide) (by decide) ?_
                  refine z_iload X dX4_fetched_121 1 rfl ?_
                  refine z_i2l (v := lN (0)) X dX4_fetched_123 (nI_l (by omega)) ?_
                  refine z_goto (tgt := 133) X dX4_fetched_124 (by decide) ?_
                  refine z_lmul (v := lN (oddTo S (gLet S lt) st k z * 0)) X dX4_fetched_133 (lN_mul _ _) ?_
                  refine z_lstore (lv2 := [(6, .long (lN (oddTo S (gLet S lt) st k z * 0))), (11, .int (nI (1))), (10, .int (nI (0))), (9, .int (nI (z))), (8, .int (nI (nextTo st k z))), (5, .int (nI (k))), (3, .long (hrTo S r (gLet S lt) V st k)), (0, .ref (ad 0)), (1, .int (nI (st))), (2, .int (oI (lt)))]) X dX4_fetched_134 (Nat.le_of_ble_eq_true rfl) rfl ?_
                  refine z_iload X dX4_fetched_136 4 rfl ?_
                  refine z_iload X dX4_fetched_138 1 rfl ?_
                  refine z_if_eq_f (tgt := 151) X dX4_fetched_140 (by decide) (by decide) ?_
                  refine z_iload X dX4_fetched_143 3 rfl ?_
                  refine z_cip (z_runS (rest := [.int (nI (nextTo st k z))]) (n := 1) X [.int (nI (z))] (m_X4_oneOf (z := z) (by omega)) dX4_fetched_145 (lw_S q1634 q1635 q70 q1636) hs_X4_oneOf rfl ⟨Nat.le_of_ble_eq_true rfl, Nat.le_of_ble_eq_true rfl⟩ ⟨by omega, by omega⟩ rfl (Nat.le_of_ble_eq_true rfl)) ?_
                  refine z_goto (tgt := 152) X dX4_fetched_148 (by decide) ?_
                  refine z_iadd (v := nI (nextTo st k z + (pw5 z))) X dX4_fetched_152 (nI_add _ _) ?_
                  refine z_istore (lv2 := [(8, .int (nI (nextTo st k z + (pw5 z)))), (6, .long (lN (oddTo S (gLet S lt) st k z * 0))), (11, .int (nI (1))), (10, .int (nI (0))), (9, .int (nI (z))), (5, .int (nI (k))), (3, .long (hrTo S r (gLet S lt) V st k)), (0, .ref (ad 0)), (1, .int (nI (st))), (2, .int (oI (lt)))]) X dX4_fetched_153 (Nat.le_of_ble_eq_true rfl) rfl ?_
                  refine z_iinc (v := nI (z + 1)) (lv2 := [(9, .int (nI (z + 1))), (8, .int (nI (nextTo st k z + (pw5 z)))), (6, .long (lN (oddTo S (gLet S lt) st k z * 0))), (11, .int (nI (1))), (10, .int (nI (0))), (5, .int (nI (k))), (3, .long (hrTo S r (gLet S lt) V st k)), (0, .ref (ad 0)), (1, .int (nI (st))), (2, .int (oI (lt)))]) X dX4_fetched_155 4 rfl (nI_1 _) (Nat.le_of_ble_eq_true rfl) rfl ?_
                  refine z_goto (tgt := 21) X dX4_fetched_158 (by decide) ?_
                  refine Z.lv [0, 1, 2, 5, 6, 7, 8, 9] rfl ?_
                  have hb3 : bitK k z = 1 := by omega
                  have e1 : oddZ S (gLet S lt) st z (bitK k z) = 0 := by
                    unfold oddZ
                    rw [hb3]
                    first | rw [if_pos rfl] | rw [if_neg (by decide)]
                    first | rw [if_pos (by omega)] | rw [if_neg (by omega)]
                    all_goals first | rfl | omega
                  have e2 : oddTo S (gLet S lt) st k (z + 1) = oddTo S (gLet S lt) st k z * 0 := by show oddTo S (gLet S lt) st k z * oddZ S (gLet S lt) st z (bitK k z) = _; rw [e1]
                  have e3 : nextTo st k (z + 1) = nextTo st k z + (pw5 z) := by show nextTo st k z + bitK k z * pw5 z = _; rw [hb3]; rw [Nat.one_mul]
                  have kk := ih (z + 1) (by omega)
                  rw [e2, e3] at kk
                  exact kk
            · refine z_bipush (v := nI (10)) X dX4_fetched_47 (by decide) ?_
              refine z_goto (tgt := 71) X dX4_fetched_49 (by decide) ?_
              have hgl : gLet S lt z = 10 := by unfold gLet; rw [if_pos c2]; exact if_neg (by omega)
              refine z_istore (lv2 := [(10, .int (nI (10))), (9, .int (nI (z))), (8, .int (nI (nextTo st k z))), (6, .long (lN (oddTo S (gLet S lt) st k z))), (5, .int (nI (k))), (3, .long (hrTo S r (gLet S lt) V st k)), (0, .ref (ad 0)), (1, .int (nI (st))), (2, .int (oI (lt)))]) X dX4_fetched_71 (Nat.le_of_ble_eq_true rfl) rfl ?_
              refine z_iload_n X dX4_fetched_73 rfl 7 rfl ?_
              refine z_iload X dX4_fetched_74 1 rfl ?_
              refine z_cip (z_runS (rest := []) (n := 2) X [.int (nI (st)), .int (nI (z))] (m_X4_freeOf (st := st) (z := z) (by omega) (by omega)) dX4_fetched_76 (lw_S q1609 q1610 q70 q1611) hs_X4_freeOf rfl ⟨Nat.le_of_ble_eq_true rfl, Nat.le_of_ble_eq_true rfl⟩ ⟨by omega, by omega⟩ rfl (Nat.le_of_ble_eq_true rfl)) ?_
              refine z_aload_n X dX4_fetched_79 rfl 6 rfl ?_
              refine z_mg10 X hM dX4_fetched_80 ?_
              refine z_iload X dX4_fetched_83 1 rfl ?_
              refine z_iaN (v := nI (S.1 0 z)) X dX4_fetched_85 (mm_11 hM) (by omega) (by omega) (hR.1 z (by omega)).1 ?_
              refine z_icmp_ne (tgt := 93) X dX4_fetched_86 (by decide) (nI_eq (by omega) (by omega)) (fun c10 => ?_) (fun c10 => ?_)
              · refine z_iload X dX4_fetched_93 0 rfl ?_
                refine z_istore (lv2 := [(10, .int (nI (10))), (9, .int (nI (z))), (8, .int (nI (nextTo st k z))), (6, .long (lN (oddTo S (gLet S lt) st k z))), (5, .int (nI (k))), (3, .long (hrTo S r (gLet S lt) V st k)), (0, .ref (ad 0)), (1, .int (nI (st))), (2, .int (oI (lt)))]) X dX4_fetched_95 (Nat.le_of_ble_eq_true rfl) rfl ?_
                refine z_iload X dX4_fetched_97 4 rfl ?_
                refine z_iload X dX4_fetched_99 1 rfl ?_
                refine z_ishr (v := nI (k / 2 ^ z)) X dX4_fetched_101 (bit_shr (by omega) (by omega)) ?_
                refine z_iconst (v := nI (1)) X dX4_fetched_102 ci1 ?_
                refine z_iand (v := nI (bitK k z)) X dX4_fetched_103 (bit_and (by omega)) ?_
                refine z_if_eq (tgt := 111) X dX4_fetched_104 (by decide) (nz_eq (by omega)) (fun c11 => ?_) (fun c11 => ?_)
                · refine z_iconst (v := nI (0)) X dX4_fetched_111 ci0 ?_
                  refine z_istore (lv2 := [(11, .int (nI (0))), (10, .int (nI (10))), (9, .int (nI (z))), (8, .int (nI (nextTo st k z))), (6, .long (lN (oddTo S (gLet S lt) st k z))), (5, .int (nI (k))), (3, .long (hrTo S r (gLet S lt) V st k)), (0, .ref (ad 0)), (1, .int (nI (st))), (2, .int (oI (lt)))]) X dX4_fetched_112 (Nat.le_of_ble_eq_true rfl) rfl ?_
                  refine z_lload X dX4_fetched_114 4 rfl ?_
                  refine z_iload X dX4_fetched_116 0 rfl ?_
                  refine z_if_eq_t (tgt := 127) X dX4_fetched_118 (by decide) (by decide) ?_
                  refine z_bipush (v := nI (10)) X dX4_fetched_127 (by decide) ?_
                  refine z_iload X dX4_fetched_129 1 rfl ?_
                  refine z_isub (v := nI (0)) X dX4_fetched_131 (pk_sub (by decide)) ?_
                  refine z_i2l (v := lN (0)) X dX4_fetched_132 (nI_l (by omega)) ?_
                  refine z_lmul (v := lN (oddTo S (gLet S lt) st k z * 0)) X dX4_fetched_133 (lN_mul _ _) ?_
                  refine z_lstore (lv2 := [(6, .long (lN (oddTo S (gLet S lt) st k z * 0))), (11, .int (nI (0))), (10, .int (nI (10))), (9, .int (nI (z))), (8, .int (nI (nextTo st k z))), (5, .int (nI (k))), (3, .long (hrTo S r (gLet S lt) V st k)), (0, .ref (ad 0)), (1, .int (nI (st))), (2, .int (oI (lt)))]) X dX4_fetched_134 (Nat.le_of_ble_eq_true rfl) rfl ?_
                  refine z_iload X dX4_fetched_136 4 rfl ?_
                  refine z_iload X dX4_fetched_138 1 rfl ?_
                  refine z_if_eq_t (tgt := 151) X dX4_fetched_140 (by decide) (by decide) ?_
                  refine z_iconst (v := nI (0)) X dX4_fetched_151 ci0 ?_
                  refine z_iadd (v := nI (nextTo st k z + 0)) X dX4_fetched_152 (nI_add _ _) ?_
                  refine z_istore (lv2 := [(8, .int (nI (nextTo st k z + 0))), (6, .long (lN (oddTo S (gLet S lt) st k z * 0))), (11, .int (nI (0))), (10, .int (nI (10))), (9, .int (nI (z))), (5, .int (nI (k))), (3, .long (hrTo S r (gLet S lt) V st k)), (0, .ref (ad 0)), (1, .int (nI (st))), (2, .int (oI (lt)))]) X dX4_fetched_153 (Nat.le_of_ble_eq_true rfl) rfl ?_
                  refine z_iinc (v := nI (z + 1)) (lv2 := [(9, .int (nI (z + 1))), (8, .int (nI (nextTo st k z + 0))), (6, .long (lN (oddTo S (gLet S lt) st k z * 0))), (11, .int (nI (0))), (10, .int (nI (10))), (5, .int (nI (k))), (3, .long (hrTo S r (gLet S lt) V st k)), (0, .ref (ad 0)), (1, .int (nI (st))), (2, .int (oI (lt)))]) X dX4_fetched_155 4 rfl (nI_1 _) (Nat.le_of_ble_eq_true rfl) rfl ?_
                  refine z_goto (tgt := 21) X dX4_fetched_158 (by decide) ?_
                  refine Z.lv [0, 1, 2, 5, 6, 7, 8, 9] rfl ?_
                  have hb3 : bitK k z = 0 := by omega
                  have e1 : oddZ S (gLet S lt) st z (bitK k z) = 0 := by
                    unfold oddZ
                    rw [hb3]
                    first | rw [if_pos rfl] | rw [if_neg (by decide)]
                    first | rw [if_pos (by omega)] | rw [if_neg (by omega)]
                    all_goals first | rfl | omega
                  have e2 : oddTo S (gLet S lt) st k (z + 1) = oddTo S (gLet S lt) st k z * 0 := by show oddTo S (gLet S lt) st k z * oddZ S (gLet S lt) st z (bitK k z) = _; rw [e1]
                  have e3 : nextTo st k (z + 1) = nextTo st k z + 0 := by show nextTo st k z + bitK k z * pw5 z = _; rw [hb3]; rw [Nat.zero_mul]
                  have kk := ih (z + 1) (by omega)
                  rw [e2, e3] at kk
                  exact kk
                · refine z_iconst (v := nI (1)) X dX4_fetched_107 ci1 ?_
                  refine z_goto (tgt := 112) X dX4_fetched_108 (by decide) ?_
                  refine z_istore (lv2 := [(11, .int (nI (1))), (10, .int (nI (10))), (9, .int (nI (z))), (8, .int (nI (nextTo st k z))), (6, .long (lN (oddTo S (gLet S lt) st k z))), (5, .int (nI (k))), (3, .long (hrTo S r (gLet S lt) V st k)), (0, .ref (ad 0)), (1, .int (nI (st))), (2, .int (oI (lt)))]) X dX4_fetched_112 (Nat.le_of_ble_eq_true rfl) rfl ?_
                  refine z_lload X dX4_fetched_114 4 rfl ?_
                  refine z_iload X dX4_fetched_116 0 rfl ?_
                  refine z_if_eq_f (tgt := 127) X dX4_fetched_118 (by decide) (by decide) ?_
                  refine z_iload X dX4_fetched_121 1 rfl ?_
                  refine z_i2l (v := lN (10)) X dX4_fetched_123 (nI_l (by omega)) ?_
                  refine z_goto (tgt := 133) X dX4_fetched_124 (by decide) ?_
                  refine z_lmul (v := lN (oddTo S (gLet S lt) st k z * 10)) X dX4_fetched_133 (lN_mul _ _) ?_
                  refine z_lstore (lv2 := [(6, .long (lN (oddTo S (gLet S lt) st k z * 10))), (11, .int (nI (1))), (10, .int (nI (10))), (9, .int (nI (z))), (8, .int (nI (nextTo st k z))), (5, .int (nI (k))), (3, .long (hrTo S r (gLet S lt) V st k)), (0, .ref (ad 0)), (1, .int (nI (st))), (2, .int (oI (lt)))]) X dX4_fetched_134 (Nat.le_of_ble_eq_true rfl) rfl ?_
                  refine z_iload X dX4_fetched_136 4 rfl ?_
                  refine z_iload X dX4_fetched_138 1 rfl ?_
                  refine z_if_eq_f (tgt := 151) X dX4_fetched_140 (by decide) (by decide) ?_
                  refine z_iload X dX4_fetched_143 3 rfl ?_
                  refine z_cip (z_runS (rest := [.int (nI (nextTo st k z))]) (n := 1) X [.int (nI (z))] (m_X4_oneOf (z := z) (by omega)) dX4_fetched_145 (lw_S q1634 q1635 q70 q1636) hs_X4_oneOf rfl ⟨Nat.le_of_ble_eq_true rfl, Nat.le_of_ble_eq_true rfl⟩ ⟨by omega, by omega⟩ rfl (Nat.le_of_ble_eq_true rfl)) ?_
                  refine z_goto (tgt := 152) X dX4_fetched_148 (by decide) ?_
                  refine z_iadd (v := nI (nextTo st k z + (pw5 z))) X dX4_fetched_152 (nI_add _ _) ?_
                  refine z_istore (lv2 := [(8, .int (nI (nextTo st k z + (pw5 z)))), (6, .long (lN (oddTo S (gLet S lt) st k z * 10))), (11, .int (nI (1))), (10, .int (nI (10))), (9, .int (nI (z))), (5, .int (nI (k))), (3, .long (hrTo S r (gLet S lt) V st k)), (0, .ref (ad 0)), (1, .int (nI (st))), (2, .int (oI (lt)))]) X dX4_fetched_153 (Nat.le_of_ble_eq_true rfl) rfl ?_
                  refine z_iinc (v := nI (z + 1)) (lv2 := [(9, .int (nI (z + 1))), (8, .int (nI (nextTo st k z + (pw5 z)))), (6, .long (lN (oddTo S (gLet S lt) st k z * 10))), (11, .int (nI (1))), (10, .int (nI (10))), (5, .int (nI (k))), (3, .long (hrTo S r (gLet S lt) V st k)), (0, .ref (ad 0)), (1, .int (nI (st))), (2, .int (oI (lt)))]) X dX4_fetched_155 4 rfl (nI_1 _) (Nat.le_of_ble_eq_true rfl) rfl ?_
                  refine z_goto (tgt := 21) X dX4_fetched_158 (by decide) ?_
                  refine Z.lv [0, 1, 2, 5, 6, 7, 8, 9] rfl ?_
                  have hb3 : bitK k z = 1 := by omega
                  have e1 : oddZ S (gLet S lt) st z (bitK k z) = 10 := by
                    unfold oddZ
                    rw [hb3]
                    first | rw [if_pos rfl] | rw [if_neg (by decide)]
                    first | rw [if_pos (by omega)] | rw [if_neg (by omega)]
                    all_goals first | rfl | omega
                  have e2 : oddTo S (gLet S lt) st k (z + 1) = oddTo S (gLet S lt) st k z * 10 := by show oddTo S (gLet S lt) st k z * oddZ S (gLet S lt) st z (bitK k z) = _; rw [e1]
                  have e3 : nextTo st k (z + 1) = nextTo st k z + (pw5 z) := by show nextTo st k z + bitK k z * pw5 z = _; rw [hb3]; rw [Nat.one_mul]
                  have kk := ih (z + 1) (by omega)
                  rw [e2, e3] at kk
                  exact kk
              · refine z_iconst (v := nI (0)) X dX4_fetched_89 ci0 ?_
                refine z_goto (tgt := 95) X dX4_fetched_90 (by decide) ?_
                refine z_istore (lv2 := [(10, .int (nI (0))), (9, .int (nI (z))), (8, .int (nI (nextTo st k z))), (6, .long (lN (oddTo S (gLet S lt) st k z))), (5, .int (nI (k))), (3, .long (hrTo S r (gLet S lt) V st k)), (0, .ref (ad 0)), (1, .int (nI (st))), (2, .int (oI (lt)))]) X dX4_fetched_95 (Nat.le_of_ble_eq_true rfl) rfl ?_
                refine z_iload X dX4_fetched_97 4 rfl ?_
                refine z_iload X dX4_fetched_99 1 rfl ?_
                refine z_ishr (v := nI (k / 2 ^ z)) X dX4_fetched_101 (bit_shr (by omega) (by omega)) ?_
                refine z_iconst (v := nI (1)) X dX4_fetched_102 ci1 ?_
                refine z_iand (v := nI (bitK k z)) X dX4_fetched_103 (bit_and (by omega)) ?_
                refine z_if_eq (tgt := 111) X dX4_fetched_104 (by decide) (nz_eq (by omega)) (fun c12 => ?_) (fun c12 => ?_)
                · refine z_iconst (v := nI (0)) X dX4_fetched_111 ci0 ?_
                  refine z_istore (lv2 := [(11, .int (nI (0))), (10, .int (nI (0))), (9, .int (nI (z))), (8, .int (nI (nextTo st k z))), (6, .long (lN (oddTo S (gLet S lt) st k z))), (5, .int (nI (k))), (3, .long (hrTo S r (gLet S lt) V st k)), (0, .ref (ad 0)), (1, .int (nI (st))), (2, .int (oI (lt)))]) X dX4_fetched_112 (Nat.le_of_ble_eq_true rfl) rfl ?_
                  refine z_lload X dX4_fetched_114 4 rfl ?_
                  refine z_iload X dX4_fetched_116 0 rfl ?_
                  refine z_if_eq_t (tgt := 127) X dX4_fetched_118 (by decide) (by decide) ?_
                  refine z_bipush (v := nI (10)) X dX4_fetched_127 (by decide) ?_
                  refine z_iload X dX4_fetched_129 1 rfl ?_
                  refine z_isub (v := nI (10)) X dX4_fetched_131 (pk_sub (by decide)) ?_
                  refine z_i2l (v := lN (10)) X dX4_fetched_132 (nI_l (by omega)) ?_
                  refine z_lmul (v := lN (oddTo S (gLet S lt) st k z * 10)) X dX4_fetched_133 (lN_mul _ _) ?_
                  refine z_lstore (lv2 := [(6, .long (lN (oddTo S (gLet S lt) st k z * 10))), (11, .int (nI (0))), (10, .int (nI (0))), (9, .int (nI (z))), (8, .int (nI (nextTo st k z))), (5, .int (nI (k))), (3, .long (hrTo S r (gLet S lt) V st k)), (0, .ref (ad 0)), (1, .int (nI (st))), (2, .int (oI (lt)))]) X dX4_fetched_134 (Nat.le_of_ble_eq_true rfl) rfl ?_
                  refine z_iload X dX4_fetched_136 4 rfl ?_
                  refine z_iload X dX4_fetched_138 1 rfl ?_
                  refine z_if_eq_t (tgt := 151) X dX4_fetched_140 (by decide) (by decide) ?_
                  refine z_iconst (v := nI (0)) X dX4_fetched_151 ci0 ?_
                  refine z_iadd (v := nI (nextTo st k z + 0)) X dX4_fetched_152 (nI_add _ _) ?_
                  refine z_istore (lv2 := [(8, .int (nI (nextTo st k z + 0))), (6, .long (lN (oddTo S (gLet S lt) st k z * 10))), (11, .int (nI (0))), (10, .int (nI (0))), (9, .int (nI (z))), (5, .int (nI (k))), (3, .long (hrTo S r (gLet S lt) V st k)), (0, .ref (ad 0)), (1, .int (nI (st))), (2, .int (oI (lt)))]) X dX4_fetched_153 (Nat.le_of_ble_eq_true rfl) rfl ?_
                  refine z_iinc (v := nI (z + 1)) (lv2 := [(9, .int (nI (z + 1))), (8, .int (nI (nextTo st k z + 0))), (6, .long (lN (oddTo S (gLet S lt) st k z * 10))), (11, .int (nI (0))), (10, .int (nI (0))), (5, .int (nI (k))), (3, .long (hrTo S r (gLet S lt) V st k)), (0, .ref (ad 0)), (1, .int (nI (st))), (2, .int (oI (lt)))]) X dX4_fetched_155 4 rfl (nI_1 _) (Nat.le_of_ble_eq_true rfl) rfl ?_
                  refine z_goto (tgt := 21) X dX4_fetched_158 (by decide) ?_
                  refine Z.lv [0, 1, 2, 5, 6, 7, 8, 9] rfl ?_
                  have hb3 : bitK k z = 0 := by omega
                  have e1 : oddZ S (gLet S lt) st z (bitK k z) = 10 := by
                    unfold oddZ
                    rw [hb3]
                    first | rw [if_pos rfl] | rw [if_neg (by decide)]
                    first | rw [if_pos (by omega)] | rw [if_neg (by omega)]
                    all_goals first | rfl | omega
                  have e2 : oddTo S (gLet S lt) st k (z + 1) = oddTo S (gLet S lt) st k z * 10 := by show oddTo S (gLet S lt) st k z * oddZ S (gLet S lt) st z (bitK k z) = _; rw [e1]
                  have e3 : nextTo st k (z + 1) = nextTo st k z + 0 := by show nextTo st k z + bitK k z * pw5 z = _; rw [hb3]; rw [Nat.zero_mul]
                  have kk := ih (z + 1) (by omega)
                  rw [e2, e3] at kk
                  exact kk
                · refine z_iconst (v := nI (1)) X dX4_fetched_107 ci1 ?_
                  refine z_goto (tgt := 112) X dX4_fetched_108 (by decide) ?_
                  refine z_istore (lv2 := [(11, .int (nI (1))), (10, .int (nI (0))), (9, .int (nI (z))), (8, .int (nI (nextTo st k z))), (6, .long (lN (oddTo S (gLet S lt) st k z))), (5, .int (nI (k))), (3, .long (hrTo S r (gLet S lt) V st k)), (0, .ref (ad 0)), (1, .int (nI (st))), (2, .int (oI (lt)))]) X dX4_fetched_112 (Nat.le_of_ble_eq_true rfl) rfl ?_
                  refine z_lload X dX4_fetched_114 4 rfl ?_
                  refine z_iload X dX4_fetched_116 0 rfl ?_
                  refine z_if_eq_f (tgt := 127) X dX4_fetched_118 (by decide) (by decide) ?_
                  refine z_iload X dX4_fetched_121 1 rfl ?_
                  refine z_i2l (v := lN (0)) X dX4_fetched_123 (nI_l (by omega)) ?_
                  refine z_goto (tgt := 133) X dX4_fetched_124 (by decide) ?_
                  refine z_lmul (v := lN (oddTo S (gLet S lt) st k z * 0)) X dX4_fetched_133 (lN_mul _ _) ?_
                  refine z_lstore (lv2 := [(6, .long (lN (oddTo S (gLet S lt) st k z * 0))), (11, .int (nI (1))), (10, .int (nI (0))), (9, .int (nI (z))), (8, .int (nI (nextTo st k z))), (5, .int (nI (k))), (3, .long (hrTo S r (gLet S lt) V st k)), (0, .ref (ad 0)), (1, .int (nI (st))), (2, .int (oI (lt)))]) X dX4_fetched_134 (Nat.le_of_ble_eq_true rfl) rfl ?_
                  refine z_iload X dX4_fetched_136 4 rfl ?_
                  refine z_iload X dX4_fetched_138 1 rfl ?_
                  refine z_if_eq_f (tgt := 151) X dX4_fetched_140 (by decide) (by decide) ?_
                  refine z_iload X dX4_fetched_143 3 rfl ?_
                  refine z_cip (z_runS (rest := [.int (nI (nextTo st k z))]) (n := 1) X [.int (nI (z))] (m_X4_oneOf (z := z) (by omega)) dX4_fetched_145 (lw_S q1634 q1635 q70 q1636) hs_X4_oneOf rfl ⟨Nat.le_of_ble_eq_true rfl, Nat.le_of_ble_eq_true rfl⟩ ⟨by omega, by omega⟩ rfl (Nat.le_of_ble_eq_true rfl)) ?_
                  refine z_goto (tgt := 152) X dX4_fetched_148 (by decide) ?_
                  refine z_iadd (v := nI (nextTo st k z + (pw5 z))) X dX4_fetched_152 (nI_add _ _) ?_
                  refine z_istore (lv2 := [(8, .int (nI (nextTo st k z + (pw5 z)))), (6, .long (lN (oddTo S (gLet S lt) st k z * 0))), (11, .int (nI (1))), (10, .int (nI (0))), (9, .int (nI (z))), (5, .int (nI (k))), (3, .long (hrTo S r (gLet S lt) V st k)), (0, .ref (ad 0)), (1, .int (nI (st))), (2, .int (oI (lt)))]) X dX4_fetched_153 (Nat.le_of_ble_eq_true rfl) rfl ?_
                  refine z_iinc (v := nI (z + 1)) (lv2 := [(9, .int (nI (z + 1))), (8, .int (nI (nextTo st k z + (pw5 z)))), (6, .long (lN (oddTo S (gLet S lt) st k z * 0))), (11, .int (nI (1))), (10, .int (nI (0))), (5, .int (nI (k))), (3, .long (hrTo S r (gLet S lt) V st k)), (0, .ref (ad 0)), (1, .int (nI (st))), (2, .int (oI (lt)))]) X dX4_fetched_155 4 rfl (nI_1 _) (Nat.le_of_ble_eq_true rfl) rfl ?_
                  refine z_goto (tgt := 21) X dX4_fetched_158 (by decide) ?_
                  refine Z.lv [0, 1, 2, 5, 6, 7, 8, 9] rfl ?_
                  have hb3 : bitK k z = 1 := by omega
                  have e1 : oddZ S (gLet S lt) st z (bitK k z) = 0 := by
                    unfold oddZ
                    rw [hb3]
                    first | rw [if_pos rfl] | rw [if_neg (by decide)]
                    first | rw [if_pos (by omega)] | rw [if_neg (by omega)]
                    all_goals first | rfl | omega
                  have e2 : oddTo S (gLet S lt) st k (z + 1) = oddTo S (gLet S lt) st k z * 0 := by show oddTo S (gLet S lt) st k z * oddZ S (gLet S lt) st z (bitK k z) = _; rw [e1]
                  have e3 : nextTo st k (z + 1) = nextTo st k z + (pw5 z) := by show nextTo st k z + bitK k z * pw5 z = _; rw [hb3]; rw [Nat.one_mul]
                  have kk := ih (z + 1) (by omega)
                  rw [e2, e3] at kk
                  exact kk
      exact lz (3) 0 (by omega)
  exact lp (8) 0 (by omega)
