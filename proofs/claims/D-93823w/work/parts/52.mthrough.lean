/-! THE MODEL: a told placing -/
set_option maxRecDepth 100000
/-- gone through: where it is wrong, the state then, how many are placed -/
def thrS (S : WS) (g v : Nat → Int64) (i : Nat) (p : Option Nat × Nat × Nat) : Option Nat × Nat × Nat := if p.1 = none then el (rgl 0 2 (v i)) p (fun z => if fitsB S (tnl (g i)) z p.2.1 = true then (none, p.2.1 - pw5 z, p.2.2 + 1) else (some i, p.2)) else p
def thrTo (S : WS) (g v : Nat → Int64) : Nat → Option Nat × Nat × Nat
  | 0 => (none, stOf S, 0)
  | n + 1 => thrS S g v n (thrTo S g v n)
theorem thrTo_le {S : WS} (h : wInv S) {g v : Nat → Int64} : ∀ n, (thrTo S g v n).2.1 < 125 ∧ (thrTo S g v n).2.2 ≤ n ∧ ∀ y, (thrTo S g v n).1 = some y → y < n := by
  intro n
  induction n with
  | zero => exact ⟨stOf_lt h, Nat.le_refl _, fun y hy => by cases hy⟩
  | succ n ih =>
    obtain ⟨a, b, c⟩ := ih
    simp only [thrTo, thrS]
    by_cases q : (thrTo S g v n).1 = none
    · rw [if_pos q]
      cases e : rgl 0 2 (v n) with
      | none => rw [el_none rfl]; exact ⟨a, by omega, fun y hy => by have := c y hy; omega⟩
      | some z =>
        rw [el_some rfl]
        by_cases q2 : fitsB S (tnl (g n)) z (thrTo S g v n).2.1 = true
        · rw [if_pos q2]; exact ⟨by show _ - _ < 125; omega, by show _ + 1 ≤ n + 1; omega, fun y hy => by cases hy⟩
        · rw [if_neg q2]; exact ⟨a, by show (thrTo S g v n).2.2 ≤ n + 1; omega, fun y hy => by cases hy; exact Nat.lt_succ_self _⟩
    · rw [if_neg q]; exact ⟨a, by omega, fun y hy => by have := c y hy; omega⟩
/-- once wrong it stays -/
theorem thrTo_stay {S : WS} {g v : Nat → Int64} {i : Nat} (h : ¬ (thrTo S g v i).1 = none) : ∀ n, i ≤ n → thrTo S g v n = thrTo S g v i := by
  intro n
  induction n with
  | zero =>
    intro hi
    have q : i = 0 := by omega
    subst q
    rfl
  | succ n ih =>
    intro hi
    by_cases q : i = n + 1
    · subst q; rfl
    · have e := ih (by omega)
      simp only [thrTo]
      rw [e]
      exact if_neg h
def ThrQ (p : Option Nat × Nat × Nat) (m2 : MSt) : Prop := m2.2.2.1 35 = oI p.1 ∧ m2.2.2.1 36 = nI p.2.1 ∧ m2.2.2.1 37 = nI p.2.2
/-- nothing changed but these three -/
def K35 (m m2 : MSt) : Prop := m2.1 = m.1 ∧ m2.2.1 = m.2.1 ∧ ∀ k, k < 35 → m2.2.2.1 k = m.2.2.1 k
theorem K35.f {m m2 : MSt} (h : K35 m m2) {k : Nat} {x : Int32} (hk : 35 ≤ k) : K35 m (mF m2 k x) := ⟨h.1, h.2.1, fun j hj => (if_neg (by omega)).trans (h.2.2 j hj)⟩
theorem MT.K35 {o : OS} {m m2 : MSt} (h : MT o m) (k : K35 m m2) : MT o m2 := h.kept (fun _ _ => by rw [k.1]) (fun _ _ => by rw [k.2.1]) (fun j hj => k.2.2 j (by omega))
theorem ThrQ.a {p : Option Nat × Nat × Nat} {m : MSt} (h : ThrQ p m) {i : Nat} : ThrQ (some i, p.2) (mF m 35 (nI i)) := ⟨rfl, h.2.1, h.2.2⟩
theorem ThrQ.b {p : Option Nat × Nat × Nat} {m : MSt} (h : ThrQ p m) {s n : Nat} (hn : p.1 = none) : ThrQ (none, s, n) (mF (mF m 36 (nI s)) 37 (nI n)) := ⟨by rw [← hn]; exact h.1, rfl, rfl⟩
set_option maxHeartbeats 2000000 in
theorem m_X4_goThrough {l : Launch} {G : GG} {wb w : GW} {ad : Nat → Nat} {m : MSt} (hM : MM G wb w ad m) {o : OS} (hT : MT o m) (hO : oInv o) {s t k : Nat} (hs : s < 8) (ht : t < 8) (hk : k ≤ 6) (hkt : k ≤ o.2.2.2.1 2 t) (hcr : ∀ i, i < k → m.1 31 i = nI (tnl (o.2.2.2.2.1 s i)) ∧ tnl (o.2.2.2.2.1 s i) < o.1.2 0) : gM l G yX4_goThrough cX4_goThrough 5 none 4 0 0 [.ref (ad 0), .int (nI (t)), .int (nI (k))] w (pV (fun w1 => ∃ m2, MM G wb w1 ad m2 ∧ K35 m m2 ∧ MT o m2 ∧ ThrQ (thrTo o.1 (o.2.2.2.2.1 s) (o.2.2.2.2.1 t) k) m2)) := by
  refine Z.met (own := "ThreeSizesModel") (nm := "goThrough") (lv := [(0, .ref (ad 0)), (1, .int (nI (t))), (2, .int (nI (k)))]) (by decide) rfl rfl (Nat.le_of_ble_eq_true rfl) rfl (fun κ X => ?_)
  have hI := hO.1
  have h6 := hI.2.1
  have hst := stOf_lt hI
  have hqt := hO.2.1 t ht
  refine z_aload_n X dX4_goThrough_0 rfl 0 rfl ?_
  refine z_iconst (v := -1) X dX4_goThrough_1 cim1 ?_
  refine z_mp35 X hM dX4_goThrough_2 (fun u1 hM1 => ?_)
  refine z_aload_n X dX4_goThrough_5 rfl 0 rfl ?_
  refine z_aload_n X dX4_goThrough_6 rfl 0 rfl ?_
  refine z_cip (z_runV (rest := [.ref (ad 0)]) (n := 0) X [] (m_X4_stateNow hM1 hT.1 hI) dX4_goThrough_7 (mm_o hM1) rfl (lw_V q1585 q1587 qs28 q70 q1588) hv_X4_stateNow rfl ⟨Nat.le_of_ble_eq_true rfl, Nat.le_of_ble_eq_true rfl⟩ ⟨by omega, by omega⟩ rfl (Nat.le_of_ble_eq_true rfl)) ?_
  refine z_mp36 X hM1 dX4_goThrough_10 (fun u2 hM2 => ?_)
  refine z_aload_n X dX4_goThrough_13 rfl 0 rfl ?_
  refine z_iconst (v := nI (0)) X dX4_goThrough_14 ci0 ?_
  refine z_mp37 X hM2 dX4_goThrough_15 (fun u3 hM3 => ?_)
  have hk0 : K35 m (mF (mF (mF m 35 (-1)) 36 (nI (stOf o.1))) 37 (nI (0))) := ((K35.f (m := m) (m2 := m) ⟨rfl, rfl, fun _ _ => rfl⟩ (by decide)).f (by decide)).f (by decide)
  refine z_iconst (v := nI (0)) X dX4_goThrough_18 ci0 ?_
  refine z_istore_n (lv2 := [(3, .int (nI (0))), (0, .ref (ad 0)), (1, .int (nI (t))), (2, .int (nI (k)))]) X dX4_goThrough_19 rfl (Nat.le_of_ble_eq_true rfl) rfl ?_
  have lt2 : ∀ (lq i : Nat) (w2 : GW) (m2 : MSt), i + lq = k → MM G wb w2 ad m2 → K35 m m2 → MT o m2 → ThrQ (thrTo o.1 (o.2.2.2.2.1 s) (o.2.2.2.2.1 t) i) m2 → Z κ w2 [(3, .int (nI (i))), (0, .ref (ad 0)), (1, .int (nI (t))), (2, .int (nI (k)))] 0 0 20 [] := by
    intro lq
    induction lq with
    | zero =>
      intro i w2 m2 lh hM2 hk5 hT2x hq
      obtain rfl : k = i := by omega
      refine z_iload_n X dX4_goThrough_20 rfl 0 rfl ?_
      refine z_iload_n X dX4_goThrough_21 rfl 3 rfl ?_
      refine z_icmp_ge_t (tgt := 119) X dX4_goThrough_22 (by decide) ((nI_leI (by omega) (by omega)).mpr (by omega)) ?_
      exact z_vret X dX4_goThrough_119 (by omega) (by omega) ⟨rfl, ⟨_, hM2, hk5, hT2x, hq⟩⟩
    | succ lq ih =>
      intro i w2 m2 lh hM2 hk5 hT2x hq
      have hb := thrTo_le hI (g := (o.2.2.2.2.1 s)) (v := (o.2.2.2.2.1 t)) i
      refine z_iload_n X dX4_goThrough_20 rfl 0 rfl ?_
      refine z_iload_n X dX4_goThrough_21 rfl 3 rfl ?_
      refine z_icmp_ge_f (tgt := 119) X dX4_goThrough_22 (by decide) (fun h => absurd ((nI_leI (by omega) (by omega)).mp h) (by omega)) ?_
      refine z_aload_n X dX4_goThrough_25 rfl 1 rfl ?_
      refine z_mgv35 X hM2 dX4_goThrough_26 hq.1 ?_
      refine z_iconst (v := -1) X dX4_goThrough_29 cim1 ?_
      refine z_icmp_ne (tgt := 119) X dX4_goThrough_30 (by decide) (oI_m1 (fun z h => by have := hb.2.2 z h; omega)) (fun c4 => ?_) (fun c4 => ?_)
      · exact z_vret X dX4_goThrough_119 (by omega) (by omega) ⟨rfl, ⟨_, hM2, hk5, hT2x, by rw [thrTo_stay c4 k (by omega)]; exact hq⟩⟩
      · refine z_aload_n X dX4_goThrough_33 rfl 1 rfl ?_
        refine z_mg3 X hM2 dX4_goThrough_34 ?_
        refine z_iload_n X dX4_goThrough_37 rfl 2 rfl ?_
        refine z_aN6 (v := .ref (ad (40 + t))) X dX4_goThrough_38 (mm_4 hM2) (by omega) (by omega) rfl ?_
        refine z_iload_n X dX4_goThrough_39 rfl 0 rfl ?_
        refine z_laN (v := o.2.2.2.2.1 t i) X dX4_goThrough_40 (mmr_40 hM2 (by omega)) (by omega) (by omega) (hT2x.2.2.2.2.1 t (by omega) i (by omega)) ?_
        refine z_lconst (v := lN 0) X dX4_goThrough_41 cl0 ?_
        refine z_ldc2 X dX4_goThrough_42 q1649 ?_
        refine z_cip (z_runS (rest := []) (n := 3) X [.long (o.2.2.2.2.1 t i), .long (lN (0)), .long ((2))] m_X4_in dX4_goThrough_45 (lw_S q1541 q1542 q70 q1543) hs_X4_in rfl ⟨Nat.le_of_ble_eq_true rfl, Nat.le_of_ble_eq_true rfl⟩ ⟨by omega, by omega⟩ rfl (Nat.le_of_ble_eq_true rfl)) ?_
        refine z_if_eq (tgt := 113) X dX4_goThrough_48 (by decide) bI_d (fun c5 => ?_) (fun c5 => ?_)
        · refine z_iinc (v := nI (i + 1)) (lv2 := [(3, .int (nI (i + 1))), (0, .ref (ad 0)), (1, .int (nI (t))), (2, .int (nI (k)))]) X dX4_goThrough_113 0 rfl (nI_1 _) (Nat.le_of_ble_eq_true rfl) rfl ?_
          refine z_goto (tgt := 20) X dX4_goThrough_116 (by decide) ?_
          have en := c4
          have e : thrTo o.1 (o.2.2.2.2.1 s) (o.2.2.2.2.1 t) (i + 1) = (thrTo o.1 (o.2.2.2.2.1 s) (o.2.2.2.2.1 t) i) := (if_pos en).trans (el_none (rgl_f c5))
          exact ih (i + 1) _ _ (by omega) hM2 hk5 (hT.K35 hk5) (by rw [e]; exact hq)
        · have c5 := Classical.not_not.mp c5
          obtain ⟨zN, zNl, zNh, zNe, ze⟩ := rgl_t (lo := 0) (hi := 2) (by decide) (by decide) c5
          have hci := (hcr i (by omega)).2
          refine z_aload_n X dX4_goThrough_51 rfl 1 rfl ?_
          refine z_mg3 X hM2 dX4_goThrough_52 ?_
          refine z_iload_n X dX4_goThrough_55 rfl 2 rfl ?_
          refine z_aN6 (v := .ref (ad (40 + t))) X dX4_goThrough_56 (mm_4 hM2) (by omega) (by omega) rfl ?_
          refine z_iload_n X dX4_goThrough_57 rfl 0 rfl ?_
          refine z_laN (v := o.2.2.2.2.1 t i) X dX4_goThrough_58 (mmr_40 hM2 (by omega)) (by omega) (by omega) (hT2x.2.2.2.2.1 t (by omega) i (by omega)) ?_
          refine z_l2i (v := nI (zN)) X dX4_goThrough_59 (by rw [zNe]; exact lN_i zN) ?_
          refine z_istore (lv2 := [(4, .int (nI (zN))), (3, .int (nI (i))), (0, .ref (ad 0)), (1, .int (nI (t))), (2, .int (nI (k)))]) X dX4_goThrough_60 (Nat.le_of_ble_eq_true rfl) rfl ?_
          refine z_aload_n X dX4_goThrough_62 rfl 2 rfl ?_
          refine z_aload_n X dX4_goThrough_63 rfl 2 rfl ?_
          refine z_mg30 X hM2 dX4_goThrough_64 ?_
          refine z_iload_n X dX4_goThrough_67 rfl 1 rfl ?_
          refine z_iaN (v := nI (tnl (o.2.2.2.2.1 s i))) X dX4_goThrough_68 (mm_31 hM2) (by omega) (by omega) ((congrFun (congrFun hk5.1 31) _).trans (hcr i (by omega)).1) ?_
          refine z_aload_n X dX4_goThrough_69 rfl 2 rfl ?_
          refine z_mgv36 X hM2 dX4_goThrough_70 hq.2.1 ?_
          refine z_iload X dX4_goThrough_73 0 rfl ?_
          refine z_cip (z_runV (rest := []) (n := 3) X [.int (nI (tnl (o.2.2.2.2.1 s i))), .int (nI ((thrTo o.1 (o.2.2.2.2.1 s) (o.2.2.2.2.1 t) i).2.1)), .int (nI (zN))] (m_X4_mayGet hM2 hT2x.1 hI (i := tnl (o.2.2.2.2.1 s i)) (st := (thrTo o.1 (o.2.2.2.2.1 s) (o.2.2.2.2.1 t) i).2.1) (z := zN) (by omega) (by omega) (by omega)) dX4_goThrough_75 (mm_o hM2) rfl (lw_V q1629 q1631 qs37 q70 q1632) hv_X4_mayGet rfl ⟨Nat.le_of_ble_eq_true rfl, Nat.le_of_ble_eq_true rfl⟩ ⟨by omega, by omega⟩ rfl (Nat.le_of_ble_eq_true rfl)) ?_
          refine z_if_eq (tgt := 108) X dX4_goThrough_78 (by decide) bI_0 (fun c6 => ?_) (fun c6 => ?_)
          · refine z_aload_n X dX4_goThrough_108 rfl 2 rfl ?_
            refine z_iload_n X dX4_goThrough_109 rfl 1 rfl ?_
            refine z_mp35 X hM2 dX4_goThrough_110 (fun u7 hM7 => ?_)
            refine z_iinc (v := nI (i + 1)) (lv2 := [(3, .int (nI (i + 1))), (4, .int (nI (zN))), (0, .ref (ad 0)), (1, .int (nI (t))), (2, .int (nI (k)))]) X dX4_goThrough_113 1 rfl (nI_1 _) (Nat.le_of_ble_eq_true rfl) rfl ?_
            refine z_goto (tgt := 20) X dX4_goThrough_116 (by decide) ?_
            refine Z.lv [0, 2, 3, 4] rfl ?_
            have en := c4
            have e : thrTo o.1 (o.2.2.2.2.1 s) (o.2.2.2.2.1 t) (i + 1) = (some i, (thrTo o.1 (o.2.2.2.2.1 s) (o.2.2.2.2.1 t) i).2) := (if_pos en).trans ((el_some (by rw [zNe]; exact ze)).trans (if_neg (ts_n c6)))
            exact ih (i + 1) _ _ (by omega) hM7 (hk5.f (by decide)) (hT.K35 (hk5.f (by decide))) (by rw [e]; exact hq.a)
          · have c6 := ts_t c6
            have hg := fr_ge (fits_of c6).2
            refine z_aload_n X dX4_goThrough_81 rfl 2 rfl ?_
            refine z_dup X dX4_goThrough_82 rfl ?_
            refine z_mgv36 X hM2 dX4_goThrough_83 hq.2.1 ?_
            refine z_iload X dX4_goThrough_86 0 rfl ?_
            refine z_cip (z_runS (rest := [.int (nI ((thrTo o.1 (o.2.2.2.2.1 s) (o.2.2.2.2.1 t) i).2.1)), .ref (ad 0)]) (n := 1) X [.int (nI (zN))] (m_X4_oneOf (z := zN) (by omega)) dX4_goThrough_88 (lw_S q1634 q1635 q70 q1636) hs_X4_oneOf rfl ⟨Nat.le_of_ble_eq_true rfl, Nat.le_of_ble_eq_true rfl⟩ ⟨by omega, by omega⟩ rfl (Nat.le_of_ble_eq_true rfl)) ?_
            refine z_isub (v := nI ((thrTo o.1 (o.2.2.2.2.1 s) (o.2.2.2.2.1 t) i).2.1 - (pw5 zN))) X dX4_goThrough_91 (pk_sub (by omega)) ?_
            refine z_mp36 X hM2 dX4_goThrough_92 (fun u8 hM8 => ?_)
            refine z_aload_n X dX4_goThrough_95 rfl 2 rfl ?_
            refine z_dup X dX4_goThrough_96 rfl ?_
            refine z_mgv37 X hM8 dX4_goThrough_97 hq.2.2 ?_
            refine z_iconst (v := nI (1)) X dX4_goThrough_100 ci1 ?_
            refine z_iadd (v := nI ((thrTo o.1 (o.2.2.2.2.1 s) (o.2.2.2.2.1 t) i).2.2 + 1)) X dX4_goThrough_101 (nI_add _ _) ?_
            refine z_mp37 X hM8 dX4_goThrough_102 (fun u9 hM9 => ?_)
            refine z_goto (tgt := 113) X dX4_goThrough_105 (by decide) ?_
            refine z_iinc (v := nI (i + 1)) (lv2 := [(3, .int (nI (i + 1))), (4, .int (nI (zN))), (0, .ref (ad 0)), (1, .int (nI (t))), (2, .int (nI (k)))]) X dX4_goThrough_113 1 rfl (nI_1 _) (Nat.le_of_ble_eq_true rfl) rfl ?_
            refine z_goto (tgt := 20) X dX4_goThrough_116 (by decide) ?_
            refine Z.lv [0, 2, 3, 4] rfl ?_
            have en := c4
            have e : thrTo o.1 (o.2.2.2.2.1 s) (o.2.2.2.2.1 t) (i + 1) = (none, (thrTo o.1 (o.2.2.2.2.1 s) (o.2.2.2.2.1 t) i).2.1 - pw5 zN, (thrTo o.1 (o.2.2.2.2.1 s) (o.2.2.2.2.1 t) i).2.2 + 1) := (if_pos en).trans ((el_some (by rw [zNe]; exact ze)).trans (if_pos c6))
            exact ih (i + 1) _ _ (by omega) hM9 ((hk5.f (by decide)).f (by decide)) (hT.K35 ((hk5.f (by decide)).f (by decide))) (by rw [e]; exact (hq.b en))
  exact lt2 k 0 u3 (mF (mF (mF m 35 (-1)) 36 (nI (stOf o.1))) 37 (nI (0))) (by omega) hM3 hk0 (hT.K35 hk0) ⟨rfl, rfl, rfl⟩
