/-! THE MODEL: cart -/
set_option maxRecDepth 100000
def cartV (o : OS) (s k n : Nat) (q : Option Nat) : Int64 := match q with
  | none => (cartP o.1 (fun i => tnl (o.2.2.2.2.1 s i)) (vals o.1 (rBest o.1) n) k).2.1
  | some j => ((cartP o.1 (fun i => tnl (o.2.2.2.2.1 s i)) (vals o.1 (rBest o.1) n) k).2.2.1 j).toInt64
def cartIn (o : OS) (s k n : Nat) (q : Option Nat) : Int64 × OS := if o.2.2.2.1 0 s = 2 then badL o 3 else if o.2.2.2.1 0 s = 0 then badL o 4 else if cartB o s k = true then (cartV o s k n q, o) else badL o 2
/-- none: all; else a place below k -/
def whatEl {α : Type} (k : Nat) (v : Int32) (d : α) (f : Option Nat → α) : α := if v = -1 then f none else el (rgn k v) d (fun j => f (some j))
theorem whatEl_a {α : Type} {k : Nat} {v : Int32} {d : α} {f : Option Nat → α} (h : v = -1) : whatEl k v d f = f none := if_pos h
theorem whatEl_j {α : Type} {k j : Nat} {v : Int32} {d : α} {f : Option Nat → α} (h : ¬ v = -1) (h2 : rgn k v = some j) : whatEl k v d f = f (some j) := (if_neg h).trans (el_some h2)
theorem whatEl_n {α : Type} {k : Nat} {v : Int32} {d : α} {f : Option Nat → α} (h : ¬ v = -1 ∧ rgn k v = none) : whatEl k v d f = d := (if_neg h.1).trans (el_none h.2)
def spCart (o : OS) (s k n v : Int32) : Int64 × OS := el (rgb 0 7 s) (badL o 2) fun s => el (rgb 0 6 k) (badL o 2) fun k => el (rgb 0 24 n) (badL o 2) fun n => whatEl k v (badL o 2) fun q => cartIn o s k n q
theorem m1_64 : (-1 : Int64) = (-1 : Int32).toInt64 := by decide
theorem what_t {v : Int32} {k : Nat} (hk : k ≤ 6) (h : (-1 : Int64) ≤ v.toInt64 ∧ v.toInt64 ≤ (nI k - nI 1).toInt64) : v = -1 ∨ ∃ j, j < k ∧ v = nI j ∧ rgn k (nI j) = some j := by
  rw [m1_64] at h
  have h2 := in32.mp h
  by_cases q : v = -1
  · exact Or.inl q
  · refine Or.inr (rgn_t2 (by omega) ⟨?_, h2.2⟩)
    have h3 := h2.1
    rw [Int32.le_iff_toInt_le] at h3 ⊢
    rw [nI_toInt (by decide)]
    have e1 : (-1 : Int32).toInt = -1 := by decide
    have e2 : v.toInt ≠ -1 := fun e => q (Int32.toInt_inj.mp (by rw [e, e1]))
    rw [e1] at h3
    omega
theorem what_f {v : Int32} {k : Nat} (hk : k ≤ 6) (h : ¬ ((-1 : Int64) ≤ v.toInt64 ∧ v.toInt64 ≤ (nI k - nI 1).toInt64)) : ¬ v = -1 ∧ rgn k v = none := by
  rw [m1_64] at h
  have e1 : (-1 : Int32).toInt = -1 := by decide
  have e3 := pk_sub_toInt (a := k) (b := 1) (by omega) (by decide)
  refine ⟨fun e => h (in32.mpr ?_), rgn_f2 (by omega) (fun q => h (in32.mpr ⟨?_, q.2⟩))⟩
  · subst e
    rw [Int32.le_iff_toInt_le, Int32.le_iff_toInt_le, e1, e3]; omega
  · have h3 := q.1
    rw [Int32.le_iff_toInt_le] at h3 ⊢
    rw [nI_toInt (by decide)] at h3
    rw [e1]; omega
theorem KP.f34 {o : OS} {m : MSt} {x : Int32} (h : MT o m) : MT o (mF m 34 x) := (show KP m (mF m 34 x) from ⟨fun _ _ _ => rfl, rfl, fun k hk => if_neg hk⟩).T h
set_option maxHeartbeats 2000000 in
theorem m_X4_cart {l : Launch} {G : GG} {wb w : GW} {ad : Nat → Nat} {m : MSt} (hM : MM G wb w ad m) {o : OS} (hT : MT o m) (hO : oInv o) {s k n v : Int32} : gM l G yX4_cart cX4_cart 6 (some .long) 10 0 0 [.ref (ad 0), .int (s), .int (k), .int (n), .int (v)] w (pL (fun r w1 => ∃ m2, MM G wb w1 ad m2 ∧ MT (spCart o s k n v).2 m2 ∧ r = (spCart o s k n v).1)) := by
  refine Z.met (own := "ThreeSizesModel") (nm := "cart") (lv := [(0, .ref (ad 0)), (1, .int (s)), (2, .int (k)), (3, .int (n)), (4, .int (v))]) (by decide) rfl rfl (Nat.le_of_ble_eq_true rfl) rfl (fun κ X => ?_)
  have hI := hO.1
  have h6 := hI.2.1
  have ht200 := hO.2.2.2
  have hst := stOf_lt hI
  refine z_iload_n X dX4_cart_0 rfl 1 rfl ?_
  refine z_i2l (v := (s).toInt64) X dX4_cart_1 rfl ?_
  refine z_lconst (v := lN 0) X dX4_cart_2 cl0 ?_
  refine z_ldc2 X dX4_cart_3 q1540 ?_
  refine z_cip (z_runS (rest := []) (n := 3) X [.long ((s).toInt64), .long (lN (0)), .long ((7))] m_X4_in dX4_cart_6 (lw_S q1541 q1542 q70 q1543) hs_X4_in rfl ⟨by omega, by omega⟩ ⟨by omega, by omega⟩ rfl (Nat.le_of_ble_eq_true rfl)) ?_
  refine z_if_eq (tgt := 47) X dX4_cart_9 (by decide) bI_d (fun c1 => ?_) (fun c1 => ?_)
  · have e1 : rgb 0 7 s = none := rgb_f (fun q => c1 ((in32 (lo := nI 0) (hi := nI 7)).mpr q))
    refine z_ldc2 X dX4_cart_47 q1780 ?_
    refine z_aload_n X dX4_cart_50 rfl 0 rfl ?_
    refine z_bipush (v := (-2)) X dX4_cart_51 (by decide) ?_
    refine z_ci (z_runV (rest := [.long ((-1000000000000))]) (n := 1) X [.int ((-2))] (m_X4_refuse hM (k := 2) (by decide) (v := (-2)) rfl) dX4_cart_53 (mm_o hM) rfl (lw_V q1546 q1548 qs27 q70 q1549) hv_X4_refuse rfl ⟨by omega, by omega⟩ ⟨by omega, by omega⟩ rfl (Nat.le_of_ble_eq_true rfl)) (fun r2 w4 h3 => ?_)
    obtain ⟨hM3, r2e⟩ := h3
    rw [r2e]
    have hT3 := MT.ref hT (k := 2) (by decide)
    refine z_i2l (v := ((-2)).toInt64) X dX4_cart_56 rfl ?_
    refine z_ladd (v := (-1000000000000) + (((-2)).toInt64)) X dX4_cart_57 rfl ?_
    have e : spCart o s k n v = ((-1000000000000) + (((-2)).toInt64), oRef o 2) := by
      unfold spCart
      repeat (first | rw [el_some (by assumption)] | rw [el_none (by assumption)])
      all_goals first | rfl | (exfalso; omega)
    exact z_lret X dX4_cart_58 (by omega) (by omega) ⟨_, rfl, (by rw [e]; exact ⟨_, hM3, hT3, rfl⟩)⟩
  · have c1 := Classical.not_not.mp c1
    obtain ⟨sN, sNl, sNh, rfl, e2⟩ := rgb_t (lo := 0) (hi := 7) (by decide) (by decide) ((in32 (lo := nI 0) (hi := nI 7)).mp c1)
    refine z_iload_n X dX4_cart_12 rfl 2 rfl ?_
    refine z_i2l (v := (k).toInt64) X dX4_cart_13 rfl ?_
    refine z_lconst (v := lN 0) X dX4_cart_14 cl0 ?_
    refine z_ldc2 X dX4_cart_15 q1573 ?_
    refine z_cip (z_runS (rest := []) (n := 3) X [.long ((k).toInt64), .long (lN (0)), .long ((6))] m_X4_in dX4_cart_18 (lw_S q1541 q1542 q70 q1543) hs_X4_in rfl ⟨by omega, by omega⟩ ⟨by omega, by omega⟩ rfl (Nat.le_of_ble_eq_true rfl)) ?_
    refine z_if_eq (tgt := 47) X dX4_cart_21 (by decide) bI_d (fun c5 => ?_) (fun c5 => ?_)
    · have e3 : rgb 0 6 k = none := rgb_f (fun q => c5 ((in32 (lo := nI 0) (hi := nI 6)).mpr q))
      refine z_ldc2 X dX4_cart_47 q1780 ?_
      refine z_aload_n X dX4_cart_50 rfl 0 rfl ?_
      refine z_bipush (v := (-2)) X dX4_cart_51 (by decide) ?_
      refine z_ci (z_runV (rest := [.long ((-1000000000000))]) (n := 1) X [.int ((-2))] (m_X4_refuse hM (k := 2) (by decide) (v := (-2)) rfl) dX4_cart_53 (mm_o hM) rfl (lw_V q1546 q1548 qs27 q70 q1549) hv_X4_refuse rfl ⟨by omega, by omega⟩ ⟨by omega, by omega⟩ rfl (Nat.le_of_ble_eq_true rfl)) (fun r6 w8 h7 => ?_)
      obtain ⟨hM7, r6e⟩ := h7
      rw [r6e]
      have hT7 := MT.ref hT (k := 2) (by decide)
      refine z_i2l (v := ((-2)).toInt64) X dX4_cart_56 rfl ?_
      refine z_ladd (v := (-1000000000000) + (((-2)).toInt64)) X dX4_cart_57 rfl ?_
      have e : spCart o (nI sN) k n v = ((-1000000000000) + (((-2)).toInt64), oRef o 2) := by
        unfold spCart
        repeat (first | rw [el_some (by assumption)] | rw [el_none (by assumption)])
        all_goals first | rfl | (exfalso; omega)
      exact z_lret X dX4_cart_58 (by omega) (by omega) ⟨_, rfl, (by rw [e]; exact ⟨_, hM7, hT7, rfl⟩)⟩
    · have c5 := Classical.not_not.mp c5
      obtain ⟨kN, kNl, kNh, rfl, e4⟩ := rgb_t (lo := 0) (hi := 6) (by decide) (by decide) ((in32 (lo := nI 0) (hi := nI 6)).mp c5)
      refine z_iload_n X dX4_cart_24 rfl 3 rfl ?_
      refine z_cip (z_runS (rest := []) (n := 1) X [.int (n)] (m_X4_areHours (v := n)) dX4_cart_25 (lw_S q1797 q1798 q70 q1799) hs_X4_areHours rfl ⟨by omega, by omega⟩ ⟨by omega, by omega⟩ rfl (Nat.le_of_ble_eq_true rfl)) ?_
      refine z_if_eq (tgt := 47) X dX4_cart_28 (by decide) bI_d (fun c9 => ?_) (fun c9 => ?_)
      · have e5 : rgb 0 24 n = none := rgb_f c9
        refine z_ldc2 X dX4_cart_47 q1780 ?_
        refine z_aload_n X dX4_cart_50 rfl 0 rfl ?_
        refine z_bipush (v := (-2)) X dX4_cart_51 (by decide) ?_
        refine z_ci (z_runV (rest := [.long ((-1000000000000))]) (n := 1) X [.int ((-2))] (m_X4_refuse hM (k := 2) (by decide) (v := (-2)) rfl) dX4_cart_53 (mm_o hM) rfl (lw_V q1546 q1548 qs27 q70 q1549) hv_X4_refuse rfl ⟨by omega, by omega⟩ ⟨by omega, by omega⟩ rfl (Nat.le_of_ble_eq_true rfl)) (fun r10 w12 h11 => ?_)
        obtain ⟨hM11, r10e⟩ := h11
        rw [r10e]
        have hT11 := MT.ref hT (k := 2) (by decide)
        refine z_i2l (v := ((-2)).toInt64) X dX4_cart_56 rfl ?_
        refine z_ladd (v := (-1000000000000) + (((-2)).toInt64)) X dX4_cart_57 rfl ?_
        have e : spCart o (nI sN) (nI kN) n v = ((-1000000000000) + (((-2)).toInt64), oRef o 2) := by
          unfold spCart
          repeat (first | rw [el_some (by assumption)] | rw [el_none (by assumption)])
          all_goals first | rfl | (exfalso; omega)
        exact z_lret X dX4_cart_58 (by omega) (by omega) ⟨_, rfl, (by rw [e]; exact ⟨_, hM11, hT11, rfl⟩)⟩
      · have c9 := Classical.not_not.mp c9
        obtain ⟨nN, nNl, nNh, rfl, e6⟩ := rgb_t (lo := 0) (hi := 24) (by decide) (by decide) (c9)
        refine z_iload X dX4_cart_31 4 rfl ?_
        refine z_i2l (v := (v).toInt64) X dX4_cart_33 rfl ?_
        refine z_ldc2 X dX4_cart_34 q1833 ?_
        refine z_iload_n X dX4_cart_37 rfl 2 rfl ?_
        refine z_iconst (v := nI (1)) X dX4_cart_38 ci1 ?_
        refine z_isub (v := nI kN - nI 1) X dX4_cart_39 rfl ?_
        refine z_i2l (v := (nI kN - nI 1).toInt64) X dX4_cart_40 rfl ?_
        refine z_cip (z_runS (rest := []) (n := 3) X [.long ((v).toInt64), .long ((-1)), .long ((nI kN - nI 1).toInt64)] m_X4_in dX4_cart_41 (lw_S q1541 q1542 q70 q1543) hs_X4_in rfl ⟨by omega, by omega⟩ ⟨by omega, by omega⟩ rfl (Nat.le_of_ble_eq_true rfl)) ?_
        by_cases c13 : (-1) ≤ (v).toInt64 ∧ (v).toInt64 ≤ (nI kN - nI 1).toInt64
        · rcases what_t (by omega) c13 with rfl | ⟨jN, jh, rfl, ej⟩
          · skip
            refine z_if_ne_t (tgt := 59) X dX4_cart_44 (by decide) (fun h => bI_d.mp h c13) ?_
            have hqs := hO.2.1 sN (by omega)
            refine z_aload_n X dX4_cart_59 rfl 0 rfl ?_
            refine z_iload_n X dX4_cart_60 rfl 1 rfl ?_
            refine z_ci (z_runV (rest := []) (n := 1) X [.int (nI (sN))] (m_X4_noRow hM hT hO (s := nI (sN))) dX4_cart_61 (mm_o hM) rfl (lw_V q1664 q1666 qs41 q70 q1667) hv_X4_noRow rfl ⟨by omega, by omega⟩ ⟨by omega, by omega⟩ rfl (Nat.le_of_ble_eq_true rfl)) (fun r14 w16 h15 => ?_)
            obtain ⟨mv15, hM15, hQ15⟩ := h15
            rcases hQ15 with ⟨e7, rfl, hTn15⟩ | ⟨k18, k18h, k18e, e8, (⟨q17, rfl, hTn15⟩ | ⟨q17, rfl, hTn15⟩ | ⟨q17, rfl, hTn15⟩)⟩
            · exact absurd (rgb_nI (lo := 0) (hi := 7) (k := sN) (by omega) (by decide)) (by rw [e7]; exact fun h => by cases h)
            · obtain rfl : sN = k18 := (nI_eq (by omega) (by omega)).mp k18e
              refine z_istore (lv2 := [(5, .int ((-3))), (0, .ref (ad 0)), (1, .int (nI (sN))), (2, .int (nI (kN))), (3, .int (nI (nN))), (4, .int ((-1)))]) X dX4_cart_64 (Nat.le_of_ble_eq_true rfl) rfl ?_
              refine z_iload X dX4_cart_66 0 rfl ?_
              refine z_if_eq_f (tgt := 79) X dX4_cart_68 (by decide) (by decide) ?_
              refine z_ldc2 X dX4_cart_71 q1780 ?_
              refine z_iload X dX4_cart_74 0 rfl ?_
              refine z_i2l (v := ((-3)).toInt64) X dX4_cart_76 rfl ?_
              refine z_ladd (v := (-1000000000000) + (((-3)).toInt64)) X dX4_cart_77 rfl ?_
              have e : spCart o (nI sN) (nI kN) (nI nN) (-1) = ((-1000000000000) + (((-3)).toInt64), oRef o 3) := by
                unfold spCart
                rw [el_some (by assumption), el_some (by assumption), el_some (by assumption), whatEl_a rfl]
                unfold cartIn
                first | exact if_pos (by omega) | (rw [if_neg (by omega)]; exact if_pos (by omega))
              exact z_lret X dX4_cart_78 (by omega) (by omega) ⟨_, rfl, (by rw [e]; exact ⟨_, hM15, hTn15, rfl⟩)⟩
            · obtain rfl : sN = k18 := (nI_eq (by omega) (by omega)).mp k18e
              refine z_istore (lv2 := [(5, .int ((-4))), (0, .ref (ad 0)), (1, .int (nI (sN))), (2, .int (nI (kN))), (3, .int (nI (nN))), (4, .int ((-1)))]) X dX4_cart_64 (Nat.le_of_ble_eq_true rfl) rfl ?_
              refine z_iload X dX4_cart_66 0 rfl ?_
              refine z_if_eq_f (tgt := 79) X dX4_cart_68 (by decide) (by decide) ?_
              refine z_ldc2 X dX4_cart_71 q1780 ?_
              refine z_iload X dX4_cart_74 0 rfl ?_
              refine z_i2l (v := ((-4)).toInt64) X dX4_cart_76 rfl ?_
              refine z_ladd (v := (-1000000000000) + (((-4)).toInt64)) X dX4_cart_77 rfl ?_
              have e : spCart o (nI sN) (nI kN) (nI nN) (-1) = ((-1000000000000) + (((-4)).toInt64), oRef o 4) := by
                unfold spCart
                rw [el_some (by assumption), el_some (by assumption), el_some (by assumption), whatEl_a rfl]
                unfold cartIn
                first | exact if_pos (by omega) | (rw [if_neg (by omega)]; exact if_pos (by omega))
              exact z_lret X dX4_cart_78 (by omega) (by omega) ⟨_, rfl, (by rw [e]; exact ⟨_, hM15, hTn15, rfl⟩)⟩
            · obtain rfl : sN = k18 := (nI_eq (by omega) (by omega)).mp k18e
              refine z_istore (lv2 := [(5, .int (nI (0))), (0, .ref (ad 0)), (1, .int (nI (sN))), (2, .int (nI (kN))), (3, .int (nI (nN))), (4, .int ((-1)))]) X dX4_cart_64 (Nat.le_of_ble_eq_true rfl) rfl ?_
              refine z_iload X dX4_cart_66 0 rfl ?_
              refine z_if_eq_t (tgt := 79) X dX4_cart_68 (by decide) (by decide) ?_
              refine z_aload_n X dX4_cart_79 rfl 1 rfl ?_
              refine z_iload_n X dX4_cart_80 rfl 2 rfl ?_
              refine z_iload_n X dX4_cart_81 rfl 3 rfl ?_
              refine z_ci (z_runV (rest := []) (n := 2) X [.int (nI (sN)), .int (nI (kN))] (m_X4_areSorts hM15 hTn15 hO (s := sN) (k := kN) (by omega) (by omega)) dX4_cart_82 (mm_o hM15) rfl (lw_V q1834 q1836 qs57 q70 q1837) hv_X4_areSorts rfl ⟨by omega, by omega⟩ ⟨by omega, by omega⟩ rfl (Nat.le_of_ble_eq_true rfl)) (fun r19 w21 h20 => ?_)
              obtain ⟨mv20, hM20, hK20, hQ20⟩ := h20
              have hT20 := hTn15.K31 hK20
              rcases hQ20 with ⟨hcb, rfl, hca⟩ | ⟨hcb, rfl⟩
              · skip
                refine z_if_ne_t (tgt := 100) X dX4_cart_85 (by decide) (by decide) ?_
                refine z_aload_n X dX4_cart_100 rfl 1 rfl ?_
                refine z_iload_n X dX4_cart_101 rfl 4 rfl ?_
                refine z_iconst (v := nI (0)) X dX4_cart_102 ci0 ?_
                refine z_iconst (v := nI (0)) X dX4_cart_103 ci0 ?_
                refine z_iconst (v := -1) X dX4_cart_104 cim1 ?_
                refine z_cv (z_runV (rest := []) (n := 4) X [.int (nI (nN)), .int (nI (0)), .int (nI (0)), .int (-1)] (m_X4_solve hM20 hT20.1 hI (n := nN) (kd := 0) (a := 0) (by omega) (by omega) (by omega) (T := wiseT o.1 0) (fun h => by cases h) (lt := none) (fun y h => by cases h)) dX4_cart_105 (mm_o hM20) rfl (lw_V q1600 q1602 qs31 q70 q1603) hv_X4_solve rfl ⟨by omega, by omega⟩ ⟨by omega, by omega⟩ rfl (Nat.le_of_ble_eq_true rfl)) (fun w24 h23 => ?_)
                obtain ⟨mv23, hM23, hQ23⟩ := h23
                have hT23 := MT.KM hT20 (KM.of hQ23.2.1 hQ23.1)
                refine z_aload_n X dX4_cart_108 rfl 1 rfl ?_
                refine z_iconst (v := nI (0)) X dX4_cart_109 ci0 ?_
                refine z_mp34 X hM23 dX4_cart_110 bz0 rfl (fun u25 hM25 => ?_)
                have hTz : MT o (mF mv23 34 (nI (0))) := (KP.f34 hT23)
                refine z_aload_n X dX4_cart_113 rfl 1 rfl ?_
                refine z_iconst (v := nI (0)) X dX4_cart_114 ci0 ?_
                refine z_iload_n X dX4_cart_115 rfl 3 rfl ?_
                refine z_aload_n X dX4_cart_116 rfl 1 rfl ?_
                refine z_cip (z_runV (rest := [.int (nI (kN)), .int (nI (0)), .ref (ad 0)]) (n := 0) X [] (m_X4_stateNow hM25 hTz.1 hI) dX4_cart_117 (mm_o hM25) rfl (lw_V q1585 q1587 qs28 q70 q1588) hv_X4_stateNow rfl ⟨by omega, by omega⟩ ⟨by omega, by omega⟩ rfl (Nat.le_of_ble_eq_true rfl)) ?_
                refine z_lconst (v := lN 0) X dX4_cart_120 cl0 ?_
                refine z_iload_n X dX4_cart_121 rfl 4 rfl ?_
                refine z_cv (z_runV (rest := []) (n := 5) X [.int (nI (0)), .int (nI (kN)), .int (nI (stOf o.1)), .long (lN (0)), .int (nI (nN))] (m_X4_place hI (V := (vals o.1 (rBest o.1) nN)) (nN := nN) (k := kN) (g := (fun i => tnl (o.2.2.2.2.1 sN i))) (by omega) (by omega) kN 0 (stOf o.1) (lN 0) (false, (mF mv23 34 (nI (0))).2.2.2.1 33, (mF mv23 34 (nI (0))).1 33, (mF mv23 34 (nI (0))).1 32) _ _ hM25.1.mm hTz.1 (fun j hj => (hQ23.2.2 nN (Nat.le_refl _) j hj).trans valsL_0) (fun j hj => ⟨(congrFun (congrFun hQ23.1 31) j).trans (hca j hj).1, (hca j hj).2⟩) ⟨rfl, rfl, fun _ _ => rfl, fun _ _ => rfl⟩ (by omega) hst) dX4_cart_122 (mm_o hM25) rfl (lw_V q1838 q1840 qs58 q70 q1841) hv_X4_place rfl ⟨by omega, by omega⟩ ⟨by omega, by omega⟩ rfl (Nat.le_of_ble_eq_true rfl)) (fun w28 h27 => ?_)
                obtain ⟨mv28, hM28, hk28, hp28⟩ := h27
                have hT28 := hk28.T hTz
                have hMf28 := hM25.trans hM28
                obtain ⟨hc1, hc2⟩ := cartP_of (S := o.1) (g := (fun i => tnl (o.2.2.2.2.1 sN i))) (V := (vals o.1 (rBest o.1) nN)) (k := kN) (p := (false, (mF mv23 34 (nI (0))).2.2.2.1 33, (mF mv23 34 (nI (0))).1 33, (mF mv23 34 (nI (0))).1 32)) rfl
                refine z_iload X dX4_cart_125 5 rfl ?_
                refine z_iconst (v := -1) X dX4_cart_127 cim1 ?_
                refine z_icmp_ne_f (tgt := 138) X dX4_cart_128 (by decide) rfl ?_
                refine z_aload_n X dX4_cart_131 rfl 1 rfl ?_
                refine z_mgv33 X hMf28 dX4_cart_132 (hp28.2.1.trans hc1) ?_
                refine z_goto (tgt := 146) X dX4_cart_135 (by decide) ?_
                have e : spCart o (nI sN) (nI kN) (nI nN) (-1) = ((cartP o.1 (fun i => tnl (o.2.2.2.2.1 sN i)) (vals o.1 (rBest o.1) nN) kN).2.1, o) := by
                  unfold spCart
                  rw [el_some (by assumption), el_some (by assumption), el_some (by assumption), whatEl_a rfl]
                  unfold cartIn
                  rw [if_neg (by omega), if_neg (by omega)]
                  exact if_pos hcb
                exact z_lret X dX4_cart_146 (by omega) (by omega) ⟨_, rfl, (by rw [e]; exact ⟨_, hMf28, hT28, rfl⟩)⟩
              · skip
                refine z_if_ne_f (tgt := 100) X dX4_cart_85 (by decide) (by decide) ?_
                refine z_ldc2 X dX4_cart_88 q1780 ?_
                refine z_aload_n X dX4_cart_91 rfl 1 rfl ?_
                refine z_bipush (v := (-2)) X dX4_cart_92 (by decide) ?_
                refine z_ci (z_runV (rest := [.long ((-1000000000000))]) (n := 1) X [.int ((-2))] (m_X4_refuse hM20 (k := 2) (by decide) (v := (-2)) rfl) dX4_cart_94 (mm_o hM20) rfl (lw_V q1546 q1548 qs27 q70 q1549) hv_X4_refuse rfl ⟨by omega, by omega⟩ ⟨by omega, by omega⟩ rfl (Nat.le_of_ble_eq_true rfl)) (fun r29 w31 h30 => ?_)
                obtain ⟨hM30, r29e⟩ := h30
                rw [r29e]
                have hT30 := MT.ref hT20 (k := 2) (by decide)
                refine z_i2l (v := ((-2)).toInt64) X dX4_cart_97 rfl ?_
                refine z_ladd (v := (-1000000000000) + (((-2)).toInt64)) X dX4_cart_98 rfl ?_
                have e : spCart o (nI sN) (nI kN) (nI nN) (-1) = ((-1000000000000) + (((-2)).toInt64), oRef o 2) := by
                  unfold spCart
                  rw [el_some (by assumption), el_some (by assumption), el_some (by assumption), whatEl_a rfl]
                  unfold cartIn
                  rw [if_neg (by omega), if_neg (by omega)]
                  exact if_neg (ts_n hcb)
                exact z_lret X dX4_cart_99 (by omega) (by omega) ⟨_, rfl, (by rw [e]; exact ⟨_, hM30, hT30, rfl⟩)⟩
          · skip
            refine z_if_ne_t (tgt := 59) X dX4_cart_44 (by decide) (fun h => bI_d.mp h c13) ?_
            have hqs := hO.2.1 sN (by omega)
            refine z_aload_n X dX4_cart_59 rfl 0 rfl ?_
            refine z_iload_n X dX4_cart_60 rfl 1 rfl ?_
            refine z_ci (z_runV (rest := []) (n := 1) X [.int (nI (sN))] (m_X4_noRow hM hT hO (s := nI (sN))) dX4_cart_61 (mm_o hM) rfl (lw_V q1664 q1666 qs41 q70 q1667) hv_X4_noRow rfl ⟨by omega, by omega⟩ ⟨by omega, by omega⟩ rfl (Nat.le_of_ble_eq_true rfl)) (fun r32 w34 h33 => ?_)
            obtain ⟨mv33, hM33, hQ33⟩ := h33
            rcases hQ33 with ⟨e9, rfl, hTn33⟩ | ⟨k36, k36h, k36e, e10, (⟨q35, rfl, hTn33⟩ | ⟨q35, rfl, hTn33⟩ | ⟨q35, rfl, hTn33⟩)⟩
            · exact absurd (rgb_nI (lo := 0) (hi := 7) (k := sN) (by omega) (by decide)) (by rw [e9]; exact fun h => by cases h)
            · obtain rfl : sN = k36 := (nI_eq (by omega) (by omega)).mp k36e
              refine z_istore (lv2 := [(5, .int ((-3))), (0, .ref (ad 0)), (1, .int (nI (sN))), (2, .int (nI (kN))), (3, .int (nI (nN))), (4, .int (nI (jN)))]) X dX4_cart_64 (Nat.le_of_ble_eq_true rfl) rfl ?_
              refine z_iload X dX4_cart_66 0 rfl ?_
              refine z_if_eq_f (tgt := 79) X dX4_cart_68 (by decide) (by decide) ?_
              refine z_ldc2 X dX4_cart_71 q1780 ?_
              refine z_iload X dX4_cart_74 0 rfl ?_
              refine z_i2l (v := ((-3)).toInt64) X dX4_cart_76 rfl ?_
              refine z_ladd (v := (-1000000000000) + (((-3)).toInt64)) X dX4_cart_77 rfl ?_
              have e : spCart o (nI sN) (nI kN) (nI nN) (nI jN) = ((-1000000000000) + (((-3)).toInt64), oRef o 3) := by
                unfold spCart
                rw [el_some (by assumption), el_some (by assumption), el_some (by assumption), whatEl_j (nI_nm1 (by omega)) ej]
                unfold cartIn
                first | exact if_pos (by omega) | (rw [if_neg (by omega)]; exact if_pos (by omega))
              exact z_lret X dX4_cart_78 (by omega) (by omega) ⟨_, rfl, (by rw [e]; exact ⟨_, hM33, hTn33, rfl⟩)⟩
            · obtain rfl : sN = k36 := (nI_eq (by omega) (by omega)).mp k36e
              refine z_istore (lv2 := [(5, .int ((-4))), (0, .ref (ad 0)), (1, .int (nI (sN))), (2, .int (nI (kN))), (3, .int (nI (nN))), (4, .int (nI (jN)))]) X dX4_cart_64 (Nat.le_of_ble_eq_true rfl) rfl ?_
              refine z_iload X dX4_cart_66 0 rfl ?_
              refine z_if_eq_f (tgt := 79) X dX4_cart_68 (by decide) (by decide) ?_
              refine z_ldc2 X dX4_cart_71 q1780 ?_
              refine z_iload X dX4_cart_74 0 rfl ?_
              refine z_i2l (v := ((-4)).toInt64) X dX4_cart_76 rfl ?_
              refine z_ladd (v := (-1000000000000) + (((-4)).toInt64)) X dX4_cart_77 rfl ?_
              have e : spCart o (nI sN) (nI kN) (nI nN) (nI jN) = ((-1000000000000) + (((-4)).toInt64), oRef o 4) := by
                unfold spCart
                rw [el_some (by assumption), el_some (by assumption), el_some (by assumption), whatEl_j (nI_nm1 (by omega)) ej]
                unfold cartIn
                first | exact if_pos (by omega) | (rw [if_neg (by omega)]; exact if_pos (by omega))
              exact z_lret X dX4_cart_78 (by omega) (by omega) ⟨_, rfl, (by rw [e]; exact ⟨_, hM33, hTn33, rfl⟩)⟩
            · obtain rfl : sN = k36 := (nI_eq (by omega) (by omega)).mp k36e
              refine z_istore (lv2 := [(5, .int (nI (0))), (0, .ref (ad 0)), (1, .int (nI (sN))), (2, .int (nI (kN))), (3, .int (nI (nN))), (4, .int (nI (jN)))]) X dX4_cart_64 (Nat.le_of_ble_eq_true rfl) rfl ?_
              refine z_iload X dX4_cart_66 0 rfl ?_
              refine z_if_eq_t (tgt := 79) X dX4_cart_68 (by decide) (by decide) ?_
              refine z_aload_n X dX4_cart_79 rfl 1 rfl ?_
              refine z_iload_n X dX4_cart_80 rfl 2 rfl ?_
              refine z_iload_n X dX4_cart_81 rfl 3 rfl ?_
              refine z_ci (z_runV (rest := []) (n := 2) X [.int (nI (sN)), .int (nI (kN))] (m_X4_areSorts hM33 hTn33 hO (s := sN) (k := kN) (by omega) (by omega)) dX4_cart_82 (mm_o hM33) rfl (lw_V q1834 q1836 qs57 q70 q1837) hv_X4_areSorts rfl ⟨by omega, by omega⟩ ⟨by omega, by omega⟩ rfl (Nat.le_of_ble_eq_true rfl)) (fun r37 w39 h38 => ?_)
              obtain ⟨mv38, hM38, hK38, hQ38⟩ := h38
              have hT38 := hTn33.K31 hK38
              rcases hQ38 with ⟨hcb, rfl, hca⟩ | ⟨hcb, rfl⟩
              · skip
                refine z_if_ne_t (tgt := 100) X dX4_cart_85 (by decide) (by decide) ?_
                refine z_aload_n X dX4_cart_100 rfl 1 rfl ?_
                refine z_iload_n X dX4_cart_101 rfl 4 rfl ?_
                refine z_iconst (v := nI (0)) X dX4_cart_102 ci0 ?_
                refine z_iconst (v := nI (0)) X dX4_cart_103 ci0 ?_
                refine z_iconst (v := -1) X dX4_cart_104 cim1 ?_
                refine z_cv (z_runV (rest := []) (n := 4) X [.int (nI (nN)), .int (nI (0)), .int (nI (0)), .int (-1)] (m_X4_solve hM38 hT38.1 hI (n := nN) (kd := 0) (a := 0) (by omega) (by omega) (by omega) (T := wiseT o.1 0) (fun h => by cases h) (lt := none) (fun y h => by cases h)) dX4_cart_105 (mm_o hM38) rfl (lw_V q1600 q1602 qs31 q70 q1603) hv_X4_solve rfl ⟨by omega, by omega⟩ ⟨by omega, by omega⟩ rfl (Nat.le_of_ble_eq_true rfl)) (fun w42 h41 => ?_)
                obtain ⟨mv41, hM41, hQ41⟩ := h41
                have hT41 := MT.KM hT38 (KM.of hQ41.2.1 hQ41.1)
                refine z_aload_n X dX4_cart_108 rfl 1 rfl ?_
                refine z_iconst (v := nI (0)) X dX4_cart_109 ci0 ?_
                refine z_mp34 X hM41 dX4_cart_110 bz0 rfl (fun u43 hM43 => ?_)
                have hTz : MT o (mF mv41 34 (nI (0))) := (KP.f34 hT41)
                refine z_aload_n X dX4_cart_113 rfl 1 rfl ?_
                refine z_iconst (v := nI (0)) X dX4_cart_114 ci0 ?_
                refine z_iload_n X dX4_cart_115 rfl 3 rfl ?_
                refine z_aload_n X dX4_cart_116 rfl 1 rfl ?_
                refine z_cip (z_runV (rest := [.int (nI (kN)), .int (nI (0)), .ref (ad 0)]) (n := 0) X [] (m_X4_stateNow hM43 hTz.1 hI) dX4_cart_117 (mm_o hM43) rfl (lw_V q1585 q1587 qs28 q70 q1588) hv_X4_stateNow rfl ⟨by omega, by omega⟩ ⟨by omega, by omega⟩ rfl (Nat.le_of_ble_eq_true rfl)) ?_
                refine z_lconst (v := lN 0) X dX4_cart_120 cl0 ?_
                refine z_iload_n X dX4_cart_121 rfl 4 rfl ?_
                refine z_cv (z_runV (rest := []) (n := 5) X [.int (nI (0)), .int (nI (kN)), .int (nI (stOf o.1)), .long (lN (0)), .int (nI (nN))] (m_X4_place hI (V := (vals o.1 (rBest o.1) nN)) (nN := nN) (k := kN) (g := (fun i => tnl (o.2.2.2.2.1 sN i))) (by omega) (by omega) kN 0 (stOf o.1) (lN 0) (false, (mF mv41 34 (nI (0))).2.2.2.1 33, (mF mv41 34 (nI (0))).1 33, (mF mv41 34 (nI (0))).1 32) _ _ hM43.1.mm hTz.1 (fun j hj => (hQ41.2.2 nN (Nat.le_refl _) j hj).trans valsL_0) (fun j hj => ⟨(congrFun (congrFun hQ41.1 31) j).trans (hca j hj).1, (hca j hj).2⟩) ⟨rfl, rfl, fun _ _ => rfl, fun _ _ => rfl⟩ (by omega) hst) dX4_cart_122 (mm_o hM43) rfl (lw_V q1838 q1840 qs58 q70 q1841) hv_X4_place rfl ⟨by omega, by omega⟩ ⟨by omega, by omega⟩ rfl (Nat.le_of_ble_eq_true rfl)) (fun w46 h45 => ?_)
                obtain ⟨mv46, hM46, hk46, hp46⟩ := h45
                have hT46 := hk46.T hTz
                have hMf46 := hM43.trans hM46
                obtain ⟨hc1, hc2⟩ := cartP_of (S := o.1) (g := (fun i => tnl (o.2.2.2.2.1 sN i))) (V := (vals o.1 (rBest o.1) nN)) (k := kN) (p := (false, (mF mv41 34 (nI (0))).2.2.2.1 33, (mF mv41 34 (nI (0))).1 33, (mF mv41 34 (nI (0))).1 32)) rfl
                refine z_iload X dX4_cart_125 5 rfl ?_
                refine z_iconst (v := -1) X dX4_cart_127 cim1 ?_
                refine z_icmp_ne_t (tgt := 138) X dX4_cart_128 (by decide) (nI_nm1 (by omega)) ?_
                refine z_aload_n X dX4_cart_138 rfl 1 rfl ?_
                refine z_mg32 X hMf46 dX4_cart_139 ?_
                refine z_iload X dX4_cart_142 5 rfl ?_
                refine z_iaN (v := (cartP o.1 (fun i => tnl (o.2.2.2.2.1 sN i)) (vals o.1 (rBest o.1) nN) kN).2.2.1 jN) X dX4_cart_144 (mm_33 hMf46) (by omega) (by omega) ((hp46.2.2.1 jN (by omega)).trans (hc2 jN (by omega))) ?_
                refine z_i2l (v := ((cartP o.1 (fun i => tnl (o.2.2.2.2.1 sN i)) (vals o.1 (rBest o.1) nN) kN).2.2.1 jN).toInt64) X dX4_cart_145 rfl ?_
                have e : spCart o (nI sN) (nI kN) (nI nN) (nI jN) = (((cartP o.1 (fun i => tnl (o.2.2.2.2.1 sN i)) (vals o.1 (rBest o.1) nN) kN).2.2.1 jN).toInt64, o) := by
                  unfold spCart
                  rw [el_some (by assumption), el_some (by assumption), el_some (by assumption), whatEl_j (nI_nm1 (by omega)) ej]
                  unfold cartIn
                  rw [if_neg (by omega), if_neg (by omega)]
                  exact if_pos hcb
                exact z_lret X dX4_cart_146 (by omega) (by omega) ⟨_, rfl, (by rw [e]; exact ⟨_, hMf46, hT46, rfl⟩)⟩
              · skip
                refine z_if_ne_f (tgt := 100) X dX4_cart_85 (by decide) (by decide) ?_
                refine z_ldc2 X dX4_cart_88 q1780 ?_
                refine z_aload_n X dX4_cart_91 rfl 1 rfl ?_
                refine z_bipush (v := (-2)) X dX4_cart_92 (by decide) ?_
                refine z_ci (z_runV (rest := [.long ((-1000000000000))]) (n := 1) X [.int ((-2))] (m_X4_refuse hM38 (k := 2) (by decide) (v := (-2)) rfl) dX4_cart_94 (mm_o hM38) rfl (lw_V q1546 q1548 qs27 q70 q1549) hv_X4_refuse rfl ⟨by omega, by omega⟩ ⟨by omega, by omega⟩ rfl (Nat.le_of_ble_eq_true rfl)) (fun r47 w49 h48 => ?_)
                obtain ⟨hM48, r47e⟩ := h48
                rw [r47e]
                have hT48 := MT.ref hT38 (k := 2) (by decide)
                refine z_i2l (v := ((-2)).toInt64) X dX4_cart_97 rfl ?_
                refine z_ladd (v := (-1000000000000) + (((-2)).toInt64)) X dX4_cart_98 rfl ?_
                have e : spCart o (nI sN) (nI kN) (nI nN) (nI jN) = ((-1000000000000) + (((-2)).toInt64), oRef o 2) := by
                  unfold spCart
                  rw [el_some (by assumption), el_some (by assumption), el_some (by assumption), whatEl_j (nI_nm1 (by omega)) ej]
                  unfold cartIn
                  rw [if_neg (by omega), if_neg (by omega)]
                  exact if_neg (ts_n hcb)
                exact z_lret X dX4_cart_99 (by omega) (by omega) ⟨_, rfl, (by rw [e]; exact ⟨_, hM48, hT48, rfl⟩)⟩
        · have hwf := what_f (by omega) c13
          refine z_if_ne_f (tgt := 59) X dX4_cart_44 (by decide) (bI_d.mpr c13) ?_
          refine z_ldc2 X dX4_cart_47 q1780 ?_
          refine z_aload_n X dX4_cart_50 rfl 0 rfl ?_
          refine z_bipush (v := (-2)) X dX4_cart_51 (by decide) ?_
          refine z_ci (z_runV (rest := [.long ((-1000000000000))]) (n := 1) X [.int ((-2))] (m_X4_refuse hM (k := 2) (by decide) (v := (-2)) rfl) dX4_cart_53 (mm_o hM) rfl (lw_V q1546 q1548 qs27 q70 q1549) hv_X4_refuse rfl ⟨by omega, by omega⟩ ⟨by omega, by omega⟩ rfl (Nat.le_of_ble_eq_true rfl)) (fun r50 w52 h51 => ?_)
          obtain ⟨hM51, r50e⟩ := h51
          rw [r50e]
          have hT51 := MT.ref hT (k := 2) (by decide)
          refine z_i2l (v := ((-2)).toInt64) X dX4_cart_56 rfl ?_
          refine z_ladd (v := (-1000000000000) + (((-2)).toInt64)) X dX4_cart_57 rfl ?_
          have e : spCart o (nI sN) (nI kN) (nI nN) v = ((-1000000000000) + (((-2)).toInt64), oRef o 2) := by
            unfold spCart
            rw [el_some (by assumption), el_some (by assumption), el_some (by assumption), whatEl_n hwf]
            rfl
          exact z_lret X dX4_cart_58 (by omega) (by omega) ⟨_, rfl, (by rw [e]; exact ⟨_, hM51, hT51, rfl⟩)⟩
