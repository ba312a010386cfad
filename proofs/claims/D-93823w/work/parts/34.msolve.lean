/-! THE MODEL: values solved hour by hour; wise rules -/
set_option maxRecDepth 100000
def valsL (S : WS) (r : RG) (lt : Option Nat) (n h j : Nat) : Int64 := if 1 ≤ h ∧ h = n then (if isSt S j = true then hourV S r (gLet S lt) (vals S r (h - 1)) j else lN 0) else vals S r h j
theorem vals_S {S : WS} {r : RG} {h j : Nat} (hh : 1 ≤ h) : vals S r h j = if isSt S j = true then hourV S r (S.1 2) (vals S r (h - 1)) j else lN 0 := by
  obtain ⟨k, rfl⟩ : ∃ k, h = k + 1 := ⟨h - 1, by omega⟩
  rfl
theorem valsL_lt {S : WS} {r : RG} {lt : Option Nat} {n h j : Nat} (hh : h < n) : valsL S r lt n h j = vals S r h j := if_neg (by omega)
theorem valsL_none {S : WS} {r : RG} {n h j : Nat} : valsL S r none n h j = vals S r h j := by
  unfold valsL
  split
  · next hh => rw [vals_S hh.1, gLet_0]
  · rfl
theorem mL_oth {m : MSt} {c c2 j : Nat} {x : Int64} (h : c2 ≠ c) : (mL m c j x).2.1 c2 = m.2.1 c2 := if_neg h
theorem mL_row {p : Nat → Int64 → Prop} {m : MSt} {c i : Nat} {x : Int64} (h : ∀ j, j < i → p j (m.2.1 c j)) (hx : p i x) : ∀ j, j < i + 1 → p j ((mL m c i x).2.1 c j) := by
  intro j hj
  have e : (mL m c i x).2.1 c = vp_updL (m.2.1 c) i x := if_pos rfl
  rw [e]
  by_cases hji : j = i
  · subst hji; rw [pk_uLs]; exact hx
  · rw [pk_uLn hji]; exact h j (by omega)
theorem mI_oth {m : MSt} {c c2 j : Nat} {x : Int32} (h : c2 ≠ c) : (mI m c j x).1 c2 = m.1 c2 := if_neg h
theorem mI_row {p : Nat → Int32 → Prop} {m : MSt} {c i : Nat} {x : Int32} (h : ∀ j, j < i → p j (m.1 c j)) (hx : p i x) : ∀ j, j < i + 1 → p j ((mI m c i x).1 c j) := by
  intro j hj
  have e : (mI m c i x).1 c = upd (m.1 c) i x := if_pos rfl
  rw [e]
  by_cases hji : j = i
  · subst hji; rw [pk_us]; exact hx
  · rw [pk_un hji]; exact h j (by omega)
/-- nothing but values and what is behind has changed among the longs, and no field -/
def KL (m m2 : MSt) : Prop := m2.2.2 = m.2.2 ∧ ∀ c, c < 70 → c ≠ 30 → m2.2.1 c = m.2.1 c
theorem KL.rf {m : MSt} : KL m m := ⟨rfl, fun _ _ _ => rfl⟩
theorem KL.set {m m2 : MSt} (h : KL m m2) {c j : Nat} {x : Int64} (hc : 70 ≤ c ∨ c = 30) : KL m (mL m2 c j x) := ⟨h.1, fun c2 a b => by rw [mL_oth (by omega)]; exact h.2 c2 a b⟩
theorem KL.trans {m m2 m3 : MSt} (h : KL m m2) (h2 : KL m2 m3) : KL m m3 := ⟨h2.1.trans h.1, fun c a b => (h2.2 c a b).trans (h.2 c a b)⟩
/-- what a solving leaves: the rows of values; nothing but longs changed -/
def SolveQ (S : WS) (r : RG) (lt : Option Nat) (n : Nat) (m m2 : MSt) : Prop := m2.1 = m.1 ∧ KL m m2 ∧ ∀ h, h ≤ n → ∀ j, j < 125 → m2.2.1 (70 + h) j = valsL S r lt n h j
set_option maxHeartbeats 2000000 in
theorem m_X4_hoursOf {l : Launch} {G : GG} {a : Nat} {w : GW} (ha : a < 100) : gM l G yX4_hoursOf cX4_hoursOf 1 (some .int) 1 0 0 [.int (nI (a))] w (pI (fun r w1 => r = nI (wiseH a) ∧ w1 = w)) := by
  refine Z.met (own := "ThreeSizesModel") (nm := "hoursOf") (lv := [(0, .int (nI (a)))]) (by decide) rfl rfl (Nat.le_of_ble_eq_true rfl) rfl (fun κ X => ?_)
  refine z_iload_n X dX4_hoursOf_0 rfl 0 rfl ?_
  refine z_bipush (v := nI (20)) X dX4_hoursOf_1 (by decide) ?_
  refine z_icmp_le (tgt := 11) X dX4_hoursOf_3 (by decide) (nI_leI (by omega) (by omega)) (fun c1 => ?_) (fun c1 => ?_)
  · refine z_iload_n X dX4_hoursOf_11 rfl 0 rfl ?_
    exact z_iret X dX4_hoursOf_12 (by omega) (by omega) ⟨_, rfl, ⟨by unfold wiseH; split <;> first | rfl | (congr 1; omega), rfl⟩⟩
  · refine z_bipush (v := nI (20)) X dX4_hoursOf_6 (by decide) ?_
    refine z_goto (tgt := 12) X dX4_hoursOf_8 (by decide) ?_
    exact z_iret X dX4_hoursOf_12 (by omega) (by omega) ⟨_, rfl, ⟨by unfold wiseH; split <;> first | rfl | (congr 1; omega), rfl⟩⟩
set_option maxHeartbeats 2000000 in
theorem m_X4_solve {l : Launch} {G : GG} {wb w : GW} {ad : Nat → Nat} {m : MSt} (hM : MM G wb w ad m) {S : WS} (hR : MR S m) (hI : wInv S) {n kd a : Nat} (hn : n ≤ 24) (hk : kd ≤ 6) (ha : a < 100) {T : Nat → Int64} (hw : kd = 6 → ∀ k, k < S.2 0 → ∀ st, isStP S st → m.1 (60 + k) st = oI (bestO S k st T)) {lt : Option Nat} (hlt : ∀ y, lt = some y → y < 3) : gM l G yX4_solve cX4_solve 7 none 6 0 0 [.ref (ad 0), .int (nI (n)), .int (nI (kd)), .int (nI (a)), .int (oI (lt))] w (pV (fun w1 => ∃ m2, MM G wb w1 ad m2 ∧ SolveQ S (rgM S kd a T) lt n m m2)) := by
  refine Z.met (own := "ThreeSizesModel") (nm := "solve") (lv := [(0, .ref (ad 0)), (1, .int (nI (n))), (2, .int (nI (kd))), (3, .int (nI (a))), (4, .int (oI (lt)))]) (by decide) rfl rfl (Nat.le_of_ble_eq_true rfl) rfl (fun κ X => ?_)
  refine z_iconst (v := nI (0)) X dX4_solve_0 ci0 ?_
  refine z_istore (lv2 := [(5, .int (nI (0))), (0, .ref (ad 0)), (1, .int (nI (n))), (2, .int (nI (kd))), (3, .int (nI (a))), (4, .int (oI (lt)))]) X dX4_solve_1 (Nat.le_of_ble_eq_true rfl) rfl ?_
  have l1 : ∀ (lq i : Nat) (w2 : GW) (m2 : MSt), i + lq = 125 → MM G wb w2 ad m2 → m2.1 = m.1 → KL m m2 → (∀ j, j < i → m2.2.1 (70 + 0) j = lN 0) → Z κ w2 [(5, .int (nI (i))), (0, .ref (ad 0)), (1, .int (nI (n))), (2, .int (nI (kd))), (3, .int (nI (a))), (4, .int (oI (lt)))] 0 0 3 [] := by
    intro lq
    induction lq with
    | zero =>
      intro i w2 m2 lh hM2 h1 h2 hF
      obtain rfl : i = 125 := by omega
      have hR2 : MR S m2 := hR.kept (fun c _ => by rw [h1]) (by rw [h2.1])
      refine z_iload X dX4_solve_3 0 rfl ?_
      refine z_bipush (v := nI (125)) X dX4_solve_5 (by decide) ?_
      refine z_icmp_ge_t (tgt := 26) X dX4_solve_7 (by decide) ((nI_leI (by omega) (by omega)).mpr (by omega)) ?_
      refine z_iconst (v := nI (1)) X dX4_solve_26 ci1 ?_
      refine z_istore (lv2 := [(5, .int (nI (1))), (0, .ref (ad 0)), (1, .int (nI (n))), (2, .int (nI (kd))), (3, .int (nI (a))), (4, .int (oI (lt)))]) X dX4_solve_27 (Nat.le_of_ble_eq_true rfl) rfl ?_
      have l2 : ∀ (lq h : Nat) (w2 : GW) (m2 : MSt), h + lq = n + 1 → 1 ≤ h → MM G wb w2 ad m2 → m2.1 = m.1 → KL m m2 → (∀ y, y < h → ∀ j, j < 125 → m2.2.1 (70 + y) j = valsL S (rgM S kd a T) lt n y j) → Z κ w2 [(5, .int (nI (h))), (0, .ref (ad 0)), (1, .int (nI (n))), (2, .int (nI (kd))), (3, .int (nI (a))), (4, .int (oI (lt)))] 0 0 29 [] := by
        intro lq
        induction lq with
        | zero =>
          intro h w2 m2 lh hh hM2 h1 h2 hF2
          have hR2 : MR S m2 := hR.kept (fun c _ => by rw [h1]) (by rw [h2.1])
          refine z_iload X dX4_solve_29 0 rfl ?_
          refine z_iload_n X dX4_solve_31 rfl 2 rfl ?_
          refine z_icmp_gt_t (tgt := 155) X dX4_solve_32 (by decide) ((nI_ltI (by omega) (by omega)).mpr (by omega)) ?_
          exact z_vret X dX4_solve_155 (by omega) (by omega) ⟨rfl, ⟨m2, hM2, h1, h2, fun y hy j hj => hF2 y (by omega) j hj⟩⟩
        | succ lq ih =>
          intro h w2 m2 lh hh hM2 h1 h2 hF2
          have hR2 : MR S m2 := hR.kept (fun c _ => by rw [h1]) (by rw [h2.1])
          refine z_iload X dX4_solve_29 0 rfl ?_
          refine z_iload_n X dX4_solve_31 rfl 2 rfl ?_
          refine z_icmp_gt_f (tgt := 155) X dX4_solve_32 (by decide) (fun h => absurd ((nI_ltI (by omega) (by omega)).mp h) (by omega)) ?_
          refine z_iconst (v := nI (0)) X dX4_solve_35 ci0 ?_
          refine z_istore (lv2 := [(6, .int (nI (0))), (5, .int (nI (h))), (0, .ref (ad 0)), (1, .int (nI (n))), (2, .int (nI (kd))), (3, .int (nI (a))), (4, .int (oI (lt)))]) X dX4_solve_36 (Nat.le_of_ble_eq_true rfl) rfl ?_
          have la : ∀ (lq s : Nat) (w3 : GW) (m3 : MSt), s + lq = 125 → MM G wb w3 ad m3 → m3.1 = m.1 → KL m m3 → (∀ y, y < h → ∀ j, j < 125 → m3.2.1 (70 + y) j = valsL S (rgM S kd a T) lt n y j) → (∀ j, j < s → isStP S j → m3.2.1 30 j = comesV S (rgM S kd a T) (vals S (rgM S kd a T) (h - 1)) j) → Z κ w3 [(6, .int (nI (s))), (5, .int (nI (h))), (0, .ref (ad 0)), (1, .int (nI (n))), (2, .int (nI (kd))), (3, .int (nI (a))), (4, .int (oI (lt)))] 0 0 38 [] := by
            intro lq
            induction lq with
            | zero =>
              intro s w3 m3 lh hM3 j1 j2 hF3 hA
              obtain rfl : s = 125 := by omega
              have hR3 : MR S m3 := hR.kept (fun c _ => by rw [j1]) (by rw [j2.1])
              refine z_iload X dX4_solve_38 0 rfl ?_
              refine z_bipush (v := nI (125)) X dX4_solve_40 (by decide) ?_
              refine z_icmp_ge_t (tgt := 88) X dX4_solve_42 (by decide) ((nI_leI (by omega) (by omega)).mpr (by omega)) ?_
              refine z_iconst (v := nI (0)) X dX4_solve_88 ci0 ?_
              refine z_istore (lv2 := [(6, .int (nI (0))), (5, .int (nI (h))), (0, .ref (ad 0)), (1, .int (nI (n))), (2, .int (nI (kd))), (3, .int (nI (a))), (4, .int (oI (lt)))]) X dX4_solve_89 (Nat.le_of_ble_eq_true rfl) rfl ?_
              have lb : ∀ (lq s : Nat) (w4 : GW) (m4 : MSt), s + lq = 125 → MM G wb w4 ad m4 → m4.1 = m.1 → KL m m4 → (∀ y, y < h → ∀ j, j < 125 → m4.2.1 (70 + y) j = valsL S (rgM S kd a T) lt n y j) → (∀ j, isStP S j → m4.2.1 30 j = comesV S (rgM S kd a T) (vals S (rgM S kd a T) (h - 1)) j) → (∀ j, j < s → m4.2.1 (70 + h) j = valsL S (rgM S kd a T) lt n h j) → Z κ w4 [(6, .int (nI (s))), (5, .int (nI (h))), (0, .ref (ad 0)), (1, .int (nI (n))), (2, .int (nI (kd))), (3, .int (nI (a))), (4, .int (oI (lt)))] 0 0 91 [] := by
                intro lq
                induction lq with
                | zero =>
                  intro s w4 m4 lh hM4 k1 k2 hF4 hB hC4
                  obtain rfl : s = 125 := by omega
                  have hR4 : MR S m4 := hR.kept (fun c _ => by rw [k1]) (by rw [k2.1])
                  refine z_iload X dX4_solve_91 0 rfl ?_
                  refine z_bipush (v := nI (125)) X dX4_solve_93 (by decide) ?_
                  refine z_icmp_ge_t (tgt := 149) X dX4_solve_95 (by decide) ((nI_leI (by omega) (by omega)).mpr (by omega)) ?_
                  refine z_iinc (v := nI (h + 1)) (lv2 := [(5, .int (nI (h + 1))), (6, .int (nI (125))), (0, .ref (ad 0)), (1, .int (nI (n))), (2, .int (nI (kd))), (3, .int (nI (a))), (4, .int (oI (lt)))]) X dX4_solve_149 1 rfl (nI_1 _) (Nat.le_of_ble_eq_true rfl) rfl ?_
                  refine z_goto (tgt := 29) X dX4_solve_152 (by decide) ?_
                  refine Z.lv [0, 2, 3, 4, 5, 6] rfl ?_
                  exact ih (h + 1) w4 m4 (by omega) (by omega) hM4 k1 k2 (fun y hy j hj => by
                    rcases Nat.lt_or_ge y h with q | q
                    · exact hF4 y q j hj
                    · obtain rfl : y = h := by omega
                      exact hC4 j hj)
                | succ lq ih =>
                  intro s w4 m4 lh hM4 k1 k2 hF4 hB hC4
                  have hR4 : MR S m4 := hR.kept (fun c _ => by rw [k1]) (by rw [k2.1])
                  refine z_iload X dX4_solve_91 0 rfl ?_
                  refine z_bipush (v := nI (125)) X dX4_solve_93 (by decide) ?_
                  refine z_icmp_ge_f (tgt := 149) X dX4_solve_95 (by decide) (fun h => absurd ((nI_leI (by omega) (by omega)).mp h) (by omega)) ?_
                  refine z_aload_n X dX4_solve_98 rfl 2 rfl ?_
                  refine z_mg28 X hM4 dX4_solve_99 ?_
                  refine z_iload X dX4_solve_102 1 rfl ?_
                  refine z_aN6 (v := .ref (ad (70 + h))) X dX4_solve_104 (mm_29 hM4) (by omega) (by omega) rfl ?_
                  refine z_iload X dX4_solve_105 0 rfl ?_
                  refine z_aload_n X dX4_solve_107 rfl 2 rfl ?_
                  refine z_iload X dX4_solve_108 0 rfl ?_
                  refine z_cip (z_runV (rest := [.int (nI (s)), .ref (ad (70 + h))]) (n := 1) X [.int (nI (s))] (m_X4_isState hM4 hR4 hI (st := s) (by omega)) dX4_solve_110 (mm_o hM4) rfl (lw_V q1604 q1606 qs32 q70 q1607) hv_X4_isState rfl ⟨Nat.le_of_ble_eq_true rfl, Nat.le_of_ble_eq_true rfl⟩ ⟨by omega, by omega⟩ rfl (Nat.le_of_ble_eq_true rfl)) ?_
                  refine z_if_eq (tgt := 141) X dX4_solve_113 (by decide) bI_0 (fun c1 => ?_) (fun c1 => ?_)
                  · refine z_lconst (v := lN 0) X dX4_solve_141 cl0 ?_
                    refine z_mstL (n := 125) (j := s) X hM4 (70 + h) dX4_solve_142 (mP_70 (by omega)) (mK_70 (by omega)) (mLen_70 (by omega)) (by omega) (by omega) (fun u2 hM2 => ?_)
                    refine z_iinc (v := nI (s + 1)) (lv2 := [(6, .int (nI (s + 1))), (5, .int (nI (h))), (0, .ref (ad 0)), (1, .int (nI (n))), (2, .int (nI (kd))), (3, .int (nI (a))), (4, .int (oI (lt)))]) X dX4_solve_143 0 rfl (nI_1 _) (Nat.le_of_ble_eq_true rfl) rfl ?_
                    refine z_goto (tgt := 91) X dX4_solve_146 (by decide) ?_
                    have hx : valsL S (rgM S kd a T) lt n h s = lN (0) := by
                      unfold valsL
                      split
                      · rw [if_neg (by rw [c1]; exact Bool.false_ne_true)]
                      · rw [vals_S (by omega), if_neg (by rw [c1]; exact Bool.false_ne_true)]
                    exact ih (s + 1) _ _ (by omega) hM2 k1 (k2.set (by omega)) (fun y hy j hj => by rw [mL_oth (by omega)]; exact hF4 y hy j hj) (fun j hj => by rw [mL_oth (by omega)]; exact hB j hj) (mL_row (p := fun j x => x = valsL S (rgM S kd a T) lt n h j) hC4 hx.symm)
                  · have c1 := ts_t c1
                    refine z_aload_n X dX4_solve_116 rfl 2 rfl ?_
                    refine z_iload X dX4_solve_117 0 rfl ?_
                    refine z_iload X dX4_solve_119 1 rfl ?_
                    refine z_iload_n X dX4_solve_121 rfl 3 rfl ?_
                    refine z_icmp_ne (tgt := 130) X dX4_solve_122 (by decide) (nI_eq (by omega) (by omega)) (fun c3 => ?_) (fun c3 => ?_)
                    · refine z_iconst (v := -1) X dX4_solve_130 cim1 ?_
                      refine z_clp (z_runV (rest := [.int (nI (s)), .ref (ad (70 + h))]) (n := 2) X [.int (nI (s)), .int (-1)] (m_X4_fetched hM4 hR4 hI (st := s) (isSt_iff.mp c1) (lt := none) (fun y h => by cases h) hB) dX4_solve_131 (mm_o hM4) rfl (lw_V q1641 q1643 qs39 q70 q1644) hv_X4_fetched rfl ⟨Nat.le_of_ble_eq_true rfl, Nat.le_of_ble_eq_true rfl⟩ ⟨by omega, by omega⟩ rfl (Nat.le_of_ble_eq_true rfl)) ?_
                      refine z_ldc2 X dX4_solve_134 q1628 ?_
                      refine z_ldiv (v := (hrTo S (rgM S kd a T) (gLet S none) (vals S (rgM S kd a T) (h - 1)) s 8) / (100000)) X dX4_solve_137 (by decide) rfl ?_
                      refine z_goto (tgt := 142) X dX4_solve_138 (by decide) ?_
                      refine z_mstL (n := 125) (j := s) X hM4 (70 + h) dX4_solve_142 (mP_70 (by omega)) (mK_70 (by omega)) (mLen_70 (by omega)) (by omega) (by omega) (fun u4 hM4 => ?_)
                      refine z_iinc (v := nI (s + 1)) (lv2 := [(6, .int (nI (s + 1))), (5, .int (nI (h))), (0, .ref (ad 0)), (1, .int (nI (n))), (2, .int (nI (kd))), (3, .int (nI (a))), (4, .int (oI (lt)))]) X dX4_solve_143 0 rfl (nI_1 _) (Nat.le_of_ble_eq_true rfl) rfl ?_
                      refine z_goto (tgt := 91) X dX4_solve_146 (by decide) ?_
                      have hx : valsL S (rgM S kd a T) lt n h s = (hrTo S (rgM S kd a T) (gLet S none) (vals S (rgM S kd a T) (h - 1)) s 8) / (100000) := by unfold valsL; rw [if_neg (fun q => c3 q.2), vals_S (by omega), if_pos c1, gLet_0]; rfl
                      exact ih (s + 1) _ _ (by omega) hM4 k1 (k2.set (by omega)) (fun y hy j hj => by rw [mL_oth (by omega)]; exact hF4 y hy j hj) (fun j hj => by rw [mL_oth (by omega)]; exact hB j hj) (mL_row (p := fun j x => x = valsL S (rgM S kd a T) lt n h j) hC4 hx.symm)
                    · refine z_iload X dX4_solve_125 6 rfl ?_
                      refine z_goto (tgt := 131) X dX4_solve_127 (by decide) ?_
                      refine z_clp (z_runV (rest := [.int (nI (s)), .ref (ad (70 + h))]) (n := 2) X [.int (nI (s)), .int (oI (lt))] (m_X4_fetched hM4 hR4 hI (st := s) (isSt_iff.mp c1) (lt := lt) hlt hB) dX4_solve_131 (mm_o hM4) rfl (lw_V q1641 q1643 qs39 q70 q1644) hv_X4_fetched rfl ⟨Nat.le_of_ble_eq_true rfl, Nat.le_of_ble_eq_true rfl⟩ ⟨by omega, by omega⟩ rfl (Nat.le_of_ble_eq_true rfl)) ?_
                      refine z_ldc2 X dX4_solve_134 q1628 ?_
                      refine z_ldiv (v := (hrTo S (rgM S kd a T) (gLet S lt) (vals S (rgM S kd a T) (h - 1)) s 8) / (100000)) X dX4_solve_137 (by decide) rfl ?_
                      refine z_goto (tgt := 142) X dX4_solve_138 (by decide) ?_
                      refine z_mstL (n := 125) (j := s) X hM4 (70 + h) dX4_solve_142 (mP_70 (by omega)) (mK_70 (by omega)) (mLen_70 (by omega)) (by omega) (by omega) (fun u5 hM5 => ?_)
                      refine z_iinc (v := nI (s + 1)) (lv2 := [(6, .int (nI (s + 1))), (5, .int (nI (h))), (0, .ref (ad 0)), (1, .int (nI (n))), (2, .int (nI (kd))), (3, .int (nI (a))), (4, .int (oI (lt)))]) X dX4_solve_143 0 rfl (nI_1 _) (Nat.le_of_ble_eq_true rfl) rfl ?_
                      refine z_goto (tgt := 91) X dX4_solve_146 (by decide) ?_
                      have hx : valsL S (rgM S kd a T) lt n h s = (hrTo S (rgM S kd a T) (gLet S lt) (vals S (rgM S kd a T) (h - 1)) s 8) / (100000) := by unfold valsL; rw [if_pos ⟨by omega, c3⟩, if_pos c1]; rfl
                      exact ih (s + 1) _ _ (by omega) hM5 k1 (k2.set (by omega)) (fun y hy j hj => by rw [mL_oth (by omega)]; exact hF4 y hy j hj) (fun j hj => by rw [mL_oth (by omega)]; exact hB j hj) (mL_row (p := fun j x => x = valsL S (rgM S kd a T) lt n h j) hC4 hx.symm)
              exact lb 125 0 w3 m3 (by omega) hM3 j1 j2 hF3 (fun j hj => hA j hj.1 hj) (fun j hj => absurd hj (by omega))
            | succ lq ih =>
              intro s w3 m3 lh hM3 j1 j2 hF3 hA
              have hR3 : MR S m3 := hR.kept (fun c _ => by rw [j1]) (by rw [j2.1])
              refine z_iload X dX4_solve_38 0 rfl ?_
              refine z_bipush (v := nI (125)) X dX4_solve_40 (by decide) ?_
              refine z_icmp_ge_f (tgt := 88) X dX4_solve_42 (by decide) (fun h => absurd ((nI_leI (by omega) (by omega)).mp h) (by omega)) ?_
              refine z_aload_n X dX4_solve_45 rfl 2 rfl ?_
              refine z_mg29 X hM3 dX4_solve_46 ?_
              refine z_iload X dX4_solve_49 0 rfl ?_
              refine z_aload_n X dX4_solve_51 rfl 2 rfl ?_
              refine z_iload X dX4_solve_52 0 rfl ?_
              refine z_cip (z_runV (rest := [.int (nI (s)), .ref (ad 30)]) (n := 1) X [.int (nI (s))] (m_X4_isState hM3 hR3 hI (st := s) (by omega)) dX4_solve_54 (mm_o hM3) rfl (lw_V q1604 q1606 qs32 q70 q1607) hv_X4_isState rfl ⟨Nat.le_of_ble_eq_true rfl, Nat.le_of_ble_eq_true rfl⟩ ⟨by omega, by omega⟩ rfl (Nat.le_of_ble_eq_true rfl)) ?_
              refine z_if_eq (tgt := 80) X dX4_solve_57 (by decide) bI_0 (fun c6 => ?_) (fun c6 => ?_)
              · refine z_lconst (v := lN 0) X dX4_solve_80 cl0 ?_
                refine z_mstL (n := 125) (j := s) X hM3 30 dX4_solve_81 rfl rfl rfl (by omega) (by omega) (fun u7 hM7 => ?_)
                refine z_iinc (v := nI (s + 1)) (lv2 := [(6, .int (nI (s + 1))), (5, .int (nI (h))), (0, .ref (ad 0)), (1, .int (nI (n))), (2, .int (nI (kd))), (3, .int (nI (a))), (4, .int (oI (lt)))]) X dX4_solve_82 0 rfl (nI_1 _) (Nat.le_of_ble_eq_true rfl) rfl ?_
                refine z_goto (tgt := 38) X dX4_solve_85 (by decide) ?_
                exact ih (s + 1) _ _ (by omega) hM7 j1 (j2.set (by omega)) (fun y hy j hj => by rw [mL_oth (by omega)]; exact hF3 y hy j hj) (mL_row (p := fun j x => isStP S j → x = comesV S (rgM S kd a T) (vals S (rgM S kd a T) (h - 1)) j) hA (fun hs => absurd (isSt_iff.mpr hs) (by rw [c6]; exact Bool.false_ne_true)))
              · have c6 := ts_t c6
                refine z_aload_n X dX4_solve_60 rfl 2 rfl ?_
                refine z_iload X dX4_solve_61 0 rfl ?_
                refine z_iload_n X dX4_solve_63 rfl 4 rfl ?_
                refine z_iload_n X dX4_solve_64 rfl 5 rfl ?_
                refine z_aload_n X dX4_solve_65 rfl 2 rfl ?_
                refine z_mg28 X hM3 dX4_solve_66 ?_
                refine z_iload X dX4_solve_69 1 rfl ?_
                refine z_iconst (v := nI (1)) X dX4_solve_71 ci1 ?_
                refine z_isub (v := nI (h - 1)) X dX4_solve_72 (pk_sub (by omega)) ?_
                refine z_aN6 (v := .ref (ad (70 + (h - 1)))) X dX4_solve_73 (mm_29 hM3) (by omega) (by omega) rfl ?_
                refine z_clp (z_runV (rest := [.int (nI (s)), .ref (ad 30)]) (n := 4) X [.int (nI (s)), .int (nI (kd)), .int (nI (a)), .ref (ad (70 + (h - 1)))] (m_X4_placed hM3 hR3 hI (mmr_70 hM3 (by omega)) (st := s) (by omega) hk ha (T := T) (fun h6 k hk2 => by rw [j1]; exact hw h6 k hk2 _ (isSt_iff.mp c6))) dX4_solve_74 (mm_o hM3) rfl (lw_V q1612 q1614 qs33 q70 q1615) hv_X4_placed rfl ⟨Nat.le_of_ble_eq_true rfl, Nat.le_of_ble_eq_true rfl⟩ ⟨by omega, by omega⟩ rfl (Nat.le_of_ble_eq_true rfl)) ?_
                refine z_goto (tgt := 81) X dX4_solve_77 (by decide) ?_
                refine z_mstL (n := 125) (j := s) X hM3 30 dX4_solve_81 rfl rfl rfl (by omega) (by omega) (fun u8 hM8 => ?_)
                refine z_iinc (v := nI (s + 1)) (lv2 := [(6, .int (nI (s + 1))), (5, .int (nI (h))), (0, .ref (ad 0)), (1, .int (nI (n))), (2, .int (nI (kd))), (3, .int (nI (a))), (4, .int (oI (lt)))]) X dX4_solve_82 0 rfl (nI_1 _) (Nat.le_of_ble_eq_true rfl) rfl ?_
                refine z_goto (tgt := 38) X dX4_solve_85 (by decide) ?_
                exact ih (s + 1) _ _ (by omega) hM8 j1 (j2.set (by omega)) (fun y hy j hj => by rw [mL_oth (by omega)]; exact hF3 y hy j hj) (mL_row (p := fun j x => isStP S j → x = comesV S (rgM S kd a T) (vals S (rgM S kd a T) (h - 1)) j) hA (fun _ => comesV_congr (fun j hj => (hF3 (h - 1) (by omega) j hj).trans (valsL_lt (by omega))) (by omega)))
          exact la 125 0 w2 m2 (by omega) hM2 h1 h2 hF2 (fun j hj => absurd hj (by omega))
      exact l2 n 1 w2 m2 (by omega) (by omega) hM2 h1 h2 (fun y hy j hj => by
        obtain rfl : y = 0 := by omega
        rw [hF j hj]; exact (if_neg (by omega)).symm)
    | succ lq ih =>
      intro i w2 m2 lh hM2 h1 h2 hF
      have hR2 : MR S m2 := hR.kept (fun c _ => by rw [h1]) (by rw [h2.1])
      refine z_iload X dX4_solve_3 0 rfl ?_
      refine z_bipush (v := nI (125)) X dX4_solve_5 (by decide) ?_
      refine z_icmp_ge_f (tgt := 26) X dX4_solve_7 (by decide) (fun h => absurd ((nI_leI (by omega) (by omega)).mp h) (by omega)) ?_
      refine z_aload_n X dX4_solve_10 rfl 1 rfl ?_
      refine z_mg28 X hM2 dX4_solve_11 ?_
      refine z_iconst (v := nI (0)) X dX4_solve_14 ci0 ?_
      refine z_aN6 (v := .ref (ad (70 + 0))) X dX4_solve_15 (mm_29 hM2) (by omega) (by omega) rfl ?_
      refine z_iload X dX4_solve_16 0 rfl ?_
      refine z_lconst (v := lN 0) X dX4_solve_18 cl0 ?_
      refine z_mstL (n := 125) (j := i) X hM2 (70 + 0) dX4_solve_19 (mP_70 (by omega)) (mK_70 (by omega)) (mLen_70 (by omega)) (by omega) (by omega) (fun u9 hM9 => ?_)
      refine z_iinc (v := nI (i + 1)) (lv2 := [(5, .int (nI (i + 1))), (0, .ref (ad 0)), (1, .int (nI (n))), (2, .int (nI (kd))), (3, .int (nI (a))), (4, .int (oI (lt)))]) X dX4_solve_20 0 rfl (nI_1 _) (Nat.le_of_ble_eq_true rfl) rfl ?_
      refine z_goto (tgt := 3) X dX4_solve_23 (by decide) ?_
      exact ih (i + 1) _ _ (by omega) hM9 h1 (h2.set (by omega)) (mL_row (p := fun _ x => x = lN 0) hF rfl)
  exact l1 125 0 w m (by omega) hM rfl KL.rf (fun j hj => absurd hj (by omega))
