/-! THE MODEL: hours go by -/
set_option maxRecDepth 100000
def spGo (o : OS) (s n : Int32) : Int32 × OS := el (rgb 0 7 s) (badM o 2) fun s => el (rgb 1 200 n) (badM o 2) fun n => if o.2.2.2.1 0 s = 1 then badM o 3 else if o.2.2.2.1 0 s = 0 then badM o 4 else goTo (o.2.2.2.1 3 s) (o.2.2.2.1 4 s) (wiseT o.1 (o.2.2.2.1 4 s)) o n
theorem oDay_2 (o : OS) (d : Nat → Int32) (sd : Int32) : (oDay o d sd).2.2.2 = o.2.2.2 := by obtain ⟨a, b, c, e⟩ := o; rfl
theorem oW_2 (o : OS) (S : WS) : (oW o S).2.2.2 = o.2.2.2 := by obtain ⟨a, b, c, e⟩ := o; rfl
theorem FE.trans {S S2 S3 : WS} (h : FE S S2) (h2 : FE S2 S3) : FE S S3 := ⟨h2.1.trans h.1, fun f hf => (h2.2 f hf).trans (h.2 f hf)⟩
/-- hours keep all but day, seed and what is full -/
def KO (o o2 : OS) : Prop := FE o.1 o2.1 ∧ oInv o2 ∧ o2.2.2.2 = o.2.2.2
theorem KO.trans {o o2 o3 : OS} (h : KO o o2) (h2 : KO o2 o3) : KO o o3 := ⟨h.1.trans h2.1, h2.2.1, h2.2.2.trans h.2.2⟩
theorem KO.day {o : OS} (h : oInv o) {d : Nat → Int32} {sd : Int32} : KO o (oDay o d sd) := ⟨by rw [oDay_1]; exact FE.rf, h.day, oDay_2 _ _ _⟩
theorem KO.full {o : OS} (h : oInv o) {i v : Nat} (hv : v ≤ o.1.1 0 i) : KO o (oW o (wPut o.1 1 i v)) := ⟨by rw [oW_1]; exact FE.rf.put, h.w (wInv_full h.1 hv), oW_2 _ _⟩
theorem KO.seed {o : OS} (h : oInv o) : KO o (oSeed o) := by unfold oSeed; exact KO.day h
theorem KO.tick {o : OS} (h : oInv o) {j : Nat} : KO o (oTick o j) := by unfold oTick; exact KO.day h
theorem KO.rf {o : OS} (h : oInv o) : KO o o := ⟨FE.rf, h, rfl⟩
theorem KO.fet {o : OS} (h : oInv o) {z : Nat} (hz : z < 3) : KO o (fetS o z) := by
  unfold fetS
  by_cases q : 0 < o.1.1 1 z
  · rw [if_pos q]
    by_cases q2 : drN o.2.2.1 10 < o.1.1 2 z
    · rw [if_pos q2]
      have h1 := KO.seed h
      have w := h.1.1 z hz
      have h2 : KO (oSeed o) (oW (oSeed o) (wPut o.1 1 z (o.1.1 1 z - 1))) := by
        have t := KO.full h1.2.1 (i := z) (v := o.1.1 1 z - 1) (by rw [oSeed_1]; omega)
        rw [oSeed_1] at t; exact t
      exact (h1.trans h2).trans (KO.tick h2.2.1)
    · rw [if_neg q2]; exact KO.seed h
  · rw [if_neg q]; exact KO.rf h
theorem KO.fetR {o : OS} : ∀ n z, z + n ≤ 3 → oInv o → KO o (fetR n z o) := by
  intro n
  induction n generalizing o with
  | zero => intro z _ h; exact KO.rf h
  | succ n ih =>
    intro z hz h
    have h1 := KO.fet h (z := z) (by omega)
    exact h1.trans (ih (z + 1) (by omega) h1.2.1)
theorem KO.brg {o : OS} (h : oInv o) {k : Nat} {g : Option Nat} (hg : ∀ z, g = some z → o.1.1 1 z + 1 ≤ o.1.1 0 z) : KO o (brgO o k g).2 := by
  unfold brgO
  cases g with
  | some z =>
    have h1 := KO.full h (hg z rfl)
    exact h1.trans (KO.tick h1.2.1)
  | none =>
    show KO o (ite _ _ _ : Int32 × OS).2
    have h1 := KO.seed h
    by_cases q : drN o.2.2.1 10 < o.1.2 1
    · rw [if_pos q]; exact h1.trans (KO.tick h1.2.1)
    · rw [if_neg q]; exact h1.trans (KO.tick h1.2.1)
theorem KO.sec {o : OS} (h : oInv o) {kd a lot : Nat} {T : Nat → Int64} : KO o (hr2 kd a T lot o).2 := by
  unfold hr2
  by_cases q : lotK o.1 (o.1.2 0) 0 lot = o.1.2 0
  · rw [if_pos q]; exact KO.rf h
  · rw [if_neg q]
    refine KO.brg h (fun z hz => ?_)
    have y2 := rget_lt hz
    have y3 := fits_of y2.2
    have y4 := stOf_fr h.1 y2.1
    have y5 := h.1.1 z y2.1
    omega
theorem KO.hour {o : OS} (h : oInv o) {kd a : Nat} {T : Nat → Int64} : KO o (hourO kd a T o).2 := by
  unfold hourO
  have h1 := KO.fetR 3 0 (by omega) h
  have h2 := h1.trans (KO.tick h1.2.1 (j := 0))
  have h3 := h2.trans (KO.seed h2.2.1)
  exact h3.trans (KO.sec h3.2.1)
theorem KO.go {o : OS} (h : oInv o) {kd a : Nat} {T : Nat → Int64} : ∀ n, KO o (goTo kd a T o n).2 := by
  intro n
  induction n with
  | zero => exact KO.rf h
  | succ n ih =>
    have h1 := ih.trans (KO.hour ih.2.1 (kd := kd) (a := a) (T := T))
    exact h1.trans (KO.day h1.2.1)
theorem goTo_1 {kd a n : Nat} {T : Nat → Int64} {o : OS} : (goTo kd a T o (n + 1)).1 = (goTo kd a T o n).1 + (hourO kd a T (goTo kd a T o n).2).1 := rfl
theorem goTo_2 {kd a n : Nat} {T : Nat → Int64} {o : OS} : (goTo kd a T o (n + 1)).2 = oDay (hourO kd a T (goTo kd a T o n).2).2 (upd (hourO kd a T (goTo kd a T o n).2).2.2.1 5 ((hourO kd a T (goTo kd a T o n).2).2.2.1 5 + (hourO kd a T (goTo kd a T o n).2).1)) (hourO kd a T (goTo kd a T o n).2).2.2.2.1 := rfl
set_option maxHeartbeats 2000000 in
theorem m_X4_go {l : Launch} {G : GG} {wb w : GW} {ad : Nat → Nat} {m : MSt} (hM : MM G wb w ad m) {o : OS} (hT : MT o m) (hO : oInv o) {s n : Int32} : gM l G yX4_go cX4_go 7 (some .int) 9 0 0 [.ref (ad 0), .int (s), .int (n)] w (pI (fun r w1 => ∃ m2, MM G wb w1 ad m2 ∧ MT (spGo o s n).2 m2 ∧ r = (spGo o s n).1)) := by
  refine Z.met (own := "ThreeSizesModel") (nm := "go") (lv := [(0, .ref (ad 0)), (1, .int (s)), (2, .int (n))]) (by decide) rfl rfl (Nat.le_of_ble_eq_true rfl) rfl (fun κ X => ?_)
  have hI := hO.1
  have h6 := hI.2.1
  have ht200 := hO.2.2.2
  refine z_iload_n X dX4_go_0 rfl 1 rfl ?_
  refine z_i2l (v := (s).toInt64) X dX4_go_1 rfl ?_
  refine z_lconst (v := lN 0) X dX4_go_2 cl0 ?_
  refine z_ldc2 X dX4_go_3 q1540 ?_
  refine z_cip (z_runS (rest := []) (n := 3) X [.long ((s).toInt64), .long (lN (0)), .long ((7))] m_X4_in dX4_go_6 (lw_S q1541 q1542 q70 q1543) hs_X4_in rfl ⟨Nat.le_of_ble_eq_true rfl, Nat.le_of_ble_eq_true rfl⟩ ⟨by omega, by omega⟩ rfl (Nat.le_of_ble_eq_true rfl)) ?_
  refine z_if_eq (tgt := 24) X dX4_go_9 (by decide) bI_d (fun c1 => ?_) (fun c1 => ?_)
  · have e1 : rgb 0 7 s = none := rgb_f (fun q => c1 ((in32 (lo := nI 0) (hi := nI 7)).mpr q))
    refine z_aload_n X dX4_go_24 rfl 0 rfl ?_
    refine z_bipush (v := (-2)) X dX4_go_25 (by decide) ?_
    refine z_ci (z_runV (rest := []) (n := 1) X [.int ((-2))] (m_X4_refuse hM (k := 2) (by decide) (v := (-2)) rfl) dX4_go_27 (mm_o hM) rfl (lw_V q1546 q1548 qs27 q70 q1549) hv_X4_refuse rfl ⟨Nat.le_of_ble_eq_true rfl, Nat.le_of_ble_eq_true rfl⟩ ⟨by omega, by omega⟩ rfl (Nat.le_of_ble_eq_true rfl)) (fun r2 w4 h3 => ?_)
    obtain ⟨hM3, r2e⟩ := h3
    rw [r2e]
    have hT3 := MT.ref hT (k := 2) (by decide)
    refine z_ldcw X dX4_go_30 q1916 ?_
    refine z_isub (v := (-2) - (1000000)) X dX4_go_33 rfl ?_
    have e : spGo o s n = ((-2) - (1000000), oRef o 2) := by
      unfold spGo
      repeat (first | rw [el_some (by assumption)] | rw [el_none (by assumption)] | rw [if_pos (by omega)] | rw [if_neg (by omega)] | rw [if_pos (by assumption)] | rw [if_neg (ts_n (by assumption))])
      all_goals first | rfl | (exfalso; omega)
    exact z_iret X dX4_go_34 (by omega) (by omega) ⟨_, rfl, (by rw [e]; exact ⟨_, hM3, hT3, rfl⟩)⟩
  · have c1 := Classical.not_not.mp c1
    obtain ⟨sN, sNl, sNh, rfl, e2⟩ := rgb_t (lo := 0) (hi := 7) (by decide) (by decide) ((in32 (lo := nI 0) (hi := nI 7)).mp c1)
    refine z_iload_n X dX4_go_12 rfl 2 rfl ?_
    refine z_i2l (v := (n).toInt64) X dX4_go_13 rfl ?_
    refine z_lconst (v := lN 1) X dX4_go_14 cl1 ?_
    refine z_ldc2 X dX4_go_15 q1915 ?_
    refine z_cip (z_runS (rest := []) (n := 3) X [.long ((n).toInt64), .long (lN (1)), .long ((200))] m_X4_in dX4_go_18 (lw_S q1541 q1542 q70 q1543) hs_X4_in rfl ⟨Nat.le_of_ble_eq_true rfl, Nat.le_of_ble_eq_true rfl⟩ ⟨by omega, by omega⟩ rfl (Nat.le_of_ble_eq_true rfl)) ?_
    refine z_if_ne (tgt := 35) X dX4_go_21 (by decide) bI_d (fun c5 => ?_) (fun c5 => ?_)
    · have c5 := Classical.not_not.mp c5
      obtain ⟨nN, nNl, nNh, rfl, e3⟩ := rgb_t (lo := 1) (hi := 200) (by decide) (by decide) ((in32 (lo := nI 1) (hi := nI 200)).mp c5)
      have hqs := hO.2.1 sN (by omega)
      refine z_aload_n X dX4_go_35 rfl 0 rfl ?_
      refine z_iload_n X dX4_go_36 rfl 1 rfl ?_
      refine z_ci (z_runV (rest := []) (n := 1) X [.int (nI (sN))] (m_X4_noRule hM hT hO (s := nI (sN))) dX4_go_37 (mm_o hM) rfl (lw_V q1785 q1787 qs53 q70 q1788) hv_X4_noRule rfl ⟨Nat.le_of_ble_eq_true rfl, Nat.le_of_ble_eq_true rfl⟩ ⟨by omega, by omega⟩ rfl (Nat.le_of_ble_eq_true rfl)) (fun r6 w8 h7 => ?_)
      obtain ⟨mv7, hM7, hQ7⟩ := h7
      rcases hQ7 with ⟨e4, rfl, hTn7⟩ | ⟨k10, k10h, k10e, e5, (⟨q9, rfl, hTn7⟩ | ⟨q9, rfl, hTn7⟩ | ⟨q9, rfl, hTn7⟩)⟩
      · exact absurd (rgb_nI (lo := 0) (hi := 7) (k := sN) (by omega) (by decide)) (by rw [e4]; exact fun h => by cases h)
      · obtain rfl : sN = k10 := (nI_eq (by omega) (by omega)).mp k10e
        refine z_istore_n (lv2 := [(3, .int ((-3))), (0, .ref (ad 0)), (1, .int (nI (sN))), (2, .int (nI (nN)))]) X dX4_go_40 rfl (Nat.le_of_ble_eq_true rfl) rfl ?_
        refine z_iload_n X dX4_go_41 rfl 0 rfl ?_
        refine z_if_eq_f (tgt := 51) X dX4_go_42 (by decide) (by decide) ?_
        refine z_iload_n X dX4_go_45 rfl 0 rfl ?_
        refine z_ldcw X dX4_go_46 q1916 ?_
        refine z_isub (v := (-3) - (1000000)) X dX4_go_49 rfl ?_
        have e : spGo o (nI sN) (nI nN) = ((-3) - (1000000), oRef o 3) := by
          unfold spGo
          repeat (first | rw [el_some (by assumption)] | rw [el_none (by assumption)] | rw [if_pos (by omega)] | rw [if_neg (by omega)] | rw [if_pos (by assumption)] | rw [if_neg (ts_n (by assumption))])
          all_goals first | rfl | (exfalso; omega)
        exact z_iret X dX4_go_50 (by omega) (by omega) ⟨_, rfl, (by rw [e]; exact ⟨_, hM7, hTn7, rfl⟩)⟩
      · obtain rfl : sN = k10 := (nI_eq (by omega) (by omega)).mp k10e
        refine z_istore_n (lv2 := [(3, .int ((-4))), (0, .ref (ad 0)), (1, .int (nI (sN))), (2, .int (nI (nN)))]) X dX4_go_40 rfl (Nat.le_of_ble_eq_true rfl) rfl ?_
        refine z_iload_n X dX4_go_41 rfl 0 rfl ?_
        refine z_if_eq_f (tgt := 51) X dX4_go_42 (by decide) (by decide) ?_
        refine z_iload_n X dX4_go_45 rfl 0 rfl ?_
        refine z_ldcw X dX4_go_46 q1916 ?_
        refine z_isub (v := (-4) - (1000000)) X dX4_go_49 rfl ?_
        have e : spGo o (nI sN) (nI nN) = ((-4) - (1000000), oRef o 4) := by
          unfold spGo
          repeat (first | rw [el_some (by assumption)] | rw [el_none (by assumption)] | rw [if_pos (by omega)] | rw [if_neg (by omega)] | rw [if_pos (by assumption)] | rw [if_neg (ts_n (by assumption))])
          all_goals first | rfl | (exfalso; omega)
        exact z_iret X dX4_go_50 (by omega) (by omega) ⟨_, rfl, (by rw [e]; exact ⟨_, hM7, hTn7, rfl⟩)⟩
      · obtain rfl : sN = k10 := (nI_eq (by omega) (by omega)).mp k10e
        refine z_istore_n (lv2 := [(3, .int (nI (0))), (0, .ref (ad 0)), (1, .int (nI (sN))), (2, .int (nI (nN)))]) X dX4_go_40 rfl (Nat.le_of_ble_eq_true rfl) rfl ?_
        refine z_iload_n X dX4_go_41 rfl 0 rfl ?_
        refine z_if_eq_t (tgt := 51) X dX4_go_42 (by decide) (by decide) ?_
        refine z_aload_n X dX4_go_51 rfl 1 rfl ?_
        refine z_mg5 X hM7 dX4_go_52 ?_
        refine z_iload_n X dX4_go_55 rfl 2 rfl ?_
        refine z_iaN (v := nI (o.2.2.2.1 3 sN)) X dX4_go_56 (mm_6 hM7) (by omega) (by omega) ((hTn7.2.2.2.1 sN (by omega)).2.2.2.1) ?_
        refine z_bipush (v := nI (6)) X dX4_go_57 (by decide) ?_
        refine z_icmp_ne (tgt := 72) X dX4_go_59 (by decide) (nI_eq (by omega) (by omega)) (fun c11 => ?_) (fun c11 => ?_)
        · refine z_iconst (v := nI (0)) X dX4_go_72 ci0 ?_
          refine z_istore (lv2 := [(4, .int (nI (0))), (3, .int (nI (0))), (0, .ref (ad 0)), (1, .int (nI (sN))), (2, .int (nI (nN)))]) X dX4_go_73 (Nat.le_of_ble_eq_true rfl) rfl ?_
          refine z_iconst (v := nI (0)) X dX4_go_75 ci0 ?_
          refine z_istore (lv2 := [(5, .int (nI (0))), (4, .int (nI (0))), (3, .int (nI (0))), (0, .ref (ad 0)), (1, .int (nI (sN))), (2, .int (nI (nN)))]) X dX4_go_76 (Nat.le_of_ble_eq_true rfl) rfl ?_
          have hw0 : (o.2.2.2.1 3 sN) = 6 → ∀ k, k < o.1.2 0 → ∀ st, isStP o.1 st → mv7.1 (60 + k) st = oI (bestO o.1 k st (wiseT o.1 (o.2.2.2.1 4 sN))) := fun h => absurd h (by omega)
          have lg : ∀ (lq i : Nat) (w2 : GW) (m2 : MSt), i + lq = nN → MM G wb w2 ad m2 → MT (goTo (o.2.2.2.1 3 sN) (o.2.2.2.1 4 sN) (wiseT o.1 (o.2.2.2.1 4 sN)) o i).2 m2 → (∀ c, 60 ≤ c → m2.1 c = mv7.1 c) → Z κ w2 [(5, .int (nI (i))), (4, .int ((goTo (o.2.2.2.1 3 sN) (o.2.2.2.1 4 sN) (wiseT o.1 (o.2.2.2.1 4 sN)) o i).1)), (0, .ref (ad 0)), (1, .int (nI (sN))), (2, .int (nI (nN)))] 0 0 78 [] := by
            intro lq
            induction lq with
            | zero =>
              intro i w2 m2 lh hM2 hT2x hW2
              obtain rfl : nN = i := by omega
              refine z_iload X dX4_go_78 0 rfl ?_
              refine z_iload_n X dX4_go_80 rfl 4 rfl ?_
              refine z_icmp_ge_t (tgt := 126) X dX4_go_81 (by decide) ((nI_leI (by omega) (by omega)).mpr (by omega)) ?_
              refine z_iload X dX4_go_126 1 rfl ?_
              have e : spGo o (nI sN) (nI nN) = ((goTo (o.2.2.2.1 3 sN) (o.2.2.2.1 4 sN) (wiseT o.1 (o.2.2.2.1 4 sN)) o nN).1, (goTo (o.2.2.2.1 3 sN) (o.2.2.2.1 4 sN) (wiseT o.1 (o.2.2.2.1 4 sN)) o nN).2) := by
                unfold spGo
                repeat (first | rw [el_some (by assumption)] | rw [el_none (by assumption)] | rw [if_pos (by omega)] | rw [if_neg (by omega)] | rw [if_pos (by assumption)] | rw [if_neg (ts_n (by assumption))])
                all_goals first | rfl | (exfalso; omega)
              exact z_iret X dX4_go_128 (by omega) (by omega) ⟨_, rfl, (by rw [e]; exact ⟨_, hM2, hT2x, rfl⟩)⟩
            | succ lq ih =>
              intro i w2 m2 lh hM2 hT2x hW2
              have hK := KO.go hO (kd := (o.2.2.2.1 3 sN)) (a := (o.2.2.2.1 4 sN)) (T := (wiseT o.1 (o.2.2.2.1 4 sN))) i
              have hwx : (o.2.2.2.1 3 sN) = 6 → ∀ k, k < (goTo (o.2.2.2.1 3 sN) (o.2.2.2.1 4 sN) (wiseT o.1 (o.2.2.2.1 4 sN)) o i).2.1.2 0 → ∀ st, isStP (goTo (o.2.2.2.1 3 sN) (o.2.2.2.1 4 sN) (wiseT o.1 (o.2.2.2.1 4 sN)) o i).2.1 st → m2.1 (60 + k) st = oI (bestO (goTo (o.2.2.2.1 3 sN) (o.2.2.2.1 4 sN) (wiseT o.1 (o.2.2.2.1 4 sN)) o i).2.1 k st (wiseT o.1 (o.2.2.2.1 4 sN))) := fun h6 k hk st hs => (congrFun (hW2 (60 + k) (by omega)) st).trans ((hw0 h6 k (by rw [← hK.1.1]; exact hk) st (hK.1.st hs)).trans (congrArg oI (hK.1.best 3).symm))
              refine z_iload X dX4_go_78 0 rfl ?_
              refine z_iload_n X dX4_go_80 rfl 4 rfl ?_
              refine z_icmp_ge_f (tgt := 126) X dX4_go_81 (by decide) (fun h => absurd ((nI_leI (by omega) (by omega)).mp h) (by omega)) ?_
              refine z_aload_n X dX4_go_84 rfl 2 rfl ?_
              refine z_aload_n X dX4_go_85 rfl 2 rfl ?_
              refine z_mg5 X hM2 dX4_go_86 ?_
              refine z_iload_n X dX4_go_89 rfl 3 rfl ?_
              refine z_iaN (v := nI (o.2.2.2.1 3 sN)) X dX4_go_90 (mm_6 hM2) (by omega) (by omega) ((hT2x.2.2.2.1 sN (by omega)).2.2.2.1.trans (by rw [hK.2.2])) ?_
              refine z_aload_n X dX4_go_91 rfl 2 rfl ?_
              refine z_mg6 X hM2 dX4_go_92 ?_
              refine z_iload_n X dX4_go_95 rfl 3 rfl ?_
              refine z_iaN (v := nI (o.2.2.2.1 4 sN)) X dX4_go_96 (mm_7 hM2) (by omega) (by omega) ((hT2x.2.2.2.1 sN (by omega)).2.2.2.2.trans (by rw [hK.2.2])) ?_
              refine z_ci (z_runV (rest := []) (n := 2) X [.int (nI (o.2.2.2.1 3 sN)), .int (nI (o.2.2.2.1 4 sN))] (m_X4_hour hM2 hT2x hK.2.1 (kd := (o.2.2.2.1 3 sN)) (a := (o.2.2.2.1 4 sN)) (T := (wiseT o.1 (o.2.2.2.1 4 sN))) (by omega) (by omega) hwx) dX4_go_97 (mm_o hM2) rfl (lw_V q1917 q1919 qs63 q70 q1920) hv_X4_hour rfl ⟨Nat.le_of_ble_eq_true rfl, Nat.le_of_ble_eq_true rfl⟩ ⟨by omega, by omega⟩ rfl (Nat.le_of_ble_eq_true rfl)) (fun r12 w14 h13 => ?_)
              obtain ⟨mv13, hM13, hT13, hW13, r12e⟩ := h13
              rw [r12e]
              refine z_istore (lv2 := [(6, .int ((hourO (o.2.2.2.1 3 sN) (o.2.2.2.1 4 sN) (wiseT o.1 (o.2.2.2.1 4 sN)) (goTo (o.2.2.2.1 3 sN) (o.2.2.2.1 4 sN) (wiseT o.1 (o.2.2.2.1 4 sN)) o i).2).1)), (5, .int (nI (i))), (4, .int ((goTo (o.2.2.2.1 3 sN) (o.2.2.2.1 4 sN) (wiseT o.1 (o.2.2.2.1 4 sN)) o i).1)), (0, .ref (ad 0)), (1, .int (nI (sN))), (2, .int (nI (nN)))]) X dX4_go_100 (Nat.le_of_ble_eq_true rfl) rfl ?_
              refine z_aload_n X dX4_go_102 rfl 3 rfl ?_
              refine z_mg16 X hM13 dX4_go_103 ?_
              refine z_iconst (v := nI (5)) X dX4_go_106 ci5 ?_
              refine z_dup2 X dX4_go_107 rfl rfl ?_
              refine z_iaN (v := (hourO (o.2.2.2.1 3 sN) (o.2.2.2.1 4 sN) (wiseT o.1 (o.2.2.2.1 4 sN)) (goTo (o.2.2.2.1 3 sN) (o.2.2.2.1 4 sN) (wiseT o.1 (o.2.2.2.1 4 sN)) o i).2).2.2.1 5) X dX4_go_108 (mm_17 hM13) (by omega) (by omega) (hT13.2.1 5 (by omega)) ?_
              refine z_iload X dX4_go_109 0 rfl ?_
              refine z_iadd (v := (hourO (o.2.2.2.1 3 sN) (o.2.2.2.1 4 sN) (wiseT o.1 (o.2.2.2.1 4 sN)) (goTo (o.2.2.2.1 3 sN) (o.2.2.2.1 4 sN) (wiseT o.1 (o.2.2.2.1 4 sN)) o i).2).2.2.1 5 + ((hourO (o.2.2.2.1 3 sN) (o.2.2.2.1 4 sN) (wiseT o.1 (o.2.2.2.1 4 sN)) (goTo (o.2.2.2.1 3 sN) (o.2.2.2.1 4 sN) (wiseT o.1 (o.2.2.2.1 4 sN)) o i).2).1)) X dX4_go_111 rfl ?_
              refine z_mst (n := 6) (j := 5) X hM13 17 dX4_go_112 rfl rfl rfl (by omega) (by omega) (fun u15 hM15 => ?_)
              refine z_iload X dX4_go_113 2 rfl ?_
              refine z_iload X dX4_go_115 0 rfl ?_
              refine z_iadd (v := (goTo (o.2.2.2.1 3 sN) (o.2.2.2.1 4 sN) (wiseT o.1 (o.2.2.2.1 4 sN)) o i).1 + ((hourO (o.2.2.2.1 3 sN) (o.2.2.2.1 4 sN) (wiseT o.1 (o.2.2.2.1 4 sN)) (goTo (o.2.2.2.1 3 sN) (o.2.2.2.1 4 sN) (wiseT o.1 (o.2.2.2.1 4 sN)) o i).2).1)) X dX4_go_117 rfl ?_
              refine z_istore (lv2 := [(4, .int ((goTo (o.2.2.2.1 3 sN) (o.2.2.2.1 4 sN) (wiseT o.1 (o.2.2.2.1 4 sN)) o i).1 + ((hourO (o.2.2.2.1 3 sN) (o.2.2.2.1 4 sN) (wiseT o.1 (o.2.2.2.1 4 sN)) (goTo (o.2.2.2.1 3 sN) (o.2.2.2.1 4 sN) (wiseT o.1 (o.2.2.2.1 4 sN)) o i).2).1))), (6, .int ((hourO (o.2.2.2.1 3 sN) (o.2.2.2.1 4 sN) (wiseT o.1 (o.2.2.2.1 4 sN)) (goTo (o.2.2.2.1 3 sN) (o.2.2.2.1 4 sN) (wiseT o.1 (o.2.2.2.1 4 sN)) o i).2).1)), (5, .int (nI (i))), (0, .ref (ad 0)), (1, .int (nI (sN))), (2, .int (nI (nN)))]) X dX4_go_118 (Nat.le_of_ble_eq_true rfl) rfl ?_
              refine z_iinc (v := nI (i + 1)) (lv2 := [(5, .int (nI (i + 1))), (4, .int ((goTo (o.2.2.2.1 3 sN) (o.2.2.2.1 4 sN) (wiseT o.1 (o.2.2.2.1 4 sN)) o i).1 + ((hourO (o.2.2.2.1 3 sN) (o.2.2.2.1 4 sN) (wiseT o.1 (o.2.2.2.1 4 sN)) (goTo (o.2.2.2.1 3 sN) (o.2.2.2.1 4 sN) (wiseT o.1 (o.2.2.2.1 4 sN)) o i).2).1))), (6, .int ((hourO (o.2.2.2.1 3 sN) (o.2.2.2.1 4 sN) (wiseT o.1 (o.2.2.2.1 4 sN)) (goTo (o.2.2.2.1 3 sN) (o.2.2.2.1 4 sN) (wiseT o.1 (o.2.2.2.1 4 sN)) o i).2).1)), (0, .ref (ad 0)), (1, .int (nI (sN))), (2, .int (nI (nN)))]) X dX4_go_120 2 rfl (nI_1 _) (Nat.le_of_ble_eq_true rfl) rfl ?_
              refine z_goto (tgt := 78) X dX4_go_123 (by decide) ?_
              refine Z.lv [0, 1, 3, 4, 5] rfl ?_
              have tt : MT (goTo (o.2.2.2.1 3 sN) (o.2.2.2.1 4 sN) (wiseT o.1 (o.2.2.2.1 4 sN)) o (i + 1)).2 (mI mv13 17 5 ((hourO (o.2.2.2.1 3 sN) (o.2.2.2.1 4 sN) (wiseT o.1 (o.2.2.2.1 4 sN)) (goTo (o.2.2.2.1 3 sN) (o.2.2.2.1 4 sN) (wiseT o.1 (o.2.2.2.1 4 sN)) o i).2).2.2.1 5 + ((hourO (o.2.2.2.1 3 sN) (o.2.2.2.1 4 sN) (wiseT o.1 (o.2.2.2.1 4 sN)) (goTo (o.2.2.2.1 3 sN) (o.2.2.2.1 4 sN) (wiseT o.1 (o.2.2.2.1 4 sN)) o i).2).1))) := by
                rw [goTo_2]
                exact MT.day hT13
              have kk := ih (i + 1) _ _ (by omega) hM15 tt (fun c hc => (mI_oth (by omega)).trans ((hW13 c hc).trans (hW2 c hc)))
              rw [goTo_1] at kk
              exact kk
          refine Z.lv [0, 1, 3, 4, 5] rfl ?_
          exact lg nN 0 w8 mv7 (by omega) hM7 hTn7 (fun _ _ => rfl)
        · refine z_aload_n X dX4_go_62 rfl 1 rfl ?_
          refine z_aload_n X dX4_go_63 rfl 1 rfl ?_
          refine z_mg6 X hM7 dX4_go_64 ?_
          refine z_iload_n X dX4_go_67 rfl 2 rfl ?_
          refine z_iaN (v := nI (o.2.2.2.1 4 sN)) X dX4_go_68 (mm_7 hM7) (by omega) (by omega) ((hTn7.2.2.2.1 sN (by omega)).2.2.2.2) ?_
          refine z_cv (z_runV (rest := []) (n := 1) X [.int (nI (o.2.2.2.1 4 sN))] (m_X4_beWise hM7 hTn7.1 hI (a := o.2.2.2.1 4 sN) (by omega)) dX4_go_69 (mm_o hM7) rfl (lw_V q1596 q1598 qs30 q70 q1599) hv_X4_beWise rfl ⟨Nat.le_of_ble_eq_true rfl, Nat.le_of_ble_eq_true rfl⟩ ⟨by omega, by omega⟩ rfl (Nat.le_of_ble_eq_true rfl)) (fun w18 h17 => ?_)
          obtain ⟨mv17, hM17, hQ17, hW17⟩ := h17
          have hT17 := MT.KM hTn7 hQ17
          refine z_iconst (v := nI (0)) X dX4_go_72 ci0 ?_
          refine z_istore (lv2 := [(4, .int (nI (0))), (3, .int (nI (0))), (0, .ref (ad 0)), (1, .int (nI (sN))), (2, .int (nI (nN)))]) X dX4_go_73 (Nat.le_of_ble_eq_true rfl) rfl ?_
          refine z_iconst (v := nI (0)) X dX4_go_75 ci0 ?_
          refine z_istore (lv2 := [(5, .int (nI (0))), (4, .int (nI (0))), (3, .int (nI (0))), (0, .ref (ad 0)), (1, .int (nI (sN))), (2, .int (nI (nN)))]) X dX4_go_76 (Nat.le_of_ble_eq_true rfl) rfl ?_
          have hw0 : (o.2.2.2.1 3 sN) = 6 → ∀ k, k < o.1.2 0 → ∀ st, isStP o.1 st → mv17.1 (60 + k) st = oI (bestO o.1 k st (wiseT o.1 (o.2.2.2.1 4 sN))) := fun _ => hW17
          have lg : ∀ (lq i : Nat) (w2 : GW) (m2 : MSt), i + lq = nN → MM G wb w2 ad m2 → MT (goTo (o.2.2.2.1 3 sN) (o.2.2.2.1 4 sN) (wiseT o.1 (o.2.2.2.1 4 sN)) o i).2 m2 → (∀ c, 60 ≤ c → m2.1 c = mv17.1 c) → Z κ w2 [(5, .int (nI (i))), (4, .int ((goTo (o.2.2.2.1 3 sN) (o.2.2.2.1 4 sN) (wiseT o.1 (o.2.2.2.1 4 sN)) o i).1)), (0, .ref (ad 0)), (1, .int (nI (sN))), (2, .int (nI (nN)))] 0 0 78 [] := by
            intro lq
            induction lq with
            | zero =>
              intro i w2 m2 lh hM2 hT2x hW2
              obtain rfl : nN = i := by omega
              refine z_iload X dX4_go_78 0 rfl ?_
              refine z_iload_n X dX4_go_80 rfl 4 rfl ?_
              refine z_icmp_ge_t (tgt := 126) X dX4_go_81 (by decide) ((nI_leI (by omega) (by omega)).mpr (by omega)) ?_
              refine z_iload X dX4_go_126 1 rfl ?_
              have e : spGo o (nI sN) (nI nN) = ((goTo (o.2.2.2.1 3 sN) (o.2.2.2.1 4 sN) (wiseT o.1 (o.2.2.2.1 4 sN)) o nN).1, (goTo (o.2.2.2.1 3 sN) (o.2.2.2.1 4 sN) (wiseT o.1 (o.2.2.2.1 4 sN)) o nN).2) := by
                unfold spGo
                repeat (first | rw [el_some (by assumption)] | rw [el_none (by assumption)] | rw [if_pos (by omega)] | rw [if_neg (by omega)] | rw [if_pos (by assumption)] | rw [if_neg (ts_n (by assumption))])
                all_goals first | rfl | (exfalso; omega)
              exact z_iret X dX4_go_128 (by omega) (by omega) ⟨_, rfl, (by rw [e]; exact ⟨_, hM2, hT2x, rfl⟩)⟩
            | succ lq ih =>
              intro i w2 m2 lh hM2 hT2x hW2
              have hK := KO.go hO (kd := (o.2.2.2.1 3 sN)) (a := (o.2.2.2.1 4 sN)) (T := (wiseT o.1 (o.2.2.2.1 4 sN))) i
              have hwx : (o.2.2.2.1 3 sN) = 6 → ∀ k, k < (goTo (o.2.2.2.1 3 sN) (o.2.2.2.1 4 sN) (wiseT o.1 (o.2.2.2.1 4 sN)) o i).2.1.2 0 → ∀ st, isStP (goTo (o.2.2.2.1 3 sN) (o.2.2.2.1 4 sN) (wiseT o.1 (o.2.2.2.1 4 sN)) o i).2.1 st → m2.1 (60 + k) st = oI (bestO (goTo (o.2.2.2.1 3 sN) (o.2.2.2.1 4 sN) (wiseT o.1 (o.2.2.2.1 4 sN)) o i).2.1 k st (wiseT o.1 (o.2.2.2.1 4 sN))) := fun h6 k hk st hs => (congrFun (hW2 (60 + k) (by omega)) st).trans ((hw0 h6 k (by rw [← hK.1.1]; exact hk) st (hK.1.st hs)).trans (congrArg oI (hK.1.best 3).symm))
              refine z_iload X dX4_go_78 0 rfl ?_
              refine z_iload_n X dX4_go_80 rfl 4 rfl ?_
              refine z_icmp_ge_f (tgt := 126) X dX4_go_81 (by decide) (fun h => absurd ((nI_leI (by omega) (by omega)).mp h) (by omega)) ?_
              refine z_aload_n X dX4_go_84 rfl 2 rfl ?_
              refine z_aload_n X dX4_go_85 rfl 2 rfl ?_
              refine z_mg5 X hM2 dX4_go_86 ?_
              refine z_iload_n X dX4_go_89 rfl 3 rfl ?_
              refine z_iaN (v := nI (o.2.2.2.1 3 sN)) X dX4_go_90 (mm_6 hM2) (by omega) (by omega) ((hT2x.2.2.2.1 sN (by omega)).2.2.2.1.trans (by rw [hK.2.2])) ?_
              refine z_aload_n X dX4_go_91 rfl 2 rfl ?_
              refine z_mg6 X hM2 dX4_go_92 ?_
              refine z_iload_n X dX4_go_95 rfl 3 rfl ?_
              refine z_iaN (v := nI (o.2.2.2.1 4 sN)) X dX4_go_96 (mm_7 hM2) (by omega) (by omega) ((hT2x.2.2.2.1 sN (by omega)).2.2.2.2.trans (by rw [hK.2.2])) ?_
              refine z_ci (z_runV (rest := []) (n := 2) X [.int (nI (o.2.2.2.1 3 sN)), .int (nI (o.2.2.2.1 4 sN))] (m_X4_hour hM2 hT2x hK.2.1 (kd := (o.2.2.2.1 3 sN)) (a := (o.2.2.2.1 4 sN)) (T := (wiseT o.1 (o.2.2.2.1 4 sN))) (by omega) (by omega) hwx) dX4_go_97 (mm_o hM2) rfl (lw_V q1917 q1919 qs63 q70 q1920) hv_X4_hour rfl ⟨Nat.le_of_ble_eq_true rfl, Nat.le_of_ble_eq_true rfl⟩ ⟨by omega, by omega⟩ rfl (Nat.le_of_ble_eq_true rfl)) (fun r19 w21 h20 => ?_)
              obtain ⟨mv20, hM20, hT20, hW20, r19e⟩ := h20
              rw [r19e]
              refine z_istore (lv2 := [(6, .int ((hourO (o.2.2.2.1 3 sN) (o.2.2.2.1 4 sN) (wiseT o.1 (o.2.2.2.1 4 sN)) (goTo (o.2.2.2.1 3 sN) (o.2.2.2.1 4 sN) (wiseT o.1 (o.2.2.2.1 4 sN)) o i).2).1)), (5, .int (nI (i))), (4, .int ((goTo (o.2.2.2.1 3 sN) (o.2.2.2.1 4 sN) (wiseT o.1 (o.2.2.2.1 4 sN)) o i).1)), (0, .ref (ad 0)), (1, .int (nI (sN))), (2, .int (nI (nN)))]) X dX4_go_100 (Nat.le_of_ble_eq_true rfl) rfl ?_
              refine z_aload_n X dX4_go_102 rfl 3 rfl ?_
              refine z_mg16 X hM20 dX4_go_103 ?_
              refine z_iconst (v := nI (5)) X dX4_go_106 ci5 ?_
              refine z_dup2 X dX4_go_107 rfl rfl ?_
              refine z_iaN (v := (hourO (o.2.2.2.1 3 sN) (o.2.2.2.1 4 sN) (wiseT o.1 (o.2.2.2.1 4 sN)) (goTo (o.2.2.2.1 3 sN) (o.2.2.2.1 4 sN) (wiseT o.1 (o.2.2.2.1 4 sN)) o i).2).2.2.1 5) X dX4_go_108 (mm_17 hM20) (by omega) (by omega) (hT20.2.1 5 (by omega)) ?_
              refine z_iload X dX4_go_109 0 rfl ?_
              refine z_iadd (v := (hourO (o.2.2.2.1 3 sN) (o.2.2.2.1 4 sN) (wiseT o.1 (o.2.2.2.1 4 sN)) (goTo (o.2.2.2.1 3 sN) (o.2.2.2.1 4 sN) (wiseT o.1 (o.2.2.2.1 4 sN)) o i).2).2.2.1 5 + ((hourO (o.2.2.2.1 3 sN) (o.2.2.2.1 4 sN) (wiseT o.1 (o.2.2.2.1 4 sN)) (goTo (o.2.2.2.1 3 sN) (o.2.2.2.1 4 sN) (wiseT o.1 (o.2.2.2.1 4 sN)) o i).2).1)) X dX4_go_111 rfl ?_
              refine z_mst (n := 6) (j := 5) X hM20 17 dX4_go_112 rfl rfl rfl (by omega) (by omega) (fun u22 hM22 => ?_)
              refine z_iload X dX4_go_113 2 rfl ?_
              refine z_iload X dX4_go_115 0 rfl ?_
              refine z_iadd (v := (goTo (o.2.2.2.1 3 sN) (o.2.2.2.1 4 sN) (wiseT o.1 (o.2.2.2.1 4 sN)) o i).1 + ((hourO (o.2.2.2.1 3 sN) (o.2.2.2.1 4 sN) (wiseT o.1 (o.2.2.2.1 4 sN)) (goTo (o.2.2.2.1 3 sN) (o.2.2.2.1 4 sN) (wiseT o.1 (o.2.2.2.1 4 sN)) o i).2).1)) X dX4_go_117 rfl ?_
              refine z_istore (lv2 := [(4, .int ((goTo (o.2.2.2.1 3 sN) (o.2.2.2.1 4 sN) (wiseT o.1 (o.2.2.2.1 4 sN)) o i).1 + ((hourO (o.2.2.2.1 3 sN) (o.2.2.2.1 4 sN) (wiseT o.1 (o.2.2.2.1 4 sN)) (goTo (o.2.2.2.1 3 sN) (o.2.2.2.1 4 sN) (wiseT o.1 (o.2.2.2.1 4 sN)) o i).2).1))), (6, .int ((hourO (o.2.2.2.1 3 sN) (o.2.2.2.1 4 sN) (wiseT o.1 (o.2.2.2.1 4 sN)) (goTo (o.2.2.2.1 3 sN) (o.2.2.2.1 4 sN) (wiseT o.1 (o.2.2.2.1 4 sN)) o i).2).1)), (5, .int (nI (i))), (0, .ref (ad 0)), (1, .int (nI (sN))), (2, .int (nI (nN)))]) X dX4_go_118 (Nat.le_of_ble_eq_true rfl) rfl ?_
              refine z_iinc (v := nI (i + 1)) (lv2 := [(5, .int (nI (i + 1))), (4, .int ((goTo (o.2.2.2.1 3 sN) (o.2.2.2.1 4 sN) (wiseT o.1 (o.2.2.2.1 4 sN)) o i).1 + ((hourO (o.2.2.2.1 3 sN) (o.2.2.2.1 4 sN) (wiseT o.1 (o.2.2.2.1 4 sN)) (goTo (o.2.2.2.1 3 sN) (o.2.2.2.1 4 sN) (wiseT o.1 (o.2.2.2.1 4 sN)) o i).2).1))), (6, .int ((hourO (o.2.2.2.1 3 sN) (o.2.2.2.1 4 sN) (wiseT o.1 (o.2.2.2.1 4 sN)) (goTo (o.2.2.2.1 3 sN) (o.2.2.2.1 4 sN) (wiseT o.1 (o.2.2.2.1 4 sN)) o i).2).1)), (0, .ref (ad 0)), (1, .int (nI (sN))), (2, .int (nI (nN)))]) X dX4_go_120 2 rfl (nI_1 _) (Nat.le_of_ble_eq_true rfl) rfl ?_
              refine z_goto (tgt := 78) X dX4_go_123 (by decide) ?_
              refine Z.lv [0, 1, 3, 4, 5] rfl ?_
              have tt : MT (goTo (o.2.2.2.1 3 sN) (o.2.2.2.1 4 sN) (wiseT o.1 (o.2.2.2.1 4 sN)) o (i + 1)).2 (mI mv20 17 5 ((hourO (o.2.2.2.1 3 sN) (o.2.2.2.1 4 sN) (wiseT o.1 (o.2.2.2.1 4 sN)) (goTo (o.2.2.2.1 3 sN) (o.2.2.2.1 4 sN) (wiseT o.1 (o.2.2.2.1 4 sN)) o i).2).2.2.1 5 + ((hourO (o.2.2.2.1 3 sN) (o.2.2.2.1 4 sN) (wiseT o.1 (o.2.2.2.1 4 sN)) (goTo (o.2.2.2.1 3 sN) (o.2.2.2.1 4 sN) (wiseT o.1 (o.2.2.2.1 4 sN)) o i).2).1))) := by
                rw [goTo_2]
                exact MT.day hT20
              have kk := ih (i + 1) _ _ (by omega) hM22 tt (fun c hc => (mI_oth (by omega)).trans ((hW20 c hc).trans (hW2 c hc)))
              rw [goTo_1] at kk
              exact kk
          refine Z.lv [0, 1, 3, 4, 5] rfl ?_
          exact lg nN 0 w18 mv17 (by omega) hM17 hT17 (fun _ _ => rfl)
    · have e6 : rgb 1 200 n = none := rgb_f (fun q => c5 ((in32 (lo := nI 1) (hi := nI 200)).mpr q))
      refine z_aload_n X dX4_go_24 rfl 0 rfl ?_
      refine z_bipush (v := (-2)) X dX4_go_25 (by decide) ?_
      refine z_ci (z_runV (rest := []) (n := 1) X [.int ((-2))] (m_X4_refuse hM (k := 2) (by decide) (v := (-2)) rfl) dX4_go_27 (mm_o hM) rfl (lw_V q1546 q1548 qs27 q70 q1549) hv_X4_refuse rfl ⟨Nat.le_of_ble_eq_true rfl, Nat.le_of_ble_eq_true rfl⟩ ⟨by omega, by omega⟩ rfl (Nat.le_of_ble_eq_true rfl)) (fun r23 w25 h24 => ?_)
      obtain ⟨hM24, r23e⟩ := h24
      rw [r23e]
      have hT24 := MT.ref hT (k := 2) (by decide)
      refine z_ldcw X dX4_go_30 q1916 ?_
      refine z_isub (v := (-2) - (1000000)) X dX4_go_33 rfl ?_
      have e : spGo o (nI sN) n = ((-2) - (1000000), oRef o 2) := by
        unfold spGo
        repeat (first | rw [el_some (by assumption)] | rw [el_none (by assumption)] | rw [if_pos (by omega)] | rw [if_neg (by omega)] | rw [if_pos (by assumption)] | rw [if_neg (ts_n (by assumption))])
        all_goals first | rfl | (exfalso; omega)
      exact z_iret X dX4_go_34 (by omega) (by omega) ⟨_, rfl, (by rw [e]; exact ⟨_, hM24, hT24, rfl⟩)⟩
