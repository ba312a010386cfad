/-! THE MODEL: its state tied to the spec's; what it refuses; shelves -/
set_option maxRecDepth 100000
theorem ts_n {b : Bool} (h : b = false) : ¬ b = true := by rw [h]; exact Bool.false_ne_true
theorem mI_own {m : MSt} {c j : Nat} {x : Int32} : (mI m c j x).1 c = upd (m.1 c) j x := if_pos rfl
theorem mL_own {m : MSt} {c j : Nat} {x : Int64} : (mL m c j x).2.1 c = vp_updL (m.2.1 c) j x := if_pos rfl
def MT (o : OS) (m : MSt) : Prop := MR o.1 m ∧ (∀ j, j < 6 → m.1 17 j = o.2.1 j) ∧ m.2.2.1 17 = o.2.2.1 ∧ (∀ s, s < 8 → m.1 1 s = nI (o.2.2.2.1 0 s) ∧ m.1 2 s = nI (o.2.2.2.1 1 s) ∧ m.1 3 s = nI (o.2.2.2.1 2 s) ∧ m.1 6 s = nI (o.2.2.2.1 3 s) ∧ m.1 7 s = nI (o.2.2.2.1 4 s)) ∧ (∀ s, s < 8 → ∀ i, i < 40 → m.2.1 (40 + s) i = o.2.2.2.2.1 s i) ∧ (∀ i, i < 200 → m.1 8 i = nI (o.2.2.2.2.2.1 i)) ∧ m.2.2.1 8 = nI o.2.2.2.2.2.2.1 ∧ (∀ j, j < 7 → m.1 10 j = o.2.2.2.2.2.2.2 j)
theorem MT.kept {o : OS} {m m2 : MSt} (h : MT o m) (h1 : ∀ c, c < 18 ∨ (50 ≤ c ∧ c < 56) → m2.1 c = m.1 c) (h2 : ∀ s, s < 8 → m2.2.1 (40 + s) = m.2.1 (40 + s)) (h3 : ∀ k, k = 8 ∨ k = 13 ∨ k = 17 → m2.2.2.1 k = m.2.2.1 k) : MT o m2 := by
  obtain ⟨a, b, c, d, e, f, g, i⟩ := h
  refine ⟨a.kept (fun c hc => h1 c (by omega)) (h3 13 (by omega)), ?_, (h3 17 (by omega)).trans c, ?_, ?_, ?_, (h3 8 (by omega)).trans g, ?_⟩
  · rw [h1 17 (by omega)]; exact b
  · rw [h1 1 (by omega), h1 2 (by omega), h1 3 (by omega), h1 6 (by omega), h1 7 (by omega)]; exact d
  · intro s hs; rw [h2 s hs]; exact e s hs
  · rw [h1 8 (by omega)]; exact f
  · rw [h1 10 (by omega)]; exact i
theorem MT.KM {o : OS} {m m2 : MSt} (h : MT o m) (k : KM m m2) : MT o m2 := h.kept (fun c _ => k.2 c (by omega)) (fun s hs => k.1.2 _ (by omega) (by omega)) (fun _ _ => by rw [k.1.1])
theorem MT.ref {o : OS} {m : MSt} (h : MT o m) {k : Nat} (hk : k < 7) : MT (oRef o k) (mI m 10 k (m.1 10 k + 1)) := by
  obtain ⟨a, b, c, d, e, f, g, i⟩ := h
  have ot : ∀ c, c ≠ 10 → (mI m 10 k (m.1 10 k + 1)).1 c = m.1 c := fun c hc => mI_oth hc
  refine ⟨a.kept (fun c hc => ot c (by omega)) rfl, ?_, c, ?_, e, ?_, g, ?_⟩
  · rw [ot 17 (by omega)]; exact b
  · rw [ot 1 (by omega), ot 2 (by omega), ot 3 (by omega), ot 6 (by omega), ot 7 (by omega)]; exact d
  · rw [ot 8 (by omega)]; exact f
  · intro j hj
    have e1 : (mI m 10 k (m.1 10 k + 1)).1 10 = upd (m.1 10) k (m.1 10 k + 1) := mI_own
    rw [e1]
    show _ = upd _ _ _ j
    by_cases q : j = k
    · subst q; rw [pk_us, pk_us, i j hj]
    · rw [pk_un q, pk_un q]; exact i j hj
theorem MT.row {o : OS} {m : MSt} (h : MT o m) {s k n : Nat} (hs : s < 8) {m2 : MSt} (h1 : m2.1 = (mI (mI (mI m 1 s (nI 1)) 2 s (nI k)) 3 s (nI n)).1) (h2 : ∀ t, t < 8 → ∀ i, i < 40 → m2.2.1 (40 + t) i = if t = s then 0 else m.2.1 (40 + t) i) (h3 : m2.2.2.1 = m.2.2.1) : MT (setRow o s k n) m2 := by
  obtain ⟨a, b, c, d, e, f, g, i⟩ := h
  have ot : ∀ c, c ≠ 1 → c ≠ 2 → c ≠ 3 → m2.1 c = m.1 c := fun c x y z => by rw [h1]; exact (mI_oth z).trans ((mI_oth y).trans (mI_oth x))
  refine ⟨a.kept (fun c hc => ot c (by omega) (by omega) (by omega)) (by rw [h3]), ?_, (by rw [h3]; exact c), ?_, ?_, ?_, (by rw [h3]; exact g), ?_⟩
  · rw [ot 17 (by omega) (by omega) (by omega)]; exact b
  · have e1 : m2.1 1 = upd (m.1 1) s (nI 1) := by rw [h1]; exact (mI_oth (by decide)).trans ((mI_oth (by decide)).trans mI_own)
    have e2 : m2.1 2 = upd (m.1 2) s (nI k) := by rw [h1]; exact (mI_oth (by decide)).trans mI_own
    have e3 : m2.1 3 = upd (m.1 3) s (nI n) := by rw [h1]; exact mI_own
    rw [ot 6 (by omega) (by omega) (by omega), ot 7 (by omega) (by omega) (by omega), e1, e2, e3]
    intro t ht
    have d1 := d t ht
    show _ = nI (ite _ _ _) ∧ _ = nI (ite _ _ _) ∧ _ = nI (ite _ _ _) ∧ _ = nI (ite _ _ _) ∧ _ = nI (ite _ _ _)
    by_cases q : t = s
    · subst q; simp [pk_us, d1]
    · simp [pk_un q, d1, q]
  · intro t ht i hi
    rw [h2 t ht i hi]
    show _ = ite _ _ _
    by_cases q : t = s
    · rw [if_pos q, if_pos q]
    · rw [if_neg q, if_neg q]; exact e t ht i hi
  · rw [ot 8 (by omega) (by omega) (by omega)]; exact f
  · rw [ot 10 (by omega) (by omega) (by omega)]; exact i
theorem MT.rule {o : OS} {m : MSt} (h : MT o m) {s k n : Nat} (hs : s < 8) : MT (setRule o s k n) (mI (mI (mI m 1 s (nI 2)) 6 s (nI k)) 7 s (nI n)) := by
  obtain ⟨a, b, c, d, e, f, g, i⟩ := h
  have ot : ∀ c, c ≠ 1 → c ≠ 6 → c ≠ 7 → (mI (mI (mI m 1 s (nI 2)) 6 s (nI k)) 7 s (nI n)).1 c = m.1 c := fun c x y z => (mI_oth z).trans ((mI_oth y).trans (mI_oth x))
  refine ⟨a.kept (fun c hc => ot c (by omega) (by omega) (by omega)) rfl, ?_, c, ?_, e, ?_, g, ?_⟩
  · rw [ot 17 (by omega) (by omega) (by omega)]; exact b
  · have e1 : (mI (mI (mI m 1 s (nI 2)) 6 s (nI k)) 7 s (nI n)).1 1 = upd (m.1 1) s (nI 2) := (mI_oth (by decide)).trans ((mI_oth (by decide)).trans mI_own)
    have e2 : (mI (mI (mI m 1 s (nI 2)) 6 s (nI k)) 7 s (nI n)).1 6 = upd (m.1 6) s (nI k) := (mI_oth (by decide)).trans mI_own
    have e3 : (mI (mI (mI m 1 s (nI 2)) 6 s (nI k)) 7 s (nI n)).1 7 = upd (m.1 7) s (nI n) := mI_own
    rw [ot 2 (by omega) (by omega) (by omega), ot 3 (by omega) (by omega) (by omega), e1, e2, e3]
    intro t ht
    have d1 := d t ht
    show _ = nI (ite _ _ _) ∧ _ = nI (ite _ _ _) ∧ _ = nI (ite _ _ _) ∧ _ = nI (ite _ _ _) ∧ _ = nI (ite _ _ _)
    by_cases q : t = s
    · subst q; simp [pk_us, d1]
    · simp [pk_un q, d1, q]
  · rw [ot 8 (by omega) (by omega) (by omega)]; exact f
  · rw [ot 10 (by omega) (by omega) (by omega)]; exact i
theorem MT.el {o : OS} {m : MSt} (h : MT o m) {s i : Nat} {v : Int64} (hs : s < 8) : MT (setEl o s i v) (mL m (40 + s) i v) := by
  obtain ⟨a, b, c, d, e, f, g, x⟩ := h
  refine ⟨a, b, c, d, ?_, f, g, x⟩
  intro t ht j hj
  show _ = ite _ _ _
  by_cases q : t = s
  · subst q
    have e1 : (mL m (40 + t) i v).2.1 (40 + t) = vp_updL (m.2.1 (40 + t)) i v := mL_own
    rw [e1]
    by_cases q2 : j = i
    · subst q2; rw [pk_uLs, if_pos ⟨rfl, rfl⟩]
    · rw [pk_uLn q2, if_neg (fun x => q2 x.2)]; exact e t ht j hj
  · rw [mL_oth (by omega), if_neg (fun x => q x.1)]; exact e t ht j hj
set_option maxHeartbeats 2000000 in
theorem m_X4_refuse {l : Launch} {G : GG} {wb w : GW} {ad : Nat → Nat} {m : MSt} (hM : MM G wb w ad m) {k : Nat} (hk : k < 7) {v : Int32} (hv : -v = nI k) : gM l G yX4_refuse cX4_refuse 2 (some .int) 1 0 0 [.ref (ad 0), .int (v)] w (pI (fun r w1 => MM G wb w1 ad (mI m 10 k (m.1 10 k + 1)) ∧ r = v)) := by
  refine Z.met (own := "ThreeSizesModel") (nm := "refuse") (lv := [(0, .ref (ad 0)), (1, .int (v))]) (by decide) rfl rfl (Nat.le_of_ble_eq_true rfl) rfl (fun κ X => ?_)
  refine z_aload_n X dX4_refuse_0 rfl 0 rfl ?_
  refine z_mg9 X hM dX4_refuse_1 ?_
  refine z_iload_n X dX4_refuse_4 rfl 1 rfl ?_
  refine z_ineg (v := nI (k)) X dX4_refuse_5 hv ?_
  refine z_dup2 X dX4_refuse_6 rfl rfl ?_
  refine z_iaN (v := m.1 10 k) X dX4_refuse_7 (mm_10 hM) (by omega) (by omega) rfl ?_
  refine z_iconst (v := nI (1)) X dX4_refuse_8 ci1 ?_
  refine z_iadd (v := m.1 10 k + (nI (1))) X dX4_refuse_9 rfl ?_
  refine z_mst (n := 8) (j := k) X hM 10 dX4_refuse_10 rfl rfl rfl (by omega) (by omega) (fun u1 hM1 => ?_)
  refine z_iload_n X dX4_refuse_11 rfl 1 rfl ?_
  exact z_iret X dX4_refuse_12 (by omega) (by omega) ⟨_, rfl, ⟨hM1, rfl⟩⟩
set_option maxHeartbeats 2000000 in
theorem m_X4_row {l : Launch} {G : GG} {wb w : GW} {ad : Nat → Nat} {m : MSt} (hM : MM G wb w ad m) {o : OS} (hT : MT o m) (hO : oInv o) {s k n : Int32} : gM l G yX4_row cX4_row 5 (some .int) 2 0 0 [.ref (ad 0), .int (s), .int (k), .int (n)] w (pI (fun r w1 => ∃ m2, MM G wb w1 ad m2 ∧ MT (spRow o s k n).2 m2 ∧ r = (spRow o s k n).1)) := by
  refine Z.met (own := "ThreeSizesModel") (nm := "row") (lv := [(0, .ref (ad 0)), (1, .int (s)), (2, .int (k)), (3, .int (n))]) (by decide) rfl rfl (Nat.le_of_ble_eq_true rfl) rfl (fun κ X => ?_)
  have hI := hO.1
  have h6 := hI.2.1
  have ht200 := hO.2.2.2
  refine z_iload_n X dX4_row_0 rfl 1 rfl ?_
  refine z_i2l (v := (s).toInt64) X dX4_row_1 rfl ?_
  refine z_lconst (v := lN 0) X dX4_row_2 cl0 ?_
  refine z_ldc2 X dX4_row_3 q1540 ?_
  refine z_cip (z_runS (rest := []) (n := 3) X [.long ((s).toInt64), .long (lN (0)), .long ((7))] m_X4_in dX4_row_6 (lw_S q1541 q1542 q70 q1543) hs_X4_in rfl ⟨Nat.le_of_ble_eq_true rfl, Nat.le_of_ble_eq_true rfl⟩ ⟨by omega, by omega⟩ rfl (Nat.le_of_ble_eq_true rfl)) ?_
  refine z_if_eq (tgt := 36) X dX4_row_9 (by decide) bI_d (fun c1 => ?_) (fun c1 => ?_)
  · have e1 : rgb 0 7 s = none := rgb_f (fun q => c1 ((in32 (lo := nI 0) (hi := nI 7)).mpr q))
    refine z_aload_n X dX4_row_36 rfl 0 rfl ?_
    refine z_bipush (v := (-2)) X dX4_row_37 (by decide) ?_
    refine z_ci (z_runV (rest := []) (n := 1) X [.int ((-2))] (m_X4_refuse hM (k := 2) (by decide) (v := (-2)) rfl) dX4_row_39 (mm_o hM) rfl (lw_V q1546 q1548 qs27 q70 q1549) hv_X4_refuse rfl ⟨Nat.le_of_ble_eq_true rfl, Nat.le_of_ble_eq_true rfl⟩ ⟨by omega, by omega⟩ rfl (Nat.le_of_ble_eq_true rfl)) (fun r2 w4 h3 => ?_)
    obtain ⟨hM3, r2e⟩ := h3
    rw [r2e]
    have hT3 := MT.ref hT (k := 2) (by decide)
    have e : spRow o s k n = ((-2), oRef o 2) := by
      unfold spRow
      repeat (first | rw [el_some (by assumption)] | rw [el_none (by assumption)] | rw [if_pos (by omega)] | rw [if_neg (by omega)] | rw [if_pos (by assumption)] | rw [if_neg (ts_n (by assumption))])
      all_goals first | rfl | (exfalso; omega)
    exact z_iret X dX4_row_42 (by omega) (by omega) ⟨_, rfl, (by rw [e]; exact ⟨_, hM3, hT3, rfl⟩)⟩
  · have c1 := Classical.not_not.mp c1
    obtain ⟨sN, sNl, sNh, rfl, e2⟩ := rgb_t (lo := 0) (hi := 7) (by decide) (by decide) ((in32 (lo := nI 0) (hi := nI 7)).mp c1)
    refine z_iload_n X dX4_row_12 rfl 2 rfl ?_
    refine z_i2l (v := (k).toInt64) X dX4_row_13 rfl ?_
    refine z_lconst (v := lN 0) X dX4_row_14 cl0 ?_
    refine z_ldc2 X dX4_row_15 q1544 ?_
    refine z_cip (z_runS (rest := []) (n := 3) X [.long ((k).toInt64), .long (lN (0)), .long ((4))] m_X4_in dX4_row_18 (lw_S q1541 q1542 q70 q1543) hs_X4_in rfl ⟨Nat.le_of_ble_eq_true rfl, Nat.le_of_ble_eq_true rfl⟩ ⟨by omega, by omega⟩ rfl (Nat.le_of_ble_eq_true rfl)) ?_
    refine z_if_eq (tgt := 36) X dX4_row_21 (by decide) bI_d (fun c5 => ?_) (fun c5 => ?_)
    · have e3 : rgb 0 4 k = none := rgb_f (fun q => c5 ((in32 (lo := nI 0) (hi := nI 4)).mpr q))
      refine z_aload_n X dX4_row_36 rfl 0 rfl ?_
      refine z_bipush (v := (-2)) X dX4_row_37 (by decide) ?_
      refine z_ci (z_runV (rest := []) (n := 1) X [.int ((-2))] (m_X4_refuse hM (k := 2) (by decide) (v := (-2)) rfl) dX4_row_39 (mm_o hM) rfl (lw_V q1546 q1548 qs27 q70 q1549) hv_X4_refuse rfl ⟨Nat.le_of_ble_eq_true rfl, Nat.le_of_ble_eq_true rfl⟩ ⟨by omega, by omega⟩ rfl (Nat.le_of_ble_eq_true rfl)) (fun r6 w8 h7 => ?_)
      obtain ⟨hM7, r6e⟩ := h7
      rw [r6e]
      have hT7 := MT.ref hT (k := 2) (by decide)
      have e : spRow o (nI sN) k n = ((-2), oRef o 2) := by
        unfold spRow
        repeat (first | rw [el_some (by assumption)] | rw [el_none (by assumption)] | rw [if_pos (by omega)] | rw [if_neg (by omega)] | rw [if_pos (by assumption)] | rw [if_neg (ts_n (by assumption))])
        all_goals first | rfl | (exfalso; omega)
      exact z_iret X dX4_row_42 (by omega) (by omega) ⟨_, rfl, (by rw [e]; exact ⟨_, hM7, hT7, rfl⟩)⟩
    · have c5 := Classical.not_not.mp c5
      obtain ⟨kN, kNl, kNh, rfl, e4⟩ := rgb_t (lo := 0) (hi := 4) (by decide) (by decide) ((in32 (lo := nI 0) (hi := nI 4)).mp c5)
      refine z_iload_n X dX4_row_24 rfl 3 rfl ?_
      refine z_i2l (v := (n).toInt64) X dX4_row_25 rfl ?_
      refine z_lconst (v := lN 0) X dX4_row_26 cl0 ?_
      refine z_ldc2 X dX4_row_27 q1545 ?_
      refine z_cip (z_runS (rest := []) (n := 3) X [.long ((n).toInt64), .long (lN (0)), .long ((40))] m_X4_in dX4_row_30 (lw_S q1541 q1542 q70 q1543) hs_X4_in rfl ⟨Nat.le_of_ble_eq_true rfl, Nat.le_of_ble_eq_true rfl⟩ ⟨by omega, by omega⟩ rfl (Nat.le_of_ble_eq_true rfl)) ?_
      refine z_if_ne (tgt := 43) X dX4_row_33 (by decide) bI_d (fun c9 => ?_) (fun c9 => ?_)
      · have c9 := Classical.not_not.mp c9
        obtain ⟨nN, nNl, nNh, rfl, e5⟩ := rgb_t (lo := 0) (hi := 40) (by decide) (by decide) ((in32 (lo := nI 0) (hi := nI 40)).mp c9)
        refine z_aload_n X dX4_row_43 rfl 0 rfl ?_
        refine z_mg0 X hM dX4_row_44 ?_
        refine z_iload_n X dX4_row_47 rfl 1 rfl ?_
        refine z_iconst (v := nI (1)) X dX4_row_48 ci1 ?_
        refine z_mst (n := 8) (j := sN) X hM 1 dX4_row_49 rfl rfl rfl (by omega) (by omega) (fun u10 hM10 => ?_)
        refine z_aload_n X dX4_row_50 rfl 0 rfl ?_
        refine z_mg1 X hM10 dX4_row_51 ?_
        refine z_iload_n X dX4_row_54 rfl 1 rfl ?_
        refine z_iload_n X dX4_row_55 rfl 2 rfl ?_
        refine z_mst (n := 8) (j := sN) X hM10 2 dX4_row_56 rfl rfl rfl (by omega) (by omega) (fun u11 hM11 => ?_)
        refine z_aload_n X dX4_row_57 rfl 0 rfl ?_
        refine z_mg2 X hM11 dX4_row_58 ?_
        refine z_iload_n X dX4_row_61 rfl 1 rfl ?_
        refine z_iload_n X dX4_row_62 rfl 3 rfl ?_
        refine z_mst (n := 8) (j := sN) X hM11 3 dX4_row_63 rfl rfl rfl (by omega) (by omega) (fun u12 hM12 => ?_)
        refine z_iconst (v := nI (0)) X dX4_row_64 ci0 ?_
        refine z_istore (lv2 := [(4, .int (nI (0))), (0, .ref (ad 0)), (1, .int (nI (sN))), (2, .int (nI (kN))), (3, .int (nI (nN)))]) X dX4_row_65 (Nat.le_of_ble_eq_true rfl) rfl ?_
        have lr : ∀ (lq i : Nat) (w2 : GW) (m2 : MSt), i + lq = 40 → MM G wb w2 ad m2 → m2.1 = (mI (mI (mI m 1 sN (nI (1))) 2 sN (nI (kN))) 3 sN (nI (nN))).1 → m2.2.2 = (mI (mI (mI m 1 sN (nI (1))) 2 sN (nI (kN))) 3 sN (nI (nN))).2.2 → (∀ c, c ≠ 40 + sN → m2.2.1 c = (mI (mI (mI m 1 sN (nI (1))) 2 sN (nI (kN))) 3 sN (nI (nN))).2.1 c) → (∀ j, j < i → m2.2.1 (40 + sN) j = 0) → Z κ w2 [(4, .int (nI (i))), (1, .int (nI (sN))), (2, .int (nI (kN))), (3, .int (nI (nN))), (0, .ref (ad 0))] 0 0 67 [] := by
          intro lq
          induction lq with
          | zero =>
            intro i w2 m2 lh hM2 r1 r2 r3 r4
            obtain rfl : i = 40 := by omega
            refine z_iload X dX4_row_67 0 rfl ?_
            refine z_bipush (v := nI (40)) X dX4_row_69 (by decide) ?_
            refine z_icmp_ge_t (tgt := 90) X dX4_row_71 (by decide) ((nI_leI (by omega) (by omega)).mpr (by omega)) ?_
            refine z_iconst (v := nI (1)) X dX4_row_90 ci1 ?_
            have hT2 : MT (setRow o sN kN nN) m2 := hT.row (by omega) r1 (fun t ht i hi => by
              by_cases q : t = sN
              · subst q; rw [if_pos rfl]; exact r4 i hi
              · rw [if_neg q, r3 _ (by omega)]; rfl) (by rw [r2]; rfl)
            have e : spRow o (nI sN) (nI kN) (nI nN) = (nI (1), setRow o sN kN nN) := by
              unfold spRow
              repeat (first | rw [el_some (by assumption)] | rw [el_none (by assumption)] | rw [if_pos (by omega)] | rw [if_neg (by omega)] | rw [if_pos (by assumption)] | rw [if_neg (ts_n (by assumption))])
              all_goals first | rfl | (exfalso; omega)
            exact z_iret X dX4_row_91 (by omega) (by omega) ⟨_, rfl, (by rw [e]; exact ⟨_, hM2, hT2, rfl⟩)⟩
          | succ lq ih =>
            intro i w2 m2 lh hM2 r1 r2 r3 r4
            refine z_iload X dX4_row_67 0 rfl ?_
            refine z_bipush (v := nI (40)) X dX4_row_69 (by decide) ?_
            refine z_icmp_ge_f (tgt := 90) X dX4_row_71 (by decide) (fun h => absurd ((nI_leI (by omega) (by omega)).mp h) (by omega)) ?_
            refine z_aload_n X dX4_row_74 rfl 4 rfl ?_
            refine z_mg3 X hM2 dX4_row_75 ?_
            refine z_iload_n X dX4_row_78 rfl 1 rfl ?_
            refine z_aN6 (v := .ref (ad (40 + sN))) X dX4_row_79 (mm_4 hM2) (by omega) (by omega) rfl ?_
            refine z_iload X dX4_row_80 0 rfl ?_
            refine z_lconst (v := lN 0) X dX4_row_82 cl0 ?_
            refine z_mstL (n := 40) (j := i) X hM2 (40 + sN) dX4_row_83 (mP_40 (by omega)) (mK_40 (by omega)) (mLen_40 (by omega)) (by omega) (by omega) (fun u13 hM13 => ?_)
            refine z_iinc (v := nI (i + 1)) (lv2 := [(4, .int (nI (i + 1))), (1, .int (nI (sN))), (2, .int (nI (kN))), (3, .int (nI (nN))), (0, .ref (ad 0))]) X dX4_row_84 0 rfl (nI_1 _) (Nat.le_of_ble_eq_true rfl) rfl ?_
            refine z_goto (tgt := 67) X dX4_row_87 (by decide) ?_
            exact ih (i + 1) _ _ (by omega) hM13 r1 r2 (fun c hc => (mL_oth hc).trans (r3 c hc)) (mL_row (p := fun _ x => x = 0) r4 rfl)
        refine Z.lv [0, 2, 3, 4, 1] rfl ?_
        exact lr 40 0 u12 (mI (mI (mI m 1 sN (nI (1))) 2 sN (nI (kN))) 3 sN (nI (nN))) (by omega) hM12 rfl rfl (fun _ _ => rfl) (fun j hj => absurd hj (by omega))
      · have e6 : rgb 0 40 n = none := rgb_f (fun q => c9 ((in32 (lo := nI 0) (hi := nI 40)).mpr q))
        refine z_aload_n X dX4_row_36 rfl 0 rfl ?_
        refine z_bipush (v := (-2)) X dX4_row_37 (by decide) ?_
        refine z_ci (z_runV (rest := []) (n := 1) X [.int ((-2))] (m_X4_refuse hM (k := 2) (by decide) (v := (-2)) rfl) dX4_row_39 (mm_o hM) rfl (lw_V q1546 q1548 qs27 q70 q1549) hv_X4_refuse rfl ⟨Nat.le_of_ble_eq_true rfl, Nat.le_of_ble_eq_true rfl⟩ ⟨by omega, by omega⟩ rfl (Nat.le_of_ble_eq_true rfl)) (fun r14 w16 h15 => ?_)
        obtain ⟨hM15, r14e⟩ := h15
        rw [r14e]
        have hT15 := MT.ref hT (k := 2) (by decide)
        have e : spRow o (nI sN) (nI kN) n = ((-2), oRef o 2) := by
          unfold spRow
          repeat (first | rw [el_some (by assumption)] | rw [el_none (by assumption)] | rw [if_pos (by omega)] | rw [if_neg (by omega)] | rw [if_pos (by assumption)] | rw [if_neg (ts_n (by assumption))])
          all_goals first | rfl | (exfalso; omega)
        exact z_iret X dX4_row_42 (by omega) (by omega) ⟨_, rfl, (by rw [e]; exact ⟨_, hM15, hT15, rfl⟩)⟩
