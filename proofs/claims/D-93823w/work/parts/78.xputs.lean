/-! x: A STORE INTO A ROW; Refused, Fault; rowIn -/
set_option maxRecDepth 100000
def rowSt (f : Nat → Int64) (i : Nat) (x : Int64) : Nat → Int64 := fun t => if t = i then x else f t
theorem nar_b (y : Int8) : vp_nar .byte y.toInt32 = y.toInt32 := by
  show y.toInt32.toInt8.toInt32 = y.toInt32
  simp
theorem nar_s (y : Int16) : vp_nar .short y.toInt32 = y.toInt32 := by
  show y.toInt32.toInt16.toInt32 = y.toInt32
  simp
theorem row_fun {f : Nat → Int64} {i : Nat} {x : Int64} {y : Int32} (h : y = x.toInt32) : upd (fun j => (f j).toInt32) i y = fun j => (rowSt f i x j).toInt32 := by
  funext j
  by_cases hj : j = i
  · subst hj; simp [upd, rowSt, h]
  · simp [upd, rowSt, hj]
theorem row_funL {f : Nat → Int64} {i : Nat} {x : Int64} : vp_updL f i x = rowSt f i x := by
  funext j
  by_cases hj : j = i
  · subst hj; simp [vp_updL, rowSt]
  · simp [vp_updL, rowSt, hj]
theorem rst_0 {G : GG} {n i : Nat} {f : Nat → Int64} {v : Int64} : (Sum.inl (G.2.1 2, n, .inl (upd (fun j => (f j).toInt32) i (vp_nar .byte v.toInt32.toInt8.toInt32))) : va_E) = rowE G 0 n (rowSt f i (fitV 0 v)) := by
  rw [nar_b, row_fun (x := fitV 0 v) (i64_i32 _).symm]; rfl
theorem rst_1 {G : GG} {n i : Nat} {f : Nat → Int64} {v : Int64} : (Sum.inl (G.2.1 3, n, .inl (upd (fun j => (f j).toInt32) i (vp_nar .short v.toInt32.toInt16.toInt32))) : va_E) = rowE G 1 n (rowSt f i (fitV 1 v)) := by
  rw [nar_s, row_fun (x := fitV 1 v) (i64_i32 _).symm]; rfl
theorem rst_2 {G : GG} {n i : Nat} {f : Nat → Int64} {v : Int64} : (Sum.inl (G.2.1 0, n, .inl (upd (fun j => (f j).toInt32) i v.toInt32)) : va_E) = rowE G 2 n (rowSt f i (fitV 2 v)) := by
  rw [row_fun (x := fitV 2 v) (i64_i32 _).symm]; rfl
theorem rst_3 {G : GG} {n i : Nat} {f : Nat → Int64} {v : Int64} : (Sum.inl (G.2.1 1, n, .inr (.inl (vp_updL f i v))) : va_E) = rowE G 3 n (rowSt f i (fitV 3 v)) := by
  rw [row_funL]; rfl
theorem rst_4z {G : GG} {n i : Nat} {f : Nat → Int64} {v : Int64} (h : v = lN 0) : (Sum.inl (G.2.1 4, n, .inl (upd (fun j => (f j).toInt32) i (vp_nar .boolean (nI 0)))) : va_E) = rowE G 4 n (rowSt f i (fitV 4 v)) := by
  have e : fitV 4 v = 0 := by rw [h]; rfl
  rw [e, row_fun (x := 0) (by decide)]; rfl
theorem rst_4n {G : GG} {n i : Nat} {f : Nat → Int64} {v : Int64} (h : ¬ v = lN 0) : (Sum.inl (G.2.1 4, n, .inl (upd (fun j => (f j).toInt32) i (vp_nar .boolean (nI 1)))) : va_E) = rowE G 4 n (rowSt f i (fitV 4 v)) := by
  have e : fitV 4 v = 1 := by
    show (if v = 0 then (0 : Int64) else 1) = 1
    exact if_neg h
  rw [e, row_fun (x := 1) (by decide)]; rfl
theorem fitV_fitV (k : Nat) (hk : k ≤ 4) (v : Int64) : fitV k (fitV k v) = fitV k v := by
  rcases (show k = 0 ∨ k = 1 ∨ k = 2 ∨ k = 3 ∨ k = 4 by omega) with rfl | rfl | rfl | rfl | rfl
  · show ((v.toInt32.toInt8.toInt32.toInt64).toInt32.toInt8.toInt32.toInt64) = v.toInt32.toInt8.toInt32.toInt64
    rw [i64_i32]; simp
  · show ((v.toInt32.toInt16.toInt32.toInt64).toInt32.toInt16.toInt32.toInt64) = v.toInt32.toInt16.toInt32.toInt64
    rw [i64_i32]; simp
  · show (v.toInt32.toInt64).toInt32.toInt64 = v.toInt32.toInt64
    rw [i64_i32]
  · rfl
  · show (if (if v = 0 then (0 : Int64) else 1) = 0 then (0 : Int64) else 1) = if v = 0 then 0 else 1
    by_cases h : v = 0
    · rw [if_pos h]; rfl
    · rw [if_neg h]; rfl
theorem rowOk.st {k n i : Nat} {f : Nat → Int64} (hk : k ≤ 4) (h : rowOk k n f) (v : Int64) : rowOk k n (rowSt f i (fitV k v)) := by
  intro j hj
  unfold rowSt
  by_cases hji : j = i
  · rw [if_pos hji]; exact fitV_fitV k hk v
  · rw [if_neg hji]; exact h j hj
set_option maxHeartbeats 2000000 in
theorem m_X0_puts_0 {l : Launch} {G : GG} (hl : l.stackTraces = false) {w : GW} {q n : Nat} {f : Nat → Int64} (hR : w q = some (rowE G 0 n f)) (hn : n ≤ 40) {i : Int32} {v : Int64} : gMX l G yX0_puts (ws_ yX0_puts cX0_puts 4 none) 165 3 222 [.ref (q), .int (i), .long (v)] w (pV (fun w1 => vp_in i n ∧ w1 = gu w q (rowE G 0 n (rowSt f i.toNatClampNeg (fitV 0 v))))) (fun E x w1 => E = "java/lang/ArrayIndexOutOfBoundsException" ∧ ¬ vp_in i n ∧ w1 = w) := by
  refine Z.metX (own := "ThreeSizes") (nm := "puts") (lv := [(0, .ref (q)), (1, .int (i)), (2, .long (v))]) (by decide) rfl rfl (Nat.le_of_ble_eq_true rfl) rfl (fun κ X Y V0 => ?_)
  have V := V0 hl
  refine z_aload_n X dX0_puts_0 rfl 0 rfl ?_
  refine z_cip (z_runS (rest := []) (n := 1) X [.ref (q)] (m_X0_sortOf_0 (n := n) (f := f) hR) dX0_puts_1 (lw_S q418 q419 q66 q420) hs_X0_sortOf rfl ⟨Nat.le_of_ble_eq_true rfl, Nat.le_of_ble_eq_true rfl⟩ ⟨by omega, by omega⟩ rfl (Nat.le_of_ble_eq_true rfl)) ?_
  refine z_tabIn (off := 32) (tgt := 36) X dX0_puts_4 (by decide) (by decide) (by decide) (by decide) ?_
  refine z_aload_n X dX0_puts_36 rfl 0 rfl ?_
  refine z_castE X (Is.arr X (show w q = some (.inl (G.2.1 2, n, .inl (fun j => (f j).toInt32))) from hR) (fun _ h => nmA_byte h)) dX0_puts_37 q421 ?_
  refine z_iload_n X dX0_puts_40 rfl 1 rfl ?_
  refine z_lload_n X dX0_puts_41 rfl 2 rfl ?_
  refine z_l2i (v := (v).toInt32) X dX0_puts_42 rfl ?_
  refine z_i2b (v := ((v).toInt32).toInt8.toInt32) X dX0_puts_43 rfl ?_
  by_cases c1 : vp_in (i) (n)
  · have hin9 := c1
    refine z_bast X dX0_puts_44 (show w q = some (.inl (G.2.1 2, n, .inl (fun j => (f j).toInt32))) from hR) c1 ?_
    refine z_goto (tgt := 98) X dX0_puts_45 (by decide) ?_
    exact z_vret X dX0_puts_98 (by omega) (by omega) ⟨rfl, hin9, congrArg (gu w q) rst_0⟩
  · have hout9 := c1
    refine zt_bastZ X V dX0_puts_44 (show w q = some (.inl (G.2.1 2, n, .inl (fun j => (f j).toInt32))) from hR) c1 (by omega) (Nat.le_of_ble_eq_true rfl) (by omega) ⟨(by omega), (by omega)⟩ (fun q2 => ?_)
    exact zt_out X Y zp_n ⟨rfl, hout9, rfl⟩ ⟨by omega, by omega⟩
set_option maxHeartbeats 2000000 in
theorem m_X0_puts_1 {l : Launch} {G : GG} (hl : l.stackTraces = false) {w : GW} {q n : Nat} {f : Nat → Int64} (hR : w q = some (rowE G 1 n f)) (hn : n ≤ 40) {i : Int32} {v : Int64} : gMX l G yX0_puts (ws_ yX0_puts cX0_puts 4 none) 165 3 222 [.ref (q), .int (i), .long (v)] w (pV (fun w1 => vp_in i n ∧ w1 = gu w q (rowE G 1 n (rowSt f i.toNatClampNeg (fitV 1 v))))) (fun E x w1 => E = "java/lang/ArrayIndexOutOfBoundsException" ∧ ¬ vp_in i n ∧ w1 = w) := by
  refine Z.metX (own := "ThreeSizes") (nm := "puts") (lv := [(0, .ref (q)), (1, .int (i)), (2, .long (v))]) (by decide) rfl rfl (Nat.le_of_ble_eq_true rfl) rfl (fun κ X Y V0 => ?_)
  have V := V0 hl
  refine z_aload_n X dX0_puts_0 rfl 0 rfl ?_
  refine z_cip (z_runS (rest := []) (n := 1) X [.ref (q)] (m_X0_sortOf_1 (n := n) (f := f) hR) dX0_puts_1 (lw_S q418 q419 q66 q420) hs_X0_sortOf rfl ⟨Nat.le_of_ble_eq_true rfl, Nat.le_of_ble_eq_true rfl⟩ ⟨by omega, by omega⟩ rfl (Nat.le_of_ble_eq_true rfl)) ?_
  refine z_tabIn (off := 44) (tgt := 48) X dX0_puts_4 (by decide) (by decide) (by decide) (by decide) ?_
  refine z_aload_n X dX0_puts_48 rfl 0 rfl ?_
  refine z_castE X (Is.arr X (show w q = some (.inl (G.2.1 3, n, .inl (fun j => (f j).toInt32))) from hR) (fun _ h => nmA_short h)) dX0_puts_49 q422 ?_
  refine z_iload_n X dX0_puts_52 rfl 1 rfl ?_
  refine z_lload_n X dX0_puts_53 rfl 2 rfl ?_
  refine z_l2i (v := (v).toInt32) X dX0_puts_54 rfl ?_
  refine z_i2s (v := ((v).toInt32).toInt16.toInt32) X dX0_puts_55 rfl ?_
  by_cases c1 : vp_in (i) (n)
  · have hin9 := c1
    refine z_sast X dX0_puts_56 (show w q = some (.inl (G.2.1 3, n, .inl (fun j => (f j).toInt32))) from hR) c1 ?_
    refine z_goto (tgt := 98) X dX0_puts_57 (by decide) ?_
    exact z_vret X dX0_puts_98 (by omega) (by omega) ⟨rfl, hin9, congrArg (gu w q) rst_1⟩
  · have hout9 := c1
    refine zt_sastZ X V dX0_puts_56 (show w q = some (.inl (G.2.1 3, n, .inl (fun j => (f j).toInt32))) from hR) c1 (by omega) (Nat.le_of_ble_eq_true rfl) (by omega) ⟨(by omega), (by omega)⟩ (fun q2 => ?_)
    exact zt_out X Y zp_n ⟨rfl, hout9, rfl⟩ ⟨by omega, by omega⟩
set_option maxHeartbeats 2000000 in
theorem m_X0_puts_2 {l : Launch} {G : GG} (hl : l.stackTraces = false) {w : GW} {q n : Nat} {f : Nat → Int64} (hR : w q = some (rowE G 2 n f)) (hn : n ≤ 40) {i : Int32} {v : Int64} : gMX l G yX0_puts (ws_ yX0_puts cX0_puts 4 none) 165 3 222 [.ref (q), .int (i), .long (v)] w (pV (fun w1 => vp_in i n ∧ w1 = gu w q (rowE G 2 n (rowSt f i.toNatClampNeg (fitV 2 v))))) (fun E x w1 => E = "java/lang/ArrayIndexOutOfBoundsException" ∧ ¬ vp_in i n ∧ w1 = w) := by
  refine Z.metX (own := "ThreeSizes") (nm := "puts") (lv := [(0, .ref (q)), (1, .int (i)), (2, .long (v))]) (by decide) rfl rfl (Nat.le_of_ble_eq_true rfl) rfl (fun κ X Y V0 => ?_)
  have V := V0 hl
  refine z_aload_n X dX0_puts_0 rfl 0 rfl ?_
  refine z_cip (z_runS (rest := []) (n := 1) X [.ref (q)] (m_X0_sortOf_2 (n := n) (f := f) hR) dX0_puts_1 (lw_S q418 q419 q66 q420) hs_X0_sortOf rfl ⟨Nat.le_of_ble_eq_true rfl, Nat.le_of_ble_eq_true rfl⟩ ⟨by omega, by omega⟩ rfl (Nat.le_of_ble_eq_true rfl)) ?_
  refine z_tabIn (off := 56) (tgt := 60) X dX0_puts_4 (by decide) (by decide) (by decide) (by decide) ?_
  refine z_aload_n X dX0_puts_60 rfl 0 rfl ?_
  refine z_castE X (Is.arr X (show w q = some (.inl (G.2.1 0, n, .inl (fun j => (f j).toInt32))) from hR) (fun _ h => nmA_int h)) dX0_puts_61 q423 ?_
  refine z_iload_n X dX0_puts_64 rfl 1 rfl ?_
  refine z_lload_n X dX0_puts_65 rfl 2 rfl ?_
  refine z_l2i (v := (v).toInt32) X dX0_puts_66 rfl ?_
  by_cases c1 : vp_in (i) (n)
  · have hin9 := c1
    refine z_iast X dX0_puts_67 (show w q = some (.inl (G.2.1 0, n, .inl (fun j => (f j).toInt32))) from hR) c1 ?_
    refine z_goto (tgt := 98) X dX0_puts_68 (by decide) ?_
    exact z_vret X dX0_puts_98 (by omega) (by omega) ⟨rfl, hin9, congrArg (gu w q) rst_2⟩
  · have hout9 := c1
    refine zt_iastZ X V dX0_puts_67 (show w q = some (.inl (G.2.1 0, n, .inl (fun j => (f j).toInt32))) from hR) c1 (by omega) (Nat.le_of_ble_eq_true rfl) (by omega) ⟨(by omega), (by omega)⟩ (fun q2 => ?_)
    exact zt_out X Y zp_n ⟨rfl, hout9, rfl⟩ ⟨by omega, by omega⟩
set_option maxHeartbeats 2000000 in
theorem m_X0_puts_3 {l : Launch} {G : GG} (hl : l.stackTraces = false) {w : GW} {q n : Nat} {f : Nat → Int64} (hR : w q = some (rowE G 3 n f)) (hn : n ≤ 40) {i : Int32} {v : Int64} : gMX l G yX0_puts (ws_ yX0_puts cX0_puts 4 none) 165 3 222 [.ref (q), .int (i), .long (v)] w (pV (fun w1 => vp_in i n ∧ w1 = gu w q (rowE G 3 n (rowSt f i.toNatClampNeg (fitV 3 v))))) (fun E x w1 => E = "java/lang/ArrayIndexOutOfBoundsException" ∧ ¬ vp_in i n ∧ w1 = w) := by
  refine Z.metX (own := "ThreeSizes") (nm := "puts") (lv := [(0, .ref (q)), (1, .int (i)), (2, .long (v))]) (by decide) rfl rfl (Nat.le_of_ble_eq_true rfl) rfl (fun κ X Y V0 => ?_)
  have V := V0 hl
  refine z_aload_n X dX0_puts_0 rfl 0 rfl ?_
  refine z_cip (z_runS (rest := []) (n := 1) X [.ref (q)] (m_X0_sortOf_3 (n := n) (f := f) hR) dX0_puts_1 (lw_S q418 q419 q66 q420) hs_X0_sortOf rfl ⟨Nat.le_of_ble_eq_true rfl, Nat.le_of_ble_eq_true rfl⟩ ⟨by omega, by omega⟩ rfl (Nat.le_of_ble_eq_true rfl)) ?_
  refine z_tabIn (off := 67) (tgt := 71) X dX0_puts_4 (by decide) (by decide) (by decide) (by decide) ?_
  refine z_aload_n X dX0_puts_71 rfl 0 rfl ?_
  refine z_castE X (Is.arr X (show w q = some (.inl (G.2.1 1, n, .inr (.inl f))) from hR) (fun _ h => nmA_long h)) dX0_puts_72 q424 ?_
  refine z_iload_n X dX0_puts_75 rfl 1 rfl ?_
  refine z_lload_n X dX0_puts_76 rfl 2 rfl ?_
  by_cases c1 : vp_in (i) (n)
  · have hin9 := c1
    refine z_last X dX0_puts_77 (show w q = some (.inl (G.2.1 1, n, .inr (.inl f))) from hR) c1 ?_
    refine z_goto (tgt := 98) X dX0_puts_78 (by decide) ?_
    exact z_vret X dX0_puts_98 (by omega) (by omega) ⟨rfl, hin9, congrArg (gu w q) rst_3⟩
  · have hout9 := c1
    refine zt_lastZ X V dX0_puts_77 (show w q = some (.inl (G.2.1 1, n, .inr (.inl f))) from hR) c1 (by omega) (Nat.le_of_ble_eq_true rfl) (by omega) ⟨(by omega), (by omega)⟩ (fun q2 => ?_)
    exact zt_out X Y zp_n ⟨rfl, hout9, rfl⟩ ⟨by omega, by omega⟩
set_option maxHeartbeats 2000000 in
theorem m_X0_puts_4 {l : Launch} {G : GG} (hl : l.stackTraces = false) {w : GW} {q n : Nat} {f : Nat → Int64} (hR : w q = some (rowE G 4 n f)) (hn : n ≤ 40) {i : Int32} {v : Int64} : gMX l G yX0_puts (ws_ yX0_puts cX0_puts 4 none) 165 3 222 [.ref (q), .int (i), .long (v)] w (pV (fun w1 => vp_in i n ∧ w1 = gu w q (rowE G 4 n (rowSt f i.toNatClampNeg (fitV 4 v))))) (fun E x w1 => E = "java/lang/ArrayIndexOutOfBoundsException" ∧ ¬ vp_in i n ∧ w1 = w) := by
  refine Z.metX (own := "ThreeSizes") (nm := "puts") (lv := [(0, .ref (q)), (1, .int (i)), (2, .long (v))]) (by decide) rfl rfl (Nat.le_of_ble_eq_true rfl) rfl (fun κ X Y V0 => ?_)
  have V := V0 hl
  refine z_aload_n X dX0_puts_0 rfl 0 rfl ?_
  refine z_cip (z_runS (rest := []) (n := 1) X [.ref (q)] (m_X0_sortOf_4 (n := n) (f := f) hR) dX0_puts_1 (lw_S q418 q419 q66 q420) hs_X0_sortOf rfl ⟨Nat.le_of_ble_eq_true rfl, Nat.le_of_ble_eq_true rfl⟩ ⟨by omega, by omega⟩ rfl (Nat.le_of_ble_eq_true rfl)) ?_
  refine z_tabOut (tgt := 81) X dX0_puts_4 (by decide) (by decide) ?_
  refine z_aload_n X dX0_puts_81 rfl 0 rfl ?_
  refine z_castE X (Is.arr X (show w q = some (.inl (G.2.1 4, n, .inl (fun j => (f j).toInt32))) from hR) (fun _ h => nmA_bool h)) dX0_puts_82 q425 ?_
  refine z_iload_n X dX0_puts_85 rfl 1 rfl ?_
  refine z_lload_n X dX0_puts_86 rfl 2 rfl ?_
  refine z_lconst (v := lN 0) X dX0_puts_87 cl0 ?_
  refine z_lcmp (v := lg_cmp (v) (lN (0))) X dX0_puts_88 rfl ?_
  refine z_if_eq (tgt := 96) X dX0_puts_89 (by decide) (lg_cmp_eq _ _) (fun c1 => ?_) (fun c1 => ?_)
  · refine z_iconst (v := nI (0)) X dX0_puts_96 ci0 ?_
    by_cases c2 : vp_in (i) (n)
    · have hin9 := c2
      refine z_zast X dX0_puts_97 (show w q = some (.inl (G.2.1 4, n, .inl (fun j => (f j).toInt32))) from hR) c2 ?_
      exact z_vret X dX0_puts_98 (by omega) (by omega) ⟨rfl, hin9, congrArg (gu w q) (rst_4z (by assumption))⟩
    · have hout9 := c2
      refine zt_zastZ X V dX0_puts_97 (show w q = some (.inl (G.2.1 4, n, .inl (fun j => (f j).toInt32))) from hR) c2 (by omega) (Nat.le_of_ble_eq_true rfl) (by omega) ⟨(by omega), (by omega)⟩ (fun q3 => ?_)
      exact zt_out X Y zp_n ⟨rfl, hout9, rfl⟩ ⟨by omega, by omega⟩
  · refine z_iconst (v := nI (1)) X dX0_puts_92 ci1 ?_
    refine z_goto (tgt := 97) X dX0_puts_93 (by decide) ?_
    by_cases c4 : vp_in (i) (n)
    · have hin9 := c4
      refine z_zast X dX0_puts_97 (show w q = some (.inl (G.2.1 4, n, .inl (fun j => (f j).toInt32))) from hR) c4 ?_
      exact z_vret X dX0_puts_98 (by omega) (by omega) ⟨rfl, hin9, congrArg (gu w q) (rst_4n (by assumption))⟩
    · have hout9 := c4
      refine zt_zastZ X V dX0_puts_97 (show w q = some (.inl (G.2.1 4, n, .inl (fun j => (f j).toInt32))) from hR) c4 (by omega) (Nat.le_of_ble_eq_true rfl) (by omega) ⟨(by omega), (by omega)⟩ (fun q5 => ?_)
      exact zt_out X Y zp_n ⟨rfl, hout9, rfl⟩ ⟨by omega, by omega⟩
theorem m_X0_puts {l : Launch} {G : GG} (hl : l.stackTraces = false) {w : GW} {q k n : Nat} {f : Nat → Int64} (hk : k ≤ 4) (hR : w q = some (rowE G k n f)) (hn : n ≤ 40) {i : Int32} {v : Int64} : gMX l G yX0_puts (ws_ yX0_puts cX0_puts 4 none) 165 3 222 [.ref (q), .int (i), .long (v)] w (pV (fun w1 => vp_in i n ∧ w1 = gu w q (rowE G k n (rowSt f i.toNatClampNeg (fitV k v))))) (fun E x w1 => E = "java/lang/ArrayIndexOutOfBoundsException" ∧ ¬ vp_in i n ∧ w1 = w) := by
  rcases (show k = 0 ∨ k = 1 ∨ k = 2 ∨ k = 3 ∨ k = 4 by omega) with rfl | rfl | rfl | rfl | rfl
  · exact m_X0_puts_0 hl hR hn
  · exact m_X0_puts_1 hl hR hn
  · exact m_X0_puts_2 hl hR hn
  · exact m_X0_puts_3 hl hR hn
  · exact m_X0_puts_4 hl hR hn
