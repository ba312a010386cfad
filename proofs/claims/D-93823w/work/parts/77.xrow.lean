/-! x: A ROW OF A SHELF: its sort, an element, a store -/
set_option maxRecDepth 100000
/-- a row of sort k, n long; as longs -/
def rowE (G : GG) (k n : Nat) (f : Nat → Int64) : va_E := if k = 3 then .inl (G.2.1 1, n, .inr (.inl f)) else .inl (G.2.1 (if k = 0 then 2 else if k = 1 then 3 else if k = 2 then 0 else 4), n, .inl (fun j => (f j).toInt32))
/-- each element is one of its sort -/
def rowOk (k n : Nat) (f : Nat → Int64) : Prop := ∀ j, j < n → fitV k (f j) = f j
theorem i64_i32 (x : Int32) : x.toInt64.toInt32 = x := by
  apply Int32.toInt_inj.mp
  rw [Int64.toInt_toInt32, Int32.toInt_toInt64]
  exact Int32.toInt_inj.mpr rfl ▸ Int.bmod_eq_of_le (by have := Int32.le_toInt x; omega) (by have := Int32.toInt_lt x; omega)
theorem fit_back {v : Int64} {x : Int32} (h : x.toInt64 = v) : v.toInt32.toInt64 = v := by rw [← h, i64_i32]
theorem el_0 {n : Nat} {f : Nat → Int64} (h : rowOk 0 n f) {j : Nat} (hj : j < n) : (f j).toInt32.toInt64 = f j := fit_back (h j hj)
theorem el_1 {n : Nat} {f : Nat → Int64} (h : rowOk 1 n f) {j : Nat} (hj : j < n) : (f j).toInt32.toInt64 = f j := fit_back (h j hj)
theorem el_2 {n : Nat} {f : Nat → Int64} (h : rowOk 2 n f) {j : Nat} (hj : j < n) : (f j).toInt32.toInt64 = f j := h j hj
theorem el_4 {n : Nat} {f : Nat → Int64} (h : rowOk 4 n f) {j : Nat} (hj : j < n) : f j = 0 ∨ f j = 1 := by
  have h1 : (if f j = 0 then (0 : Int64) else 1) = f j := h j hj
  by_cases h0 : f j = 0
  · exact Or.inl h0
  · rw [if_neg h0] at h1; exact Or.inr h1.symm
theorem el_4z {n : Nat} {f : Nat → Int64} (h : rowOk 4 n f) {j : Nat} (hj : j < n) (hz : (f j).toInt32 = 0) : lN 0 = f j := by
  rcases el_4 h hj with e | e
  · rw [e]; rfl
  · rw [e] at hz; exact absurd hz (by decide)
theorem el_4n {n : Nat} {f : Nat → Int64} (h : rowOk 4 n f) {j : Nat} (hj : j < n) (hz : ¬ (f j).toInt32 = 0) : lN 1 = f j := by
  rcases el_4 h hj with e | e
  · rw [e] at hz; exact absurd (by decide) hz
  · rw [e]; rfl
theorem vp_in_lt {i : Int32} {n : Nat} (h : vp_in i n) : i.toNatClampNeg < n := Nat.not_le.mp fun q => h (Or.inr q)

set_option maxHeartbeats 2000000 in
theorem m_X0_isShelf {l : Launch} {G : GG} {v : Int32} {w : GW} : gM l G yX0_isShelf cX0_isShelf 1 (some .boolean) 2 0 0 [.int (v)] w (pI (fun r w1 => r = bI (decide (nI 0 ≤ v ∧ v ≤ nI 7)) ∧ w1 = w)) := by
  refine Z.met (own := "ThreeSizes") (nm := "isShelf") (lv := [(0, .int (v))]) (by decide) rfl rfl (Nat.le_of_ble_eq_true rfl) rfl (fun κ X => ?_)
  refine z_iload_n X dX0_isShelf_0 rfl 0 rfl ?_
  refine z_iconst (v := nI (0)) X dX0_isShelf_1 ci0 ?_
  refine z_bipush (v := nI (7)) X dX0_isShelf_2 (by decide) ?_
  refine z_cip (z_runS (rest := []) (n := 3) X [.int (v), .int (nI (0)), .int (nI (7))] m_X0_isIn dX0_isShelf_4 (lw_S q347 q348 q66 q349) hs_X0_isIn rfl ⟨Nat.le_of_ble_eq_true rfl, Nat.le_of_ble_eq_true rfl⟩ ⟨by omega, by omega⟩ rfl (Nat.le_of_ble_eq_true rfl)) ?_
  exact z_zret X dX0_isShelf_7 (by omega) (by omega) bI_n ⟨_, rfl, ⟨rfl, rfl⟩⟩
set_option maxHeartbeats 2000000 in
theorem m_X0_isSize {l : Launch} {G : GG} {v : Int32} {w : GW} : gM l G yX0_isSize cX0_isSize 1 (some .boolean) 2 0 0 [.int (v)] w (pI (fun r w1 => r = bI (decide (nI 0 ≤ v ∧ v ≤ nI 2)) ∧ w1 = w)) := by
  refine Z.met (own := "ThreeSizes") (nm := "isSize") (lv := [(0, .int (v))]) (by decide) rfl rfl (Nat.le_of_ble_eq_true rfl) rfl (fun κ X => ?_)
  refine z_iload_n X dX0_isSize_0 rfl 0 rfl ?_
  refine z_iconst (v := nI (0)) X dX0_isSize_1 ci0 ?_
  refine z_iconst (v := nI (2)) X dX0_isSize_2 ci2 ?_
  refine z_cip (z_runS (rest := []) (n := 3) X [.int (v), .int (nI (0)), .int (nI (2))] m_X0_isIn dX0_isSize_3 (lw_S q347 q348 q66 q349) hs_X0_isIn rfl ⟨Nat.le_of_ble_eq_true rfl, Nat.le_of_ble_eq_true rfl⟩ ⟨by omega, by omega⟩ rfl (Nat.le_of_ble_eq_true rfl)) ?_
  exact z_zret X dX0_isSize_6 (by omega) (by omega) bI_n ⟨_, rfl, ⟨rfl, rfl⟩⟩
set_option maxHeartbeats 2000000 in
theorem m_X0_isHours {l : Launch} {G : GG} {v : Int32} {w : GW} : gM l G yX0_isHours cX0_isHours 1 (some .boolean) 2 0 0 [.int (v)] w (pI (fun r w1 => r = bI (decide (nI 0 ≤ v ∧ v ≤ nI 24)) ∧ w1 = w)) := by
  refine Z.met (own := "ThreeSizes") (nm := "isHours") (lv := [(0, .int (v))]) (by decide) rfl rfl (Nat.le_of_ble_eq_true rfl) rfl (fun κ X => ?_)
  refine z_iload_n X dX0_isHours_0 rfl 0 rfl ?_
  refine z_iconst (v := nI (0)) X dX0_isHours_1 ci0 ?_
  refine z_bipush (v := nI (24)) X dX0_isHours_2 (by decide) ?_
  refine z_cip (z_runS (rest := []) (n := 3) X [.int (v), .int (nI (0)), .int (nI (24))] m_X0_isIn dX0_isHours_4 (lw_S q347 q348 q66 q349) hs_X0_isIn rfl ⟨Nat.le_of_ble_eq_true rfl, Nat.le_of_ble_eq_true rfl⟩ ⟨by omega, by omega⟩ rfl (Nat.le_of_ble_eq_true rfl)) ?_
  exact z_zret X dX0_isHours_7 (by omega) (by omega) bI_n ⟨_, rfl, ⟨rfl, rfl⟩⟩
set_option maxHeartbeats 2000000 in
theorem m_X0_sortOf_0 {l : Launch} {G : GG} {w : GW} {q n : Nat} {f : Nat → Int64} (hR : w q = some (rowE G 0 n f)) : gM l G yX0_sortOf cX0_sortOf 1 (some .int) 1 0 0 [.ref (q)] w (pI (fun r w1 => r = nI 0 ∧ w1 = w)) := by
  refine Z.met (own := "ThreeSizes") (nm := "sortOf") (lv := [(0, .ref (q))]) (by decide) rfl rfl (Nat.le_of_ble_eq_true rfl) rfl (fun κ X => ?_)
  refine z_aload_n X dX0_sortOf_0 rfl 0 rfl ?_
  refine z_instE X (Is.arr X (show w q = some (.inl (G.2.1 2, n, .inl (fun j => (f j).toInt32))) from hR) (fun _ h => nmA_byte h)) dX0_sortOf_1 q421 ?_
  refine z_if_eq_f (tgt := 9) X dX0_sortOf_4 (by decide) (by decide) ?_
  refine z_iconst (v := nI (0)) X dX0_sortOf_7 ci0 ?_
  exact z_iret X dX0_sortOf_8 (by omega) (by omega) ⟨_, rfl, ⟨rfl, rfl⟩⟩
set_option maxHeartbeats 2000000 in
theorem m_X0_sortOf_1 {l : Launch} {G : GG} {w : GW} {q n : Nat} {f : Nat → Int64} (hR : w q = some (rowE G 1 n f)) : gM l G yX0_sortOf cX0_sortOf 1 (some .int) 1 0 0 [.ref (q)] w (pI (fun r w1 => r = nI 1 ∧ w1 = w)) := by
  refine Z.met (own := "ThreeSizes") (nm := "sortOf") (lv := [(0, .ref (q))]) (by decide) rfl rfl (Nat.le_of_ble_eq_true rfl) rfl (fun κ X => ?_)
  refine z_aload_n X dX0_sortOf_0 rfl 0 rfl ?_
  refine z_instNo X (Is.arr X (show w q = some (.inl (G.2.1 3, n, .inl (fun j => (f j).toInt32))) from hR) (fun _ h => nmA_short h)) dX0_sortOf_1 q421 [false, true, true, false, true, true, false, false, false] rfl ?_
  refine z_if_eq_t (tgt := 9) X dX0_sortOf_4 (by decide) (by decide) ?_
  refine z_aload_n X dX0_sortOf_9 rfl 0 rfl ?_
  refine z_instE X (Is.arr X (show w q = some (.inl (G.2.1 3, n, .inl (fun j => (f j).toInt32))) from hR) (fun _ h => nmA_short h)) dX0_sortOf_10 q422 ?_
  refine z_if_eq_f (tgt := 18) X dX0_sortOf_13 (by decide) (by decide) ?_
  refine z_iconst (v := nI (1)) X dX0_sortOf_16 ci1 ?_
  exact z_iret X dX0_sortOf_17 (by omega) (by omega) ⟨_, rfl, ⟨rfl, rfl⟩⟩
set_option maxHeartbeats 2000000 in
theorem m_X0_sortOf_2 {l : Launch} {G : GG} {w : GW} {q n : Nat} {f : Nat → Int64} (hR : w q = some (rowE G 2 n f)) : gM l G yX0_sortOf cX0_sortOf 1 (some .int) 1 0 0 [.ref (q)] w (pI (fun r w1 => r = nI 2 ∧ w1 = w)) := by
  refine Z.met (own := "ThreeSizes") (nm := "sortOf") (lv := [(0, .ref (q))]) (by decide) rfl rfl (Nat.le_of_ble_eq_true rfl) rfl (fun κ X => ?_)
  refine z_aload_n X dX0_sortOf_0 rfl 0 rfl ?_
  refine z_instNo X (Is.arr X (show w q = some (.inl (G.2.1 0, n, .inl (fun j => (f j).toInt32))) from hR) (fun _ h => nmA_int h)) dX0_sortOf_1 q421 [false, true, true, false, true, false, true, true, true, false] rfl ?_
  refine z_if_eq_t (tgt := 9) X dX0_sortOf_4 (by decide) (by decide) ?_
  refine z_aload_n X dX0_sortOf_9 rfl 0 rfl ?_
  refine z_instNo X (Is.arr X (show w q = some (.inl (G.2.1 0, n, .inl (fun j => (f j).toInt32))) from hR) (fun _ h => nmA_int h)) dX0_sortOf_10 q422 [false, true, true, true, false, true, false, false, true, false] rfl ?_
  refine z_if_eq_t (tgt := 18) X dX0_sortOf_13 (by decide) (by decide) ?_
  refine z_aload_n X dX0_sortOf_18 rfl 0 rfl ?_
  refine z_instE X (Is.arr X (show w q = some (.inl (G.2.1 0, n, .inl (fun j => (f j).toInt32))) from hR) (fun _ h => nmA_int h)) dX0_sortOf_19 q423 ?_
  refine z_if_eq_f (tgt := 27) X dX0_sortOf_22 (by decide) (by decide) ?_
  refine z_iconst (v := nI (2)) X dX0_sortOf_25 ci2 ?_
  exact z_iret X dX0_sortOf_26 (by omega) (by omega) ⟨_, rfl, ⟨rfl, rfl⟩⟩
set_option maxHeartbeats 2000000 in
theorem m_X0_sortOf_3 {l : Launch} {G : GG} {w : GW} {q n : Nat} {f : Nat → Int64} (hR : w q = some (rowE G 3 n f)) : gM l G yX0_sortOf cX0_sortOf 1 (some .int) 1 0 0 [.ref (q)] w (pI (fun r w1 => r = nI 3 ∧ w1 = w)) := by
  refine Z.met (own := "ThreeSizes") (nm := "sortOf") (lv := [(0, .ref (q))]) (by decide) rfl rfl (Nat.le_of_ble_eq_true rfl) rfl (fun κ X => ?_)
  refine z_aload_n X dX0_sortOf_0 rfl 0 rfl ?_
  refine z_instNo X (Is.arr X (show w q = some (.inl (G.2.1 1, n, .inr (.inl f))) from hR) (fun _ h => nmA_long h)) dX0_sortOf_1 q421 [false, true, true, false, true, true, false, false, true, false] rfl ?_
  refine z_if_eq_t (tgt := 9) X dX0_sortOf_4 (by decide) (by decide) ?_
  refine z_aload_n X dX0_sortOf_9 rfl 0 rfl ?_
  refine z_instNo X (Is.arr X (show w q = some (.inl (G.2.1 1, n, .inr (.inl f))) from hR) (fun _ h => nmA_long h)) dX0_sortOf_10 q422 [false, true, true, true, false, true, false, true, false, true] rfl ?_
  refine z_if_eq_t (tgt := 18) X dX0_sortOf_13 (by decide) (by decide) ?_
  refine z_aload_n X dX0_sortOf_18 rfl 0 rfl ?_
  refine z_instNo X (Is.arr X (show w q = some (.inl (G.2.1 1, n, .inr (.inl f))) from hR) (fun _ h => nmA_long h)) dX0_sortOf_19 q423 [false, true, true, true, true, true, false, true, true, true] rfl ?_
  refine z_if_eq_t (tgt := 27) X dX0_sortOf_22 (by decide) (by decide) ?_
  refine z_aload_n X dX0_sortOf_27 rfl 0 rfl ?_
  refine z_instE X (Is.arr X (show w q = some (.inl (G.2.1 1, n, .inr (.inl f))) from hR) (fun _ h => nmA_long h)) dX0_sortOf_28 q424 ?_
  refine z_if_eq_f (tgt := 38) X dX0_sortOf_31 (by decide) (by decide) ?_
  refine z_iconst (v := nI (3)) X dX0_sortOf_34 ci3 ?_
  refine z_goto (tgt := 39) X dX0_sortOf_35 (by decide) ?_
  exact z_iret X dX0_sortOf_39 (by omega) (by omega) ⟨_, rfl, ⟨rfl, rfl⟩⟩
set_option maxHeartbeats 2000000 in
theorem m_X0_sortOf_4 {l : Launch} {G : GG} {w : GW} {q n : Nat} {f : Nat → Int64} (hR : w q = some (rowE G 4 n f)) : gM l G yX0_sortOf cX0_sortOf 1 (some .int) 1 0 0 [.ref (q)] w (pI (fun r w1 => r = nI 4 ∧ w1 = w)) := by
  refine Z.met (own := "ThreeSizes") (nm := "sortOf") (lv := [(0, .ref (q))]) (by decide) rfl rfl (Nat.le_of_ble_eq_true rfl) rfl (fun κ X => ?_)
  refine z_aload_n X dX0_sortOf_0 rfl 0 rfl ?_
  refine z_instNo X (Is.arr X (show w q = some (.inl (G.2.1 4, n, .inl (fun j => (f j).toInt32))) from hR) (fun _ h => nmA_bool h)) dX0_sortOf_1 q421 [false, true, true, false, true, true, false, false, true, true] rfl ?_
  refine z_if_eq_t (tgt := 9) X dX0_sortOf_4 (by decide) (by decide) ?_
  refine z_aload_n X dX0_sortOf_9 rfl 0 rfl ?_
  refine z_instNo X (Is.arr X (show w q = some (.inl (G.2.1 4, n, .inl (fun j => (f j).toInt32))) from hR) (fun _ h => nmA_bool h)) dX0_sortOf_10 q422 [false, true, true, true, false, true, false, true, true, false] rfl ?_
  refine z_if_eq_t (tgt := 18) X dX0_sortOf_13 (by decide) (by decide) ?_
  refine z_aload_n X dX0_sortOf_18 rfl 0 rfl ?_
  refine z_instNo X (Is.arr X (show w q = some (.inl (G.2.1 4, n, .inl (fun j => (f j).toInt32))) from hR) (fun _ h => nmA_bool h)) dX0_sortOf_19 q423 [false, true, true, true, true, true, true, false, false, false] rfl ?_
  refine z_if_eq_t (tgt := 27) X dX0_sortOf_22 (by decide) (by decide) ?_
  refine z_aload_n X dX0_sortOf_27 rfl 0 rfl ?_
  refine z_instNo X (Is.arr X (show w q = some (.inl (G.2.1 4, n, .inl (fun j => (f j).toInt32))) from hR) (fun _ h => nmA_bool h)) dX0_sortOf_28 q424 [true, false, false, false, false, true, true, false, true, true] rfl ?_
  refine z_if_eq_t (tgt := 38) X dX0_sortOf_31 (by decide) (by decide) ?_
  refine z_iconst (v := nI (4)) X dX0_sortOf_38 ci4 ?_
  exact z_iret X dX0_sortOf_39 (by omega) (by omega) ⟨_, rfl, ⟨rfl, rfl⟩⟩
set_option maxHeartbeats 2000000 in
theorem m_X0_elementOf_0 {l : Launch} {G : GG} (hl : l.stackTraces = false) {w : GW} {q n : Nat} {f : Nat → Int64} (hR : w q = some (rowE G 0 n f)) (hO : rowOk 0 n f) (hn : n ≤ 40) {i : Int32} : gMX l G yX0_elementOf (ws_ yX0_elementOf cX0_elementOf 2 (some .long)) 165 3 222 [.ref (q), .int (i)] w (pL (fun r w1 => vp_in i n ∧ r = f i.toNatClampNeg ∧ w1 = w)) (fun E x w1 => E = "java/lang/ArrayIndexOutOfBoundsException" ∧ ¬ vp_in i n ∧ w1 = w) := by
  refine Z.metX (own := "ThreeSizes") (nm := "elementOf") (lv := [(0, .ref (q)), (1, .int (i))]) (by decide) rfl rfl (Nat.le_of_ble_eq_true rfl) rfl (fun κ X Y V0 => ?_)
  have V := V0 hl
  refine z_aload_n X dX0_elementOf_0 rfl 0 rfl ?_
  refine z_cip (z_runS (rest := []) (n := 1) X [.ref (q)] (m_X0_sortOf_0 (n := n) (f := f) hR) dX0_elementOf_1 (lw_S q418 q419 q66 q420) hs_X0_sortOf rfl ⟨Nat.le_of_ble_eq_true rfl, Nat.le_of_ble_eq_true rfl⟩ ⟨by omega, by omega⟩ rfl (Nat.le_of_ble_eq_true rfl)) ?_
  refine z_tabIn (off := 32) (tgt := 36) X dX0_elementOf_4 (by decide) (by decide) (by decide) (by decide) ?_
  refine z_aload_n X dX0_elementOf_36 rfl 0 rfl ?_
  refine z_castE X (Is.arr X (show w q = some (.inl (G.2.1 2, n, .inl (fun j => (f j).toInt32))) from hR) (fun _ h => nmA_byte h)) dX0_elementOf_37 q421 ?_
  refine z_iload_n X dX0_elementOf_40 rfl 1 rfl ?_
  by_cases c1 : vp_in (i) (n)
  · have hin9 := c1
    refine z_bald (v := (f (i).toNatClampNeg).toInt32) X dX0_elementOf_41 (show w q = some (.inl (G.2.1 2, n, .inl (fun j => (f j).toInt32))) from hR) c1 rfl ?_
    refine z_i2l (v := f (i).toNatClampNeg) X dX0_elementOf_42 (el_0 hO (vp_in_lt hin9)) ?_
    exact z_lret X dX0_elementOf_43 (by omega) (by omega) ⟨_, rfl, ⟨hin9, rfl, rfl⟩⟩
  · have hout9 := c1
    refine zt_baldZ X V dX0_elementOf_41 (show w q = some (.inl (G.2.1 2, n, .inl (fun j => (f j).toInt32))) from hR) c1 (by omega) (Nat.le_of_ble_eq_true rfl) (by omega) ⟨(by omega), (by omega)⟩ (fun q2 => ?_)
    exact zt_out X Y zp_n ⟨rfl, hout9, rfl⟩ ⟨by omega, by omega⟩
set_option maxHeartbeats 2000000 in
theorem m_X0_elementOf_1 {l : Launch} {G : GG} (hl : l.stackTraces = false) {w : GW} {q n : Nat} {f : Nat → Int64} (hR : w q = some (rowE G 1 n f)) (hO : rowOk 1 n f) (hn : n ≤ 40) {i : Int32} : gMX l G yX0_elementOf (ws_ yX0_elementOf cX0_elementOf 2 (some .long)) 165 3 222 [.ref (q), .int (i)] w (pL (fun r w1 => vp_in i n ∧ r = f i.toNatClampNeg ∧ w1 = w)) (fun E x w1 => E = "java/lang/ArrayIndexOutOfBoundsException" ∧ ¬ vp_in i n ∧ w1 = w) := by
  refine Z.metX (own := "ThreeSizes") (nm := "elementOf") (lv := [(0, .ref (q)), (1, .int (i))]) (by decide) rfl rfl (Nat.le_of_ble_eq_true rfl) rfl (fun κ X Y V0 => ?_)
  have V := V0 hl
  refine z_aload_n X dX0_elementOf_0 rfl 0 rfl ?_
  refine z_cip (z_runS (rest := []) (n := 1) X [.ref (q)] (m_X0_sortOf_1 (n := n) (f := f) hR) dX0_elementOf_1 (lw_S q418 q419 q66 q420) hs_X0_sortOf rfl ⟨Nat.le_of_ble_eq_true rfl, Nat.le_of_ble_eq_true rfl⟩ ⟨by omega, by omega⟩ rfl (Nat.le_of_ble_eq_true rfl)) ?_
  refine z_tabIn (off := 40) (tgt := 44) X dX0_elementOf_4 (by decide) (by decide) (by decide) (by decide) ?_
  refine z_aload_n X dX0_elementOf_44 rfl 0 rfl ?_
  refine z_castE X (Is.arr X (show w q = some (.inl (G.2.1 3, n, .inl (fun j => (f j).toInt32))) from hR) (fun _ h => nmA_short h)) dX0_elementOf_45 q422 ?_
  refine z_iload_n X dX0_elementOf_48 rfl 1 rfl ?_
  by_cases c1 : vp_in (i) (n)
  · have hin9 := c1
    refine z_sald (v := (f (i).toNatClampNeg).toInt32) X dX0_elementOf_49 (show w q = some (.inl (G.2.1 3, n, .inl (fun j => (f j).toInt32))) from hR) c1 rfl ?_
    refine z_i2l (v := f (i).toNatClampNeg) X dX0_elementOf_50 (el_1 hO (vp_in_lt hin9)) ?_
    exact z_lret X dX0_elementOf_51 (by omega) (by omega) ⟨_, rfl, ⟨hin9, rfl, rfl⟩⟩
  · have hout9 := c1
    refine zt_saldZ X V dX0_elementOf_49 (show w q = some (.inl (G.2.1 3, n, .inl (fun j => (f j).toInt32))) from hR) c1 (by omega) (Nat.le_of_ble_eq_true rfl) (by omega) ⟨(by omega), (by omega)⟩ (fun q2 => ?_)
    exact zt_out X Y zp_n ⟨rfl, hout9, rfl⟩ ⟨by omega, by omega⟩
set_option maxHeartbeats 2000000 in
theorem m_X0_elementOf_2 {l : Launch} {G : GG} (hl : l.stackTraces = false) {w : GW} {q n : Nat} {f : Nat → Int64} (hR : w q = some (rowE G 2 n f)) (hO : rowOk 2 n f) (hn : n ≤ 40) {i : Int32} : gMX l G yX0_elementOf (ws_ yX0_elementOf cX0_elementOf 2 (some .long)) 165 3 222 [.ref (q), .int (i)] w (pL (fun r w1 => vp_in i n ∧ r = f i.toNatClampNeg ∧ w1 = w)) (fun E x w1 => E = "java/lang/ArrayIndexOutOfBoundsException" ∧ ¬ vp_in i n ∧ w1 = w) := by
  refine Z.metX (own := "ThreeSizes") (nm := "elementOf") (lv := [(0, .ref (q)), (1, .int (i))]) (by decide) rfl rfl (Nat.le_of_ble_eq_true rfl) rfl (fun κ X Y V0 => ?_)
  have V := V0 hl
  refine z_aload_n X dX0_elementOf_0 rfl 0 rfl ?_
  refine z_cip (z_runS (rest := []) (n := 1) X [.ref (q)] (m_X0_sortOf_2 (n := n) (f := f) hR) dX0_elementOf_1 (lw_S q418 q419 q66 q420) hs_X0_sortOf rfl ⟨Nat.le_of_ble_eq_true rfl, Nat.le_of_ble_eq_true rfl⟩ ⟨by omega, by omega⟩ rfl (Nat.le_of_ble_eq_true rfl)) ?_
  refine z_tabIn (off := 48) (tgt := 52) X dX0_elementOf_4 (by decide) (by decide) (by decide) (by decide) ?_
  refine z_aload_n X dX0_elementOf_52 rfl 0 rfl ?_
  refine z_castE X (Is.arr X (show w q = some (.inl (G.2.1 0, n, .inl (fun j => (f j).toInt32))) from hR) (fun _ h => nmA_int h)) dX0_elementOf_53 q423 ?_
  refine z_iload_n X dX0_elementOf_56 rfl 1 rfl ?_
  by_cases c1 : vp_in (i) (n)
  · have hin9 := c1
    refine z_iald (v := (f (i).toNatClampNeg).toInt32) X dX0_elementOf_57 (show w q = some (.inl (G.2.1 0, n, .inl (fun j => (f j).toInt32))) from hR) c1 rfl ?_
    refine z_i2l (v := f (i).toNatClampNeg) X dX0_elementOf_58 (el_2 hO (vp_in_lt hin9)) ?_
    exact z_lret X dX0_elementOf_59 (by omega) (by omega) ⟨_, rfl, ⟨hin9, rfl, rfl⟩⟩
  · have hout9 := c1
    refine zt_ialdZ X V dX0_elementOf_57 (show w q = some (.inl (G.2.1 0, n, .inl (fun j => (f j).toInt32))) from hR) c1 (by omega) (Nat.le_of_ble_eq_true rfl) (by omega) ⟨(by omega), (by omega)⟩ (fun q2 => ?_)
    exact zt_out X Y zp_n ⟨rfl, hout9, rfl⟩ ⟨by omega, by omega⟩
set_option maxHeartbeats 2000000 in
theorem m_X0_elementOf_3 {l : Launch} {G : GG} (hl : l.stackTraces = false) {w : GW} {q n : Nat} {f : Nat → Int64} (hR : w q = some (rowE G 3 n f)) (hO : rowOk 3 n f) (hn : n ≤ 40) {i : Int32} : gMX l G yX0_elementOf (ws_ yX0_elementOf cX0_elementOf 2 (some .long)) 165 3 222 [.ref (q), .int (i)] w (pL (fun r w1 => vp_in i n ∧ r = f i.toNatClampNeg ∧ w1 = w)) (fun E x w1 => E = "java/lang/ArrayIndexOutOfBoundsException" ∧ ¬ vp_in i n ∧ w1 = w) := by
  refine Z.metX (own := "ThreeSizes") (nm := "elementOf") (lv := [(0, .ref (q)), (1, .int (i))]) (by decide) rfl rfl (Nat.le_of_ble_eq_true rfl) rfl (fun κ X Y V0 => ?_)
  have V := V0 hl
  refine z_aload_n X dX0_elementOf_0 rfl 0 rfl ?_
  refine z_cip (z_runS (rest := []) (n := 1) X [.ref (q)] (m_X0_sortOf_3 (n := n) (f := f) hR) dX0_elementOf_1 (lw_S q418 q419 q66 q420) hs_X0_sortOf rfl ⟨Nat.le_of_ble_eq_true rfl, Nat.le_of_ble_eq_true rfl⟩ ⟨by omega, by omega⟩ rfl (Nat.le_of_ble_eq_true rfl)) ?_
  refine z_tabIn (off := 56) (tgt := 60) X dX0_elementOf_4 (by decide) (by decide) (by decide) (by decide) ?_
  refine z_aload_n X dX0_elementOf_60 rfl 0 rfl ?_
  refine z_castE X (Is.arr X (show w q = some (.inl (G.2.1 1, n, .inr (.inl f))) from hR) (fun _ h => nmA_long h)) dX0_elementOf_61 q424 ?_
  refine z_iload_n X dX0_elementOf_64 rfl 1 rfl ?_
  by_cases c1 : vp_in (i) (n)
  · have hin9 := c1
    refine z_lald (v := f (i).toNatClampNeg) X dX0_elementOf_65 (show w q = some (.inl (G.2.1 1, n, .inr (.inl f))) from hR) c1 rfl ?_
    exact z_lret X dX0_elementOf_66 (by omega) (by omega) ⟨_, rfl, ⟨hin9, rfl, rfl⟩⟩
  · have hout9 := c1
    refine zt_laldZ X V dX0_elementOf_65 (show w q = some (.inl (G.2.1 1, n, .inr (.inl f))) from hR) c1 (by omega) (Nat.le_of_ble_eq_true rfl) (by omega) ⟨(by omega), (by omega)⟩ (fun q2 => ?_)
    exact zt_out X Y zp_n ⟨rfl, hout9, rfl⟩ ⟨by omega, by omega⟩
set_option maxHeartbeats 2000000 in
theorem m_X0_elementOf_4 {l : Launch} {G : GG} (hl : l.stackTraces = false) {w : GW} {q n : Nat} {f : Nat → Int64} (hR : w q = some (rowE G 4 n f)) (hO : rowOk 4 n f) (hn : n ≤ 40) {i : Int32} : gMX l G yX0_elementOf (ws_ yX0_elementOf cX0_elementOf 2 (some .long)) 165 3 222 [.ref (q), .int (i)] w (pL (fun r w1 => vp_in i n ∧ r = f i.toNatClampNeg ∧ w1 = w)) (fun E x w1 => E = "java/lang/ArrayIndexOutOfBoundsException" ∧ ¬ vp_in i n ∧ w1 = w) := by
  refine Z.metX (own := "ThreeSizes") (nm := "elementOf") (lv := [(0, .ref (q)), (1, .int (i))]) (by decide) rfl rfl (Nat.le_of_ble_eq_true rfl) rfl (fun κ X Y V0 => ?_)
  have V := V0 hl
  refine z_aload_n X dX0_elementOf_0 rfl 0 rfl ?_
  refine z_cip (z_runS (rest := []) (n := 1) X [.ref (q)] (m_X0_sortOf_4 (n := n) (f := f) hR) dX0_elementOf_1 (lw_S q418 q419 q66 q420) hs_X0_sortOf rfl ⟨Nat.le_of_ble_eq_true rfl, Nat.le_of_ble_eq_true rfl⟩ ⟨by omega, by omega⟩ rfl (Nat.le_of_ble_eq_true rfl)) ?_
  refine z_tabOut (tgt := 67) X dX0_elementOf_4 (by decide) (by decide) ?_
  refine z_aload_n X dX0_elementOf_67 rfl 0 rfl ?_
  refine z_castE X (Is.arr X (show w q = some (.inl (G.2.1 4, n, .inl (fun j => (f j).toInt32))) from hR) (fun _ h => nmA_bool h)) dX0_elementOf_68 q425 ?_
  refine z_iload_n X dX0_elementOf_71 rfl 1 rfl ?_
  by_cases c1 : vp_in (i) (n)
  · have hin9 := c1
    refine z_zald (v := (f (i).toNatClampNeg).toInt32) X dX0_elementOf_72 (show w q = some (.inl (G.2.1 4, n, .inl (fun j => (f j).toInt32))) from hR) c1 rfl ?_
    refine z_if_eq (tgt := 80) X dX0_elementOf_73 (by decide) Iff.rfl (fun c2 => ?_) (fun c2 => ?_)
    · refine z_lconst (v := lN 0) X dX0_elementOf_80 cl0 ?_
      exact z_lret X dX0_elementOf_81 (by omega) (by omega) ⟨_, rfl, ⟨hin9, el_4z hO (vp_in_lt hin9) (by assumption), rfl⟩⟩
    · refine z_lconst (v := lN 1) X dX0_elementOf_76 cl1 ?_
      refine z_goto (tgt := 81) X dX0_elementOf_77 (by decide) ?_
      exact z_lret X dX0_elementOf_81 (by omega) (by omega) ⟨_, rfl, ⟨hin9, el_4n hO (vp_in_lt hin9) (by assumption), rfl⟩⟩
  · have hout9 := c1
    refine zt_zaldZ X V dX0_elementOf_72 (show w q = some (.inl (G.2.1 4, n, .inl (fun j => (f j).toInt32))) from hR) c1 (by omega) (Nat.le_of_ble_eq_true rfl) (by omega) ⟨(by omega), (by omega)⟩ (fun q3 => ?_)
    exact zt_out X Y zp_n ⟨rfl, hout9, rfl⟩ ⟨by omega, by omega⟩
theorem m_X0_elementOf {l : Launch} {G : GG} (hl : l.stackTraces = false) {w : GW} {q k n : Nat} {f : Nat → Int64} (hk : k ≤ 4) (hR : w q = some (rowE G k n f)) (hO : rowOk k n f) (hn : n ≤ 40) {i : Int32} : gMX l G yX0_elementOf (ws_ yX0_elementOf cX0_elementOf 2 (some .long)) 165 3 222 [.ref (q), .int (i)] w (pL (fun r w1 => vp_in i n ∧ r = f i.toNatClampNeg ∧ w1 = w)) (fun E x w1 => E = "java/lang/ArrayIndexOutOfBoundsException" ∧ ¬ vp_in i n ∧ w1 = w) := by
  rcases (show k = 0 ∨ k = 1 ∨ k = 2 ∨ k = 3 ∨ k = 4 by omega) with rfl | rfl | rfl | rfl | rfl
  · exact m_X0_elementOf_0 hl hR hO hn
  · exact m_X0_elementOf_1 hl hR hO hn
  · exact m_X0_elementOf_2 hl hR hO hn
  · exact m_X0_elementOf_3 hl hR hO hn
  · exact m_X0_elementOf_4 hl hR hO hn
