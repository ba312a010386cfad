/-! x: mayBe -/
set_option maxRecDepth 100000
abbrev mayP (z c v b : Int32) : Prop := (nI 0 ≤ z ∧ z ≤ nI 2) ∧ (nI 0 ≤ c ∧ c ≤ nI 100) ∧ (nI 1 ≤ v ∧ v ≤ nI 99) ∧ (nI 0 ≤ b ∧ b ≤ nI 99)
set_option maxHeartbeats 2000000 in
theorem m_X0_mayBe {l : Launch} {G : GG} {z c v b : Int32} {w : GW} : gM l G yX0_mayBe cX0_mayBe 4 (some .boolean) 3 0 0 [.int (z), .int (c), .int (v), .int (b)] w (pI (fun r w1 => r = bI (decide (mayP z c v b)) ∧ w1 = w)) := by
  refine Z.met (own := "ThreeSizes") (nm := "mayBe") (lv := [(0, .int (z)), (1, .int (c)), (2, .int (v)), (3, .int (b))]) (by decide) rfl rfl (Nat.le_of_ble_eq_true rfl) rfl (fun κ X => ?_)
  refine z_iload_n X dX0_mayBe_0 rfl 0 rfl ?_
  refine z_cip (z_runS (rest := []) (n := 1) X [.int (z)] (m_X0_isSize (v := z)) dX0_mayBe_1 (lw_S q771 q772 q66 q773) hs_X0_isSize rfl ⟨Nat.le_of_ble_eq_true rfl, Nat.le_of_ble_eq_true rfl⟩ ⟨by omega, by omega⟩ rfl (Nat.le_of_ble_eq_true rfl)) ?_
  refine z_if_eq (tgt := 41) X dX0_mayBe_4 (by decide) bI_d (fun c1 => ?_) (fun c1 => ?_)
  · refine z_iconst (v := nI (0)) X dX0_mayBe_41 ci0 ?_
    exact z_zret X dX0_mayBe_42 (by omega) (by omega) bz0 ⟨_, rfl, ⟨bz_f (decide_eq_false (fun q : mayP _ _ _ _ => by first | exact absurd q.1 (by assumption) | exact absurd q.2.1 (by assumption) | exact absurd q.2.2.1 (by assumption) | exact absurd q.2.2.2 (by assumption))), rfl⟩⟩
  · have c1 := Classical.not_not.mp c1
    refine z_iload_n X dX0_mayBe_7 rfl 1 rfl ?_
    refine z_iconst (v := nI (0)) X dX0_mayBe_8 ci0 ?_
    refine z_bipush (v := nI (100)) X dX0_mayBe_9 (by decide) ?_
    refine z_cip (z_runS (rest := []) (n := 3) X [.int (c), .int (nI (0)), .int (nI (100))] m_X0_isIn dX0_mayBe_11 (lw_S q347 q348 q66 q349) hs_X0_isIn rfl ⟨Nat.le_of_ble_eq_true rfl, Nat.le_of_ble_eq_true rfl⟩ ⟨by omega, by omega⟩ rfl (Nat.le_of_ble_eq_true rfl)) ?_
    refine z_if_eq (tgt := 41) X dX0_mayBe_14 (by decide) bI_d (fun c2 => ?_) (fun c2 => ?_)
    · refine z_iconst (v := nI (0)) X dX0_mayBe_41 ci0 ?_
      exact z_zret X dX0_mayBe_42 (by omega) (by omega) bz0 ⟨_, rfl, ⟨bz_f (decide_eq_false (fun q : mayP _ _ _ _ => by first | exact absurd q.1 (by assumption) | exact absurd q.2.1 (by assumption) | exact absurd q.2.2.1 (by assumption) | exact absurd q.2.2.2 (by assumption))), rfl⟩⟩
    · have c2 := Classical.not_not.mp c2
      refine z_iload_n X dX0_mayBe_17 rfl 2 rfl ?_
      refine z_iconst (v := nI (1)) X dX0_mayBe_18 ci1 ?_
      refine z_bipush (v := nI (99)) X dX0_mayBe_19 (by decide) ?_
      refine z_cip (z_runS (rest := []) (n := 3) X [.int (v), .int (nI (1)), .int (nI (99))] m_X0_isIn dX0_mayBe_21 (lw_S q347 q348 q66 q349) hs_X0_isIn rfl ⟨Nat.le_of_ble_eq_true rfl, Nat.le_of_ble_eq_true rfl⟩ ⟨by omega, by omega⟩ rfl (Nat.le_of_ble_eq_true rfl)) ?_
      refine z_if_eq (tgt := 41) X dX0_mayBe_24 (by decide) bI_d (fun c3 => ?_) (fun c3 => ?_)
      · refine z_iconst (v := nI (0)) X dX0_mayBe_41 ci0 ?_
        exact z_zret X dX0_mayBe_42 (by omega) (by omega) bz0 ⟨_, rfl, ⟨bz_f (decide_eq_false (fun q : mayP _ _ _ _ => by first | exact absurd q.1 (by assumption) | exact absurd q.2.1 (by assumption) | exact absurd q.2.2.1 (by assumption) | exact absurd q.2.2.2 (by assumption))), rfl⟩⟩
      · have c3 := Classical.not_not.mp c3
        refine z_iload_n X dX0_mayBe_27 rfl 3 rfl ?_
        refine z_iconst (v := nI (0)) X dX0_mayBe_28 ci0 ?_
        refine z_bipush (v := nI (99)) X dX0_mayBe_29 (by decide) ?_
        refine z_cip (z_runS (rest := []) (n := 3) X [.int (b), .int (nI (0)), .int (nI (99))] m_X0_isIn dX0_mayBe_31 (lw_S q347 q348 q66 q349) hs_X0_isIn rfl ⟨Nat.le_of_ble_eq_true rfl, Nat.le_of_ble_eq_true rfl⟩ ⟨by omega, by omega⟩ rfl (Nat.le_of_ble_eq_true rfl)) ?_
        refine z_if_eq (tgt := 41) X dX0_mayBe_34 (by decide) bI_d (fun c4 => ?_) (fun c4 => ?_)
        · refine z_iconst (v := nI (0)) X dX0_mayBe_41 ci0 ?_
          exact z_zret X dX0_mayBe_42 (by omega) (by omega) bz0 ⟨_, rfl, ⟨bz_f (decide_eq_false (fun q : mayP _ _ _ _ => by first | exact absurd q.1 (by assumption) | exact absurd q.2.1 (by assumption) | exact absurd q.2.2.1 (by assumption) | exact absurd q.2.2.2 (by assumption))), rfl⟩⟩
        · have c4 := Classical.not_not.mp c4
          refine z_iconst (v := nI (1)) X dX0_mayBe_37 ci1 ?_
          refine z_goto (tgt := 42) X dX0_mayBe_38 (by decide) ?_
          exact z_zret X dX0_mayBe_42 (by omega) (by omega) bz1 ⟨_, rfl, ⟨bz_t (decide_eq_true (show mayP _ _ _ _ from ⟨by assumption, by assumption, by assumption, by assumption⟩)), rfl⟩⟩
