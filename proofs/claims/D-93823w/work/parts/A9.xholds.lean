/-! x: holds -/
set_option maxRecDepth 100000
section ZLR
variable {κ : ZK} {cc : ByteArray} {own nm : String} {nL : Nat} {ret : Option FieldType} {l : Launch} {d mc ms : Nat} {G : GG} {w0 w : GW} {post : Option Value → GW → Prop} {lv : List (Nat × Value)} {a b pc : Nat} {rest : List Value}
theorem z_kindX0 (X : ZX κ cc "ThreeSizes" nL ret nm l d mc ms G w0 post) {xa : Nat → Nat} {rr : Option Nat} {o : OS} {im : IM} (hX : XT G w xa rr o im) (hO : oInv o) {s : Nat} (hs : s < 8) (hk2 : o.2.2.2.1 0 s = 2) (hdg : decode cc pc = .ok (.invokevirtual 154, 3)) (hd : 2 ≤ d) (hW8 : (rest.map fun v => v.category).sum ≤ 8) (hf : a + 0 ≤ mc ∧ b + 0 ≤ ms) (k : Z κ w lv (a + 0) (b + 0) (pc + 3) (.int (nI (o.2.2.2.1 3 s)) :: rest)) : Z κ w lv a b pc (.ref (xa (40 + s)) :: rest) := by
  have hq9 := hO.2.1 s hs
  have hkd : 1 ≤ o.2.2.2.1 3 s ∧ o.2.2.2.1 3 s ≤ 6 := ⟨hq9.2.2.2.2.1 hk2, hq9.2.2.2.1⟩
  have hru := (hX.rule hs hk2).1
  rcases kd_cases hkd with h | h | h | h | h | h
  · have hr9 : w (xa (40 + s)) = some (.inr (6, [.int (nI (o.2.2.2.1 4 s))])) := by rw [h] at hru; exact hru
    rw [h] at k
    exact z_cip (z_runA (owner := "ThreeSizes$Rule") (x := ⟨"ThreeSizes$Rule", "kind", "()I"⟩) (rest := rest) (n := 0) X [] m_X7_kind hdg hr9 rfl (lw_app (lw_in _ [484, 486, 496, 497, 83] (by decide +kernel) (by decide +kernel)) (lw_meth q498)) q485 (by decide +kernel) rfl ⟨by omega, by omega⟩ hf rfl hW8) k
  · have hr9 : w (xa (40 + s)) = some (.inr (7, [.int (nI (o.2.2.2.1 4 s))])) := by rw [h] at hru; exact hru
    rw [h] at k
    exact z_cip (z_runA (owner := "ThreeSizes$Rule") (x := ⟨"ThreeSizes$Rule", "kind", "()I"⟩) (rest := rest) (n := 0) X [] m_X8_kind hdg hr9 rfl (lw_app (lw_in _ [484, 486, 493, 494, 84] (by decide +kernel) (by decide +kernel)) (lw_meth q495)) q485 (by decide +kernel) rfl ⟨by omega, by omega⟩ hf rfl hW8) k
  · have hr9 : w (xa (40 + s)) = some (.inr (8, [.int (nI (o.2.2.2.1 4 s))])) := by rw [h] at hru; exact hru
    rw [h] at k
    exact z_cip (z_runA (owner := "ThreeSizes$Rule") (x := ⟨"ThreeSizes$Rule", "kind", "()I"⟩) (rest := rest) (n := 0) X [] m_X9_kind hdg hr9 rfl (lw_app (lw_in _ [484, 486, 499, 500, 85] (by decide +kernel) (by decide +kernel)) (lw_meth q501)) q485 (by decide +kernel) rfl ⟨by omega, by omega⟩ hf rfl hW8) k
  · have hr9 : w (xa (40 + s)) = some (.inr (9, [.int (nI (o.2.2.2.1 4 s))])) := by rw [h] at hru; exact hru
    rw [h] at k
    exact z_cip (z_runA (owner := "ThreeSizes$Rule") (x := ⟨"ThreeSizes$Rule", "kind", "()I"⟩) (rest := rest) (n := 0) X [] m_X10_kind hdg hr9 rfl (lw_app (lw_in _ [484, 486, 490, 491, 86] (by decide +kernel) (by decide +kernel)) (lw_meth q492)) q485 (by decide +kernel) rfl ⟨by omega, by omega⟩ hf rfl hW8) k
  · have hr9 : w (xa (40 + s)) = some (.inr (10, [.int (nI (o.2.2.2.1 4 s))])) := by rw [h] at hru; exact hru
    rw [h] at k
    exact z_cip (z_runA (owner := "ThreeSizes$Rule") (x := ⟨"ThreeSizes$Rule", "kind", "()I"⟩) (rest := rest) (n := 0) X [] m_X11_kind hdg hr9 rfl (lw_app (lw_in _ [484, 486, 487, 488, 87] (by decide +kernel) (by decide +kernel)) (lw_meth q489)) q485 (by decide +kernel) rfl ⟨by omega, by omega⟩ hf rfl hW8) k
  · have hr9 : w (xa (40 + s)) = some (.inr (11, [.int (nI (o.2.2.2.1 4 s)), .ref (xa (50 + s))])) := by rw [h] at hru; exact hru
    rw [h] at k
    exact z_cip (z_runA (owner := "ThreeSizes$Rule") (x := ⟨"ThreeSizes$Rule", "kind", "()I"⟩) (rest := rest) (n := 0) X [] m_X12_kind hdg hr9 rfl (lw_app (lw_in _ [484, 486, 502, 503, 88] (by decide +kernel) (by decide +kernel)) (lw_meth q504)) q485 (by decide +kernel) rfl ⟨by omega, by omega⟩ hf rfl hW8) k
end ZLR
theorem m_X0_sortOfR {l : Launch} {G : GG} {w : GW} {q k n : Nat} {f : Nat → Int64} (hk : k ≤ 4) (hR : w q = some (rowE G k n f)) : gM l G yX0_sortOf cX0_sortOf 1 (some .int) 1 0 0 [.ref q] w (pI (fun r w1 => r = nI k ∧ w1 = w)) := by
  rcases (show k = 0 ∨ k = 1 ∨ k = 2 ∨ k = 3 ∨ k = 4 by omega) with rfl | rfl | rfl | rfl | rfl
  · exact m_X0_sortOf_0 hR
  · exact m_X0_sortOf_1 hR
  · exact m_X0_sortOf_2 hR
  · exact m_X0_sortOf_3 hR
  · exact m_X0_sortOf_4 hR
set_option maxHeartbeats 2000000 in
theorem x_holds {l : Launch} {G : GG} {w : GW} {xa : Nat → Nat} {rr : Option Nat} {o : OS} {im : IM} (hX : XT G w xa rr o im) (hO : oInv o) {s : Int32} : gM l G yX0_holds cX0_holds 3 (some .int) 6 0 0 [.ref (xa 0), .int (s)] w (pI (fun r w1 => r = spHolds o s ∧ w1 = w)) := by
  refine Z.met (own := "ThreeSizes") (nm := "holds") (lv := [(0, .ref (xa 0)), (1, .int (s))]) (by decide) rfl rfl (Nat.le_of_ble_eq_true rfl) rfl (fun κ X => ?_)
  have hI := hO.1
  refine z_iload_n X dX0_holds_0 rfl 1 rfl ?_
  refine z_cip (z_runS (rest := []) (n := 1) X [.int (s)] (m_X0_isShelf (v := s)) dX0_holds_1 (lw_S q344 q345 q66 q346) hs_X0_isShelf rfl ⟨Nat.le_of_ble_eq_true rfl, Nat.le_of_ble_eq_true rfl⟩ ⟨by omega, by omega⟩ rfl (Nat.le_of_ble_eq_true rfl)) ?_
  refine z_if_eq (tgt := 19) X dX0_holds_4 (by decide) bI_d (fun c1 => ?_) (fun c1 => ?_)
  · have e1 : rgb 0 7 s = none := rgb_f c1
    refine z_iconst (v := -1) X dX0_holds_19 cim1 ?_
    have e : spHolds o s = -1 := by
      unfold spHolds
      repeat (first | rw [el_some (by assumption)] | rw [el_none (by assumption)] | rw [if_pos (by omega)] | rw [if_neg (by omega)] | rw [if_pos (by assumption)] | rw [if_neg (ts_n (by assumption))])
      all_goals first | rfl | (exfalso; omega)
    exact z_iret X dX0_holds_20 (by omega) (by omega) ⟨_, rfl, ⟨e.symm, rfl⟩⟩
  · have c1 := Classical.not_not.mp c1
    obtain ⟨sN, sNl, sNh, rfl, e2⟩ := rgb_t (lo := 0) (hi := 7) (by decide) (by decide) (c1)
    refine z_aload_n X dX0_holds_7 rfl 0 rfl ?_
    refine z_get X dX0_holds_8 hX.ob in_X0 rfl 2 (Nat.le_of_ble_eq_true rfl) q235 rfl ?_
    refine z_iload_n X dX0_holds_11 rfl 1 rfl ?_
    refine z_aN7 (v := .ref (xa (30 + sN))) X dX0_holds_12 hX.sh (by omega) (by omega) (shF_at (by omega)) ?_
    have hq9 := hO.2.1 sN (by omega)
    rcases hX.shelf (s := sN) (by omega) with ⟨hk9, hs9⟩ | ⟨hk9, hs9, f9, hr9, ho9, he9⟩ | ⟨hk9, hs9, hr9, hl9⟩
    · skip
      refine z_get X dX0_holds_13 hs9 in_X3 rfl 0 (Nat.le_of_ble_eq_true rfl) q229 rfl ?_
      refine z_nonnullN X dX0_holds_16 ?_
      refine z_iconst (v := -1) X dX0_holds_19 cim1 ?_
      have e : spHolds o (nI sN) = -1 := by
        unfold spHolds
        repeat (first | rw [el_some (by assumption)] | rw [el_none (by assumption)] | rw [if_pos (by omega)] | rw [if_neg (by omega)] | rw [if_pos (by assumption)] | rw [if_neg (ts_n (by assumption))])
        all_goals first | rfl | (exfalso; omega)
      exact z_iret X dX0_holds_20 (by omega) (by omega) ⟨_, rfl, ⟨e.symm, rfl⟩⟩
    · skip
      refine z_get X dX0_holds_13 hs9 in_X3 rfl 0 (Nat.le_of_ble_eq_true rfl) q229 rfl ?_
      refine z_nonnull (tgt := 21) X dX0_holds_16 (by decide) ?_
      refine z_aload_n X dX0_holds_21 rfl 0 rfl ?_
      refine z_get X dX0_holds_22 hX.ob in_X0 rfl 2 (Nat.le_of_ble_eq_true rfl) q235 rfl ?_
      refine z_iload_n X dX0_holds_25 rfl 1 rfl ?_
      refine z_aN7 (v := .ref (xa (30 + sN))) X dX0_holds_26 hX.sh (by omega) (by omega) (shF_at (by omega)) ?_
      refine z_get X dX0_holds_27 hs9 in_X3 rfl 0 (Nat.le_of_ble_eq_true rfl) q229 rfl ?_
      refine z_astore_n (lv2 := [(2, .ref (xa (40 + sN))), (0, .ref (xa 0)), (1, .int (nI (sN)))]) X dX0_holds_30 rfl (Nat.le_of_ble_eq_true rfl) rfl ?_
      refine z_aload_n X dX0_holds_31 rfl 0 rfl ?_
      refine z_instRow X hq9.2.1 hr9 dX0_holds_32 q388 ?_
      refine z_if_eq_t (tgt := 51) X dX0_holds_35 (by decide) (by decide) ?_
      refine z_aload_n X dX0_holds_51 rfl 0 rfl ?_
      refine z_cip (z_runS (rest := []) (n := 1) X [.ref (xa (40 + sN))] (m_X0_sortOfR (k := o.2.2.2.1 1 sN) hq9.2.1 hr9) dX0_holds_52 (lw_S q418 q419 q66 q420) hs_X0_sortOf rfl ⟨Nat.le_of_ble_eq_true rfl, Nat.le_of_ble_eq_true rfl⟩ ⟨by omega, by omega⟩ rfl (Nat.le_of_ble_eq_true rfl)) ?_
      have e : spHolds o (nI sN) = nI (o.2.2.2.1 1 sN) := by
        unfold spHolds
        repeat (first | rw [el_some (by assumption)] | rw [el_none (by assumption)] | rw [if_pos (by omega)] | rw [if_neg (by omega)] | rw [if_pos (by assumption)] | rw [if_neg (ts_n (by assumption))])
        all_goals first | rfl | (exfalso; omega)
      exact z_iret X dX0_holds_55 (by omega) (by omega) ⟨_, rfl, ⟨e.symm, rfl⟩⟩
    · skip
      refine z_get X dX0_holds_13 hs9 in_X3 rfl 0 (Nat.le_of_ble_eq_true rfl) q229 rfl ?_
      refine z_nonnull (tgt := 21) X dX0_holds_16 (by decide) ?_
      refine z_aload_n X dX0_holds_21 rfl 0 rfl ?_
      refine z_get X dX0_holds_22 hX.ob in_X0 rfl 2 (Nat.le_of_ble_eq_true rfl) q235 rfl ?_
      refine z_iload_n X dX0_holds_25 rfl 1 rfl ?_
      refine z_aN7 (v := .ref (xa (30 + sN))) X dX0_holds_26 hX.sh (by omega) (by omega) (shF_at (by omega)) ?_
      refine z_get X dX0_holds_27 hs9 in_X3 rfl 0 (Nat.le_of_ble_eq_true rfl) q229 rfl ?_
      refine z_astore_n (lv2 := [(2, .ref (xa (40 + sN))), (0, .ref (xa 0)), (1, .int (nI (sN)))]) X dX0_holds_30 rfl (Nat.le_of_ble_eq_true rfl) rfl ?_
      refine z_aload_n X dX0_holds_31 rfl 0 rfl ?_
      refine z_instR X ⟨hq9.2.2.2.2.1 hk9, hq9.2.2.2.1⟩ hr9 dX0_holds_32 q388 ?_
      refine z_if_eq_f (tgt := 51) X dX0_holds_35 (by decide) (by decide) ?_
      refine z_bipush (v := nI (10)) X dX0_holds_38 (by decide) ?_
      refine z_aload_n X dX0_holds_40 rfl 0 rfl ?_
      refine z_castR X ⟨hq9.2.2.2.2.1 hk9, hq9.2.2.2.1⟩ hr9 dX0_holds_41 q388 ?_
      refine z_kindX0 X hX hO (s := sN) (by omega) hk9 (rest := [.int (nI (10))]) dX0_holds_44 (by omega) (Nat.le_of_ble_eq_true rfl) ⟨by omega, by omega⟩ ?_
      refine z_iadd (v := nI (10 + (o.2.2.2.1 3 sN))) X dX0_holds_47 (nI_add _ _) ?_
      refine z_goto (tgt := 55) X dX0_holds_48 (by decide) ?_
      have e : spHolds o (nI sN) = nI (10 + (o.2.2.2.1 3 sN)) := by
        unfold spHolds
        repeat (first | rw [el_some (by assumption)] | rw [el_none (by assumption)] | rw [if_pos (by omega)] | rw [if_neg (by omega)] | rw [if_pos (by assumption)] | rw [if_neg (ts_n (by assumption))])
        all_goals first | rfl | (exfalso; omega)
      exact z_iret X dX0_holds_55 (by omega) (by omega) ⟨_, rfl, ⟨e.symm, rfl⟩⟩
