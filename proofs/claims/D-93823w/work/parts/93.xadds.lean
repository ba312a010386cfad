/-! x: a sort added -/
set_option maxRecDepth 100000
def addN (S : WS) (p q r t : Nat) : WS := (fun f i => if i = S.2 0 ∧ 3 ≤ f ∧ f < 7 then (if f = 3 then p else if f = 4 then q else if f = 5 then r else t) else S.1 f i, fun k => if k = 0 then S.2 0 + 1 else S.2 k)
theorem addS_N (S : WS) (a b c d : Int64) : addS S a b c d = addN S (tnl a) (tnl b) (tnl c) (tnl d) := rfl
theorem add_chain {S : WS} {p q r t : Nat} (k : Nat) (hk : k < 7) : (wPut (wPut (wPut (wPut S 3 (S.2 0) p) 4 (S.2 0) q) 5 (S.2 0) r) 6 (S.2 0) t).1 k = (addN S p q r t).1 k := by
  funext j
  simp only [wPut, addN]
  by_cases hj : j = S.2 0
  · rcases (show k = 0 ∨ k = 1 ∨ k = 2 ∨ k = 3 ∨ k = 4 ∨ k = 5 ∨ k = 6 by omega) with rfl | rfl | rfl | rfl | rfl | rfl | rfl <;> simp [hj]
  · simp [hj]
set_option maxHeartbeats 2000000 in
theorem m_X2_adds {l : Launch} {G : GG} {w : GW} {aw : Nat → Nat} {rr : Option Nat} {S : WS} (hW : WallW G w aw rr S) (h6 : S.2 0 < 6) {p q r t : Nat} : gM l G yX2_adds cX2_adds 5 none 1 0 0 [.ref (aw 0), .int (nI (p)), .int (nI (q)), .int (nI (r)), .int (nI (t))] w (pV (fun w1 => WallW G w1 aw rr (addN S p q r t) ∧ ∀ b e, w b = some e → (∀ i, i < 8 → b ≠ aw i) → w1 b = some e)) := by
  refine Z.met (own := "ThreeSizes$Wall") (nm := "adds") (lv := [(0, .ref (aw 0)), (1, .int (nI (p))), (2, .int (nI (q))), (3, .int (nI (r))), (4, .int (nI (t)))]) (by decide) rfl rfl (Nat.le_of_ble_eq_true rfl) rfl (fun κ X => ?_)
  refine z_aload_n X dX2_adds_0 rfl 0 rfl ?_
  refine z_get X dX2_adds_1 (wl_o hW) in_X2 rfl 3 (Nat.le_of_ble_eq_true rfl) q135 rfl ?_
  refine z_aload_n X dX2_adds_4 rfl 0 rfl ?_
  refine z_get X dX2_adds_5 (wl_o hW) in_X2 rfl 8 (Nat.le_of_ble_eq_true rfl) q151 rfl ?_
  refine z_iload_n X dX2_adds_8 rfl 1 rfl ?_
  refine z_isN X dX2_adds_9 (wl_4 hW) (by first | omega | (show S.2 0 < 6; omega)) (by omega) ?_
  have hA1 := wl_put hW 3 (by omega) 6 (S.2 0) (p) rfl
  refine z_aload_n X dX2_adds_10 rfl 0 rfl ?_
  refine z_get X dX2_adds_11 (wl_o hA1) in_X2 rfl 4 (Nat.le_of_ble_eq_true rfl) q138 rfl ?_
  refine z_aload_n X dX2_adds_14 rfl 0 rfl ?_
  refine z_get X dX2_adds_15 (wl_o hA1) in_X2 rfl 8 (Nat.le_of_ble_eq_true rfl) q151 rfl ?_
  refine z_iload_n X dX2_adds_18 rfl 2 rfl ?_
  refine z_isN X dX2_adds_19 (wl_5 hA1) (by first | omega | (show S.2 0 < 6; omega)) (by omega) ?_
  have hA2 := wl_put hA1 4 (by omega) 6 (S.2 0) (q) rfl
  refine z_aload_n X dX2_adds_20 rfl 0 rfl ?_
  refine z_get X dX2_adds_21 (wl_o hA2) in_X2 rfl 5 (Nat.le_of_ble_eq_true rfl) q142 rfl ?_
  refine z_aload_n X dX2_adds_24 rfl 0 rfl ?_
  refine z_get X dX2_adds_25 (wl_o hA2) in_X2 rfl 8 (Nat.le_of_ble_eq_true rfl) q151 rfl ?_
  refine z_iload_n X dX2_adds_28 rfl 3 rfl ?_
  refine z_isN X dX2_adds_29 (wl_6 hA2) (by first | omega | (show S.2 0 < 6; omega)) (by omega) ?_
  have hA3 := wl_put hA2 5 (by omega) 6 (S.2 0) (r) rfl
  refine z_aload_n X dX2_adds_30 rfl 0 rfl ?_
  refine z_get X dX2_adds_31 (wl_o hA3) in_X2 rfl 6 (Nat.le_of_ble_eq_true rfl) q147 rfl ?_
  refine z_aload_n X dX2_adds_34 rfl 0 rfl ?_
  refine z_get X dX2_adds_35 (wl_o hA3) in_X2 rfl 8 (Nat.le_of_ble_eq_true rfl) q151 rfl ?_
  refine z_iload X dX2_adds_38 4 rfl ?_
  refine z_isN X dX2_adds_40 (wl_7 hA3) (by first | omega | (show S.2 0 < 6; omega)) (by omega) ?_
  have hA4 := wl_put hA3 6 (by omega) 6 (S.2 0) (t) rfl
  refine z_aload_n X dX2_adds_41 rfl 0 rfl ?_
  refine z_dup X dX2_adds_42 rfl ?_
  refine z_get X dX2_adds_43 (wl_o hA4) in_X2 rfl 8 (Nat.le_of_ble_eq_true rfl) q151 rfl ?_
  refine z_iconst (v := nI (1)) X dX2_adds_46 ci1 ?_
  refine z_iadd (v := nI (S.2 0 + 1)) X dX2_adds_47 (nI_add _ _) ?_
  refine z_put X dX2_adds_48 (wl_o hA4) in_X2 tyX2 tyX2_ok nmX2 rfl 8 (Nat.le_of_ble_eq_true rfl) q151 rfl rfl rfl (Nat.le_of_ble_eq_true rfl) ?_
  have hA5 := wl_fld hA4 0 (S.2 0 + 1) rfl
  exact z_vret X dX2_adds_51 (by omega) (by omega) ⟨rfl, ⟨wl_same hA5 (fun k hk => add_chain k hk) ⟨rfl, rfl, rfl⟩, fun b e hb hx => by rw [gu_n (hx 0 (by omega)), gu_n (hx 7 (by omega)), gu_n (hx 6 (by omega)), gu_n (hx 5 (by omega)), gu_n (hx 4 (by omega))]; exact hb⟩⟩
theorem wNorm.add {S : WS} (h : wNorm S) (h6 : S.2 0 < 6) {p q r t : Nat} : wNorm (addN S p q r t) := by
  intro k hk j hj
  show (if j = S.2 0 ∧ 3 ≤ k ∧ k < 7 then _ else S.1 k j) = 0
  rw [if_neg (fun z => by obtain ⟨z1, z2, z3⟩ := z; unfold wLen at hj; rw [if_neg (by omega)] at hj; omega)]
  exact h k hk j hj
