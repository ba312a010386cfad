/-! x: how many shelves hold -/
set_option maxRecDepth 100000
theorem heldTo_le (o : OS) : ∀ n, heldTo o n ≤ n := by
  intro n
  induction n with
  | zero => exact Nat.le_refl _
  | succ n ih =>
    have hs : heldTo o (n + 1) = heldTo o n + (if o.2.2.2.1 0 n = 0 then 0 else 1) := rfl
    rw [hs]; split <;> omega
set_option maxHeartbeats 2000000 in
theorem m_X0_held {l : Launch} {G : GG} {w : GW} {xa : Nat → Nat} {rr : Option Nat} {o : OS} {im : IM} (hX : XT G w xa rr o im) (hO : oInv o) : gM l G yX0_held cX0_held 3 (some .int) 2 0 0 [.ref (xa 0)] w (pI (fun r w1 => r = nI (heldTo o 8) ∧ w1 = w)) := by
  refine Z.met (own := "ThreeSizes") (nm := "held") (lv := [(0, .ref (xa 0))]) (by decide) rfl rfl (Nat.le_of_ble_eq_true rfl) rfl (fun κ X => ?_)
  refine z_iconst (v := nI (0)) X dX0_held_0 ci0 ?_
  refine z_istore_n (lv2 := [(1, .int (nI (0))), (0, .ref (xa 0))]) X dX0_held_1 rfl (Nat.le_of_ble_eq_true rfl) rfl ?_
  refine z_iconst (v := nI (0)) X dX0_held_2 ci0 ?_
  refine z_istore_n (lv2 := [(2, .int (nI (0))), (1, .int (nI (0))), (0, .ref (xa 0))]) X dX0_held_3 rfl (Nat.le_of_ble_eq_true rfl) rfl ?_
  have lp : ∀ (lq i : Nat), i + lq = 8 → Z κ w [(2, .int (nI (i))), (1, .int (nI (heldTo o i))), (0, .ref (xa 0))] 0 0 4 [] := by
    intro lq
    induction lq with
    | zero =>
      intro i lh
      obtain rfl : 8 = i := by omega
      refine z_iload_n X dX0_held_4 rfl 0 rfl ?_
      refine z_bipush (v := nI (8)) X dX0_held_5 (by decide) ?_
      refine z_icmp_ge_t (tgt := 36) X dX0_held_7 (by decide) ((nI_leI (by omega) (by omega)).mpr (by omega)) ?_
      refine z_iload_n X dX0_held_36 rfl 1 rfl ?_
      exact z_iret X dX0_held_37 (by omega) (by omega) ⟨_, rfl, ⟨rfl, rfl⟩⟩
    | succ lq ih =>
      intro i lh
      have hle := heldTo_le o i
      refine z_iload_n X dX0_held_4 rfl 0 rfl ?_
      refine z_bipush (v := nI (8)) X dX0_held_5 (by decide) ?_
      refine z_icmp_ge_f (tgt := 36) X dX0_held_7 (by decide) (fun h => absurd ((nI_leI (by omega) (by omega)).mp h) (by omega)) ?_
      refine z_iload_n X dX0_held_10 rfl 1 rfl ?_
      refine z_aload_n X dX0_held_11 rfl 2 rfl ?_
      refine z_get X dX0_held_12 hX.ob in_X0 rfl 2 (Nat.le_of_ble_eq_true rfl) q235 rfl ?_
      refine z_iload_n X dX0_held_15 rfl 0 rfl ?_
      refine z_aN7 (v := .ref (xa (30 + i))) X dX0_held_16 hX.sh (by omega) (by omega) (shF_at (by omega)) ?_
      have hq9 := hO.2.1 i (by omega)
      rcases hX.shelf (s := i) (by omega) with ⟨hk9, hs9⟩ | ⟨hk9, hs9, f9, hr9, ho9, he9⟩ | ⟨hk9, hs9, hr9, hl9⟩
      · skip
        refine z_get X dX0_held_17 hs9 in_X3 rfl 0 (Nat.le_of_ble_eq_true rfl) q229 rfl ?_
        refine z_isnullN (tgt := 27) X dX0_held_20 (by decide) ?_
        refine z_iconst (v := nI (0)) X dX0_held_27 ci0 ?_
        refine z_iadd (v := nI (heldTo o i + 0)) X dX0_held_28 (nI_add _ _) ?_
        refine z_istore_n (lv2 := [(1, .int (nI (heldTo o i + 0))), (2, .int (nI (i))), (0, .ref (xa 0))]) X dX0_held_29 rfl (Nat.le_of_ble_eq_true rfl) rfl ?_
        refine z_iinc (v := nI (i + 1)) (lv2 := [(2, .int (nI (i + 1))), (1, .int (nI (heldTo o i + 0))), (0, .ref (xa 0))]) X dX0_held_30 1 rfl (nI_1 _) (Nat.le_of_ble_eq_true rfl) rfl ?_
        refine z_goto (tgt := 4) X dX0_held_33 (by decide) ?_
        have hh : heldTo o (i + 1) = heldTo o i + 0 := by (have hs : heldTo o (i + 1) = heldTo o i + (if o.2.2.2.1 0 i = 0 then 0 else 1) := rfl); rw [hs]; first | (rw [if_pos (by omega)]) | (rw [if_neg (by omega)])
        have q := ih (i + 1) (by omega)
        rw [hh] at q
        exact q
      · skip
        refine z_get X dX0_held_17 hs9 in_X3 rfl 0 (Nat.le_of_ble_eq_true rfl) q229 rfl ?_
        refine z_isnull X dX0_held_20 ?_
        refine z_iconst (v := nI (1)) X dX0_held_23 ci1 ?_
        refine z_goto (tgt := 28) X dX0_held_24 (by decide) ?_
        refine z_iadd (v := nI (heldTo o i + 1)) X dX0_held_28 (nI_add _ _) ?_
        refine z_istore_n (lv2 := [(1, .int (nI (heldTo o i + 1))), (2, .int (nI (i))), (0, .ref (xa 0))]) X dX0_held_29 rfl (Nat.le_of_ble_eq_true rfl) rfl ?_
        refine z_iinc (v := nI (i + 1)) (lv2 := [(2, .int (nI (i + 1))), (1, .int (nI (heldTo o i + 1))), (0, .ref (xa 0))]) X dX0_held_30 1 rfl (nI_1 _) (Nat.le_of_ble_eq_true rfl) rfl ?_
        refine z_goto (tgt := 4) X dX0_held_33 (by decide) ?_
        have hh : heldTo o (i + 1) = heldTo o i + 1 := by (have hs : heldTo o (i + 1) = heldTo o i + (if o.2.2.2.1 0 i = 0 then 0 else 1) := rfl); rw [hs]; first | (rw [if_pos (by omega)]) | (rw [if_neg (by omega)])
        have q := ih (i + 1) (by omega)
        rw [hh] at q
        exact q
      · skip
        refine z_get X dX0_held_17 hs9 in_X3 rfl 0 (Nat.le_of_ble_eq_true rfl) q229 rfl ?_
        refine z_isnull X dX0_held_20 ?_
        refine z_iconst (v := nI (1)) X dX0_held_23 ci1 ?_
        refine z_goto (tgt := 28) X dX0_held_24 (by decide) ?_
        refine z_iadd (v := nI (heldTo o i + 1)) X dX0_held_28 (nI_add _ _) ?_
        refine z_istore_n (lv2 := [(1, .int (nI (heldTo o i + 1))), (2, .int (nI (i))), (0, .ref (xa 0))]) X dX0_held_29 rfl (Nat.le_of_ble_eq_true rfl) rfl ?_
        refine z_iinc (v := nI (i + 1)) (lv2 := [(2, .int (nI (i + 1))), (1, .int (nI (heldTo o i + 1))), (0, .ref (xa 0))]) X dX0_held_30 1 rfl (nI_1 _) (Nat.le_of_ble_eq_true rfl) rfl ?_
        refine z_goto (tgt := 4) X dX0_held_33 (by decide) ?_
        have hh : heldTo o (i + 1) = heldTo o i + 1 := by (have hs : heldTo o (i + 1) = heldTo o i + (if o.2.2.2.1 0 i = 0 then 0 else 1) := rfl); rw [hs]; first | (rw [if_pos (by omega)]) | (rw [if_neg (by omega)])
        have q := ih (i + 1) (by omega)
        rw [hh] at q
        exact q
  exact lp (8) 0 (by omega)
