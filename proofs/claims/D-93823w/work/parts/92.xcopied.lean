/-! x: a wall copied -/
set_option maxRecDepth 100000
def wArr (S : WS) (k : Nat) (f : Nat → Nat) : WS := (fun k2 => if k2 = k then f else S.1 k2, S.2)
theorem cpyN {f g : Nat → Int32} {n : Nat} (hn : n < 2 ^ 31) (h : ∀ j, n ≤ j → f j = g j) : va_cpy f g (nI 0).toNatClampNeg (nI 0).toNatClampNeg (nI n).toNatClampNeg = f := by
  rw [nI_clamp (by omega), nI_clamp hn]
  funext j
  unfold va_cpy
  by_cases hj : j < n
  · rw [if_pos ⟨by omega, by omega⟩, show 0 + (j - 0) = j by omega]
  · rw [if_neg (by omega)]; exact (h j (by omega)).symm
theorem wl_row {G : GG} {w : GW} {aw : Nat → Nat} {rr : Option Nat} {S : WS} (h : WallW G w aw rr S) (k n : Nat) (hk : k < 7) (hn : wLen (k + 1) = n) (f : Nat → Nat) : WallW G (gu w (aw (k + 1)) (.inl (G.2.1 0, n, .inl (fun j => nI (f j))))) aw rr (wArr S k f) := by
  refine Sx.put h (by simp [wP]; omega) ?_ ?_
  · subst hn
    simp only [wCt, Nat.add_eq_zero_iff, Nat.add_sub_cancel]
    rw [if_neg (by omega)]
    simp only [wArr, if_true]
  · intro i hi hne
    simp only [wP, decide_eq_true_eq] at hi
    by_cases hi0 : i = 0
    · subst hi0; rfl
    · simp only [wCt, if_neg hi0, wArr]
      rw [if_neg (by omega)]
theorem wl_fld {G : GG} {w : GW} {aw : Nat → Nat} {rr : Option Nat} {S : WS} (h : WallW G w aw rr S) (k v : Nat) {fs : List Value} (hf : fs = wFs aw rr (wPut0 S k v)) : WallW G (gu w (aw 0) (.inr (2, fs))) aw rr (wPut0 S k v) := by
  refine Sx.put (k := 0) h rfl (by rw [hf]; rfl) fun i hi hne => ?_
  simp only [wCt, if_neg hne]
  rfl
theorem wl_far {G : GG} {w : GW} {aw : Nat → Nat} {rr : Option Nat} {S : WS} (h : WallW G w aw rr S) {b : Nat} {e : va_E} (hb : ∀ i, i < 8 → aw i ≠ b) : WallW G (gu w b e) aw rr S := Sx.other h fun i hi => hb i (by simpa [wP] using hi)
theorem wl_same {G : GG} {w : GW} {aw : Nat → Nat} {rr : Option Nat} {S S2 : WS} (h : WallW G w aw rr S2) (h1 : ∀ k, k < 7 → S2.1 k = S.1 k) (h2 : S2.2 0 = S.2 0 ∧ S2.2 1 = S.2 1 ∧ S2.2 2 = S.2 2) : WallW G w aw rr S := by
  refine Sx.congr h fun i hi => ?_
  simp only [wP, decide_eq_true_eq] at hi
  by_cases hi0 : i = 0
  · subst hi0
    simp [wCt, wFs, h2.1, h2.2.1, h2.2.2]
  · simp only [wCt, if_neg hi0]
    rw [h1 (i - 1) (by omega)]
theorem wall0_norm : wNorm wall0 := by
  intro k hk j hj
  have h3 : 3 ≤ j := by unfold wLen at hj; split at hj <;> omega
  show (if k = 0 ∧ j < 3 then 2 else if k = 2 ∧ j < 3 then 3 else 0) = 0
  rw [if_neg (by omega), if_neg (by omega)]
theorem wNorm.arr {S : WS} (h : wNorm S) {k : Nat} {f : Nat → Nat} (hf : ∀ j, wLen (k + 1) ≤ j → f j = 0) : wNorm (wArr S k f) := by
  intro k2 hk2 j hj
  show (if k2 = k then f else S.1 k2) j = 0
  by_cases hk : k2 = k
  · rw [if_pos hk]; rw [hk] at hj; exact hf j hj
  · rw [if_neg hk]; exact h k2 hk2 j hj
set_option maxHeartbeats 2000000 in
theorem m_X2_copied {l : Launch} {G : GG} {w : GW} {aw : Nat → Nat} {rr : Option Nat} {S : WS} (hW : WallW G w aw rr S) (hn : wNorm S) : gM l G yX2_copied cX2_copied 2 (some (.object "ThreeSizes$Wall")) 5 8 44 [.ref (aw 0)] w (pA (fun r w1 => ∃ aw2, r = aw2 0 ∧ WallW G w1 aw2 none S ∧ (∀ b e, w b = some e → w1 b = some e) ∧ ∀ i, i < 8 → w (aw2 i) = none)) := by
  refine Z.met (own := "ThreeSizes$Wall") (nm := "copied") (lv := [(0, .ref (aw 0))]) (by decide) rfl rfl (Nat.le_of_ble_eq_true rfl) rfl (fun κ X => ?_)
  refine z_new X dX2_copied_0 in_X2 tyX2 tyX2_ok (ci := 2) (fs := [.null, .null, .null, .null, .null, .null, .null, .null, .int 0, .int 0, .int 0]) q825 q117 q68 rfl (fun j hj => by rcases (show j = 0 ∨ j = 1 ∨ j = 2 ∨ j = 3 ∨ j = 4 ∨ j = 5 ∨ j = 6 ∨ j = 7 ∨ j = 8 ∨ j = 9 ∨ j = 10 by omega) with rfl | rfl | rfl | rfl | rfl | rfl | rfl | rfl | rfl | rfl | rfl <;> rfl) (by omega) (by omega) (fun q1 hq1 => ?_)
  refine z_dup X dX2_copied_3 rfl ?_
  refine z_cv (z_runI (rest := [.ref (q1)]) (n := 0) X [] (m_X2_init gu_s) dX2_copied_4 (lw_meth q120) q68 q826 q119 rfl hs_X2_init rfl ⟨Nat.le_of_ble_eq_true rfl, Nat.le_of_ble_eq_true rfl⟩ ⟨by omega, by omega⟩ rfl (Nat.le_of_ble_eq_true rfl)) (fun w4 h3 => ?_)
  obtain ⟨aw2, rfl, hB0, hF0, hN0⟩ := h3
  have hF1 : ∀ b e, w b = some e → w4 b = some e := fun b e hb => hF0 b e (fun z => by rw [z, hq1] at hb; cases hb) (gu_f hq1 hb)
  have hA0 : WallW G w4 aw rr S := ⟨fun i hi => hF1 _ _ (hW.1 i hi), hW.2⟩
  have hN1 : ∀ i, i < 8 → w (aw2 i) = none := fun i hi => by
    by_cases h0 : i = 0
    · rw [h0]; exact hq1
    · have h1 := hN0 i (by omega) (by omega)
      by_cases h2 : aw2 i = aw2 0
      · rw [h2]; exact hq1
      · rw [gu_n h2] at h1; exact h1
  have hne : ∀ i j, i < 8 → j < 8 → aw i ≠ aw2 j := fun i j hi hj z => by
    have h1 := hW.1 i (by simpa [wP] using hi)
    rw [z, hN1 j hj] at h1; cases h1
  have hM0 := wall0_norm
  refine z_astore_n (lv2 := [(1, .ref (aw2 0)), (0, .ref (aw 0))]) X dX2_copied_7 rfl (Nat.le_of_ble_eq_true rfl) rfl ?_
  refine z_aload_n X dX2_copied_8 rfl 1 rfl ?_
  refine z_get X dX2_copied_9 (wl_o hA0) in_X2 rfl 0 (Nat.le_of_ble_eq_true rfl) q122 rfl ?_
  refine z_iconst (v := nI (0)) X dX2_copied_12 ci0 ?_
  refine z_aload_n X dX2_copied_13 rfl 0 rfl ?_
  refine z_get X dX2_copied_14 (wl_o hB0) in_X2 rfl 0 (Nat.le_of_ble_eq_true rfl) q122 rfl ?_
  refine z_iconst (v := nI (0)) X dX2_copied_17 ci0 ?_
  refine z_iconst (v := nI (3)) X dX2_copied_18 ci3 ?_
  refine z_cpyI (t := 0) (ty := .int) X rfl rfl (wl_1 hA0) (wl_1 hB0) (nI_pos (by decide)) (nI_pos (by decide)) (nI_pos (by decide)) (by rw [nI_clamp (by omega), nI_clamp (by omega)]; omega) (by rw [nI_clamp (by omega), nI_clamp (by omega)]; omega) (fun _ _ => rfl) dX2_copied_19 q827 (Nat.le_of_ble_eq_true rfl) (by omega) ?_
  rw [cpyN (n := 3) (by omega) (fun j hj => by show nI (S.1 0 j) = nI (wall0.1 0 j); rw [hn 0 (by omega) j hj, hM0 0 (by omega) j hj])]
  have hB1 := wl_row hB0 0 3 (by omega) rfl (S.1 0)
  have hA1 : WallW G _ aw rr S := wl_far (b := aw2 (0 + 1)) (e := .inl (G.2.1 0, 3, .inl (fun j => nI (S.1 0 j)))) hA0 (fun i hi => hne i 1 hi (by omega))
  have hM1 := hM0.arr (k := 0) (f := S.1 0) (fun j hj => hn 0 (by omega) j hj)
  have hG1 := fun b e (hb : w b = some e) => (show (gu _ (aw2 (0 + 1)) (.inl (G.2.1 0, 3, .inl (fun j => nI (S.1 0 j)))) : GW) b = some e by rw [gu_n (fun z => by rw [z, hN1 (0 + 1) (by omega)] at hb; cases hb)]; exact hF1 b e hb)
  refine z_aload_n X dX2_copied_22 rfl 1 rfl ?_
  refine z_get X dX2_copied_23 (wl_o hA1) in_X2 rfl 1 (Nat.le_of_ble_eq_true rfl) q126 rfl ?_
  refine z_iconst (v := nI (0)) X dX2_copied_26 ci0 ?_
  refine z_aload_n X dX2_copied_27 rfl 0 rfl ?_
  refine z_get X dX2_copied_28 (wl_o hB1) in_X2 rfl 1 (Nat.le_of_ble_eq_true rfl) q126 rfl ?_
  refine z_iconst (v := nI (0)) X dX2_copied_31 ci0 ?_
  refine z_iconst (v := nI (3)) X dX2_copied_32 ci3 ?_
  refine z_cpyI (t := 0) (ty := .int) X rfl rfl (wl_2 hA1) (wl_2 hB1) (nI_pos (by decide)) (nI_pos (by decide)) (nI_pos (by decide)) (by rw [nI_clamp (by omega), nI_clamp (by omega)]; omega) (by rw [nI_clamp (by omega), nI_clamp (by omega)]; omega) (fun _ _ => rfl) dX2_copied_33 q827 (Nat.le_of_ble_eq_true rfl) (by omega) ?_
  rw [cpyN (n := 3) (by omega) (fun j hj => by show nI (S.1 1 j) = nI ((wArr wall0 0 (S.1 0)).1 1 j); rw [hn 1 (by omega) j hj, hM1 1 (by omega) j hj])]
  have hB2 := wl_row hB1 1 3 (by omega) rfl (S.1 1)
  have hA2 : WallW G _ aw rr S := wl_far (b := aw2 (1 + 1)) (e := .inl (G.2.1 0, 3, .inl (fun j => nI (S.1 1 j)))) hA1 (fun i hi => hne i 2 hi (by omega))
  have hM2 := hM1.arr (k := 1) (f := S.1 1) (fun j hj => hn 1 (by omega) j hj)
  have hG2 := fun b e (hb : w b = some e) => (show (gu _ (aw2 (1 + 1)) (.inl (G.2.1 0, 3, .inl (fun j => nI (S.1 1 j)))) : GW) b = some e by rw [gu_n (fun z => by rw [z, hN1 (1 + 1) (by omega)] at hb; cases hb)]; exact hG1 b e hb)
  refine z_aload_n X dX2_copied_36 rfl 1 rfl ?_
  refine z_get X dX2_copied_37 (wl_o hA2) in_X2 rfl 2 (Nat.le_of_ble_eq_true rfl) q130 rfl ?_
  refine z_iconst (v := nI (0)) X dX2_copied_40 ci0 ?_
  refine z_aload_n X dX2_copied_41 rfl 0 rfl ?_
  refine z_get X dX2_copied_42 (wl_o hB2) in_X2 rfl 2 (Nat.le_of_ble_eq_true rfl) q130 rfl ?_
  refine z_iconst (v := nI (0)) X dX2_copied_45 ci0 ?_
  refine z_iconst (v := nI (3)) X dX2_copied_46 ci3 ?_
  refine z_cpyI (t := 0) (ty := .int) X rfl rfl (wl_3 hA2) (wl_3 hB2) (nI_pos (by decide)) (nI_pos (by decide)) (nI_pos (by decide)) (by rw [nI_clamp (by omega), nI_clamp (by omega)]; omega) (by rw [nI_clamp (by omega), nI_clamp (by omega)]; omega) (fun _ _ => rfl) dX2_copied_47 q827 (Nat.le_of_ble_eq_true rfl) (by omega) ?_
  rw [cpyN (n := 3) (by omega) (fun j hj => by show nI (S.1 2 j) = nI ((wArr (wArr wall0 0 (S.1 0)) 1 (S.1 1)).1 2 j); rw [hn 2 (by omega) j hj, hM2 2 (by omega) j hj])]
  have hB3 := wl_row hB2 2 3 (by omega) rfl (S.1 2)
  have hA3 : WallW G _ aw rr S := wl_far (b := aw2 (2 + 1)) (e := .inl (G.2.1 0, 3, .inl (fun j => nI (S.1 2 j)))) hA2 (fun i hi => hne i 3 hi (by omega))
  have hM3 := hM2.arr (k := 2) (f := S.1 2) (fun j hj => hn 2 (by omega) j hj)
  have hG3 := fun b e (hb : w b = some e) => (show (gu _ (aw2 (2 + 1)) (.inl (G.2.1 0, 3, .inl (fun j => nI (S.1 2 j)))) : GW) b = some e by rw [gu_n (fun z => by rw [z, hN1 (2 + 1) (by omega)] at hb; cases hb)]; exact hG2 b e hb)
  refine z_aload_n X dX2_copied_50 rfl 1 rfl ?_
  refine z_get X dX2_copied_51 (wl_o hA3) in_X2 rfl 3 (Nat.le_of_ble_eq_true rfl) q135 rfl ?_
  refine z_iconst (v := nI (0)) X dX2_copied_54 ci0 ?_
  refine z_aload_n X dX2_copied_55 rfl 0 rfl ?_
  refine z_get X dX2_copied_56 (wl_o hB3) in_X2 rfl 3 (Nat.le_of_ble_eq_true rfl) q135 rfl ?_
  refine z_iconst (v := nI (0)) X dX2_copied_59 ci0 ?_
  refine z_bipush (v := nI (6)) X dX2_copied_60 (by decide) ?_
  refine z_cpyI (t := 0) (ty := .int) X rfl rfl (wl_4 hA3) (wl_4 hB3) (nI_pos (by decide)) (nI_pos (by decide)) (nI_pos (by decide)) (by rw [nI_clamp (by omega), nI_clamp (by omega)]; omega) (by rw [nI_clamp (by omega), nI_clamp (by omega)]; omega) (fun _ _ => rfl) dX2_copied_62 q827 (Nat.le_of_ble_eq_true rfl) (by omega) ?_
  rw [cpyN (n := 6) (by omega) (fun j hj => by show nI (S.1 3 j) = nI ((wArr (wArr (wArr wall0 0 (S.1 0)) 1 (S.1 1)) 2 (S.1 2)).1 3 j); rw [hn 3 (by omega) j hj, hM3 3 (by omega) j hj])]
  have hB4 := wl_row hB3 3 6 (by omega) rfl (S.1 3)
  have hA4 : WallW G _ aw rr S := wl_far (b := aw2 (3 + 1)) (e := .inl (G.2.1 0, 6, .inl (fun j => nI (S.1 3 j)))) hA3 (fun i hi => hne i 4 hi (by omega))
  have hM4 := hM3.arr (k := 3) (f := S.1 3) (fun j hj => hn 3 (by omega) j hj)
  have hG4 := fun b e (hb : w b = some e) => (show (gu _ (aw2 (3 + 1)) (.inl (G.2.1 0, 6, .inl (fun j => nI (S.1 3 j)))) : GW) b = some e by rw [gu_n (fun z => by rw [z, hN1 (3 + 1) (by omega)] at hb; cases hb)]; exact hG3 b e hb)
  refine z_aload_n X dX2_copied_65 rfl 1 rfl ?_
  refine z_get X dX2_copied_66 (wl_o hA4) in_X2 rfl 4 (Nat.le_of_ble_eq_true rfl) q138 rfl ?_
  refine z_iconst (v := nI (0)) X dX2_copied_69 ci0 ?_
  refine z_aload_n X dX2_copied_70 rfl 0 rfl ?_
  refine z_get X dX2_copied_71 (wl_o hB4) in_X2 rfl 4 (Nat.le_of_ble_eq_true rfl) q138 rfl ?_
  refine z_iconst (v := nI (0)) X dX2_copied_74 ci0 ?_
  refine z_bipush (v := nI (6)) X dX2_copied_75 (by decide) ?_
  refine z_cpyI (t := 0) (ty := .int) X rfl rfl (wl_5 hA4) (wl_5 hB4) (nI_pos (by decide)) (nI_pos (by decide)) (nI_pos (by decide)) (by rw [nI_clamp (by omega), nI_clamp (by omega)]; omega) (by rw [nI_clamp (by omega), nI_clamp (by omega)]; omega) (fun _ _ => rfl) dX2_copied_77 q827 (Nat.le_of_ble_eq_true rfl) (by omega) ?_
  rw [cpyN (n := 6) (by omega) (fun j hj => by show nI (S.1 4 j) = nI ((wArr (wArr (wArr (wArr wall0 0 (S.1 0)) 1 (S.1 1)) 2 (S.1 2)) 3 (S.1 3)).1 4 j); rw [hn 4 (by omega) j hj, hM4 4 (by omega) j hj])]
  have hB5 := wl_row hB4 4 6 (by omega) rfl (S.1 4)
  have hA5 : WallW G _ aw rr S := wl_far (b := aw2 (4 + 1)) (e := .inl (G.2.1 0, 6, .inl (fun j => nI (S.1 4 j)))) hA4 (fun i hi => hne i 5 hi (by omega))
  have hM5 := hM4.arr (k := 4) (f := S.1 4) (fun j hj => hn 4 (by omega) j hj)
  have hG5 := fun b e (hb : w b = some e) => (show (gu _ (aw2 (4 + 1)) (.inl (G.2.1 0, 6, .inl (fun j => nI (S.1 4 j)))) : GW) b = some e by rw [gu_n (fun z => by rw [z, hN1 (4 + 1) (by omega)] at hb; cases hb)]; exact hG4 b e hb)
  refine z_aload_n X dX2_copied_80 rfl 1 rfl ?_
  refine z_get X dX2_copied_81 (wl_o hA5) in_X2 rfl 5 (Nat.le_of_ble_eq_true rfl) q142 rfl ?_
  refine z_iconst (v := nI (0)) X dX2_copied_84 ci0 ?_
  refine z_aload_n X dX2_copied_85 rfl 0 rfl ?_
  refine z_get X dX2_copied_86 (wl_o hB5) in_X2 rfl 5 (Nat.le_of_ble_eq_true rfl) q142 rfl ?_
  refine z_iconst (v := nI (0)) X dX2_copied_89 ci0 ?_
  refine z_bipush (v := nI (6)) X dX2_copied_90 (by decide) ?_
  refine z_cpyI (t := 0) (ty := .int) X rfl rfl (wl_6 hA5) (wl_6 hB5) (nI_pos (by decide)) (nI_pos (by decide)) (nI_pos (by decide)) (by rw [nI_clamp (by omega), nI_clamp (by omega)]; omega) (by rw [nI_clamp (by omega), nI_clamp (by omega)]; omega) (fun _ _ => rfl) dX2_copied_92 q827 (Nat.le_of_ble_eq_true rfl) (by omega) ?_
  rw [cpyN (n := 6) (by omega) (fun j hj => by show nI (S.1 5 j) = nI ((wArr (wArr (wArr (wArr (wArr wall0 0 (S.1 0)) 1 (S.1 1)) 2 (S.1 2)) 3 (S.1 3)) 4 (S.1 4)).1 5 j); rw [hn 5 (by omega) j hj, hM5 5 (by omega) j hj])]
  have hB6 := wl_row hB5 5 6 (by omega) rfl (S.1 5)
  have hA6 : WallW G _ aw rr S := wl_far (b := aw2 (5 + 1)) (e := .inl (G.2.1 0, 6, .inl (fun j => nI (S.1 5 j)))) hA5 (fun i hi => hne i 6 hi (by omega))
  have hM6 := hM5.arr (k := 5) (f := S.1 5) (fun j hj => hn 5 (by omega) j hj)
  have hG6 := fun b e (hb : w b = some e) => (show (gu _ (aw2 (5 + 1)) (.inl (G.2.1 0, 6, .inl (fun j => nI (S.1 5 j)))) : GW) b = some e by rw [gu_n (fun z => by rw [z, hN1 (5 + 1) (by omega)] at hb; cases hb)]; exact hG5 b e hb)
  refine z_aload_n X dX2_copied_95 rfl 1 rfl ?_
  refine z_get X dX2_copied_96 (wl_o hA6) in_X2 rfl 6 (Nat.le_of_ble_eq_true rfl) q147 rfl ?_
  refine z_iconst (v := nI (0)) X dX2_copied_99 ci0 ?_
  refine z_aload_n X dX2_copied_100 rfl 0 rfl ?_
  refine z_get X dX2_copied_101 (wl_o hB6) in_X2 rfl 6 (Nat.le_of_ble_eq_true rfl) q147 rfl ?_
  refine z_iconst (v := nI (0)) X dX2_copied_104 ci0 ?_
  refine z_bipush (v := nI (6)) X dX2_copied_105 (by decide) ?_
  refine z_cpyI (t := 0) (ty := .int) X rfl rfl (wl_7 hA6) (wl_7 hB6) (nI_pos (by decide)) (nI_pos (by decide)) (nI_pos (by decide)) (by rw [nI_clamp (by omega), nI_clamp (by omega)]; omega) (by rw [nI_clamp (by omega), nI_clamp (by omega)]; omega) (fun _ _ => rfl) dX2_copied_107 q827 (Nat.le_of_ble_eq_true rfl) (by omega) ?_
  rw [cpyN (n := 6) (by omega) (fun j hj => by show nI (S.1 6 j) = nI ((wArr (wArr (wArr (wArr (wArr (wArr wall0 0 (S.1 0)) 1 (S.1 1)) 2 (S.1 2)) 3 (S.1 3)) 4 (S.1 4)) 5 (S.1 5)).1 6 j); rw [hn 6 (by omega) j hj, hM6 6 (by omega) j hj])]
  have hB7 := wl_row hB6 6 6 (by omega) rfl (S.1 6)
  have hA7 : WallW G _ aw rr S := wl_far (b := aw2 (6 + 1)) (e := .inl (G.2.1 0, 6, .inl (fun j => nI (S.1 6 j)))) hA6 (fun i hi => hne i 7 hi (by omega))
  have hM7 := hM6.arr (k := 6) (f := S.1 6) (fun j hj => hn 6 (by omega) j hj)
  have hG7 := fun b e (hb : w b = some e) => (show (gu _ (aw2 (6 + 1)) (.inl (G.2.1 0, 6, .inl (fun j => nI (S.1 6 j)))) : GW) b = some e by rw [gu_n (fun z => by rw [z, hN1 (6 + 1) (by omega)] at hb; cases hb)]; exact hG6 b e hb)
  refine z_aload_n X dX2_copied_110 rfl 0 rfl ?_
  refine z_aload_n X dX2_copied_111 rfl 1 rfl ?_
  refine z_get X dX2_copied_112 (wl_o hA7) in_X2 rfl 8 (Nat.le_of_ble_eq_true rfl) q151 rfl ?_
  refine z_put X dX2_copied_115 (wl_o hB7) in_X2 tyX2 tyX2_ok nmX2 rfl 8 (Nat.le_of_ble_eq_true rfl) q151 rfl rfl rfl (Nat.le_of_ble_eq_true rfl) ?_
  have hB8 := wl_fld hB7 0 (S.2 0) rfl
  have hA8 : WallW G _ aw rr S := wl_far (b := aw2 0) (e := (.inr (2, wFs aw2 none (wPut0 (wArr (wArr (wArr (wArr (wArr (wArr (wArr wall0 0 (S.1 0)) 1 (S.1 1)) 2 (S.1 2)) 3 (S.1 3)) 4 (S.1 4)) 5 (S.1 5)) 6 (S.1 6)) 0 (S.2 0))))) hA7 (fun i hi => hne i 0 hi (by omega))
  have hG8 := fun b e (hb : w b = some e) => (show (gu _ (aw2 0) (.inr (2, wFs aw2 none (wPut0 (wArr (wArr (wArr (wArr (wArr (wArr (wArr wall0 0 (S.1 0)) 1 (S.1 1)) 2 (S.1 2)) 3 (S.1 3)) 4 (S.1 4)) 5 (S.1 5)) 6 (S.1 6)) 0 (S.2 0)))) : GW) b = some e by rw [gu_n (fun z => by rw [z, hN1 0 (by omega)] at hb; cases hb)]; exact hG7 b e hb)
  refine z_aload_n X dX2_copied_118 rfl 0 rfl ?_
  refine z_aload_n X dX2_copied_119 rfl 1 rfl ?_
  refine z_get X dX2_copied_120 (wl_o hA8) in_X2 rfl 9 (Nat.le_of_ble_eq_true rfl) q157 rfl ?_
  refine z_put X dX2_copied_123 (wl_o hB8) in_X2 tyX2 tyX2_ok nmX2 rfl 9 (Nat.le_of_ble_eq_true rfl) q157 rfl rfl rfl (Nat.le_of_ble_eq_true rfl) ?_
  have hB9 := wl_fld hB8 1 (S.2 1) rfl
  have hA9 : WallW G _ aw rr S := wl_far (b := aw2 0) (e := (.inr (2, wFs aw2 none (wPut0 (wPut0 (wArr (wArr (wArr (wArr (wArr (wArr (wArr wall0 0 (S.1 0)) 1 (S.1 1)) 2 (S.1 2)) 3 (S.1 3)) 4 (S.1 4)) 5 (S.1 5)) 6 (S.1 6)) 0 (S.2 0)) 1 (S.2 1))))) hA8 (fun i hi => hne i 0 hi (by omega))
  have hG9 := fun b e (hb : w b = some e) => (show (gu _ (aw2 0) (.inr (2, wFs aw2 none (wPut0 (wPut0 (wArr (wArr (wArr (wArr (wArr (wArr (wArr wall0 0 (S.1 0)) 1 (S.1 1)) 2 (S.1 2)) 3 (S.1 3)) 4 (S.1 4)) 5 (S.1 5)) 6 (S.1 6)) 0 (S.2 0)) 1 (S.2 1)))) : GW) b = some e by rw [gu_n (fun z => by rw [z, hN1 0 (by omega)] at hb; cases hb)]; exact hG8 b e hb)
  refine z_aload_n X dX2_copied_126 rfl 0 rfl ?_
  refine z_aload_n X dX2_copied_127 rfl 1 rfl ?_
  refine z_get X dX2_copied_128 (wl_o hA9) in_X2 rfl 10 (Nat.le_of_ble_eq_true rfl) q161 rfl ?_
  refine z_put X dX2_copied_131 (wl_o hB9) in_X2 tyX2 tyX2_ok nmX2 rfl 10 (Nat.le_of_ble_eq_true rfl) q161 rfl rfl rfl (Nat.le_of_ble_eq_true rfl) ?_
  have hB10 := wl_fld hB9 2 (S.2 2) rfl
  have hA10 : WallW G _ aw rr S := wl_far (b := aw2 0) (e := (.inr (2, wFs aw2 none (wPut0 (wPut0 (wPut0 (wArr (wArr (wArr (wArr (wArr (wArr (wArr wall0 0 (S.1 0)) 1 (S.1 1)) 2 (S.1 2)) 3 (S.1 3)) 4 (S.1 4)) 5 (S.1 5)) 6 (S.1 6)) 0 (S.2 0)) 1 (S.2 1)) 2 (S.2 2))))) hA9 (fun i hi => hne i 0 hi (by omega))
  have hG10 := fun b e (hb : w b = some e) => (show (gu _ (aw2 0) (.inr (2, wFs aw2 none (wPut0 (wPut0 (wPut0 (wArr (wArr (wArr (wArr (wArr (wArr (wArr wall0 0 (S.1 0)) 1 (S.1 1)) 2 (S.1 2)) 3 (S.1 3)) 4 (S.1 4)) 5 (S.1 5)) 6 (S.1 6)) 0 (S.2 0)) 1 (S.2 1)) 2 (S.2 2)))) : GW) b = some e by rw [gu_n (fun z => by rw [z, hN1 0 (by omega)] at hb; cases hb)]; exact hG9 b e hb)
  refine z_aload_n X dX2_copied_134 rfl 0 rfl ?_
  exact z_aret X dX2_copied_135 (Or.inl ⟨_, rfl⟩) (by omega) (by omega) ⟨_, rfl, ⟨aw2, rfl, wl_same hB10 (fun k hk => by rcases (show k = 0 ∨ k = 1 ∨ k = 2 ∨ k = 3 ∨ k = 4 ∨ k = 5 ∨ k = 6 by omega) with rfl | rfl | rfl | rfl | rfl | rfl | rfl <;> rfl) ⟨rfl, rfl, rfl⟩, hG10, hN1⟩⟩
