/-! WHAT STATES ARE WORTH, hour by hour: Worths.after -/
set_option maxRecDepth 100000
theorem RgW.norm {G : GG} {w : GW} {rl : Option Nat} {tq : Nat} {S : WS} {r : RG} (h : RgW G w rl tq S r) {x : Nat} {e : va_E} (hx : w x = some e) : ∃ t2, RgW G w rl t2 S r ∧ (∃ e, w t2 = some e) ∧ (t2 = tq ∨ t2 = x) := by
  rcases h with h | ⟨q, kd, a, T, h1, h2, h3⟩
  · exact ⟨x, Or.inl h, ⟨e, hx⟩, Or.inr rfl⟩
  · by_cases h6 : kd = 6
    · exact ⟨tq, Or.inr ⟨q, kd, a, T, h1, h2, h3⟩, ⟨_, h2.2.2 h6⟩, Or.inl rfl⟩
    · refine ⟨x, Or.inr ⟨q, kd, a, T, h1, ⟨h2.1, ?_, fun h => absurd h h6⟩, h3⟩, ⟨e, hx⟩, Or.inr rfl⟩
      rw [h2.2.1]
      unfold rCell
      rw [if_neg h6, if_neg h6]
theorem RowsW.neO {G : GG} {w : GW} {q : Nat} {ro : Nat → Nat} {T : Nat → Nat → Int64} (h : RowsW G w q ro T) {b : Nat} {y : Nat × List Value} (hb : w b = some (.inr y)) : ∀ k, k < 2 → b ≠ ro k := fun k hk e => by
  rw [e, h.2.1 k hk] at hb; cases hb
/-- behind Worths.after: what the wall rows are; all else stays -/
def AftW (G : GG) (w : GW) (aw : Nat → Nat) (rr : Option Nat) (ro : Nat → Nat) (S : WS) (V : Nat → Int64) (x : Nat) (w1 : GW) : Prop := ∃ (q1 : Nat) (ro1 : Nat → Nat) (T1 : Nat → Nat → Int64), WallW G w1 aw (some q1) S ∧ RowsW G w1 q1 ro1 T1 ∧ (∃ p, p < 2 ∧ x = ro1 p ∧ T1 p = V) ∧ (∀ q0, rr = some q0 → q1 = q0 ∧ ro1 = ro) ∧ (rr = none → w q1 = none ∧ ∀ k, k < 2 → w (ro1 k) = none) ∧ ∀ b e, w b = some e → b ≠ aw 0 → (∀ q0, rr = some q0 → b ≠ ro 0 ∧ b ≠ ro 1) → w1 b = some e
theorem RgW.kept2 {G : GG} {w w1 : GW} {rl : Option Nat} {tq : Nat} {S : WS} {r : RG} (h : RgW G w rl tq S r) {q : Nat} {ro : Nat → Nat} {T : Nat → Nat → Int64} (hR : RowsW G w q ro T) (htq : ∀ k, k < 2 → tq ≠ ro k) (hk : ∀ b e, w b = some e → b ≠ ro 0 → b ≠ ro 1 → w1 b = some e) : RgW G w1 rl tq S r := by
  have key : ∀ k, k < 2 → ∀ b e, w b = some e → (∀ c n f, e = .inl (c, n, .inr (.inl f)) → b = tq) → b ≠ ro k := by
    intro k hk2 b e hb hl e1
    have h9 := hR.2.1 k hk2
    rw [← e1, hb] at h9
    exact htq k hk2 ((hl _ _ _ (Option.some.inj h9)).symm.trans e1)
  exact h.kept (fun b e hb hl => hk b e hb (key 0 (by omega) b e hb hl) (key 1 (by omega) b e hb hl))
theorem RgW.keptO {G : GG} {w w1 : GW} {rl : Option Nat} {tq : Nat} {S : WS} {r : RG} (h : RgW G w rl tq S r) {x c : Nat} {fs : List Value} (hx : w x = some (.inr (c, fs))) (hc : c = 2) (hk : ∀ b e, w b = some e → b ≠ x → w1 b = some e) : RgW G w1 rl tq S r := by
  rcases h with h | ⟨q, kd, a, T, h1, ⟨h2, h3, h4⟩, h5⟩
  · exact Or.inl h
  · refine Or.inr ⟨q, kd, a, T, h1, ⟨h2, hk _ _ h3 (fun e => ?_), fun h6 => hk _ _ (h4 h6) (fun e => ?_)⟩, h5⟩
    · rw [e, hx] at h3
      have h6 := Option.some.inj h3
      unfold rCell at h6
      split at h6
      · have := congrArg Prod.fst (Sum.inr.inj h6)
        simp only at this
        omega
      · have := congrArg Prod.fst (Sum.inr.inj h6)
        simp only at this
        omega
    · have h7 := h4 h6
      rw [e, hx] at h7
      cases h7
set_option maxHeartbeats 2000000 in
theorem m_X13_afterS {l : Launch} {G : GG} {w : GW} {aw : Nat → Nat} {S : WS} {q : Nat} {ro : Nat → Nat} {T : Nat → Nat → Int64} (hR : RowsW G w q ro T) (hW : WallW G w aw (some q) S) (hI : wInv S) {wq : Nat} {rl : Option Nat} (hq : w wq = some (.inr (12, [.ref (aw 0), va_rf rl, .int (nI (100 - sumTo (S.1 4) (S.2 0)))]))) {tq : Nat} {r : RG} (hr : RgW G w rl tq S r) (htq : ∀ k, k < 2 → tq ≠ ro k) {n : Nat} (hn : n ≤ 24) : gM l G yX13_after cX13_after 6 (some (.array (.long))) 8 6 504 [.ref (wq), .int (nI (n))] w (pA (fun r_ w1 => AftW G w aw (some q) ro S (vals S r n) r_ w1)) := by
  refine Z.met (own := "ThreeSizes$Worths") (nm := "after") (lv := [(0, .ref (wq)), (1, .int (nI (n)))]) (by decide) rfl rfl (Nat.le_of_ble_eq_true rfl) rfl (fun κ X => ?_)
  refine z_aload_n X dX13_after_0 rfl 0 rfl ?_
  refine z_get X dX13_after_1 hq in_X13 rfl 0 (Nat.le_of_ble_eq_true rfl) q625 rfl ?_
  refine z_iconst (v := nI (0)) X dX13_after_4 ci0 ?_
  refine z_ca (z_runV (rest := []) (n := 1) X [.int (nI (0))] (m_X2_rowS hW hR (k := 0) (by omega)) dX13_after_5 (wl_o hW) rfl (lw_V q646 q647 q648 q68 q649) hv_X2_row rfl ⟨Nat.le_of_ble_eq_true rfl, Nat.le_of_ble_eq_true rfl⟩ ⟨by omega, by omega⟩ rfl (Nat.le_of_ble_eq_true rfl)) (fun r1 w3 h2 => ?_)
  obtain ⟨h2a, h2b⟩ := h2
  subst h2a
  have hR1 := hR.set (k := 0) (f := lZero) (by omega) (fun _ _ => rfl)
  have hW1 : WallW G _ aw (some q) S := Sx.other (b := ro 0) (e := .inl (G.2.1 1, 125, .inr (.inl lZero))) hW (WallW.ne hW (hR.2.1 0 (by omega)))
  have hq1 := gu_k (e := .inl (G.2.1 1, 125, .inr (.inl lZero))) (hR.neO hq 0 (by omega)) hq
  rw [← h2b] at hR1 hW1 hq1
  have hk1 : ∀ b e, w b = some e → b ≠ ro 0 → w3 b = some e := fun b e hb h0 => by rw [h2b]; exact gu_k h0 hb
  refine z_astore_n (lv2 := [(2, .ref (ro 0)), (0, .ref (wq)), (1, .int (nI (n)))]) X dX13_after_8 rfl (Nat.le_of_ble_eq_true rfl) rfl ?_
  refine z_aload_n X dX13_after_9 rfl 1 rfl ?_
  refine z_get X dX13_after_10 hq1 in_X13 rfl 0 (Nat.le_of_ble_eq_true rfl) q625 rfl ?_
  refine z_iconst (v := nI (1)) X dX13_after_13 ci1 ?_
  refine z_ca (z_runV (rest := []) (n := 1) X [.int (nI (1))] (m_X2_rowS hW1 hR1 (k := 1) (by omega)) dX13_after_14 (wl_o hW1) rfl (lw_V q646 q647 q648 q68 q649) hv_X2_row rfl ⟨Nat.le_of_ble_eq_true rfl, Nat.le_of_ble_eq_true rfl⟩ ⟨by omega, by omega⟩ rfl (Nat.le_of_ble_eq_true rfl)) (fun r4 w6 h5 => ?_)
  obtain ⟨h5a, h5b⟩ := h5
  subst h5a
  have hR2 := hR1.set (k := 1) (f := lZero) (by omega) (fun _ _ => rfl)
  have hW2 : WallW G _ aw (some q) S := Sx.other (b := ro 1) (e := .inl (G.2.1 1, 125, .inr (.inl lZero))) hW1 (WallW.ne hW1 (hR1.2.1 1 (by omega)))
  have hq2 := gu_k (e := .inl (G.2.1 1, 125, .inr (.inl lZero))) (hR1.neO hq1 1 (by omega)) hq1
  rw [← h5b] at hR2 hW2 hq2
  have hk2 : ∀ b e, w b = some e → b ≠ aw 0 → (∀ q0, (some q) = some q0 → b ≠ ro 0 ∧ b ≠ ro 1) → w6 b = some e := fun b e hb _ h0 => by rw [h5b]; exact gu_k (h0 q rfl).2 (hk1 b e hb (h0 q rfl).1)
  have hr2 : RgW G w6 rl tq S r := hr.kept2 hR htq (fun b e hb h0 h1 => by rw [h5b]; exact gu_k h1 (hk1 b e hb h0))
  have ht0 : setR (setR T 0 lZero) 1 lZero 0 = vals S r 0 := rfl
  refine z_astore_n (lv2 := [(3, .ref (ro 1)), (2, .ref (ro 0)), (0, .ref (wq)), (1, .int (nI (n)))]) X dX13_after_17 rfl (Nat.le_of_ble_eq_true rfl) rfl ?_
  refine z_iconst (v := nI (0)) X dX13_after_18 ci0 ?_
  refine z_istore (lv2 := [(4, .int (nI (0))), (3, .ref (ro 1)), (2, .ref (ro 0)), (0, .ref (wq)), (1, .int (nI (n)))]) X dX13_after_19 (Nat.le_of_ble_eq_true rfl) rfl ?_
  have lo : ∀ (lq i : Nat) (p : Nat) (w3 : GW) (T3 : Nat → Nat → Int64), i + lq = n → p < 2 → WallW G w3 aw (some q) S → w3 wq = some (.inr (12, [.ref (aw 0), va_rf rl, .int (nI (100 - sumTo (S.1 4) (S.2 0)))])) → RgW G w3 rl tq S r → RowsW G w3 q ro T3 → T3 p = vals S r i → (∀ b e, w6 b = some e → b ≠ ro 0 → b ≠ ro 1 → w3 b = some e) → Z κ w3 [(4, .int (nI (i))), (2, .ref (ro p)), (3, .ref (ro (1 - p))), (0, .ref (wq)), (1, .int (nI (n)))] 6 504 21 [] := by
    intro lq
    induction lq with
    | zero =>
      intro i p w3 T3 lh hp hW3 hq3 hr3 hR3 hT3 hk3
      refine z_iload X dX13_after_21 0 rfl ?_
      refine z_iload_n X dX13_after_23 rfl 4 rfl ?_
      refine z_icmp_ge_t (tgt := 91) X dX13_after_24 (by decide) ((nI_leI (by omega) (by omega)).mpr (by omega)) ?_
      refine z_aload_n X dX13_after_91 rfl 1 rfl ?_
      exact z_aret X dX13_after_92 (Or.inr ⟨_, rfl⟩) (by omega) (by omega) ⟨_, rfl, ⟨q, ro, T3, hW3, hR3, ⟨p, hp, rfl, by rw [hT3, show i = n by omega]⟩, fun q0 h => ⟨Option.some.inj h, rfl⟩, (fun h => by cases h), fun b e hb h0 h1 => hk3 b e (hk2 b e hb h0 h1) (h1 q rfl).1 (h1 q rfl).2⟩⟩
    | succ lq ih =>
      intro i p w3 T3 lh hp hW3 hq3 hr3 hR3 hT3 hk3
      refine z_iload X dX13_after_21 0 rfl ?_
      refine z_iload_n X dX13_after_23 rfl 4 rfl ?_
      refine z_icmp_ge_f (tgt := 91) X dX13_after_24 (by decide) (fun h => absurd ((nI_leI (by omega) (by omega)).mp h) (by omega)) ?_
      refine z_iconst (v := nI (0)) X dX13_after_27 ci0 ?_
      refine z_istore (lv2 := [(5, .int (nI (0))), (4, .int (nI (i))), (2, .ref (ro p)), (3, .ref (ro (1 - p))), (0, .ref (wq)), (1, .int (nI (n)))]) X dX13_after_28 (Nat.le_of_ble_eq_true rfl) rfl ?_
      rw [← gu_self (hR3.2.1 (1 - p) (by omega))]
      have ls : ∀ (lq s : Nat), s + lq = 125 → Z κ (gu w3 (ro (1 - p)) (.inl (G.2.1 1, 125, .inr (.inl (mixL (vals S r (i + 1)) (T3 (1 - p)) s))))) [(5, .int (nI (s))), (4, .int (nI (i))), (2, .ref (ro p)), (3, .ref (ro (1 - p))), (0, .ref (wq)), (1, .int (nI (n)))] 6 504 30 [] := by
        intro lq
        induction lq with
        | zero =>
          intro s lh
          obtain rfl : s = 125 := by omega
          refine z_iload X dX13_after_30 0 rfl ?_
          refine z_bipush (v := nI (125)) X dX13_after_32 (by decide) ?_
          refine z_icmp_ge_t (tgt := 77) X dX13_after_34 (by decide) ((nI_leI (by omega) (by omega)).mpr (by omega)) ?_
          refine z_aload_n X dX13_after_77 rfl 2 rfl ?_
          refine z_astore (lv2 := [(5, .ref (ro p)), (4, .int (nI (i))), (2, .ref (ro p)), (3, .ref (ro (1 - p))), (0, .ref (wq)), (1, .int (nI (n)))]) X dX13_after_78 (Nat.le_of_ble_eq_true rfl) rfl ?_
          refine z_aload_n X dX13_after_80 rfl 3 rfl ?_
          refine z_astore_n (lv2 := [(2, .ref (ro (1 - p))), (5, .ref (ro p)), (4, .int (nI (i))), (3, .ref (ro (1 - p))), (0, .ref (wq)), (1, .int (nI (n)))]) X dX13_after_81 rfl (Nat.le_of_ble_eq_true rfl) rfl ?_
          refine z_aload X dX13_after_82 1 rfl ?_
          refine z_astore_n (lv2 := [(3, .ref (ro p)), (2, .ref (ro (1 - p))), (5, .ref (ro p)), (4, .int (nI (i))), (0, .ref (wq)), (1, .int (nI (n)))]) X dX13_after_84 rfl (Nat.le_of_ble_eq_true rfl) rfl ?_
          refine z_iinc (v := nI (i + 1)) (lv2 := [(4, .int (nI (i + 1))), (3, .ref (ro p)), (2, .ref (ro (1 - p))), (5, .ref (ro p)), (0, .ref (wq)), (1, .int (nI (n)))]) X dX13_after_85 3 rfl (nI_1 _) (Nat.le_of_ble_eq_true rfl) rfl ?_
          refine z_goto (tgt := 21) X dX13_after_88 (by decide) ?_
          refine Z.lv [0, 2, 1, 4, 5] rfl ?_
          rw [mixL_all (g := vals S r (i + 1)) (fun j hj => (hR3.2.2.2 (1 - p) (by omega) j hj).trans (vals_hi (i + 1) j hj).symm)]
          have hR5 := hR3.set (k := 1 - p) (by omega) (f := vals S r (i + 1)) (vals_hi (i + 1))
          have hW5 : WallW G (gu w3 (ro (1 - p)) (.inl (G.2.1 1, 125, .inr (.inl (vals S r (i + 1)))))) aw (some q) S := Sx.other hW3 (WallW.ne hW3 (hR3.2.1 (1 - p) (by omega)))
          have hpp : 1 - (1 - p) = p := by omega
          have kk := ih (i + 1) (1 - p) _ _ (by omega) (by omega) hW5 (gu_k (hR3.neO hq3 (1 - p) (by omega)) hq3) (hr3.kept2 hR3 htq (fun b e hb h0 h1 => gu_k (by rcases (show p = 0 ∨ p = 1 by omega) with rfl | rfl <;> assumption) hb)) hR5 (if_pos rfl) (fun b e hb h0 h1 => gu_k (by rcases (show p = 0 ∨ p = 1 by omega) with rfl | rfl <;> assumption) (hk3 b e hb h0 h1))
          rw [hpp] at kk
          exact kk
        | succ lq ih =>
          intro s lh
          have hR4 := hR3.set (k := 1 - p) (by omega) (f := mixL (vals S r (i + 1)) (T3 (1 - p)) s) (fun j hj => by unfold mixL; rw [if_neg (by omega)]; exact hR3.2.2.2 (1 - p) (by omega) j hj)
          have hW4 : WallW G (gu w3 (ro (1 - p)) (.inl (G.2.1 1, 125, .inr (.inl (mixL (vals S r (i + 1)) (T3 (1 - p)) s))))) aw (some q) S := Sx.other hW3 (WallW.ne hW3 (hR3.2.1 (1 - p) (by omega)))
          have hq4 : (gu w3 (ro (1 - p)) (.inl (G.2.1 1, 125, .inr (.inl (mixL (vals S r (i + 1)) (T3 (1 - p)) s))))) wq = some (.inr (12, [.ref (aw 0), va_rf rl, .int (nI (100 - sumTo (S.1 4) (S.2 0)))])) := gu_k (hR3.neO hq3 (1 - p) (by omega)) hq3
          have hr4 : RgW G (gu w3 (ro (1 - p)) (.inl (G.2.1 1, 125, .inr (.inl (mixL (vals S r (i + 1)) (T3 (1 - p)) s))))) rl tq S r := hr3.kept2 hR3 htq (fun b e hb h0 h1 => gu_k (by rcases (show p = 0 ∨ p = 1 by omega) with rfl | rfl <;> assumption) hb)
          have ht4 : (gu w3 (ro (1 - p)) (.inl (G.2.1 1, 125, .inr (.inl (mixL (vals S r (i + 1)) (T3 (1 - p)) s))))) (ro p) = some (.inl (G.2.1 1, 125, .inr (.inl (vals S r i)))) := by
            have h9 := hR4.2.1 p hp
            rw [show setR T3 (1 - p) (mixL (vals S r (i + 1)) (T3 (1 - p)) s) p = T3 p from if_neg (by omega), hT3] at h9
            exact h9
          refine z_iload X dX13_after_30 0 rfl ?_
          refine z_bipush (v := nI (125)) X dX13_after_32 (by decide) ?_
          refine z_icmp_ge_f (tgt := 77) X dX13_after_34 (by decide) (fun h => absurd ((nI_leI (by omega) (by omega)).mp h) (by omega)) ?_
          refine z_aload_n X dX13_after_37 rfl 3 rfl ?_
          refine z_iload X dX13_after_38 0 rfl ?_
          refine z_aload_n X dX13_after_40 rfl 4 rfl ?_
          refine z_get X dX13_after_41 hq4 in_X13 rfl 0 (Nat.le_of_ble_eq_true rfl) q625 rfl ?_
          refine z_iload X dX13_after_44 0 rfl ?_
          refine z_cip (z_runV (rest := [.int (nI (s)), .ref (ro (1 - p))]) (n := 1) X [.int (nI (s))] (m_X2_isState hW4 hI (st := s) (by omega)) dX13_after_46 (wl_o hW4) rfl (lw_V q655 q656 q657 q68 q658) hv_X2_isState rfl ⟨Nat.le_of_ble_eq_true rfl, Nat.le_of_ble_eq_true rfl⟩ ⟨by omega, by omega⟩ rfl (Nat.le_of_ble_eq_true rfl)) ?_
          refine z_if_eq (tgt := 69) X dX13_after_49 (by decide) bI_0 (fun c7 => ?_) (fun c7 => ?_)
          · refine z_lconst (v := lN 0) X dX13_after_69 cl0 ?_
            refine z_lsN X dX13_after_70 gu_s (by omega) (by omega) ?_
            rw [gu_gu, mixL_1 (g := vals S r (i + 1)) (x := lN (0)) (by simp only [vals]; rw [if_neg (by rw [c7]; exact Bool.false_ne_true)])]
            refine z_iinc (v := nI (s + 1)) (lv2 := [(5, .int (nI (s + 1))), (4, .int (nI (i))), (2, .ref (ro p)), (3, .ref (ro (1 - p))), (0, .ref (wq)), (1, .int (nI (n)))]) X dX13_after_71 0 rfl (nI_1 _) (Nat.le_of_ble_eq_true rfl) rfl ?_
            refine z_goto (tgt := 30) X dX13_after_74 (by decide) ?_
            exact ih (s + 1) (by omega)
          · have c7 := ts_t c7
            refine z_aload_n X dX13_after_52 rfl 4 rfl ?_
            refine z_iload X dX13_after_53 0 rfl ?_
            refine z_aload_n X dX13_after_55 rfl 2 rfl ?_
            refine z_aload_n X dX13_after_56 rfl 4 rfl ?_
            refine z_get X dX13_after_57 hq4 in_X13 rfl 0 (Nat.le_of_ble_eq_true rfl) q625 rfl ?_
            refine z_get X dX13_after_60 (wl_o hW4) in_X2 rfl 2 (Nat.le_of_ble_eq_true rfl) q131 rfl ?_
            refine z_clp (z_runV (rest := [.int (nI (s)), .ref (ro (1 - p))]) (n := 3) X [.int (nI (s)), .ref (ro p), .ref (aw 3)] (m_X13_hour hq4 hW4 hI hr4 (fun z hz => (hI.1 z hz).2.2) (wl_3 hW4) ht4 (by omega)) dX13_after_63 hq4 rfl (lw_V q666 q667 q668 q90 q669) hv_X13_hour rfl ⟨Nat.le_of_ble_eq_true rfl, Nat.le_of_ble_eq_true rfl⟩ ⟨by omega, by omega⟩ rfl (Nat.le_of_ble_eq_true rfl)) ?_
            refine z_goto (tgt := 70) X dX13_after_66 (by decide) ?_
            refine z_lsN X dX13_after_70 gu_s (by omega) (by omega) ?_
            rw [gu_gu, mixL_1 (g := vals S r (i + 1)) (x := hourV S r (S.1 2) (vals S r i) s) (by simp only [vals]; rw [if_pos c7])]
            refine z_iinc (v := nI (s + 1)) (lv2 := [(5, .int (nI (s + 1))), (4, .int (nI (i))), (2, .ref (ro p)), (3, .ref (ro (1 - p))), (0, .ref (wq)), (1, .int (nI (n)))]) X dX13_after_71 0 rfl (nI_1 _) (Nat.le_of_ble_eq_true rfl) rfl ?_
            refine z_goto (tgt := 30) X dX13_after_74 (by decide) ?_
            exact ih (s + 1) (by omega)
      rw [show T3 (1 - p) = mixL (vals S r (i + 1)) (T3 (1 - p)) 0 from mixL_0.symm]
      exact ls 125 0 (by omega)
  refine Z.lv [0, 2, 1, 3, 4] rfl ?_
  exact lo n 0 0 w6 _ (by omega) (by omega) hW2 hq2 hr2 hR2 ht0 (fun b e hb _ _ => hb)
set_option maxHeartbeats 2000000 in
theorem m_X13_afterN {l : Launch} {G : GG} {w : GW} {aw : Nat → Nat} {S : WS} {ro0 : Nat → Nat} (hW : WallW G w aw none S) (hI : wInv S) {wq : Nat} {rl : Option Nat} (hq : w wq = some (.inr (12, [.ref (aw 0), va_rf rl, .int (nI (100 - sumTo (S.1 4) (S.2 0)))]))) {tq : Nat} {r : RG} (hr : RgW G w rl tq S r) (htx : ∃ e, w tq = some e) {n : Nat} (hn : n ≤ 24) : gM l G yX13_after cX13_after 6 (some (.array (.long))) 8 6 504 [.ref (wq), .int (nI (n))] w (pA (fun r_ w1 => AftW G w aw none ro0 S (vals S r n) r_ w1)) := by
  refine Z.met (own := "ThreeSizes$Worths") (nm := "after") (lv := [(0, .ref (wq)), (1, .int (nI (n)))]) (by decide) rfl rfl (Nat.le_of_ble_eq_true rfl) rfl (fun κ X => ?_)
  refine z_aload_n X dX13_after_0 rfl 0 rfl ?_
  refine z_get X dX13_after_1 hq in_X13 rfl 0 (Nat.le_of_ble_eq_true rfl) q625 rfl ?_
  refine z_iconst (v := nI (0)) X dX13_after_4 ci0 ?_
  refine z_ca (z_runV (rest := []) (n := 1) X [.int (nI (0))] (m_X2_rowN hW (k := 0) (by omega)) dX13_after_5 (wl_o hW) rfl (lw_V q646 q647 q648 q68 q649) hv_X2_row rfl ⟨Nat.le_of_ble_eq_true rfl, Nat.le_of_ble_eq_true rfl⟩ ⟨by omega, by omega⟩ rfl (Nat.le_of_ble_eq_true rfl)) (fun r1 w3 h2 => ?_)
  obtain ⟨q, ro, h2a, hW1, hR1, h2k, h2q, h2r⟩ := h2
  subst h2a
  have hq1 := h2k _ _ hq (WallW.neO hW hq (by decide) 0 rfl).symm
  have hk1 : ∀ b e, w b = some e → b ≠ aw 0 → w3 b = some e := h2k
  have hfr : w q = none ∧ ∀ k, k < 2 → w (ro k) = none := ⟨h2q, h2r⟩
  refine z_astore_n (lv2 := [(2, .ref (ro 0)), (0, .ref (wq)), (1, .int (nI (n)))]) X dX13_after_8 rfl (Nat.le_of_ble_eq_true rfl) rfl ?_
  refine z_aload_n X dX13_after_9 rfl 1 rfl ?_
  refine z_get X dX13_after_10 hq1 in_X13 rfl 0 (Nat.le_of_ble_eq_true rfl) q625 rfl ?_
  refine z_iconst (v := nI (1)) X dX13_after_13 ci1 ?_
  refine z_ca (z_runV (rest := []) (n := 1) X [.int (nI (1))] (m_X2_rowS hW1 hR1 (k := 1) (by omega)) dX13_after_14 (wl_o hW1) rfl (lw_V q646 q647 q648 q68 q649) hv_X2_row rfl ⟨Nat.le_of_ble_eq_true rfl, Nat.le_of_ble_eq_true rfl⟩ ⟨by omega, by omega⟩ rfl (Nat.le_of_ble_eq_true rfl)) (fun r4 w6 h5 => ?_)
  obtain ⟨h5a, h5b⟩ := h5
  subst h5a
  have hR2 := hR1.set (k := 1) (f := lZero) (by omega) (fun _ _ => rfl)
  have hW2 : WallW G _ aw (some q) S := Sx.other (b := ro 1) (e := .inl (G.2.1 1, 125, .inr (.inl lZero))) hW1 (WallW.ne hW1 (hR1.2.1 1 (by omega)))
  have hq2 := gu_k (e := .inl (G.2.1 1, 125, .inr (.inl lZero))) (hR1.neO hq1 1 (by omega)) hq1
  rw [← h5b] at hR2 hW2 hq2
  have hk2 : ∀ b e, w b = some e → b ≠ aw 0 → w6 b = some e := fun b e hb h0 => by rw [h5b]; exact gu_k (gu_ne (hfr.2 1 (by omega)) hb) (hk1 b e hb h0)
  have hr2 : RgW G w6 rl tq S r := hr.keptO (x := aw 0) (wl_o hW) (by decide) (fun b e hb h0 => hk2 b e hb h0)
  have ht0 : setR (fun _ => lZero) 1 lZero 0 = vals S r 0 := rfl
  refine z_astore_n (lv2 := [(3, .ref (ro 1)), (2, .ref (ro 0)), (0, .ref (wq)), (1, .int (nI (n)))]) X dX13_after_17 rfl (Nat.le_of_ble_eq_true rfl) rfl ?_
  refine z_iconst (v := nI (0)) X dX13_after_18 ci0 ?_
  refine z_istore (lv2 := [(4, .int (nI (0))), (3, .ref (ro 1)), (2, .ref (ro 0)), (0, .ref (wq)), (1, .int (nI (n)))]) X dX13_after_19 (Nat.le_of_ble_eq_true rfl) rfl ?_
  have htq : ∀ k, k < 2 → tq ≠ ro k := fun k hk => gu_ne (hfr.2 k hk) htx.choose_spec
  have lo : ∀ (lq i : Nat) (p : Nat) (w3 : GW) (T3 : Nat → Nat → Int64), i + lq = n → p < 2 → WallW G w3 aw (some q) S → w3 wq = some (.inr (12, [.ref (aw 0), va_rf rl, .int (nI (100 - sumTo (S.1 4) (S.2 0)))])) → RgW G w3 rl tq S r → RowsW G w3 q ro T3 → T3 p = vals S r i → (∀ b e, w6 b = some e → b ≠ ro 0 → b ≠ ro 1 → w3 b = some e) → Z κ w3 [(4, .int (nI (i))), (2, .ref (ro p)), (3, .ref (ro (1 - p))), (0, .ref (wq)), (1, .int (nI (n)))] 6 504 21 [] := by
    intro lq
    induction lq with
    | zero =>
      intro i p w3 T3 lh hp hW3 hq3 hr3 hR3 hT3 hk3
      refine z_iload X dX13_after_21 0 rfl ?_
      refine z_iload_n X dX13_after_23 rfl 4 rfl ?_
      refine z_icmp_ge_t (tgt := 91) X dX13_after_24 (by decide) ((nI_leI (by omega) (by omega)).mpr (by omega)) ?_
      refine z_aload_n X dX13_after_91 rfl 1 rfl ?_
      exact z_aret X dX13_after_92 (Or.inr ⟨_, rfl⟩) (by omega) (by omega) ⟨_, rfl, ⟨q, ro, T3, hW3, hR3, ⟨p, hp, rfl, by rw [hT3, show i = n by omega]⟩, (fun q0 h => by cases h), fun _ => hfr, fun b e hb h0 _ => hk3 b e (hk2 b e hb h0) (gu_ne (hfr.2 0 (by omega)) hb) (gu_ne (hfr.2 1 (by omega)) hb)⟩⟩
    | succ lq ih =>
      intro i p w3 T3 lh hp hW3 hq3 hr3 hR3 hT3 hk3
      refine z_iload X dX13_after_21 0 rfl ?_
      refine z_iload_n X dX13_after_23 rfl 4 rfl ?_
      refine z_icmp_ge_f (tgt := 91) X dX13_after_24 (by decide) (fun h => absurd ((nI_leI (by omega) (by omega)).mp h) (by omega)) ?_
      refine z_iconst (v := nI (0)) X dX13_after_27 ci0 ?_
      refine z_istore (lv2 := [(5, .int (nI (0))), (4, .int (nI (i))), (2, .ref (ro p)), (3, .ref (ro (1 - p))), (0, .ref (wq)), (1, .int (nI (n)))]) X dX13_after_28 (Nat.le_of_ble_eq_true rfl) rfl ?_
      rw [← gu_self (hR3.2.1 (1 - p) (by omega))]
      have ls : ∀ (lq s : Nat), s + lq = 125 → Z κ (gu w3 (ro (1 - p)) (.inl (G.2.1 1, 125, .inr (.inl (mixL (vals S r (i + 1)) (T3 (1 - p)) s))))) [(5, .int (nI (s))), (4, .int (nI (i))), (2, .ref (ro p)), (3, .ref (ro (1 - p))), (0, .ref (wq)), (1, .int (nI (n)))] 6 504 30 [] := by
        intro lq
        induction lq with
        | zero =>
          intro s lh
          obtain rfl : s = 125 := by omega
          refine z_iload X dX13_after_30 0 rfl ?_
          refine z_bipush (v := nI (125)) X dX13_after_32 (by decide) ?_
          refine z_icmp_ge_t (tgt := 77) X dX13_after_34 (by decide) ((nI_leI (by omega) (by omega)).mpr (by omega)) ?_
          refine z_aload_n X dX13_after_77 rfl 2 rfl ?_
          refine z_astore (lv2 := [(5, .ref (ro p)), (4, .int (nI (i))), (2, .ref (ro p)), (3, .ref (ro (1 - p))), (0, .ref (wq)), (1, .int (nI (n)))]) X dX13_after_78 (Nat.le_of_ble_eq_true rfl) rfl ?_
          refine z_aload_n X dX13_after_80 rfl 3 rfl ?_
          refine z_astore_n (lv2 := [(2, .ref (ro (1 - p))), (5, .ref (ro p)), (4, .int (nI (i))), (3, .ref (ro (1 - p))), (0, .ref (wq)), (1, .int (nI (n)))]) X dX13_after_81 rfl (Nat.le_of_ble_eq_true rfl) rfl ?_
          refine z_aload X dX13_after_82 1 rfl ?_
          refine z_astore_n (lv2 := [(3, .ref (ro p)), (2, .ref (ro (1 - p))), (5, .ref (ro p)), (4, .int (nI (i))), (0, .ref (wq)), (1, .int (nI (n)))]) X dX13_after_84 rfl (Nat.le_of_ble_eq_true rfl) rfl ?_
          refine z_iinc (v := nI (i + 1)) (lv2 := [(4, .int (nI (i + 1))), (3, .ref (ro p)), (2, .ref (ro (1 - p))), (5, .ref (ro p)), (0, .ref (wq)), (1, .int (nI (n)))]) X dX13_after_85 3 rfl (nI_1 _) (Nat.le_of_ble_eq_true rfl) rfl ?_
          refine z_goto (tgt := 21) X dX13_after_88 (by decide) ?_
          refine Z.lv [0, 2, 1, 4, 5] rfl ?_
          rw [mixL_all (g := vals S r (i + 1)) (fun j hj => (hR3.2.2.2 (1 - p) (by omega) j hj).trans (vals_hi (i + 1) j hj).symm)]
          have hR5 := hR3.set (k := 1 - p) (by omega) (f := vals S r (i + 1)) (vals_hi (i + 1))
          have hW5 : WallW G (gu w3 (ro (1 - p)) (.inl (G.2.1 1, 125, .inr (.inl (vals S r (i + 1)))))) aw (some q) S := Sx.other hW3 (WallW.ne hW3 (hR3.2.1 (1 - p) (by omega)))
          have hpp : 1 - (1 - p) = p := by omega
          have kk := ih (i + 1) (1 - p) _ _ (by omega) (by omega) hW5 (gu_k (hR3.neO hq3 (1 - p) (by omega)) hq3) (hr3.kept2 hR3 htq (fun b e hb h0 h1 => gu_k (by rcases (show p = 0 ∨ p = 1 by omega) with rfl | rfl <;> assumption) hb)) hR5 (if_pos rfl) (fun b e hb h0 h1 => gu_k (by rcases (show p = 0 ∨ p = 1 by omega) with rfl | rfl <;> assumption) (hk3 b e hb h0 h1))
          rw [hpp] at kk
          exact kk
        | succ lq ih =>
          intro s lh
          have hR4 := hR3.set (k := 1 - p) (by omega) (f := mixL (vals S r (i + 1)) (T3 (1 - p)) s) (fun j hj => by unfold mixL; rw [if_neg (by omega)]; exact hR3.2.2.2 (1 - p) (by omega) j hj)
          have hW4 : WallW G (gu w3 (ro (1 - p)) (.inl (G.2.1 1, 125, .inr (.inl (mixL (vals S r (i + 1)) (T3 (1 - p)) s))))) aw (some q) S := Sx.other hW3 (WallW.ne hW3 (hR3.2.1 (1 - p) (by omega)))
          have hq4 : (gu w3 (ro (1 - p)) (.inl (G.2.1 1, 125, .inr (.inl (mixL (vals S r (i + 1)) (T3 (1 - p)) s))))) wq = some (.inr (12, [.ref (aw 0), va_rf rl, .int (nI (100 - sumTo (S.1 4) (S.2 0)))])) := gu_k (hR3.neO hq3 (1 - p) (by omega)) hq3
          have hr4 : RgW G (gu w3 (ro (1 - p)) (.inl (G.2.1 1, 125, .inr (.inl (mixL (vals S r (i + 1)) (T3 (1 - p)) s))))) rl tq S r := hr3.kept2 hR3 htq (fun b e hb h0 h1 => gu_k (by rcases (show p = 0 ∨ p = 1 by omega) with rfl | rfl <;> assumption) hb)
          have ht4 : (gu w3 (ro (1 - p)) (.inl (G.2.1 1, 125, .inr (.inl (mixL (vals S r (i + 1)) (T3 (1 - p)) s))))) (ro p) = some (.inl (G.2.1 1, 125, .inr (.inl (vals S r i)))) := by
            have h9 := hR4.2.1 p hp
            rw [show setR T3 (1 - p) (mixL (vals S r (i + 1)) (T3 (1 - p)) s) p = T3 p from if_neg (by omega), hT3] at h9
            exact h9
          refine z_iload X dX13_after_30 0 rfl ?_
          refine z_bipush (v := nI (125)) X dX13_after_32 (by decide) ?_
          refine z_icmp_ge_f (tgt := 77) X dX13_after_34 (by decide) (fun h => absurd ((nI_leI (by omega) (by omega)).mp h) (by omega)) ?_
          refine z_aload_n X dX13_after_37 rfl 3 rfl ?_
          refine z_iload X dX13_after_38 0 rfl ?_
          refine z_aload_n X dX13_after_40 rfl 4 rfl ?_
          refine z_get X dX13_after_41 hq4 in_X13 rfl 0 (Nat.le_of_ble_eq_true rfl) q625 rfl ?_
          refine z_iload X dX13_after_44 0 rfl ?_
          refine z_cip (z_runV (rest := [.int (nI (s)), .ref (ro (1 - p))]) (n := 1) X [.int (nI (s))] (m_X2_isState hW4 hI (st := s) (by omega)) dX13_after_46 (wl_o hW4) rfl (lw_V q655 q656 q657 q68 q658) hv_X2_isState rfl ⟨Nat.le_of_ble_eq_true rfl, Nat.le_of_ble_eq_true rfl⟩ ⟨by omega, by omega⟩ rfl (Nat.le_of_ble_eq_true rfl)) ?_
          refine z_if_eq (tgt := 69) X dX13_after_49 (by decide) bI_0 (fun c7 => ?_) (fun c7 => ?_)
          · refine z_lconst (v := lN 0) X dX13_after_69 cl0 ?_
            refine z_lsN X dX13_after_70 gu_s (by omega) (by omega) ?_
            rw [gu_gu, mixL_1 (g := vals S r (i + 1)) (x := lN (0)) (by simp only [vals]; rw [if_neg (by rw [c7]; exact Bool.false_ne_true)])]
            refine z_iinc (v := nI (s + 1)) (lv2 := [(5, .int (nI (s + 1))), (4, .int (nI (i))), (2, .ref (ro p)), (3, .ref (ro (1 - p))), (0, .ref (wq)), (1, .int (nI (n)))]) X dX13_after_71 0 rfl (nI_1 _) (Nat.le_of_ble_eq_true rfl) rfl ?_
            refine z_goto (tgt := 30) X dX13_after_74 (by decide) ?_
            exact ih (s + 1) (by omega)
          · have c7 := ts_t c7
            refine z_aload_n X dX13_after_52 rfl 4 rfl ?_
            refine z_iload X dX13_after_53 0 rfl ?_
            refine z_aload_n X dX13_after_55 rfl 2 rfl ?_
            refine z_aload_n X dX13_after_56 rfl 4 rfl ?_
            refine z_get X dX13_after_57 hq4 in_X13 rfl 0 (Nat.le_of_ble_eq_true rfl) q625 rfl ?_
            refine z_get X dX13_after_60 (wl_o hW4) in_X2 rfl 2 (Nat.le_of_ble_eq_true rfl) q131 rfl ?_
            refine z_clp (z_runV (rest := [.int (nI (s)), .ref (ro (1 - p))]) (n := 3) X [.int (nI (s)), .ref (ro p), .ref (aw 3)] (m_X13_hour hq4 hW4 hI hr4 (fun z hz => (hI.1 z hz).2.2) (wl_3 hW4) ht4 (by omega)) dX13_after_63 hq4 rfl (lw_V q666 q667 q668 q90 q669) hv_X13_hour rfl ⟨Nat.le_of_ble_eq_true rfl, Nat.le_of_ble_eq_true rfl⟩ ⟨by omega, by omega⟩ rfl (Nat.le_of_ble_eq_true rfl)) ?_
            refine z_goto (tgt := 70) X dX13_after_66 (by decide) ?_
            refine z_lsN X dX13_after_70 gu_s (by omega) (by omega) ?_
            rw [gu_gu, mixL_1 (g := vals S r (i + 1)) (x := hourV S r (S.1 2) (vals S r i) s) (by simp only [vals]; rw [if_pos c7])]
            refine z_iinc (v := nI (s + 1)) (lv2 := [(5, .int (nI (s + 1))), (4, .int (nI (i))), (2, .ref (ro p)), (3, .ref (ro (1 - p))), (0, .ref (wq)), (1, .int (nI (n)))]) X dX13_after_71 0 rfl (nI_1 _) (Nat.le_of_ble_eq_true rfl) rfl ?_
            refine z_goto (tgt := 30) X dX13_after_74 (by decide) ?_
            exact ih (s + 1) (by omega)
      rw [show T3 (1 - p) = mixL (vals S r (i + 1)) (T3 (1 - p)) 0 from mixL_0.symm]
      exact ls 125 0 (by omega)
  refine Z.lv [0, 2, 1, 3, 4] rfl ?_
  exact lo n 0 0 w6 _ (by omega) (by omega) hW2 hq2 hr2 hR2 ht0 (fun b e hb _ _ => hb)
theorem m_X13_after {l : Launch} {G : GG} {w : GW} {aw : Nat → Nat} {rr : Option Nat} {S : WS} {ro : Nat → Nat} {T : Nat → Nat → Int64} (hRo : RowsO G w rr ro T) (hW : WallW G w aw rr S) (hI : wInv S) {wq : Nat} {rl : Option Nat} (hq : w wq = some (.inr (12, [.ref (aw 0), va_rf rl, .int (nI (100 - sumTo (S.1 4) (S.2 0)))]))) {tq : Nat} {r : RG} (hr : RgW G w rl tq S r) (htq : ∀ q0, rr = some q0 → ∀ k, k < 2 → tq ≠ ro k) {n : Nat} (hn : n ≤ 24) : gM l G yX13_after cX13_after 6 (some (.array (.long))) 8 6 504 [.ref wq, .int (nI n)] w (pA (fun x w1 => AftW G w aw rr ro S (vals S r n) x w1)) := by
  obtain ⟨t2, hr2, hx, ht⟩ := hr.norm (wl_o hW)
  cases rr with
  | none => exact m_X13_afterN hW hI hq hr2 hx hn
  | some q =>
    have hR := hRo q rfl
    refine m_X13_afterS hR hW hI hq hr2 (fun k hk => ?_) hn
    rcases ht with rfl | rfl
    · exact htq q rfl k hk
    · exact hR.neO (wl_o hW) k hk
