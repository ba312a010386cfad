/-! x: a second wall beside x's world; the best of any wall; worth, brings, board, feast -/
set_option maxRecDepth 100000
/-- two parts of one world, apart from each other -/
def Two (w wx wt : GW) : Prop := (∀ a e, wx a = some e → w a = some e) ∧ (∀ a e, wt a = some e → w a = some e) ∧ ∀ a, wx a ≠ none → wt a = none
theorem Two.left {w wx wt w1 w2 : GW} (h : Two w wx wt) (hf : FrW wx w w1 w2) : Two w1 w2 wt := by
  refine ⟨hf.1, fun a e he => hf.2.1 a e (h.2.1 a e he) ?_, fun a ha => ?_⟩
  · cases h9 : wx a with
    | none => rfl
    | some e9 => rw [h.2.2 a (by rw [h9]; exact Option.some_ne_none _)] at he; cases he
  · rcases hf.2.2 a ha with q | q
    · exact h.2.2 a q
    · cases h9 : wt a with
      | none => rfl
      | some e9 => rw [h.2.1 a e9 h9] at q; cases q
theorem Two.right {w wx wt w1 w2 : GW} (h : Two w wx wt) (hf : FrW wt w w1 w2) : Two w1 wx w2 := by
  refine ⟨fun a e he => hf.2.1 a e (h.1 a e he) (h.2.2 a (by rw [he]; exact Option.some_ne_none _)), hf.1, fun a ha => ?_⟩
  cases h9 : w2 a with
  | none => rfl
  | some e9 =>
    rcases hf.2.2 a (by rw [h9]; exact Option.some_ne_none _) with q | q
    · exact absurd (h.2.2 a ha) q
    · obtain ⟨e, he⟩ := Option.ne_none_iff_exists'.mp ha
      rw [h.1 a e he] at q; cases q
theorem Two.putR {w wx wt : GW} (h : Two w wx wt) {a : Nat} {e0 e : va_E} (ha : wt a = some e0) : Two (gu w a e) wx (gu wt a e) := by
  have hn : ∀ b, wx b ≠ none → b ≠ a := fun b hb z => by rw [z] at hb; rw [h.2.2 a hb] at ha; cases ha
  refine ⟨fun b e1 hb => ?_, fun b e1 hb => ?_, fun b hb => ?_⟩
  · rw [gu_n (hn b (by rw [hb]; exact Option.some_ne_none _))]; exact h.1 b e1 hb
  · by_cases z : b = a
    · subst z; rw [gu_s] at hb ⊢; exact hb
    · rw [gu_n z] at hb ⊢; exact h.2.1 b e1 hb
  · rw [gu_n (hn b hb)]; exact h.2.2 b hb
theorem WallW.mono {G : GG} {w w1 : GW} {aw : Nat → Nat} {rr : Option Nat} {S : WS} (h : WallW G w aw rr S) (hk : ∀ a e, w a = some e → w1 a = some e) : WallW G w1 aw rr S := ⟨fun i hi => hk _ _ (h.1 i hi), h.2⟩
theorem Two.start {G : GG} {w w1 : GW} {aw : Nat → Nat} {rr : Option Nat} {S : WS} (hk : ∀ b e, w b = some e → w1 b = some e) (hf : ∀ i, i < 8 → w (aw i) = none) (hW : WallW G w1 aw rr S) : ∃ wt, Two w1 w wt ∧ WallW G wt aw rr S := by
  refine ⟨fun a => if w a = none then w1 a else none, ⟨hk, fun a e he => ?_, fun a ha => if_neg ha⟩, fun i hi => ?_, hW.2⟩
  · have he : (if w a = none then w1 a else none) = some e := he
    by_cases z : w a = none
    · rw [if_pos z] at he; exact he
    · rw [if_neg z] at he; cases he
  · show (if w (aw i) = none then w1 (aw i) else none) = _
    rw [if_pos (hf i (by simpa [wP] using hi))]
    exact hW.1 i hi
theorem RowsW.mono {G : GG} {w w1 : GW} {q : Nat} {ro : Nat → Nat} {T : Nat → Nat → Int64} (h : RowsW G w q ro T) (hk : ∀ a e, w a = some e → w1 a = some e) : RowsW G w1 q ro T := ⟨hk _ _ h.1, fun k hk2 => hk _ _ (h.2.1 k hk2), h.2.2⟩
theorem RowsO.mono {G : GG} {w w1 : GW} {rr : Option Nat} {ro : Nat → Nat} {T : Nat → Nat → Int64} (h : RowsO G w rr ro T) (hk : ∀ a e, w a = some e → w1 a = some e) : RowsO G w1 rr ro T := fun q hq => (h q hq).mono hk
theorem rowsO_none {G : GG} {w : GW} : RowsO G w none (fun _ => 0) (fun _ _ => 0) := fun q hq => nomatch hq
theorem RowsO.ofW {G : GG} {w : GW} {q : Nat} {ro : Nat → Nat} {T : Nat → Nat → Int64} (h : RowsW G w q ro T) : RowsO G w (some q) ro T := fun q2 hq => by cases hq; exact h
set_option maxHeartbeats 2000000 in
theorem m_W_best {l : Launch} {G : GG} {w : GW} {aw : Nat → Nat} {rr : Option Nat} {S : WS} {ro : Nat → Nat} {T : Nat → Nat → Int64} (hRo : RowsO G w rr ro T) (hW : WallW G w aw rr S) (hI : wInv S) {n : Nat} (hn : n ≤ 24) : gM l G yX0_best_2 cX0_best_2 2 (some .long) 10 7 507 [.ref (aw 0), .int (nI (n))] w (pL (fun r w1 => r = bestV S n ∧ ∃ q1 ro1 T1, WallW G w1 aw (some q1) S ∧ RowsW G w1 q1 ro1 T1)) := by
  refine Z.met (own := "ThreeSizes") (nm := "best") (lv := [(0, .ref (aw 0)), (1, .int (nI (n)))]) (by decide) rfl rfl (Nat.le_of_ble_eq_true rfl) rfl (fun κ X => ?_)
  have hs := stOf_lt hI
  refine z_new X dX0_best_2_0 in_X13 tyX13 tyX13_ok (ci := 12) (fs := [.null, .null, .int 0]) q1205 q615 q90 rfl (fun j hj => by rcases (show j = 0 ∨ j = 1 ∨ j = 2 by omega) with rfl | rfl | rfl <;> rfl) (by omega) (by omega) (fun qz1 hqz1 => ?_)
  refine z_dup X dX0_best_2_3 rfl ?_
  refine z_aload_n X dX0_best_2_4 rfl 0 rfl ?_
  refine z_null X dX0_best_2_5 ?_
  have hne9 : ∀ i, i < 8 → aw i ≠ qz1 := fun i hi z => by have h9 := hW.1 i (by simpa [wP] using hi); rw [z, hqz1] at h9; cases h9
  have hne9 : ∀ i, i < 8 → aw i ≠ qz1 := fun i hi z => by have h9 := hW.1 i (by simpa [wP] using hi); rw [z, hqz1] at h9; cases h9
  refine z_cv (z_runI (rest := [.ref (qz1)]) (n := 2) X [.ref (aw 0), .null] (m_X13_initN (wl_far hW hne9) hI (wq := qz1) gu_s) dX0_best_2_6 (lw_meth q618) q90 q1206 q617 rfl hs_X13_init rfl ⟨Nat.le_of_ble_eq_true rfl, Nat.le_of_ble_eq_true rfl⟩ ⟨by omega, by omega⟩ rfl (Nat.le_of_ble_eq_true rfl)) (fun w4 h3 => ?_)
  rw [gu_gu] at h3
  subst h3
  have hW3 : WallW G (gu w qz1 (.inr (12, [.ref (aw 0), .null, .int (nI (100 - sumTo (S.1 4) (S.2 0)))]))) aw rr S := wl_far hW hne9
  have hR3 : RowsO G (gu w qz1 (.inr (12, [.ref (aw 0), .null, .int (nI (100 - sumTo (S.1 4) (S.2 0)))]))) rr ro T := hRo.mono (fun a e he => gu_f hqz1 he)
  have htq : ∀ q0, rr = some q0 → ∀ k, k < 2 → qz1 ≠ ro k := fun q0 h0 k hk z => by have h1 := (hRo q0 h0).2.1 k hk; rw [← z, hqz1] at h1; cases h1
  refine z_iload_n X dX0_best_2_9 rfl 1 rfl ?_
  refine z_ca (z_runV (rest := []) (n := 1) X [.int (nI (n))] (m_X13_after hR3 hW3 hI (wq := qz1) (rl := none) gu_s (tq := qz1) (r := rBest S) (Or.inl ⟨rfl, rfl⟩) htq (n := n) (by omega)) dX0_best_2_10 gu_s rfl (lw_V q1207 q643 q644 q90 q645) hv_X13_after rfl ⟨Nat.le_of_ble_eq_true rfl, Nat.le_of_ble_eq_true rfl⟩ ⟨by omega, by omega⟩ rfl (Nat.le_of_ble_eq_true rfl)) (fun r5 w7 h6 => ?_)
  obtain ⟨q9, ro9, T9, hW9, hR9, ⟨p9, hp9, rfl, hV9⟩, -, -, -⟩ := h6
  have ht9 := hR9.2.1 p9 hp9
  rw [hV9] at ht9
  refine z_aload_n X dX0_best_2_13 rfl 0 rfl ?_
  refine z_cip (z_runV (rest := [.ref (ro9 p9)]) (n := 0) X [] (m_X2_state hW9 hI) dX0_best_2_14 (wl_o hW9) rfl (lw_V q1173 q743 q744 q68 q745) hv_X2_state rfl ⟨Nat.le_of_ble_eq_true rfl, Nat.le_of_ble_eq_true rfl⟩ ⟨by omega, by omega⟩ rfl (Nat.le_of_ble_eq_true rfl)) ?_
  refine z_laN (v := vals S (rBest S) n (stOf S)) X dX0_best_2_17 ht9 (by omega) (by omega) rfl ?_
  exact z_lret X dX0_best_2_18 (by omega) (by omega) ⟨_, rfl, ⟨rfl, q9, ro9, T9, hW9, hR9⟩⟩
set_option maxHeartbeats 2000000 in
theorem x_worth {l : Launch} {G : GG} {w : GW} {xa : Nat → Nat} {rr : Option Nat} {o : OS} {im : IM} (hX : XT G w xa rr o im) (hO : oInv o) {z n : Int32} : gM l G yX0_worth cX0_worth 4 (some .long) 20 22 1058 [.ref (xa 0), .int (z), .int (n)] w (pL (fun r w1 => XE G (xa 0) w1 (spWorth o z n).2 im ∧ r = (spWorth o z n).1)) := by
  refine Z.met (own := "ThreeSizes") (nm := "worth") (lv := [(0, .ref (xa 0)), (1, .int (z)), (2, .int (n))]) (by decide) rfl rfl (Nat.le_of_ble_eq_true rfl) rfl (fun κ X => ?_)
  have hI := hO.1
  have h6 := hI.2.1
  have ht200 := hO.2.2.2
  refine z_iload_n X dX0_worth_0 rfl 1 rfl ?_
  refine z_cip (z_runS (rest := []) (n := 1) X [.int (z)] (m_X0_isSize (v := z)) dX0_worth_1 (lw_S q771 q772 q66 q773) hs_X0_isSize rfl ⟨Nat.le_of_ble_eq_true rfl, Nat.le_of_ble_eq_true rfl⟩ ⟨by omega, by omega⟩ rfl (Nat.le_of_ble_eq_true rfl)) ?_
  refine z_if_eq (tgt := 14) X dX0_worth_4 (by decide) bI_d (fun c1 => ?_) (fun c1 => ?_)
  · have e1 : rgb 0 2 z = none := rgb_f c1
    refine z_aload_n X dX0_worth_14 rfl 0 rfl ?_
    refine z_bipush (v := (-2)) X dX0_worth_15 (by decide) ?_
    refine z_cl (z_runV (rest := []) (n := 1) X [.int ((-2))] (m_X0_noDeep_2 hX) dX0_worth_17 hX.ob rfl (lw_V q1189 q1191 qs16 q66 q1192) hv_X0_noDeep rfl ⟨Nat.le_of_ble_eq_true rfl, Nat.le_of_ble_eq_true rfl⟩ ⟨by omega, by omega⟩ rfl (Nat.le_of_ble_eq_true rfl)) (fun r2 w4 h3 => ?_)
    obtain ⟨r2e, hX3⟩ := h3
    rw [r2e]
    have e : spWorth o z n = (-1000000000000 + ((-2) : Int32).toInt64, oRef o 2) := by
      unfold spWorth
      repeat (first | rw [el_some (by assumption)] | rw [el_none (by assumption)] | rw [if_pos (by omega)] | rw [if_neg (by omega)] | rw [if_pos (by assumption)] | rw [if_neg (ts_n (by assumption))])
      all_goals first | rfl | (exfalso; omega)
    exact z_lret X dX0_worth_20 (by omega) (by omega) ⟨_, rfl, (by rw [e]; exact ⟨⟨_, _, rfl, hX3⟩, rfl⟩)⟩
  · have c1 := Classical.not_not.mp c1
    obtain ⟨zN, zNl, zNh, rfl, e2⟩ := rgb_t (lo := 0) (hi := 2) (by decide) (by decide) (c1)
    refine z_iload_n X dX0_worth_7 rfl 2 rfl ?_
    refine z_cip (z_runS (rest := []) (n := 1) X [.int (n)] (m_X0_isHours (v := n)) dX0_worth_8 (lw_S q1198 q1199 q66 q1200) hs_X0_isHours rfl ⟨Nat.le_of_ble_eq_true rfl, Nat.le_of_ble_eq_true rfl⟩ ⟨by omega, by omega⟩ rfl (Nat.le_of_ble_eq_true rfl)) ?_
    refine z_if_ne (tgt := 21) X dX0_worth_11 (by decide) bI_d (fun c5 => ?_) (fun c5 => ?_)
    · have c5 := Classical.not_not.mp c5
      obtain ⟨nN, nNl, nNh, rfl, e3⟩ := rgb_t (lo := 0) (hi := 24) (by decide) (by decide) (c5)
      have hz := hI.1 zN (by omega)
      refine z_aload_n X dX0_worth_21 rfl 0 rfl ?_
      refine z_get X dX0_worth_22 hX.ob in_X0 rfl 0 (Nat.le_of_ble_eq_true rfl) q233 rfl ?_
      refine z_get X dX0_worth_25 hX.day in_X1 rfl 0 (Nat.le_of_ble_eq_true rfl) q190 rfl ?_
      refine z_iload_n X dX0_worth_28 rfl 1 rfl ?_
      refine z_cip (z_runV (rest := []) (n := 1) X [.int (nI (zN))] (m_X2_free hX.wall hI (z := zN) (by omega)) dX0_worth_29 (wl_o hX.wall) rfl (lw_V q1172 q747 q748 q68 q749) hv_X2_free rfl ⟨Nat.le_of_ble_eq_true rfl, Nat.le_of_ble_eq_true rfl⟩ ⟨by omega, by omega⟩ rfl (Nat.le_of_ble_eq_true rfl)) ?_
      refine z_if_ne (tgt := 42) X dX0_worth_32 (by decide) (nz_eq (by omega)) (fun c6 => ?_) (fun c6 => ?_)
      · refine z_aload_n X dX0_worth_42 rfl 0 rfl ?_
        refine z_get X dX0_worth_43 hX.ob in_X0 rfl 0 (Nat.le_of_ble_eq_true rfl) q233 rfl ?_
        refine z_get X dX0_worth_46 hX.day in_X1 rfl 0 (Nat.le_of_ble_eq_true rfl) q190 rfl ?_
        refine z_ca (z_runV (rest := []) (n := 0) X [] (m_X2_copied hX.wall hX.norm) dX0_worth_49 (wl_o hX.wall) rfl (lw_V q821 q822 q823 q68 q824) hv_X2_copied rfl ⟨Nat.le_of_ble_eq_true rfl, Nat.le_of_ble_eq_true rfl⟩ ⟨by omega, by omega⟩ rfl (Nat.le_of_ble_eq_true rfl)) (fun r7 w9 h8 => ?_)
        obtain ⟨at_, rfl, hWt, hkp, hfr⟩ := h8
        obtain ⟨wt0, hT0, hWt0⟩ := Two.start hkp hfr hWt
        refine z_astore_n (lv2 := [(3, .ref (at_ 0)), (0, .ref (xa 0)), (1, .int (nI (zN))), (2, .int (nI (nN)))]) X dX0_worth_52 rfl (Nat.le_of_ble_eq_true rfl) rfl ?_
        refine z_aload_n X dX0_worth_53 rfl 0 rfl ?_
        refine z_get X dX0_worth_54 (wl_o (hWt0.mono hT0.2.1)) in_X2 rfl 0 (Nat.le_of_ble_eq_true rfl) q125 rfl ?_
        refine z_iload_n X dX0_worth_57 rfl 2 rfl ?_
        refine z_dup2 X dX0_worth_58 rfl rfl ?_
        refine z_iaN (v := nI (o.1.1 0 zN)) X dX0_worth_59 (wl_1 (hWt0.mono hT0.2.1)) (by omega) (by omega) rfl ?_
        refine z_iconst (v := nI (1)) X dX0_worth_60 ci1 ?_
        refine z_isub (v := nI (o.1.1 0 zN - 1)) X dX0_worth_61 (pk_sub (by omega)) ?_
        refine z_isN X dX0_worth_62 (wl_1 (hWt0.mono hT0.2.1)) (by omega) (by omega) ?_
        have hWt10 : WallW G _ at_ none (wPut o.1 0 zN (o.1.1 0 zN - 1)) := wl_put hWt0 0 (by decide) 3 zN (o.1.1 0 zN - 1) rfl
        have hTt10 := hT0.putR (hWt0.1 1 rfl) (e := .inl (G.2.1 0, 3, .inl (upd (fun j => nI (o.1.1 0 j)) zN (nI (o.1.1 0 zN - 1)))))
        have hVt10 : wInv (wPut o.1 0 zN (o.1.1 0 zN - 1)) := wInv_box hI (by omega) (by omega)
        refine z_aload_n X dX0_worth_63 rfl 1 rfl ?_
        refine z_get X dX0_worth_64 (hX.mono hTt10.1).ob in_X0 rfl 0 (Nat.le_of_ble_eq_true rfl) q233 rfl ?_
        refine z_get X dX0_worth_67 (hX.mono hTt10.1).day in_X1 rfl 0 (Nat.le_of_ble_eq_true rfl) q190 rfl ?_
        refine z_iload_n X dX0_worth_70 rfl 3 rfl ?_
        refine z_cl (z_runS (rest := []) (n := 2) X [.ref (xa 5), .int (nI (nN))] (gM.frameL (m_x_best hX hO (n := nN) (by omega)) hTt10.1) dX0_worth_71 (lw_S q1212 q1213 q66 q1214) hs_X0_best_2 rfl ⟨Nat.le_of_ble_eq_true rfl, Nat.le_of_ble_eq_true rfl⟩ ⟨by omega, by omega⟩ rfl (Nat.le_of_ble_eq_true rfl)) (fun r11 w13 h12 => ?_)
        obtain ⟨wx12, ⟨xa12, rr12, hk12, hX12, r11e⟩, hf12⟩ := h12
        rw [r11e]
        have hT12 := hTt10.left hf12
        rw [← hk12 0 (by omega) (by omega) (by omega)]
        refine z_aload_n X dX0_worth_74 rfl 0 rfl ?_
        refine z_iload_n X dX0_worth_75 rfl 3 rfl ?_
        refine z_cl (z_runS (rest := [.long (bestV o.1 nN)]) (n := 2) X [.ref (at_ 0), .int (nI (nN))] (gM.frameL (m_W_best rowsO_none hWt10 hVt10 (n := nN) (by omega)) hT12.2.1) dX0_worth_76 (lw_S q1212 q1213 q66 q1214) hs_X0_best_2 rfl ⟨Nat.le_of_ble_eq_true rfl, Nat.le_of_ble_eq_true rfl⟩ ⟨by omega, by omega⟩ rfl (Nat.le_of_ble_eq_true rfl)) (fun r14 w16 h15 => ?_)
        obtain ⟨wt15, ⟨r14e, q15, ro15, T15, hW15, hR15⟩, hf15⟩ := h15
        rw [r14e]
        have hT15 := hT12.right hf15
        refine z_lsub (v := (bestV o.1 nN) - (bestV (wPut o.1 0 zN (o.1.1 0 zN - 1)) nN)) X dX0_worth_79 rfl ?_
        have e : spWorth o (nI zN) (nI nN) = ((bestV o.1 nN) - (bestV (wPut o.1 0 zN (o.1.1 0 zN - 1)) nN), o) := by
          unfold spWorth
          repeat (first | rw [el_some (by assumption)] | rw [el_none (by assumption)] | rw [if_pos (by omega)] | rw [if_neg (by omega)] | rw [if_pos (by assumption)] | rw [if_neg (ts_n (by assumption))])
          all_goals first | rfl | (exfalso; omega)
        exact z_lret X dX0_worth_80 (by omega) (by omega) ⟨_, rfl, (by rw [e]; exact ⟨⟨_, _, (hk12 0 (by decide) (by decide) (by decide)), (hX12.mono hT15.1)⟩, rfl⟩)⟩
      · refine z_aload_n X dX0_worth_35 rfl 0 rfl ?_
        refine z_bipush (v := (-5)) X dX0_worth_36 (by decide) ?_
        refine z_cl (z_runV (rest := []) (n := 1) X [.int ((-5))] (m_X0_noDeep_5 hX) dX0_worth_38 hX.ob rfl (lw_V q1189 q1191 qs16 q66 q1192) hv_X0_noDeep rfl ⟨Nat.le_of_ble_eq_true rfl, Nat.le_of_ble_eq_true rfl⟩ ⟨by omega, by omega⟩ rfl (Nat.le_of_ble_eq_true rfl)) (fun r17 w19 h18 => ?_)
        obtain ⟨r17e, hX18⟩ := h18
        rw [r17e]
        have e : spWorth o (nI zN) (nI nN) = (-1000000000000 + ((-5) : Int32).toInt64, oRef o 5) := by
          unfold spWorth
          repeat (first | rw [el_some (by assumption)] | rw [el_none (by assumption)] | rw [if_pos (by omega)] | rw [if_neg (by omega)] | rw [if_pos (by assumption)] | rw [if_neg (ts_n (by assumption))])
          all_goals first | rfl | (exfalso; omega)
        exact z_lret X dX0_worth_41 (by omega) (by omega) ⟨_, rfl, (by rw [e]; exact ⟨⟨_, _, rfl, hX18⟩, rfl⟩)⟩
    · have e4 : rgb 0 24 n = none := rgb_f c5
      refine z_aload_n X dX0_worth_14 rfl 0 rfl ?_
      refine z_bipush (v := (-2)) X dX0_worth_15 (by decide) ?_
      refine z_cl (z_runV (rest := []) (n := 1) X [.int ((-2))] (m_X0_noDeep_2 hX) dX0_worth_17 hX.ob rfl (lw_V q1189 q1191 qs16 q66 q1192) hv_X0_noDeep rfl ⟨Nat.le_of_ble_eq_true rfl, Nat.le_of_ble_eq_true rfl⟩ ⟨by omega, by omega⟩ rfl (Nat.le_of_ble_eq_true rfl)) (fun r20 w22 h21 => ?_)
      obtain ⟨r20e, hX21⟩ := h21
      rw [r20e]
      have e : spWorth o (nI zN) n = (-1000000000000 + ((-2) : Int32).toInt64, oRef o 2) := by
        unfold spWorth
        repeat (first | rw [el_some (by assumption)] | rw [el_none (by assumption)] | rw [if_pos (by omega)] | rw [if_neg (by omega)] | rw [if_pos (by assumption)] | rw [if_neg (ts_n (by assumption))])
        all_goals first | rfl | (exfalso; omega)
      exact z_lret X dX0_worth_20 (by omega) (by omega) ⟨_, rfl, (by rw [e]; exact ⟨⟨_, _, rfl, hX21⟩, rfl⟩)⟩
set_option maxHeartbeats 2000000 in
theorem x_brings {l : Launch} {G : GG} {w : GW} {xa : Nat → Nat} {rr : Option Nat} {o : OS} {im : IM} (hX : XT G w xa rr o im) (hO : oInv o) {k n : Int32} : gM l G yX0_brings cX0_brings 4 (some .long) 20 22 1058 [.ref (xa 0), .int (k), .int (n)] w (pL (fun r w1 => XE G (xa 0) w1 (spBrings o k n).2 im ∧ r = (spBrings o k n).1)) := by
  refine Z.met (own := "ThreeSizes") (nm := "brings") (lv := [(0, .ref (xa 0)), (1, .int (k)), (2, .int (n))]) (by decide) rfl rfl (Nat.le_of_ble_eq_true rfl) rfl (fun κ X => ?_)
  have hI := hO.1
  have h6 := hI.2.1
  have ht200 := hO.2.2.2
  refine z_aload_n X dX0_brings_0 rfl 0 rfl ?_
  refine z_iload_n X dX0_brings_1 rfl 1 rfl ?_
  refine z_cip (z_runV (rest := []) (n := 1) X [.int (k)] (m_X0_isSort hX hO (v := k)) dX0_brings_2 hX.ob rfl (lw_V q798 q800 qs6 q66 q801) hv_X0_isSort rfl ⟨Nat.le_of_ble_eq_true rfl, Nat.le_of_ble_eq_true rfl⟩ ⟨by omega, by omega⟩ rfl (Nat.le_of_ble_eq_true rfl)) ?_
  refine z_if_eq (tgt := 15) X dX0_brings_5 (by decide) bI_d (fun c1 => ?_) (fun c1 => ?_)
  · have e1 : rgn (o.1.2 0) k = none := rgn_f c1
    refine z_aload_n X dX0_brings_15 rfl 0 rfl ?_
    refine z_bipush (v := (-2)) X dX0_brings_16 (by decide) ?_
    refine z_cl (z_runV (rest := []) (n := 1) X [.int ((-2))] (m_X0_noDeep_2 hX) dX0_brings_18 hX.ob rfl (lw_V q1189 q1191 qs16 q66 q1192) hv_X0_noDeep rfl ⟨Nat.le_of_ble_eq_true rfl, Nat.le_of_ble_eq_true rfl⟩ ⟨by omega, by omega⟩ rfl (Nat.le_of_ble_eq_true rfl)) (fun r2 w4 h3 => ?_)
    obtain ⟨r2e, hX3⟩ := h3
    rw [r2e]
    have e : spBrings o k n = (-1000000000000 + ((-2) : Int32).toInt64, oRef o 2) := by
      unfold spBrings
      repeat (first | rw [el_some (by assumption)] | rw [el_none (by assumption)] | rw [if_pos (by omega)] | rw [if_neg (by omega)] | rw [if_pos (by assumption)] | rw [if_neg (ts_n (by assumption))])
      all_goals first | rfl | (exfalso; omega)
    exact z_lret X dX0_brings_21 (by omega) (by omega) ⟨_, rfl, (by rw [e]; exact ⟨⟨_, _, rfl, hX3⟩, rfl⟩)⟩
  · have c1 := Classical.not_not.mp c1
    obtain ⟨kN, kNh, rfl, e2⟩ := rgn_t (n := o.1.2 0) (by omega) c1
    refine z_iload_n X dX0_brings_8 rfl 2 rfl ?_
    refine z_cip (z_runS (rest := []) (n := 1) X [.int (n)] (m_X0_isHours (v := n)) dX0_brings_9 (lw_S q1198 q1199 q66 q1200) hs_X0_isHours rfl ⟨Nat.le_of_ble_eq_true rfl, Nat.le_of_ble_eq_true rfl⟩ ⟨by omega, by omega⟩ rfl (Nat.le_of_ble_eq_true rfl)) ?_
    refine z_if_ne (tgt := 22) X dX0_brings_12 (by decide) bI_d (fun c5 => ?_) (fun c5 => ?_)
    · have c5 := Classical.not_not.mp c5
      obtain ⟨nN, nNl, nNh, rfl, e3⟩ := rgb_t (lo := 0) (hi := 24) (by decide) (by decide) (c5)
      refine z_aload_n X dX0_brings_22 rfl 0 rfl ?_
      refine z_get X dX0_brings_23 hX.ob in_X0 rfl 0 (Nat.le_of_ble_eq_true rfl) q233 rfl ?_
      refine z_get X dX0_brings_26 hX.day in_X1 rfl 0 (Nat.le_of_ble_eq_true rfl) q190 rfl ?_
      refine z_ca (z_runV (rest := []) (n := 0) X [] (m_X2_copied hX.wall hX.norm) dX0_brings_29 (wl_o hX.wall) rfl (lw_V q821 q822 q823 q68 q824) hv_X2_copied rfl ⟨Nat.le_of_ble_eq_true rfl, Nat.le_of_ble_eq_true rfl⟩ ⟨by omega, by omega⟩ rfl (Nat.le_of_ble_eq_true rfl)) (fun r6 w8 h7 => ?_)
      obtain ⟨at_, rfl, hWt, hkp, hfr⟩ := h7
      obtain ⟨wt0, hT0, hWt0⟩ := Two.start hkp hfr hWt
      refine z_astore_n (lv2 := [(3, .ref (at_ 0)), (0, .ref (xa 0)), (1, .int (nI (kN))), (2, .int (nI (nN)))]) X dX0_brings_32 rfl (Nat.le_of_ble_eq_true rfl) rfl ?_
      refine z_aload_n X dX0_brings_33 rfl 0 rfl ?_
      refine z_get X dX0_brings_34 (wl_o (hWt0.mono hT0.2.1)) in_X2 rfl 4 (Nat.le_of_ble_eq_true rfl) q141 rfl ?_
      refine z_iload_n X dX0_brings_37 rfl 2 rfl ?_
      refine z_iconst (v := nI (0)) X dX0_brings_38 ci0 ?_
      refine z_isN X dX0_brings_39 (wl_5 (hWt0.mono hT0.2.1)) (by omega) (by omega) ?_
      have hWt9 : WallW G _ at_ none (wPut o.1 4 kN 0) := wl_put hWt0 4 (by decide) 6 kN 0 rfl
      have hTt9 := hT0.putR (hWt0.1 5 rfl) (e := .inl (G.2.1 0, 6, .inl (upd (fun j => nI (o.1.1 4 j)) kN (nI 0))))
      have hVt9 : wInv (wPut o.1 4 kN 0) := wInv_zero hI
      refine z_aload_n X dX0_brings_40 rfl 1 rfl ?_
      refine z_get X dX0_brings_41 (hX.mono hTt9.1).ob in_X0 rfl 0 (Nat.le_of_ble_eq_true rfl) q233 rfl ?_
      refine z_get X dX0_brings_44 (hX.mono hTt9.1).day in_X1 rfl 0 (Nat.le_of_ble_eq_true rfl) q190 rfl ?_
      refine z_iload_n X dX0_brings_47 rfl 3 rfl ?_
      refine z_cl (z_runS (rest := []) (n := 2) X [.ref (xa 5), .int (nI (nN))] (gM.frameL (m_x_best hX hO (n := nN) (by omega)) hTt9.1) dX0_brings_48 (lw_S q1212 q1213 q66 q1214) hs_X0_best_2 rfl ⟨Nat.le_of_ble_eq_true rfl, Nat.le_of_ble_eq_true rfl⟩ ⟨by omega, by omega⟩ rfl (Nat.le_of_ble_eq_true rfl)) (fun r10 w12 h11 => ?_)
      obtain ⟨wx11, ⟨xa11, rr11, hk11, hX11, r10e⟩, hf11⟩ := h11
      rw [r10e]
      have hT11 := hTt9.left hf11
      rw [← hk11 0 (by omega) (by omega) (by omega)]
      refine z_aload_n X dX0_brings_51 rfl 0 rfl ?_
      refine z_iload_n X dX0_brings_52 rfl 3 rfl ?_
      refine z_cl (z_runS (rest := [.long (bestV o.1 nN)]) (n := 2) X [.ref (at_ 0), .int (nI (nN))] (gM.frameL (m_W_best rowsO_none hWt9 hVt9 (n := nN) (by omega)) hT11.2.1) dX0_brings_53 (lw_S q1212 q1213 q66 q1214) hs_X0_best_2 rfl ⟨Nat.le_of_ble_eq_true rfl, Nat.le_of_ble_eq_true rfl⟩ ⟨by omega, by omega⟩ rfl (Nat.le_of_ble_eq_true rfl)) (fun r13 w15 h14 => ?_)
      obtain ⟨wt14, ⟨r13e, q14, ro14, T14, hW14, hR14⟩, hf14⟩ := h14
      rw [r13e]
      have hT14 := hT11.right hf14
      refine z_lsub (v := (bestV o.1 nN) - (bestV (wPut o.1 4 kN 0) nN)) X dX0_brings_56 rfl ?_
      have e : spBrings o (nI kN) (nI nN) = ((bestV o.1 nN) - (bestV (wPut o.1 4 kN 0) nN), o) := by
        unfold spBrings
        repeat (first | rw [el_some (by assumption)] | rw [el_none (by assumption)] | rw [if_pos (by omega)] | rw [if_neg (by omega)] | rw [if_pos (by assumption)] | rw [if_neg (ts_n (by assumption))])
        all_goals first | rfl | (exfalso; omega)
      exact z_lret X dX0_brings_57 (by omega) (by omega) ⟨_, rfl, (by rw [e]; exact ⟨⟨_, _, (hk11 0 (by decide) (by decide) (by decide)), (hX11.mono hT14.1)⟩, rfl⟩)⟩
    · have e4 : rgb 0 24 n = none := rgb_f c5
      refine z_aload_n X dX0_brings_15 rfl 0 rfl ?_
      refine z_bipush (v := (-2)) X dX0_brings_16 (by decide) ?_
      refine z_cl (z_runV (rest := []) (n := 1) X [.int ((-2))] (m_X0_noDeep_2 hX) dX0_brings_18 hX.ob rfl (lw_V q1189 q1191 qs16 q66 q1192) hv_X0_noDeep rfl ⟨Nat.le_of_ble_eq_true rfl, Nat.le_of_ble_eq_true rfl⟩ ⟨by omega, by omega⟩ rfl (Nat.le_of_ble_eq_true rfl)) (fun r16 w18 h17 => ?_)
      obtain ⟨r16e, hX17⟩ := h17
      rw [r16e]
      have e : spBrings o (nI kN) n = (-1000000000000 + ((-2) : Int32).toInt64, oRef o 2) := by
        unfold spBrings
        repeat (first | rw [el_some (by assumption)] | rw [el_none (by assumption)] | rw [if_pos (by omega)] | rw [if_neg (by omega)] | rw [if_pos (by assumption)] | rw [if_neg (ts_n (by assumption))])
        all_goals first | rfl | (exfalso; omega)
      exact z_lret X dX0_brings_21 (by omega) (by omega) ⟨_, rfl, (by rw [e]; exact ⟨⟨_, _, rfl, hX17⟩, rfl⟩)⟩
