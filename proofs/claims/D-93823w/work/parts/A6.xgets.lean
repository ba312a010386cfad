/-! x: any rule of a shelf learns; gets -/
set_option maxRecDepth 100000
section ZLR
variable {κ : ZK} {cc : ByteArray} {own nm : String} {nL : Nat} {ret : Option FieldType} {l : Launch} {d mc ms : Nat} {G : GG} {w0 w : GW} {post : Option Value → GW → Prop} {lv : List (Nat × Value)} {a b pc : Nat} {rest : List Value}
theorem z_learnsX0 (X : ZX κ cc "ThreeSizes" nL ret nm l d mc ms G w0 post) {xa : Nat → Nat} {rr : Option Nat} {o : OS} {im : IM} (hX : XT G w xa rr o im) (hO : oInv o) {s : Nat} (hs : s < 8) (hk2 : o.2.2.2.1 0 s = 2) (hdg : decode cc pc = .ok (.invokevirtual 256, 3)) (hd : 14 ≤ d) (hW8 : (rest.map fun v => v.category).sum ≤ 8) (hf : a + 7 ≤ mc ∧ b + 507 ≤ ms) (k : ∀ (w2 : GW) (xa2 : Nat → Nat) (rr2 : Option Nat), (∀ k, k ≠ 13 → k ≠ 14 → k ≠ 15 → xa2 k = xa k) → XT G w2 xa2 rr2 o im → RuleW G w2 (xa2 (40 + s)) (o.2.2.2.1 3 s) (o.2.2.2.1 4 s) (xa2 (50 + s)) (wiseT o.1 (o.2.2.2.1 4 s)) → Z κ w2 lv (a + 7) (b + 507) (pc + 3) rest) : Z κ w lv a b pc (.ref (xa 5) :: .ref (xa (40 + s)) :: rest) := by
  have hq9 := hO.2.1 s hs
  have hkd : 1 ≤ o.2.2.2.1 3 s ∧ o.2.2.2.1 3 s ≤ 6 := ⟨hq9.2.2.2.2.1 hk2, hq9.2.2.2.1⟩
  have hru := (hX.rule hs hk2).1
  have hra : o.2.2.2.1 4 s < 100 := by omega
  have hno : o.2.2.2.1 3 s ≠ 6 → Z κ w lv (a + 7) (b + 507) (pc + 3) rest := fun h6 => k w xa rr (fun _ _ _ _ => rfl) hX ⟨⟨hkd.1, hkd.2, hra⟩, hru, fun h => absurd h h6⟩
  rcases kd_cases hkd with h | h | h | h | h | h
  · have hr9 : w (xa (40 + s)) = some (.inr (6, [.int (nI (o.2.2.2.1 4 s))])) := by rw [h] at hru; exact hru
    exact z_cv (z_runU (owner := "ThreeSizes$Rule") (x := ⟨"ThreeSizes$Rule", "learns", "(LThreeSizes$Wall;)V"⟩) (rest := rest) (n := 1) X [.ref (xa 5)] m_X6_learns hdg hr9 rfl (lw_app (lw_in _ [1183, 605, 609, 604, 82] (by decide +kernel) (by decide +kernel)) (lw_meth q741)) (by decide +kernel) (by decide +kernel) rfl ⟨by omega, by omega⟩ ⟨by omega, by omega⟩ rfl hW8) (fun w2 h2 => by subst h2; exact Z.up (by omega) (by omega) (hno (by omega)))
  · have hr9 : w (xa (40 + s)) = some (.inr (7, [.int (nI (o.2.2.2.1 4 s))])) := by rw [h] at hru; exact hru
    exact z_cv (z_runU (owner := "ThreeSizes$Rule") (x := ⟨"ThreeSizes$Rule", "learns", "(LThreeSizes$Wall;)V"⟩) (rest := rest) (n := 1) X [.ref (xa 5)] m_X6_learns hdg hr9 rfl (lw_app (lw_in _ [1183, 605, 608, 604, 82] (by decide +kernel) (by decide +kernel)) (lw_meth q741)) (by decide +kernel) (by decide +kernel) rfl ⟨by omega, by omega⟩ ⟨by omega, by omega⟩ rfl hW8) (fun w2 h2 => by subst h2; exact Z.up (by omega) (by omega) (hno (by omega)))
  · have hr9 : w (xa (40 + s)) = some (.inr (8, [.int (nI (o.2.2.2.1 4 s))])) := by rw [h] at hru; exact hru
    exact z_cv (z_runU (owner := "ThreeSizes$Rule") (x := ⟨"ThreeSizes$Rule", "learns", "(LThreeSizes$Wall;)V"⟩) (rest := rest) (n := 1) X [.ref (xa 5)] m_X6_learns hdg hr9 rfl (lw_app (lw_in _ [1183, 605, 610, 604, 82] (by decide +kernel) (by decide +kernel)) (lw_meth q741)) (by decide +kernel) (by decide +kernel) rfl ⟨by omega, by omega⟩ ⟨by omega, by omega⟩ rfl hW8) (fun w2 h2 => by subst h2; exact Z.up (by omega) (by omega) (hno (by omega)))
  · have hr9 : w (xa (40 + s)) = some (.inr (9, [.int (nI (o.2.2.2.1 4 s))])) := by rw [h] at hru; exact hru
    exact z_cv (z_runU (owner := "ThreeSizes$Rule") (x := ⟨"ThreeSizes$Rule", "learns", "(LThreeSizes$Wall;)V"⟩) (rest := rest) (n := 1) X [.ref (xa 5)] m_X6_learns hdg hr9 rfl (lw_app (lw_in _ [1183, 605, 607, 604, 82] (by decide +kernel) (by decide +kernel)) (lw_meth q741)) (by decide +kernel) (by decide +kernel) rfl ⟨by omega, by omega⟩ ⟨by omega, by omega⟩ rfl hW8) (fun w2 h2 => by subst h2; exact Z.up (by omega) (by omega) (hno (by omega)))
  · have hr9 : w (xa (40 + s)) = some (.inr (10, [.int (nI (o.2.2.2.1 4 s))])) := by rw [h] at hru; exact hru
    exact z_cv (z_runU (owner := "ThreeSizes$Rule") (x := ⟨"ThreeSizes$Rule", "learns", "(LThreeSizes$Wall;)V"⟩) (rest := rest) (n := 1) X [.ref (xa 5)] m_X6_learns hdg hr9 rfl (lw_app (lw_in _ [1183, 605, 606, 604, 82] (by decide +kernel) (by decide +kernel)) (lw_meth q741)) (by decide +kernel) (by decide +kernel) rfl ⟨by omega, by omega⟩ ⟨by omega, by omega⟩ rfl hW8) (fun w2 h2 => by subst h2; exact Z.up (by omega) (by omega) (hno (by omega)))
  · exact z_cv (z_runO (owner := "ThreeSizes$Rule") (x := ⟨"ThreeSizes$Rule", "learns", "(LThreeSizes$Wall;)V"⟩) (rest := rest) (n := 1) X [.ref (xa 5)] (m_X12_learns hX hO hs hk2 h) hdg (hX.wise hs hk2 h) rfl (lw_app (lw_in _ [1183, 605, 604, 611, 612, 88] (by decide +kernel) (by decide +kernel)) (lw_meth q613)) q741 (by decide +kernel) rfl ⟨by omega, by omega⟩ ⟨by omega, by omega⟩ rfl hW8) (fun w2 h2 => by obtain ⟨xa2, rr2, e1, e2, e3⟩ := h2; exact k w2 xa2 rr2 e1 e2 ⟨⟨hkd.1, hkd.2, hra⟩, (e2.rule hs hk2).1, fun _ => e3⟩)
end ZLR
set_option maxHeartbeats 2000000 in
theorem x_gets {l : Launch} {G : GG} (hl : l.stackTraces = false) {w : GW} {xa : Nat → Nat} {rr : Option Nat} {o : OS} {im : IM} (hX : XT G w xa rr o im) (hO : oInv o) {s k st : Int32} : gMX l G yX0_gets (wsW_ yX0_gets cX0_gets 5 (some .int) [(0, 60, 61, 122)]) 30 9 521 [.ref (xa 0), .int (s), .int (k), .int (st)] w (pI (fun r w1 => XE G (xa 0) w1 (spGets o s k st).2 im ∧ r = (spGets o s k st).1)) (pN) := by
  refine Z.metW (own := "ThreeSizes") (nm := "gets") (lv := [(0, .ref (xa 0)), (1, .int (s)), (2, .int (k)), (3, .int (st))]) (by decide) rfl rfl (Nat.le_of_ble_eq_true rfl) rfl (fun κ X Y V0 => ?_)
  have V := V0 hl
  have hI := hO.1
  have h6 := hI.2.1
  have ht200 := hO.2.2.2
  refine z_aload_n X dX0_gets_0 rfl 0 rfl ?_
  refine z_aload_n X dX0_gets_1 rfl 0 rfl ?_
  refine z_iload_n X dX0_gets_2 rfl 2 rfl ?_
  refine z_cip (z_runV (rest := [.ref (xa 0)]) (n := 1) X [.int (k)] (m_X0_isSort hX hO (v := k)) dX0_gets_3 hX.ob rfl (lw_V q798 q800 qs6 q66 q801) hv_X0_isSort rfl ⟨Nat.le_of_ble_eq_true rfl, Nat.le_of_ble_eq_true rfl⟩ ⟨by omega, by omega⟩ rfl (Nat.le_of_ble_eq_true rfl)) ?_
  refine z_if_eq (tgt := 27) X dX0_gets_6 (by decide) bI_d (fun c1 => ?_) (fun c1 => ?_)
  · have e1 : rgn (o.1.2 0) k = none := rgn_f c1
    refine z_iconst (v := nI (0)) X dX0_gets_27 ci0 ?_
    refine z_iload_n X dX0_gets_28 rfl 1 rfl ?_
    refine z_xa (z_runXV (rest := []) (n := 2) X [.int (nI (0)), .int (s)] (m_X0_ruleFor hX hO (mb := false) (s := s)) dX0_gets_29 hX.ob rfl (lw_V q1179 q1181 qs15 q66 q1182) hv_X0_ruleFor rfl ⟨Nat.le_of_ble_eq_true rfl, Nat.le_of_ble_eq_true rfl⟩ ⟨by omega, by omega⟩ rfl (Nat.le_of_ble_eq_true rfl)) (fun r2 w4 h3 => ?_) (fun E5 q6 w8 h7 => ?_)
    · have hn9 := h3
      obtain ⟨sN, sNh, rfl, hmb3, hk2, rfl, rfl⟩ := h3
      have e2 := rgb_nI (lo := 0) (hi := 7) (k := sN) ⟨by omega, by omega⟩ (by decide)
      exact absurd hmb3 (by decide)
    · have hx9 := h7
      obtain ⟨by9, ⟨rfl, hn7, rfl⟩, hb7⟩ := h7
      rcases hb7 with ⟨rfl, hA7 | hA7⟩ | ⟨rfl, hm7, sN, sNh, rfl, hk9⟩ | ⟨rfl, hm7, sN, sNh, rfl, hk9⟩
      · have hX7 := XT.fresh hX hn7 (e := .inr (5, [.null, .null, .null, .null, .null, .int 0, .int (-2)]))
        refine zt_catch X Y [] (0, 60, 61, 122) [] rfl zp_n rfl (by decide) q364 q390 rfl ?_
        refine z_astore (lv2 := [(4, .ref (q6)), (0, .ref (xa 0)), (1, .int (s)), (2, .int (k)), (3, .int (st))]) X dX0_gets_61 (Nat.le_of_ble_eq_true rfl) rfl ?_
        refine z_aload_n X dX0_gets_63 rfl 1 rfl ?_
        refine z_aload X dX0_gets_64 0 rfl ?_
        refine z_get X dX0_gets_66 gu_s in_X5 rfl 6 (Nat.le_of_ble_eq_true rfl) q410 rfl ?_
        refine z_ci (z_runV (rest := []) (n := 1) X [.int ((-2))] (m_X0_no_2 hX7) dX0_gets_69 hX7.ob rfl (lw_V q350 q352 qs2 q66 q353) hv_X0_no rfl ⟨Nat.le_of_ble_eq_true rfl, Nat.le_of_ble_eq_true rfl⟩ ⟨by omega, by omega⟩ rfl (Nat.le_of_ble_eq_true rfl)) (fun r9 w11 h10 => ?_)
        obtain ⟨r9e, hX10⟩ := h10
        rw [r9e]
        have e : spGets o s k st = ((-2), oRef o 2) := by
          unfold spGets
          repeat (first | rw [el_some (by assumption)] | rw [el_none (by assumption)] | rw [if_pos (by omega)] | rw [if_neg (by omega)] | rw [if_pos (by assumption)] | rw [if_neg (ts_n (by assumption))])
          all_goals first | rfl | (rcases el_or (rgb 0 7 s) with h9 | ⟨x9, h9⟩ <;> (repeat (first | rw [el_some (by assumption)] | rw [el_none (by assumption)] | rw [if_pos (by omega)] | rw [if_neg (by omega)] | rw [if_pos (by assumption)] | rw [if_neg (ts_n (by assumption))])) <;> rfl) | (exfalso; omega)
        exact z_iret X dX0_gets_72 (by omega) (by omega) ⟨_, rfl, (by rw [e]; exact ⟨⟨_, _, rfl, hX10⟩, rfl⟩)⟩
      · have hX7 := XT.fresh hX hn7 (e := .inr (5, [.null, .null, .null, .null, .null, .int 0, .int (-2)]))
        refine zt_catch X Y [] (0, 60, 61, 122) [] rfl zp_n rfl (by decide) q364 q390 rfl ?_
        refine z_astore (lv2 := [(4, .ref (q6)), (0, .ref (xa 0)), (1, .int (s)), (2, .int (k)), (3, .int (st))]) X dX0_gets_61 (Nat.le_of_ble_eq_true rfl) rfl ?_
        refine z_aload_n X dX0_gets_63 rfl 1 rfl ?_
        refine z_aload X dX0_gets_64 0 rfl ?_
        refine z_get X dX0_gets_66 gu_s in_X5 rfl 6 (Nat.le_of_ble_eq_true rfl) q410 rfl ?_
        refine z_ci (z_runV (rest := []) (n := 1) X [.int ((-2))] (m_X0_no_2 hX7) dX0_gets_69 hX7.ob rfl (lw_V q350 q352 qs2 q66 q353) hv_X0_no rfl ⟨Nat.le_of_ble_eq_true rfl, Nat.le_of_ble_eq_true rfl⟩ ⟨by omega, by omega⟩ rfl (Nat.le_of_ble_eq_true rfl)) (fun r12 w14 h13 => ?_)
        obtain ⟨r12e, hX13⟩ := h13
        rw [r12e]
        have e : spGets o s k st = ((-2), oRef o 2) := by
          unfold spGets
          repeat (first | rw [el_some (by assumption)] | rw [el_none (by assumption)] | rw [if_pos (by omega)] | rw [if_neg (by omega)] | rw [if_pos (by assumption)] | rw [if_neg (ts_n (by assumption))])
          all_goals first | rfl | (exfalso; omega)
        exact z_iret X dX0_gets_72 (by omega) (by omega) ⟨_, rfl, (by rw [e]; exact ⟨⟨_, _, rfl, hX13⟩, rfl⟩)⟩
      · have e3 := rgb_nI (lo := 0) (hi := 7) (k := sN) ⟨by omega, by omega⟩ (by decide)
        exact absurd hm7 (by decide)
      · have e4 := rgb_nI (lo := 0) (hi := 7) (k := sN) ⟨by omega, by omega⟩ (by decide)
        exact absurd hm7 (by decide)
  · have c1 := Classical.not_not.mp c1
    obtain ⟨kN, kNh, rfl, e5⟩ := rgn_t (n := o.1.2 0) (by omega) c1
    by_cases c15 : nI 0 ≤ st ∧ st ≤ nI 124
    · obtain ⟨stN, stNl, stNh, rfl, e6⟩ := rgb_t (lo := 0) (hi := 124) (by decide) (by decide) c15
      refine z_aload_n X dX0_gets_9 rfl 0 rfl ?_
      refine z_get X dX0_gets_10 hX.ob in_X0 rfl 0 (Nat.le_of_ble_eq_true rfl) q233 rfl ?_
      refine z_get X dX0_gets_13 hX.day in_X1 rfl 0 (Nat.le_of_ble_eq_true rfl) q190 rfl ?_
      refine z_iload_n X dX0_gets_16 rfl 3 rfl ?_
      refine z_cip (z_runV (rest := [.ref (xa 0)]) (n := 1) X [.int (nI (stN))] (m_X2_isState hX.wall hI (st := stN) (by omega)) dX0_gets_17 (wl_o hX.wall) rfl (lw_V q1178 q656 q657 q68 q658) hv_X2_isState rfl ⟨Nat.le_of_ble_eq_true rfl, Nat.le_of_ble_eq_true rfl⟩ ⟨by omega, by omega⟩ rfl (Nat.le_of_ble_eq_true rfl)) ?_
      refine z_if_eq (tgt := 27) X dX0_gets_20 (by decide) bI_0 (fun c16 => ?_) (fun c16 => ?_)
      · refine z_iconst (v := nI (0)) X dX0_gets_27 ci0 ?_
        refine z_iload_n X dX0_gets_28 rfl 1 rfl ?_
        refine z_xa (z_runXV (rest := []) (n := 2) X [.int (nI (0)), .int (s)] (m_X0_ruleFor hX hO (mb := false) (s := s)) dX0_gets_29 hX.ob rfl (lw_V q1179 q1181 qs15 q66 q1182) hv_X0_ruleFor rfl ⟨Nat.le_of_ble_eq_true rfl, Nat.le_of_ble_eq_true rfl⟩ ⟨by omega, by omega⟩ rfl (Nat.le_of_ble_eq_true rfl)) (fun r17 w19 h18 => ?_) (fun E20 q21 w23 h22 => ?_)
        · have hn9 := h18
          obtain ⟨sN, sNh, rfl, hmb18, hk2, rfl, rfl⟩ := h18
          have e7 := rgb_nI (lo := 0) (hi := 7) (k := sN) ⟨by omega, by omega⟩ (by decide)
          exact absurd hmb18 (by decide)
        · have hx9 := h22
          obtain ⟨by9, ⟨rfl, hn22, rfl⟩, hb22⟩ := h22
          rcases hb22 with ⟨rfl, hA22 | hA22⟩ | ⟨rfl, hm22, sN, sNh, rfl, hk9⟩ | ⟨rfl, hm22, sN, sNh, rfl, hk9⟩
          · have hX22 := XT.fresh hX hn22 (e := .inr (5, [.null, .null, .null, .null, .null, .int 0, .int (-2)]))
            refine zt_catch X Y [] (0, 60, 61, 122) [] rfl zp_n rfl (by decide) q364 q390 rfl ?_
            refine z_astore (lv2 := [(4, .ref (q21)), (0, .ref (xa 0)), (1, .int (s)), (2, .int (nI (kN))), (3, .int (nI (stN)))]) X dX0_gets_61 (Nat.le_of_ble_eq_true rfl) rfl ?_
            refine z_aload_n X dX0_gets_63 rfl 1 rfl ?_
            refine z_aload X dX0_gets_64 0 rfl ?_
            refine z_get X dX0_gets_66 gu_s in_X5 rfl 6 (Nat.le_of_ble_eq_true rfl) q410 rfl ?_
            refine z_ci (z_runV (rest := []) (n := 1) X [.int ((-2))] (m_X0_no_2 hX22) dX0_gets_69 hX22.ob rfl (lw_V q350 q352 qs2 q66 q353) hv_X0_no rfl ⟨Nat.le_of_ble_eq_true rfl, Nat.le_of_ble_eq_true rfl⟩ ⟨by omega, by omega⟩ rfl (Nat.le_of_ble_eq_true rfl)) (fun r24 w26 h25 => ?_)
            obtain ⟨r24e, hX25⟩ := h25
            rw [r24e]
            have e : spGets o s (nI kN) (nI stN) = ((-2), oRef o 2) := by
              unfold spGets
              repeat (first | rw [el_some (by assumption)] | rw [el_none (by assumption)] | rw [if_pos (by omega)] | rw [if_neg (by omega)] | rw [if_pos (by assumption)] | rw [if_neg (ts_n (by assumption))])
              all_goals first | rfl | (rcases el_or (rgb 0 7 s) with h9 | ⟨x9, h9⟩ <;> (repeat (first | rw [el_some (by assumption)] | rw [el_none (by assumption)] | rw [if_pos (by omega)] | rw [if_neg (by omega)] | rw [if_pos (by assumption)] | rw [if_neg (ts_n (by assumption))])) <;> rfl) | (exfalso; omega)
            exact z_iret X dX0_gets_72 (by omega) (by omega) ⟨_, rfl, (by rw [e]; exact ⟨⟨_, _, rfl, hX25⟩, rfl⟩)⟩
          · have hX22 := XT.fresh hX hn22 (e := .inr (5, [.null, .null, .null, .null, .null, .int 0, .int (-2)]))
            refine zt_catch X Y [] (0, 60, 61, 122) [] rfl zp_n rfl (by decide) q364 q390 rfl ?_
            refine z_astore (lv2 := [(4, .ref (q21)), (0, .ref (xa 0)), (1, .int (s)), (2, .int (nI (kN))), (3, .int (nI (stN)))]) X dX0_gets_61 (Nat.le_of_ble_eq_true rfl) rfl ?_
            refine z_aload_n X dX0_gets_63 rfl 1 rfl ?_
            refine z_aload X dX0_gets_64 0 rfl ?_
            refine z_get X dX0_gets_66 gu_s in_X5 rfl 6 (Nat.le_of_ble_eq_true rfl) q410 rfl ?_
            refine z_ci (z_runV (rest := []) (n := 1) X [.int ((-2))] (m_X0_no_2 hX22) dX0_gets_69 hX22.ob rfl (lw_V q350 q352 qs2 q66 q353) hv_X0_no rfl ⟨Nat.le_of_ble_eq_true rfl, Nat.le_of_ble_eq_true rfl⟩ ⟨by omega, by omega⟩ rfl (Nat.le_of_ble_eq_true rfl)) (fun r27 w29 h28 => ?_)
            obtain ⟨r27e, hX28⟩ := h28
            rw [r27e]
            have e : spGets o s (nI kN) (nI stN) = ((-2), oRef o 2) := by
              unfold spGets
              repeat (first | rw [el_some (by assumption)] | rw [el_none (by assumption)] | rw [if_pos (by omega)] | rw [if_neg (by omega)] | rw [if_pos (by assumption)] | rw [if_neg (ts_n (by assumption))])
              all_goals first | rfl | (exfalso; omega)
            exact z_iret X dX0_gets_72 (by omega) (by omega) ⟨_, rfl, (by rw [e]; exact ⟨⟨_, _, rfl, hX28⟩, rfl⟩)⟩
          · have e8 := rgb_nI (lo := 0) (hi := 7) (k := sN) ⟨by omega, by omega⟩ (by decide)
            exact absurd hm22 (by decide)
          · have e9 := rgb_nI (lo := 0) (hi := 7) (k := sN) ⟨by omega, by omega⟩ (by decide)
            exact absurd hm22 (by decide)
      · have c16 := ts_t c16
        refine z_iconst (v := nI (1)) X dX0_gets_23 ci1 ?_
        refine z_goto (tgt := 28) X dX0_gets_24 (by decide) ?_
        refine z_iload_n X dX0_gets_28 rfl 1 rfl ?_
        refine z_xa (z_runXV (rest := []) (n := 2) X [.int (nI (1)), .int (s)] (m_X0_ruleFor hX hO (mb := true) (s := s)) dX0_gets_29 hX.ob rfl (lw_V q1179 q1181 qs15 q66 q1182) hv_X0_ruleFor rfl ⟨Nat.le_of_ble_eq_true rfl, Nat.le_of_ble_eq_true rfl⟩ ⟨by omega, by omega⟩ rfl (Nat.le_of_ble_eq_true rfl)) (fun r30 w32 h31 => ?_) (fun E33 q34 w36 h35 => ?_)
        · have hn9 := h31
          obtain ⟨sN, sNh, rfl, hmb31, hk2, rfl, rfl⟩ := h31
          have e10 := rgb_nI (lo := 0) (hi := 7) (k := sN) ⟨by omega, by omega⟩ (by decide)
          have hq9 := hO.2.1 sN (by omega)
          refine z_astore (lv2 := [(4, .ref (xa (40 + sN))), (0, .ref (xa 0)), (1, .int (nI (sN))), (2, .int (nI (kN))), (3, .int (nI (stN)))]) X dX0_gets_32 (Nat.le_of_ble_eq_true rfl) rfl ?_
          refine z_aload X dX0_gets_34 0 rfl ?_
          refine z_aload_n X dX0_gets_36 rfl 1 rfl ?_
          refine z_get X dX0_gets_37 hX.ob in_X0 rfl 0 (Nat.le_of_ble_eq_true rfl) q233 rfl ?_
          refine z_get X dX0_gets_40 hX.day in_X1 rfl 0 (Nat.le_of_ble_eq_true rfl) q190 rfl ?_
          refine z_learnsX0 X hX hO (s := sN) (by omega) hk2 (rest := []) dX0_gets_43 (by omega) (Nat.le_of_ble_eq_true rfl) ⟨by omega, by omega⟩ (fun w37 xaw37 rrw37 hkw37 hXw37 hR9 => ?_)
          rw [← hkw37 (40 + sN) (by omega) (by omega) (by omega)]
          rw [← hkw37 0 (by omega) (by omega) (by omega)]
          refine z_aload X dX0_gets_46 0 rfl ?_
          refine z_aload_n X dX0_gets_48 rfl 1 rfl ?_
          refine z_get X dX0_gets_49 hXw37.ob in_X0 rfl 0 (Nat.le_of_ble_eq_true rfl) q233 rfl ?_
          refine z_get X dX0_gets_52 hXw37.day in_X1 rfl 0 (Nat.le_of_ble_eq_true rfl) q190 rfl ?_
          refine z_iload_n X dX0_gets_55 rfl 3 rfl ?_
          refine z_iload_n X dX0_gets_56 rfl 4 rfl ?_
          refine z_rgets (rest := []) X hXw37.wall hI hR9 (ix := kN) (s := stN) (by omega) (by omega) dX0_gets_57 (List.mem_of_getElem? (i := 3) rfl) (by omega) rfl (Nat.le_of_ble_eq_true rfl) ⟨by omega, by omega⟩ ?_
          have e : spGets o (nI sN) (nI kN) (nI stN) = (oI (rget o.1 (o.2.2.2.1 3 sN) (o.2.2.2.1 4 sN) (wiseT o.1 (o.2.2.2.1 4 sN)) kN stN), o) := by
            unfold spGets
            repeat (first | rw [el_some (by assumption)] | rw [el_none (by assumption)] | rw [if_pos (by omega)] | rw [if_neg (by omega)] | rw [if_pos (by assumption)] | rw [if_neg (ts_n (by assumption))])
            all_goals first | rfl | (exfalso; omega)
          exact z_iret X dX0_gets_60 (by omega) (by omega) ⟨_, rfl, (by rw [e]; exact ⟨⟨_, _, (hkw37 0 (by decide) (by decide) (by decide)), hXw37⟩, rfl⟩)⟩
        · have hx9 := h35
          obtain ⟨by9, ⟨rfl, hn35, rfl⟩, hb35⟩ := h35
          rcases hb35 with ⟨rfl, hA35 | hA35⟩ | ⟨rfl, hm35, sN, sNh, rfl, hk9⟩ | ⟨rfl, hm35, sN, sNh, rfl, hk9⟩
          · exact absurd hA35 (by decide)
          · have hX35 := XT.fresh hX hn35 (e := .inr (5, [.null, .null, .null, .null, .null, .int 0, .int (-2)]))
            refine zt_catch X Y [] (0, 60, 61, 122) [] rfl zp_n rfl (by decide) q364 q390 rfl ?_
            refine z_astore (lv2 := [(4, .ref (q34)), (0, .ref (xa 0)), (1, .int (s)), (2, .int (nI (kN))), (3, .int (nI (stN)))]) X dX0_gets_61 (Nat.le_of_ble_eq_true rfl) rfl ?_
            refine z_aload_n X dX0_gets_63 rfl 1 rfl ?_
            refine z_aload X dX0_gets_64 0 rfl ?_
            refine z_get X dX0_gets_66 gu_s in_X5 rfl 6 (Nat.le_of_ble_eq_true rfl) q410 rfl ?_
            refine z_ci (z_runV (rest := []) (n := 1) X [.int ((-2))] (m_X0_no_2 hX35) dX0_gets_69 hX35.ob rfl (lw_V q350 q352 qs2 q66 q353) hv_X0_no rfl ⟨Nat.le_of_ble_eq_true rfl, Nat.le_of_ble_eq_true rfl⟩ ⟨by omega, by omega⟩ rfl (Nat.le_of_ble_eq_true rfl)) (fun r38 w40 h39 => ?_)
            obtain ⟨r38e, hX39⟩ := h39
            rw [r38e]
            have e : spGets o s (nI kN) (nI stN) = ((-2), oRef o 2) := by
              unfold spGets
              repeat (first | rw [el_some (by assumption)] | rw [el_none (by assumption)] | rw [if_pos (by omega)] | rw [if_neg (by omega)] | rw [if_pos (by assumption)] | rw [if_neg (ts_n (by assumption))])
              all_goals first | rfl | (exfalso; omega)
            exact z_iret X dX0_gets_72 (by omega) (by omega) ⟨_, rfl, (by rw [e]; exact ⟨⟨_, _, rfl, hX39⟩, rfl⟩)⟩
          · have e11 := rgb_nI (lo := 0) (hi := 7) (k := sN) ⟨by omega, by omega⟩ (by decide)
            have hX35 := XT.fresh hX hn35 (e := .inr (5, [.null, .null, .null, .null, .null, .int 0, .int (-4)]))
            refine zt_catch X Y [] (0, 60, 61, 122) [] rfl zp_n rfl (by decide) q364 q390 rfl ?_
            refine z_astore (lv2 := [(4, .ref (q34)), (0, .ref (xa 0)), (1, .int (nI (sN))), (2, .int (nI (kN))), (3, .int (nI (stN)))]) X dX0_gets_61 (Nat.le_of_ble_eq_true rfl) rfl ?_
            refine z_aload_n X dX0_gets_63 rfl 1 rfl ?_
            refine z_aload X dX0_gets_64 0 rfl ?_
            refine z_get X dX0_gets_66 gu_s in_X5 rfl 6 (Nat.le_of_ble_eq_true rfl) q410 rfl ?_
            refine z_ci (z_runV (rest := []) (n := 1) X [.int ((-4))] (m_X0_no_4 hX35) dX0_gets_69 hX35.ob rfl (lw_V q350 q352 qs2 q66 q353) hv_X0_no rfl ⟨Nat.le_of_ble_eq_true rfl, Nat.le_of_ble_eq_true rfl⟩ ⟨by omega, by omega⟩ rfl (Nat.le_of_ble_eq_true rfl)) (fun r41 w43 h42 => ?_)
            obtain ⟨r41e, hX42⟩ := h42
            rw [r41e]
            have e : spGets o (nI sN) (nI kN) (nI stN) = ((-4), oRef o 4) := by
              unfold spGets
              repeat (first | rw [el_some (by assumption)] | rw [el_none (by assumption)] | rw [if_pos (by omega)] | rw [if_neg (by omega)] | rw [if_pos (by assumption)] | rw [if_neg (ts_n (by assumption))])
              all_goals first | rfl | (exfalso; omega)
            exact z_iret X dX0_gets_72 (by omega) (by omega) ⟨_, rfl, (by rw [e]; exact ⟨⟨_, _, rfl, hX42⟩, rfl⟩)⟩
          · have e12 := rgb_nI (lo := 0) (hi := 7) (k := sN) ⟨by omega, by omega⟩ (by decide)
            have hX35 := XT.fresh hX hn35 (e := .inr (5, [.null, .null, .null, .null, .null, .int 0, .int (-3)]))
            refine zt_catch X Y [] (0, 60, 61, 122) [] rfl zp_n rfl (by decide) q364 q390 rfl ?_
            refine z_astore (lv2 := [(4, .ref (q34)), (0, .ref (xa 0)), (1, .int (nI (sN))), (2, .int (nI (kN))), (3, .int (nI (stN)))]) X dX0_gets_61 (Nat.le_of_ble_eq_true rfl) rfl ?_
            refine z_aload_n X dX0_gets_63 rfl 1 rfl ?_
            refine z_aload X dX0_gets_64 0 rfl ?_
            refine z_get X dX0_gets_66 gu_s in_X5 rfl 6 (Nat.le_of_ble_eq_true rfl) q410 rfl ?_
            refine z_ci (z_runV (rest := []) (n := 1) X [.int ((-3))] (m_X0_no_3 hX35) dX0_gets_69 hX35.ob rfl (lw_V q350 q352 qs2 q66 q353) hv_X0_no rfl ⟨Nat.le_of_ble_eq_true rfl, Nat.le_of_ble_eq_true rfl⟩ ⟨by omega, by omega⟩ rfl (Nat.le_of_ble_eq_true rfl)) (fun r44 w46 h45 => ?_)
            obtain ⟨r44e, hX45⟩ := h45
            rw [r44e]
            have e : spGets o (nI sN) (nI kN) (nI stN) = ((-3), oRef o 3) := by
              unfold spGets
              repeat (first | rw [el_some (by assumption)] | rw [el_none (by assumption)] | rw [if_pos (by omega)] | rw [if_neg (by omega)] | rw [if_pos (by assumption)] | rw [if_neg (ts_n (by assumption))])
              all_goals first | rfl | (exfalso; omega)
            exact z_iret X dX0_gets_72 (by omega) (by omega) ⟨_, rfl, (by rw [e]; exact ⟨⟨_, _, rfl, hX45⟩, rfl⟩)⟩
    · have e6 : rgb 0 124 st = none := rgb_f c15
      refine z_aload_n X dX0_gets_9 rfl 0 rfl ?_
      refine z_get X dX0_gets_10 hX.ob in_X0 rfl 0 (Nat.le_of_ble_eq_true rfl) q233 rfl ?_
      refine z_get X dX0_gets_13 hX.day in_X1 rfl 0 (Nat.le_of_ble_eq_true rfl) q190 rfl ?_
      refine z_iload_n X dX0_gets_16 rfl 3 rfl ?_
      refine z_cip (z_runV (rest := [.ref (xa 0)]) (n := 1) X [.int (st)] (m_X2_isStateF (aw := xw xa) (v := st) c15) dX0_gets_17 (wl_o hX.wall) rfl (lw_V q1178 q656 q657 q68 q658) hv_X2_isState rfl ⟨Nat.le_of_ble_eq_true rfl, Nat.le_of_ble_eq_true rfl⟩ ⟨by omega, by omega⟩ rfl (Nat.le_of_ble_eq_true rfl)) ?_
      refine z_if_eq_t (tgt := 27) X dX0_gets_20 (by decide) (bI_0.mpr rfl) ?_
      refine z_iconst (v := nI (0)) X dX0_gets_27 ci0 ?_
      refine z_iload_n X dX0_gets_28 rfl 1 rfl ?_
      refine z_xa (z_runXV (rest := []) (n := 2) X [.int (nI (0)), .int (s)] (m_X0_ruleFor hX hO (mb := false) (s := s)) dX0_gets_29 hX.ob rfl (lw_V q1179 q1181 qs15 q66 q1182) hv_X0_ruleFor rfl ⟨Nat.le_of_ble_eq_true rfl, Nat.le_of_ble_eq_true rfl⟩ ⟨by omega, by omega⟩ rfl (Nat.le_of_ble_eq_true rfl)) (fun r47 w49 h48 => ?_) (fun E50 q51 w53 h52 => ?_)
      · have hn9 := h48
        obtain ⟨sN, sNh, rfl, hmb48, hk2, rfl, rfl⟩ := h48
        have e13 := rgb_nI (lo := 0) (hi := 7) (k := sN) ⟨by omega, by omega⟩ (by decide)
        exact absurd hmb48 (by decide)
      · have hx9 := h52
        obtain ⟨by9, ⟨rfl, hn52, rfl⟩, hb52⟩ := h52
        rcases hb52 with ⟨rfl, hA52 | hA52⟩ | ⟨rfl, hm52, sN, sNh, rfl, hk9⟩ | ⟨rfl, hm52, sN, sNh, rfl, hk9⟩
        · have hX52 := XT.fresh hX hn52 (e := .inr (5, [.null, .null, .null, .null, .null, .int 0, .int (-2)]))
          refine zt_catch X Y [] (0, 60, 61, 122) [] rfl zp_n rfl (by decide) q364 q390 rfl ?_
          refine z_astore (lv2 := [(4, .ref (q51)), (0, .ref (xa 0)), (1, .int (s)), (2, .int (nI (kN))), (3, .int (st))]) X dX0_gets_61 (Nat.le_of_ble_eq_true rfl) rfl ?_
          refine z_aload_n X dX0_gets_63 rfl 1 rfl ?_
          refine z_aload X dX0_gets_64 0 rfl ?_
          refine z_get X dX0_gets_66 gu_s in_X5 rfl 6 (Nat.le_of_ble_eq_true rfl) q410 rfl ?_
          refine z_ci (z_runV (rest := []) (n := 1) X [.int ((-2))] (m_X0_no_2 hX52) dX0_gets_69 hX52.ob rfl (lw_V q350 q352 qs2 q66 q353) hv_X0_no rfl ⟨Nat.le_of_ble_eq_true rfl, Nat.le_of_ble_eq_true rfl⟩ ⟨by omega, by omega⟩ rfl (Nat.le_of_ble_eq_true rfl)) (fun r54 w56 h55 => ?_)
          obtain ⟨r54e, hX55⟩ := h55
          rw [r54e]
          have e : spGets o s (nI kN) st = ((-2), oRef o 2) := by
            unfold spGets
            repeat (first | rw [el_some (by assumption)] | rw [el_none (by assumption)] | rw [if_pos (by omega)] | rw [if_neg (by omega)] | rw [if_pos (by assumption)] | rw [if_neg (ts_n (by assumption))])
            all_goals first | rfl | (rcases el_or (rgb 0 7 s) with h9 | ⟨x9, h9⟩ <;> (repeat (first | rw [el_some (by assumption)] | rw [el_none (by assumption)] | rw [if_pos (by omega)] | rw [if_neg (by omega)] | rw [if_pos (by assumption)] | rw [if_neg (ts_n (by assumption))])) <;> rfl) | (exfalso; omega)
          exact z_iret X dX0_gets_72 (by omega) (by omega) ⟨_, rfl, (by rw [e]; exact ⟨⟨_, _, rfl, hX55⟩, rfl⟩)⟩
        · have hX52 := XT.fresh hX hn52 (e := .inr (5, [.null, .null, .null, .null, .null, .int 0, .int (-2)]))
          refine zt_catch X Y [] (0, 60, 61, 122) [] rfl zp_n rfl (by decide) q364 q390 rfl ?_
          refine z_astore (lv2 := [(4, .ref (q51)), (0, .ref (xa 0)), (1, .int (s)), (2, .int (nI (kN))), (3, .int (st))]) X dX0_gets_61 (Nat.le_of_ble_eq_true rfl) rfl ?_
          refine z_aload_n X dX0_gets_63 rfl 1 rfl ?_
          refine z_aload X dX0_gets_64 0 rfl ?_
          refine z_get X dX0_gets_66 gu_s in_X5 rfl 6 (Nat.le_of_ble_eq_true rfl) q410 rfl ?_
          refine z_ci (z_runV (rest := []) (n := 1) X [.int ((-2))] (m_X0_no_2 hX52) dX0_gets_69 hX52.ob rfl (lw_V q350 q352 qs2 q66 q353) hv_X0_no rfl ⟨Nat.le_of_ble_eq_true rfl, Nat.le_of_ble_eq_true rfl⟩ ⟨by omega, by omega⟩ rfl (Nat.le_of_ble_eq_true rfl)) (fun r57 w59 h58 => ?_)
          obtain ⟨r57e, hX58⟩ := h58
          rw [r57e]
          have e : spGets o s (nI kN) st = ((-2), oRef o 2) := by
            unfold spGets
            repeat (first | rw [el_some (by assumption)] | rw [el_none (by assumption)] | rw [if_pos (by omega)] | rw [if_neg (by omega)] | rw [if_pos (by assumption)] | rw [if_neg (ts_n (by assumption))])
            all_goals first | rfl | (exfalso; omega)
          exact z_iret X dX0_gets_72 (by omega) (by omega) ⟨_, rfl, (by rw [e]; exact ⟨⟨_, _, rfl, hX58⟩, rfl⟩)⟩
        · have e14 := rgb_nI (lo := 0) (hi := 7) (k := sN) ⟨by omega, by omega⟩ (by decide)
          exact absurd hm52 (by decide)
        · have e15 := rgb_nI (lo := 0) (hi := 7) (k := sN) ⟨by omega, by omega⟩ (by decide)
          exact absurd hm52 (by decide)
