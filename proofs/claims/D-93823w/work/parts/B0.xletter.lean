/-! x: an array cloned; letter, whom -/
set_option maxRecDepth 100000
section ZCL
variable {κ : ZK} {cc : ByteArray} {own nm : String} {nL : Nat} {ret : Option FieldType} {l : Launch} {d mc ms : Nat} {G : GG} {w0 w : GW} {post : Option Value → GW → Prop} {lv : List (Nat × Value)} {a b pc : Nat} {rest : List Value}
theorem z_cloneI (X : ZX κ cc own nL ret nm l d mc ms G w0 post) {i q0 n : Nat} {f : Nat → Int32} (hw : w q0 = some (.inl (G.2.1 0, n, .inl f))) (hdg : decode cc pc = .ok (.invokevirtual i, 3)) (hq : Cond.methodLink own i ⟨"[I", "clone", "()Ljava/lang/Object;"⟩ ∈ lw_all) (hW : (rest.map fun v => v.category).sum ≤ 8) (hd : 1 ≤ d) (hf : a + 1 ≤ mc ∧ b + n ≤ ms) (k : ∀ q : Nat, w q = none → Z κ (gu w q (.inl (G.2.1 0, n, .inl f))) lv (a + 1) (b + n) (pc + 3) (.ref q :: rest)) : Z κ w lv a b pc (.ref q0 :: rest) := by
  obtain ⟨p, l', e, R, s, m, args, below, meth, c, nL', G', w0', Q⟩ := κ
  obtain ⟨hx, hb, hml, hown, hts, hK, hr, hlk, hnm, rfl, rfl, rfl, rfl, rfl, hQ⟩ := X
  intro H locs ls hs hl' T hT X9
  have hcell : H[q0]? = some (vp_cell (G'.2.1 0) (n, .inl f)) := hs.1.at hw
  have hcellT : T.heap[q0]? = some (vp_cell (G'.2.1 0) (n, .inl f)) := by rw [hT]; exact hcell
  have hsz : (vp_cell (G'.2.1 0) (n, .inl f)).slots.size = n := arrV_size _ _ _
  have hnmA : s.vm.findClass "[I" = some (G'.2.1 0) := (hK.1.2 0 _ rfl).2
  obtain ⟨c0, t0', f1, f2, f3⟩ := Cond.castable_spec (va_Nw.use (A := args) rfl (hK.castable q1348))
  cases hnmA.symm.trans f1
  obtain ⟨-, kA, hkA, comp, hkind⟩ := State.isArrayOf_alike X9.warmed.alike ((hK.1.2 0 _ rfl).1 0 (fun _ => .null))
  obtain ⟨-, kS, hkS, compS, hkindS⟩ := (hK.1.2 0 _ rfl).1 0 (fun _ => .null)
  obtain ⟨vm', X', st⟩ := X9.cloneArray hx hown (hts _ hq) (hts _ q1346) (hts _ q934) (hts _ q935) (hts _ q1347) (a := q0) (cell := vp_cell (G'.2.1 0) (n, .inl f)) hcellT (fun k h => by cases h) (fun h => by cases h) hnmA f2 f3
    (fun i v hv => by
      have hk' : T.vm.classes[G'.2.1 0]? = some kA := hkA
      have hv2 : fits .int v = true := va_fit (F := fun j => .int (f j)) (ty := .int) (fun _ _ => rfl) i v hv
      show State.fitsSlot T (G'.2.1 0) _ i v = true
      simpa [State.fitsSlot, State.slotType?, hk', hkind] using hv2)
    (g := F0 m pc ls (.ref q0 :: rest)) rfl (by rw [hml]; exact hl'.1) rfl (by rw [hb]; exact hdg) (by show 1 ≤ d; exact hd) (by show 2 * 0 + _ + 14 ≤ 64 * d; omega) (by show a + 1 ≤ mc; exact hf.1) (by rw [hsz]; exact hf.2) (hloader := Vm.clonesLoader_of_array hkS hkindS)
  rw [hsz] at X'
  have hH : ((T.setVm vm').pushCell { cls := (vp_cell (G'.2.1 0) (n, .inl f)).cls, slots := (vp_cell (G'.2.1 0) (n, .inl f)).slots }).heap = H.push (vp_cell (G'.2.1 0) (n, .inl f)) := by
    show T.heap.push _ = _
    rw [hT]; rfl
  have z1 : (H.push (vp_cell (G'.2.1 0) (n, .inl f))).size = H.size + 1 := Array.size_push _
  have e1 : (H.push (vp_cell (G'.2.1 0) (n, .inl f)))[H.size]? = some (vp_cell (G'.2.1 0) (n, .inl f)) := Array.getElem?_push_size
  have o1 : ∀ q : Nat, q < H.size → (H.push (vp_cell (G'.2.1 0) (n, .inl f)))[q]? = H[q]? := fun q hq => by rw [Array.getElem?_push, if_neg (Nat.ne_of_lt hq)]
  obtain ⟨t, b1, b2⟩ := k H.size hs.1.fresh (H.push (vp_cell (G'.2.1 0) (n, .inl f))) locs ls (hs.push (e := .inl (G'.2.1 0, n, .inl f)) e1 z1 o1) hl' _ hH X'
  refine ⟨t, ?_, b2⟩
  have st9 := st t
  rw [hT] at st9
  exact st9 b1
end ZCL
theorem let_min {S : WS} {z : Nat} (h : S.1 2 z ≤ 10) : (if nI (S.1 2 z + 3) < nI 10 then nI (S.1 2 z + 3) else nI 10) = nI (gLet S (some z) z) := by
  rw [min_nI (by omega) (by omega)]
  unfold gLet
  rw [if_pos rfl]
  congr 1
  split <;> split <;> omega
theorem let_upd {S : WS} {z : Nat} : upd (fun j => nI (S.1 2 j)) z (nI (gLet S (some z) z)) = fun j => nI (gLet S (some z) j) := by
  funext j
  unfold upd
  by_cases h : j = z
  · rw [if_pos h, h]
  · rw [if_neg h]
    unfold gLet
    rw [if_neg (fun q => h (Option.some.inj q).symm)]
theorem letV_is {S : WS} (hI : wInv S) {z n : Nat} : letV S z (n + 1) = hourV S (rBest S) (gLet S (some z)) (vals S (rBest S) n) (stOf S) - hourV S (rBest S) (S.1 2) (vals S (rBest S) n) (stOf S) := by
  have hst := isSt_iff.mpr (stOf_is hI)
  unfold letV bestV
  have e1 : valsL S (rBest S) (some z) (n + 1) (n + 1) (stOf S) = hourV S (rBest S) (gLet S (some z)) (vals S (rBest S) n) (stOf S) := by
    unfold valsL
    rw [if_pos ⟨by omega, rfl⟩, if_pos hst, Nat.add_sub_cancel]
  have e2 : vals S (rBest S) (n + 1) (stOf S) = hourV S (rBest S) (S.1 2) (vals S (rBest S) n) (stOf S) := by
    show (if isSt S (stOf S) = true then _ else _) = _
    rw [if_pos hst]
  rw [e1, e2]
set_option maxHeartbeats 2000000 in
theorem m_x_lettered {l : Launch} {G : GG} {w : GW} {xa : Nat → Nat} {rr : Option Nat} {o : OS} {im : IM} (hX : XT G w xa rr o im) (hO : oInv o) {z n : Nat} (hz : z < 3) (hn : n < 24) : gM l G yX0_lettered cX0_lettered 8 (some .long) 10 8 510 [.ref (xa 0), .int (nI (z)), .int (nI ((n + 1)))] w (pL (fun r w1 => ∃ xa2 rr2, (∀ k, k ≠ 13 → k ≠ 14 → k ≠ 15 → xa2 k = xa k) ∧ XT G w1 xa2 rr2 o im ∧ r = letV o.1 z (n + 1))) := by
  refine Z.met (own := "ThreeSizes") (nm := "lettered") (lv := [(0, .ref (xa 0)), (1, .int (nI (z))), (2, .int (nI ((n + 1))))]) (by decide) rfl rfl (Nat.le_of_ble_eq_true rfl) rfl (fun κ X => ?_)
  have hI := hO.1
  have hs5 := stOf_lt hI
  have hz9 := hI.1 z hz
  refine z_new X dX0_lettered_0 in_X13 tyX13 tyX13_ok (ci := 12) (fs := [.null, .null, .int 0]) q1205 q615 q90 rfl (fun j hj => by rcases (show j = 0 ∨ j = 1 ∨ j = 2 by omega) with rfl | rfl | rfl <;> rfl) (by omega) (by omega) (fun qz1 hqz1 => ?_)
  have hXqz1 := XT.fresh hX hqz1 (e := .inr (12, [.null, .null, .int 0]))
  refine z_dup X dX0_lettered_3 rfl ?_
  refine z_aload_n X dX0_lettered_4 rfl 0 rfl ?_
  refine z_get X dX0_lettered_5 hXqz1.ob in_X0 rfl 0 (Nat.le_of_ble_eq_true rfl) q233 rfl ?_
  refine z_get X dX0_lettered_8 hXqz1.day in_X1 rfl 0 (Nat.le_of_ble_eq_true rfl) q190 rfl ?_
  refine z_null X dX0_lettered_11 ?_
  refine z_cv (z_runI (rest := [.ref (qz1)]) (n := 2) X [.ref (xa 5), .null] (m_X13_initN hXqz1.wall hI (wq := qz1) gu_s) dX0_lettered_12 (lw_meth q618) q90 q1206 q617 rfl hs_X13_init rfl ⟨Nat.le_of_ble_eq_true rfl, Nat.le_of_ble_eq_true rfl⟩ ⟨by omega, by omega⟩ rfl (Nat.le_of_ble_eq_true rfl)) (fun w4 h3 => ?_)
  rw [gu_gu] at h3
  subst h3
  have hXn5 := XT.fresh hX hqz1 (e := .inr (12, [.ref (xa 5), .null, .int (nI (100 - sumTo (o.1.1 4) (o.1.2 0)))]))
  refine z_astore_n (lv2 := [(3, .ref (qz1)), (0, .ref (xa 0)), (1, .int (nI (z))), (2, .int (nI ((n + 1))))]) X dX0_lettered_15 rfl (Nat.le_of_ble_eq_true rfl) rfl ?_
  refine z_aload_n X dX0_lettered_16 rfl 0 rfl ?_
  refine z_iload_n X dX0_lettered_17 rfl 3 rfl ?_
  refine z_iconst (v := nI (1)) X dX0_lettered_18 ci1 ?_
  refine z_isub (v := nI (n)) X dX0_lettered_19 (pk_sub (by omega)) ?_
  refine z_ca (z_runV (rest := []) (n := 1) X [.int (nI (n))] (m_x_after hXn5 hO (wq := qz1) gu_s (n := n) (by omega)) dX0_lettered_20 gu_s rfl (lw_V q1207 q643 q644 q90 q645) hv_X13_after rfl ⟨Nat.le_of_ble_eq_true rfl, Nat.le_of_ble_eq_true rfl⟩ ⟨by omega, by omega⟩ rfl (Nat.le_of_ble_eq_true rfl)) (fun r6 w8 h7 => ?_)
  obtain ⟨xa7, rr7, hk7, hX7, hr7, hq7⟩ := h7
  rw [← hk7 0 (by omega) (by omega) (by omega)]
  refine z_astore (lv2 := [(4, .ref (r6)), (3, .ref (qz1)), (0, .ref (xa7 0)), (1, .int (nI (z))), (2, .int (nI ((n + 1))))]) X dX0_lettered_23 (Nat.le_of_ble_eq_true rfl) rfl ?_
  refine z_aload_n X dX0_lettered_25 rfl 2 rfl ?_
  refine z_get X dX0_lettered_26 hX7.ob in_X0 rfl 0 (Nat.le_of_ble_eq_true rfl) q233 rfl ?_
  refine z_get X dX0_lettered_29 hX7.day in_X1 rfl 0 (Nat.le_of_ble_eq_true rfl) q190 rfl ?_
  refine z_get X dX0_lettered_32 (wl_o hX7.wall) in_X2 rfl 2 (Nat.le_of_ble_eq_true rfl) q134 rfl ?_
  refine z_cloneI X (wl_3 hX7.wall) dX0_lettered_35 q1345 (Nat.le_of_ble_eq_true rfl) (by omega) ⟨by omega, by omega⟩ (fun gq hgq => ?_)
  have hXc := XT.fresh hX7 hgq (e := .inl (G.2.1 0, 3, .inl (fun j => nI (o.1.1 2 j))))
  have hqc := gu_f (e := .inl (G.2.1 0, 3, .inl (fun j => nI (o.1.1 2 j)))) hgq hq7
  have htc := gu_f (e := .inl (G.2.1 0, 3, .inl (fun j => nI (o.1.1 2 j)))) hgq hr7
  refine z_castE X (Is.arr X gu_s (fun _ h => nmA_int h)) dX0_lettered_38 q423 ?_
  refine z_astore (lv2 := [(5, .ref (gq)), (4, .ref (r6)), (3, .ref (qz1)), (0, .ref (xa7 0)), (1, .int (nI (z))), (2, .int (nI ((n + 1))))]) X dX0_lettered_41 (Nat.le_of_ble_eq_true rfl) rfl ?_
  refine z_aload_n X dX0_lettered_43 rfl 2 rfl ?_
  refine z_aload_n X dX0_lettered_44 rfl 3 rfl ?_
  refine z_get X dX0_lettered_45 hXc.ob in_X0 rfl 0 (Nat.le_of_ble_eq_true rfl) q233 rfl ?_
  refine z_get X dX0_lettered_48 hXc.day in_X1 rfl 0 (Nat.le_of_ble_eq_true rfl) q190 rfl ?_
  refine z_cip (z_runV (rest := [.ref (qz1)]) (n := 0) X [] (m_X2_state hXc.wall hI) dX0_lettered_51 (wl_o hXc.wall) rfl (lw_V q1173 q743 q744 q68 q745) hv_X2_state rfl ⟨Nat.le_of_ble_eq_true rfl, Nat.le_of_ble_eq_true rfl⟩ ⟨by omega, by omega⟩ rfl (Nat.le_of_ble_eq_true rfl)) ?_
  refine z_aload X dX0_lettered_54 1 rfl ?_
  refine z_aload X dX0_lettered_56 0 rfl ?_
  refine z_clp (z_runV (rest := []) (n := 3) X [.int (nI (stOf o.1)), .ref (r6), .ref (gq)] (m_X13_hour hqc hXc.wall hI (tq := 0) (r := rBest o.1) (Or.inl ⟨rfl, rfl⟩) (g := o.1.1 2) (fun z hz => (hI.1 z hz).2.2) gu_s htc hs5) dX0_lettered_58 hqc rfl (lw_V q1349 q667 q668 q90 q669) hv_X13_hour rfl ⟨Nat.le_of_ble_eq_true rfl, Nat.le_of_ble_eq_true rfl⟩ ⟨by omega, by omega⟩ rfl (Nat.le_of_ble_eq_true rfl)) ?_
  refine z_lstore (lv2 := [(6, .long (hourV o.1 (rBest o.1) (o.1.1 2) (vals o.1 (rBest o.1) n) (stOf o.1))), (5, .ref (gq)), (4, .ref (r6)), (3, .ref (qz1)), (0, .ref (xa7 0)), (1, .int (nI (z))), (2, .int (nI ((n + 1))))]) X dX0_lettered_61 (Nat.le_of_ble_eq_true rfl) rfl ?_
  refine z_aload X dX0_lettered_63 1 rfl ?_
  refine z_iload_n X dX0_lettered_65 rfl 5 rfl ?_
  refine z_bipush (v := nI (10)) X dX0_lettered_66 (by decide) ?_
  refine z_aload X dX0_lettered_68 1 rfl ?_
  refine z_iload_n X dX0_lettered_70 rfl 5 rfl ?_
  refine z_iaN (v := nI (o.1.1 2 z)) X dX0_lettered_71 gu_s (by omega) (by omega) rfl ?_
  refine z_iconst (v := nI (3)) X dX0_lettered_72 ci3 ?_
  refine z_iadd (v := nI (o.1.1 2 z + 3)) X dX0_lettered_73 (nI_add _ _) ?_
  refine z_min (v := nI (gLet o.1 (some z) z)) X dX0_lettered_74 q1336 (let_min hz9.2.2) (by omega) ⟨by omega, by omega⟩ (Nat.le_of_ble_eq_true rfl) ?_
  refine z_isN X dX0_lettered_77 gu_s (by omega) (by omega) ?_
  rw [gu_gu, let_upd]
  have hXd := XT.fresh hX7 hgq (e := .inl (G.2.1 0, 3, .inl (fun j => nI (gLet o.1 (some z) j))))
  have hqd := gu_f (e := .inl (G.2.1 0, 3, .inl (fun j => nI (gLet o.1 (some z) j)))) hgq hq7
  have htd := gu_f (e := .inl (G.2.1 0, 3, .inl (fun j => nI (gLet o.1 (some z) j)))) hgq hr7
  refine z_aload_n X dX0_lettered_78 rfl 3 rfl ?_
  refine z_aload_n X dX0_lettered_79 rfl 4 rfl ?_
  refine z_get X dX0_lettered_80 hXd.ob in_X0 rfl 0 (Nat.le_of_ble_eq_true rfl) q233 rfl ?_
  refine z_get X dX0_lettered_83 hXd.day in_X1 rfl 0 (Nat.le_of_ble_eq_true rfl) q190 rfl ?_
  refine z_cip (z_runV (rest := [.ref (qz1)]) (n := 0) X [] (m_X2_state hXd.wall hI) dX0_lettered_86 (wl_o hXd.wall) rfl (lw_V q1173 q743 q744 q68 q745) hv_X2_state rfl ⟨Nat.le_of_ble_eq_true rfl, Nat.le_of_ble_eq_true rfl⟩ ⟨by omega, by omega⟩ rfl (Nat.le_of_ble_eq_true rfl)) ?_
  refine z_aload X dX0_lettered_89 2 rfl ?_
  refine z_aload X dX0_lettered_91 1 rfl ?_
  refine z_clp (z_runV (rest := []) (n := 3) X [.int (nI (stOf o.1)), .ref (r6), .ref (gq)] (m_X13_hour hqd hXd.wall hI (tq := 0) (r := rBest o.1) (Or.inl ⟨rfl, rfl⟩) (g := gLet o.1 (some z)) (fun y hy => gLet_le hI hy) gu_s htd hs5) dX0_lettered_93 hqd rfl (lw_V q1349 q667 q668 q90 q669) hv_X13_hour rfl ⟨Nat.le_of_ble_eq_true rfl, Nat.le_of_ble_eq_true rfl⟩ ⟨by omega, by omega⟩ rfl (Nat.le_of_ble_eq_true rfl)) ?_
  refine z_lload X dX0_lettered_96 0 rfl ?_
  refine z_lsub (v := (hourV o.1 (rBest o.1) (gLet o.1 (some z)) (vals o.1 (rBest o.1) n) (stOf o.1)) - (hourV o.1 (rBest o.1) (o.1.1 2) (vals o.1 (rBest o.1) n) (stOf o.1))) X dX0_lettered_98 rfl ?_
  exact z_lret X dX0_lettered_99 (by omega) (by omega) ⟨_, rfl, ⟨xa7, _, hk7, hXd, (letV_is hI).symm⟩⟩
set_option maxHeartbeats 2000000 in
theorem x_letter {l : Launch} {G : GG} {w : GW} {xa : Nat → Nat} {rr : Option Nat} {o : OS} {im : IM} (hX : XT G w xa rr o im) (hO : oInv o) {z n : Int32} : gM l G yX0_letter cX0_letter 3 (some .long) 20 8 510 [.ref (xa 0), .int (z), .int (n)] w (pL (fun r w1 => XE G (xa 0) w1 (spLetter o z n).2 im ∧ r = (spLetter o z n).1)) := by
  refine Z.met (own := "ThreeSizes") (nm := "letter") (lv := [(0, .ref (xa 0)), (1, .int (z)), (2, .int (n))]) (by decide) rfl rfl (Nat.le_of_ble_eq_true rfl) rfl (fun κ X => ?_)
  have hI := hO.1
  have h6 := hI.2.1
  have ht200 := hO.2.2.2
  refine z_iload_n X dX0_letter_0 rfl 1 rfl ?_
  refine z_cip (z_runS (rest := []) (n := 1) X [.int (z)] (m_X0_isSize (v := z)) dX0_letter_1 (lw_S q771 q772 q66 q773) hs_X0_isSize rfl ⟨Nat.le_of_ble_eq_true rfl, Nat.le_of_ble_eq_true rfl⟩ ⟨by omega, by omega⟩ rfl (Nat.le_of_ble_eq_true rfl)) ?_
  refine z_if_eq (tgt := 26) X dX0_letter_4 (by decide) bI_d (fun c1 => ?_) (fun c1 => ?_)
  · have e1 : rgb 0 2 z = none := rgb_f c1
    refine z_aload_n X dX0_letter_26 rfl 0 rfl ?_
    refine z_bipush (v := (-2)) X dX0_letter_27 (by decide) ?_
    refine z_cl (z_runV (rest := []) (n := 1) X [.int ((-2))] (m_X0_noDeep_2 hX) dX0_letter_29 hX.ob rfl (lw_V q1189 q1191 qs16 q66 q1192) hv_X0_noDeep rfl ⟨Nat.le_of_ble_eq_true rfl, Nat.le_of_ble_eq_true rfl⟩ ⟨by omega, by omega⟩ rfl (Nat.le_of_ble_eq_true rfl)) (fun r2 w4 h3 => ?_)
    obtain ⟨r2e, hX3⟩ := h3
    rw [r2e]
    have e : spLetter o z n = (-1000000000000 + ((-2) : Int32).toInt64, oRef o 2) := by
      unfold spLetter
      repeat (first | rw [el_some (by assumption)] | rw [el_none (by assumption)] | rw [if_pos (by omega)] | rw [if_neg (by omega)] | rw [if_pos (by assumption)] | rw [if_neg (ts_n (by assumption))])
      all_goals first | rfl | (exfalso; omega)
    exact z_lret X dX0_letter_32 (by omega) (by omega) ⟨_, rfl, (by rw [e]; exact ⟨⟨_, _, rfl, hX3⟩, rfl⟩)⟩
  · have c1 := Classical.not_not.mp c1
    obtain ⟨zN, zNl, zNh, rfl, e2⟩ := rgb_t (lo := 0) (hi := 2) (by decide) (by decide) (c1)
    refine z_iload_n X dX0_letter_7 rfl 2 rfl ?_
    refine z_iconst (v := nI (1)) X dX0_letter_8 ci1 ?_
    refine z_bipush (v := nI (24)) X dX0_letter_9 (by decide) ?_
    refine z_cip (z_runS (rest := []) (n := 3) X [.int (n), .int (nI (1)), .int (nI (24))] m_X0_isIn dX0_letter_11 (lw_S q347 q348 q66 q349) hs_X0_isIn rfl ⟨Nat.le_of_ble_eq_true rfl, Nat.le_of_ble_eq_true rfl⟩ ⟨by omega, by omega⟩ rfl (Nat.le_of_ble_eq_true rfl)) ?_
    refine z_if_eq (tgt := 26) X dX0_letter_14 (by decide) bI_d (fun c5 => ?_) (fun c5 => ?_)
    · have e3 : rgb 1 24 n = none := rgb_f c5
      refine z_aload_n X dX0_letter_26 rfl 0 rfl ?_
      refine z_bipush (v := (-2)) X dX0_letter_27 (by decide) ?_
      refine z_cl (z_runV (rest := []) (n := 1) X [.int ((-2))] (m_X0_noDeep_2 hX) dX0_letter_29 hX.ob rfl (lw_V q1189 q1191 qs16 q66 q1192) hv_X0_noDeep rfl ⟨Nat.le_of_ble_eq_true rfl, Nat.le_of_ble_eq_true rfl⟩ ⟨by omega, by omega⟩ rfl (Nat.le_of_ble_eq_true rfl)) (fun r6 w8 h7 => ?_)
      obtain ⟨r6e, hX7⟩ := h7
      rw [r6e]
      have e : spLetter o (nI zN) n = (-1000000000000 + ((-2) : Int32).toInt64, oRef o 2) := by
        unfold spLetter
        repeat (first | rw [el_some (by assumption)] | rw [el_none (by assumption)] | rw [if_pos (by omega)] | rw [if_neg (by omega)] | rw [if_pos (by assumption)] | rw [if_neg (ts_n (by assumption))])
        all_goals first | rfl | (exfalso; omega)
      exact z_lret X dX0_letter_32 (by omega) (by omega) ⟨_, rfl, (by rw [e]; exact ⟨⟨_, _, rfl, hX7⟩, rfl⟩)⟩
    · have c5 := Classical.not_not.mp c5
      obtain ⟨nN, nNl, nNh, rfl, e4⟩ := rgb_t (lo := 1) (hi := 24) (by decide) (by decide) (c5)
      obtain ⟨mN, rfl⟩ : ∃ m, nN = m + 1 := ⟨nN - 1, by omega⟩
      refine z_aload_n X dX0_letter_17 rfl 0 rfl ?_
      refine z_iload_n X dX0_letter_18 rfl 1 rfl ?_
      refine z_iload_n X dX0_letter_19 rfl 2 rfl ?_
      refine z_cl (z_runV (rest := []) (n := 2) X [.int (nI (zN)), .int (nI ((mN + 1)))] (m_x_lettered hX hO (z := zN) (n := mN) (by omega) (by omega)) dX0_letter_20 hX.ob rfl (lw_V q1341 q1343 qs23 q66 q1344) hv_X0_lettered rfl ⟨Nat.le_of_ble_eq_true rfl, Nat.le_of_ble_eq_true rfl⟩ ⟨by omega, by omega⟩ rfl (Nat.le_of_ble_eq_true rfl)) (fun r9 w11 h10 => ?_)
      obtain ⟨xa10, rr10, hk10, hX10, r9e⟩ := h10
      rw [r9e]
      rw [← hk10 0 (by omega) (by omega) (by omega)]
      refine z_goto (tgt := 32) X dX0_letter_23 (by decide) ?_
      have e : spLetter o (nI zN) (nI (mN + 1)) = (letV o.1 zN (mN + 1), o) := by
        unfold spLetter
        repeat (first | rw [el_some (by assumption)] | rw [el_none (by assumption)] | rw [if_pos (by omega)] | rw [if_neg (by omega)] | rw [if_pos (by assumption)] | rw [if_neg (ts_n (by assumption))])
        all_goals first | rfl | (exfalso; omega)
      exact z_lret X dX0_letter_32 (by omega) (by omega) ⟨_, rfl, (by rw [e]; exact ⟨⟨_, _, (hk10 0 (by decide) (by decide) (by decide)), hX10⟩, rfl⟩)⟩
set_option maxHeartbeats 2000000 in
theorem x_whom {l : Launch} {G : GG} {w : GW} {xa : Nat → Nat} {rr : Option Nat} {o : OS} {im : IM} (hX : XT G w xa rr o im) (hO : oInv o) {n : Int32} : gM l G yX0_whom cX0_whom 8 (some .int) 20 24 1530 [.ref (xa 0), .int (n)] w (pI (fun r w1 => XE G (xa 0) w1 (spWhom o n).2 im ∧ r = (spWhom o n).1)) := by
  refine Z.met (own := "ThreeSizes") (nm := "whom") (lv := [(0, .ref (xa 0)), (1, .int (n))]) (by decide) rfl rfl (Nat.le_of_ble_eq_true rfl) rfl (fun κ X => ?_)
  have hI := hO.1
  have h6 := hI.2.1
  have ht200 := hO.2.2.2
  refine z_iload_n X dX0_whom_0 rfl 1 rfl ?_
  refine z_iconst (v := nI (1)) X dX0_whom_1 ci1 ?_
  refine z_bipush (v := nI (24)) X dX0_whom_2 (by decide) ?_
  refine z_cip (z_runS (rest := []) (n := 3) X [.int (n), .int (nI (1)), .int (nI (24))] m_X0_isIn dX0_whom_4 (lw_S q347 q348 q66 q349) hs_X0_isIn rfl ⟨Nat.le_of_ble_eq_true rfl, Nat.le_of_ble_eq_true rfl⟩ ⟨by omega, by omega⟩ rfl (Nat.le_of_ble_eq_true rfl)) ?_
  refine z_if_ne (tgt := 17) X dX0_whom_7 (by decide) bI_d (fun c1 => ?_) (fun c1 => ?_)
  · have c1 := Classical.not_not.mp c1
    obtain ⟨nN, nNl, nNh, rfl, e1⟩ := rgb_t (lo := 1) (hi := 24) (by decide) (by decide) (c1)
    obtain ⟨mN, rfl⟩ : ∃ m, nN = m + 1 := ⟨nN - 1, by omega⟩
    refine z_iconst (v := -1) X dX0_whom_17 cim1 ?_
    refine z_istore_n (lv2 := [(2, .int (-1)), (0, .ref (xa 0)), (1, .int (nI ((mN + 1))))]) X dX0_whom_18 rfl (Nat.le_of_ble_eq_true rfl) rfl ?_
    refine z_lconst (v := lN 0) X dX0_whom_19 cl0 ?_
    refine z_lstore_n (lv2 := [(3, .long (lN (0))), (2, .int (-1)), (0, .ref (xa 0)), (1, .int (nI ((mN + 1))))]) X dX0_whom_20 rfl (Nat.le_of_ble_eq_true rfl) rfl ?_
    refine z_iconst (v := nI (0)) X dX0_whom_21 ci0 ?_
    refine z_istore (lv2 := [(5, .int (nI (0))), (3, .long (lN (0))), (2, .int (-1)), (0, .ref (xa 0)), (1, .int (nI ((mN + 1))))]) X dX0_whom_22 (Nat.le_of_ble_eq_true rfl) rfl ?_
    have lw : ∀ (lq i : Nat) (w3 : GW) (xa3 : Nat → Nat) (rr3 : Option Nat), i + lq = 3 → xa3 0 = xa 0 → XT G w3 xa3 rr3 o im → Z κ w3 [(5, .int (nI (i))), (3, .long ((whTo (fun z => letV o.1 z (mN + 1)) i).2)), (2, .int (oI ((whTo (fun z => letV o.1 z (mN + 1)) i).1))), (1, .int (nI ((mN + 1)))), (0, .ref (xa3 0))] (8 * i) (510 * i) 24 [] := by
      intro lq
      induction lq with
      | zero =>
        intro i w3 xa3 rr3 lh h03 hX3
        obtain rfl : 3 = i := by omega
        refine z_iload X dX0_whom_24 0 rfl ?_
        refine z_iconst (v := nI (3)) X dX0_whom_26 ci3 ?_
        refine z_icmp_ge_t (tgt := 58) X dX0_whom_27 (by decide) ((nI_leI (by omega) (by omega)).mpr (by omega)) ?_
        refine z_iload_n X dX0_whom_58 rfl 2 rfl ?_
        have e : spWhom o (nI (mN + 1)) = (oI ((whTo (fun z => letV o.1 z (mN + 1)) 3).1), o) := by
          unfold spWhom
          repeat (first | rw [el_some (by assumption)] | rw [el_none (by assumption)] | rw [if_pos (by omega)] | rw [if_neg (by omega)] | rw [if_pos (by assumption)] | rw [if_neg (ts_n (by assumption))])
          all_goals first | rfl | (exfalso; omega)
        exact z_iret X dX0_whom_59 (by omega) (by omega) ⟨_, rfl, (by rw [e]; exact ⟨⟨_, _, h03, hX3⟩, rfl⟩)⟩
      | succ lq ih =>
        intro i w3 xa3 rr3 lh h03 hX3
        refine z_iload X dX0_whom_24 0 rfl ?_
        refine z_iconst (v := nI (3)) X dX0_whom_26 ci3 ?_
        refine z_icmp_ge_f (tgt := 58) X dX0_whom_27 (by decide) (fun h => absurd ((nI_leI (by omega) (by omega)).mp h) (by omega)) ?_
        refine z_aload_n X dX0_whom_30 rfl 4 rfl ?_
        refine z_iload X dX0_whom_31 0 rfl ?_
        refine z_iload_n X dX0_whom_33 rfl 3 rfl ?_
        refine z_cl (z_runV (rest := []) (n := 2) X [.int (nI (i)), .int (nI ((mN + 1)))] (m_x_lettered hX3 hO (z := i) (n := mN) (by omega) (by omega)) dX0_whom_34 hX3.ob rfl (lw_V q1341 q1343 qs23 q66 q1344) hv_X0_lettered rfl ⟨Nat.le_of_ble_eq_true rfl, Nat.le_of_ble_eq_true rfl⟩ ⟨by omega, by omega⟩ rfl (Nat.le_of_ble_eq_true rfl)) (fun r2 w4 h3 => ?_)
        obtain ⟨xa3, rr3, hk3, hX3, r2e⟩ := h3
        rw [r2e]
        rw [← hk3 0 (by omega) (by omega) (by omega)]
        refine z_lstore (lv2 := [(6, .long (letV o.1 i (mN + 1))), (5, .int (nI (i))), (3, .long ((whTo (fun z => letV o.1 z (mN + 1)) i).2)), (2, .int (oI ((whTo (fun z => letV o.1 z (mN + 1)) i).1))), (1, .int (nI ((mN + 1)))), (0, .ref (xa3 0))]) X dX0_whom_37 (Nat.le_of_ble_eq_true rfl) rfl ?_
        refine z_lload X dX0_whom_39 0 rfl ?_
        refine z_lload_n X dX0_whom_41 rfl 2 rfl ?_
        refine z_lcmp (v := lg_cmp (letV o.1 i (mN + 1)) ((whTo (fun z => letV o.1 z (mN + 1)) i).2)) X dX0_whom_42 rfl ?_
        refine z_if_le (tgt := 52) X dX0_whom_43 (by decide) (lg_cmp_le _ _) (fun c5 => ?_) (fun c5 => ?_)
        · refine z_iinc (v := nI (i + 1)) (lv2 := [(5, .int (nI (i + 1))), (6, .long (letV o.1 i (mN + 1))), (3, .long ((whTo (fun z => letV o.1 z (mN + 1)) i).2)), (2, .int (oI ((whTo (fun z => letV o.1 z (mN + 1)) i).1))), (1, .int (nI ((mN + 1)))), (0, .ref (xa3 0))]) X dX0_whom_52 1 rfl (nI_1 _) (Nat.le_of_ble_eq_true rfl) rfl ?_
          refine z_goto (tgt := 24) X dX0_whom_55 (by decide) ?_
          refine Z.lv [0, 2, 3, 4, 5] rfl ?_
          have e : whTo (fun z => letV o.1 z (mN + 1)) (i + 1) = whTo (fun z => letV o.1 z (mN + 1)) i := if_neg (Int64.not_lt.mpr c5)
          have kk := ih (i + 1) _ _ _ (by omega) ((hk3 0 (by decide) (by decide) (by decide)).trans h03) hX3
          rw [e] at kk
          exact Z.up (by omega) (by omega) kk
        · refine z_iload X dX0_whom_46 1 rfl ?_
          refine z_istore_n (lv2 := [(2, .int (nI (i))), (6, .long (letV o.1 i (mN + 1))), (5, .int (nI (i))), (3, .long ((whTo (fun z => letV o.1 z (mN + 1)) i).2)), (1, .int (nI ((mN + 1)))), (0, .ref (xa3 0))]) X dX0_whom_48 rfl (Nat.le_of_ble_eq_true rfl) rfl ?_
          refine z_lload X dX0_whom_49 1 rfl ?_
          refine z_lstore_n (lv2 := [(3, .long (letV o.1 i (mN + 1))), (2, .int (nI (i))), (6, .long (letV o.1 i (mN + 1))), (5, .int (nI (i))), (1, .int (nI ((mN + 1)))), (0, .ref (xa3 0))]) X dX0_whom_51 rfl (Nat.le_of_ble_eq_true rfl) rfl ?_
          refine z_iinc (v := nI (i + 1)) (lv2 := [(5, .int (nI (i + 1))), (3, .long (letV o.1 i (mN + 1))), (2, .int (nI (i))), (6, .long (letV o.1 i (mN + 1))), (1, .int (nI ((mN + 1)))), (0, .ref (xa3 0))]) X dX0_whom_52 3 rfl (nI_1 _) (Nat.le_of_ble_eq_true rfl) rfl ?_
          refine z_goto (tgt := 24) X dX0_whom_55 (by decide) ?_
          refine Z.lv [0, 1, 2, 4, 5] rfl ?_
          have e : whTo (fun z => letV o.1 z (mN + 1)) (i + 1) = (some i, letV o.1 i (mN + 1)) := if_pos (Int64.not_le.mp c5)
          have kk := ih (i + 1) _ _ _ (by omega) ((hk3 0 (by decide) (by decide) (by decide)).trans h03) hX3
          rw [e] at kk
          exact Z.up (by omega) (by omega) kk
    refine Z.lv [0, 1, 2, 4, 3] rfl ?_
    refine Z.up (by omega) (by omega) (lw (3 - 0) 0 _ _ _ (by omega) rfl hX)
  · have e2 : rgb 1 24 n = none := rgb_f c1
    refine z_aload_n X dX0_whom_10 rfl 0 rfl ?_
    refine z_bipush (v := (-2)) X dX0_whom_11 (by decide) ?_
    refine z_ci (z_runV (rest := []) (n := 1) X [.int ((-2))] (m_X0_no_2 hX) dX0_whom_13 hX.ob rfl (lw_V q350 q352 qs2 q66 q353) hv_X0_no rfl ⟨Nat.le_of_ble_eq_true rfl, Nat.le_of_ble_eq_true rfl⟩ ⟨by omega, by omega⟩ rfl (Nat.le_of_ble_eq_true rfl)) (fun r6 w8 h7 => ?_)
    obtain ⟨r6e, hX7⟩ := h7
    rw [r6e]
    have e : spWhom o n = ((-2), oRef o 2) := by
      unfold spWhom
      repeat (first | rw [el_some (by assumption)] | rw [el_none (by assumption)] | rw [if_pos (by omega)] | rw [if_neg (by omega)] | rw [if_pos (by assumption)] | rw [if_neg (ts_n (by assumption))])
      all_goals first | rfl | (exfalso; omega)
    exact z_iret X dX0_whom_16 (by omega) (by omega) ⟨_, rfl, (by rw [e]; exact ⟨⟨_, _, rfl, hX7⟩, rfl⟩)⟩
