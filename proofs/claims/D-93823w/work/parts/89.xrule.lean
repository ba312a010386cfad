/-! x: the rule of a shelf, or a refusal; what a rule learns -/
set_option maxRecDepth 100000
set_option maxHeartbeats 2000000 in
theorem m_X0_ruleFor {l : Launch} {G : GG} {w : GW} {xa : Nat → Nat} {rr : Option Nat} {o : OS} {im : IM} (hX : XT G w xa rr o im) (hO : oInv o) {mb : Bool} {s : Int32} : gMX l G yX0_ruleFor (ws_ yX0_ruleFor cX0_ruleFor 4 (some (.object "ThreeSizes$Rule"))) 12 1 7 [.ref (xa 0), .int (bI (mb)), .int (s)] w (pA (fun r w1 => ∃ k, k < 8 ∧ s = nI k ∧ mb = true ∧ o.2.2.2.1 0 k = 2 ∧ r = xa (40 + k) ∧ w1 = w)) (fun E x w1 => ∃ by_, rfE by_ E x w w1 ∧ ((by_ = -2 ∧ (mb = false ∨ rgb 0 7 s = none)) ∨ (by_ = -4 ∧ mb = true ∧ ∃ k, k < 8 ∧ s = nI k ∧ o.2.2.2.1 0 k = 0) ∨ (by_ = -3 ∧ mb = true ∧ ∃ k, k < 8 ∧ s = nI k ∧ o.2.2.2.1 0 k = 1))) := by
  refine Z.metX (own := "ThreeSizes") (nm := "ruleFor") (lv := [(0, .ref (xa 0)), (1, .int (bI (mb))), (2, .int (s))]) (by decide) rfl rfl (Nat.le_of_ble_eq_true rfl) rfl (fun κ X Y V0 => ?_)
  refine z_iload_n X dX0_ruleFor_0 rfl 1 rfl ?_
  refine z_if_eq (tgt := 11) X dX0_ruleFor_1 (by decide) bI_0 (fun c1 => ?_) (fun c1 => ?_)
  · refine z_new X dX0_ruleFor_11 in_X5 tyX5 tyX5_ok (ci := 5) (fs := [.null, .null, .null, .null, .null, .int 0, .int 0]) q364 q389 q78 rfl (fun j hj => by rcases (show j = 0 ∨ j = 1 ∨ j = 2 ∨ j = 3 ∨ j = 4 ∨ j = 5 ∨ j = 6 by omega) with rfl | rfl | rfl | rfl | rfl | rfl | rfl <;> rfl) (by omega) (by omega) (fun q2 hq2 => ?_)
    have hXq2 := XT.fresh hX hq2 (e := .inr (5, [.null, .null, .null, .null, .null, .int 0, .int 0]))
    refine z_dup X dX0_ruleFor_14 rfl ?_
    refine z_bipush (v := (-2)) X dX0_ruleFor_15 (by decide) ?_
    refine z_cv (z_runI (rest := [.ref (q2)]) (n := 1) X [.int ((-2))] (m_X5_init gu_s (v := (-2))) dX0_ruleFor_17 (lw_meth q399) q78 q397 q398 rfl hs_X5_init rfl ⟨Nat.le_of_ble_eq_true rfl, Nat.le_of_ble_eq_true rfl⟩ ⟨by omega, by omega⟩ rfl (Nat.le_of_ble_eq_true rfl)) (fun w5 h4 => ?_)
    rw [gu_gu] at h4
    subst h4
    refine z_athrow X gu_s rfl dX0_ruleFor_20 ?_
    exact zt_out X Y zp_n ⟨_, ⟨rfl, hq2, rfl⟩, Or.inl ⟨rfl, by first | exact Or.inl (by assumption) | exact Or.inr (by assumption)⟩⟩ ⟨by omega, by omega⟩
  · have c1 := ts_t c1
    refine z_iload_n X dX0_ruleFor_4 rfl 2 rfl ?_
    refine z_cip (z_runS (rest := []) (n := 1) X [.int (s)] (m_X0_isShelf (v := s)) dX0_ruleFor_5 (lw_S q344 q345 q66 q346) hs_X0_isShelf rfl ⟨Nat.le_of_ble_eq_true rfl, Nat.le_of_ble_eq_true rfl⟩ ⟨by omega, by omega⟩ rfl (Nat.le_of_ble_eq_true rfl)) ?_
    refine z_if_ne (tgt := 21) X dX0_ruleFor_8 (by decide) bI_d (fun c6 => ?_) (fun c6 => ?_)
    · have c6 := Classical.not_not.mp c6
      obtain ⟨sN, sNl, sNh, rfl, e1⟩ := rgb_t (lo := 0) (hi := 7) (by decide) (by decide) (c6)
      have hq9 := hO.2.1 sN (by omega)
      rcases hX.shelf (s := sN) (by omega) with ⟨hk9, hs9⟩ | ⟨hk9, hs9, f9, hr9, ho9, he9⟩ | ⟨hk9, hs9, hr9, hl9⟩
      · skip
        refine z_aload_n X dX0_ruleFor_21 rfl 0 rfl ?_
        refine z_get X dX0_ruleFor_22 hX.ob in_X0 rfl 2 (Nat.le_of_ble_eq_true rfl) q235 rfl ?_
        refine z_iload_n X dX0_ruleFor_25 rfl 2 rfl ?_
        refine z_aN7 (v := .ref (xa (30 + sN))) X dX0_ruleFor_26 hX.sh (by omega) (by omega) (shF_at (by omega)) ?_
        refine z_get X dX0_ruleFor_27 hs9 in_X3 rfl 0 (Nat.le_of_ble_eq_true rfl) q229 rfl ?_
        refine z_astore_nN (lv2 := [(3, .null), (0, .ref (xa 0)), (1, .int (bI (mb))), (2, .int (nI (sN)))]) X dX0_ruleFor_30 rfl (Nat.le_of_ble_eq_true rfl) rfl ?_
        refine z_aload_nN X dX0_ruleFor_31 rfl 0 rfl ?_
        refine z_nonnullN X dX0_ruleFor_32 ?_
        refine z_new X dX0_ruleFor_35 in_X5 tyX5 tyX5_ok (ci := 5) (fs := [.null, .null, .null, .null, .null, .int 0, .int 0]) q364 q389 q78 rfl (fun j hj => by rcases (show j = 0 ∨ j = 1 ∨ j = 2 ∨ j = 3 ∨ j = 4 ∨ j = 5 ∨ j = 6 by omega) with rfl | rfl | rfl | rfl | rfl | rfl | rfl <;> rfl) (by omega) (by omega) (fun q7 hq7 => ?_)
        have hXq7 := XT.fresh hX hq7 (e := .inr (5, [.null, .null, .null, .null, .null, .int 0, .int 0]))
        refine z_dup X dX0_ruleFor_38 rfl ?_
        refine z_bipush (v := (-4)) X dX0_ruleFor_39 (by decide) ?_
        refine z_cv (z_runI (rest := [.ref (q7)]) (n := 1) X [.int ((-4))] (m_X5_init gu_s (v := (-4))) dX0_ruleFor_41 (lw_meth q399) q78 q397 q398 rfl hs_X5_init rfl ⟨Nat.le_of_ble_eq_true rfl, Nat.le_of_ble_eq_true rfl⟩ ⟨by omega, by omega⟩ rfl (Nat.le_of_ble_eq_true rfl)) (fun w10 h9 => ?_)
        rw [gu_gu] at h9
        subst h9
        refine z_athrow X gu_s rfl dX0_ruleFor_44 ?_
        exact zt_out X Y zp_n ⟨_, ⟨rfl, hq7, rfl⟩, Or.inr (Or.inl ⟨rfl, ts_t (by assumption), sN, by omega, rfl, hk9⟩)⟩ ⟨by omega, by omega⟩
      · skip
        refine z_aload_n X dX0_ruleFor_21 rfl 0 rfl ?_
        refine z_get X dX0_ruleFor_22 hX.ob in_X0 rfl 2 (Nat.le_of_ble_eq_true rfl) q235 rfl ?_
        refine z_iload_n X dX0_ruleFor_25 rfl 2 rfl ?_
        refine z_aN7 (v := .ref (xa (30 + sN))) X dX0_ruleFor_26 hX.sh (by omega) (by omega) (shF_at (by omega)) ?_
        refine z_get X dX0_ruleFor_27 hs9 in_X3 rfl 0 (Nat.le_of_ble_eq_true rfl) q229 rfl ?_
        refine z_astore_n (lv2 := [(3, .ref (xa (40 + sN))), (0, .ref (xa 0)), (1, .int (bI (mb))), (2, .int (nI (sN)))]) X dX0_ruleFor_30 rfl (Nat.le_of_ble_eq_true rfl) rfl ?_
        refine z_aload_n X dX0_ruleFor_31 rfl 0 rfl ?_
        refine z_nonnull (tgt := 45) X dX0_ruleFor_32 (by decide) ?_
        refine z_aload_n X dX0_ruleFor_45 rfl 0 rfl ?_
        refine z_instRow X hq9.2.1 hr9 dX0_ruleFor_46 q388 ?_
        refine z_if_ne_f (tgt := 62) X dX0_ruleFor_49 (by decide) (by decide) ?_
        refine z_new X dX0_ruleFor_52 in_X5 tyX5 tyX5_ok (ci := 5) (fs := [.null, .null, .null, .null, .null, .int 0, .int 0]) q364 q389 q78 rfl (fun j hj => by rcases (show j = 0 ∨ j = 1 ∨ j = 2 ∨ j = 3 ∨ j = 4 ∨ j = 5 ∨ j = 6 by omega) with rfl | rfl | rfl | rfl | rfl | rfl | rfl <;> rfl) (by omega) (by omega) (fun q11 hq11 => ?_)
        have hXq11 := XT.fresh hX hq11 (e := .inr (5, [.null, .null, .null, .null, .null, .int 0, .int 0]))
        refine z_dup X dX0_ruleFor_55 rfl ?_
        refine z_bipush (v := (-3)) X dX0_ruleFor_56 (by decide) ?_
        refine z_cv (z_runI (rest := [.ref (q11)]) (n := 1) X [.int ((-3))] (m_X5_init gu_s (v := (-3))) dX0_ruleFor_58 (lw_meth q399) q78 q397 q398 rfl hs_X5_init rfl ⟨Nat.le_of_ble_eq_true rfl, Nat.le_of_ble_eq_true rfl⟩ ⟨by omega, by omega⟩ rfl (Nat.le_of_ble_eq_true rfl)) (fun w14 h13 => ?_)
        rw [gu_gu] at h13
        subst h13
        refine z_athrow X gu_s rfl dX0_ruleFor_61 ?_
        exact zt_out X Y zp_n ⟨_, ⟨rfl, hq11, rfl⟩, Or.inr (Or.inr ⟨rfl, ts_t (by assumption), sN, by omega, rfl, hk9⟩)⟩ ⟨by omega, by omega⟩
      · skip
        refine z_aload_n X dX0_ruleFor_21 rfl 0 rfl ?_
        refine z_get X dX0_ruleFor_22 hX.ob in_X0 rfl 2 (Nat.le_of_ble_eq_true rfl) q235 rfl ?_
        refine z_iload_n X dX0_ruleFor_25 rfl 2 rfl ?_
        refine z_aN7 (v := .ref (xa (30 + sN))) X dX0_ruleFor_26 hX.sh (by omega) (by omega) (shF_at (by omega)) ?_
        refine z_get X dX0_ruleFor_27 hs9 in_X3 rfl 0 (Nat.le_of_ble_eq_true rfl) q229 rfl ?_
        refine z_astore_n (lv2 := [(3, .ref (xa (40 + sN))), (0, .ref (xa 0)), (1, .int (bI (mb))), (2, .int (nI (sN)))]) X dX0_ruleFor_30 rfl (Nat.le_of_ble_eq_true rfl) rfl ?_
        refine z_aload_n X dX0_ruleFor_31 rfl 0 rfl ?_
        refine z_nonnull (tgt := 45) X dX0_ruleFor_32 (by decide) ?_
        refine z_aload_n X dX0_ruleFor_45 rfl 0 rfl ?_
        refine z_instR X ⟨hq9.2.2.2.2.1 hk9, hq9.2.2.2.1⟩ hr9 dX0_ruleFor_46 q388 ?_
        refine z_if_ne_t (tgt := 62) X dX0_ruleFor_49 (by decide) (by decide) ?_
        refine z_aload_n X dX0_ruleFor_62 rfl 0 rfl ?_
        refine z_castR X ⟨hq9.2.2.2.2.1 hk9, hq9.2.2.2.1⟩ hr9 dX0_ruleFor_63 q388 ?_
        exact z_aret X dX0_ruleFor_66 (Or.inl ⟨_, rfl⟩) (by omega) (by omega) ⟨_, rfl, ⟨sN, by omega, rfl, ts_t (by assumption), hk9, rfl, rfl⟩⟩
    · have e2 : rgb 0 7 s = none := rgb_f c6
      refine z_new X dX0_ruleFor_11 in_X5 tyX5 tyX5_ok (ci := 5) (fs := [.null, .null, .null, .null, .null, .int 0, .int 0]) q364 q389 q78 rfl (fun j hj => by rcases (show j = 0 ∨ j = 1 ∨ j = 2 ∨ j = 3 ∨ j = 4 ∨ j = 5 ∨ j = 6 by omega) with rfl | rfl | rfl | rfl | rfl | rfl | rfl <;> rfl) (by omega) (by omega) (fun q15 hq15 => ?_)
      have hXq15 := XT.fresh hX hq15 (e := .inr (5, [.null, .null, .null, .null, .null, .int 0, .int 0]))
      refine z_dup X dX0_ruleFor_14 rfl ?_
      refine z_bipush (v := (-2)) X dX0_ruleFor_15 (by decide) ?_
      refine z_cv (z_runI (rest := [.ref (q15)]) (n := 1) X [.int ((-2))] (m_X5_init gu_s (v := (-2))) dX0_ruleFor_17 (lw_meth q399) q78 q397 q398 rfl hs_X5_init rfl ⟨Nat.le_of_ble_eq_true rfl, Nat.le_of_ble_eq_true rfl⟩ ⟨by omega, by omega⟩ rfl (Nat.le_of_ble_eq_true rfl)) (fun w18 h17 => ?_)
      rw [gu_gu] at h17
      subst h17
      refine z_athrow X gu_s rfl dX0_ruleFor_20 ?_
      exact zt_out X Y zp_n ⟨_, ⟨rfl, hq15, rfl⟩, Or.inl ⟨rfl, by first | exact Or.inl (by assumption) | exact Or.inr (by assumption)⟩⟩ ⟨by omega, by omega⟩
section ZMI
variable {κ : ZK} {cc : ByteArray} {own nm : String} {nL : Nat} {ret : Option FieldType} {l : Launch} {d mc ms : Nat} {G : GG} {w0 w : GW} {post : Option Value → GW → Prop} {lv : List (Nat × Value)} {a b pc : Nat} {st : List Value}
theorem z_min (X : ZX κ cc own nL ret nm l d mc ms G w0 post) {i : Nat} {x y v : Int32} (hdg : decode cc pc = .ok (.invokestatic i, 3)) (hq : Cond.methodLink own i Lib.Math.min.name ∈ lw_all) (hv : (if y < x then y else x) = v) (hd : 1 ≤ d) (hf : a ≤ mc ∧ b ≤ ms) (hW : (st.map fun v => v.category).sum ≤ 8) (k : Z κ w lv a b (pc + 3) (.int v :: st)) : Z κ w lv a b pc (.int y :: .int x :: st) := by
  subst hv
  obtain ⟨p, l', e, R, s, m, args, below, meth, c, nL', G', w0', Q⟩ := κ
  obtain ⟨hx, hb, hml, hown, hts, hK, hr, hlk, hnm, rfl, rfl, rfl, rfl, rfl, hQ⟩ := X
  intro H locs ls hs hl'
  exact va_mmin hx hb (by rw [hml]; exact hl'.1.symm) hown (hts _ hq) (hts _ q640) (hts _ q91) (hts _ q641) (by show 1 ≤ d; omega) (by show _ ≤ 64 * d; omega) hf.1 hf.2 hdg (k H locs ls hs hl')
theorem min_nI {p q : Nat} (hp : p < 2 ^ 31) (hq : q < 2 ^ 31) : (if nI q < nI p then nI q else nI p) = nI (if p ≤ q then p else q) := by
  by_cases h : q < p
  · rw [if_pos ((nI_ltI hq hp).mpr h), if_neg (by omega)]
  · rw [if_neg (fun z => h ((nI_ltI hq hp).mp z)), if_pos (by omega)]
end ZMI
set_option maxHeartbeats 2000000 in
theorem m_X12_hours {l : Launch} {G : GG} {q ra tq : Nat} {w : GW} (hq : w q = some (.inr (11, [.int (nI ra), .ref tq]))) (ha : ra < 100) : gM l G yX12_hours cX12_hours 1 (some .int) 2 0 0 [.ref (q)] w (pI (fun r w1 => r = nI (wiseH ra) ∧ w1 = w)) := by
  refine Z.met (own := "ThreeSizes$Wise") (nm := "hours") (lv := [(0, .ref (q))]) (by decide) rfl rfl (Nat.le_of_ble_eq_true rfl) rfl (fun κ X => ?_)
  refine z_bipush (v := nI (20)) X dX12_hours_0 (by decide) ?_
  refine z_aload_n X dX12_hours_2 rfl 0 rfl ?_
  refine z_getI X dX12_hours_3 hq in_X12 rfl 0 (Nat.le_of_ble_eq_true rfl) q522 q523 rfl ?_
  refine z_min (v := nI (if 20 ≤ ra then 20 else ra)) X dX12_hours_6 q639 (min_nI (by omega) (by omega)) (by omega) ⟨by omega, by omega⟩ (Nat.le_of_ble_eq_true rfl) ?_
  exact z_iret X dX12_hours_9 (by omega) (by omega) ⟨_, rfl, ⟨congrArg nI (by unfold wiseH; split <;> split <;> omega), rfl⟩⟩
set_option maxHeartbeats 2000000 in
theorem m_X6_learns {l : Launch} {G : GG} {q v : Nat} {w : GW} : gM l G yX6_learns cX6_learns 2 none 1 0 0 [.ref (q), .ref (v)] w (pV (fun w1 => w1 = w)) := by
  refine Z.met (own := "ThreeSizes$Rule") (nm := "learns") (lv := [(0, .ref (q)), (1, .ref (v))]) (by decide) rfl rfl (Nat.le_of_ble_eq_true rfl) rfl (fun κ X => ?_)
  exact z_vret X dX6_learns_0 (by omega) (by omega) ⟨rfl, rfl⟩
