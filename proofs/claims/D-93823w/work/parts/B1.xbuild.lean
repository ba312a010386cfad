/-! x: build -/
set_option maxRecDepth 100000
def boxTo (S2 : WS) (st z : Nat) : WS := (fun f i => if f = 0 ∧ i < z then fr st i else S2.1 f i, S2.2)
theorem boxTo_0 {S2 : WS} {st : Nat} : boxTo S2 st 0 = S2 := by
  unfold boxTo
  refine Prod.ext (funext fun f => funext fun i => ?_) rfl
  exact if_neg (by omega)
theorem boxTo_1 {S2 : WS} {st z : Nat} : wPut (boxTo S2 st z) 0 z (fr st z) = boxTo S2 st (z + 1) := by
  refine Prod.ext (funext fun f => funext fun i => ?_) rfl
  show ite _ _ (ite _ _ _) = ite _ _ _
  by_cases q : f = 0 ∧ i = z
  · obtain ⟨rfl, rfl⟩ := q
    rw [if_pos ⟨rfl, rfl⟩, if_pos ⟨rfl, Nat.lt_succ_self _⟩]
  · rw [if_neg q]
    by_cases q2 : f = 0 ∧ i < z
    · rw [if_pos q2, if_pos ⟨q2.1, by omega⟩]
    · rw [if_neg q2, if_neg (fun q3 => q ⟨q3.1, by omega⟩)]
/-- but for the boxes the wall that is tried -/
def BX (S S2 : WS) : Prop := S2.2 = S.2 ∧ (∀ f, 1 ≤ f → S2.1 f = (wBld S 0).1 f) ∧ ∀ j, 3 ≤ j → S2.1 0 j = S.1 0 j
theorem wBld_oth {S : WS} {a b f : Nat} (h : 1 ≤ f) : (wBld S a).1 f = (wBld S b).1 f := by
  funext i
  show (if f = 0 ∧ i < 3 then _ else _) = (if f = 0 ∧ i < 3 then _ else _)
  rw [if_neg (by omega), if_neg (by omega)]
theorem BX.of {S : WS} {st : Nat} : BX S (wBld S st) := ⟨rfl, fun f hf => wBld_oth hf, fun j hj => by
  show (if 0 = 0 ∧ j < 3 then _ else if 0 = 1 ∧ j < 3 then _ else _) = _
  rw [if_neg (by omega), if_neg (by omega)]⟩
theorem BX.bld {S S2 : WS} (h : BX S S2) {st : Nat} : ∀ k, k < 7 → (boxTo S2 st 3).1 k = (wBld S st).1 k := by
  intro k _
  by_cases hk : k = 0
  · subst hk
    funext i
    show (if 0 = 0 ∧ i < 3 then fr st i else S2.1 0 i) = (if 0 = 0 ∧ i < 3 then fr st i else if 0 = 1 ∧ i < 3 then 0 else S.1 0 i)
    by_cases hi : i < 3
    · rw [if_pos ⟨rfl, hi⟩, if_pos ⟨rfl, hi⟩]
    · rw [if_neg (by omega), if_neg (by omega), if_neg (by omega)]; exact h.2.2 i (by omega)
  · rw [wBld_oth (b := 0) (by omega), ← h.2.1 k (by omega)]
    funext i
    exact if_neg (by omega)
theorem BX.start {S : WS} : BX S (wArr S 1 (fun j => if j < 3 then 0 else S.1 1 j)) := by
  refine ⟨rfl, fun f hf => ?_, fun j hj => rfl⟩
  funext i
  show (if f = 1 then (fun j => if j < 3 then 0 else S.1 1 j) else S.1 f) i = (if f = 0 ∧ i < 3 then _ else if f = 1 ∧ i < 3 then 0 else S.1 f i)
  rw [if_neg (show ¬ (f = 0 ∧ i < 3) by omega)]
  by_cases h1 : f = 1
  · subst h1
    rw [if_pos rfl]
    show (if i < 3 then 0 else S.1 1 i) = _
    by_cases hi : i < 3
    · rw [if_pos hi, if_pos ⟨rfl, hi⟩]
    · rw [if_neg hi, if_neg (by omega)]
  · rw [if_neg h1, if_neg (by omega)]
theorem fill3 {S : WS} : fillI (fun j => nI (S.1 1 j)) 3 (nI 0) = fun j => nI ((fun j => if j < 3 then 0 else S.1 1 j) j) := by
  funext j
  unfold fillI
  by_cases h : j < 3
  · rw [if_pos h, if_pos h]
  · rw [if_neg h, if_neg h]
theorem RowsO.put {G : GG} {wt : GW} {rr : Option Nat} {ro : Nat → Nat} {T : Nat → Nat → Int64} (h : RowsO G wt rr ro T) {a n : Nat} {c : ClassId} {f : Nat → Int32} {e : va_E} (ha : wt a = some (.inl (c, n, .inl f))) : RowsO G (gu wt a e) rr ro T := fun q hq => by
  obtain ⟨h1, h2, h3⟩ := h q hq
  refine ⟨gu_k (fun z => by rw [z, ha] at h1; cases h1) h1, fun k hk => gu_k (fun z => ?_) (h2 k hk), h3⟩
  have h9 := h2 k hk
  rw [z, ha] at h9
  cases h9
def tkO (o : Option Nat) : Nat := el o 0 takesN
theorem tkO_lt {p : Nat → Bool} {f : Nat → Int64} {k : Nat} : tkO (mxTo p f k) ≤ 28 := by
  unfold tkO
  cases h : mxTo p f k with
  | none => exact Nat.zero_le _
  | some y =>
    show takesN y ≤ 28
    have f0 := fr_lt y 0
    have f1 := fr_lt y 1
    have f2 := fr_lt y 2
    unfold takesN
    omega
set_option maxHeartbeats 2000000 in
theorem x_build {l : Launch} {G : GG} {w : GW} {xa : Nat → Nat} {rr : Option Nat} {o : OS} {im : IM} (hX : XT G w xa rr o im) (hO : oInv o) {v n q : Int32} : gM l G yX0_build cX0_build 13 (some .int) 20 883 63419 [.ref (xa 0), .int (v), .int (n), .int (q)] w (pI (fun r w1 => XE G (xa 0) w1 (spBuild o v n q).2 im ∧ r = (spBuild o v n q).1)) := by
  refine Z.met (own := "ThreeSizes") (nm := "build") (lv := [(0, .ref (xa 0)), (1, .int (v)), (2, .int (n)), (3, .int (q))]) (by decide) rfl rfl (Nat.le_of_ble_eq_true rfl) rfl (fun κ X => ?_)
  have hI := hO.1
  have h6 := hI.2.1
  have ht200 := hO.2.2.2
  refine z_iload_n X dX0_build_0 rfl 1 rfl ?_
  refine z_iconst (v := nI (0)) X dX0_build_1 ci0 ?_
  refine z_bipush (v := nI (30)) X dX0_build_2 (by decide) ?_
  refine z_cip (z_runS (rest := []) (n := 3) X [.int (v), .int (nI (0)), .int (nI (30))] m_X0_isIn dX0_build_4 (lw_S q347 q348 q66 q349) hs_X0_isIn rfl ⟨Nat.le_of_ble_eq_true rfl, Nat.le_of_ble_eq_true rfl⟩ ⟨by omega, by omega⟩ rfl (Nat.le_of_ble_eq_true rfl)) ?_
  refine z_if_eq (tgt := 26) X dX0_build_7 (by decide) bI_d (fun c1 => ?_) (fun c1 => ?_)
  · have e1 : rgb 0 30 v = none := rgb_f c1
    refine z_aload_n X dX0_build_26 rfl 0 rfl ?_
    refine z_bipush (v := (-2)) X dX0_build_27 (by decide) ?_
    refine z_ci (z_runV (rest := []) (n := 1) X [.int ((-2))] (m_X0_no_2 hX) dX0_build_29 hX.ob rfl (lw_V q350 q352 qs2 q66 q353) hv_X0_no rfl ⟨Nat.le_of_ble_eq_true rfl, Nat.le_of_ble_eq_true rfl⟩ ⟨by omega, by omega⟩ rfl (Nat.le_of_ble_eq_true rfl)) (fun r2 w4 h3 => ?_)
    obtain ⟨r2e, hX3⟩ := h3
    rw [r2e]
    have e : spBuild o v n q = ((-2), oRef o 2) := by
      unfold spBuild
      repeat (first | rw [el_some (by assumption)] | rw [el_none (by assumption)] | rw [if_pos (by omega)] | rw [if_neg (by omega)] | rw [if_pos (by assumption)] | rw [if_neg (ts_n (by assumption))])
      all_goals first | rfl | (exfalso; omega)
    exact z_iret X dX0_build_32 (by omega) (by omega) ⟨_, rfl, (by rw [e]; exact ⟨⟨_, _, rfl, hX3⟩, rfl⟩)⟩
  · have c1 := Classical.not_not.mp c1
    obtain ⟨vN, vNl, vNh, rfl, e2⟩ := rgb_t (lo := 0) (hi := 30) (by decide) (by decide) (c1)
    refine z_iload_n X dX0_build_10 rfl 2 rfl ?_
    refine z_cip (z_runS (rest := []) (n := 1) X [.int (n)] (m_X0_isHours (v := n)) dX0_build_11 (lw_S q1198 q1199 q66 q1200) hs_X0_isHours rfl ⟨Nat.le_of_ble_eq_true rfl, Nat.le_of_ble_eq_true rfl⟩ ⟨by omega, by omega⟩ rfl (Nat.le_of_ble_eq_true rfl)) ?_
    refine z_if_eq (tgt := 26) X dX0_build_14 (by decide) bI_d (fun c5 => ?_) (fun c5 => ?_)
    · have e3 : rgb 0 24 n = none := rgb_f c5
      refine z_aload_n X dX0_build_26 rfl 0 rfl ?_
      refine z_bipush (v := (-2)) X dX0_build_27 (by decide) ?_
      refine z_ci (z_runV (rest := []) (n := 1) X [.int ((-2))] (m_X0_no_2 hX) dX0_build_29 hX.ob rfl (lw_V q350 q352 qs2 q66 q353) hv_X0_no rfl ⟨Nat.le_of_ble_eq_true rfl, Nat.le_of_ble_eq_true rfl⟩ ⟨by omega, by omega⟩ rfl (Nat.le_of_ble_eq_true rfl)) (fun r6 w8 h7 => ?_)
      obtain ⟨r6e, hX7⟩ := h7
      rw [r6e]
      have e : spBuild o (nI vN) n q = ((-2), oRef o 2) := by
        unfold spBuild
        repeat (first | rw [el_some (by assumption)] | rw [el_none (by assumption)] | rw [if_pos (by omega)] | rw [if_neg (by omega)] | rw [if_pos (by assumption)] | rw [if_neg (ts_n (by assumption))])
        all_goals first | rfl | (exfalso; omega)
      exact z_iret X dX0_build_32 (by omega) (by omega) ⟨_, rfl, (by rw [e]; exact ⟨⟨_, _, rfl, hX7⟩, rfl⟩)⟩
    · have c5 := Classical.not_not.mp c5
      obtain ⟨nN, nNl, nNh, rfl, e4⟩ := rgb_t (lo := 0) (hi := 24) (by decide) (by decide) (c5)
      refine z_iload_n X dX0_build_17 rfl 3 rfl ?_
      refine z_iconst (v := nI (0)) X dX0_build_18 ci0 ?_
      refine z_iconst (v := nI (1)) X dX0_build_19 ci1 ?_
      refine z_cip (z_runS (rest := []) (n := 3) X [.int (q), .int (nI (0)), .int (nI (1))] m_X0_isIn dX0_build_20 (lw_S q347 q348 q66 q349) hs_X0_isIn rfl ⟨Nat.le_of_ble_eq_true rfl, Nat.le_of_ble_eq_true rfl⟩ ⟨by omega, by omega⟩ rfl (Nat.le_of_ble_eq_true rfl)) ?_
      refine z_if_ne (tgt := 33) X dX0_build_23 (by decide) bI_d (fun c9 => ?_) (fun c9 => ?_)
      · have c9 := Classical.not_not.mp c9
        obtain ⟨qN, qNl, qNh, rfl, e5⟩ := rgb_t (lo := 0) (hi := 1) (by decide) (by decide) (c9)
        refine z_aload_n X dX0_build_33 rfl 0 rfl ?_
        refine z_get X dX0_build_34 hX.ob in_X0 rfl 0 (Nat.le_of_ble_eq_true rfl) q233 rfl ?_
        refine z_get X dX0_build_37 hX.day in_X1 rfl 0 (Nat.le_of_ble_eq_true rfl) q190 rfl ?_
        refine z_ca (z_runV (rest := []) (n := 0) X [] (m_X2_copied hX.wall hX.norm) dX0_build_40 (wl_o hX.wall) rfl (lw_V q821 q822 q823 q68 q824) hv_X2_copied rfl ⟨Nat.le_of_ble_eq_true rfl, Nat.le_of_ble_eq_true rfl⟩ ⟨by omega, by omega⟩ rfl (Nat.le_of_ble_eq_true rfl)) (fun r10 w12 h11 => ?_)
        obtain ⟨at_, rfl, hWt, hkp, hfr⟩ := h11
        obtain ⟨wt0, hT0, hWt0⟩ := Two.start hkp hfr hWt
        refine z_astore (lv2 := [(4, .ref (at_ 0)), (0, .ref (xa 0)), (1, .int (nI (vN))), (2, .int (nI (nN))), (3, .int (nI (qN)))]) X dX0_build_43 (Nat.le_of_ble_eq_true rfl) rfl ?_
        refine z_aload X dX0_build_45 0 rfl ?_
        refine z_get X dX0_build_47 (wl_o (hWt0.mono hT0.2.1)) in_X2 rfl 1 (Nat.le_of_ble_eq_true rfl) q129 rfl ?_
        refine z_iconst (v := nI (0)) X dX0_build_50 ci0 ?_
        refine z_cv (z_runS (rest := []) (n := 2) X [.ref (at_ 2), .int (nI (0))] (m_J11_fill_2 (wl_2 (hWt0.mono hT0.2.1)) (v := nI (0)) (by omega)) dX0_build_51 (lw_S q1308 q1309 q92 q1310) hs_J11_fill_2 rfl ⟨Nat.le_of_ble_eq_true rfl, Nat.le_of_ble_eq_true rfl⟩ ⟨by omega, by omega⟩ rfl (Nat.le_of_ble_eq_true rfl)) (fun w15 h14 => ?_)
        rw [fill3] at h14
        subst h14
        have hWf := wl_row hWt0 1 3 (by decide) rfl (fun j => if j < 3 then 0 else o.1.1 1 j)
        have hTf := hT0.putR (hWt0.1 2 rfl) (e := .inl (G.2.1 0, 3, .inl (fun j => nI ((fun j => if j < 3 then 0 else o.1.1 1 j) j))))
        refine z_iconst (v := -1) X dX0_build_54 cim1 ?_
        refine z_istore (lv2 := [(5, .int (-1)), (4, .ref (at_ 0)), (0, .ref (xa 0)), (1, .int (nI (vN))), (2, .int (nI (nN))), (3, .int (nI (qN)))]) X dX0_build_55 (Nat.le_of_ble_eq_true rfl) rfl ?_
        refine z_iconst (v := nI (0)) X dX0_build_57 ci0 ?_
        refine z_istore (lv2 := [(6, .int (nI (0))), (5, .int (-1)), (4, .ref (at_ 0)), (0, .ref (xa 0)), (1, .int (nI (vN))), (2, .int (nI (nN))), (3, .int (nI (qN)))]) X dX0_build_58 (Nat.le_of_ble_eq_true rfl) rfl ?_
        refine z_lconst (v := lN 0) X dX0_build_60 cl0 ?_
        refine z_lstore (lv2 := [(7, .long (lN (0))), (6, .int (nI (0))), (5, .int (-1)), (4, .ref (at_ 0)), (0, .ref (xa 0)), (1, .int (nI (vN))), (2, .int (nI (nN))), (3, .int (nI (qN)))]) X dX0_build_61 (Nat.le_of_ble_eq_true rfl) rfl ?_
        refine z_iconst (v := nI (0)) X dX0_build_63 ci0 ?_
        refine z_istore (lv2 := [(9, .int (nI (0))), (7, .long (lN (0))), (6, .int (nI (0))), (5, .int (-1)), (4, .ref (at_ 0)), (0, .ref (xa 0)), (1, .int (nI (vN))), (2, .int (nI (nN))), (3, .int (nI (qN)))]) X dX0_build_64 (Nat.le_of_ble_eq_true rfl) rfl ?_
        have lb : ∀ (lq i : Nat) (w3 wt3 : GW) (rr3 : Option Nat) (S2 : WS) (ro3 : Nat → Nat) (T3 : Nat → Nat → Int64), i + lq = 125 → Two w3 w wt3 → WallW G wt3 at_ rr3 S2 → RowsO G wt3 rr3 ro3 T3 → BX o.1 S2 → Z κ w3 [(9, .int (nI (i))), (7, .long (mxV (fun s => decide (takesN s ≤ vN)) (fun s => bestV (wBld o.1 s) nN) i)), (6, .int (nI (tkO (mxTo (fun s => decide (takesN s ≤ vN)) (fun s => bestV (wBld o.1 s) nN) i)))), (5, .int (oI (mxTo (fun s => decide (takesN s ≤ vN)) (fun s => bestV (wBld o.1 s) nN) i))), (4, .ref (at_ 0)), (0, .ref (xa 0)), (1, .int (nI (vN))), (2, .int (nI (nN))), (3, .int (nI (qN)))] (8 + 7 * i) (44 + 507 * i) 66 [] := by
          intro lq
          induction lq with
          | zero =>
            intro i w3 wt3 rr3 S2 ro3 T3 lh hT3 hW3 hR3 hB3
            obtain rfl : 125 = i := by omega
            refine z_iload X dX0_build_66 0 rfl ?_
            refine z_bipush (v := nI (125)) X dX0_build_68 (by decide) ?_
            refine z_icmp_ge_t (tgt := 178) X dX0_build_70 (by decide) ((nI_leI (by omega) (by omega)).mpr (by omega)) ?_
            have htk := tkO_lt (p := fun s => decide (takesN s ≤ vN)) (f := fun s => bestV (wBld o.1 s) nN) (k := 125)
            refine z_iload_n X dX0_build_178 rfl 8 rfl ?_
            refine z_if_ne (tgt := 187) X dX0_build_179 (by decide) (nz_eq (by omega)) (fun c16 => ?_) (fun c16 => ?_)
            · refine z_iload X dX0_build_187 2 rfl ?_
              obtain ⟨y, hy⟩ := bldO_some (S := o.1) (v := vN) (n := nN)
              have hy2 : mxTo (fun s => decide (takesN s ≤ vN)) (fun s => bestV (wBld o.1 s) nN) 125 = some y := hy
              have e : spBuild o (nI vN) (nI nN) (nI qN) = (nI (tkO (mxTo (fun s => decide (takesN s ≤ vN)) (fun s => bestV (wBld o.1 s) nN) 125)), o) := by
                unfold spBuild
                rw [hy2]
                rw [el_some (by assumption), el_some (by assumption), el_some (by assumption), el_some hy, if_neg (by omega)]
                rfl
              exact z_iret X dX0_build_189 (by omega) (by omega) ⟨_, rfl, (by rw [e]; exact ⟨⟨_, _, rfl, (hX.mono hT3.1)⟩, rfl⟩)⟩
            · refine z_iload X dX0_build_182 3 rfl ?_
              refine z_goto (tgt := 189) X dX0_build_184 (by decide) ?_
              obtain ⟨y, hy⟩ := bldO_some (S := o.1) (v := vN) (n := nN)
              have hy2 : mxTo (fun s => decide (takesN s ≤ vN)) (fun s => bestV (wBld o.1 s) nN) 125 = some y := hy
              have e : spBuild o (nI vN) (nI nN) (nI qN) = (oI (mxTo (fun s => decide (takesN s ≤ vN)) (fun s => bestV (wBld o.1 s) nN) 125), o) := by
                unfold spBuild
                rw [hy2]
                rw [el_some (by assumption), el_some (by assumption), el_some (by assumption), el_some hy, if_pos (by omega)]
                rfl
              exact z_iret X dX0_build_189 (by omega) (by omega) ⟨_, rfl, (by rw [e]; exact ⟨⟨_, _, rfl, (hX.mono hT3.1)⟩, rfl⟩)⟩
          | succ lq ih =>
            intro i w3 wt3 rr3 S2 ro3 T3 lh hT3 hW3 hR3 hB3
            have f0 := fr_lt i 0
            have f1 := fr_lt i 1
            have f2 := fr_lt i 2
            refine z_iload X dX0_build_66 0 rfl ?_
            refine z_bipush (v := nI (125)) X dX0_build_68 (by decide) ?_
            refine z_icmp_ge_f (tgt := 178) X dX0_build_70 (by decide) (fun h => absurd ((nI_leI (by omega) (by omega)).mp h) (by omega)) ?_
            refine z_iload X dX0_build_73 0 rfl ?_
            refine z_iconst (v := nI (0)) X dX0_build_75 ci0 ?_
            refine z_cip (z_runS (rest := []) (n := 2) X [.int (nI (i)), .int (nI (0))] (m_X0_freeOf (st := i) (z := 0) (by omega) (by omega)) dX0_build_76 (lw_S q1311 q661 q66 q662) hs_X0_freeOf rfl ⟨Nat.le_of_ble_eq_true rfl, Nat.le_of_ble_eq_true rfl⟩ ⟨by omega, by omega⟩ rfl (Nat.le_of_ble_eq_true rfl)) ?_
            refine z_iconst (v := nI (2)) X dX0_build_79 ci2 ?_
            refine z_iload X dX0_build_80 0 rfl ?_
            refine z_iconst (v := nI (1)) X dX0_build_82 ci1 ?_
            refine z_cip (z_runS (rest := [.int (nI (2)), .int (nI (fr i 0))]) (n := 2) X [.int (nI (i)), .int (nI (1))] (m_X0_freeOf (st := i) (z := 1) (by omega) (by omega)) dX0_build_83 (lw_S q1311 q661 q66 q662) hs_X0_freeOf rfl ⟨Nat.le_of_ble_eq_true rfl, Nat.le_of_ble_eq_true rfl⟩ ⟨by omega, by omega⟩ rfl (Nat.le_of_ble_eq_true rfl)) ?_
            refine z_imul (v := nI (2 * (fr i 1))) X dX0_build_86 (pk_mul _ _) ?_
            refine z_iadd (v := nI (fr i 0 + (2 * (fr i 1)))) X dX0_build_87 (nI_add _ _) ?_
            refine z_iconst (v := nI (4)) X dX0_build_88 ci4 ?_
            refine z_iload X dX0_build_89 0 rfl ?_
            refine z_iconst (v := nI (2)) X dX0_build_91 ci2 ?_
            refine z_cip (z_runS (rest := [.int (nI (4)), .int (nI (fr i 0 + (2 * (fr i 1))))]) (n := 2) X [.int (nI (i)), .int (nI (2))] (m_X0_freeOf (st := i) (z := 2) (by omega) (by omega)) dX0_build_92 (lw_S q1311 q661 q66 q662) hs_X0_freeOf rfl ⟨Nat.le_of_ble_eq_true rfl, Nat.le_of_ble_eq_true rfl⟩ ⟨by omega, by omega⟩ rfl (Nat.le_of_ble_eq_true rfl)) ?_
            refine z_imul (v := nI (4 * (fr i 2))) X dX0_build_95 (pk_mul _ _) ?_
            refine z_iadd (v := nI (fr i 0 + (2 * (fr i 1)) + (4 * (fr i 2)))) X dX0_build_96 (nI_add _ _) ?_
            refine z_istore (lv2 := [(10, .int (nI (fr i 0 + (2 * (fr i 1)) + (4 * (fr i 2))))), (9, .int (nI (i))), (7, .long (mxV (fun s => decide (takesN s ≤ vN)) (fun s => bestV (wBld o.1 s) nN) i)), (6, .int (nI (tkO (mxTo (fun s => decide (takesN s ≤ vN)) (fun s => bestV (wBld o.1 s) nN) i)))), (5, .int (oI (mxTo (fun s => decide (takesN s ≤ vN)) (fun s => bestV (wBld o.1 s) nN) i))), (4, .ref (at_ 0)), (0, .ref (xa 0)), (1, .int (nI (vN))), (2, .int (nI (nN))), (3, .int (nI (qN)))]) X dX0_build_97 (Nat.le_of_ble_eq_true rfl) rfl ?_
            refine z_iload X dX0_build_99 0 rfl ?_
            refine z_iload_n X dX0_build_101 rfl 7 rfl ?_
            refine z_icmp_le (tgt := 108) X dX0_build_102 (by decide) (nI_leI (by omega) (by omega)) (fun c17 => ?_) (fun c17 => ?_)
            · refine z_iconst (v := nI (0)) X dX0_build_108 ci0 ?_
              refine z_istore (lv2 := [(11, .int (nI (0))), (10, .int (nI (fr i 0 + (2 * (fr i 1)) + (4 * (fr i 2))))), (9, .int (nI (i))), (7, .long (mxV (fun s => decide (takesN s ≤ vN)) (fun s => bestV (wBld o.1 s) nN) i)), (6, .int (nI (tkO (mxTo (fun s => decide (takesN s ≤ vN)) (fun s => bestV (wBld o.1 s) nN) i)))), (5, .int (oI (mxTo (fun s => decide (takesN s ≤ vN)) (fun s => bestV (wBld o.1 s) nN) i))), (4, .ref (at_ 0)), (0, .ref (xa 0)), (1, .int (nI (vN))), (2, .int (nI (nN))), (3, .int (nI (qN)))]) X dX0_build_109 (Nat.le_of_ble_eq_true rfl) rfl ?_
              have lz : ∀ (lq z : Nat) (w4 wt4 : GW), z + lq = 3 → Two w4 w wt4 → WallW G wt4 at_ rr3 (boxTo S2 i z) → RowsO G wt4 rr3 ro3 T3 → Z κ w4 [(11, .int (nI (z))), (10, .int (nI (fr i 0 + (2 * (fr i 1)) + (4 * (fr i 2))))), (9, .int (nI (i))), (7, .long (mxV (fun s => decide (takesN s ≤ vN)) (fun s => bestV (wBld o.1 s) nN) i)), (6, .int (nI (tkO (mxTo (fun s => decide (takesN s ≤ vN)) (fun s => bestV (wBld o.1 s) nN) i)))), (5, .int (oI (mxTo (fun s => decide (takesN s ≤ vN)) (fun s => bestV (wBld o.1 s) nN) i))), (4, .ref (at_ 0)), (0, .ref (xa 0)), (1, .int (nI (vN))), (2, .int (nI (nN))), (3, .int (nI (qN)))] (8 + 7 * i) (44 + 507 * i) 111 [] := by
                intro lq
                induction lq with
                | zero =>
                  intro z w4 wt4 lh hT4 hW4 hR4
                  obtain rfl : 3 = z := by omega
                  refine z_iload X dX0_build_111 0 rfl ?_
                  refine z_iconst (v := nI (3)) X dX0_build_113 ci3 ?_
                  refine z_icmp_ge_t (tgt := 138) X dX0_build_114 (by decide) ((nI_leI (by omega) (by omega)).mpr (by omega)) ?_
                  have hWb : WallW G wt4 at_ rr3 (wBld o.1 i) := wl_same hW4 (hB3.bld) ⟨congrFun hB3.1 0, congrFun hB3.1 1, congrFun hB3.1 2⟩
                  have hIb := wInv_bld hI (st := i)
                  refine z_aload X dX0_build_138 6 rfl ?_
                  refine z_iload_n X dX0_build_140 rfl 9 rfl ?_
                  refine z_cl (z_runS (rest := []) (n := 2) X [.ref (at_ 0), .int (nI (nN))] (gM.frameL (m_W_best hR4 hWb hIb (n := nN) (by omega)) hT4.2.1) dX0_build_141 (lw_S q1212 q1213 q66 q1214) hs_X0_best_2 rfl ⟨Nat.le_of_ble_eq_true rfl, Nat.le_of_ble_eq_true rfl⟩ ⟨by omega, by omega⟩ rfl (Nat.le_of_ble_eq_true rfl)) (fun r18 w20 h19 => ?_)
                  obtain ⟨wt19, ⟨r18e, q19, ro19, T19, hW19, hR19⟩, hf19⟩ := h19
                  rw [r18e]
                  have hT19 := hT4.right hf19
                  refine z_lstore (lv2 := [(11, .long (bestV (wBld o.1 i) nN)), (10, .int (nI (fr i 0 + (2 * (fr i 1)) + (4 * (fr i 2))))), (9, .int (nI (i))), (7, .long (mxV (fun s => decide (takesN s ≤ vN)) (fun s => bestV (wBld o.1 s) nN) i)), (6, .int (nI (tkO (mxTo (fun s => decide (takesN s ≤ vN)) (fun s => bestV (wBld o.1 s) nN) i)))), (5, .int (oI (mxTo (fun s => decide (takesN s ≤ vN)) (fun s => bestV (wBld o.1 s) nN) i))), (4, .ref (at_ 0)), (0, .ref (xa 0)), (1, .int (nI (vN))), (2, .int (nI (nN))), (3, .int (nI (qN)))]) X dX0_build_144 (Nat.le_of_ble_eq_true rfl) rfl ?_
                  refine z_iload X dX0_build_146 5 rfl ?_
                  refine z_iconst (v := -1) X dX0_build_148 cim1 ?_
                  refine z_icmp_eq (tgt := 160) X dX0_build_149 (by decide) (oI_m1 (fun z h => by have := (mxTo_lt _ _ h).1; omega)) (fun c21 => ?_) (fun c21 => ?_)
                  · refine z_iload X dX0_build_160 2 rfl ?_
                    refine z_istore (lv2 := [(5, .int (nI (i))), (11, .long (bestV (wBld o.1 i) nN)), (10, .int (nI (fr i 0 + (2 * (fr i 1)) + (4 * (fr i 2))))), (9, .int (nI (i))), (7, .long (mxV (fun s => decide (takesN s ≤ vN)) (fun s => bestV (wBld o.1 s) nN) i)), (6, .int (nI (tkO (mxTo (fun s => decide (takesN s ≤ vN)) (fun s => bestV (wBld o.1 s) nN) i)))), (4, .ref (at_ 0)), (0, .ref (xa 0)), (1, .int (nI (vN))), (2, .int (nI (nN))), (3, .int (nI (qN)))]) X dX0_build_162 (Nat.le_of_ble_eq_true rfl) rfl ?_
                    refine z_iload X dX0_build_164 2 rfl ?_
                    refine z_istore (lv2 := [(6, .int (nI (fr i 0 + (2 * (fr i 1)) + (4 * (fr i 2))))), (5, .int (nI (i))), (11, .long (bestV (wBld o.1 i) nN)), (10, .int (nI (fr i 0 + (2 * (fr i 1)) + (4 * (fr i 2))))), (9, .int (nI (i))), (7, .long (mxV (fun s => decide (takesN s ≤ vN)) (fun s => bestV (wBld o.1 s) nN) i)), (4, .ref (at_ 0)), (0, .ref (xa 0)), (1, .int (nI (vN))), (2, .int (nI (nN))), (3, .int (nI (qN)))]) X dX0_build_166 (Nat.le_of_ble_eq_true rfl) rfl ?_
                    refine z_lload X dX0_build_168 2 rfl ?_
                    refine z_lstore (lv2 := [(7, .long (bestV (wBld o.1 i) nN)), (6, .int (nI (fr i 0 + (2 * (fr i 1)) + (4 * (fr i 2))))), (5, .int (nI (i))), (11, .long (bestV (wBld o.1 i) nN)), (10, .int (nI (fr i 0 + (2 * (fr i 1)) + (4 * (fr i 2))))), (9, .int (nI (i))), (4, .ref (at_ 0)), (0, .ref (xa 0)), (1, .int (nI (vN))), (2, .int (nI (nN))), (3, .int (nI (qN)))]) X dX0_build_170 (Nat.le_of_ble_eq_true rfl) rfl ?_
                    refine z_iinc (v := nI (i + 1)) (lv2 := [(9, .int (nI (i + 1))), (7, .long (bestV (wBld o.1 i) nN)), (6, .int (nI (fr i 0 + (2 * (fr i 1)) + (4 * (fr i 2))))), (5, .int (nI (i))), (11, .long (bestV (wBld o.1 i) nN)), (10, .int (nI (fr i 0 + (2 * (fr i 1)) + (4 * (fr i 2))))), (4, .ref (at_ 0)), (0, .ref (xa 0)), (1, .int (nI (vN))), (2, .int (nI (nN))), (3, .int (nI (qN)))]) X dX0_build_172 5 rfl (nI_1 _) (Nat.le_of_ble_eq_true rfl) rfl ?_
                    refine z_goto (tgt := 66) X dX0_build_175 (by decide) ?_
                    refine Z.lv [0, 1, 2, 3, 6, 7, 8, 9, 10] rfl ?_
                    have e : mxTo (fun s => decide (takesN s ≤ vN)) (fun s => bestV (wBld o.1 s) nN) (i + 1) = some i := mx_new (p := fun s => decide (takesN s ≤ vN)) (f := fun s => bestV (wBld o.1 s) nN) (decide_eq_true (by unfold takesN; omega)) c21
                    have e2 : mxV (fun s => decide (takesN s ≤ vN)) (fun s => bestV (wBld o.1 s) nN) (i + 1) = bestV (wBld o.1 i) nN := mxV_of e
                    have e3 : tkO (mxTo (fun s => decide (takesN s ≤ vN)) (fun s => bestV (wBld o.1 s) nN) (i + 1)) = fr i 0 + (2 * (fr i 1)) + (4 * (fr i 2)) := by rw [e]; rfl
                    have kk := ih (i + 1) _ _ _ _ _ _ (by omega) hT19 hW19 (RowsO.ofW hR19) BX.of
                    rw [e3, e, e2] at kk
                    exact Z.up (by omega) (by omega) kk
                  · refine z_lload X dX0_build_152 0 rfl ?_
                    refine z_lload X dX0_build_154 3 rfl ?_
                    refine z_lcmp (v := lg_cmp (bestV (wBld o.1 i) nN) (mxV (fun s => decide (takesN s ≤ vN)) (fun s => bestV (wBld o.1 s) nN) i)) X dX0_build_156 rfl ?_
                    refine z_if_le (tgt := 172) X dX0_build_157 (by decide) (lg_cmp_le _ _) (fun c22 => ?_) (fun c22 => ?_)
                    · refine z_iinc (v := nI (i + 1)) (lv2 := [(9, .int (nI (i + 1))), (11, .long (bestV (wBld o.1 i) nN)), (10, .int (nI (fr i 0 + (2 * (fr i 1)) + (4 * (fr i 2))))), (7, .long (mxV (fun s => decide (takesN s ≤ vN)) (fun s => bestV (wBld o.1 s) nN) i)), (6, .int (nI (tkO (mxTo (fun s => decide (takesN s ≤ vN)) (fun s => bestV (wBld o.1 s) nN) i)))), (5, .int (oI (mxTo (fun s => decide (takesN s ≤ vN)) (fun s => bestV (wBld o.1 s) nN) i))), (4, .ref (at_ 0)), (0, .ref (xa 0)), (1, .int (nI (vN))), (2, .int (nI (nN))), (3, .int (nI (qN)))]) X dX0_build_172 2 rfl (nI_1 _) (Nat.le_of_ble_eq_true rfl) rfl ?_
                      refine z_goto (tgt := 66) X dX0_build_175 (by decide) ?_
                      refine Z.lv [0, 3, 4, 5, 6, 7, 8, 9, 10] rfl ?_
                      have e : mxTo (fun s => decide (takesN s ≤ vN)) (fun s => bestV (wBld o.1 s) nN) (i + 1) = mxTo (fun s => decide (takesN s ≤ vN)) (fun s => bestV (wBld o.1 s) nN) i := mx_le (p := fun s => decide (takesN s ≤ vN)) (f := fun s => bestV (wBld o.1 s) nN) c21 (Int64.not_lt.mpr c22)
                      have e2 : mxV (fun s => decide (takesN s ≤ vN)) (fun s => bestV (wBld o.1 s) nN) (i + 1) = mxV (fun s => decide (takesN s ≤ vN)) (fun s => bestV (wBld o.1 s) nN) i := mxV_eq e
                      have e3 : tkO (mxTo (fun s => decide (takesN s ≤ vN)) (fun s => bestV (wBld o.1 s) nN) (i + 1)) = tkO (mxTo (fun s => decide (takesN s ≤ vN)) (fun s => bestV (wBld o.1 s) nN) i) := by rw [e]
                      have kk := ih (i + 1) _ _ _ _ _ _ (by omega) hT19 hW19 (RowsO.ofW hR19) BX.of
                      rw [e3, e, e2] at kk
                      exact Z.up (by omega) (by omega) kk
                    · refine z_iload X dX0_build_160 2 rfl ?_
                      refine z_istore (lv2 := [(5, .int (nI (i))), (11, .long (bestV (wBld o.1 i) nN)), (10, .int (nI (fr i 0 + (2 * (fr i 1)) + (4 * (fr i 2))))), (9, .int (nI (i))), (7, .long (mxV (fun s => decide (takesN s ≤ vN)) (fun s => bestV (wBld o.1 s) nN) i)), (6, .int (nI (tkO (mxTo (fun s => decide (takesN s ≤ vN)) (fun s => bestV (wBld o.1 s) nN) i)))), (4, .ref (at_ 0)), (0, .ref (xa 0)), (1, .int (nI (vN))), (2, .int (nI (nN))), (3, .int (nI (qN)))]) X dX0_build_162 (Nat.le_of_ble_eq_true rfl) rfl ?_
                      refine z_iload X dX0_build_164 2 rfl ?_
                      refine z_istore (lv2 := [(6, .int (nI (fr i 0 + (2 * (fr i 1)) + (4 * (fr i 2))))), (5, .int (nI (i))), (11, .long (bestV (wBld o.1 i) nN)), (10, .int (nI (fr i 0 + (2 * (fr i 1)) + (4 * (fr i 2))))), (9, .int (nI (i))), (7, .long (mxV (fun s => decide (takesN s ≤ vN)) (fun s => bestV (wBld o.1 s) nN) i)), (4, .ref (at_ 0)), (0, .ref (xa 0)), (1, .int (nI (vN))), (2, .int (nI (nN))), (3, .int (nI (qN)))]) X dX0_build_166 (Nat.le_of_ble_eq_true rfl) rfl ?_
                      refine z_lload X dX0_build_168 2 rfl ?_
                      refine z_lstore (lv2 := [(7, .long (bestV (wBld o.1 i) nN)), (6, .int (nI (fr i 0 + (2 * (fr i 1)) + (4 * (fr i 2))))), (5, .int (nI (i))), (11, .long (bestV (wBld o.1 i) nN)), (10, .int (nI (fr i 0 + (2 * (fr i 1)) + (4 * (fr i 2))))), (9, .int (nI (i))), (4, .ref (at_ 0)), (0, .ref (xa 0)), (1, .int (nI (vN))), (2, .int (nI (nN))), (3, .int (nI (qN)))]) X dX0_build_170 (Nat.le_of_ble_eq_true rfl) rfl ?_
                      refine z_iinc (v := nI (i + 1)) (lv2 := [(9, .int (nI (i + 1))), (7, .long (bestV (wBld o.1 i) nN)), (6, .int (nI (fr i 0 + (2 * (fr i 1)) + (4 * (fr i 2))))), (5, .int (nI (i))), (11, .long (bestV (wBld o.1 i) nN)), (10, .int (nI (fr i 0 + (2 * (fr i 1)) + (4 * (fr i 2))))), (4, .ref (at_ 0)), (0, .ref (xa 0)), (1, .int (nI (vN))), (2, .int (nI (nN))), (3, .int (nI (qN)))]) X dX0_build_172 5 rfl (nI_1 _) (Nat.le_of_ble_eq_true rfl) rfl ?_
                      refine z_goto (tgt := 66) X dX0_build_175 (by decide) ?_
                      refine Z.lv [0, 1, 2, 3, 6, 7, 8, 9, 10] rfl ?_
                      have e : mxTo (fun s => decide (takesN s ≤ vN)) (fun s => bestV (wBld o.1 s) nN) (i + 1) = some i := mx_gt (p := fun s => decide (takesN s ≤ vN)) (f := fun s => bestV (wBld o.1 s) nN) (decide_eq_true (by unfold takesN; omega)) c21 (Int64.not_le.mp c22)
                      have e2 : mxV (fun s => decide (takesN s ≤ vN)) (fun s => bestV (wBld o.1 s) nN) (i + 1) = bestV (wBld o.1 i) nN := mxV_of e
                      have e3 : tkO (mxTo (fun s => decide (takesN s ≤ vN)) (fun s => bestV (wBld o.1 s) nN) (i + 1)) = fr i 0 + (2 * (fr i 1)) + (4 * (fr i 2)) := by rw [e]; rfl
                      have kk := ih (i + 1) _ _ _ _ _ _ (by omega) hT19 hW19 (RowsO.ofW hR19) BX.of
                      rw [e3, e, e2] at kk
                      exact Z.up (by omega) (by omega) kk
                | succ lq ih =>
                  intro z w4 wt4 lh hT4 hW4 hR4
                  refine z_iload X dX0_build_111 0 rfl ?_
                  refine z_iconst (v := nI (3)) X dX0_build_113 ci3 ?_
                  refine z_icmp_ge_f (tgt := 138) X dX0_build_114 (by decide) (fun h => absurd ((nI_leI (by omega) (by omega)).mp h) (by omega)) ?_
                  refine z_aload X dX0_build_117 6 rfl ?_
                  refine z_get X dX0_build_119 (wl_o (hW4.mono hT4.2.1)) in_X2 rfl 0 (Nat.le_of_ble_eq_true rfl) q125 rfl ?_
                  refine z_iload X dX0_build_122 0 rfl ?_
                  refine z_iload X dX0_build_124 2 rfl ?_
                  refine z_iload X dX0_build_126 0 rfl ?_
                  refine z_cip (z_runS (rest := [.int (nI (z)), .ref (at_ 1)]) (n := 2) X [.int (nI (i)), .int (nI (z))] (m_X0_freeOf (st := i) (z := z) (by omega) (by omega)) dX0_build_128 (lw_S q1311 q661 q66 q662) hs_X0_freeOf rfl ⟨Nat.le_of_ble_eq_true rfl, Nat.le_of_ble_eq_true rfl⟩ ⟨by omega, by omega⟩ rfl (Nat.le_of_ble_eq_true rfl)) ?_
                  refine z_isN X dX0_build_131 (wl_1 (hW4.mono hT4.2.1)) (by omega) (by omega) ?_
                  have hWt23 : WallW G _ at_ rr3 (wPut (boxTo S2 i z) 0 z (fr i z)) := wl_put hW4 0 (by decide) 3 z (fr i z) rfl
                  have hTt23 := hT4.putR (hW4.1 1 rfl) (e := .inl (G.2.1 0, 3, .inl (upd (fun j => nI ((boxTo S2 i z).1 0 j)) z (nI (fr i z)))))
                  have hRr24 := RowsO.put hR4 (hW4.1 1 rfl) (e := .inl (G.2.1 0, 3, .inl (upd (fun j => nI ((boxTo S2 i z).1 0 j)) z (nI (fr i z)))))
                  refine z_iinc (v := nI (z + 1)) (lv2 := [(11, .int (nI (z + 1))), (10, .int (nI (fr i 0 + (2 * (fr i 1)) + (4 * (fr i 2))))), (9, .int (nI (i))), (7, .long (mxV (fun s => decide (takesN s ≤ vN)) (fun s => bestV (wBld o.1 s) nN) i)), (6, .int (nI (tkO (mxTo (fun s => decide (takesN s ≤ vN)) (fun s => bestV (wBld o.1 s) nN) i)))), (5, .int (oI (mxTo (fun s => decide (takesN s ≤ vN)) (fun s => bestV (wBld o.1 s) nN) i))), (4, .ref (at_ 0)), (0, .ref (xa 0)), (1, .int (nI (vN))), (2, .int (nI (nN))), (3, .int (nI (qN)))]) X dX0_build_132 0 rfl (nI_1 _) (Nat.le_of_ble_eq_true rfl) rfl ?_
                  refine z_goto (tgt := 111) X dX0_build_135 (by decide) ?_
                  exact ih (z + 1) _ _ (by omega) hTt23 (boxTo_1 ▸ hWt23) hRr24
              exact lz 3 0 _ _ (by omega) hT3 (boxTo_0.symm ▸ hW3) hR3
            · refine z_goto (tgt := 172) X dX0_build_105 (by decide) ?_
              refine z_iinc (v := nI (i + 1)) (lv2 := [(9, .int (nI (i + 1))), (10, .int (nI (fr i 0 + (2 * (fr i 1)) + (4 * (fr i 2))))), (7, .long (mxV (fun s => decide (takesN s ≤ vN)) (fun s => bestV (wBld o.1 s) nN) i)), (6, .int (nI (tkO (mxTo (fun s => decide (takesN s ≤ vN)) (fun s => bestV (wBld o.1 s) nN) i)))), (5, .int (oI (mxTo (fun s => decide (takesN s ≤ vN)) (fun s => bestV (wBld o.1 s) nN) i))), (4, .ref (at_ 0)), (0, .ref (xa 0)), (1, .int (nI (vN))), (2, .int (nI (nN))), (3, .int (nI (qN)))]) X dX0_build_172 1 rfl (nI_1 _) (Nat.le_of_ble_eq_true rfl) rfl ?_
              refine z_goto (tgt := 66) X dX0_build_175 (by decide) ?_
              refine Z.lv [0, 2, 3, 4, 5, 6, 7, 8, 9] rfl ?_
              have e : mxTo (fun s => decide (takesN s ≤ vN)) (fun s => bestV (wBld o.1 s) nN) (i + 1) = mxTo (fun s => decide (takesN s ≤ vN)) (fun s => bestV (wBld o.1 s) nN) i := mx_no (p := fun s => decide (takesN s ≤ vN)) (f := fun s => bestV (wBld o.1 s) nN) (decide_eq_false (by unfold takesN; omega))
              have e2 : mxV (fun s => decide (takesN s ≤ vN)) (fun s => bestV (wBld o.1 s) nN) (i + 1) = mxV (fun s => decide (takesN s ≤ vN)) (fun s => bestV (wBld o.1 s) nN) i := mxV_eq e
              have e3 : tkO (mxTo (fun s => decide (takesN s ≤ vN)) (fun s => bestV (wBld o.1 s) nN) (i + 1)) = tkO (mxTo (fun s => decide (takesN s ≤ vN)) (fun s => bestV (wBld o.1 s) nN) i) := by rw [e]
              have kk := ih (i + 1) _ _ _ _ _ _ (by omega) hT3 hW3 hR3 hB3
              rw [e3, e, e2] at kk
              exact Z.up (by omega) (by omega) kk
        exact Z.up (by omega) (by omega) (lb 125 0 _ _ _ _ _ _ (by omega) hTf hWf rowsO_none BX.start)
      · have e6 : rgb 0 1 q = none := rgb_f c9
        refine z_aload_n X dX0_build_26 rfl 0 rfl ?_
        refine z_bipush (v := (-2)) X dX0_build_27 (by decide) ?_
        refine z_ci (z_runV (rest := []) (n := 1) X [.int ((-2))] (m_X0_no_2 hX) dX0_build_29 hX.ob rfl (lw_V q350 q352 qs2 q66 q353) hv_X0_no rfl ⟨Nat.le_of_ble_eq_true rfl, Nat.le_of_ble_eq_true rfl⟩ ⟨by omega, by omega⟩ rfl (Nat.le_of_ble_eq_true rfl)) (fun r25 w27 h26 => ?_)
        obtain ⟨r25e, hX26⟩ := h26
        rw [r25e]
        have e : spBuild o (nI vN) (nI nN) q = ((-2), oRef o 2) := by
          unfold spBuild
          repeat (first | rw [el_some (by assumption)] | rw [el_none (by assumption)] | rw [if_pos (by omega)] | rw [if_neg (by omega)] | rw [if_pos (by assumption)] | rw [if_neg (ts_n (by assumption))])
          all_goals first | rfl | (exfalso; omega)
        exact z_iret X dX0_build_32 (by omega) (by omega) ⟨_, rfl, (by rw [e]; exact ⟨⟨_, _, rfl, hX26⟩, rfl⟩)⟩
