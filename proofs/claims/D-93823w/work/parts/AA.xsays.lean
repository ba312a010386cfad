/-! x: says -/
set_option maxRecDepth 100000
section ZLR
variable {κ : ZK} {cc : ByteArray} {own nm : String} {nL : Nat} {ret : Option FieldType} {l : Launch} {d mc ms : Nat} {G : GG} {w0 w : GW} {post : Option Value → GW → Prop} {lv : List (Nat × Value)} {a b pc : Nat} {rest : List Value}
theorem z_learnsX6 (X : ZX κ cc "ThreeSizes$Rule" nL ret nm l d mc ms G w0 post) {xa : Nat → Nat} {rr : Option Nat} {o : OS} {im : IM} (hX : XT G w xa rr o im) (hO : oInv o) {s : Nat} (hs : s < 8) (hk2 : o.2.2.2.1 0 s = 2) (hdg : decode cc pc = .ok (.invokevirtual 25, 3)) (hd : 14 ≤ d) (hW8 : (rest.map fun v => v.category).sum ≤ 8) (hf : a + 7 ≤ mc ∧ b + 507 ≤ ms) (k : ∀ (w2 : GW) (xa2 : Nat → Nat) (rr2 : Option Nat), (∀ k, k ≠ 13 → k ≠ 14 → k ≠ 15 → xa2 k = xa k) → XT G w2 xa2 rr2 o im → RuleW G w2 (xa2 (40 + s)) (o.2.2.2.1 3 s) (o.2.2.2.1 4 s) (xa2 (50 + s)) (wiseT o.1 (o.2.2.2.1 4 s)) → Z κ w2 lv (a + 7) (b + 507) (pc + 3) rest) : Z κ w lv a b pc (.ref (xa 5) :: .ref (xa (40 + s)) :: rest) := by
  have hq9 := hO.2.1 s hs
  have hkd : 1 ≤ o.2.2.2.1 3 s ∧ o.2.2.2.1 3 s ≤ 6 := ⟨hq9.2.2.2.2.1 hk2, hq9.2.2.2.1⟩
  have hru := (hX.rule hs hk2).1
  have hra : o.2.2.2.1 4 s < 100 := by omega
  have hno : o.2.2.2.1 3 s ≠ 6 → Z κ w lv (a + 7) (b + 507) (pc + 3) rest := fun h6 => k w xa rr (fun _ _ _ _ => rfl) hX ⟨⟨hkd.1, hkd.2, hra⟩, hru, fun h => absurd h h6⟩
  rcases kd_cases hkd with h | h | h | h | h | h
  · have hr9 : w (xa (40 + s)) = some (.inr (6, [.int (nI (o.2.2.2.1 4 s))])) := by rw [h] at hru; exact hru
    exact z_cv (z_runU (owner := "ThreeSizes$Rule") (x := ⟨"ThreeSizes$Rule", "learns", "(LThreeSizes$Wall;)V"⟩) (rest := rest) (n := 1) X [.ref (xa 5)] m_X6_learns hdg hr9 rfl (lw_app (lw_in _ [603, 605, 609, 604, 82] (by decide +kernel) (by decide +kernel)) (lw_meth q741)) (by decide +kernel) (by decide +kernel) rfl ⟨by omega, by omega⟩ ⟨by omega, by omega⟩ rfl hW8) (fun w2 h2 => by subst h2; exact Z.up (by omega) (by omega) (hno (by omega)))
  · have hr9 : w (xa (40 + s)) = some (.inr (7, [.int (nI (o.2.2.2.1 4 s))])) := by rw [h] at hru; exact hru
    exact z_cv (z_runU (owner := "ThreeSizes$Rule") (x := ⟨"ThreeSizes$Rule", "learns", "(LThreeSizes$Wall;)V"⟩) (rest := rest) (n := 1) X [.ref (xa 5)] m_X6_learns hdg hr9 rfl (lw_app (lw_in _ [603, 605, 608, 604, 82] (by decide +kernel) (by decide +kernel)) (lw_meth q741)) (by decide +kernel) (by decide +kernel) rfl ⟨by omega, by omega⟩ ⟨by omega, by omega⟩ rfl hW8) (fun w2 h2 => by subst h2; exact Z.up (by omega) (by omega) (hno (by omega)))
  · have hr9 : w (xa (40 + s)) = some (.inr (8, [.int (nI (o.2.2.2.1 4 s))])) := by rw [h] at hru; exact hru
    exact z_cv (z_runU (owner := "ThreeSizes$Rule") (x := ⟨"ThreeSizes$Rule", "learns", "(LThreeSizes$Wall;)V"⟩) (rest := rest) (n := 1) X [.ref (xa 5)] m_X6_learns hdg hr9 rfl (lw_app (lw_in _ [603, 605, 610, 604, 82] (by decide +kernel) (by decide +kernel)) (lw_meth q741)) (by decide +kernel) (by decide +kernel) rfl ⟨by omega, by omega⟩ ⟨by omega, by omega⟩ rfl hW8) (fun w2 h2 => by subst h2; exact Z.up (by omega) (by omega) (hno (by omega)))
  · have hr9 : w (xa (40 + s)) = some (.inr (9, [.int (nI (o.2.2.2.1 4 s))])) := by rw [h] at hru; exact hru
    exact z_cv (z_runU (owner := "ThreeSizes$Rule") (x := ⟨"ThreeSizes$Rule", "learns", "(LThreeSizes$Wall;)V"⟩) (rest := rest) (n := 1) X [.ref (xa 5)] m_X6_learns hdg hr9 rfl (lw_app (lw_in _ [603, 605, 607, 604, 82] (by decide +kernel) (by decide +kernel)) (lw_meth q741)) (by decide +kernel) (by decide +kernel) rfl ⟨by omega, by omega⟩ ⟨by omega, by omega⟩ rfl hW8) (fun w2 h2 => by subst h2; exact Z.up (by omega) (by omega) (hno (by omega)))
  · have hr9 : w (xa (40 + s)) = some (.inr (10, [.int (nI (o.2.2.2.1 4 s))])) := by rw [h] at hru; exact hru
    exact z_cv (z_runU (owner := "ThreeSizes$Rule") (x := ⟨"ThreeSizes$Rule", "learns", "(LThreeSizes$Wall;)V"⟩) (rest := rest) (n := 1) X [.ref (xa 5)] m_X6_learns hdg hr9 rfl (lw_app (lw_in _ [603, 605, 606, 604, 82] (by decide +kernel) (by decide +kernel)) (lw_meth q741)) (by decide +kernel) (by decide +kernel) rfl ⟨by omega, by omega⟩ ⟨by omega, by omega⟩ rfl hW8) (fun w2 h2 => by subst h2; exact Z.up (by omega) (by omega) (hno (by omega)))
  · exact z_cv (z_runO (owner := "ThreeSizes$Rule") (x := ⟨"ThreeSizes$Rule", "learns", "(LThreeSizes$Wall;)V"⟩) (rest := rest) (n := 1) X [.ref (xa 5)] (m_X12_learns hX hO hs hk2 h) hdg (hX.wise hs hk2 h) rfl (lw_app (lw_in _ [603, 605, 604, 611, 612, 88] (by decide +kernel) (by decide +kernel)) (lw_meth q613)) q741 (by decide +kernel) rfl ⟨by omega, by omega⟩ ⟨by omega, by omega⟩ rfl hW8) (fun w2 h2 => by obtain ⟨xa2, rr2, e1, e2, e3⟩ := h2; exact k w2 xa2 rr2 e1 e2 ⟨⟨hkd.1, hkd.2, hra⟩, (e2.rule hs hk2).1, fun _ => e3⟩)
theorem zt_getN0 (X : ZX κ cc own nL ret nm l d mc ms G w0 post) (V : ZV κ) {C : String} {T : u_T} {N ci i : Nat} (hdg : decode cc pc = .ok (.getfield i, 3)) (hin : ∀ w ∈ u_ws C T N, w ∈ lw_all) (hc : CL[ci]? = some (C, T, N)) (j : Nat) (hj : j < N) (hq : Cond.fieldLink own i (T j).1 (T j).2.1 (T j).2.2.1 ∈ lw_all) (hW : (rest.map fun v => v.category).sum ≤ 8) (hd : 162 ≤ d) (hf : a + 1 ≤ mc ∧ b + 8 ≤ ms) (k : ∀ q : Nat, ZT κ "java/lang/NullPointerException" q w lv (a + 1) (b + 8) pc) : Z κ w lv a b pc (.null :: rest) := by
  have kk := zt_npe (rest := rest) X V hW hd hf k
  obtain ⟨p, l', e, R, s, m, args, below, meth, c, nL', G', w0', Q⟩ := κ
  obtain ⟨hx, hb, hml, hown, hts, hK, hr, hlk, hnm, rfl, rfl, rfl, rfl, rfl, hQ⟩ := X
  intro H locs ls hs hl'
  exact vx_getfN (ref := (T j).1) hx hb hts hin hown hK.1 hc j hj (hts _ hq) (fun _ h => h) hdg (kk H locs ls hs hl')
theorem zt_callNU (X : ZX κ cc own nL ret nm l d mc ms G w0 post) (V : ZV κ) {x : MethodName} {owner : String} {i : Nat} {st : List Value} (As : List Value) (hdg : decode cc pc = .ok (.invokevirtual i, 3)) (hl : Cond.methodLink own i x ∈ lw_all) (hsm : Cond.sameMethod x.cls owner x.name x.desc ∈ lw_all) (hde : Cond.declares ⟨owner, x.name, x.desc⟩ ∈ lw_tbl) (hx' : owner ≠ "java/lang/invoke/MethodHandle" ∧ owner ≠ "java/lang/invoke/VarHandle") (hlen : (parseMethodDescriptor x.desc).map (fun d => d.parameters.length) = some As.length) (hst : st = As.reverse ++ .null :: rest) (hW : (rest.map fun v => v.category).sum ≤ 8) (hd : 162 ≤ d) (hf : a + 1 ≤ mc ∧ b + 8 ≤ ms) (k : ∀ q : Nat, ZT κ "java/lang/NullPointerException" q w lv (a + 1) (b + 8) pc) : Z κ w lv a b pc st := by
  have kk := zt_npe (rest := rest) X V hW hd hf k
  obtain ⟨p, l', e, R, s, m, args, below, meth, c, nL', G', w0', Q⟩ := κ
  obtain ⟨hx, hb, hml, hown, hts, hK, hr, hlk, hnm, rfl, rfl, rfl, rfl, rfl, hQ⟩ := X
  intro H locs ls hs hl'
  have k9 := kk H locs ls hs hl'
  intro T hT X9
  obtain ⟨vm', X1, st1⟩ := X9.virtualNullUp hx hown (hts _ hl) (hts _ hsm) (va_Nw.use (A := args) rfl (hK.declares hde)) hx' (g := F0 m pc ls st) rfl (argsL := As) (rest := rest) (fun sig h => by rw [h] at hlen; exact (Option.some.inj hlen).symm) hst (by rw [hb]; exact hdg)
  obtain ⟨t, st2, q⟩ := k9 (T.setVm vm') hT X1
  exact ⟨t, st1 t st2, q⟩
end ZLR
set_option maxHeartbeats 2000000 in
theorem m_X6_says {l : Launch} {G : GG} {w : GW} {xa : Nat → Nat} {rr : Option Nat} {o : OS} {im : IM} (hX : XT G w xa rr o im) (hO : oInv o) {s : Nat} (hs : s < 8) (hk2 : o.2.2.2.1 0 s = 2) : gMX l G yX6_says (ws_ yX6_says cX6_says 2 (some .int)) 16 7 507 [.ref (xa (40 + s)), .ref (xa 5)] w (pI (fun r w1 => ∃ xa2 rr2, (∀ k, k ≠ 13 → k ≠ 14 → k ≠ 15 → xa2 k = xa k) ∧ XT G w1 xa2 rr2 o im ∧ o.1.2 0 ≠ 0 ∧ r = oI (rget o.1 (o.2.2.2.1 3 s) (o.2.2.2.1 4 s) (wiseT o.1 (o.2.2.2.1 4 s)) 0 (stOf o.1)))) (fun E x w1 => rfE (-5) E x w w1 ∧ o.1.2 0 = 0) := by
  refine Z.metX (own := "ThreeSizes$Rule") (nm := "says") (lv := [(0, .ref (xa (40 + s))), (1, .ref (xa 5))]) (by decide) rfl rfl (Nat.le_of_ble_eq_true rfl) rfl (fun κ X Y V0 => ?_)
  have hI := hO.1
  have h6 := hI.2.1
  have hs5 := stOf_lt hI
  refine z_aload_n X dX6_says_0 rfl 1 rfl ?_
  refine z_get X dX6_says_1 (wl_o hX.wall) in_X2 rfl 8 (Nat.le_of_ble_eq_true rfl) q152 rfl ?_
  refine z_if_ne (tgt := 17) X dX6_says_4 (by decide) (nz_eq (by omega)) (fun c1 => ?_) (fun c1 => ?_)
  · refine z_aload_n X dX6_says_17 rfl 0 rfl ?_
    refine z_aload_n X dX6_says_18 rfl 1 rfl ?_
    refine z_learnsX6 X hX hO (s := s) (by omega) hk2 (rest := []) dX6_says_19 (by omega) (Nat.le_of_ble_eq_true rfl) ⟨by omega, by omega⟩ (fun w2 xaw2 rrw2 hkw2 hXw2 hR9 => ?_)
    rw [← hkw2 (40 + s) (by omega) (by omega) (by omega)]
    rw [← hkw2 5 (by omega) (by omega) (by omega)]
    refine z_aload_n X dX6_says_22 rfl 0 rfl ?_
    refine z_aload_n X dX6_says_23 rfl 1 rfl ?_
    refine z_iconst (v := nI (0)) X dX6_says_24 ci0 ?_
    refine z_aload_n X dX6_says_25 rfl 1 rfl ?_
    refine z_cip (z_runV (rest := [.int (nI (0)), .ref (xaw2 5), .ref (xaw2 (40 + s))]) (n := 0) X [] (m_X2_state hXw2.wall hI) dX6_says_26 (wl_o hXw2.wall) rfl (lw_V q742 q743 q744 q68 q745) hv_X2_state rfl ⟨Nat.le_of_ble_eq_true rfl, Nat.le_of_ble_eq_true rfl⟩ ⟨by omega, by omega⟩ rfl (Nat.le_of_ble_eq_true rfl)) ?_
    refine z_rgets (rest := []) X hXw2.wall hI hR9 (ix := 0) (s := stOf o.1) (by omega) (by omega) dX6_says_29 (List.mem_of_getElem? (i := 2) rfl) (by omega) rfl (Nat.le_of_ble_eq_true rfl) ⟨by omega, by omega⟩ ?_
    exact z_iret X dX6_says_32 (by omega) (by omega) ⟨_, rfl, ⟨xaw2, _, hkw2, hXw2, by omega, rfl⟩⟩
  · refine z_new X dX6_says_7 in_X5 tyX5 tyX5_ok (ci := 5) (fs := [.null, .null, .null, .null, .null, .int 0, .int 0]) q601 q389 q78 rfl (fun j hj => by rcases (show j = 0 ∨ j = 1 ∨ j = 2 ∨ j = 3 ∨ j = 4 ∨ j = 5 ∨ j = 6 by omega) with rfl | rfl | rfl | rfl | rfl | rfl | rfl <;> rfl) (by omega) (by omega) (fun qz3 hqz3 => ?_)
    have hXqz3 := XT.fresh hX hqz3 (e := .inr (5, [.null, .null, .null, .null, .null, .int 0, .int 0]))
    refine z_dup X dX6_says_10 rfl ?_
    refine z_bipush (v := (-5)) X dX6_says_11 (by decide) ?_
    refine z_cv (z_runI (rest := [.ref (qz3)]) (n := 1) X [.int ((-5))] (m_X5_init gu_s (v := (-5))) dX6_says_13 (lw_meth q399) q78 q602 q398 rfl hs_X5_init rfl ⟨Nat.le_of_ble_eq_true rfl, Nat.le_of_ble_eq_true rfl⟩ ⟨by omega, by omega⟩ rfl (Nat.le_of_ble_eq_true rfl)) (fun w6 h5 => ?_)
    rw [gu_gu] at h5
    subst h5
    refine z_athrow X gu_s rfl dX6_says_16 ?_
    exact zt_out X Y zp_n ⟨⟨rfl, hqz3, rfl⟩, by omega⟩ ⟨by omega, by omega⟩
set_option maxHeartbeats 2000000 in
theorem m_X12_says {l : Launch} {G : GG} {q ra tq v : Nat} {w : GW} (hq : w q = some (.inr (11, [.int (nI ra), .ref tq]))) (ha : ra < 100) : gM l G yX12_says cX12_says 2 (some .int) 4 0 0 [.ref (q), .ref (v)] w (pI (fun r w1 => r = nI (wiseH ra) ∧ w1 = w)) := by
  refine Z.met (own := "ThreeSizes$Wise") (nm := "says") (lv := [(0, .ref (q)), (1, .ref (v))]) (by decide) rfl rfl (Nat.le_of_ble_eq_true rfl) rfl (fun κ X => ?_)
  refine z_aload_n X dX12_says_0 rfl 0 rfl ?_
  refine z_cip (z_runV (rest := []) (n := 0) X [] (m_X12_hours hq ha) dX12_says_1 hq rfl (lw_V q635 q636 q637 q88 q638) hv_X12_hours rfl ⟨Nat.le_of_ble_eq_true rfl, Nat.le_of_ble_eq_true rfl⟩ ⟨by omega, by omega⟩ rfl (Nat.le_of_ble_eq_true rfl)) ?_
  exact z_iret X dX12_says_4 (by omega) (by omega) ⟨_, rfl, ⟨rfl, rfl⟩⟩
set_option maxHeartbeats 2000000 in
theorem x_says {l : Launch} {G : GG} (hl : l.stackTraces = false) {w : GW} {xa : Nat → Nat} {rr : Option Nat} {o : OS} {im : IM} (hX : XT G w xa rr o im) (hO : oInv o) {s k : Int32} : gMX l G yX0_says (wsW_ yX0_says cX0_says 5 (some .int) [(34, 79, 170, 173), (80, 94, 170, 173), (95, 109, 170, 173), (110, 124, 170, 173), (125, 139, 170, 173), (140, 154, 170, 173), (155, 169, 170, 173), (34, 79, 179, 144), (80, 94, 179, 144), (95, 109, 179, 144), (110, 124, 179, 144), (125, 139, 179, 144), (140, 154, 179, 144), (155, 169, 179, 144), (34, 79, 188, 122), (80, 94, 188, 122), (95, 109, 188, 122), (110, 124, 188, 122), (125, 139, 188, 122), (140, 154, 188, 122), (155, 169, 188, 122)]) 170 8 1293 [.ref (xa 0), .int (s), .int (k)] w (pI (fun r w1 => XE G (xa 0) w1 (spSays o s k).2 im ∧ r = (spSays o s k).1)) (pN) := by
  refine Z.metW (own := "ThreeSizes") (nm := "says") (lv := [(0, .ref (xa 0)), (1, .int (s)), (2, .int (k))]) (by decide) rfl rfl (Nat.le_of_ble_eq_true rfl) rfl (fun κ X Y V0 => ?_)
  have V := V0 hl
  have hI := hO.1
  have h6 := hI.2.1
  have ht200 := hO.2.2.2
  refine z_iload_n X dX0_says_0 rfl 1 rfl ?_
  refine z_cip (z_runS (rest := []) (n := 1) X [.int (s)] (m_X0_isShelf (v := s)) dX0_says_1 (lw_S q344 q345 q66 q346) hs_X0_isShelf rfl ⟨Nat.le_of_ble_eq_true rfl, Nat.le_of_ble_eq_true rfl⟩ ⟨by omega, by omega⟩ rfl (Nat.le_of_ble_eq_true rfl)) ?_
  refine z_if_eq (tgt := 17) X dX0_says_4 (by decide) bI_d (fun c1 => ?_) (fun c1 => ?_)
  · have e1 : rgb 0 7 s = none := rgb_f c1
    refine z_aload_n X dX0_says_17 rfl 0 rfl ?_
    refine z_bipush (v := (-2)) X dX0_says_18 (by decide) ?_
    refine z_ci (z_runV (rest := []) (n := 1) X [.int ((-2))] (m_X0_no_2 hX) dX0_says_20 hX.ob rfl (lw_V q350 q352 qs2 q66 q353) hv_X0_no rfl ⟨Nat.le_of_ble_eq_true rfl, Nat.le_of_ble_eq_true rfl⟩ ⟨by omega, by omega⟩ rfl (Nat.le_of_ble_eq_true rfl)) (fun r2 w4 h3 => ?_)
    obtain ⟨r2e, hX3⟩ := h3
    rw [r2e]
    have e : spSays o s k = ((-2), oRef o 2) := by
      unfold spSays
      repeat (first | rw [el_some (by assumption)] | rw [el_none (by assumption)])
      repeat (first | rw [if_pos (by omega)] | rw [if_neg (by omega)])
      all_goals first | rfl | (exfalso; omega)
    exact z_iret X dX0_says_23 (by omega) (by omega) ⟨_, rfl, (by rw [e]; exact ⟨⟨_, _, rfl, hX3⟩, rfl⟩)⟩
  · have c1 := Classical.not_not.mp c1
    obtain ⟨sN, sNl, sNh, rfl, e2⟩ := rgb_t (lo := 0) (hi := 7) (by decide) (by decide) (c1)
    refine z_iload_n X dX0_says_7 rfl 2 rfl ?_
    refine z_iconst (v := nI (0)) X dX0_says_8 ci0 ?_
    refine z_bipush (v := nI (6)) X dX0_says_9 (by decide) ?_
    refine z_cip (z_runS (rest := []) (n := 3) X [.int (k), .int (nI (0)), .int (nI (6))] m_X0_isIn dX0_says_11 (lw_S q347 q348 q66 q349) hs_X0_isIn rfl ⟨Nat.le_of_ble_eq_true rfl, Nat.le_of_ble_eq_true rfl⟩ ⟨by omega, by omega⟩ rfl (Nat.le_of_ble_eq_true rfl)) ?_
    refine z_if_ne (tgt := 24) X dX0_says_14 (by decide) bI_d (fun c5 => ?_) (fun c5 => ?_)
    · have c5 := Classical.not_not.mp c5
      obtain ⟨kN, kNl, kNh, rfl, e3⟩ := rgb_t (lo := 0) (hi := 6) (by decide) (by decide) (c5)
      refine z_aload_n X dX0_says_24 rfl 0 rfl ?_
      refine z_get X dX0_says_25 hX.ob in_X0 rfl 2 (Nat.le_of_ble_eq_true rfl) q235 rfl ?_
      refine z_iload_n X dX0_says_28 rfl 1 rfl ?_
      refine z_aN7 (v := .ref (xa (30 + sN))) X dX0_says_29 hX.sh (by omega) (by omega) (shF_at (by omega)) ?_
      have hq9 := hO.2.1 sN (by omega)
      rcases hX.shelf (s := sN) (by omega) with ⟨hk9, hs9⟩ | ⟨hk9, hs9, f9, hr9, ho9, he9⟩ | ⟨hk9, hs9, hr9, hl9⟩
      · skip
        refine z_get X dX0_says_30 hs9 in_X3 rfl 0 (Nat.le_of_ble_eq_true rfl) q229 rfl ?_
        refine z_astore_nN (lv2 := [(3, .null), (0, .ref (xa 0)), (1, .int (nI (sN))), (2, .int (nI (kN)))]) X dX0_says_33 rfl (Nat.le_of_ble_eq_true rfl) rfl ?_
        refine z_iload_n X dX0_says_34 rfl 3 rfl ?_
        rcases (show kN = 0 ∨ kN = 1 ∨ kN = 2 ∨ kN = 3 ∨ kN = 4 ∨ kN = 5 ∨ kN = 6 by omega) with rfl | rfl | rfl | rfl | rfl | rfl | rfl
        · skip
          refine z_tabIn (off := 37) (tgt := 72) X dX0_says_35 (by decide) (by decide) (by decide) (by decide) ?_
          refine z_aload_nN X dX0_says_72 rfl 0 rfl ?_
          refine z_castNl X dX0_says_73 ?_
          refine zt_getN0 X V dX0_says_76 in_X10 (ci := 9) rfl 0 (by decide) q528 (Nat.le_of_ble_eq_true rfl) (by omega) ⟨(by omega), (by omega)⟩ (fun qz6 => ?_)
          refine zt_catch X Y [(34, 79, 170, 173), (80, 94, 170, 173), (95, 109, 170, 173), (110, 124, 170, 173), (125, 139, 170, 173), (140, 154, 170, 173), (155, 169, 170, 173)] (34, 79, 179, 144) [(80, 94, 179, 144), (95, 109, 179, 144), (110, 124, 179, 144), (125, 139, 179, 144), (140, 154, 179, 144), (155, 169, 179, 144), (34, 79, 188, 122), (80, 94, 188, 122), (95, 109, 188, 122), (110, 124, 188, 122), (125, 139, 188, 122), (140, 154, 188, 122), (155, 169, 188, 122)] rfl (zp_c (zp_o [false, false, true, false, true, true, true, false, true, false] (by decide) q579 rfl) (zp_c (zp_f rfl) (zp_c (zp_f rfl) (zp_c (zp_f rfl) (zp_c (zp_f rfl) (zp_c (zp_f rfl) (zp_c (zp_f rfl) zp_n))))))) rfl (by decide) q430 q452 rfl ?_
          refine z_astore (lv2 := [(4, .ref (qz6)), (3, .null), (0, .ref (xa 0)), (1, .int (nI (sN))), (2, .int (nI (0)))]) X dX0_says_179 (Nat.le_of_ble_eq_true rfl) rfl ?_
          refine z_aload_n X dX0_says_181 rfl 2 rfl ?_
          refine z_bipush (v := (-4)) X dX0_says_182 (by decide) ?_
          refine z_ci (z_runV (rest := []) (n := 1) X [.int ((-4))] (m_X0_no_4 hX) dX0_says_184 hX.ob rfl (lw_V q350 q352 qs2 q66 q353) hv_X0_no rfl ⟨Nat.le_of_ble_eq_true rfl, Nat.le_of_ble_eq_true rfl⟩ ⟨by omega, by omega⟩ rfl (Nat.le_of_ble_eq_true rfl)) (fun r7 w9 h8 => ?_)
          obtain ⟨r7e, hX8⟩ := h8
          rw [r7e]
          have hcond : ¬ (o.2.2.2.1 0 sN = 1 ∨ (o.2.2.2.1 0 sN = 2 ∧ under (o.2.2.2.1 3 sN) 0 = false)) := fun z => z.elim (fun q => by omega) (fun q => by omega)
          have e : spSays o (nI sN) (nI 0) = ((-4), oRef o 4) := by
            unfold spSays
            repeat (first | rw [el_some (by assumption)] | rw [el_none (by assumption)])
            rw [if_neg hcond]
            repeat (first | rw [if_pos (by omega)] | rw [if_neg (by omega)])
            all_goals first | rfl | (exfalso; omega)
          exact z_iret X dX0_says_187 (by omega) (by omega) ⟨_, rfl, (by rw [e]; exact ⟨⟨_, _, rfl, hX8⟩, rfl⟩)⟩
        · skip
          refine z_tabIn (off := 45) (tgt := 80) X dX0_says_35 (by decide) (by decide) (by decide) (by decide) ?_
          refine z_aload_nN X dX0_says_80 rfl 0 rfl ?_
          refine z_castNl X dX0_says_81 ?_
          refine z_aload_n X dX0_says_84 rfl 1 rfl ?_
          refine z_get X dX0_says_85 hX.ob in_X0 rfl 0 (Nat.le_of_ble_eq_true rfl) q233 rfl ?_
          refine z_get X dX0_says_88 hX.day in_X1 rfl 0 (Nat.le_of_ble_eq_true rfl) q190 rfl ?_
          refine zt_callNU (x := ⟨"ThreeSizes$Least", "says", "(LThreeSizes$Wall;)I"⟩) (owner := "ThreeSizes$Rule") (rest := []) X V [.ref (xa 5)] dX0_says_91 q593 q594 q595 (by decide) rfl rfl (Nat.le_of_ble_eq_true rfl) (by omega) ⟨(by omega), (by omega)⟩ (fun qz10 => ?_)
          refine zt_catch X Y [(34, 79, 170, 173), (80, 94, 170, 173), (95, 109, 170, 173), (110, 124, 170, 173), (125, 139, 170, 173), (140, 154, 170, 173), (155, 169, 170, 173), (34, 79, 179, 144)] (80, 94, 179, 144) [(95, 109, 179, 144), (110, 124, 179, 144), (125, 139, 179, 144), (140, 154, 179, 144), (155, 169, 179, 144), (34, 79, 188, 122), (80, 94, 188, 122), (95, 109, 188, 122), (110, 124, 188, 122), (125, 139, 188, 122), (140, 154, 188, 122), (155, 169, 188, 122)] rfl (zp_c (zp_f rfl) (zp_c (zp_o [false, false, true, false, true, true, true, false, true, false] (by decide) q579 rfl) (zp_c (zp_f rfl) (zp_c (zp_f rfl) (zp_c (zp_f rfl) (zp_c (zp_f rfl) (zp_c (zp_f rfl) (zp_c (zp_f rfl) zp_n)))))))) rfl (by decide) q430 q452 rfl ?_
          refine z_astore (lv2 := [(4, .ref (qz10)), (3, .null), (0, .ref (xa 0)), (1, .int (nI (sN))), (2, .int (nI (1)))]) X dX0_says_179 (Nat.le_of_ble_eq_true rfl) rfl ?_
          refine z_aload_n X dX0_says_181 rfl 2 rfl ?_
          refine z_bipush (v := (-4)) X dX0_says_182 (by decide) ?_
          refine z_ci (z_runV (rest := []) (n := 1) X [.int ((-4))] (m_X0_no_4 hX) dX0_says_184 hX.ob rfl (lw_V q350 q352 qs2 q66 q353) hv_X0_no rfl ⟨Nat.le_of_ble_eq_true rfl, Nat.le_of_ble_eq_true rfl⟩ ⟨by omega, by omega⟩ rfl (Nat.le_of_ble_eq_true rfl)) (fun r11 w13 h12 => ?_)
          obtain ⟨r11e, hX12⟩ := h12
          rw [r11e]
          have hcond : ¬ (o.2.2.2.1 0 sN = 1 ∨ (o.2.2.2.1 0 sN = 2 ∧ under (o.2.2.2.1 3 sN) 1 = false)) := fun z => z.elim (fun q => by omega) (fun q => by omega)
          have e : spSays o (nI sN) (nI 1) = ((-4), oRef o 4) := by
            unfold spSays
            repeat (first | rw [el_some (by assumption)] | rw [el_none (by assumption)])
            rw [if_neg hcond]
            repeat (first | rw [if_pos (by omega)] | rw [if_neg (by omega)])
            all_goals first | rfl | (exfalso; omega)
          exact z_iret X dX0_says_187 (by omega) (by omega) ⟨_, rfl, (by rw [e]; exact ⟨⟨_, _, rfl, hX12⟩, rfl⟩)⟩
        · skip
          refine z_tabIn (off := 60) (tgt := 95) X dX0_says_35 (by decide) (by decide) (by decide) (by decide) ?_
          refine z_aload_nN X dX0_says_95 rfl 0 rfl ?_
          refine z_castNl X dX0_says_96 ?_
          refine z_aload_n X dX0_says_99 rfl 1 rfl ?_
          refine z_get X dX0_says_100 hX.ob in_X0 rfl 0 (Nat.le_of_ble_eq_true rfl) q233 rfl ?_
          refine z_get X dX0_says_103 hX.day in_X1 rfl 0 (Nat.le_of_ble_eq_true rfl) q190 rfl ?_
          refine zt_callNU (x := ⟨"ThreeSizes$Keep", "says", "(LThreeSizes$Wall;)I"⟩) (owner := "ThreeSizes$Rule") (rest := []) X V [.ref (xa 5)] dX0_says_106 q750 q751 q595 (by decide) rfl rfl (Nat.le_of_ble_eq_true rfl) (by omega) ⟨(by omega), (by omega)⟩ (fun qz14 => ?_)
          refine zt_catch X Y [(34, 79, 170, 173), (80, 94, 170, 173), (95, 109, 170, 173), (110, 124, 170, 173), (125, 139, 170, 173), (140, 154, 170, 173), (155, 169, 170, 173), (34, 79, 179, 144), (80, 94, 179, 144)] (95, 109, 179, 144) [(110, 124, 179, 144), (125, 139, 179, 144), (140, 154, 179, 144), (155, 169, 179, 144), (34, 79, 188, 122), (80, 94, 188, 122), (95, 109, 188, 122), (110, 124, 188, 122), (125, 139, 188, 122), (140, 154, 188, 122), (155, 169, 188, 122)] rfl (zp_c (zp_f rfl) (zp_c (zp_f rfl) (zp_c (zp_o [false, false, true, false, true, true, true, false, true, false] (by decide) q579 rfl) (zp_c (zp_f rfl) (zp_c (zp_f rfl) (zp_c (zp_f rfl) (zp_c (zp_f rfl) (zp_c (zp_f rfl) (zp_c (zp_f rfl) zp_n))))))))) rfl (by decide) q430 q452 rfl ?_
          refine z_astore (lv2 := [(4, .ref (qz14)), (3, .null), (0, .ref (xa 0)), (1, .int (nI (sN))), (2, .int (nI (2)))]) X dX0_says_179 (Nat.le_of_ble_eq_true rfl) rfl ?_
          refine z_aload_n X dX0_says_181 rfl 2 rfl ?_
          refine z_bipush (v := (-4)) X dX0_says_182 (by decide) ?_
          refine z_ci (z_runV (rest := []) (n := 1) X [.int ((-4))] (m_X0_no_4 hX) dX0_says_184 hX.ob rfl (lw_V q350 q352 qs2 q66 q353) hv_X0_no rfl ⟨Nat.le_of_ble_eq_true rfl, Nat.le_of_ble_eq_true rfl⟩ ⟨by omega, by omega⟩ rfl (Nat.le_of_ble_eq_true rfl)) (fun r15 w17 h16 => ?_)
          obtain ⟨r15e, hX16⟩ := h16
          rw [r15e]
          have hcond : ¬ (o.2.2.2.1 0 sN = 1 ∨ (o.2.2.2.1 0 sN = 2 ∧ under (o.2.2.2.1 3 sN) 2 = false)) := fun z => z.elim (fun q => by omega) (fun q => by omega)
          have e : spSays o (nI sN) (nI 2) = ((-4), oRef o 4) := by
            unfold spSays
            repeat (first | rw [el_some (by assumption)] | rw [el_none (by assumption)])
            rw [if_neg hcond]
            repeat (first | rw [if_pos (by omega)] | rw [if_neg (by omega)])
            all_goals first | rfl | (exfalso; omega)
          exact z_iret X dX0_says_187 (by omega) (by omega) ⟨_, rfl, (by rw [e]; exact ⟨⟨_, _, rfl, hX16⟩, rfl⟩)⟩
        · skip
          refine z_tabIn (off := 75) (tgt := 110) X dX0_says_35 (by decide) (by decide) (by decide) (by decide) ?_
          refine z_aload_nN X dX0_says_110 rfl 0 rfl ?_
          refine z_castNl X dX0_says_111 ?_
          refine z_aload_n X dX0_says_114 rfl 1 rfl ?_
          refine z_get X dX0_says_115 hX.ob in_X0 rfl 0 (Nat.le_of_ble_eq_true rfl) q233 rfl ?_
          refine z_get X dX0_says_118 hX.day in_X1 rfl 0 (Nat.le_of_ble_eq_true rfl) q190 rfl ?_
          refine zt_callNU (x := ⟨"ThreeSizes$Some", "says", "(LThreeSizes$Wall;)I"⟩) (owner := "ThreeSizes$Rule") (rest := []) X V [.ref (xa 5)] dX0_says_121 q753 q754 q595 (by decide) rfl rfl (Nat.le_of_ble_eq_true rfl) (by omega) ⟨(by omega), (by omega)⟩ (fun qz18 => ?_)
          refine zt_catch X Y [(34, 79, 170, 173), (80, 94, 170, 173), (95, 109, 170, 173), (110, 124, 170, 173), (125, 139, 170, 173), (140, 154, 170, 173), (155, 169, 170, 173), (34, 79, 179, 144), (80, 94, 179, 144), (95, 109, 179, 144)] (110, 124, 179, 144) [(125, 139, 179, 144), (140, 154, 179, 144), (155, 169, 179, 144), (34, 79, 188, 122), (80, 94, 188, 122), (95, 109, 188, 122), (110, 124, 188, 122), (125, 139, 188, 122), (140, 154, 188, 122), (155, 169, 188, 122)] rfl (zp_c (zp_f rfl) (zp_c (zp_f rfl) (zp_c (zp_f rfl) (zp_c (zp_o [false, false, true, false, true, true, true, false, true, false] (by decide) q579 rfl) (zp_c (zp_f rfl) (zp_c (zp_f rfl) (zp_c (zp_f rfl) (zp_c (zp_f rfl) (zp_c (zp_f rfl) (zp_c (zp_f rfl) zp_n)))))))))) rfl (by decide) q430 q452 rfl ?_
          refine z_astore (lv2 := [(4, .ref (qz18)), (3, .null), (0, .ref (xa 0)), (1, .int (nI (sN))), (2, .int (nI (3)))]) X dX0_says_179 (Nat.le_of_ble_eq_true rfl) rfl ?_
          refine z_aload_n X dX0_says_181 rfl 2 rfl ?_
          refine z_bipush (v := (-4)) X dX0_says_182 (by decide) ?_
          refine z_ci (z_runV (rest := []) (n := 1) X [.int ((-4))] (m_X0_no_4 hX) dX0_says_184 hX.ob rfl (lw_V q350 q352 qs2 q66 q353) hv_X0_no rfl ⟨Nat.le_of_ble_eq_true rfl, Nat.le_of_ble_eq_true rfl⟩ ⟨by omega, by omega⟩ rfl (Nat.le_of_ble_eq_true rfl)) (fun r19 w21 h20 => ?_)
          obtain ⟨r19e, hX20⟩ := h20
          rw [r19e]
          have hcond : ¬ (o.2.2.2.1 0 sN = 1 ∨ (o.2.2.2.1 0 sN = 2 ∧ under (o.2.2.2.1 3 sN) 3 = false)) := fun z => z.elim (fun q => by omega) (fun q => by omega)
          have e : spSays o (nI sN) (nI 3) = ((-4), oRef o 4) := by
            unfold spSays
            repeat (first | rw [el_some (by assumption)] | rw [el_none (by assumption)])
            rw [if_neg hcond]
            repeat (first | rw [if_pos (by omega)] | rw [if_neg (by omega)])
            all_goals first | rfl | (exfalso; omega)
          exact z_iret X dX0_says_187 (by omega) (by omega) ⟨_, rfl, (by rw [e]; exact ⟨⟨_, _, rfl, hX20⟩, rfl⟩)⟩
        · skip
          refine z_tabIn (off := 90) (tgt := 125) X dX0_says_35 (by decide) (by decide) (by decide) (by decide) ?_
          refine z_aload_nN X dX0_says_125 rfl 0 rfl ?_
          refine z_castNl X dX0_says_126 ?_
          refine z_aload_n X dX0_says_129 rfl 1 rfl ?_
          refine z_get X dX0_says_130 hX.ob in_X0 rfl 0 (Nat.le_of_ble_eq_true rfl) q233 rfl ?_
          refine z_get X dX0_says_133 hX.day in_X1 rfl 0 (Nat.le_of_ble_eq_true rfl) q190 rfl ?_
          refine zt_callNU (x := ⟨"ThreeSizes$Great", "says", "(LThreeSizes$Wall;)I"⟩) (owner := "ThreeSizes$Rule") (rest := []) X V [.ref (xa 5)] dX0_says_136 q756 q757 q595 (by decide) rfl rfl (Nat.le_of_ble_eq_true rfl) (by omega) ⟨(by omega), (by omega)⟩ (fun qz22 => ?_)
          refine zt_catch X Y [(34, 79, 170, 173), (80, 94, 170, 173), (95, 109, 170, 173), (110, 124, 170, 173), (125, 139, 170, 173), (140, 154, 170, 173), (155, 169, 170, 173), (34, 79, 179, 144), (80, 94, 179, 144), (95, 109, 179, 144), (110, 124, 179, 144)] (125, 139, 179, 144) [(140, 154, 179, 144), (155, 169, 179, 144), (34, 79, 188, 122), (80, 94, 188, 122), (95, 109, 188, 122), (110, 124, 188, 122), (125, 139, 188, 122), (140, 154, 188, 122), (155, 169, 188, 122)] rfl (zp_c (zp_f rfl) (zp_c (zp_f rfl) (zp_c (zp_f rfl) (zp_c (zp_f rfl) (zp_c (zp_o [false, false, true, false, true, true, true, false, true, false] (by decide) q579 rfl) (zp_c (zp_f rfl) (zp_c (zp_f rfl) (zp_c (zp_f rfl) (zp_c (zp_f rfl) (zp_c (zp_f rfl) (zp_c (zp_f rfl) zp_n))))))))))) rfl (by decide) q430 q452 rfl ?_
          refine z_astore (lv2 := [(4, .ref (qz22)), (3, .null), (0, .ref (xa 0)), (1, .int (nI (sN))), (2, .int (nI (4)))]) X dX0_says_179 (Nat.le_of_ble_eq_true rfl) rfl ?_
          refine z_aload_n X dX0_says_181 rfl 2 rfl ?_
          refine z_bipush (v := (-4)) X dX0_says_182 (by decide) ?_
          refine z_ci (z_runV (rest := []) (n := 1) X [.int ((-4))] (m_X0_no_4 hX) dX0_says_184 hX.ob rfl (lw_V q350 q352 qs2 q66 q353) hv_X0_no rfl ⟨Nat.le_of_ble_eq_true rfl, Nat.le_of_ble_eq_true rfl⟩ ⟨by omega, by omega⟩ rfl (Nat.le_of_ble_eq_true rfl)) (fun r23 w25 h24 => ?_)
          obtain ⟨r23e, hX24⟩ := h24
          rw [r23e]
          have hcond : ¬ (o.2.2.2.1 0 sN = 1 ∨ (o.2.2.2.1 0 sN = 2 ∧ under (o.2.2.2.1 3 sN) 4 = false)) := fun z => z.elim (fun q => by omega) (fun q => by omega)
          have e : spSays o (nI sN) (nI 4) = ((-4), oRef o 4) := by
            unfold spSays
            repeat (first | rw [el_some (by assumption)] | rw [el_none (by assumption)])
            rw [if_neg hcond]
            repeat (first | rw [if_pos (by omega)] | rw [if_neg (by omega)])
            all_goals first | rfl | (exfalso; omega)
          exact z_iret X dX0_says_187 (by omega) (by omega) ⟨_, rfl, (by rw [e]; exact ⟨⟨_, _, rfl, hX24⟩, rfl⟩)⟩
        · skip
          refine z_tabIn (off := 105) (tgt := 140) X dX0_says_35 (by decide) (by decide) (by decide) (by decide) ?_
          refine z_aload_nN X dX0_says_140 rfl 0 rfl ?_
          refine z_castNl X dX0_says_141 ?_
          refine z_aload_n X dX0_says_144 rfl 1 rfl ?_
          refine z_get X dX0_says_145 hX.ob in_X0 rfl 0 (Nat.le_of_ble_eq_true rfl) q233 rfl ?_
          refine z_get X dX0_says_148 hX.day in_X1 rfl 0 (Nat.le_of_ble_eq_true rfl) q190 rfl ?_
          refine zt_callNU (x := ⟨"ThreeSizes$Even", "says", "(LThreeSizes$Wall;)I"⟩) (owner := "ThreeSizes$Rule") (rest := []) X V [.ref (xa 5)] dX0_says_151 q760 q761 q595 (by decide) rfl rfl (Nat.le_of_ble_eq_true rfl) (by omega) ⟨(by omega), (by omega)⟩ (fun qz26 => ?_)
          refine zt_catch X Y [(34, 79, 170, 173), (80, 94, 170, 173), (95, 109, 170, 173), (110, 124, 170, 173), (125, 139, 170, 173), (140, 154, 170, 173), (155, 169, 170, 173), (34, 79, 179, 144), (80, 94, 179, 144), (95, 109, 179, 144), (110, 124, 179, 144), (125, 139, 179, 144)] (140, 154, 179, 144) [(155, 169, 179, 144), (34, 79, 188, 122), (80, 94, 188, 122), (95, 109, 188, 122), (110, 124, 188, 122), (125, 139, 188, 122), (140, 154, 188, 122), (155, 169, 188, 122)] rfl (zp_c (zp_f rfl) (zp_c (zp_f rfl) (zp_c (zp_f rfl) (zp_c (zp_f rfl) (zp_c (zp_f rfl) (zp_c (zp_o [false, false, true, false, true, true, true, false, true, false] (by decide) q579 rfl) (zp_c (zp_f rfl) (zp_c (zp_f rfl) (zp_c (zp_f rfl) (zp_c (zp_f rfl) (zp_c (zp_f rfl) (zp_c (zp_f rfl) zp_n)))))))))))) rfl (by decide) q430 q452 rfl ?_
          refine z_astore (lv2 := [(4, .ref (qz26)), (3, .null), (0, .ref (xa 0)), (1, .int (nI (sN))), (2, .int (nI (5)))]) X dX0_says_179 (Nat.le_of_ble_eq_true rfl) rfl ?_
          refine z_aload_n X dX0_says_181 rfl 2 rfl ?_
          refine z_bipush (v := (-4)) X dX0_says_182 (by decide) ?_
          refine z_ci (z_runV (rest := []) (n := 1) X [.int ((-4))] (m_X0_no_4 hX) dX0_says_184 hX.ob rfl (lw_V q350 q352 qs2 q66 q353) hv_X0_no rfl ⟨Nat.le_of_ble_eq_true rfl, Nat.le_of_ble_eq_true rfl⟩ ⟨by omega, by omega⟩ rfl (Nat.le_of_ble_eq_true rfl)) (fun r27 w29 h28 => ?_)
          obtain ⟨r27e, hX28⟩ := h28
          rw [r27e]
          have hcond : ¬ (o.2.2.2.1 0 sN = 1 ∨ (o.2.2.2.1 0 sN = 2 ∧ under (o.2.2.2.1 3 sN) 5 = false)) := fun z => z.elim (fun q => by omega) (fun q => by omega)
          have e : spSays o (nI sN) (nI 5) = ((-4), oRef o 4) := by
            unfold spSays
            repeat (first | rw [el_some (by assumption)] | rw [el_none (by assumption)])
            rw [if_neg hcond]
            repeat (first | rw [if_pos (by omega)] | rw [if_neg (by omega)])
            all_goals first | rfl | (exfalso; omega)
          exact z_iret X dX0_says_187 (by omega) (by omega) ⟨_, rfl, (by rw [e]; exact ⟨⟨_, _, rfl, hX28⟩, rfl⟩)⟩
        · skip
          refine z_tabOut (tgt := 155) X dX0_says_35 (by decide) (by decide) ?_
          refine z_aload_nN X dX0_says_155 rfl 0 rfl ?_
          refine z_castNl X dX0_says_156 ?_
          refine z_aload_n X dX0_says_159 rfl 1 rfl ?_
          refine z_get X dX0_says_160 hX.ob in_X0 rfl 0 (Nat.le_of_ble_eq_true rfl) q233 rfl ?_
          refine z_get X dX0_says_163 hX.day in_X1 rfl 0 (Nat.le_of_ble_eq_true rfl) q190 rfl ?_
          refine zt_callN (n := 0) (rest := []) X V [.ref (xa 5)] dX0_says_166 q763 q764 q766 q765 (by decide) rfl rfl (Nat.le_of_ble_eq_true rfl) (by omega) ⟨(by omega), (by omega)⟩ (fun qz30 => ?_)
          refine zt_catch X Y [(34, 79, 170, 173), (80, 94, 170, 173), (95, 109, 170, 173), (110, 124, 170, 173), (125, 139, 170, 173), (140, 154, 170, 173), (155, 169, 170, 173), (34, 79, 179, 144), (80, 94, 179, 144), (95, 109, 179, 144), (110, 124, 179, 144), (125, 139, 179, 144), (140, 154, 179, 144)] (155, 169, 179, 144) [(34, 79, 188, 122), (80, 94, 188, 122), (95, 109, 188, 122), (110, 124, 188, 122), (125, 139, 188, 122), (140, 154, 188, 122), (155, 169, 188, 122)] rfl (zp_c (zp_f rfl) (zp_c (zp_f rfl) (zp_c (zp_f rfl) (zp_c (zp_f rfl) (zp_c (zp_f rfl) (zp_c (zp_f rfl) (zp_c (zp_o [false, false, true, false, true, true, true, false, true, false] (by decide) q579 rfl) (zp_c (zp_f rfl) (zp_c (zp_f rfl) (zp_c (zp_f rfl) (zp_c (zp_f rfl) (zp_c (zp_f rfl) (zp_c (zp_f rfl) zp_n))))))))))))) rfl (by decide) q430 q452 rfl ?_
          refine z_astore (lv2 := [(4, .ref (qz30)), (3, .null), (0, .ref (xa 0)), (1, .int (nI (sN))), (2, .int (nI (6)))]) X dX0_says_179 (Nat.le_of_ble_eq_true rfl) rfl ?_
          refine z_aload_n X dX0_says_181 rfl 2 rfl ?_
          refine z_bipush (v := (-4)) X dX0_says_182 (by decide) ?_
          refine z_ci (z_runV (rest := []) (n := 1) X [.int ((-4))] (m_X0_no_4 hX) dX0_says_184 hX.ob rfl (lw_V q350 q352 qs2 q66 q353) hv_X0_no rfl ⟨Nat.le_of_ble_eq_true rfl, Nat.le_of_ble_eq_true rfl⟩ ⟨by omega, by omega⟩ rfl (Nat.le_of_ble_eq_true rfl)) (fun r31 w33 h32 => ?_)
          obtain ⟨r31e, hX32⟩ := h32
          rw [r31e]
          have hcond : ¬ (o.2.2.2.1 0 sN = 1 ∨ (o.2.2.2.1 0 sN = 2 ∧ under (o.2.2.2.1 3 sN) 6 = false)) := fun z => z.elim (fun q => by omega) (fun q => by omega)
          have e : spSays o (nI sN) (nI 6) = ((-4), oRef o 4) := by
            unfold spSays
            repeat (first | rw [el_some (by assumption)] | rw [el_none (by assumption)])
            rw [if_neg hcond]
            repeat (first | rw [if_pos (by omega)] | rw [if_neg (by omega)])
            all_goals first | rfl | (exfalso; omega)
          exact z_iret X dX0_says_187 (by omega) (by omega) ⟨_, rfl, (by rw [e]; exact ⟨⟨_, _, rfl, hX32⟩, rfl⟩)⟩
      · skip
        refine z_get X dX0_says_30 hs9 in_X3 rfl 0 (Nat.le_of_ble_eq_true rfl) q229 rfl ?_
        refine z_astore_n (lv2 := [(3, .ref (xa (40 + sN))), (0, .ref (xa 0)), (1, .int (nI (sN))), (2, .int (nI (kN)))]) X dX0_says_33 rfl (Nat.le_of_ble_eq_true rfl) rfl ?_
        rcases (show o.2.2.2.1 1 sN = 0 ∨ o.2.2.2.1 1 sN = 1 ∨ o.2.2.2.1 1 sN = 2 ∨ o.2.2.2.1 1 sN = 3 ∨ o.2.2.2.1 1 sN = 4 by have := hq9.2.1; omega) with h6 | h6 | h6 | h6 | h6
        · have hr6 : w (xa (40 + sN)) = some (.inl (G.2.1 2, o.2.2.2.1 2 sN, .inl (fun j => (f9 j).toInt32))) := by rw [h6] at hr9; exact hr9
          refine z_iload_n X dX0_says_34 rfl 3 rfl ?_
          rcases (show kN = 0 ∨ kN = 1 ∨ kN = 2 ∨ kN = 3 ∨ kN = 4 ∨ kN = 5 ∨ kN = 6 by omega) with rfl | rfl | rfl | rfl | rfl | rfl | rfl
          · skip
            refine z_tabIn (off := 37) (tgt := 72) X dX0_says_35 (by decide) (by decide) (by decide) (by decide) ?_
            refine z_aload_n X dX0_says_72 rfl 0 rfl ?_
            refine zt_castNo X V (Is.arr X hr6 (fun _ h => nmA_byte h)) dX0_says_73 q388 [false, true, true, false, false, false, true, true, false, false] rfl (by decide) (by decide) (by decide +kernel) (by decide +kernel) (Nat.le_of_ble_eq_true rfl) (by omega) ⟨(by omega), (by omega)⟩ (fun qz34 => ?_)
            refine zt_catch X Y [] (34, 79, 170, 173) [(80, 94, 170, 173), (95, 109, 170, 173), (110, 124, 170, 173), (125, 139, 170, 173), (140, 154, 170, 173), (155, 169, 170, 173), (34, 79, 179, 144), (80, 94, 179, 144), (95, 109, 179, 144), (110, 124, 179, 144), (125, 139, 179, 144), (140, 154, 179, 144), (155, 169, 179, 144), (34, 79, 188, 122), (80, 94, 188, 122), (95, 109, 188, 122), (110, 124, 188, 122), (125, 139, 188, 122), (140, 154, 188, 122), (155, 169, 188, 122)] rfl zp_n rfl (by decide) q579 q591 rfl ?_
            refine z_astore (lv2 := [(4, .ref (qz34)), (3, .ref (xa (40 + sN))), (0, .ref (xa 0)), (1, .int (nI (sN))), (2, .int (nI (0)))]) X dX0_says_170 (Nat.le_of_ble_eq_true rfl) rfl ?_
            refine z_aload_n X dX0_says_172 rfl 2 rfl ?_
            refine z_bipush (v := (-3)) X dX0_says_173 (by decide) ?_
            refine z_ci (z_runV (rest := []) (n := 1) X [.int ((-3))] (m_X0_no_3 hX) dX0_says_175 hX.ob rfl (lw_V q350 q352 qs2 q66 q353) hv_X0_no rfl ⟨Nat.le_of_ble_eq_true rfl, Nat.le_of_ble_eq_true rfl⟩ ⟨by omega, by omega⟩ rfl (Nat.le_of_ble_eq_true rfl)) (fun r35 w37 h36 => ?_)
            obtain ⟨r35e, hX36⟩ := h36
            rw [r35e]
            have hcond : o.2.2.2.1 0 sN = 1 ∨ (o.2.2.2.1 0 sN = 2 ∧ under (o.2.2.2.1 3 sN) 0 = false) := Or.inl hk9
            have e : spSays o (nI sN) (nI 0) = ((-3), oRef o 3) := by
              unfold spSays
              repeat (first | rw [el_some (by assumption)] | rw [el_none (by assumption)])
              rw [if_pos hcond]
              repeat (first | rw [if_pos (by omega)] | rw [if_neg (by omega)])
              all_goals first | rfl | (exfalso; omega)
            exact z_iret X dX0_says_178 (by omega) (by omega) ⟨_, rfl, (by rw [e]; exact ⟨⟨_, _, rfl, hX36⟩, rfl⟩)⟩
          · skip
            refine z_tabIn (off := 45) (tgt := 80) X dX0_says_35 (by decide) (by decide) (by decide) (by decide) ?_
            refine z_aload_n X dX0_says_80 rfl 0 rfl ?_
            refine zt_castNo X V (Is.arr X hr6 (fun _ h => nmA_byte h)) dX0_says_81 q512 [true, false, false, true, false, false, false, true, true, false] rfl (by decide) (by decide) (by decide +kernel) (by decide +kernel) (Nat.le_of_ble_eq_true rfl) (by omega) ⟨(by omega), (by omega)⟩ (fun qz38 => ?_)
            refine zt_catch X Y [(34, 79, 170, 173)] (80, 94, 170, 173) [(95, 109, 170, 173), (110, 124, 170, 173), (125, 139, 170, 173), (140, 154, 170, 173), (155, 169, 170, 173), (34, 79, 179, 144), (80, 94, 179, 144), (95, 109, 179, 144), (110, 124, 179, 144), (125, 139, 179, 144), (140, 154, 179, 144), (155, 169, 179, 144), (34, 79, 188, 122), (80, 94, 188, 122), (95, 109, 188, 122), (110, 124, 188, 122), (125, 139, 188, 122), (140, 154, 188, 122), (155, 169, 188, 122)] rfl (zp_c (zp_f rfl) zp_n) rfl (by decide) q579 q591 rfl ?_
            refine z_astore (lv2 := [(4, .ref (qz38)), (3, .ref (xa (40 + sN))), (0, .ref (xa 0)), (1, .int (nI (sN))), (2, .int (nI (1)))]) X dX0_says_170 (Nat.le_of_ble_eq_true rfl) rfl ?_
            refine z_aload_n X dX0_says_172 rfl 2 rfl ?_
            refine z_bipush (v := (-3)) X dX0_says_173 (by decide) ?_
            refine z_ci (z_runV (rest := []) (n := 1) X [.int ((-3))] (m_X0_no_3 hX) dX0_says_175 hX.ob rfl (lw_V q350 q352 qs2 q66 q353) hv_X0_no rfl ⟨Nat.le_of_ble_eq_true rfl, Nat.le_of_ble_eq_true rfl⟩ ⟨by omega, by omega⟩ rfl (Nat.le_of_ble_eq_true rfl)) (fun r39 w41 h40 => ?_)
            obtain ⟨r39e, hX40⟩ := h40
            rw [r39e]
            have hcond : o.2.2.2.1 0 sN = 1 ∨ (o.2.2.2.1 0 sN = 2 ∧ under (o.2.2.2.1 3 sN) 1 = false) := Or.inl hk9
            have e : spSays o (nI sN) (nI 1) = ((-3), oRef o 3) := by
              unfold spSays
              repeat (first | rw [el_some (by assumption)] | rw [el_none (by assumption)])
              rw [if_pos hcond]
              repeat (first | rw [if_pos (by omega)] | rw [if_neg (by omega)])
              all_goals first | rfl | (exfalso; omega)
            exact z_iret X dX0_says_178 (by omega) (by omega) ⟨_, rfl, (by rw [e]; exact ⟨⟨_, _, rfl, hX40⟩, rfl⟩)⟩
          · skip
            refine z_tabIn (off := 60) (tgt := 95) X dX0_says_35 (by decide) (by decide) (by decide) (by decide) ?_
            refine z_aload_n X dX0_says_95 rfl 0 rfl ?_
            refine zt_castNo X V (Is.arr X hr6 (fun _ h => nmA_byte h)) dX0_says_96 q532 [true, false, false, true, false, true, false, false, false] rfl (by decide) (by decide) (by decide +kernel) (by decide +kernel) (Nat.le_of_ble_eq_true rfl) (by omega) ⟨(by omega), (by omega)⟩ (fun qz42 => ?_)
            refine zt_catch X Y [(34, 79, 170, 173), (80, 94, 170, 173)] (95, 109, 170, 173) [(110, 124, 170, 173), (125, 139, 170, 173), (140, 154, 170, 173), (155, 169, 170, 173), (34, 79, 179, 144), (80, 94, 179, 144), (95, 109, 179, 144), (110, 124, 179, 144), (125, 139, 179, 144), (140, 154, 179, 144), (155, 169, 179, 144), (34, 79, 188, 122), (80, 94, 188, 122), (95, 109, 188, 122), (110, 124, 188, 122), (125, 139, 188, 122), (140, 154, 188, 122), (155, 169, 188, 122)] rfl (zp_c (zp_f rfl) (zp_c (zp_f rfl) zp_n)) rfl (by decide) q579 q591 rfl ?_
            refine z_astore (lv2 := [(4, .ref (qz42)), (3, .ref (xa (40 + sN))), (0, .ref (xa 0)), (1, .int (nI (sN))), (2, .int (nI (2)))]) X dX0_says_170 (Nat.le_of_ble_eq_true rfl) rfl ?_
            refine z_aload_n X dX0_says_172 rfl 2 rfl ?_
            refine z_bipush (v := (-3)) X dX0_says_173 (by decide) ?_
            refine z_ci (z_runV (rest := []) (n := 1) X [.int ((-3))] (m_X0_no_3 hX) dX0_says_175 hX.ob rfl (lw_V q350 q352 qs2 q66 q353) hv_X0_no rfl ⟨Nat.le_of_ble_eq_true rfl, Nat.le_of_ble_eq_true rfl⟩ ⟨by omega, by omega⟩ rfl (Nat.le_of_ble_eq_true rfl)) (fun r43 w45 h44 => ?_)
            obtain ⟨r43e, hX44⟩ := h44
            rw [r43e]
            have hcond : o.2.2.2.1 0 sN = 1 ∨ (o.2.2.2.1 0 sN = 2 ∧ under (o.2.2.2.1 3 sN) 2 = false) := Or.inl hk9
            have e : spSays o (nI sN) (nI 2) = ((-3), oRef o 3) := by
              unfold spSays
              repeat (first | rw [el_some (by assumption)] | rw [el_none (by assumption)])
              rw [if_pos hcond]
              repeat (first | rw [if_pos (by omega)] | rw [if_neg (by omega)])
              all_goals first | rfl | (exfalso; omega)
            exact z_iret X dX0_says_178 (by omega) (by omega) ⟨_, rfl, (by rw [e]; exact ⟨⟨_, _, rfl, hX44⟩, rfl⟩)⟩
          · skip
            refine z_tabIn (off := 75) (tgt := 110) X dX0_says_35 (by decide) (by decide) (by decide) (by decide) ?_
            refine z_aload_n X dX0_says_110 rfl 0 rfl ?_
            refine zt_castNo X V (Is.arr X hr6 (fun _ h => nmA_byte h)) dX0_says_111 q540 [true, false, false, true, false, true, true, false, true, true] rfl (by decide) (by decide) (by decide +kernel) (by decide +kernel) (Nat.le_of_ble_eq_true rfl) (by omega) ⟨(by omega), (by omega)⟩ (fun qz46 => ?_)
            refine zt_catch X Y [(34, 79, 170, 173), (80, 94, 170, 173), (95, 109, 170, 173)] (110, 124, 170, 173) [(125, 139, 170, 173), (140, 154, 170, 173), (155, 169, 170, 173), (34, 79, 179, 144), (80, 94, 179, 144), (95, 109, 179, 144), (110, 124, 179, 144), (125, 139, 179, 144), (140, 154, 179, 144), (155, 169, 179, 144), (34, 79, 188, 122), (80, 94, 188, 122), (95, 109, 188, 122), (110, 124, 188, 122), (125, 139, 188, 122), (140, 154, 188, 122), (155, 169, 188, 122)] rfl (zp_c (zp_f rfl) (zp_c (zp_f rfl) (zp_c (zp_f rfl) zp_n))) rfl (by decide) q579 q591 rfl ?_
            refine z_astore (lv2 := [(4, .ref (qz46)), (3, .ref (xa (40 + sN))), (0, .ref (xa 0)), (1, .int (nI (sN))), (2, .int (nI (3)))]) X dX0_says_170 (Nat.le_of_ble_eq_true rfl) rfl ?_
            refine z_aload_n X dX0_says_172 rfl 2 rfl ?_
            refine z_bipush (v := (-3)) X dX0_says_173 (by decide) ?_
            refine z_ci (z_runV (rest := []) (n := 1) X [.int ((-3))] (m_X0_no_3 hX) dX0_says_175 hX.ob rfl (lw_V q350 q352 qs2 q66 q353) hv_X0_no rfl ⟨Nat.le_of_ble_eq_true rfl, Nat.le_of_ble_eq_true rfl⟩ ⟨by omega, by omega⟩ rfl (Nat.le_of_ble_eq_true rfl)) (fun r47 w49 h48 => ?_)
            obtain ⟨r47e, hX48⟩ := h48
            rw [r47e]
            have hcond : o.2.2.2.1 0 sN = 1 ∨ (o.2.2.2.1 0 sN = 2 ∧ under (o.2.2.2.1 3 sN) 3 = false) := Or.inl hk9
            have e : spSays o (nI sN) (nI 3) = ((-3), oRef o 3) := by
              unfold spSays
              repeat (first | rw [el_some (by assumption)] | rw [el_none (by assumption)])
              rw [if_pos hcond]
              repeat (first | rw [if_pos (by omega)] | rw [if_neg (by omega)])
              all_goals first | rfl | (exfalso; omega)
            exact z_iret X dX0_says_178 (by omega) (by omega) ⟨_, rfl, (by rw [e]; exact ⟨⟨_, _, rfl, hX48⟩, rfl⟩)⟩
          · skip
            refine z_tabIn (off := 90) (tgt := 125) X dX0_says_35 (by decide) (by decide) (by decide) (by decide) ?_
            refine z_aload_n X dX0_says_125 rfl 0 rfl ?_
            refine zt_castNo X V (Is.arr X hr6 (fun _ h => nmA_byte h)) dX0_says_126 q548 [true, false, false, true, true, false, false, true, true, false] rfl (by decide) (by decide) (by decide +kernel) (by decide +kernel) (Nat.le_of_ble_eq_true rfl) (by omega) ⟨(by omega), (by omega)⟩ (fun qz50 => ?_)
            refine zt_catch X Y [(34, 79, 170, 173), (80, 94, 170, 173), (95, 109, 170, 173), (110, 124, 170, 173)] (125, 139, 170, 173) [(140, 154, 170, 173), (155, 169, 170, 173), (34, 79, 179, 144), (80, 94, 179, 144), (95, 109, 179, 144), (110, 124, 179, 144), (125, 139, 179, 144), (140, 154, 179, 144), (155, 169, 179, 144), (34, 79, 188, 122), (80, 94, 188, 122), (95, 109, 188, 122), (110, 124, 188, 122), (125, 139, 188, 122), (140, 154, 188, 122), (155, 169, 188, 122)] rfl (zp_c (zp_f rfl) (zp_c (zp_f rfl) (zp_c (zp_f rfl) (zp_c (zp_f rfl) zp_n)))) rfl (by decide) q579 q591 rfl ?_
            refine z_astore (lv2 := [(4, .ref (qz50)), (3, .ref (xa (40 + sN))), (0, .ref (xa 0)), (1, .int (nI (sN))), (2, .int (nI (4)))]) X dX0_says_170 (Nat.le_of_ble_eq_true rfl) rfl ?_
            refine z_aload_n X dX0_says_172 rfl 2 rfl ?_
            refine z_bipush (v := (-3)) X dX0_says_173 (by decide) ?_
            refine z_ci (z_runV (rest := []) (n := 1) X [.int ((-3))] (m_X0_no_3 hX) dX0_says_175 hX.ob rfl (lw_V q350 q352 qs2 q66 q353) hv_X0_no rfl ⟨Nat.le_of_ble_eq_true rfl, Nat.le_of_ble_eq_true rfl⟩ ⟨by omega, by omega⟩ rfl (Nat.le_of_ble_eq_true rfl)) (fun r51 w53 h52 => ?_)
            obtain ⟨r51e, hX52⟩ := h52
            rw [r51e]
            have hcond : o.2.2.2.1 0 sN = 1 ∨ (o.2.2.2.1 0 sN = 2 ∧ under (o.2.2.2.1 3 sN) 4 = false) := Or.inl hk9
            have e : spSays o (nI sN) (nI 4) = ((-3), oRef o 3) := by
              unfold spSays
              repeat (first | rw [el_some (by assumption)] | rw [el_none (by assumption)])
              rw [if_pos hcond]
              repeat (first | rw [if_pos (by omega)] | rw [if_neg (by omega)])
              all_goals first | rfl | (exfalso; omega)
            exact z_iret X dX0_says_178 (by omega) (by omega) ⟨_, rfl, (by rw [e]; exact ⟨⟨_, _, rfl, hX52⟩, rfl⟩)⟩
          · skip
            refine z_tabIn (off := 105) (tgt := 140) X dX0_says_35 (by decide) (by decide) (by decide) (by decide) ?_
            refine z_aload_n X dX0_says_140 rfl 0 rfl ?_
            refine zt_castNo X V (Is.arr X hr6 (fun _ h => nmA_byte h)) dX0_says_141 q556 [true, false, false, true, true, true, false, false, false, false] rfl (by decide) (by decide) (by decide +kernel) (by decide +kernel) (Nat.le_of_ble_eq_true rfl) (by omega) ⟨(by omega), (by omega)⟩ (fun qz54 => ?_)
            refine zt_catch X Y [(34, 79, 170, 173), (80, 94, 170, 173), (95, 109, 170, 173), (110, 124, 170, 173), (125, 139, 170, 173)] (140, 154, 170, 173) [(155, 169, 170, 173), (34, 79, 179, 144), (80, 94, 179, 144), (95, 109, 179, 144), (110, 124, 179, 144), (125, 139, 179, 144), (140, 154, 179, 144), (155, 169, 179, 144), (34, 79, 188, 122), (80, 94, 188, 122), (95, 109, 188, 122), (110, 124, 188, 122), (125, 139, 188, 122), (140, 154, 188, 122), (155, 169, 188, 122)] rfl (zp_c (zp_f rfl) (zp_c (zp_f rfl) (zp_c (zp_f rfl) (zp_c (zp_f rfl) (zp_c (zp_f rfl) zp_n))))) rfl (by decide) q579 q591 rfl ?_
            refine z_astore (lv2 := [(4, .ref (qz54)), (3, .ref (xa (40 + sN))), (0, .ref (xa 0)), (1, .int (nI (sN))), (2, .int (nI (5)))]) X dX0_says_170 (Nat.le_of_ble_eq_true rfl) rfl ?_
            refine z_aload_n X dX0_says_172 rfl 2 rfl ?_
            refine z_bipush (v := (-3)) X dX0_says_173 (by decide) ?_
            refine z_ci (z_runV (rest := []) (n := 1) X [.int ((-3))] (m_X0_no_3 hX) dX0_says_175 hX.ob rfl (lw_V q350 q352 qs2 q66 q353) hv_X0_no rfl ⟨Nat.le_of_ble_eq_true rfl, Nat.le_of_ble_eq_true rfl⟩ ⟨by omega, by omega⟩ rfl (Nat.le_of_ble_eq_true rfl)) (fun r55 w57 h56 => ?_)
            obtain ⟨r55e, hX56⟩ := h56
            rw [r55e]
            have hcond : o.2.2.2.1 0 sN = 1 ∨ (o.2.2.2.1 0 sN = 2 ∧ under (o.2.2.2.1 3 sN) 5 = false) := Or.inl hk9
            have e : spSays o (nI sN) (nI 5) = ((-3), oRef o 3) := by
              unfold spSays
              repeat (first | rw [el_some (by assumption)] | rw [el_none (by assumption)])
              rw [if_pos hcond]
              repeat (first | rw [if_pos (by omega)] | rw [if_neg (by omega)])
              all_goals first | rfl | (exfalso; omega)
            exact z_iret X dX0_says_178 (by omega) (by omega) ⟨_, rfl, (by rw [e]; exact ⟨⟨_, _, rfl, hX56⟩, rfl⟩)⟩
          · skip
            refine z_tabOut (tgt := 155) X dX0_says_35 (by decide) (by decide) ?_
            refine z_aload_n X dX0_says_155 rfl 0 rfl ?_
            refine zt_castNo X V (Is.arr X hr6 (fun _ h => nmA_byte h)) dX0_says_156 q564 [true, false, false, true, true, true, true, false, true, false] rfl (by decide) (by decide) (by decide +kernel) (by decide +kernel) (Nat.le_of_ble_eq_true rfl) (by omega) ⟨(by omega), (by omega)⟩ (fun qz58 => ?_)
            refine zt_catch X Y [(34, 79, 170, 173), (80, 94, 170, 173), (95, 109, 170, 173), (110, 124, 170, 173), (125, 139, 170, 173), (140, 154, 170, 173)] (155, 169, 170, 173) [(34, 79, 179, 144), (80, 94, 179, 144), (95, 109, 179, 144), (110, 124, 179, 144), (125, 139, 179, 144), (140, 154, 179, 144), (155, 169, 179, 144), (34, 79, 188, 122), (80, 94, 188, 122), (95, 109, 188, 122), (110, 124, 188, 122), (125, 139, 188, 122), (140, 154, 188, 122), (155, 169, 188, 122)] rfl (zp_c (zp_f rfl) (zp_c (zp_f rfl) (zp_c (zp_f rfl) (zp_c (zp_f rfl) (zp_c (zp_f rfl) (zp_c (zp_f rfl) zp_n)))))) rfl (by decide) q579 q591 rfl ?_
            refine z_astore (lv2 := [(4, .ref (qz58)), (3, .ref (xa (40 + sN))), (0, .ref (xa 0)), (1, .int (nI (sN))), (2, .int (nI (6)))]) X dX0_says_170 (Nat.le_of_ble_eq_true rfl) rfl ?_
            refine z_aload_n X dX0_says_172 rfl 2 rfl ?_
            refine z_bipush (v := (-3)) X dX0_says_173 (by decide) ?_
            refine z_ci (z_runV (rest := []) (n := 1) X [.int ((-3))] (m_X0_no_3 hX) dX0_says_175 hX.ob rfl (lw_V q350 q352 qs2 q66 q353) hv_X0_no rfl ⟨Nat.le_of_ble_eq_true rfl, Nat.le_of_ble_eq_true rfl⟩ ⟨by omega, by omega⟩ rfl (Nat.le_of_ble_eq_true rfl)) (fun r59 w61 h60 => ?_)
            obtain ⟨r59e, hX60⟩ := h60
            rw [r59e]
            have hcond : o.2.2.2.1 0 sN = 1 ∨ (o.2.2.2.1 0 sN = 2 ∧ under (o.2.2.2.1 3 sN) 6 = false) := Or.inl hk9
            have e : spSays o (nI sN) (nI 6) = ((-3), oRef o 3) := by
              unfold spSays
              repeat (first | rw [el_some (by assumption)] | rw [el_none (by assumption)])
              rw [if_pos hcond]
              repeat (first | rw [if_pos (by omega)] | rw [if_neg (by omega)])
              all_goals first | rfl | (exfalso; omega)
            exact z_iret X dX0_says_178 (by omega) (by omega) ⟨_, rfl, (by rw [e]; exact ⟨⟨_, _, rfl, hX60⟩, rfl⟩)⟩
        · have hr6 : w (xa (40 + sN)) = some (.inl (G.2.1 3, o.2.2.2.1 2 sN, .inl (fun j => (f9 j).toInt32))) := by rw [h6] at hr9; exact hr9
          refine z_iload_n X dX0_says_34 rfl 3 rfl ?_
          rcases (show kN = 0 ∨ kN = 1 ∨ kN = 2 ∨ kN = 3 ∨ kN = 4 ∨ kN = 5 ∨ kN = 6 by omega) with rfl | rfl | rfl | rfl | rfl | rfl | rfl
          · skip
            refine z_tabIn (off := 37) (tgt := 72) X dX0_says_35 (by decide) (by decide) (by decide) (by decide) ?_
            refine z_aload_n X dX0_says_72 rfl 0 rfl ?_
            refine zt_castNo X V (Is.arr X hr6 (fun _ h => nmA_short h)) dX0_says_73 q388 [false, true, true, false, false, false, true, true, false, true] rfl (by decide) (by decide) (by decide +kernel) (by decide +kernel) (Nat.le_of_ble_eq_true rfl) (by omega) ⟨(by omega), (by omega)⟩ (fun qz62 => ?_)
            refine zt_catch X Y [] (34, 79, 170, 173) [(80, 94, 170, 173), (95, 109, 170, 173), (110, 124, 170, 173), (125, 139, 170, 173), (140, 154, 170, 173), (155, 169, 170, 173), (34, 79, 179, 144), (80, 94, 179, 144), (95, 109, 179, 144), (110, 124, 179, 144), (125, 139, 179, 144), (140, 154, 179, 144), (155, 169, 179, 144), (34, 79, 188, 122), (80, 94, 188, 122), (95, 109, 188, 122), (110, 124, 188, 122), (125, 139, 188, 122), (140, 154, 188, 122), (155, 169, 188, 122)] rfl zp_n rfl (by decide) q579 q591 rfl ?_
            refine z_astore (lv2 := [(4, .ref (qz62)), (3, .ref (xa (40 + sN))), (0, .ref (xa 0)), (1, .int (nI (sN))), (2, .int (nI (0)))]) X dX0_says_170 (Nat.le_of_ble_eq_true rfl) rfl ?_
            refine z_aload_n X dX0_says_172 rfl 2 rfl ?_
            refine z_bipush (v := (-3)) X dX0_says_173 (by decide) ?_
            refine z_ci (z_runV (rest := []) (n := 1) X [.int ((-3))] (m_X0_no_3 hX) dX0_says_175 hX.ob rfl (lw_V q350 q352 qs2 q66 q353) hv_X0_no rfl ⟨Nat.le_of_ble_eq_true rfl, Nat.le_of_ble_eq_true rfl⟩ ⟨by omega, by omega⟩ rfl (Nat.le_of_ble_eq_true rfl)) (fun r63 w65 h64 => ?_)
            obtain ⟨r63e, hX64⟩ := h64
            rw [r63e]
            have hcond : o.2.2.2.1 0 sN = 1 ∨ (o.2.2.2.1 0 sN = 2 ∧ under (o.2.2.2.1 3 sN) 0 = false) := Or.inl hk9
            have e : spSays o (nI sN) (nI 0) = ((-3), oRef o 3) := by
              unfold spSays
              repeat (first | rw [el_some (by assumption)] | rw [el_none (by assumption)])
              rw [if_pos hcond]
              repeat (first | rw [if_pos (by omega)] | rw [if_neg (by omega)])
              all_goals first | rfl | (exfalso; omega)
            exact z_iret X dX0_says_178 (by omega) (by omega) ⟨_, rfl, (by rw [e]; exact ⟨⟨_, _, rfl, hX64⟩, rfl⟩)⟩
          · skip
            refine z_tabIn (off := 45) (tgt := 80) X dX0_says_35 (by decide) (by decide) (by decide) (by decide) ?_
            refine z_aload_n X dX0_says_80 rfl 0 rfl ?_
            refine zt_castNo X V (Is.arr X hr6 (fun _ h => nmA_short h)) dX0_says_81 q512 [true, false, false, true, false, false, false, true, true, true] rfl (by decide) (by decide) (by decide +kernel) (by decide +kernel) (Nat.le_of_ble_eq_true rfl) (by omega) ⟨(by omega), (by omega)⟩ (fun qz66 => ?_)
            refine zt_catch X Y [(34, 79, 170, 173)] (80, 94, 170, 173) [(95, 109, 170, 173), (110, 124, 170, 173), (125, 139, 170, 173), (140, 154, 170, 173), (155, 169, 170, 173), (34, 79, 179, 144), (80, 94, 179, 144), (95, 109, 179, 144), (110, 124, 179, 144), (125, 139, 179, 144), (140, 154, 179, 144), (155, 169, 179, 144), (34, 79, 188, 122), (80, 94, 188, 122), (95, 109, 188, 122), (110, 124, 188, 122), (125, 139, 188, 122), (140, 154, 188, 122), (155, 169, 188, 122)] rfl (zp_c (zp_f rfl) zp_n) rfl (by decide) q579 q591 rfl ?_
            refine z_astore (lv2 := [(4, .ref (qz66)), (3, .ref (xa (40 + sN))), (0, .ref (xa 0)), (1, .int (nI (sN))), (2, .int (nI (1)))]) X dX0_says_170 (Nat.le_of_ble_eq_true rfl) rfl ?_
            refine z_aload_n X dX0_says_172 rfl 2 rfl ?_
            refine z_bipush (v := (-3)) X dX0_says_173 (by decide) ?_
            refine z_ci (z_runV (rest := []) (n := 1) X [.int ((-3))] (m_X0_no_3 hX) dX0_says_175 hX.ob rfl (lw_V q350 q352 qs2 q66 q353) hv_X0_no rfl ⟨Nat.le_of_ble_eq_true rfl, Nat.le_of_ble_eq_true rfl⟩ ⟨by omega, by omega⟩ rfl (Nat.le_of_ble_eq_true rfl)) (fun r67 w69 h68 => ?_)
            obtain ⟨r67e, hX68⟩ := h68
            rw [r67e]
            have hcond : o.2.2.2.1 0 sN = 1 ∨ (o.2.2.2.1 0 sN = 2 ∧ under (o.2.2.2.1 3 sN) 1 = false) := Or.inl hk9
            have e : spSays o (nI sN) (nI 1) = ((-3), oRef o 3) := by
              unfold spSays
              repeat (first | rw [el_some (by assumption)] | rw [el_none (by assumption)])
              rw [if_pos hcond]
              repeat (first | rw [if_pos (by omega)] | rw [if_neg (by omega)])
              all_goals first | rfl | (exfalso; omega)
            exact z_iret X dX0_says_178 (by omega) (by omega) ⟨_, rfl, (by rw [e]; exact ⟨⟨_, _, rfl, hX68⟩, rfl⟩)⟩
          · skip
            refine z_tabIn (off := 60) (tgt := 95) X dX0_says_35 (by decide) (by decide) (by decide) (by decide) ?_
            refine z_aload_n X dX0_says_95 rfl 0 rfl ?_
            refine zt_castNo X V (Is.arr X hr6 (fun _ h => nmA_short h)) dX0_says_96 q532 [true, false, false, true, false, true, false, false, true, false] rfl (by decide) (by decide) (by decide +kernel) (by decide +kernel) (Nat.le_of_ble_eq_true rfl) (by omega) ⟨(by omega), (by omega)⟩ (fun qz70 => ?_)
            refine zt_catch X Y [(34, 79, 170, 173), (80, 94, 170, 173)] (95, 109, 170, 173) [(110, 124, 170, 173), (125, 139, 170, 173), (140, 154, 170, 173), (155, 169, 170, 173), (34, 79, 179, 144), (80, 94, 179, 144), (95, 109, 179, 144), (110, 124, 179, 144), (125, 139, 179, 144), (140, 154, 179, 144), (155, 169, 179, 144), (34, 79, 188, 122), (80, 94, 188, 122), (95, 109, 188, 122), (110, 124, 188, 122), (125, 139, 188, 122), (140, 154, 188, 122), (155, 169, 188, 122)] rfl (zp_c (zp_f rfl) (zp_c (zp_f rfl) zp_n)) rfl (by decide) q579 q591 rfl ?_
            refine z_astore (lv2 := [(4, .ref (qz70)), (3, .ref (xa (40 + sN))), (0, .ref (xa 0)), (1, .int (nI (sN))), (2, .int (nI (2)))]) X dX0_says_170 (Nat.le_of_ble_eq_true rfl) rfl ?_
            refine z_aload_n X dX0_says_172 rfl 2 rfl ?_
            refine z_bipush (v := (-3)) X dX0_says_173 (by decide) ?_
            refine z_ci (z_runV (rest := []) (n := 1) X [.int ((-3))] (m_X0_no_3 hX) dX0_says_175 hX.ob rfl (lw_V q350 q352 qs2 q66 q353) hv_X0_no rfl ⟨Nat.le_of_ble_eq_true rfl, Nat.le_of_ble_eq_true rfl⟩ ⟨by omega, by omega⟩ rfl (Nat.le_of_ble_eq_true rfl)) (fun r71 w73 h72 => ?_)
            obtain ⟨r71e, hX72⟩ := h72
            rw [r71e]
            have hcond : o.2.2.2.1 0 sN = 1 ∨ (o.2.2.2.1 0 sN = 2 ∧ under (o.2.2.2.1 3 sN) 2 = false) := Or.inl hk9
            have e : spSays o (nI sN) (nI 2) = ((-3), oRef o 3) := by
              unfold spSays
              repeat (first | rw [el_some (by assumption)] | rw [el_none (by assumption)])
              rw [if_pos hcond]
              repeat (first | rw [if_pos (by omega)] | rw [if_neg (by omega)])
              all_goals first | rfl | (exfalso; omega)
            exact z_iret X dX0_says_178 (by omega) (by omega) ⟨_, rfl, (by rw [e]; exact ⟨⟨_, _, rfl, hX72⟩, rfl⟩)⟩
          · skip
            refine z_tabIn (off := 75) (tgt := 110) X dX0_says_35 (by decide) (by decide) (by decide) (by decide) ?_
            refine z_aload_n X dX0_says_110 rfl 0 rfl ?_
            refine zt_castNo X V (Is.arr X hr6 (fun _ h => nmA_short h)) dX0_says_111 q540 [true, false, false, true, false, true, true, true, false, false] rfl (by decide) (by decide) (by decide +kernel) (by decide +kernel) (Nat.le_of_ble_eq_true rfl) (by omega) ⟨(by omega), (by omega)⟩ (fun qz74 => ?_)
            refine zt_catch X Y [(34, 79, 170, 173), (80, 94, 170, 173), (95, 109, 170, 173)] (110, 124, 170, 173) [(125, 139, 170, 173), (140, 154, 170, 173), (155, 169, 170, 173), (34, 79, 179, 144), (80, 94, 179, 144), (95, 109, 179, 144), (110, 124, 179, 144), (125, 139, 179, 144), (140, 154, 179, 144), (155, 169, 179, 144), (34, 79, 188, 122), (80, 94, 188, 122), (95, 109, 188, 122), (110, 124, 188, 122), (125, 139, 188, 122), (140, 154, 188, 122), (155, 169, 188, 122)] rfl (zp_c (zp_f rfl) (zp_c (zp_f rfl) (zp_c (zp_f rfl) zp_n))) rfl (by decide) q579 q591 rfl ?_
            refine z_astore (lv2 := [(4, .ref (qz74)), (3, .ref (xa (40 + sN))), (0, .ref (xa 0)), (1, .int (nI (sN))), (2, .int (nI (3)))]) X dX0_says_170 (Nat.le_of_ble_eq_true rfl) rfl ?_
            refine z_aload_n X dX0_says_172 rfl 2 rfl ?_
            refine z_bipush (v := (-3)) X dX0_says_173 (by decide) ?_
            refine z_ci (z_runV (rest := []) (n := 1) X [.int ((-3))] (m_X0_no_3 hX) dX0_says_175 hX.ob rfl (lw_V q350 q352 qs2 q66 q353) hv_X0_no rfl ⟨Nat.le_of_ble_eq_true rfl, Nat.le_of_ble_eq_true rfl⟩ ⟨by omega, by omega⟩ rfl (Nat.le_of_ble_eq_true rfl)) (fun r75 w77 h76 => ?_)
            obtain ⟨r75e, hX76⟩ := h76
            rw [r75e]
            have hcond : o.2.2.2.1 0 sN = 1 ∨ (o.2.2.2.1 0 sN = 2 ∧ under (o.2.2.2.1 3 sN) 3 = false) := Or.inl hk9
            have e : spSays o (nI sN) (nI 3) = ((-3), oRef o 3) := by
              unfold spSays
              repeat (first | rw [el_some (by assumption)] | rw [el_none (by assumption)])
              rw [if_pos hcond]
              repeat (first | rw [if_pos (by omega)] | rw [if_neg (by omega)])
              all_goals first | rfl | (exfalso; omega)
            exact z_iret X dX0_says_178 (by omega) (by omega) ⟨_, rfl, (by rw [e]; exact ⟨⟨_, _, rfl, hX76⟩, rfl⟩)⟩
          · skip
            refine z_tabIn (off := 90) (tgt := 125) X dX0_says_35 (by decide) (by decide) (by decide) (by decide) ?_
            refine z_aload_n X dX0_says_125 rfl 0 rfl ?_
            refine zt_castNo X V (Is.arr X hr6 (fun _ h => nmA_short h)) dX0_says_126 q548 [true, false, false, true, true, false, false, true, true, true] rfl (by decide) (by decide) (by decide +kernel) (by decide +kernel) (Nat.le_of_ble_eq_true rfl) (by omega) ⟨(by omega), (by omega)⟩ (fun qz78 => ?_)
            refine zt_catch X Y [(34, 79, 170, 173), (80, 94, 170, 173), (95, 109, 170, 173), (110, 124, 170, 173)] (125, 139, 170, 173) [(140, 154, 170, 173), (155, 169, 170, 173), (34, 79, 179, 144), (80, 94, 179, 144), (95, 109, 179, 144), (110, 124, 179, 144), (125, 139, 179, 144), (140, 154, 179, 144), (155, 169, 179, 144), (34, 79, 188, 122), (80, 94, 188, 122), (95, 109, 188, 122), (110, 124, 188, 122), (125, 139, 188, 122), (140, 154, 188, 122), (155, 169, 188, 122)] rfl (zp_c (zp_f rfl) (zp_c (zp_f rfl) (zp_c (zp_f rfl) (zp_c (zp_f rfl) zp_n)))) rfl (by decide) q579 q591 rfl ?_
            refine z_astore (lv2 := [(4, .ref (qz78)), (3, .ref (xa (40 + sN))), (0, .ref (xa 0)), (1, .int (nI (sN))), (2, .int (nI (4)))]) X dX0_says_170 (Nat.le_of_ble_eq_true rfl) rfl ?_
            refine z_aload_n X dX0_says_172 rfl 2 rfl ?_
            refine z_bipush (v := (-3)) X dX0_says_173 (by decide) ?_
            refine z_ci (z_runV (rest := []) (n := 1) X [.int ((-3))] (m_X0_no_3 hX) dX0_says_175 hX.ob rfl (lw_V q350 q352 qs2 q66 q353) hv_X0_no rfl ⟨Nat.le_of_ble_eq_true rfl, Nat.le_of_ble_eq_true rfl⟩ ⟨by omega, by omega⟩ rfl (Nat.le_of_ble_eq_true rfl)) (fun r79 w81 h80 => ?_)
            obtain ⟨r79e, hX80⟩ := h80
            rw [r79e]
            have hcond : o.2.2.2.1 0 sN = 1 ∨ (o.2.2.2.1 0 sN = 2 ∧ under (o.2.2.2.1 3 sN) 4 = false) := Or.inl hk9
            have e : spSays o (nI sN) (nI 4) = ((-3), oRef o 3) := by
              unfold spSays
              repeat (first | rw [el_some (by assumption)] | rw [el_none (by assumption)])
              rw [if_pos hcond]
              repeat (first | rw [if_pos (by omega)] | rw [if_neg (by omega)])
              all_goals first | rfl | (exfalso; omega)
            exact z_iret X dX0_says_178 (by omega) (by omega) ⟨_, rfl, (by rw [e]; exact ⟨⟨_, _, rfl, hX80⟩, rfl⟩)⟩
          · skip
            refine z_tabIn (off := 105) (tgt := 140) X dX0_says_35 (by decide) (by decide) (by decide) (by decide) ?_
            refine z_aload_n X dX0_says_140 rfl 0 rfl ?_
            refine zt_castNo X V (Is.arr X hr6 (fun _ h => nmA_short h)) dX0_says_141 q556 [true, false, false, true, true, true, false, false, false, true] rfl (by decide) (by decide) (by decide +kernel) (by decide +kernel) (Nat.le_of_ble_eq_true rfl) (by omega) ⟨(by omega), (by omega)⟩ (fun qz82 => ?_)
            refine zt_catch X Y [(34, 79, 170, 173), (80, 94, 170, 173), (95, 109, 170, 173), (110, 124, 170, 173), (125, 139, 170, 173)] (140, 154, 170, 173) [(155, 169, 170, 173), (34, 79, 179, 144), (80, 94, 179, 144), (95, 109, 179, 144), (110, 124, 179, 144), (125, 139, 179, 144), (140, 154, 179, 144), (155, 169, 179, 144), (34, 79, 188, 122), (80, 94, 188, 122), (95, 109, 188, 122), (110, 124, 188, 122), (125, 139, 188, 122), (140, 154, 188, 122), (155, 169, 188, 122)] rfl (zp_c (zp_f rfl) (zp_c (zp_f rfl) (zp_c (zp_f rfl) (zp_c (zp_f rfl) (zp_c (zp_f rfl) zp_n))))) rfl (by decide) q579 q591 rfl ?_
            refine z_astore (lv2 := [(4, .ref (qz82)), (3, .ref (xa (40 + sN))), (0, .ref (xa 0)), (1, .int (nI (sN))), (2, .int (nI (5)))]) X dX0_says_170 (Nat.le_of_ble_eq_true rfl) rfl ?_
            refine z_aload_n X dX0_says_172 rfl 2 rfl ?_
            refine z_bipush (v := (-3)) X dX0_says_173 (by decide) ?_
            refine z_ci (z_runV (rest := []) (n := 1) X [.int ((-3))] (m_X0_no_3 hX) dX0_says_175 hX.ob rfl (lw_V q350 q352 qs2 q66 q353) hv_X0_no rfl ⟨Nat.le_of_ble_eq_true rfl, Nat.le_of_ble_eq_true rfl⟩ ⟨by omega, by omega⟩ rfl (Nat.le_of_ble_eq_true rfl)) (fun r83 w85 h84 => ?_)
            obtain ⟨r83e, hX84⟩ := h84
            rw [r83e]
            have hcond : o.2.2.2.1 0 sN = 1 ∨ (o.2.2.2.1 0 sN = 2 ∧ under (o.2.2.2.1 3 sN) 5 = false) := Or.inl hk9
            have e : spSays o (nI sN) (nI 5) = ((-3), oRef o 3) := by
              unfold spSays
              repeat (first | rw [el_some (by assumption)] | rw [el_none (by assumption)])
              rw [if_pos hcond]
              repeat (first | rw [if_pos (by omega)] | rw [if_neg (by omega)])
              all_goals first | rfl | (exfalso; omega)
            exact z_iret X dX0_says_178 (by omega) (by omega) ⟨_, rfl, (by rw [e]; exact ⟨⟨_, _, rfl, hX84⟩, rfl⟩)⟩
          · skip
            refine z_tabOut (tgt := 155) X dX0_says_35 (by decide) (by decide) ?_
            refine z_aload_n X dX0_says_155 rfl 0 rfl ?_
            refine zt_castNo X V (Is.arr X hr6 (fun _ h => nmA_short h)) dX0_says_156 q564 [true, false, false, true, true, true, true, false, true, true] rfl (by decide) (by decide) (by decide +kernel) (by decide +kernel) (Nat.le_of_ble_eq_true rfl) (by omega) ⟨(by omega), (by omega)⟩ (fun qz86 => ?_)
            refine zt_catch X Y [(34, 79, 170, 173), (80, 94, 170, 173), (95, 109, 170, 173), (110, 124, 170, 173), (125, 139, 170, 173), (140, 154, 170, 173)] (155, 169, 170, 173) [(34, 79, 179, 144), (80, 94, 179, 144), (95, 109, 179, 144), (110, 124, 179, 144), (125, 139, 179, 144), (140, 154, 179, 144), (155, 169, 179, 144), (34, 79, 188, 122), (80, 94, 188, 122), (95, 109, 188, 122), (110, 124, 188, 122), (125, 139, 188, 122), (140, 154, 188, 122), (155, 169, 188, 122)] rfl (zp_c (zp_f rfl) (zp_c (zp_f rfl) (zp_c (zp_f rfl) (zp_c (zp_f rfl) (zp_c (zp_f rfl) (zp_c (zp_f rfl) zp_n)))))) rfl (by decide) q579 q591 rfl ?_
            refine z_astore (lv2 := [(4, .ref (qz86)), (3, .ref (xa (40 + sN))), (0, .ref (xa 0)), (1, .int (nI (sN))), (2, .int (nI (6)))]) X dX0_says_170 (Nat.le_of_ble_eq_true rfl) rfl ?_
            refine z_aload_n X dX0_says_172 rfl 2 rfl ?_
            refine z_bipush (v := (-3)) X dX0_says_173 (by decide) ?_
            refine z_ci (z_runV (rest := []) (n := 1) X [.int ((-3))] (m_X0_no_3 hX) dX0_says_175 hX.ob rfl (lw_V q350 q352 qs2 q66 q353) hv_X0_no rfl ⟨Nat.le_of_ble_eq_true rfl, Nat.le_of_ble_eq_true rfl⟩ ⟨by omega, by omega⟩ rfl (Nat.le_of_ble_eq_true rfl)) (fun r87 w89 h88 => ?_)
            obtain ⟨r87e, hX88⟩ := h88
            rw [r87e]
            have hcond : o.2.2.2.1 0 sN = 1 ∨ (o.2.2.2.1 0 sN = 2 ∧ under (o.2.2.2.1 3 sN) 6 = false) := Or.inl hk9
            have e : spSays o (nI sN) (nI 6) = ((-3), oRef o 3) := by
              unfold spSays
              repeat (first | rw [el_some (by assumption)] | rw [el_none (by assumption)])
              rw [if_pos hcond]
              repeat (first | rw [if_pos (by omega)] | rw [if_neg (by omega)])
              all_goals first | rfl | (exfalso; omega)
            exact z_iret X dX0_says_178 (by omega) (by omega) ⟨_, rfl, (by rw [e]; exact ⟨⟨_, _, rfl, hX88⟩, rfl⟩)⟩
        · have hr6 : w (xa (40 + sN)) = some (.inl (G.2.1 0, o.2.2.2.1 2 sN, .inl (fun j => (f9 j).toInt32))) := by rw [h6] at hr9; exact hr9
          refine z_iload_n X dX0_says_34 rfl 3 rfl ?_
          rcases (show kN = 0 ∨ kN = 1 ∨ kN = 2 ∨ kN = 3 ∨ kN = 4 ∨ kN = 5 ∨ kN = 6 by omega) with rfl | rfl | rfl | rfl | rfl | rfl | rfl
          · skip
            refine z_tabIn (off := 37) (tgt := 72) X dX0_says_35 (by decide) (by decide) (by decide) (by decide) ?_
            refine z_aload_n X dX0_says_72 rfl 0 rfl ?_
            refine zt_castNo X V (Is.arr X hr6 (fun _ h => nmA_int h)) dX0_says_73 q388 [false, true, true, false, false, false, true, false, true, false] rfl (by decide) (by decide) (by decide +kernel) (by decide +kernel) (Nat.le_of_ble_eq_true rfl) (by omega) ⟨(by omega), (by omega)⟩ (fun qz90 => ?_)
            refine zt_catch X Y [] (34, 79, 170, 173) [(80, 94, 170, 173), (95, 109, 170, 173), (110, 124, 170, 173), (125, 139, 170, 173), (140, 154, 170, 173), (155, 169, 170, 173), (34, 79, 179, 144), (80, 94, 179, 144), (95, 109, 179, 144), (110, 124, 179, 144), (125, 139, 179, 144), (140, 154, 179, 144), (155, 169, 179, 144), (34, 79, 188, 122), (80, 94, 188, 122), (95, 109, 188, 122), (110, 124, 188, 122), (125, 139, 188, 122), (140, 154, 188, 122), (155, 169, 188, 122)] rfl zp_n rfl (by decide) q579 q591 rfl ?_
            refine z_astore (lv2 := [(4, .ref (qz90)), (3, .ref (xa (40 + sN))), (0, .ref (xa 0)), (1, .int (nI (sN))), (2, .int (nI (0)))]) X dX0_says_170 (Nat.le_of_ble_eq_true rfl) rfl ?_
            refine z_aload_n X dX0_says_172 rfl 2 rfl ?_
            refine z_bipush (v := (-3)) X dX0_says_173 (by decide) ?_
            refine z_ci (z_runV (rest := []) (n := 1) X [.int ((-3))] (m_X0_no_3 hX) dX0_says_175 hX.ob rfl (lw_V q350 q352 qs2 q66 q353) hv_X0_no rfl ⟨Nat.le_of_ble_eq_true rfl, Nat.le_of_ble_eq_true rfl⟩ ⟨by omega, by omega⟩ rfl (Nat.le_of_ble_eq_true rfl)) (fun r91 w93 h92 => ?_)
            obtain ⟨r91e, hX92⟩ := h92
            rw [r91e]
            have hcond : o.2.2.2.1 0 sN = 1 ∨ (o.2.2.2.1 0 sN = 2 ∧ under (o.2.2.2.1 3 sN) 0 = false) := Or.inl hk9
            have e : spSays o (nI sN) (nI 0) = ((-3), oRef o 3) := by
              unfold spSays
              repeat (first | rw [el_some (by assumption)] | rw [el_none (by assumption)])
              rw [if_pos hcond]
              repeat (first | rw [if_pos (by omega)] | rw [if_neg (by omega)])
              all_goals first | rfl | (exfalso; omega)
            exact z_iret X dX0_says_178 (by omega) (by omega) ⟨_, rfl, (by rw [e]; exact ⟨⟨_, _, rfl, hX92⟩, rfl⟩)⟩
          · skip
            refine z_tabIn (off := 45) (tgt := 80) X dX0_says_35 (by decide) (by decide) (by decide) (by decide) ?_
            refine z_aload_n X dX0_says_80 rfl 0 rfl ?_
            refine zt_castNo X V (Is.arr X hr6 (fun _ h => nmA_int h)) dX0_says_81 q512 [true, false, false, true, false, false, false, true, false, false] rfl (by decide) (by decide) (by decide +kernel) (by decide +kernel) (Nat.le_of_ble_eq_true rfl) (by omega) ⟨(by omega), (by omega)⟩ (fun qz94 => ?_)
            refine zt_catch X Y [(34, 79, 170, 173)] (80, 94, 170, 173) [(95, 109, 170, 173), (110, 124, 170, 173), (125, 139, 170, 173), (140, 154, 170, 173), (155, 169, 170, 173), (34, 79, 179, 144), (80, 94, 179, 144), (95, 109, 179, 144), (110, 124, 179, 144), (125, 139, 179, 144), (140, 154, 179, 144), (155, 169, 179, 144), (34, 79, 188, 122), (80, 94, 188, 122), (95, 109, 188, 122), (110, 124, 188, 122), (125, 139, 188, 122), (140, 154, 188, 122), (155, 169, 188, 122)] rfl (zp_c (zp_f rfl) zp_n) rfl (by decide) q579 q591 rfl ?_
            refine z_astore (lv2 := [(4, .ref (qz94)), (3, .ref (xa (40 + sN))), (0, .ref (xa 0)), (1, .int (nI (sN))), (2, .int (nI (1)))]) X dX0_says_170 (Nat.le_of_ble_eq_true rfl) rfl ?_
            refine z_aload_n X dX0_says_172 rfl 2 rfl ?_
            refine z_bipush (v := (-3)) X dX0_says_173 (by decide) ?_
            refine z_ci (z_runV (rest := []) (n := 1) X [.int ((-3))] (m_X0_no_3 hX) dX0_says_175 hX.ob rfl (lw_V q350 q352 qs2 q66 q353) hv_X0_no rfl ⟨Nat.le_of_ble_eq_true rfl, Nat.le_of_ble_eq_true rfl⟩ ⟨by omega, by omega⟩ rfl (Nat.le_of_ble_eq_true rfl)) (fun r95 w97 h96 => ?_)
            obtain ⟨r95e, hX96⟩ := h96
            rw [r95e]
            have hcond : o.2.2.2.1 0 sN = 1 ∨ (o.2.2.2.1 0 sN = 2 ∧ under (o.2.2.2.1 3 sN) 1 = false) := Or.inl hk9
            have e : spSays o (nI sN) (nI 1) = ((-3), oRef o 3) := by
              unfold spSays
              repeat (first | rw [el_some (by assumption)] | rw [el_none (by assumption)])
              rw [if_pos hcond]
              repeat (first | rw [if_pos (by omega)] | rw [if_neg (by omega)])
              all_goals first | rfl | (exfalso; omega)
            exact z_iret X dX0_says_178 (by omega) (by omega) ⟨_, rfl, (by rw [e]; exact ⟨⟨_, _, rfl, hX96⟩, rfl⟩)⟩
          · skip
            refine z_tabIn (off := 60) (tgt := 95) X dX0_says_35 (by decide) (by decide) (by decide) (by decide) ?_
            refine z_aload_n X dX0_says_95 rfl 0 rfl ?_
            refine zt_castNo X V (Is.arr X hr6 (fun _ h => nmA_int h)) dX0_says_96 q532 [true, false, false, true, false, false, true, true, true, false] rfl (by decide) (by decide) (by decide +kernel) (by decide +kernel) (Nat.le_of_ble_eq_true rfl) (by omega) ⟨(by omega), (by omega)⟩ (fun qz98 => ?_)
            refine zt_catch X Y [(34, 79, 170, 173), (80, 94, 170, 173)] (95, 109, 170, 173) [(110, 124, 170, 173), (125, 139, 170, 173), (140, 154, 170, 173), (155, 169, 170, 173), (34, 79, 179, 144), (80, 94, 179, 144), (95, 109, 179, 144), (110, 124, 179, 144), (125, 139, 179, 144), (140, 154, 179, 144), (155, 169, 179, 144), (34, 79, 188, 122), (80, 94, 188, 122), (95, 109, 188, 122), (110, 124, 188, 122), (125, 139, 188, 122), (140, 154, 188, 122), (155, 169, 188, 122)] rfl (zp_c (zp_f rfl) (zp_c (zp_f rfl) zp_n)) rfl (by decide) q579 q591 rfl ?_
            refine z_astore (lv2 := [(4, .ref (qz98)), (3, .ref (xa (40 + sN))), (0, .ref (xa 0)), (1, .int (nI (sN))), (2, .int (nI (2)))]) X dX0_says_170 (Nat.le_of_ble_eq_true rfl) rfl ?_
            refine z_aload_n X dX0_says_172 rfl 2 rfl ?_
            refine z_bipush (v := (-3)) X dX0_says_173 (by decide) ?_
            refine z_ci (z_runV (rest := []) (n := 1) X [.int ((-3))] (m_X0_no_3 hX) dX0_says_175 hX.ob rfl (lw_V q350 q352 qs2 q66 q353) hv_X0_no rfl ⟨Nat.le_of_ble_eq_true rfl, Nat.le_of_ble_eq_true rfl⟩ ⟨by omega, by omega⟩ rfl (Nat.le_of_ble_eq_true rfl)) (fun r99 w101 h100 => ?_)
            obtain ⟨r99e, hX100⟩ := h100
            rw [r99e]
            have hcond : o.2.2.2.1 0 sN = 1 ∨ (o.2.2.2.1 0 sN = 2 ∧ under (o.2.2.2.1 3 sN) 2 = false) := Or.inl hk9
            have e : spSays o (nI sN) (nI 2) = ((-3), oRef o 3) := by
              unfold spSays
              repeat (first | rw [el_some (by assumption)] | rw [el_none (by assumption)])
              rw [if_pos hcond]
              repeat (first | rw [if_pos (by omega)] | rw [if_neg (by omega)])
              all_goals first | rfl | (exfalso; omega)
            exact z_iret X dX0_says_178 (by omega) (by omega) ⟨_, rfl, (by rw [e]; exact ⟨⟨_, _, rfl, hX100⟩, rfl⟩)⟩
          · skip
            refine z_tabIn (off := 75) (tgt := 110) X dX0_says_35 (by decide) (by decide) (by decide) (by decide) ?_
            refine z_aload_n X dX0_says_110 rfl 0 rfl ?_
            refine zt_castNo X V (Is.arr X hr6 (fun _ h => nmA_int h)) dX0_says_111 q540 [true, false, false, true, false, true, true, false, false, true] rfl (by decide) (by decide) (by decide +kernel) (by decide +kernel) (Nat.le_of_ble_eq_true rfl) (by omega) ⟨(by omega), (by omega)⟩ (fun qz102 => ?_)
            refine zt_catch X Y [(34, 79, 170, 173), (80, 94, 170, 173), (95, 109, 170, 173)] (110, 124, 170, 173) [(125, 139, 170, 173), (140, 154, 170, 173), (155, 169, 170, 173), (34, 79, 179, 144), (80, 94, 179, 144), (95, 109, 179, 144), (110, 124, 179, 144), (125, 139, 179, 144), (140, 154, 179, 144), (155, 169, 179, 144), (34, 79, 188, 122), (80, 94, 188, 122), (95, 109, 188, 122), (110, 124, 188, 122), (125, 139, 188, 122), (140, 154, 188, 122), (155, 169, 188, 122)] rfl (zp_c (zp_f rfl) (zp_c (zp_f rfl) (zp_c (zp_f rfl) zp_n))) rfl (by decide) q579 q591 rfl ?_
            refine z_astore (lv2 := [(4, .ref (qz102)), (3, .ref (xa (40 + sN))), (0, .ref (xa 0)), (1, .int (nI (sN))), (2, .int (nI (3)))]) X dX0_says_170 (Nat.le_of_ble_eq_true rfl) rfl ?_
            refine z_aload_n X dX0_says_172 rfl 2 rfl ?_
            refine z_bipush (v := (-3)) X dX0_says_173 (by decide) ?_
            refine z_ci (z_runV (rest := []) (n := 1) X [.int ((-3))] (m_X0_no_3 hX) dX0_says_175 hX.ob rfl (lw_V q350 q352 qs2 q66 q353) hv_X0_no rfl ⟨Nat.le_of_ble_eq_true rfl, Nat.le_of_ble_eq_true rfl⟩ ⟨by omega, by omega⟩ rfl (Nat.le_of_ble_eq_true rfl)) (fun r103 w105 h104 => ?_)
            obtain ⟨r103e, hX104⟩ := h104
            rw [r103e]
            have hcond : o.2.2.2.1 0 sN = 1 ∨ (o.2.2.2.1 0 sN = 2 ∧ under (o.2.2.2.1 3 sN) 3 = false) := Or.inl hk9
            have e : spSays o (nI sN) (nI 3) = ((-3), oRef o 3) := by
              unfold spSays
              repeat (first | rw [el_some (by assumption)] | rw [el_none (by assumption)])
              rw [if_pos hcond]
              repeat (first | rw [if_pos (by omega)] | rw [if_neg (by omega)])
              all_goals first | rfl | (exfalso; omega)
            exact z_iret X dX0_says_178 (by omega) (by omega) ⟨_, rfl, (by rw [e]; exact ⟨⟨_, _, rfl, hX104⟩, rfl⟩)⟩
          · skip
            refine z_tabIn (off := 90) (tgt := 125) X dX0_says_35 (by decide) (by decide) (by decide) (by decide) ?_
            refine z_aload_n X dX0_says_125 rfl 0 rfl ?_
            refine zt_castNo X V (Is.arr X hr6 (fun _ h => nmA_int h)) dX0_says_126 q548 [true, false, false, true, true, false, false, true, false, false] rfl (by decide) (by decide) (by decide +kernel) (by decide +kernel) (Nat.le_of_ble_eq_true rfl) (by omega) ⟨(by omega), (by omega)⟩ (fun qz106 => ?_)
            refine zt_catch X Y [(34, 79, 170, 173), (80, 94, 170, 173), (95, 109, 170, 173), (110, 124, 170, 173)] (125, 139, 170, 173) [(140, 154, 170, 173), (155, 169, 170, 173), (34, 79, 179, 144), (80, 94, 179, 144), (95, 109, 179, 144), (110, 124, 179, 144), (125, 139, 179, 144), (140, 154, 179, 144), (155, 169, 179, 144), (34, 79, 188, 122), (80, 94, 188, 122), (95, 109, 188, 122), (110, 124, 188, 122), (125, 139, 188, 122), (140, 154, 188, 122), (155, 169, 188, 122)] rfl (zp_c (zp_f rfl) (zp_c (zp_f rfl) (zp_c (zp_f rfl) (zp_c (zp_f rfl) zp_n)))) rfl (by decide) q579 q591 rfl ?_
            refine z_astore (lv2 := [(4, .ref (qz106)), (3, .ref (xa (40 + sN))), (0, .ref (xa 0)), (1, .int (nI (sN))), (2, .int (nI (4)))]) X dX0_says_170 (Nat.le_of_ble_eq_true rfl) rfl ?_
            refine z_aload_n X dX0_says_172 rfl 2 rfl ?_
            refine z_bipush (v := (-3)) X dX0_says_173 (by decide) ?_
            refine z_ci (z_runV (rest := []) (n := 1) X [.int ((-3))] (m_X0_no_3 hX) dX0_says_175 hX.ob rfl (lw_V q350 q352 qs2 q66 q353) hv_X0_no rfl ⟨Nat.le_of_ble_eq_true rfl, Nat.le_of_ble_eq_true rfl⟩ ⟨by omega, by omega⟩ rfl (Nat.le_of_ble_eq_true rfl)) (fun r107 w109 h108 => ?_)
            obtain ⟨r107e, hX108⟩ := h108
            rw [r107e]
            have hcond : o.2.2.2.1 0 sN = 1 ∨ (o.2.2.2.1 0 sN = 2 ∧ under (o.2.2.2.1 3 sN) 4 = false) := Or.inl hk9
            have e : spSays o (nI sN) (nI 4) = ((-3), oRef o 3) := by
              unfold spSays
              repeat (first | rw [el_some (by assumption)] | rw [el_none (by assumption)])
              rw [if_pos hcond]
              repeat (first | rw [if_pos (by omega)] | rw [if_neg (by omega)])
              all_goals first | rfl | (exfalso; omega)
            exact z_iret X dX0_says_178 (by omega) (by omega) ⟨_, rfl, (by rw [e]; exact ⟨⟨_, _, rfl, hX108⟩, rfl⟩)⟩
          · skip
            refine z_tabIn (off := 105) (tgt := 140) X dX0_says_35 (by decide) (by decide) (by decide) (by decide) ?_
            refine z_aload_n X dX0_says_140 rfl 0 rfl ?_
            refine zt_castNo X V (Is.arr X hr6 (fun _ h => nmA_int h)) dX0_says_141 q556 [true, false, false, true, true, false, true, true, true, false] rfl (by decide) (by decide) (by decide +kernel) (by decide +kernel) (Nat.le_of_ble_eq_true rfl) (by omega) ⟨(by omega), (by omega)⟩ (fun qz110 => ?_)
            refine zt_catch X Y [(34, 79, 170, 173), (80, 94, 170, 173), (95, 109, 170, 173), (110, 124, 170, 173), (125, 139, 170, 173)] (140, 154, 170, 173) [(155, 169, 170, 173), (34, 79, 179, 144), (80, 94, 179, 144), (95, 109, 179, 144), (110, 124, 179, 144), (125, 139, 179, 144), (140, 154, 179, 144), (155, 169, 179, 144), (34, 79, 188, 122), (80, 94, 188, 122), (95, 109, 188, 122), (110, 124, 188, 122), (125, 139, 188, 122), (140, 154, 188, 122), (155, 169, 188, 122)] rfl (zp_c (zp_f rfl) (zp_c (zp_f rfl) (zp_c (zp_f rfl) (zp_c (zp_f rfl) (zp_c (zp_f rfl) zp_n))))) rfl (by decide) q579 q591 rfl ?_
            refine z_astore (lv2 := [(4, .ref (qz110)), (3, .ref (xa (40 + sN))), (0, .ref (xa 0)), (1, .int (nI (sN))), (2, .int (nI (5)))]) X dX0_says_170 (Nat.le_of_ble_eq_true rfl) rfl ?_
            refine z_aload_n X dX0_says_172 rfl 2 rfl ?_
            refine z_bipush (v := (-3)) X dX0_says_173 (by decide) ?_
            refine z_ci (z_runV (rest := []) (n := 1) X [.int ((-3))] (m_X0_no_3 hX) dX0_says_175 hX.ob rfl (lw_V q350 q352 qs2 q66 q353) hv_X0_no rfl ⟨Nat.le_of_ble_eq_true rfl, Nat.le_of_ble_eq_true rfl⟩ ⟨by omega, by omega⟩ rfl (Nat.le_of_ble_eq_true rfl)) (fun r111 w113 h112 => ?_)
            obtain ⟨r111e, hX112⟩ := h112
            rw [r111e]
            have hcond : o.2.2.2.1 0 sN = 1 ∨ (o.2.2.2.1 0 sN = 2 ∧ under (o.2.2.2.1 3 sN) 5 = false) := Or.inl hk9
            have e : spSays o (nI sN) (nI 5) = ((-3), oRef o 3) := by
              unfold spSays
              repeat (first | rw [el_some (by assumption)] | rw [el_none (by assumption)])
              rw [if_pos hcond]
              repeat (first | rw [if_pos (by omega)] | rw [if_neg (by omega)])
              all_goals first | rfl | (exfalso; omega)
            exact z_iret X dX0_says_178 (by omega) (by omega) ⟨_, rfl, (by rw [e]; exact ⟨⟨_, _, rfl, hX112⟩, rfl⟩)⟩
          · skip
            refine z_tabOut (tgt := 155) X dX0_says_35 (by decide) (by decide) ?_
            refine z_aload_n X dX0_says_155 rfl 0 rfl ?_
            refine zt_castNo X V (Is.arr X hr6 (fun _ h => nmA_int h)) dX0_says_156 q564 [true, false, false, true, true, true, true, false, false, false] rfl (by decide) (by decide) (by decide +kernel) (by decide +kernel) (Nat.le_of_ble_eq_true rfl) (by omega) ⟨(by omega), (by omega)⟩ (fun qz114 => ?_)
            refine zt_catch X Y [(34, 79, 170, 173), (80, 94, 170, 173), (95, 109, 170, 173), (110, 124, 170, 173), (125, 139, 170, 173), (140, 154, 170, 173)] (155, 169, 170, 173) [(34, 79, 179, 144), (80, 94, 179, 144), (95, 109, 179, 144), (110, 124, 179, 144), (125, 139, 179, 144), (140, 154, 179, 144), (155, 169, 179, 144), (34, 79, 188, 122), (80, 94, 188, 122), (95, 109, 188, 122), (110, 124, 188, 122), (125, 139, 188, 122), (140, 154, 188, 122), (155, 169, 188, 122)] rfl (zp_c (zp_f rfl) (zp_c (zp_f rfl) (zp_c (zp_f rfl) (zp_c (zp_f rfl) (zp_c (zp_f rfl) (zp_c (zp_f rfl) zp_n)))))) rfl (by decide) q579 q591 rfl ?_
            refine z_astore (lv2 := [(4, .ref (qz114)), (3, .ref (xa (40 + sN))), (0, .ref (xa 0)), (1, .int (nI (sN))), (2, .int (nI (6)))]) X dX0_says_170 (Nat.le_of_ble_eq_true rfl) rfl ?_
            refine z_aload_n X dX0_says_172 rfl 2 rfl ?_
            refine z_bipush (v := (-3)) X dX0_says_173 (by decide) ?_
            refine z_ci (z_runV (rest := []) (n := 1) X [.int ((-3))] (m_X0_no_3 hX) dX0_says_175 hX.ob rfl (lw_V q350 q352 qs2 q66 q353) hv_X0_no rfl ⟨Nat.le_of_ble_eq_true rfl, Nat.le_of_ble_eq_true rfl⟩ ⟨by omega, by omega⟩ rfl (Nat.le_of_ble_eq_true rfl)) (fun r115 w117 h116 => ?_)
            obtain ⟨r115e, hX116⟩ := h116
            rw [r115e]
            have hcond : o.2.2.2.1 0 sN = 1 ∨ (o.2.2.2.1 0 sN = 2 ∧ under (o.2.2.2.1 3 sN) 6 = false) := Or.inl hk9
            have e : spSays o (nI sN) (nI 6) = ((-3), oRef o 3) := by
              unfold spSays
              repeat (first | rw [el_some (by assumption)] | rw [el_none (by assumption)])
              rw [if_pos hcond]
              repeat (first | rw [if_pos (by omega)] | rw [if_neg (by omega)])
              all_goals first | rfl | (exfalso; omega)
            exact z_iret X dX0_says_178 (by omega) (by omega) ⟨_, rfl, (by rw [e]; exact ⟨⟨_, _, rfl, hX116⟩, rfl⟩)⟩
        · have hr6 : w (xa (40 + sN)) = some (.inl (G.2.1 1, o.2.2.2.1 2 sN, .inr (.inl f9))) := by rw [h6] at hr9; exact hr9
          refine z_iload_n X dX0_says_34 rfl 3 rfl ?_
          rcases (show kN = 0 ∨ kN = 1 ∨ kN = 2 ∨ kN = 3 ∨ kN = 4 ∨ kN = 5 ∨ kN = 6 by omega) with rfl | rfl | rfl | rfl | rfl | rfl | rfl
          · skip
            refine z_tabIn (off := 37) (tgt := 72) X dX0_says_35 (by decide) (by decide) (by decide) (by decide) ?_
            refine z_aload_n X dX0_says_72 rfl 0 rfl ?_
            refine zt_castNo X V (Is.arr X hr6 (fun _ h => nmA_long h)) dX0_says_73 q388 [false, true, true, false, false, false, true, true, true, false] rfl (by decide) (by decide) (by decide +kernel) (by decide +kernel) (Nat.le_of_ble_eq_true rfl) (by omega) ⟨(by omega), (by omega)⟩ (fun qz118 => ?_)
            refine zt_catch X Y [] (34, 79, 170, 173) [(80, 94, 170, 173), (95, 109, 170, 173), (110, 124, 170, 173), (125, 139, 170, 173), (140, 154, 170, 173), (155, 169, 170, 173), (34, 79, 179, 144), (80, 94, 179, 144), (95, 109, 179, 144), (110, 124, 179, 144), (125, 139, 179, 144), (140, 154, 179, 144), (155, 169, 179, 144), (34, 79, 188, 122), (80, 94, 188, 122), (95, 109, 188, 122), (110, 124, 188, 122), (125, 139, 188, 122), (140, 154, 188, 122), (155, 169, 188, 122)] rfl zp_n rfl (by decide) q579 q591 rfl ?_
            refine z_astore (lv2 := [(4, .ref (qz118)), (3, .ref (xa (40 + sN))), (0, .ref (xa 0)), (1, .int (nI (sN))), (2, .int (nI (0)))]) X dX0_says_170 (Nat.le_of_ble_eq_true rfl) rfl ?_
            refine z_aload_n X dX0_says_172 rfl 2 rfl ?_
            refine z_bipush (v := (-3)) X dX0_says_173 (by decide) ?_
            refine z_ci (z_runV (rest := []) (n := 1) X [.int ((-3))] (m_X0_no_3 hX) dX0_says_175 hX.ob rfl (lw_V q350 q352 qs2 q66 q353) hv_X0_no rfl ⟨Nat.le_of_ble_eq_true rfl, Nat.le_of_ble_eq_true rfl⟩ ⟨by omega, by omega⟩ rfl (Nat.le_of_ble_eq_true rfl)) (fun r119 w121 h120 => ?_)
            obtain ⟨r119e, hX120⟩ := h120
            rw [r119e]
            have hcond : o.2.2.2.1 0 sN = 1 ∨ (o.2.2.2.1 0 sN = 2 ∧ under (o.2.2.2.1 3 sN) 0 = false) := Or.inl hk9
            have e : spSays o (nI sN) (nI 0) = ((-3), oRef o 3) := by
              unfold spSays
              repeat (first | rw [el_some (by assumption)] | rw [el_none (by assumption)])
              rw [if_pos hcond]
              repeat (first | rw [if_pos (by omega)] | rw [if_neg (by omega)])
              all_goals first | rfl | (exfalso; omega)
            exact z_iret X dX0_says_178 (by omega) (by omega) ⟨_, rfl, (by rw [e]; exact ⟨⟨_, _, rfl, hX120⟩, rfl⟩)⟩
          · skip
            refine z_tabIn (off := 45) (tgt := 80) X dX0_says_35 (by decide) (by decide) (by decide) (by decide) ?_
            refine z_aload_n X dX0_says_80 rfl 0 rfl ?_
            refine zt_castNo X V (Is.arr X hr6 (fun _ h => nmA_long h)) dX0_says_81 q512 [true, false, false, true, false, false, true, false, false, false] rfl (by decide) (by decide) (by decide +kernel) (by decide +kernel) (Nat.le_of_ble_eq_true rfl) (by omega) ⟨(by omega), (by omega)⟩ (fun qz122 => ?_)
            refine zt_catch X Y [(34, 79, 170, 173)] (80, 94, 170, 173) [(95, 109, 170, 173), (110, 124, 170, 173), (125, 139, 170, 173), (140, 154, 170, 173), (155, 169, 170, 173), (34, 79, 179, 144), (80, 94, 179, 144), (95, 109, 179, 144), (110, 124, 179, 144), (125, 139, 179, 144), (140, 154, 179, 144), (155, 169, 179, 144), (34, 79, 188, 122), (80, 94, 188, 122), (95, 109, 188, 122), (110, 124, 188, 122), (125, 139, 188, 122), (140, 154, 188, 122), (155, 169, 188, 122)] rfl (zp_c (zp_f rfl) zp_n) rfl (by decide) q579 q591 rfl ?_
            refine z_astore (lv2 := [(4, .ref (qz122)), (3, .ref (xa (40 + sN))), (0, .ref (xa 0)), (1, .int (nI (sN))), (2, .int (nI (1)))]) X dX0_says_170 (Nat.le_of_ble_eq_true rfl) rfl ?_
            refine z_aload_n X dX0_says_172 rfl 2 rfl ?_
            refine z_bipush (v := (-3)) X dX0_says_173 (by decide) ?_
            refine z_ci (z_runV (rest := []) (n := 1) X [.int ((-3))] (m_X0_no_3 hX) dX0_says_175 hX.ob rfl (lw_V q350 q352 qs2 q66 q353) hv_X0_no rfl ⟨Nat.le_of_ble_eq_true rfl, Nat.le_of_ble_eq_true rfl⟩ ⟨by omega, by omega⟩ rfl (Nat.le_of_ble_eq_true rfl)) (fun r123 w125 h124 => ?_)
            obtain ⟨r123e, hX124⟩ := h124
            rw [r123e]
            have hcond : o.2.2.2.1 0 sN = 1 ∨ (o.2.2.2.1 0 sN = 2 ∧ under (o.2.2.2.1 3 sN) 1 = false) := Or.inl hk9
            have e : spSays o (nI sN) (nI 1) = ((-3), oRef o 3) := by
              unfold spSays
              repeat (first | rw [el_some (by assumption)] | rw [el_none (by assumption)])
              rw [if_pos hcond]
              repeat (first | rw [if_pos (by omega)] | rw [if_neg (by omega)])
              all_goals first | rfl | (exfalso; omega)
            exact z_iret X dX0_says_178 (by omega) (by omega) ⟨_, rfl, (by rw [e]; exact ⟨⟨_, _, rfl, hX124⟩, rfl⟩)⟩
          · skip
            refine z_tabIn (off := 60) (tgt := 95) X dX0_says_35 (by decide) (by decide) (by decide) (by decide) ?_
            refine z_aload_n X dX0_says_95 rfl 0 rfl ?_
            refine zt_castNo X V (Is.arr X hr6 (fun _ h => nmA_long h)) dX0_says_96 q532 [true, false, false, true, false, true, false, false, true, true] rfl (by decide) (by decide) (by decide +kernel) (by decide +kernel) (Nat.le_of_ble_eq_true rfl) (by omega) ⟨(by omega), (by omega)⟩ (fun qz126 => ?_)
            refine zt_catch X Y [(34, 79, 170, 173), (80, 94, 170, 173)] (95, 109, 170, 173) [(110, 124, 170, 173), (125, 139, 170, 173), (140, 154, 170, 173), (155, 169, 170, 173), (34, 79, 179, 144), (80, 94, 179, 144), (95, 109, 179, 144), (110, 124, 179, 144), (125, 139, 179, 144), (140, 154, 179, 144), (155, 169, 179, 144), (34, 79, 188, 122), (80, 94, 188, 122), (95, 109, 188, 122), (110, 124, 188, 122), (125, 139, 188, 122), (140, 154, 188, 122), (155, 169, 188, 122)] rfl (zp_c (zp_f rfl) (zp_c (zp_f rfl) zp_n)) rfl (by decide) q579 q591 rfl ?_
            refine z_astore (lv2 := [(4, .ref (qz126)), (3, .ref (xa (40 + sN))), (0, .ref (xa 0)), (1, .int (nI (sN))), (2, .int (nI (2)))]) X dX0_says_170 (Nat.le_of_ble_eq_true rfl) rfl ?_
            refine z_aload_n X dX0_says_172 rfl 2 rfl ?_
            refine z_bipush (v := (-3)) X dX0_says_173 (by decide) ?_
            refine z_ci (z_runV (rest := []) (n := 1) X [.int ((-3))] (m_X0_no_3 hX) dX0_says_175 hX.ob rfl (lw_V q350 q352 qs2 q66 q353) hv_X0_no rfl ⟨Nat.le_of_ble_eq_true rfl, Nat.le_of_ble_eq_true rfl⟩ ⟨by omega, by omega⟩ rfl (Nat.le_of_ble_eq_true rfl)) (fun r127 w129 h128 => ?_)
            obtain ⟨r127e, hX128⟩ := h128
            rw [r127e]
            have hcond : o.2.2.2.1 0 sN = 1 ∨ (o.2.2.2.1 0 sN = 2 ∧ under (o.2.2.2.1 3 sN) 2 = false) := Or.inl hk9
            have e : spSays o (nI sN) (nI 2) = ((-3), oRef o 3) := by
              unfold spSays
              repeat (first | rw [el_some (by assumption)] | rw [el_none (by assumption)])
              rw [if_pos hcond]
              repeat (first | rw [if_pos (by omega)] | rw [if_neg (by omega)])
              all_goals first | rfl | (exfalso; omega)
            exact z_iret X dX0_says_178 (by omega) (by omega) ⟨_, rfl, (by rw [e]; exact ⟨⟨_, _, rfl, hX128⟩, rfl⟩)⟩
          · skip
            refine z_tabIn (off := 75) (tgt := 110) X dX0_says_35 (by decide) (by decide) (by decide) (by decide) ?_
            refine z_aload_n X dX0_says_110 rfl 0 rfl ?_
            refine zt_castNo X V (Is.arr X hr6 (fun _ h => nmA_long h)) dX0_says_111 q540 [true, false, false, true, false, true, true, true, false, true] rfl (by decide) (by decide) (by decide +kernel) (by decide +kernel) (Nat.le_of_ble_eq_true rfl) (by omega) ⟨(by omega), (by omega)⟩ (fun qz130 => ?_)
            refine zt_catch X Y [(34, 79, 170, 173), (80, 94, 170, 173), (95, 109, 170, 173)] (110, 124, 170, 173) [(125, 139, 170, 173), (140, 154, 170, 173), (155, 169, 170, 173), (34, 79, 179, 144), (80, 94, 179, 144), (95, 109, 179, 144), (110, 124, 179, 144), (125, 139, 179, 144), (140, 154, 179, 144), (155, 169, 179, 144), (34, 79, 188, 122), (80, 94, 188, 122), (95, 109, 188, 122), (110, 124, 188, 122), (125, 139, 188, 122), (140, 154, 188, 122), (155, 169, 188, 122)] rfl (zp_c (zp_f rfl) (zp_c (zp_f rfl) (zp_c (zp_f rfl) zp_n))) rfl (by decide) q579 q591 rfl ?_
            refine z_astore (lv2 := [(4, .ref (qz130)), (3, .ref (xa (40 + sN))), (0, .ref (xa 0)), (1, .int (nI (sN))), (2, .int (nI (3)))]) X dX0_says_170 (Nat.le_of_ble_eq_true rfl) rfl ?_
            refine z_aload_n X dX0_says_172 rfl 2 rfl ?_
            refine z_bipush (v := (-3)) X dX0_says_173 (by decide) ?_
            refine z_ci (z_runV (rest := []) (n := 1) X [.int ((-3))] (m_X0_no_3 hX) dX0_says_175 hX.ob rfl (lw_V q350 q352 qs2 q66 q353) hv_X0_no rfl ⟨Nat.le_of_ble_eq_true rfl, Nat.le_of_ble_eq_true rfl⟩ ⟨by omega, by omega⟩ rfl (Nat.le_of_ble_eq_true rfl)) (fun r131 w133 h132 => ?_)
            obtain ⟨r131e, hX132⟩ := h132
            rw [r131e]
            have hcond : o.2.2.2.1 0 sN = 1 ∨ (o.2.2.2.1 0 sN = 2 ∧ under (o.2.2.2.1 3 sN) 3 = false) := Or.inl hk9
            have e : spSays o (nI sN) (nI 3) = ((-3), oRef o 3) := by
              unfold spSays
              repeat (first | rw [el_some (by assumption)] | rw [el_none (by assumption)])
              rw [if_pos hcond]
              repeat (first | rw [if_pos (by omega)] | rw [if_neg (by omega)])
              all_goals first | rfl | (exfalso; omega)
            exact z_iret X dX0_says_178 (by omega) (by omega) ⟨_, rfl, (by rw [e]; exact ⟨⟨_, _, rfl, hX132⟩, rfl⟩)⟩
          · skip
            refine z_tabIn (off := 90) (tgt := 125) X dX0_says_35 (by decide) (by decide) (by decide) (by decide) ?_
            refine z_aload_n X dX0_says_125 rfl 0 rfl ?_
            refine zt_castNo X V (Is.arr X hr6 (fun _ h => nmA_long h)) dX0_says_126 q548 [true, false, false, true, true, false, true, false, false, false] rfl (by decide) (by decide) (by decide +kernel) (by decide +kernel) (Nat.le_of_ble_eq_true rfl) (by omega) ⟨(by omega), (by omega)⟩ (fun qz134 => ?_)
            refine zt_catch X Y [(34, 79, 170, 173), (80, 94, 170, 173), (95, 109, 170, 173), (110, 124, 170, 173)] (125, 139, 170, 173) [(140, 154, 170, 173), (155, 169, 170, 173), (34, 79, 179, 144), (80, 94, 179, 144), (95, 109, 179, 144), (110, 124, 179, 144), (125, 139, 179, 144), (140, 154, 179, 144), (155, 169, 179, 144), (34, 79, 188, 122), (80, 94, 188, 122), (95, 109, 188, 122), (110, 124, 188, 122), (125, 139, 188, 122), (140, 154, 188, 122), (155, 169, 188, 122)] rfl (zp_c (zp_f rfl) (zp_c (zp_f rfl) (zp_c (zp_f rfl) (zp_c (zp_f rfl) zp_n)))) rfl (by decide) q579 q591 rfl ?_
            refine z_astore (lv2 := [(4, .ref (qz134)), (3, .ref (xa (40 + sN))), (0, .ref (xa 0)), (1, .int (nI (sN))), (2, .int (nI (4)))]) X dX0_says_170 (Nat.le_of_ble_eq_true rfl) rfl ?_
            refine z_aload_n X dX0_says_172 rfl 2 rfl ?_
            refine z_bipush (v := (-3)) X dX0_says_173 (by decide) ?_
            refine z_ci (z_runV (rest := []) (n := 1) X [.int ((-3))] (m_X0_no_3 hX) dX0_says_175 hX.ob rfl (lw_V q350 q352 qs2 q66 q353) hv_X0_no rfl ⟨Nat.le_of_ble_eq_true rfl, Nat.le_of_ble_eq_true rfl⟩ ⟨by omega, by omega⟩ rfl (Nat.le_of_ble_eq_true rfl)) (fun r135 w137 h136 => ?_)
            obtain ⟨r135e, hX136⟩ := h136
            rw [r135e]
            have hcond : o.2.2.2.1 0 sN = 1 ∨ (o.2.2.2.1 0 sN = 2 ∧ under (o.2.2.2.1 3 sN) 4 = false) := Or.inl hk9
            have e : spSays o (nI sN) (nI 4) = ((-3), oRef o 3) := by
              unfold spSays
              repeat (first | rw [el_some (by assumption)] | rw [el_none (by assumption)])
              rw [if_pos hcond]
              repeat (first | rw [if_pos (by omega)] | rw [if_neg (by omega)])
              all_goals first | rfl | (exfalso; omega)
            exact z_iret X dX0_says_178 (by omega) (by omega) ⟨_, rfl, (by rw [e]; exact ⟨⟨_, _, rfl, hX136⟩, rfl⟩)⟩
          · skip
            refine z_tabIn (off := 105) (tgt := 140) X dX0_says_35 (by decide) (by decide) (by decide) (by decide) ?_
            refine z_aload_n X dX0_says_140 rfl 0 rfl ?_
            refine zt_castNo X V (Is.arr X hr6 (fun _ h => nmA_long h)) dX0_says_141 q556 [true, false, false, true, true, true, false, false, true, false] rfl (by decide) (by decide) (by decide +kernel) (by decide +kernel) (Nat.le_of_ble_eq_true rfl) (by omega) ⟨(by omega), (by omega)⟩ (fun qz138 => ?_)
            refine zt_catch X Y [(34, 79, 170, 173), (80, 94, 170, 173), (95, 109, 170, 173), (110, 124, 170, 173), (125, 139, 170, 173)] (140, 154, 170, 173) [(155, 169, 170, 173), (34, 79, 179, 144), (80, 94, 179, 144), (95, 109, 179, 144), (110, 124, 179, 144), (125, 139, 179, 144), (140, 154, 179, 144), (155, 169, 179, 144), (34, 79, 188, 122), (80, 94, 188, 122), (95, 109, 188, 122), (110, 124, 188, 122), (125, 139, 188, 122), (140, 154, 188, 122), (155, 169, 188, 122)] rfl (zp_c (zp_f rfl) (zp_c (zp_f rfl) (zp_c (zp_f rfl) (zp_c (zp_f rfl) (zp_c (zp_f rfl) zp_n))))) rfl (by decide) q579 q591 rfl ?_
            refine z_astore (lv2 := [(4, .ref (qz138)), (3, .ref (xa (40 + sN))), (0, .ref (xa 0)), (1, .int (nI (sN))), (2, .int (nI (5)))]) X dX0_says_170 (Nat.le_of_ble_eq_true rfl) rfl ?_
            refine z_aload_n X dX0_says_172 rfl 2 rfl ?_
            refine z_bipush (v := (-3)) X dX0_says_173 (by decide) ?_
            refine z_ci (z_runV (rest := []) (n := 1) X [.int ((-3))] (m_X0_no_3 hX) dX0_says_175 hX.ob rfl (lw_V q350 q352 qs2 q66 q353) hv_X0_no rfl ⟨Nat.le_of_ble_eq_true rfl, Nat.le_of_ble_eq_true rfl⟩ ⟨by omega, by omega⟩ rfl (Nat.le_of_ble_eq_true rfl)) (fun r139 w141 h140 => ?_)
            obtain ⟨r139e, hX140⟩ := h140
            rw [r139e]
            have hcond : o.2.2.2.1 0 sN = 1 ∨ (o.2.2.2.1 0 sN = 2 ∧ under (o.2.2.2.1 3 sN) 5 = false) := Or.inl hk9
            have e : spSays o (nI sN) (nI 5) = ((-3), oRef o 3) := by
              unfold spSays
              repeat (first | rw [el_some (by assumption)] | rw [el_none (by assumption)])
              rw [if_pos hcond]
              repeat (first | rw [if_pos (by omega)] | rw [if_neg (by omega)])
              all_goals first | rfl | (exfalso; omega)
            exact z_iret X dX0_says_178 (by omega) (by omega) ⟨_, rfl, (by rw [e]; exact ⟨⟨_, _, rfl, hX140⟩, rfl⟩)⟩
          · skip
            refine z_tabOut (tgt := 155) X dX0_says_35 (by decide) (by decide) ?_
            refine z_aload_n X dX0_says_155 rfl 0 rfl ?_
            refine zt_castNo X V (Is.arr X hr6 (fun _ h => nmA_long h)) dX0_says_156 q564 [true, false, false, true, true, true, true, true, false, false] rfl (by decide) (by decide) (by decide +kernel) (by decide +kernel) (Nat.le_of_ble_eq_true rfl) (by omega) ⟨(by omega), (by omega)⟩ (fun qz142 => ?_)
            refine zt_catch X Y [(34, 79, 170, 173), (80, 94, 170, 173), (95, 109, 170, 173), (110, 124, 170, 173), (125, 139, 170, 173), (140, 154, 170, 173)] (155, 169, 170, 173) [(34, 79, 179, 144), (80, 94, 179, 144), (95, 109, 179, 144), (110, 124, 179, 144), (125, 139, 179, 144), (140, 154, 179, 144), (155, 169, 179, 144), (34, 79, 188, 122), (80, 94, 188, 122), (95, 109, 188, 122), (110, 124, 188, 122), (125, 139, 188, 122), (140, 154, 188, 122), (155, 169, 188, 122)] rfl (zp_c (zp_f rfl) (zp_c (zp_f rfl) (zp_c (zp_f rfl) (zp_c (zp_f rfl) (zp_c (zp_f rfl) (zp_c (zp_f rfl) zp_n)))))) rfl (by decide) q579 q591 rfl ?_
            refine z_astore (lv2 := [(4, .ref (qz142)), (3, .ref (xa (40 + sN))), (0, .ref (xa 0)), (1, .int (nI (sN))), (2, .int (nI (6)))]) X dX0_says_170 (Nat.le_of_ble_eq_true rfl) rfl ?_
            refine z_aload_n X dX0_says_172 rfl 2 rfl ?_
            refine z_bipush (v := (-3)) X dX0_says_173 (by decide) ?_
            refine z_ci (z_runV (rest := []) (n := 1) X [.int ((-3))] (m_X0_no_3 hX) dX0_says_175 hX.ob rfl (lw_V q350 q352 qs2 q66 q353) hv_X0_no rfl ⟨Nat.le_of_ble_eq_true rfl, Nat.le_of_ble_eq_true rfl⟩ ⟨by omega, by omega⟩ rfl (Nat.le_of_ble_eq_true rfl)) (fun r143 w145 h144 => ?_)
            obtain ⟨r143e, hX144⟩ := h144
            rw [r143e]
            have hcond : o.2.2.2.1 0 sN = 1 ∨ (o.2.2.2.1 0 sN = 2 ∧ under (o.2.2.2.1 3 sN) 6 = false) := Or.inl hk9
            have e : spSays o (nI sN) (nI 6) = ((-3), oRef o 3) := by
              unfold spSays
              repeat (first | rw [el_some (by assumption)] | rw [el_none (by assumption)])
              rw [if_pos hcond]
              repeat (first | rw [if_pos (by omega)] | rw [if_neg (by omega)])
              all_goals first | rfl | (exfalso; omega)
            exact z_iret X dX0_says_178 (by omega) (by omega) ⟨_, rfl, (by rw [e]; exact ⟨⟨_, _, rfl, hX144⟩, rfl⟩)⟩
        · have hr6 : w (xa (40 + sN)) = some (.inl (G.2.1 4, o.2.2.2.1 2 sN, .inl (fun j => (f9 j).toInt32))) := by rw [h6] at hr9; exact hr9
          refine z_iload_n X dX0_says_34 rfl 3 rfl ?_
          rcases (show kN = 0 ∨ kN = 1 ∨ kN = 2 ∨ kN = 3 ∨ kN = 4 ∨ kN = 5 ∨ kN = 6 by omega) with rfl | rfl | rfl | rfl | rfl | rfl | rfl
          · skip
            refine z_tabIn (off := 37) (tgt := 72) X dX0_says_35 (by decide) (by decide) (by decide) (by decide) ?_
            refine z_aload_n X dX0_says_72 rfl 0 rfl ?_
            refine zt_castNo X V (Is.arr X hr6 (fun _ h => nmA_bool h)) dX0_says_73 q388 [false, true, true, false, false, false, true, true, true, true] rfl (by decide) (by decide) (by decide +kernel) (by decide +kernel) (Nat.le_of_ble_eq_true rfl) (by omega) ⟨(by omega), (by omega)⟩ (fun qz146 => ?_)
            refine zt_catch X Y [] (34, 79, 170, 173) [(80, 94, 170, 173), (95, 109, 170, 173), (110, 124, 170, 173), (125, 139, 170, 173), (140, 154, 170, 173), (155, 169, 170, 173), (34, 79, 179, 144), (80, 94, 179, 144), (95, 109, 179, 144), (110, 124, 179, 144), (125, 139, 179, 144), (140, 154, 179, 144), (155, 169, 179, 144), (34, 79, 188, 122), (80, 94, 188, 122), (95, 109, 188, 122), (110, 124, 188, 122), (125, 139, 188, 122), (140, 154, 188, 122), (155, 169, 188, 122)] rfl zp_n rfl (by decide) q579 q591 rfl ?_
            refine z_astore (lv2 := [(4, .ref (qz146)), (3, .ref (xa (40 + sN))), (0, .ref (xa 0)), (1, .int (nI (sN))), (2, .int (nI (0)))]) X dX0_says_170 (Nat.le_of_ble_eq_true rfl) rfl ?_
            refine z_aload_n X dX0_says_172 rfl 2 rfl ?_
            refine z_bipush (v := (-3)) X dX0_says_173 (by decide) ?_
            refine z_ci (z_runV (rest := []) (n := 1) X [.int ((-3))] (m_X0_no_3 hX) dX0_says_175 hX.ob rfl (lw_V q350 q352 qs2 q66 q353) hv_X0_no rfl ⟨Nat.le_of_ble_eq_true rfl, Nat.le_of_ble_eq_true rfl⟩ ⟨by omega, by omega⟩ rfl (Nat.le_of_ble_eq_true rfl)) (fun r147 w149 h148 => ?_)
            obtain ⟨r147e, hX148⟩ := h148
            rw [r147e]
            have hcond : o.2.2.2.1 0 sN = 1 ∨ (o.2.2.2.1 0 sN = 2 ∧ under (o.2.2.2.1 3 sN) 0 = false) := Or.inl hk9
            have e : spSays o (nI sN) (nI 0) = ((-3), oRef o 3) := by
              unfold spSays
              repeat (first | rw [el_some (by assumption)] | rw [el_none (by assumption)])
              rw [if_pos hcond]
              repeat (first | rw [if_pos (by omega)] | rw [if_neg (by omega)])
              all_goals first | rfl | (exfalso; omega)
            exact z_iret X dX0_says_178 (by omega) (by omega) ⟨_, rfl, (by rw [e]; exact ⟨⟨_, _, rfl, hX148⟩, rfl⟩)⟩
          · skip
            refine z_tabIn (off := 45) (tgt := 80) X dX0_says_35 (by decide) (by decide) (by decide) (by decide) ?_
            refine z_aload_n X dX0_says_80 rfl 0 rfl ?_
            refine zt_castNo X V (Is.arr X hr6 (fun _ h => nmA_bool h)) dX0_says_81 q512 [true, false, false, true, false, false, true, false, false, true] rfl (by decide) (by decide) (by decide +kernel) (by decide +kernel) (Nat.le_of_ble_eq_true rfl) (by omega) ⟨(by omega), (by omega)⟩ (fun qz150 => ?_)
            refine zt_catch X Y [(34, 79, 170, 173)] (80, 94, 170, 173) [(95, 109, 170, 173), (110, 124, 170, 173), (125, 139, 170, 173), (140, 154, 170, 173), (155, 169, 170, 173), (34, 79, 179, 144), (80, 94, 179, 144), (95, 109, 179, 144), (110, 124, 179, 144), (125, 139, 179, 144), (140, 154, 179, 144), (155, 169, 179, 144), (34, 79, 188, 122), (80, 94, 188, 122), (95, 109, 188, 122), (110, 124, 188, 122), (125, 139, 188, 122), (140, 154, 188, 122), (155, 169, 188, 122)] rfl (zp_c (zp_f rfl) zp_n) rfl (by decide) q579 q591 rfl ?_
            refine z_astore (lv2 := [(4, .ref (qz150)), (3, .ref (xa (40 + sN))), (0, .ref (xa 0)), (1, .int (nI (sN))), (2, .int (nI (1)))]) X dX0_says_170 (Nat.le_of_ble_eq_true rfl) rfl ?_
            refine z_aload_n X dX0_says_172 rfl 2 rfl ?_
            refine z_bipush (v := (-3)) X dX0_says_173 (by decide) ?_
            refine z_ci (z_runV (rest := []) (n := 1) X [.int ((-3))] (m_X0_no_3 hX) dX0_says_175 hX.ob rfl (lw_V q350 q352 qs2 q66 q353) hv_X0_no rfl ⟨Nat.le_of_ble_eq_true rfl, Nat.le_of_ble_eq_true rfl⟩ ⟨by omega, by omega⟩ rfl (Nat.le_of_ble_eq_true rfl)) (fun r151 w153 h152 => ?_)
            obtain ⟨r151e, hX152⟩ := h152
            rw [r151e]
            have hcond : o.2.2.2.1 0 sN = 1 ∨ (o.2.2.2.1 0 sN = 2 ∧ under (o.2.2.2.1 3 sN) 1 = false) := Or.inl hk9
            have e : spSays o (nI sN) (nI 1) = ((-3), oRef o 3) := by
              unfold spSays
              repeat (first | rw [el_some (by assumption)] | rw [el_none (by assumption)])
              rw [if_pos hcond]
              repeat (first | rw [if_pos (by omega)] | rw [if_neg (by omega)])
              all_goals first | rfl | (exfalso; omega)
            exact z_iret X dX0_says_178 (by omega) (by omega) ⟨_, rfl, (by rw [e]; exact ⟨⟨_, _, rfl, hX152⟩, rfl⟩)⟩
          · skip
            refine z_tabIn (off := 60) (tgt := 95) X dX0_says_35 (by decide) (by decide) (by decide) (by decide) ?_
            refine z_aload_n X dX0_says_95 rfl 0 rfl ?_
            refine zt_castNo X V (Is.arr X hr6 (fun _ h => nmA_bool h)) dX0_says_96 q532 [true, false, false, true, false, true, false, true, false, false] rfl (by decide) (by decide) (by decide +kernel) (by decide +kernel) (Nat.le_of_ble_eq_true rfl) (by omega) ⟨(by omega), (by omega)⟩ (fun qz154 => ?_)
            refine zt_catch X Y [(34, 79, 170, 173), (80, 94, 170, 173)] (95, 109, 170, 173) [(110, 124, 170, 173), (125, 139, 170, 173), (140, 154, 170, 173), (155, 169, 170, 173), (34, 79, 179, 144), (80, 94, 179, 144), (95, 109, 179, 144), (110, 124, 179, 144), (125, 139, 179, 144), (140, 154, 179, 144), (155, 169, 179, 144), (34, 79, 188, 122), (80, 94, 188, 122), (95, 109, 188, 122), (110, 124, 188, 122), (125, 139, 188, 122), (140, 154, 188, 122), (155, 169, 188, 122)] rfl (zp_c (zp_f rfl) (zp_c (zp_f rfl) zp_n)) rfl (by decide) q579 q591 rfl ?_
            refine z_astore (lv2 := [(4, .ref (qz154)), (3, .ref (xa (40 + sN))), (0, .ref (xa 0)), (1, .int (nI (sN))), (2, .int (nI (2)))]) X dX0_says_170 (Nat.le_of_ble_eq_true rfl) rfl ?_
            refine z_aload_n X dX0_says_172 rfl 2 rfl ?_
            refine z_bipush (v := (-3)) X dX0_says_173 (by decide) ?_
            refine z_ci (z_runV (rest := []) (n := 1) X [.int ((-3))] (m_X0_no_3 hX) dX0_says_175 hX.ob rfl (lw_V q350 q352 qs2 q66 q353) hv_X0_no rfl ⟨Nat.le_of_ble_eq_true rfl, Nat.le_of_ble_eq_true rfl⟩ ⟨by omega, by omega⟩ rfl (Nat.le_of_ble_eq_true rfl)) (fun r155 w157 h156 => ?_)
            obtain ⟨r155e, hX156⟩ := h156
            rw [r155e]
            have hcond : o.2.2.2.1 0 sN = 1 ∨ (o.2.2.2.1 0 sN = 2 ∧ under (o.2.2.2.1 3 sN) 2 = false) := Or.inl hk9
            have e : spSays o (nI sN) (nI 2) = ((-3), oRef o 3) := by
              unfold spSays
              repeat (first | rw [el_some (by assumption)] | rw [el_none (by assumption)])
              rw [if_pos hcond]
              repeat (first | rw [if_pos (by omega)] | rw [if_neg (by omega)])
              all_goals first | rfl | (exfalso; omega)
            exact z_iret X dX0_says_178 (by omega) (by omega) ⟨_, rfl, (by rw [e]; exact ⟨⟨_, _, rfl, hX156⟩, rfl⟩)⟩
          · skip
            refine z_tabIn (off := 75) (tgt := 110) X dX0_says_35 (by decide) (by decide) (by decide) (by decide) ?_
            refine z_aload_n X dX0_says_110 rfl 0 rfl ?_
            refine zt_castNo X V (Is.arr X hr6 (fun _ h => nmA_bool h)) dX0_says_111 q540 [true, false, false, true, false, true, true, true, true, false] rfl (by decide) (by decide) (by decide +kernel) (by decide +kernel) (Nat.le_of_ble_eq_true rfl) (by omega) ⟨(by omega), (by omega)⟩ (fun qz158 => ?_)
            refine zt_catch X Y [(34, 79, 170, 173), (80, 94, 170, 173), (95, 109, 170, 173)] (110, 124, 170, 173) [(125, 139, 170, 173), (140, 154, 170, 173), (155, 169, 170, 173), (34, 79, 179, 144), (80, 94, 179, 144), (95, 109, 179, 144), (110, 124, 179, 144), (125, 139, 179, 144), (140, 154, 179, 144), (155, 169, 179, 144), (34, 79, 188, 122), (80, 94, 188, 122), (95, 109, 188, 122), (110, 124, 188, 122), (125, 139, 188, 122), (140, 154, 188, 122), (155, 169, 188, 122)] rfl (zp_c (zp_f rfl) (zp_c (zp_f rfl) (zp_c (zp_f rfl) zp_n))) rfl (by decide) q579 q591 rfl ?_
            refine z_astore (lv2 := [(4, .ref (qz158)), (3, .ref (xa (40 + sN))), (0, .ref (xa 0)), (1, .int (nI (sN))), (2, .int (nI (3)))]) X dX0_says_170 (Nat.le_of_ble_eq_true rfl) rfl ?_
            refine z_aload_n X dX0_says_172 rfl 2 rfl ?_
            refine z_bipush (v := (-3)) X dX0_says_173 (by decide) ?_
            refine z_ci (z_runV (rest := []) (n := 1) X [.int ((-3))] (m_X0_no_3 hX) dX0_says_175 hX.ob rfl (lw_V q350 q352 qs2 q66 q353) hv_X0_no rfl ⟨Nat.le_of_ble_eq_true rfl, Nat.le_of_ble_eq_true rfl⟩ ⟨by omega, by omega⟩ rfl (Nat.le_of_ble_eq_true rfl)) (fun r159 w161 h160 => ?_)
            obtain ⟨r159e, hX160⟩ := h160
            rw [r159e]
            have hcond : o.2.2.2.1 0 sN = 1 ∨ (o.2.2.2.1 0 sN = 2 ∧ under (o.2.2.2.1 3 sN) 3 = false) := Or.inl hk9
            have e : spSays o (nI sN) (nI 3) = ((-3), oRef o 3) := by
              unfold spSays
              repeat (first | rw [el_some (by assumption)] | rw [el_none (by assumption)])
              rw [if_pos hcond]
              repeat (first | rw [if_pos (by omega)] | rw [if_neg (by omega)])
              all_goals first | rfl | (exfalso; omega)
            exact z_iret X dX0_says_178 (by omega) (by omega) ⟨_, rfl, (by rw [e]; exact ⟨⟨_, _, rfl, hX160⟩, rfl⟩)⟩
          · skip
            refine z_tabIn (off := 90) (tgt := 125) X dX0_says_35 (by decide) (by decide) (by decide) (by decide) ?_
            refine z_aload_n X dX0_says_125 rfl 0 rfl ?_
            refine zt_castNo X V (Is.arr X hr6 (fun _ h => nmA_bool h)) dX0_says_126 q548 [true, false, false, true, true, false, true, false, false, true] rfl (by decide) (by decide) (by decide +kernel) (by decide +kernel) (Nat.le_of_ble_eq_true rfl) (by omega) ⟨(by omega), (by omega)⟩ (fun qz162 => ?_)
            refine zt_catch X Y [(34, 79, 170, 173), (80, 94, 170, 173), (95, 109, 170, 173), (110, 124, 170, 173)] (125, 139, 170, 173) [(140, 154, 170, 173), (155, 169, 170, 173), (34, 79, 179, 144), (80, 94, 179, 144), (95, 109, 179, 144), (110, 124, 179, 144), (125, 139, 179, 144), (140, 154, 179, 144), (155, 169, 179, 144), (34, 79, 188, 122), (80, 94, 188, 122), (95, 109, 188, 122), (110, 124, 188, 122), (125, 139, 188, 122), (140, 154, 188, 122), (155, 169, 188, 122)] rfl (zp_c (zp_f rfl) (zp_c (zp_f rfl) (zp_c (zp_f rfl) (zp_c (zp_f rfl) zp_n)))) rfl (by decide) q579 q591 rfl ?_
            refine z_astore (lv2 := [(4, .ref (qz162)), (3, .ref (xa (40 + sN))), (0, .ref (xa 0)), (1, .int (nI (sN))), (2, .int (nI (4)))]) X dX0_says_170 (Nat.le_of_ble_eq_true rfl) rfl ?_
            refine z_aload_n X dX0_says_172 rfl 2 rfl ?_
            refine z_bipush (v := (-3)) X dX0_says_173 (by decide) ?_
            refine z_ci (z_runV (rest := []) (n := 1) X [.int ((-3))] (m_X0_no_3 hX) dX0_says_175 hX.ob rfl (lw_V q350 q352 qs2 q66 q353) hv_X0_no rfl ⟨Nat.le_of_ble_eq_true rfl, Nat.le_of_ble_eq_true rfl⟩ ⟨by omega, by omega⟩ rfl (Nat.le_of_ble_eq_true rfl)) (fun r163 w165 h164 => ?_)
            obtain ⟨r163e, hX164⟩ := h164
            rw [r163e]
            have hcond : o.2.2.2.1 0 sN = 1 ∨ (o.2.2.2.1 0 sN = 2 ∧ under (o.2.2.2.1 3 sN) 4 = false) := Or.inl hk9
            have e : spSays o (nI sN) (nI 4) = ((-3), oRef o 3) := by
              unfold spSays
              repeat (first | rw [el_some (by assumption)] | rw [el_none (by assumption)])
              rw [if_pos hcond]
              repeat (first | rw [if_pos (by omega)] | rw [if_neg (by omega)])
              all_goals first | rfl | (exfalso; omega)
            exact z_iret X dX0_says_178 (by omega) (by omega) ⟨_, rfl, (by rw [e]; exact ⟨⟨_, _, rfl, hX164⟩, rfl⟩)⟩
          · skip
            refine z_tabIn (off := 105) (tgt := 140) X dX0_says_35 (by decide) (by decide) (by decide) (by decide) ?_
            refine z_aload_n X dX0_says_140 rfl 0 rfl ?_
            refine zt_castNo X V (Is.arr X hr6 (fun _ h => nmA_bool h)) dX0_says_141 q556 [true, false, false, true, true, true, false, false, true, true] rfl (by decide) (by decide) (by decide +kernel) (by decide +kernel) (Nat.le_of_ble_eq_true rfl) (by omega) ⟨(by omega), (by omega)⟩ (fun qz166 => ?_)
            refine zt_catch X Y [(34, 79, 170, 173), (80, 94, 170, 173), (95, 109, 170, 173), (110, 124, 170, 173), (125, 139, 170, 173)] (140, 154, 170, 173) [(155, 169, 170, 173), (34, 79, 179, 144), (80, 94, 179, 144), (95, 109, 179, 144), (110, 124, 179, 144), (125, 139, 179, 144), (140, 154, 179, 144), (155, 169, 179, 144), (34, 79, 188, 122), (80, 94, 188, 122), (95, 109, 188, 122), (110, 124, 188, 122), (125, 139, 188, 122), (140, 154, 188, 122), (155, 169, 188, 122)] rfl (zp_c (zp_f rfl) (zp_c (zp_f rfl) (zp_c (zp_f rfl) (zp_c (zp_f rfl) (zp_c (zp_f rfl) zp_n))))) rfl (by decide) q579 q591 rfl ?_
            refine z_astore (lv2 := [(4, .ref (qz166)), (3, .ref (xa (40 + sN))), (0, .ref (xa 0)), (1, .int (nI (sN))), (2, .int (nI (5)))]) X dX0_says_170 (Nat.le_of_ble_eq_true rfl) rfl ?_
            refine z_aload_n X dX0_says_172 rfl 2 rfl ?_
            refine z_bipush (v := (-3)) X dX0_says_173 (by decide) ?_
            refine z_ci (z_runV (rest := []) (n := 1) X [.int ((-3))] (m_X0_no_3 hX) dX0_says_175 hX.ob rfl (lw_V q350 q352 qs2 q66 q353) hv_X0_no rfl ⟨Nat.le_of_ble_eq_true rfl, Nat.le_of_ble_eq_true rfl⟩ ⟨by omega, by omega⟩ rfl (Nat.le_of_ble_eq_true rfl)) (fun r167 w169 h168 => ?_)
            obtain ⟨r167e, hX168⟩ := h168
            rw [r167e]
            have hcond : o.2.2.2.1 0 sN = 1 ∨ (o.2.2.2.1 0 sN = 2 ∧ under (o.2.2.2.1 3 sN) 5 = false) := Or.inl hk9
            have e : spSays o (nI sN) (nI 5) = ((-3), oRef o 3) := by
              unfold spSays
              repeat (first | rw [el_some (by assumption)] | rw [el_none (by assumption)])
              rw [if_pos hcond]
              repeat (first | rw [if_pos (by omega)] | rw [if_neg (by omega)])
              all_goals first | rfl | (exfalso; omega)
            exact z_iret X dX0_says_178 (by omega) (by omega) ⟨_, rfl, (by rw [e]; exact ⟨⟨_, _, rfl, hX168⟩, rfl⟩)⟩
          · skip
            refine z_tabOut (tgt := 155) X dX0_says_35 (by decide) (by decide) ?_
            refine z_aload_n X dX0_says_155 rfl 0 rfl ?_
            refine zt_castNo X V (Is.arr X hr6 (fun _ h => nmA_bool h)) dX0_says_156 q564 [true, false, false, true, true, true, true, true, false, true] rfl (by decide) (by decide) (by decide +kernel) (by decide +kernel) (Nat.le_of_ble_eq_true rfl) (by omega) ⟨(by omega), (by omega)⟩ (fun qz170 => ?_)
            refine zt_catch X Y [(34, 79, 170, 173), (80, 94, 170, 173), (95, 109, 170, 173), (110, 124, 170, 173), (125, 139, 170, 173), (140, 154, 170, 173)] (155, 169, 170, 173) [(34, 79, 179, 144), (80, 94, 179, 144), (95, 109, 179, 144), (110, 124, 179, 144), (125, 139, 179, 144), (140, 154, 179, 144), (155, 169, 179, 144), (34, 79, 188, 122), (80, 94, 188, 122), (95, 109, 188, 122), (110, 124, 188, 122), (125, 139, 188, 122), (140, 154, 188, 122), (155, 169, 188, 122)] rfl (zp_c (zp_f rfl) (zp_c (zp_f rfl) (zp_c (zp_f rfl) (zp_c (zp_f rfl) (zp_c (zp_f rfl) (zp_c (zp_f rfl) zp_n)))))) rfl (by decide) q579 q591 rfl ?_
            refine z_astore (lv2 := [(4, .ref (qz170)), (3, .ref (xa (40 + sN))), (0, .ref (xa 0)), (1, .int (nI (sN))), (2, .int (nI (6)))]) X dX0_says_170 (Nat.le_of_ble_eq_true rfl) rfl ?_
            refine z_aload_n X dX0_says_172 rfl 2 rfl ?_
            refine z_bipush (v := (-3)) X dX0_says_173 (by decide) ?_
            refine z_ci (z_runV (rest := []) (n := 1) X [.int ((-3))] (m_X0_no_3 hX) dX0_says_175 hX.ob rfl (lw_V q350 q352 qs2 q66 q353) hv_X0_no rfl ⟨Nat.le_of_ble_eq_true rfl, Nat.le_of_ble_eq_true rfl⟩ ⟨by omega, by omega⟩ rfl (Nat.le_of_ble_eq_true rfl)) (fun r171 w173 h172 => ?_)
            obtain ⟨r171e, hX172⟩ := h172
            rw [r171e]
            have hcond : o.2.2.2.1 0 sN = 1 ∨ (o.2.2.2.1 0 sN = 2 ∧ under (o.2.2.2.1 3 sN) 6 = false) := Or.inl hk9
            have e : spSays o (nI sN) (nI 6) = ((-3), oRef o 3) := by
              unfold spSays
              repeat (first | rw [el_some (by assumption)] | rw [el_none (by assumption)])
              rw [if_pos hcond]
              repeat (first | rw [if_pos (by omega)] | rw [if_neg (by omega)])
              all_goals first | rfl | (exfalso; omega)
            exact z_iret X dX0_says_178 (by omega) (by omega) ⟨_, rfl, (by rw [e]; exact ⟨⟨_, _, rfl, hX172⟩, rfl⟩)⟩
      · skip
        refine z_get X dX0_says_30 hs9 in_X3 rfl 0 (Nat.le_of_ble_eq_true rfl) q229 rfl ?_
        refine z_astore_n (lv2 := [(3, .ref (xa (40 + sN))), (0, .ref (xa 0)), (1, .int (nI (sN))), (2, .int (nI (kN)))]) X dX0_says_33 rfl (Nat.le_of_ble_eq_true rfl) rfl ?_
        rcases kd_cases ⟨hq9.2.2.2.2.1 hk9, hq9.2.2.2.1⟩ with h6 | h6 | h6 | h6 | h6 | h6
        · have hr6 : w (xa (40 + sN)) = some (.inr (6, [.int (nI (o.2.2.2.1 4 sN))])) := by rw [h6] at hr9; exact hr9
          refine z_iload_n X dX0_says_34 rfl 3 rfl ?_
          rcases (show kN = 0 ∨ kN = 1 ∨ kN = 2 ∨ kN = 3 ∨ kN = 4 ∨ kN = 5 ∨ kN = 6 by omega) with rfl | rfl | rfl | rfl | rfl | rfl | rfl
          · skip
            refine z_tabIn (off := 37) (tgt := 72) X dX0_says_35 (by decide) (by decide) (by decide) (by decide) ?_
            refine z_aload_n X dX0_says_72 rfl 0 rfl ?_
            refine z_castY X (Is.obj X hr6 rfl) dX0_says_73 q388 q1961 ?_
            refine z_get X dX0_says_76 hr6 in_X7 rfl 0 (Nat.le_of_ble_eq_true rfl) q528 rfl ?_
            have hcond : ¬ (o.2.2.2.1 0 sN = 1 ∨ (o.2.2.2.1 0 sN = 2 ∧ under (o.2.2.2.1 3 sN) 0 = false)) := fun z => z.elim (fun q => by omega) (fun q => by rw [h6] at q; exact absurd q.2 (by decide))
            have e : spSays o (nI sN) (nI 0) = (nI (o.2.2.2.1 4 sN), o) := by
              unfold spSays
              repeat (first | rw [el_some (by assumption)] | rw [el_none (by assumption)])
              rw [if_neg hcond]
              repeat (first | rw [if_pos (by omega)] | rw [if_neg (by omega)])
              all_goals first | rfl | (exfalso; omega)
            exact z_iret X dX0_says_79 (by omega) (by omega) ⟨_, rfl, (by rw [e]; exact ⟨⟨_, _, rfl, hX⟩, rfl⟩)⟩
          · skip
            refine z_tabIn (off := 45) (tgt := 80) X dX0_says_35 (by decide) (by decide) (by decide) (by decide) ?_
            refine z_aload_n X dX0_says_80 rfl 0 rfl ?_
            refine z_castE X (Is.obj X hr6 rfl) dX0_says_81 q512 ?_
            refine z_aload_n X dX0_says_84 rfl 1 rfl ?_
            refine z_get X dX0_says_85 hX.ob in_X0 rfl 0 (Nat.le_of_ble_eq_true rfl) q233 rfl ?_
            refine z_get X dX0_says_88 hX.day in_X1 rfl 0 (Nat.le_of_ble_eq_true rfl) q190 rfl ?_
            refine z_xi (z_runXU (owner := "ThreeSizes$Rule") (x := ⟨"ThreeSizes$Least", "says", "(LThreeSizes$Wall;)I"⟩) (rest := []) (n := 1) X [.ref (xa 5)] (m_X6_says hX hO (s := sN) (by omega) hk9) dX0_says_91 hr6 rfl (lw_app (lw_in _ [593, 594, 597, 599, 82] (by decide +kernel) (by decide +kernel)) (lw_meth q600)) (by decide +kernel) (by decide +kernel) rfl ⟨Nat.le_of_ble_eq_true rfl, Nat.le_of_ble_eq_true rfl⟩ ⟨by omega, by omega⟩ rfl (Nat.le_of_ble_eq_true rfl)) (fun r174 w176 h175 => ?_) (fun E177 qz178 w180 h179 => ?_)
            · have hn9 := h175
              obtain ⟨xa175, rr175, hk175, hX175, hz175, r174e⟩ := h175
              rw [r174e]
              rw [← hk175 (40 + sN) (by omega) (by omega) (by omega)]
              rw [← hk175 0 (by omega) (by omega) (by omega)]
              have hcond : ¬ (o.2.2.2.1 0 sN = 1 ∨ (o.2.2.2.1 0 sN = 2 ∧ under (o.2.2.2.1 3 sN) 1 = false)) := fun z => z.elim (fun q => by omega) (fun q => by rw [h6] at q; exact absurd q.2 (by decide))
              have e : spSays o (nI sN) (nI 1) = (oI (rget o.1 (o.2.2.2.1 3 sN) (o.2.2.2.1 4 sN) (wiseT o.1 (o.2.2.2.1 4 sN)) 0 (stOf o.1)), o) := by
                unfold spSays
                repeat (first | rw [el_some (by assumption)] | rw [el_none (by assumption)])
                rw [if_neg hcond]
                repeat (first | rw [if_pos (by omega)] | rw [if_neg (by omega)])
                all_goals first | rfl | (exfalso; omega)
              exact z_iret X dX0_says_94 (by omega) (by omega) ⟨_, rfl, (by rw [e]; exact ⟨⟨_, _, (hk175 0 (by decide) (by decide) (by decide)), hX175⟩, rfl⟩)⟩
            · have hx9 := h179
              obtain ⟨⟨rfl, hn179, rfl⟩, hz179⟩ := h179
              have hX179 := XT.fresh hX hn179 (e := .inr (5, [.null, .null, .null, .null, .null, .int 0, .int (-5)]))
              refine zt_catch X Y [(34, 79, 170, 173), (80, 94, 170, 173), (95, 109, 170, 173), (110, 124, 170, 173), (125, 139, 170, 173), (140, 154, 170, 173), (155, 169, 170, 173), (34, 79, 179, 144), (80, 94, 179, 144), (95, 109, 179, 144), (110, 124, 179, 144), (125, 139, 179, 144), (140, 154, 179, 144), (155, 169, 179, 144), (34, 79, 188, 122)] (80, 94, 188, 122) [(95, 109, 188, 122), (110, 124, 188, 122), (125, 139, 188, 122), (140, 154, 188, 122), (155, 169, 188, 122)] rfl (zp_c (zp_f rfl) (zp_c (zp_o [false, false, true, false, true, true, true, false, false, true] (by decide) q579 rfl) (zp_c (zp_f rfl) (zp_c (zp_f rfl) (zp_c (zp_f rfl) (zp_c (zp_f rfl) (zp_c (zp_f rfl) (zp_c (zp_f rfl) (zp_c (zp_o [false, false, false, true, true, true, false, false, false, false] (by decide) q430 rfl) (zp_c (zp_f rfl) (zp_c (zp_f rfl) (zp_c (zp_f rfl) (zp_c (zp_f rfl) (zp_c (zp_f rfl) (zp_c (zp_f rfl) zp_n))))))))))))))) rfl (by decide) q364 q390 rfl ?_
              refine z_astore (lv2 := [(4, .ref (qz178)), (3, .ref (xa (40 + sN))), (0, .ref (xa 0)), (1, .int (nI (sN))), (2, .int (nI (1)))]) X dX0_says_188 (Nat.le_of_ble_eq_true rfl) rfl ?_
              refine z_aload_n X dX0_says_190 rfl 2 rfl ?_
              refine z_aload X dX0_says_191 0 rfl ?_
              refine z_get X dX0_says_193 gu_s in_X5 rfl 6 (Nat.le_of_ble_eq_true rfl) q410 rfl ?_
              refine z_ci (z_runV (rest := []) (n := 1) X [.int ((-5))] (m_X0_no_5 hX179) dX0_says_196 hX179.ob rfl (lw_V q350 q352 qs2 q66 q353) hv_X0_no rfl ⟨Nat.le_of_ble_eq_true rfl, Nat.le_of_ble_eq_true rfl⟩ ⟨by omega, by omega⟩ rfl (Nat.le_of_ble_eq_true rfl)) (fun r181 w183 h182 => ?_)
              obtain ⟨r181e, hX182⟩ := h182
              rw [r181e]
              have hcond : ¬ (o.2.2.2.1 0 sN = 1 ∨ (o.2.2.2.1 0 sN = 2 ∧ under (o.2.2.2.1 3 sN) 1 = false)) := fun z => z.elim (fun q => by omega) (fun q => by rw [h6] at q; exact absurd q.2 (by decide))
              have e : spSays o (nI sN) (nI 1) = ((-5), oRef o 5) := by
                unfold spSays
                repeat (first | rw [el_some (by assumption)] | rw [el_none (by assumption)])
                rw [if_neg hcond]
                repeat (first | rw [if_pos (by omega)] | rw [if_neg (by omega)])
                all_goals first | rfl | (exfalso; omega)
              exact z_iret X dX0_says_199 (by omega) (by omega) ⟨_, rfl, (by rw [e]; exact ⟨⟨_, _, rfl, hX182⟩, rfl⟩)⟩
          · skip
            refine z_tabIn (off := 60) (tgt := 95) X dX0_says_35 (by decide) (by decide) (by decide) (by decide) ?_
            refine z_aload_n X dX0_says_95 rfl 0 rfl ?_
            refine zt_castNo X V (Is.obj X hr6 rfl) dX0_says_96 q532 [false, true, false, false, false, true, true, false, true, true] rfl (by decide) (by decide) (by decide +kernel) (by decide +kernel) (Nat.le_of_ble_eq_true rfl) (by omega) ⟨(by omega), (by omega)⟩ (fun qz184 => ?_)
            refine zt_catch X Y [(34, 79, 170, 173), (80, 94, 170, 173)] (95, 109, 170, 173) [(110, 124, 170, 173), (125, 139, 170, 173), (140, 154, 170, 173), (155, 169, 170, 173), (34, 79, 179, 144), (80, 94, 179, 144), (95, 109, 179, 144), (110, 124, 179, 144), (125, 139, 179, 144), (140, 154, 179, 144), (155, 169, 179, 144), (34, 79, 188, 122), (80, 94, 188, 122), (95, 109, 188, 122), (110, 124, 188, 122), (125, 139, 188, 122), (140, 154, 188, 122), (155, 169, 188, 122)] rfl (zp_c (zp_f rfl) (zp_c (zp_f rfl) zp_n)) rfl (by decide) q579 q591 rfl ?_
            refine z_astore (lv2 := [(4, .ref (qz184)), (3, .ref (xa (40 + sN))), (0, .ref (xa 0)), (1, .int (nI (sN))), (2, .int (nI (2)))]) X dX0_says_170 (Nat.le_of_ble_eq_true rfl) rfl ?_
            refine z_aload_n X dX0_says_172 rfl 2 rfl ?_
            refine z_bipush (v := (-3)) X dX0_says_173 (by decide) ?_
            refine z_ci (z_runV (rest := []) (n := 1) X [.int ((-3))] (m_X0_no_3 hX) dX0_says_175 hX.ob rfl (lw_V q350 q352 qs2 q66 q353) hv_X0_no rfl ⟨Nat.le_of_ble_eq_true rfl, Nat.le_of_ble_eq_true rfl⟩ ⟨by omega, by omega⟩ rfl (Nat.le_of_ble_eq_true rfl)) (fun r185 w187 h186 => ?_)
            obtain ⟨r185e, hX186⟩ := h186
            rw [r185e]
            have hcond : o.2.2.2.1 0 sN = 1 ∨ (o.2.2.2.1 0 sN = 2 ∧ under (o.2.2.2.1 3 sN) 2 = false) := Or.inr ⟨hk9, by rw [h6]; rfl⟩
            have e : spSays o (nI sN) (nI 2) = ((-3), oRef o 3) := by
              unfold spSays
              repeat (first | rw [el_some (by assumption)] | rw [el_none (by assumption)])
              rw [if_pos hcond]
              repeat (first | rw [if_pos (by omega)] | rw [if_neg (by omega)])
              all_goals first | rfl | (exfalso; omega)
            exact z_iret X dX0_says_178 (by omega) (by omega) ⟨_, rfl, (by rw [e]; exact ⟨⟨_, _, rfl, hX186⟩, rfl⟩)⟩
          · skip
            refine z_tabIn (off := 75) (tgt := 110) X dX0_says_35 (by decide) (by decide) (by decide) (by decide) ?_
            refine z_aload_n X dX0_says_110 rfl 0 rfl ?_
            refine zt_castNo X V (Is.obj X hr6 rfl) dX0_says_111 q540 [false, true, false, false, true, true, false, true, false, false] rfl (by decide) (by decide) (by decide +kernel) (by decide +kernel) (Nat.le_of_ble_eq_true rfl) (by omega) ⟨(by omega), (by omega)⟩ (fun qz188 => ?_)
            refine zt_catch X Y [(34, 79, 170, 173), (80, 94, 170, 173), (95, 109, 170, 173)] (110, 124, 170, 173) [(125, 139, 170, 173), (140, 154, 170, 173), (155, 169, 170, 173), (34, 79, 179, 144), (80, 94, 179, 144), (95, 109, 179, 144), (110, 124, 179, 144), (125, 139, 179, 144), (140, 154, 179, 144), (155, 169, 179, 144), (34, 79, 188, 122), (80, 94, 188, 122), (95, 109, 188, 122), (110, 124, 188, 122), (125, 139, 188, 122), (140, 154, 188, 122), (155, 169, 188, 122)] rfl (zp_c (zp_f rfl) (zp_c (zp_f rfl) (zp_c (zp_f rfl) zp_n))) rfl (by decide) q579 q591 rfl ?_
            refine z_astore (lv2 := [(4, .ref (qz188)), (3, .ref (xa (40 + sN))), (0, .ref (xa 0)), (1, .int (nI (sN))), (2, .int (nI (3)))]) X dX0_says_170 (Nat.le_of_ble_eq_true rfl) rfl ?_
            refine z_aload_n X dX0_says_172 rfl 2 rfl ?_
            refine z_bipush (v := (-3)) X dX0_says_173 (by decide) ?_
            refine z_ci (z_runV (rest := []) (n := 1) X [.int ((-3))] (m_X0_no_3 hX) dX0_says_175 hX.ob rfl (lw_V q350 q352 qs2 q66 q353) hv_X0_no rfl ⟨Nat.le_of_ble_eq_true rfl, Nat.le_of_ble_eq_true rfl⟩ ⟨by omega, by omega⟩ rfl (Nat.le_of_ble_eq_true rfl)) (fun r189 w191 h190 => ?_)
            obtain ⟨r189e, hX190⟩ := h190
            rw [r189e]
            have hcond : o.2.2.2.1 0 sN = 1 ∨ (o.2.2.2.1 0 sN = 2 ∧ under (o.2.2.2.1 3 sN) 3 = false) := Or.inr ⟨hk9, by rw [h6]; rfl⟩
            have e : spSays o (nI sN) (nI 3) = ((-3), oRef o 3) := by
              unfold spSays
              repeat (first | rw [el_some (by assumption)] | rw [el_none (by assumption)])
              rw [if_pos hcond]
              repeat (first | rw [if_pos (by omega)] | rw [if_neg (by omega)])
              all_goals first | rfl | (exfalso; omega)
            exact z_iret X dX0_says_178 (by omega) (by omega) ⟨_, rfl, (by rw [e]; exact ⟨⟨_, _, rfl, hX190⟩, rfl⟩)⟩
          · skip
            refine z_tabIn (off := 90) (tgt := 125) X dX0_says_35 (by decide) (by decide) (by decide) (by decide) ?_
            refine z_aload_n X dX0_says_125 rfl 0 rfl ?_
            refine zt_castNo X V (Is.obj X hr6 rfl) dX0_says_126 q548 [false, true, false, true, false, false, true, true, false, false] rfl (by decide) (by decide) (by decide +kernel) (by decide +kernel) (Nat.le_of_ble_eq_true rfl) (by omega) ⟨(by omega), (by omega)⟩ (fun qz192 => ?_)
            refine zt_catch X Y [(34, 79, 170, 173), (80, 94, 170, 173), (95, 109, 170, 173), (110, 124, 170, 173)] (125, 139, 170, 173) [(140, 154, 170, 173), (155, 169, 170, 173), (34, 79, 179, 144), (80, 94, 179, 144), (95, 109, 179, 144), (110, 124, 179, 144), (125, 139, 179, 144), (140, 154, 179, 144), (155, 169, 179, 144), (34, 79, 188, 122), (80, 94, 188, 122), (95, 109, 188, 122), (110, 124, 188, 122), (125, 139, 188, 122), (140, 154, 188, 122), (155, 169, 188, 122)] rfl (zp_c (zp_f rfl) (zp_c (zp_f rfl) (zp_c (zp_f rfl) (zp_c (zp_f rfl) zp_n)))) rfl (by decide) q579 q591 rfl ?_
            refine z_astore (lv2 := [(4, .ref (qz192)), (3, .ref (xa (40 + sN))), (0, .ref (xa 0)), (1, .int (nI (sN))), (2, .int (nI (4)))]) X dX0_says_170 (Nat.le_of_ble_eq_true rfl) rfl ?_
            refine z_aload_n X dX0_says_172 rfl 2 rfl ?_
            refine z_bipush (v := (-3)) X dX0_says_173 (by decide) ?_
            refine z_ci (z_runV (rest := []) (n := 1) X [.int ((-3))] (m_X0_no_3 hX) dX0_says_175 hX.ob rfl (lw_V q350 q352 qs2 q66 q353) hv_X0_no rfl ⟨Nat.le_of_ble_eq_true rfl, Nat.le_of_ble_eq_true rfl⟩ ⟨by omega, by omega⟩ rfl (Nat.le_of_ble_eq_true rfl)) (fun r193 w195 h194 => ?_)
            obtain ⟨r193e, hX194⟩ := h194
            rw [r193e]
            have hcond : o.2.2.2.1 0 sN = 1 ∨ (o.2.2.2.1 0 sN = 2 ∧ under (o.2.2.2.1 3 sN) 4 = false) := Or.inr ⟨hk9, by rw [h6]; rfl⟩
            have e : spSays o (nI sN) (nI 4) = ((-3), oRef o 3) := by
              unfold spSays
              repeat (first | rw [el_some (by assumption)] | rw [el_none (by assumption)])
              rw [if_pos hcond]
              repeat (first | rw [if_pos (by omega)] | rw [if_neg (by omega)])
              all_goals first | rfl | (exfalso; omega)
            exact z_iret X dX0_says_178 (by omega) (by omega) ⟨_, rfl, (by rw [e]; exact ⟨⟨_, _, rfl, hX194⟩, rfl⟩)⟩
          · skip
            refine z_tabIn (off := 105) (tgt := 140) X dX0_says_35 (by decide) (by decide) (by decide) (by decide) ?_
            refine z_aload_n X dX0_says_140 rfl 0 rfl ?_
            refine zt_castNo X V (Is.obj X hr6 rfl) dX0_says_141 q556 [false, true, false, true, true, false, false, true, false, false] rfl (by decide) (by decide) (by decide +kernel) (by decide +kernel) (Nat.le_of_ble_eq_true rfl) (by omega) ⟨(by omega), (by omega)⟩ (fun qz196 => ?_)
            refine zt_catch X Y [(34, 79, 170, 173), (80, 94, 170, 173), (95, 109, 170, 173), (110, 124, 170, 173), (125, 139, 170, 173)] (140, 154, 170, 173) [(155, 169, 170, 173), (34, 79, 179, 144), (80, 94, 179, 144), (95, 109, 179, 144), (110, 124, 179, 144), (125, 139, 179, 144), (140, 154, 179, 144), (155, 169, 179, 144), (34, 79, 188, 122), (80, 94, 188, 122), (95, 109, 188, 122), (110, 124, 188, 122), (125, 139, 188, 122), (140, 154, 188, 122), (155, 169, 188, 122)] rfl (zp_c (zp_f rfl) (zp_c (zp_f rfl) (zp_c (zp_f rfl) (zp_c (zp_f rfl) (zp_c (zp_f rfl) zp_n))))) rfl (by decide) q579 q591 rfl ?_
            refine z_astore (lv2 := [(4, .ref (qz196)), (3, .ref (xa (40 + sN))), (0, .ref (xa 0)), (1, .int (nI (sN))), (2, .int (nI (5)))]) X dX0_says_170 (Nat.le_of_ble_eq_true rfl) rfl ?_
            refine z_aload_n X dX0_says_172 rfl 2 rfl ?_
            refine z_bipush (v := (-3)) X dX0_says_173 (by decide) ?_
            refine z_ci (z_runV (rest := []) (n := 1) X [.int ((-3))] (m_X0_no_3 hX) dX0_says_175 hX.ob rfl (lw_V q350 q352 qs2 q66 q353) hv_X0_no rfl ⟨Nat.le_of_ble_eq_true rfl, Nat.le_of_ble_eq_true rfl⟩ ⟨by omega, by omega⟩ rfl (Nat.le_of_ble_eq_true rfl)) (fun r197 w199 h198 => ?_)
            obtain ⟨r197e, hX198⟩ := h198
            rw [r197e]
            have hcond : o.2.2.2.1 0 sN = 1 ∨ (o.2.2.2.1 0 sN = 2 ∧ under (o.2.2.2.1 3 sN) 5 = false) := Or.inr ⟨hk9, by rw [h6]; rfl⟩
            have e : spSays o (nI sN) (nI 5) = ((-3), oRef o 3) := by
              unfold spSays
              repeat (first | rw [el_some (by assumption)] | rw [el_none (by assumption)])
              rw [if_pos hcond]
              repeat (first | rw [if_pos (by omega)] | rw [if_neg (by omega)])
              all_goals first | rfl | (exfalso; omega)
            exact z_iret X dX0_says_178 (by omega) (by omega) ⟨_, rfl, (by rw [e]; exact ⟨⟨_, _, rfl, hX198⟩, rfl⟩)⟩
          · skip
            refine z_tabOut (tgt := 155) X dX0_says_35 (by decide) (by decide) ?_
            refine z_aload_n X dX0_says_155 rfl 0 rfl ?_
            refine zt_castNo X V (Is.obj X hr6 rfl) dX0_says_156 q564 [false, true, false, true, true, true, true, false, true, true] rfl (by decide) (by decide) (by decide +kernel) (by decide +kernel) (Nat.le_of_ble_eq_true rfl) (by omega) ⟨(by omega), (by omega)⟩ (fun qz200 => ?_)
            refine zt_catch X Y [(34, 79, 170, 173), (80, 94, 170, 173), (95, 109, 170, 173), (110, 124, 170, 173), (125, 139, 170, 173), (140, 154, 170, 173)] (155, 169, 170, 173) [(34, 79, 179, 144), (80, 94, 179, 144), (95, 109, 179, 144), (110, 124, 179, 144), (125, 139, 179, 144), (140, 154, 179, 144), (155, 169, 179, 144), (34, 79, 188, 122), (80, 94, 188, 122), (95, 109, 188, 122), (110, 124, 188, 122), (125, 139, 188, 122), (140, 154, 188, 122), (155, 169, 188, 122)] rfl (zp_c (zp_f rfl) (zp_c (zp_f rfl) (zp_c (zp_f rfl) (zp_c (zp_f rfl) (zp_c (zp_f rfl) (zp_c (zp_f rfl) zp_n)))))) rfl (by decide) q579 q591 rfl ?_
            refine z_astore (lv2 := [(4, .ref (qz200)), (3, .ref (xa (40 + sN))), (0, .ref (xa 0)), (1, .int (nI (sN))), (2, .int (nI (6)))]) X dX0_says_170 (Nat.le_of_ble_eq_true rfl) rfl ?_
            refine z_aload_n X dX0_says_172 rfl 2 rfl ?_
            refine z_bipush (v := (-3)) X dX0_says_173 (by decide) ?_
            refine z_ci (z_runV (rest := []) (n := 1) X [.int ((-3))] (m_X0_no_3 hX) dX0_says_175 hX.ob rfl (lw_V q350 q352 qs2 q66 q353) hv_X0_no rfl ⟨Nat.le_of_ble_eq_true rfl, Nat.le_of_ble_eq_true rfl⟩ ⟨by omega, by omega⟩ rfl (Nat.le_of_ble_eq_true rfl)) (fun r201 w203 h202 => ?_)
            obtain ⟨r201e, hX202⟩ := h202
            rw [r201e]
            have hcond : o.2.2.2.1 0 sN = 1 ∨ (o.2.2.2.1 0 sN = 2 ∧ under (o.2.2.2.1 3 sN) 6 = false) := Or.inr ⟨hk9, by rw [h6]; rfl⟩
            have e : spSays o (nI sN) (nI 6) = ((-3), oRef o 3) := by
              unfold spSays
              repeat (first | rw [el_some (by assumption)] | rw [el_none (by assumption)])
              rw [if_pos hcond]
              repeat (first | rw [if_pos (by omega)] | rw [if_neg (by omega)])
              all_goals first | rfl | (exfalso; omega)
            exact z_iret X dX0_says_178 (by omega) (by omega) ⟨_, rfl, (by rw [e]; exact ⟨⟨_, _, rfl, hX202⟩, rfl⟩)⟩
        · have hr6 : w (xa (40 + sN)) = some (.inr (7, [.int (nI (o.2.2.2.1 4 sN))])) := by rw [h6] at hr9; exact hr9
          refine z_iload_n X dX0_says_34 rfl 3 rfl ?_
          rcases (show kN = 0 ∨ kN = 1 ∨ kN = 2 ∨ kN = 3 ∨ kN = 4 ∨ kN = 5 ∨ kN = 6 by omega) with rfl | rfl | rfl | rfl | rfl | rfl | rfl
          · skip
            refine z_tabIn (off := 37) (tgt := 72) X dX0_says_35 (by decide) (by decide) (by decide) (by decide) ?_
            refine z_aload_n X dX0_says_72 rfl 0 rfl ?_
            refine z_castY X (Is.obj X hr6 rfl) dX0_says_73 q388 q1960 ?_
            refine z_get X dX0_says_76 hr6 in_X8 rfl 0 (Nat.le_of_ble_eq_true rfl) q528 rfl ?_
            have hcond : ¬ (o.2.2.2.1 0 sN = 1 ∨ (o.2.2.2.1 0 sN = 2 ∧ under (o.2.2.2.1 3 sN) 0 = false)) := fun z => z.elim (fun q => by omega) (fun q => by rw [h6] at q; exact absurd q.2 (by decide))
            have e : spSays o (nI sN) (nI 0) = (nI (o.2.2.2.1 4 sN), o) := by
              unfold spSays
              repeat (first | rw [el_some (by assumption)] | rw [el_none (by assumption)])
              rw [if_neg hcond]
              repeat (first | rw [if_pos (by omega)] | rw [if_neg (by omega)])
              all_goals first | rfl | (exfalso; omega)
            exact z_iret X dX0_says_79 (by omega) (by omega) ⟨_, rfl, (by rw [e]; exact ⟨⟨_, _, rfl, hX⟩, rfl⟩)⟩
          · skip
            refine z_tabIn (off := 45) (tgt := 80) X dX0_says_35 (by decide) (by decide) (by decide) (by decide) ?_
            refine z_aload_n X dX0_says_80 rfl 0 rfl ?_
            refine z_castY X (Is.obj X hr6 rfl) dX0_says_81 q512 q1964 ?_
            refine z_aload_n X dX0_says_84 rfl 1 rfl ?_
            refine z_get X dX0_says_85 hX.ob in_X0 rfl 0 (Nat.le_of_ble_eq_true rfl) q233 rfl ?_
            refine z_get X dX0_says_88 hX.day in_X1 rfl 0 (Nat.le_of_ble_eq_true rfl) q190 rfl ?_
            refine z_xi (z_runXU (owner := "ThreeSizes$Rule") (x := ⟨"ThreeSizes$Least", "says", "(LThreeSizes$Wall;)I"⟩) (rest := []) (n := 1) X [.ref (xa 5)] (m_X6_says hX hO (s := sN) (by omega) hk9) dX0_says_91 hr6 rfl (lw_app (lw_in _ [593, 594, 596, 599, 82] (by decide +kernel) (by decide +kernel)) (lw_meth q600)) (by decide +kernel) (by decide +kernel) rfl ⟨Nat.le_of_ble_eq_true rfl, Nat.le_of_ble_eq_true rfl⟩ ⟨by omega, by omega⟩ rfl (Nat.le_of_ble_eq_true rfl)) (fun r204 w206 h205 => ?_) (fun E207 qz208 w210 h209 => ?_)
            · have hn9 := h205
              obtain ⟨xa205, rr205, hk205, hX205, hz205, r204e⟩ := h205
              rw [r204e]
              rw [← hk205 (40 + sN) (by omega) (by omega) (by omega)]
              rw [← hk205 0 (by omega) (by omega) (by omega)]
              have hcond : ¬ (o.2.2.2.1 0 sN = 1 ∨ (o.2.2.2.1 0 sN = 2 ∧ under (o.2.2.2.1 3 sN) 1 = false)) := fun z => z.elim (fun q => by omega) (fun q => by rw [h6] at q; exact absurd q.2 (by decide))
              have e : spSays o (nI sN) (nI 1) = (oI (rget o.1 (o.2.2.2.1 3 sN) (o.2.2.2.1 4 sN) (wiseT o.1 (o.2.2.2.1 4 sN)) 0 (stOf o.1)), o) := by
                unfold spSays
                repeat (first | rw [el_some (by assumption)] | rw [el_none (by assumption)])
                rw [if_neg hcond]
                repeat (first | rw [if_pos (by omega)] | rw [if_neg (by omega)])
                all_goals first | rfl | (exfalso; omega)
              exact z_iret X dX0_says_94 (by omega) (by omega) ⟨_, rfl, (by rw [e]; exact ⟨⟨_, _, (hk205 0 (by decide) (by decide) (by decide)), hX205⟩, rfl⟩)⟩
            · have hx9 := h209
              obtain ⟨⟨rfl, hn209, rfl⟩, hz209⟩ := h209
              have hX209 := XT.fresh hX hn209 (e := .inr (5, [.null, .null, .null, .null, .null, .int 0, .int (-5)]))
              refine zt_catch X Y [(34, 79, 170, 173), (80, 94, 170, 173), (95, 109, 170, 173), (110, 124, 170, 173), (125, 139, 170, 173), (140, 154, 170, 173), (155, 169, 170, 173), (34, 79, 179, 144), (80, 94, 179, 144), (95, 109, 179, 144), (110, 124, 179, 144), (125, 139, 179, 144), (140, 154, 179, 144), (155, 169, 179, 144), (34, 79, 188, 122)] (80, 94, 188, 122) [(95, 109, 188, 122), (110, 124, 188, 122), (125, 139, 188, 122), (140, 154, 188, 122), (155, 169, 188, 122)] rfl (zp_c (zp_f rfl) (zp_c (zp_o [false, false, true, false, true, true, true, false, false, true] (by decide) q579 rfl) (zp_c (zp_f rfl) (zp_c (zp_f rfl) (zp_c (zp_f rfl) (zp_c (zp_f rfl) (zp_c (zp_f rfl) (zp_c (zp_f rfl) (zp_c (zp_o [false, false, false, true, true, true, false, false, false, false] (by decide) q430 rfl) (zp_c (zp_f rfl) (zp_c (zp_f rfl) (zp_c (zp_f rfl) (zp_c (zp_f rfl) (zp_c (zp_f rfl) (zp_c (zp_f rfl) zp_n))))))))))))))) rfl (by decide) q364 q390 rfl ?_
              refine z_astore (lv2 := [(4, .ref (qz208)), (3, .ref (xa (40 + sN))), (0, .ref (xa 0)), (1, .int (nI (sN))), (2, .int (nI (1)))]) X dX0_says_188 (Nat.le_of_ble_eq_true rfl) rfl ?_
              refine z_aload_n X dX0_says_190 rfl 2 rfl ?_
              refine z_aload X dX0_says_191 0 rfl ?_
              refine z_get X dX0_says_193 gu_s in_X5 rfl 6 (Nat.le_of_ble_eq_true rfl) q410 rfl ?_
              refine z_ci (z_runV (rest := []) (n := 1) X [.int ((-5))] (m_X0_no_5 hX209) dX0_says_196 hX209.ob rfl (lw_V q350 q352 qs2 q66 q353) hv_X0_no rfl ⟨Nat.le_of_ble_eq_true rfl, Nat.le_of_ble_eq_true rfl⟩ ⟨by omega, by omega⟩ rfl (Nat.le_of_ble_eq_true rfl)) (fun r211 w213 h212 => ?_)
              obtain ⟨r211e, hX212⟩ := h212
              rw [r211e]
              have hcond : ¬ (o.2.2.2.1 0 sN = 1 ∨ (o.2.2.2.1 0 sN = 2 ∧ under (o.2.2.2.1 3 sN) 1 = false)) := fun z => z.elim (fun q => by omega) (fun q => by rw [h6] at q; exact absurd q.2 (by decide))
              have e : spSays o (nI sN) (nI 1) = ((-5), oRef o 5) := by
                unfold spSays
                repeat (first | rw [el_some (by assumption)] | rw [el_none (by assumption)])
                rw [if_neg hcond]
                repeat (first | rw [if_pos (by omega)] | rw [if_neg (by omega)])
                all_goals first | rfl | (exfalso; omega)
              exact z_iret X dX0_says_199 (by omega) (by omega) ⟨_, rfl, (by rw [e]; exact ⟨⟨_, _, rfl, hX212⟩, rfl⟩)⟩
          · skip
            refine z_tabIn (off := 60) (tgt := 95) X dX0_says_35 (by decide) (by decide) (by decide) (by decide) ?_
            refine z_aload_n X dX0_says_95 rfl 0 rfl ?_
            refine z_castE X (Is.obj X hr6 rfl) dX0_says_96 q532 ?_
            refine z_aload_n X dX0_says_99 rfl 1 rfl ?_
            refine z_get X dX0_says_100 hX.ob in_X0 rfl 0 (Nat.le_of_ble_eq_true rfl) q233 rfl ?_
            refine z_get X dX0_says_103 hX.day in_X1 rfl 0 (Nat.le_of_ble_eq_true rfl) q190 rfl ?_
            refine z_xi (z_runXU (owner := "ThreeSizes$Rule") (x := ⟨"ThreeSizes$Keep", "says", "(LThreeSizes$Wall;)I"⟩) (rest := []) (n := 1) X [.ref (xa 5)] (m_X6_says hX hO (s := sN) (by omega) hk9) dX0_says_106 hr6 rfl (lw_app (lw_in _ [750, 751, 752, 599, 82] (by decide +kernel) (by decide +kernel)) (lw_meth q600)) (by decide +kernel) (by decide +kernel) rfl ⟨Nat.le_of_ble_eq_true rfl, Nat.le_of_ble_eq_true rfl⟩ ⟨by omega, by omega⟩ rfl (Nat.le_of_ble_eq_true rfl)) (fun r214 w216 h215 => ?_) (fun E217 qz218 w220 h219 => ?_)
            · have hn9 := h215
              obtain ⟨xa215, rr215, hk215, hX215, hz215, r214e⟩ := h215
              rw [r214e]
              rw [← hk215 (40 + sN) (by omega) (by omega) (by omega)]
              rw [← hk215 0 (by omega) (by omega) (by omega)]
              have hcond : ¬ (o.2.2.2.1 0 sN = 1 ∨ (o.2.2.2.1 0 sN = 2 ∧ under (o.2.2.2.1 3 sN) 2 = false)) := fun z => z.elim (fun q => by omega) (fun q => by rw [h6] at q; exact absurd q.2 (by decide))
              have e : spSays o (nI sN) (nI 2) = (oI (rget o.1 (o.2.2.2.1 3 sN) (o.2.2.2.1 4 sN) (wiseT o.1 (o.2.2.2.1 4 sN)) 0 (stOf o.1)), o) := by
                unfold spSays
                repeat (first | rw [el_some (by assumption)] | rw [el_none (by assumption)])
                rw [if_neg hcond]
                repeat (first | rw [if_pos (by omega)] | rw [if_neg (by omega)])
                all_goals first | rfl | (exfalso; omega)
              exact z_iret X dX0_says_109 (by omega) (by omega) ⟨_, rfl, (by rw [e]; exact ⟨⟨_, _, (hk215 0 (by decide) (by decide) (by decide)), hX215⟩, rfl⟩)⟩
            · have hx9 := h219
              obtain ⟨⟨rfl, hn219, rfl⟩, hz219⟩ := h219
              have hX219 := XT.fresh hX hn219 (e := .inr (5, [.null, .null, .null, .null, .null, .int 0, .int (-5)]))
              refine zt_catch X Y [(34, 79, 170, 173), (80, 94, 170, 173), (95, 109, 170, 173), (110, 124, 170, 173), (125, 139, 170, 173), (140, 154, 170, 173), (155, 169, 170, 173), (34, 79, 179, 144), (80, 94, 179, 144), (95, 109, 179, 144), (110, 124, 179, 144), (125, 139, 179, 144), (140, 154, 179, 144), (155, 169, 179, 144), (34, 79, 188, 122), (80, 94, 188, 122)] (95, 109, 188, 122) [(110, 124, 188, 122), (125, 139, 188, 122), (140, 154, 188, 122), (155, 169, 188, 122)] rfl (zp_c (zp_f rfl) (zp_c (zp_f rfl) (zp_c (zp_o [false, false, true, false, true, true, true, false, false, true] (by decide) q579 rfl) (zp_c (zp_f rfl) (zp_c (zp_f rfl) (zp_c (zp_f rfl) (zp_c (zp_f rfl) (zp_c (zp_f rfl) (zp_c (zp_f rfl) (zp_c (zp_o [false, false, false, true, true, true, false, false, false, false] (by decide) q430 rfl) (zp_c (zp_f rfl) (zp_c (zp_f rfl) (zp_c (zp_f rfl) (zp_c (zp_f rfl) (zp_c (zp_f rfl) (zp_c (zp_f rfl) zp_n)))))))))))))))) rfl (by decide) q364 q390 rfl ?_
              refine z_astore (lv2 := [(4, .ref (qz218)), (3, .ref (xa (40 + sN))), (0, .ref (xa 0)), (1, .int (nI (sN))), (2, .int (nI (2)))]) X dX0_says_188 (Nat.le_of_ble_eq_true rfl) rfl ?_
              refine z_aload_n X dX0_says_190 rfl 2 rfl ?_
              refine z_aload X dX0_says_191 0 rfl ?_
              refine z_get X dX0_says_193 gu_s in_X5 rfl 6 (Nat.le_of_ble_eq_true rfl) q410 rfl ?_
              refine z_ci (z_runV (rest := []) (n := 1) X [.int ((-5))] (m_X0_no_5 hX219) dX0_says_196 hX219.ob rfl (lw_V q350 q352 qs2 q66 q353) hv_X0_no rfl ⟨Nat.le_of_ble_eq_true rfl, Nat.le_of_ble_eq_true rfl⟩ ⟨by omega, by omega⟩ rfl (Nat.le_of_ble_eq_true rfl)) (fun r221 w223 h222 => ?_)
              obtain ⟨r221e, hX222⟩ := h222
              rw [r221e]
              have hcond : ¬ (o.2.2.2.1 0 sN = 1 ∨ (o.2.2.2.1 0 sN = 2 ∧ under (o.2.2.2.1 3 sN) 2 = false)) := fun z => z.elim (fun q => by omega) (fun q => by rw [h6] at q; exact absurd q.2 (by decide))
              have e : spSays o (nI sN) (nI 2) = ((-5), oRef o 5) := by
                unfold spSays
                repeat (first | rw [el_some (by assumption)] | rw [el_none (by assumption)])
                rw [if_neg hcond]
                repeat (first | rw [if_pos (by omega)] | rw [if_neg (by omega)])
                all_goals first | rfl | (exfalso; omega)
              exact z_iret X dX0_says_199 (by omega) (by omega) ⟨_, rfl, (by rw [e]; exact ⟨⟨_, _, rfl, hX222⟩, rfl⟩)⟩
          · skip
            refine z_tabIn (off := 75) (tgt := 110) X dX0_says_35 (by decide) (by decide) (by decide) (by decide) ?_
            refine z_aload_n X dX0_says_110 rfl 0 rfl ?_
            refine zt_castNo X V (Is.obj X hr6 rfl) dX0_says_111 q540 [false, true, false, false, true, true, false, true, false, true] rfl (by decide) (by decide) (by decide +kernel) (by decide +kernel) (Nat.le_of_ble_eq_true rfl) (by omega) ⟨(by omega), (by omega)⟩ (fun qz224 => ?_)
            refine zt_catch X Y [(34, 79, 170, 173), (80, 94, 170, 173), (95, 109, 170, 173)] (110, 124, 170, 173) [(125, 139, 170, 173), (140, 154, 170, 173), (155, 169, 170, 173), (34, 79, 179, 144), (80, 94, 179, 144), (95, 109, 179, 144), (110, 124, 179, 144), (125, 139, 179, 144), (140, 154, 179, 144), (155, 169, 179, 144), (34, 79, 188, 122), (80, 94, 188, 122), (95, 109, 188, 122), (110, 124, 188, 122), (125, 139, 188, 122), (140, 154, 188, 122), (155, 169, 188, 122)] rfl (zp_c (zp_f rfl) (zp_c (zp_f rfl) (zp_c (zp_f rfl) zp_n))) rfl (by decide) q579 q591 rfl ?_
            refine z_astore (lv2 := [(4, .ref (qz224)), (3, .ref (xa (40 + sN))), (0, .ref (xa 0)), (1, .int (nI (sN))), (2, .int (nI (3)))]) X dX0_says_170 (Nat.le_of_ble_eq_true rfl) rfl ?_
            refine z_aload_n X dX0_says_172 rfl 2 rfl ?_
            refine z_bipush (v := (-3)) X dX0_says_173 (by decide) ?_
            refine z_ci (z_runV (rest := []) (n := 1) X [.int ((-3))] (m_X0_no_3 hX) dX0_says_175 hX.ob rfl (lw_V q350 q352 qs2 q66 q353) hv_X0_no rfl ⟨Nat.le_of_ble_eq_true rfl, Nat.le_of_ble_eq_true rfl⟩ ⟨by omega, by omega⟩ rfl (Nat.le_of_ble_eq_true rfl)) (fun r225 w227 h226 => ?_)
            obtain ⟨r225e, hX226⟩ := h226
            rw [r225e]
            have hcond : o.2.2.2.1 0 sN = 1 ∨ (o.2.2.2.1 0 sN = 2 ∧ under (o.2.2.2.1 3 sN) 3 = false) := Or.inr ⟨hk9, by rw [h6]; rfl⟩
            have e : spSays o (nI sN) (nI 3) = ((-3), oRef o 3) := by
              unfold spSays
              repeat (first | rw [el_some (by assumption)] | rw [el_none (by assumption)])
              rw [if_pos hcond]
              repeat (first | rw [if_pos (by omega)] | rw [if_neg (by omega)])
              all_goals first | rfl | (exfalso; omega)
            exact z_iret X dX0_says_178 (by omega) (by omega) ⟨_, rfl, (by rw [e]; exact ⟨⟨_, _, rfl, hX226⟩, rfl⟩)⟩
          · skip
            refine z_tabIn (off := 90) (tgt := 125) X dX0_says_35 (by decide) (by decide) (by decide) (by decide) ?_
            refine z_aload_n X dX0_says_125 rfl 0 rfl ?_
            refine zt_castNo X V (Is.obj X hr6 rfl) dX0_says_126 q548 [false, true, false, true, false, false, true, true, false, true] rfl (by decide) (by decide) (by decide +kernel) (by decide +kernel) (Nat.le_of_ble_eq_true rfl) (by omega) ⟨(by omega), (by omega)⟩ (fun qz228 => ?_)
            refine zt_catch X Y [(34, 79, 170, 173), (80, 94, 170, 173), (95, 109, 170, 173), (110, 124, 170, 173)] (125, 139, 170, 173) [(140, 154, 170, 173), (155, 169, 170, 173), (34, 79, 179, 144), (80, 94, 179, 144), (95, 109, 179, 144), (110, 124, 179, 144), (125, 139, 179, 144), (140, 154, 179, 144), (155, 169, 179, 144), (34, 79, 188, 122), (80, 94, 188, 122), (95, 109, 188, 122), (110, 124, 188, 122), (125, 139, 188, 122), (140, 154, 188, 122), (155, 169, 188, 122)] rfl (zp_c (zp_f rfl) (zp_c (zp_f rfl) (zp_c (zp_f rfl) (zp_c (zp_f rfl) zp_n)))) rfl (by decide) q579 q591 rfl ?_
            refine z_astore (lv2 := [(4, .ref (qz228)), (3, .ref (xa (40 + sN))), (0, .ref (xa 0)), (1, .int (nI (sN))), (2, .int (nI (4)))]) X dX0_says_170 (Nat.le_of_ble_eq_true rfl) rfl ?_
            refine z_aload_n X dX0_says_172 rfl 2 rfl ?_
            refine z_bipush (v := (-3)) X dX0_says_173 (by decide) ?_
            refine z_ci (z_runV (rest := []) (n := 1) X [.int ((-3))] (m_X0_no_3 hX) dX0_says_175 hX.ob rfl (lw_V q350 q352 qs2 q66 q353) hv_X0_no rfl ⟨Nat.le_of_ble_eq_true rfl, Nat.le_of_ble_eq_true rfl⟩ ⟨by omega, by omega⟩ rfl (Nat.le_of_ble_eq_true rfl)) (fun r229 w231 h230 => ?_)
            obtain ⟨r229e, hX230⟩ := h230
            rw [r229e]
            have hcond : o.2.2.2.1 0 sN = 1 ∨ (o.2.2.2.1 0 sN = 2 ∧ under (o.2.2.2.1 3 sN) 4 = false) := Or.inr ⟨hk9, by rw [h6]; rfl⟩
            have e : spSays o (nI sN) (nI 4) = ((-3), oRef o 3) := by
              unfold spSays
              repeat (first | rw [el_some (by assumption)] | rw [el_none (by assumption)])
              rw [if_pos hcond]
              repeat (first | rw [if_pos (by omega)] | rw [if_neg (by omega)])
              all_goals first | rfl | (exfalso; omega)
            exact z_iret X dX0_says_178 (by omega) (by omega) ⟨_, rfl, (by rw [e]; exact ⟨⟨_, _, rfl, hX230⟩, rfl⟩)⟩
          · skip
            refine z_tabIn (off := 105) (tgt := 140) X dX0_says_35 (by decide) (by decide) (by decide) (by decide) ?_
            refine z_aload_n X dX0_says_140 rfl 0 rfl ?_
            refine zt_castNo X V (Is.obj X hr6 rfl) dX0_says_141 q556 [false, true, false, true, true, false, false, true, false, true] rfl (by decide) (by decide) (by decide +kernel) (by decide +kernel) (Nat.le_of_ble_eq_true rfl) (by omega) ⟨(by omega), (by omega)⟩ (fun qz232 => ?_)
            refine zt_catch X Y [(34, 79, 170, 173), (80, 94, 170, 173), (95, 109, 170, 173), (110, 124, 170, 173), (125, 139, 170, 173)] (140, 154, 170, 173) [(155, 169, 170, 173), (34, 79, 179, 144), (80, 94, 179, 144), (95, 109, 179, 144), (110, 124, 179, 144), (125, 139, 179, 144), (140, 154, 179, 144), (155, 169, 179, 144), (34, 79, 188, 122), (80, 94, 188, 122), (95, 109, 188, 122), (110, 124, 188, 122), (125, 139, 188, 122), (140, 154, 188, 122), (155, 169, 188, 122)] rfl (zp_c (zp_f rfl) (zp_c (zp_f rfl) (zp_c (zp_f rfl) (zp_c (zp_f rfl) (zp_c (zp_f rfl) zp_n))))) rfl (by decide) q579 q591 rfl ?_
            refine z_astore (lv2 := [(4, .ref (qz232)), (3, .ref (xa (40 + sN))), (0, .ref (xa 0)), (1, .int (nI (sN))), (2, .int (nI (5)))]) X dX0_says_170 (Nat.le_of_ble_eq_true rfl) rfl ?_
            refine z_aload_n X dX0_says_172 rfl 2 rfl ?_
            refine z_bipush (v := (-3)) X dX0_says_173 (by decide) ?_
            refine z_ci (z_runV (rest := []) (n := 1) X [.int ((-3))] (m_X0_no_3 hX) dX0_says_175 hX.ob rfl (lw_V q350 q352 qs2 q66 q353) hv_X0_no rfl ⟨Nat.le_of_ble_eq_true rfl, Nat.le_of_ble_eq_true rfl⟩ ⟨by omega, by omega⟩ rfl (Nat.le_of_ble_eq_true rfl)) (fun r233 w235 h234 => ?_)
            obtain ⟨r233e, hX234⟩ := h234
            rw [r233e]
            have hcond : o.2.2.2.1 0 sN = 1 ∨ (o.2.2.2.1 0 sN = 2 ∧ under (o.2.2.2.1 3 sN) 5 = false) := Or.inr ⟨hk9, by rw [h6]; rfl⟩
            have e : spSays o (nI sN) (nI 5) = ((-3), oRef o 3) := by
              unfold spSays
              repeat (first | rw [el_some (by assumption)] | rw [el_none (by assumption)])
              rw [if_pos hcond]
              repeat (first | rw [if_pos (by omega)] | rw [if_neg (by omega)])
              all_goals first | rfl | (exfalso; omega)
            exact z_iret X dX0_says_178 (by omega) (by omega) ⟨_, rfl, (by rw [e]; exact ⟨⟨_, _, rfl, hX234⟩, rfl⟩)⟩
          · skip
            refine z_tabOut (tgt := 155) X dX0_says_35 (by decide) (by decide) ?_
            refine z_aload_n X dX0_says_155 rfl 0 rfl ?_
            refine zt_castNo X V (Is.obj X hr6 rfl) dX0_says_156 q564 [false, true, false, true, true, true, true, true, false, false] rfl (by decide) (by decide) (by decide +kernel) (by decide +kernel) (Nat.le_of_ble_eq_true rfl) (by omega) ⟨(by omega), (by omega)⟩ (fun qz236 => ?_)
            refine zt_catch X Y [(34, 79, 170, 173), (80, 94, 170, 173), (95, 109, 170, 173), (110, 124, 170, 173), (125, 139, 170, 173), (140, 154, 170, 173)] (155, 169, 170, 173) [(34, 79, 179, 144), (80, 94, 179, 144), (95, 109, 179, 144), (110, 124, 179, 144), (125, 139, 179, 144), (140, 154, 179, 144), (155, 169, 179, 144), (34, 79, 188, 122), (80, 94, 188, 122), (95, 109, 188, 122), (110, 124, 188, 122), (125, 139, 188, 122), (140, 154, 188, 122), (155, 169, 188, 122)] rfl (zp_c (zp_f rfl) (zp_c (zp_f rfl) (zp_c (zp_f rfl) (zp_c (zp_f rfl) (zp_c (zp_f rfl) (zp_c (zp_f rfl) zp_n)))))) rfl (by decide) q579 q591 rfl ?_
            refine z_astore (lv2 := [(4, .ref (qz236)), (3, .ref (xa (40 + sN))), (0, .ref (xa 0)), (1, .int (nI (sN))), (2, .int (nI (6)))]) X dX0_says_170 (Nat.le_of_ble_eq_true rfl) rfl ?_
            refine z_aload_n X dX0_says_172 rfl 2 rfl ?_
            refine z_bipush (v := (-3)) X dX0_says_173 (by decide) ?_
            refine z_ci (z_runV (rest := []) (n := 1) X [.int ((-3))] (m_X0_no_3 hX) dX0_says_175 hX.ob rfl (lw_V q350 q352 qs2 q66 q353) hv_X0_no rfl ⟨Nat.le_of_ble_eq_true rfl, Nat.le_of_ble_eq_true rfl⟩ ⟨by omega, by omega⟩ rfl (Nat.le_of_ble_eq_true rfl)) (fun r237 w239 h238 => ?_)
            obtain ⟨r237e, hX238⟩ := h238
            rw [r237e]
            have hcond : o.2.2.2.1 0 sN = 1 ∨ (o.2.2.2.1 0 sN = 2 ∧ under (o.2.2.2.1 3 sN) 6 = false) := Or.inr ⟨hk9, by rw [h6]; rfl⟩
            have e : spSays o (nI sN) (nI 6) = ((-3), oRef o 3) := by
              unfold spSays
              repeat (first | rw [el_some (by assumption)] | rw [el_none (by assumption)])
              rw [if_pos hcond]
              repeat (first | rw [if_pos (by omega)] | rw [if_neg (by omega)])
              all_goals first | rfl | (exfalso; omega)
            exact z_iret X dX0_says_178 (by omega) (by omega) ⟨_, rfl, (by rw [e]; exact ⟨⟨_, _, rfl, hX238⟩, rfl⟩)⟩
        · have hr6 : w (xa (40 + sN)) = some (.inr (8, [.int (nI (o.2.2.2.1 4 sN))])) := by rw [h6] at hr9; exact hr9
          refine z_iload_n X dX0_says_34 rfl 3 rfl ?_
          rcases (show kN = 0 ∨ kN = 1 ∨ kN = 2 ∨ kN = 3 ∨ kN = 4 ∨ kN = 5 ∨ kN = 6 by omega) with rfl | rfl | rfl | rfl | rfl | rfl | rfl
          · skip
            refine z_tabIn (off := 37) (tgt := 72) X dX0_says_35 (by decide) (by decide) (by decide) (by decide) ?_
            refine z_aload_n X dX0_says_72 rfl 0 rfl ?_
            refine z_castY X (Is.obj X hr6 rfl) dX0_says_73 q388 q1962 ?_
            refine z_get X dX0_says_76 hr6 in_X9 rfl 0 (Nat.le_of_ble_eq_true rfl) q528 rfl ?_
            have hcond : ¬ (o.2.2.2.1 0 sN = 1 ∨ (o.2.2.2.1 0 sN = 2 ∧ under (o.2.2.2.1 3 sN) 0 = false)) := fun z => z.elim (fun q => by omega) (fun q => by rw [h6] at q; exact absurd q.2 (by decide))
            have e : spSays o (nI sN) (nI 0) = (nI (o.2.2.2.1 4 sN), o) := by
              unfold spSays
              repeat (first | rw [el_some (by assumption)] | rw [el_none (by assumption)])
              rw [if_neg hcond]
              repeat (first | rw [if_pos (by omega)] | rw [if_neg (by omega)])
              all_goals first | rfl | (exfalso; omega)
            exact z_iret X dX0_says_79 (by omega) (by omega) ⟨_, rfl, (by rw [e]; exact ⟨⟨_, _, rfl, hX⟩, rfl⟩)⟩
          · skip
            refine z_tabIn (off := 45) (tgt := 80) X dX0_says_35 (by decide) (by decide) (by decide) (by decide) ?_
            refine z_aload_n X dX0_says_80 rfl 0 rfl ?_
            refine z_castY X (Is.obj X hr6 rfl) dX0_says_81 q512 q1965 ?_
            refine z_aload_n X dX0_says_84 rfl 1 rfl ?_
            refine z_get X dX0_says_85 hX.ob in_X0 rfl 0 (Nat.le_of_ble_eq_true rfl) q233 rfl ?_
            refine z_get X dX0_says_88 hX.day in_X1 rfl 0 (Nat.le_of_ble_eq_true rfl) q190 rfl ?_
            refine z_xi (z_runXU (owner := "ThreeSizes$Rule") (x := ⟨"ThreeSizes$Least", "says", "(LThreeSizes$Wall;)I"⟩) (rest := []) (n := 1) X [.ref (xa 5)] (m_X6_says hX hO (s := sN) (by omega) hk9) dX0_says_91 hr6 rfl (lw_app (lw_in _ [593, 594, 598, 599, 82] (by decide +kernel) (by decide +kernel)) (lw_meth q600)) (by decide +kernel) (by decide +kernel) rfl ⟨Nat.le_of_ble_eq_true rfl, Nat.le_of_ble_eq_true rfl⟩ ⟨by omega, by omega⟩ rfl (Nat.le_of_ble_eq_true rfl)) (fun r240 w242 h241 => ?_) (fun E243 qz244 w246 h245 => ?_)
            · have hn9 := h241
              obtain ⟨xa241, rr241, hk241, hX241, hz241, r240e⟩ := h241
              rw [r240e]
              rw [← hk241 (40 + sN) (by omega) (by omega) (by omega)]
              rw [← hk241 0 (by omega) (by omega) (by omega)]
              have hcond : ¬ (o.2.2.2.1 0 sN = 1 ∨ (o.2.2.2.1 0 sN = 2 ∧ under (o.2.2.2.1 3 sN) 1 = false)) := fun z => z.elim (fun q => by omega) (fun q => by rw [h6] at q; exact absurd q.2 (by decide))
              have e : spSays o (nI sN) (nI 1) = (oI (rget o.1 (o.2.2.2.1 3 sN) (o.2.2.2.1 4 sN) (wiseT o.1 (o.2.2.2.1 4 sN)) 0 (stOf o.1)), o) := by
                unfold spSays
                repeat (first | rw [el_some (by assumption)] | rw [el_none (by assumption)])
                rw [if_neg hcond]
                repeat (first | rw [if_pos (by omega)] | rw [if_neg (by omega)])
                all_goals first | rfl | (exfalso; omega)
              exact z_iret X dX0_says_94 (by omega) (by omega) ⟨_, rfl, (by rw [e]; exact ⟨⟨_, _, (hk241 0 (by decide) (by decide) (by decide)), hX241⟩, rfl⟩)⟩
            · have hx9 := h245
              obtain ⟨⟨rfl, hn245, rfl⟩, hz245⟩ := h245
              have hX245 := XT.fresh hX hn245 (e := .inr (5, [.null, .null, .null, .null, .null, .int 0, .int (-5)]))
              refine zt_catch X Y [(34, 79, 170, 173), (80, 94, 170, 173), (95, 109, 170, 173), (110, 124, 170, 173), (125, 139, 170, 173), (140, 154, 170, 173), (155, 169, 170, 173), (34, 79, 179, 144), (80, 94, 179, 144), (95, 109, 179, 144), (110, 124, 179, 144), (125, 139, 179, 144), (140, 154, 179, 144), (155, 169, 179, 144), (34, 79, 188, 122)] (80, 94, 188, 122) [(95, 109, 188, 122), (110, 124, 188, 122), (125, 139, 188, 122), (140, 154, 188, 122), (155, 169, 188, 122)] rfl (zp_c (zp_f rfl) (zp_c (zp_o [false, false, true, false, true, true, true, false, false, true] (by decide) q579 rfl) (zp_c (zp_f rfl) (zp_c (zp_f rfl) (zp_c (zp_f rfl) (zp_c (zp_f rfl) (zp_c (zp_f rfl) (zp_c (zp_f rfl) (zp_c (zp_o [false, false, false, true, true, true, false, false, false, false] (by decide) q430 rfl) (zp_c (zp_f rfl) (zp_c (zp_f rfl) (zp_c (zp_f rfl) (zp_c (zp_f rfl) (zp_c (zp_f rfl) (zp_c (zp_f rfl) zp_n))))))))))))))) rfl (by decide) q364 q390 rfl ?_
              refine z_astore (lv2 := [(4, .ref (qz244)), (3, .ref (xa (40 + sN))), (0, .ref (xa 0)), (1, .int (nI (sN))), (2, .int (nI (1)))]) X dX0_says_188 (Nat.le_of_ble_eq_true rfl) rfl ?_
              refine z_aload_n X dX0_says_190 rfl 2 rfl ?_
              refine z_aload X dX0_says_191 0 rfl ?_
              refine z_get X dX0_says_193 gu_s in_X5 rfl 6 (Nat.le_of_ble_eq_true rfl) q410 rfl ?_
              refine z_ci (z_runV (rest := []) (n := 1) X [.int ((-5))] (m_X0_no_5 hX245) dX0_says_196 hX245.ob rfl (lw_V q350 q352 qs2 q66 q353) hv_X0_no rfl ⟨Nat.le_of_ble_eq_true rfl, Nat.le_of_ble_eq_true rfl⟩ ⟨by omega, by omega⟩ rfl (Nat.le_of_ble_eq_true rfl)) (fun r247 w249 h248 => ?_)
              obtain ⟨r247e, hX248⟩ := h248
              rw [r247e]
              have hcond : ¬ (o.2.2.2.1 0 sN = 1 ∨ (o.2.2.2.1 0 sN = 2 ∧ under (o.2.2.2.1 3 sN) 1 = false)) := fun z => z.elim (fun q => by omega) (fun q => by rw [h6] at q; exact absurd q.2 (by decide))
              have e : spSays o (nI sN) (nI 1) = ((-5), oRef o 5) := by
                unfold spSays
                repeat (first | rw [el_some (by assumption)] | rw [el_none (by assumption)])
                rw [if_neg hcond]
                repeat (first | rw [if_pos (by omega)] | rw [if_neg (by omega)])
                all_goals first | rfl | (exfalso; omega)
              exact z_iret X dX0_says_199 (by omega) (by omega) ⟨_, rfl, (by rw [e]; exact ⟨⟨_, _, rfl, hX248⟩, rfl⟩)⟩
          · skip
            refine z_tabIn (off := 60) (tgt := 95) X dX0_says_35 (by decide) (by decide) (by decide) (by decide) ?_
            refine z_aload_n X dX0_says_95 rfl 0 rfl ?_
            refine zt_castNo X V (Is.obj X hr6 rfl) dX0_says_96 q532 [false, true, false, false, false, true, true, true, false, false] rfl (by decide) (by decide) (by decide +kernel) (by decide +kernel) (Nat.le_of_ble_eq_true rfl) (by omega) ⟨(by omega), (by omega)⟩ (fun qz250 => ?_)
            refine zt_catch X Y [(34, 79, 170, 173), (80, 94, 170, 173)] (95, 109, 170, 173) [(110, 124, 170, 173), (125, 139, 170, 173), (140, 154, 170, 173), (155, 169, 170, 173), (34, 79, 179, 144), (80, 94, 179, 144), (95, 109, 179, 144), (110, 124, 179, 144), (125, 139, 179, 144), (140, 154, 179, 144), (155, 169, 179, 144), (34, 79, 188, 122), (80, 94, 188, 122), (95, 109, 188, 122), (110, 124, 188, 122), (125, 139, 188, 122), (140, 154, 188, 122), (155, 169, 188, 122)] rfl (zp_c (zp_f rfl) (zp_c (zp_f rfl) zp_n)) rfl (by decide) q579 q591 rfl ?_
            refine z_astore (lv2 := [(4, .ref (qz250)), (3, .ref (xa (40 + sN))), (0, .ref (xa 0)), (1, .int (nI (sN))), (2, .int (nI (2)))]) X dX0_says_170 (Nat.le_of_ble_eq_true rfl) rfl ?_
            refine z_aload_n X dX0_says_172 rfl 2 rfl ?_
            refine z_bipush (v := (-3)) X dX0_says_173 (by decide) ?_
            refine z_ci (z_runV (rest := []) (n := 1) X [.int ((-3))] (m_X0_no_3 hX) dX0_says_175 hX.ob rfl (lw_V q350 q352 qs2 q66 q353) hv_X0_no rfl ⟨Nat.le_of_ble_eq_true rfl, Nat.le_of_ble_eq_true rfl⟩ ⟨by omega, by omega⟩ rfl (Nat.le_of_ble_eq_true rfl)) (fun r251 w253 h252 => ?_)
            obtain ⟨r251e, hX252⟩ := h252
            rw [r251e]
            have hcond : o.2.2.2.1 0 sN = 1 ∨ (o.2.2.2.1 0 sN = 2 ∧ under (o.2.2.2.1 3 sN) 2 = false) := Or.inr ⟨hk9, by rw [h6]; rfl⟩
            have e : spSays o (nI sN) (nI 2) = ((-3), oRef o 3) := by
              unfold spSays
              repeat (first | rw [el_some (by assumption)] | rw [el_none (by assumption)])
              rw [if_pos hcond]
              repeat (first | rw [if_pos (by omega)] | rw [if_neg (by omega)])
              all_goals first | rfl | (exfalso; omega)
            exact z_iret X dX0_says_178 (by omega) (by omega) ⟨_, rfl, (by rw [e]; exact ⟨⟨_, _, rfl, hX252⟩, rfl⟩)⟩
          · skip
            refine z_tabIn (off := 75) (tgt := 110) X dX0_says_35 (by decide) (by decide) (by decide) (by decide) ?_
            refine z_aload_n X dX0_says_110 rfl 0 rfl ?_
            refine z_castE X (Is.obj X hr6 rfl) dX0_says_111 q540 ?_
            refine z_aload_n X dX0_says_114 rfl 1 rfl ?_
            refine z_get X dX0_says_115 hX.ob in_X0 rfl 0 (Nat.le_of_ble_eq_true rfl) q233 rfl ?_
            refine z_get X dX0_says_118 hX.day in_X1 rfl 0 (Nat.le_of_ble_eq_true rfl) q190 rfl ?_
            refine z_xi (z_runXU (owner := "ThreeSizes$Rule") (x := ⟨"ThreeSizes$Some", "says", "(LThreeSizes$Wall;)I"⟩) (rest := []) (n := 1) X [.ref (xa 5)] (m_X6_says hX hO (s := sN) (by omega) hk9) dX0_says_121 hr6 rfl (lw_app (lw_in _ [753, 754, 755, 599, 82] (by decide +kernel) (by decide +kernel)) (lw_meth q600)) (by decide +kernel) (by decide +kernel) rfl ⟨Nat.le_of_ble_eq_true rfl, Nat.le_of_ble_eq_true rfl⟩ ⟨by omega, by omega⟩ rfl (Nat.le_of_ble_eq_true rfl)) (fun r254 w256 h255 => ?_) (fun E257 qz258 w260 h259 => ?_)
            · have hn9 := h255
              obtain ⟨xa255, rr255, hk255, hX255, hz255, r254e⟩ := h255
              rw [r254e]
              rw [← hk255 (40 + sN) (by omega) (by omega) (by omega)]
              rw [← hk255 0 (by omega) (by omega) (by omega)]
              have hcond : ¬ (o.2.2.2.1 0 sN = 1 ∨ (o.2.2.2.1 0 sN = 2 ∧ under (o.2.2.2.1 3 sN) 3 = false)) := fun z => z.elim (fun q => by omega) (fun q => by rw [h6] at q; exact absurd q.2 (by decide))
              have e : spSays o (nI sN) (nI 3) = (oI (rget o.1 (o.2.2.2.1 3 sN) (o.2.2.2.1 4 sN) (wiseT o.1 (o.2.2.2.1 4 sN)) 0 (stOf o.1)), o) := by
                unfold spSays
                repeat (first | rw [el_some (by assumption)] | rw [el_none (by assumption)])
                rw [if_neg hcond]
                repeat (first | rw [if_pos (by omega)] | rw [if_neg (by omega)])
                all_goals first | rfl | (exfalso; omega)
              exact z_iret X dX0_says_124 (by omega) (by omega) ⟨_, rfl, (by rw [e]; exact ⟨⟨_, _, (hk255 0 (by decide) (by decide) (by decide)), hX255⟩, rfl⟩)⟩
            · have hx9 := h259
              obtain ⟨⟨rfl, hn259, rfl⟩, hz259⟩ := h259
              have hX259 := XT.fresh hX hn259 (e := .inr (5, [.null, .null, .null, .null, .null, .int 0, .int (-5)]))
              refine zt_catch X Y [(34, 79, 170, 173), (80, 94, 170, 173), (95, 109, 170, 173), (110, 124, 170, 173), (125, 139, 170, 173), (140, 154, 170, 173), (155, 169, 170, 173), (34, 79, 179, 144), (80, 94, 179, 144), (95, 109, 179, 144), (110, 124, 179, 144), (125, 139, 179, 144), (140, 154, 179, 144), (155, 169, 179, 144), (34, 79, 188, 122), (80, 94, 188, 122), (95, 109, 188, 122)] (110, 124, 188, 122) [(125, 139, 188, 122), (140, 154, 188, 122), (155, 169, 188, 122)] rfl (zp_c (zp_f rfl) (zp_c (zp_f rfl) (zp_c (zp_f rfl) (zp_c (zp_o [false, false, true, false, true, true, true, false, false, true] (by decide) q579 rfl) (zp_c (zp_f rfl) (zp_c (zp_f rfl) (zp_c (zp_f rfl) (zp_c (zp_f rfl) (zp_c (zp_f rfl) (zp_c (zp_f rfl) (zp_c (zp_o [false, false, false, true, true, true, false, false, false, false] (by decide) q430 rfl) (zp_c (zp_f rfl) (zp_c (zp_f rfl) (zp_c (zp_f rfl) (zp_c (zp_f rfl) (zp_c (zp_f rfl) (zp_c (zp_f rfl) zp_n))))))))))))))))) rfl (by decide) q364 q390 rfl ?_
              refine z_astore (lv2 := [(4, .ref (qz258)), (3, .ref (xa (40 + sN))), (0, .ref (xa 0)), (1, .int (nI (sN))), (2, .int (nI (3)))]) X dX0_says_188 (Nat.le_of_ble_eq_true rfl) rfl ?_
              refine z_aload_n X dX0_says_190 rfl 2 rfl ?_
              refine z_aload X dX0_says_191 0 rfl ?_
              refine z_get X dX0_says_193 gu_s in_X5 rfl 6 (Nat.le_of_ble_eq_true rfl) q410 rfl ?_
              refine z_ci (z_runV (rest := []) (n := 1) X [.int ((-5))] (m_X0_no_5 hX259) dX0_says_196 hX259.ob rfl (lw_V q350 q352 qs2 q66 q353) hv_X0_no rfl ⟨Nat.le_of_ble_eq_true rfl, Nat.le_of_ble_eq_true rfl⟩ ⟨by omega, by omega⟩ rfl (Nat.le_of_ble_eq_true rfl)) (fun r261 w263 h262 => ?_)
              obtain ⟨r261e, hX262⟩ := h262
              rw [r261e]
              have hcond : ¬ (o.2.2.2.1 0 sN = 1 ∨ (o.2.2.2.1 0 sN = 2 ∧ under (o.2.2.2.1 3 sN) 3 = false)) := fun z => z.elim (fun q => by omega) (fun q => by rw [h6] at q; exact absurd q.2 (by decide))
              have e : spSays o (nI sN) (nI 3) = ((-5), oRef o 5) := by
                unfold spSays
                repeat (first | rw [el_some (by assumption)] | rw [el_none (by assumption)])
                rw [if_neg hcond]
                repeat (first | rw [if_pos (by omega)] | rw [if_neg (by omega)])
                all_goals first | rfl | (exfalso; omega)
              exact z_iret X dX0_says_199 (by omega) (by omega) ⟨_, rfl, (by rw [e]; exact ⟨⟨_, _, rfl, hX262⟩, rfl⟩)⟩
          · skip
            refine z_tabIn (off := 90) (tgt := 125) X dX0_says_35 (by decide) (by decide) (by decide) (by decide) ?_
            refine z_aload_n X dX0_says_125 rfl 0 rfl ?_
            refine zt_castNo X V (Is.obj X hr6 rfl) dX0_says_126 q548 [false, true, false, true, false, false, true, true, true, false] rfl (by decide) (by decide) (by decide +kernel) (by decide +kernel) (Nat.le_of_ble_eq_true rfl) (by omega) ⟨(by omega), (by omega)⟩ (fun qz264 => ?_)
            refine zt_catch X Y [(34, 79, 170, 173), (80, 94, 170, 173), (95, 109, 170, 173), (110, 124, 170, 173)] (125, 139, 170, 173) [(140, 154, 170, 173), (155, 169, 170, 173), (34, 79, 179, 144), (80, 94, 179, 144), (95, 109, 179, 144), (110, 124, 179, 144), (125, 139, 179, 144), (140, 154, 179, 144), (155, 169, 179, 144), (34, 79, 188, 122), (80, 94, 188, 122), (95, 109, 188, 122), (110, 124, 188, 122), (125, 139, 188, 122), (140, 154, 188, 122), (155, 169, 188, 122)] rfl (zp_c (zp_f rfl) (zp_c (zp_f rfl) (zp_c (zp_f rfl) (zp_c (zp_f rfl) zp_n)))) rfl (by decide) q579 q591 rfl ?_
            refine z_astore (lv2 := [(4, .ref (qz264)), (3, .ref (xa (40 + sN))), (0, .ref (xa 0)), (1, .int (nI (sN))), (2, .int (nI (4)))]) X dX0_says_170 (Nat.le_of_ble_eq_true rfl) rfl ?_
            refine z_aload_n X dX0_says_172 rfl 2 rfl ?_
            refine z_bipush (v := (-3)) X dX0_says_173 (by decide) ?_
            refine z_ci (z_runV (rest := []) (n := 1) X [.int ((-3))] (m_X0_no_3 hX) dX0_says_175 hX.ob rfl (lw_V q350 q352 qs2 q66 q353) hv_X0_no rfl ⟨Nat.le_of_ble_eq_true rfl, Nat.le_of_ble_eq_true rfl⟩ ⟨by omega, by omega⟩ rfl (Nat.le_of_ble_eq_true rfl)) (fun r265 w267 h266 => ?_)
            obtain ⟨r265e, hX266⟩ := h266
            rw [r265e]
            have hcond : o.2.2.2.1 0 sN = 1 ∨ (o.2.2.2.1 0 sN = 2 ∧ under (o.2.2.2.1 3 sN) 4 = false) := Or.inr ⟨hk9, by rw [h6]; rfl⟩
            have e : spSays o (nI sN) (nI 4) = ((-3), oRef o 3) := by
              unfold spSays
              repeat (first | rw [el_some (by assumption)] | rw [el_none (by assumption)])
              rw [if_pos hcond]
              repeat (first | rw [if_pos (by omega)] | rw [if_neg (by omega)])
              all_goals first | rfl | (exfalso; omega)
            exact z_iret X dX0_says_178 (by omega) (by omega) ⟨_, rfl, (by rw [e]; exact ⟨⟨_, _, rfl, hX266⟩, rfl⟩)⟩
          · skip
            refine z_tabIn (off := 105) (tgt := 140) X dX0_says_35 (by decide) (by decide) (by decide) (by decide) ?_
            refine z_aload_n X dX0_says_140 rfl 0 rfl ?_
            refine zt_castNo X V (Is.obj X hr6 rfl) dX0_says_141 q556 [false, true, false, true, true, false, false, true, true, false] rfl (by decide) (by decide) (by decide +kernel) (by decide +kernel) (Nat.le_of_ble_eq_true rfl) (by omega) ⟨(by omega), (by omega)⟩ (fun qz268 => ?_)
            refine zt_catch X Y [(34, 79, 170, 173), (80, 94, 170, 173), (95, 109, 170, 173), (110, 124, 170, 173), (125, 139, 170, 173)] (140, 154, 170, 173) [(155, 169, 170, 173), (34, 79, 179, 144), (80, 94, 179, 144), (95, 109, 179, 144), (110, 124, 179, 144), (125, 139, 179, 144), (140, 154, 179, 144), (155, 169, 179, 144), (34, 79, 188, 122), (80, 94, 188, 122), (95, 109, 188, 122), (110, 124, 188, 122), (125, 139, 188, 122), (140, 154, 188, 122), (155, 169, 188, 122)] rfl (zp_c (zp_f rfl) (zp_c (zp_f rfl) (zp_c (zp_f rfl) (zp_c (zp_f rfl) (zp_c (zp_f rfl) zp_n))))) rfl (by decide) q579 q591 rfl ?_
            refine z_astore (lv2 := [(4, .ref (qz268)), (3, .ref (xa (40 + sN))), (0, .ref (xa 0)), (1, .int (nI (sN))), (2, .int (nI (5)))]) X dX0_says_170 (Nat.le_of_ble_eq_true rfl) rfl ?_
            refine z_aload_n X dX0_says_172 rfl 2 rfl ?_
            refine z_bipush (v := (-3)) X dX0_says_173 (by decide) ?_
            refine z_ci (z_runV (rest := []) (n := 1) X [.int ((-3))] (m_X0_no_3 hX) dX0_says_175 hX.ob rfl (lw_V q350 q352 qs2 q66 q353) hv_X0_no rfl ⟨Nat.le_of_ble_eq_true rfl, Nat.le_of_ble_eq_true rfl⟩ ⟨by omega, by omega⟩ rfl (Nat.le_of_ble_eq_true rfl)) (fun r269 w271 h270 => ?_)
            obtain ⟨r269e, hX270⟩ := h270
            rw [r269e]
            have hcond : o.2.2.2.1 0 sN = 1 ∨ (o.2.2.2.1 0 sN = 2 ∧ under (o.2.2.2.1 3 sN) 5 = false) := Or.inr ⟨hk9, by rw [h6]; rfl⟩
            have e : spSays o (nI sN) (nI 5) = ((-3), oRef o 3) := by
              unfold spSays
              repeat (first | rw [el_some (by assumption)] | rw [el_none (by assumption)])
              rw [if_pos hcond]
              repeat (first | rw [if_pos (by omega)] | rw [if_neg (by omega)])
              all_goals first | rfl | (exfalso; omega)
            exact z_iret X dX0_says_178 (by omega) (by omega) ⟨_, rfl, (by rw [e]; exact ⟨⟨_, _, rfl, hX270⟩, rfl⟩)⟩
          · skip
            refine z_tabOut (tgt := 155) X dX0_says_35 (by decide) (by decide) ?_
            refine z_aload_n X dX0_says_155 rfl 0 rfl ?_
            refine zt_castNo X V (Is.obj X hr6 rfl) dX0_says_156 q564 [false, true, false, true, true, true, true, true, false, true] rfl (by decide) (by decide) (by decide +kernel) (by decide +kernel) (Nat.le_of_ble_eq_true rfl) (by omega) ⟨(by omega), (by omega)⟩ (fun qz272 => ?_)
            refine zt_catch X Y [(34, 79, 170, 173), (80, 94, 170, 173), (95, 109, 170, 173), (110, 124, 170, 173), (125, 139, 170, 173), (140, 154, 170, 173)] (155, 169, 170, 173) [(34, 79, 179, 144), (80, 94, 179, 144), (95, 109, 179, 144), (110, 124, 179, 144), (125, 139, 179, 144), (140, 154, 179, 144), (155, 169, 179, 144), (34, 79, 188, 122), (80, 94, 188, 122), (95, 109, 188, 122), (110, 124, 188, 122), (125, 139, 188, 122), (140, 154, 188, 122), (155, 169, 188, 122)] rfl (zp_c (zp_f rfl) (zp_c (zp_f rfl) (zp_c (zp_f rfl) (zp_c (zp_f rfl) (zp_c (zp_f rfl) (zp_c (zp_f rfl) zp_n)))))) rfl (by decide) q579 q591 rfl ?_
            refine z_astore (lv2 := [(4, .ref (qz272)), (3, .ref (xa (40 + sN))), (0, .ref (xa 0)), (1, .int (nI (sN))), (2, .int (nI (6)))]) X dX0_says_170 (Nat.le_of_ble_eq_true rfl) rfl ?_
            refine z_aload_n X dX0_says_172 rfl 2 rfl ?_
            refine z_bipush (v := (-3)) X dX0_says_173 (by decide) ?_
            refine z_ci (z_runV (rest := []) (n := 1) X [.int ((-3))] (m_X0_no_3 hX) dX0_says_175 hX.ob rfl (lw_V q350 q352 qs2 q66 q353) hv_X0_no rfl ⟨Nat.le_of_ble_eq_true rfl, Nat.le_of_ble_eq_true rfl⟩ ⟨by omega, by omega⟩ rfl (Nat.le_of_ble_eq_true rfl)) (fun r273 w275 h274 => ?_)
            obtain ⟨r273e, hX274⟩ := h274
            rw [r273e]
            have hcond : o.2.2.2.1 0 sN = 1 ∨ (o.2.2.2.1 0 sN = 2 ∧ under (o.2.2.2.1 3 sN) 6 = false) := Or.inr ⟨hk9, by rw [h6]; rfl⟩
            have e : spSays o (nI sN) (nI 6) = ((-3), oRef o 3) := by
              unfold spSays
              repeat (first | rw [el_some (by assumption)] | rw [el_none (by assumption)])
              rw [if_pos hcond]
              repeat (first | rw [if_pos (by omega)] | rw [if_neg (by omega)])
              all_goals first | rfl | (exfalso; omega)
            exact z_iret X dX0_says_178 (by omega) (by omega) ⟨_, rfl, (by rw [e]; exact ⟨⟨_, _, rfl, hX274⟩, rfl⟩)⟩
        · have hr6 : w (xa (40 + sN)) = some (.inr (9, [.int (nI (o.2.2.2.1 4 sN))])) := by rw [h6] at hr9; exact hr9
          refine z_iload_n X dX0_says_34 rfl 3 rfl ?_
          rcases (show kN = 0 ∨ kN = 1 ∨ kN = 2 ∨ kN = 3 ∨ kN = 4 ∨ kN = 5 ∨ kN = 6 by omega) with rfl | rfl | rfl | rfl | rfl | rfl | rfl
          · skip
            refine z_tabIn (off := 37) (tgt := 72) X dX0_says_35 (by decide) (by decide) (by decide) (by decide) ?_
            refine z_aload_n X dX0_says_72 rfl 0 rfl ?_
            refine z_castY X (Is.obj X hr6 rfl) dX0_says_73 q388 q1959 ?_
            refine z_get X dX0_says_76 hr6 in_X10 rfl 0 (Nat.le_of_ble_eq_true rfl) q528 rfl ?_
            have hcond : ¬ (o.2.2.2.1 0 sN = 1 ∨ (o.2.2.2.1 0 sN = 2 ∧ under (o.2.2.2.1 3 sN) 0 = false)) := fun z => z.elim (fun q => by omega) (fun q => by rw [h6] at q; exact absurd q.2 (by decide))
            have e : spSays o (nI sN) (nI 0) = (nI (o.2.2.2.1 4 sN), o) := by
              unfold spSays
              repeat (first | rw [el_some (by assumption)] | rw [el_none (by assumption)])
              rw [if_neg hcond]
              repeat (first | rw [if_pos (by omega)] | rw [if_neg (by omega)])
              all_goals first | rfl | (exfalso; omega)
            exact z_iret X dX0_says_79 (by omega) (by omega) ⟨_, rfl, (by rw [e]; exact ⟨⟨_, _, rfl, hX⟩, rfl⟩)⟩
          · skip
            refine z_tabIn (off := 45) (tgt := 80) X dX0_says_35 (by decide) (by decide) (by decide) (by decide) ?_
            refine z_aload_n X dX0_says_80 rfl 0 rfl ?_
            refine zt_castNo X V (Is.obj X hr6 rfl) dX0_says_81 q512 [false, true, false, false, false, false, false, true, false, true] rfl (by decide) (by decide) (by decide +kernel) (by decide +kernel) (Nat.le_of_ble_eq_true rfl) (by omega) ⟨(by omega), (by omega)⟩ (fun qz276 => ?_)
            refine zt_catch X Y [(34, 79, 170, 173)] (80, 94, 170, 173) [(95, 109, 170, 173), (110, 124, 170, 173), (125, 139, 170, 173), (140, 154, 170, 173), (155, 169, 170, 173), (34, 79, 179, 144), (80, 94, 179, 144), (95, 109, 179, 144), (110, 124, 179, 144), (125, 139, 179, 144), (140, 154, 179, 144), (155, 169, 179, 144), (34, 79, 188, 122), (80, 94, 188, 122), (95, 109, 188, 122), (110, 124, 188, 122), (125, 139, 188, 122), (140, 154, 188, 122), (155, 169, 188, 122)] rfl (zp_c (zp_f rfl) zp_n) rfl (by decide) q579 q591 rfl ?_
            refine z_astore (lv2 := [(4, .ref (qz276)), (3, .ref (xa (40 + sN))), (0, .ref (xa 0)), (1, .int (nI (sN))), (2, .int (nI (1)))]) X dX0_says_170 (Nat.le_of_ble_eq_true rfl) rfl ?_
            refine z_aload_n X dX0_says_172 rfl 2 rfl ?_
            refine z_bipush (v := (-3)) X dX0_says_173 (by decide) ?_
            refine z_ci (z_runV (rest := []) (n := 1) X [.int ((-3))] (m_X0_no_3 hX) dX0_says_175 hX.ob rfl (lw_V q350 q352 qs2 q66 q353) hv_X0_no rfl ⟨Nat.le_of_ble_eq_true rfl, Nat.le_of_ble_eq_true rfl⟩ ⟨by omega, by omega⟩ rfl (Nat.le_of_ble_eq_true rfl)) (fun r277 w279 h278 => ?_)
            obtain ⟨r277e, hX278⟩ := h278
            rw [r277e]
            have hcond : o.2.2.2.1 0 sN = 1 ∨ (o.2.2.2.1 0 sN = 2 ∧ under (o.2.2.2.1 3 sN) 1 = false) := Or.inr ⟨hk9, by rw [h6]; rfl⟩
            have e : spSays o (nI sN) (nI 1) = ((-3), oRef o 3) := by
              unfold spSays
              repeat (first | rw [el_some (by assumption)] | rw [el_none (by assumption)])
              rw [if_pos hcond]
              repeat (first | rw [if_pos (by omega)] | rw [if_neg (by omega)])
              all_goals first | rfl | (exfalso; omega)
            exact z_iret X dX0_says_178 (by omega) (by omega) ⟨_, rfl, (by rw [e]; exact ⟨⟨_, _, rfl, hX278⟩, rfl⟩)⟩
          · skip
            refine z_tabIn (off := 60) (tgt := 95) X dX0_says_35 (by decide) (by decide) (by decide) (by decide) ?_
            refine z_aload_n X dX0_says_95 rfl 0 rfl ?_
            refine zt_castNo X V (Is.obj X hr6 rfl) dX0_says_96 q532 [false, true, false, false, false, true, true, true, false, true] rfl (by decide) (by decide) (by decide +kernel) (by decide +kernel) (Nat.le_of_ble_eq_true rfl) (by omega) ⟨(by omega), (by omega)⟩ (fun qz280 => ?_)
            refine zt_catch X Y [(34, 79, 170, 173), (80, 94, 170, 173)] (95, 109, 170, 173) [(110, 124, 170, 173), (125, 139, 170, 173), (140, 154, 170, 173), (155, 169, 170, 173), (34, 79, 179, 144), (80, 94, 179, 144), (95, 109, 179, 144), (110, 124, 179, 144), (125, 139, 179, 144), (140, 154, 179, 144), (155, 169, 179, 144), (34, 79, 188, 122), (80, 94, 188, 122), (95, 109, 188, 122), (110, 124, 188, 122), (125, 139, 188, 122), (140, 154, 188, 122), (155, 169, 188, 122)] rfl (zp_c (zp_f rfl) (zp_c (zp_f rfl) zp_n)) rfl (by decide) q579 q591 rfl ?_
            refine z_astore (lv2 := [(4, .ref (qz280)), (3, .ref (xa (40 + sN))), (0, .ref (xa 0)), (1, .int (nI (sN))), (2, .int (nI (2)))]) X dX0_says_170 (Nat.le_of_ble_eq_true rfl) rfl ?_
            refine z_aload_n X dX0_says_172 rfl 2 rfl ?_
            refine z_bipush (v := (-3)) X dX0_says_173 (by decide) ?_
            refine z_ci (z_runV (rest := []) (n := 1) X [.int ((-3))] (m_X0_no_3 hX) dX0_says_175 hX.ob rfl (lw_V q350 q352 qs2 q66 q353) hv_X0_no rfl ⟨Nat.le_of_ble_eq_true rfl, Nat.le_of_ble_eq_true rfl⟩ ⟨by omega, by omega⟩ rfl (Nat.le_of_ble_eq_true rfl)) (fun r281 w283 h282 => ?_)
            obtain ⟨r281e, hX282⟩ := h282
            rw [r281e]
            have hcond : o.2.2.2.1 0 sN = 1 ∨ (o.2.2.2.1 0 sN = 2 ∧ under (o.2.2.2.1 3 sN) 2 = false) := Or.inr ⟨hk9, by rw [h6]; rfl⟩
            have e : spSays o (nI sN) (nI 2) = ((-3), oRef o 3) := by
              unfold spSays
              repeat (first | rw [el_some (by assumption)] | rw [el_none (by assumption)])
              rw [if_pos hcond]
              repeat (first | rw [if_pos (by omega)] | rw [if_neg (by omega)])
              all_goals first | rfl | (exfalso; omega)
            exact z_iret X dX0_says_178 (by omega) (by omega) ⟨_, rfl, (by rw [e]; exact ⟨⟨_, _, rfl, hX282⟩, rfl⟩)⟩
          · skip
            refine z_tabIn (off := 75) (tgt := 110) X dX0_says_35 (by decide) (by decide) (by decide) (by decide) ?_
            refine z_aload_n X dX0_says_110 rfl 0 rfl ?_
            refine zt_castNo X V (Is.obj X hr6 rfl) dX0_says_111 q540 [false, true, false, false, true, true, false, true, true, false] rfl (by decide) (by decide) (by decide +kernel) (by decide +kernel) (Nat.le_of_ble_eq_true rfl) (by omega) ⟨(by omega), (by omega)⟩ (fun qz284 => ?_)
            refine zt_catch X Y [(34, 79, 170, 173), (80, 94, 170, 173), (95, 109, 170, 173)] (110, 124, 170, 173) [(125, 139, 170, 173), (140, 154, 170, 173), (155, 169, 170, 173), (34, 79, 179, 144), (80, 94, 179, 144), (95, 109, 179, 144), (110, 124, 179, 144), (125, 139, 179, 144), (140, 154, 179, 144), (155, 169, 179, 144), (34, 79, 188, 122), (80, 94, 188, 122), (95, 109, 188, 122), (110, 124, 188, 122), (125, 139, 188, 122), (140, 154, 188, 122), (155, 169, 188, 122)] rfl (zp_c (zp_f rfl) (zp_c (zp_f rfl) (zp_c (zp_f rfl) zp_n))) rfl (by decide) q579 q591 rfl ?_
            refine z_astore (lv2 := [(4, .ref (qz284)), (3, .ref (xa (40 + sN))), (0, .ref (xa 0)), (1, .int (nI (sN))), (2, .int (nI (3)))]) X dX0_says_170 (Nat.le_of_ble_eq_true rfl) rfl ?_
            refine z_aload_n X dX0_says_172 rfl 2 rfl ?_
            refine z_bipush (v := (-3)) X dX0_says_173 (by decide) ?_
            refine z_ci (z_runV (rest := []) (n := 1) X [.int ((-3))] (m_X0_no_3 hX) dX0_says_175 hX.ob rfl (lw_V q350 q352 qs2 q66 q353) hv_X0_no rfl ⟨Nat.le_of_ble_eq_true rfl, Nat.le_of_ble_eq_true rfl⟩ ⟨by omega, by omega⟩ rfl (Nat.le_of_ble_eq_true rfl)) (fun r285 w287 h286 => ?_)
            obtain ⟨r285e, hX286⟩ := h286
            rw [r285e]
            have hcond : o.2.2.2.1 0 sN = 1 ∨ (o.2.2.2.1 0 sN = 2 ∧ under (o.2.2.2.1 3 sN) 3 = false) := Or.inr ⟨hk9, by rw [h6]; rfl⟩
            have e : spSays o (nI sN) (nI 3) = ((-3), oRef o 3) := by
              unfold spSays
              repeat (first | rw [el_some (by assumption)] | rw [el_none (by assumption)])
              rw [if_pos hcond]
              repeat (first | rw [if_pos (by omega)] | rw [if_neg (by omega)])
              all_goals first | rfl | (exfalso; omega)
            exact z_iret X dX0_says_178 (by omega) (by omega) ⟨_, rfl, (by rw [e]; exact ⟨⟨_, _, rfl, hX286⟩, rfl⟩)⟩
          · skip
            refine z_tabIn (off := 90) (tgt := 125) X dX0_says_35 (by decide) (by decide) (by decide) (by decide) ?_
            refine z_aload_n X dX0_says_125 rfl 0 rfl ?_
            refine z_castE X (Is.obj X hr6 rfl) dX0_says_126 q548 ?_
            refine z_aload_n X dX0_says_129 rfl 1 rfl ?_
            refine z_get X dX0_says_130 hX.ob in_X0 rfl 0 (Nat.le_of_ble_eq_true rfl) q233 rfl ?_
            refine z_get X dX0_says_133 hX.day in_X1 rfl 0 (Nat.le_of_ble_eq_true rfl) q190 rfl ?_
            refine z_xi (z_runXU (owner := "ThreeSizes$Rule") (x := ⟨"ThreeSizes$Great", "says", "(LThreeSizes$Wall;)I"⟩) (rest := []) (n := 1) X [.ref (xa 5)] (m_X6_says hX hO (s := sN) (by omega) hk9) dX0_says_136 hr6 rfl (lw_app (lw_in _ [756, 757, 759, 599, 82] (by decide +kernel) (by decide +kernel)) (lw_meth q600)) (by decide +kernel) (by decide +kernel) rfl ⟨Nat.le_of_ble_eq_true rfl, Nat.le_of_ble_eq_true rfl⟩ ⟨by omega, by omega⟩ rfl (Nat.le_of_ble_eq_true rfl)) (fun r288 w290 h289 => ?_) (fun E291 qz292 w294 h293 => ?_)
            · have hn9 := h289
              obtain ⟨xa289, rr289, hk289, hX289, hz289, r288e⟩ := h289
              rw [r288e]
              rw [← hk289 (40 + sN) (by omega) (by omega) (by omega)]
              rw [← hk289 0 (by omega) (by omega) (by omega)]
              have hcond : ¬ (o.2.2.2.1 0 sN = 1 ∨ (o.2.2.2.1 0 sN = 2 ∧ under (o.2.2.2.1 3 sN) 4 = false)) := fun z => z.elim (fun q => by omega) (fun q => by rw [h6] at q; exact absurd q.2 (by decide))
              have e : spSays o (nI sN) (nI 4) = (oI (rget o.1 (o.2.2.2.1 3 sN) (o.2.2.2.1 4 sN) (wiseT o.1 (o.2.2.2.1 4 sN)) 0 (stOf o.1)), o) := by
                unfold spSays
                repeat (first | rw [el_some (by assumption)] | rw [el_none (by assumption)])
                rw [if_neg hcond]
                repeat (first | rw [if_pos (by omega)] | rw [if_neg (by omega)])
                all_goals first | rfl | (exfalso; omega)
              exact z_iret X dX0_says_139 (by omega) (by omega) ⟨_, rfl, (by rw [e]; exact ⟨⟨_, _, (hk289 0 (by decide) (by decide) (by decide)), hX289⟩, rfl⟩)⟩
            · have hx9 := h293
              obtain ⟨⟨rfl, hn293, rfl⟩, hz293⟩ := h293
              have hX293 := XT.fresh hX hn293 (e := .inr (5, [.null, .null, .null, .null, .null, .int 0, .int (-5)]))
              refine zt_catch X Y [(34, 79, 170, 173), (80, 94, 170, 173), (95, 109, 170, 173), (110, 124, 170, 173), (125, 139, 170, 173), (140, 154, 170, 173), (155, 169, 170, 173), (34, 79, 179, 144), (80, 94, 179, 144), (95, 109, 179, 144), (110, 124, 179, 144), (125, 139, 179, 144), (140, 154, 179, 144), (155, 169, 179, 144), (34, 79, 188, 122), (80, 94, 188, 122), (95, 109, 188, 122), (110, 124, 188, 122)] (125, 139, 188, 122) [(140, 154, 188, 122), (155, 169, 188, 122)] rfl (zp_c (zp_f rfl) (zp_c (zp_f rfl) (zp_c (zp_f rfl) (zp_c (zp_f rfl) (zp_c (zp_o [false, false, true, false, true, true, true, false, false, true] (by decide) q579 rfl) (zp_c (zp_f rfl) (zp_c (zp_f rfl) (zp_c (zp_f rfl) (zp_c (zp_f rfl) (zp_c (zp_f rfl) (zp_c (zp_f rfl) (zp_c (zp_o [false, false, false, true, true, true, false, false, false, false] (by decide) q430 rfl) (zp_c (zp_f rfl) (zp_c (zp_f rfl) (zp_c (zp_f rfl) (zp_c (zp_f rfl) (zp_c (zp_f rfl) (zp_c (zp_f rfl) zp_n)))))))))))))))))) rfl (by decide) q364 q390 rfl ?_
              refine z_astore (lv2 := [(4, .ref (qz292)), (3, .ref (xa (40 + sN))), (0, .ref (xa 0)), (1, .int (nI (sN))), (2, .int (nI (4)))]) X dX0_says_188 (Nat.le_of_ble_eq_true rfl) rfl ?_
              refine z_aload_n X dX0_says_190 rfl 2 rfl ?_
              refine z_aload X dX0_says_191 0 rfl ?_
              refine z_get X dX0_says_193 gu_s in_X5 rfl 6 (Nat.le_of_ble_eq_true rfl) q410 rfl ?_
              refine z_ci (z_runV (rest := []) (n := 1) X [.int ((-5))] (m_X0_no_5 hX293) dX0_says_196 hX293.ob rfl (lw_V q350 q352 qs2 q66 q353) hv_X0_no rfl ⟨Nat.le_of_ble_eq_true rfl, Nat.le_of_ble_eq_true rfl⟩ ⟨by omega, by omega⟩ rfl (Nat.le_of_ble_eq_true rfl)) (fun r295 w297 h296 => ?_)
              obtain ⟨r295e, hX296⟩ := h296
              rw [r295e]
              have hcond : ¬ (o.2.2.2.1 0 sN = 1 ∨ (o.2.2.2.1 0 sN = 2 ∧ under (o.2.2.2.1 3 sN) 4 = false)) := fun z => z.elim (fun q => by omega) (fun q => by rw [h6] at q; exact absurd q.2 (by decide))
              have e : spSays o (nI sN) (nI 4) = ((-5), oRef o 5) := by
                unfold spSays
                repeat (first | rw [el_some (by assumption)] | rw [el_none (by assumption)])
                rw [if_neg hcond]
                repeat (first | rw [if_pos (by omega)] | rw [if_neg (by omega)])
                all_goals first | rfl | (exfalso; omega)
              exact z_iret X dX0_says_199 (by omega) (by omega) ⟨_, rfl, (by rw [e]; exact ⟨⟨_, _, rfl, hX296⟩, rfl⟩)⟩
          · skip
            refine z_tabIn (off := 105) (tgt := 140) X dX0_says_35 (by decide) (by decide) (by decide) (by decide) ?_
            refine z_aload_n X dX0_says_140 rfl 0 rfl ?_
            refine zt_castNo X V (Is.obj X hr6 rfl) dX0_says_141 q556 [false, true, false, true, true, false, false, true, true, true] rfl (by decide) (by decide) (by decide +kernel) (by decide +kernel) (Nat.le_of_ble_eq_true rfl) (by omega) ⟨(by omega), (by omega)⟩ (fun qz298 => ?_)
            refine zt_catch X Y [(34, 79, 170, 173), (80, 94, 170, 173), (95, 109, 170, 173), (110, 124, 170, 173), (125, 139, 170, 173)] (140, 154, 170, 173) [(155, 169, 170, 173), (34, 79, 179, 144), (80, 94, 179, 144), (95, 109, 179, 144), (110, 124, 179, 144), (125, 139, 179, 144), (140, 154, 179, 144), (155, 169, 179, 144), (34, 79, 188, 122), (80, 94, 188, 122), (95, 109, 188, 122), (110, 124, 188, 122), (125, 139, 188, 122), (140, 154, 188, 122), (155, 169, 188, 122)] rfl (zp_c (zp_f rfl) (zp_c (zp_f rfl) (zp_c (zp_f rfl) (zp_c (zp_f rfl) (zp_c (zp_f rfl) zp_n))))) rfl (by decide) q579 q591 rfl ?_
            refine z_astore (lv2 := [(4, .ref (qz298)), (3, .ref (xa (40 + sN))), (0, .ref (xa 0)), (1, .int (nI (sN))), (2, .int (nI (5)))]) X dX0_says_170 (Nat.le_of_ble_eq_true rfl) rfl ?_
            refine z_aload_n X dX0_says_172 rfl 2 rfl ?_
            refine z_bipush (v := (-3)) X dX0_says_173 (by decide) ?_
            refine z_ci (z_runV (rest := []) (n := 1) X [.int ((-3))] (m_X0_no_3 hX) dX0_says_175 hX.ob rfl (lw_V q350 q352 qs2 q66 q353) hv_X0_no rfl ⟨Nat.le_of_ble_eq_true rfl, Nat.le_of_ble_eq_true rfl⟩ ⟨by omega, by omega⟩ rfl (Nat.le_of_ble_eq_true rfl)) (fun r299 w301 h300 => ?_)
            obtain ⟨r299e, hX300⟩ := h300
            rw [r299e]
            have hcond : o.2.2.2.1 0 sN = 1 ∨ (o.2.2.2.1 0 sN = 2 ∧ under (o.2.2.2.1 3 sN) 5 = false) := Or.inr ⟨hk9, by rw [h6]; rfl⟩
            have e : spSays o (nI sN) (nI 5) = ((-3), oRef o 3) := by
              unfold spSays
              repeat (first | rw [el_some (by assumption)] | rw [el_none (by assumption)])
              rw [if_pos hcond]
              repeat (first | rw [if_pos (by omega)] | rw [if_neg (by omega)])
              all_goals first | rfl | (exfalso; omega)
            exact z_iret X dX0_says_178 (by omega) (by omega) ⟨_, rfl, (by rw [e]; exact ⟨⟨_, _, rfl, hX300⟩, rfl⟩)⟩
          · skip
            refine z_tabOut (tgt := 155) X dX0_says_35 (by decide) (by decide) ?_
            refine z_aload_n X dX0_says_155 rfl 0 rfl ?_
            refine zt_castNo X V (Is.obj X hr6 rfl) dX0_says_156 q564 [false, true, false, true, true, true, true, true, true, false] rfl (by decide) (by decide) (by decide +kernel) (by decide +kernel) (Nat.le_of_ble_eq_true rfl) (by omega) ⟨(by omega), (by omega)⟩ (fun qz302 => ?_)
            refine zt_catch X Y [(34, 79, 170, 173), (80, 94, 170, 173), (95, 109, 170, 173), (110, 124, 170, 173), (125, 139, 170, 173), (140, 154, 170, 173)] (155, 169, 170, 173) [(34, 79, 179, 144), (80, 94, 179, 144), (95, 109, 179, 144), (110, 124, 179, 144), (125, 139, 179, 144), (140, 154, 179, 144), (155, 169, 179, 144), (34, 79, 188, 122), (80, 94, 188, 122), (95, 109, 188, 122), (110, 124, 188, 122), (125, 139, 188, 122), (140, 154, 188, 122), (155, 169, 188, 122)] rfl (zp_c (zp_f rfl) (zp_c (zp_f rfl) (zp_c (zp_f rfl) (zp_c (zp_f rfl) (zp_c (zp_f rfl) (zp_c (zp_f rfl) zp_n)))))) rfl (by decide) q579 q591 rfl ?_
            refine z_astore (lv2 := [(4, .ref (qz302)), (3, .ref (xa (40 + sN))), (0, .ref (xa 0)), (1, .int (nI (sN))), (2, .int (nI (6)))]) X dX0_says_170 (Nat.le_of_ble_eq_true rfl) rfl ?_
            refine z_aload_n X dX0_says_172 rfl 2 rfl ?_
            refine z_bipush (v := (-3)) X dX0_says_173 (by decide) ?_
            refine z_ci (z_runV (rest := []) (n := 1) X [.int ((-3))] (m_X0_no_3 hX) dX0_says_175 hX.ob rfl (lw_V q350 q352 qs2 q66 q353) hv_X0_no rfl ⟨Nat.le_of_ble_eq_true rfl, Nat.le_of_ble_eq_true rfl⟩ ⟨by omega, by omega⟩ rfl (Nat.le_of_ble_eq_true rfl)) (fun r303 w305 h304 => ?_)
            obtain ⟨r303e, hX304⟩ := h304
            rw [r303e]
            have hcond : o.2.2.2.1 0 sN = 1 ∨ (o.2.2.2.1 0 sN = 2 ∧ under (o.2.2.2.1 3 sN) 6 = false) := Or.inr ⟨hk9, by rw [h6]; rfl⟩
            have e : spSays o (nI sN) (nI 6) = ((-3), oRef o 3) := by
              unfold spSays
              repeat (first | rw [el_some (by assumption)] | rw [el_none (by assumption)])
              rw [if_pos hcond]
              repeat (first | rw [if_pos (by omega)] | rw [if_neg (by omega)])
              all_goals first | rfl | (exfalso; omega)
            exact z_iret X dX0_says_178 (by omega) (by omega) ⟨_, rfl, (by rw [e]; exact ⟨⟨_, _, rfl, hX304⟩, rfl⟩)⟩
        · have hr6 : w (xa (40 + sN)) = some (.inr (10, [.int (nI (o.2.2.2.1 4 sN))])) := by rw [h6] at hr9; exact hr9
          refine z_iload_n X dX0_says_34 rfl 3 rfl ?_
          rcases (show kN = 0 ∨ kN = 1 ∨ kN = 2 ∨ kN = 3 ∨ kN = 4 ∨ kN = 5 ∨ kN = 6 by omega) with rfl | rfl | rfl | rfl | rfl | rfl | rfl
          · skip
            refine z_tabIn (off := 37) (tgt := 72) X dX0_says_35 (by decide) (by decide) (by decide) (by decide) ?_
            refine z_aload_n X dX0_says_72 rfl 0 rfl ?_
            refine z_castY X (Is.obj X hr6 rfl) dX0_says_73 q388 q1958 ?_
            refine z_get X dX0_says_76 hr6 in_X11 rfl 0 (Nat.le_of_ble_eq_true rfl) q528 rfl ?_
            have hcond : ¬ (o.2.2.2.1 0 sN = 1 ∨ (o.2.2.2.1 0 sN = 2 ∧ under (o.2.2.2.1 3 sN) 0 = false)) := fun z => z.elim (fun q => by omega) (fun q => by rw [h6] at q; exact absurd q.2 (by decide))
            have e : spSays o (nI sN) (nI 0) = (nI (o.2.2.2.1 4 sN), o) := by
              unfold spSays
              repeat (first | rw [el_some (by assumption)] | rw [el_none (by assumption)])
              rw [if_neg hcond]
              repeat (first | rw [if_pos (by omega)] | rw [if_neg (by omega)])
              all_goals first | rfl | (exfalso; omega)
            exact z_iret X dX0_says_79 (by omega) (by omega) ⟨_, rfl, (by rw [e]; exact ⟨⟨_, _, rfl, hX⟩, rfl⟩)⟩
          · skip
            refine z_tabIn (off := 45) (tgt := 80) X dX0_says_35 (by decide) (by decide) (by decide) (by decide) ?_
            refine z_aload_n X dX0_says_80 rfl 0 rfl ?_
            refine zt_castNo X V (Is.obj X hr6 rfl) dX0_says_81 q512 [false, true, false, false, false, false, false, true, true, false] rfl (by decide) (by decide) (by decide +kernel) (by decide +kernel) (Nat.le_of_ble_eq_true rfl) (by omega) ⟨(by omega), (by omega)⟩ (fun qz306 => ?_)
            refine zt_catch X Y [(34, 79, 170, 173)] (80, 94, 170, 173) [(95, 109, 170, 173), (110, 124, 170, 173), (125, 139, 170, 173), (140, 154, 170, 173), (155, 169, 170, 173), (34, 79, 179, 144), (80, 94, 179, 144), (95, 109, 179, 144), (110, 124, 179, 144), (125, 139, 179, 144), (140, 154, 179, 144), (155, 169, 179, 144), (34, 79, 188, 122), (80, 94, 188, 122), (95, 109, 188, 122), (110, 124, 188, 122), (125, 139, 188, 122), (140, 154, 188, 122), (155, 169, 188, 122)] rfl (zp_c (zp_f rfl) zp_n) rfl (by decide) q579 q591 rfl ?_
            refine z_astore (lv2 := [(4, .ref (qz306)), (3, .ref (xa (40 + sN))), (0, .ref (xa 0)), (1, .int (nI (sN))), (2, .int (nI (1)))]) X dX0_says_170 (Nat.le_of_ble_eq_true rfl) rfl ?_
            refine z_aload_n X dX0_says_172 rfl 2 rfl ?_
            refine z_bipush (v := (-3)) X dX0_says_173 (by decide) ?_
            refine z_ci (z_runV (rest := []) (n := 1) X [.int ((-3))] (m_X0_no_3 hX) dX0_says_175 hX.ob rfl (lw_V q350 q352 qs2 q66 q353) hv_X0_no rfl ⟨Nat.le_of_ble_eq_true rfl, Nat.le_of_ble_eq_true rfl⟩ ⟨by omega, by omega⟩ rfl (Nat.le_of_ble_eq_true rfl)) (fun r307 w309 h308 => ?_)
            obtain ⟨r307e, hX308⟩ := h308
            rw [r307e]
            have hcond : o.2.2.2.1 0 sN = 1 ∨ (o.2.2.2.1 0 sN = 2 ∧ under (o.2.2.2.1 3 sN) 1 = false) := Or.inr ⟨hk9, by rw [h6]; rfl⟩
            have e : spSays o (nI sN) (nI 1) = ((-3), oRef o 3) := by
              unfold spSays
              repeat (first | rw [el_some (by assumption)] | rw [el_none (by assumption)])
              rw [if_pos hcond]
              repeat (first | rw [if_pos (by omega)] | rw [if_neg (by omega)])
              all_goals first | rfl | (exfalso; omega)
            exact z_iret X dX0_says_178 (by omega) (by omega) ⟨_, rfl, (by rw [e]; exact ⟨⟨_, _, rfl, hX308⟩, rfl⟩)⟩
          · skip
            refine z_tabIn (off := 60) (tgt := 95) X dX0_says_35 (by decide) (by decide) (by decide) (by decide) ?_
            refine z_aload_n X dX0_says_95 rfl 0 rfl ?_
            refine zt_castNo X V (Is.obj X hr6 rfl) dX0_says_96 q532 [false, true, false, false, false, true, true, true, true, false] rfl (by decide) (by decide) (by decide +kernel) (by decide +kernel) (Nat.le_of_ble_eq_true rfl) (by omega) ⟨(by omega), (by omega)⟩ (fun qz310 => ?_)
            refine zt_catch X Y [(34, 79, 170, 173), (80, 94, 170, 173)] (95, 109, 170, 173) [(110, 124, 170, 173), (125, 139, 170, 173), (140, 154, 170, 173), (155, 169, 170, 173), (34, 79, 179, 144), (80, 94, 179, 144), (95, 109, 179, 144), (110, 124, 179, 144), (125, 139, 179, 144), (140, 154, 179, 144), (155, 169, 179, 144), (34, 79, 188, 122), (80, 94, 188, 122), (95, 109, 188, 122), (110, 124, 188, 122), (125, 139, 188, 122), (140, 154, 188, 122), (155, 169, 188, 122)] rfl (zp_c (zp_f rfl) (zp_c (zp_f rfl) zp_n)) rfl (by decide) q579 q591 rfl ?_
            refine z_astore (lv2 := [(4, .ref (qz310)), (3, .ref (xa (40 + sN))), (0, .ref (xa 0)), (1, .int (nI (sN))), (2, .int (nI (2)))]) X dX0_says_170 (Nat.le_of_ble_eq_true rfl) rfl ?_
            refine z_aload_n X dX0_says_172 rfl 2 rfl ?_
            refine z_bipush (v := (-3)) X dX0_says_173 (by decide) ?_
            refine z_ci (z_runV (rest := []) (n := 1) X [.int ((-3))] (m_X0_no_3 hX) dX0_says_175 hX.ob rfl (lw_V q350 q352 qs2 q66 q353) hv_X0_no rfl ⟨Nat.le_of_ble_eq_true rfl, Nat.le_of_ble_eq_true rfl⟩ ⟨by omega, by omega⟩ rfl (Nat.le_of_ble_eq_true rfl)) (fun r311 w313 h312 => ?_)
            obtain ⟨r311e, hX312⟩ := h312
            rw [r311e]
            have hcond : o.2.2.2.1 0 sN = 1 ∨ (o.2.2.2.1 0 sN = 2 ∧ under (o.2.2.2.1 3 sN) 2 = false) := Or.inr ⟨hk9, by rw [h6]; rfl⟩
            have e : spSays o (nI sN) (nI 2) = ((-3), oRef o 3) := by
              unfold spSays
              repeat (first | rw [el_some (by assumption)] | rw [el_none (by assumption)])
              rw [if_pos hcond]
              repeat (first | rw [if_pos (by omega)] | rw [if_neg (by omega)])
              all_goals first | rfl | (exfalso; omega)
            exact z_iret X dX0_says_178 (by omega) (by omega) ⟨_, rfl, (by rw [e]; exact ⟨⟨_, _, rfl, hX312⟩, rfl⟩)⟩
          · skip
            refine z_tabIn (off := 75) (tgt := 110) X dX0_says_35 (by decide) (by decide) (by decide) (by decide) ?_
            refine z_aload_n X dX0_says_110 rfl 0 rfl ?_
            refine zt_castNo X V (Is.obj X hr6 rfl) dX0_says_111 q540 [false, true, false, false, true, true, false, true, true, true] rfl (by decide) (by decide) (by decide +kernel) (by decide +kernel) (Nat.le_of_ble_eq_true rfl) (by omega) ⟨(by omega), (by omega)⟩ (fun qz314 => ?_)
            refine zt_catch X Y [(34, 79, 170, 173), (80, 94, 170, 173), (95, 109, 170, 173)] (110, 124, 170, 173) [(125, 139, 170, 173), (140, 154, 170, 173), (155, 169, 170, 173), (34, 79, 179, 144), (80, 94, 179, 144), (95, 109, 179, 144), (110, 124, 179, 144), (125, 139, 179, 144), (140, 154, 179, 144), (155, 169, 179, 144), (34, 79, 188, 122), (80, 94, 188, 122), (95, 109, 188, 122), (110, 124, 188, 122), (125, 139, 188, 122), (140, 154, 188, 122), (155, 169, 188, 122)] rfl (zp_c (zp_f rfl) (zp_c (zp_f rfl) (zp_c (zp_f rfl) zp_n))) rfl (by decide) q579 q591 rfl ?_
            refine z_astore (lv2 := [(4, .ref (qz314)), (3, .ref (xa (40 + sN))), (0, .ref (xa 0)), (1, .int (nI (sN))), (2, .int (nI (3)))]) X dX0_says_170 (Nat.le_of_ble_eq_true rfl) rfl ?_
            refine z_aload_n X dX0_says_172 rfl 2 rfl ?_
            refine z_bipush (v := (-3)) X dX0_says_173 (by decide) ?_
            refine z_ci (z_runV (rest := []) (n := 1) X [.int ((-3))] (m_X0_no_3 hX) dX0_says_175 hX.ob rfl (lw_V q350 q352 qs2 q66 q353) hv_X0_no rfl ⟨Nat.le_of_ble_eq_true rfl, Nat.le_of_ble_eq_true rfl⟩ ⟨by omega, by omega⟩ rfl (Nat.le_of_ble_eq_true rfl)) (fun r315 w317 h316 => ?_)
            obtain ⟨r315e, hX316⟩ := h316
            rw [r315e]
            have hcond : o.2.2.2.1 0 sN = 1 ∨ (o.2.2.2.1 0 sN = 2 ∧ under (o.2.2.2.1 3 sN) 3 = false) := Or.inr ⟨hk9, by rw [h6]; rfl⟩
            have e : spSays o (nI sN) (nI 3) = ((-3), oRef o 3) := by
              unfold spSays
              repeat (first | rw [el_some (by assumption)] | rw [el_none (by assumption)])
              rw [if_pos hcond]
              repeat (first | rw [if_pos (by omega)] | rw [if_neg (by omega)])
              all_goals first | rfl | (exfalso; omega)
            exact z_iret X dX0_says_178 (by omega) (by omega) ⟨_, rfl, (by rw [e]; exact ⟨⟨_, _, rfl, hX316⟩, rfl⟩)⟩
          · skip
            refine z_tabIn (off := 90) (tgt := 125) X dX0_says_35 (by decide) (by decide) (by decide) (by decide) ?_
            refine z_aload_n X dX0_says_125 rfl 0 rfl ?_
            refine z_castY X (Is.obj X hr6 rfl) dX0_says_126 q548 q1966 ?_
            refine z_aload_n X dX0_says_129 rfl 1 rfl ?_
            refine z_get X dX0_says_130 hX.ob in_X0 rfl 0 (Nat.le_of_ble_eq_true rfl) q233 rfl ?_
            refine z_get X dX0_says_133 hX.day in_X1 rfl 0 (Nat.le_of_ble_eq_true rfl) q190 rfl ?_
            refine z_xi (z_runXU (owner := "ThreeSizes$Rule") (x := ⟨"ThreeSizes$Great", "says", "(LThreeSizes$Wall;)I"⟩) (rest := []) (n := 1) X [.ref (xa 5)] (m_X6_says hX hO (s := sN) (by omega) hk9) dX0_says_136 hr6 rfl (lw_app (lw_in _ [756, 757, 758, 599, 82] (by decide +kernel) (by decide +kernel)) (lw_meth q600)) (by decide +kernel) (by decide +kernel) rfl ⟨Nat.le_of_ble_eq_true rfl, Nat.le_of_ble_eq_true rfl⟩ ⟨by omega, by omega⟩ rfl (Nat.le_of_ble_eq_true rfl)) (fun r318 w320 h319 => ?_) (fun E321 qz322 w324 h323 => ?_)
            · have hn9 := h319
              obtain ⟨xa319, rr319, hk319, hX319, hz319, r318e⟩ := h319
              rw [r318e]
              rw [← hk319 (40 + sN) (by omega) (by omega) (by omega)]
              rw [← hk319 0 (by omega) (by omega) (by omega)]
              have hcond : ¬ (o.2.2.2.1 0 sN = 1 ∨ (o.2.2.2.1 0 sN = 2 ∧ under (o.2.2.2.1 3 sN) 4 = false)) := fun z => z.elim (fun q => by omega) (fun q => by rw [h6] at q; exact absurd q.2 (by decide))
              have e : spSays o (nI sN) (nI 4) = (oI (rget o.1 (o.2.2.2.1 3 sN) (o.2.2.2.1 4 sN) (wiseT o.1 (o.2.2.2.1 4 sN)) 0 (stOf o.1)), o) := by
                unfold spSays
                repeat (first | rw [el_some (by assumption)] | rw [el_none (by assumption)])
                rw [if_neg hcond]
                repeat (first | rw [if_pos (by omega)] | rw [if_neg (by omega)])
                all_goals first | rfl | (exfalso; omega)
              exact z_iret X dX0_says_139 (by omega) (by omega) ⟨_, rfl, (by rw [e]; exact ⟨⟨_, _, (hk319 0 (by decide) (by decide) (by decide)), hX319⟩, rfl⟩)⟩
            · have hx9 := h323
              obtain ⟨⟨rfl, hn323, rfl⟩, hz323⟩ := h323
              have hX323 := XT.fresh hX hn323 (e := .inr (5, [.null, .null, .null, .null, .null, .int 0, .int (-5)]))
              refine zt_catch X Y [(34, 79, 170, 173), (80, 94, 170, 173), (95, 109, 170, 173), (110, 124, 170, 173), (125, 139, 170, 173), (140, 154, 170, 173), (155, 169, 170, 173), (34, 79, 179, 144), (80, 94, 179, 144), (95, 109, 179, 144), (110, 124, 179, 144), (125, 139, 179, 144), (140, 154, 179, 144), (155, 169, 179, 144), (34, 79, 188, 122), (80, 94, 188, 122), (95, 109, 188, 122), (110, 124, 188, 122)] (125, 139, 188, 122) [(140, 154, 188, 122), (155, 169, 188, 122)] rfl (zp_c (zp_f rfl) (zp_c (zp_f rfl) (zp_c (zp_f rfl) (zp_c (zp_f rfl) (zp_c (zp_o [false, false, true, false, true, true, true, false, false, true] (by decide) q579 rfl) (zp_c (zp_f rfl) (zp_c (zp_f rfl) (zp_c (zp_f rfl) (zp_c (zp_f rfl) (zp_c (zp_f rfl) (zp_c (zp_f rfl) (zp_c (zp_o [false, false, false, true, true, true, false, false, false, false] (by decide) q430 rfl) (zp_c (zp_f rfl) (zp_c (zp_f rfl) (zp_c (zp_f rfl) (zp_c (zp_f rfl) (zp_c (zp_f rfl) (zp_c (zp_f rfl) zp_n)))))))))))))))))) rfl (by decide) q364 q390 rfl ?_
              refine z_astore (lv2 := [(4, .ref (qz322)), (3, .ref (xa (40 + sN))), (0, .ref (xa 0)), (1, .int (nI (sN))), (2, .int (nI (4)))]) X dX0_says_188 (Nat.le_of_ble_eq_true rfl) rfl ?_
              refine z_aload_n X dX0_says_190 rfl 2 rfl ?_
              refine z_aload X dX0_says_191 0 rfl ?_
              refine z_get X dX0_says_193 gu_s in_X5 rfl 6 (Nat.le_of_ble_eq_true rfl) q410 rfl ?_
              refine z_ci (z_runV (rest := []) (n := 1) X [.int ((-5))] (m_X0_no_5 hX323) dX0_says_196 hX323.ob rfl (lw_V q350 q352 qs2 q66 q353) hv_X0_no rfl ⟨Nat.le_of_ble_eq_true rfl, Nat.le_of_ble_eq_true rfl⟩ ⟨by omega, by omega⟩ rfl (Nat.le_of_ble_eq_true rfl)) (fun r325 w327 h326 => ?_)
              obtain ⟨r325e, hX326⟩ := h326
              rw [r325e]
              have hcond : ¬ (o.2.2.2.1 0 sN = 1 ∨ (o.2.2.2.1 0 sN = 2 ∧ under (o.2.2.2.1 3 sN) 4 = false)) := fun z => z.elim (fun q => by omega) (fun q => by rw [h6] at q; exact absurd q.2 (by decide))
              have e : spSays o (nI sN) (nI 4) = ((-5), oRef o 5) := by
                unfold spSays
                repeat (first | rw [el_some (by assumption)] | rw [el_none (by assumption)])
                rw [if_neg hcond]
                repeat (first | rw [if_pos (by omega)] | rw [if_neg (by omega)])
                all_goals first | rfl | (exfalso; omega)
              exact z_iret X dX0_says_199 (by omega) (by omega) ⟨_, rfl, (by rw [e]; exact ⟨⟨_, _, rfl, hX326⟩, rfl⟩)⟩
          · skip
            refine z_tabIn (off := 105) (tgt := 140) X dX0_says_35 (by decide) (by decide) (by decide) (by decide) ?_
            refine z_aload_n X dX0_says_140 rfl 0 rfl ?_
            refine z_castE X (Is.obj X hr6 rfl) dX0_says_141 q556 ?_
            refine z_aload_n X dX0_says_144 rfl 1 rfl ?_
            refine z_get X dX0_says_145 hX.ob in_X0 rfl 0 (Nat.le_of_ble_eq_true rfl) q233 rfl ?_
            refine z_get X dX0_says_148 hX.day in_X1 rfl 0 (Nat.le_of_ble_eq_true rfl) q190 rfl ?_
            refine z_xi (z_runXU (owner := "ThreeSizes$Rule") (x := ⟨"ThreeSizes$Even", "says", "(LThreeSizes$Wall;)I"⟩) (rest := []) (n := 1) X [.ref (xa 5)] (m_X6_says hX hO (s := sN) (by omega) hk9) dX0_says_151 hr6 rfl (lw_app (lw_in _ [760, 761, 762, 599, 82] (by decide +kernel) (by decide +kernel)) (lw_meth q600)) (by decide +kernel) (by decide +kernel) rfl ⟨Nat.le_of_ble_eq_true rfl, Nat.le_of_ble_eq_true rfl⟩ ⟨by omega, by omega⟩ rfl (Nat.le_of_ble_eq_true rfl)) (fun r328 w330 h329 => ?_) (fun E331 qz332 w334 h333 => ?_)
            · have hn9 := h329
              obtain ⟨xa329, rr329, hk329, hX329, hz329, r328e⟩ := h329
              rw [r328e]
              rw [← hk329 (40 + sN) (by omega) (by omega) (by omega)]
              rw [← hk329 0 (by omega) (by omega) (by omega)]
              have hcond : ¬ (o.2.2.2.1 0 sN = 1 ∨ (o.2.2.2.1 0 sN = 2 ∧ under (o.2.2.2.1 3 sN) 5 = false)) := fun z => z.elim (fun q => by omega) (fun q => by rw [h6] at q; exact absurd q.2 (by decide))
              have e : spSays o (nI sN) (nI 5) = (oI (rget o.1 (o.2.2.2.1 3 sN) (o.2.2.2.1 4 sN) (wiseT o.1 (o.2.2.2.1 4 sN)) 0 (stOf o.1)), o) := by
                unfold spSays
                repeat (first | rw [el_some (by assumption)] | rw [el_none (by assumption)])
                rw [if_neg hcond]
                repeat (first | rw [if_pos (by omega)] | rw [if_neg (by omega)])
                all_goals first | rfl | (exfalso; omega)
              exact z_iret X dX0_says_154 (by omega) (by omega) ⟨_, rfl, (by rw [e]; exact ⟨⟨_, _, (hk329 0 (by decide) (by decide) (by decide)), hX329⟩, rfl⟩)⟩
            · have hx9 := h333
              obtain ⟨⟨rfl, hn333, rfl⟩, hz333⟩ := h333
              have hX333 := XT.fresh hX hn333 (e := .inr (5, [.null, .null, .null, .null, .null, .int 0, .int (-5)]))
              refine zt_catch X Y [(34, 79, 170, 173), (80, 94, 170, 173), (95, 109, 170, 173), (110, 124, 170, 173), (125, 139, 170, 173), (140, 154, 170, 173), (155, 169, 170, 173), (34, 79, 179, 144), (80, 94, 179, 144), (95, 109, 179, 144), (110, 124, 179, 144), (125, 139, 179, 144), (140, 154, 179, 144), (155, 169, 179, 144), (34, 79, 188, 122), (80, 94, 188, 122), (95, 109, 188, 122), (110, 124, 188, 122), (125, 139, 188, 122)] (140, 154, 188, 122) [(155, 169, 188, 122)] rfl (zp_c (zp_f rfl) (zp_c (zp_f rfl) (zp_c (zp_f rfl) (zp_c (zp_f rfl) (zp_c (zp_f rfl) (zp_c (zp_o [false, false, true, false, true, true, true, false, false, true] (by decide) q579 rfl) (zp_c (zp_f rfl) (zp_c (zp_f rfl) (zp_c (zp_f rfl) (zp_c (zp_f rfl) (zp_c (zp_f rfl) (zp_c (zp_f rfl) (zp_c (zp_o [false, false, false, true, true, true, false, false, false, false] (by decide) q430 rfl) (zp_c (zp_f rfl) (zp_c (zp_f rfl) (zp_c (zp_f rfl) (zp_c (zp_f rfl) (zp_c (zp_f rfl) (zp_c (zp_f rfl) zp_n))))))))))))))))))) rfl (by decide) q364 q390 rfl ?_
              refine z_astore (lv2 := [(4, .ref (qz332)), (3, .ref (xa (40 + sN))), (0, .ref (xa 0)), (1, .int (nI (sN))), (2, .int (nI (5)))]) X dX0_says_188 (Nat.le_of_ble_eq_true rfl) rfl ?_
              refine z_aload_n X dX0_says_190 rfl 2 rfl ?_
              refine z_aload X dX0_says_191 0 rfl ?_
              refine z_get X dX0_says_193 gu_s in_X5 rfl 6 (Nat.le_of_ble_eq_true rfl) q410 rfl ?_
              refine z_ci (z_runV (rest := []) (n := 1) X [.int ((-5))] (m_X0_no_5 hX333) dX0_says_196 hX333.ob rfl (lw_V q350 q352 qs2 q66 q353) hv_X0_no rfl ⟨Nat.le_of_ble_eq_true rfl, Nat.le_of_ble_eq_true rfl⟩ ⟨by omega, by omega⟩ rfl (Nat.le_of_ble_eq_true rfl)) (fun r335 w337 h336 => ?_)
              obtain ⟨r335e, hX336⟩ := h336
              rw [r335e]
              have hcond : ¬ (o.2.2.2.1 0 sN = 1 ∨ (o.2.2.2.1 0 sN = 2 ∧ under (o.2.2.2.1 3 sN) 5 = false)) := fun z => z.elim (fun q => by omega) (fun q => by rw [h6] at q; exact absurd q.2 (by decide))
              have e : spSays o (nI sN) (nI 5) = ((-5), oRef o 5) := by
                unfold spSays
                repeat (first | rw [el_some (by assumption)] | rw [el_none (by assumption)])
                rw [if_neg hcond]
                repeat (first | rw [if_pos (by omega)] | rw [if_neg (by omega)])
                all_goals first | rfl | (exfalso; omega)
              exact z_iret X dX0_says_199 (by omega) (by omega) ⟨_, rfl, (by rw [e]; exact ⟨⟨_, _, rfl, hX336⟩, rfl⟩)⟩
          · skip
            refine z_tabOut (tgt := 155) X dX0_says_35 (by decide) (by decide) ?_
            refine z_aload_n X dX0_says_155 rfl 0 rfl ?_
            refine zt_castNo X V (Is.obj X hr6 rfl) dX0_says_156 q564 [false, true, false, true, true, true, true, true, true, true] rfl (by decide) (by decide) (by decide +kernel) (by decide +kernel) (Nat.le_of_ble_eq_true rfl) (by omega) ⟨(by omega), (by omega)⟩ (fun qz338 => ?_)
            refine zt_catch X Y [(34, 79, 170, 173), (80, 94, 170, 173), (95, 109, 170, 173), (110, 124, 170, 173), (125, 139, 170, 173), (140, 154, 170, 173)] (155, 169, 170, 173) [(34, 79, 179, 144), (80, 94, 179, 144), (95, 109, 179, 144), (110, 124, 179, 144), (125, 139, 179, 144), (140, 154, 179, 144), (155, 169, 179, 144), (34, 79, 188, 122), (80, 94, 188, 122), (95, 109, 188, 122), (110, 124, 188, 122), (125, 139, 188, 122), (140, 154, 188, 122), (155, 169, 188, 122)] rfl (zp_c (zp_f rfl) (zp_c (zp_f rfl) (zp_c (zp_f rfl) (zp_c (zp_f rfl) (zp_c (zp_f rfl) (zp_c (zp_f rfl) zp_n)))))) rfl (by decide) q579 q591 rfl ?_
            refine z_astore (lv2 := [(4, .ref (qz338)), (3, .ref (xa (40 + sN))), (0, .ref (xa 0)), (1, .int (nI (sN))), (2, .int (nI (6)))]) X dX0_says_170 (Nat.le_of_ble_eq_true rfl) rfl ?_
            refine z_aload_n X dX0_says_172 rfl 2 rfl ?_
            refine z_bipush (v := (-3)) X dX0_says_173 (by decide) ?_
            refine z_ci (z_runV (rest := []) (n := 1) X [.int ((-3))] (m_X0_no_3 hX) dX0_says_175 hX.ob rfl (lw_V q350 q352 qs2 q66 q353) hv_X0_no rfl ⟨Nat.le_of_ble_eq_true rfl, Nat.le_of_ble_eq_true rfl⟩ ⟨by omega, by omega⟩ rfl (Nat.le_of_ble_eq_true rfl)) (fun r339 w341 h340 => ?_)
            obtain ⟨r339e, hX340⟩ := h340
            rw [r339e]
            have hcond : o.2.2.2.1 0 sN = 1 ∨ (o.2.2.2.1 0 sN = 2 ∧ under (o.2.2.2.1 3 sN) 6 = false) := Or.inr ⟨hk9, by rw [h6]; rfl⟩
            have e : spSays o (nI sN) (nI 6) = ((-3), oRef o 3) := by
              unfold spSays
              repeat (first | rw [el_some (by assumption)] | rw [el_none (by assumption)])
              rw [if_pos hcond]
              repeat (first | rw [if_pos (by omega)] | rw [if_neg (by omega)])
              all_goals first | rfl | (exfalso; omega)
            exact z_iret X dX0_says_178 (by omega) (by omega) ⟨_, rfl, (by rw [e]; exact ⟨⟨_, _, rfl, hX340⟩, rfl⟩)⟩
        · have hr6 : w (xa (40 + sN)) = some (.inr (11, [.int (nI (o.2.2.2.1 4 sN)), .ref (xa (50 + sN))])) := by rw [h6] at hr9; exact hr9
          refine z_iload_n X dX0_says_34 rfl 3 rfl ?_
          rcases (show kN = 0 ∨ kN = 1 ∨ kN = 2 ∨ kN = 3 ∨ kN = 4 ∨ kN = 5 ∨ kN = 6 by omega) with rfl | rfl | rfl | rfl | rfl | rfl | rfl
          · skip
            refine z_tabIn (off := 37) (tgt := 72) X dX0_says_35 (by decide) (by decide) (by decide) (by decide) ?_
            refine z_aload_n X dX0_says_72 rfl 0 rfl ?_
            refine z_castY X (Is.obj X hr6 rfl) dX0_says_73 q388 q1963 ?_
            refine z_get X dX0_says_76 hr6 in_X12 rfl 0 (Nat.le_of_ble_eq_true rfl) q528 rfl ?_
            have hcond : ¬ (o.2.2.2.1 0 sN = 1 ∨ (o.2.2.2.1 0 sN = 2 ∧ under (o.2.2.2.1 3 sN) 0 = false)) := fun z => z.elim (fun q => by omega) (fun q => by rw [h6] at q; exact absurd q.2 (by decide))
            have e : spSays o (nI sN) (nI 0) = (nI (o.2.2.2.1 4 sN), o) := by
              unfold spSays
              repeat (first | rw [el_some (by assumption)] | rw [el_none (by assumption)])
              rw [if_neg hcond]
              repeat (first | rw [if_pos (by omega)] | rw [if_neg (by omega)])
              all_goals first | rfl | (exfalso; omega)
            exact z_iret X dX0_says_79 (by omega) (by omega) ⟨_, rfl, (by rw [e]; exact ⟨⟨_, _, rfl, hX⟩, rfl⟩)⟩
          · skip
            refine z_tabIn (off := 45) (tgt := 80) X dX0_says_35 (by decide) (by decide) (by decide) (by decide) ?_
            refine z_aload_n X dX0_says_80 rfl 0 rfl ?_
            refine zt_castNo X V (Is.obj X hr6 rfl) dX0_says_81 q512 [false, true, false, false, false, false, false, true, true, true] rfl (by decide) (by decide) (by decide +kernel) (by decide +kernel) (Nat.le_of_ble_eq_true rfl) (by omega) ⟨(by omega), (by omega)⟩ (fun qz342 => ?_)
            refine zt_catch X Y [(34, 79, 170, 173)] (80, 94, 170, 173) [(95, 109, 170, 173), (110, 124, 170, 173), (125, 139, 170, 173), (140, 154, 170, 173), (155, 169, 170, 173), (34, 79, 179, 144), (80, 94, 179, 144), (95, 109, 179, 144), (110, 124, 179, 144), (125, 139, 179, 144), (140, 154, 179, 144), (155, 169, 179, 144), (34, 79, 188, 122), (80, 94, 188, 122), (95, 109, 188, 122), (110, 124, 188, 122), (125, 139, 188, 122), (140, 154, 188, 122), (155, 169, 188, 122)] rfl (zp_c (zp_f rfl) zp_n) rfl (by decide) q579 q591 rfl ?_
            refine z_astore (lv2 := [(4, .ref (qz342)), (3, .ref (xa (40 + sN))), (0, .ref (xa 0)), (1, .int (nI (sN))), (2, .int (nI (1)))]) X dX0_says_170 (Nat.le_of_ble_eq_true rfl) rfl ?_
            refine z_aload_n X dX0_says_172 rfl 2 rfl ?_
            refine z_bipush (v := (-3)) X dX0_says_173 (by decide) ?_
            refine z_ci (z_runV (rest := []) (n := 1) X [.int ((-3))] (m_X0_no_3 hX) dX0_says_175 hX.ob rfl (lw_V q350 q352 qs2 q66 q353) hv_X0_no rfl ⟨Nat.le_of_ble_eq_true rfl, Nat.le_of_ble_eq_true rfl⟩ ⟨by omega, by omega⟩ rfl (Nat.le_of_ble_eq_true rfl)) (fun r343 w345 h344 => ?_)
            obtain ⟨r343e, hX344⟩ := h344
            rw [r343e]
            have hcond : o.2.2.2.1 0 sN = 1 ∨ (o.2.2.2.1 0 sN = 2 ∧ under (o.2.2.2.1 3 sN) 1 = false) := Or.inr ⟨hk9, by rw [h6]; rfl⟩
            have e : spSays o (nI sN) (nI 1) = ((-3), oRef o 3) := by
              unfold spSays
              repeat (first | rw [el_some (by assumption)] | rw [el_none (by assumption)])
              rw [if_pos hcond]
              repeat (first | rw [if_pos (by omega)] | rw [if_neg (by omega)])
              all_goals first | rfl | (exfalso; omega)
            exact z_iret X dX0_says_178 (by omega) (by omega) ⟨_, rfl, (by rw [e]; exact ⟨⟨_, _, rfl, hX344⟩, rfl⟩)⟩
          · skip
            refine z_tabIn (off := 60) (tgt := 95) X dX0_says_35 (by decide) (by decide) (by decide) (by decide) ?_
            refine z_aload_n X dX0_says_95 rfl 0 rfl ?_
            refine zt_castNo X V (Is.obj X hr6 rfl) dX0_says_96 q532 [false, true, false, false, false, true, true, true, true, true] rfl (by decide) (by decide) (by decide +kernel) (by decide +kernel) (Nat.le_of_ble_eq_true rfl) (by omega) ⟨(by omega), (by omega)⟩ (fun qz346 => ?_)
            refine zt_catch X Y [(34, 79, 170, 173), (80, 94, 170, 173)] (95, 109, 170, 173) [(110, 124, 170, 173), (125, 139, 170, 173), (140, 154, 170, 173), (155, 169, 170, 173), (34, 79, 179, 144), (80, 94, 179, 144), (95, 109, 179, 144), (110, 124, 179, 144), (125, 139, 179, 144), (140, 154, 179, 144), (155, 169, 179, 144), (34, 79, 188, 122), (80, 94, 188, 122), (95, 109, 188, 122), (110, 124, 188, 122), (125, 139, 188, 122), (140, 154, 188, 122), (155, 169, 188, 122)] rfl (zp_c (zp_f rfl) (zp_c (zp_f rfl) zp_n)) rfl (by decide) q579 q591 rfl ?_
            refine z_astore (lv2 := [(4, .ref (qz346)), (3, .ref (xa (40 + sN))), (0, .ref (xa 0)), (1, .int (nI (sN))), (2, .int (nI (2)))]) X dX0_says_170 (Nat.le_of_ble_eq_true rfl) rfl ?_
            refine z_aload_n X dX0_says_172 rfl 2 rfl ?_
            refine z_bipush (v := (-3)) X dX0_says_173 (by decide) ?_
            refine z_ci (z_runV (rest := []) (n := 1) X [.int ((-3))] (m_X0_no_3 hX) dX0_says_175 hX.ob rfl (lw_V q350 q352 qs2 q66 q353) hv_X0_no rfl ⟨Nat.le_of_ble_eq_true rfl, Nat.le_of_ble_eq_true rfl⟩ ⟨by omega, by omega⟩ rfl (Nat.le_of_ble_eq_true rfl)) (fun r347 w349 h348 => ?_)
            obtain ⟨r347e, hX348⟩ := h348
            rw [r347e]
            have hcond : o.2.2.2.1 0 sN = 1 ∨ (o.2.2.2.1 0 sN = 2 ∧ under (o.2.2.2.1 3 sN) 2 = false) := Or.inr ⟨hk9, by rw [h6]; rfl⟩
            have e : spSays o (nI sN) (nI 2) = ((-3), oRef o 3) := by
              unfold spSays
              repeat (first | rw [el_some (by assumption)] | rw [el_none (by assumption)])
              rw [if_pos hcond]
              repeat (first | rw [if_pos (by omega)] | rw [if_neg (by omega)])
              all_goals first | rfl | (exfalso; omega)
            exact z_iret X dX0_says_178 (by omega) (by omega) ⟨_, rfl, (by rw [e]; exact ⟨⟨_, _, rfl, hX348⟩, rfl⟩)⟩
          · skip
            refine z_tabIn (off := 75) (tgt := 110) X dX0_says_35 (by decide) (by decide) (by decide) (by decide) ?_
            refine z_aload_n X dX0_says_110 rfl 0 rfl ?_
            refine zt_castNo X V (Is.obj X hr6 rfl) dX0_says_111 q540 [false, true, false, false, true, true, true, false, false, false] rfl (by decide) (by decide) (by decide +kernel) (by decide +kernel) (Nat.le_of_ble_eq_true rfl) (by omega) ⟨(by omega), (by omega)⟩ (fun qz350 => ?_)
            refine zt_catch X Y [(34, 79, 170, 173), (80, 94, 170, 173), (95, 109, 170, 173)] (110, 124, 170, 173) [(125, 139, 170, 173), (140, 154, 170, 173), (155, 169, 170, 173), (34, 79, 179, 144), (80, 94, 179, 144), (95, 109, 179, 144), (110, 124, 179, 144), (125, 139, 179, 144), (140, 154, 179, 144), (155, 169, 179, 144), (34, 79, 188, 122), (80, 94, 188, 122), (95, 109, 188, 122), (110, 124, 188, 122), (125, 139, 188, 122), (140, 154, 188, 122), (155, 169, 188, 122)] rfl (zp_c (zp_f rfl) (zp_c (zp_f rfl) (zp_c (zp_f rfl) zp_n))) rfl (by decide) q579 q591 rfl ?_
            refine z_astore (lv2 := [(4, .ref (qz350)), (3, .ref (xa (40 + sN))), (0, .ref (xa 0)), (1, .int (nI (sN))), (2, .int (nI (3)))]) X dX0_says_170 (Nat.le_of_ble_eq_true rfl) rfl ?_
            refine z_aload_n X dX0_says_172 rfl 2 rfl ?_
            refine z_bipush (v := (-3)) X dX0_says_173 (by decide) ?_
            refine z_ci (z_runV (rest := []) (n := 1) X [.int ((-3))] (m_X0_no_3 hX) dX0_says_175 hX.ob rfl (lw_V q350 q352 qs2 q66 q353) hv_X0_no rfl ⟨Nat.le_of_ble_eq_true rfl, Nat.le_of_ble_eq_true rfl⟩ ⟨by omega, by omega⟩ rfl (Nat.le_of_ble_eq_true rfl)) (fun r351 w353 h352 => ?_)
            obtain ⟨r351e, hX352⟩ := h352
            rw [r351e]
            have hcond : o.2.2.2.1 0 sN = 1 ∨ (o.2.2.2.1 0 sN = 2 ∧ under (o.2.2.2.1 3 sN) 3 = false) := Or.inr ⟨hk9, by rw [h6]; rfl⟩
            have e : spSays o (nI sN) (nI 3) = ((-3), oRef o 3) := by
              unfold spSays
              repeat (first | rw [el_some (by assumption)] | rw [el_none (by assumption)])
              rw [if_pos hcond]
              repeat (first | rw [if_pos (by omega)] | rw [if_neg (by omega)])
              all_goals first | rfl | (exfalso; omega)
            exact z_iret X dX0_says_178 (by omega) (by omega) ⟨_, rfl, (by rw [e]; exact ⟨⟨_, _, rfl, hX352⟩, rfl⟩)⟩
          · skip
            refine z_tabIn (off := 90) (tgt := 125) X dX0_says_35 (by decide) (by decide) (by decide) (by decide) ?_
            refine z_aload_n X dX0_says_125 rfl 0 rfl ?_
            refine zt_castNo X V (Is.obj X hr6 rfl) dX0_says_126 q548 [false, true, false, true, false, false, true, true, true, true] rfl (by decide) (by decide) (by decide +kernel) (by decide +kernel) (Nat.le_of_ble_eq_true rfl) (by omega) ⟨(by omega), (by omega)⟩ (fun qz354 => ?_)
            refine zt_catch X Y [(34, 79, 170, 173), (80, 94, 170, 173), (95, 109, 170, 173), (110, 124, 170, 173)] (125, 139, 170, 173) [(140, 154, 170, 173), (155, 169, 170, 173), (34, 79, 179, 144), (80, 94, 179, 144), (95, 109, 179, 144), (110, 124, 179, 144), (125, 139, 179, 144), (140, 154, 179, 144), (155, 169, 179, 144), (34, 79, 188, 122), (80, 94, 188, 122), (95, 109, 188, 122), (110, 124, 188, 122), (125, 139, 188, 122), (140, 154, 188, 122), (155, 169, 188, 122)] rfl (zp_c (zp_f rfl) (zp_c (zp_f rfl) (zp_c (zp_f rfl) (zp_c (zp_f rfl) zp_n)))) rfl (by decide) q579 q591 rfl ?_
            refine z_astore (lv2 := [(4, .ref (qz354)), (3, .ref (xa (40 + sN))), (0, .ref (xa 0)), (1, .int (nI (sN))), (2, .int (nI (4)))]) X dX0_says_170 (Nat.le_of_ble_eq_true rfl) rfl ?_
            refine z_aload_n X dX0_says_172 rfl 2 rfl ?_
            refine z_bipush (v := (-3)) X dX0_says_173 (by decide) ?_
            refine z_ci (z_runV (rest := []) (n := 1) X [.int ((-3))] (m_X0_no_3 hX) dX0_says_175 hX.ob rfl (lw_V q350 q352 qs2 q66 q353) hv_X0_no rfl ⟨Nat.le_of_ble_eq_true rfl, Nat.le_of_ble_eq_true rfl⟩ ⟨by omega, by omega⟩ rfl (Nat.le_of_ble_eq_true rfl)) (fun r355 w357 h356 => ?_)
            obtain ⟨r355e, hX356⟩ := h356
            rw [r355e]
            have hcond : o.2.2.2.1 0 sN = 1 ∨ (o.2.2.2.1 0 sN = 2 ∧ under (o.2.2.2.1 3 sN) 4 = false) := Or.inr ⟨hk9, by rw [h6]; rfl⟩
            have e : spSays o (nI sN) (nI 4) = ((-3), oRef o 3) := by
              unfold spSays
              repeat (first | rw [el_some (by assumption)] | rw [el_none (by assumption)])
              rw [if_pos hcond]
              repeat (first | rw [if_pos (by omega)] | rw [if_neg (by omega)])
              all_goals first | rfl | (exfalso; omega)
            exact z_iret X dX0_says_178 (by omega) (by omega) ⟨_, rfl, (by rw [e]; exact ⟨⟨_, _, rfl, hX356⟩, rfl⟩)⟩
          · skip
            refine z_tabIn (off := 105) (tgt := 140) X dX0_says_35 (by decide) (by decide) (by decide) (by decide) ?_
            refine z_aload_n X dX0_says_140 rfl 0 rfl ?_
            refine zt_castNo X V (Is.obj X hr6 rfl) dX0_says_141 q556 [false, true, false, true, true, false, true, false, false, false] rfl (by decide) (by decide) (by decide +kernel) (by decide +kernel) (Nat.le_of_ble_eq_true rfl) (by omega) ⟨(by omega), (by omega)⟩ (fun qz358 => ?_)
            refine zt_catch X Y [(34, 79, 170, 173), (80, 94, 170, 173), (95, 109, 170, 173), (110, 124, 170, 173), (125, 139, 170, 173)] (140, 154, 170, 173) [(155, 169, 170, 173), (34, 79, 179, 144), (80, 94, 179, 144), (95, 109, 179, 144), (110, 124, 179, 144), (125, 139, 179, 144), (140, 154, 179, 144), (155, 169, 179, 144), (34, 79, 188, 122), (80, 94, 188, 122), (95, 109, 188, 122), (110, 124, 188, 122), (125, 139, 188, 122), (140, 154, 188, 122), (155, 169, 188, 122)] rfl (zp_c (zp_f rfl) (zp_c (zp_f rfl) (zp_c (zp_f rfl) (zp_c (zp_f rfl) (zp_c (zp_f rfl) zp_n))))) rfl (by decide) q579 q591 rfl ?_
            refine z_astore (lv2 := [(4, .ref (qz358)), (3, .ref (xa (40 + sN))), (0, .ref (xa 0)), (1, .int (nI (sN))), (2, .int (nI (5)))]) X dX0_says_170 (Nat.le_of_ble_eq_true rfl) rfl ?_
            refine z_aload_n X dX0_says_172 rfl 2 rfl ?_
            refine z_bipush (v := (-3)) X dX0_says_173 (by decide) ?_
            refine z_ci (z_runV (rest := []) (n := 1) X [.int ((-3))] (m_X0_no_3 hX) dX0_says_175 hX.ob rfl (lw_V q350 q352 qs2 q66 q353) hv_X0_no rfl ⟨Nat.le_of_ble_eq_true rfl, Nat.le_of_ble_eq_true rfl⟩ ⟨by omega, by omega⟩ rfl (Nat.le_of_ble_eq_true rfl)) (fun r359 w361 h360 => ?_)
            obtain ⟨r359e, hX360⟩ := h360
            rw [r359e]
            have hcond : o.2.2.2.1 0 sN = 1 ∨ (o.2.2.2.1 0 sN = 2 ∧ under (o.2.2.2.1 3 sN) 5 = false) := Or.inr ⟨hk9, by rw [h6]; rfl⟩
            have e : spSays o (nI sN) (nI 5) = ((-3), oRef o 3) := by
              unfold spSays
              repeat (first | rw [el_some (by assumption)] | rw [el_none (by assumption)])
              rw [if_pos hcond]
              repeat (first | rw [if_pos (by omega)] | rw [if_neg (by omega)])
              all_goals first | rfl | (exfalso; omega)
            exact z_iret X dX0_says_178 (by omega) (by omega) ⟨_, rfl, (by rw [e]; exact ⟨⟨_, _, rfl, hX360⟩, rfl⟩)⟩
          · skip
            refine z_tabOut (tgt := 155) X dX0_says_35 (by decide) (by decide) ?_
            refine z_aload_n X dX0_says_155 rfl 0 rfl ?_
            refine z_castE X (Is.obj X hr6 rfl) dX0_says_156 q564 ?_
            refine z_aload_n X dX0_says_159 rfl 1 rfl ?_
            refine z_get X dX0_says_160 hX.ob in_X0 rfl 0 (Nat.le_of_ble_eq_true rfl) q233 rfl ?_
            refine z_get X dX0_says_163 hX.day in_X1 rfl 0 (Nat.le_of_ble_eq_true rfl) q190 rfl ?_
            refine z_cip (z_runV (rest := []) (n := 1) X [.ref (xa 5)] (m_X12_says hr6 (by omega)) dX0_says_166 hr6 rfl (lw_V q763 q764 q765 q88 q766) hv_X12_says rfl ⟨Nat.le_of_ble_eq_true rfl, Nat.le_of_ble_eq_true rfl⟩ ⟨by omega, by omega⟩ rfl (Nat.le_of_ble_eq_true rfl)) ?_
            have hcond : ¬ (o.2.2.2.1 0 sN = 1 ∨ (o.2.2.2.1 0 sN = 2 ∧ under (o.2.2.2.1 3 sN) 6 = false)) := fun z => z.elim (fun q => by omega) (fun q => by rw [h6] at q; exact absurd q.2 (by decide))
            have e : spSays o (nI sN) (nI 6) = (nI (wiseH (o.2.2.2.1 4 sN)), o) := by
              unfold spSays
              repeat (first | rw [el_some (by assumption)] | rw [el_none (by assumption)])
              rw [if_neg hcond]
              repeat (first | rw [if_pos (by omega)] | rw [if_neg (by omega)])
              all_goals first | rfl | (exfalso; omega)
            exact z_iret X dX0_says_169 (by omega) (by omega) ⟨_, rfl, (by rw [e]; exact ⟨⟨_, _, rfl, hX⟩, rfl⟩)⟩
    · have e4 : rgb 0 6 k = none := rgb_f c5
      refine z_aload_n X dX0_says_17 rfl 0 rfl ?_
      refine z_bipush (v := (-2)) X dX0_says_18 (by decide) ?_
      refine z_ci (z_runV (rest := []) (n := 1) X [.int ((-2))] (m_X0_no_2 hX) dX0_says_20 hX.ob rfl (lw_V q350 q352 qs2 q66 q353) hv_X0_no rfl ⟨Nat.le_of_ble_eq_true rfl, Nat.le_of_ble_eq_true rfl⟩ ⟨by omega, by omega⟩ rfl (Nat.le_of_ble_eq_true rfl)) (fun r362 w364 h363 => ?_)
      obtain ⟨r362e, hX363⟩ := h363
      rw [r362e]
      have e : spSays o (nI sN) k = ((-2), oRef o 2) := by
        unfold spSays
        repeat (first | rw [el_some (by assumption)] | rw [el_none (by assumption)])
        repeat (first | rw [if_pos (by omega)] | rw [if_neg (by omega)])
        all_goals first | rfl | (exfalso; omega)
      exact z_iret X dX0_says_23 (by omega) (by omega) ⟨_, rfl, (by rw [e]; exact ⟨⟨_, _, rfl, hX363⟩, rfl⟩)⟩
