/-! THE FRAME: a contract over some cells holds in any greater world; x: Worths made for a wise rule -/
set_option maxRecDepth 100000
/-- w1 : behind a call over the cells w0 of w that left w2 of them -/
def FrW (w0 w w1 w2 : GW) : Prop := (∀ a e, w2 a = some e → w1 a = some e) ∧ (∀ a e, w a = some e → w0 a = none → w1 a = some e) ∧ ∀ a, w2 a ≠ none → w0 a ≠ none ∨ w a = none
theorem gM.frame {l : Launch} {G : GG} {y : MethodName} {c : ByteArray} {nL : Nat} {ret : Option FieldType} {d mc ms : Nat} {as : List Value} {w0 w : GW} {post : Option Value → GW → Prop} (h : gM l G y c nL ret d mc ms as w0 post) (hs : ∀ a e, w0 a = some e → w a = some e) : gM l G y c nL ret d mc ms as w (fun v w1 => ∃ w2, post v w2 ∧ FrW w0 w w1 w2) := fun sz => by
  intro p e ha hc hk s m args below hf happ hP hK
  obtain ⟨q0, q1, q2, q3⟩ := hP
  obtain ⟨n, o, h1, h2, h3, ⟨⟨v, w2, g1, g2, g3, g4⟩, g5⟩, L, h5, h6⟩ := h sz p e ha hc hk s m args below hf happ ⟨q0, q1, ⟨fun a e he => q2.1 a e (hs a e he), q2.2⟩, q3⟩ hK
  have hA : ∀ q, gA w0 sz q → gA w sz q := fun q z => by
    rcases z with ⟨e, z⟩ | z
    · exact Or.inl ⟨e, hs q e z⟩
    · exact Or.inr z
  have hlt : ∀ a e, w a = some e → a < sz := fun a e he => by rw [← q1]; exact q2.lt he
  have hout : ∀ a e, w a = some e → w0 a = none → ¬ gA w0 sz a := fun a e he hn z => by
    rcases z with ⟨e, z⟩ | z
    · rw [hn] at z; cases z
    · have := hlt a _ he
      omega
  have h2n : ∀ a e, w a = some e → w0 a = none → w2 a = none := fun a e he hn => by
    cases h9 : w2 a with
    | none => rfl
    | some e9 => exact absurd (g4 a e9 h9) (hout a e he hn)
  let w1 : GW := fun a => if w2 a = none then (if w0 a = none then w a else none) else w2 a
  have e1 : ∀ a e, w2 a = some e → w1 a = some e := fun a e he => by
    show (if w2 a = none then _ else w2 a) = _
    rw [if_neg (by rw [he]; exact Option.some_ne_none _)]
    exact he
  have e2 : ∀ a, w2 a = none → w0 a = none → w1 a = w a := fun a z1 z2 => by
    show (if w2 a = none then (if w0 a = none then w a else none) else w2 a) = _
    rw [if_pos z1, if_pos z2]
  have e3 : ∀ a e, w1 a = some e → w2 a = some e ∨ (w0 a = none ∧ w a = some e) := fun a e he => by
    cases h9 : w2 a with
    | some e9 => rw [e1 a e9 h9] at he; exact Or.inl he
    | none =>
      cases h8 : w0 a with
      | none => rw [e2 a h9 h8] at he; exact Or.inr ⟨rfl, he⟩
      | some e8 =>
        have he : (if w2 a = none then (if w0 a = none then w a else none) else w2 a) = some e := he
        rw [if_pos h9, if_neg (by rw [h8]; exact Option.some_ne_none _)] at he
        cases he
  refine ⟨n, o, h1, h2, h3, ⟨⟨v, w1, g1, ⟨w2, g2, e1, fun a e he hn => (e2 a (h2n a e he hn) hn).trans he, fun a hn => ?_⟩, ⟨fun a e he => ?_, g3.2⟩, fun a e he => ?_⟩, g5.1, fun q a b => g5.2 q a (fun z => b (hA q z))⟩, L, h5, fun q hq => hA _ (h6 q hq)⟩
  · obtain ⟨e, he⟩ := Option.ne_none_iff_exists'.mp hn
    rcases g4 a e he with ⟨e0, z⟩ | z
    · exact Or.inl (by rw [z]; exact Option.some_ne_none _)
    · refine Or.inr ?_
      cases h9 : w a with
      | none => rfl
      | some e9 =>
        have := hlt a _ h9
        omega
  · rcases e3 a e he with z | ⟨z1, z2⟩
    · exact g3.1 a e z
    · exact ⟨(q2.1 a e z2).1, (q2.at z2).kept (g5.2 a (q2.lt z2) (hout a e z2 z1))⟩
  · rcases e3 a e he with z | ⟨z1, z2⟩
    · exact hA a (g4 a e z)
    · exact Or.inl ⟨e, z2⟩
section FRM
variable {l : Launch} {G : GG} {y : MethodName} {c : ByteArray} {nL : Nat} {ret : Option FieldType} {d mc ms : Nat} {as : List Value} {w0 w : GW}
theorem gM.frameV {f : GW → Prop} (h : gM l G y c nL ret d mc ms as w0 (pV f)) (hs : ∀ a e, w0 a = some e → w a = some e) : gM l G y c nL ret d mc ms as w (pV (fun w1 => ∃ w2, f w2 ∧ FrW w0 w w1 w2)) :=
  gM.mono (h.frame hs) fun v w1 ⟨w2, ⟨h1, h2⟩, h3⟩ => ⟨h1, w2, h2, h3⟩
theorem gM.frameI {f : Int32 → GW → Prop} (h : gM l G y c nL ret d mc ms as w0 (pI f)) (hs : ∀ a e, w0 a = some e → w a = some e) : gM l G y c nL ret d mc ms as w (pI (fun r w1 => ∃ w2, f r w2 ∧ FrW w0 w w1 w2)) :=
  gM.mono (h.frame hs) fun v w1 ⟨w2, ⟨r, h1, h2⟩, h3⟩ => ⟨r, h1, w2, h2, h3⟩
theorem gM.frameL {f : Int64 → GW → Prop} (h : gM l G y c nL ret d mc ms as w0 (pL f)) (hs : ∀ a e, w0 a = some e → w a = some e) : gM l G y c nL ret d mc ms as w (pL (fun r w1 => ∃ w2, f r w2 ∧ FrW w0 w w1 w2)) :=
  gM.mono (h.frame hs) fun v w1 ⟨w2, ⟨r, h1, h2⟩, h3⟩ => ⟨r, h1, w2, h2, h3⟩
theorem gM.frameA {f : Nat → GW → Prop} (h : gM l G y c nL ret d mc ms as w0 (pA f)) (hs : ∀ a e, w0 a = some e → w a = some e) : gM l G y c nL ret d mc ms as w (pA (fun r w1 => ∃ w2, f r w2 ∧ FrW w0 w w1 w2)) :=
  gM.mono (h.frame hs) fun v w1 ⟨w2, ⟨r, h1, h2⟩, h3⟩ => ⟨r, h1, w2, h2, h3⟩
theorem XW.mono {w w1 : GW} {xa : Nat → Nat} {C : Nat → Option va_E} (h : XW w xa C) (hk : ∀ a e, w a = some e → w1 a = some e) : XW w1 xa C := h.kept fun k e hC => hk _ _ (h.1 k e hC)
theorem XT.mono {w w1 : GW} {xa : Nat → Nat} {rr : Option Nat} {o : OS} {im : IM} (h : XT G w xa rr o im) (hk : ∀ a e, w a = some e → w1 a = some e) : XT G w1 xa rr o im := by
  obtain ⟨C, hW, hC⟩ := h
  exact ⟨C, hW.mono hk, hC⟩
/-- what a wise rule has learnt is none of the wall's rows -/
theorem XT.wne {xa : Nat → Nat} {rr : Option Nat} {o : OS} {im : IM} (h : XT G w xa rr o im) {s : Nat} (hs : s < 8) (hk : o.2.2.2.1 0 s = 2) (h6 : o.2.2.2.1 3 s = 6) : ∀ q0, rr = some q0 → xa (50 + s) ≠ xa 14 ∧ xa (50 + s) ≠ xa 15 := by
  obtain ⟨C, hW, hC⟩ := h
  intro q0 hq
  have hc : ∃ T0, C (50 + s) = some (.inl (G.2.1 1, 125, .inr (.inl T0))) := by
    rcases hC.cs s hs with ⟨q, -⟩ | ⟨q, -⟩ | ⟨-, h3, h4, h5⟩
    · rw [q] at hk; cases hk
    · rw [q] at hk; cases hk
    · obtain ⟨T0, h7, -⟩ := h5 h6
      exact ⟨T0, h7⟩
  obtain ⟨T0, hc⟩ := hc
  rcases hC.cr with h1 | ⟨h1, ro, T, h2, h3, h4, h5, h7, h8⟩
  · rw [h1] at hq; cases hq
  · exact ⟨hW.ne hc h5 (by omega), hW.ne hc h7 (by omega)⟩
end FRM
set_option maxHeartbeats 2000000 in
theorem m_X13_initW {l : Launch} {G : GG} {w : GW} {xa : Nat → Nat} {rr : Option Nat} {o : OS} {im : IM} (hX : XT G w xa rr o im) (hO : oInv o) {s : Nat} (hs : s < 8) (hk2 : o.2.2.2.1 0 s = 2) (hk6 : o.2.2.2.1 3 s = 6) {wq : Nat} (hn : w wq = none) : gM l G yX13_init cX13_init 3 none 14 7 507 [.ref (wq), .ref (xa 5), .ref (xa (40 + s))] (gu w wq (.inr (12, [.null, .null, .int 0]))) (pV (fun w1 => ∃ xa2 rr2, (∀ k, k ≠ 13 → k ≠ 14 → k ≠ 15 → xa2 k = xa k) ∧ XT G w1 xa2 rr2 o im ∧ w1 (xa2 (50 + s)) = some (.inl (G.2.1 1, 125, .inr (.inl (wiseT o.1 (o.2.2.2.1 4 s))))) ∧ w1 wq = some (.inr (12, [.ref (xa2 5), .ref (xa2 (40 + s)), .int (nI (100 - sumTo (o.1.1 4) (o.1.2 0)))])))) := by
  refine Z.met (own := "ThreeSizes$Worths") (nm := "<init>") (lv := [(0, .ref (wq)), (1, .ref (xa 5)), (2, .ref (xa (40 + s)))]) (by decide) rfl rfl (Nat.le_of_ble_eq_true rfl) rfl (fun κ X => ?_)
  have hI := hO.1
  refine z_aload_n X dX13_init_0 rfl 0 rfl ?_
  refine z_objInit X dX13_init_1 q619 q108 q109 (Nat.le_of_ble_eq_true rfl) (Nat.le_of_ble_eq_true rfl) ?_
  refine z_aload_n X dX13_init_4 rfl 0 rfl ?_
  refine z_aload_n X dX13_init_5 rfl 1 rfl ?_
  refine z_putF X dX13_init_6 gu_s in_X13 tyX13 tyX13_ok nmX13 rfl 0 (Nat.le_of_ble_eq_true rfl) q625 rfl rfl rfl rfl rfl (Nat.le_of_ble_eq_true rfl) ?_
  rw [gu_gu]
  refine z_aload_n X dX13_init_9 rfl 0 rfl ?_
  refine z_aload_n X dX13_init_10 rfl 2 rfl ?_
  refine z_putF X dX13_init_11 gu_s in_X13 tyX13 tyX13_ok nmX13 rfl 1 (Nat.le_of_ble_eq_true rfl) q626 rfl rfl rfl rfl rfl (Nat.le_of_ble_eq_true rfl) ?_
  rw [gu_gu]
  refine z_aload_n X dX13_init_14 rfl 0 rfl ?_
  refine z_bipush (v := nI (100)) X dX13_init_15 (by decide) ?_
  refine z_aload_n X dX13_init_17 rfl 1 rfl ?_
  refine z_cip (z_runV (rest := [.int (nI (100)), .ref (wq)]) (n := 0) X [] (m_X2_all (hX.fresh hn).wall hI) dX13_init_18 (wl_o (hX.fresh hn).wall) rfl (lw_V q620 q621 q622 q68 q623) hv_X2_all rfl ⟨Nat.le_of_ble_eq_true rfl, Nat.le_of_ble_eq_true rfl⟩ ⟨by omega, by omega⟩ rfl (Nat.le_of_ble_eq_true rfl)) ?_
  refine z_isub (v := nI (100 - sumTo (o.1.1 4) (o.1.2 0))) X dX13_init_21 (pk_sub (by have := hI.2.2.2.1; omega)) ?_
  refine z_putF X dX13_init_22 gu_s in_X13 tyX13 tyX13_ok nmX13 rfl 2 (Nat.le_of_ble_eq_true rfl) q627 rfl rfl rfl rfl rfl (Nat.le_of_ble_eq_true rfl) ?_
  rw [gu_gu]
  refine z_aload_n X dX13_init_25 rfl 2 rfl ?_
  refine z_isnull X dX13_init_26 ?_
  refine z_aload_n X dX13_init_29 rfl 2 rfl ?_
  refine z_aload_n X dX13_init_30 rfl 1 rfl ?_
  refine z_cv (z_runO (owner := "ThreeSizes$Rule") (x := ⟨"ThreeSizes$Rule", "learns", "(LThreeSizes$Wall;)V"⟩) (rest := []) (n := 1) X [.ref (xa 5)] (gM.frameV (m_X12_learns hX hO hs hk2 hk6) (fun a e he => gu_f hn he)) dX13_init_31 ((hX.fresh hn).wise hs hk2 hk6) rfl (lw_app (lw_in _ [624, 605, 604, 611, 612, 88] (by decide +kernel) (by decide +kernel)) (lw_meth q613)) q741 (by decide +kernel) rfl ⟨Nat.le_of_ble_eq_true rfl, Nat.le_of_ble_eq_true rfl⟩ ⟨by omega, by omega⟩ rfl (Nat.le_of_ble_eq_true rfl)) (fun w3 h2 => ?_)
  obtain ⟨w9, ⟨xa2, rr2, hk9, hX9, ht9⟩, hf9⟩ := h2
  exact z_vret X dX13_init_34 (by omega) (by omega) ⟨rfl, ⟨xa2, rr2, hk9, hX9.mono hf9.1, hf9.1 _ _ ht9, by rw [hk9 5 (by omega) (by omega) (by omega), hk9 (40 + s) (by omega) (by omega) (by omega)]; exact hf9.2.1 _ _ gu_s hn⟩⟩
