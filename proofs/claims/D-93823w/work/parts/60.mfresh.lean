/-! THE MODEL: another one beside it (tried, kept) -/
set_option maxRecDepth 100000
/-- what field k of the model refers to: none, or another model -/
def TrO (G : GG) (w : GW) (ad : Nat → Nat) (m : MSt) (k : Nat) (am : Nat → Nat) (t : Bool) : Prop := (t = false → m.2.2.2.2 k = none) ∧ (t = true → m.2.2.2.2 k = some (am 0) ∧ (∃ mt, MW G w am mt) ∧ ∀ i j, mP i = true → mP j = true → ad i ≠ am j)
def FrS (w w1 : GW) (ad am : Nat → Nat) (t : Bool) : Prop := ∀ b e, (∀ i, mP i = true → b ≠ ad i) → (t = true → ∀ i, mP i = true → b ≠ am i) → w b = some e → w1 b = some e
def TrQ (G : GG) (w : GW) (ad : Nat → Nat) (m : MSt) (am : Nat → Nat) (t : Bool) (w1 : GW) (m2 : MSt) : Prop := MW G w1 ad m2 ∧ m2.2.2.2.2 18 = m.2.2.2.2 18 ∧ FrS w w1 ad am t ∧ ∃ am2 t2, TrO G w1 ad m2 19 am2 t2 ∧ (t = true → am2 = am ∧ t2 = true) ∧ (t = false → t2 = true → ∀ i, mP i = true → w (am2 i) = none)
/-- but for field k the same -/
def RQ (m m2 : MSt) (k p : Nat) : Prop := m2.1 = m.1 ∧ m2.2.1 = m.2.1 ∧ m2.2.2.1 = m.2.2.1 ∧ m2.2.2.2.1 = m.2.2.2.1 ∧ (∀ j, j ≠ k → m2.2.2.2.2 j = m.2.2.2.2 j) ∧ m2.2.2.2.2 k = some p
def FreshQ (G : GG) (w : GW) (ad : Nat → Nat) (m : MSt) (k : Nat) (am : Nat → Nat) (t : Bool) (w1 : GW) (at_ : Nat → Nat) (m2 mt2 : MSt) : Prop := MM G w1 w1 ad m2 ∧ MM G w1 w1 at_ mt2 ∧ (∀ i j, mP i = true → mP j = true → ad i ≠ at_ j) ∧ (t = true → at_ = am) ∧ (t = false → ∀ i, mP i = true → w (at_ i) = none) ∧ FrS w w1 ad am t ∧ RQ m m2 k (at_ 0) ∧ ∃ mt, TkQ mt m mt2
theorem MT.RQ {o : OS} {m m2 : MSt} {k p : Nat} (h : MT o m) (q : RQ m m2 k p) : MT o m2 := h.kept (fun _ _ => by rw [q.1]) (fun _ _ => by rw [q.2.1]) (fun _ _ => by rw [q.2.2.1])
theorem RQ.rf {m : MSt} {k p : Nat} (h : m.2.2.2.2 k = some p) : RQ m m k p := ⟨rfl, rfl, rfl, rfl, fun _ _ => rfl, h⟩
theorem RQ.set {m : MSt} {k p : Nat} : RQ m (mR m k (some p)) k p := ⟨rfl, rfl, rfl, rfl, fun _ hj => if_neg hj, if_pos rfl⟩
section TRS
variable {G : GG} {w w1 w2 wb : GW} {ad am at_ : Nat → Nat} {m m2 m9 mt mt9 : MSt} {t : Bool} {k : Nat}
theorem FrS.of (h : ∀ b, (∀ i, mP i = true → b ≠ ad i) → w1 b = w b) : FrS w w1 ad am t := fun b _ hb _ hw => (h b hb).trans hw
/-- only the model itself is changed -/
theorem TrQ.of (hT : TrO G w ad m 19 am t) (h0 : MM G wb w ad m) (h : MM G w w1 ad m2) : TrQ G w ad m am t w1 m2 := by
  have hr := h0.refs h
  refine ⟨h.1, hr.1, FrS.of h.2.1, am, t, ⟨fun e => hr.2.trans (hT.1 e), fun e => ?_⟩, fun e => ⟨rfl, e⟩, fun e e2 => by rw [e] at e2; cases e2⟩
  obtain ⟨a, ⟨mt, b⟩, c⟩ := hT.2 e
  exact ⟨hr.2.trans a, ⟨mt, (b.mm.side h (fun i j x y z => c j i y x z.symm)).1⟩, c⟩
theorem TrQ.ofb (hT : TrO G w ad m 19 am t) (h0 : MM G w w ad m) (h : MM G w w1 ad m2) : TrQ G w ad m am t w1 m2 := TrQ.of hT h0 h
/-- behind one that was made fresh -/
theorem TrQ.fin (hQ : FreshQ G w ad m 19 am t w1 at_ m2 mt) (hA : MM G wb w2 ad m9) (hB : MM G wb w2 at_ mt9) (hF : ∀ b, (∀ i, mP i = true → b ≠ ad i) → (∀ i, mP i = true → b ≠ at_ i) → w2 b = w1 b) (hr : m9.2.2.2.2 18 = m2.2.2.2.2 18 ∧ m9.2.2.2.2 19 = m2.2.2.2.2 19) : TrQ G w ad m am t w2 m9 := by
  obtain ⟨h1, h2, h3, h4, h5, h6, h7, h8⟩ := hQ
  refine ⟨hA.1, hr.1.trans (h7.2.2.2.2.1 18 (by decide)), fun b e hb hb2 hw => ?_, at_, true, ⟨(fun e => by cases e), fun _ => ⟨hr.2.trans h7.2.2.2.2.2, ⟨_, hB.1⟩, h3⟩⟩, fun e => ⟨h4 e, rfl⟩, fun e _ => h5 e⟩
  refine (hF b hb (fun i hi => ?_)).trans (h6 b e hb hb2 hw)
  cases t with
  | true => rw [h4 rfl]; exact hb2 rfl i hi
  | false => intro e2; rw [e2, h5 rfl i hi] at hw; cases hw
end TRS
section ZMQ
variable {κ : ZK} {cc : ByteArray} {nm : String} {nL : Nat} {ret : Option FieldType} {l : Launch} {d mc ms : Nat} {G : GG} {w0 w wb : GW} {post : Option Value → GW → Prop} {lv lv2 : List (Nat × Value)} {a b pc : Nat} {st rest : List Value} {ad : Nat → Nat} {m : MSt}
theorem z_mgv18 (X : ZX κ cc "ThreeSizesModel" nL ret nm l d mc ms G w0 post) (hM : MM G wb w ad m) {v : Value} (hdg : decode cc pc = .ok (.getfield 373, 3)) (hv : va_rf (m.2.2.2.2 18) = v) (k : Z κ w lv a b (pc + 3) (v :: st)) : Z κ w lv a b pc (.ref (ad 0) :: st) := by
  subst hv
  exact z_mg18 X hM hdg k
theorem z_mgv19 (X : ZX κ cc "ThreeSizesModel" nL ret nm l d mc ms G w0 post) (hM : MM G wb w ad m) {v : Value} (hdg : decode cc pc = .ok (.getfield 343, 3)) (hv : va_rf (m.2.2.2.2 19) = v) (k : Z κ w lv a b (pc + 3) (v :: st)) : Z κ w lv a b pc (.ref (ad 0) :: st) := by
  subst hv
  exact z_mg19 X hM hdg k
end ZMQ
theorem fs0_is : ∀ j, j < 38 → defaultValue (tyX4 j) = vp_V (iFs 0 (fun _ => 0)) j := by
  intro j hj
  rcases (show j = 0 ∨ j = 1 ∨ j = 2 ∨ j = 3 ∨ j = 4 ∨ j = 5 ∨ j = 6 ∨ j = 7 ∨ j = 8 ∨ j = 9 ∨ j = 10 ∨ j = 11 ∨ j = 12 ∨ j = 13 ∨ j = 14 ∨ j = 15 ∨ j = 16 ∨ j = 17 ∨ j = 18 ∨ j = 19 ∨ j = 20 ∨ j = 21 ∨ j = 22 ∨ j = 23 ∨ j = 24 ∨ j = 25 ∨ j = 26 ∨ j = 27 ∨ j = 28 ∨ j = 29 ∨ j = 30 ∨ j = 31 ∨ j = 32 ∨ j = 33 ∨ j = 34 ∨ j = 35 ∨ j = 36 ∨ j = 37 by omega) with rfl | rfl | rfl | rfl | rfl | rfl | rfl | rfl | rfl | rfl | rfl | rfl | rfl | rfl | rfl | rfl | rfl | rfl | rfl | rfl | rfl | rfl | rfl | rfl | rfl | rfl | rfl | rfl | rfl | rfl | rfl | rfl | rfl | rfl | rfl | rfl | rfl | rfl <;> rfl
set_option maxHeartbeats 2000000 in
theorem m_X4_fresh {l : Launch} {G : GG} {wb w : GW} {ad am : Nat → Nat} {m : MSt} (hM : MM G wb w ad m) {t : Bool} (hTr : TrO G w ad m 19 am t) : gM l G yX4_fresh cX4_fresh 1 (some (.object "ThreeSizesModel")) 3 68 4751 [.ref (ad 0)] w (pA (fun r w1 => ∃ at_ m2 mt2, r = at_ 0 ∧ FreshQ G w ad m 19 am t w1 at_ m2 mt2)) := by
  refine Z.met (own := "ThreeSizesModel") (nm := "fresh") (lv := [(0, .ref (ad 0))]) (by decide) rfl rfl (Nat.le_of_ble_eq_true rfl) rfl (fun κ X => ?_)
  have hM0 := hM.1.mm
  cases t with
  | true =>
    obtain ⟨h19, ⟨mt, hB⟩, hd⟩ := hTr.2 rfl
    have hB0 := hB.mm
    have hr0 : va_rf (m.2.2.2.2 19) = .ref (am 0) := by rw [h19]; rfl
    have hF6 : ∀ b, (∀ i, mP i = true → b ≠ ad i) → (∀ i, mP i = true → b ≠ am i) → w b = w b := fun _ _ _ => rfl
    refine z_aload_n X dX4_fresh_0 rfl 0 rfl ?_
    refine z_mgv19 X hM0 dX4_fresh_1 hr0 ?_
    refine z_nonnull (tgt := 18) X dX4_fresh_4 (by decide) ?_
    refine z_aload_n X dX4_fresh_18 rfl 0 rfl ?_
    refine z_mgv19 X hM0 dX4_fresh_19 hr0 ?_
    refine z_aload_n X dX4_fresh_22 rfl 0 rfl ?_
    refine z_cv (z_runV (rest := []) (n := 1) X [.ref (ad 0)] (m_X4_takeFrom hB0 hM0 (fun i j x y e => hd j i y x e.symm)) dX4_fresh_23 (mm_o hB0) rfl (lw_V q1699 q1701 qs44 q70 q1702) hv_X4_takeFrom rfl ⟨Nat.le_of_ble_eq_true rfl, Nat.le_of_ble_eq_true rfl⟩ ⟨by omega, by omega⟩ rfl (Nat.le_of_ble_eq_true rfl)) (fun w3 h2 => ?_)
    obtain ⟨mv3, hM3, hk3⟩ := h2
    have hs4 := hM0.side hM3 hd
    have hf5 := fun b (x : ∀ i, mP i = true → b ≠ ad i) (y : ∀ i, mP i = true → b ≠ am i) => (hM3.2.1 b y).trans (hF6 b x y)
    refine z_aload_n X dX4_fresh_26 rfl 0 rfl ?_
    refine z_mgv19 X hs4 dX4_fresh_27 hr0 ?_
    exact z_aret X dX4_fresh_30 (Or.inl ⟨_, rfl⟩) (by omega) (by omega) ⟨_, rfl, ⟨_, _, _, rfl, ⟨hs4.1.mm, hM3.1.mm, hd, (fun _ => rfl), (fun e => by cases e), (fun b e x y hw => (hf5 b x (y rfl)).trans hw), RQ.rf h19, ⟨_, hk3⟩⟩⟩⟩
  | false =>
    have h19 := hTr.1 rfl
    have hr0 : va_rf (m.2.2.2.2 19) = .null := by rw [h19]; rfl
    refine z_aload_n X dX4_fresh_0 rfl 0 rfl ?_
    refine z_mgv19 X hM0 dX4_fresh_1 hr0 ?_
    refine z_nonnullN X dX4_fresh_4 ?_
    refine z_aload_n X dX4_fresh_7 rfl 0 rfl ?_
    refine z_new X dX4_fresh_8 in_X4 tyX4 tyX4_ok (ci := 4) (fs := (iFs 0 (fun _ => 0))) q1697 q1413 q70 rfl fs0_is (by omega) (by omega) (fun q hq => ?_)
    refine z_dup X dX4_fresh_11 rfl ?_
    refine z_cv (z_runI (rest := [.ref q, .ref (ad 0)]) (n := 0) X [] (m_X4_init gu_s) dX4_fresh_12 (lw_meth q1416) q70 q1698 q1415 rfl hs_X4_init rfl ⟨Nat.le_of_ble_eq_true rfl, Nat.le_of_ble_eq_true rfl⟩ ⟨by omega, by omega⟩ rfl (Nat.le_of_ble_eq_true rfl)) (fun w5 h5 => ?_)
    obtain ⟨at_, e1, e2, e3, e4⟩ := h5
    subst e1
    have k5 : ∀ b e, w b = some e → w5 b = some e := fun b e hb => e3 b e (fun h => by rw [h, hq] at hb; cases hb) (gu_f hq hb)
    have n5 : ∀ i, mP i = true → w (at_ i) = none := fun i hi => by
      by_cases i0 : i = 0
      · rw [i0]; exact hq
      · have := e4 i hi i0
        cases hw : w (at_ i) with
        | none => rfl
        | some e => rw [gu_f hq hw] at this; cases this
    have hA5 : MM G w5 w5 ad m := MW.mm ⟨fun i hi => k5 _ _ (hM.1.1 i hi), hM.1.2⟩
    have hd : ∀ i j, mP i = true → mP j = true → ad i ≠ at_ j := fun i j hi hj e => by have h1 := hM.1.1 i hi; rw [e, n5 j hj] at h1; cases h1
    refine z_mp19 X hA5 dX4_fresh_15 (fun w6 hA6 hf6 => ?_)
    have hB6 : MM G w6 w6 at_ m0 := MW.mm (Sx.kept e2 (fun i hi => hf6 _ (fun j hj e => hd j i hj hi e.symm)))
    have hfr : FrS w w6 ad am false := fun b e hb _ hw => (hf6 b hb).trans (k5 b e hw)
    have hF6 : ∀ b, (∀ i, mP i = true → b ≠ ad i) → (∀ i, mP i = true → b ≠ at_ i) → w6 b = w6 b := fun _ _ _ => rfl
    refine z_aload_n X dX4_fresh_18 rfl 0 rfl ?_
    refine z_mgv19 X hA6 dX4_fresh_19 rfl ?_
    refine z_aload_n X dX4_fresh_22 rfl 0 rfl ?_
    refine z_cv (z_runV (rest := []) (n := 1) X [.ref (ad 0)] (m_X4_takeFrom hB6 hA6 (fun i j x y e => hd j i y x e.symm)) dX4_fresh_23 (mm_o hB6) rfl (lw_V q1699 q1701 qs44 q70 q1702) hv_X4_takeFrom rfl ⟨Nat.le_of_ble_eq_true rfl, Nat.le_of_ble_eq_true rfl⟩ ⟨by omega, by omega⟩ rfl (Nat.le_of_ble_eq_true rfl)) (fun w8 h7 => ?_)
    obtain ⟨mv8, hM8, hk8⟩ := h7
    have hs9 := hA6.side hM8 hd
    have hf10 := fun b (x : ∀ i, mP i = true → b ≠ ad i) (y : ∀ i, mP i = true → b ≠ at_ i) => (hM8.2.1 b y).trans (hF6 b x y)
    refine z_aload_n X dX4_fresh_26 rfl 0 rfl ?_
    refine z_mgv19 X hs9 dX4_fresh_27 rfl ?_
    exact z_aret X dX4_fresh_30 (Or.inl ⟨_, rfl⟩) (by omega) (by omega) ⟨_, rfl, ⟨_, _, _, rfl, ⟨hs9.1.mm, hM8.1.mm, hd, (fun e => by cases e), (fun _ => n5), (fun b e x y hw => (hf10 b x (fun i hi e9 => by rw [e9, n5 i hi] at hw; cases hw)).trans (hfr b e x y hw)), RQ.set, ⟨_, hk8⟩⟩⟩⟩
set_option maxHeartbeats 2000000 in
theorem m_X4_image {l : Launch} {G : GG} {wb w : GW} {ad am : Nat → Nat} {m : MSt} (hM : MM G wb w ad m) {t : Bool} (hTr : TrO G w ad m 18 am t) : gM l G yX4_image cX4_image 1 (some .int) 3 68 4751 [.ref (ad 0)] w (pI (fun r w1 => (∃ at_ m2 mt2, FreshQ G w ad m 18 am t w1 at_ m2 mt2) ∧ r = nI 1)) := by
  refine Z.met (own := "ThreeSizesModel") (nm := "image") (lv := [(0, .ref (ad 0))]) (by decide) rfl rfl (Nat.le_of_ble_eq_true rfl) rfl (fun κ X => ?_)
  have hM0 := hM.1.mm
  cases t with
  | true =>
    obtain ⟨h19, ⟨mt, hB⟩, hd⟩ := hTr.2 rfl
    have hB0 := hB.mm
    have hr0 : va_rf (m.2.2.2.2 18) = .ref (am 0) := by rw [h19]; rfl
    have hF6 : ∀ b, (∀ i, mP i = true → b ≠ ad i) → (∀ i, mP i = true → b ≠ am i) → w b = w b := fun _ _ _ => rfl
    refine z_aload_n X dX4_image_0 rfl 0 rfl ?_
    refine z_mgv18 X hM0 dX4_image_1 hr0 ?_
    refine z_nonnull (tgt := 18) X dX4_image_4 (by decide) ?_
    refine z_aload_n X dX4_image_18 rfl 0 rfl ?_
    refine z_mgv18 X hM0 dX4_image_19 hr0 ?_
    refine z_aload_n X dX4_image_22 rfl 0 rfl ?_
    refine z_cv (z_runV (rest := []) (n := 1) X [.ref (ad 0)] (m_X4_takeFrom hB0 hM0 (fun i j x y e => hd j i y x e.symm)) dX4_image_23 (mm_o hB0) rfl (lw_V q1699 q1701 qs44 q70 q1702) hv_X4_takeFrom rfl ⟨Nat.le_of_ble_eq_true rfl, Nat.le_of_ble_eq_true rfl⟩ ⟨by omega, by omega⟩ rfl (Nat.le_of_ble_eq_true rfl)) (fun w3 h2 => ?_)
    obtain ⟨mv3, hM3, hk3⟩ := h2
    have hs4 := hM0.side hM3 hd
    have hf5 := fun b (x : ∀ i, mP i = true → b ≠ ad i) (y : ∀ i, mP i = true → b ≠ am i) => (hM3.2.1 b y).trans (hF6 b x y)
    refine z_iconst (v := nI (1)) X dX4_image_26 ci1 ?_
    exact z_iret X dX4_image_27 (by omega) (by omega) ⟨_, rfl, ⟨⟨_, _, _, ⟨hs4.1.mm, hM3.1.mm, hd, (fun _ => rfl), (fun e => by cases e), (fun b e x y hw => (hf5 b x (y rfl)).trans hw), RQ.rf h19, ⟨_, hk3⟩⟩⟩, rfl⟩⟩
  | false =>
    have h19 := hTr.1 rfl
    have hr0 : va_rf (m.2.2.2.2 18) = .null := by rw [h19]; rfl
    refine z_aload_n X dX4_image_0 rfl 0 rfl ?_
    refine z_mgv18 X hM0 dX4_image_1 hr0 ?_
    refine z_nonnullN X dX4_image_4 ?_
    refine z_aload_n X dX4_image_7 rfl 0 rfl ?_
    refine z_new X dX4_image_8 in_X4 tyX4 tyX4_ok (ci := 4) (fs := (iFs 0 (fun _ => 0))) q1697 q1413 q70 rfl fs0_is (by omega) (by omega) (fun q hq => ?_)
    refine z_dup X dX4_image_11 rfl ?_
    refine z_cv (z_runI (rest := [.ref q, .ref (ad 0)]) (n := 0) X [] (m_X4_init gu_s) dX4_image_12 (lw_meth q1416) q70 q1698 q1415 rfl hs_X4_init rfl ⟨Nat.le_of_ble_eq_true rfl, Nat.le_of_ble_eq_true rfl⟩ ⟨by omega, by omega⟩ rfl (Nat.le_of_ble_eq_true rfl)) (fun w5 h5 => ?_)
    obtain ⟨at_, e1, e2, e3, e4⟩ := h5
    subst e1
    have k5 : ∀ b e, w b = some e → w5 b = some e := fun b e hb => e3 b e (fun h => by rw [h, hq] at hb; cases hb) (gu_f hq hb)
    have n5 : ∀ i, mP i = true → w (at_ i) = none := fun i hi => by
      by_cases i0 : i = 0
      · rw [i0]; exact hq
      · have := e4 i hi i0
        cases hw : w (at_ i) with
        | none => rfl
        | some e => rw [gu_f hq hw] at this; cases this
    have hA5 : MM G w5 w5 ad m := MW.mm ⟨fun i hi => k5 _ _ (hM.1.1 i hi), hM.1.2⟩
    have hd : ∀ i j, mP i = true → mP j = true → ad i ≠ at_ j := fun i j hi hj e => by have h1 := hM.1.1 i hi; rw [e, n5 j hj] at h1; cases h1
    refine z_mp18 X hA5 dX4_image_15 (fun w6 hA6 hf6 => ?_)
    have hB6 : MM G w6 w6 at_ m0 := MW.mm (Sx.kept e2 (fun i hi => hf6 _ (fun j hj e => hd j i hj hi e.symm)))
    have hfr : FrS w w6 ad am false := fun b e hb _ hw => (hf6 b hb).trans (k5 b e hw)
    have hF6 : ∀ b, (∀ i, mP i = true → b ≠ ad i) → (∀ i, mP i = true → b ≠ at_ i) → w6 b = w6 b := fun _ _ _ => rfl
    refine z_aload_n X dX4_image_18 rfl 0 rfl ?_
    refine z_mgv18 X hA6 dX4_image_19 rfl ?_
    refine z_aload_n X dX4_image_22 rfl 0 rfl ?_
    refine z_cv (z_runV (rest := []) (n := 1) X [.ref (ad 0)] (m_X4_takeFrom hB6 hA6 (fun i j x y e => hd j i y x e.symm)) dX4_image_23 (mm_o hB6) rfl (lw_V q1699 q1701 qs44 q70 q1702) hv_X4_takeFrom rfl ⟨Nat.le_of_ble_eq_true rfl, Nat.le_of_ble_eq_true rfl⟩ ⟨by omega, by omega⟩ rfl (Nat.le_of_ble_eq_true rfl)) (fun w8 h7 => ?_)
    obtain ⟨mv8, hM8, hk8⟩ := h7
    have hs9 := hA6.side hM8 hd
    have hf10 := fun b (x : ∀ i, mP i = true → b ≠ ad i) (y : ∀ i, mP i = true → b ≠ at_ i) => (hM8.2.1 b y).trans (hF6 b x y)
    refine z_iconst (v := nI (1)) X dX4_image_26 ci1 ?_
    exact z_iret X dX4_image_27 (by omega) (by omega) ⟨_, rfl, ⟨⟨_, _, _, ⟨hs9.1.mm, hM8.1.mm, hd, (fun e => by cases e), (fun _ => n5), (fun b e x y hw => (hf10 b x (fun i hi e9 => by rw [e9, n5 i hi] at hw; cases hw)).trans (hfr b e x y hw)), RQ.set, ⟨_, hk8⟩⟩⟩, rfl⟩⟩
def oRf (o : OS) (k : Nat) : OS := oRef o k
set_option maxHeartbeats 2000000 in
theorem m_X4_back0 {l : Launch} {G : GG} {wb w : GW} {ad : Nat → Nat} {m : MSt} (hM : MM G wb w ad m) {o : OS} (hT : MT o m) (h18 : m.2.2.2.2 18 = none) : gM l G yX4_back cX4_back 1 (some .int) 3 0 0 [.ref (ad 0)] w (pI (fun r w1 => ∃ m2, MM G w w1 ad m2 ∧ MT (oRef o 5) m2 ∧ r = (-5))) := by
  refine Z.met (own := "ThreeSizesModel") (nm := "back") (lv := [(0, .ref (ad 0))]) (by decide) rfl rfl (Nat.le_of_ble_eq_true rfl) rfl (fun κ X => ?_)
  have hM0 := hM.1.mm
  have hr0 : va_rf (m.2.2.2.2 18) = .null := by rw [h18]; rfl
  refine z_aload_n X dX4_back_0 rfl 0 rfl ?_
  refine z_mgv18 X hM0 dX4_back_1 hr0 ?_
  refine z_nonnullN X dX4_back_4 ?_
  refine z_aload_n X dX4_back_7 rfl 0 rfl ?_
  refine z_bipush (v := (-5)) X dX4_back_8 (by decide) ?_
  refine z_ci (z_runV (rest := []) (n := 1) X [.int ((-5))] (m_X4_refuse hM0 (k := 5) (by decide) (v := (-5)) rfl) dX4_back_10 (mm_o hM0) rfl (lw_V q1546 q1548 qs27 q70 q1549) hv_X4_refuse rfl ⟨Nat.le_of_ble_eq_true rfl, Nat.le_of_ble_eq_true rfl⟩ ⟨by omega, by omega⟩ rfl (Nat.le_of_ble_eq_true rfl)) (fun r1 w3 h2 => ?_)
  obtain ⟨hM2, r1e⟩ := h2
  rw [r1e]
  have hT2 := MT.ref hT (k := 5) (by decide)
  exact z_iret X dX4_back_13 (by omega) (by omega) ⟨_, rfl, ⟨_, hM2, hT2, rfl⟩⟩
set_option maxHeartbeats 2000000 in
theorem m_X4_back1 {l : Launch} {G : GG} {wb w : GW} {ad : Nat → Nat} {m : MSt} (hM : MM G wb w ad m) {o : OS} (hT : MT o m) {am : Nat → Nat} {mk : MSt} (h18 : m.2.2.2.2 18 = some (am 0)) (hB : MW G w am mk) (hd : ∀ i j, mP i = true → mP j = true → ad i ≠ am j) {S : WS} {dy : Nat → Int32} {sd : Int32} (hK : MK S dy sd mk) : gM l G yX4_back cX4_back 1 (some .int) 3 0 0 [.ref (ad 0)] w (pI (fun r w1 => ∃ m2, MM G w w1 ad m2 ∧ MT (oBack o S dy sd) m2 ∧ r = nI 1)) := by
  refine Z.met (own := "ThreeSizesModel") (nm := "back") (lv := [(0, .ref (ad 0))]) (by decide) rfl rfl (Nat.le_of_ble_eq_true rfl) rfl (fun κ X => ?_)
  have hM0 := hM.1.mm
  have hB0 := hB.mm
  have hr0 : va_rf (m.2.2.2.2 18) = .ref (am 0) := by rw [h18]; rfl
  refine z_aload_n X dX4_back_0 rfl 0 rfl ?_
  refine z_mgv18 X hM0 dX4_back_1 hr0 ?_
  refine z_nonnull (tgt := 14) X dX4_back_4 (by decide) ?_
  refine z_aload_n X dX4_back_14 rfl 0 rfl ?_
  refine z_aload_n X dX4_back_15 rfl 0 rfl ?_
  refine z_mgv18 X hM0 dX4_back_16 hr0 ?_
  refine z_cv (z_runV (rest := []) (n := 1) X [.ref (am 0)] (m_X4_takeFrom hM0 hB0 hd) dX4_back_19 (mm_o hM0) rfl (lw_V q1699 q1701 qs44 q70 q1702) hv_X4_takeFrom rfl ⟨Nat.le_of_ble_eq_true rfl, Nat.le_of_ble_eq_true rfl⟩ ⟨by omega, by omega⟩ rfl (Nat.le_of_ble_eq_true rfl)) (fun w3 h2 => ?_)
  obtain ⟨mv3, hM3, hk3⟩ := h2
  have hs4 := hB0.side hM3 (fun i j x y e => hd j i y x e.symm)
  have hc5 := hM0.trans hM3
  refine z_iconst (v := nI (1)) X dX4_back_22 ci1 ?_
  exact z_iret X dX4_back_23 (by omega) (by omega) ⟨_, rfl, ⟨_, hc5, hT.back hk3 hK, rfl⟩⟩
