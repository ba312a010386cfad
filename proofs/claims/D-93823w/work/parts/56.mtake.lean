/-! THE MODEL: what one takes from another -/
set_option maxRecDepth 100000
def mixI (f g : Nat → Int32) (n : Nat) : Nat → Int32 := fun j => if j < n then f j else g j
theorem mixI_0 {f g : Nat → Int32} : mixI f g 0 = g := by funext j; simp [mixI]
theorem mixI_1 {f g : Nat → Int32} {i : Nat} : upd (mixI f g i) i (f i) = mixI f g (i + 1) := by
  funext j
  unfold upd mixI
  by_cases h : j = i
  · subst h; simp
  · rw [if_neg h]
    by_cases h2 : j < i
    · rw [if_pos h2, if_pos (by omega)]
    · rw [if_neg h2, if_neg (by omega)]
/-- a whole cell of ints anew -/
def mS (m : MSt) (c : Nat) (f : Nat → Int32) : MSt := (fun c2 => if c2 = c then f else m.1 c2, m.2)
theorem mm_S {G : GG} {wb w : GW} {ad : Nat → Nat} {m : MSt} (h : MM G wb w ad m) (c : Nat) (hc : mP c = true) (hk : mK c = 0) {n : Nat} {f : Nat → Int32} (hn : mLen c = n) : MM G wb (gu w (ad c) (.inl (G.2.1 0, n, .inl f))) ad (mS m c f) := by
  subst hn
  have hc0 : c ≠ 0 := fun e => by rw [e] at hk; cases hk
  refine h.put hc ?_ (fun i _ hi => ?_) rfl
  · unfold mCt; rw [if_neg hc0, if_pos hk]; simp [mS]
  · unfold mCt
    have e1 : (mS m c f).1 i = m.1 i := if_neg hi
    rw [e1]; rfl
/-- what has been taken so far: cells by number, fields by 100 and their number -/
def TkI (D : Nat → Prop) (m mf m2 : MSt) : Prop := (∀ c, c < 100 → D c → ∀ j, j < mLen c → m2.1 c j = mf.1 c j) ∧ (∀ c, c < 100 → ¬ D c → m2.1 c = m.1 c) ∧ m2.2.1 = m.2.1 ∧ (∀ k, D (100 + k) → m2.2.2.1 k = mf.2.2.1 k) ∧ (∀ k, ¬ D (100 + k) → m2.2.2.1 k = m.2.2.1 k) ∧ m2.2.2.2 = m.2.2.2
theorem TkI.set {D D2 : Nat → Prop} {m mf m2 : MSt} (h : TkI D m mf m2) {c n : Nat} (hc : c < 100) (hn : mLen c = n) (hD : ∀ x, D2 x ↔ D x ∨ x = c) : TkI D2 m mf (mS m2 c (mixI (mf.1 c) (m2.1 c) n)) := by
  obtain ⟨h1, h2, h3, h4, h5, h6⟩ := h
  refine ⟨fun x hx d j hj => ?_, fun x hx d => ?_, h3, fun k d => ?_, fun k d => ?_, h6⟩
  · show (ite _ _ _ : Nat → Int32) j = _
    by_cases q : x = c
    · subst q; subst hn; rw [if_pos rfl]; exact if_pos hj
    · rw [if_neg q]; exact h1 x hx (((hD x).mp d).resolve_right q) j hj
  · exact (if_neg (fun q => d ((hD x).mpr (Or.inr q)))).trans (h2 x hx (fun q => d ((hD x).mpr (Or.inl q))))
  · exact h4 k (((hD _).mp d).resolve_right (by omega))
  · exact h5 k (fun q => d ((hD _).mpr (Or.inl q)))
theorem TkI.setF {D D2 : Nat → Prop} {m mf m2 : MSt} (h : TkI D m mf m2) {k : Nat} (hD : ∀ x, D2 x ↔ D x ∨ x = 100 + k) : TkI D2 m mf (mF m2 k (mf.2.2.1 k)) := by
  obtain ⟨h1, h2, h3, h4, h5, h6⟩ := h
  refine ⟨fun x hx d j hj => h1 x hx (((hD x).mp d).resolve_right (by omega)) j hj, fun x hx d => h2 x hx (fun q => d ((hD x).mpr (Or.inl q))), h3, fun y d => ?_, fun y d => ?_, h6⟩
  · show ite _ _ _ = _
    by_cases q : y = k
    · subst q; exact if_pos rfl
    · rw [if_neg q]; exact h4 y (((hD _).mp d).resolve_right (by omega))
  · exact (if_neg (fun q => d ((hD _).mpr (Or.inr (by omega))))).trans (h5 y (fun q => d ((hD _).mpr (Or.inl q))))
theorem TkI.rf {m mf : MSt} : TkI (fun _ => False) m mf m := ⟨fun _ _ d => d.elim, fun _ _ _ => rfl, rfl, fun _ d => d.elim, fun _ _ => rfl, rfl⟩
theorem TkI.iff {D D2 : Nat → Prop} {m mf m2 : MSt} (h : TkI D m mf m2) (hD : ∀ x, D2 x ↔ D x) : TkI D2 m mf m2 := by
  obtain ⟨h1, h2, h3, h4, h5, h6⟩ := h
  exact ⟨fun x hx d => h1 x hx ((hD x).mp d), fun x hx d => h2 x hx (fun q => d ((hD x).mpr q)), h3, fun k d => h4 k ((hD _).mp d), fun k d => h5 k (fun q => d ((hD _).mpr q)), h6⟩
def tkD (c : Nat) : Prop := c = 11 ∨ c = 12 ∨ c = 13 ∨ (50 ≤ c ∧ c < 56) ∨ c = 16 ∨ c = 17 ∨ c = 113 ∨ c = 117
abbrev TkQ (m mf m2 : MSt) : Prop := TkI tkD m mf m2
/-- what an image keeps -/
def MK (S : WS) (dy : Nat → Int32) (sd : Int32) (m : MSt) : Prop := MR S m ∧ (∀ j, j < 6 → m.1 17 j = dy j) ∧ m.2.2.1 17 = sd
theorem MT.mk {o : OS} {m : MSt} (h : MT o m) : MK o.1 o.2.1 o.2.2.1 m := ⟨h.1, h.2.1, h.2.2.1⟩
theorem TkI.mk {m mf m2 : MSt} (h : TkQ m mf m2) {S : WS} {dy : Nat → Int32} {sd : Int32} (hK : MK S dy sd mf) : MK S dy sd m2 := by
  obtain ⟨h1, h2, h3, h4, h5, h6⟩ := h
  obtain ⟨⟨a, b, c, d, e⟩, hd, hs⟩ := hK
  have g1 : ∀ x j, tkD x → x < 100 → j < mLen x → m2.1 x j = mf.1 x j := fun x j q1 q2 q3 => h1 x q2 q1 j q3
  refine ⟨⟨fun j hj => ?_, (h4 13 (by unfold tkD; omega)).trans b, fun k hk => ?_, ?_, ?_⟩, fun j hj => ?_, (h4 17 (by unfold tkD; omega)).trans hs⟩
  · rw [g1 11 j (by unfold tkD; omega) (by decide) hj, g1 12 j (by unfold tkD; omega) (by decide) hj, g1 13 j (by unfold tkD; omega) (by decide) hj]; exact a j hj
  · have t : tkD (50 + k) := by unfold tkD; omega
    have l4 := mLen_50 hk
    rw [g1 _ 0 t (by omega) (by omega), g1 _ 1 t (by omega) (by omega), g1 _ 2 t (by omega) (by omega), g1 _ 3 t (by omega) (by omega)]; exact c k hk
  · rw [g1 16 0 (by unfold tkD; omega) (by decide) (by decide)]; exact d
  · rw [g1 16 1 (by unfold tkD; omega) (by decide) (by decide)]; exact e
  · rw [g1 17 j (by unfold tkD; omega) (by decide) hj]; exact hd j hj
/-- back to what was kept -/
def oBack (o : OS) (S : WS) (dy : Nat → Int32) (sd : Int32) : OS := (S, dy, sd, o.2.2.2)
theorem MT.back {o : OS} {m mf m2 : MSt} (hT : MT o m) (h : TkQ m mf m2) {S : WS} {dy : Nat → Int32} {sd : Int32} (hK : MK S dy sd mf) : MT (oBack o S dy sd) m2 := by
  have hK2 := h.mk hK
  obtain ⟨h1, h2, h3, h4, h5, h6⟩ := h
  obtain ⟨a, b, c, d, e, f, g, i⟩ := hT
  have n : ∀ x, x < 100 → ¬ tkD x → m2.1 x = m.1 x := h2
  refine ⟨hK2.1, hK2.2.1, hK2.2.2, ?_, ?_, ?_, (h5 8 (by unfold tkD; omega)).trans g, ?_⟩
  · rw [n 1 (by decide) (by unfold tkD; omega), n 2 (by decide) (by unfold tkD; omega), n 3 (by decide) (by unfold tkD; omega), n 6 (by decide) (by unfold tkD; omega), n 7 (by decide) (by unfold tkD; omega)]; exact d
  · rw [h3]; exact e
  · rw [n 8 (by decide) (by unfold tkD; omega)]; exact f
  · rw [n 10 (by decide) (by unfold tkD; omega)]; exact i
set_option maxHeartbeats 2000000 in
theorem m_X4_over {l : Launch} {G : GG} {w : GW} {p q n n2 : Nat} {f g : Nat → Int32} (hp : w p = some (.inl (G.2.1 0, n, .inl (f)))) (hq : w q = some (.inl (G.2.1 0, n2, .inl (g)))) (hne : p ≠ q) (hn : n ≤ n2) (hn2 : n2 < 2 ^ 31) : gM l G yX4_over cX4_over 3 none 1 0 0 [.ref (p), .ref (q)] w (pV (fun w1 => w1 = gu w q (.inl (G.2.1 0, n2, .inl (mixI f g n))))) := by
  refine Z.met (own := "ThreeSizesModel") (nm := "over") (lv := [(0, .ref (p)), (1, .ref (q))]) (by decide) rfl rfl (Nat.le_of_ble_eq_true rfl) rfl (fun κ X => ?_)
  refine z_iconst (v := nI (0)) X dX4_over_0 ci0 ?_
  refine z_istore_n (lv2 := [(2, .int (nI (0))), (0, .ref (p)), (1, .ref (q))]) X dX4_over_1 rfl (Nat.le_of_ble_eq_true rfl) rfl ?_
  rw [← gu_self hq]
  have lp : ∀ (lq i : Nat), i + lq = n → Z κ (gu w q (.inl (G.2.1 0, n2, .inl (mixI f g i)))) [(2, .int (nI (i))), (0, .ref (p)), (1, .ref (q))] 0 0 2 [] := by
    intro lq
    induction lq with
    | zero =>
      intro i lh
      refine z_iload_n X dX4_over_2 rfl 0 rfl ?_
      refine z_aload_n X dX4_over_3 rfl 1 rfl ?_
      refine z_alen (t := 0) (v := nI (n)) X dX4_over_4 (gu_k hne hp) rfl rfl ?_
      refine z_icmp_ge_t (tgt := 20) X dX4_over_5 (by decide) ((nI_leI (by omega) (by omega)).mpr (by omega)) ?_
      exact z_vret X dX4_over_20 (by omega) (by omega) ⟨rfl, (by rw [show i = n by omega])⟩
    | succ lq ih =>
      intro i lh
      refine z_iload_n X dX4_over_2 rfl 0 rfl ?_
      refine z_aload_n X dX4_over_3 rfl 1 rfl ?_
      refine z_alen (t := 0) (v := nI (n)) X dX4_over_4 (gu_k hne hp) rfl rfl ?_
      refine z_icmp_ge_f (tgt := 20) X dX4_over_5 (by decide) (fun h => absurd ((nI_leI (by omega) (by omega)).mp h) (by omega)) ?_
      refine z_aload_n X dX4_over_8 rfl 2 rfl ?_
      refine z_iload_n X dX4_over_9 rfl 0 rfl ?_
      refine z_aload_n X dX4_over_10 rfl 1 rfl ?_
      refine z_iload_n X dX4_over_11 rfl 0 rfl ?_
      refine z_iaN (v := f i) X dX4_over_12 (gu_k hne hp) (by omega) (by omega) rfl ?_
      refine z_isN X dX4_over_13 gu_s (by omega) (by omega) ?_
      rw [gu_gu, mixI_1]
      refine z_iinc (v := nI (i + 1)) (lv2 := [(2, .int (nI (i + 1))), (0, .ref (p)), (1, .ref (q))]) X dX4_over_14 0 rfl (nI_1 _) (Nat.le_of_ble_eq_true rfl) rfl ?_
      refine z_goto (tgt := 2) X dX4_over_17 (by decide) ?_
      exact ih (i + 1) (by omega)
  rw [show g = mixI f g 0 from mixI_0.symm]
  exact lp n 0 (by omega)
set_option maxHeartbeats 2000000 in
theorem m_X4_takeFrom {l : Launch} {G : GG} {wb w wB : GW} {ad am : Nat → Nat} {m mf : MSt} (hM : MM G wb w ad m) (hF : MM G wB w am mf) (hd : ∀ i j, mP i = true → mP j = true → ad i ≠ am j) : gM l G yX4_takeFrom cX4_takeFrom 3 none 2 0 0 [.ref (ad 0), .ref (am 0)] w (pV (fun w1 => ∃ m2, MM G w w1 ad m2 ∧ TkQ m mf m2)) := by
  refine Z.met (own := "ThreeSizesModel") (nm := "takeFrom") (lv := [(0, .ref (ad 0)), (1, .ref (am 0))]) (by decide) rfl rfl (Nat.le_of_ble_eq_true rfl) rfl (fun κ X => ?_)
  have hc0 := hM.1.mm
  refine z_aload_n X dX4_takeFrom_0 rfl 1 rfl ?_
  refine z_mg10 X hF dX4_takeFrom_1 ?_
  refine z_aload_n X dX4_takeFrom_4 rfl 0 rfl ?_
  refine z_mg10 X hM dX4_takeFrom_5 ?_
  refine z_cv (z_runS (rest := []) (n := 2) X [.ref (am 11), .ref (ad 11)] (m_X4_over (mm_11 hF) (mm_11 hM) (fun e => hd 11 11 rfl rfl e.symm) (by omega) (by omega)) dX4_takeFrom_8 (lw_S q1703 q1704 q70 q1705) hs_X4_over rfl ⟨Nat.le_of_ble_eq_true rfl, Nat.le_of_ble_eq_true rfl⟩ ⟨by omega, by omega⟩ rfl (Nat.le_of_ble_eq_true rfl)) (fun w3 h2 => ?_)
  obtain ⟨mv3, hM3, hk3⟩ : ∃ m2, MM G w w3 ad m2 ∧ TkI (fun x => x = 11) m mf m2 := ⟨_, (by rw [h2]; exact mm_S hM.1.mm 11 rfl rfl rfl), TkI.rf.set (by omega) rfl (fun x => by first | omega | exact ⟨Or.inr, fun h => h.elim False.elim id⟩)⟩
  have hs4 := hF.side hM3 (fun i j x y e => hd j i y x e.symm)
  have hc5 := hc0.trans hM3
  refine z_aload_n X dX4_takeFrom_11 rfl 1 rfl ?_
  refine z_mg11 X hs4 dX4_takeFrom_12 ?_
  refine z_aload_n X dX4_takeFrom_15 rfl 0 rfl ?_
  refine z_mg11 X hM3 dX4_takeFrom_16 ?_
  refine z_cv (z_runS (rest := []) (n := 2) X [.ref (am 12), .ref (ad 12)] (m_X4_over (mm_12 hs4) (mm_12 hM3) (fun e => hd 12 12 rfl rfl e.symm) (by omega) (by omega)) dX4_takeFrom_19 (lw_S q1703 q1704 q70 q1705) hs_X4_over rfl ⟨Nat.le_of_ble_eq_true rfl, Nat.le_of_ble_eq_true rfl⟩ ⟨by omega, by omega⟩ rfl (Nat.le_of_ble_eq_true rfl)) (fun w8 h7 => ?_)
  obtain ⟨mv8, hM8, hk8⟩ : ∃ m2, MM G w3 w8 ad m2 ∧ TkI (fun x => x = 11 ∨ x = 12) m mf m2 := ⟨_, (by rw [h7]; exact mm_S hM3.1.mm 12 rfl rfl rfl), hk3.set (by omega) rfl (fun x => by first | omega | exact ⟨Or.inr, fun h => h.elim False.elim id⟩)⟩
  have hs9 := hs4.side hM8 (fun i j x y e => hd j i y x e.symm)
  have hc10 := hc5.trans hM8
  refine z_aload_n X dX4_takeFrom_22 rfl 1 rfl ?_
  refine z_mg12 X hs9 dX4_takeFrom_23 ?_
  refine z_aload_n X dX4_takeFrom_26 rfl 0 rfl ?_
  refine z_mg12 X hM8 dX4_takeFrom_27 ?_
  refine z_cv (z_runS (rest := []) (n := 2) X [.ref (am 13), .ref (ad 13)] (m_X4_over (mm_13 hs9) (mm_13 hM8) (fun e => hd 13 13 rfl rfl e.symm) (by omega) (by omega)) dX4_takeFrom_30 (lw_S q1703 q1704 q70 q1705) hs_X4_over rfl ⟨Nat.le_of_ble_eq_true rfl, Nat.le_of_ble_eq_true rfl⟩ ⟨by omega, by omega⟩ rfl (Nat.le_of_ble_eq_true rfl)) (fun w13 h12 => ?_)
  obtain ⟨mv13, hM13, hk13⟩ : ∃ m2, MM G w8 w13 ad m2 ∧ TkI (fun x => x = 11 ∨ x = 12 ∨ x = 13) m mf m2 := ⟨_, (by rw [h12]; exact mm_S hM8.1.mm 13 rfl rfl rfl), hk8.set (by omega) rfl (fun x => by first | omega | exact ⟨Or.inr, fun h => h.elim False.elim id⟩)⟩
  have hs14 := hs9.side hM13 (fun i j x y e => hd j i y x e.symm)
  have hc15 := hc10.trans hM13
  refine z_aload_n X dX4_takeFrom_33 rfl 0 rfl ?_
  refine z_aload_n X dX4_takeFrom_34 rfl 1 rfl ?_
  refine z_mg13 X hs14 dX4_takeFrom_35 ?_
  refine z_mp13 X hM13.1.mm dX4_takeFrom_38 (fun u16 hx16 => ?_)
  obtain ⟨mv16, hM16, hk16⟩ : ∃ m2, MM G w13 u16 ad m2 ∧ TkI (fun x => x = 11 ∨ x = 12 ∨ x = 13 ∨ x = 100 + 13) m mf m2 := ⟨_, hx16, hk13.setF (fun x => by first | omega | exact ⟨Or.inr, fun h => h.elim False.elim id⟩)⟩
  have hs17 := hs14.side hM16 (fun i j x y e => hd j i y x e.symm)
  have hc18 := hc15.trans hM16
  refine z_iconst (v := nI (0)) X dX4_takeFrom_41 ci0 ?_
  refine z_istore_n (lv2 := [(2, .int (nI (0))), (0, .ref (ad 0)), (1, .ref (am 0))]) X dX4_takeFrom_42 rfl (Nat.le_of_ble_eq_true rfl) rfl ?_
  refine z_iload_n X dX4_takeFrom_43 rfl 0 rfl ?_
  refine z_bipush (v := nI (6)) X dX4_takeFrom_44 (by decide) ?_
  refine z_icmp_ge_f (tgt := 70) X dX4_takeFrom_46 (by decide) (by decide) ?_
  refine z_aload_n X dX4_takeFrom_49 rfl 2 rfl ?_
  refine z_mg14 X hs17 dX4_takeFrom_50 ?_
  refine z_iload_n X dX4_takeFrom_53 rfl 0 rfl ?_
  refine z_aN5 (v := .ref (am (50 + 0))) X dX4_takeFrom_54 (mm_15 hs17) (by omega) (by omega) rfl ?_
  refine z_aload_n X dX4_takeFrom_55 rfl 1 rfl ?_
  refine z_mg14 X hM16 dX4_takeFrom_56 ?_
  refine z_iload_n X dX4_takeFrom_59 rfl 0 rfl ?_
  refine z_aN5 (v := .ref (ad (50 + 0))) X dX4_takeFrom_60 (mm_15 hM16) (by omega) (by omega) rfl ?_
  refine z_cv (z_runS (rest := []) (n := 2) X [.ref (am (50 + 0)), .ref (ad (50 + 0))] (m_X4_over (mmr_50 hs17 (by omega)) (mmr_50 hM16 (by omega)) (fun e => hd (50 + 0) (50 + 0) (mP_50 (by omega)) (mP_50 (by omega)) e.symm) (by omega) (by omega)) dX4_takeFrom_61 (lw_S q1703 q1704 q70 q1705) hs_X4_over rfl ⟨Nat.le_of_ble_eq_true rfl, Nat.le_of_ble_eq_true rfl⟩ ⟨by omega, by omega⟩ rfl (Nat.le_of_ble_eq_true rfl)) (fun w21 h20 => ?_)
  obtain ⟨mv21, hM21, hk21⟩ : ∃ m2, MM G u16 w21 ad m2 ∧ TkI (fun x => x = 11 ∨ x = 12 ∨ x = 13 ∨ x = 100 + 13 ∨ x = (50 + 0)) m mf m2 := ⟨_, (by rw [h20]; exact mm_S hM16.1.mm (50 + 0) (mP_50 (by omega)) (mK_50 (by omega)) (mLen_50 (by omega))), hk16.set (by omega) (mLen_50 (by omega)) (fun x => by first | omega | exact ⟨Or.inr, fun h => h.elim False.elim id⟩)⟩
  have hs22 := hs17.side hM21 (fun i j x y e => hd j i y x e.symm)
  have hc23 := hc18.trans hM21
  refine z_iinc (v := nI (1)) (lv2 := [(2, .int (nI (1))), (0, .ref (ad 0)), (1, .ref (am 0))]) X dX4_takeFrom_64 0 rfl (nI_1 _) (Nat.le_of_ble_eq_true rfl) rfl ?_
  refine z_goto (tgt := 43) X dX4_takeFrom_67 (by decide) ?_
  refine z_iload_n X dX4_takeFrom_43 rfl 0 rfl ?_
  refine z_bipush (v := nI (6)) X dX4_takeFrom_44 (by decide) ?_
  refine z_icmp_ge_f (tgt := 70) X dX4_takeFrom_46 (by decide) (by decide) ?_
  refine z_aload_n X dX4_takeFrom_49 rfl 2 rfl ?_
  refine z_mg14 X hs22 dX4_takeFrom_50 ?_
  refine z_iload_n X dX4_takeFrom_53 rfl 0 rfl ?_
  refine z_aN5 (v := .ref (am (50 + 1))) X dX4_takeFrom_54 (mm_15 hs22) (by omega) (by omega) rfl ?_
  refine z_aload_n X dX4_takeFrom_55 rfl 1 rfl ?_
  refine z_mg14 X hM21 dX4_takeFrom_56 ?_
  refine z_iload_n X dX4_takeFrom_59 rfl 0 rfl ?_
  refine z_aN5 (v := .ref (ad (50 + 1))) X dX4_takeFrom_60 (mm_15 hM21) (by omega) (by omega) rfl ?_
  refine z_cv (z_runS (rest := []) (n := 2) X [.ref (am (50 + 1)), .ref (ad (50 + 1))] (m_X4_over (mmr_50 hs22 (by omega)) (mmr_50 hM21 (by omega)) (fun e => hd (50 + 1) (50 + 1) (mP_50 (by omega)) (mP_50 (by omega)) e.symm) (by omega) (by omega)) dX4_takeFrom_61 (lw_S q1703 q1704 q70 q1705) hs_X4_over rfl ⟨Nat.le_of_ble_eq_true rfl, Nat.le_of_ble_eq_true rfl⟩ ⟨by omega, by omega⟩ rfl (Nat.le_of_ble_eq_true rfl)) (fun w26 h25 => ?_)
  obtain ⟨mv26, hM26, hk26⟩ : ∃ m2, MM G w21 w26 ad m2 ∧ TkI (fun x => x = 11 ∨ x = 12 ∨ x = 13 ∨ x = 100 + 13 ∨ x = (50 + 0) ∨ x = (50 + 1)) m mf m2 := ⟨_, (by rw [h25]; exact mm_S hM21.1.mm (50 + 1) (mP_50 (by omega)) (mK_50 (by omega)) (mLen_50 (by omega))), hk21.set (by omega) (mLen_50 (by omega)) (fun x => by first | omega | exact ⟨Or.inr, fun h => h.elim False.elim id⟩)⟩
  have hs27 := hs22.side hM26 (fun i j x y e => hd j i y x e.symm)
  have hc28 := hc23.trans hM26
  refine z_iinc (v := nI (2)) (lv2 := [(2, .int (nI (2))), (0, .ref (ad 0)), (1, .ref (am 0))]) X dX4_takeFrom_64 0 rfl (nI_1 _) (Nat.le_of_ble_eq_true rfl) rfl ?_
  refine z_goto (tgt := 43) X dX4_takeFrom_67 (by decide) ?_
  refine z_iload_n X dX4_takeFrom_43 rfl 0 rfl ?_
  refine z_bipush (v := nI (6)) X dX4_takeFrom_44 (by decide) ?_
  refine z_icmp_ge_f (tgt := 70) X dX4_takeFrom_46 (by decide) (by decide) ?_
  refine z_aload_n X dX4_takeFrom_49 rfl 2 rfl ?_
  refine z_mg14 X hs27 dX4_takeFrom_50 ?_
  refine z_iload_n X dX4_takeFrom_53 rfl 0 rfl ?_
  refine z_aN5 (v := .ref (am (50 + 2))) X dX4_takeFrom_54 (mm_15 hs27) (by omega) (by omega) rfl ?_
  refine z_aload_n X dX4_takeFrom_55 rfl 1 rfl ?_
  refine z_mg14 X hM26 dX4_takeFrom_56 ?_
  refine z_iload_n X dX4_takeFrom_59 rfl 0 rfl ?_
  refine z_aN5 (v := .ref (ad (50 + 2))) X dX4_takeFrom_60 (mm_15 hM26) (by omega) (by omega) rfl ?_
  refine z_cv (z_runS (rest := []) (n := 2) X [.ref (am (50 + 2)), .ref (ad (50 + 2))] (m_X4_over (mmr_50 hs27 (by omega)) (mmr_50 hM26 (by omega)) (fun e => hd (50 + 2) (50 + 2) (mP_50 (by omega)) (mP_50 (by omega)) e.symm) (by omega) (by omega)) dX4_takeFrom_61 (lw_S q1703 q1704 q70 q1705) hs_X4_over rfl ⟨Nat.le_of_ble_eq_true rfl, Nat.le_of_ble_eq_true rfl⟩ ⟨by omega, by omega⟩ rfl (Nat.le_of_ble_eq_true rfl)) (fun w31 h30 => ?_)
  obtain ⟨mv31, hM31, hk31⟩ : ∃ m2, MM G w26 w31 ad m2 ∧ TkI (fun x => x = 11 ∨ x = 12 ∨ x = 13 ∨ x = 100 + 13 ∨ x = (50 + 0) ∨ x = (50 + 1) ∨ x = (50 + 2)) m mf m2 := ⟨_, (by rw [h30]; exact mm_S hM26.1.mm (50 + 2) (mP_50 (by omega)) (mK_50 (by omega)) (mLen_50 (by omega))), hk26.set (by omega) (mLen_50 (by omega)) (fun x => by first | omega | exact ⟨Or.inr, fun h => h.elim False.elim id⟩)⟩
  have hs32 := hs27.side hM31 (fun i j x y e => hd j i y x e.symm)
  have hc33 := hc28.trans hM31
  refine z_iinc (v := nI (3)) (lv2 := [(2, .int (nI (3))), (0, .ref (ad 0)), (1, .ref (am 0))]) X dX4_takeFrom_64 0 rfl (nI_1 _) (Nat.le_of_ble_eq_true rfl) rfl ?_
  refine z_goto (tgt := 43) X dX4_takeFrom_67 (by decide) ?_
  refine z_iload_n X dX4_takeFrom_43 rfl 0 rfl ?_
  refine z_bipush (v := nI (6)) X dX4_takeFrom_44 (by decide) ?_
  refine z_icmp_ge_f (tgt := 70) X dX4_takeFrom_46 (by decide) (by decide) ?_
  refine z_aload_n X dX4_takeFrom_49 rfl 2 rfl ?_
  refine z_mg14 X hs32 dX4_takeFrom_50 ?_
  refine z_iload_n X dX4_takeFrom_53 rfl 0 rfl ?_
  refine z_aN5 (v := .ref (am (50 + 3))) X dX4_takeFrom_54 (mm_15 hs32) (by omega) (by omega) rfl ?_
  refine z_aload_n X dX4_takeFrom_55 rfl 1 rfl ?_
  refine z_mg14 X hM31 dX4_takeFrom_56 ?_
  refine z_iload_n X dX4_takeFrom_59 rfl 0 rfl ?_
  refine z_aN5 (v := .ref (ad (50 + 3))) X dX4_takeFrom_60 (mm_15 hM31) (by omega) (by omega) rfl ?_
  refine z_cv (z_runS (rest := []) (n := 2) X [.ref (am (50 + 3)), .ref (ad (50 + 3))] (m_X4_over (mmr_50 hs32 (by omega)) (mmr_50 hM31 (by omega)) (fun e => hd (50 + 3) (50 + 3) (mP_50 (by omega)) (mP_50 (by omega)) e.symm) (by omega) (by omega)) dX4_takeFrom_61 (lw_S q1703 q1704 q70 q1705) hs_X4_over rfl ⟨Nat.le_of_ble_eq_true rfl, Nat.le_of_ble_eq_true rfl⟩ ⟨by omega, by omega⟩ rfl (Nat.le_of_ble_eq_true rfl)) (fun w36 h35 => ?_)
  obtain ⟨mv36, hM36, hk36⟩ : ∃ m2, MM G w31 w36 ad m2 ∧ TkI (fun x => x = 11 ∨ x = 12 ∨ x = 13 ∨ x = 100 + 13 ∨ x = (50 + 0) ∨ x = (50 + 1) ∨ x = (50 + 2) ∨ x = (50 + 3)) m mf m2 := ⟨_, (by rw [h35]; exact mm_S hM31.1.mm (50 + 3) (mP_50 (by omega)) (mK_50 (by omega)) (mLen_50 (by omega))), hk31.set (by omega) (mLen_50 (by omega)) (fun x => by first | omega | exact ⟨Or.inr, fun h => h.elim False.elim id⟩)⟩
  have hs37 := hs32.side hM36 (fun i j x y e => hd j i y x e.symm)
  have hc38 := hc33.trans hM36
  refine z_iinc (v := nI (4)) (lv2 := [(2, .int (nI (4))), (0, .ref (ad 0)), (1, .ref (am 0))]) X dX4_takeFrom_64 0 rfl (nI_1 _) (Nat.le_of_ble_eq_true rfl) rfl ?_
  refine z_goto (tgt := 43) X dX4_takeFrom_67 (by decide) ?_
  refine z_iload_n X dX4_takeFrom_43 rfl 0 rfl ?_
  refine z_bipush (v := nI (6)) X dX4_takeFrom_44 (by decide) ?_
  refine z_icmp_ge_f (tgt := 70) X dX4_takeFrom_46 (by decide) (by decide) ?_
  refine z_aload_n X dX4_takeFrom_49 rfl 2 rfl ?_
  refine z_mg14 X hs37 dX4_takeFrom_50 ?_
  refine z_iload_n X dX4_takeFrom_53 rfl 0 rfl ?_
  refine z_aN5 (v := .ref (am (50 + 4))) X dX4_takeFrom_54 (mm_15 hs37) (by omega) (by omega) rfl ?_
  refine z_aload_n X dX4_takeFrom_55 rfl 1 rfl ?_
  refine z_mg14 X hM36 dX4_takeFrom_56 ?_
  refine z_iload_n X dX4_takeFrom_59 rfl 0 rfl ?_
  refine z_aN5 (v := .ref (ad (50 + 4))) X dX4_takeFrom_60 (mm_15 hM36) (by omega) (by omega) rfl ?_
  refine z_cv (z_runS (rest := []) (n := 2) X [.ref (am (50 + 4)), .ref (ad (50 + 4))] (m_X4_over (mmr_50 hs37 (by omega)) (mmr_50 hM36 (by omega)) (fun e => hd (50 + 4) (50 + 4) (mP_50 (by omega)) (mP_50 (by omega)) e.symm) (by omega) (by omega)) dX4_takeFrom_61 (lw_S q1703 q1704 q70 q1705) hs_X4_over rfl ⟨Nat.le_of_ble_eq_true rfl, Nat.le_of_ble_eq_true rfl⟩ ⟨by omega, by omega⟩ rfl (Nat.le_of_ble_eq_true rfl)) (fun w41 h40 => ?_)
  obtain ⟨mv41, hM41, hk41⟩ : ∃ m2, MM G w36 w41 ad m2 ∧ TkI (fun x => x = 11 ∨ x = 12 ∨ x = 13 ∨ x = 100 + 13 ∨ x = (50 + 0) ∨ x = (50 + 1) ∨ x = (50 + 2) ∨ x = (50 + 3) ∨ x = (50 + 4)) m mf m2 := ⟨_, (by rw [h40]; exact mm_S hM36.1.mm (50 + 4) (mP_50 (by omega)) (mK_50 (by omega)) (mLen_50 (by omega))), hk36.set (by omega) (mLen_50 (by omega)) (fun x => by first | omega | exact ⟨Or.inr, fun h => h.elim False.elim id⟩)⟩
  have hs42 := hs37.side hM41 (fun i j x y e => hd j i y x e.symm)
  have hc43 := hc38.trans hM41
  refine z_iinc (v := nI (5)) (lv2 := [(2, .int (nI (5))), (0, .ref (ad 0)), (1, .ref (am 0))]) X dX4_takeFrom_64 0 rfl (nI_1 _) (Nat.le_of_ble_eq_true rfl) rfl ?_
  refine z_goto (tgt := 43) X dX4_takeFrom_67 (by decide) ?_
  refine z_iload_n X dX4_takeFrom_43 rfl 0 rfl ?_
  refine z_bipush (v := nI (6)) X dX4_takeFrom_44 (by decide) ?_
  refine z_icmp_ge_f (tgt := 70) X dX4_takeFrom_46 (by decide) (by decide) ?_
  refine z_aload_n X dX4_takeFrom_49 rfl 2 rfl ?_
  refine z_mg14 X hs42 dX4_takeFrom_50 ?_
  refine z_iload_n X dX4_takeFrom_53 rfl 0 rfl ?_
  refine z_aN5 (v := .ref (am (50 + 5))) X dX4_takeFrom_54 (mm_15 hs42) (by omega) (by omega) rfl ?_
  refine z_aload_n X dX4_takeFrom_55 rfl 1 rfl ?_
  refine z_mg14 X hM41 dX4_takeFrom_56 ?_
  refine z_iload_n X dX4_takeFrom_59 rfl 0 rfl ?_
  refine z_aN5 (v := .ref (ad (50 + 5))) X dX4_takeFrom_60 (mm_15 hM41) (by omega) (by omega) rfl ?_
  refine z_cv (z_runS (rest := []) (n := 2) X [.ref (am (50 + 5)), .ref (ad (50 + 5))] (m_X4_over (mmr_50 hs42 (by omega)) (mmr_50 hM41 (by omega)) (fun e => hd (50 + 5) (50 + 5) (mP_50 (by omega)) (mP_50 (by omega)) e.symm) (by omega) (by omega)) dX4_takeFrom_61 (lw_S q1703 q1704 q70 q1705) hs_X4_over rfl ⟨Nat.le_of_ble_eq_true rfl, Nat.le_of_ble_eq_true rfl⟩ ⟨by omega, by omega⟩ rfl (Nat.le_of_ble_eq_true rfl)) (fun w46 h45 => ?_)
  obtain ⟨mv46, hM46, hk46⟩ : ∃ m2, MM G w41 w46 ad m2 ∧ TkI (fun x => x = 11 ∨ x = 12 ∨ x = 13 ∨ x = 100 + 13 ∨ x = (50 + 0) ∨ x = (50 + 1) ∨ x = (50 + 2) ∨ x = (50 + 3) ∨ x = (50 + 4) ∨ x = (50 + 5)) m mf m2 := ⟨_, (by rw [h45]; exact mm_S hM41.1.mm (50 + 5) (mP_50 (by omega)) (mK_50 (by omega)) (mLen_50 (by omega))), hk41.set (by omega) (mLen_50 (by omega)) (fun x => by first | omega | exact ⟨Or.inr, fun h => h.elim False.elim id⟩)⟩
  have hs47 := hs42.side hM46 (fun i j x y e => hd j i y x e.symm)
  have hc48 := hc43.trans hM46
  refine z_iinc (v := nI (6)) (lv2 := [(2, .int (nI (6))), (0, .ref (ad 0)), (1, .ref (am 0))]) X dX4_takeFrom_64 0 rfl (nI_1 _) (Nat.le_of_ble_eq_true rfl) rfl ?_
  refine z_goto (tgt := 43) X dX4_takeFrom_67 (by decide) ?_
  refine z_iload_n X dX4_takeFrom_43 rfl 0 rfl ?_
  refine z_bipush (v := nI (6)) X dX4_takeFrom_44 (by decide) ?_
  refine z_icmp_ge_t (tgt := 70) X dX4_takeFrom_46 (by decide) (by decide) ?_
  refine z_aload_n X dX4_takeFrom_70 rfl 2 rfl ?_
  refine z_mg15 X hs47 dX4_takeFrom_71 ?_
  refine z_aload_n X dX4_takeFrom_74 rfl 1 rfl ?_
  refine z_mg15 X hM46 dX4_takeFrom_75 ?_
  refine z_cv (z_runS (rest := []) (n := 2) X [.ref (am 16), .ref (ad 16)] (m_X4_over (mm_16 hs47) (mm_16 hM46) (fun e => hd 16 16 rfl rfl e.symm) (by omega) (by omega)) dX4_takeFrom_78 (lw_S q1703 q1704 q70 q1705) hs_X4_over rfl ⟨Nat.le_of_ble_eq_true rfl, Nat.le_of_ble_eq_true rfl⟩ ⟨by omega, by omega⟩ rfl (Nat.le_of_ble_eq_true rfl)) (fun w51 h50 => ?_)
  obtain ⟨mv51, hM51, hk51⟩ : ∃ m2, MM G w46 w51 ad m2 ∧ TkI (fun x => x = 11 ∨ x = 12 ∨ x = 13 ∨ x = 100 + 13 ∨ x = (50 + 0) ∨ x = (50 + 1) ∨ x = (50 + 2) ∨ x = (50 + 3) ∨ x = (50 + 4) ∨ x = (50 + 5) ∨ x = 16) m mf m2 := ⟨_, (by rw [h50]; exact mm_S hM46.1.mm 16 rfl rfl rfl), hk46.set (by omega) rfl (fun x => by first | omega | exact ⟨Or.inr, fun h => h.elim False.elim id⟩)⟩
  have hs52 := hs47.side hM51 (fun i j x y e => hd j i y x e.symm)
  have hc53 := hc48.trans hM51
  refine z_aload_n X dX4_takeFrom_81 rfl 2 rfl ?_
  refine z_mg16 X hs52 dX4_takeFrom_82 ?_
  refine z_aload_n X dX4_takeFrom_85 rfl 1 rfl ?_
  refine z_mg16 X hM51 dX4_takeFrom_86 ?_
  refine z_cv (z_runS (rest := []) (n := 2) X [.ref (am 17), .ref (ad 17)] (m_X4_over (mm_17 hs52) (mm_17 hM51) (fun e => hd 17 17 rfl rfl e.symm) (by omega) (by omega)) dX4_takeFrom_89 (lw_S q1703 q1704 q70 q1705) hs_X4_over rfl ⟨Nat.le_of_ble_eq_true rfl, Nat.le_of_ble_eq_true rfl⟩ ⟨by omega, by omega⟩ rfl (Nat.le_of_ble_eq_true rfl)) (fun w56 h55 => ?_)
  obtain ⟨mv56, hM56, hk56⟩ : ∃ m2, MM G w51 w56 ad m2 ∧ TkI (fun x => x = 11 ∨ x = 12 ∨ x = 13 ∨ x = 100 + 13 ∨ x = (50 + 0) ∨ x = (50 + 1) ∨ x = (50 + 2) ∨ x = (50 + 3) ∨ x = (50 + 4) ∨ x = (50 + 5) ∨ x = 16 ∨ x = 17) m mf m2 := ⟨_, (by rw [h55]; exact mm_S hM51.1.mm 17 rfl rfl rfl), hk51.set (by omega) rfl (fun x => by first | omega | exact ⟨Or.inr, fun h => h.elim False.elim id⟩)⟩
  have hs57 := hs52.side hM56 (fun i j x y e => hd j i y x e.symm)
  have hc58 := hc53.trans hM56
  refine z_aload_n X dX4_takeFrom_92 rfl 1 rfl ?_
  refine z_aload_n X dX4_takeFrom_93 rfl 2 rfl ?_
  refine z_mg17 X hs57 dX4_takeFrom_94 ?_
  refine z_mp17 X hM56.1.mm dX4_takeFrom_97 (fun u59 hx59 => ?_)
  obtain ⟨mv59, hM59, hk59⟩ : ∃ m2, MM G w56 u59 ad m2 ∧ TkI (fun x => x = 11 ∨ x = 12 ∨ x = 13 ∨ x = 100 + 13 ∨ x = (50 + 0) ∨ x = (50 + 1) ∨ x = (50 + 2) ∨ x = (50 + 3) ∨ x = (50 + 4) ∨ x = (50 + 5) ∨ x = 16 ∨ x = 17 ∨ x = 100 + 17) m mf m2 := ⟨_, hx59, hk56.setF (fun x => by first | omega | exact ⟨Or.inr, fun h => h.elim False.elim id⟩)⟩
  have hs60 := hs57.side hM59 (fun i j x y e => hd j i y x e.symm)
  have hc61 := hc58.trans hM59
  exact z_vret X dX4_takeFrom_100 (by omega) (by omega) ⟨rfl, ⟨_, hc61, hk59.iff (fun x => by unfold tkD; omega)⟩⟩
