/-! THE MODEL: all placings of a cartful are gone through -/
set_option maxRecDepth 100000
theorem mS_own {m : MSt} {c : Nat} {f : Nat → Int32} : (mS m c f).1 c = f := if_pos rfl
theorem mS_oth {m : MSt} {c c2 : Nat} {f : Nat → Int32} (h : c2 ≠ c) : (mS m c f).1 c2 = m.1 c2 := if_neg h
/-- whether one is told, what it is worth, its sizes; what is tried -/
abbrev PA : Type := Bool × Int64 × (Nat → Int32) × (Nat → Int32)
def paT (p : PA) (i : Nat) (x : Int32) : PA := (p.1, p.2.1, p.2.2.1, upd p.2.2.2 i x)
def plEnd (V : Nat → Int64) (st : Nat) (sum : Int64) (p : PA) : PA := if p.1 = false ∨ p.2.1 < sum + V st then (true, sum + V st, p.2.2.2, p.2.2.2) else p
def plSt (S : WS) (g : Nat → Nat) (rec : Nat → Nat → Int64 → PA → PA) (i st : Nat) (sum : Int64) : Nat → PA → PA
  | 0, p => p
  | z + 1, p => if fitsB S (g i) z st = true then rec (i + 1) (st - pw5 z) (sum + 1000000 * lN (S.1 5 (g i))) (paT (plSt S g rec i st sum z p) i (nI z)) else plSt S g rec i st sum z p
def plTo (S : WS) (g : Nat → Nat) (V : Nat → Int64) : Nat → Nat → Nat → Int64 → PA → PA
  | 0, _, st, sum, p => plEnd V st sum p
  | n + 1, i, st, sum, p => plSt S g (plTo S g V n) i st sum 3 (plTo S g V n (i + 1) st (sum + lostL S (g i)) (paT p i (-1)))
def PQ (p : PA) (m : MSt) : Prop := m.2.2.1 34 = bI p.1 ∧ m.2.2.2.1 33 = p.2.1 ∧ (∀ j, j < 6 → m.1 33 j = p.2.2.1 j) ∧ ∀ j, j < 6 → m.1 32 j = p.2.2.2 j
theorem PQ.set {p : PA} {m : MSt} (h : PQ p m) {i : Nat} {x : Int32} : PQ (paT p i x) (mI m 32 i x) := by
  obtain ⟨a, b, c, d⟩ := h
  refine ⟨a, b, fun j hj => (congrFun (mI_oth (by decide)) j).trans (c j hj), fun j hj => ?_⟩
  refine (congrFun mI_own j).trans ?_
  show upd _ _ _ j = upd _ _ _ j
  by_cases q : j = i
  · subst q; rw [pk_us, pk_us]
  · rw [pk_un q, pk_un q]; exact d j hj
/-- what a placing leaves as it is -/
def KP (m m2 : MSt) : Prop := (∀ c, c ≠ 32 → c ≠ 33 → m2.1 c = m.1 c) ∧ m2.2.1 = m.2.1 ∧ ∀ k, k ≠ 34 → m2.2.2.1 k = m.2.2.1 k
theorem KP.rf {m : MSt} : KP m m := ⟨fun _ _ _ => rfl, rfl, fun _ _ => rfl⟩
theorem KP.trans {m m2 m3 : MSt} (h : KP m m2) (h2 : KP m2 m3) : KP m m3 := ⟨fun c a b => (h2.1 c a b).trans (h.1 c a b), h2.2.1.trans h.2.1, fun k a => (h2.2.2 k a).trans (h.2.2 k a)⟩
theorem KP.tried {m m2 : MSt} (h : KP m m2) {i : Nat} {x : Int32} : KP m (mI m2 32 i x) := h.trans ⟨fun c a _ => mI_oth a, rfl, fun _ _ => rfl⟩
theorem KP.R {m m2 : MSt} (h : KP m m2) {S : WS} (hR : MR S m) : MR S m2 := hR.kept (fun c hc => h.1 c (by omega) (by omega)) (h.2.2 13 (by decide))
theorem KP.T {m m2 : MSt} (h : KP m m2) {o : OS} (hT : MT o m) : MT o m2 := hT.kept (fun c hc => h.1 c (by omega) (by omega)) (fun _ _ => by rw [h.2.1]) (fun k hk => h.2.2 k (by omega))
/-- a placing that is told or not, alike in what counts -/
def PE (k i : Nat) (p q : PA) : Prop := p.1 = q.1 ∧ (p.1 = true → p.2.1 = q.2.1 ∧ ∀ j, j < k → p.2.2.1 j = q.2.2.1 j) ∧ ∀ j, j < i → p.2.2.2 j = q.2.2.2 j
theorem PE.set {k i : Nat} {p q : PA} (h : PE k i p q) {x : Int32} : PE k (i + 1) (paT p i x) (paT q i x) := by
  obtain ⟨a, b, c⟩ := h
  refine ⟨a, b, fun j hj => ?_⟩
  show upd _ _ _ j = upd _ _ _ j
  by_cases e : j = i
  · subst e; rw [pk_us, pk_us]
  · rw [pk_un e, pk_un e]; exact c j (by omega)
theorem PE.less {k i j : Nat} {p q : PA} (h : PE k j p q) (hi : i ≤ j) : PE k i p q := ⟨h.1, h.2.1, fun y hy => h.2.2 y (by omega)⟩
theorem plEnd_PE {k : Nat} {V : Nat → Int64} {st : Nat} {sum : Int64} {p q : PA} (h : PE k k p q) : PE k k (plEnd V st sum p) (plEnd V st sum q) := by
  obtain ⟨a, b, c⟩ := h
  unfold plEnd
  by_cases e : p.1 = false ∨ p.2.1 < sum + V st
  · have e2 : q.1 = false ∨ q.2.1 < sum + V st := by
      rcases e with e | e
      · exact Or.inl (a ▸ e)
      · by_cases t : p.1 = true
        · exact Or.inr ((b t).1 ▸ e)
        · exact Or.inl (a ▸ (by simpa using t))
    rw [if_pos e, if_pos e2]
    exact ⟨rfl, fun _ => ⟨rfl, c⟩, c⟩
  · have e2 : ¬ (q.1 = false ∨ q.2.1 < sum + V st) := by
      have t : p.1 = true := by
        cases t : p.1 with
        | true => rfl
        | false => exact absurd (Or.inl t) e
      intro x
      rcases x with x | x
      · rw [← a, t] at x; cases x
      · exact e (Or.inr ((b t).1.symm ▸ x))
    rw [if_neg e, if_neg e2]
    exact ⟨a, b, c⟩
theorem plSt_PE {k : Nat} {S : WS} {g : Nat → Nat} {rec : Nat → Nat → Int64 → PA → PA} {i st : Nat} {sum : Int64} (hr : ∀ st sum p q, PE k (i + 1) p q → PE k (i + 1) (rec (i + 1) st sum p) (rec (i + 1) st sum q)) : ∀ z p q, PE k i p q → PE k i (plSt S g rec i st sum z p) (plSt S g rec i st sum z q) := by
  intro z
  induction z with
  | zero => intro p q h; exact h
  | succ z ih =>
    intro p q h
    simp only [plSt]
    by_cases e : fitsB S (g i) z st = true
    · rw [if_pos e, if_pos e]; exact (hr _ _ _ _ ((ih p q h).set)).less (by omega)
    · rw [if_neg e, if_neg e]; exact ih p q h
theorem plTo_PE {k : Nat} {S : WS} {g : Nat → Nat} {V : Nat → Int64} : ∀ n i st sum p q, i + n = k → PE k i p q → PE k i (plTo S g V n i st sum p) (plTo S g V n i st sum q) := by
  intro n
  induction n with
  | zero => intro i st sum p q hi h; obtain rfl : i = k := by omega
            exact plEnd_PE h
  | succ n ih =>
    intro i st sum p q hi h
    simp only [plTo]
    refine plSt_PE (fun st sum p q h => ih _ _ _ _ _ (by omega) h) 3 _ _ ?_
    exact (ih _ _ _ _ _ (by omega) h.set).less (by omega)
theorem plEnd_told {V : Nat → Int64} {st : Nat} {sum : Int64} {p : PA} : (plEnd V st sum p).1 = true := by
  unfold plEnd
  by_cases e : p.1 = false ∨ p.2.1 < sum + V st
  · rw [if_pos e]
  · rw [if_neg e]
    cases t : p.1 with
    | true => rfl
    | false => exact absurd (Or.inl t) e
theorem plSt_told {S : WS} {g : Nat → Nat} {rec : Nat → Nat → Int64 → PA → PA} {i st : Nat} {sum : Int64} (hr : ∀ i st sum p, (rec i st sum p).1 = true) : ∀ z p, p.1 = true → (plSt S g rec i st sum z p).1 = true := by
  intro z
  induction z with
  | zero => intro p h; exact h
  | succ z ih =>
    intro p h
    simp only [plSt]
    by_cases e : fitsB S (g i) z st = true
    · rw [if_pos e]; exact hr _ _ _ _
    · rw [if_neg e]; exact ih p h
theorem plTo_told {S : WS} {g : Nat → Nat} {V : Nat → Int64} : ∀ n i st sum p, (plTo S g V n i st sum p).1 = true := by
  intro n
  induction n with
  | zero => intro i st sum p; exact plEnd_told
  | succ n ih => intro i st sum p; simp only [plTo]; exact plSt_told ih 3 _ (ih _ _ _ _)
def cartP (S : WS) (g : Nat → Nat) (V : Nat → Int64) (k : Nat) : PA := plTo S g V k 0 (stOf S) (lN 0) (false, lN 0, (fun _ => nI 0), fun _ => nI 0)
theorem cartP_of {S : WS} {g : Nat → Nat} {V : Nat → Int64} {k : Nat} {p : PA} (h : p.1 = false) : (plTo S g V k 0 (stOf S) (lN 0) p).2.1 = (cartP S g V k).2.1 ∧ ∀ j, j < k → (plTo S g V k 0 (stOf S) (lN 0) p).2.2.1 j = (cartP S g V k).2.2.1 j := by
  have e := plTo_PE (S := S) (g := g) (V := V) (k := k) k 0 (stOf S) (lN 0) p (false, lN 0, (fun _ => nI 0), fun _ => nI 0) (by omega) ⟨h, fun t => by (rw [h] at t; cases t), fun j hj => absurd hj (by omega)⟩
  exact e.2.1 (plTo_told k _ _ _ _)
set_option maxHeartbeats 2000000 in
theorem m_X4_place_0 {l : Launch} {G : GG} {wb w : GW} {ad : Nat → Nat} {m : MSt} (hM : MM G wb w ad m) {S : WS} (hR : MR S m) (hI : wInv S) {V : Nat → Int64} {nN k : Nat} {g : Nat → Nat} (hN : nN ≤ 24) (hk6 : k ≤ 6) (hV : ∀ j, j < 125 → m.2.1 (70 + nN) j = V j) (hg : ∀ j, j < k → m.1 31 j = nI (g j) ∧ g j < S.2 0) {sum : Int64} {p : PA} (hp : PQ p m) {st : Nat} (hs : st < 125) : gM l G yX4_place cX4_place 9 none 3 0 0 [.ref (ad 0), .int (nI (k)), .int (nI (k)), .int (nI (st)), .long (sum), .int (nI (nN))] w (pV (fun w1 => ∃ m2, MM G w w1 ad m2 ∧ KP m m2 ∧ PQ (plTo S g V 0 k st sum p) m2)) := by
  refine Z.met (own := "ThreeSizesModel") (nm := "place") (lv := [(0, .ref (ad 0)), (1, .int (nI (k))), (2, .int (nI (k))), (3, .int (nI (st))), (4, .long (sum)), (6, .int (nI (nN)))]) (by decide) rfl rfl (Nat.le_of_ble_eq_true rfl) rfl (fun κ X => ?_)
  have hM0 := hM.1.mm
  refine z_iload_n X dX4_place_0 rfl 1 rfl ?_
  refine z_iload_n X dX4_place_1 rfl 2 rfl ?_
  refine z_icmp_ne_f (tgt := 59) X dX4_place_2 (by decide) ((nI_eq (by omega) (by omega)).mpr (by omega)) ?_
  refine z_lload X dX4_place_5 4 rfl ?_
  refine z_aload_n X dX4_place_7 rfl 0 rfl ?_
  refine z_mg28 X hM0 dX4_place_8 ?_
  refine z_iload X dX4_place_11 5 rfl ?_
  refine z_aN6 (v := .ref (ad (70 + nN))) X dX4_place_13 (mm_29 hM0) (by omega) (by omega) rfl ?_
  refine z_iload_n X dX4_place_14 rfl 3 rfl ?_
  refine z_laN (v := V st) X dX4_place_15 (mmr_70 hM0 (by omega)) (by omega) (by omega) (hV st (by omega)) ?_
  refine z_ladd (v := sum + (V st)) X dX4_place_16 rfl ?_
  refine z_lstore (lv2 := [(7, .long (sum + (V st))), (0, .ref (ad 0)), (1, .int (nI (k))), (2, .int (nI (k))), (3, .int (nI (st))), (4, .long (sum)), (6, .int (nI (nN)))]) X dX4_place_17 (Nat.le_of_ble_eq_true rfl) rfl ?_
  refine z_aload_n X dX4_place_19 rfl 1 rfl ?_
  refine z_mgv34 X hM0 dX4_place_20 hp.1 ?_
  refine z_if_eq (tgt := 36) X dX4_place_23 (by decide) bI_0 (fun c1 => ?_) (fun c1 => ?_)
  · refine z_aload_n X dX4_place_36 rfl 1 rfl ?_
    refine z_iconst (v := nI (1)) X dX4_place_37 ci1 ?_
    refine z_mp34 X hM0 dX4_place_38 bz1 rfl (fun u2 hM2 => ?_)
    refine z_aload_n X dX4_place_41 rfl 1 rfl ?_
    refine z_lload X dX4_place_42 0 rfl ?_
    refine z_mp33 X hM2 dX4_place_44 (fun u3 hM3 => ?_)
    refine z_aload_n X dX4_place_47 rfl 1 rfl ?_
    refine z_mg31 X hM3 dX4_place_48 ?_
    refine z_aload_n X dX4_place_51 rfl 1 rfl ?_
    refine z_mg32 X hM3 dX4_place_52 ?_
    refine z_cv (z_runS (rest := []) (n := 2) X [.ref (ad 32), .ref (ad 33)] (m_X4_over (mm_32 hM3) (mm_33 hM3) (fun e => absurd (hM3.1.2 32 33 rfl rfl e) (by decide)) (by omega) (by omega)) dX4_place_55 (lw_S q1703 q1704 q70 q1705) hs_X4_over rfl ⟨Nat.le_of_ble_eq_true rfl, Nat.le_of_ble_eq_true rfl⟩ ⟨by omega, by omega⟩ rfl (Nat.le_of_ble_eq_true rfl)) (fun w6 h5 => ?_)
    have hM6 : MM G w w6 ad (mS (mG (mF m 34 (nI (1))) 33 (sum + (V st))) 33 (mixI ((mG (mF m 34 (nI (1))) 33 (sum + (V st))).1 32) ((mG (mF m 34 (nI (1))) 33 (sum + (V st))).1 33) 6)) := by rw [h5]; exact mm_S hM3 33 rfl rfl rfl
    have e : plTo S g V 0 k st sum p = (true, sum + V st, p.2.2.2, p.2.2.2) := if_pos (Or.inl c1)
    exact z_vret X dX4_place_58 (by omega) (by omega) ⟨rfl, ⟨_, hM6, ⟨fun c _ b => mS_oth b, rfl, fun y hy => if_neg hy⟩, by rw [e]; exact ⟨rfl, rfl, fun j hj => (congrFun mS_own j).trans ((if_pos hj).trans (hp.2.2.2 j hj)), fun j hj => (congrFun (mS_oth (by decide)) j).trans (hp.2.2.2 j hj)⟩⟩⟩
  · have c1 := ts_t c1
    refine z_lload X dX4_place_26 0 rfl ?_
    refine z_aload_n X dX4_place_28 rfl 1 rfl ?_
    refine z_mgv33 X hM0 dX4_place_29 hp.2.1 ?_
    refine z_lcmp (v := lg_cmp (sum + (V st)) (p.2.1)) X dX4_place_32 rfl ?_
    refine z_if_le (tgt := 58) X dX4_place_33 (by decide) (lg_cmp_le _ _) (fun c7 => ?_) (fun c7 => ?_)
    · have e : plTo S g V 0 k st sum p = p := if_neg (fun q => q.elim (fun q => by rw [c1] at q; cases q) (fun q => Int64.not_lt.mpr c7 q))
      exact z_vret X dX4_place_58 (by omega) (by omega) ⟨rfl, ⟨_, hM0, KP.rf, by rw [e]; exact hp⟩⟩
    · refine z_aload_n X dX4_place_36 rfl 1 rfl ?_
      refine z_iconst (v := nI (1)) X dX4_place_37 ci1 ?_
      refine z_mp34 X hM0 dX4_place_38 bz1 rfl (fun u8 hM8 => ?_)
      refine z_aload_n X dX4_place_41 rfl 1 rfl ?_
      refine z_lload X dX4_place_42 0 rfl ?_
      refine z_mp33 X hM8 dX4_place_44 (fun u9 hM9 => ?_)
      refine z_aload_n X dX4_place_47 rfl 1 rfl ?_
      refine z_mg31 X hM9 dX4_place_48 ?_
      refine z_aload_n X dX4_place_51 rfl 1 rfl ?_
      refine z_mg32 X hM9 dX4_place_52 ?_
      refine z_cv (z_runS (rest := []) (n := 2) X [.ref (ad 32), .ref (ad 33)] (m_X4_over (mm_32 hM9) (mm_33 hM9) (fun e => absurd (hM9.1.2 32 33 rfl rfl e) (by decide)) (by omega) (by omega)) dX4_place_55 (lw_S q1703 q1704 q70 q1705) hs_X4_over rfl ⟨Nat.le_of_ble_eq_true rfl, Nat.le_of_ble_eq_true rfl⟩ ⟨by omega, by omega⟩ rfl (Nat.le_of_ble_eq_true rfl)) (fun w12 h11 => ?_)
      have hM12 : MM G w w12 ad (mS (mG (mF m 34 (nI (1))) 33 (sum + (V st))) 33 (mixI ((mG (mF m 34 (nI (1))) 33 (sum + (V st))).1 32) ((mG (mF m 34 (nI (1))) 33 (sum + (V st))).1 33) 6)) := by rw [h11]; exact mm_S hM9 33 rfl rfl rfl
      have e : plTo S g V 0 k st sum p = (true, sum + V st, p.2.2.2, p.2.2.2) := if_pos (Or.inr (Int64.not_le.mp c7))
      exact z_vret X dX4_place_58 (by omega) (by omega) ⟨rfl, ⟨_, hM12, ⟨fun c _ b => mS_oth b, rfl, fun y hy => if_neg hy⟩, by rw [e]; exact ⟨rfl, rfl, fun j hj => (congrFun mS_own j).trans ((if_pos hj).trans (hp.2.2.2 j hj)), fun j hj => (congrFun (mS_oth (by decide)) j).trans (hp.2.2.2 j hj)⟩⟩⟩
set_option maxHeartbeats 2000000 in
theorem m_X4_place_s {l : Launch} {G : GG} {wb w : GW} {ad : Nat → Nat} {m : MSt} (hM : MM G wb w ad m) {S : WS} (hR : MR S m) (hI : wInv S) {V : Nat → Int64} {nN k : Nat} {g : Nat → Nat} (hN : nN ≤ 24) (hk6 : k ≤ 6) (hV : ∀ j, j < 125 → m.2.1 (70 + nN) j = V j) (hg : ∀ j, j < k → m.1 31 j = nI (g j) ∧ g j < S.2 0) {sum : Int64} {p : PA} (hp : PQ p m) {st : Nat} (hs : st < 125) {n i : Nat} (hi : i + (n + 1) = k) (hrec : ∀ (st : Nat) (sum : Int64) (p : PA) (w : GW) (m2 : MSt), MM G w w ad m2 → KP m m2 → PQ p m2 → st < 125 → gM l G yX4_place cX4_place 9 none (n + 3) 0 0 [.ref (ad 0), .int (nI (i + 1)), .int (nI k), .int (nI st), .long sum, .int (nI nN)] w (pV (fun w1 => ∃ m3, MM G w w1 ad m3 ∧ KP m2 m3 ∧ PQ (plTo S g V n (i + 1) st sum p) m3))) : gM l G yX4_place cX4_place 9 none (n + 4) 0 0 [.ref (ad 0), .int (nI (i)), .int (nI (k)), .int (nI (st)), .long (sum), .int (nI (nN))] w (pV (fun w1 => ∃ m2, MM G w w1 ad m2 ∧ KP m m2 ∧ PQ (plTo S g V (n + 1) i st sum p) m2)) := by
  refine Z.met (own := "ThreeSizesModel") (nm := "place") (lv := [(0, .ref (ad 0)), (1, .int (nI (i))), (2, .int (nI (k))), (3, .int (nI (st))), (4, .long (sum)), (6, .int (nI (nN)))]) (by decide) rfl rfl (Nat.le_of_ble_eq_true rfl) rfl (fun κ X => ?_)
  have hM0 := hM.1.mm
  have h6 := hI.2.1
  have hgi := (hg i (by omega)).2
  have h5 := hI.2.2.1 (g i) hgi
  have hk0 : KP m m := KP.rf
  refine z_iload_n X dX4_place_0 rfl 1 rfl ?_
  refine z_iload_n X dX4_place_1 rfl 2 rfl ?_
  refine z_icmp_ne_t (tgt := 59) X dX4_place_2 (by decide) (fun h => absurd ((nI_eq (by omega) (by omega)).mp h) (by omega)) ?_
  refine z_aload_n X dX4_place_59 rfl 0 rfl ?_
  refine z_mg30 X hM0 dX4_place_60 ?_
  refine z_iload_n X dX4_place_63 rfl 1 rfl ?_
  refine z_iaN (v := nI (g i)) X dX4_place_64 (mm_31 hM0) (by omega) (by omega) ((congrFun (hk0.1 31 (by decide) (by decide)) _).trans (hg i (by omega)).1) ?_
  refine z_istore (lv2 := [(7, .int (nI (g i))), (0, .ref (ad 0)), (1, .int (nI (i))), (2, .int (nI (k))), (3, .int (nI (st))), (4, .long (sum)), (6, .int (nI (nN)))]) X dX4_place_65 (Nat.le_of_ble_eq_true rfl) rfl ?_
  refine z_aload_n X dX4_place_67 rfl 1 rfl ?_
  refine z_mg31 X hM0 dX4_place_68 ?_
  refine z_iload_n X dX4_place_71 rfl 2 rfl ?_
  refine z_iconst (v := -1) X dX4_place_72 cim1 ?_
  refine z_mst (n := 6) (j := i) X hM0.1.mm 32 dX4_place_73 rfl rfl rfl (by omega) (by omega) (fun u1 hM1 => ?_)
  obtain ⟨mx1, hMx1, hk1, hp1, hMy1⟩ : ∃ m2, MM G u1 u1 ad m2 ∧ KP m m2 ∧ PQ (paT p i (-1)) m2 ∧ MM G w u1 ad m2 := ⟨_, hM1.1.mm, hk0.tried, hp.set, hM0.trans hM1⟩
  have hR1 := hk1.R hR
  refine z_aload_n X dX4_place_74 rfl 1 rfl ?_
  refine z_iload_n X dX4_place_75 rfl 2 rfl ?_
  refine z_iconst (v := nI (1)) X dX4_place_76 ci1 ?_
  refine z_iadd (v := nI (i + 1)) X dX4_place_77 (nI_add _ _) ?_
  refine z_iload_n X dX4_place_78 rfl 3 rfl ?_
  refine z_iload_n X dX4_place_79 rfl 4 rfl ?_
  refine z_lload X dX4_place_80 5 rfl ?_
  refine z_aload_n X dX4_place_82 rfl 1 rfl ?_
  refine z_iload X dX4_place_83 0 rfl ?_
  refine z_clp (z_runV (rest := [.long (sum), .int (nI (st)), .int (nI (k)), .int (nI (i + 1)), .ref (ad 0)]) (n := 1) X [.int (nI (g i))] (m_X4_lostOf hMx1 hR1 hI (i := g i) (by omega)) dX4_place_85 (mm_o hMx1) rfl (lw_V q1624 q1626 qs36 q70 q1627) hv_X4_lostOf rfl ⟨by omega, by omega⟩ ⟨by omega, by omega⟩ rfl (Nat.le_of_ble_eq_true rfl)) ?_
  refine z_ladd (v := sum + (lostL S (g i))) X dX4_place_88 rfl ?_
  refine z_iload X dX4_place_89 6 rfl ?_
  refine z_cv (z_runV (rest := []) (n := 5) X [.int (nI (i + 1)), .int (nI (k)), .int (nI (st)), .long (sum + (lostL S (g i))), .int (nI (nN))] (hrec (st) (sum + (lostL S (g i))) (paT p i (-1)) _ _ hMx1.1.mm hk1 hp1 (by omega)) dX4_place_91 (mm_o hMx1) rfl (lw_V q1838 q1840 qs58 q70 q1841) hv_X4_place rfl ⟨by omega, by omega⟩ ⟨by omega, by omega⟩ rfl (Nat.le_of_ble_eq_true rfl)) (fun w4 h3 => ?_)
  obtain ⟨mv4, hM4, hK4, hp4⟩ := h3
  have hMc4 := hMy1.trans hM4
  have hk4 := hk1.trans hK4
  have hR4 := hk4.R hR
  refine z_iconst (v := nI (0)) X dX4_place_94 ci0 ?_
  refine z_istore (lv2 := [(8, .int (nI (0))), (7, .int (nI (g i))), (0, .ref (ad 0)), (1, .int (nI (i))), (2, .int (nI (k))), (3, .int (nI (st))), (4, .long (sum)), (6, .int (nI (nN)))]) X dX4_place_95 (Nat.le_of_ble_eq_true rfl) rfl ?_
  have lz : ∀ (lq z : Nat) (w2 : GW) (m2 : MSt), z + lq = 3 → MM G w2 w2 ad m2 → MM G w w2 ad m2 → KP m m2 → PQ (plSt S g (plTo S g V n) i st sum z (plTo S g V n (i + 1) st (sum + lostL S (g i)) (paT p i (-1)))) m2 → Z κ w2 [(8, .int (nI (z))), (7, .int (nI (g i))), (0, .ref (ad 0)), (1, .int (nI (i))), (2, .int (nI (k))), (3, .int (nI (st))), (4, .long (sum)), (6, .int (nI (nN)))] 0 0 97 [] := by
    intro lq
    induction lq with
    | zero =>
      intro z w2 m2 lh hM2 hc2 hk2 hp2
      obtain rfl : 3 = z := by omega
      have hR2 := hk2.R hR
      refine z_iload X dX4_place_97 0 rfl ?_
      refine z_iconst (v := nI (3)) X dX4_place_99 ci3 ?_
      refine z_icmp_ge_t (tgt := 163) X dX4_place_100 (by decide) ((nI_leI (by omega) (by omega)).mpr (by omega)) ?_
      exact z_vret X dX4_place_163 (by omega) (by omega) ⟨rfl, ⟨_, hc2, hk2, hp2⟩⟩
    | succ lq ih =>
      intro z w2 m2 lh hM2 hc2 hk2 hp2
      have hR2 := hk2.R hR
      refine z_iload X dX4_place_97 0 rfl ?_
      refine z_iconst (v := nI (3)) X dX4_place_99 ci3 ?_
      refine z_icmp_ge_f (tgt := 163) X dX4_place_100 (by decide) (fun h => absurd ((nI_leI (by omega) (by omega)).mp h) (by omega)) ?_
      refine z_aload_n X dX4_place_103 rfl 2 rfl ?_
      refine z_iload X dX4_place_104 1 rfl ?_
      refine z_iload_n X dX4_place_106 rfl 5 rfl ?_
      refine z_iload X dX4_place_107 0 rfl ?_
      refine z_cip (z_runV (rest := []) (n := 3) X [.int (nI (g i)), .int (nI (st)), .int (nI (z))] (m_X4_mayGet hM2 hR2 hI (i := g i) (st := st) (z := z) (by omega) (by omega) (by omega)) dX4_place_109 (mm_o hM2) rfl (lw_V q1629 q1631 qs37 q70 q1632) hv_X4_mayGet rfl ⟨by omega, by omega⟩ ⟨by omega, by omega⟩ rfl (Nat.le_of_ble_eq_true rfl)) ?_
      refine z_if_eq (tgt := 157) X dX4_place_112 (by decide) bI_0 (fun c5 => ?_) (fun c5 => ?_)
      · refine z_iinc (v := nI (z + 1)) (lv2 := [(8, .int (nI (z + 1))), (7, .int (nI (g i))), (0, .ref (ad 0)), (1, .int (nI (i))), (2, .int (nI (k))), (3, .int (nI (st))), (4, .long (sum)), (6, .int (nI (nN)))]) X dX4_place_157 0 rfl (nI_1 _) (Nat.le_of_ble_eq_true rfl) rfl ?_
        refine z_goto (tgt := 97) X dX4_place_160 (by decide) ?_
        have e : (plSt S g (plTo S g V n) i st sum (z + 1) (plTo S g V n (i + 1) st (sum + lostL S (g i)) (paT p i (-1)))) = (plSt S g (plTo S g V n) i st sum z (plTo S g V n (i + 1) st (sum + lostL S (g i)) (paT p i (-1)))) := if_neg (by rw [c5]; exact Bool.false_ne_true)
        exact ih (z + 1) _ _ (by omega) hM2.1.mm hc2 hk2 (by rw [e]; exact hp2)
      · have c5 := ts_t c5
        have hg2 := fr_ge (fits_of c5).2
        refine z_aload_n X dX4_place_115 rfl 2 rfl ?_
        refine z_mg31 X hM2 dX4_place_116 ?_
        refine z_iload_n X dX4_place_119 rfl 3 rfl ?_
        refine z_iload X dX4_place_120 0 rfl ?_
        refine z_mst (n := 6) (j := i) X hM2.1.mm 32 dX4_place_122 rfl rfl rfl (by omega) (by omega) (fun u6 hM6 => ?_)
        obtain ⟨mx6, hMx6, hk6, hp6, hMy6⟩ : ∃ m2, MM G u6 u6 ad m2 ∧ KP m m2 ∧ PQ (paT (plSt S g (plTo S g V n) i st sum z (plTo S g V n (i + 1) st (sum + lostL S (g i)) (paT p i (-1)))) i (nI (z))) m2 ∧ MM G w u6 ad m2 := ⟨_, hM6.1.mm, hk2.tried, hp2.set, hc2.trans hM6⟩
        have hR6 := hk6.R hR
        refine z_aload_n X dX4_place_123 rfl 2 rfl ?_
        refine z_iload_n X dX4_place_124 rfl 3 rfl ?_
        refine z_iconst (v := nI (1)) X dX4_place_125 ci1 ?_
        refine z_iadd (v := nI (i + 1)) X dX4_place_126 (nI_add _ _) ?_
        refine z_iload_n X dX4_place_127 rfl 4 rfl ?_
        refine z_iload_n X dX4_place_128 rfl 5 rfl ?_
        refine z_iload X dX4_place_129 0 rfl ?_
        refine z_cip (z_runS (rest := [.int (nI (st)), .int (nI (k)), .int (nI (i + 1)), .ref (ad 0)]) (n := 1) X [.int (nI (z))] (m_X4_oneOf (z := z) (by omega)) dX4_place_131 (lw_S q1634 q1635 q70 q1636) hs_X4_oneOf rfl ⟨by omega, by omega⟩ ⟨by omega, by omega⟩ rfl (Nat.le_of_ble_eq_true rfl)) ?_
        refine z_isub (v := nI (st - (pw5 z))) X dX4_place_134 (pk_sub (by omega)) ?_
        refine z_lload X dX4_place_135 6 rfl ?_
        refine z_ldc2 X dX4_place_137 q1633 ?_
        refine z_aload_n X dX4_place_140 rfl 2 rfl ?_
        refine z_mg14 X hMx6 dX4_place_141 ?_
        refine z_iload X dX4_place_144 1 rfl ?_
        refine z_aN5 (v := .ref (ad (50 + (g i)))) X dX4_place_146 (mm_15 hMx6) (by omega) (by omega) rfl ?_
        refine z_iconst (v := nI (2)) X dX4_place_147 ci2 ?_
        refine z_iaN (v := nI (S.1 5 (g i))) X dX4_place_148 (mmr_50 hMx6 (by omega)) (by omega) (by omega) (hR6.2.2.1 (g i) (by omega)).2.2.1 ?_
        refine z_i2l (v := lN (S.1 5 (g i))) X dX4_place_149 (nI_l (by omega)) ?_
        refine z_lmul (v := (1000000) * (lN (S.1 5 (g i)))) X dX4_place_150 rfl ?_
        refine z_ladd (v := sum + ((1000000) * (lN (S.1 5 (g i))))) X dX4_place_151 rfl ?_
        refine z_iload X dX4_place_152 7 rfl ?_
        refine z_cv (z_runV (rest := []) (n := 5) X [.int (nI (i + 1)), .int (nI (k)), .int (nI (st - (pw5 z))), .long (sum + ((1000000) * (lN (S.1 5 (g i))))), .int (nI (nN))] (hrec (st - (pw5 z)) (sum + ((1000000) * (lN (S.1 5 (g i))))) (paT (plSt S g (plTo S g V n) i st sum z (plTo S g V n (i + 1) st (sum + lostL S (g i)) (paT p i (-1)))) i (nI (z))) _ _ hMx6.1.mm hk6 hp6 (by omega)) dX4_place_154 (mm_o hMx6) rfl (lw_V q1838 q1840 qs58 q70 q1841) hv_X4_place rfl ⟨by omega, by omega⟩ ⟨by omega, by omega⟩ rfl (Nat.le_of_ble_eq_true rfl)) (fun w9 h8 => ?_)
        obtain ⟨mv9, hM9, hK9, hp9⟩ := h8
        have hMc9 := hMy6.trans hM9
        have hk9 := hk6.trans hK9
        have hR9 := hk9.R hR
        refine z_iinc (v := nI (z + 1)) (lv2 := [(8, .int (nI (z + 1))), (7, .int (nI (g i))), (0, .ref (ad 0)), (1, .int (nI (i))), (2, .int (nI (k))), (3, .int (nI (st))), (4, .long (sum)), (6, .int (nI (nN)))]) X dX4_place_157 0 rfl (nI_1 _) (Nat.le_of_ble_eq_true rfl) rfl ?_
        refine z_goto (tgt := 97) X dX4_place_160 (by decide) ?_
        have e : (plSt S g (plTo S g V n) i st sum (z + 1) (plTo S g V n (i + 1) st (sum + lostL S (g i)) (paT p i (-1)))) = plTo S g V n (i + 1) (st - pw5 z) (sum + 1000000 * lN (S.1 5 (g i))) (paT (plSt S g (plTo S g V n) i st sum z (plTo S g V n (i + 1) st (sum + lostL S (g i)) (paT p i (-1)))) i (nI z)) := if_pos c5
        exact ih (z + 1) _ _ (by omega) hM9.1.mm hMc9 hk9 (by rw [e]; exact hp9)
  exact lz 3 0 w4 mv4 (by omega) hM4.1.mm hMc4 hk4 hp4
theorem m_X4_place {l : Launch} {G : GG} {ad : Nat → Nat} {S : WS} (hI : wInv S) {V : Nat → Int64} {nN k : Nat} {g : Nat → Nat} (hN : nN ≤ 24) (hk6 : k ≤ 6) : ∀ (n i st : Nat) (sum : Int64) (p : PA) (w : GW) (m : MSt), MM G w w ad m → MR S m → (∀ j, j < 125 → m.2.1 (70 + nN) j = V j) → (∀ j, j < k → m.1 31 j = nI (g j) ∧ g j < S.2 0) → PQ p m → i + n = k → st < 125 → gM l G yX4_place cX4_place 9 none (n + 3) 0 0 [.ref (ad 0), .int (nI i), .int (nI k), .int (nI st), .long sum, .int (nI nN)] w (pV (fun w1 => ∃ m2, MM G w w1 ad m2 ∧ KP m m2 ∧ PQ (plTo S g V n i st sum p) m2)) := by
  intro n
  induction n with
  | zero =>
    intro i st sum p w m hM hR hV hg hp hi hs
    obtain rfl : i = k := by omega
    exact m_X4_place_0 hM hR hI hN hk6 hV hg hp hs
  | succ n ih =>
    intro i st sum p w m hM hR hV hg hp hi hs
    exact m_X4_place_s hM hR hI hN hk6 hV hg hp hs hi (fun st2 sum2 p2 w2 m2 hM2 hk2 hp2 hs2 => ih (i + 1) st2 sum2 p2 w2 m2 hM2 (hk2.R hR) (fun j hj => (congrFun (congrFun hk2.2.1 (70 + nN)) j).trans (hV j hj)) (fun j hj => ⟨(congrFun (hk2.1 31 (by decide) (by decide)) j).trans (hg j hj).1, (hg j hj).2⟩) hp2 (by omega) hs2)
