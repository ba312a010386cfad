/-! x: ITS WHOLE WORLD, told by numbered cells: 0 x, 1 shelves, 2 tape, 3 refused, 4 day, 5..12 wall, 13..15 rows, 20 image, 21..28 its wall, 30.. sheets, 40.. held, 50.. learnt -/
set_option maxRecDepth 100000
abbrev IM : Type := Option (WS × (Nat → Int32) × Int32)
/-- what lies beyond the arrays' ends is nought -/
def wNorm (S : WS) : Prop := ∀ k, k < 7 → ∀ j, wLen (k + 1) ≤ j → S.1 k j = 0
def XW (w : GW) (xa : Nat → Nat) (C : Nat → Option va_E) : Prop := (∀ k e, C k = some e → w (xa k) = some e) ∧ ∀ i j, C i ≠ none → C j ≠ none → xa i = xa j → i = j
def setC (C : Nat → Option va_E) (k : Nat) (e : va_E) : Nat → Option va_E := fun i => if i = k then some e else C i
theorem setC_s {C : Nat → Option va_E} {k : Nat} {e : va_E} : setC C k e k = some e := if_pos rfl
theorem setC_n {C : Nat → Option va_E} {k i : Nat} {e : va_E} (h : i ≠ k) : setC C k e i = C i := if_neg h
theorem XW.ne {w : GW} {xa : Nat → Nat} {C : Nat → Option va_E} (h : XW w xa C) {i j : Nat} {e e2 : va_E} (hi : C i = some e) (hj : C j = some e2) (hij : i ≠ j) : xa i ≠ xa j := fun q => hij (h.2 i j (by rw [hi]; exact Option.some_ne_none _) (by rw [hj]; exact Option.some_ne_none _) q)
theorem XW.put {w : GW} {xa : Nat → Nat} {C : Nat → Option va_E} {k : Nat} {e0 e : va_E} (h : XW w xa C) (hk : C k = some e0) : XW (gu w (xa k) e) xa (setC C k e) := by
  have hp : ∀ i, setC C k e i ≠ none → C i ≠ none := fun i hi q => by
    by_cases hik : i = k
    · rw [hik, hk] at q; cases q
    · rw [setC_n hik] at hi; exact hi q
  refine ⟨fun i e1 hi => ?_, fun i j hi hj => h.2 i j (hp i hi) (hp j hj)⟩
  by_cases hik : i = k
  · rw [hik] at hi ⊢
    rw [setC_s] at hi
    rw [gu_s]; exact hi
  · rw [setC_n hik] at hi
    rw [gu_n (h.ne hi hk hik)]
    exact h.1 i e1 hi
/-- other places are written -/
theorem XW.kept {w w1 : GW} {xa : Nat → Nat} {C : Nat → Option va_E} (h : XW w xa C) (hk : ∀ k e, C k = some e → w1 (xa k) = some e) : XW w1 xa C := ⟨hk, h.2⟩
theorem XW.fresh {w : GW} {xa : Nat → Nat} {C : Nat → Option va_E} {q : Nat} {e : va_E} (h : XW w xa C) (hq : w q = none) : XW (gu w q e) xa C := h.kept fun k e1 hk => gu_f hq (h.1 k e1 hk)
def dFs (wa : Nat) (sd : Int32) (dy : Nat → Int32) : List Value := [.ref wa, .int sd, .int (dy 0), .int (dy 1), .int (dy 2), .int (dy 3), .int (dy 4), .int (dy 5)]
def xFs (xa : Nat → Nat) (im : IM) (sz : Nat) : List Value := [.ref (xa 4), va_rf (im.map fun _ => xa 20), .ref (xa 1), .ref (xa 2), .int (nI sz), .ref (xa 3)]
def shF (xa : Nat → Nat) : Nat → Option Nat := fun j => if j < 8 then some (xa (30 + j)) else none
/-- what a shelf holds: nothing, a row, a rule -/
def ShC (G : GG) (xa : Nat → Nat) (C : Nat → Option va_E) (o : OS) (s : Nat) : Prop :=
  (o.2.2.2.1 0 s = 0 ∧ C (30 + s) = some (.inr (3, [.null]))) ∨
  (o.2.2.2.1 0 s = 1 ∧ C (30 + s) = some (.inr (3, [.ref (xa (40 + s))])) ∧ ∃ f, C (40 + s) = some (rowE G (o.2.2.2.1 1 s) (o.2.2.2.1 2 s) f) ∧ rowOk (o.2.2.2.1 1 s) (o.2.2.2.1 2 s) f ∧ ∀ i, i < o.2.2.2.1 2 s → f i = o.2.2.2.2.1 s i) ∨
  (o.2.2.2.1 0 s = 2 ∧ C (30 + s) = some (.inr (3, [.ref (xa (40 + s))])) ∧ C (40 + s) = some (rCell (o.2.2.2.1 3 s) (o.2.2.2.1 4 s) (xa (50 + s))) ∧ (o.2.2.2.1 3 s = 6 → ∃ T, C (50 + s) = some (.inl (G.2.1 1, 125, .inr (.inl T))) ∧ ∀ j, 125 ≤ j → T j = lN 0))
/-- the rows of the wall -/
def RwC (G : GG) (xa : Nat → Nat) (C : Nat → Option va_E) (rr : Option Nat) : Prop := rr = none ∨ (rr = some (xa 13) ∧ ∃ (ro : Nat → Nat) (T : Nat → Nat → Int64), ro 0 = xa 14 ∧ ro 1 = xa 15 ∧ C 13 = some (.inl (G.2.1 6, 2, .inr (.inr (.inr (.inr (fun j => some (ro j))))))) ∧ C 14 = some (.inl (G.2.1 1, 125, .inr (.inl (T 0)))) ∧ C 15 = some (.inl (G.2.1 1, 125, .inr (.inl (T 1)))) ∧ ∀ k, k < 2 → ∀ j, 125 ≤ j → T k j = lN 0)
def XC (G : GG) (xa : Nat → Nat) (C : Nat → Option va_E) (rr : Option Nat) (o : OS) (im : IM) : Prop := (C 0 = some (.inr (0, xFs xa im o.2.2.2.2.2.2.1))) ∧ (C 1 = some (.inl (G.2.1 7, 8, .inr (.inr (.inr (.inr (shF xa))))))) ∧ (∃ f, C 2 = some (.inl (G.2.1 0, 200, .inl f)) ∧ ∀ j, j < 200 → f j = nI (o.2.2.2.2.2.1 j)) ∧ (∃ f, C 3 = some (.inl (G.2.1 0, 7, .inl f)) ∧ ∀ j, j < 7 → f j = o.2.2.2.2.2.2.2 j) ∧ (C 4 = some (.inr (1, dFs (xa 5) o.2.2.1 o.2.1))) ∧ (∀ i, i < 8 → C (5 + i) = some (wCt G (fun i => xa (5 + i)) rr o.1 i)) ∧ (RwC G xa C rr) ∧ (∀ S dy sd, im = some (S, dy, sd) → C 20 = some (.inr (1, dFs (xa 21) sd dy)) ∧ (∀ i, i < 8 → C (21 + i) = some (wCt G (fun i => xa (21 + i)) none S i)) ∧ wNorm S ∧ wInv S) ∧ (∀ s, s < 8 → ShC G xa C o s) ∧ (wNorm o.1)
theorem XC.c0 {G : GG} {xa : Nat → Nat} {C : Nat → Option va_E} {rr : Option Nat} {o : OS} {im : IM} (h : XC G xa C rr o im) : C 0 = some (.inr (0, xFs xa im o.2.2.2.2.2.2.1)) := h.1
theorem XC.c1 {G : GG} {xa : Nat → Nat} {C : Nat → Option va_E} {rr : Option Nat} {o : OS} {im : IM} (h : XC G xa C rr o im) : C 1 = some (.inl (G.2.1 7, 8, .inr (.inr (.inr (.inr (shF xa)))))) := h.2.1
theorem XC.c2 {G : GG} {xa : Nat → Nat} {C : Nat → Option va_E} {rr : Option Nat} {o : OS} {im : IM} (h : XC G xa C rr o im) : ∃ f, C 2 = some (.inl (G.2.1 0, 200, .inl f)) ∧ ∀ j, j < 200 → f j = nI (o.2.2.2.2.2.1 j) := h.2.2.1
theorem XC.c3 {G : GG} {xa : Nat → Nat} {C : Nat → Option va_E} {rr : Option Nat} {o : OS} {im : IM} (h : XC G xa C rr o im) : ∃ f, C 3 = some (.inl (G.2.1 0, 7, .inl f)) ∧ ∀ j, j < 7 → f j = o.2.2.2.2.2.2.2 j := h.2.2.2.1
theorem XC.c4 {G : GG} {xa : Nat → Nat} {C : Nat → Option va_E} {rr : Option Nat} {o : OS} {im : IM} (h : XC G xa C rr o im) : C 4 = some (.inr (1, dFs (xa 5) o.2.2.1 o.2.1)) := h.2.2.2.2.1
theorem XC.cw {G : GG} {xa : Nat → Nat} {C : Nat → Option va_E} {rr : Option Nat} {o : OS} {im : IM} (h : XC G xa C rr o im) : ∀ i, i < 8 → C (5 + i) = some (wCt G (fun i => xa (5 + i)) rr o.1 i) := h.2.2.2.2.2.1
theorem XC.cr {G : GG} {xa : Nat → Nat} {C : Nat → Option va_E} {rr : Option Nat} {o : OS} {im : IM} (h : XC G xa C rr o im) : RwC G xa C rr := h.2.2.2.2.2.2.1
theorem XC.ci {G : GG} {xa : Nat → Nat} {C : Nat → Option va_E} {rr : Option Nat} {o : OS} {im : IM} (h : XC G xa C rr o im) : ∀ S dy sd, im = some (S, dy, sd) → C 20 = some (.inr (1, dFs (xa 21) sd dy)) ∧ (∀ i, i < 8 → C (21 + i) = some (wCt G (fun i => xa (21 + i)) none S i)) ∧ wNorm S ∧ wInv S := h.2.2.2.2.2.2.2.1
theorem XC.cs {G : GG} {xa : Nat → Nat} {C : Nat → Option va_E} {rr : Option Nat} {o : OS} {im : IM} (h : XC G xa C rr o im) : ∀ s, s < 8 → ShC G xa C o s := h.2.2.2.2.2.2.2.2.1
theorem XC.cn {G : GG} {xa : Nat → Nat} {C : Nat → Option va_E} {rr : Option Nat} {o : OS} {im : IM} (h : XC G xa C rr o im) : wNorm o.1 := h.2.2.2.2.2.2.2.2.2
def XT (G : GG) (w : GW) (xa : Nat → Nat) (rr : Option Nat) (o : OS) (im : IM) : Prop := ∃ C, XW w xa C ∧ XC G xa C rr o im
abbrev xw (xa : Nat → Nat) : Nat → Nat := fun i => xa (5 + i)
section XTS
variable {G : GG} {w : GW} {xa : Nat → Nat} {rr : Option Nat} {o : OS} {im : IM}
theorem XT.ob (h : XT G w xa rr o im) : w (xa 0) = some (.inr (0, xFs xa im o.2.2.2.2.2.2.1)) := by obtain ⟨C, hW, hC⟩ := h; exact hW.1 _ _ hC.c0
theorem XT.sh (h : XT G w xa rr o im) : w (xa 1) = some (.inl (G.2.1 7, 8, .inr (.inr (.inr (.inr (shF xa)))))) := by obtain ⟨C, hW, hC⟩ := h; exact hW.1 _ _ hC.c1
theorem XT.tape (h : XT G w xa rr o im) : ∃ f, w (xa 2) = some (.inl (G.2.1 0, 200, .inl f)) ∧ ∀ j, j < 200 → f j = nI (o.2.2.2.2.2.1 j) := by obtain ⟨C, hW, hC⟩ := h; obtain ⟨f, h1, h2⟩ := hC.c2; exact ⟨f, hW.1 _ _ h1, h2⟩
theorem XT.rfd (h : XT G w xa rr o im) : ∃ f, w (xa 3) = some (.inl (G.2.1 0, 7, .inl f)) ∧ ∀ j, j < 7 → f j = o.2.2.2.2.2.2.2 j := by obtain ⟨C, hW, hC⟩ := h; obtain ⟨f, h1, h2⟩ := hC.c3; exact ⟨f, hW.1 _ _ h1, h2⟩
theorem XT.day (h : XT G w xa rr o im) : w (xa 4) = some (.inr (1, dFs (xa 5) o.2.2.1 o.2.1)) := by obtain ⟨C, hW, hC⟩ := h; exact hW.1 _ _ hC.c4
theorem XT.wall (h : XT G w xa rr o im) : WallW G w (xw xa) rr o.1 := by
  obtain ⟨C, hW, hC⟩ := h
  refine ⟨fun i hi => hW.1 _ _ (hC.cw i (by simpa [wP] using hi)), fun i j hi hj e => ?_⟩
  have := hW.2 (5 + i) (5 + j) (by rw [hC.cw i (by simpa [wP] using hi)]; exact Option.some_ne_none _) (by rw [hC.cw j (by simpa [wP] using hj)]; exact Option.some_ne_none _) e
  omega
theorem XT.norm (h : XT G w xa rr o im) : wNorm o.1 := by obtain ⟨C, hW, hC⟩ := h; exact hC.cn
theorem XT.fresh (h : XT G w xa rr o im) {q : Nat} {e : va_E} (hq : w q = none) : XT G (gu w q e) xa rr o im := by obtain ⟨C, hW, hC⟩ := h; exact ⟨C, hW.fresh hq, hC⟩
/-- a shelf -/
theorem XT.shelf (h : XT G w xa rr o im) {s : Nat} (hs : s < 8) : (o.2.2.2.1 0 s = 0 ∧ w (xa (30 + s)) = some (.inr (3, [.null]))) ∨ (o.2.2.2.1 0 s = 1 ∧ w (xa (30 + s)) = some (.inr (3, [.ref (xa (40 + s))])) ∧ ∃ f, w (xa (40 + s)) = some (rowE G (o.2.2.2.1 1 s) (o.2.2.2.1 2 s) f) ∧ rowOk (o.2.2.2.1 1 s) (o.2.2.2.1 2 s) f ∧ ∀ i, i < o.2.2.2.1 2 s → f i = o.2.2.2.2.1 s i) ∨ (o.2.2.2.1 0 s = 2 ∧ w (xa (30 + s)) = some (.inr (3, [.ref (xa (40 + s))])) ∧ w (xa (40 + s)) = some (rCell (o.2.2.2.1 3 s) (o.2.2.2.1 4 s) (xa (50 + s))) ∧ (o.2.2.2.1 3 s = 6 → ∃ T, w (xa (50 + s)) = some (.inl (G.2.1 1, 125, .inr (.inl T))) ∧ ∀ j, 125 ≤ j → T j = lN 0)) := by
  obtain ⟨C, hW, hC⟩ := h
  rcases hC.cs s hs with ⟨h1, h2⟩ | ⟨h1, h2, f, h3, h4⟩ | ⟨h1, h2, h3, h4⟩
  · exact Or.inl ⟨h1, hW.1 _ _ h2⟩
  · exact Or.inr (Or.inl ⟨h1, hW.1 _ _ h2, f, hW.1 _ _ h3, h4⟩)
  · refine Or.inr (Or.inr ⟨h1, hW.1 _ _ h2, hW.1 _ _ h3, fun q => ?_⟩)
    obtain ⟨T, hT, hz⟩ := h4 q
    exact ⟨T, hW.1 _ _ hT, hz⟩
/-- the content but for one number below 13 -/
theorem XC.low {C : Nat → Option va_E} (h : XC G xa C rr o im) {k : Nat} {e : va_E} (hk : k < 13) : RwC G xa (setC C k e) rr ∧ (∀ S dy sd, im = some (S, dy, sd) → setC C k e 20 = some (.inr (1, dFs (xa 21) sd dy)) ∧ (∀ i, i < 8 → setC C k e (21 + i) = some (wCt G (fun i => xa (21 + i)) none S i)) ∧ wNorm S ∧ wInv S) ∧ ∀ s, s < 8 → ShC G xa (setC C k e) o s := by
  refine ⟨?_, fun S dy sd hi => ?_, fun s hs => ?_⟩
  · rcases h.cr with h1 | ⟨h1, ro, T, h2, h3, h4, h5, h6, h7⟩
    · exact Or.inl h1
    · exact Or.inr ⟨h1, ro, T, h2, h3, by rw [setC_n (by omega)]; exact h4, by rw [setC_n (by omega)]; exact h5, by rw [setC_n (by omega)]; exact h6, h7⟩
  · obtain ⟨h1, h2, h3⟩ := h.ci S dy sd hi
    exact ⟨by rw [setC_n (by omega)]; exact h1, fun i hi2 => by rw [setC_n (by omega)]; exact h2 i hi2, h3⟩
  · have := h.cs s hs
    unfold ShC at this ⊢
    rw [setC_n (by omega), setC_n (by omega), setC_n (by omega)]
    exact this
/-- refused once more -/
theorem XT.ref (h : XT G w xa rr o im) {f : Nat → Int32} (hf : w (xa 3) = some (.inl (G.2.1 0, 7, .inl f))) {k : Nat} (hk : k < 7) : XT G (gu w (xa 3) (.inl (G.2.1 0, 7, .inl (upd f k (f k + 1))))) xa rr (oRef o k) im := by
  obtain ⟨C, hW, hC⟩ := h
  obtain ⟨f2, h1, h2⟩ := hC.c3
  have e : f = f2 := by
    have := hW.1 _ _ h1
    rw [hf] at this
    exact Sum.inl.inj (Prod.mk.inj (Prod.mk.inj (Sum.inl.inj (Option.some.inj this))).2).2
  subst e
  obtain ⟨l1, l2, l3⟩ := hC.low (k := 3) (e := .inl (G.2.1 0, 7, .inl (upd f k (f k + 1)))) (by omega)
  refine ⟨setC C 3 _, hW.put h1, ⟨?_, ?_, ?_, ?_, ?_, ?_, l1, l2, l3, hC.cn⟩⟩
  · rw [setC_n (by omega)]; exact hC.c0
  · rw [setC_n (by omega)]; exact hC.c1
  · rw [setC_n (by omega)]; exact hC.c2
  · refine ⟨_, setC_s, fun j hj => ?_⟩
    show upd f k (f k + 1) j = upd o.2.2.2.2.2.2.2 k (o.2.2.2.2.2.2.2 k + 1) j
    by_cases hjk : j = k
    · subst hjk; simp only [upd, if_true]; rw [h2 j hj]
    · simp only [upd, if_neg hjk]; exact h2 j hj
  · rw [setC_n (by omega)]; exact hC.c4
  · intro i hi
    rw [setC_n (by omega)]; exact hC.cw i hi
theorem wNorm.put {S : WS} (h : wNorm S) {k j v : Nat} (hj : j < wLen (k + 1)) : wNorm (wPut S k j v) := by
  intro k2 hk2 j2 hj2
  show (if k2 = k ∧ j2 = j then v else S.1 k2 j2) = 0
  rw [if_neg (fun q => by obtain ⟨rfl, rfl⟩ := q; omega)]
  exact h k2 hk2 j2 hj2
/-- the wall is another, its object the same -/
theorem XT.wl (h : XT G w xa rr o im) {w1 : GW} {S : WS} (hw : WallW G w1 (xw xa) rr S) (hn : wNorm S) (hk : ∀ b e, w b = some e → (∀ i, i < 8 → b ≠ xa (5 + i)) → w1 b = some e) : XT G w1 xa rr (oW o S) im := by
  obtain ⟨C, hW, hC⟩ := h
  let C2 : Nat → Option va_E := fun k => if 5 ≤ k ∧ k < 13 then some (wCt G (xw xa) rr S (k - 5)) else C k
  have hC2 : ∀ k, ¬ (5 ≤ k ∧ k < 13) → C2 k = C k := fun k hk => if_neg hk
  have hC3 : ∀ i, i < 8 → C2 (5 + i) = some (wCt G (xw xa) rr S i) := fun i hi => by
    show (if 5 ≤ 5 + i ∧ 5 + i < 13 then some (wCt G (xw xa) rr S (5 + i - 5)) else C (5 + i)) = _
    rw [if_pos (by omega), show 5 + i - 5 = i by omega]
  have hpr : ∀ k, C2 k ≠ none → C k ≠ none := fun k hk q => by
    by_cases h9 : 5 ≤ k ∧ k < 13
    · have := hC.cw (k - 5) (by omega)
      rw [show 5 + (k - 5) = k by omega, q] at this
      cases this
    · rw [hC2 k h9] at hk; exact hk q
  refine ⟨C2, ⟨fun k e he => ?_, fun i j hi hj => hW.2 i j (hpr i hi) (hpr j hj)⟩, ⟨?_, ?_, ?_, ?_, ?_, ?_, ?_, ?_, ?_, hn⟩⟩
  · by_cases h9 : 5 ≤ k ∧ k < 13
    · have h1 := hC3 (k - 5) (by omega)
      rw [show 5 + (k - 5) = k by omega, he] at h1
      have h2 := hw.1 (k - 5) (by simp only [wP, decide_eq_true_eq]; omega)
      show w1 (xa k) = some e
      have h3 : xw xa (k - 5) = xa k := by show xa (5 + (k - 5)) = xa k; rw [show 5 + (k - 5) = k by omega]
      rw [h3] at h2
      rw [h2, h1]
    · rw [hC2 k h9] at he
      refine hk _ _ (hW.1 _ _ he) fun i hi q => ?_
      exact hW.ne he (hC.cw i hi) (by omega) q
  · rw [hC2 _ (by omega)]; exact hC.c0
  · rw [hC2 _ (by omega)]; exact hC.c1
  · rw [hC2 _ (by omega)]; exact hC.c2
  · rw [hC2 _ (by omega)]; exact hC.c3
  · rw [hC2 _ (by omega)]; exact hC.c4
  · exact hC3
  · rcases hC.cr with h1 | ⟨h1, ro, T, h2, h3, h4, h5, h6, h7⟩
    · exact Or.inl h1
    · exact Or.inr ⟨h1, ro, T, h2, h3, by rw [hC2 _ (by omega)]; exact h4, by rw [hC2 _ (by omega)]; exact h5, by rw [hC2 _ (by omega)]; exact h6, h7⟩
  · intro S2 dy sd hi
    obtain ⟨h1, h2, h3⟩ := hC.ci S2 dy sd hi
    exact ⟨by rw [hC2 _ (by omega)]; exact h1, fun i hi2 => by rw [hC2 _ (by omega)]; exact h2 i hi2, h3⟩
  · intro s hs
    have := hC.cs s hs
    unfold ShC at this ⊢
    rw [hC2 _ (by omega), hC2 _ (by omega), hC2 _ (by omega)]
    exact this
/-- a place of the wall's arrays -/
theorem XT.wput (h : XT G w xa rr o im) (k : Nat) (hk : k < 7) (n j v : Nat) (hn : wLen (k + 1) = n) (hj : j < n) : XT G (gu w (xa (5 + (k + 1))) (.inl (G.2.1 0, n, .inl (upd (fun j => nI (o.1.1 k j)) j (nI v))))) xa rr (oW o (wPut o.1 k j v)) im :=
  h.wl (wl_put h.wall k hk n j v hn) (h.norm.put (by omega)) fun b e hb hne => by rw [gu_n (hne (k + 1) (by omega))]; exact hb
/-- the wall's single numbers -/
theorem XT.wputF (h : XT G w xa rr o im) (k v : Nat) (hk : k < 3) {fs : List Value} (hf : fs = wFs (xw xa) rr (wPut0 o.1 k v)) : XT G (gu w (xa 5) (.inr (2, fs))) xa rr (oW o (wPut0 o.1 k v)) im := by
  refine h.wl ?_ h.norm fun b e hb hne => by rw [gu_n (hne 0 (by omega))]; exact hb
  refine Sx.put (k := 0) h.wall rfl (by rw [hf]; rfl) fun i hi hne => ?_
  simp only [wCt, if_neg hne]
  rfl
end XTS
