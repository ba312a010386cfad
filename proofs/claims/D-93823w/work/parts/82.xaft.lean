/-! x: a worth is asked: the world behind it -/
set_option maxRecDepth 100000
section XAF
variable {G : GG} {w w1 : GW} {xa : Nat → Nat} {rr : Option Nat} {o : OS} {im : IM}
theorem XT.rows (h : XT G w xa rr o im) : ∃ (ro : Nat → Nat) (T : Nat → Nat → Int64), RowsO G w rr ro T ∧ ((rr = none) ∨ (rr = some (xa 13) ∧ ro 0 = xa 14 ∧ ro 1 = xa 15)) := by
  obtain ⟨C, hW, hC⟩ := h
  rcases hC.cr with h1 | ⟨h1, ro, T, h2, h3, h4, h5, h6, h7⟩
  · exact ⟨fun _ => 0, fun _ _ => 0, (fun q hq => by rw [h1] at hq; cases hq), Or.inl h1⟩
  · refine ⟨ro, T, fun q hq => ?_, Or.inr ⟨h1, h2, h3⟩⟩
    rw [h1] at hq
    cases hq
    refine ⟨hW.1 _ _ h4, fun k hk => ?_, ?_, h7⟩
    · rcases (show k = 0 ∨ k = 1 by omega) with rfl | rfl
      · rw [h2]; exact hW.1 _ _ h5
      · rw [h3]; exact hW.1 _ _ h6
    · rw [h2, h3]; exact hW.ne h5 h6 (by omega)
/-- rows that stand were written anew -/
theorem XT.aftS (h : XT G w xa rr o im) {ro : Nat → Nat} (hr : rr = some (xa 13)) (h0 : ro 0 = xa 14) (h1 : ro 1 = xa 15) {T1 : Nat → Nat → Int64} (hw : WallW G w1 (xw xa) rr o.1) (hR : RowsW G w1 (xa 13) ro T1) (hk : ∀ b e, w b = some e → b ≠ xa 5 → b ≠ xa 14 → b ≠ xa 15 → w1 b = some e) : XT G w1 xa rr o im := by
  obtain ⟨C, hW, hC⟩ := h
  rcases hC.cr with q1 | ⟨-, ro0, T, q2, q3, q4, q5, q6, q7⟩
  · rw [hr] at q1; cases q1
  let C2 : Nat → Option va_E := fun k => if k = 14 then some (.inl (G.2.1 1, 125, .inr (.inl (T1 0)))) else if k = 15 then some (.inl (G.2.1 1, 125, .inr (.inl (T1 1)))) else C k
  have n2 : ∀ k, k ≠ 14 → k ≠ 15 → C2 k = C k := fun k a b => by show (if k = 14 then _ else if k = 15 then _ else C k) = C k; rw [if_neg a, if_neg b]
  have e14 : C2 14 = some (.inl (G.2.1 1, 125, .inr (.inl (T1 0)))) := rfl
  have e15 : C2 15 = some (.inl (G.2.1 1, 125, .inr (.inl (T1 1)))) := rfl
  have hpr : ∀ k, C2 k ≠ none → C k ≠ none := fun k hk q => by
    by_cases a : k = 14
    · rw [a, q5] at q; cases q
    · by_cases b : k = 15
      · rw [b, q6] at q; cases q
      · rw [n2 k a b] at hk; exact hk q
  have hro : ∀ j, (fun j => some (ro j)) j = some (ro j) := fun _ => rfl
  refine ⟨C2, ⟨fun k e he => ?_, fun i j hi hj => hW.2 i j (hpr i hi) (hpr j hj)⟩, ⟨?_, ?_, ?_, ?_, ?_, ?_, ?_, ?_, ?_, hC.cn⟩⟩
  · by_cases a : k = 14
    · rw [a, e14] at he; rw [a, ← h0, ← he]; exact hR.2.1 0 (by omega)
    · by_cases b : k = 15
      · rw [b, e15] at he; rw [b, ← h1, ← he]; exact hR.2.1 1 (by omega)
      · rw [n2 k a b] at he
        by_cases c : k = 5
        · subst c
          have := hC.cw 0 (by omega)
          rw [he] at this
          rw [this]
          exact hw.1 0 rfl
        · exact hk _ _ (hW.1 _ _ he) (hW.ne he (hC.cw 0 (by omega)) c) (hW.ne he q5 a) (hW.ne he q6 b)
  · rw [n2 _ (by omega) (by omega)]; exact hC.c0
  · rw [n2 _ (by omega) (by omega)]; exact hC.c1
  · rw [n2 _ (by omega) (by omega)]; exact hC.c2
  · rw [n2 _ (by omega) (by omega)]; exact hC.c3
  · rw [n2 _ (by omega) (by omega)]; exact hC.c4
  · intro i hi
    rw [n2 _ (by omega) (by omega)]; exact hC.cw i hi
  · exact Or.inr ⟨hr, ro0, T1, q2, q3, by rw [n2 _ (by omega) (by omega)]; exact q4, e14, e15, hR.2.2.2⟩
  · intro S2 dy sd hi
    obtain ⟨g1, g2, g3⟩ := hC.ci S2 dy sd hi
    exact ⟨by rw [n2 _ (by omega) (by omega)]; exact g1, fun i hi2 => by rw [n2 _ (by omega) (by omega)]; exact g2 i hi2, g3⟩
  · intro s hs
    have := hC.cs s hs
    unfold ShC at this ⊢
    rw [n2 _ (by omega) (by omega), n2 _ (by omega) (by omega), n2 _ (by omega) (by omega)]
    exact this
/-- rows were made -/
theorem XT.aftN (h : XT G w xa none o im) {q : Nat} {ro : Nat → Nat} {T1 : Nat → Nat → Int64} (hw : WallW G w1 (xw xa) (some q) o.1) (hR : RowsW G w1 q ro T1) (hq : w q = none) (hr : ∀ k, k < 2 → w (ro k) = none) (hk : ∀ b e, w b = some e → b ≠ xa 5 → w1 b = some e) : ∃ xa2, (∀ k, k ≠ 13 → k ≠ 14 → k ≠ 15 → xa2 k = xa k) ∧ XT G w1 xa2 (some (xa2 13)) o im := by
  obtain ⟨C, hW, hC⟩ := h
  let xa2 : Nat → Nat := fun k => if k = 13 then q else if k = 14 then ro 0 else if k = 15 then ro 1 else xa k
  have nx : ∀ k, k ≠ 13 → k ≠ 14 → k ≠ 15 → xa2 k = xa k := fun k a b c => by show (if k = 13 then _ else if k = 14 then _ else if k = 15 then _ else xa k) = _; rw [if_neg a, if_neg b, if_neg c]
  have x13 : xa2 13 = q := rfl
  have x14 : xa2 14 = ro 0 := rfl
  have x15 : xa2 15 = ro 1 := rfl
  let C2 : Nat → Option va_E := fun k => if k = 5 then some (wCt G (xw xa2) (some q) o.1 0) else if k = 13 then some (.inl (G.2.1 6, 2, .inr (.inr (.inr (.inr (fun j => some (ro j))))))) else if k = 14 then some (.inl (G.2.1 1, 125, .inr (.inl (T1 0)))) else if k = 15 then some (.inl (G.2.1 1, 125, .inr (.inl (T1 1)))) else C k
  have n2 : ∀ k, k ≠ 5 → k ≠ 13 → k ≠ 14 → k ≠ 15 → C2 k = C k := fun k z a b c => by show (if k = 5 then _ else if k = 13 then _ else if k = 14 then _ else if k = 15 then _ else C k) = C k; rw [if_neg z, if_neg a, if_neg b, if_neg c]
  have e5 : C2 5 = some (wCt G (xw xa2) (some q) o.1 0) := rfl
  have e13 : C2 13 = some (.inl (G.2.1 6, 2, .inr (.inr (.inr (.inr (fun j => some (ro j))))))) := rfl
  have e14 : C2 14 = some (.inl (G.2.1 1, 125, .inr (.inl (T1 0)))) := rfl
  have e15 : C2 15 = some (.inl (G.2.1 1, 125, .inr (.inl (T1 1)))) := rfl
  have hxw : ∀ i, i < 8 → xw xa2 i = xw xa i := fun i hi => nx _ (by omega) (by omega) (by omega)
  have hwf : ∀ r, wFs (xw xa2) r o.1 = wFs (xw xa) r o.1 := fun r => rfl
  have hwc : ∀ r i, wCt G (xw xa2) r o.1 i = wCt G (xw xa) r o.1 i := fun r i => rfl
  -- who stands where in the new world
  have pos : ∀ k e, C2 k = some e → w1 (xa2 k) = some e := by
    intro k e he
    by_cases z : k = 5
    · subst z; rw [e5] at he; rw [nx 5 (by omega) (by omega) (by omega), ← he, hwc]; exact hw.1 0 rfl
    by_cases a : k = 13
    · subst a; rw [e13] at he; rw [x13, ← he]; exact hR.1
    by_cases b : k = 14
    · subst b; rw [e14] at he; rw [x14, ← he]; exact hR.2.1 0 (by omega)
    by_cases c : k = 15
    · subst c; rw [e15] at he; rw [x15, ← he]; exact hR.2.1 1 (by omega)
    rw [n2 k z a b c] at he
    rw [nx k a b c]
    exact hk _ _ (hW.1 _ _ he) (hW.ne he (hC.cw 0 (by omega)) z)
  have old : ∀ k, k ≠ 13 → k ≠ 14 → k ≠ 15 → C2 k ≠ none → C k ≠ none ∧ ∃ e, w (xa k) = some e := by
    intro k a b c hn
    by_cases z : k = 5
    · subst z
      have := hC.cw 0 (by omega)
      exact ⟨(fun q => by rw [show (5 : Nat) = 5 + 0 from rfl, this] at q; cases q), _, hW.1 5 _ this⟩
    · rw [n2 k z a b c] at hn
      obtain ⟨e, he⟩ := Option.ne_none_iff_exists'.mp hn
      exact ⟨hn, e, hW.1 _ _ he⟩
  have new : ∀ k, k = 13 ∨ k = 14 ∨ k = 15 → w (xa2 k) = none := by
    intro k hk
    rcases hk with rfl | rfl | rfl
    · exact hq
    · exact hr 0 (by omega)
    · exact hr 1 (by omega)
  have inj : ∀ i j, C2 i ≠ none → C2 j ≠ none → xa2 i = xa2 j → i = j := by
    intro i j hi hj e
    by_cases a : i = 13 ∨ i = 14 ∨ i = 15
    · by_cases b : j = 13 ∨ j = 14 ∨ j = 15
      · have p13 := pos 13 _ e13
        have p14 := pos 14 _ e14
        have p15 := pos 15 _ e15
        have d34 : xa2 13 ≠ xa2 14 := fun q => by rw [q, p14] at p13; simp at p13
        have d35 : xa2 13 ≠ xa2 15 := fun q => by rw [q, p15] at p13; simp at p13
        have d45 : xa2 14 ≠ xa2 15 := hR.2.2.1
        rcases a with rfl | rfl | rfl <;> rcases b with rfl | rfl | rfl <;> first | rfl | exact absurd e d34 | exact absurd e d35 | exact absurd e d45 | exact absurd e.symm d34 | exact absurd e.symm d35 | exact absurd e.symm d45
      · obtain ⟨-, e9, h9⟩ := old j (fun q => b (Or.inl q)) (fun q => b (Or.inr (Or.inl q))) (fun q => b (Or.inr (Or.inr q))) hj
        have := new i a
        rw [e, nx j (fun q => b (Or.inl q)) (fun q => b (Or.inr (Or.inl q))) (fun q => b (Or.inr (Or.inr q))), h9] at this
        cases this
    · by_cases b : j = 13 ∨ j = 14 ∨ j = 15
      · obtain ⟨-, e9, h9⟩ := old i (fun q => a (Or.inl q)) (fun q => a (Or.inr (Or.inl q))) (fun q => a (Or.inr (Or.inr q))) hi
        have := new j b
        rw [← e, nx i (fun q => a (Or.inl q)) (fun q => a (Or.inr (Or.inl q))) (fun q => a (Or.inr (Or.inr q))), h9] at this
        cases this
      · obtain ⟨c1, -⟩ := old i (fun q => a (Or.inl q)) (fun q => a (Or.inr (Or.inl q))) (fun q => a (Or.inr (Or.inr q))) hi
        obtain ⟨c2, -⟩ := old j (fun q => b (Or.inl q)) (fun q => b (Or.inr (Or.inl q))) (fun q => b (Or.inr (Or.inr q))) hj
        rw [nx i (fun q => a (Or.inl q)) (fun q => a (Or.inr (Or.inl q))) (fun q => a (Or.inr (Or.inr q))), nx j (fun q => b (Or.inl q)) (fun q => b (Or.inr (Or.inl q))) (fun q => b (Or.inr (Or.inr q)))] at e
        exact hW.2 i j c1 c2 e
  have hxf : xFs xa2 im o.2.2.2.2.2.2.1 = xFs xa im o.2.2.2.2.2.2.1 := rfl
  have hsf : shF xa2 = shF xa := by
    funext j
    unfold shF
    by_cases hj : j < 8
    · rw [if_pos hj, if_pos hj, nx _ (by omega) (by omega) (by omega)]
    · rw [if_neg hj, if_neg hj]
  refine ⟨xa2, nx, C2, ⟨pos, inj⟩, ⟨?_, ?_, ?_, ?_, ?_, ?_, ?_, ?_, ?_, hC.cn⟩⟩
  · rw [n2 _ (by omega) (by omega) (by omega) (by omega), hxf]; exact hC.c0
  · rw [n2 _ (by omega) (by omega) (by omega) (by omega), hsf]; exact hC.c1
  · rw [n2 _ (by omega) (by omega) (by omega) (by omega)]; exact hC.c2
  · rw [n2 _ (by omega) (by omega) (by omega) (by omega)]; exact hC.c3
  · rw [n2 _ (by omega) (by omega) (by omega) (by omega), nx 5 (by omega) (by omega) (by omega)]; exact hC.c4
  · intro i hi
    by_cases z : i = 0
    · subst z; exact e5
    · rw [n2 _ (by omega) (by omega) (by omega) (by omega), hC.cw i hi]
      show some (wCt G _ none o.1 i) = some (wCt G _ (some (xa2 13)) o.1 i)
      simp only [wCt, if_neg z]
  · exact Or.inr ⟨rfl, ro, T1, rfl, rfl, e13, e14, e15, hR.2.2.2⟩
  · intro S2 dy sd hi
    obtain ⟨g1, g2, g3⟩ := hC.ci S2 dy sd hi
    refine ⟨by rw [n2 _ (by omega) (by omega) (by omega) (by omega), nx 21 (by omega) (by omega) (by omega)]; exact g1, fun i hi2 => ?_, g3⟩
    rw [n2 _ (by omega) (by omega) (by omega) (by omega)]; exact g2 i hi2
  · intro s hs
    have := hC.cs s hs
    unfold ShC at this ⊢
    rw [n2 _ (by omega) (by omega) (by omega) (by omega), n2 _ (by omega) (by omega) (by omega) (by omega), n2 _ (by omega) (by omega) (by omega) (by omega), nx (40 + s) (by omega) (by omega) (by omega), nx (50 + s) (by omega) (by omega) (by omega)]
    exact this
theorem XT.aft (h : XT G w xa rr o im) {ro : Nat → Nat} (hr : rr = none ∨ (rr = some (xa 13) ∧ ro 0 = xa 14 ∧ ro 1 = xa 15)) {V : Nat → Int64} {x : Nat} (ha : AftW G w (xw xa) rr ro o.1 V x w1) : ∃ xa2 rr2, (∀ k, k ≠ 13 → k ≠ 14 → k ≠ 15 → xa2 k = xa k) ∧ XT G w1 xa2 rr2 o im ∧ w1 x = some (.inl (G.2.1 1, 125, .inr (.inl V))) := by
  obtain ⟨q1, ro1, T1, a1, a2, ⟨p, hp, rfl, rfl⟩, a4, a5, a6⟩ := ha
  rcases hr with rfl | ⟨hr, h0, h1⟩
  · obtain ⟨b1, b2⟩ := a5 rfl
    obtain ⟨xa2, c1, c2⟩ := h.aftN a1 a2 b1 b2 (fun b e hb hne => a6 b e hb hne (fun _ hq => nomatch hq))
    exact ⟨xa2, _, c1, c2, a2.2.1 p hp⟩
  · obtain ⟨b1, b2⟩ := a4 _ hr
    subst b1
    subst b2
    rw [← hr] at a1
    exact ⟨xa, rr, fun _ _ _ _ => rfl, h.aftS hr h0 h1 a1 a2 (fun b e hb n1 n2 n3 => a6 b e hb n1 (fun q0 hq0 => ⟨by rw [h0]; exact n2, by rw [h1]; exact n3⟩)), a2.2.1 p hp⟩
end XAF
