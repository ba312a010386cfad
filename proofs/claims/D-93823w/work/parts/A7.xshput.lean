/-! x: a shelf is filled anew -/
set_option maxRecDepth 100000
theorem wCt_cg {G : GG} {aw aw2 : Nat → Nat} {rr : Option Nat} {S : WS} (h : ∀ i, i < 8 → aw2 i = aw i) (i : Nat) : wCt G aw2 rr S i = wCt G aw rr S i := by
  unfold wCt
  by_cases z : i = 0
  · rw [if_pos z, if_pos z]
    unfold wFs
    rw [h 1 (by omega), h 2 (by omega), h 3 (by omega), h 4 (by omega), h 5 (by omega), h 6 (by omega), h 7 (by omega)]
  · rw [if_neg z, if_neg z]
theorem dFs_cg {a b : Nat} {sd : Int32} {dy : Nat → Int32} (h : a = b) : dFs a sd dy = dFs b sd dy := by rw [h]
theorem XT.shput {G : GG} {w w1 : GW} {xa : Nat → Nat} {rr : Option Nat} {o o2 : OS} {im : IM} (h : XT G w xa rr o im) {s : Nat} (hs : s < 8) (ho : o2.1 = o.1 ∧ o2.2.1 = o.2.1 ∧ o2.2.2.1 = o.2.2.1 ∧ o2.2.2.2.2.2 = o.2.2.2.2.2) (hoth : ∀ t, t ≠ s → (∀ f, o2.2.2.2.1 f t = o.2.2.2.1 f t) ∧ o2.2.2.2.2.1 t = o.2.2.2.2.1 t) (hk : ∀ a e, w a = some e → w1 a = some e) {q tq : Nat} {eq : va_E} {et : Option va_E} (hq : w q = none) (h1q : w1 q = some eq) (ht : ∀ e, et = some e → w tq = none ∧ w1 tq = some e ∧ tq ≠ q) (hsh : ∀ (xa2 : Nat → Nat) (C2 : Nat → Option va_E), xa2 (40 + s) = q → xa2 (50 + s) = tq → C2 (30 + s) = some (.inr (3, [.ref q])) → C2 (40 + s) = some eq → C2 (50 + s) = et → ShC G xa2 C2 o2 s) : ∃ xa2, (∀ k, k ≠ 40 + s → k ≠ 50 + s → xa2 k = xa k) ∧ XT G (gu w1 (xa (30 + s)) (.inr (3, [.ref q]))) xa2 rr o2 im := by
  obtain ⟨C, hW, hC⟩ := h
  obtain ⟨e30, h30⟩ : ∃ e, C (30 + s) = some e := by
    rcases hC.cs s hs with ⟨-, q⟩ | ⟨-, q, -⟩ | ⟨-, q, -⟩
    · exact ⟨_, q⟩
    · exact ⟨_, q⟩
    · exact ⟨_, q⟩
  let xa2 : Nat → Nat := fun k => if k = 40 + s then q else if k = 50 + s then tq else xa k
  have nx : ∀ k, k ≠ 40 + s → k ≠ 50 + s → xa2 k = xa k := fun k a b => by show (if k = 40 + s then _ else if k = 50 + s then _ else xa k) = _; rw [if_neg a, if_neg b]
  have x40 : xa2 (40 + s) = q := if_pos rfl
  have x50 : xa2 (50 + s) = tq := by show (if 50 + s = 40 + s then _ else if 50 + s = 50 + s then _ else xa (50 + s)) = _; rw [if_neg (by omega), if_pos rfl]
  let C2 : Nat → Option va_E := fun k => if k = 40 + s then some eq else if k = 50 + s then et else if k = 30 + s then some (.inr (3, [.ref q])) else C k
  have n2 : ∀ k, k ≠ 40 + s → k ≠ 50 + s → k ≠ 30 + s → C2 k = C k := fun k a b c => by show (if k = 40 + s then _ else if k = 50 + s then _ else if k = 30 + s then _ else C k) = _; rw [if_neg a, if_neg b, if_neg c]
  have e40 : C2 (40 + s) = some eq := if_pos rfl
  have e50 : C2 (50 + s) = et := by show (if 50 + s = 40 + s then _ else if 50 + s = 50 + s then _ else if 50 + s = 30 + s then _ else C (50 + s)) = _; rw [if_neg (by omega), if_pos rfl]
  have e3 : C2 (30 + s) = some (.inr (3, [.ref q])) := by show (if 30 + s = 40 + s then _ else if 30 + s = 50 + s then _ else if 30 + s = 30 + s then _ else C (30 + s)) = _; rw [if_neg (by omega), if_neg (by omega), if_pos rfl]
  have w30 := hW.1 _ _ h30
  have hfr : ∀ a, w a = none → a ≠ xa (30 + s) := fun a ha z => by rw [z, w30] at ha; cases ha
  have pos : ∀ k e, C2 k = some e → gu w1 (xa (30 + s)) (.inr (3, [.ref q])) (xa2 k) = some e := by
    intro k e he
    by_cases a : k = 40 + s
    · subst a
      rw [e40] at he; cases he
      rw [x40, gu_n (hfr q hq)]; exact h1q
    by_cases b : k = 50 + s
    · subst b
      rw [e50] at he
      obtain ⟨t1, t2, t3⟩ := ht e he
      rw [x50, gu_n (hfr tq t1)]; exact t2
    by_cases c : k = 30 + s
    · subst c
      rw [e3] at he; cases he
      rw [nx _ a b, gu_s]
    rw [n2 k a b c] at he
    rw [nx k a b, gu_n (hW.ne he h30 c)]
    exact hk _ _ (hW.1 _ _ he)
  have old : ∀ k, k ≠ 40 + s → k ≠ 50 + s → C2 k ≠ none → C k ≠ none ∧ ∃ e, w (xa k) = some e := by
    intro k a b hn
    by_cases c : k = 30 + s
    · subst c
      exact ⟨by rw [h30]; exact Option.some_ne_none _, _, w30⟩
    · rw [n2 k a b c] at hn
      obtain ⟨e, he⟩ := Option.ne_none_iff_exists'.mp hn
      exact ⟨hn, e, hW.1 _ _ he⟩
  have new : ∀ k, k = 40 + s ∨ k = 50 + s → C2 k ≠ none → w (xa2 k) = none := by
    intro k hk2 hn
    rcases hk2 with rfl | rfl
    · rw [x40]; exact hq
    · rw [e50] at hn
      obtain ⟨e, he⟩ := Option.ne_none_iff_exists'.mp hn
      rw [x50]; exact (ht e he).1
  have inj : ∀ i j, C2 i ≠ none → C2 j ≠ none → xa2 i = xa2 j → i = j := by
    intro i j hi hj e
    by_cases a : i = 40 + s ∨ i = 50 + s
    · by_cases b : j = 40 + s ∨ j = 50 + s
      · have key : C2 (50 + s) ≠ none → xa2 (50 + s) ≠ xa2 (40 + s) := fun hn z => by
          rw [e50] at hn
          obtain ⟨e9, he⟩ := Option.ne_none_iff_exists'.mp hn
          rw [x40, x50] at z
          exact (ht e9 he).2.2 z
        rcases a with rfl | rfl <;> rcases b with rfl | rfl
        · rfl
        · exact absurd e.symm (key hj)
        · exact absurd e (key hi)
        · rfl
      · obtain ⟨-, e9, h9⟩ := old j (fun q => b (Or.inl q)) (fun q => b (Or.inr q)) hj
        have := new i a hi
        rw [e, nx j (fun q => b (Or.inl q)) (fun q => b (Or.inr q)), h9] at this
        cases this
    · by_cases b : j = 40 + s ∨ j = 50 + s
      · obtain ⟨-, e9, h9⟩ := old i (fun q => a (Or.inl q)) (fun q => a (Or.inr q)) hi
        have := new j b hj
        rw [← e, nx i (fun q => a (Or.inl q)) (fun q => a (Or.inr q)), h9] at this
        cases this
      · obtain ⟨c1, -⟩ := old i (fun q => a (Or.inl q)) (fun q => a (Or.inr q)) hi
        obtain ⟨c2, -⟩ := old j (fun q => b (Or.inl q)) (fun q => b (Or.inr q)) hj
        rw [nx i (fun q => a (Or.inl q)) (fun q => a (Or.inr q)), nx j (fun q => b (Or.inl q)) (fun q => b (Or.inr q))] at e
        exact hW.2 i j c1 c2 e
  obtain ⟨o1, oa, ob, oc⟩ := ho
  have hw5 : ∀ i, i < 8 → (fun i => xa2 (5 + i)) i = (fun i => xa (5 + i)) i := fun i hi => nx _ (by omega) (by omega)
  have hw21 : ∀ i, i < 8 → (fun i => xa2 (21 + i)) i = (fun i => xa (21 + i)) i := fun i hi => nx _ (by omega) (by omega)
  refine ⟨xa2, nx, C2, ⟨pos, inj⟩, ⟨?_, ?_, ?_, ?_, ?_, ?_, ?_, ?_, ?_, ?_⟩⟩
  · rw [n2 _ (by omega) (by omega) (by omega), hC.c0, oc]
    unfold xFs
    rw [nx 4 (by omega) (by omega), nx 20 (by omega) (by omega), nx 1 (by omega) (by omega), nx 2 (by omega) (by omega), nx 3 (by omega) (by omega)]
  · rw [n2 _ (by omega) (by omega) (by omega), hC.c1]
    have : shF xa2 = shF xa := by
      funext j
      unfold shF
      by_cases hj : j < 8
      · rw [if_pos hj, if_pos hj, nx _ (by omega) (by omega)]
      · rw [if_neg hj, if_neg hj]
    rw [this]
  · rw [n2 _ (by omega) (by omega) (by omega), oc]; exact hC.c2
  · rw [n2 _ (by omega) (by omega) (by omega), oc]; exact hC.c3
  · rw [n2 _ (by omega) (by omega) (by omega), hC.c4, nx 5 (by omega) (by omega), oa, ob]
  · intro i hi
    rw [n2 _ (by omega) (by omega) (by omega), hC.cw i hi, wCt_cg hw5 i, o1]
  · rcases hC.cr with h1 | ⟨h1, ro, T, h2, h3, h4, h5, h6, h7⟩
    · exact Or.inl h1
    · exact Or.inr ⟨by rw [h1, nx 13 (by omega) (by omega)], ro, T, by rw [h2, nx 14 (by omega) (by omega)], by rw [h3, nx 15 (by omega) (by omega)], by rw [n2 _ (by omega) (by omega) (by omega)]; exact h4, by rw [n2 _ (by omega) (by omega) (by omega)]; exact h5, by rw [n2 _ (by omega) (by omega) (by omega)]; exact h6, h7⟩
  · intro S2 dy sd hi
    obtain ⟨g1, g2, g3⟩ := hC.ci S2 dy sd hi
    refine ⟨by rw [n2 _ (by omega) (by omega) (by omega), nx 21 (by omega) (by omega)]; exact g1, fun i hi2 => ?_, g3⟩
    rw [n2 _ (by omega) (by omega) (by omega), g2 i hi2, wCt_cg hw21 i]
  · intro t ht2
    by_cases hts : t = s
    · subst hts
      exact hsh xa2 C2 x40 x50 e3 e40 e50
    · obtain ⟨f1, f2⟩ := hoth t hts
      have := hC.cs t ht2
      unfold ShC at this ⊢
      rw [n2 _ (by omega) (by omega) (by omega), n2 _ (by omega) (by omega) (by omega), n2 _ (by omega) (by omega) (by omega), nx (40 + t) (by omega) (by omega), nx (50 + t) (by omega) (by omega)]
      simp only [f1, f2]
      exact this
  · rw [o1]; exact hC.cn
/-- a rule is put on a shelf -/
theorem XT.setrule {G : GG} {w w1 : GW} {xa : Nat → Nat} {rr : Option Nat} {o : OS} {im : IM} (h : XT G w xa rr o im) {s : Nat} (hs : s < 8) {q kd ra : Nat} (hm : MadeR G w w1 q kd ra) (hq : w q = none) : ∃ xa2, (∀ k, k ≠ 40 + s → k ≠ 50 + s → xa2 k = xa k) ∧ XT G (gu w1 (xa (30 + s)) (.inr (3, [.ref q]))) xa2 rr (setRule o s kd ra) im := by
  obtain ⟨tq, m1, m2, m3⟩ := hm
  refine h.shput (o2 := setRule o s kd ra) hs ⟨rfl, rfl, rfl, rfl⟩ (fun t ht => ⟨fun f => if_neg (fun z => ht z.1), rfl⟩) (fun a e he => m3 a e (fun z => by rw [z, hq] at he; cases he) he) (tq := tq) (et := if kd = 6 then some (.inl (G.2.1 1, 125, .inr (.inl (fun _ => 0)))) else none) hq m1 (fun e he => ?_) (fun xa2 C2 x4 x5 c3 c4 c5 => ?_)
  · by_cases h6 : kd = 6
    · rw [if_pos h6] at he
      cases he
      obtain ⟨a1, a2, a3⟩ := m2 h6
      exact ⟨a3, a1, a2⟩
    · rw [if_neg h6] at he; cases he
  · have e0 : (setRule o s kd ra).2.2.2.1 0 s = 2 := if_pos ⟨rfl, Or.inl rfl⟩
    have ek : (setRule o s kd ra).2.2.2.1 3 s = kd := if_pos ⟨rfl, Or.inr (by decide)⟩
    have ea : (setRule o s kd ra).2.2.2.1 4 s = ra := if_pos ⟨rfl, Or.inr (by decide)⟩
    refine Or.inr (Or.inr ⟨e0, by rw [x4]; exact c3, by rw [ek, ea, x5]; exact c4, fun h6 => ?_⟩)
    rw [ek] at h6
    exact ⟨fun _ => 0, by rw [c5, if_pos h6], fun j _ => rfl⟩
/-- a row of noughts is put on a shelf -/
theorem XT.setrow {G : GG} {w : GW} {xa : Nat → Nat} {rr : Option Nat} {o : OS} {im : IM} (h : XT G w xa rr o im) {s : Nat} (hs : s < 8) {q k n : Nat} (hk : k ≤ 4) (hq : w q = none) : ∃ xa2, (∀ k, k ≠ 40 + s → k ≠ 50 + s → xa2 k = xa k) ∧ XT G (gu (gu w q (rowE G k n (fun _ => 0))) (xa (30 + s)) (.inr (3, [.ref q]))) xa2 rr (setRow o s k n) im := by
  have e0 : (setRow o s k n).2.2.2.1 0 s = 1 := if_pos ⟨rfl, by decide⟩
  have ek : (setRow o s k n).2.2.2.1 1 s = k := if_pos ⟨rfl, by decide⟩
  have en : (setRow o s k n).2.2.2.1 2 s = n := if_pos ⟨rfl, by decide⟩
  have ez : (setRow o s k n).2.2.2.2.1 s = fun _ => 0 := by funext i; exact if_pos rfl
  refine h.shput (o2 := setRow o s k n) hs ⟨rfl, rfl, rfl, rfl⟩ (fun t ht => ⟨fun f => if_neg (fun z => ht z.1), by funext i; exact if_neg ht⟩) (fun a e he => gu_f hq he) (tq := 0) (et := none) hq gu_s (fun e he => by cases he) (fun xa2 C2 x4 x5 c3 c4 c5 => ?_)
  refine Or.inr (Or.inl ⟨e0, by rw [x4]; exact c3, fun _ => 0, by rw [ek, en]; exact c4, ?_, fun i _ => by rw [ez]⟩)
  rw [ek, en]
  intro j _
  unfold fitV
  rcases (show k = 0 ∨ k = 1 ∨ k = 2 ∨ k = 3 ∨ k = 4 by omega) with rfl | rfl | rfl | rfl | rfl <;> rfl
