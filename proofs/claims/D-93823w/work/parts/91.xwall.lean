/-! x: a new wall -/
set_option maxRecDepth 100000
def wall0 : WS := (fun k j => if k = 0 ∧ j < 3 then 2 else if k = 2 ∧ j < 3 then 3 else 0, fun k => if k = 2 then 5 else 0)
/-- a wall under way: n of its arrays stand -/
def PWI (w0 w : GW) (q n : Nat) (aw : Nat → Nat) (ct : Nat → va_E) : Prop := Sx w aw (fun i => decide (i ≤ n)) ct ∧ aw 0 = q ∧ (∀ b e, b ≠ q → w0 b = some e → w b = some e) ∧ ∀ i, 1 ≤ i → i ≤ n → w0 (aw i) = none
theorem PWI.start {w0 : GW} {q : Nat} {e : va_E} (h : w0 q = some e) : PWI w0 w0 q 0 (fun _ => q) (fun _ => e) :=
  ⟨⟨fun i hi => h, fun i j hi hj _ => by simp at hi hj; omega⟩, rfl, fun _ _ _ h => h, fun i h1 h2 => by omega⟩
theorem PWI.ob {w0 w : GW} {q n : Nat} {aw : Nat → Nat} {ct : Nat → va_E} (h : PWI w0 w q n aw ct) : w q = some (ct 0) := by rw [← h.2.1]; exact h.1.1 0 (by simp)
theorem PWI.step {w0 w : GW} {q n : Nat} {aw : Nat → Nat} {ct : Nat → va_E} (h : PWI w0 w q n aw ct) {a : Nat} (ha : w a = none) (e : va_E) (eo : va_E) : PWI w0 (gu (gu w a e) q eo) q (n + 1) (fun i => if i = n + 1 then a else aw i) (fun i => if i = n + 1 then e else if i = 0 then eo else ct i) := by
  have hq := h.ob
  obtain ⟨⟨h1, h2⟩, h3, h4, h5⟩ := h
  have hqa : q ≠ a := fun z => by rw [z, ha] at hq; cases hq
  have hna : ∀ i, i ≤ n → aw i ≠ a := fun i hi z => by have := h1 i (by simpa using hi); rw [z, ha] at this; cases this
  refine ⟨⟨fun i hi => ?_, fun i j hi hj z => ?_⟩, ?_, fun b e2 hb he => ?_, fun i hi1 hi2 => ?_⟩
  · simp only [decide_eq_true_eq] at hi
    show gu (gu w a e) q eo (if i = n + 1 then a else aw i) = some (if i = n + 1 then e else if i = 0 then eo else ct i)
    by_cases hin : i = n + 1
    · rw [if_pos hin, if_pos hin, gu_n (Ne.symm hqa), gu_s]
    · rw [if_neg hin, if_neg hin]
      by_cases h0 : i = 0
      · rw [if_pos h0, h0, h3, gu_s]
      · rw [if_neg h0, gu_n (fun z => h0 (h2 i 0 (by simp; omega) (by simp) (z.trans h3.symm))), gu_n (hna i (by omega))]
        exact h1 i (by simp; omega)
  · simp only [decide_eq_true_eq] at hi hj
    replace z : (if i = n + 1 then a else aw i) = (if j = n + 1 then a else aw j) := z
    by_cases hin : i = n + 1
    · by_cases hjn : j = n + 1
      · omega
      · rw [if_pos hin, if_neg hjn] at z
        exact absurd z.symm (hna j (by omega))
    · by_cases hjn : j = n + 1
      · rw [if_neg hin, if_pos hjn] at z
        exact absurd z (hna i (by omega))
      · rw [if_neg hin, if_neg hjn] at z
        exact h2 i j (by simp; omega) (by simp; omega) z
  · show (if 0 = n + 1 then a else aw 0) = q
    rw [if_neg (by omega)]; exact h3
  · have := h4 b e2 hb he
    rw [gu_n hb]
    exact gu_f ha this
  · show w0 (if i = n + 1 then a else aw i) = none
    by_cases hin : i = n + 1
    · rw [if_pos hin]
      cases hw : w0 a with
      | none => rfl
      | some e2 =>
        have := h4 a e2 (Ne.symm hqa) hw
        rw [ha] at this; cases this
    · rw [if_neg hin]; exact h5 i hi1 (by omega)
theorem PWI.way {w0 w : GW} {q n : Nat} {aw : Nat → Nat} {ct : Nat → va_E} (h : PWI w0 w q n aw ct) (eo : va_E) : PWI w0 (gu w q eo) q n aw (fun i => if i = 0 then eo else ct i) := by
  obtain ⟨h1, h3, h4, h5⟩ := h
  refine ⟨?_, h3, fun b e2 hb he => by rw [gu_n hb]; exact h4 b e2 hb he, h5⟩
  have := Sx.put (k := 0) (e := eo) (ct2 := fun i => if i = 0 then eo else ct i) h1 (by simp) (if_pos rfl) (fun i _ hi => if_neg hi)
  rw [h3] at this
  exact this
theorem u3 {x : Int32} : upd (upd (upd (fun _ => 0) 0 x) 1 x) 2 x = fun j => if j < 3 then x else 0 := by
  funext j
  simp only [upd]
  by_cases h2 : j = 2
  · subst h2; rfl
  · by_cases h1 : j = 1
    · subst h1; rfl
    · by_cases h0 : j = 0
      · subst h0; rfl
      · rw [if_neg h2, if_neg h1, if_neg h0, if_neg (by omega)]
theorem PWI.done {G : GG} {w0 w : GW} {q : Nat} {aw : Nat → Nat} {ct : Nat → va_E} (h : PWI w0 w q 7 aw ct) {S : WS} (hc : ∀ i, i < 8 → wCt G aw none S i = ct i) : WallW G w aw none S := by
  refine ⟨fun i hi => ?_, fun i j hi hj => h.1.2 i j ?_ ?_⟩
  · simp only [wP, decide_eq_true_eq] at hi
    rw [hc i hi]
    exact h.1.1 i (by simp; omega)
  · simp only [wP, decide_eq_true_eq] at hi; simp; omega
  · simp only [wP, decide_eq_true_eq] at hj; simp; omega
set_option maxHeartbeats 2000000 in
theorem m_X2_init {l : Launch} {G : GG} {w : GW} {q : Nat} (hq : w q = some (.inr (2, [.null, .null, .null, .null, .null, .null, .null, .null, .int 0, .int 0, .int 0]))) : gM l G yX2_init cX2_init 1 none 3 7 33 [.ref (q)] w (pV (fun w1 => ∃ aw : Nat → Nat, aw 0 = q ∧ WallW G w1 aw none wall0 ∧ (∀ b e, b ≠ q → w b = some e → w1 b = some e) ∧ ∀ i, 1 ≤ i → i ≤ 7 → w (aw i) = none)) := by
  refine Z.met (own := "ThreeSizes$Wall") (nm := "<init>") (lv := [(0, .ref (q))]) (by decide) rfl rfl (Nat.le_of_ble_eq_true rfl) rfl (fun κ X => ?_)
  have hP0 := PWI.start hq
  refine z_aload_n X dX2_init_0 rfl 0 rfl ?_
  refine z_objInit X dX2_init_1 q121 q108 q109 (Nat.le_of_ble_eq_true rfl) (Nat.le_of_ble_eq_true rfl) ?_
  refine z_aload_n X dX2_init_4 rfl 0 rfl ?_
  refine z_iconst (v := nI (3)) X dX2_init_5 ci3 ?_
  refine z_newi X (3) dX2_init_6 q188 (nI_pos (by omega)) (nI_clamp (by omega)) (by simp only [componentBytes]; omega) (by omega) (by omega) (fun q1 hq1 => ?_)
  refine z_dup X dX2_init_8 rfl ?_
  refine z_iconst (v := nI (0)) X dX2_init_9 ci0 ?_
  refine z_iconst (v := nI (2)) X dX2_init_10 ci2 ?_
  refine z_isN X dX2_init_11 gu_s (by omega) (by omega) ?_
  rw [gu_gu]
  refine z_dup X dX2_init_12 rfl ?_
  refine z_iconst (v := nI (1)) X dX2_init_13 ci1 ?_
  refine z_iconst (v := nI (2)) X dX2_init_14 ci2 ?_
  refine z_isN X dX2_init_15 gu_s (by omega) (by omega) ?_
  rw [gu_gu]
  refine z_dup X dX2_init_16 rfl ?_
  refine z_iconst (v := nI (2)) X dX2_init_17 ci2 ?_
  refine z_iconst (v := nI (2)) X dX2_init_18 ci2 ?_
  refine z_isN X dX2_init_19 gu_s (by omega) (by omega) ?_
  rw [gu_gu]
  refine z_putF X dX2_init_20 (gu_f hq1 hP0.ob) in_X2 tyX2 tyX2_ok nmX2 rfl 0 (Nat.le_of_ble_eq_true rfl) q122 rfl rfl rfl rfl rfl (Nat.le_of_ble_eq_true rfl) ?_
  have hP1 := hP0.step hq1 (.inl (G.2.1 0, 3, .inl (upd (upd (upd (fun _ => 0) 0 (nI (2))) 1 (nI (2))) 2 (nI (2))))) (.inr (2, [.ref (q1), .null, .null, .null, .null, .null, .null, .null, .int (0), .int (0), .int (0)]))
  refine z_aload_n X dX2_init_23 rfl 0 rfl ?_
  refine z_iconst (v := nI (3)) X dX2_init_24 ci3 ?_
  refine z_newi X (3) dX2_init_25 q188 (nI_pos (by omega)) (nI_clamp (by omega)) (by simp only [componentBytes]; omega) (by omega) (by omega) (fun q2 hq2 => ?_)
  refine z_putF X dX2_init_27 (gu_f hq2 hP1.ob) in_X2 tyX2 tyX2_ok nmX2 rfl 1 (Nat.le_of_ble_eq_true rfl) q126 rfl rfl rfl rfl rfl (Nat.le_of_ble_eq_true rfl) ?_
  have hP2 := hP1.step hq2 (.inl (G.2.1 0, 3, .inl (fun _ => 0))) (.inr (2, [.ref (q1), .ref (q2), .null, .null, .null, .null, .null, .null, .int (0), .int (0), .int (0)]))
  refine z_aload_n X dX2_init_30 rfl 0 rfl ?_
  refine z_iconst (v := nI (3)) X dX2_init_31 ci3 ?_
  refine z_newi X (3) dX2_init_32 q188 (nI_pos (by omega)) (nI_clamp (by omega)) (by simp only [componentBytes]; omega) (by omega) (by omega) (fun q3 hq3 => ?_)
  refine z_dup X dX2_init_34 rfl ?_
  refine z_iconst (v := nI (0)) X dX2_init_35 ci0 ?_
  refine z_iconst (v := nI (3)) X dX2_init_36 ci3 ?_
  refine z_isN X dX2_init_37 gu_s (by omega) (by omega) ?_
  rw [gu_gu]
  refine z_dup X dX2_init_38 rfl ?_
  refine z_iconst (v := nI (1)) X dX2_init_39 ci1 ?_
  refine z_iconst (v := nI (3)) X dX2_init_40 ci3 ?_
  refine z_isN X dX2_init_41 gu_s (by omega) (by omega) ?_
  rw [gu_gu]
  refine z_dup X dX2_init_42 rfl ?_
  refine z_iconst (v := nI (2)) X dX2_init_43 ci2 ?_
  refine z_iconst (v := nI (3)) X dX2_init_44 ci3 ?_
  refine z_isN X dX2_init_45 gu_s (by omega) (by omega) ?_
  rw [gu_gu]
  refine z_putF X dX2_init_46 (gu_f hq3 hP2.ob) in_X2 tyX2 tyX2_ok nmX2 rfl 2 (Nat.le_of_ble_eq_true rfl) q130 rfl rfl rfl rfl rfl (Nat.le_of_ble_eq_true rfl) ?_
  have hP3 := hP2.step hq3 (.inl (G.2.1 0, 3, .inl (upd (upd (upd (fun _ => 0) 0 (nI (3))) 1 (nI (3))) 2 (nI (3))))) (.inr (2, [.ref (q1), .ref (q2), .ref (q3), .null, .null, .null, .null, .null, .int (0), .int (0), .int (0)]))
  refine z_aload_n X dX2_init_49 rfl 0 rfl ?_
  refine z_bipush (v := nI (6)) X dX2_init_50 (by decide) ?_
  refine z_newi X (6) dX2_init_52 q188 (nI_pos (by omega)) (nI_clamp (by omega)) (by simp only [componentBytes]; omega) (by omega) (by omega) (fun q4 hq4 => ?_)
  refine z_putF X dX2_init_54 (gu_f hq4 hP3.ob) in_X2 tyX2 tyX2_ok nmX2 rfl 3 (Nat.le_of_ble_eq_true rfl) q135 rfl rfl rfl rfl rfl (Nat.le_of_ble_eq_true rfl) ?_
  have hP4 := hP3.step hq4 (.inl (G.2.1 0, 6, .inl (fun _ => 0))) (.inr (2, [.ref (q1), .ref (q2), .ref (q3), .ref (q4), .null, .null, .null, .null, .int (0), .int (0), .int (0)]))
  refine z_aload_n X dX2_init_57 rfl 0 rfl ?_
  refine z_bipush (v := nI (6)) X dX2_init_58 (by decide) ?_
  refine z_newi X (6) dX2_init_60 q188 (nI_pos (by omega)) (nI_clamp (by omega)) (by simp only [componentBytes]; omega) (by omega) (by omega) (fun q5 hq5 => ?_)
  refine z_putF X dX2_init_62 (gu_f hq5 hP4.ob) in_X2 tyX2 tyX2_ok nmX2 rfl 4 (Nat.le_of_ble_eq_true rfl) q138 rfl rfl rfl rfl rfl (Nat.le_of_ble_eq_true rfl) ?_
  have hP5 := hP4.step hq5 (.inl (G.2.1 0, 6, .inl (fun _ => 0))) (.inr (2, [.ref (q1), .ref (q2), .ref (q3), .ref (q4), .ref (q5), .null, .null, .null, .int (0), .int (0), .int (0)]))
  refine z_aload_n X dX2_init_65 rfl 0 rfl ?_
  refine z_bipush (v := nI (6)) X dX2_init_66 (by decide) ?_
  refine z_newi X (6) dX2_init_68 q188 (nI_pos (by omega)) (nI_clamp (by omega)) (by simp only [componentBytes]; omega) (by omega) (by omega) (fun q6 hq6 => ?_)
  refine z_putF X dX2_init_70 (gu_f hq6 hP5.ob) in_X2 tyX2 tyX2_ok nmX2 rfl 5 (Nat.le_of_ble_eq_true rfl) q142 rfl rfl rfl rfl rfl (Nat.le_of_ble_eq_true rfl) ?_
  have hP6 := hP5.step hq6 (.inl (G.2.1 0, 6, .inl (fun _ => 0))) (.inr (2, [.ref (q1), .ref (q2), .ref (q3), .ref (q4), .ref (q5), .ref (q6), .null, .null, .int (0), .int (0), .int (0)]))
  refine z_aload_n X dX2_init_73 rfl 0 rfl ?_
  refine z_bipush (v := nI (6)) X dX2_init_74 (by decide) ?_
  refine z_newi X (6) dX2_init_76 q188 (nI_pos (by omega)) (nI_clamp (by omega)) (by simp only [componentBytes]; omega) (by omega) (by omega) (fun q7 hq7 => ?_)
  refine z_putF X dX2_init_78 (gu_f hq7 hP6.ob) in_X2 tyX2 tyX2_ok nmX2 rfl 6 (Nat.le_of_ble_eq_true rfl) q147 rfl rfl rfl rfl rfl (Nat.le_of_ble_eq_true rfl) ?_
  have hP7 := hP6.step hq7 (.inl (G.2.1 0, 6, .inl (fun _ => 0))) (.inr (2, [.ref (q1), .ref (q2), .ref (q3), .ref (q4), .ref (q5), .ref (q6), .ref (q7), .null, .int (0), .int (0), .int (0)]))
  refine z_aload_n X dX2_init_81 rfl 0 rfl ?_
  refine z_iconst (v := nI (5)) X dX2_init_82 ci5 ?_
  refine z_put X dX2_init_83 hP7.ob in_X2 tyX2 tyX2_ok nmX2 rfl 10 (Nat.le_of_ble_eq_true rfl) q161 rfl rfl rfl (Nat.le_of_ble_eq_true rfl) ?_
  have hP8 := hP7.way (.inr (2, [.ref (q1), .ref (q2), .ref (q3), .ref (q4), .ref (q5), .ref (q6), .ref (q7), .null, .int (0), .int (0), .int (nI (5))]))
  refine z_vret X dX2_init_86 (by omega) (by omega) ⟨rfl, _, hP8.2.1, hP8.done (S := wall0) (fun i hi => ?_), hP8.2.2.1, hP8.2.2.2⟩
  rcases (show i = 0 ∨ i = 1 ∨ i = 2 ∨ i = 3 ∨ i = 4 ∨ i = 5 ∨ i = 6 ∨ i = 7 by omega) with rfl | rfl | rfl | rfl | rfl | rfl | rfl | rfl
  · rfl
  · exact congrArg (fun f => (Sum.inl (G.2.1 0, 3, Sum.inl f) : va_E)) ((funext fun j => by show nI (if _ ∧ j < 3 then _ else _) = if j < 3 then _ else _; by_cases h : j < 3 <;> simp [h, wall0, nI_0]).trans (u3 (x := nI 2)).symm)
  · exact congrArg (fun f => (Sum.inl (G.2.1 0, 3, Sum.inl f) : va_E)) (funext fun j => by simp [wall0, nI_0])
  · exact congrArg (fun f => (Sum.inl (G.2.1 0, 3, Sum.inl f) : va_E)) ((funext fun j => by show nI (if _ ∧ j < 3 then _ else _) = if j < 3 then _ else _; by_cases h : j < 3 <;> simp [h, wall0, nI_0]).trans (u3 (x := nI 3)).symm)
  · exact congrArg (fun f => (Sum.inl (G.2.1 0, 6, Sum.inl f) : va_E)) (funext fun j => by simp [wall0, nI_0])
  · exact congrArg (fun f => (Sum.inl (G.2.1 0, 6, Sum.inl f) : va_E)) (funext fun j => by simp [wall0, nI_0])
  · exact congrArg (fun f => (Sum.inl (G.2.1 0, 6, Sum.inl f) : va_E)) (funext fun j => by simp [wall0, nI_0])
  · exact congrArg (fun f => (Sum.inl (G.2.1 0, 6, Sum.inl f) : va_E)) (funext fun j => by simp [wall0, nI_0])
