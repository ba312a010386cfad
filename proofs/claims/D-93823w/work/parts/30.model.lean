/-! THE MODEL: its cells by number, its state as functions -/
set_option maxRecDepth 100000
abbrev MSt : Type := (Nat → Nat → Int32) × (Nat → Nat → Int64) × (Nat → Int32) × (Nat → Int64) × (Nat → Option Nat)
def mFs (ad : Nat → Nat) (m : MSt) : List Value := [.ref (ad 1), .ref (ad 2), .ref (ad 3), .ref (ad 4), .ref (ad 5), .ref (ad 6), .ref (ad 7), .ref (ad 8), .int (m.2.2.1 8), .ref (ad 10), .ref (ad 11), .ref (ad 12), .ref (ad 13), .int (m.2.2.1 13), .ref (ad 15), .ref (ad 16), .ref (ad 17), .int (m.2.2.1 17), va_rf (m.2.2.2.2 18), va_rf (m.2.2.2.2 19), .int (m.2.2.1 20), .int (m.2.2.1 21), .int (m.2.2.1 22), .long (m.2.2.2.1 23), .int (m.2.2.1 24), .ref (ad 26), .int (m.2.2.1 26), .ref (ad 28), .ref (ad 29), .ref (ad 30), .ref (ad 31), .ref (ad 32), .ref (ad 33), .long (m.2.2.2.1 33), .int (m.2.2.1 34), .int (m.2.2.1 35), .int (m.2.2.1 36), .int (m.2.2.1 37)]
def mP (i : Nat) : Bool := decide (i < 9 ∨ (10 ≤ i ∧ i < 14) ∨ (15 ≤ i ∧ i < 18) ∨ i = 26 ∨ (28 ≤ i ∧ i < 34) ∨ (40 ≤ i ∧ i < 48) ∨ (50 ≤ i ∧ i < 56) ∨ (60 ≤ i ∧ i < 66) ∨ (70 ≤ i ∧ i < 95))
def mLen (i : Nat) : Nat := if 70 ≤ i then 125 else if 60 ≤ i then 125 else if 50 ≤ i then 4 else if 40 ≤ i then 40 else if i = 8 then 200 else if i = 5 then 40 else if i = 16 then 2 else if i = 17 then 6 else if i = 26 then 1 else if i = 30 then 125 else if 31 ≤ i then 6 else if 11 ≤ i then 3 else 8
/-- 0: ints, 1: longs, 2: references or the object -/
def mK (i : Nat) : Nat := if i = 0 then 2 else if i = 4 then 2 else if i = 15 then 2 else if i = 28 then 2 else if i = 29 then 2 else if i = 5 then 1 else if i = 30 then 1 else if 70 ≤ i then 1 else if 40 ≤ i ∧ i < 48 then 1 else 0
def mOut (G : GG) (ad : Nat → Nat) (i : Nat) : va_E := if i = 4 then .inl (G.2.1 6, 8, .inr (.inr (.inr (.inr (fun j => some (ad (40 + j))))))) else if i = 15 then .inl (G.2.1 5, 6, .inr (.inr (.inr (.inr (fun j => some (ad (50 + j))))))) else if i = 28 then .inl (G.2.1 5, 6, .inr (.inr (.inr (.inr (fun j => some (ad (60 + j))))))) else .inl (G.2.1 6, 25, .inr (.inr (.inr (.inr (fun j => some (ad (70 + j)))))))
def mCt (G : GG) (ad : Nat → Nat) (m : MSt) (i : Nat) : va_E := if i = 0 then .inr (4, mFs ad m) else if mK i = 0 then .inl (G.2.1 0, mLen i, .inl (m.1 i)) else if mK i = 1 then .inl (G.2.1 1, mLen i, .inr (.inl (m.2.1 i))) else mOut G ad i
def MW (G : GG) (w : GW) (ad : Nat → Nat) (m : MSt) : Prop := Sx w ad mP (mCt G ad m)
/-- the model at ad, in a world that was wb and is changed there alone -/
def MRf (wb : GW) (ad : Nat → Nat) (m : MSt) : Prop := ∃ fs : List Value, wb (ad 0) = some (.inr (4, fs)) ∧ fs[18]? = some (va_rf (m.2.2.2.2 18)) ∧ fs[19]? = some (va_rf (m.2.2.2.2 19))
def MM (G : GG) (wb w : GW) (ad : Nat → Nat) (m : MSt) : Prop := MW G w ad m ∧ (∀ b, (∀ i, mP i = true → b ≠ ad i) → w b = wb b) ∧ MRf wb ad m
def mI (m : MSt) (c j : Nat) (x : Int32) : MSt := (fun c2 => if c2 = c then upd (m.1 c) j x else m.1 c2, m.2)
def mL (m : MSt) (c j : Nat) (x : Int64) : MSt := (m.1, fun c2 => if c2 = c then vp_updL (m.2.1 c) j x else m.2.1 c2, m.2.2)
def mF (m : MSt) (k : Nat) (x : Int32) : MSt := (m.1, m.2.1, fun k2 => if k2 = k then x else m.2.2.1 k2, m.2.2.2)
def mG (m : MSt) (k : Nat) (x : Int64) : MSt := (m.1, m.2.1, m.2.2.1, fun k2 => if k2 = k then x else m.2.2.2.1 k2, m.2.2.2.2)
def mR (m : MSt) (k : Nat) (x : Option Nat) : MSt := (m.1, m.2.1, m.2.2.1, m.2.2.2.1, fun k2 => if k2 = k then x else m.2.2.2.2 k2)
section MML
variable {G : GG} {wb w : GW} {ad : Nat → Nat} {m : MSt}
theorem MW.mm (h : MW G w ad m) : MM G w w ad m := ⟨h, fun _ _ => rfl, mFs ad m, h.1 0 rfl, rfl, rfl⟩
theorem mm_o (h : MM G wb w ad m) : w (ad 0) = some (.inr (4, mFs ad m)) := h.1.1 0 rfl
theorem mm_1 (h : MM G wb w ad m) : w (ad 1) = some (.inl (G.2.1 0, 8, .inl (m.1 1))) := h.1.1 1 rfl
theorem mm_2 (h : MM G wb w ad m) : w (ad 2) = some (.inl (G.2.1 0, 8, .inl (m.1 2))) := h.1.1 2 rfl
theorem mm_3 (h : MM G wb w ad m) : w (ad 3) = some (.inl (G.2.1 0, 8, .inl (m.1 3))) := h.1.1 3 rfl
theorem mm_5 (h : MM G wb w ad m) : w (ad 5) = some (.inl (G.2.1 1, 40, .inr (.inl (m.2.1 5)))) := h.1.1 5 rfl
theorem mm_6 (h : MM G wb w ad m) : w (ad 6) = some (.inl (G.2.1 0, 8, .inl (m.1 6))) := h.1.1 6 rfl
theorem mm_7 (h : MM G wb w ad m) : w (ad 7) = some (.inl (G.2.1 0, 8, .inl (m.1 7))) := h.1.1 7 rfl
theorem mm_8 (h : MM G wb w ad m) : w (ad 8) = some (.inl (G.2.1 0, 200, .inl (m.1 8))) := h.1.1 8 rfl
theorem mm_10 (h : MM G wb w ad m) : w (ad 10) = some (.inl (G.2.1 0, 8, .inl (m.1 10))) := h.1.1 10 rfl
theorem mm_11 (h : MM G wb w ad m) : w (ad 11) = some (.inl (G.2.1 0, 3, .inl (m.1 11))) := h.1.1 11 rfl
theorem mm_12 (h : MM G wb w ad m) : w (ad 12) = some (.inl (G.2.1 0, 3, .inl (m.1 12))) := h.1.1 12 rfl
theorem mm_13 (h : MM G wb w ad m) : w (ad 13) = some (.inl (G.2.1 0, 3, .inl (m.1 13))) := h.1.1 13 rfl
theorem mm_16 (h : MM G wb w ad m) : w (ad 16) = some (.inl (G.2.1 0, 2, .inl (m.1 16))) := h.1.1 16 rfl
theorem mm_17 (h : MM G wb w ad m) : w (ad 17) = some (.inl (G.2.1 0, 6, .inl (m.1 17))) := h.1.1 17 rfl
theorem mm_26 (h : MM G wb w ad m) : w (ad 26) = some (.inl (G.2.1 0, 1, .inl (m.1 26))) := h.1.1 26 rfl
theorem mm_30 (h : MM G wb w ad m) : w (ad 30) = some (.inl (G.2.1 1, 125, .inr (.inl (m.2.1 30)))) := h.1.1 30 rfl
theorem mm_31 (h : MM G wb w ad m) : w (ad 31) = some (.inl (G.2.1 0, 6, .inl (m.1 31))) := h.1.1 31 rfl
theorem mm_32 (h : MM G wb w ad m) : w (ad 32) = some (.inl (G.2.1 0, 6, .inl (m.1 32))) := h.1.1 32 rfl
theorem mm_33 (h : MM G wb w ad m) : w (ad 33) = some (.inl (G.2.1 0, 6, .inl (m.1 33))) := h.1.1 33 rfl
theorem mm_4 (h : MM G wb w ad m) : w (ad 4) = some (.inl (G.2.1 6, 8, .inr (.inr (.inr (.inr (fun j => some (ad (40 + j)))))))) := h.1.1 4 rfl
theorem mm_15 (h : MM G wb w ad m) : w (ad 15) = some (.inl (G.2.1 5, 6, .inr (.inr (.inr (.inr (fun j => some (ad (50 + j)))))))) := h.1.1 15 rfl
theorem mm_28 (h : MM G wb w ad m) : w (ad 28) = some (.inl (G.2.1 5, 6, .inr (.inr (.inr (.inr (fun j => some (ad (60 + j)))))))) := h.1.1 28 rfl
theorem mm_29 (h : MM G wb w ad m) : w (ad 29) = some (.inl (G.2.1 6, 25, .inr (.inr (.inr (.inr (fun j => some (ad (70 + j)))))))) := h.1.1 29 rfl
theorem mP_40 {k : Nat} (hk : k < 8) : mP (40 + k) = true := by unfold mP; exact decide_eq_true (by omega)
theorem mK_40 {k : Nat} (hk : k < 8) : mK (40 + k) = 1 := by unfold mK; repeat (first | rw [if_neg (by omega)] | rw [if_pos (by omega)])
theorem mLen_40 {k : Nat} (hk : k < 8) : mLen (40 + k) = 40 := by unfold mLen; repeat (first | rw [if_neg (by omega)] | rw [if_pos (by omega)])
theorem mmr_40 (h : MM G wb w ad m) {k : Nat} (hk : k < 8) : w (ad (40 + k)) = some (.inl (G.2.1 1, 40, .inr (.inl (m.2.1 (40 + k))))) := by
  have h1 := h.1.1 (40 + k) (mP_40 hk)
  unfold mCt at h1
  rw [if_neg (by omega), mK_40 hk, mLen_40 hk] at h1
  exact h1
theorem mP_50 {k : Nat} (hk : k < 6) : mP (50 + k) = true := by unfold mP; exact decide_eq_true (by omega)
theorem mK_50 {k : Nat} (hk : k < 6) : mK (50 + k) = 0 := by unfold mK; repeat (first | rw [if_neg (by omega)] | rw [if_pos (by omega)])
theorem mLen_50 {k : Nat} (hk : k < 6) : mLen (50 + k) = 4 := by unfold mLen; repeat (first | rw [if_neg (by omega)] | rw [if_pos (by omega)])
theorem mmr_50 (h : MM G wb w ad m) {k : Nat} (hk : k < 6) : w (ad (50 + k)) = some (.inl (G.2.1 0, 4, .inl (m.1 (50 + k)))) := by
  have h1 := h.1.1 (50 + k) (mP_50 hk)
  unfold mCt at h1
  rw [if_neg (by omega), mK_50 hk, mLen_50 hk] at h1
  exact h1
theorem mP_60 {k : Nat} (hk : k < 6) : mP (60 + k) = true := by unfold mP; exact decide_eq_true (by omega)
theorem mK_60 {k : Nat} (hk : k < 6) : mK (60 + k) = 0 := by unfold mK; repeat (first | rw [if_neg (by omega)] | rw [if_pos (by omega)])
theorem mLen_60 {k : Nat} (hk : k < 6) : mLen (60 + k) = 125 := by unfold mLen; repeat (first | rw [if_neg (by omega)] | rw [if_pos (by omega)])
theorem mmr_60 (h : MM G wb w ad m) {k : Nat} (hk : k < 6) : w (ad (60 + k)) = some (.inl (G.2.1 0, 125, .inl (m.1 (60 + k)))) := by
  have h1 := h.1.1 (60 + k) (mP_60 hk)
  unfold mCt at h1
  rw [if_neg (by omega), mK_60 hk, mLen_60 hk] at h1
  exact h1
theorem mP_70 {k : Nat} (hk : k < 25) : mP (70 + k) = true := by unfold mP; exact decide_eq_true (by omega)
theorem mK_70 {k : Nat} (hk : k < 25) : mK (70 + k) = 1 := by unfold mK; repeat (first | rw [if_neg (by omega)] | rw [if_pos (by omega)])
theorem mLen_70 {k : Nat} (hk : k < 25) : mLen (70 + k) = 125 := by unfold mLen; repeat (first | rw [if_neg (by omega)] | rw [if_pos (by omega)])
theorem mmr_70 (h : MM G wb w ad m) {k : Nat} (hk : k < 25) : w (ad (70 + k)) = some (.inl (G.2.1 1, 125, .inr (.inl (m.2.1 (70 + k))))) := by
  have h1 := h.1.1 (70 + k) (mP_70 hk)
  unfold mCt at h1
  rw [if_neg (by omega), mK_70 hk, mLen_70 hk] at h1
  exact h1
theorem MRf.same {m2 : MSt} (h : MRf wb ad m) (h1 : m2.2.2.2.2 18 = m.2.2.2.2 18) (h2 : m2.2.2.2.2 19 = m.2.2.2.2 19) : MRf wb ad m2 := by
  obtain ⟨fs, a, b, c⟩ := h
  exact ⟨fs, a, by rw [h1]; exact b, by rw [h2]; exact c⟩
theorem va_rf_inj {a b : Option Nat} (h : va_rf a = va_rf b) : a = b := by
  cases a <;> cases b <;> simp_all [va_rf]
theorem MM.put {k : Nat} {e : va_E} {m2 : MSt} (h : MM G wb w ad m) (hk : mP k = true) (he : mCt G ad m2 k = e) (hc : ∀ i, mP i = true → i ≠ k → mCt G ad m2 i = mCt G ad m i) (hr : m2.2.2.2.2 = m.2.2.2.2) : MM G wb (gu w (ad k) e) ad m2 :=
  ⟨Sx.put h.1 hk he hc, fun b hb => by rw [gu_n (hb k hk)]; exact h.2.1 b hb, h.2.2.same (by rw [hr]) (by rw [hr])⟩
theorem mm_I (h : MM G wb w ad m) (c : Nat) (hc : mP c = true) (hk : mK c = 0) {n j : Nat} {x : Int32} (hn : mLen c = n) : MM G wb (gu w (ad c) (.inl (G.2.1 0, n, .inl (upd (m.1 c) j x)))) ad (mI m c j x) := by
  subst hn
  have hc0 : c ≠ 0 := fun e => by rw [e] at hk; cases hk
  refine h.put hc ?_ (fun i _ hi => ?_) rfl
  · unfold mCt; rw [if_neg hc0, if_pos hk]; simp [mI]
  · unfold mCt
    have e1 : (mI m c j x).1 i = m.1 i := if_neg hi
    rw [e1]; rfl
theorem mm_L (h : MM G wb w ad m) (c : Nat) (hc : mP c = true) (hk : mK c = 1) {n j : Nat} {x : Int64} (hn : mLen c = n) : MM G wb (gu w (ad c) (.inl (G.2.1 1, n, .inr (.inl (vp_updL (m.2.1 c) j x))))) ad (mL m c j x) := by
  subst hn
  have hc0 : c ≠ 0 := fun e => by rw [e] at hk; cases hk
  refine h.put hc ?_ (fun i _ hi => ?_) rfl
  · unfold mCt; rw [if_neg hc0, if_neg (by rw [hk]; decide), if_pos hk]; simp [mL]
  · unfold mCt
    have e1 : (mL m c j x).2.1 i = m.2.1 i := if_neg hi
    rw [e1]; rfl
theorem mm_O {fs : List Value} {m2 : MSt} (h : MM G wb w ad m) (hfs : fs = mFs ad m2) (h1 : m2.1 = m.1) (h2 : m2.2.1 = m.2.1) (hr : m2.2.2.2.2 = m.2.2.2.2) : MM G wb (gu w (ad 0) (.inr (4, fs))) ad m2 := by
  refine h.put rfl ?_ (fun i _ hi => ?_) hr
  · unfold mCt; rw [if_pos rfl, hfs]
  · unfold mCt; rw [if_neg hi, if_neg hi, h1, h2]
theorem MM.refs {w2 : GW} {m2 : MSt} (h : MM G wb w ad m) (h2 : MM G w w2 ad m2) : m2.2.2.2.2 18 = m.2.2.2.2 18 ∧ m2.2.2.2.2 19 = m.2.2.2.2 19 := by
  obtain ⟨fs, a, b, c⟩ := h2.2.2
  have e := (mm_o h).symm.trans a
  have e2 : mFs ad m = fs := by injection e with e; injection e with e; injection e
  subst e2
  exact ⟨(va_rf_inj (Option.some.inj b)).symm, (va_rf_inj (Option.some.inj c)).symm⟩
theorem MM.trans {w2 : GW} {m2 : MSt} (h : MM G wb w ad m) (h2 : MM G w w2 ad m2) : MM G wb w2 ad m2 := ⟨h2.1, fun b hb => (h2.2.1 b hb).trans (h.2.1 b hb), h.2.2.same (h.refs h2).1 (h.refs h2).2⟩
/-- another model is none of its cells -/
theorem MM.side {wa : GW} {at_ : Nat → Nat} {mt : MSt} (h : MM G wa wb at_ mt) (h2 : MM G wb w ad m) (hd : ∀ i j, mP i = true → mP j = true → at_ i ≠ ad j) : MM G w w at_ mt :=
  MW.mm (Sx.kept h.1 (fun i hi => h2.2.1 _ (fun j hj => hd i j hi hj)))
theorem MM.of_eq {w2 : GW} (h : MM G wb w ad m) (e : w2 = w) : MM G wb w2 ad m := by rw [e]; exact h
end MML
/-- the wall as the model has it -/
def MR (S : WS) (m : MSt) : Prop := (∀ j, j < 3 → m.1 11 j = nI (S.1 0 j) ∧ m.1 12 j = nI (S.1 1 j) ∧ m.1 13 j = nI (S.1 2 j)) ∧ m.2.2.1 13 = nI (S.2 0) ∧ (∀ k, k < 6 → m.1 (50 + k) 0 = nI (S.1 3 k) ∧ m.1 (50 + k) 1 = nI (S.1 4 k) ∧ m.1 (50 + k) 2 = nI (S.1 5 k) ∧ m.1 (50 + k) 3 = nI (S.1 6 k)) ∧ m.1 16 0 = nI (S.2 1) ∧ m.1 16 1 = nI (S.2 2)
/-- what else than the wall changes doesn't touch it -/
theorem MR.kept {S : WS} {m m2 : MSt} (h : MR S m) (h1 : ∀ c, (c = 11 ∨ c = 12 ∨ c = 13 ∨ c = 16 ∨ (50 ≤ c ∧ c < 56)) → m2.1 c = m.1 c) (h2 : m2.2.2.1 13 = m.2.2.1 13) : MR S m2 := by
  obtain ⟨a, b, c, d, e⟩ := h
  refine ⟨fun j hj => ?_, h2.trans b, fun k hk => ?_, ?_, ?_⟩
  · rw [h1 11 (by omega), h1 12 (by omega), h1 13 (by omega)]; exact a j hj
  · rw [h1 (50 + k) (by omega)]; exact c k hk
  · rw [h1 16 (by omega)]; exact d
  · rw [h1 16 (by omega)]; exact e
section ZM
variable {κ : ZK} {cc : ByteArray} {own nm : String} {nL : Nat} {ret : Option FieldType} {l : Launch} {d mc ms : Nat} {G : GG} {w0 w wb : GW} {post : Option Value → GW → Prop} {lv lv2 : List (Nat × Value)} {a b pc : Nat} {st rest : List Value} {ad : Nat → Nat} {m : MSt}
theorem z_mst (X : ZX κ cc own nL ret nm l d mc ms G w0 post) (hM : MM G wb w ad m) (c : Nat) {n j : Nat} {x : Int32} (hdg : decode cc pc = .ok (.iastore, 1)) (hc : mP c = true) (hk : mK c = 0) (hn : mLen c = n) (hj : j < n) (hn2 : n < 2 ^ 31) (k : ∀ w, MM G wb w ad (mI m c j x) → Z κ w lv a b (pc + 1) st) : Z κ w lv a b pc (.int x :: .int (nI j) :: .ref (ad c) :: st) := by
  refine z_isN X (f := m.1 c) hdg ?_ hj hn2 (k _ (mm_I hM c hc hk hn))
  subst hn
  have h1 := hM.1.1 c hc
  unfold mCt at h1
  rw [if_neg (fun e => by rw [e] at hk; cases hk), if_pos hk] at h1
  exact h1
theorem z_mstL (X : ZX κ cc own nL ret nm l d mc ms G w0 post) (hM : MM G wb w ad m) (c : Nat) {n j : Nat} {x : Int64} (hdg : decode cc pc = .ok (.lastore, 1)) (hc : mP c = true) (hk : mK c = 1) (hn : mLen c = n) (hj : j < n) (hn2 : n < 2 ^ 31) (k : ∀ w, MM G wb w ad (mL m c j x) → Z κ w lv a b (pc + 1) st) : Z κ w lv a b pc (.long x :: .int (nI j) :: .ref (ad c) :: st) := by
  refine z_lsN X (f := m.2.1 c) hdg ?_ hj hn2 (k _ (mm_L hM c hc hk hn))
  subst hn
  have h1 := hM.1.1 c hc
  unfold mCt at h1
  rw [if_neg (fun e => by rw [e] at hk; cases hk), if_neg (by rw [hk]; decide), if_pos hk] at h1
  exact h1
/-- a field of the model that isn't final -/
theorem z_mput (X : ZX κ cc own nL ret nm l d mc ms G w0 post) (hM : MM G wb w ad m) {i : Nat} {v : Value} (j : Nat) (m2 : MSt) (hdg : decode cc pc = .ok (.putfield i, 3)) (hj : j < 38) (hq : Cond.fieldLink own i (TX4 j).1 (TX4 j).2.1 (TX4 j).2.2.1 ∈ lw_all) (hfin : (TX4 j).2.2.2 = false) (hn : narrow (tyX4 j) v = v) (hfit : fits (tyX4 j) v = true) (hfs : (mFs ad m).set j v = mFs ad m2) (h1 : m2.1 = m.1) (h2 : m2.2.1 = m.2.1) (hr : m2.2.2.2.2 = m.2.2.2.2) (k : ∀ w, MM G wb w ad m2 → Z κ w lv a b (pc + 3) st) : Z κ w lv a b pc (v :: .ref (ad 0) :: st) :=
  z_put X hdg (mm_o hM) in_X4 tyX4 tyX4_ok nmX4 rfl j hj hq hfin hn hfit (Nat.lt_of_lt_of_le hj (Nat.le_of_ble_eq_true rfl)) (k _ (mm_O hM hfs h1 h2 hr))
/-- a field of the model that is a reference -/
theorem z_mputR (X : ZX κ cc own nL ret nm l d mc ms G w0 post) (hM : MM G wb w ad m) {i : Nat} {v : Value} (j : Nat) (m2 : MSt) (hdg : decode cc pc = .ok (.putfield i, 3)) (hj : j < 38) (hq : Cond.fieldLink own i (TX4 j).1 (TX4 j).2.1 (TX4 j).2.2.1 ∈ lw_all) (hfin : (TX4 j).2.2.2 = false) (hn : narrow (tyX4 j) v = v) (hfit : fits (tyX4 j) v = true) (hfs : (mFs ad m).set j v = mFs ad m2) (h1 : m2.1 = m.1) (h2 : m2.2.1 = m.2.1) (k : ∀ w2, MM G w2 w2 ad m2 → (∀ b, (∀ i, mP i = true → b ≠ ad i) → w2 b = w b) → Z κ w2 lv a b (pc + 3) st) : Z κ w lv a b pc (v :: .ref (ad 0) :: st) := by
  refine z_put X hdg (mm_o hM) in_X4 tyX4 tyX4_ok nmX4 rfl j hj hq hfin hn hfit (Nat.lt_of_lt_of_le hj (Nat.le_of_ble_eq_true rfl)) (k _ (MW.mm (Sx.put hM.1 rfl ?_ (fun i _ hi => ?_))) (fun b hb => gu_n (hb 0 rfl)))
  · unfold mCt; rw [if_pos rfl, hfs]
  · unfold mCt; rw [if_neg hi, if_neg hi, h1, h2]
theorem z_mcv {mc2 ms2 : Nat} {f : MSt → Prop} (hM : MM G wb w ad m) (hr : zRun κ w lv a b pc st rest mc2 ms2 (pV (fun w1 => ∃ m2, MM G w w1 ad m2 ∧ f m2))) (k : ∀ w m2, MM G wb w ad m2 → f m2 → Z κ w lv (a + mc2) (b + ms2) (pc + 3) rest) : Z κ w lv a b pc st := by
  refine z_cv hr fun w1 h => ?_
  obtain ⟨m2, h1, h2⟩ := h
  exact k w1 m2 (hM.trans h1) h2
theorem z_mci {mc2 ms2 : Nat} {f : Int32 → MSt → Prop} (hM : MM G wb w ad m) (hr : zRun κ w lv a b pc st rest mc2 ms2 (pI (fun r w1 => ∃ m2, MM G w w1 ad m2 ∧ f r m2))) (k : ∀ r w m2, MM G wb w ad m2 → f r m2 → Z κ w lv (a + mc2) (b + ms2) (pc + 3) (.int r :: rest)) : Z κ w lv a b pc st := by
  refine z_ci hr fun r w1 h => ?_
  obtain ⟨m2, h1, h2⟩ := h
  exact k r w1 m2 (hM.trans h1) h2
theorem z_mcl {mc2 ms2 : Nat} {f : Int64 → MSt → Prop} (hM : MM G wb w ad m) (hr : zRun κ w lv a b pc st rest mc2 ms2 (pL (fun r w1 => ∃ m2, MM G w w1 ad m2 ∧ f r m2))) (k : ∀ r w m2, MM G wb w ad m2 → f r m2 → Z κ w lv (a + mc2) (b + ms2) (pc + 3) (.long r :: rest)) : Z κ w lv a b pc st := by
  refine z_cl hr fun r w1 h => ?_
  obtain ⟨m2, h1, h2⟩ := h
  exact k r w1 m2 (hM.trans h1) h2
end ZM
