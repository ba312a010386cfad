/-! NUMBERED CELLS; the wall's cells -/
set_option maxRecDepth 100000
def Sx (w : GW) (ad : Nat → Nat) (P : Nat → Bool) (ct : Nat → va_E) : Prop := (∀ i, P i = true → w (ad i) = some (ct i)) ∧ ∀ i j, P i = true → P j = true → ad i = ad j → i = j
theorem Sx.put {w : GW} {ad : Nat → Nat} {P : Nat → Bool} {ct ct2 : Nat → va_E} {k : Nat} {e : va_E} (h : Sx w ad P ct) (hk : P k = true) (he : ct2 k = e) (hc : ∀ i, P i = true → i ≠ k → ct2 i = ct i) : Sx (gu w (ad k) e) ad P ct2 := by
  subst he
  refine ⟨fun i hi => ?_, h.2⟩
  by_cases hik : i = k
  · subst hik; exact gu_s
  · rw [gu_n (fun q => hik (h.2 i k hi hk q)), hc i hi hik]
    exact h.1 i hi
theorem Sx.other {w : GW} {ad : Nat → Nat} {P : Nat → Bool} {ct : Nat → va_E} {b : Nat} {e : va_E} (h : Sx w ad P ct) (hb : ∀ i, P i = true → ad i ≠ b) : Sx (gu w b e) ad P ct :=
  ⟨fun i hi => gu_k (hb i hi) (h.1 i hi), h.2⟩
theorem Sx.new {w : GW} {ad : Nat → Nat} {P : Nat → Bool} {ct : Nat → va_E} {q : Nat} {e : va_E} (h : Sx w ad P ct) (hq : w q = none) : Sx (gu w q e) ad P ct :=
  ⟨fun i hi => gu_f hq (h.1 i hi), h.2⟩
theorem Sx.kept {w w1 : GW} {ad : Nat → Nat} {P : Nat → Bool} {ct : Nat → va_E} (h : Sx w ad P ct) (hk : ∀ i, P i = true → w1 (ad i) = w (ad i)) : Sx w1 ad P ct :=
  ⟨fun i hi => (hk i hi).trans (h.1 i hi), h.2⟩
theorem Sx.congr {w : GW} {ad : Nat → Nat} {P : Nat → Bool} {ct ct2 : Nat → va_E} (h : Sx w ad P ct) (hc : ∀ i, P i = true → ct2 i = ct i) : Sx w ad P ct2 :=
  ⟨fun i hi => by rw [hc i hi]; exact h.1 i hi, h.2⟩
def wFs (aw : Nat → Nat) (rr : Option Nat) (S : WS) : List Value := [.ref (aw 1), .ref (aw 2), .ref (aw 3), .ref (aw 4), .ref (aw 5), .ref (aw 6), .ref (aw 7), va_rf rr, .int (nI (S.2 0)), .int (nI (S.2 1)), .int (nI (S.2 2))]
def wLen (i : Nat) : Nat := if i ≤ 3 then 3 else 6
def wCt (G : GG) (aw : Nat → Nat) (rr : Option Nat) (S : WS) : Nat → va_E := fun i => if i = 0 then .inr (2, wFs aw rr S) else .inl (G.2.1 0, wLen i, .inl (fun j => nI (S.1 (i - 1) j)))
def wP (i : Nat) : Bool := decide (i < 8)
def WallW (G : GG) (w : GW) (aw : Nat → Nat) (rr : Option Nat) (S : WS) : Prop := Sx w aw wP (wCt G aw rr S)
section WLS
variable {G : GG} {w : GW} {aw : Nat → Nat} {rr : Option Nat} {S : WS}
theorem wl_o (h : WallW G w aw rr S) : w (aw 0) = some (.inr (2, wFs aw rr S)) := h.1 0 rfl
theorem wl_1 (h : WallW G w aw rr S) : w (aw 1) = some (.inl (G.2.1 0, 3, .inl (fun j => nI (S.1 0 j)))) := h.1 1 rfl
theorem wl_2 (h : WallW G w aw rr S) : w (aw 2) = some (.inl (G.2.1 0, 3, .inl (fun j => nI (S.1 1 j)))) := h.1 2 rfl
theorem wl_3 (h : WallW G w aw rr S) : w (aw 3) = some (.inl (G.2.1 0, 3, .inl (fun j => nI (S.1 2 j)))) := h.1 3 rfl
theorem wl_4 (h : WallW G w aw rr S) : w (aw 4) = some (.inl (G.2.1 0, 6, .inl (fun j => nI (S.1 3 j)))) := h.1 4 rfl
theorem wl_5 (h : WallW G w aw rr S) : w (aw 5) = some (.inl (G.2.1 0, 6, .inl (fun j => nI (S.1 4 j)))) := h.1 5 rfl
theorem wl_6 (h : WallW G w aw rr S) : w (aw 6) = some (.inl (G.2.1 0, 6, .inl (fun j => nI (S.1 5 j)))) := h.1 6 rfl
theorem wl_7 (h : WallW G w aw rr S) : w (aw 7) = some (.inl (G.2.1 0, 6, .inl (fun j => nI (S.1 6 j)))) := h.1 7 rfl
/-- array k, place j: now v -/
def wSet (S : WS) (k j v : Nat) : WS := (fun k2 j2 => if k2 = k ∧ j2 = j then v else S.1 k2 j2, S.2)
def wSetF (S : WS) (k v : Nat) : WS := (S.1, fun j => if j = k then v else S.2 j)
theorem wl_put (h : WallW G w aw rr S) (k : Nat) (hk : k < 7) (n j v : Nat) (hn : wLen (k + 1) = n) : WallW G (gu w (aw (k + 1)) (.inl (G.2.1 0, n, .inl (upd (fun j => nI (S.1 k j)) j (nI v))))) aw rr (wSet S k j v) := by
  refine Sx.put h (by simp [wP]; omega) ?_ ?_
  · subst hn
    simp only [wCt, Nat.add_eq_zero_iff, Nat.add_sub_cancel]
    rw [if_neg (by omega)]
    congr 4
    funext x
    by_cases hx : x = j
    · subst hx; simp [upd, wSet]
    · simp [upd, wSet, hx]
  · intro i hi hne
    simp only [wP, decide_eq_true_eq] at hi
    by_cases hi0 : i = 0
    · subst hi0; rfl
    · simp only [wCt, if_neg hi0, wSet]
      congr 4
      funext x
      rw [if_neg (by omega)]
end WLS
