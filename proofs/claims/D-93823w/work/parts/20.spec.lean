/-! THE PURE SPEC: a wall as numbers; states, what is brought, values -/
set_option maxRecDepth 100000
/-- arrays: 0 boxes 1 full 2 goes 3 need 4 comes 5 worth 6 back; single numbers: 0 sorts 1 near 2 way -/
abbrev WS : Type := (Nat → Nat → Nat) × (Nat → Nat)
def sumTo (f : Nat → Nat) : Nat → Nat
  | 0 => 0
  | n + 1 => sumTo f n + f n
def pw5 (z : Nat) : Nat := if z = 0 then 1 else if z = 1 then 5 else 25
def fr (st z : Nat) : Nat := st / pw5 z % 5
/-- a wall as it may be -/
def wInv (S : WS) : Prop := (∀ i, i < 3 → S.1 1 i ≤ S.1 0 i ∧ S.1 0 i ≤ 4 ∧ S.1 2 i ≤ 10) ∧ S.2 0 ≤ 6 ∧ (∀ i, i < S.2 0 → S.1 3 i ≤ 2 ∧ 1 ≤ S.1 5 i ∧ S.1 5 i ≤ 99 ∧ S.1 6 i ≤ 99) ∧ sumTo (S.1 4) (S.2 0) ≤ 100 ∧ S.2 1 ≤ 10 ∧ S.2 2 ≤ 99
def stOf (S : WS) : Nat := (S.1 0 0 - S.1 1 0) + 5 * (S.1 0 1 - S.1 1 1) + 25 * (S.1 0 2 - S.1 1 2)
def isStP (S : WS) (st : Nat) : Prop := st < 125 ∧ fr st 0 ≤ S.1 0 0 ∧ fr st 1 ≤ S.1 0 1 ∧ fr st 2 ≤ S.1 0 2
def isSt (S : WS) (st : Nat) : Bool := decide (st < 125) && (decide (fr st 0 ≤ S.1 0 0) && (decide (fr st 1 ≤ S.1 0 1) && decide (fr st 2 ≤ S.1 0 2)))
theorem isSt_iff {S : WS} {st : Nat} : isSt S st = true ↔ isStP S st := by simp [isSt, isStP]
def fitsB (S : WS) (i z st : Nat) : Bool := decide (S.1 3 i ≤ z) && decide (0 < fr st z)
def lostL (S : WS) (i : Nat) : Int64 := 100000 * ((nI (S.2 1)) * (nI (S.1 5 i) - nI (S.2 2)) - (nI 10 - nI (S.2 1)) * nI (S.1 6 i)).toInt64
def bring (S : WS) (i : Nat) (o : Option Nat) (st : Nat) (T : Nat → Int64) : Int64 := match o with
  | none => lostL S i + T st
  | some z => 1000000 * lN (S.1 5 i) + T (st - pw5 z)
/-- the best of the sizes below z -/
def bestTo (S : WS) (i st : Nat) (T : Nat → Int64) : Nat → Option Nat
  | 0 => none
  | z + 1 => if fitsB S i z st = true ∧ bring S i (bestTo S i st T z) st T < bring S i (some z) st T then some z else bestTo S i st T z
def bestO (S : WS) (i st : Nat) (T : Nat → Int64) : Option Nat := bestTo S i st T 3
theorem bestTo_lt {S : WS} {i st : Nat} {T : Nat → Int64} : ∀ n z, bestTo S i st T n = some z → z < n ∧ fitsB S i z st = true := by
  intro n
  induction n with
  | zero => intro z h; cases h
  | succ n ih =>
    intro z h
    unfold bestTo at h
    split at h
    · next hc => cases h; exact ⟨Nat.lt_succ_self _, hc.1⟩
    · exact ⟨Nat.lt_succ_of_lt (ih z h).1, (ih z h).2⟩
/-- the first below n of which p holds -/
def leTo (p : Nat → Bool) : Nat → Option Nat
  | 0 => none
  | z + 1 => match leTo p z with
    | some y => some y
    | none => if p z = true then some z else none
def grTo (p : Nat → Bool) : Nat → Option Nat
  | 0 => none
  | z + 1 => if p z = true then some z else grTo p z
/-- as great, but rather where there are as many free -/
def evOk (st z : Nat) (o : Option Nat) : Bool := match o with
  | none => true
  | some y => decide (fr st y ≤ fr st z)
def evTo (S : WS) (i st : Nat) : Nat → Option Nat
  | 0 => none
  | z + 1 => if fitsB S i z st = true ∧ evOk st z (evTo S i st z) = true then some z else evTo S i st z
theorem leTo_lt {p : Nat → Bool} : ∀ n z, leTo p n = some z → z < n ∧ p z = true := by
  intro n
  induction n with
  | zero => intro z h; cases h
  | succ n ih =>
    intro z h
    unfold leTo at h
    split at h
    · next y hy => cases h; exact ⟨Nat.lt_succ_of_lt (ih z hy).1, (ih z hy).2⟩
    · split at h
      · next hp => cases h; exact ⟨Nat.lt_succ_self _, hp⟩
      · cases h
theorem grTo_lt {p : Nat → Bool} : ∀ n z, grTo p n = some z → z < n ∧ p z = true := by
  intro n
  induction n with
  | zero => intro z h; cases h
  | succ n ih =>
    intro z h
    unfold grTo at h
    split at h
    · next hp => cases h; exact ⟨Nat.lt_succ_self _, hp⟩
    · exact ⟨Nat.lt_succ_of_lt (ih z h).1, (ih z h).2⟩
theorem evTo_lt {S : WS} {i st : Nat} : ∀ n z, evTo S i st n = some z → z < n ∧ fitsB S i z st = true := by
  intro n
  induction n with
  | zero => intro z h; cases h
  | succ n ih =>
    intro z h
    unfold evTo at h
    split at h
    · next hp => cases h; exact ⟨Nat.lt_succ_self _, hp.1⟩
    · exact ⟨Nat.lt_succ_of_lt (ih z h).1, (ih z h).2⟩
/-- whether a keeping rule keeps a box -/
def keptB (S : WS) (a i z st : Nat) : Bool := decide (S.1 3 i < z) && decide (fr st z ≤ a)
/-- what a rule of kind 1..6 gives; T: what a wise one has learnt -/
def rget (S : WS) (kd a : Nat) (T : Nat → Int64) (i st : Nat) : Option Nat :=
  if kd = 1 then leTo (fun z => fitsB S i z st) 3
  else if kd = 2 then leTo (fun z => fitsB S i z st && !keptB S a i z st) 3
  else if kd = 3 then (if S.1 5 i < a then none else leTo (fun z => fitsB S i z st) 3)
  else if kd = 4 then grTo (fun z => fitsB S i z st) 3
  else if kd = 5 then evTo S i st 3
  else bestO S i st T
theorem rget_lt {S : WS} {kd a : Nat} {T : Nat → Int64} {i st z : Nat} (h : rget S kd a T i st = some z) : z < 3 ∧ fitsB S i z st = true := by
  unfold rget at h
  split at h
  · exact leTo_lt 3 z h
  split at h
  · have := leTo_lt 3 z h
    simp only [Bool.and_eq_true] at this
    exact ⟨this.1, this.2.1⟩
  split at h
  · split at h
    · cases h
    · exact leTo_lt 3 z h
  split at h
  · exact grTo_lt 3 z h
  split at h
  · exact evTo_lt 3 z h
  · exact bestTo_lt 3 z h
/-- who gets what: by a rule, or what is best by the values behind -/
abbrev RG : Type := (Nat → Int64) → Nat → Nat → Option Nat
def rBest (S : WS) : RG := fun V i st => bestO S i st V
def rRule (S : WS) (kd a : Nat) (T : Nat → Int64) : RG := fun _ i st => rget S kd a T i st
def cvTo (S : WS) (r : RG) (V : Nat → Int64) (st : Nat) : Nat → Int64
  | 0 => lN (100 - sumTo (S.1 4) (S.2 0)) * V st
  | i + 1 => cvTo S r V st i + lN (S.1 4 i) * bring S i (r V i st) st V
def comesV (S : WS) (r : RG) (V : Nat → Int64) (st : Nat) : Int64 := cvTo S r V st (S.2 0)
/-- by how many tenths a box of size z is fetched (f = 1) or not -/
def oddZ (S : WS) (g : Nat → Nat) (st z f : Nat) : Nat := if f = 1 then (if fr st z < S.1 0 z then g z else 0) else 10 - (if fr st z < S.1 0 z then g z else 0)
def bitK (k z : Nat) : Nat := k / 2 ^ z % 2
def oddTo (S : WS) (g : Nat → Nat) (st k : Nat) : Nat → Nat
  | 0 => 1
  | z + 1 => oddTo S g st k z * oddZ S g st z (bitK k z)
def nextTo (st k : Nat) : Nat → Nat
  | 0 => st
  | z + 1 => nextTo st k z + bitK k z * pw5 z
def hrTo (S : WS) (r : RG) (g : Nat → Nat) (V : Nat → Int64) (st : Nat) : Nat → Int64
  | 0 => lN 0
  | k + 1 => hrTo S r g V st k + (if oddTo S g st k 3 = 0 then lN 0 else lN (oddTo S g st k 3) * comesV S r V (nextTo st k 3))
def hourV (S : WS) (r : RG) (g : Nat → Nat) (V : Nat → Int64) (st : Nat) : Int64 := hrTo S r g V st 8 / 100000
/-- what all states are worth, n hours to come -/
def vals (S : WS) (r : RG) : Nat → Nat → Int64
  | 0 => fun _ => lN 0
  | n + 1 => fun st => if isSt S st = true then hourV S r (S.1 2) (vals S r n) st else lN 0
/-- what a wise rule by a learns -/
def wiseH (a : Nat) : Nat := if a < 20 then a else 20
def wiseT (S : WS) (a : Nat) : Nat → Int64 := vals S (rBest S) (wiseH a)
/-- a rule on a shelf, told of the wall -/
def rOf (S : WS) (kd a : Nat) : RG := rRule S kd a (wiseT S a)
def bestV (S : WS) (n : Nat) : Int64 := vals S (rBest S) n (stOf S)
def ruleV (S : WS) (kd a n : Nat) : Int64 := vals S (rOf S kd a) n (stOf S)
theorem pw5_0 : pw5 0 = 1 := rfl
theorem pw5_1 : pw5 1 = 5 := rfl
theorem pw5_2 : pw5 2 = 25 := rfl
theorem pw5_pos (z : Nat) : 0 < pw5 z ∧ pw5 z ≤ 25 := by unfold pw5; split <;> (try split) <;> omega
theorem fr_lt (st z : Nat) : fr st z < 5 := Nat.mod_lt _ (by omega)
theorem fr_ge {st z : Nat} (h : 0 < fr st z) : pw5 z ≤ st := by
  have hp := pw5_pos z
  refine Nat.le_of_not_lt fun h2 => ?_
  have : st / pw5 z = 0 := Nat.div_eq_of_lt h2
  simp [fr, this] at h
theorem stOf_lt {S : WS} (h : wInv S) : stOf S < 125 := by
  have h0 := h.1 0 (by omega)
  have h1 := h.1 1 (by omega)
  have h2 := h.1 2 (by omega)
  unfold stOf; omega
theorem stOf_fr {S : WS} (h : wInv S) {z : Nat} (hz : z < 3) : fr (stOf S) z = S.1 0 z - S.1 1 z := by
  have h0 := h.1 0 (by omega)
  have h1 := h.1 1 (by omega)
  have h2 := h.1 2 (by omega)
  have hc : z = 0 ∨ z = 1 ∨ z = 2 := by omega
  rcases hc with rfl | rfl | rfl
  · simp only [fr, stOf, pw5_0]; omega
  · simp only [fr, stOf, pw5_1]; omega
  · simp only [fr, stOf, pw5_2]; omega
theorem stOf_is {S : WS} (h : wInv S) : isStP S (stOf S) := by
  refine ⟨stOf_lt h, ?_, ?_, ?_⟩ <;> rw [stOf_fr h (by omega)] <;> omega
theorem sumTo_le {f : Nat → Nat} {i n : Nat} (h : i ≤ n) : sumTo f i ≤ sumTo f n := by
  induction n with
  | zero => rw [Nat.le_zero.mp h]; exact Nat.le_refl _
  | succ n ih =>
    rcases Nat.lt_or_ge n i with q | q
    · rw [show i = n + 1 by omega]; exact Nat.le_refl _
    · exact Nat.le_trans (ih q) (Nat.le_add_right _ _)
theorem sumTo_at {f : Nat → Nat} {i n : Nat} (h : i < n) : f i ≤ sumTo f n := Nat.le_trans (Nat.le_add_left _ _) (sumTo_le (f := f) (i := i + 1) h)
