/-! THE PURE SPEC: all that the two keep, and what each call answers (without images and what is tried) -/
set_option maxRecDepth 100000
/-- wall, day, seed, shelves (0 kind, 1 sort, 2 size, 3 rule's kind, 4 rule's number), elements, tape, its size, refused -/
abbrev OS : Type := WS × (Nat → Int32) × Int32 × (Nat → Nat → Nat) × (Nat → Nat → Int64) × (Nat → Nat) × Nat × (Nat → Int32)
def tn (v : Int32) : Nat := v.toInt.toNat
theorem tn_nI {k : Nat} (h : k < 2 ^ 31) : tn (nI k) = k := by unfold tn; rw [nI_toInt h]; rfl
def rgb (lo hi : Nat) (v : Int32) : Option Nat := if nI lo ≤ v ∧ v ≤ nI hi then some (tn v) else none
def rgn (n : Nat) (v : Int32) : Option Nat := if nI 0 ≤ v ∧ v < nI n then some (tn v) else none
def el {α : Type} (o : Option Nat) (d : α) (f : Nat → α) : α := match o with
  | some x => f x
  | none => d
theorem el_some {α : Type} {o : Option Nat} {d : α} {f : Nat → α} {x : Nat} (h : o = some x) : el o d f = f x := by rw [h]; rfl
theorem el_none {α : Type} {o : Option Nat} {d : α} {f : Nat → α} (h : o = none) : el o d f = d := by rw [h]; rfl
theorem nI_nn {v : Int32} (h : nI 0 ≤ v) : ∃ j : Nat, j < 2 ^ 31 ∧ v = nI j := nI_of (fun q => (Int32.not_lt.mpr h) q)
theorem rgb_t {lo hi : Nat} {v : Int32} (hh : hi < 2 ^ 31) (hl : lo ≤ hi) (h : nI lo ≤ v ∧ v ≤ nI hi) : ∃ k, lo ≤ k ∧ k ≤ hi ∧ v = nI k ∧ rgb lo hi (nI k) = some k := by
  obtain ⟨k, hk, rfl⟩ := nI_nn (Int32.le_trans (nI_le (Nat.zero_le lo) (by omega)) h.1)
  have h1 := (nI_leI (by omega) hk).mp h.1
  have h2 := (nI_leI hk hh).mp h.2
  exact ⟨k, h1, h2, rfl, by unfold rgb; rw [if_pos h, tn_nI hk]⟩
theorem rgb_f {lo hi : Nat} {v : Int32} (h : ¬ (nI lo ≤ v ∧ v ≤ nI hi)) : rgb lo hi v = none := if_neg h
theorem rgn_t {n : Nat} {v : Int32} (hn : n < 2 ^ 31) (h : nI 0 ≤ v ∧ v < nI n) : ∃ k, k < n ∧ v = nI k ∧ rgn n (nI k) = some k := by
  obtain ⟨k, hk, rfl⟩ := nI_nn h.1
  have h2 := (nI_ltI hk hn).mp h.2
  exact ⟨k, h2, rfl, by unfold rgn; rw [if_pos h, tn_nI hk]⟩
theorem rgn_f {n : Nat} {v : Int32} (h : ¬ (nI 0 ≤ v ∧ v < nI n)) : rgn n v = none := if_neg h
theorem rgb_nI {lo hi k : Nat} (h : lo ≤ k ∧ k ≤ hi) (hh : hi < 2 ^ 31) : rgb lo hi (nI k) = some k := by
  unfold rgb; rw [if_pos ⟨nI_le h.1 (by omega), nI_le h.2 hh⟩, tn_nI (by omega)]
theorem rgn_nI {n k : Nat} (h : k < n) (hh : n < 2 ^ 31) : rgn n (nI k) = some k := by
  unfold rgn; rw [if_pos ⟨nI_le (Nat.zero_le k) (by omega), nI_lt h hh⟩, tn_nI (by omega)]
/-- below a number, said by one less -/
theorem le_pred {v : Int32} {n : Nat} (hn : n < 2 ^ 30) : v ≤ nI n - nI 1 ↔ v < nI n := by
  rw [Int32.le_iff_toInt_le, Int32.lt_iff_toInt_lt, pk_sub_toInt hn (by decide), nI_toInt (by omega)]; omega
theorem rgn_t2 {n : Nat} {v : Int32} (hn : n < 2 ^ 30) (h : nI 0 ≤ v ∧ v ≤ nI n - nI 1) : ∃ k, k < n ∧ v = nI k ∧ rgn n (nI k) = some k := rgn_t (by omega) ⟨h.1, (le_pred hn).mp h.2⟩
theorem rgn_f2 {n : Nat} {v : Int32} (hn : n < 2 ^ 30) (h : ¬ (nI 0 ≤ v ∧ v ≤ nI n - nI 1)) : rgn n v = none := rgn_f (fun q => h ⟨q.1, (le_pred hn).mpr q.2⟩)
/-- what may be -/
def oInv (o : OS) : Prop := wInv o.1 ∧ (∀ s, s < 8 → o.2.2.2.1 0 s ≤ 2 ∧ o.2.2.2.1 1 s ≤ 4 ∧ o.2.2.2.1 2 s ≤ 40 ∧ o.2.2.2.1 3 s ≤ 6 ∧ (o.2.2.2.1 0 s = 2 → 1 ≤ o.2.2.2.1 3 s) ∧ o.2.2.2.1 4 s ≤ 99) ∧ (∀ i, i < 200 → o.2.2.2.2.2.1 i < 256) ∧ o.2.2.2.2.2.2.1 ≤ 200
def oRef (o : OS) (k : Nat) : OS := (o.1, o.2.1, o.2.2.1, o.2.2.2.1, o.2.2.2.2.1, o.2.2.2.2.2.1, o.2.2.2.2.2.2.1, upd o.2.2.2.2.2.2.2 k (o.2.2.2.2.2.2.2 k + 1))
def oW (o : OS) (S : WS) : OS := (S, o.2)
def bad (o : OS) (k : Nat) : Int32 × OS := (Int32.ofInt (-(k : Int)), oRef o k)
def badL (o : OS) (k : Nat) : Int64 × OS := (-1000000000000 + (Int32.ofInt (-(k : Int))).toInt64, oRef o k)
def badM (o : OS) (k : Nat) : Int32 × OS := (Int32.ofInt (-(k : Int)) - 1000000, oRef o k)
theorem oInv.ref {o : OS} (h : oInv o) (k : Nat) : oInv (oRef o k) := h
theorem oInv.w {o : OS} (h : oInv o) {S : WS} (hS : wInv S) : oInv (oW o S) := ⟨hS, h.2⟩
-- shelves
def setRow (o : OS) (s k n : Nat) : OS := (o.1, o.2.1, o.2.2.1, (fun f t => if t = s ∧ f < 3 then (if f = 0 then 1 else if f = 1 then k else n) else o.2.2.2.1 f t), (fun t i => if t = s then 0 else o.2.2.2.2.1 t i), o.2.2.2.2.2)
def setRule (o : OS) (s k a : Nat) : OS := (o.1, o.2.1, o.2.2.1, (fun f t => if t = s ∧ (f = 0 ∨ 3 ≤ f) then (if f = 0 then 2 else if f = 3 then k else a) else o.2.2.2.1 f t), o.2.2.2.2)
def setEl (o : OS) (s i : Nat) (v : Int64) : OS := (o.1, o.2.1, o.2.2.1, o.2.2.2.1, (fun t j => if t = s ∧ j = i then v else o.2.2.2.2.1 t j), o.2.2.2.2.2)
def fitV (k : Nat) (v : Int64) : Int64 := if k = 0 then v.toInt32.toInt8.toInt32.toInt64 else if k = 1 then v.toInt32.toInt16.toInt32.toInt64 else if k = 2 then v.toInt32.toInt64 else if k = 3 then v else if v = 0 then 0 else 1
def spRow (o : OS) (s k n : Int32) : Int32 × OS := el (rgb 0 7 s) (bad o 2) fun s => el (rgb 0 4 k) (bad o 2) fun k => el (rgb 0 40 n) (bad o 2) fun n => (1, setRow o s k n)
def spSet (o : OS) (s i : Int32) (v : Int64) : Int32 × OS := el (rgb 0 7 s) (bad o 2) fun s => if o.2.2.2.1 0 s = 2 then bad o 3 else if o.2.2.2.1 0 s = 0 then bad o 4 else el (rgn (o.2.2.2.1 2 s) i) (bad o 2) fun i => (1, setEl o s i (fitV (o.2.2.2.1 1 s) v))
def spElement (o : OS) (s i : Int32) : Int64 := el (rgb 0 7 s) 0 fun s => if o.2.2.2.1 0 s = 1 then el (rgn (o.2.2.2.1 2 s) i) 0 fun i => o.2.2.2.2.1 s i else 0
def spHolds (o : OS) (s : Int32) : Int32 := el (rgb 0 7 s) (-1) fun s => if o.2.2.2.1 0 s = 0 then -1 else if o.2.2.2.1 0 s = 1 then nI (o.2.2.2.1 1 s) else nI (10 + o.2.2.2.1 3 s)
def spRule (o : OS) (s k a : Int32) : Int32 × OS := el (rgb 0 7 s) (bad o 2) fun s => el (rgb 1 6 k) (bad o 2) fun k => el (rgb 0 99 a) (bad o 2) fun a => (1, setRule o s k a)
def under (k f : Nat) : Bool := decide (f = 0) || (decide (k = f) || (decide (f = 1 ∧ (k = 2 ∨ k = 3)) || decide (f = 4 ∧ k = 5)))
def spSays (o : OS) (s k : Int32) : Int32 × OS := el (rgb 0 7 s) (bad o 2) fun s => el (rgb 0 6 k) (bad o 2) fun k => if o.2.2.2.1 0 s = 1 ∨ (o.2.2.2.1 0 s = 2 ∧ under (o.2.2.2.1 3 s) k = false) then bad o 3 else if o.2.2.2.1 0 s = 0 then bad o 4 else if k = 0 then (nI (o.2.2.2.1 4 s), o) else if k = 6 then (nI (wiseH (o.2.2.2.1 4 s)), o) else if o.1.2 0 = 0 then bad o 5 else (oI (rget o.1 (o.2.2.2.1 3 s) (o.2.2.2.1 4 s) (wiseT o.1 (o.2.2.2.1 4 s)) 0 (stOf o.1)), o)
-- what there is
def wPut (S : WS) (f i v : Nat) : WS := (fun f2 i2 => if f2 = f ∧ i2 = i then v else S.1 f2 i2, S.2)
def wPut0 (S : WS) (f v : Nat) : WS := (S.1, fun f2 => if f2 = f then v else S.2 f2)
def spSize (o : OS) (z w v : Int32) : Int32 × OS := el (rgb 0 2 z) (bad o 2) fun z => el (rgb 0 2 w) (bad o 2) fun w => el (rgb 0 (if w = 2 then 10 else 4) v) (bad o 2) fun v => if (w = 0 ∧ v < o.1.1 1 z) ∨ (w = 1 ∧ o.1.1 0 z < v) then bad o 5 else (nI (o.1.1 w z), oW o (wPut o.1 w z v))
def tnl (v : Int64) : Nat := v.toInt.toNat
def rgl (lo hi : Nat) (v : Int64) : Option Nat := if lN lo ≤ v ∧ v ≤ lN hi then some (tnl v) else none
theorem tnl_lN {k : Nat} (h : k < 2 ^ 31) : tnl (lN k) = k := by unfold tnl; rw [lN_toInt h]; rfl
theorem lN_nn {v : Int64} {hi : Nat} (hh : hi < 2 ^ 31) (h : lN 0 ≤ v) (h2 : v ≤ lN hi) : ∃ j : Nat, j ≤ hi ∧ v = lN j := by
  rw [Int64.le_iff_toInt_le, lN_toInt (by decide)] at h
  rw [Int64.le_iff_toInt_le, lN_toInt hh] at h2
  refine ⟨v.toInt.toNat, by omega, ?_⟩
  have e : (lN v.toInt.toNat).toInt = v.toInt := by rw [lN_toInt (by omega)]; omega
  exact (Int64.toInt_inj.mp e).symm
theorem rgl_t {lo hi : Nat} {v : Int64} (hh : hi < 2 ^ 31) (hl : lo ≤ hi) (h : lN lo ≤ v ∧ v ≤ lN hi) : ∃ k, lo ≤ k ∧ k ≤ hi ∧ v = lN k ∧ rgl lo hi (lN k) = some k := by
  obtain ⟨k, hk, rfl⟩ := lN_nn hh (Int64.le_trans ((lN_le (a := 0) (b := lo) (by omega) (by omega)).mpr (Nat.zero_le lo)) h.1) h.2
  have h1 := (lN_le (by omega) (by omega)).mp h.1
  exact ⟨k, h1, hk, rfl, by unfold rgl; rw [if_pos h, tnl_lN (by omega)]⟩
theorem rgl_f {lo hi : Nat} {v : Int64} (h : ¬ (lN lo ≤ v ∧ v ≤ lN hi)) : rgl lo hi v = none := if_neg h
def addK (S : WS) (a b c d : Int64) : Nat := el (rgl 0 2 a) 2 fun _ => el (rgl 0 100 b) 2 fun b => el (rgl 1 99 c) 2 fun _ => el (rgl 0 99 d) 2 fun _ => if 100 < sumTo (S.1 4) (S.2 0) + b then 5 else if S.2 0 = 6 then 6 else 0
def addS (S : WS) (a b c d : Int64) : WS := (fun f i => if i = S.2 0 ∧ 3 ≤ f ∧ f < 7 then (if f = 3 then tnl a else if f = 4 then tnl b else if f = 5 then tnl c else tnl d) else S.1 f i, fun k => if k = 0 then S.2 0 + 1 else S.2 k)
def spSort (o : OS) (a b c d : Int32) : Int32 × OS := if addK o.1 a.toInt64 b.toInt64 c.toInt64 d.toInt64 = 0 then (nI (o.1.2 0), oW o (addS o.1 a.toInt64 b.toInt64 c.toInt64 d.toInt64)) else bad o (addK o.1 a.toInt64 b.toInt64 c.toInt64 d.toInt64)
def addsTo (f : Nat → Int64) : Nat → Nat → WS → Nat × WS
  | 0, i, S => (i, S)
  | n + 1, i, S => if addK S (f (4 * i)) (f (4 * i + 1)) (f (4 * i + 2)) (f (4 * i + 3)) = 0 then addsTo f n (i + 1) (addS S (f (4 * i)) (f (4 * i + 1)) (f (4 * i + 2)) (f (4 * i + 3))) else (i, S)
def spSorts (o : OS) (s n : Int32) : Int32 × OS := el (rgb 0 7 s) (bad o 2) fun s => if o.2.2.2.1 0 s = 2 then bad o 3 else if o.2.2.2.1 0 s = 0 then bad o 4 else el (rgb 0 (o.2.2.2.1 2 s) n) (bad o 2) fun n => if n % 4 = 0 then (nI (addsTo (o.2.2.2.2.1 s) (n / 4) 0 o.1).1, oW o (addsTo (o.2.2.2.2.1 s) (n / 4) 0 o.1).2) else bad o 2
def spSortOf (o : OS) (k w : Int32) : Int32 × OS := el (rgn (o.1.2 0) k) (bad o 2) fun k => el (rgb 0 3 w) (bad o 2) fun w => (nI (o.1.1 (3 + w) k), o)
def spAsk (o : OS) (w v : Int32) : Int32 × OS := el (rgb 0 1 w) (bad o 2) fun w => el (rgb 0 (if w = 0 then 10 else 99) v) (bad o 2) fun v => (nI (o.1.2 (1 + w)), oW o (wPut0 o.1 (1 + w) v))
-- the tape
def oTape (o : OS) (t : Nat → Nat) (n : Nat) : OS := (o.1, o.2.1, o.2.2.1, o.2.2.2.1, o.2.2.2.2.1, t, n, o.2.2.2.2.2.2.2)
def byteN (v : Int32) (k : Nat) : Nat := tn ((v >>> (nI (8 * k) &&& 31)) &&& 255)
/-- n bytes are fed, the highest first -/
def fedTo (t : Nat → Nat) (sz : Nat) (v : Int32) : Nat → (Nat → Nat) × Nat
  | 0 => (t, sz)
  | k + 1 => fedTo (fun i => if i = sz then byteN v k else t i) (sz + 1) v k
def spFeed (o : OS) (v n : Int32) : Int32 × OS := el (rgb 1 4 n) (bad o 2) fun n => if 200 < o.2.2.2.2.2.2.1 + n then bad o 6 else (nI (o.2.2.2.2.2.2.1 + n), oTape o (fedTo o.2.2.2.2.2.1 o.2.2.2.2.2.2.1 v n).1 (o.2.2.2.2.2.2.1 + n))
def spWipe (o : OS) : Int32 × OS := (nI o.2.2.2.2.2.2.1, oTape o o.2.2.2.2.2.1 0)
-- reading
def spState (o : OS) (w : Int32) : Int32 × OS := el (rgb 0 2 w) (bad o 2) fun w => if w = 0 then (nI (o.1.1 0 0 + o.1.1 0 1 + o.1.1 0 2 - o.1.1 1 0 - o.1.1 1 1 - o.1.1 1 2), o) else if w = 1 then (nI (o.1.1 1 0 + o.1.1 1 1 + o.1.1 1 2), o) else (nI (stOf o.1), o)
def spLost (o : OS) (k : Int32) : Int64 × OS := el (rgn (o.1.2 0) k) (badL o 2) fun k => (lostL o.1 k, o)
/-- a rule's shelf -/
def ruleEl {α : Type} (o : OS) (s : Int32) (b : Nat → α) (f : Nat → α) : α := el (rgb 0 7 s) (b 2) fun s => if o.2.2.2.1 0 s = 1 then b 3 else if o.2.2.2.1 0 s = 0 then b 4 else f s
def spGets (o : OS) (s k st : Int32) : Int32 × OS := el (rgb 0 7 s) (bad o 2) fun s => el (rgn (o.1.2 0) k) (bad o 2) fun k => el (rgb 0 124 st) (bad o 2) fun st => if isSt o.1 st = true then (if o.2.2.2.1 0 s = 1 then bad o 3 else if o.2.2.2.1 0 s = 0 then bad o 4 else (oI (rget o.1 (o.2.2.2.1 3 s) (o.2.2.2.1 4 s) (wiseT o.1 (o.2.2.2.1 4 s)) k st), o)) else bad o 2
/-- what the state now is worth by the rule of a shelf -/
def shV (o : OS) (s n : Nat) : Int64 := vals o.1 (rgM o.1 (o.2.2.2.1 3 s) (o.2.2.2.1 4 s) (wiseT o.1 (o.2.2.2.1 4 s))) n (stOf o.1)
def spValue (o : OS) (s n : Int32) : Int64 × OS := el (rgb 0 7 s) (badL o 2) fun s => el (rgb 0 24 n) (badL o 2) fun n => if o.2.2.2.1 0 s = 1 then badL o 3 else if o.2.2.2.1 0 s = 0 then badL o 4 else (shV o s n, o)
def spBest (o : OS) (n : Int32) : Int64 × OS := el (rgb 0 24 n) (badL o 2) fun n => (bestV o.1 n, o)
def spNow (o : OS) (k n : Int32) : Int32 × OS := el (rgn (o.1.2 0) k) (bad o 2) fun k => el (rgb 0 24 n) (bad o 2) fun n => (oI (bestO o.1 k (stOf o.1) (fun j => vals o.1 (rBest o.1) n j)), o)
def spGap (o : OS) (s n : Int32) : Int64 × OS := el (rgb 0 7 s) (badL o 2) fun s => el (rgb 0 24 n) (badL o 2) fun n => if o.2.2.2.1 0 s = 1 then badL o 3 else if o.2.2.2.1 0 s = 0 then badL o 4 else (bestV o.1 n - shV o s n, o)
/-- the first greatest of those below k of which p holds -/
def mxTo (p : Nat → Bool) (f : Nat → Int64) : Nat → Option Nat
  | 0 => none
  | k + 1 => match mxTo p f k with
    | none => if p k = true then some k else none
    | some y => if p k = true ∧ f y < f k then some k else some y
def spHead (o : OS) (n : Int32) : Int32 × OS := el (rgb 0 24 n) (bad o 2) fun n => match mxTo (fun s => decide (o.2.2.2.1 0 s = 2)) (fun s => shV o s n) 8 with
  | none => bad o 5
  | some s => (nI s, o)
def keepV (o : OS) (n a : Nat) : Int64 := vals o.1 (rgM o.1 2 a (wiseT o.1 a)) n (stOf o.1)
def spKeep (o : OS) (n : Int32) : Int32 × OS := el (rgb 0 24 n) (bad o 2) fun n => (oI (mxTo (fun _ => true) (keepV o n) 5), o)
theorem sw_out {lo hi : Nat} {v : Int32} (hl : lo < 2 ^ 31) (hh : hi < 2 ^ 31) (h : ¬ (nI lo ≤ v ∧ v ≤ nI hi)) : v.toInt < (lo : Int) ∨ (hi : Int) < v.toInt := by
  rw [Int32.le_iff_toInt_le, Int32.le_iff_toInt_le, nI_toInt hl, nI_toInt hh] at h; omega
def cpyV (f g : Nat → Int64) (i j n : Nat) : Nat → Int64 := fun t => if j ≤ t ∧ t < j + n then f (i + (t - j)) else g t
def setCopy (o : OS) (p q i j n : Nat) : OS := (o.1, o.2.1, o.2.2.1, o.2.2.2.1, (fun t => if t = q then cpyV (o.2.2.2.2.1 p) (o.2.2.2.2.1 q) i j n else o.2.2.2.2.1 t), o.2.2.2.2.2)
def spCopy (o : OS) (p q i j n : Int32) : Int32 × OS := el (rgb 0 7 p) (bad o 2) fun p => el (rgb 0 7 q) (bad o 2) fun q => if o.2.2.2.1 0 p = 2 ∨ o.2.2.2.1 0 q = 2 ∨ (o.2.2.2.1 0 p = 1 ∧ o.2.2.2.1 0 q = 1 ∧ o.2.2.2.1 1 p ≠ o.2.2.2.1 1 q) then bad o 3 else if o.2.2.2.1 0 p = 0 ∨ o.2.2.2.1 0 q = 0 then bad o 4 else el (rgb 0 40 n) (bad o 2) fun n => el (rgb 0 40 i) (bad o 2) fun i => el (rgb 0 40 j) (bad o 2) fun j => if i + n ≤ o.2.2.2.1 2 p ∧ j + n ≤ o.2.2.2.1 2 q then (nI n, setCopy o p q i j n) else bad o 2
