/-! x: copy -/
set_option maxRecDepth 100000
theorem ac_ok {t0 t1 : FieldType} {n0 n1 i j k : Nat} (hi : i < 2 ^ 31) (hj : j < 2 ^ 31) (hk : k < 2 ^ 31) (h0 : i + k ≤ n0) (h1 : j + k ≤ n1) : acWhat t0 t1 n0 n1 (nI i) (nI j) (nI k) = none := by
  unfold acWhat
  rw [if_neg (nI_pos hi), if_neg (nI_pos hj), if_neg (nI_pos hk), nI_toInt hi, nI_toInt hj, nI_toInt hk, if_neg (by omega), if_neg (by omega)]
theorem ac_inv {t0 t1 : FieldType} {n0 n1 : Nat} {sp dp n : Int32} (h : acWhat t0 t1 n0 n1 sp dp n = none) : ∃ i j k : Nat, i < 2 ^ 31 ∧ j < 2 ^ 31 ∧ k < 2 ^ 31 ∧ sp = nI i ∧ dp = nI j ∧ n = nI k ∧ i + k ≤ n0 ∧ j + k ≤ n1 := by
  unfold acWhat at h
  by_cases a : sp < 0
  · rw [if_pos a] at h; cases h
  by_cases b : dp < 0
  · rw [if_neg a, if_pos b] at h; cases h
  by_cases c : n < 0
  · rw [if_neg a, if_neg b, if_pos c] at h; cases h
  rw [if_neg a, if_neg b, if_neg c] at h
  obtain ⟨i, hi, rfl⟩ := nI_of a
  obtain ⟨j, hj, rfl⟩ := nI_of b
  obtain ⟨k, hk, rfl⟩ := nI_of c
  rw [nI_toInt hi, nI_toInt hj, nI_toInt hk] at h
  by_cases d : (i : Int) + (k : Int) > (n0 : Int)
  · rw [if_pos d] at h; cases h
  by_cases e : (j : Int) + (k : Int) > (n1 : Int)
  · rw [if_neg d, if_pos e] at h; cases h
  exact ⟨i, j, k, hi, hj, hk, rfl, rfl, rfl, by omega, by omega⟩
theorem rgb_inv {lo hi k : Nat} {v : Int32} (hh : hi < 2 ^ 31) (hl : lo ≤ hi) (h : rgb lo hi v = some k) : v = nI k ∧ lo ≤ k ∧ k ≤ hi := by
  by_cases q : nI lo ≤ v ∧ v ≤ nI hi
  · obtain ⟨k2, h1, h2, rfl, e⟩ := rgb_t hh hl q
    rw [e] at h; cases h
    exact ⟨rfl, h1, h2⟩
  · rw [rgb_f q] at h; cases h
theorem copy_out {α : Type} {t0 t1 : FieldType} {n0 n1 : Nat} {i j n : Int32} {t : String} {d : α} {F : Nat → Nat → Nat → α} (h : acWhat t0 t1 n0 n1 i j n = some t) : (el (rgb 0 40 n) d fun n => el (rgb 0 40 i) d fun i => el (rgb 0 40 j) d fun j => if i + n ≤ n0 ∧ j + n ≤ n1 then F n i j else d) = d := by
  rcases el_or (rgb 0 40 n) with e1 | ⟨k, e1⟩
  · rw [el_none e1]
  rw [el_some e1]
  rcases el_or (rgb 0 40 i) with e2 | ⟨i2, e2⟩
  · rw [el_none e2]
  rw [el_some e2]
  rcases el_or (rgb 0 40 j) with e3 | ⟨j2, e3⟩
  · rw [el_none e3]
  rw [el_some e3]
  obtain ⟨rfl, -, k1⟩ := rgb_inv (by decide) (by decide) e1
  obtain ⟨rfl, -, k2⟩ := rgb_inv (by decide) (by decide) e2
  obtain ⟨rfl, -, k3⟩ := rgb_inv (by decide) (by decide) e3
  refine if_neg fun q => ?_
  rw [ac_ok (by omega) (by omega) (by omega) q.1 q.2] at h
  cases h
theorem copy_in {α : Type} {n0 n1 i j k : Nat} {d : α} {F : Nat → Nat → Nat → α} (h0 : i + k ≤ n0) (h1 : j + k ≤ n1) (g0 : n0 ≤ 40) (g1 : n1 ≤ 40) : (el (rgb 0 40 (nI k)) d fun n => el (rgb 0 40 (nI i)) d fun i => el (rgb 0 40 (nI j)) d fun j => if i + n ≤ n0 ∧ j + n ≤ n1 then F n i j else d) = F k i j := by
  rw [el_some (rgb_nI (lo := 0) (hi := 40) (k := k) ⟨by omega, by omega⟩ (by decide)), el_some (rgb_nI (lo := 0) (hi := 40) (k := i) ⟨by omega, by omega⟩ (by decide)), el_some (rgb_nI (lo := 0) (hi := 40) (k := j) ⟨by omega, by omega⟩ (by decide)), if_pos ⟨h0, h1⟩]
theorem fit_b (y : Int8) : fits .byte (.int y.toInt32) = true := by
  show (decide ((-128 : Int32) ≤ y.toInt32) && decide (y.toInt32 ≤ (127 : Int32))) = true
  have h1 := Int8.le_toInt y
  have h2 := Int8.toInt_lt y
  rw [Bool.and_eq_true, decide_eq_true_iff, decide_eq_true_iff, Int32.le_iff_toInt_le, Int32.le_iff_toInt_le, Int8.toInt_toInt32, show (-128 : Int32).toInt = -128 from rfl, show (127 : Int32).toInt = 127 from rfl]
  omega
theorem fit_s (y : Int16) : fits .short (.int y.toInt32) = true := by
  show (decide ((-32768 : Int32) ≤ y.toInt32) && decide (y.toInt32 ≤ (32767 : Int32))) = true
  have h1 := Int16.le_toInt y
  have h2 := Int16.toInt_lt y
  rw [Bool.and_eq_true, decide_eq_true_iff, decide_eq_true_iff, Int32.le_iff_toInt_le, Int32.le_iff_toInt_le, Int16.toInt_toInt32, show (-32768 : Int32).toInt = -32768 from rfl, show (32767 : Int32).toInt = 32767 from rfl]
  omega
theorem row_fit0 {n x : Nat} {f : Nat → Int64} (h : rowOk 0 n f) (hx : x < n) : fits .byte (.int (f x).toInt32) = true := by
  have e : (f x).toInt32 = (f x).toInt32.toInt8.toInt32 := by
    have h9 : (f x).toInt32.toInt8.toInt32.toInt64 = f x := h x hx
    have := congrArg Int64.toInt32 h9
    rw [i64_i32] at this
    exact this.symm
  rw [e]; exact fit_b _
theorem row_fit1 {n x : Nat} {f : Nat → Int64} (h : rowOk 1 n f) (hx : x < n) : fits .short (.int (f x).toInt32) = true := by
  have e : (f x).toInt32 = (f x).toInt32.toInt16.toInt32 := by
    have h9 : (f x).toInt32.toInt16.toInt32.toInt64 = f x := h x hx
    have := congrArg Int64.toInt32 h9
    rw [i64_i32] at this
    exact this.symm
  rw [e]; exact fit_s _
theorem row_fit4 {n x : Nat} {f : Nat → Int64} (h : rowOk 4 n f) (hx : x < n) : fits .boolean (.int (f x).toInt32) = true := by
  have h9 : (if f x = 0 then (0 : Int64) else 1) = f x := h x hx
  by_cases q : f x = 0
  · rw [q]; rfl
  · rw [if_neg q] at h9
    rw [← h9]; rfl
theorem cpy_row {f g : Nat → Int64} {i j m : Nat} (hi : i < 2 ^ 31) (hj : j < 2 ^ 31) (hm : m < 2 ^ 31) : va_cpy (fun t => (f t).toInt32) (fun t => (g t).toInt32) (nI i).toNatClampNeg (nI j).toNatClampNeg (nI m).toNatClampNeg = fun t => (cpyV f g i j m t).toInt32 := by
  rw [nI_clamp hi, nI_clamp hj, nI_clamp hm]
  funext t
  unfold va_cpy cpyV
  split <;> rfl
theorem cpy_rowL {f g : Nat → Int64} {i j m : Nat} (hi : i < 2 ^ 31) (hj : j < 2 ^ 31) (hm : m < 2 ^ 31) : va_cpy f g (nI i).toNatClampNeg (nI j).toNatClampNeg (nI m).toNatClampNeg = cpyV f g i j m := by
  rw [nI_clamp hi, nI_clamp hj, nI_clamp hm]
  funext t
  unfold va_cpy cpyV
  split <;> rfl
section ZCR
variable {κ : ZK} {cc : ByteArray} {own nm : String} {nL : Nat} {ret : Option FieldType} {l : Launch} {d mc ms : Nat} {G : GG} {w0 w : GW} {post : Option Value → GW → Prop} {lv : List (Nat × Value)} {a b pc : Nat} {rest : List Value}
theorem z_acIn (X : ZX κ cc own nL ret nm l d mc ms G w0 post) {ix q0 q1 k n0 n1 : Nat} {f g : Nat → Int64} {i j m : Nat} (hk : k ≤ 4) (hw0 : w q0 = some (rowE G k n0 f)) (hw1 : w q1 = some (rowE G k n1 g)) (hi : i < 2 ^ 31) (hj : j < 2 ^ 31) (hm : m < 2 ^ 31) (h0 : i + m ≤ n0) (h1 : j + m ≤ n1) (ho : rowOk k n0 f) (hdg : decode cc pc = .ok (.invokestatic ix, 3)) (hq : Cond.methodLink own ix arraycopyName ∈ lw_all) (hW : (rest.map fun v => v.category).sum ≤ 8) (hd : 3 ≤ d) (kk : Z κ (gu w q1 (rowE G k n1 (cpyV f g i j m))) lv a b (pc + 3) rest) : Z κ w lv a b pc (.int (nI m) :: .int (nI j) :: .ref q1 :: .int (nI i) :: .ref q0 :: rest) := by
  have g0 : (nI i).toNatClampNeg + (nI m).toNatClampNeg ≤ n0 := by rw [nI_clamp hi, nI_clamp hm]; exact h0
  have g1 : (nI j).toNatClampNeg + (nI m).toNatClampNeg ≤ n1 := by rw [nI_clamp hj, nI_clamp hm]; exact h1
  have gx : ∀ t, t < (nI m).toNatClampNeg → (nI i).toNatClampNeg + t < n0 := fun t ht => by omega
  rcases (show k = 0 ∨ k = 1 ∨ k = 2 ∨ k = 3 ∨ k = 4 by omega) with rfl | rfl | rfl | rfl | rfl
  · refine z_cpyI (t := 2) (ty := .byte) X rfl rfl (show w q0 = some (.inl (G.2.1 2, n0, .inl (fun t => (f t).toInt32))) from hw0) (show w q1 = some (.inl (G.2.1 2, n1, .inl (fun t => (g t).toInt32))) from hw1) (nI_pos hi) (nI_pos hj) (nI_pos hm) g0 g1 (fun t ht => row_fit0 ho (gx t ht)) hdg hq hW hd ?_
    rw [cpy_row hi hj hm]
    exact kk
  · refine z_cpyI (t := 3) (ty := .short) X rfl rfl (show w q0 = some (.inl (G.2.1 3, n0, .inl (fun t => (f t).toInt32))) from hw0) (show w q1 = some (.inl (G.2.1 3, n1, .inl (fun t => (g t).toInt32))) from hw1) (nI_pos hi) (nI_pos hj) (nI_pos hm) g0 g1 (fun t ht => row_fit1 ho (gx t ht)) hdg hq hW hd ?_
    rw [cpy_row hi hj hm]
    exact kk
  · refine z_cpyI (t := 0) (ty := .int) X rfl rfl (show w q0 = some (.inl (G.2.1 0, n0, .inl (fun t => (f t).toInt32))) from hw0) (show w q1 = some (.inl (G.2.1 0, n1, .inl (fun t => (g t).toInt32))) from hw1) (nI_pos hi) (nI_pos hj) (nI_pos hm) g0 g1 (fun t ht => rfl) hdg hq hW hd ?_
    rw [cpy_row hi hj hm]
    exact kk
  · refine z_cpyL (t := 1) (ty := .long) X rfl rfl (show w q0 = some (.inl (G.2.1 1, n0, .inr (.inl f))) from hw0) (show w q1 = some (.inl (G.2.1 1, n1, .inr (.inl g))) from hw1) (nI_pos hi) (nI_pos hj) (nI_pos hm) g0 g1 (fun t ht => rfl) hdg hq hW hd ?_
    rw [cpy_rowL hi hj hm]
    exact kk
  · refine z_cpyI (t := 4) (ty := .boolean) X rfl rfl (show w q0 = some (.inl (G.2.1 4, n0, .inl (fun t => (f t).toInt32))) from hw0) (show w q1 = some (.inl (G.2.1 4, n1, .inl (fun t => (g t).toInt32))) from hw1) (nI_pos hi) (nI_pos hj) (nI_pos hm) g0 g1 (fun t ht => row_fit4 ho (gx t ht)) hdg hq hW hd ?_
    rw [cpy_row hi hj hm]
    exact kk
theorem z_acNe (X : ZX κ cc own nL ret nm l d mc ms G w0 post) (V : ZV κ) {ix q0 q1 k0 k1 n0 n1 : Nat} {f g : Nat → Int64} {sp dp n : Int32} (hk0 : k0 ≤ 4) (hk1 : k1 ≤ 4) (hne : k0 ≠ k1) (hw0 : w q0 = some (rowE G k0 n0 f)) (hw1 : w q1 = some (rowE G k1 n1 g)) (hdg : decode cc pc = .ok (.invokestatic ix, 3)) (hq : Cond.methodLink own ix arraycopyName ∈ lw_all) (hW : (rest.map fun v => v.category).sum ≤ 8) (hd : 162 ≤ d) (hf : a + 3 ≤ mc ∧ b + 314 ≤ ms) (kk : ∀ q : Nat, ZT κ "java/lang/ArrayStoreException" q w lv (a + 3) (b + 314) pc) : Z κ w lv a b pc (.int n :: .int dp :: .ref q1 :: .int sp :: .ref q0 :: rest) := by
  rcases (show k0 = 0 ∨ k0 = 1 ∨ k0 = 2 ∨ k0 = 3 ∨ k0 = 4 by omega) with rfl | rfl | rfl | rfl | rfl <;> rcases (show k1 = 0 ∨ k1 = 1 ∨ k1 = 2 ∨ k1 = 3 ∨ k1 = 4 by omega) with rfl | rfl | rfl | rfl | rfl
  · exact absurd rfl hne
  · exact zt_acT (t0 := 2) (t1 := 3) (ty0 := .byte) (ty1 := .short) X V rfl rfl (show w q0 = some (.inl (G.2.1 2, n0, .inl (fun t => (f t).toInt32))) from hw0) (show w q1 = some (.inl (G.2.1 3, n1, .inl (fun t => (g t).toInt32))) from hw1) rfl hdg hq hW hd hf kk
  · exact zt_acT (t0 := 2) (t1 := 0) (ty0 := .byte) (ty1 := .int) X V rfl rfl (show w q0 = some (.inl (G.2.1 2, n0, .inl (fun t => (f t).toInt32))) from hw0) (show w q1 = some (.inl (G.2.1 0, n1, .inl (fun t => (g t).toInt32))) from hw1) rfl hdg hq hW hd hf kk
  · exact zt_acT (t0 := 2) (t1 := 1) (ty0 := .byte) (ty1 := .long) X V rfl rfl (show w q0 = some (.inl (G.2.1 2, n0, .inl (fun t => (f t).toInt32))) from hw0) (show w q1 = some (.inl (G.2.1 1, n1, .inr (.inl g))) from hw1) rfl hdg hq hW hd hf kk
  · exact zt_acT (t0 := 2) (t1 := 4) (ty0 := .byte) (ty1 := .boolean) X V rfl rfl (show w q0 = some (.inl (G.2.1 2, n0, .inl (fun t => (f t).toInt32))) from hw0) (show w q1 = some (.inl (G.2.1 4, n1, .inl (fun t => (g t).toInt32))) from hw1) rfl hdg hq hW hd hf kk
  · exact zt_acT (t0 := 3) (t1 := 2) (ty0 := .short) (ty1 := .byte) X V rfl rfl (show w q0 = some (.inl (G.2.1 3, n0, .inl (fun t => (f t).toInt32))) from hw0) (show w q1 = some (.inl (G.2.1 2, n1, .inl (fun t => (g t).toInt32))) from hw1) rfl hdg hq hW hd hf kk
  · exact absurd rfl hne
  · exact zt_acT (t0 := 3) (t1 := 0) (ty0 := .short) (ty1 := .int) X V rfl rfl (show w q0 = some (.inl (G.2.1 3, n0, .inl (fun t => (f t).toInt32))) from hw0) (show w q1 = some (.inl (G.2.1 0, n1, .inl (fun t => (g t).toInt32))) from hw1) rfl hdg hq hW hd hf kk
  · exact zt_acT (t0 := 3) (t1 := 1) (ty0 := .short) (ty1 := .long) X V rfl rfl (show w q0 = some (.inl (G.2.1 3, n0, .inl (fun t => (f t).toInt32))) from hw0) (show w q1 = some (.inl (G.2.1 1, n1, .inr (.inl g))) from hw1) rfl hdg hq hW hd hf kk
  · exact zt_acT (t0 := 3) (t1 := 4) (ty0 := .short) (ty1 := .boolean) X V rfl rfl (show w q0 = some (.inl (G.2.1 3, n0, .inl (fun t => (f t).toInt32))) from hw0) (show w q1 = some (.inl (G.2.1 4, n1, .inl (fun t => (g t).toInt32))) from hw1) rfl hdg hq hW hd hf kk
  · exact zt_acT (t0 := 0) (t1 := 2) (ty0 := .int) (ty1 := .byte) X V rfl rfl (show w q0 = some (.inl (G.2.1 0, n0, .inl (fun t => (f t).toInt32))) from hw0) (show w q1 = some (.inl (G.2.1 2, n1, .inl (fun t => (g t).toInt32))) from hw1) rfl hdg hq hW hd hf kk
  · exact zt_acT (t0 := 0) (t1 := 3) (ty0 := .int) (ty1 := .short) X V rfl rfl (show w q0 = some (.inl (G.2.1 0, n0, .inl (fun t => (f t).toInt32))) from hw0) (show w q1 = some (.inl (G.2.1 3, n1, .inl (fun t => (g t).toInt32))) from hw1) rfl hdg hq hW hd hf kk
  · exact absurd rfl hne
  · exact zt_acT (t0 := 0) (t1 := 1) (ty0 := .int) (ty1 := .long) X V rfl rfl (show w q0 = some (.inl (G.2.1 0, n0, .inl (fun t => (f t).toInt32))) from hw0) (show w q1 = some (.inl (G.2.1 1, n1, .inr (.inl g))) from hw1) rfl hdg hq hW hd hf kk
  · exact zt_acT (t0 := 0) (t1 := 4) (ty0 := .int) (ty1 := .boolean) X V rfl rfl (show w q0 = some (.inl (G.2.1 0, n0, .inl (fun t => (f t).toInt32))) from hw0) (show w q1 = some (.inl (G.2.1 4, n1, .inl (fun t => (g t).toInt32))) from hw1) rfl hdg hq hW hd hf kk
  · exact zt_acT (t0 := 1) (t1 := 2) (ty0 := .long) (ty1 := .byte) X V rfl rfl (show w q0 = some (.inl (G.2.1 1, n0, .inr (.inl f))) from hw0) (show w q1 = some (.inl (G.2.1 2, n1, .inl (fun t => (g t).toInt32))) from hw1) rfl hdg hq hW hd hf kk
  · exact zt_acT (t0 := 1) (t1 := 3) (ty0 := .long) (ty1 := .short) X V rfl rfl (show w q0 = some (.inl (G.2.1 1, n0, .inr (.inl f))) from hw0) (show w q1 = some (.inl (G.2.1 3, n1, .inl (fun t => (g t).toInt32))) from hw1) rfl hdg hq hW hd hf kk
  · exact zt_acT (t0 := 1) (t1 := 0) (ty0 := .long) (ty1 := .int) X V rfl rfl (show w q0 = some (.inl (G.2.1 1, n0, .inr (.inl f))) from hw0) (show w q1 = some (.inl (G.2.1 0, n1, .inl (fun t => (g t).toInt32))) from hw1) rfl hdg hq hW hd hf kk
  · exact absurd rfl hne
  · exact zt_acT (t0 := 1) (t1 := 4) (ty0 := .long) (ty1 := .boolean) X V rfl rfl (show w q0 = some (.inl (G.2.1 1, n0, .inr (.inl f))) from hw0) (show w q1 = some (.inl (G.2.1 4, n1, .inl (fun t => (g t).toInt32))) from hw1) rfl hdg hq hW hd hf kk
  · exact zt_acT (t0 := 4) (t1 := 2) (ty0 := .boolean) (ty1 := .byte) X V rfl rfl (show w q0 = some (.inl (G.2.1 4, n0, .inl (fun t => (f t).toInt32))) from hw0) (show w q1 = some (.inl (G.2.1 2, n1, .inl (fun t => (g t).toInt32))) from hw1) rfl hdg hq hW hd hf kk
  · exact zt_acT (t0 := 4) (t1 := 3) (ty0 := .boolean) (ty1 := .short) X V rfl rfl (show w q0 = some (.inl (G.2.1 4, n0, .inl (fun t => (f t).toInt32))) from hw0) (show w q1 = some (.inl (G.2.1 3, n1, .inl (fun t => (g t).toInt32))) from hw1) rfl hdg hq hW hd hf kk
  · exact zt_acT (t0 := 4) (t1 := 0) (ty0 := .boolean) (ty1 := .int) X V rfl rfl (show w q0 = some (.inl (G.2.1 4, n0, .inl (fun t => (f t).toInt32))) from hw0) (show w q1 = some (.inl (G.2.1 0, n1, .inl (fun t => (g t).toInt32))) from hw1) rfl hdg hq hW hd hf kk
  · exact zt_acT (t0 := 4) (t1 := 1) (ty0 := .boolean) (ty1 := .long) X V rfl rfl (show w q0 = some (.inl (G.2.1 4, n0, .inl (fun t => (f t).toInt32))) from hw0) (show w q1 = some (.inl (G.2.1 1, n1, .inr (.inl g))) from hw1) rfl hdg hq hW hd hf kk
  · exact absurd rfl hne
theorem z_acOut (X : ZX κ cc own nL ret nm l d mc ms G w0 post) (V : ZV κ) {ix q0 q1 k n0 n1 : Nat} {f g : Nat → Int64} {sp dp n : Int32} (hk : k ≤ 4) (hw0 : w q0 = some (rowE G k n0 f)) (hw1 : w q1 = some (rowE G k n1 g)) (g0 : n0 ≤ 40) (g1 : n1 ≤ 40) (ht : ∀ t0 t1, acWhat t0 t1 n0 n1 sp dp n ≠ none) (hdg : decode cc pc = .ok (.invokestatic ix, 3)) (hq : Cond.methodLink own ix arraycopyName ∈ lw_all) (hW : (rest.map fun v => v.category).sum ≤ 8) (hd : 162 ≤ d) (hf : a + 3 ≤ mc ∧ b + 410 ≤ ms) (kk : ∀ q : Nat, ZT κ "java/lang/ArrayIndexOutOfBoundsException" q w lv (a + 3) (b + 410) pc) : Z κ w lv a b pc (.int n :: .int dp :: .ref q1 :: .int sp :: .ref q0 :: rest) := by
  rcases (show k = 0 ∨ k = 1 ∨ k = 2 ∨ k = 3 ∨ k = 4 by omega) with rfl | rfl | rfl | rfl | rfl
  · obtain ⟨t, ht9⟩ := Option.ne_none_iff_exists'.mp (ht .byte .byte)
    exact zt_acB (t0 := 2) (t1 := 2) (ty0 := .byte) (ty1 := .byte) X V rfl rfl (show w q0 = some (.inl (G.2.1 2, n0, .inl (fun t => (f t).toInt32))) from hw0) (show w q1 = some (.inl (G.2.1 2, n1, .inl (fun t => (g t).toInt32))) from hw1) rfl (by show n0 < 2 ^ 31; omega) (by show n1 < 2 ^ 31; omega) ht9 hdg hq hW hd hf kk
  · obtain ⟨t, ht9⟩ := Option.ne_none_iff_exists'.mp (ht .short .short)
    exact zt_acB (t0 := 3) (t1 := 3) (ty0 := .short) (ty1 := .short) X V rfl rfl (show w q0 = some (.inl (G.2.1 3, n0, .inl (fun t => (f t).toInt32))) from hw0) (show w q1 = some (.inl (G.2.1 3, n1, .inl (fun t => (g t).toInt32))) from hw1) rfl (by show n0 < 2 ^ 31; omega) (by show n1 < 2 ^ 31; omega) ht9 hdg hq hW hd hf kk
  · obtain ⟨t, ht9⟩ := Option.ne_none_iff_exists'.mp (ht .int .int)
    exact zt_acB (t0 := 0) (t1 := 0) (ty0 := .int) (ty1 := .int) X V rfl rfl (show w q0 = some (.inl (G.2.1 0, n0, .inl (fun t => (f t).toInt32))) from hw0) (show w q1 = some (.inl (G.2.1 0, n1, .inl (fun t => (g t).toInt32))) from hw1) rfl (by show n0 < 2 ^ 31; omega) (by show n1 < 2 ^ 31; omega) ht9 hdg hq hW hd hf kk
  · obtain ⟨t, ht9⟩ := Option.ne_none_iff_exists'.mp (ht .long .long)
    exact zt_acB (t0 := 1) (t1 := 1) (ty0 := .long) (ty1 := .long) X V rfl rfl (show w q0 = some (.inl (G.2.1 1, n0, .inr (.inl f))) from hw0) (show w q1 = some (.inl (G.2.1 1, n1, .inr (.inl g))) from hw1) rfl (by show n0 < 2 ^ 31; omega) (by show n1 < 2 ^ 31; omega) ht9 hdg hq hW hd hf kk
  · obtain ⟨t, ht9⟩ := Option.ne_none_iff_exists'.mp (ht .boolean .boolean)
    exact zt_acB (t0 := 4) (t1 := 4) (ty0 := .boolean) (ty1 := .boolean) X V rfl rfl (show w q0 = some (.inl (G.2.1 4, n0, .inl (fun t => (f t).toInt32))) from hw0) (show w q1 = some (.inl (G.2.1 4, n1, .inl (fun t => (g t).toInt32))) from hw1) rfl (by show n0 < 2 ^ 31; omega) (by show n1 < 2 ^ 31; omega) ht9 hdg hq hW hd hf kk
end ZCR
theorem ac_any {t0 t1 t2 t3 : FieldType} {n0 n1 : Nat} {sp dp n : Int32} (h : acWhat t0 t1 n0 n1 sp dp n ≠ none) : acWhat t2 t3 n0 n1 sp dp n ≠ none := fun q => by
  obtain ⟨i, j, k, hi, hj, hk, rfl, rfl, rfl, h0, h1⟩ := ac_inv q
  exact h (ac_ok hi hj hk h0 h1)
theorem XT.rowput {G : GG} {w : GW} {xa : Nat → Nat} {rr : Option Nat} {o : OS} {im : IM} (h : XT G w xa rr o im) {s : Nat} (hs : s < 8) (hk : o.2.2.2.1 0 s = 1) {f2 g : Nat → Int64} (ho : rowOk (o.2.2.2.1 1 s) (o.2.2.2.1 2 s) f2) (he : ∀ i, i < o.2.2.2.1 2 s → f2 i = g i) : XT G (gu w (xa (40 + s)) (rowE G (o.2.2.2.1 1 s) (o.2.2.2.1 2 s) f2)) xa rr (o.1, o.2.1, o.2.2.1, o.2.2.2.1, (fun t => if t = s then g else o.2.2.2.2.1 t), o.2.2.2.2.2) im := by
  obtain ⟨C, hW, hC⟩ := h
  have hc : ∃ f3, C (40 + s) = some (rowE G (o.2.2.2.1 1 s) (o.2.2.2.1 2 s) f3) ∧ C (30 + s) = some (.inr (3, [.ref (xa (40 + s))])) := by
    rcases hC.cs s hs with ⟨q, -⟩ | ⟨-, h3, f3, h4, -⟩ | ⟨q, -⟩
    · rw [q] at hk; cases hk
    · exact ⟨f3, h4, h3⟩
    · rw [q] at hk; cases hk
  obtain ⟨f3, hc, h30⟩ := hc
  obtain ⟨g0, g1, g2, g3, g4, g5, g6, g7⟩ := hC.high (k := 40 + s) (e := rowE G (o.2.2.2.1 1 s) (o.2.2.2.1 2 s) f2) (by omega)
  refine ⟨setC C (40 + s) _, hW.put hc, ⟨?_, ?_, ?_, ?_, ?_, ?_, g6, g7, ?_, hC.cn⟩⟩
  · rw [g0]; exact hC.c0
  · rw [g1]; exact hC.c1
  · rw [g2]; exact hC.c2
  · rw [g3]; exact hC.c3
  · rw [g4]; exact hC.c4
  · intro i hi
    rw [g5 i hi]; exact hC.cw i hi
  · intro t ht
    by_cases hts : t = s
    · subst hts
      refine Or.inr (Or.inl ⟨hk, by rw [setC_n (by omega)]; exact h30, _, setC_s, ho, fun j hj => ?_⟩)
      show f2 j = (if t = t then g else _) j
      rw [if_pos rfl]; exact he j hj
    · have := hC.cs t ht
      have ee : (if t = s then g else o.2.2.2.2.1 t) = o.2.2.2.2.1 t := if_neg hts
      unfold ShC at this ⊢
      rw [setC_n (by omega), setC_n (by omega), setC_n (by omega)]
      rcases this with q | ⟨q1, q2, f3, q3, q4, q5⟩ | q
      · exact Or.inl q
      · exact Or.inr (Or.inl ⟨q1, q2, f3, q3, q4, fun j hj => by show f3 j = (if t = s then g else o.2.2.2.2.1 t) j; rw [ee]; exact q5 j hj⟩)
      · exact Or.inr (Or.inr q)
theorem XT.copied {G : GG} {w : GW} {xa : Nat → Nat} {rr : Option Nat} {o : OS} {im : IM} (h : XT G w xa rr o im) {p q : Nat} (hp : p < 8) (hq : q < 8) (hkq : o.2.2.2.1 0 q = 1) (hs : o.2.2.2.1 1 p = o.2.2.2.1 1 q) {f g : Nat → Int64} (hf : rowOk (o.2.2.2.1 1 p) (o.2.2.2.1 2 p) f) (hg : rowOk (o.2.2.2.1 1 q) (o.2.2.2.1 2 q) g) (ef : ∀ i, i < o.2.2.2.1 2 p → f i = o.2.2.2.2.1 p i) (eg : ∀ i, i < o.2.2.2.1 2 q → g i = o.2.2.2.2.1 q i) {i j k : Nat} (h0 : i + k ≤ o.2.2.2.1 2 p) (h1 : j + k ≤ o.2.2.2.1 2 q) : XT G (gu w (xa (40 + q)) (rowE G (o.2.2.2.1 1 q) (o.2.2.2.1 2 q) (cpyV f g i j k))) xa rr (setCopy o p q i j k) im := by
  refine h.rowput hq hkq (fun t ht => ?_) (fun t ht => ?_)
  · unfold cpyV
    by_cases z : j ≤ t ∧ t < j + k
    · rw [if_pos z, ← hs]; exact hf _ (by omega)
    · rw [if_neg z]; exact hg t ht
  · unfold cpyV
    by_cases z : j ≤ t ∧ t < j + k
    · rw [if_pos z, if_pos z]; exact ef _ (by omega)
    · rw [if_neg z, if_neg z]; exact eg t ht
set_option maxHeartbeats 2000000 in
theorem x_copy {l : Launch} {G : GG} (hl : l.stackTraces = false) {w : GW} {xa : Nat → Nat} {rr : Option Nat} {o : OS} {im : IM} (hX : XT G w xa rr o im) (hO : oInv o) {p q i j n : Int32} : gMX l G yX0_copy (wsW_ yX0_copy cX0_copy 9 (some .int) [(66, 80, 81, 144), (66, 80, 90, 146), (66, 80, 99, 148)]) 170 3 410 [.ref (xa 0), .int (p), .int (q), .int (i), .int (j), .int (n)] w (pI (fun r w1 => XE G (xa 0) w1 (spCopy o p q i j n).2 im ∧ r = (spCopy o p q i j n).1)) (pN) := by
  refine Z.metW (own := "ThreeSizes") (nm := "copy") (lv := [(0, .ref (xa 0)), (1, .int (p)), (2, .int (q)), (3, .int (i)), (4, .int (j)), (5, .int (n))]) (by decide) rfl rfl (Nat.le_of_ble_eq_true rfl) rfl (fun κ X Y V0 => ?_)
  have V := V0 hl
  have hI := hO.1
  have h6 := hI.2.1
  have ht200 := hO.2.2.2
  refine z_iload_n X dX0_copy_0 rfl 1 rfl ?_
  refine z_cip (z_runS (rest := []) (n := 1) X [.int (p)] (m_X0_isShelf (v := p)) dX0_copy_1 (lw_S q344 q345 q66 q346) hs_X0_isShelf rfl ⟨Nat.le_of_ble_eq_true rfl, Nat.le_of_ble_eq_true rfl⟩ ⟨by omega, by omega⟩ rfl (Nat.le_of_ble_eq_true rfl)) ?_
  refine z_if_eq (tgt := 14) X dX0_copy_4 (by decide) bI_d (fun c1 => ?_) (fun c1 => ?_)
  · have e1 : rgb 0 7 p = none := rgb_f c1
    refine z_aload_n X dX0_copy_14 rfl 0 rfl ?_
    refine z_bipush (v := (-2)) X dX0_copy_15 (by decide) ?_
    refine z_ci (z_runV (rest := []) (n := 1) X [.int ((-2))] (m_X0_no_2 hX) dX0_copy_17 hX.ob rfl (lw_V q350 q352 qs2 q66 q353) hv_X0_no rfl ⟨Nat.le_of_ble_eq_true rfl, Nat.le_of_ble_eq_true rfl⟩ ⟨by omega, by omega⟩ rfl (Nat.le_of_ble_eq_true rfl)) (fun r2 w4 h3 => ?_)
    obtain ⟨r2e, hX3⟩ := h3
    rw [r2e]
    have e : spCopy o p q i j n = ((-2), oRef o 2) := by
      unfold spCopy
      repeat (first | rw [el_some (by assumption)] | rw [el_none (by assumption)])
      rfl
    exact z_iret X dX0_copy_20 (by omega) (by omega) ⟨_, rfl, (by rw [e]; exact ⟨⟨_, _, rfl, hX3⟩, rfl⟩)⟩
  · have c1 := Classical.not_not.mp c1
    obtain ⟨pN, pNl, pNh, rfl, e2⟩ := rgb_t (lo := 0) (hi := 7) (by decide) (by decide) (c1)
    refine z_iload_n X dX0_copy_7 rfl 2 rfl ?_
    refine z_cip (z_runS (rest := []) (n := 1) X [.int (q)] (m_X0_isShelf (v := q)) dX0_copy_8 (lw_S q344 q345 q66 q346) hs_X0_isShelf rfl ⟨Nat.le_of_ble_eq_true rfl, Nat.le_of_ble_eq_true rfl⟩ ⟨by omega, by omega⟩ rfl (Nat.le_of_ble_eq_true rfl)) ?_
    refine z_if_ne (tgt := 21) X dX0_copy_11 (by decide) bI_d (fun c5 => ?_) (fun c5 => ?_)
    · have c5 := Classical.not_not.mp c5
      obtain ⟨qN, qNl, qNh, rfl, e3⟩ := rgb_t (lo := 0) (hi := 7) (by decide) (by decide) (c5)
      refine z_aload_n X dX0_copy_21 rfl 0 rfl ?_
      refine z_get X dX0_copy_22 hX.ob in_X0 rfl 2 (Nat.le_of_ble_eq_true rfl) q235 rfl ?_
      refine z_iload_n X dX0_copy_25 rfl 1 rfl ?_
      refine z_aN7 (v := .ref (xa (30 + pN))) X dX0_copy_26 hX.sh (by omega) (by omega) (shF_at (by omega)) ?_
      have hqa := hO.2.1 pN (by omega)
      rcases hX.shelf (s := pN) (by omega) with ⟨hka, hsa⟩ | ⟨hka, hsa, fa, hra, hoa, hea⟩ | ⟨hka, hsa, hra, hla⟩
      · skip
        refine z_get X dX0_copy_27 hsa in_X3 rfl 0 (Nat.le_of_ble_eq_true rfl) q229 rfl ?_
        refine z_astoreN (lv2 := [(6, .null), (0, .ref (xa 0)), (1, .int (nI (pN))), (2, .int (nI (qN))), (3, .int (i)), (4, .int (j)), (5, .int (n))]) X dX0_copy_30 (Nat.le_of_ble_eq_true rfl) rfl ?_
        refine z_aload_n X dX0_copy_32 rfl 1 rfl ?_
        refine z_get X dX0_copy_33 hX.ob in_X0 rfl 2 (Nat.le_of_ble_eq_true rfl) q235 rfl ?_
        refine z_iload_n X dX0_copy_36 rfl 3 rfl ?_
        refine z_aN7 (v := .ref (xa (30 + qN))) X dX0_copy_37 hX.sh (by omega) (by omega) (shF_at (by omega)) ?_
        have hqb := hO.2.1 qN (by omega)
        rcases hX.shelf (s := qN) (by omega) with ⟨hkb, hsb⟩ | ⟨hkb, hsb, fb, hrb, hob, heb⟩ | ⟨hkb, hsb, hrb, hlb⟩
        · skip
          refine z_get X dX0_copy_38 hsb in_X3 rfl 0 (Nat.le_of_ble_eq_true rfl) q229 rfl ?_
          refine z_astoreN (lv2 := [(7, .null), (6, .null), (0, .ref (xa 0)), (1, .int (nI (pN))), (2, .int (nI (qN))), (3, .int (i)), (4, .int (j)), (5, .int (n))]) X dX0_copy_41 (Nat.le_of_ble_eq_true rfl) rfl ?_
          refine z_aloadN X dX0_copy_43 1 rfl ?_
          refine z_instNl X dX0_copy_45 ?_
          refine z_if_ne_f (tgt := 59) X dX0_copy_48 (by decide) (by decide) ?_
          refine z_aloadN X dX0_copy_51 0 rfl ?_
          refine z_instNl X dX0_copy_53 ?_
          refine z_if_eq_t (tgt := 66) X dX0_copy_56 (by decide) (by decide) ?_
          refine z_aloadN X dX0_copy_66 1 rfl ?_
          refine z_iload_n X dX0_copy_68 rfl 5 rfl ?_
          refine z_aloadN X dX0_copy_69 0 rfl ?_
          refine z_iload X dX0_copy_71 6 rfl ?_
          refine z_iload X dX0_copy_73 7 rfl ?_
          refine zt_acN X V rfl rfl (Or.inl rfl) dX0_copy_75 q470 (Nat.le_of_ble_eq_true rfl) (by omega) ⟨(by omega), (by omega)⟩ (fun qz6 => ?_)
          refine zt_catch X Y [] (66, 80, 81, 144) [(66, 80, 90, 146), (66, 80, 99, 148)] rfl zp_n rfl (by decide) q430 q452 rfl ?_
          refine z_astore (lv2 := [(8, .ref (qz6)), (7, .null), (6, .null), (0, .ref (xa 0)), (1, .int (nI (pN))), (2, .int (nI (qN))), (3, .int (i)), (4, .int (j)), (5, .int (n))]) X dX0_copy_81 (Nat.le_of_ble_eq_true rfl) rfl ?_
          refine z_aload_n X dX0_copy_83 rfl 3 rfl ?_
          refine z_bipush (v := (-4)) X dX0_copy_84 (by decide) ?_
          refine z_ci (z_runV (rest := []) (n := 1) X [.int ((-4))] (m_X0_no_4 hX) dX0_copy_86 hX.ob rfl (lw_V q350 q352 qs2 q66 q353) hv_X0_no rfl ⟨Nat.le_of_ble_eq_true rfl, Nat.le_of_ble_eq_true rfl⟩ ⟨by omega, by omega⟩ rfl (Nat.le_of_ble_eq_true rfl)) (fun r7 w9 h8 => ?_)
          obtain ⟨r7e, hX8⟩ := h8
          rw [r7e]
          have e : spCopy o (nI pN) (nI qN) i j n = ((-4), oRef o 4) := by
            unfold spCopy
            repeat (first | rw [el_some (by assumption)] | rw [el_none (by assumption)])
            rw [if_neg (show ¬ (o.2.2.2.1 0 pN = 2 ∨ o.2.2.2.1 0 qN = 2 ∨ (o.2.2.2.1 0 pN = 1 ∧ o.2.2.2.1 0 qN = 1 ∧ o.2.2.2.1 1 pN ≠ o.2.2.2.1 1 qN)) by omega), if_pos (show o.2.2.2.1 0 pN = 0 ∨ o.2.2.2.1 0 qN = 0 by omega)]
            rfl
          exact z_iret X dX0_copy_89 (by omega) (by omega) ⟨_, rfl, (by rw [e]; exact ⟨⟨_, _, rfl, hX8⟩, rfl⟩)⟩
        · skip
          refine z_get X dX0_copy_38 hsb in_X3 rfl 0 (Nat.le_of_ble_eq_true rfl) q229 rfl ?_
          refine z_astore (lv2 := [(7, .ref (xa (40 + qN))), (6, .null), (0, .ref (xa 0)), (1, .int (nI (pN))), (2, .int (nI (qN))), (3, .int (i)), (4, .int (j)), (5, .int (n))]) X dX0_copy_41 (Nat.le_of_ble_eq_true rfl) rfl ?_
          refine z_aloadN X dX0_copy_43 1 rfl ?_
          refine z_instNl X dX0_copy_45 ?_
          refine z_if_ne_f (tgt := 59) X dX0_copy_48 (by decide) (by decide) ?_
          refine z_aload X dX0_copy_51 0 rfl ?_
          refine z_instRow X hqb.2.1 hrb dX0_copy_53 q388 ?_
          refine z_if_eq_t (tgt := 66) X dX0_copy_56 (by decide) (by decide) ?_
          refine z_aloadN X dX0_copy_66 1 rfl ?_
          refine z_iload_n X dX0_copy_68 rfl 5 rfl ?_
          refine z_aload X dX0_copy_69 0 rfl ?_
          refine z_iload X dX0_copy_71 6 rfl ?_
          refine z_iload X dX0_copy_73 7 rfl ?_
          refine zt_acN X V rfl rfl (Or.inl rfl) dX0_copy_75 q470 (Nat.le_of_ble_eq_true rfl) (by omega) ⟨(by omega), (by omega)⟩ (fun qz10 => ?_)
          refine zt_catch X Y [] (66, 80, 81, 144) [(66, 80, 90, 146), (66, 80, 99, 148)] rfl zp_n rfl (by decide) q430 q452 rfl ?_
          refine z_astore (lv2 := [(8, .ref (qz10)), (7, .ref (xa (40 + qN))), (6, .null), (0, .ref (xa 0)), (1, .int (nI (pN))), (2, .int (nI (qN))), (3, .int (i)), (4, .int (j)), (5, .int (n))]) X dX0_copy_81 (Nat.le_of_ble_eq_true rfl) rfl ?_
          refine z_aload_n X dX0_copy_83 rfl 3 rfl ?_
          refine z_bipush (v := (-4)) X dX0_copy_84 (by decide) ?_
          refine z_ci (z_runV (rest := []) (n := 1) X [.int ((-4))] (m_X0_no_4 hX) dX0_copy_86 hX.ob rfl (lw_V q350 q352 qs2 q66 q353) hv_X0_no rfl ⟨Nat.le_of_ble_eq_true rfl, Nat.le_of_ble_eq_true rfl⟩ ⟨by omega, by omega⟩ rfl (Nat.le_of_ble_eq_true rfl)) (fun r11 w13 h12 => ?_)
          obtain ⟨r11e, hX12⟩ := h12
          rw [r11e]
          have e : spCopy o (nI pN) (nI qN) i j n = ((-4), oRef o 4) := by
            unfold spCopy
            repeat (first | rw [el_some (by assumption)] | rw [el_none (by assumption)])
            rw [if_neg (show ¬ (o.2.2.2.1 0 pN = 2 ∨ o.2.2.2.1 0 qN = 2 ∨ (o.2.2.2.1 0 pN = 1 ∧ o.2.2.2.1 0 qN = 1 ∧ o.2.2.2.1 1 pN ≠ o.2.2.2.1 1 qN)) by omega), if_pos (show o.2.2.2.1 0 pN = 0 ∨ o.2.2.2.1 0 qN = 0 by omega)]
            rfl
          exact z_iret X dX0_copy_89 (by omega) (by omega) ⟨_, rfl, (by rw [e]; exact ⟨⟨_, _, rfl, hX12⟩, rfl⟩)⟩
        · skip
          refine z_get X dX0_copy_38 hsb in_X3 rfl 0 (Nat.le_of_ble_eq_true rfl) q229 rfl ?_
          refine z_astore (lv2 := [(7, .ref (xa (40 + qN))), (6, .null), (0, .ref (xa 0)), (1, .int (nI (pN))), (2, .int (nI (qN))), (3, .int (i)), (4, .int (j)), (5, .int (n))]) X dX0_copy_41 (Nat.le_of_ble_eq_true rfl) rfl ?_
          refine z_aloadN X dX0_copy_43 1 rfl ?_
          refine z_instNl X dX0_copy_45 ?_
          refine z_if_ne_f (tgt := 59) X dX0_copy_48 (by decide) (by decide) ?_
          refine z_aload X dX0_copy_51 0 rfl ?_
          refine z_instR X ⟨hqb.2.2.2.2.1 hkb, hqb.2.2.2.1⟩ hrb dX0_copy_53 q388 ?_
          refine z_if_eq_f (tgt := 66) X dX0_copy_56 (by decide) (by decide) ?_
          refine z_aload_n X dX0_copy_59 rfl 2 rfl ?_
          refine z_bipush (v := (-3)) X dX0_copy_60 (by decide) ?_
          refine z_ci (z_runV (rest := []) (n := 1) X [.int ((-3))] (m_X0_no_3 hX) dX0_copy_62 hX.ob rfl (lw_V q350 q352 qs2 q66 q353) hv_X0_no rfl ⟨Nat.le_of_ble_eq_true rfl, Nat.le_of_ble_eq_true rfl⟩ ⟨by omega, by omega⟩ rfl (Nat.le_of_ble_eq_true rfl)) (fun r14 w16 h15 => ?_)
          obtain ⟨r14e, hX15⟩ := h15
          rw [r14e]
          have e : spCopy o (nI pN) (nI qN) i j n = ((-3), oRef o 3) := by
            unfold spCopy
            repeat (first | rw [el_some (by assumption)] | rw [el_none (by assumption)])
            rw [if_pos (show o.2.2.2.1 0 pN = 2 ∨ o.2.2.2.1 0 qN = 2 ∨ (o.2.2.2.1 0 pN = 1 ∧ o.2.2.2.1 0 qN = 1 ∧ o.2.2.2.1 1 pN ≠ o.2.2.2.1 1 qN) by omega)]
            rfl
          exact z_iret X dX0_copy_65 (by omega) (by omega) ⟨_, rfl, (by rw [e]; exact ⟨⟨_, _, rfl, hX15⟩, rfl⟩)⟩
      · skip
        refine z_get X dX0_copy_27 hsa in_X3 rfl 0 (Nat.le_of_ble_eq_true rfl) q229 rfl ?_
        refine z_astore (lv2 := [(6, .ref (xa (40 + pN))), (0, .ref (xa 0)), (1, .int (nI (pN))), (2, .int (nI (qN))), (3, .int (i)), (4, .int (j)), (5, .int (n))]) X dX0_copy_30 (Nat.le_of_ble_eq_true rfl) rfl ?_
        refine z_aload_n X dX0_copy_32 rfl 1 rfl ?_
        refine z_get X dX0_copy_33 hX.ob in_X0 rfl 2 (Nat.le_of_ble_eq_true rfl) q235 rfl ?_
        refine z_iload_n X dX0_copy_36 rfl 3 rfl ?_
        refine z_aN7 (v := .ref (xa (30 + qN))) X dX0_copy_37 hX.sh (by omega) (by omega) (shF_at (by omega)) ?_
        have hqb := hO.2.1 qN (by omega)
        rcases hX.shelf (s := qN) (by omega) with ⟨hkb, hsb⟩ | ⟨hkb, hsb, fb, hrb, hob, heb⟩ | ⟨hkb, hsb, hrb, hlb⟩
        · skip
          refine z_get X dX0_copy_38 hsb in_X3 rfl 0 (Nat.le_of_ble_eq_true rfl) q229 rfl ?_
          refine z_astoreN (lv2 := [(7, .null), (6, .ref (xa (40 + pN))), (0, .ref (xa 0)), (1, .int (nI (pN))), (2, .int (nI (qN))), (3, .int (i)), (4, .int (j)), (5, .int (n))]) X dX0_copy_41 (Nat.le_of_ble_eq_true rfl) rfl ?_
          refine z_aload X dX0_copy_43 1 rfl ?_
          refine z_instRow X hqa.2.1 hra dX0_copy_45 q388 ?_
          refine z_if_ne_f (tgt := 59) X dX0_copy_48 (by decide) (by decide) ?_
          refine z_aloadN X dX0_copy_51 0 rfl ?_
          refine z_instNl X dX0_copy_53 ?_
          refine z_if_eq_t (tgt := 66) X dX0_copy_56 (by decide) (by decide) ?_
          refine z_aload X dX0_copy_66 1 rfl ?_
          refine z_iload_n X dX0_copy_68 rfl 5 rfl ?_
          refine z_aloadN X dX0_copy_69 0 rfl ?_
          refine z_iload X dX0_copy_71 6 rfl ?_
          refine z_iload X dX0_copy_73 7 rfl ?_
          refine zt_acN X V rfl rfl (Or.inr ⟨_, rfl, rfl⟩) dX0_copy_75 q470 (Nat.le_of_ble_eq_true rfl) (by omega) ⟨(by omega), (by omega)⟩ (fun qz17 => ?_)
          refine zt_catch X Y [] (66, 80, 81, 144) [(66, 80, 90, 146), (66, 80, 99, 148)] rfl zp_n rfl (by decide) q430 q452 rfl ?_
          refine z_astore (lv2 := [(8, .ref (qz17)), (7, .null), (6, .ref (xa (40 + pN))), (0, .ref (xa 0)), (1, .int (nI (pN))), (2, .int (nI (qN))), (3, .int (i)), (4, .int (j)), (5, .int (n))]) X dX0_copy_81 (Nat.le_of_ble_eq_true rfl) rfl ?_
          refine z_aload_n X dX0_copy_83 rfl 3 rfl ?_
          refine z_bipush (v := (-4)) X dX0_copy_84 (by decide) ?_
          refine z_ci (z_runV (rest := []) (n := 1) X [.int ((-4))] (m_X0_no_4 hX) dX0_copy_86 hX.ob rfl (lw_V q350 q352 qs2 q66 q353) hv_X0_no rfl ⟨Nat.le_of_ble_eq_true rfl, Nat.le_of_ble_eq_true rfl⟩ ⟨by omega, by omega⟩ rfl (Nat.le_of_ble_eq_true rfl)) (fun r18 w20 h19 => ?_)
          obtain ⟨r18e, hX19⟩ := h19
          rw [r18e]
          have e : spCopy o (nI pN) (nI qN) i j n = ((-4), oRef o 4) := by
            unfold spCopy
            repeat (first | rw [el_some (by assumption)] | rw [el_none (by assumption)])
            rw [if_neg (show ¬ (o.2.2.2.1 0 pN = 2 ∨ o.2.2.2.1 0 qN = 2 ∨ (o.2.2.2.1 0 pN = 1 ∧ o.2.2.2.1 0 qN = 1 ∧ o.2.2.2.1 1 pN ≠ o.2.2.2.1 1 qN)) by omega), if_pos (show o.2.2.2.1 0 pN = 0 ∨ o.2.2.2.1 0 qN = 0 by omega)]
            rfl
          exact z_iret X dX0_copy_89 (by omega) (by omega) ⟨_, rfl, (by rw [e]; exact ⟨⟨_, _, rfl, hX19⟩, rfl⟩)⟩
        · skip
          refine z_get X dX0_copy_38 hsb in_X3 rfl 0 (Nat.le_of_ble_eq_true rfl) q229 rfl ?_
          refine z_astore (lv2 := [(7, .ref (xa (40 + qN))), (6, .ref (xa (40 + pN))), (0, .ref (xa 0)), (1, .int (nI (pN))), (2, .int (nI (qN))), (3, .int (i)), (4, .int (j)), (5, .int (n))]) X dX0_copy_41 (Nat.le_of_ble_eq_true rfl) rfl ?_
          refine z_aload X dX0_copy_43 1 rfl ?_
          refine z_instRow X hqa.2.1 hra dX0_copy_45 q388 ?_
          refine z_if_ne_f (tgt := 59) X dX0_copy_48 (by decide) (by decide) ?_
          refine z_aload X dX0_copy_51 0 rfl ?_
          refine z_instRow X hqb.2.1 hrb dX0_copy_53 q388 ?_
          refine z_if_eq_t (tgt := 66) X dX0_copy_56 (by decide) (by decide) ?_
          refine z_aload X dX0_copy_66 1 rfl ?_
          refine z_iload_n X dX0_copy_68 rfl 5 rfl ?_
          refine z_aload X dX0_copy_69 0 rfl ?_
          refine z_iload X dX0_copy_71 6 rfl ?_
          refine z_iload X dX0_copy_73 7 rfl ?_
          by_cases hsk : o.2.2.2.1 1 pN = o.2.2.2.1 1 qN
          · by_cases hac : acWhat .int .int (o.2.2.2.1 2 pN) (o.2.2.2.1 2 qN) i j n = none
            · obtain ⟨i2, j2, n2, hi2, hj2, hn2, rfl, rfl, rfl, hle0, hle1⟩ := ac_inv hac
              refine z_acIn (k := o.2.2.2.1 1 qN) X hqb.2.1 (by rw [← hsk]; exact hra) hrb hi2 hj2 hn2 hle0 hle1 (by rw [← hsk]; exact hoa) dX0_copy_75 q470 (Nat.le_of_ble_eq_true rfl) (by omega) ?_
              have hX9 := XT.copied hX (p := pN) (q := qN) (by omega) (by omega) hkb hsk hoa hob hea heb hle0 hle1
              refine z_iload X dX0_copy_78 7 rfl ?_
              have e : spCopy o (nI pN) (nI qN) (nI i2) (nI j2) (nI n2) = (nI (n2), (setCopy o pN qN i2 j2 n2)) := by
                unfold spCopy
                repeat (first | rw [el_some (by assumption)] | rw [el_none (by assumption)])
                rw [if_neg (show ¬ (o.2.2.2.1 0 pN = 2 ∨ o.2.2.2.1 0 qN = 2 ∨ (o.2.2.2.1 0 pN = 1 ∧ o.2.2.2.1 0 qN = 1 ∧ o.2.2.2.1 1 pN ≠ o.2.2.2.1 1 qN)) by omega), if_neg (show ¬ (o.2.2.2.1 0 pN = 0 ∨ o.2.2.2.1 0 qN = 0) by omega)]
                exact copy_in hle0 hle1 hqa.2.2.1 hqb.2.2.1
              exact z_iret X dX0_copy_80 (by omega) (by omega) ⟨_, rfl, (by rw [e]; exact ⟨⟨_, _, rfl, hX9⟩, rfl⟩)⟩
            · refine z_acOut X V (k := o.2.2.2.1 1 qN) hqb.2.1 (by rw [← hsk]; exact hra) hrb hqa.2.2.1 hqb.2.2.1 (fun t0 t1 => ac_any hac) dX0_copy_75 q470 (Nat.le_of_ble_eq_true rfl) (by omega) ⟨(by omega), (by omega)⟩ (fun qz21 => ?_)
              refine zt_catch X Y [(66, 80, 81, 144), (66, 80, 90, 146)] (66, 80, 99, 148) [] rfl (zp_c (zp_o [false, false, false, true, true, false, true, true, true, true] (by decide) q430 rfl) (zp_c (zp_o [false, false, true, false, false, false, false, true, true, true] (by decide) q455 rfl) zp_n)) rfl (by decide) q469 q1957 rfl ?_
              refine z_astore (lv2 := [(8, .ref (qz21)), (7, .ref (xa (40 + qN))), (6, .ref (xa (40 + pN))), (0, .ref (xa 0)), (1, .int (nI (pN))), (2, .int (nI (qN))), (3, .int (i)), (4, .int (j)), (5, .int (n))]) X dX0_copy_99 (Nat.le_of_ble_eq_true rfl) rfl ?_
              refine z_aload_n X dX0_copy_101 rfl 3 rfl ?_
              refine z_bipush (v := (-2)) X dX0_copy_102 (by decide) ?_
              refine z_ci (z_runV (rest := []) (n := 1) X [.int ((-2))] (m_X0_no_2 hX) dX0_copy_104 hX.ob rfl (lw_V q350 q352 qs2 q66 q353) hv_X0_no rfl ⟨Nat.le_of_ble_eq_true rfl, Nat.le_of_ble_eq_true rfl⟩ ⟨by omega, by omega⟩ rfl (Nat.le_of_ble_eq_true rfl)) (fun r22 w24 h23 => ?_)
              obtain ⟨r22e, hX23⟩ := h23
              rw [r22e]
              have e : spCopy o (nI pN) (nI qN) i j n = ((-2), oRef o 2) := by
                unfold spCopy
                repeat (first | rw [el_some (by assumption)] | rw [el_none (by assumption)])
                obtain ⟨tx, htx⟩ := Option.ne_none_iff_exists'.mp hac
                rw [if_neg (show ¬ (o.2.2.2.1 0 pN = 2 ∨ o.2.2.2.1 0 qN = 2 ∨ (o.2.2.2.1 0 pN = 1 ∧ o.2.2.2.1 0 qN = 1 ∧ o.2.2.2.1 1 pN ≠ o.2.2.2.1 1 qN)) by omega), if_neg (show ¬ (o.2.2.2.1 0 pN = 0 ∨ o.2.2.2.1 0 qN = 0) by omega)]
                exact copy_out htx
              exact z_iret X dX0_copy_107 (by omega) (by omega) ⟨_, rfl, (by rw [e]; exact ⟨⟨_, _, rfl, hX23⟩, rfl⟩)⟩
          · refine z_acNe X V hqa.2.1 hqb.2.1 hsk hra hrb dX0_copy_75 q470 (Nat.le_of_ble_eq_true rfl) (by omega) ⟨(by omega), (by omega)⟩ (fun qz25 => ?_)
            refine zt_catch X Y [(66, 80, 81, 144)] (66, 80, 90, 146) [(66, 80, 99, 148)] rfl (zp_c (zp_o [false, false, false, true, true, true, false, false, false, true] (by decide) q430 rfl) zp_n) rfl (by decide) q455 q467 rfl ?_
            refine z_astore (lv2 := [(8, .ref (qz25)), (7, .ref (xa (40 + qN))), (6, .ref (xa (40 + pN))), (0, .ref (xa 0)), (1, .int (nI (pN))), (2, .int (nI (qN))), (3, .int (i)), (4, .int (j)), (5, .int (n))]) X dX0_copy_90 (Nat.le_of_ble_eq_true rfl) rfl ?_
            refine z_aload_n X dX0_copy_92 rfl 3 rfl ?_
            refine z_bipush (v := (-3)) X dX0_copy_93 (by decide) ?_
            refine z_ci (z_runV (rest := []) (n := 1) X [.int ((-3))] (m_X0_no_3 hX) dX0_copy_95 hX.ob rfl (lw_V q350 q352 qs2 q66 q353) hv_X0_no rfl ⟨Nat.le_of_ble_eq_true rfl, Nat.le_of_ble_eq_true rfl⟩ ⟨by omega, by omega⟩ rfl (Nat.le_of_ble_eq_true rfl)) (fun r26 w28 h27 => ?_)
            obtain ⟨r26e, hX27⟩ := h27
            rw [r26e]
            have e : spCopy o (nI pN) (nI qN) i j n = ((-3), oRef o 3) := by
              unfold spCopy
              repeat (first | rw [el_some (by assumption)] | rw [el_none (by assumption)])
              rw [if_pos (show o.2.2.2.1 0 pN = 2 ∨ o.2.2.2.1 0 qN = 2 ∨ (o.2.2.2.1 0 pN = 1 ∧ o.2.2.2.1 0 qN = 1 ∧ o.2.2.2.1 1 pN ≠ o.2.2.2.1 1 qN) by omega)]
              rfl
            exact z_iret X dX0_copy_98 (by omega) (by omega) ⟨_, rfl, (by rw [e]; exact ⟨⟨_, _, rfl, hX27⟩, rfl⟩)⟩
        · skip
          refine z_get X dX0_copy_38 hsb in_X3 rfl 0 (Nat.le_of_ble_eq_true rfl) q229 rfl ?_
          refine z_astore (lv2 := [(7, .ref (xa (40 + qN))), (6, .ref (xa (40 + pN))), (0, .ref (xa 0)), (1, .int (nI (pN))), (2, .int (nI (qN))), (3, .int (i)), (4, .int (j)), (5, .int (n))]) X dX0_copy_41 (Nat.le_of_ble_eq_true rfl) rfl ?_
          refine z_aload X dX0_copy_43 1 rfl ?_
          refine z_instRow X hqa.2.1 hra dX0_copy_45 q388 ?_
          refine z_if_ne_f (tgt := 59) X dX0_copy_48 (by decide) (by decide) ?_
          refine z_aload X dX0_copy_51 0 rfl ?_
          refine z_instR X ⟨hqb.2.2.2.2.1 hkb, hqb.2.2.2.1⟩ hrb dX0_copy_53 q388 ?_
          refine z_if_eq_f (tgt := 66) X dX0_copy_56 (by decide) (by decide) ?_
          refine z_aload_n X dX0_copy_59 rfl 2 rfl ?_
          refine z_bipush (v := (-3)) X dX0_copy_60 (by decide) ?_
          refine z_ci (z_runV (rest := []) (n := 1) X [.int ((-3))] (m_X0_no_3 hX) dX0_copy_62 hX.ob rfl (lw_V q350 q352 qs2 q66 q353) hv_X0_no rfl ⟨Nat.le_of_ble_eq_true rfl, Nat.le_of_ble_eq_true rfl⟩ ⟨by omega, by omega⟩ rfl (Nat.le_of_ble_eq_true rfl)) (fun r29 w31 h30 => ?_)
          obtain ⟨r29e, hX30⟩ := h30
          rw [r29e]
          have e : spCopy o (nI pN) (nI qN) i j n = ((-3), oRef o 3) := by
            unfold spCopy
            repeat (first | rw [el_some (by assumption)] | rw [el_none (by assumption)])
            rw [if_pos (show o.2.2.2.1 0 pN = 2 ∨ o.2.2.2.1 0 qN = 2 ∨ (o.2.2.2.1 0 pN = 1 ∧ o.2.2.2.1 0 qN = 1 ∧ o.2.2.2.1 1 pN ≠ o.2.2.2.1 1 qN) by omega)]
            rfl
          exact z_iret X dX0_copy_65 (by omega) (by omega) ⟨_, rfl, (by rw [e]; exact ⟨⟨_, _, rfl, hX30⟩, rfl⟩)⟩
      · skip
        refine z_get X dX0_copy_27 hsa in_X3 rfl 0 (Nat.le_of_ble_eq_true rfl) q229 rfl ?_
        refine z_astore (lv2 := [(6, .ref (xa (40 + pN))), (0, .ref (xa 0)), (1, .int (nI (pN))), (2, .int (nI (qN))), (3, .int (i)), (4, .int (j)), (5, .int (n))]) X dX0_copy_30 (Nat.le_of_ble_eq_true rfl) rfl ?_
        refine z_aload_n X dX0_copy_32 rfl 1 rfl ?_
        refine z_get X dX0_copy_33 hX.ob in_X0 rfl 2 (Nat.le_of_ble_eq_true rfl) q235 rfl ?_
        refine z_iload_n X dX0_copy_36 rfl 3 rfl ?_
        refine z_aN7 (v := .ref (xa (30 + qN))) X dX0_copy_37 hX.sh (by omega) (by omega) (shF_at (by omega)) ?_
        have hqb := hO.2.1 qN (by omega)
        rcases hX.shelf (s := qN) (by omega) with ⟨hkb, hsb⟩ | ⟨hkb, hsb, fb, hrb, hob, heb⟩ | ⟨hkb, hsb, hrb, hlb⟩
        · skip
          refine z_get X dX0_copy_38 hsb in_X3 rfl 0 (Nat.le_of_ble_eq_true rfl) q229 rfl ?_
          refine z_astoreN (lv2 := [(7, .null), (6, .ref (xa (40 + pN))), (0, .ref (xa 0)), (1, .int (nI (pN))), (2, .int (nI (qN))), (3, .int (i)), (4, .int (j)), (5, .int (n))]) X dX0_copy_41 (Nat.le_of_ble_eq_true rfl) rfl ?_
          refine z_aload X dX0_copy_43 1 rfl ?_
          refine z_instR X ⟨hqa.2.2.2.2.1 hka, hqa.2.2.2.1⟩ hra dX0_copy_45 q388 ?_
          refine z_if_ne_t (tgt := 59) X dX0_copy_48 (by decide) (by decide) ?_
          refine z_aload_n X dX0_copy_59 rfl 2 rfl ?_
          refine z_bipush (v := (-3)) X dX0_copy_60 (by decide) ?_
          refine z_ci (z_runV (rest := []) (n := 1) X [.int ((-3))] (m_X0_no_3 hX) dX0_copy_62 hX.ob rfl (lw_V q350 q352 qs2 q66 q353) hv_X0_no rfl ⟨Nat.le_of_ble_eq_true rfl, Nat.le_of_ble_eq_true rfl⟩ ⟨by omega, by omega⟩ rfl (Nat.le_of_ble_eq_true rfl)) (fun r32 w34 h33 => ?_)
          obtain ⟨r32e, hX33⟩ := h33
          rw [r32e]
          have e : spCopy o (nI pN) (nI qN) i j n = ((-3), oRef o 3) := by
            unfold spCopy
            repeat (first | rw [el_some (by assumption)] | rw [el_none (by assumption)])
            rw [if_pos (show o.2.2.2.1 0 pN = 2 ∨ o.2.2.2.1 0 qN = 2 ∨ (o.2.2.2.1 0 pN = 1 ∧ o.2.2.2.1 0 qN = 1 ∧ o.2.2.2.1 1 pN ≠ o.2.2.2.1 1 qN) by omega)]
            rfl
          exact z_iret X dX0_copy_65 (by omega) (by omega) ⟨_, rfl, (by rw [e]; exact ⟨⟨_, _, rfl, hX33⟩, rfl⟩)⟩
        · skip
          refine z_get X dX0_copy_38 hsb in_X3 rfl 0 (Nat.le_of_ble_eq_true rfl) q229 rfl ?_
          refine z_astore (lv2 := [(7, .ref (xa (40 + qN))), (6, .ref (xa (40 + pN))), (0, .ref (xa 0)), (1, .int (nI (pN))), (2, .int (nI (qN))), (3, .int (i)), (4, .int (j)), (5, .int (n))]) X dX0_copy_41 (Nat.le_of_ble_eq_true rfl) rfl ?_
          refine z_aload X dX0_copy_43 1 rfl ?_
          refine z_instR X ⟨hqa.2.2.2.2.1 hka, hqa.2.2.2.1⟩ hra dX0_copy_45 q388 ?_
          refine z_if_ne_t (tgt := 59) X dX0_copy_48 (by decide) (by decide) ?_
          refine z_aload_n X dX0_copy_59 rfl 2 rfl ?_
          refine z_bipush (v := (-3)) X dX0_copy_60 (by decide) ?_
          refine z_ci (z_runV (rest := []) (n := 1) X [.int ((-3))] (m_X0_no_3 hX) dX0_copy_62 hX.ob rfl (lw_V q350 q352 qs2 q66 q353) hv_X0_no rfl ⟨Nat.le_of_ble_eq_true rfl, Nat.le_of_ble_eq_true rfl⟩ ⟨by omega, by omega⟩ rfl (Nat.le_of_ble_eq_true rfl)) (fun r35 w37 h36 => ?_)
          obtain ⟨r35e, hX36⟩ := h36
          rw [r35e]
          have e : spCopy o (nI pN) (nI qN) i j n = ((-3), oRef o 3) := by
            unfold spCopy
            repeat (first | rw [el_some (by assumption)] | rw [el_none (by assumption)])
            rw [if_pos (show o.2.2.2.1 0 pN = 2 ∨ o.2.2.2.1 0 qN = 2 ∨ (o.2.2.2.1 0 pN = 1 ∧ o.2.2.2.1 0 qN = 1 ∧ o.2.2.2.1 1 pN ≠ o.2.2.2.1 1 qN) by omega)]
            rfl
          exact z_iret X dX0_copy_65 (by omega) (by omega) ⟨_, rfl, (by rw [e]; exact ⟨⟨_, _, rfl, hX36⟩, rfl⟩)⟩
        · skip
          refine z_get X dX0_copy_38 hsb in_X3 rfl 0 (Nat.le_of_ble_eq_true rfl) q229 rfl ?_
          refine z_astore (lv2 := [(7, .ref (xa (40 + qN))), (6, .ref (xa (40 + pN))), (0, .ref (xa 0)), (1, .int (nI (pN))), (2, .int (nI (qN))), (3, .int (i)), (4, .int (j)), (5, .int (n))]) X dX0_copy_41 (Nat.le_of_ble_eq_true rfl) rfl ?_
          refine z_aload X dX0_copy_43 1 rfl ?_
          refine z_instR X ⟨hqa.2.2.2.2.1 hka, hqa.2.2.2.1⟩ hra dX0_copy_45 q388 ?_
          refine z_if_ne_t (tgt := 59) X dX0_copy_48 (by decide) (by decide) ?_
          refine z_aload_n X dX0_copy_59 rfl 2 rfl ?_
          refine z_bipush (v := (-3)) X dX0_copy_60 (by decide) ?_
          refine z_ci (z_runV (rest := []) (n := 1) X [.int ((-3))] (m_X0_no_3 hX) dX0_copy_62 hX.ob rfl (lw_V q350 q352 qs2 q66 q353) hv_X0_no rfl ⟨Nat.le_of_ble_eq_true rfl, Nat.le_of_ble_eq_true rfl⟩ ⟨by omega, by omega⟩ rfl (Nat.le_of_ble_eq_true rfl)) (fun r38 w40 h39 => ?_)
          obtain ⟨r38e, hX39⟩ := h39
          rw [r38e]
          have e : spCopy o (nI pN) (nI qN) i j n = ((-3), oRef o 3) := by
            unfold spCopy
            repeat (first | rw [el_some (by assumption)] | rw [el_none (by assumption)])
            rw [if_pos (show o.2.2.2.1 0 pN = 2 ∨ o.2.2.2.1 0 qN = 2 ∨ (o.2.2.2.1 0 pN = 1 ∧ o.2.2.2.1 0 qN = 1 ∧ o.2.2.2.1 1 pN ≠ o.2.2.2.1 1 qN) by omega)]
            rfl
          exact z_iret X dX0_copy_65 (by omega) (by omega) ⟨_, rfl, (by rw [e]; exact ⟨⟨_, _, rfl, hX39⟩, rfl⟩)⟩
    · have e4 : rgb 0 7 q = none := rgb_f c5
      refine z_aload_n X dX0_copy_14 rfl 0 rfl ?_
      refine z_bipush (v := (-2)) X dX0_copy_15 (by decide) ?_
      refine z_ci (z_runV (rest := []) (n := 1) X [.int ((-2))] (m_X0_no_2 hX) dX0_copy_17 hX.ob rfl (lw_V q350 q352 qs2 q66 q353) hv_X0_no rfl ⟨Nat.le_of_ble_eq_true rfl, Nat.le_of_ble_eq_true rfl⟩ ⟨by omega, by omega⟩ rfl (Nat.le_of_ble_eq_true rfl)) (fun r41 w43 h42 => ?_)
      obtain ⟨r41e, hX42⟩ := h42
      rw [r41e]
      have e : spCopy o (nI pN) q i j n = ((-2), oRef o 2) := by
        unfold spCopy
        repeat (first | rw [el_some (by assumption)] | rw [el_none (by assumption)])
        rfl
      exact z_iret X dX0_copy_20 (by omega) (by omega) ⟨_, rfl, (by rw [e]; exact ⟨⟨_, _, rfl, hX42⟩, rfl⟩)⟩
