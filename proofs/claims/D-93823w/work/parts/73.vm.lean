/-! MACHINE-THROWN, over the ghost world: an index out of bounds, a negative size, null -/
set_option maxRecDepth 100000
def gdc : Cond → Bool
  | .declares _ => true
  | .castable _ _ => true
  | w => goodWord w
theorem gK.word {G : GG} {s : State} (hK : gK G s) {args : Array Value} (hts : ∀ w ∈ lw_all, w.before args s = true) {w : Cond} (h : w ∈ lw_tbl) (g : gdc w = true) : w.before args s = true := by
  cases w with
  | declares x => exact (hK.declares h).use rfl
  | castable C T => exact (hK.castable h).use rfl
  | _ => exact hts _ (lw_g h g)
theorem gK.vxZq {G : GG} {s : State} (hK : gK G s) {C n d : String} {p : List Bool} (hl : Cond.laysStatic C n d ∈ lw_tbl) (hi : Cond.initialized C ∈ lw_all) (hp : cAt narrow_1 p = some (.isRef (.static C n d))) : vx_Zq C n d (kA G) s G.2.2.heap := by
  obtain ⟨b, h, hW⟩ := hK.st
  exact vx_Zq.moved hW.alike (vx_Zqof (h.1 _ hl) (h.1 _ (lw_all_tbl hi)) (h.nar hp) (kA_o G))
theorem kU {G : GG} {s : State} (hK : gK G s) : vx_Zq Bundle.tN "UNASSIGNED_STACK" Bundle.steD (kA G) s G.2.2.heap := hK.vxZq (C := "java/lang/Throwable") (p := [false, false, false, false, false, false, false, true, false, false]) q271 (lw_w 71 rfl rfl) rfl
theorem kS {G : GG} {s : State} (hK : gK G s) : vx_Zq Bundle.tN "SUPPRESSED_SENTINEL" Bundle.listD (kA G) s G.2.2.heap := hK.vxZq (C := "java/lang/Throwable") (p := [false, false, false, false, false, false, false, true, false, true]) q273 (lw_w 71 rfl rfl) rfl
theorem gA_k {G : GG} {w0 : GW} {s : State} (h : gP G w0 s.heap) : ∀ q, gA w0 s.heap.size q → kA G q := fun q hq => by
  rcases hq with ⟨e, he⟩ | hq
  · exact (h.1 q e he).1
  · exact Nat.le_trans h.2.1 hq
/-- the machine notes that E is thrown here with this text -/
def ZN (κ : ZK) (w : GW) (lv : List (Nat × Value)) (a b pc : Nat) (rest : List Value) (E text : String) : Prop := match κ with
  | (p, l, e, R, s, m, args, below, meth, c, nL, G, w0, Q) => ∀ (H : Heap) (locs : List Loc) (ls : Array Slot), gS G w0 s.heap w H locs → lv_has ls nL lv → vx_Note p l e R s m args below meth c H locs a b Q (F0 m pc ls rest) E text
def ZNN (κ : ZK) (w : GW) (lv : List (Nat × Value)) (a b pc : Nat) (rest : List Value) : Prop := match κ with
  | (p, l, e, R, s, m, args, below, meth, c, nL, G, w0, Q) => ∀ (H : Heap) (locs : List Loc) (ls : Array Slot), gS G w0 s.heap w H locs → lv_has ls nL lv → vx_NoteN p l e R s m args below meth c H locs a b Q (F0 m pc ls rest)
/-- the words that a class's throw by the machine wants -/
def ZM (E : String) (names : List String) : Prop := (∀ w ∈ vx_atM E names, w ∈ lw_tbl) ∧ (∀ w ∈ vx_atM E names, gdc w = true) ∧ (∀ w ∈ vx_atM E names, vx_ot w = true) ∧ Bundle.fit E = true ∧ (∀ n ∈ names, Bundle.fit n = true) ∧ (E == "java/lang/StackOverflowError") = false ∧ (E == "java/lang/OutOfMemoryError") = false ∧ names.length ≤ 3
theorem zmA : ZM "java/lang/ArrayIndexOutOfBoundsException" ["java/lang/IndexOutOfBoundsException", "java/lang/RuntimeException", "java/lang/Exception"] := ⟨atA, List.all_eq_true.mp (show (vx_atM "java/lang/ArrayIndexOutOfBoundsException" ["java/lang/IndexOutOfBoundsException", "java/lang/RuntimeException", "java/lang/Exception"]).all gdc = true by decide +kernel), agA, by decide +kernel, List.all_eq_true.mp (by decide +kernel), by decide, by decide, by decide⟩
theorem zmG : ZM "java/lang/NegativeArraySizeException" ["java/lang/RuntimeException", "java/lang/Exception"] := ⟨atG, List.all_eq_true.mp (show (vx_atM "java/lang/NegativeArraySizeException" ["java/lang/RuntimeException", "java/lang/Exception"]).all gdc = true by decide +kernel), agG, by decide +kernel, List.all_eq_true.mp (by decide +kernel), by decide, by decide, by decide⟩
theorem zmC : ZM "java/lang/ClassCastException" ["java/lang/RuntimeException", "java/lang/Exception"] := ⟨atC, List.all_eq_true.mp (show (vx_atM "java/lang/ClassCastException" ["java/lang/RuntimeException", "java/lang/Exception"]).all gdc = true by decide +kernel), agC, by decide +kernel, List.all_eq_true.mp (by decide +kernel), by decide, by decide, by decide⟩
theorem zmS : ZM "java/lang/ArrayStoreException" ["java/lang/RuntimeException", "java/lang/Exception"] := ⟨atS, List.all_eq_true.mp (show (vx_atM "java/lang/ArrayStoreException" ["java/lang/RuntimeException", "java/lang/Exception"]).all gdc = true by decide +kernel), agS, by decide +kernel, List.all_eq_true.mp (by decide +kernel), by decide, by decide, by decide⟩
theorem agN2 : ∀ w ∈ vx_atN 8, gdc w = true := List.all_eq_true.mp (show (vx_atN 8).all gdc = true by decide +kernel)
section ZM
variable {κ : ZK} {cc : ByteArray} {own nm : String} {nL : Nat} {ret : Option FieldType} {l : Launch} {d mc ms : Nat} {G : GG} {w0 w : GW} {post : Option Value → GW → Prop} {lv lv2 : List (Nat × Value)} {a b pc : Nat} {st rest : List Value} {hh : List (Nat × Nat × Nat × Nat)} {px : String → Nat → GW → Prop}
theorem zt_note (X : ZX κ cc own nL ret nm l d mc ms G w0 post) (V : ZV κ) {E text : String} {names : List String} {nb : Nat} (hM : ZM E names) (htext : (text == notModelled) = false) (hnb : (stringBytes (stringToUtf16 text)).size ≤ nb) (hnb1 : nb ≤ 1000) (hW : (rest.map fun v => v.category).sum ≤ 8) (hd : 162 ≤ d) (hf : a + 3 ≤ mc ∧ b + (nb + 10) ≤ ms) (k : ∀ q : Nat, ZT κ E q w lv (a + 3) (b + (nb + 10)) pc) : ZN κ w lv a b pc rest E text := by
  obtain ⟨p, l', e, R, s, m, args, below, meth, c, nL', G', w0', Q⟩ := κ
  obtain ⟨hx, hb, hml, hown, hts, hK, hr, hlk, hnm, rfl, rfl, rfl, rfl, rfl, hQ⟩ := X
  obtain ⟨hP0, hl⟩ := V
  obtain ⟨m1, m2, m3, m4, m5, m6, m7, m8⟩ := hM
  intro H locs ls hs hl'
  have hkp : ∀ q : Nat, q < G'.2.2.heap.size → ¬ kA G' q → s.heap[q]? = G'.2.2.heap[q]? := fun q hq _ => hP0.2.2 q hq
  refine vx_vm (A := gA w0' s.heap.size) hx hl m4 m5 m6 m7 (fun w h => hK.word hts (m1 w h) (m2 w h)) m3 (((kU hK).kept hkp).narrow (gA_k hP0)) (((kS hK).kept hkp).narrow (gA_k hP0)) hs.2.2 (by rw [hml]; exact hl'.1) htext hnb hnb1 (by show _ < d; omega) (by show _ ≤ 64 * d; omega) (by omega) (by show _ ≤ mc; omega) (by show _ ≤ ms; omega) hlk ?_
  intro H1 q9 ce hz hk hS hce hv hcl
  exact k q9 H1 locs ls ce rest ⟨hs.1.kept hz hk, hs.2.1, hS⟩ hl' hce hv hcl
theorem zt_npe (X : ZX κ cc own nL ret nm l d mc ms G w0 post) (V : ZV κ) (hW : (rest.map fun v => v.category).sum ≤ 8) (hd : 162 ≤ d) (hf : a + 1 ≤ mc ∧ b + 8 ≤ ms) (k : ∀ q : Nat, ZT κ "java/lang/NullPointerException" q w lv (a + 1) (b + 8) pc) : ZNN κ w lv a b pc rest := by
  obtain ⟨p, l', e, R, s, m, args, below, meth, c, nL', G', w0', Q⟩ := κ
  obtain ⟨hx, hb, hml, hown, hts, hK, hr, hlk, hnm, rfl, rfl, rfl, rfl, rfl, hQ⟩ := X
  obtain ⟨hP0, hl⟩ := V
  intro H locs ls hs hl'
  have hkp : ∀ q : Nat, q < G'.2.2.heap.size → ¬ kA G' q → s.heap[q]? = G'.2.2.heap[q]? := fun q hq _ => hP0.2.2 q hq
  refine vx_npe (A := gA w0' s.heap.size) hx hl (fun w h => hK.word hts (atN w h) (agN2 w h)) agN (((kU hK).kept hkp).narrow (gA_k hP0)) (((kS hK).kept hkp).narrow (gA_k hP0)) hs.2.2 (by rw [hml]; exact hl'.1) (by show _ < d; omega) (by show _ ≤ 64 * d; omega) (by show _ ≤ mc; omega) (by show _ ≤ ms; omega) hlk ?_
  intro H1 q9 ce hz hk hS hce hv hcl
  exact k q9 H1 locs ls ce rest ⟨hs.1.kept hz hk, hs.2.1, hS⟩ hl' hce hv hcl
theorem zt_baldZ (X : ZX κ cc own nL ret nm l d mc ms G w0 post) (V : ZV κ) {q n : Nat} {f : Nat → Int32} {i : Int32} (hdg : decode cc pc = .ok (.baload, 1)) (hw : w q = some (.inl (G.2.1 2, n, .inl f))) (hout : ¬ vp_in i n) (hn : n < 2 ^ 31) (hW : (rest.map fun v => v.category).sum ≤ 8) (hd : 162 ≤ d) (hf : a + 3 ≤ mc ∧ b + 222 ≤ ms) (k : ∀ q : Nat, ZT κ "java/lang/ArrayIndexOutOfBoundsException" q w lv (a + 3) (b + 222) pc) : Z κ w lv a b pc (.int i :: .ref q :: rest) := by
  have kk := fun (tx : String) (h : tx = (toString "Index " ++ toString i ++ toString " out of bounds for length " ++ toString n : String)) => zt_note (rest := rest) X V (nb := 212) (text := tx) zmA (by rw [h]; exact index_text_modelled i n) (by rw [h]; exact index_text_bytes i hn) (by omega) hW hd hf k
  obtain ⟨p, l', e, R, s, m, args, below, meth, c, nL', G', w0', Q⟩ := κ
  obtain ⟨hx, hb, hml, hown, hts, hK, hr, hlk, hnm, rfl, rfl, rfl, rfl, rfl, hQ⟩ := X
  intro H locs ls hs hl'
  exact vx_baldZ hx hb hK.1 (hs.1.one hw) 0 2 rfl rfl hout hdg (fun tx h => kk tx h H locs ls hs hl')
theorem zt_bastZ (X : ZX κ cc own nL ret nm l d mc ms G w0 post) (V : ZV κ) {q n : Nat} {f : Nat → Int32} {i : Int32} {x : Int32} (hdg : decode cc pc = .ok (.bastore, 1)) (hw : w q = some (.inl (G.2.1 2, n, .inl f))) (hout : ¬ vp_in i n) (hn : n < 2 ^ 31) (hW : (rest.map fun v => v.category).sum ≤ 8) (hd : 162 ≤ d) (hf : a + 3 ≤ mc ∧ b + 222 ≤ ms) (k : ∀ q : Nat, ZT κ "java/lang/ArrayIndexOutOfBoundsException" q w lv (a + 3) (b + 222) pc) : Z κ w lv a b pc (.int x :: .int i :: .ref q :: rest) := by
  have kk := fun (tx : String) (h : tx = (toString "Index " ++ toString i ++ toString " out of bounds for length " ++ toString n : String)) => zt_note (rest := rest) X V (nb := 212) (text := tx) zmA (by rw [h]; exact index_text_modelled i n) (by rw [h]; exact index_text_bytes i hn) (by omega) hW hd hf k
  obtain ⟨p, l', e, R, s, m, args, below, meth, c, nL', G', w0', Q⟩ := κ
  obtain ⟨hx, hb, hml, hown, hts, hK, hr, hlk, hnm, rfl, rfl, rfl, rfl, rfl, hQ⟩ := X
  intro H locs ls hs hl'
  exact vx_bastZ hx hb hK.1 (hs.1.one hw) 0 2 rfl rfl hout hdg (fun tx h => kk tx h H locs ls hs hl')
theorem zt_saldZ (X : ZX κ cc own nL ret nm l d mc ms G w0 post) (V : ZV κ) {q n : Nat} {f : Nat → Int32} {i : Int32} (hdg : decode cc pc = .ok (.saload, 1)) (hw : w q = some (.inl (G.2.1 3, n, .inl f))) (hout : ¬ vp_in i n) (hn : n < 2 ^ 31) (hW : (rest.map fun v => v.category).sum ≤ 8) (hd : 162 ≤ d) (hf : a + 3 ≤ mc ∧ b + 222 ≤ ms) (k : ∀ q : Nat, ZT κ "java/lang/ArrayIndexOutOfBoundsException" q w lv (a + 3) (b + 222) pc) : Z κ w lv a b pc (.int i :: .ref q :: rest) := by
  have kk := fun (tx : String) (h : tx = (toString "Index " ++ toString i ++ toString " out of bounds for length " ++ toString n : String)) => zt_note (rest := rest) X V (nb := 212) (text := tx) zmA (by rw [h]; exact index_text_modelled i n) (by rw [h]; exact index_text_bytes i hn) (by omega) hW hd hf k
  obtain ⟨p, l', e, R, s, m, args, below, meth, c, nL', G', w0', Q⟩ := κ
  obtain ⟨hx, hb, hml, hown, hts, hK, hr, hlk, hnm, rfl, rfl, rfl, rfl, rfl, hQ⟩ := X
  intro H locs ls hs hl'
  exact vx_saldZ hx hb hK.1 (hs.1.one hw) 0 3 rfl rfl hout hdg (fun tx h => kk tx h H locs ls hs hl')
theorem zt_sastZ (X : ZX κ cc own nL ret nm l d mc ms G w0 post) (V : ZV κ) {q n : Nat} {f : Nat → Int32} {i : Int32} {x : Int32} (hdg : decode cc pc = .ok (.sastore, 1)) (hw : w q = some (.inl (G.2.1 3, n, .inl f))) (hout : ¬ vp_in i n) (hn : n < 2 ^ 31) (hW : (rest.map fun v => v.category).sum ≤ 8) (hd : 162 ≤ d) (hf : a + 3 ≤ mc ∧ b + 222 ≤ ms) (k : ∀ q : Nat, ZT κ "java/lang/ArrayIndexOutOfBoundsException" q w lv (a + 3) (b + 222) pc) : Z κ w lv a b pc (.int x :: .int i :: .ref q :: rest) := by
  have kk := fun (tx : String) (h : tx = (toString "Index " ++ toString i ++ toString " out of bounds for length " ++ toString n : String)) => zt_note (rest := rest) X V (nb := 212) (text := tx) zmA (by rw [h]; exact index_text_modelled i n) (by rw [h]; exact index_text_bytes i hn) (by omega) hW hd hf k
  obtain ⟨p, l', e, R, s, m, args, below, meth, c, nL', G', w0', Q⟩ := κ
  obtain ⟨hx, hb, hml, hown, hts, hK, hr, hlk, hnm, rfl, rfl, rfl, rfl, rfl, hQ⟩ := X
  intro H locs ls hs hl'
  exact vx_sastZ hx hb hK.1 (hs.1.one hw) 0 3 rfl rfl hout hdg (fun tx h => kk tx h H locs ls hs hl')
theorem zt_ialdZ (X : ZX κ cc own nL ret nm l d mc ms G w0 post) (V : ZV κ) {q n : Nat} {f : Nat → Int32} {i : Int32} (hdg : decode cc pc = .ok (.iaload, 1)) (hw : w q = some (.inl (G.2.1 0, n, .inl f))) (hout : ¬ vp_in i n) (hn : n < 2 ^ 31) (hW : (rest.map fun v => v.category).sum ≤ 8) (hd : 162 ≤ d) (hf : a + 3 ≤ mc ∧ b + 222 ≤ ms) (k : ∀ q : Nat, ZT κ "java/lang/ArrayIndexOutOfBoundsException" q w lv (a + 3) (b + 222) pc) : Z κ w lv a b pc (.int i :: .ref q :: rest) := by
  have kk := fun (tx : String) (h : tx = (toString "Index " ++ toString i ++ toString " out of bounds for length " ++ toString n : String)) => zt_note (rest := rest) X V (nb := 212) (text := tx) zmA (by rw [h]; exact index_text_modelled i n) (by rw [h]; exact index_text_bytes i hn) (by omega) hW hd hf k
  obtain ⟨p, l', e, R, s, m, args, below, meth, c, nL', G', w0', Q⟩ := κ
  obtain ⟨hx, hb, hml, hown, hts, hK, hr, hlk, hnm, rfl, rfl, rfl, rfl, rfl, hQ⟩ := X
  intro H locs ls hs hl'
  exact vx_ialdZ hx hb hK.1 (hs.1.one hw) 0 0 rfl rfl hout hdg (fun tx h => kk tx h H locs ls hs hl')
theorem zt_iastZ (X : ZX κ cc own nL ret nm l d mc ms G w0 post) (V : ZV κ) {q n : Nat} {f : Nat → Int32} {i : Int32} {x : Int32} (hdg : decode cc pc = .ok (.iastore, 1)) (hw : w q = some (.inl (G.2.1 0, n, .inl f))) (hout : ¬ vp_in i n) (hn : n < 2 ^ 31) (hW : (rest.map fun v => v.category).sum ≤ 8) (hd : 162 ≤ d) (hf : a + 3 ≤ mc ∧ b + 222 ≤ ms) (k : ∀ q : Nat, ZT κ "java/lang/ArrayIndexOutOfBoundsException" q w lv (a + 3) (b + 222) pc) : Z κ w lv a b pc (.int x :: .int i :: .ref q :: rest) := by
  have kk := fun (tx : String) (h : tx = (toString "Index " ++ toString i ++ toString " out of bounds for length " ++ toString n : String)) => zt_note (rest := rest) X V (nb := 212) (text := tx) zmA (by rw [h]; exact index_text_modelled i n) (by rw [h]; exact index_text_bytes i hn) (by omega) hW hd hf k
  obtain ⟨p, l', e, R, s, m, args, below, meth, c, nL', G', w0', Q⟩ := κ
  obtain ⟨hx, hb, hml, hown, hts, hK, hr, hlk, hnm, rfl, rfl, rfl, rfl, rfl, hQ⟩ := X
  intro H locs ls hs hl'
  exact vx_iastZ hx hb hK.1 (hs.1.one hw) 0 0 rfl rfl hout hdg (fun tx h => kk tx h H locs ls hs hl')
theorem zt_laldZ (X : ZX κ cc own nL ret nm l d mc ms G w0 post) (V : ZV κ) {q n : Nat} {f : Nat → Int64} {i : Int32} (hdg : decode cc pc = .ok (.laload, 1)) (hw : w q = some (.inl (G.2.1 1, n, .inr (.inl f)))) (hout : ¬ vp_in i n) (hn : n < 2 ^ 31) (hW : (rest.map fun v => v.category).sum ≤ 8) (hd : 162 ≤ d) (hf : a + 3 ≤ mc ∧ b + 222 ≤ ms) (k : ∀ q : Nat, ZT κ "java/lang/ArrayIndexOutOfBoundsException" q w lv (a + 3) (b + 222) pc) : Z κ w lv a b pc (.int i :: .ref q :: rest) := by
  have kk := fun (tx : String) (h : tx = (toString "Index " ++ toString i ++ toString " out of bounds for length " ++ toString n : String)) => zt_note (rest := rest) X V (nb := 212) (text := tx) zmA (by rw [h]; exact index_text_modelled i n) (by rw [h]; exact index_text_bytes i hn) (by omega) hW hd hf k
  obtain ⟨p, l', e, R, s, m, args, below, meth, c, nL', G', w0', Q⟩ := κ
  obtain ⟨hx, hb, hml, hown, hts, hK, hr, hlk, hnm, rfl, rfl, rfl, rfl, rfl, hQ⟩ := X
  intro H locs ls hs hl'
  exact vx_laldZ hx hb hK.1 (hs.1.one hw) 0 1 rfl rfl hout hdg (fun tx h => kk tx h H locs ls hs hl')
theorem zt_lastZ (X : ZX κ cc own nL ret nm l d mc ms G w0 post) (V : ZV κ) {q n : Nat} {f : Nat → Int64} {i : Int32} {x : Int64} (hdg : decode cc pc = .ok (.lastore, 1)) (hw : w q = some (.inl (G.2.1 1, n, .inr (.inl f)))) (hout : ¬ vp_in i n) (hn : n < 2 ^ 31) (hW : (rest.map fun v => v.category).sum ≤ 8) (hd : 162 ≤ d) (hf : a + 3 ≤ mc ∧ b + 222 ≤ ms) (k : ∀ q : Nat, ZT κ "java/lang/ArrayIndexOutOfBoundsException" q w lv (a + 3) (b + 222) pc) : Z κ w lv a b pc (.long x :: .int i :: .ref q :: rest) := by
  have kk := fun (tx : String) (h : tx = (toString "Index " ++ toString i ++ toString " out of bounds for length " ++ toString n : String)) => zt_note (rest := rest) X V (nb := 212) (text := tx) zmA (by rw [h]; exact index_text_modelled i n) (by rw [h]; exact index_text_bytes i hn) (by omega) hW hd hf k
  obtain ⟨p, l', e, R, s, m, args, below, meth, c, nL', G', w0', Q⟩ := κ
  obtain ⟨hx, hb, hml, hown, hts, hK, hr, hlk, hnm, rfl, rfl, rfl, rfl, rfl, hQ⟩ := X
  intro H locs ls hs hl'
  exact vx_lastZ hx hb hK.1 (hs.1.one hw) 0 1 rfl rfl hout hdg (fun tx h => kk tx h H locs ls hs hl')
theorem zt_zaldZ (X : ZX κ cc own nL ret nm l d mc ms G w0 post) (V : ZV κ) {q n : Nat} {f : Nat → Int32} {i : Int32} (hdg : decode cc pc = .ok (.baload, 1)) (hw : w q = some (.inl (G.2.1 4, n, .inl f))) (hout : ¬ vp_in i n) (hn : n < 2 ^ 31) (hW : (rest.map fun v => v.category).sum ≤ 8) (hd : 162 ≤ d) (hf : a + 3 ≤ mc ∧ b + 222 ≤ ms) (k : ∀ q : Nat, ZT κ "java/lang/ArrayIndexOutOfBoundsException" q w lv (a + 3) (b + 222) pc) : Z κ w lv a b pc (.int i :: .ref q :: rest) := by
  have kk := fun (tx : String) (h : tx = (toString "Index " ++ toString i ++ toString " out of bounds for length " ++ toString n : String)) => zt_note (rest := rest) X V (nb := 212) (text := tx) zmA (by rw [h]; exact index_text_modelled i n) (by rw [h]; exact index_text_bytes i hn) (by omega) hW hd hf k
  obtain ⟨p, l', e, R, s, m, args, below, meth, c, nL', G', w0', Q⟩ := κ
  obtain ⟨hx, hb, hml, hown, hts, hK, hr, hlk, hnm, rfl, rfl, rfl, rfl, rfl, hQ⟩ := X
  intro H locs ls hs hl'
  exact vx_zaldZ hx hb hK.1 (hs.1.one hw) 0 4 rfl rfl hout hdg (fun tx h => kk tx h H locs ls hs hl')
theorem zt_zastZ (X : ZX κ cc own nL ret nm l d mc ms G w0 post) (V : ZV κ) {q n : Nat} {f : Nat → Int32} {i : Int32} {x : Int32} (hdg : decode cc pc = .ok (.bastore, 1)) (hw : w q = some (.inl (G.2.1 4, n, .inl f))) (hout : ¬ vp_in i n) (hn : n < 2 ^ 31) (hW : (rest.map fun v => v.category).sum ≤ 8) (hd : 162 ≤ d) (hf : a + 3 ≤ mc ∧ b + 222 ≤ ms) (k : ∀ q : Nat, ZT κ "java/lang/ArrayIndexOutOfBoundsException" q w lv (a + 3) (b + 222) pc) : Z κ w lv a b pc (.int x :: .int i :: .ref q :: rest) := by
  have kk := fun (tx : String) (h : tx = (toString "Index " ++ toString i ++ toString " out of bounds for length " ++ toString n : String)) => zt_note (rest := rest) X V (nb := 212) (text := tx) zmA (by rw [h]; exact index_text_modelled i n) (by rw [h]; exact index_text_bytes i hn) (by omega) hW hd hf k
  obtain ⟨p, l', e, R, s, m, args, below, meth, c, nL', G', w0', Q⟩ := κ
  obtain ⟨hx, hb, hml, hown, hts, hK, hr, hlk, hnm, rfl, rfl, rfl, rfl, rfl, hQ⟩ := X
  intro H locs ls hs hl'
  exact vx_zastZ hx hb hK.1 (hs.1.one hw) 0 4 rfl rfl hout hdg (fun tx h => kk tx h H locs ls hs hl')
theorem zt_newZ (X : ZX κ cc own nL ret nm l d mc ms G w0 post) (V : ZV κ) {atype : ArrayType} {n : Int32} (h0 : n < 0) (hdg : decode cc pc = .ok (.newarray atype, 2)) (hW : (rest.map fun v => v.category).sum ≤ 8) (hd : 162 ≤ d) (hf : a + 3 ≤ mc ∧ b + 54 ≤ ms) (k : ∀ q : Nat, ZT κ "java/lang/NegativeArraySizeException" q w lv (a + 3) (b + 54) pc) : Z κ w lv a b pc (.int n :: rest) := by
  have kk := fun (tx : String) (h : tx = toString n) => zt_note (rest := rest) X V (nb := 44) (text := tx) zmG (by rw [h]; exact negative_text_modelled h0) (by rw [h]; exact negative_text_bytes n) (by omega) hW hd hf k
  obtain ⟨p, l', e, R, s, m, args, below, meth, c, nL', G', w0', Q⟩ := κ
  obtain ⟨hx, hb, hml, hown, hts, hK, hr, hlk, hnm, rfl, rfl, rfl, rfl, rfl, hQ⟩ := X
  intro H locs ls hs hl'
  exact vx_newarrayZ hx hb h0 hdg (fun tx h => kk tx h H locs ls hs hl')
theorem zt_getN (X : ZX κ cc own nL ret nm l d mc ms G w0 post) (V : ZV κ) {C : String} {T : u_T} {N ci i : Nat} (hdg : decode cc pc = .ok (.getfield i, 3)) (hin : ∀ w ∈ u_ws C T N, w ∈ lw_all) (hc : CL[ci]? = some (C, T, N)) (j : Nat) (hj : j < N) (ref : String) (hq : Cond.fieldLink own i ref (T j).2.1 (T j).2.2.1 ∈ lw_all) (hsm : Cond.sameField ref (T j).1 (T j).2.1 (T j).2.2.1 ∈ lw_all) (hW : (rest.map fun v => v.category).sum ≤ 8) (hd : 162 ≤ d) (hf : a + 1 ≤ mc ∧ b + 8 ≤ ms) (k : ∀ q : Nat, ZT κ "java/lang/NullPointerException" q w lv (a + 1) (b + 8) pc) : Z κ w lv a b pc (.null :: rest) := by
  have kk := zt_npe (rest := rest) X V hW hd hf k
  obtain ⟨p, l', e, R, s, m, args, below, meth, c, nL', G', w0', Q⟩ := κ
  obtain ⟨hx, hb, hml, hown, hts, hK, hr, hlk, hnm, rfl, rfl, rfl, rfl, rfl, hQ⟩ := X
  intro H locs ls hs hl'
  exact vx_getfN (ref := ref) hx hb hts hin hown hK.1 hc j hj (hts _ hq) (u_same (hts _ hsm)) hdg (kk H locs ls hs hl')
theorem zt_callN (X : ZX κ cc own nL ret nm l d mc ms G w0 post) (V : ZV κ) {C : String} {y : MethodName} {bytes : ByteArray} {maxL i n : Nat} {ret' : Option FieldType} (As : List Value) (hdg : decode cc pc = .ok (.invokevirtual i, 3)) (hl : Cond.methodLink own i y ∈ lw_all) (hin : Cond.instanceMethod y ∈ lw_all) (hcd : Cond.code y bytes maxL ret' ∈ lw_all) (hse : Cond.selects C y y ∈ lw_all) (hx' : y.cls ≠ "java/lang/invoke/MethodHandle" ∧ y.cls ≠ "java/lang/invoke/VarHandle") (hlen : (parseMethodDescriptor y.desc).map (fun d => d.parameters.length) = some As.length) (hst : st = As.reverse ++ .null :: rest) (hW : (rest.map fun v => v.category).sum ≤ 8) (hd : 162 ≤ d) (hf : a + 1 ≤ mc ∧ b + 8 ≤ ms) (k : ∀ q : Nat, ZT κ "java/lang/NullPointerException" q w lv (a + 1) (b + 8) pc) : Z κ w lv a b pc st := by
  have kk := zt_npe (rest := rest) X V hW hd hf k
  obtain ⟨p, l', e, R, s, m, args, below, meth, c, nL', G', w0', Q⟩ := κ
  obtain ⟨hx, hb, hml, hown, hts, hK, hr, hlk, hnm, rfl, rfl, rfl, rfl, rfl, hQ⟩ := X
  intro H locs ls hs hl'
  exact vx_invokeN hx hb hown (hts _ hl) (hts _ hin) (hts _ hcd) (hts _ hse) hx' hlen hdg (kk H locs ls hs hl') hst
end ZM
