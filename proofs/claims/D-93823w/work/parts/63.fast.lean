/-! WHAT LIES FAST: words of the start by their path; statics; texts -/
set_option maxRecDepth 100000
def cAt : Cond → List Bool → Option Cond
  | c, [] => some c
  | .and a b, x :: p => if x = true then cAt b p else cAt a p
  | _, _ :: _ => none
theorem cAt_of {args : Array Value} {s : State} : ∀ (p : List Bool) (c w : Cond), cAt c p = some w → c.before args s = true → w.before args s = true := by
  intro p
  induction p with
  | nil =>
    intro c w h hc
    have h2 : some c = some w := by
      cases c <;> exact h
    cases h2; exact hc
  | cons x p ih =>
    intro c w h hc
    cases c with
    | and a b =>
      rw [Cond.before_and, Bool.and_eq_true] at hc
      have h2 : (if x = true then cAt b p else cAt a p) = some w := h
      by_cases hx : x = true
      · rw [if_pos hx] at h2; exact ih b w h2 hc.2
      · rw [if_neg hx] at h2; exact ih a w h2 hc.1
    | _ => exact absurd h (by intro h; cases h)
theorem gK.st {G : GG} {s : State} (hK : gK G s) : ∃ b, gStart G.2.2 b ∧ G.2.2.WarmedH s.vm := by
  obtain ⟨-, s0, b, h, e, hW⟩ := hK
  rw [← e]; exact ⟨b, h, hW⟩
theorem gStart.nar {s0 : State} {b : Nat} (h : gStart s0 b) {p : List Bool} {w : Cond} (hp : cAt narrow_1 p = some w) : w.before #[Value.ref b] s0 = true := by
  have h2 := h.2.1
  rw [Cond.before_and, Bool.and_eq_true] at h2
  exact cAt_of p _ _ hp h2.2
abbrev kA (G : GG) : Nat → Prop := fun a => G.2.2.heap.size ≤ a
theorem kA_o (G : GG) : ∀ a : Nat, a < G.2.2.heap.size → ¬ kA G a := fun a h h2 => absurd h (Nat.not_lt.mpr h2)
theorem gP.fast {G : GG} {w : GW} {H : Heap} (h : gP G w H) : ∀ a : Nat, a < G.2.2.heap.size → ¬ kA G a → H[a]? = G.2.2.heap[a]? := fun a ha _ => h.2.2 a ha
/-- a static of the start -/
theorem gK.zI {G : GG} {s : State} (hK : gK G s) {C n d : String} {z : Int32} {p : List Bool} (hl : Cond.laysStatic C n d ∈ lw_tbl) (hi : Cond.initialized C ∈ lw_all) (hp : cAt narrow_1 p = some (.eq (.static C n d) (.int z))) : va_Z C n d (.int z) (kA G) s G.2.2.heap := by
  obtain ⟨b, h, hW⟩ := hK.st
  exact va_Z.moved hW.alike (va_Zof (h.1 _ hl) (h.1 _ (lw_all_tbl hi)) (va_eqi (h.nar hp)) (kA_o G))
theorem gK.zQ {G : GG} {s : State} (hK : gK G s) {C n d : String} {p : List Bool} (hl : Cond.laysStatic C n d ∈ lw_tbl) (hi : Cond.initialized C ∈ lw_all) (hp : cAt narrow_1 p = some (.isRef (.static C n d))) : va_Zq C n d (kA G) s G.2.2.heap := by
  obtain ⟨b, h, hW⟩ := hK.st
  exact va_Zq.moved hW.alike (va_Zqof (h.1 _ hl) (h.1 _ (lw_all_tbl hi)) (h.nar hp) (kA_o G))
/-- a text of the start: object, bytes -/
def StrO (G : GG) (q v : Nat) (hh : Int32) : Prop := va_O "java/lang/String" q (kA G) G.2.2 G.2.2.heap ∧ va_OF "java/lang/String" "value" "[B" (.ref v) q (kA G) G.2.2 G.2.2.heap ∧ va_OF "java/lang/String" "coder" "B" (.int 0) q (kA G) G.2.2 G.2.2.heap ∧ va_OF "java/lang/String" "hash" "I" (.int hh) q (kA G) G.2.2 G.2.2.heap ∧ va_OF "java/lang/String" "hashIsZero" "Z" (.int 0) q (kA G) G.2.2 G.2.2.heap
/-- a text, of the start or of the world; its bytes -/
def SO (G : GG) (w : GW) (q v : Nat) (hh : Int32) : Prop := w q = some (.inr (17, [.ref v, .int 0, .int hh, .int 0])) ∨ StrO G q v hh
def BA (G : GG) (w : GW) (v n : Nat) (f : Nat → Int32) : Prop := w v = some (.inl (G.2.1 2, n, .inl f)) ∨ va_T .byte v n (fun j => .int (f j)) (kA G) G.2.2 G.2.2.heap
theorem strC_of {G : GG} {b : Nat} {tm : Term} {n : Nat} {byt : List Nat} {hh : Int32} (hn : n < 2 ^ 31) (hex : (Cond.exactly tm "java/lang/String").before #[Value.ref b] G.2.2 = true) (hco : (Cond.eq (.field tm "java/lang/String" "coder" "B") (.int 0)).before #[Value.ref b] G.2.2 = true) (har : (Cond.arrayOf (.field tm "java/lang/String" "value" "[B") .byte).before #[Value.ref b] G.2.2 = true) (hle : (Cond.eq (.length (.field tm "java/lang/String" "value" "[B")) (.int (Int32.ofNat n))).before #[Value.ref b] G.2.2 = true)
    (hel : ∀ j : Nat, j < n → (Cond.eq (.elem (.field tm "java/lang/String" "value" "[B") (.int (Int32.ofNat j))) (.int (nI (byt.getD j 0)))).before #[Value.ref b] G.2.2 = true) (hha : (Cond.eq (.field tm "java/lang/String" "hash" "I") (.int hh)).before #[Value.ref b] G.2.2 = true) (hhz : (Cond.eq (.field tm "java/lang/String" "hashIsZero" "Z") (.int 0)).before #[Value.ref b] G.2.2 = true) :
    ∃ q v, tm.eval #[Value.ref b] G.2.2 none [] G.2.2 = some (.ref q) ∧ StrO G q v hh ∧ va_T .byte v n (fun j => .int (nI (byt.getD j 0))) (kA G) G.2.2 G.2.2.heap := by
  obtain ⟨a, c, cA, kA', q1, q2, q3, q4, q5, q6, -⟩ := Cond.exactly_spec (args := #[Value.ref b]) (first := G.2.2) (o := none) (s := G.2.2) (idx := []) (t := tm) (cls := "java/lang/String") hex
  obtain ⟨t, ht, hT⟩ := va_Tof (f := fun j => .int (nI (byt.getD j 0))) (A := kA G) hn har (va_eqt hle) (fun j hj => va_eqt (hel j hj)) (kA_o G)
  exact ⟨a, t, q1, ⟨⟨cA, q3, q5, by rw [q6]; exact q2, kA_o G a (Array.getElem?_eq_some_iff.mp q3).1⟩, vk_OFof q1 ht (kA_o G), vk_OFof q1 (va_eqt hco) (kA_o G), vk_OFof q1 (va_eqt hha) (kA_o G), vk_OFof q1 (va_eqt hhz) (kA_o G)⟩, hT⟩
def StrK (G : GG) (q n : Nat) (byt : List Nat) (hh : Int32) : Prop := ∃ v, StrO G q v hh ∧ va_T .byte v n (fun j => .int (nI (byt.getD j 0))) (kA G) G.2.2 G.2.2.heap
theorem str_k {G : GG} {s : State} (hK : gK G s) {own tx : String} {k n : Nat} {byt : List Nat} {hh : Int32} (hn : n < 2 ^ 31) (h0 : Cond.stringRef own k tx ∈ lw_tbl) (h : ∀ b, gStart G.2.2 b → (Cond.exactly (.string own k) "java/lang/String").before #[Value.ref b] G.2.2 = true ∧ (Cond.eq (.field (.string own k) "java/lang/String" "coder" "B") (.int 0)).before #[Value.ref b] G.2.2 = true ∧ (Cond.arrayOf (.field (.string own k) "java/lang/String" "value" "[B") .byte).before #[Value.ref b] G.2.2 = true ∧ (Cond.eq (.length (.field (.string own k) "java/lang/String" "value" "[B")) (.int (Int32.ofNat n))).before #[Value.ref b] G.2.2 = true ∧ (Cond.eq (.field (.string own k) "java/lang/String" "hash" "I") (.int hh)).before #[Value.ref b] G.2.2 = true ∧ (Cond.eq (.field (.string own k) "java/lang/String" "hashIsZero" "Z") (.int 0)).before #[Value.ref b] G.2.2 = true ∧ ∀ j : Nat, j < n → (Cond.eq (.elem (.field (.string own k) "java/lang/String" "value" "[B") (.int (Int32.ofNat j))) (.int (nI (byt.getD j 0)))).before #[Value.ref b] G.2.2 = true) : ∃ q, vk_R own k tx q s ∧ StrK G q n byt hh := by
  obtain ⟨b, hs, hW⟩ := hK.st
  obtain ⟨h1, h2, h3, h4, h5, h6, h7⟩ := h b hs
  obtain ⟨q, v, e, hS, hT⟩ := strC_of (byt := byt) hn h1 h2 h3 h4 h7 h5 h6
  exact ⟨q, (vk_R.of (hs.1 _ h0) e).warm hW, v, hS, hT⟩
section ZF
variable {κ : ZK} {cc : ByteArray} {own nm : String} {nL : Nat} {ret : Option FieldType} {l : Launch} {d mc ms : Nat} {G : GG} {w0 w : GW} {post : Option Value → GW → Prop} {lv lv2 : List (Nat × Value)} {a b pc : Nat} {st rest : List Value}
theorem z_gstI (X : ZX κ cc own nL ret nm l d mc ms G w0 post) {C n dd : String} {v : Value} {i : Nat} (hZ : ∀ s, gK G s → va_Z C n dd v (kA G) s G.2.2.heap) (hdg : decode cc pc = .ok (.getstatic i, 3)) (hq : Cond.fieldLink own i C n dd ∈ lw_all) (k : Z κ w lv a b (pc + 3) (v :: st)) : Z κ w lv a b pc st := by
  obtain ⟨p, l', e, R, s, m, args, below, meth, c, nL', G', w0', Q⟩ := κ
  obtain ⟨hx, hb, hml, hown, hts, hK, hr, hlk, hnm, rfl, rfl, rfl, rfl, rfl, hQ⟩ := X
  intro H locs ls hs hl2
  obtain ⟨cf, kf, fi, f, a', cell, h1, h2, h3, h4, h5, h6, h7, h8⟩ := hZ s hK
  exact W.gets hx hb hown (hts _ hq) h1 h2 h3 h4 (by rw [hs.1.2.2 a' (Array.getElem?_eq_some_iff.mp h5).1]; exact h5) (fun e => by rw [e] at h6; cases h6) h7 rfl hdg (k H locs ls hs hl2)
theorem z_gstQ (X : ZX κ cc own nL ret nm l d mc ms G w0 post) {C n dd : String} {i : Nat} (hZ : ∀ s, gK G s → va_Zq C n dd (kA G) s G.2.2.heap) (hdg : decode cc pc = .ok (.getstatic i, 3)) (hq : Cond.fieldLink own i C n dd ∈ lw_all) (k : ∀ o : Option Nat, Z κ w lv a b (pc + 3) (va_rf o :: st)) : Z κ w lv a b pc st := by
  obtain ⟨p, l', e, R, s, m, args, below, meth, c, nL', G', w0', Q⟩ := κ
  obtain ⟨hx, hb, hml, hown, hts, hK, hr, hlk, hnm, rfl, rfl, rfl, rfl, rfl, hQ⟩ := X
  intro H locs ls hs hl2
  rcases hZ s hK with ⟨cf, kf, fi, f, a', cell, h1, h2, h3, h4, h5, h6, h7, h8⟩ | ⟨t, cf, kf, fi, f, a', cell, h1, h2, h3, h4, h5, h6, h7, h8⟩
  · exact W.gets hx hb hown (hts _ hq) h1 h2 h3 h4 (by rw [hs.1.2.2 a' (Array.getElem?_eq_some_iff.mp h5).1]; exact h5) (fun e => by rw [e] at h6; cases h6) h7 rfl hdg (k none H locs ls hs hl2)
  · exact W.gets hx hb hown (hts _ hq) h1 h2 h3 h4 (by rw [hs.1.2.2 a' (Array.getElem?_eq_some_iff.mp h5).1]; exact h5) (fun e => by rw [e] at h6; cases h6) h7 rfl hdg (k (some t) H locs ls hs hl2)
theorem z_ldcS (X : ZX κ cc own nL ret nm l d mc ms G w0 post) {i : Nat} {tx : String} {Pq : Nat → Prop} (hc : ∀ s, gK G s → ∃ q, vk_R own i tx q s ∧ Pq q) (hdg : decode cc pc = .ok (.ldc i, 2)) (k : ∀ q, Pq q → Z κ w lv a b (pc + 2) (.ref q :: st)) : Z κ w lv a b pc st := by
  obtain ⟨p, l', e, R, s, m, args, below, meth, c, nL', G', w0', Q⟩ := κ
  obtain ⟨hx, hb, hml, hown, hts, hK, hr, hlk, hnm, rfl, rfl, rfl, rfl, rfl, hQ⟩ := X
  intro H locs ls hs hl2
  obtain ⟨q, h1, h2⟩ := hc s hK
  exact va_ldcS hx hb hown h1 hdg (k q h2 H locs ls hs hl2)
theorem StrO.at {q v : Nat} {hh : Int32} (h : StrO G q v hh) {s : State} {H : Heap} (hK : gK G s) (hP : gP G w H) : ∀ j, j < 4 → ∀ val, [Value.ref v, .int 0, .int hh, .int 0][j]? = some val → va_OF (TJ4 j).1 (TJ4 j).2.1 (TJ4 j).2.2.1 val q (kA G) s H := by
  obtain ⟨bb, -, hW⟩ := hK.st
  obtain ⟨-, h1, h2, h3, h4⟩ := h
  intro j hj val hv
  rcases (show j = 0 ∨ j = 1 ∨ j = 2 ∨ j = 3 by omega) with rfl | rfl | rfl | rfl <;> cases hv
  · exact (va_OF.moved hW.alike h1).kept hP.fast
  · exact (va_OF.moved hW.alike h2).kept hP.fast
  · exact (va_OF.moved hW.alike h3).kept hP.fast
  · exact (va_OF.moved hW.alike h4).kept hP.fast
theorem z_gS (X : ZX κ cc own nL ret nm l d mc ms G w0 post) {q v : Nat} {hh : Int32} {i : Nat} {val : Value} (hS : SO G w q v hh) (hdg : decode cc pc = .ok (.getfield i, 3)) (j : Nat) (hj : j < 4) (hq : Cond.fieldLink own i (TJ4 j).1 (TJ4 j).2.1 (TJ4 j).2.2.1 ∈ lw_all) (hv : [Value.ref v, .int 0, .int hh, .int 0][j]? = some val) (k : Z κ w lv a b (pc + 3) (val :: st)) : Z κ w lv a b pc (.ref q :: st) := by
  rcases hS with hS | hS
  · exact z_get X hdg hS in_J4 rfl j hj hq hv k
  obtain ⟨p, l', e, R, s, m, args, below, meth, c, nL', G', w0', Q⟩ := κ
  obtain ⟨hx, hb, hml, hown, hts, hK, hr, hlk, hnm, rfl, rfl, rfl, rfl, rfl, hQ⟩ := X
  intro H locs ls hs hl2
  obtain ⟨cf, kf, fi, f, cell, h1, h2, h3, h4, h5, h6⟩ := hS.at hK hs.1 j hj val hv
  exact W.getf hx hb hown (hts _ hq) h1 h2 h3 h4 (v := val) h5 rfl rfl hdg (k H locs ls hs hl2)
theorem BA.at {v n : Nat} {f : Nat → Int32} {s : State} {H : Heap} (h : va_T .byte v n (fun j => .int (f j)) (kA G) G.2.2 G.2.2.heap) (hK : gK G s) (hP : gP G w H) : va_T .byte v n (fun j => .int (f j)) (kA G) s H := by
  obtain ⟨bb, -, hW⟩ := hK.st
  exact (va_T.moved hW.alike h).kept hP.fast
theorem z_alK (X : ZX κ cc own nL ret nm l d mc ms G w0 post) {v n : Nat} {f : Nat → Int32} (hB : BA G w v n f) (hdg : decode cc pc = .ok (.arraylength, 1)) (k : Z κ w lv a b (pc + 1) (.int (nI n) :: st)) : Z κ w lv a b pc (.ref v :: st) := by
  rcases hB with hB | hB
  · exact z_alen (t := 2) X hdg hB rfl rfl k
  obtain ⟨p, l', e, R, s, m, args, below, meth, c, nL', G', w0', Q⟩ := κ
  obtain ⟨hx, hb, hml, hown, hts, hK, hr, hlk, hnm, rfl, rfl, rfl, rfl, rfl, hQ⟩ := X
  intro H locs ls hs hl2
  obtain ⟨cell, h1, h2, h3, h4, h5, h6, h7⟩ := BA.at hB hK hs.1
  exact W.alen (n := Int32.ofNat n) hx hb h1 h2 h5 rfl rfl hdg (k H locs ls hs hl2)
theorem z_bK (X : ZX κ cc own nL ret nm l d mc ms G w0 post) {v n : Nat} {f : Nat → Int32} {i : Int32} {x : Int32} (hB : BA G w v n f) (hdg : decode cc pc = .ok (.baload, 1)) (hin : vp_in i n) (hv : f i.toNatClampNeg = x) (k : Z κ w lv a b (pc + 1) (.int x :: st)) : Z κ w lv a b pc (.int i :: .ref v :: st) := by
  rcases hB with hB | hB
  · exact z_bald X hdg hB hin hv k
  obtain ⟨p, l', e, R, s, m, args, below, meth, c, nL', G', w0', Q⟩ := κ
  obtain ⟨hx, hb, hml, hown, hts, hK, hr, hlk, hnm, rfl, rfl, rfl, rfl, rfl, hQ⟩ := X
  intro H locs ls hs hl2
  obtain ⟨cell, h1, h2, h3, h4, h5, h6, h7⟩ := BA.at hB hK hs.1
  have hlt : i.toNatClampNeg < n := Nat.not_le.mp fun q => hin (Or.inr q)
  have hin2 : ¬ (i < 0 ∨ cell.slots.size ≤ i.toNatClampNeg) := by
    intro q
    rcases q with q | q
    · exact hin (Or.inl q)
    · omega
  exact W.bald (v := .int x) hx hb h1 h2 h3 hin2 (by rw [h6 _ hlt]; exact congrArg (fun z => some (Value.int z)) hv) rfl rfl hdg (k H locs ls hs hl2)
theorem z_bKN (X : ZX κ cc own nL ret nm l d mc ms G w0 post) {v n j : Nat} {f : Nat → Int32} {x : Int32} (hB : BA G w v n f) (hdg : decode cc pc = .ok (.baload, 1)) (hj : j < n) (hn : n < 2 ^ 31) (hv : f j = x) (k : Z κ w lv a b (pc + 1) (.int x :: st)) : Z κ w lv a b pc (.int (nI j) :: .ref v :: st) :=
  z_bK X hB hdg (vp_in_nI hj hn) (by rw [nI_clamp (by omega)]; exact hv) k
theorem z_nret {ret9 : FieldType} (X : ZX κ cc own nL (some ret9) nm l d mc ms G w0 post) {v : Int32} (hdg : decode cc pc = .ok (.ireturn, 1)) (hk : a ≤ mc) (hsl : b ≤ ms) (hn : narrow ret9 (.int v) = .int v) (h : post (some (.int v)) w) : Z κ w lv a b pc [.int v] := by
  obtain ⟨p, l', e, R, s, m, args, below, meth, c, nL', G', w0', Q⟩ := κ
  obtain ⟨hx, hb, hml, hown, hts, hK, hr, hlk, hnm, rfl, rfl, rfl, rfl, rfl, hQ⟩ := X
  intro H locs ls hs hl'
  refine W.widen hk hsl (W_mono hQ ?_)
  exact W.zret hx hb hr hn (fun t ht hW => ⟨⟨_, w, rfl, h, by rw [ht]; exact hs.1, hs.2.1⟩, hs.2.2.F ht⟩) hs.2.2.2.2 hdg
theorem SO.recv {q v : Nat} {hh : Int32} (h : SO G w q v hh) {s : State} {H : Heap} (hK : gK G s) (hP : gP G w H) : ∃ cell : Cell, H[q]? = some cell ∧ cell.vm.isStatics = false ∧ s.vm.findClass "java/lang/String" = some cell.cls := by
  rcases h with h | h
  · exact va_recv hK.1 (hP.one h) (show CL[17]? = some (RJ4, TJ4, 4) from rfl) (q0 := 0) rfl
  · obtain ⟨bb, -, hW⟩ := hK.st
    obtain ⟨cell, h1, h2, h3, -⟩ := (va_O.moved hW.alike h.1).kept hP.fast
    exact ⟨cell, h1, h2, h3⟩
theorem z_runVS (X : ZX κ cc own nL ret nm l d mc ms G w0 post) {y : MethodName} {bytes : ByteArray} {maxL : Nat} {ret' : Option FieldType} {d' mc' ms' i n : Nat} {post' : Option Value → GW → Prop} (As : List Value) {q v : Nat} {hh : Int32} (hM : gM l G y bytes maxL ret' d' mc' ms' (.ref q :: As) w post') (hdg : decode cc pc = .ok (.invokevirtual i, 3)) (hS : SO G w q v hh) (hT : GoodIn lw_all (wsV own i RJ4 y (ws_ y bytes maxL ret'))) (hd : y.cls = RJ4 ∧ y.cls ≠ "java/lang/invoke/MethodHandle" ∧ y.cls ≠ "java/lang/invoke/VarHandle" ∧ (parseMethodDescriptor y.desc).map (fun d => d.parameters.length) = some n) (hn : As.length = n) (hg : d' + 1 ≤ d ∧ 8 + (maxL + 11) + 64 * d' ≤ 64 * d) (hf : a + mc' ≤ mc ∧ b + ms' ≤ ms) (hst : st = As.reverse ++ .ref q :: rest) (hW : (rest.map fun v => v.category).sum ≤ 8) : zRun κ w lv a b pc st rest mc' ms' post' := by
  obtain ⟨p, l', e, R, s, m, args, below, meth, c, nL', G', w0', Q⟩ := κ
  obtain ⟨hx, hb, hml, hown, hts, hK, hr, hlk, hnm, rfl, rfl, rfl, rfl, rfl, hQ⟩ := X
  intro H locs ls hs hl2
  exact ⟨_, va_runV (As := As) (rest := rest) ⟨hx, hb, hml, hown, hts⟩ (hM H.size) (cwV n hts hT rfl rfl rfl hd hg) ⟨gPc.blind, hS.recv hK hs.1, fun U hU hW => ⟨rfl, by rw [hU], by rw [hU]; exact hs.1, gK.moved hW hK⟩⟩ rfl hn hl2.1 hst (lv_room hW) hdg hf⟩
end ZF
theorem sk_X14_57 {G : GG} : ∀ s, gK G s → ∃ q, vk_R "ThreeSizes$Reader" 57 ";" q s ∧ StrK G q 1 [59] (59) := fun s hK => str_k hK (by decide) q1053 (fun b h => ⟨h.nar (p := [true, false, true, false, true, false, true, true, true, true]) rfl, h.nar (p := [true, false, true, false, true, true, false, false, false]) rfl, h.nar (p := [true, false, true, false, true, true, false, false, true, false]) rfl, h.nar (p := [true, false, true, false, true, true, false, false, true, true]) rfl, h.nar (p := [true, false, true, false, true, true, false, true, false, true]) rfl, h.nar (p := [true, false, true, false, true, true, false, true, true, false]) rfl, fun j hj => by
  rcases (show j = 0 by omega) with rfl
  · exact h.nar (p := [true, false, true, false, true, true, false, true, false, false]) rfl⟩)
theorem sk_X14_109 {G : GG} : ∀ s, gK G s → ∃ q, vk_R "ThreeSizes$Reader" 109 "box" q s ∧ StrK G q 3 [98, 111, 120] (97739) := fun s hK => str_k hK (by decide) q1134 (fun b h => ⟨h.nar (p := [true, false, true, false, true, true, false, true, true, true]) rfl, h.nar (p := [true, false, true, false, true, true, true, false, false, false]) rfl, h.nar (p := [true, false, true, false, true, true, true, false, false, true]) rfl, h.nar (p := [true, false, true, false, true, true, true, false, true, false]) rfl, h.nar (p := [true, false, true, false, true, true, true, true, true, false]) rfl, h.nar (p := [true, false, true, false, true, true, true, true, true, true]) rfl, fun j hj => by
  rcases (show j = 0 ∨ j = 1 ∨ j = 2 by omega) with rfl | rfl | rfl
  · exact h.nar (p := [true, false, true, false, true, true, true, false, true, true]) rfl
  · exact h.nar (p := [true, false, true, false, true, true, true, true, false, false]) rfl
  · exact h.nar (p := [true, false, true, false, true, true, true, true, false, true]) rfl⟩)
theorem sk_X14_111 {G : GG} : ∀ s, gK G s → ∃ q, vk_R "ThreeSizes$Reader" 111 "goes" q s ∧ StrK G q 4 [103, 111, 101, 115] (3178390) := fun s hK => str_k hK (by decide) q1143 (fun b h => ⟨h.nar (p := [true, false, true, true, false, false, false, false, true, false]) rfl, h.nar (p := [true, false, true, true, false, false, false, false, true, true]) rfl, h.nar (p := [true, false, true, true, false, false, false, true, false, false]) rfl, h.nar (p := [true, false, true, true, false, false, false, true, false, true]) rfl, h.nar (p := [true, false, true, true, false, false, true, false, true, false]) rfl, h.nar (p := [true, false, true, true, false, false, true, false, true, true]) rfl, fun j hj => by
  rcases (show j = 0 ∨ j = 1 ∨ j = 2 ∨ j = 3 by omega) with rfl | rfl | rfl | rfl
  · exact h.nar (p := [true, false, true, true, false, false, false, true, true, false]) rfl
  · exact h.nar (p := [true, false, true, true, false, false, false, true, true, true]) rfl
  · exact h.nar (p := [true, false, true, true, false, false, true, false, false, false]) rfl
  · exact h.nar (p := [true, false, true, true, false, false, true, false, false, true]) rfl⟩)
theorem sk_X14_113 {G : GG} : ∀ s, gK G s → ∃ q, vk_R "ThreeSizes$Reader" 113 "sort" q s ∧ StrK G q 4 [115, 111, 114, 116] (3536286) := fun s hK => str_k hK (by decide) q1144 (fun b h => ⟨h.nar (p := [true, false, true, true, false, false, true, true, true, false]) rfl, h.nar (p := [true, false, true, true, false, false, true, true, true, true]) rfl, h.nar (p := [true, false, true, true, false, true, false, false, false]) rfl, h.nar (p := [true, false, true, true, false, true, false, false, true, false]) rfl, h.nar (p := [true, false, true, true, false, true, false, true, true, true]) rfl, h.nar (p := [true, false, true, true, false, true, true, false, false, false]) rfl, fun j hj => by
  rcases (show j = 0 ∨ j = 1 ∨ j = 2 ∨ j = 3 by omega) with rfl | rfl | rfl | rfl
  · exact h.nar (p := [true, false, true, true, false, true, false, false, true, true]) rfl
  · exact h.nar (p := [true, false, true, true, false, true, false, true, false, false]) rfl
  · exact h.nar (p := [true, false, true, true, false, true, false, true, false, true]) rfl
  · exact h.nar (p := [true, false, true, true, false, true, false, true, true, false]) rfl⟩)
theorem sk_X14_115 {G : GG} : ∀ s, gK G s → ∃ q, vk_R "ThreeSizes$Reader" 115 "near" q s ∧ StrK G q 4 [110, 101, 97, 114] (3377192) := fun s hK => str_k hK (by decide) q1145 (fun b h => ⟨h.nar (p := [true, false, true, true, false, true, true, true, false, false]) rfl, h.nar (p := [true, false, true, true, false, true, true, true, false, true]) rfl, h.nar (p := [true, false, true, true, false, true, true, true, true, false]) rfl, h.nar (p := [true, false, true, true, false, true, true, true, true, true]) rfl, h.nar (p := [true, false, true, true, true, false, false, true, false, true]) rfl, h.nar (p := [true, false, true, true, true, false, false, true, true, false]) rfl, fun j hj => by
  rcases (show j = 0 ∨ j = 1 ∨ j = 2 ∨ j = 3 by omega) with rfl | rfl | rfl | rfl
  · exact h.nar (p := [true, false, true, true, true, false, false, false, false]) rfl
  · exact h.nar (p := [true, false, true, true, true, false, false, false, true, false]) rfl
  · exact h.nar (p := [true, false, true, true, true, false, false, false, true, true]) rfl
  · exact h.nar (p := [true, false, true, true, true, false, false, true, false, false]) rfl⟩)
theorem sk_X14_117 {G : GG} : ∀ s, gK G s → ∃ q, vk_R "ThreeSizes$Reader" 117 "way" q s ∧ StrK G q 3 [119, 97, 121] (117487) := fun s hK => str_k hK (by decide) q1146 (fun b h => ⟨h.nar (p := [true, false, true, true, true, false, true, false, true, true]) rfl, h.nar (p := [true, false, true, true, true, false, true, true, false, false]) rfl, h.nar (p := [true, false, true, true, true, false, true, true, false, true]) rfl, h.nar (p := [true, false, true, true, true, false, true, true, true, false]) rfl, h.nar (p := [true, false, true, true, true, true, false, false, true, false]) rfl, h.nar (p := [true, false, true, true, true, true, false, false, true, true]) rfl, fun j hj => by
  rcases (show j = 0 ∨ j = 1 ∨ j = 2 by omega) with rfl | rfl | rfl
  · exact h.nar (p := [true, false, true, true, true, false, true, true, true, true]) rfl
  · exact h.nar (p := [true, false, true, true, true, true, false, false, false, false]) rfl
  · exact h.nar (p := [true, false, true, true, true, true, false, false, false, true]) rfl⟩)
theorem sk_X14_88 {G : GG} : ∀ s, gK G s → ∃ q, vk_R "ThreeSizes$Reader" 88 "comes" q s ∧ StrK G q 5 [99, 111, 109, 101, 115] (94843375) := fun s hK => str_k hK (by decide) q1155 (fun b h => ⟨h.nar (p := [true, false, true, true, true, true, true, false, false, true]) rfl, h.nar (p := [true, false, true, true, true, true, true, false, true, false]) rfl, h.nar (p := [true, false, true, true, true, true, true, false, true, true]) rfl, h.nar (p := [true, false, true, true, true, true, true, true, false, false]) rfl, h.nar (p := [true, true, false, false, false, false, false, false, true, true]) rfl, h.nar (p := [true, true, false, false, false, false, false, true, false, false]) rfl, fun j hj => by
  rcases (show j = 0 ∨ j = 1 ∨ j = 2 ∨ j = 3 ∨ j = 4 by omega) with rfl | rfl | rfl | rfl | rfl
  · exact h.nar (p := [true, false, true, true, true, true, true, true, false, true]) rfl
  · exact h.nar (p := [true, false, true, true, true, true, true, true, true, false]) rfl
  · exact h.nar (p := [true, false, true, true, true, true, true, true, true, true]) rfl
  · exact h.nar (p := [true, true, false, false, false, false, false, false, false]) rfl
  · exact h.nar (p := [true, true, false, false, false, false, false, false, true, false]) rfl⟩)
theorem sk_X14_94 {G : GG} : ∀ s, gK G s → ∃ q, vk_R "ThreeSizes$Reader" 94 "worth" q s ∧ StrK G q 5 [119, 111, 114, 116, 104] (113319054) := fun s hK => str_k hK (by decide) q1161 (fun b h => ⟨h.nar (p := [true, true, false, false, false, false, true, false, true, true]) rfl, h.nar (p := [true, true, false, false, false, false, true, true, false, false]) rfl, h.nar (p := [true, true, false, false, false, false, true, true, false, true]) rfl, h.nar (p := [true, true, false, false, false, false, true, true, true, false]) rfl, h.nar (p := [true, true, false, false, false, true, false, true, false, true]) rfl, h.nar (p := [true, true, false, false, false, true, false, true, true, false]) rfl, fun j hj => by
  rcases (show j = 0 ∨ j = 1 ∨ j = 2 ∨ j = 3 ∨ j = 4 by omega) with rfl | rfl | rfl | rfl | rfl
  · exact h.nar (p := [true, true, false, false, false, false, true, true, true, true]) rfl
  · exact h.nar (p := [true, true, false, false, false, true, false, false, false]) rfl
  · exact h.nar (p := [true, true, false, false, false, true, false, false, true, false]) rfl
  · exact h.nar (p := [true, true, false, false, false, true, false, false, true, true]) rfl
  · exact h.nar (p := [true, true, false, false, false, true, false, true, false, false]) rfl⟩)
theorem sk_X14_100 {G : GG} : ∀ s, gK G s → ∃ q, vk_R "ThreeSizes$Reader" 100 "back" q s ∧ StrK G q 4 [98, 97, 99, 107] (3015911) := fun s hK => str_k hK (by decide) q1166 (fun b h => ⟨h.nar (p := [true, true, false, false, false, true, true, true, true, false]) rfl, h.nar (p := [true, true, false, false, false, true, true, true, true, true]) rfl, h.nar (p := [true, true, false, false, true, false, false, false, false]) rfl, h.nar (p := [true, true, false, false, true, false, false, false, true, false]) rfl, h.nar (p := [true, true, false, false, true, false, false, true, true, true]) rfl, h.nar (p := [true, true, false, false, true, false, true, false, false, false]) rfl, fun j hj => by
  rcases (show j = 0 ∨ j = 1 ∨ j = 2 ∨ j = 3 by omega) with rfl | rfl | rfl | rfl
  · exact h.nar (p := [true, true, false, false, true, false, false, false, true, true]) rfl
  · exact h.nar (p := [true, true, false, false, true, false, false, true, false, false]) rfl
  · exact h.nar (p := [true, true, false, false, true, false, false, true, false, true]) rfl
  · exact h.nar (p := [true, true, false, false, true, false, false, true, true, false]) rfl⟩)
theorem sk_X4_217 {G : GG} : ∀ s, gK G s → ∃ q, vk_R "ThreeSizesModel" 217 "sort" q s ∧ StrK G q 4 [115, 111, 114, 116] (3536286) := fun s hK => str_k hK (by decide) q1725 (fun b h => ⟨h.nar (p := [true, true, false, false, true, true, false, false, true, false]) rfl, h.nar (p := [true, true, false, false, true, true, false, false, true, true]) rfl, h.nar (p := [true, true, false, false, true, true, false, true, false, false]) rfl, h.nar (p := [true, true, false, false, true, true, false, true, false, true]) rfl, h.nar (p := [true, true, false, false, true, true, true, false, true, false]) rfl, h.nar (p := [true, true, false, false, true, true, true, false, true, true]) rfl, fun j hj => by
  rcases (show j = 0 ∨ j = 1 ∨ j = 2 ∨ j = 3 by omega) with rfl | rfl | rfl | rfl
  · exact h.nar (p := [true, true, false, false, true, true, false, true, true, false]) rfl
  · exact h.nar (p := [true, true, false, false, true, true, false, true, true, true]) rfl
  · exact h.nar (p := [true, true, false, false, true, true, true, false, false, false]) rfl
  · exact h.nar (p := [true, true, false, false, true, true, true, false, false, true]) rfl⟩)
theorem sk_X4_218 {G : GG} : ∀ s, gK G s → ∃ q, vk_R "ThreeSizesModel" 218 "comes" q s ∧ StrK G q 5 [99, 111, 109, 101, 115] (94843375) := fun s hK => str_k hK (by decide) q1761 (fun b h => ⟨h.nar (p := [true, true, false, true, false, false, false, true, true, false]) rfl, h.nar (p := [true, true, false, true, false, false, false, true, true, true]) rfl, h.nar (p := [true, true, false, true, false, false, true, false, false, false]) rfl, h.nar (p := [true, true, false, true, false, false, true, false, false, true]) rfl, h.nar (p := [true, true, false, true, false, false, true, true, true, true]) rfl, h.nar (p := [true, true, false, true, false, true, false, false, false]) rfl, fun j hj => by
  rcases (show j = 0 ∨ j = 1 ∨ j = 2 ∨ j = 3 ∨ j = 4 by omega) with rfl | rfl | rfl | rfl | rfl
  · exact h.nar (p := [true, true, false, true, false, false, true, false, true, false]) rfl
  · exact h.nar (p := [true, true, false, true, false, false, true, false, true, true]) rfl
  · exact h.nar (p := [true, true, false, true, false, false, true, true, false, false]) rfl
  · exact h.nar (p := [true, true, false, true, false, false, true, true, false, true]) rfl
  · exact h.nar (p := [true, true, false, true, false, false, true, true, true, false]) rfl⟩)
theorem sk_X4_219 {G : GG} : ∀ s, gK G s → ∃ q, vk_R "ThreeSizesModel" 219 "worth" q s ∧ StrK G q 5 [119, 111, 114, 116, 104] (113319054) := fun s hK => str_k hK (by decide) q1762 (fun b h => ⟨h.nar (p := [true, true, false, true, false, true, true, true, false, false]) rfl, h.nar (p := [true, true, false, true, false, true, true, true, false, true]) rfl, h.nar (p := [true, true, false, true, false, true, true, true, true, false]) rfl, h.nar (p := [true, true, false, true, false, true, true, true, true, true]) rfl, h.nar (p := [true, true, false, true, true, false, false, true, true, false]) rfl, h.nar (p := [true, true, false, true, true, false, false, true, true, true]) rfl, fun j hj => by
  rcases (show j = 0 ∨ j = 1 ∨ j = 2 ∨ j = 3 ∨ j = 4 by omega) with rfl | rfl | rfl | rfl | rfl
  · exact h.nar (p := [true, true, false, true, true, false, false, false, false]) rfl
  · exact h.nar (p := [true, true, false, true, true, false, false, false, true, false]) rfl
  · exact h.nar (p := [true, true, false, true, true, false, false, false, true, true]) rfl
  · exact h.nar (p := [true, true, false, true, true, false, false, true, false, false]) rfl
  · exact h.nar (p := [true, true, false, true, true, false, false, true, false, true]) rfl⟩)
theorem sk_X4_224 {G : GG} : ∀ s, gK G s → ∃ q, vk_R "ThreeSizesModel" 224 "back" q s ∧ StrK G q 4 [98, 97, 99, 107] (3015911) := fun s hK => str_k hK (by decide) q1767 (fun b h => ⟨h.nar (p := [true, true, false, true, true, true, false, false, true, true]) rfl, h.nar (p := [true, true, false, true, true, true, false, true, false, false]) rfl, h.nar (p := [true, true, false, true, true, true, false, true, false, true]) rfl, h.nar (p := [true, true, false, true, true, true, false, true, true, false]) rfl, h.nar (p := [true, true, false, true, true, true, true, false, true, true]) rfl, h.nar (p := [true, true, false, true, true, true, true, true, false, false]) rfl, fun j hj => by
  rcases (show j = 0 ∨ j = 1 ∨ j = 2 ∨ j = 3 by omega) with rfl | rfl | rfl | rfl
  · exact h.nar (p := [true, true, false, true, true, true, false, true, true, true]) rfl
  · exact h.nar (p := [true, true, false, true, true, true, true, false, false, false]) rfl
  · exact h.nar (p := [true, true, false, true, true, true, true, false, false, true]) rfl
  · exact h.nar (p := [true, true, false, true, true, true, true, false, true, false]) rfl⟩)
theorem sk_X4_226 {G : GG} : ∀ s, gK G s → ∃ q, vk_R "ThreeSizesModel" 226 "box" q s ∧ StrK G q 3 [98, 111, 120] (97739) := fun s hK => str_k hK (by decide) q1768 (fun b h => ⟨h.nar (p := [true, true, true, false, false, false, true, false, true, false]) rfl, h.nar (p := [true, true, true, false, false, false, true, false, true, true]) rfl, h.nar (p := [true, true, true, false, false, false, true, true, false, false]) rfl, h.nar (p := [true, true, true, false, false, false, true, true, false, true]) rfl, h.nar (p := [true, true, true, false, false, true, false, false, true, false]) rfl, h.nar (p := [true, true, true, false, false, true, false, false, true, true]) rfl, fun j hj => by
  rcases (show j = 0 ∨ j = 1 ∨ j = 2 by omega) with rfl | rfl | rfl
  · exact h.nar (p := [true, true, true, false, false, false, true, true, true, false]) rfl
  · exact h.nar (p := [true, true, true, false, false, false, true, true, true, true]) rfl
  · exact h.nar (p := [true, true, true, false, false, true, false, false, false]) rfl⟩)
theorem sk_X4_228 {G : GG} : ∀ s, gK G s → ∃ q, vk_R "ThreeSizesModel" 228 "goes" q s ∧ StrK G q 4 [103, 111, 101, 115] (3178390) := fun s hK => str_k hK (by decide) q1769 (fun b h => ⟨h.nar (p := [true, true, true, false, true, false, false, false, true, false]) rfl, h.nar (p := [true, true, true, false, true, false, false, false, true, true]) rfl, h.nar (p := [true, true, true, false, true, false, false, true, false, false]) rfl, h.nar (p := [true, true, true, false, true, false, false, true, false, true]) rfl, h.nar (p := [true, true, true, false, true, false, true, false, true, false]) rfl, h.nar (p := [true, true, true, false, true, false, true, false, true, true]) rfl, fun j hj => by
  rcases (show j = 0 ∨ j = 1 ∨ j = 2 ∨ j = 3 by omega) with rfl | rfl | rfl | rfl
  · exact h.nar (p := [true, true, true, false, true, false, false, true, true, false]) rfl
  · exact h.nar (p := [true, true, true, false, true, false, false, true, true, true]) rfl
  · exact h.nar (p := [true, true, true, false, true, false, true, false, false, false]) rfl
  · exact h.nar (p := [true, true, true, false, true, false, true, false, false, true]) rfl⟩)
theorem sk_X4_229 {G : GG} : ∀ s, gK G s → ∃ q, vk_R "ThreeSizesModel" 229 "near" q s ∧ StrK G q 4 [110, 101, 97, 114] (3377192) := fun s hK => str_k hK (by decide) q1770 (fun b h => ⟨h.nar (p := [true, true, true, false, true, true, true, false, true, false]) rfl, h.nar (p := [true, true, true, false, true, true, true, false, true, true]) rfl, h.nar (p := [true, true, true, false, true, true, true, true, false, false]) rfl, h.nar (p := [true, true, true, false, true, true, true, true, false, true]) rfl, h.nar (p := [true, true, true, true, false, false, false, false, true, true]) rfl, h.nar (p := [true, true, true, true, false, false, false, true, false, false]) rfl, fun j hj => by
  rcases (show j = 0 ∨ j = 1 ∨ j = 2 ∨ j = 3 by omega) with rfl | rfl | rfl | rfl
  · exact h.nar (p := [true, true, true, false, true, true, true, true, true, false]) rfl
  · exact h.nar (p := [true, true, true, false, true, true, true, true, true, true]) rfl
  · exact h.nar (p := [true, true, true, true, false, false, false, false, false]) rfl
  · exact h.nar (p := [true, true, true, true, false, false, false, false, true, false]) rfl⟩)
theorem sk_X4_231 {G : GG} : ∀ s, gK G s → ∃ q, vk_R "ThreeSizesModel" 231 "way" q s ∧ StrK G q 3 [119, 97, 121] (117487) := fun s hK => str_k hK (by decide) q1771 (fun b h => ⟨h.nar (p := [true, true, true, true, false, true, false, true, false, true]) rfl, h.nar (p := [true, true, true, true, false, true, false, true, true, false]) rfl, h.nar (p := [true, true, true, true, false, true, false, true, true, true]) rfl, h.nar (p := [true, true, true, true, false, true, true, false, false, false]) rfl, h.nar (p := [true, true, true, true, false, true, true, true, false, false]) rfl, h.nar (p := [true, true, true, true, false, true, true, true, false, true]) rfl, fun j hj => by
  rcases (show j = 0 ∨ j = 1 ∨ j = 2 by omega) with rfl | rfl | rfl
  · exact h.nar (p := [true, true, true, true, false, true, true, false, false, true]) rfl
  · exact h.nar (p := [true, true, true, true, false, true, true, false, true, false]) rfl
  · exact h.nar (p := [true, true, true, true, false, true, true, false, true, true]) rfl⟩)
theorem cs_1 {G : GG} : ∀ s, gK G s → va_Z "java/lang/String" "COMPACT_STRINGS" "Z" (.int (nI 1)) (kA G) s G.2.2.heap := fun s hK => hK.zI q877 q75 (p := [false, false, false, false, false, false, false, true, true, false]) rfl
theorem pf_1 {G : GG} : ∀ s, gK G s → va_Zq "jdk/internal/util/Preconditions" "SIOOBE_FORMATTER" "Ljava/util/function/BiFunction;" (kA G) s G.2.2.heap := fun s hK => hK.zQ q969 q99 (p := [false, false, false, false, false, false, false, true, true, true]) rfl
