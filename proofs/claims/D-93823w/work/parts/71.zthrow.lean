/-! EXCEPTIONS OVER THE GHOST WORLD: contracts that may throw, the judgement ZT of what is thrown here, catching, leaving, calling -/
set_option maxRecDepth 100000
def gXC (G : GG) (w0 : GW) (sz : Nat) (px : String → Nat → GW → Prop) : String → Addr → State → State → Prop := fun E q st t =>
  (∃ w1 : GW, px E q w1 ∧ gP G w1 t.heap ∧ ∀ a e, w1 a = some e → gA w0 sz a) ∧ va_F (gA w0 sz) st t
/-- a contract of a method that may throw: class, object, world behind -/
def gMX (l : Launch) (G : GG) (y : MethodName) (ws : List Cond) (d mc ms : Nat) (as : List Value) (w : GW) (post : Option Value → GW → Prop) (px : String → Nat → GW → Prop) : Prop :=
  ∀ sz, vx_Met l y ws (gR d mc ms) (gPc G w sz as) (gQ G w sz post) (gXC G w sz px) mc ms (gA w sz)
def pN : String → Nat → GW → Prop := fun _ _ _ => False
/-- the table of the method, and that leaving it by a throw is a fit end -/
def ZY (κ : ZK) (mc ms : Nat) (hh : List (Nat × Nat × Nat × Nat)) (px : String → Nat → GW → Prop) : Prop := match κ with
  | (_, _, _, _, s, _, args, below, _, c, _, G, w0, Q) => c.exceptionTable.toList = tableOf hh ∧ ∀ t, vx_MQ below (fun _ _ _ _ => False) (gXC G w0 s.heap.size px) args s mc ms (gA w0 s.heap.size) t → Q t
/-- q, an object of class E, is thrown here -/
def ZT (κ : ZK) (E : String) (q : Nat) (w : GW) (lv : List (Nat × Value)) (a b pc : Nat) : Prop := match κ with
  | (p, l, e, R, s, m, args, below, meth, c, nL, G, w0, Q) => ∀ (H : Heap) (locs : List Loc) (ls : Array Slot) (ce : Cell) (rest : List Value), gS G w0 s.heap w H locs → lv_has ls nL lv → H[q]? = some ce → ce.vm = .none → s.vm.findClass E = some ce.cls → vx_W p l e R s m args below meth c H locs a b Q (F0 m pc ls rest) q
/-- where the machine stands when it throws by itself: the world at the method's start, no traces -/
def ZV (κ : ZK) : Prop := match κ with
  | (_, l, _, _, s, _, _, _, _, _, _, G, w0, _) => gP G w0 s.heap ∧ l.stackTraces = false
theorem mq_l {below : List Frame} {Qc : Array Value → State → Outcome → State → Prop} {XC : String → Addr → State → State → Prop} {a : Array Value} {s : State} {mc ms : Nat} {free : Addr → Prop} (t : State) (h : MQ below Qc a s mc ms free t) : vx_MQ below Qc XC a s mc ms free t := by
  obtain ⟨o, b1, b2, b3, b4⟩ := h
  exact ⟨o, b1, b2, Or.inl ⟨b3, b4⟩⟩
theorem mq_r {below : List Frame} {Qc : Array Value → State → Outcome → State → Prop} {XC : String → Addr → State → State → Prop} {a : Array Value} {s : State} {mc ms : Nat} {free : Addr → Prop} (t : State) (h : vx_MQ below (fun _ _ _ _ => False) XC a s mc ms free t) : vx_MQ below Qc XC a s mc ms free t := by
  obtain ⟨o, b1, b2, h | h⟩ := h
  · exact h.1.elim
  · exact ⟨o, b1, b2, Or.inr h⟩
theorem Z.metX {l : Launch} {G : GG} {y : MethodName} {cc : ByteArray} {nL : Nat} {ret : Option FieldType} {d mc ms : Nat} {as : List Value} {w : GW} {post : Option Value → GW → Prop} {px : String → Nat → GW → Prop} {own nm : String} {lv : List (Nat × Value)} (hy : plainName y.cls = true) (ho : y.cls = own) (hn : y.name = nm) (hlen : (lg_sl as).length ≤ nL) (hlv : lv_args 0 as = lv) (K : ∀ κ : ZK, ZX κ cc own nL ret nm l d mc ms G w post → ZY κ mc ms [] px → (l.stackTraces = false → ZV κ) → Z κ w lv 0 0 0 []) : gMX l G y (ws_ y cc nL ret) d mc ms as w post px := by
  subst ho; subst hn; subst hlv
  intro sz
  refine vx_ofW (cc := cc) (maxL := nL) (ret := ret) hy rfl ?_
  intro p e s m args below meth c s₁ B hml ht hv
  obtain ⟨rfl, hsz, hP, hK⟩ := hv
  have hts := atoms_spec (ws := ws_ y cc nL ret) B.pre
  have hts : ∀ w ∈ lw_all, w.before _ s = true := fun w h => hts w (List.mem_cons_of_mem _ h)
  subst hsz
  rw [lg_entry_eq]
  exact K (p, l, e, gR d mc ms, s, m, as.toArray, below, meth, c, nL, G, w, vx_MQ below (gQ G w s.heap.size post) (gXC G w s.heap.size px) as.toArray s mc ms (gA w s.heap.size))
    ⟨B.exec, B.bytes, hml, findClass_of_methodNamed B.named, hts, hK, B.returns, B.notSynchronized, (name_of_methodNamed B.named B.method).1, rfl, rfl, rfl, rfl, rfl, mq_l⟩ ⟨List.eq_nil_iff_forall_not_mem.mpr (fun x hx => ht x hx), mq_r⟩ (fun hl => ⟨hP, hl⟩) s.heap [] _ (gS.rf hP) (lv_entry as hlen)
theorem Z.metW {l : Launch} {G : GG} {y : MethodName} {cc : ByteArray} {nL : Nat} {ret : Option FieldType} {hh : List (Nat × Nat × Nat × Nat)} {d mc ms : Nat} {as : List Value} {w : GW} {post : Option Value → GW → Prop} {px : String → Nat → GW → Prop} {own nm : String} {lv : List (Nat × Value)} (hy : plainName y.cls = true) (ho : y.cls = own) (hn : y.name = nm) (hlen : (lg_sl as).length ≤ nL) (hlv : lv_args 0 as = lv) (K : ∀ κ : ZK, ZX κ cc own nL ret nm l d mc ms G w post → ZY κ mc ms hh px → (l.stackTraces = false → ZV κ) → Z κ w lv 0 0 0 []) : gMX l G y (wsW_ y cc nL ret hh) d mc ms as w post px := by
  subst ho; subst hn; subst hlv
  intro sz
  refine vx_ofWH (cc := cc) (maxL := nL) (ret := ret) (hh := hh) hy rfl ?_
  intro p e s m args below meth c s₁ B hml hv
  obtain ⟨rfl, hsz, hP, hK⟩ := hv
  have hts := atoms_spec (ws := wsW_ y cc nL ret hh) B.pre
  have htb := vx_table (x := y) B (hts (Cond.codeWith y cc nL ret hh) List.mem_cons_self)
  have hts : ∀ w ∈ lw_all, w.before _ s = true := fun w h => hts w (List.mem_cons_of_mem _ h)
  subst hsz
  rw [lg_entry_eq]
  exact K (p, l, e, gR d mc ms, s, m, as.toArray, below, meth, c, nL, G, w, vx_MQ below (gQ G w s.heap.size post) (gXC G w s.heap.size px) as.toArray s mc ms (gA w s.heap.size))
    ⟨B.exec, B.bytes, hml, findClass_of_methodNamed B.named, hts, hK, B.returns, B.notSynchronized, (name_of_methodNamed B.named B.method).1, rfl, rfl, rfl, rfl, rfl, mq_l⟩ ⟨htb, mq_r⟩ (fun hl => ⟨hP, hl⟩) s.heap [] _ (gS.rf hP) (lv_entry as hlen)
/-- a row of the table that doesn't take E at pc -/
def ZPass (own E : String) (pc : Nat) (z : Nat × Nat × Nat × Nat) : Prop := covers ⟨z.1, z.2.1, z.2.2.1, z.2.2.2⟩ pc = false ∨ (z.2.2.2 ≠ 0 ∧ ∃ (nm : String) (p : List Bool), Cond.classLink own z.2.2.2 nm ∈ lw_all ∧ cAt narrow_1 p = some (.not (.castable E nm)))
theorem zp_n {own E : String} {pc : Nat} : ∀ z ∈ ([] : List (Nat × Nat × Nat × Nat)), ZPass own E pc z := fun _ h => nomatch h
theorem zp_c {own E : String} {pc : Nat} {z : Nat × Nat × Nat × Nat} {zs : List (Nat × Nat × Nat × Nat)} (h : ZPass own E pc z) (t : ∀ z ∈ zs, ZPass own E pc z) : ∀ y ∈ z :: zs, ZPass own E pc y := fun y hy => (List.mem_cons.mp hy).elim (fun e => by rw [e]; exact h) (t y)
theorem zp_f {own E : String} {pc : Nat} {z : Nat × Nat × Nat × Nat} (h : covers ⟨z.1, z.2.1, z.2.2.1, z.2.2.2⟩ pc = false) : ZPass own E pc z := Or.inl h
theorem zp_o {own E nm : String} {pc a b h k : Nat} (p : List Bool) (h0 : k ≠ 0) (hq : Cond.classLink own k nm ∈ lw_all) (hp : cAt narrow_1 p = some (.not (.castable E nm))) : ZPass own E pc (a, b, h, k) := Or.inr ⟨h0, nm, p, hq, hp⟩
theorem gK.nc {G : GG} {s : State} (hK : gK G s) {E nm : String} {p : List Bool} (hp : cAt narrow_1 p = some (.not (.castable E nm))) : va_Nc E nm s := by
  obtain ⟨b, h, hW⟩ := hK.st
  exact va_Nc.moved hW.alike (va_Nc.of (h.nar hp))
theorem ZPass.to {own E : String} {pc : Nat} {hh : List (Nat × Nat × Nat × Nat)} (h : ∀ z ∈ hh, ZPass own E pc z) {G : GG} {s : State} (hK : gK G s) {args : Array Value} (hts : ∀ w ∈ lw_all, w.before args s = true) : ∀ z ∈ tableOf hh, covers z pc = false ∨ (z.catchType ≠ 0 ∧ ∃ nm : String, (Cond.classLink own z.catchType nm).before args s = true ∧ va_Nc E nm s) := by
  intro z hz
  obtain ⟨y, hy, rfl⟩ := List.mem_map.mp hz
  rcases h y hy with h | ⟨h0, nm, p, h1, h2⟩
  · exact Or.inl h
  · exact Or.inr ⟨h0, nm, hts _ h1, hK.nc h2⟩
section ZE
variable {κ : ZK} {cc : ByteArray} {own nm : String} {nL : Nat} {ret : Option FieldType} {l : Launch} {d mc ms : Nat} {G : GG} {w0 w : GW} {post : Option Value → GW → Prop} {lv lv2 : List (Nat × Value)} {a b pc : Nat} {st rest : List Value} {hh : List (Nat × Nat × Nat × Nat)} {px : String → Nat → GW → Prop}
theorem zt_out (X : ZX κ cc own nL ret nm l d mc ms G w0 post) (Y : ZY κ mc ms hh px) {E : String} {q : Nat} (hpass : ∀ z ∈ hh, ZPass own E pc z) (hpx : px E q w) (hf : a ≤ mc ∧ b ≤ ms) : ZT κ E q w lv a b pc := by
  obtain ⟨p, l', e, R, s, m, args, below, meth, c, nL', G', w0', Q⟩ := κ
  obtain ⟨hx, hb, hml, hown, hts, hK, hr, hlk, hnm, rfl, rfl, rfl, rfl, rfl, hQ⟩ := X
  obtain ⟨htb, hY⟩ := Y
  intro H locs ls ce rest hs hl' hce hv hcl T hT X
  obtain ⟨t, a1, b1⟩ := vx_outP (Qc := fun _ _ _ _ => False) (XC := gXC G' w0' s.heap.size px) (free := gA w0' s.heap.size) (mc := mc) (ms := ms) hown hlk (by rw [htb]; exact ZPass.to hpass hK hts) hce hv hcl
    (fun t ht _ => ⟨⟨w, hpx, by rw [ht]; exact hs.1, hs.2.1⟩, hs.2.2.F ht⟩) hs.2.2.2.2 hf.1 hf.2 T hT X
  exact ⟨t, a1, hY t b1⟩
theorem zt_catch (X : ZX κ cc own nL ret nm l d mc ms G w0 post) (Y : ZY κ mc ms hh px) {E nm2 : String} {q tgt : Nat} (pre : List (Nat × Nat × Nat × Nat)) (x : Nat × Nat × Nat × Nat) (suf : List (Nat × Nat × Nat × Nat)) (hsp : hh = pre ++ x :: suf) (hpass : ∀ z ∈ pre, ZPass own E pc z) (hcov : covers ⟨x.1, x.2.1, x.2.2.1, x.2.2.2⟩ pc = true) (h0 : x.2.2.2 ≠ 0) (hlink : Cond.classLink own x.2.2.2 nm2 ∈ lw_all) (hcast : Cond.castable E nm2 ∈ lw_tbl) (ht : x.2.2.1 = tgt) (k : Z κ w lv a b tgt [.ref q]) : ZT κ E q w lv a b pc := by
  obtain ⟨p, l', e, R, s, m, args, below, meth, c, nL', G', w0', Q⟩ := κ
  obtain ⟨hx, hb, hml, hown, hts, hK, hr, hlk, hnm, rfl, rfl, rfl, rfl, rfl, hQ⟩ := X
  obtain ⟨htb, hY⟩ := Y
  intro H locs ls ce rest hs hl' hce hv hcl
  subst ht
  exact vx_catch hown (tableOf pre) ⟨x.1, x.2.1, x.2.2.1, x.2.2.2⟩ (tableOf suf) (by rw [htb, hsp]; simp [tableOf]) (ZPass.to hpass hK hts) hcov h0 (hts _ hlink) (hK.castable hcast) hce hv hcl (k H locs ls hs hl')
theorem z_athrow (X : ZX κ cc own nL ret nm l d mc ms G w0 post) {q ci : Nat} {fs : List Value} {C : String} {T : u_T} {N : Nat} (hw : w q = some (.inr (ci, fs))) (hc : CL[ci]? = some (C, T, N)) (hdg : decode cc pc = .ok (.athrow, 1)) (k : ZT κ C q w lv a b pc) : Z κ w lv a b pc (.ref q :: st) := by
  obtain ⟨p, l', e, R, s, m, args, below, meth, c, nL', G', w0', Q⟩ := κ
  obtain ⟨hx, hb, hml, hown, hts, hK, hr, hlk, hnm, rfl, rfl, rfl, rfl, rfl, hQ⟩ := X
  intro H locs ls hs hl'
  obtain ⟨r, h1, cell, q1, q2, q3, q4⟩ := hs.1.at hw
  have hr : r = (C, T, N) := Option.some.inj (h1.symm.trans hc)
  subst hr
  exact vx_athrow hx hb hdg (k H locs ls cell st hs hl' q1 q3 (by rw [q2]; exact (hK.1.1 ci _ hc).2.1))
/-- a call that comes back or throws -/
def zRunX (κ : ZK) (w : GW) (lv : List (Nat × Value)) (a b pc : Nat) (st rest : List Value) (mc' ms' : Nat) (post' : Option Value → GW → Prop) (px' : String → Nat → GW → Prop) : Prop := match κ with
  | (p, l, e, R, s, m, args, below, meth, c, nL, G, w0, _) => ∀ (H : Heap) (locs : List Loc) (ls : Array Slot), gS G w0 s.heap w H locs → lv_has ls nL lv → ∃ aa, vx_Run p l e R s m args below meth c H locs a b mc' ms' (F0 m pc ls st) rest (gQ G w H.size post' aa) (gXC G w H.size px') (gA w H.size)
theorem z_callX {mc' ms' : Nat} {post' : Option Value → GW → Prop} {px' : String → Nat → GW → Prop} (hr : zRunX κ w lv a b pc st rest mc' ms' post' px') (k : ∀ (v : Option Value) (w1 : GW), post' v w1 → Z κ w1 lv (a + mc') (b + ms') (pc + 3) (v.toList ++ rest)) (kx : ∀ (E : String) (q : Nat) (w1 : GW), px' E q w1 → ZT κ E q w1 lv (a + mc') (b + ms') pc) : Z κ w lv a b pc st := by
  obtain ⟨p, l', e, R, s, m, args, below, meth, c, nL', G', w0', Q⟩ := κ
  intro H locs ls hs hl' T hT X
  obtain ⟨aa, hr⟩ := hr H locs ls hs hl'
  rcases hr T hT X with ⟨v, st₀, t, T', L, h0, X', hL, e1, e2, ⟨⟨v', w1, hv, hp, hP1, hd1⟩, hz, hk⟩, go⟩ | ⟨q, st₀, t, T', L, E, ce, h0, X', hL, e1, e2, ⟨⟨w1, hp, hP1, hd1⟩, hz, hk⟩, hce, hcv, hcl, go⟩
  · cases hv
    rw [h0] at hz hk
    obtain ⟨t2, a1, b1⟩ := k v w1 hp T'.heap (locs ++ L) ls (hs.call (by rw [e1]; exact hP1) hd1 (by rw [e1]; exact hz) (fun q h1 h2 => by rw [e1]; exact hk q h1 h2) hL) hl' T' rfl X'
    exact ⟨t2, go t2 a1, b1⟩
  · rw [h0] at hz hk
    obtain ⟨t2, a1, b1⟩ := kx E q w1 hp T'.heap (locs ++ L) ls ce rest (hs.call (by rw [e1]; exact hP1) hd1 (by rw [e1]; exact hz) (fun q h1 h2 => by rw [e1]; exact hk q h1 h2) hL) hl' (by rw [e1]; exact hce) hcv hcl T' rfl X'
    exact ⟨t2, go.trans a1, b1⟩
theorem z_xi {mc' ms' : Nat} {f : Int32 → GW → Prop} {px' : String → Nat → GW → Prop} (hr : zRunX κ w lv a b pc st rest mc' ms' (pI f) px') (k : ∀ (r : Int32) (w : GW), f r w → Z κ w lv (a + mc') (b + ms') (pc + 3) (.int r :: rest)) (kx : ∀ (E : String) (q : Nat) (w1 : GW), px' E q w1 → ZT κ E q w1 lv (a + mc') (b + ms') pc) : Z κ w lv a b pc st := by
  refine z_callX hr (fun v w1 h => ?_) kx
  obtain ⟨r, rfl, h⟩ := h
  exact k r w1 h
theorem z_xl {mc' ms' : Nat} {f : Int64 → GW → Prop} {px' : String → Nat → GW → Prop} (hr : zRunX κ w lv a b pc st rest mc' ms' (pL f) px') (k : ∀ (r : Int64) (w : GW), f r w → Z κ w lv (a + mc') (b + ms') (pc + 3) (.long r :: rest)) (kx : ∀ (E : String) (q : Nat) (w1 : GW), px' E q w1 → ZT κ E q w1 lv (a + mc') (b + ms') pc) : Z κ w lv a b pc st := by
  refine z_callX hr (fun v w1 h => ?_) kx
  obtain ⟨r, rfl, h⟩ := h
  exact k r w1 h
theorem z_xa {mc' ms' : Nat} {f : Nat → GW → Prop} {px' : String → Nat → GW → Prop} (hr : zRunX κ w lv a b pc st rest mc' ms' (pA f) px') (k : ∀ (r : Nat) (w : GW), f r w → Z κ w lv (a + mc') (b + ms') (pc + 3) (.ref r :: rest)) (kx : ∀ (E : String) (q : Nat) (w1 : GW), px' E q w1 → ZT κ E q w1 lv (a + mc') (b + ms') pc) : Z κ w lv a b pc st := by
  refine z_callX hr (fun v w1 h => ?_) kx
  obtain ⟨r, rfl, h⟩ := h
  exact k r w1 h
theorem z_xv {mc' ms' : Nat} {f : GW → Prop} {px' : String → Nat → GW → Prop} (hr : zRunX κ w lv a b pc st rest mc' ms' (pV f) px') (k : ∀ (w : GW), f w → Z κ w lv (a + mc') (b + ms') (pc + 3) rest) (kx : ∀ (E : String) (q : Nat) (w1 : GW), px' E q w1 → ZT κ E q w1 lv (a + mc') (b + ms') pc) : Z κ w lv a b pc st := by
  refine z_callX hr (fun v w1 h => ?_) kx
  obtain ⟨rfl, h⟩ := h
  exact k w1 h
theorem z_runXV (X : ZX κ cc own nL ret nm l d mc ms G w0 post) {y : MethodName} {bytes : ByteArray} {maxL : Nat} {ret' : Option FieldType} {d' mc' ms' i n : Nat} {post' : Option Value → GW → Prop} {px' : String → Nat → GW → Prop} {C : String} {T : u_T} {N ci : Nat} {fs : List Value} (As : List Value) {q : Nat} (hM : gMX l G y (ws_ y bytes maxL ret') d' mc' ms' (.ref q :: As) w post' px') (hdg : decode cc pc = .ok (.invokevirtual i, 3)) (hw : w q = some (.inr (ci, fs))) (hc : CL[ci]? = some (C, T, N)) (hT : GoodIn lw_all (wsV own i C y (ws_ y bytes maxL ret'))) (hd : y.cls = C ∧ y.cls ≠ "java/lang/invoke/MethodHandle" ∧ y.cls ≠ "java/lang/invoke/VarHandle" ∧ (parseMethodDescriptor y.desc).map (fun d => d.parameters.length) = some n) (hn : As.length = n) (hg : d' + 1 ≤ d ∧ 8 + (maxL + 11) + 64 * d' ≤ 64 * d) (hf : a + mc' ≤ mc ∧ b + ms' ≤ ms) (hst : st = As.reverse ++ .ref q :: rest) (hW : (rest.map fun v => v.category).sum ≤ 8) : zRunX κ w lv a b pc st rest mc' ms' post' px' := by
  obtain ⟨p, l', e, R, s, m, args, below, meth, c, nL', G', w0', Q⟩ := κ
  obtain ⟨hx, hb, hml, hown, hts, hK, hr, hlk, hnm, rfl, rfl, rfl, rfl, rfl, hQ⟩ := X
  intro H locs ls hs hl'
  exact ⟨_, vx_runV (As := As) (rest := rest) ⟨hx, hb, hml, hown, hts⟩ (hM H.size) (cwV n hts hT rfl rfl rfl hd hg) ⟨gPc.blind, va_recv hK.1 (hs.1.one hw) hc (q0 := 0) rfl, fun U hU hW => ⟨rfl, by rw [hU], by rw [hU]; exact hs.1, gK.moved hW hK⟩⟩ rfl hn hl'.1 hst (lv_room hW) hdg hf⟩
theorem z_runXVW (X : ZX κ cc own nL ret nm l d mc ms G w0 post) {y : MethodName} {bytes : ByteArray} {maxL : Nat} {ret' : Option FieldType} {d' mc' ms' i n : Nat} {post' : Option Value → GW → Prop} {px' : String → Nat → GW → Prop} {C : String} {T : u_T} {N ci : Nat} {fs : List Value} {hh' : List (Nat × Nat × Nat × Nat)} (As : List Value) {q : Nat} (hM : gMX l G y (wsW_ y bytes maxL ret' hh') d' mc' ms' (.ref q :: As) w post' px') (hdg : decode cc pc = .ok (.invokevirtual i, 3)) (hw : w q = some (.inr (ci, fs))) (hc : CL[ci]? = some (C, T, N)) (hT : GoodIn lw_all (wsV own i C y (wsW_ y bytes maxL ret' hh'))) (hd : y.cls = C ∧ y.cls ≠ "java/lang/invoke/MethodHandle" ∧ y.cls ≠ "java/lang/invoke/VarHandle" ∧ (parseMethodDescriptor y.desc).map (fun d => d.parameters.length) = some n) (hn : As.length = n) (hg : d' + 1 ≤ d ∧ 8 + (maxL + 11) + 64 * d' ≤ 64 * d) (hf : a + mc' ≤ mc ∧ b + ms' ≤ ms) (hst : st = As.reverse ++ .ref q :: rest) (hW : (rest.map fun v => v.category).sum ≤ 8) : zRunX κ w lv a b pc st rest mc' ms' post' px' := by
  obtain ⟨p, l', e, R, s, m, args, below, meth, c, nL', G', w0', Q⟩ := κ
  obtain ⟨hx, hb, hml, hown, hts, hK, hr, hlk, hnm, rfl, rfl, rfl, rfl, rfl, hQ⟩ := X
  intro H locs ls hs hl'
  exact ⟨_, vx_runVX (As := As) (rest := rest) ⟨hx, hb, hml, hown, hts⟩ (hM H.size) (vx_cwVW n hts hT rfl rfl rfl hd hg) ⟨gPc.blind, va_recv hK.1 (hs.1.one hw) hc (q0 := 0) rfl, fun U hU hW => ⟨rfl, by rw [hU], by rw [hU]; exact hs.1, gK.moved hW hK⟩⟩ rfl hn hl'.1 hst (lv_room hW) hdg hf⟩
theorem z_runXS (X : ZX κ cc own nL ret nm l d mc ms G w0 post) {y : MethodName} {bytes : ByteArray} {maxL : Nat} {ret' : Option FieldType} {d' mc' ms' i n : Nat} {post' : Option Value → GW → Prop} {px' : String → Nat → GW → Prop} (As : List Value) (hM : gMX l G y (ws_ y bytes maxL ret') d' mc' ms' As w post' px') (hdg : decode cc pc = .ok (.invokestatic i, 3)) (hT : GoodIn lw_all (va_wsS own i y (ws_ y bytes maxL ret'))) (hd : y.cls ≠ "java/lang/invoke/MethodHandle" ∧ y.cls ≠ "java/lang/invoke/VarHandle" ∧ (parseMethodDescriptor y.desc).map (fun d => d.parameters.length) = some n) (hn : As.length = n) (hg : d' + 1 ≤ d ∧ 8 + (maxL + 11) + 64 * d' ≤ 64 * d) (hf : a + mc' ≤ mc ∧ b + ms' ≤ ms) (hst : st = As.reverse ++ rest) (hW : (rest.map fun v => v.category).sum ≤ 8) : zRunX κ w lv a b pc st rest mc' ms' post' px' := by
  obtain ⟨p, l', e, R, s, m, args, below, meth, c, nL', G', w0', Q⟩ := κ
  obtain ⟨hx, hb, hml, hown, hts, hK, hr, hlk, hnm, rfl, rfl, rfl, rfl, rfl, hQ⟩ := X
  intro H locs ls hs hl'
  exact ⟨_, vx_runS (As := As) (rest := rest) ⟨hx, hb, hml, hown, hts⟩ (hM H.size) (va_cwS n hts hT rfl rfl rfl hd hg) ⟨gPc.blind, fun U hU hW => ⟨rfl, by rw [hU], by rw [hU]; exact hs.1, gK.moved hW hK⟩⟩ rfl hn hl'.1 hst (lv_room hW) hdg hf⟩
theorem z_runXU (X : ZX κ cc own nL ret nm l d mc ms G w0 post) {y : MethodName} {bytes : ByteArray} {maxL : Nat} {ret' : Option FieldType} {d' mc' ms' i n : Nat} {post' : Option Value → GW → Prop} {px' : String → Nat → GW → Prop} {C : String} {T : u_T} {N ci : Nat} {fs : List Value} {x : MethodName} {owner : String} (As : List Value) {q : Nat} (hM : gMX l G y (ws_ y bytes maxL ret') d' mc' ms' (.ref q :: As) w post' px') (hdg : decode cc pc = .ok (.invokevirtual i, 3)) (hw : w q = some (.inr (ci, fs))) (hc : CL[ci]? = some (C, T, N)) (hT : GoodIn lw_all (va_wsU own i C owner x y (ws_ y bytes maxL ret'))) (hyx : y = ⟨owner, x.name, x.desc⟩) (hd : owner ≠ "java/lang/invoke/MethodHandle" ∧ owner ≠ "java/lang/invoke/VarHandle" ∧ (parseMethodDescriptor x.desc).map (fun d => d.parameters.length) = some n) (hn : As.length = n) (hg : d' + 1 ≤ d ∧ 8 + (maxL + 11) + 64 * d' ≤ 64 * d) (hf : a + mc' ≤ mc ∧ b + ms' ≤ ms) (hst : st = As.reverse ++ .ref q :: rest) (hW : (rest.map fun v => v.category).sum ≤ 8) : zRunX κ w lv a b pc st rest mc' ms' post' px' := by
  obtain ⟨p, l', e, R, s, m, args, below, meth, c, nL', G', w0', Q⟩ := κ
  obtain ⟨hx, hb, hml, hown, hts, hK, hr, hlk, hnm, rfl, rfl, rfl, rfl, rfl, hQ⟩ := X
  intro H locs ls hs hl'
  exact ⟨_, vx_runU (As := As) (rest := rest) ⟨hx, hb, hml, hown, hts⟩ (hM H.size) (va_cwU n hts hT rfl rfl rfl hyx hd hg) ⟨gPc.blind, va_recv hK.1 (hs.1.one hw) hc (q0 := 0) rfl, fun U hU hW => ⟨rfl, by rw [hU], by rw [hU]; exact hs.1, gK.moved hW hK⟩⟩ rfl hn hl'.1 hst (lv_room hW) hdg hf⟩
end ZE
