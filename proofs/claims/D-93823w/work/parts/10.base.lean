/-! THE GHOST WORLD: a method's world is a partial map from addresses to contents; the judgement Z hides heap, written places and local slots -/
set_option maxRecDepth 100000
abbrev GW : Type := Nat → Option va_E
def gu (w : GW) (a : Nat) (e : va_E) : GW := fun q => if q = a then some e else w q
theorem gu_s {w : GW} {a : Nat} {e : va_E} : gu w a e a = some e := by simp [gu]
theorem gu_n {w : GW} {a b : Nat} {e : va_E} (h : b ≠ a) : gu w a e b = w b := by simp [gu, h]
theorem gu_k {w : GW} {a b : Nat} {e e' : va_E} (h : b ≠ a) (hb : w b = some e') : gu w a e b = some e' := by rw [gu_n h]; exact hb
/-- a fresh place is none of the old ones -/
theorem gu_f {w : GW} {q b : Nat} {e e' : va_E} (hq : w q = none) (hb : w b = some e') : gu w q e b = some e' := by
  refine gu_k (fun h => ?_) hb
  rw [h, hq] at hb
  cases hb
theorem gu_ne {w : GW} {a b : Nat} {e : va_E} (ha : w a = none) (hb : w b = some e) : b ≠ a := fun h => by rw [h, ha] at hb; cases hb
/-- classes, their fields' places, array classes, the heap at the law's start -/
abbrev GG : Type := va_G × (Nat → ClassId) × State
abbrev CL : List vw_C := [(RX0, TX0, 6), (RX1, TX1, 8), (RX2, TX2, 11), (RX3, TX3, 1), (RX4, TX4, 38), (RX5, TX5, 7), (RX7, TX7, 1), (RX8, TX8, 1), (RX9, TX9, 1), (RX10, TX10, 1), (RX11, TX11, 1), (RX12, TX12, 2), (RX13, TX13, 3), (RX14, TX14, 7), (RX15, TX15, 7), (RX16, TX16, 7), (RJ13, TJ13, 4), (RJ4, TJ4, 4)]
abbrev TYS (d : Nat → ClassId) : List (ClassId × FieldType) := [(d 0, .int), (d 1, .long), (d 2, .byte), (d 3, .short), (d 4, .boolean), (d 5, .array .int), (d 6, .array .long), (d 7, .object "ThreeSizes$Sheet"), (d 8, .char)]
/-- the heap holds the ghost world; what the law found at its start stays -/
def gP (G : GG) (w : GW) (H : Heap) : Prop := (∀ a e, w a = some e → G.2.2.heap.size ≤ a ∧ va_at G.1 CL (a, e) H) ∧ G.2.2.heap.size ≤ H.size ∧ ∀ a, a < G.2.2.heap.size → H[a]? = G.2.2.heap[a]?
def gA (w : GW) (sz : Nat) : Nat → Prop := fun q => (∃ e, w q = some e) ∨ sz ≤ q
def gS (G : GG) (w0 : GW) (H0 : Heap) (w : GW) (H : Heap) (locs : List Loc) : Prop := gP G w H ∧ (∀ a e, w a = some e → gA w0 H0.size a) ∧ va_S (gA w0 H0.size) H0 H locs
theorem gP.at {G : GG} {w : GW} {H : Heap} (h : gP G w H) {a : Nat} {e : va_E} (ha : w a = some e) : va_at G.1 CL (a, e) H := (h.1 a e ha).2
theorem gP.lt {G : GG} {w : GW} {H : Heap} (h : gP G w H) {a : Nat} {e : va_E} (ha : w a = some e) : a < H.size := (h.at ha).lt
theorem gP.one {G : GG} {w : GW} {H : Heap} (h : gP G w H) {a : Nat} {e : va_E} (ha : w a = some e) : va_P G.1 CL [(a, e)] H := by
  intro k q hk
  have hz : k < 1 := (List.getElem?_eq_some_iff.mp hk).1
  rw [show k = 0 by omega] at hk
  cases hk
  exact h.at ha
theorem gP.fresh {G : GG} {w : GW} {H : Heap} (h : gP G w H) : w H.size = none := by
  cases hw : w H.size with
  | none => rfl
  | some e => exact absurd (h.lt hw) (Nat.lt_irrefl _)
theorem gP.kept {G : GG} {w : GW} {H H1 : Heap} (h : gP G w H) (hz : H.size ≤ H1.size) (hk : ∀ q, q < H.size → H1[q]? = H[q]?) : gP G w H1 :=
  ⟨fun a e ha => ⟨(h.1 a e ha).1, (h.at ha).kept (hk a (h.lt ha))⟩, Nat.le_trans h.2.1 hz, fun a ha => (hk a (Nat.lt_of_lt_of_le ha h.2.1)).trans (h.2.2 a ha)⟩
theorem gS.put {G : GG} {w0 w : GW} {H0 H H1 : Heap} {locs : List Loc} {a k : Nat} {e0 e : va_E} (hs : gS G w0 H0 w H locs) (ha : w a = some e0) (he : va_at G.1 CL (a, e) H1) (z : H1.size = H.size) (oq : ∀ q : Nat, q ≠ a → H1[q]? = H[q]?) : gS G w0 H0 (gu w a e) H1 (locs ++ [⟨a, k⟩]) := by
  obtain ⟨hP, hd, hS⟩ := hs
  have hba := (hP.1 a e0 ha).1
  refine ⟨⟨fun b e' hb => ?_, by rw [z]; exact hP.2.1, fun b hb => ?_⟩, fun b e' hb => ?_, hS.put z oq (hd a e0 ha)⟩
  · by_cases hba' : b = a
    · subst hba'
      rw [gu_s] at hb
      cases hb
      exact ⟨hba, he⟩
    · rw [gu_n hba'] at hb
      exact ⟨(hP.1 b e' hb).1, (hP.at hb).kept (oq b hba')⟩
  · rw [oq b (by omega)]
    exact hP.2.2 b hb
  · by_cases hba' : b = a
    · subst hba'
      exact hd b e0 ha
    · rw [gu_n hba'] at hb
      exact hd b e' hb
theorem gS.push {G : GG} {w0 w : GW} {H0 H H1 : Heap} {locs : List Loc} {e : va_E} (hs : gS G w0 H0 w H locs) (he : va_at G.1 CL (H.size, e) H1) (z : H1.size = H.size + 1) (oq : ∀ q : Nat, q < H.size → H1[q]? = H[q]?) : gS G w0 H0 (gu w H.size e) H1 locs := by
  obtain ⟨hP, hd, hS⟩ := hs
  refine ⟨⟨fun b e' hb => ?_, by rw [z]; exact Nat.le_succ_of_le hP.2.1, fun b hb => ?_⟩, fun b e' hb => ?_, ⟨by rw [z]; exact Nat.le_succ_of_le hS.1, fun q h1 h2 => ?_, hS.2.2⟩⟩
  · by_cases hba' : b = H.size
    · subst hba'
      rw [gu_s] at hb
      cases hb
      exact ⟨hP.2.1, he⟩
    · rw [gu_n hba'] at hb
      exact ⟨(hP.1 b e' hb).1, (hP.at hb).kept (oq b (hP.lt hb))⟩
  · rw [oq b (Nat.lt_of_lt_of_le hb hP.2.1)]
    exact hP.2.2 b hb
  · by_cases hba' : b = H.size
    · subst hba'
      exact Or.inr hS.1
    · rw [gu_n hba'] at hb
      exact hd b e' hb
  · rw [oq q (Nat.lt_of_lt_of_le h1 hS.1)]
    exact hS.2.1 q h1 h2
theorem gS.call {G : GG} {w0 w w1 : GW} {H0 H H1 : Heap} {locs L : List Loc} (hs : gS G w0 H0 w H locs) (hP : gP G w1 H1) (hd1 : ∀ a e, w1 a = some e → gA w H.size a) (z : H.size ≤ H1.size) (ok : ∀ q : Nat, q < H.size → ¬ gA w H.size q → H1[q]? = H[q]?) (hL : ∀ q ∈ L, gA w H.size q.base) : gS G w0 H0 w1 H1 (locs ++ L) := by
  obtain ⟨-, hd, hS⟩ := hs
  have hA : ∀ q, gA w H.size q → gA w0 H0.size q := fun q h => by
    rcases h with ⟨e, h⟩ | h
    · exact hd q e h
    · exact Or.inr (Nat.le_trans hS.1 h)
  refine ⟨hP, fun a e ha => hA a (hd1 a e ha), Nat.le_trans hS.1 z, fun q h1 h2 => ?_, fun q hq => ?_⟩
  · rw [ok q (Nat.lt_of_lt_of_le h1 hS.1) (fun z => h2 (hA q z))]
    exact hS.2.1 q h1 h2
  · rcases List.mem_append.mp hq with h | h
    · exact hS.2.2 q h
    · exact hA _ (hL q h)
theorem gS.rf {G : GG} {w : GW} {H : Heap} (h : gP G w H) : gS G w H w H [] := ⟨h, fun _ e ha => Or.inl ⟨e, ha⟩, va_S.rf⟩
/-- what the law's start gave -/
def gStart (s0 : State) (b : Nat) : Prop := (∀ w ∈ lw_tbl, w.before #[Value.ref b] s0 = true) ∧ (Jvm.Cond.and given_1 narrow_1).before #[Value.ref b] s0 = true ∧ modulesRight_1 s0 = true
def gK (G : GG) (U : State) : Prop := va_K G.1 CL (TYS G.2.1) U ∧ ∃ (s0 : State) (b : Nat), gStart s0 b ∧ s0 = G.2.2 ∧ s0.WarmedH U.vm
theorem gK.moved {G : GG} {s U : State} (hW : s.WarmedH U.vm) (h : gK G s) : gK G U := by
  obtain ⟨h1, s0, b, h2, h3, h4⟩ := h
  exact ⟨va_K.moved hW.alike h1, s0, b, h2, h3, State.WarmedH.trans h4 hW⟩
theorem gK.same {G : GG} {s U : State} (hW : s.vm = U.vm) (h : gK G s) : gK G U := gK.moved (by rw [← hW]; exact State.WarmedH.refl s) h
abbrev gR (d mc ms : Nat) : Room := { frames := d, cells := mc, slots := ms, locals := 64 * d }
def gQ (G : GG) (w0 : GW) (sz : Nat) (post : Option Value → GW → Prop) : Array Value → State → Outcome → State → Prop := fun _ st oc t =>
  (∃ (v : Option Value) (w1 : GW), oc = .returned v ∧ post v w1 ∧ gP G w1 t.heap ∧ ∀ a e, w1 a = some e → gA w0 sz a) ∧ va_F (gA w0 sz) st t
def gPc (G : GG) (w : GW) (sz : Nat) (as : List Value) : Array Value → State → Prop := va_Pc as (fun U => U.heap.size = sz ∧ gP G w U.heap ∧ gK G U)
/-- a contract over a ghost world: the answer and the world behind it satisfy 'post' -/
def gM (l : Launch) (G : GG) (y : MethodName) (cc : ByteArray) (nL : Nat) (ret : Option FieldType) (d mc ms : Nat) (as : List Value) (w : GW) (post : Option Value → GW → Prop) : Prop :=
  ∀ sz, Met l y (ws_ y cc nL ret) (gR d mc ms) (gPc G w sz as) (gQ G w sz post) mc ms (gA w sz)
theorem gPc.blind {G : GG} {w : GW} {sz : Nat} {as : List Value} : FrameBlind (gPc G w sz as) := fun a U g mk q => by
  obtain ⟨q0, q1, q2, q3⟩ := q
  exact ⟨q0, q1, q2, gK.same (U := U.calling g mk a) rfl q3⟩
/-- answers -/
def pI (f : Int32 → GW → Prop) : Option Value → GW → Prop := fun v w => ∃ r, v = some (.int r) ∧ f r w
def pL (f : Int64 → GW → Prop) : Option Value → GW → Prop := fun v w => ∃ r, v = some (.long r) ∧ f r w
def pV (f : GW → Prop) : Option Value → GW → Prop := fun v w => v = none ∧ f w
def pA (f : Nat → GW → Prop) : Option Value → GW → Prop := fun v w => ∃ r, v = some (.ref r) ∧ f r w
def pQ (f : Option Nat → GW → Prop) : Option Value → GW → Prop := fun v w => ∃ r, v = some (va_rf r) ∧ f r w
theorem W_mono {p : Program} {l : Launch} {e : Env} {R : Room} {s : State} {m : MethodId} {args : Array Value} {below : List Frame} {meth : Method} {c : Code} {H : Heap} {locs : List Loc} {k n : Nat} {Q1 Q : State → Prop} {g : JFrame} (h : ∀ t, Q1 t → Q t) (kk : W p l e R s m args below meth c H locs k n Q1 g) : W p l e R s m args below meth c H locs k n Q g := fun T hT X => by
  obtain ⟨t, a, b⟩ := kk T hT X
  exact ⟨t, a, h t b⟩
/-- what stands fast all through a method -/
abbrev ZK := Program × Launch × Env × Room × State × MethodId × Array Value × List Frame × Method × Code × Nat × GG × GW × (State → Prop)
def Z (κ : ZK) (w : GW) (lv : List (Nat × Value)) (k n pc : Nat) (st : List Value) : Prop := match κ with
  | (p, l, e, R, s, m, args, below, meth, c, nL, G, w0, Q) => ∀ (H : Heap) (locs : List Loc) (ls : Array Slot), gS G w0 s.heap w H locs → lv_has ls nL lv → W p l e R s m args below meth c H locs k n Q (F0 m pc ls st)
def ZX (κ : ZK) (cc : ByteArray) (own : String) (nL : Nat) (ret : Option FieldType) (nm : String) (l : Launch) (d mc ms : Nat) (G : GG) (w0 : GW) (post : Option Value → GW → Prop) : Prop := match κ with
  | (p, l', _, R, s, m, args, below, meth, c, nL', G', w0', Q) => p.tables.exec = Jvm.exec ∧ c.code = cc ∧ c.maxLocals = nL ∧ s.vm.findClass own = some m.cls ∧ (∀ w ∈ lw_all, w.before args s = true) ∧ gK G s ∧ meth.sig.returnType = ret ∧ meth.locks = false ∧ meth.name = nm ∧ nL' = nL ∧ l' = l ∧ R = gR d mc ms ∧ G' = G ∧ w0' = w0 ∧ ∀ t, MQ below (gQ G w0 s.heap.size post) args s mc ms (gA w0 s.heap.size) t → Q t
theorem Z.met {l : Launch} {G : GG} {y : MethodName} {cc : ByteArray} {nL : Nat} {ret : Option FieldType} {d mc ms : Nat} {as : List Value} {w : GW} {post : Option Value → GW → Prop} {own nm : String} {lv : List (Nat × Value)} (hy : plainName y.cls = true) (ho : y.cls = own) (hn : y.name = nm) (hlen : (lg_sl as).length ≤ nL) (hlv : lv_args 0 as = lv) (K : ∀ κ : ZK, ZX κ cc own nL ret nm l d mc ms G w post → Z κ w lv 0 0 0 []) : gM l G y cc nL ret d mc ms as w post := by
  subst ho; subst hn; subst hlv
  intro sz
  refine Met.ofW (cc := cc) (maxL := nL) (ret := ret) hy rfl ?_
  intro p e s m args below meth c s₁ B hml hv
  obtain ⟨rfl, hsz, hP, hK⟩ := hv
  have hts := atoms_spec (ws := ws_ y cc nL ret) B.pre
  have hts : ∀ w ∈ lw_all, w.before _ s = true := fun w h => hts w (List.mem_cons_of_mem _ h)
  subst hsz
  rw [lg_entry_eq]
  exact K (p, l, e, gR d mc ms, s, m, as.toArray, below, meth, c, nL, G, w, MQ below (gQ G w s.heap.size post) as.toArray s mc ms (gA w s.heap.size))
    ⟨B.exec, B.bytes, hml, findClass_of_methodNamed B.named, hts, hK, B.returns, B.notSynchronized, (name_of_methodNamed B.named B.method).1, rfl, rfl, rfl, rfl, rfl, fun _ h => h⟩ s.heap [] _ (gS.rf hP) (lv_entry as hlen)
section ZR
variable {κ : ZK} {cc : ByteArray} {own nm : String} {nL : Nat} {ret : Option FieldType} {l : Launch} {d mc ms : Nat} {G : GG} {w0 w : GW} {post : Option Value → GW → Prop} {lv lv2 : List (Nat × Value)} {a b pc : Nat} {st rest : List Value}
theorem z_iconst (X : ZX κ cc own nL ret nm l d mc ms G w0 post) {n : Int} {v : Int32} (hdg : decode cc pc = .ok (.iconst n, 1)) (hv : Int32.ofInt n = v) (k : Z κ w lv a b (pc + 1) (.int v :: st)) : Z κ w lv a b pc st := by
  obtain ⟨p, l', e, R, s, m, args, below, meth, c, nL', G', w0', Q⟩ := κ
  obtain ⟨hx, hb, hml, hown, hts, hK, hr, hlk, hnm, rfl, rfl, rfl, rfl, rfl, hQ⟩ := X
  intro H locs ls hs hl'
  exact lv_iconst hx hb hdg hv (k H locs ls hs hl')
theorem z_bipush (X : ZX κ cc own nL ret nm l d mc ms G w0 post) {n : Int} {v : Int32} (hdg : decode cc pc = .ok (.bipush n, 2)) (hv : (Int8.ofInt n).toInt32 = v) (k : Z κ w lv a b (pc + 2) (.int v :: st)) : Z κ w lv a b pc st := by
  obtain ⟨p, l', e, R, s, m, args, below, meth, c, nL', G', w0', Q⟩ := κ
  obtain ⟨hx, hb, hml, hown, hts, hK, hr, hlk, hnm, rfl, rfl, rfl, rfl, rfl, hQ⟩ := X
  intro H locs ls hs hl'
  exact lv_bipush hx hb hdg hv (k H locs ls hs hl')
theorem z_sipush (X : ZX κ cc own nL ret nm l d mc ms G w0 post) {n : Int} {v : Int32} (hdg : decode cc pc = .ok (.sipush n, 3)) (hv : (Int16.ofInt n).toInt32 = v) (k : Z κ w lv a b (pc + 3) (.int v :: st)) : Z κ w lv a b pc st := by
  obtain ⟨p, l', e, R, s, m, args, below, meth, c, nL', G', w0', Q⟩ := κ
  obtain ⟨hx, hb, hml, hown, hts, hK, hr, hlk, hnm, rfl, rfl, rfl, rfl, rfl, hQ⟩ := X
  intro H locs ls hs hl'
  exact lv_sipush hx hb hdg hv (k H locs ls hs hl')
theorem z_lconst (X : ZX κ cc own nL ret nm l d mc ms G w0 post) {n : Fin 2} {v : Int64} (hdg : decode cc pc = .ok (.lconst n, 1)) (hv : Int64.ofNat (n : Nat) = v) (k : Z κ w lv a b (pc + 1) (.long v :: st)) : Z κ w lv a b pc st := by
  obtain ⟨p, l', e, R, s, m, args, below, meth, c, nL', G', w0', Q⟩ := κ
  obtain ⟨hx, hb, hml, hown, hts, hK, hr, hlk, hnm, rfl, rfl, rfl, rfl, rfl, hQ⟩ := X
  intro H locs ls hs hl'
  exact lv_lconst hx hb hdg hv (k H locs ls hs hl')
theorem z_ldc (X : ZX κ cc own nL ret nm l d mc ms G w0 post) {i : Nat} {v : Int32} (hdg : decode cc pc = .ok (.ldc i, 2)) (hq : Jvm.Cond.constant own i v ∈ lw_all) (k : Z κ w lv a b (pc + 2) (.int v :: st)) : Z κ w lv a b pc st := by
  obtain ⟨p, l', e, R, s, m, args, below, meth, c, nL', G', w0', Q⟩ := κ
  obtain ⟨hx, hb, hml, hown, hts, hK, hr, hlk, hnm, rfl, rfl, rfl, rfl, rfl, hQ⟩ := X
  intro H locs ls hs hl'
  exact lv_ldc hx hb hown (hts _ hq) hdg (k H locs ls hs hl')
theorem z_ldcw (X : ZX κ cc own nL ret nm l d mc ms G w0 post) {i : Nat} {v : Int32} (hdg : decode cc pc = .ok (.ldc_w i, 3)) (hq : Jvm.Cond.constant own i v ∈ lw_all) (k : Z κ w lv a b (pc + 3) (.int v :: st)) : Z κ w lv a b pc st := by
  obtain ⟨p, l', e, R, s, m, args, below, meth, c, nL', G', w0', Q⟩ := κ
  obtain ⟨hx, hb, hml, hown, hts, hK, hr, hlk, hnm, rfl, rfl, rfl, rfl, rfl, hQ⟩ := X
  intro H locs ls hs hl'
  exact lv_ldcw hx hb hown (hts _ hq) hdg (k H locs ls hs hl')
theorem z_ldc2 (X : ZX κ cc own nL ret nm l d mc ms G w0 post) {i : Nat} {v : Int64} (hdg : decode cc pc = .ok (.ldc2_w i, 3)) (hq : Jvm.Cond.constantLong own i v ∈ lw_all) (k : Z κ w lv a b (pc + 3) (.long v :: st)) : Z κ w lv a b pc st := by
  obtain ⟨p, l', e, R, s, m, args, below, meth, c, nL', G', w0', Q⟩ := κ
  obtain ⟨hx, hb, hml, hown, hts, hK, hr, hlk, hnm, rfl, rfl, rfl, rfl, rfl, hQ⟩ := X
  intro H locs ls hs hl'
  exact lv_ldc2 hx hb hown (hts _ hq) hdg (k H locs ls hs hl')
theorem z_null (X : ZX κ cc own nL ret nm l d mc ms G w0 post) (hdg : decode cc pc = .ok (.aconst_null, 1)) (k : Z κ w lv a b (pc + 1) (.null :: st)) : Z κ w lv a b pc st := by
  obtain ⟨p, l', e, R, s, m, args, below, meth, c, nL', G', w0', Q⟩ := κ
  obtain ⟨hx, hb, hml, hown, hts, hK, hr, hlk, hnm, rfl, rfl, rfl, rfl, rfl, hQ⟩ := X
  intro H locs ls hs hl'
  exact lv_null hx hb hdg (k H locs ls hs hl')
theorem z_iload_n (X : ZX κ cc own nL ret nm l d mc ms G w0 post) {j : Fin 4} {i : Nat} {x : Int32} (hdg : decode cc pc = .ok (.iload_n j, 1)) (hi : (j : Nat) = i) (q : Nat) (hq : lv[q]? = some (i, .int x)) (k : Z κ w lv a b (pc + 1) (.int x :: st)) : Z κ w lv a b pc st := by
  obtain ⟨p, l', e, R, s, m, args, below, meth, c, nL', G', w0', Q⟩ := κ
  obtain ⟨hx, hb, hml, hown, hts, hK, hr, hlk, hnm, rfl, rfl, rfl, rfl, rfl, hQ⟩ := X
  intro H locs ls hs hl'
  exact lv_iload_n hx hb hdg hi (lv_at hl' q hq) (k H locs ls hs hl')
theorem z_iload (X : ZX κ cc own nL ret nm l d mc ms G w0 post) {i : Nat} {x : Int32} (hdg : decode cc pc = .ok (.iload i, 2)) (q : Nat) (hq : lv[q]? = some (i, .int x)) (k : Z κ w lv a b (pc + 2) (.int x :: st)) : Z κ w lv a b pc st := by
  obtain ⟨p, l', e, R, s, m, args, below, meth, c, nL', G', w0', Q⟩ := κ
  obtain ⟨hx, hb, hml, hown, hts, hK, hr, hlk, hnm, rfl, rfl, rfl, rfl, rfl, hQ⟩ := X
  intro H locs ls hs hl'
  exact lv_iload hx hb hdg (lv_at hl' q hq) (k H locs ls hs hl')
theorem z_lload_n (X : ZX κ cc own nL ret nm l d mc ms G w0 post) {j : Fin 4} {i : Nat} {x : Int64} (hdg : decode cc pc = .ok (.lload_n j, 1)) (hi : (j : Nat) = i) (q : Nat) (hq : lv[q]? = some (i, .long x)) (k : Z κ w lv a b (pc + 1) (.long x :: st)) : Z κ w lv a b pc st := by
  obtain ⟨p, l', e, R, s, m, args, below, meth, c, nL', G', w0', Q⟩ := κ
  obtain ⟨hx, hb, hml, hown, hts, hK, hr, hlk, hnm, rfl, rfl, rfl, rfl, rfl, hQ⟩ := X
  intro H locs ls hs hl'
  exact lv_lload_n hx hb hdg hi (lv_at hl' q hq) (k H locs ls hs hl')
theorem z_lload (X : ZX κ cc own nL ret nm l d mc ms G w0 post) {i : Nat} {x : Int64} (hdg : decode cc pc = .ok (.lload i, 2)) (q : Nat) (hq : lv[q]? = some (i, .long x)) (k : Z κ w lv a b (pc + 2) (.long x :: st)) : Z κ w lv a b pc st := by
  obtain ⟨p, l', e, R, s, m, args, below, meth, c, nL', G', w0', Q⟩ := κ
  obtain ⟨hx, hb, hml, hown, hts, hK, hr, hlk, hnm, rfl, rfl, rfl, rfl, rfl, hQ⟩ := X
  intro H locs ls hs hl'
  exact lv_lload hx hb hdg (lv_at hl' q hq) (k H locs ls hs hl')
theorem z_aload_n (X : ZX κ cc own nL ret nm l d mc ms G w0 post) {j : Fin 4} {i : Nat} {x : Nat} (hdg : decode cc pc = .ok (.aload_n j, 1)) (hi : (j : Nat) = i) (q : Nat) (hq : lv[q]? = some (i, .ref x)) (k : Z κ w lv a b (pc + 1) (.ref x :: st)) : Z κ w lv a b pc st := by
  obtain ⟨p, l', e, R, s, m, args, below, meth, c, nL', G', w0', Q⟩ := κ
  obtain ⟨hx, hb, hml, hown, hts, hK, hr, hlk, hnm, rfl, rfl, rfl, rfl, rfl, hQ⟩ := X
  intro H locs ls hs hl'
  exact lv_aload_n hx hb hdg hi (lv_at hl' q hq) (k H locs ls hs hl')
theorem z_aload (X : ZX κ cc own nL ret nm l d mc ms G w0 post) {i : Nat} {x : Nat} (hdg : decode cc pc = .ok (.aload i, 2)) (q : Nat) (hq : lv[q]? = some (i, .ref x)) (k : Z κ w lv a b (pc + 2) (.ref x :: st)) : Z κ w lv a b pc st := by
  obtain ⟨p, l', e, R, s, m, args, below, meth, c, nL', G', w0', Q⟩ := κ
  obtain ⟨hx, hb, hml, hown, hts, hK, hr, hlk, hnm, rfl, rfl, rfl, rfl, rfl, hQ⟩ := X
  intro H locs ls hs hl'
  exact lv_aload hx hb hdg (lv_at hl' q hq) (k H locs ls hs hl')
theorem z_istore_n (X : ZX κ cc own nL ret nm l d mc ms G w0 post) {j : Fin 4} {i : Nat} {x : Int32} (hdg : decode cc pc = .ok (.istore_n j, 1)) (hi : (j : Nat) = i) (hn : i < nL) (hl : (i, Value.int x) :: lv.filter (fun q => !(q.1 == i) && !(q.1 + 1 == i && q.2.category == 2)) = lv2) (k : Z κ w lv2 a b (pc + 1) st) : Z κ w lv a b pc (.int x :: st) := by
  obtain ⟨p, l', e, R, s, m, args, below, meth, c, nL', G', w0', Q⟩ := κ
  obtain ⟨hx, hb, hml, hown, hts, hK, hr, hlk, hnm, rfl, rfl, rfl, rfl, rfl, hQ⟩ := X
  intro H locs ls hs hl'
  exact lv_istore_n hx hb hdg hi hl' hn hl (fun ls hl2 => k H locs ls hs hl2)
theorem z_istore (X : ZX κ cc own nL ret nm l d mc ms G w0 post) {i : Nat} {x : Int32} (hdg : decode cc pc = .ok (.istore i, 2)) (hn : i < nL) (hl : (i, Value.int x) :: lv.filter (fun q => !(q.1 == i) && !(q.1 + 1 == i && q.2.category == 2)) = lv2) (k : Z κ w lv2 a b (pc + 2) st) : Z κ w lv a b pc (.int x :: st) := by
  obtain ⟨p, l', e, R, s, m, args, below, meth, c, nL', G', w0', Q⟩ := κ
  obtain ⟨hx, hb, hml, hown, hts, hK, hr, hlk, hnm, rfl, rfl, rfl, rfl, rfl, hQ⟩ := X
  intro H locs ls hs hl'
  exact lv_istore hx hb hdg hl' hn hl (fun ls hl2 => k H locs ls hs hl2)
theorem z_astore_n (X : ZX κ cc own nL ret nm l d mc ms G w0 post) {j : Fin 4} {i : Nat} {x : Nat} (hdg : decode cc pc = .ok (.astore_n j, 1)) (hi : (j : Nat) = i) (hn : i < nL) (hl : (i, Value.ref x) :: lv.filter (fun q => !(q.1 == i) && !(q.1 + 1 == i && q.2.category == 2)) = lv2) (k : Z κ w lv2 a b (pc + 1) st) : Z κ w lv a b pc (.ref x :: st) := by
  obtain ⟨p, l', e, R, s, m, args, below, meth, c, nL', G', w0', Q⟩ := κ
  obtain ⟨hx, hb, hml, hown, hts, hK, hr, hlk, hnm, rfl, rfl, rfl, rfl, rfl, hQ⟩ := X
  intro H locs ls hs hl'
  exact lv_astore_n hx hb hdg hi hl' hn hl (fun ls hl2 => k H locs ls hs hl2)
theorem z_astore (X : ZX κ cc own nL ret nm l d mc ms G w0 post) {i : Nat} {x : Nat} (hdg : decode cc pc = .ok (.astore i, 2)) (hn : i < nL) (hl : (i, Value.ref x) :: lv.filter (fun q => !(q.1 == i) && !(q.1 + 1 == i && q.2.category == 2)) = lv2) (k : Z κ w lv2 a b (pc + 2) st) : Z κ w lv a b pc (.ref x :: st) := by
  obtain ⟨p, l', e, R, s, m, args, below, meth, c, nL', G', w0', Q⟩ := κ
  obtain ⟨hx, hb, hml, hown, hts, hK, hr, hlk, hnm, rfl, rfl, rfl, rfl, rfl, hQ⟩ := X
  intro H locs ls hs hl'
  exact lv_astore hx hb hdg hl' hn hl (fun ls hl2 => k H locs ls hs hl2)
theorem z_lstore_n (X : ZX κ cc own nL ret nm l d mc ms G w0 post) {j : Fin 4} {i : Nat} {x : Int64} (hdg : decode cc pc = .ok (.lstore_n j, 1)) (hi : (j : Nat) = i) (hn : i + 1 < nL) (hl : (i, Value.long x) :: lv.filter (fun q => !(q.1 == i) && (!(q.1 == i + 1) && !(q.1 + 1 == i && q.2.category == 2))) = lv2) (k : Z κ w lv2 a b (pc + 1) st) : Z κ w lv a b pc (.long x :: st) := by
  obtain ⟨p, l', e, R, s, m, args, below, meth, c, nL', G', w0', Q⟩ := κ
  obtain ⟨hx, hb, hml, hown, hts, hK, hr, hlk, hnm, rfl, rfl, rfl, rfl, rfl, hQ⟩ := X
  intro H locs ls hs hl'
  exact lv_lstore_n hx hb hdg hi hl' hn hl (fun ls hl2 => k H locs ls hs hl2)
theorem z_lstore (X : ZX κ cc own nL ret nm l d mc ms G w0 post) {i : Nat} {x : Int64} (hdg : decode cc pc = .ok (.lstore i, 2)) (hn : i + 1 < nL) (hl : (i, Value.long x) :: lv.filter (fun q => !(q.1 == i) && (!(q.1 == i + 1) && !(q.1 + 1 == i && q.2.category == 2))) = lv2) (k : Z κ w lv2 a b (pc + 2) st) : Z κ w lv a b pc (.long x :: st) := by
  obtain ⟨p, l', e, R, s, m, args, below, meth, c, nL', G', w0', Q⟩ := κ
  obtain ⟨hx, hb, hml, hown, hts, hK, hr, hlk, hnm, rfl, rfl, rfl, rfl, rfl, hQ⟩ := X
  intro H locs ls hs hl'
  exact lv_lstore hx hb hdg hl' hn hl (fun ls hl2 => k H locs ls hs hl2)
theorem z_iinc (X : ZX κ cc own nL ret nm l d mc ms G w0 post) {i : Nat} {n : Int} {x v : Int32} (hdg : decode cc pc = .ok (.iinc i n, 3)) (q : Nat) (hq : lv[q]? = some (i, .int x)) (hv : x + Int32.ofInt n = v) (hn : i < nL) (hl : (i, Value.int v) :: lv.filter (fun q => !(q.1 == i) && !(q.1 + 1 == i && q.2.category == 2)) = lv2) (k : Z κ w lv2 a b (pc + 3) st) : Z κ w lv a b pc st := by
  obtain ⟨p, l', e, R, s, m, args, below, meth, c, nL', G', w0', Q⟩ := κ
  obtain ⟨hx, hb, hml, hown, hts, hK, hr, hlk, hnm, rfl, rfl, rfl, rfl, rfl, hQ⟩ := X
  intro H locs ls hs hl'
  exact lv_iinc hx hb hdg hl' hq hv hn hl (fun ls hl2 => k H locs ls hs hl2)
theorem z_iadd (X : ZX κ cc own nL ret nm l d mc ms G w0 post) {x y v : Int32} (hdg : decode cc pc = .ok (.iadd, 1)) (hv : x + y = v) (k : Z κ w lv a b (pc + 1) (.int v :: st)) : Z κ w lv a b pc (.int y :: .int x :: st) := by
  subst hv
  obtain ⟨p, l', e, R, s, m, args, below, meth, c, nL', G', w0', Q⟩ := κ
  obtain ⟨hx, hb, hml, hown, hts, hK, hr, hlk, hnm, rfl, rfl, rfl, rfl, rfl, hQ⟩ := X
  intro H locs ls hs hl'
  exact lv_iadd hx hb hdg (k H locs ls hs hl')
theorem z_isub (X : ZX κ cc own nL ret nm l d mc ms G w0 post) {x y v : Int32} (hdg : decode cc pc = .ok (.isub, 1)) (hv : x - y = v) (k : Z κ w lv a b (pc + 1) (.int v :: st)) : Z κ w lv a b pc (.int y :: .int x :: st) := by
  subst hv
  obtain ⟨p, l', e, R, s, m, args, below, meth, c, nL', G', w0', Q⟩ := κ
  obtain ⟨hx, hb, hml, hown, hts, hK, hr, hlk, hnm, rfl, rfl, rfl, rfl, rfl, hQ⟩ := X
  intro H locs ls hs hl'
  exact lv_isub hx hb hdg (k H locs ls hs hl')
theorem z_imul (X : ZX κ cc own nL ret nm l d mc ms G w0 post) {x y v : Int32} (hdg : decode cc pc = .ok (.imul, 1)) (hv : x * y = v) (k : Z κ w lv a b (pc + 1) (.int v :: st)) : Z κ w lv a b pc (.int y :: .int x :: st) := by
  subst hv
  obtain ⟨p, l', e, R, s, m, args, below, meth, c, nL', G', w0', Q⟩ := κ
  obtain ⟨hx, hb, hml, hown, hts, hK, hr, hlk, hnm, rfl, rfl, rfl, rfl, rfl, hQ⟩ := X
  intro H locs ls hs hl'
  exact lv_imul hx hb hdg (k H locs ls hs hl')
theorem z_iand (X : ZX κ cc own nL ret nm l d mc ms G w0 post) {x y v : Int32} (hdg : decode cc pc = .ok (.iand, 1)) (hv : x &&& y = v) (k : Z κ w lv a b (pc + 1) (.int v :: st)) : Z κ w lv a b pc (.int y :: .int x :: st) := by
  subst hv
  obtain ⟨p, l', e, R, s, m, args, below, meth, c, nL', G', w0', Q⟩ := κ
  obtain ⟨hx, hb, hml, hown, hts, hK, hr, hlk, hnm, rfl, rfl, rfl, rfl, rfl, hQ⟩ := X
  intro H locs ls hs hl'
  exact lv_iand hx hb hdg (k H locs ls hs hl')
theorem z_ior (X : ZX κ cc own nL ret nm l d mc ms G w0 post) {x y v : Int32} (hdg : decode cc pc = .ok (.ior, 1)) (hv : x ||| y = v) (k : Z κ w lv a b (pc + 1) (.int v :: st)) : Z κ w lv a b pc (.int y :: .int x :: st) := by
  subst hv
  obtain ⟨p, l', e, R, s, m, args, below, meth, c, nL', G', w0', Q⟩ := κ
  obtain ⟨hx, hb, hml, hown, hts, hK, hr, hlk, hnm, rfl, rfl, rfl, rfl, rfl, hQ⟩ := X
  intro H locs ls hs hl'
  exact lv_ior hx hb hdg (k H locs ls hs hl')
theorem z_ishl (X : ZX κ cc own nL ret nm l d mc ms G w0 post) {x y v : Int32} (hdg : decode cc pc = .ok (.ishl, 1)) (hv : x <<< (y &&& 31) = v) (k : Z κ w lv a b (pc + 1) (.int v :: st)) : Z κ w lv a b pc (.int y :: .int x :: st) := by
  subst hv
  obtain ⟨p, l', e, R, s, m, args, below, meth, c, nL', G', w0', Q⟩ := κ
  obtain ⟨hx, hb, hml, hown, hts, hK, hr, hlk, hnm, rfl, rfl, rfl, rfl, rfl, hQ⟩ := X
  intro H locs ls hs hl'
  exact lv_ishl hx hb hdg (k H locs ls hs hl')
theorem z_ishr (X : ZX κ cc own nL ret nm l d mc ms G w0 post) {x y v : Int32} (hdg : decode cc pc = .ok (.ishr, 1)) (hv : x >>> (y &&& 31) = v) (k : Z κ w lv a b (pc + 1) (.int v :: st)) : Z κ w lv a b pc (.int y :: .int x :: st) := by
  subst hv
  obtain ⟨p, l', e, R, s, m, args, below, meth, c, nL', G', w0', Q⟩ := κ
  obtain ⟨hx, hb, hml, hown, hts, hK, hr, hlk, hnm, rfl, rfl, rfl, rfl, rfl, hQ⟩ := X
  intro H locs ls hs hl'
  exact lv_ishr hx hb hdg (k H locs ls hs hl')
theorem z_idiv (X : ZX κ cc own nL ret nm l d mc ms G w0 post) {x y v : Int32} (hdg : decode cc pc = .ok (.idiv, 1)) (hne : ¬ y = 0) (hv : x / y = v) (k : Z κ w lv a b (pc + 1) (.int v :: st)) : Z κ w lv a b pc (.int y :: .int x :: st) := by
  subst hv
  obtain ⟨p, l', e, R, s, m, args, below, meth, c, nL', G', w0', Q⟩ := κ
  obtain ⟨hx, hb, hml, hown, hts, hK, hr, hlk, hnm, rfl, rfl, rfl, rfl, rfl, hQ⟩ := X
  intro H locs ls hs hl'
  exact lv_idiv hx hb hdg hne (k H locs ls hs hl')
theorem z_irem (X : ZX κ cc own nL ret nm l d mc ms G w0 post) {x y v : Int32} (hdg : decode cc pc = .ok (.irem, 1)) (hne : ¬ y = 0) (hv : x - x / y * y = v) (k : Z κ w lv a b (pc + 1) (.int v :: st)) : Z κ w lv a b pc (.int y :: .int x :: st) := by
  subst hv
  obtain ⟨p, l', e, R, s, m, args, below, meth, c, nL', G', w0', Q⟩ := κ
  obtain ⟨hx, hb, hml, hown, hts, hK, hr, hlk, hnm, rfl, rfl, rfl, rfl, rfl, hQ⟩ := X
  intro H locs ls hs hl'
  exact lv_irem hx hb hdg hne (k H locs ls hs hl')
theorem z_iushr (X : ZX κ cc own nL ret nm l d mc ms G w0 post) {x y v : Int32} (hdg : decode cc pc = .ok (.iushr, 1)) (hv : (x.toUInt32 >>> (y.toUInt32 &&& Int32.toUInt32 31)).toInt32 = v) (k : Z κ w lv a b (pc + 1) (.int v :: st)) : Z κ w lv a b pc (.int y :: .int x :: st) := by
  obtain ⟨p, l', e, R, s, m, args, below, meth, c, nL', G', w0', Q⟩ := κ
  obtain ⟨hx, hb, hml, hown, hts, hK, hr, hlk, hnm, rfl, rfl, rfl, rfl, rfl, hQ⟩ := X
  intro H locs ls hs hl'
  exact lv_iushr hx hb hdg hv (k H locs ls hs hl')
theorem z_ineg (X : ZX κ cc own nL ret nm l d mc ms G w0 post) {x v : Int32} (hdg : decode cc pc = .ok (.ineg, 1)) (hv : -x = v) (k : Z κ w lv a b (pc + 1) (.int v :: st)) : Z κ w lv a b pc (.int x :: st) := by
  subst hv
  obtain ⟨p, l', e, R, s, m, args, below, meth, c, nL', G', w0', Q⟩ := κ
  obtain ⟨hx, hb, hml, hown, hts, hK, hr, hlk, hnm, rfl, rfl, rfl, rfl, rfl, hQ⟩ := X
  intro H locs ls hs hl'
  exact lv_ineg hx hb hdg (k H locs ls hs hl')
theorem z_ladd (X : ZX κ cc own nL ret nm l d mc ms G w0 post) {x y v : Int64} (hdg : decode cc pc = .ok (.ladd, 1)) (hv : x + y = v) (k : Z κ w lv a b (pc + 1) (.long v :: st)) : Z κ w lv a b pc (.long y :: .long x :: st) := by
  subst hv
  obtain ⟨p, l', e, R, s, m, args, below, meth, c, nL', G', w0', Q⟩ := κ
  obtain ⟨hx, hb, hml, hown, hts, hK, hr, hlk, hnm, rfl, rfl, rfl, rfl, rfl, hQ⟩ := X
  intro H locs ls hs hl'
  exact lv_ladd hx hb hdg (k H locs ls hs hl')
theorem z_lsub (X : ZX κ cc own nL ret nm l d mc ms G w0 post) {x y v : Int64} (hdg : decode cc pc = .ok (.lsub, 1)) (hv : x - y = v) (k : Z κ w lv a b (pc + 1) (.long v :: st)) : Z κ w lv a b pc (.long y :: .long x :: st) := by
  subst hv
  obtain ⟨p, l', e, R, s, m, args, below, meth, c, nL', G', w0', Q⟩ := κ
  obtain ⟨hx, hb, hml, hown, hts, hK, hr, hlk, hnm, rfl, rfl, rfl, rfl, rfl, hQ⟩ := X
  intro H locs ls hs hl'
  exact lv_lsub hx hb hdg (k H locs ls hs hl')
theorem z_lmul (X : ZX κ cc own nL ret nm l d mc ms G w0 post) {x y v : Int64} (hdg : decode cc pc = .ok (.lmul, 1)) (hv : x * y = v) (k : Z κ w lv a b (pc + 1) (.long v :: st)) : Z κ w lv a b pc (.long y :: .long x :: st) := by
  subst hv
  obtain ⟨p, l', e, R, s, m, args, below, meth, c, nL', G', w0', Q⟩ := κ
  obtain ⟨hx, hb, hml, hown, hts, hK, hr, hlk, hnm, rfl, rfl, rfl, rfl, rfl, hQ⟩ := X
  intro H locs ls hs hl'
  exact lv_lmul hx hb hdg (k H locs ls hs hl')
theorem z_land (X : ZX κ cc own nL ret nm l d mc ms G w0 post) {x y v : Int64} (hdg : decode cc pc = .ok (.land, 1)) (hv : x &&& y = v) (k : Z κ w lv a b (pc + 1) (.long v :: st)) : Z κ w lv a b pc (.long y :: .long x :: st) := by
  subst hv
  obtain ⟨p, l', e, R, s, m, args, below, meth, c, nL', G', w0', Q⟩ := κ
  obtain ⟨hx, hb, hml, hown, hts, hK, hr, hlk, hnm, rfl, rfl, rfl, rfl, rfl, hQ⟩ := X
  intro H locs ls hs hl'
  exact lv_land hx hb hdg (k H locs ls hs hl')
theorem z_lor (X : ZX κ cc own nL ret nm l d mc ms G w0 post) {x y v : Int64} (hdg : decode cc pc = .ok (.lor, 1)) (hv : x ||| y = v) (k : Z κ w lv a b (pc + 1) (.long v :: st)) : Z κ w lv a b pc (.long y :: .long x :: st) := by
  subst hv
  obtain ⟨p, l', e, R, s, m, args, below, meth, c, nL', G', w0', Q⟩ := κ
  obtain ⟨hx, hb, hml, hown, hts, hK, hr, hlk, hnm, rfl, rfl, rfl, rfl, rfl, hQ⟩ := X
  intro H locs ls hs hl'
  exact lv_lor hx hb hdg (k H locs ls hs hl')
theorem z_ldiv (X : ZX κ cc own nL ret nm l d mc ms G w0 post) {x y v : Int64} (hdg : decode cc pc = .ok (.ldiv, 1)) (hne : ¬ y = 0) (hv : x / y = v) (k : Z κ w lv a b (pc + 1) (.long v :: st)) : Z κ w lv a b pc (.long y :: .long x :: st) := by
  subst hv
  obtain ⟨p, l', e, R, s, m, args, below, meth, c, nL', G', w0', Q⟩ := κ
  obtain ⟨hx, hb, hml, hown, hts, hK, hr, hlk, hnm, rfl, rfl, rfl, rfl, rfl, hQ⟩ := X
  intro H locs ls hs hl'
  exact lv_ldiv hx hb hdg hne (k H locs ls hs hl')
theorem z_lshl (X : ZX κ cc own nL ret nm l d mc ms G w0 post) {x v : Int64} {y : Int32} (hdg : decode cc pc = .ok (.lshl, 1)) (hv : x <<< (y.toInt64 &&& 63) = v) (k : Z κ w lv a b (pc + 1) (.long v :: st)) : Z κ w lv a b pc (.int y :: .long x :: st) := by
  obtain ⟨p, l', e, R, s, m, args, below, meth, c, nL', G', w0', Q⟩ := κ
  obtain ⟨hx, hb, hml, hown, hts, hK, hr, hlk, hnm, rfl, rfl, rfl, rfl, rfl, hQ⟩ := X
  intro H locs ls hs hl'
  exact lv_lshl hx hb hdg hv (k H locs ls hs hl')
theorem z_lcmp (X : ZX κ cc own nL ret nm l d mc ms G w0 post) {x y : Int64} {v : Int32} (hdg : decode cc pc = .ok (.lcmp, 1)) (hv : lg_cmp x y = v) (k : Z κ w lv a b (pc + 1) (.int v :: st)) : Z κ w lv a b pc (.long y :: .long x :: st) := by
  subst hv
  obtain ⟨p, l', e, R, s, m, args, below, meth, c, nL', G', w0', Q⟩ := κ
  obtain ⟨hx, hb, hml, hown, hts, hK, hr, hlk, hnm, rfl, rfl, rfl, rfl, rfl, hQ⟩ := X
  intro H locs ls hs hl'
  exact W.lcmp hx hb hdg (k H locs ls hs hl')
theorem z_i2l (X : ZX κ cc own nL ret nm l d mc ms G w0 post) {x : Int32} {v : Int64} (hdg : decode cc pc = .ok (.i2l, 1)) (hv : x.toInt64 = v) (k : Z κ w lv a b (pc + 1) (.long v :: st)) : Z κ w lv a b pc (.int x :: st) := by
  obtain ⟨p, l', e, R, s, m, args, below, meth, c, nL', G', w0', Q⟩ := κ
  obtain ⟨hx, hb, hml, hown, hts, hK, hr, hlk, hnm, rfl, rfl, rfl, rfl, rfl, hQ⟩ := X
  intro H locs ls hs hl'
  exact lv_i2l hx hb hdg hv (k H locs ls hs hl')
theorem z_l2i (X : ZX κ cc own nL ret nm l d mc ms G w0 post) {x : Int64} {v : Int32} (hdg : decode cc pc = .ok (.l2i, 1)) (hv : x.toInt32 = v) (k : Z κ w lv a b (pc + 1) (.int v :: st)) : Z κ w lv a b pc (.long x :: st) := by
  obtain ⟨p, l', e, R, s, m, args, below, meth, c, nL', G', w0', Q⟩ := κ
  obtain ⟨hx, hb, hml, hown, hts, hK, hr, hlk, hnm, rfl, rfl, rfl, rfl, rfl, hQ⟩ := X
  intro H locs ls hs hl'
  exact lv_l2i hx hb hdg hv (k H locs ls hs hl')
theorem z_i2b (X : ZX κ cc own nL ret nm l d mc ms G w0 post) {x : Int32} {v : Int32} (hdg : decode cc pc = .ok (.i2b, 1)) (hv : x.toInt8.toInt32 = v) (k : Z κ w lv a b (pc + 1) (.int v :: st)) : Z κ w lv a b pc (.int x :: st) := by
  obtain ⟨p, l', e, R, s, m, args, below, meth, c, nL', G', w0', Q⟩ := κ
  obtain ⟨hx, hb, hml, hown, hts, hK, hr, hlk, hnm, rfl, rfl, rfl, rfl, rfl, hQ⟩ := X
  intro H locs ls hs hl'
  exact lv_i2b hx hb hdg hv (k H locs ls hs hl')
theorem z_i2s (X : ZX κ cc own nL ret nm l d mc ms G w0 post) {x : Int32} {v : Int32} (hdg : decode cc pc = .ok (.i2s, 1)) (hv : x.toInt16.toInt32 = v) (k : Z κ w lv a b (pc + 1) (.int v :: st)) : Z κ w lv a b pc (.int x :: st) := by
  obtain ⟨p, l', e, R, s, m, args, below, meth, c, nL', G', w0', Q⟩ := κ
  obtain ⟨hx, hb, hml, hown, hts, hK, hr, hlk, hnm, rfl, rfl, rfl, rfl, rfl, hQ⟩ := X
  intro H locs ls hs hl'
  exact lv_i2s hx hb hdg hv (k H locs ls hs hl')
theorem z_i2c (X : ZX κ cc own nL ret nm l d mc ms G w0 post) {x : Int32} {v : Int32} (hdg : decode cc pc = .ok (.i2c, 1)) (hv : (x.toUInt32 % 65536).toInt32 = v) (k : Z κ w lv a b (pc + 1) (.int v :: st)) : Z κ w lv a b pc (.int x :: st) := by
  obtain ⟨p, l', e, R, s, m, args, below, meth, c, nL', G', w0', Q⟩ := κ
  obtain ⟨hx, hb, hml, hown, hts, hK, hr, hlk, hnm, rfl, rfl, rfl, rfl, rfl, hQ⟩ := X
  intro H locs ls hs hl'
  exact lv_i2c hx hb hdg hv (k H locs ls hs hl')
theorem z_dup (X : ZX κ cc own nL ret nm l d mc ms G w0 post) {va : Value} (hdg : decode cc pc = .ok (.dup, 1)) (hva : va.category = 1) (k : Z κ w lv a b (pc + 1) (va :: va :: st)) : Z κ w lv a b pc (va :: st) := by
  obtain ⟨p, l', e, R, s, m, args, below, meth, c, nL', G', w0', Q⟩ := κ
  obtain ⟨hx, hb, hml, hown, hts, hK, hr, hlk, hnm, rfl, rfl, rfl, rfl, rfl, hQ⟩ := X
  intro H locs ls hs hl'
  exact lv_dup hx hb hdg hva (k H locs ls hs hl')
theorem z_dup_x1 (X : ZX κ cc own nL ret nm l d mc ms G w0 post) {va vb : Value} (hdg : decode cc pc = .ok (.dup_x1, 1)) (hva : va.category = 1) (hvb : vb.category = 1) (k : Z κ w lv a b (pc + 1) (va :: vb :: va :: st)) : Z κ w lv a b pc (va :: vb :: st) := by
  obtain ⟨p, l', e, R, s, m, args, below, meth, c, nL', G', w0', Q⟩ := κ
  obtain ⟨hx, hb, hml, hown, hts, hK, hr, hlk, hnm, rfl, rfl, rfl, rfl, rfl, hQ⟩ := X
  intro H locs ls hs hl'
  exact lv_dup_x1 hx hb hdg hva hvb (k H locs ls hs hl')
theorem z_dup2 (X : ZX κ cc own nL ret nm l d mc ms G w0 post) {va vb : Value} (hdg : decode cc pc = .ok (.dup2, 1)) (hva : va.category = 1) (hvb : vb.category = 1) (k : Z κ w lv a b (pc + 1) (va :: vb :: va :: vb :: st)) : Z κ w lv a b pc (va :: vb :: st) := by
  obtain ⟨p, l', e, R, s, m, args, below, meth, c, nL', G', w0', Q⟩ := κ
  obtain ⟨hx, hb, hml, hown, hts, hK, hr, hlk, hnm, rfl, rfl, rfl, rfl, rfl, hQ⟩ := X
  intro H locs ls hs hl'
  exact lv_dup2_11 hx hb hdg hva hvb (k H locs ls hs hl')
theorem z_pop (X : ZX κ cc own nL ret nm l d mc ms G w0 post) {va : Value} (hdg : decode cc pc = .ok (.pop, 1)) (hva : va.category = 1) (k : Z κ w lv a b (pc + 1) st) : Z κ w lv a b pc (va :: st) := by
  obtain ⟨p, l', e, R, s, m, args, below, meth, c, nL', G', w0', Q⟩ := κ
  obtain ⟨hx, hb, hml, hown, hts, hK, hr, hlk, hnm, rfl, rfl, rfl, rfl, rfl, hQ⟩ := X
  intro H locs ls hs hl'
  exact lv_pop hx hb hdg hva (k H locs ls hs hl')
theorem z_pop2l (X : ZX κ cc own nL ret nm l d mc ms G w0 post) {va : Value} (hdg : decode cc pc = .ok (.pop2, 1)) (hva : va.category = 2) (k : Z κ w lv a b (pc + 1) st) : Z κ w lv a b pc (va :: st) := by
  obtain ⟨p, l', e, R, s, m, args, below, meth, c, nL', G', w0', Q⟩ := κ
  obtain ⟨hx, hb, hml, hown, hts, hK, hr, hlk, hnm, rfl, rfl, rfl, rfl, rfl, hQ⟩ := X
  intro H locs ls hs hl'
  exact lv_pop2_2 hx hb hdg hva (k H locs ls hs hl')
theorem z_if_eq (X : ZX κ cc own nL ret nm l d mc ms G w0 post) {x : Int32} {off : Int} {tgt : Nat} {P : Prop} (hdg : decode cc pc = .ok (.ifCond .eq off, 3)) (ht : (pc : Int) + off = (tgt : Int)) (hc : x = 0 ↔ P) (kt : P → Z κ w lv a b tgt st) (kf : ¬ P → Z κ w lv a b (pc + 3) st) : Z κ w lv a b pc (.int x :: st) := by
  obtain ⟨p, l', e, R, s, m, args, below, meth, c, nL', G', w0', Q⟩ := κ
  obtain ⟨hx, hb, hml, hown, hts, hK, hr, hlk, hnm, rfl, rfl, rfl, rfl, rfl, hQ⟩ := X
  intro H locs ls hs hl'
  exact lv_if_eq hx hb hdg ht (fun h => kt (hc.mp h) H locs ls hs hl') (fun h => kf (fun q => h (hc.mpr q)) H locs ls hs hl')
theorem z_if_eq_t (X : ZX κ cc own nL ret nm l d mc ms G w0 post) {x : Int32} {off : Int} {tgt : Nat} (hdg : decode cc pc = .ok (.ifCond .eq off, 3)) (ht : (pc : Int) + off = (tgt : Int)) (h : x = 0) (kt : Z κ w lv a b tgt st) : Z κ w lv a b pc (.int x :: st) := by
  obtain ⟨p, l', e, R, s, m, args, below, meth, c, nL', G', w0', Q⟩ := κ
  obtain ⟨hx, hb, hml, hown, hts, hK, hr, hlk, hnm, rfl, rfl, rfl, rfl, rfl, hQ⟩ := X
  intro H locs ls hs hl'
  exact lv_if_eq hx hb hdg ht (fun _ => kt H locs ls hs hl') (fun h2 => (h2 h).elim)
theorem z_if_eq_f (X : ZX κ cc own nL ret nm l d mc ms G w0 post) {x : Int32} {off : Int} {tgt : Nat} (hdg : decode cc pc = .ok (.ifCond .eq off, 3)) (ht : (pc : Int) + off = (tgt : Int)) (h : ¬ x = 0) (kf : Z κ w lv a b (pc + 3) st) : Z κ w lv a b pc (.int x :: st) := by
  obtain ⟨p, l', e, R, s, m, args, below, meth, c, nL', G', w0', Q⟩ := κ
  obtain ⟨hx, hb, hml, hown, hts, hK, hr, hlk, hnm, rfl, rfl, rfl, rfl, rfl, hQ⟩ := X
  intro H locs ls hs hl'
  exact lv_if_eq hx hb hdg ht (fun h2 => (h h2).elim) (fun _ => kf H locs ls hs hl')
theorem z_icmp_eq (X : ZX κ cc own nL ret nm l d mc ms G w0 post) {x y : Int32} {off : Int} {tgt : Nat} {P : Prop} (hdg : decode cc pc = .ok (.if_icmp .eq off, 3)) (ht : (pc : Int) + off = (tgt : Int)) (hc : x = y ↔ P) (kt : P → Z κ w lv a b tgt st) (kf : ¬ P → Z κ w lv a b (pc + 3) st) : Z κ w lv a b pc (.int y :: .int x :: st) := by
  obtain ⟨p, l', e, R, s, m, args, below, meth, c, nL', G', w0', Q⟩ := κ
  obtain ⟨hx, hb, hml, hown, hts, hK, hr, hlk, hnm, rfl, rfl, rfl, rfl, rfl, hQ⟩ := X
  intro H locs ls hs hl'
  exact lv_icmp_eq hx hb hdg ht (fun h => kt (hc.mp h) H locs ls hs hl') (fun h => kf (fun q => h (hc.mpr q)) H locs ls hs hl')
theorem z_icmp_eq_t (X : ZX κ cc own nL ret nm l d mc ms G w0 post) {x y : Int32} {off : Int} {tgt : Nat} (hdg : decode cc pc = .ok (.if_icmp .eq off, 3)) (ht : (pc : Int) + off = (tgt : Int)) (h : x = y) (kt : Z κ w lv a b tgt st) : Z κ w lv a b pc (.int y :: .int x :: st) := by
  obtain ⟨p, l', e, R, s, m, args, below, meth, c, nL', G', w0', Q⟩ := κ
  obtain ⟨hx, hb, hml, hown, hts, hK, hr, hlk, hnm, rfl, rfl, rfl, rfl, rfl, hQ⟩ := X
  intro H locs ls hs hl'
  exact lv_icmp_eq hx hb hdg ht (fun _ => kt H locs ls hs hl') (fun h2 => (h2 h).elim)
theorem z_icmp_eq_f (X : ZX κ cc own nL ret nm l d mc ms G w0 post) {x y : Int32} {off : Int} {tgt : Nat} (hdg : decode cc pc = .ok (.if_icmp .eq off, 3)) (ht : (pc : Int) + off = (tgt : Int)) (h : ¬ x = y) (kf : Z κ w lv a b (pc + 3) st) : Z κ w lv a b pc (.int y :: .int x :: st) := by
  obtain ⟨p, l', e, R, s, m, args, below, meth, c, nL', G', w0', Q⟩ := κ
  obtain ⟨hx, hb, hml, hown, hts, hK, hr, hlk, hnm, rfl, rfl, rfl, rfl, rfl, hQ⟩ := X
  intro H locs ls hs hl'
  exact lv_icmp_eq hx hb hdg ht (fun h2 => (h h2).elim) (fun _ => kf H locs ls hs hl')
theorem z_if_ne (X : ZX κ cc own nL ret nm l d mc ms G w0 post) {x : Int32} {off : Int} {tgt : Nat} {P : Prop} (hdg : decode cc pc = .ok (.ifCond .ne off, 3)) (ht : (pc : Int) + off = (tgt : Int)) (hc : x = 0 ↔ P) (kt : ¬ P → Z κ w lv a b tgt st) (kf : P → Z κ w lv a b (pc + 3) st) : Z κ w lv a b pc (.int x :: st) := by
  obtain ⟨p, l', e, R, s, m, args, below, meth, c, nL', G', w0', Q⟩ := κ
  obtain ⟨hx, hb, hml, hown, hts, hK, hr, hlk, hnm, rfl, rfl, rfl, rfl, rfl, hQ⟩ := X
  intro H locs ls hs hl'
  exact lv_if_ne hx hb hdg ht (fun h => kt (fun q => h (hc.mpr q)) H locs ls hs hl') (fun h => kf (hc.mp h) H locs ls hs hl')
theorem z_if_ne_t (X : ZX κ cc own nL ret nm l d mc ms G w0 post) {x : Int32} {off : Int} {tgt : Nat} (hdg : decode cc pc = .ok (.ifCond .ne off, 3)) (ht : (pc : Int) + off = (tgt : Int)) (h : ¬ x = 0) (kt : Z κ w lv a b tgt st) : Z κ w lv a b pc (.int x :: st) := by
  obtain ⟨p, l', e, R, s, m, args, below, meth, c, nL', G', w0', Q⟩ := κ
  obtain ⟨hx, hb, hml, hown, hts, hK, hr, hlk, hnm, rfl, rfl, rfl, rfl, rfl, hQ⟩ := X
  intro H locs ls hs hl'
  exact lv_if_ne hx hb hdg ht (fun _ => kt H locs ls hs hl') (fun h2 => (h h2).elim)
theorem z_if_ne_f (X : ZX κ cc own nL ret nm l d mc ms G w0 post) {x : Int32} {off : Int} {tgt : Nat} (hdg : decode cc pc = .ok (.ifCond .ne off, 3)) (ht : (pc : Int) + off = (tgt : Int)) (h : x = 0) (kf : Z κ w lv a b (pc + 3) st) : Z κ w lv a b pc (.int x :: st) := by
  obtain ⟨p, l', e, R, s, m, args, below, meth, c, nL', G', w0', Q⟩ := κ
  obtain ⟨hx, hb, hml, hown, hts, hK, hr, hlk, hnm, rfl, rfl, rfl, rfl, rfl, hQ⟩ := X
  intro H locs ls hs hl'
  exact lv_if_ne hx hb hdg ht (fun h2 => (h2 h).elim) (fun _ => kf H locs ls hs hl')
theorem z_icmp_ne (X : ZX κ cc own nL ret nm l d mc ms G w0 post) {x y : Int32} {off : Int} {tgt : Nat} {P : Prop} (hdg : decode cc pc = .ok (.if_icmp .ne off, 3)) (ht : (pc : Int) + off = (tgt : Int)) (hc : x = y ↔ P) (kt : ¬ P → Z κ w lv a b tgt st) (kf : P → Z κ w lv a b (pc + 3) st) : Z κ w lv a b pc (.int y :: .int x :: st) := by
  obtain ⟨p, l', e, R, s, m, args, below, meth, c, nL', G', w0', Q⟩ := κ
  obtain ⟨hx, hb, hml, hown, hts, hK, hr, hlk, hnm, rfl, rfl, rfl, rfl, rfl, hQ⟩ := X
  intro H locs ls hs hl'
  exact lv_icmp_ne hx hb hdg ht (fun h => kt (fun q => h (hc.mpr q)) H locs ls hs hl') (fun h => kf (hc.mp h) H locs ls hs hl')
theorem z_icmp_ne_t (X : ZX κ cc own nL ret nm l d mc ms G w0 post) {x y : Int32} {off : Int} {tgt : Nat} (hdg : decode cc pc = .ok (.if_icmp .ne off, 3)) (ht : (pc : Int) + off = (tgt : Int)) (h : ¬ x = y) (kt : Z κ w lv a b tgt st) : Z κ w lv a b pc (.int y :: .int x :: st) := by
  obtain ⟨p, l', e, R, s, m, args, below, meth, c, nL', G', w0', Q⟩ := κ
  obtain ⟨hx, hb, hml, hown, hts, hK, hr, hlk, hnm, rfl, rfl, rfl, rfl, rfl, hQ⟩ := X
  intro H locs ls hs hl'
  exact lv_icmp_ne hx hb hdg ht (fun _ => kt H locs ls hs hl') (fun h2 => (h h2).elim)
theorem z_icmp_ne_f (X : ZX κ cc own nL ret nm l d mc ms G w0 post) {x y : Int32} {off : Int} {tgt : Nat} (hdg : decode cc pc = .ok (.if_icmp .ne off, 3)) (ht : (pc : Int) + off = (tgt : Int)) (h : x = y) (kf : Z κ w lv a b (pc + 3) st) : Z κ w lv a b pc (.int y :: .int x :: st) := by
  obtain ⟨p, l', e, R, s, m, args, below, meth, c, nL', G', w0', Q⟩ := κ
  obtain ⟨hx, hb, hml, hown, hts, hK, hr, hlk, hnm, rfl, rfl, rfl, rfl, rfl, hQ⟩ := X
  intro H locs ls hs hl'
  exact lv_icmp_ne hx hb hdg ht (fun h2 => (h2 h).elim) (fun _ => kf H locs ls hs hl')
theorem z_if_lt (X : ZX κ cc own nL ret nm l d mc ms G w0 post) {x : Int32} {off : Int} {tgt : Nat} {P : Prop} (hdg : decode cc pc = .ok (.ifCond .lt off, 3)) (ht : (pc : Int) + off = (tgt : Int)) (hc : x < 0 ↔ P) (kt : P → Z κ w lv a b tgt st) (kf : ¬ P → Z κ w lv a b (pc + 3) st) : Z κ w lv a b pc (.int x :: st) := by
  obtain ⟨p, l', e, R, s, m, args, below, meth, c, nL', G', w0', Q⟩ := κ
  obtain ⟨hx, hb, hml, hown, hts, hK, hr, hlk, hnm, rfl, rfl, rfl, rfl, rfl, hQ⟩ := X
  intro H locs ls hs hl'
  exact lv_if_lt hx hb hdg ht (fun h => kt (hc.mp h) H locs ls hs hl') (fun h => kf (fun q => h (hc.mpr q)) H locs ls hs hl')
theorem z_if_lt_t (X : ZX κ cc own nL ret nm l d mc ms G w0 post) {x : Int32} {off : Int} {tgt : Nat} (hdg : decode cc pc = .ok (.ifCond .lt off, 3)) (ht : (pc : Int) + off = (tgt : Int)) (h : x < 0) (kt : Z κ w lv a b tgt st) : Z κ w lv a b pc (.int x :: st) := by
  obtain ⟨p, l', e, R, s, m, args, below, meth, c, nL', G', w0', Q⟩ := κ
  obtain ⟨hx, hb, hml, hown, hts, hK, hr, hlk, hnm, rfl, rfl, rfl, rfl, rfl, hQ⟩ := X
  intro H locs ls hs hl'
  exact lv_if_lt hx hb hdg ht (fun _ => kt H locs ls hs hl') (fun h2 => (h2 h).elim)
theorem z_if_lt_f (X : ZX κ cc own nL ret nm l d mc ms G w0 post) {x : Int32} {off : Int} {tgt : Nat} (hdg : decode cc pc = .ok (.ifCond .lt off, 3)) (ht : (pc : Int) + off = (tgt : Int)) (h : ¬ x < 0) (kf : Z κ w lv a b (pc + 3) st) : Z κ w lv a b pc (.int x :: st) := by
  obtain ⟨p, l', e, R, s, m, args, below, meth, c, nL', G', w0', Q⟩ := κ
  obtain ⟨hx, hb, hml, hown, hts, hK, hr, hlk, hnm, rfl, rfl, rfl, rfl, rfl, hQ⟩ := X
  intro H locs ls hs hl'
  exact lv_if_lt hx hb hdg ht (fun h2 => (h h2).elim) (fun _ => kf H locs ls hs hl')
theorem z_icmp_lt (X : ZX κ cc own nL ret nm l d mc ms G w0 post) {x y : Int32} {off : Int} {tgt : Nat} {P : Prop} (hdg : decode cc pc = .ok (.if_icmp .lt off, 3)) (ht : (pc : Int) + off = (tgt : Int)) (hc : x < y ↔ P) (kt : P → Z κ w lv a b tgt st) (kf : ¬ P → Z κ w lv a b (pc + 3) st) : Z κ w lv a b pc (.int y :: .int x :: st) := by
  obtain ⟨p, l', e, R, s, m, args, below, meth, c, nL', G', w0', Q⟩ := κ
  obtain ⟨hx, hb, hml, hown, hts, hK, hr, hlk, hnm, rfl, rfl, rfl, rfl, rfl, hQ⟩ := X
  intro H locs ls hs hl'
  exact lv_icmp_lt hx hb hdg ht (fun h => kt (hc.mp h) H locs ls hs hl') (fun h => kf (fun q => h (hc.mpr q)) H locs ls hs hl')
theorem z_icmp_lt_t (X : ZX κ cc own nL ret nm l d mc ms G w0 post) {x y : Int32} {off : Int} {tgt : Nat} (hdg : decode cc pc = .ok (.if_icmp .lt off, 3)) (ht : (pc : Int) + off = (tgt : Int)) (h : x < y) (kt : Z κ w lv a b tgt st) : Z κ w lv a b pc (.int y :: .int x :: st) := by
  obtain ⟨p, l', e, R, s, m, args, below, meth, c, nL', G', w0', Q⟩ := κ
  obtain ⟨hx, hb, hml, hown, hts, hK, hr, hlk, hnm, rfl, rfl, rfl, rfl, rfl, hQ⟩ := X
  intro H locs ls hs hl'
  exact lv_icmp_lt hx hb hdg ht (fun _ => kt H locs ls hs hl') (fun h2 => (h2 h).elim)
theorem z_icmp_lt_f (X : ZX κ cc own nL ret nm l d mc ms G w0 post) {x y : Int32} {off : Int} {tgt : Nat} (hdg : decode cc pc = .ok (.if_icmp .lt off, 3)) (ht : (pc : Int) + off = (tgt : Int)) (h : ¬ x < y) (kf : Z κ w lv a b (pc + 3) st) : Z κ w lv a b pc (.int y :: .int x :: st) := by
  obtain ⟨p, l', e, R, s, m, args, below, meth, c, nL', G', w0', Q⟩ := κ
  obtain ⟨hx, hb, hml, hown, hts, hK, hr, hlk, hnm, rfl, rfl, rfl, rfl, rfl, hQ⟩ := X
  intro H locs ls hs hl'
  exact lv_icmp_lt hx hb hdg ht (fun h2 => (h h2).elim) (fun _ => kf H locs ls hs hl')
theorem z_if_ge (X : ZX κ cc own nL ret nm l d mc ms G w0 post) {x : Int32} {off : Int} {tgt : Nat} {P : Prop} (hdg : decode cc pc = .ok (.ifCond .ge off, 3)) (ht : (pc : Int) + off = (tgt : Int)) (hc : 0 ≤ x ↔ P) (kt : P → Z κ w lv a b tgt st) (kf : ¬ P → Z κ w lv a b (pc + 3) st) : Z κ w lv a b pc (.int x :: st) := by
  obtain ⟨p, l', e, R, s, m, args, below, meth, c, nL', G', w0', Q⟩ := κ
  obtain ⟨hx, hb, hml, hown, hts, hK, hr, hlk, hnm, rfl, rfl, rfl, rfl, rfl, hQ⟩ := X
  intro H locs ls hs hl'
  exact lv_if_ge hx hb hdg ht (fun h => kt (hc.mp h) H locs ls hs hl') (fun h => kf (fun q => h (hc.mpr q)) H locs ls hs hl')
theorem z_if_ge_t (X : ZX κ cc own nL ret nm l d mc ms G w0 post) {x : Int32} {off : Int} {tgt : Nat} (hdg : decode cc pc = .ok (.ifCond .ge off, 3)) (ht : (pc : Int) + off = (tgt : Int)) (h : 0 ≤ x) (kt : Z κ w lv a b tgt st) : Z κ w lv a b pc (.int x :: st) := by
  obtain ⟨p, l', e, R, s, m, args, below, meth, c, nL', G', w0', Q⟩ := κ
  obtain ⟨hx, hb, hml, hown, hts, hK, hr, hlk, hnm, rfl, rfl, rfl, rfl, rfl, hQ⟩ := X
  intro H locs ls hs hl'
  exact lv_if_ge hx hb hdg ht (fun _ => kt H locs ls hs hl') (fun h2 => (h2 h).elim)
theorem z_if_ge_f (X : ZX κ cc own nL ret nm l d mc ms G w0 post) {x : Int32} {off : Int} {tgt : Nat} (hdg : decode cc pc = .ok (.ifCond .ge off, 3)) (ht : (pc : Int) + off = (tgt : Int)) (h : ¬ 0 ≤ x) (kf : Z κ w lv a b (pc + 3) st) : Z κ w lv a b pc (.int x :: st) := by
  obtain ⟨p, l', e, R, s, m, args, below, meth, c, nL', G', w0', Q⟩ := κ
  obtain ⟨hx, hb, hml, hown, hts, hK, hr, hlk, hnm, rfl, rfl, rfl, rfl, rfl, hQ⟩ := X
  intro H locs ls hs hl'
  exact lv_if_ge hx hb hdg ht (fun h2 => (h h2).elim) (fun _ => kf H locs ls hs hl')
theorem z_icmp_ge (X : ZX κ cc own nL ret nm l d mc ms G w0 post) {x y : Int32} {off : Int} {tgt : Nat} {P : Prop} (hdg : decode cc pc = .ok (.if_icmp .ge off, 3)) (ht : (pc : Int) + off = (tgt : Int)) (hc : y ≤ x ↔ P) (kt : P → Z κ w lv a b tgt st) (kf : ¬ P → Z κ w lv a b (pc + 3) st) : Z κ w lv a b pc (.int y :: .int x :: st) := by
  obtain ⟨p, l', e, R, s, m, args, below, meth, c, nL', G', w0', Q⟩ := κ
  obtain ⟨hx, hb, hml, hown, hts, hK, hr, hlk, hnm, rfl, rfl, rfl, rfl, rfl, hQ⟩ := X
  intro H locs ls hs hl'
  exact lv_icmp_ge hx hb hdg ht (fun h => kt (hc.mp h) H locs ls hs hl') (fun h => kf (fun q => h (hc.mpr q)) H locs ls hs hl')
theorem z_icmp_ge_t (X : ZX κ cc own nL ret nm l d mc ms G w0 post) {x y : Int32} {off : Int} {tgt : Nat} (hdg : decode cc pc = .ok (.if_icmp .ge off, 3)) (ht : (pc : Int) + off = (tgt : Int)) (h : y ≤ x) (kt : Z κ w lv a b tgt st) : Z κ w lv a b pc (.int y :: .int x :: st) := by
  obtain ⟨p, l', e, R, s, m, args, below, meth, c, nL', G', w0', Q⟩ := κ
  obtain ⟨hx, hb, hml, hown, hts, hK, hr, hlk, hnm, rfl, rfl, rfl, rfl, rfl, hQ⟩ := X
  intro H locs ls hs hl'
  exact lv_icmp_ge hx hb hdg ht (fun _ => kt H locs ls hs hl') (fun h2 => (h2 h).elim)
theorem z_icmp_ge_f (X : ZX κ cc own nL ret nm l d mc ms G w0 post) {x y : Int32} {off : Int} {tgt : Nat} (hdg : decode cc pc = .ok (.if_icmp .ge off, 3)) (ht : (pc : Int) + off = (tgt : Int)) (h : ¬ y ≤ x) (kf : Z κ w lv a b (pc + 3) st) : Z κ w lv a b pc (.int y :: .int x :: st) := by
  obtain ⟨p, l', e, R, s, m, args, below, meth, c, nL', G', w0', Q⟩ := κ
  obtain ⟨hx, hb, hml, hown, hts, hK, hr, hlk, hnm, rfl, rfl, rfl, rfl, rfl, hQ⟩ := X
  intro H locs ls hs hl'
  exact lv_icmp_ge hx hb hdg ht (fun h2 => (h h2).elim) (fun _ => kf H locs ls hs hl')
theorem z_if_gt (X : ZX κ cc own nL ret nm l d mc ms G w0 post) {x : Int32} {off : Int} {tgt : Nat} {P : Prop} (hdg : decode cc pc = .ok (.ifCond .gt off, 3)) (ht : (pc : Int) + off = (tgt : Int)) (hc : 0 < x ↔ P) (kt : P → Z κ w lv a b tgt st) (kf : ¬ P → Z κ w lv a b (pc + 3) st) : Z κ w lv a b pc (.int x :: st) := by
  obtain ⟨p, l', e, R, s, m, args, below, meth, c, nL', G', w0', Q⟩ := κ
  obtain ⟨hx, hb, hml, hown, hts, hK, hr, hlk, hnm, rfl, rfl, rfl, rfl, rfl, hQ⟩ := X
  intro H locs ls hs hl'
  exact lv_if_gt hx hb hdg ht (fun h => kt (hc.mp h) H locs ls hs hl') (fun h => kf (fun q => h (hc.mpr q)) H locs ls hs hl')
theorem z_if_gt_t (X : ZX κ cc own nL ret nm l d mc ms G w0 post) {x : Int32} {off : Int} {tgt : Nat} (hdg : decode cc pc = .ok (.ifCond .gt off, 3)) (ht : (pc : Int) + off = (tgt : Int)) (h : 0 < x) (kt : Z κ w lv a b tgt st) : Z κ w lv a b pc (.int x :: st) := by
  obtain ⟨p, l', e, R, s, m, args, below, meth, c, nL', G', w0', Q⟩ := κ
  obtain ⟨hx, hb, hml, hown, hts, hK, hr, hlk, hnm, rfl, rfl, rfl, rfl, rfl, hQ⟩ := X
  intro H locs ls hs hl'
  exact lv_if_gt hx hb hdg ht (fun _ => kt H locs ls hs hl') (fun h2 => (h2 h).elim)
theorem z_if_gt_f (X : ZX κ cc own nL ret nm l d mc ms G w0 post) {x : Int32} {off : Int} {tgt : Nat} (hdg : decode cc pc = .ok (.ifCond .gt off, 3)) (ht : (pc : Int) + off = (tgt : Int)) (h : ¬ 0 < x) (kf : Z κ w lv a b (pc + 3) st) : Z κ w lv a b pc (.int x :: st) := by
  obtain ⟨p, l', e, R, s, m, args, below, meth, c, nL', G', w0', Q⟩ := κ
  obtain ⟨hx, hb, hml, hown, hts, hK, hr, hlk, hnm, rfl, rfl, rfl, rfl, rfl, hQ⟩ := X
  intro H locs ls hs hl'
  exact lv_if_gt hx hb hdg ht (fun h2 => (h h2).elim) (fun _ => kf H locs ls hs hl')
theorem z_icmp_gt (X : ZX κ cc own nL ret nm l d mc ms G w0 post) {x y : Int32} {off : Int} {tgt : Nat} {P : Prop} (hdg : decode cc pc = .ok (.if_icmp .gt off, 3)) (ht : (pc : Int) + off = (tgt : Int)) (hc : y < x ↔ P) (kt : P → Z κ w lv a b tgt st) (kf : ¬ P → Z κ w lv a b (pc + 3) st) : Z κ w lv a b pc (.int y :: .int x :: st) := by
  obtain ⟨p, l', e, R, s, m, args, below, meth, c, nL', G', w0', Q⟩ := κ
  obtain ⟨hx, hb, hml, hown, hts, hK, hr, hlk, hnm, rfl, rfl, rfl, rfl, rfl, hQ⟩ := X
  intro H locs ls hs hl'
  exact lv_icmp_gt hx hb hdg ht (fun h => kt (hc.mp h) H locs ls hs hl') (fun h => kf (fun q => h (hc.mpr q)) H locs ls hs hl')
theorem z_icmp_gt_t (X : ZX κ cc own nL ret nm l d mc ms G w0 post) {x y : Int32} {off : Int} {tgt : Nat} (hdg : decode cc pc = .ok (.if_icmp .gt off, 3)) (ht : (pc : Int) + off = (tgt : Int)) (h : y < x) (kt : Z κ w lv a b tgt st) : Z κ w lv a b pc (.int y :: .int x :: st) := by
  obtain ⟨p, l', e, R, s, m, args, below, meth, c, nL', G', w0', Q⟩ := κ
  obtain ⟨hx, hb, hml, hown, hts, hK, hr, hlk, hnm, rfl, rfl, rfl, rfl, rfl, hQ⟩ := X
  intro H locs ls hs hl'
  exact lv_icmp_gt hx hb hdg ht (fun _ => kt H locs ls hs hl') (fun h2 => (h2 h).elim)
theorem z_icmp_gt_f (X : ZX κ cc own nL ret nm l d mc ms G w0 post) {x y : Int32} {off : Int} {tgt : Nat} (hdg : decode cc pc = .ok (.if_icmp .gt off, 3)) (ht : (pc : Int) + off = (tgt : Int)) (h : ¬ y < x) (kf : Z κ w lv a b (pc + 3) st) : Z κ w lv a b pc (.int y :: .int x :: st) := by
  obtain ⟨p, l', e, R, s, m, args, below, meth, c, nL', G', w0', Q⟩ := κ
  obtain ⟨hx, hb, hml, hown, hts, hK, hr, hlk, hnm, rfl, rfl, rfl, rfl, rfl, hQ⟩ := X
  intro H locs ls hs hl'
  exact lv_icmp_gt hx hb hdg ht (fun h2 => (h h2).elim) (fun _ => kf H locs ls hs hl')
theorem z_if_le (X : ZX κ cc own nL ret nm l d mc ms G w0 post) {x : Int32} {off : Int} {tgt : Nat} {P : Prop} (hdg : decode cc pc = .ok (.ifCond .le off, 3)) (ht : (pc : Int) + off = (tgt : Int)) (hc : x ≤ 0 ↔ P) (kt : P → Z κ w lv a b tgt st) (kf : ¬ P → Z κ w lv a b (pc + 3) st) : Z κ w lv a b pc (.int x :: st) := by
  obtain ⟨p, l', e, R, s, m, args, below, meth, c, nL', G', w0', Q⟩ := κ
  obtain ⟨hx, hb, hml, hown, hts, hK, hr, hlk, hnm, rfl, rfl, rfl, rfl, rfl, hQ⟩ := X
  intro H locs ls hs hl'
  exact lv_if_le hx hb hdg ht (fun h => kt (hc.mp h) H locs ls hs hl') (fun h => kf (fun q => h (hc.mpr q)) H locs ls hs hl')
theorem z_if_le_t (X : ZX κ cc own nL ret nm l d mc ms G w0 post) {x : Int32} {off : Int} {tgt : Nat} (hdg : decode cc pc = .ok (.ifCond .le off, 3)) (ht : (pc : Int) + off = (tgt : Int)) (h : x ≤ 0) (kt : Z κ w lv a b tgt st) : Z κ w lv a b pc (.int x :: st) := by
  obtain ⟨p, l', e, R, s, m, args, below, meth, c, nL', G', w0', Q⟩ := κ
  obtain ⟨hx, hb, hml, hown, hts, hK, hr, hlk, hnm, rfl, rfl, rfl, rfl, rfl, hQ⟩ := X
  intro H locs ls hs hl'
  exact lv_if_le hx hb hdg ht (fun _ => kt H locs ls hs hl') (fun h2 => (h2 h).elim)
theorem z_if_le_f (X : ZX κ cc own nL ret nm l d mc ms G w0 post) {x : Int32} {off : Int} {tgt : Nat} (hdg : decode cc pc = .ok (.ifCond .le off, 3)) (ht : (pc : Int) + off = (tgt : Int)) (h : ¬ x ≤ 0) (kf : Z κ w lv a b (pc + 3) st) : Z κ w lv a b pc (.int x :: st) := by
  obtain ⟨p, l', e, R, s, m, args, below, meth, c, nL', G', w0', Q⟩ := κ
  obtain ⟨hx, hb, hml, hown, hts, hK, hr, hlk, hnm, rfl, rfl, rfl, rfl, rfl, hQ⟩ := X
  intro H locs ls hs hl'
  exact lv_if_le hx hb hdg ht (fun h2 => (h h2).elim) (fun _ => kf H locs ls hs hl')
theorem z_icmp_le (X : ZX κ cc own nL ret nm l d mc ms G w0 post) {x y : Int32} {off : Int} {tgt : Nat} {P : Prop} (hdg : decode cc pc = .ok (.if_icmp .le off, 3)) (ht : (pc : Int) + off = (tgt : Int)) (hc : x ≤ y ↔ P) (kt : P → Z κ w lv a b tgt st) (kf : ¬ P → Z κ w lv a b (pc + 3) st) : Z κ w lv a b pc (.int y :: .int x :: st) := by
  obtain ⟨p, l', e, R, s, m, args, below, meth, c, nL', G', w0', Q⟩ := κ
  obtain ⟨hx, hb, hml, hown, hts, hK, hr, hlk, hnm, rfl, rfl, rfl, rfl, rfl, hQ⟩ := X
  intro H locs ls hs hl'
  exact lv_icmp_le hx hb hdg ht (fun h => kt (hc.mp h) H locs ls hs hl') (fun h => kf (fun q => h (hc.mpr q)) H locs ls hs hl')
theorem z_icmp_le_t (X : ZX κ cc own nL ret nm l d mc ms G w0 post) {x y : Int32} {off : Int} {tgt : Nat} (hdg : decode cc pc = .ok (.if_icmp .le off, 3)) (ht : (pc : Int) + off = (tgt : Int)) (h : x ≤ y) (kt : Z κ w lv a b tgt st) : Z κ w lv a b pc (.int y :: .int x :: st) := by
  obtain ⟨p, l', e, R, s, m, args, below, meth, c, nL', G', w0', Q⟩ := κ
  obtain ⟨hx, hb, hml, hown, hts, hK, hr, hlk, hnm, rfl, rfl, rfl, rfl, rfl, hQ⟩ := X
  intro H locs ls hs hl'
  exact lv_icmp_le hx hb hdg ht (fun _ => kt H locs ls hs hl') (fun h2 => (h2 h).elim)
theorem z_icmp_le_f (X : ZX κ cc own nL ret nm l d mc ms G w0 post) {x y : Int32} {off : Int} {tgt : Nat} (hdg : decode cc pc = .ok (.if_icmp .le off, 3)) (ht : (pc : Int) + off = (tgt : Int)) (h : ¬ x ≤ y) (kf : Z κ w lv a b (pc + 3) st) : Z κ w lv a b pc (.int y :: .int x :: st) := by
  obtain ⟨p, l', e, R, s, m, args, below, meth, c, nL', G', w0', Q⟩ := κ
  obtain ⟨hx, hb, hml, hown, hts, hK, hr, hlk, hnm, rfl, rfl, rfl, rfl, rfl, hQ⟩ := X
  intro H locs ls hs hl'
  exact lv_icmp_le hx hb hdg ht (fun h2 => (h h2).elim) (fun _ => kf H locs ls hs hl')
theorem z_goto (X : ZX κ cc own nL ret nm l d mc ms G w0 post) {off : Int} {tgt : Nat} (hdg : decode cc pc = .ok (.goto off, 3)) (ht : (pc : Int) + off = (tgt : Int)) (k : Z κ w lv a b tgt st) : Z κ w lv a b pc st := by
  obtain ⟨p, l', e, R, s, m, args, below, meth, c, nL', G', w0', Q⟩ := κ
  obtain ⟨hx, hb, hml, hown, hts, hK, hr, hlk, hnm, rfl, rfl, rfl, rfl, rfl, hQ⟩ := X
  intro H locs ls hs hl'
  exact lv_goto hx hb hdg ht (k H locs ls hs hl')
theorem z_nonnull (X : ZX κ cc own nL ret nm l d mc ms G w0 post) {x : Nat} {off : Int} {tgt : Nat} (hdg : decode cc pc = .ok (.ifnonnull off, 3)) (ht : (pc : Int) + off = (tgt : Int)) (k : Z κ w lv a b tgt st) : Z κ w lv a b pc (.ref x :: st) := by
  obtain ⟨p, l', e, R, s, m, args, below, meth, c, nL', G', w0', Q⟩ := κ
  obtain ⟨hx, hb, hml, hown, hts, hK, hr, hlk, hnm, rfl, rfl, rfl, rfl, rfl, hQ⟩ := X
  intro H locs ls hs hl'
  exact lv_ifnonnull hx hb hdg ht (k H locs ls hs hl')
theorem z_isnull (X : ZX κ cc own nL ret nm l d mc ms G w0 post) {x : Nat} {off : Int} (hdg : decode cc pc = .ok (.ifnull off, 3)) (k : Z κ w lv a b (pc + 3) st) : Z κ w lv a b pc (.ref x :: st) := by
  obtain ⟨p, l', e, R, s, m, args, below, meth, c, nL', G', w0', Q⟩ := κ
  obtain ⟨hx, hb, hml, hown, hts, hK, hr, hlk, hnm, rfl, rfl, rfl, rfl, rfl, hQ⟩ := X
  intro H locs ls hs hl'
  exact lv_ifnull hx hb hdg (k H locs ls hs hl')
theorem z_isnullN (X : ZX κ cc own nL ret nm l d mc ms G w0 post) {off : Int} {tgt : Nat} (hdg : decode cc pc = .ok (.ifnull off, 3)) (ht : (pc : Int) + off = (tgt : Int)) (k : Z κ w lv a b tgt st) : Z κ w lv a b pc (.null :: st) := by
  obtain ⟨p, l', e, R, s, m, args, below, meth, c, nL', G', w0', Q⟩ := κ
  obtain ⟨hx, hb, hml, hown, hts, hK, hr, hlk, hnm, rfl, rfl, rfl, rfl, rfl, hQ⟩ := X
  intro H locs ls hs hl'
  exact lv_ifnullN hx hb hdg ht (k H locs ls hs hl')
theorem z_nonnullN (X : ZX κ cc own nL ret nm l d mc ms G w0 post) {off : Int} (hdg : decode cc pc = .ok (.ifnonnull off, 3)) (k : Z κ w lv a b (pc + 3) st) : Z κ w lv a b pc (.null :: st) := by
  obtain ⟨p, l', e, R, s, m, args, below, meth, c, nL', G', w0', Q⟩ := κ
  obtain ⟨hx, hb, hml, hown, hts, hK, hr, hlk, hnm, rfl, rfl, rfl, rfl, rfl, hQ⟩ := X
  intro H locs ls hs hl'
  exact lv_ifnonnullN hx hb hdg (k H locs ls hs hl')
theorem z_tabIn (X : ZX κ cc own nL ret nm l d mc ms G w0 post) {dflt lo hi : Int} {offs : Array Int} {len : Nat} {x : Int32} {off : Int} {tgt : Nat} (hdg : decode cc pc = .ok (.tableswitch dflt lo hi offs, len)) (h1 : ¬ x.toInt < lo) (h2 : ¬ hi < x.toInt) (ho : offs[(x.toInt - lo).toNat]? = some off) (ht : (pc : Int) + off = (tgt : Int)) (k : Z κ w lv a b tgt st) : Z κ w lv a b pc (.int x :: st) := by
  obtain ⟨p, l', e, R, s, m, args, below, meth, c, nL', G', w0', Q⟩ := κ
  obtain ⟨hx, hb, hml, hown, hts, hK, hr, hlk, hnm, rfl, rfl, rfl, rfl, rfl, hQ⟩ := X
  intro H locs ls hs hl'
  exact lv_tableIn hx hb hdg h1 h2 ho ht (k H locs ls hs hl')
theorem z_tabOut (X : ZX κ cc own nL ret nm l d mc ms G w0 post) {dflt lo hi : Int} {offs : Array Int} {len : Nat} {x : Int32} {tgt : Nat} (hdg : decode cc pc = .ok (.tableswitch dflt lo hi offs, len)) (h : x.toInt < lo ∨ hi < x.toInt) (ht : (pc : Int) + dflt = (tgt : Int)) (k : Z κ w lv a b tgt st) : Z κ w lv a b pc (.int x :: st) := by
  obtain ⟨p, l', e, R, s, m, args, below, meth, c, nL', G', w0', Q⟩ := κ
  obtain ⟨hx, hb, hml, hown, hts, hK, hr, hlk, hnm, rfl, rfl, rfl, rfl, rfl, hQ⟩ := X
  intro H locs ls hs hl'
  exact lv_tableOut hx hb hdg h ht (k H locs ls hs hl')
theorem z_look (X : ZX κ cc own nL ret nm l d mc ms G w0 post) {dflt : Int} {ps : Array (Int × Int)} {len : Nat} {x : Int32} {off : Int} {tgt : Nat} (hdg : decode cc pc = .ok (.lookupswitch dflt ps, len)) (hp : (ps.toList.zip (ps.toList.drop 1)).all (fun (a, next) => a.1 < next.1) = true) (ho : Op.lookupswitch.offset ps.toList dflt x.toInt = off) (ht : (pc : Int) + off = (tgt : Int)) (k : Z κ w lv a b tgt st) : Z κ w lv a b pc (.int x :: st) := by
  obtain ⟨p, l', e, R, s, m, args, below, meth, c, nL', G', w0', Q⟩ := κ
  obtain ⟨hx, hb, hml, hown, hts, hK, hr, hlk, hnm, rfl, rfl, rfl, rfl, rfl, hQ⟩ := X
  intro H locs ls hs hl'
  exact lv_lookup hx hb hdg hp ho ht (k H locs ls hs hl')
theorem z_get (X : ZX κ cc own nL ret nm l d mc ms G w0 post) {C : String} {T : u_T} {N ci i : Nat} {q : Nat} {fs : List Value} {v : Value} (hdg : decode cc pc = .ok (.getfield i, 3)) (hw : w q = some (.inr (ci, fs))) (hin : ∀ w ∈ u_ws C T N, w ∈ lw_all) (hc : CL[ci]? = some (C, T, N)) (j : Nat) (hj : j < N) (hq : Cond.fieldLink own i (T j).1 (T j).2.1 (T j).2.2.1 ∈ lw_all) (hv : fs[j]? = some v) (k : Z κ w lv a b (pc + 3) (v :: st)) : Z κ w lv a b pc (.ref q :: st) := by
  obtain ⟨p, l', e, R, s, m, args, below, meth, c, nL', G', w0', Q⟩ := κ
  obtain ⟨hx, hb, hml, hown, hts, hK, hr, hlk, hnm, rfl, rfl, rfl, rfl, rfl, hQ⟩ := X
  intro H locs ls hs hl'
  exact va_get (ref := (T j).1) hx hb hts hin hown hK.1 (hs.1.one hw) 0 rfl hc j hj (hts _ hq) (fun _ h => h) hv hdg (k H locs ls hs hl')
theorem z_getI (X : ZX κ cc own nL ret nm l d mc ms G w0 post) {ref : String} {C : String} {T : u_T} {N ci i : Nat} {q : Nat} {fs : List Value} {v : Value} (hdg : decode cc pc = .ok (.getfield i, 3)) (hw : w q = some (.inr (ci, fs))) (hin : ∀ w ∈ u_ws C T N, w ∈ lw_all) (hc : CL[ci]? = some (C, T, N)) (j : Nat) (hj : j < N) (hq : Cond.fieldLink own i ref (T j).2.1 (T j).2.2.1 ∈ lw_all) (hsm : Cond.sameField ref (T j).1 (T j).2.1 (T j).2.2.1 ∈ lw_all) (hv : fs[j]? = some v) (k : Z κ w lv a b (pc + 3) (v :: st)) : Z κ w lv a b pc (.ref q :: st) := by
  obtain ⟨p, l', e, R, s, m, args, below, meth, c, nL', G', w0', Q⟩ := κ
  obtain ⟨hx, hb, hml, hown, hts, hK, hr, hlk, hnm, rfl, rfl, rfl, rfl, rfl, hQ⟩ := X
  intro H locs ls hs hl'
  exact va_get (ref := ref) hx hb hts hin hown hK.1 (hs.1.one hw) 0 rfl hc j hj (hts _ hq) (u_same (hts _ hsm)) hv hdg (k H locs ls hs hl')
theorem z_put (X : ZX κ cc own nL ret nm l d mc ms G w0 post) {C : String} {T : u_T} {N ci i : Nat} {q : Nat} {fs : List Value} {v : Value} (hdg : decode cc pc = .ok (.putfield i, 3)) (hw : w q = some (.inr (ci, fs))) (hin : ∀ w ∈ u_ws C T N, w ∈ lw_all) (ty0 : Nat → FieldType) (hty : ∀ k, k < N → parseFieldDescriptor (T k).2.2.1 = some (ty0 k)) (hnm' : ∀ a, a < N → ∀ b, b < N → a ≠ b → (T a).2.1 ≠ (T b).2.1) (hc : CL[ci]? = some (C, T, N)) (j : Nat) (hj : j < N) (hq : Cond.fieldLink own i (T j).1 (T j).2.1 (T j).2.2.1 ∈ lw_all) (hfin : (T j).2.2.2 = false) (hn : narrow (ty0 j) v = v) (hfit : fits (ty0 j) v = true) (hl : j < fs.length) (k : Z κ (gu w q (.inr (ci, fs.set j v))) lv a b (pc + 3) st) : Z κ w lv a b pc (v :: .ref q :: st) := by
  obtain ⟨p, l', e, R, s, m, args, below, meth, c, nL', G', w0', Q⟩ := κ
  obtain ⟨hx, hb, hml, hown, hts, hK, hr, hlk, hnm, rfl, rfl, rfl, rfl, rfl, hQ⟩ := X
  intro H locs ls hs hl'
  have hap := va_apart (own := own) hts hin ty0 hty hnm' hK.1 hc
  obtain ⟨r, h1, cell, q1, q2, q3, q4⟩ := hs.1.at hw
  have hr : r = (C, T, N) := Option.some.inj (h1.symm.trans hc)
  subst hr
  obtain ⟨hS, hfc, kC, hkC, hkind⟩ := hK.1.1 ci _ hc
  obtain ⟨cf, kf, fi, f, hi, hsl⟩ := hS j hj
  have hlay := hts _ (hin _ (u_in_lay hj))
  unfold u_lay at hlay
  rw [if_neg (by rw [hfin]; decide)] at hlay
  have hst := (u_facts hfc hkC (u_lays hts hin hj) hi).1
  have h6 := u_store hfc hkC hkind hlay hi (hty j hj) hn hfit
  refine W.putK hx hb (f := f) ⟨hown, hts _ hq, ⟨_, _, _, hi⟩, hst⟩ (by rw [q2]; exact h6) q1 q3 (by rw [hsl]; exact k2_hasslot (q4 j hj)) rfl rfl hdg fun H' e1 e2 e3 => ?_
  rw [hsl] at e1 ⊢
  exact k H' _ ls (hs.put hw ⟨_, hc, t_OB.to (V := updV (vp_V fs) j v) ⟨_, e1, q2, q3, t_set q4 hap hj v⟩ (fun x _ => vp_updV_set hl v x)⟩ e2 e3) hl'
theorem z_putF (X : ZX κ cc own nL ret nm l d mc ms G w0 post) {C : String} {T : u_T} {N ci i : Nat} {q : Nat} {fs : List Value} {v : Value} (hdg : decode cc pc = .ok (.putfield i, 3)) (hw : w q = some (.inr (ci, fs))) (hin : ∀ w ∈ u_ws C T N, w ∈ lw_all) (ty0 : Nat → FieldType) (hty : ∀ k, k < N → parseFieldDescriptor (T k).2.2.1 = some (ty0 k)) (hnm' : ∀ a, a < N → ∀ b, b < N → a ≠ b → (T a).2.1 ≠ (T b).2.1) (hc : CL[ci]? = some (C, T, N)) (j : Nat) (hj : j < N) (hq : Cond.fieldLink own i (T j).1 (T j).2.1 (T j).2.2.1 ∈ lw_all) (hfin : (T j).2.2.2 = true) (hini : nm = "<init>") (hdecl : (T j).1 = own) (hn : narrow (ty0 j) v = v) (hfit : fits (ty0 j) v = true) (hl : j < fs.length) (k : Z κ (gu w q (.inr (ci, fs.set j v))) lv a b (pc + 3) st) : Z κ w lv a b pc (v :: .ref q :: st) := by
  obtain ⟨p, l', e, R, s, m, args, below, meth, c, nL', G', w0', Q⟩ := κ
  obtain ⟨hx, hb, hml, hown, hts, hK, hr, hlk, hnm, rfl, rfl, rfl, rfl, rfl, hQ⟩ := X
  intro H locs ls hs hl'
  have hap := va_apart (own := own) hts hin ty0 hty hnm' hK.1 hc
  obtain ⟨r, h1, cell, q1, q2, q3, q4⟩ := hs.1.at hw
  have hr : r = (C, T, N) := Option.some.inj (h1.symm.trans hc)
  subst hr
  obtain ⟨hS, hfc, kC, hkC, hkind⟩ := hK.1.1 ci _ hc
  obtain ⟨cf, kf, fi, f, hi, hsl⟩ := hS j hj
  have hlay := hts _ (hin _ (u_in_lay hj))
  unfold u_lay at hlay
  rw [if_pos hfin] at hlay
  have hst := (u_facts hfc hkC (u_lays hts hin hj) hi).1
  have hcf : m.cls = cf := by
    obtain ⟨_, _, c', _, _, _, -, -, hf', -, -, -, hown2, -⟩ := Cond.laysFinal_spec hlay
    have e1 : c' = cf := by have := hi.symm.trans hf'; simp at this; exact this.1.symm
    rw [hdecl] at hown2
    rw [← e1]; exact Option.some.inj (hown.symm.trans hown2)
  have h6 := u_fits hfc hkC hkind (Or.inr hlay) hi (hty j hj) hn hfit
  refine W.putFinK hx hb hown (hts _ hq) hi hst hcf (hnm.trans hini) (by rw [q2]; exact h6) q1 q3 (by rw [hsl]; exact k2_hasslot (q4 j hj)) rfl rfl hdg fun H' e1 e2 e3 => ?_
  rw [hsl] at e1 ⊢
  exact k H' _ ls (hs.put hw ⟨_, hc, t_OB.to (V := updV (vp_V fs) j v) ⟨_, e1, q2, q3, t_set q4 hap hj v⟩ (fun x _ => vp_updV_set hl v x)⟩ e2 e3) hl'
theorem z_iald (X : ZX κ cc own nL ret nm l d mc ms G w0 post) {q n : Nat} {f : Nat → Int32} {i : Int32} {v : Int32} (hdg : decode cc pc = .ok (.iaload, 1)) (hw : w q = some (.inl (G.2.1 0, n, .inl f))) (hin : vp_in i n) (hv : f i.toNatClampNeg = v) (k : Z κ w lv a b (pc + 1) (.int v :: st)) : Z κ w lv a b pc (.int i :: .ref q :: st) := by
  subst hv
  obtain ⟨p, l', e, R, s, m, args, below, meth, c, nL', G', w0', Q⟩ := κ
  obtain ⟨hx, hb, hml, hown, hts, hK, hr, hlk, hnm, rfl, rfl, rfl, rfl, rfl, hQ⟩ := X
  intro H locs ls hs hl'
  exact va_iald hx hb hK.1 (hs.1.one hw) 0 0 rfl rfl hin hdg (k H locs ls hs hl')
theorem z_iast (X : ZX κ cc own nL ret nm l d mc ms G w0 post) {q n : Nat} {f : Nat → Int32} {i : Int32} {x : Int32} (hdg : decode cc pc = .ok (.iastore, 1)) (hw : w q = some (.inl (G.2.1 0, n, .inl f))) (hin : vp_in i n) (k : Z κ (gu w q (.inl (G.2.1 0, n, .inl (upd f i.toNatClampNeg x)))) lv a b (pc + 1) st) : Z κ w lv a b pc (.int x :: .int i :: .ref q :: st) := by
  obtain ⟨p, l', e, R, s, m, args, below, meth, c, nL', G', w0', Q⟩ := κ
  obtain ⟨hx, hb, hml, hown, hts, hK, hr, hlk, hnm, rfl, rfl, rfl, rfl, rfl, hQ⟩ := X
  intro H locs ls hs hl'
  refine W.iast hx hb (hs.1.at hw) ((hK.1.2 0 _ rfl).1 n (fun j => .int (f j))) (fun q => by cases q) (by show ¬ (i < 0 ∨ (arrV _ _ _).slots.size ≤ _); rw [arrV_size]; exact hin) rfl rfl hdg fun H1 e z oq => ?_
  refine k H1 _ ls (hs.put hw ?_ z oq) hl'
  show H1[_]? = some (vp_cell _ _)
  rw [e]
  rw [vp_cell_i, vp_cell_i, arrV_store]
  congr 2
  funext q
  by_cases hq : q = i.toNatClampNeg
  · subst hq
    simp [updV, upd]
    try rfl
  · simp [updV, upd, hq]
theorem z_lald (X : ZX κ cc own nL ret nm l d mc ms G w0 post) {q n : Nat} {f : Nat → Int64} {i : Int32} {v : Int64} (hdg : decode cc pc = .ok (.laload, 1)) (hw : w q = some (.inl (G.2.1 1, n, .inr (.inl f)))) (hin : vp_in i n) (hv : f i.toNatClampNeg = v) (k : Z κ w lv a b (pc + 1) (.long v :: st)) : Z κ w lv a b pc (.int i :: .ref q :: st) := by
  subst hv
  obtain ⟨p, l', e, R, s, m, args, below, meth, c, nL', G', w0', Q⟩ := κ
  obtain ⟨hx, hb, hml, hown, hts, hK, hr, hlk, hnm, rfl, rfl, rfl, rfl, rfl, hQ⟩ := X
  intro H locs ls hs hl'
  exact va_lald hx hb hK.1 (hs.1.one hw) 0 1 rfl rfl hin hdg (k H locs ls hs hl')
theorem z_last (X : ZX κ cc own nL ret nm l d mc ms G w0 post) {q n : Nat} {f : Nat → Int64} {i : Int32} {x : Int64} (hdg : decode cc pc = .ok (.lastore, 1)) (hw : w q = some (.inl (G.2.1 1, n, .inr (.inl f)))) (hin : vp_in i n) (k : Z κ (gu w q (.inl (G.2.1 1, n, .inr (.inl (vp_updL f i.toNatClampNeg x))))) lv a b (pc + 1) st) : Z κ w lv a b pc (.long x :: .int i :: .ref q :: st) := by
  obtain ⟨p, l', e, R, s, m, args, below, meth, c, nL', G', w0', Q⟩ := κ
  obtain ⟨hx, hb, hml, hown, hts, hK, hr, hlk, hnm, rfl, rfl, rfl, rfl, rfl, hQ⟩ := X
  intro H locs ls hs hl'
  refine W.last hx hb (hs.1.at hw) ((hK.1.2 1 _ rfl).1 n (fun j => .long (f j))) (fun q => by cases q) (by show ¬ (i < 0 ∨ (arrV _ _ _).slots.size ≤ _); rw [arrV_size]; exact hin) rfl rfl hdg fun H1 e z oq => ?_
  refine k H1 _ ls (hs.put hw ?_ z oq) hl'
  show H1[_]? = some (vp_cell _ _)
  rw [e]
  rw [vp_cell_l, vp_cell_l, arrV_store]
  congr 2
  funext q
  by_cases hq : q = i.toNatClampNeg
  · subst hq
    simp [updV, vp_updL]
    try rfl
  · simp [updV, vp_updL, hq]
theorem z_bald (X : ZX κ cc own nL ret nm l d mc ms G w0 post) {q n : Nat} {f : Nat → Int32} {i : Int32} {v : Int32} (hdg : decode cc pc = .ok (.baload, 1)) (hw : w q = some (.inl (G.2.1 2, n, .inl f))) (hin : vp_in i n) (hv : f i.toNatClampNeg = v) (k : Z κ w lv a b (pc + 1) (.int v :: st)) : Z κ w lv a b pc (.int i :: .ref q :: st) := by
  subst hv
  obtain ⟨p, l', e, R, s, m, args, below, meth, c, nL', G', w0', Q⟩ := κ
  obtain ⟨hx, hb, hml, hown, hts, hK, hr, hlk, hnm, rfl, rfl, rfl, rfl, rfl, hQ⟩ := X
  intro H locs ls hs hl'
  exact va_bald hx hb hK.1 (hs.1.one hw) 0 2 rfl rfl hin hdg (k H locs ls hs hl')
theorem z_bast (X : ZX κ cc own nL ret nm l d mc ms G w0 post) {q n : Nat} {f : Nat → Int32} {i : Int32} {x : Int32} (hdg : decode cc pc = .ok (.bastore, 1)) (hw : w q = some (.inl (G.2.1 2, n, .inl f))) (hin : vp_in i n) (k : Z κ (gu w q (.inl (G.2.1 2, n, .inl (upd f i.toNatClampNeg (vp_nar .byte x))))) lv a b (pc + 1) st) : Z κ w lv a b pc (.int x :: .int i :: .ref q :: st) := by
  obtain ⟨p, l', e, R, s, m, args, below, meth, c, nL', G', w0', Q⟩ := κ
  obtain ⟨hx, hb, hml, hown, hts, hK, hr, hlk, hnm, rfl, rfl, rfl, rfl, rfl, hQ⟩ := X
  intro H locs ls hs hl'
  refine W.bast hx hb (hs.1.at hw) ((hK.1.2 2 _ rfl).1 n (fun j => .int (f j))) (fun q => by cases q) (by show ¬ (i < 0 ∨ (arrV _ _ _).slots.size ≤ _); rw [arrV_size]; exact hin) rfl rfl hdg fun H1 e z oq => ?_
  refine k H1 _ ls (hs.put hw ?_ z oq) hl'
  show H1[_]? = some (vp_cell _ _)
  rw [e]
  rw [vp_cell_i, vp_cell_i, arrV_store]
  congr 2
  funext q
  by_cases hq : q = i.toNatClampNeg
  · subst hq
    simp [updV, upd, vp_nar]
    try rfl
  · simp [updV, upd, vp_nar, hq]
theorem z_sald (X : ZX κ cc own nL ret nm l d mc ms G w0 post) {q n : Nat} {f : Nat → Int32} {i : Int32} {v : Int32} (hdg : decode cc pc = .ok (.saload, 1)) (hw : w q = some (.inl (G.2.1 3, n, .inl f))) (hin : vp_in i n) (hv : f i.toNatClampNeg = v) (k : Z κ w lv a b (pc + 1) (.int v :: st)) : Z κ w lv a b pc (.int i :: .ref q :: st) := by
  subst hv
  obtain ⟨p, l', e, R, s, m, args, below, meth, c, nL', G', w0', Q⟩ := κ
  obtain ⟨hx, hb, hml, hown, hts, hK, hr, hlk, hnm, rfl, rfl, rfl, rfl, rfl, hQ⟩ := X
  intro H locs ls hs hl'
  exact va_sald hx hb hK.1 (hs.1.one hw) 0 3 rfl rfl hin hdg (k H locs ls hs hl')
theorem z_sast (X : ZX κ cc own nL ret nm l d mc ms G w0 post) {q n : Nat} {f : Nat → Int32} {i : Int32} {x : Int32} (hdg : decode cc pc = .ok (.sastore, 1)) (hw : w q = some (.inl (G.2.1 3, n, .inl f))) (hin : vp_in i n) (k : Z κ (gu w q (.inl (G.2.1 3, n, .inl (upd f i.toNatClampNeg (vp_nar .short x))))) lv a b (pc + 1) st) : Z κ w lv a b pc (.int x :: .int i :: .ref q :: st) := by
  obtain ⟨p, l', e, R, s, m, args, below, meth, c, nL', G', w0', Q⟩ := κ
  obtain ⟨hx, hb, hml, hown, hts, hK, hr, hlk, hnm, rfl, rfl, rfl, rfl, rfl, hQ⟩ := X
  intro H locs ls hs hl'
  refine W.sast hx hb (hs.1.at hw) ((hK.1.2 3 _ rfl).1 n (fun j => .int (f j))) (fun q => by cases q) (by show ¬ (i < 0 ∨ (arrV _ _ _).slots.size ≤ _); rw [arrV_size]; exact hin) rfl rfl hdg fun H1 e z oq => ?_
  refine k H1 _ ls (hs.put hw ?_ z oq) hl'
  show H1[_]? = some (vp_cell _ _)
  rw [e]
  rw [vp_cell_i, vp_cell_i, arrV_store]
  congr 2
  funext q
  by_cases hq : q = i.toNatClampNeg
  · subst hq
    simp [updV, upd, vp_nar]
    try rfl
  · simp [updV, upd, vp_nar, hq]
theorem z_zald (X : ZX κ cc own nL ret nm l d mc ms G w0 post) {q n : Nat} {f : Nat → Int32} {i : Int32} {v : Int32} (hdg : decode cc pc = .ok (.baload, 1)) (hw : w q = some (.inl (G.2.1 4, n, .inl f))) (hin : vp_in i n) (hv : f i.toNatClampNeg = v) (k : Z κ w lv a b (pc + 1) (.int v :: st)) : Z κ w lv a b pc (.int i :: .ref q :: st) := by
  subst hv
  obtain ⟨p, l', e, R, s, m, args, below, meth, c, nL', G', w0', Q⟩ := κ
  obtain ⟨hx, hb, hml, hown, hts, hK, hr, hlk, hnm, rfl, rfl, rfl, rfl, rfl, hQ⟩ := X
  intro H locs ls hs hl'
  exact va_zald hx hb hK.1 (hs.1.one hw) 0 4 rfl rfl hin hdg (k H locs ls hs hl')
theorem z_zast (X : ZX κ cc own nL ret nm l d mc ms G w0 post) {q n : Nat} {f : Nat → Int32} {i : Int32} {x : Int32} (hdg : decode cc pc = .ok (.bastore, 1)) (hw : w q = some (.inl (G.2.1 4, n, .inl f))) (hin : vp_in i n) (k : Z κ (gu w q (.inl (G.2.1 4, n, .inl (upd f i.toNatClampNeg (vp_nar .boolean x))))) lv a b (pc + 1) st) : Z κ w lv a b pc (.int x :: .int i :: .ref q :: st) := by
  obtain ⟨p, l', e, R, s, m, args, below, meth, c, nL', G', w0', Q⟩ := κ
  obtain ⟨hx, hb, hml, hown, hts, hK, hr, hlk, hnm, rfl, rfl, rfl, rfl, rfl, hQ⟩ := X
  intro H locs ls hs hl'
  refine W.zast hx hb (hs.1.at hw) ((hK.1.2 4 _ rfl).1 n (fun j => .int (f j))) (fun q => by cases q) (by show ¬ (i < 0 ∨ (arrV _ _ _).slots.size ≤ _); rw [arrV_size]; exact hin) rfl rfl hdg fun H1 e z oq => ?_
  refine k H1 _ ls (hs.put hw ?_ z oq) hl'
  show H1[_]? = some (vp_cell _ _)
  rw [e]
  rw [vp_cell_i, vp_cell_i, arrV_store]
  congr 2
  funext q
  by_cases hq : q = i.toNatClampNeg
  · subst hq
    simp [updV, upd, vp_nar]
    try rfl
  · simp [updV, upd, vp_nar, hq]
theorem z_cald (X : ZX κ cc own nL ret nm l d mc ms G w0 post) {q n : Nat} {f : Nat → Int32} {i : Int32} {v : Int32} (hdg : decode cc pc = .ok (.caload, 1)) (hw : w q = some (.inl (G.2.1 8, n, .inl f))) (hin : vp_in i n) (hv : f i.toNatClampNeg = v) (k : Z κ w lv a b (pc + 1) (.int v :: st)) : Z κ w lv a b pc (.int i :: .ref q :: st) := by
  subst hv
  obtain ⟨p, l', e, R, s, m, args, below, meth, c, nL', G', w0', Q⟩ := κ
  obtain ⟨hx, hb, hml, hown, hts, hK, hr, hlk, hnm, rfl, rfl, rfl, rfl, rfl, hQ⟩ := X
  intro H locs ls hs hl'
  exact va_cald hx hb hK.1 (hs.1.one hw) 0 8 rfl rfl hin hdg (k H locs ls hs hl')
theorem z_cast (X : ZX κ cc own nL ret nm l d mc ms G w0 post) {q n : Nat} {f : Nat → Int32} {i : Int32} {x : Int32} (hdg : decode cc pc = .ok (.castore, 1)) (hw : w q = some (.inl (G.2.1 8, n, .inl f))) (hin : vp_in i n) (k : Z κ (gu w q (.inl (G.2.1 8, n, .inl (upd f i.toNatClampNeg (vp_nar .char x))))) lv a b (pc + 1) st) : Z κ w lv a b pc (.int x :: .int i :: .ref q :: st) := by
  obtain ⟨p, l', e, R, s, m, args, below, meth, c, nL', G', w0', Q⟩ := κ
  obtain ⟨hx, hb, hml, hown, hts, hK, hr, hlk, hnm, rfl, rfl, rfl, rfl, rfl, hQ⟩ := X
  intro H locs ls hs hl'
  refine W.cast hx hb (hs.1.at hw) ((hK.1.2 8 _ rfl).1 n (fun j => .int (f j))) (fun q => by cases q) (by show ¬ (i < 0 ∨ (arrV _ _ _).slots.size ≤ _); rw [arrV_size]; exact hin) rfl rfl hdg fun H1 e z oq => ?_
  refine k H1 _ ls (hs.put hw ?_ z oq) hl'
  show H1[_]? = some (vp_cell _ _)
  rw [e]
  rw [vp_cell_i, vp_cell_i, arrV_store]
  congr 2
  funext q
  by_cases hq : q = i.toNatClampNeg
  · subst hq
    simp [updV, upd, vp_nar]
    try rfl
  · simp [updV, upd, vp_nar, hq]
theorem z_aald5 (X : ZX κ cc own nL ret nm l d mc ms G w0 post) {q n : Nat} {f : Nat → Option Nat} {i : Int32} {v : Value} (hdg : decode cc pc = .ok (.aaload, 1)) (hw : w q = some (.inl (G.2.1 5, n, .inr (.inr (.inr (.inr f)))))) (hin : vp_in i n) (hv : va_rf (f i.toNatClampNeg) = v) (k : Z κ w lv a b (pc + 1) (v :: st)) : Z κ w lv a b pc (.int i :: .ref q :: st) := by
  subst hv
  obtain ⟨p, l', e, R, s, m, args, below, meth, c, nL', G', w0', Q⟩ := κ
  obtain ⟨hx, hb, hml, hown, hts, hK, hr, hlk, hnm, rfl, rfl, rfl, rfl, rfl, hQ⟩ := X
  intro H locs ls hs hl'
  have hlt : i.toNatClampNeg < n := Nat.not_le.mp fun q => hin (Or.inr q)
  exact W.aald (v := va_rf (f i.toNatClampNeg)) (ty := .array .int) hx hb (hs.1.at hw) ((hK.1.2 5 _ rfl).1 n (fun j => va_rf (f j))) rfl (fun q => by cases q) (by show ¬ (i < 0 ∨ (arrV _ _ _).slots.size ≤ _); rw [arrV_size]; exact hin) (by show (arrV _ _ _).slots[_]? = _; rw [arrV_read _ _ hlt]) rfl rfl hdg (k H locs ls hs hl')
theorem z_aald6 (X : ZX κ cc own nL ret nm l d mc ms G w0 post) {q n : Nat} {f : Nat → Option Nat} {i : Int32} {v : Value} (hdg : decode cc pc = .ok (.aaload, 1)) (hw : w q = some (.inl (G.2.1 6, n, .inr (.inr (.inr (.inr f)))))) (hin : vp_in i n) (hv : va_rf (f i.toNatClampNeg) = v) (k : Z κ w lv a b (pc + 1) (v :: st)) : Z κ w lv a b pc (.int i :: .ref q :: st) := by
  subst hv
  obtain ⟨p, l', e, R, s, m, args, below, meth, c, nL', G', w0', Q⟩ := κ
  obtain ⟨hx, hb, hml, hown, hts, hK, hr, hlk, hnm, rfl, rfl, rfl, rfl, rfl, hQ⟩ := X
  intro H locs ls hs hl'
  have hlt : i.toNatClampNeg < n := Nat.not_le.mp fun q => hin (Or.inr q)
  exact W.aald (v := va_rf (f i.toNatClampNeg)) (ty := .array .long) hx hb (hs.1.at hw) ((hK.1.2 6 _ rfl).1 n (fun j => va_rf (f j))) rfl (fun q => by cases q) (by show ¬ (i < 0 ∨ (arrV _ _ _).slots.size ≤ _); rw [arrV_size]; exact hin) (by show (arrV _ _ _).slots[_]? = _; rw [arrV_read _ _ hlt]) rfl rfl hdg (k H locs ls hs hl')
theorem z_aald7 (X : ZX κ cc own nL ret nm l d mc ms G w0 post) {q n : Nat} {f : Nat → Option Nat} {i : Int32} {v : Value} (hdg : decode cc pc = .ok (.aaload, 1)) (hw : w q = some (.inl (G.2.1 7, n, .inr (.inr (.inr (.inr f)))))) (hin : vp_in i n) (hv : va_rf (f i.toNatClampNeg) = v) (k : Z κ w lv a b (pc + 1) (v :: st)) : Z κ w lv a b pc (.int i :: .ref q :: st) := by
  subst hv
  obtain ⟨p, l', e, R, s, m, args, below, meth, c, nL', G', w0', Q⟩ := κ
  obtain ⟨hx, hb, hml, hown, hts, hK, hr, hlk, hnm, rfl, rfl, rfl, rfl, rfl, hQ⟩ := X
  intro H locs ls hs hl'
  have hlt : i.toNatClampNeg < n := Nat.not_le.mp fun q => hin (Or.inr q)
  exact W.aald (v := va_rf (f i.toNatClampNeg)) (ty := .object "ThreeSizes$Sheet") hx hb (hs.1.at hw) ((hK.1.2 7 _ rfl).1 n (fun j => va_rf (f j))) rfl (fun q => by cases q) (by show ¬ (i < 0 ∨ (arrV _ _ _).slots.size ≤ _); rw [arrV_size]; exact hin) (by show (arrV _ _ _).slots[_]? = _; rw [arrV_read _ _ hlt]) rfl rfl hdg (k H locs ls hs hl')
theorem z_alen (X : ZX κ cc own nL ret nm l d mc ms G w0 post) {q t : Nat} {cA : ClassId} {x : vp_A} {ty : FieldType} {v : Int32} (hdg : decode cc pc = .ok (.arraylength, 1)) (hw : w q = some (.inl (cA, x))) (ht : (TYS G.2.1)[t]? = some (cA, ty)) (hv : Int32.ofNat x.1 = v) (k : Z κ w lv a b (pc + 1) (.int v :: st)) : Z κ w lv a b pc (.ref q :: st) := by
  obtain ⟨p, l', e, R, s, m, args, below, meth, c, nL', G', w0', Q⟩ := κ
  obtain ⟨hx, hb, hml, hown, hts, hK, hr, hlk, hnm, rfl, rfl, rfl, rfl, rfl, hQ⟩ := X
  intro H locs ls hs hl'
  exact va_alen hx hb hK.1 (hs.1.one hw) 0 t rfl ht hv hdg (k H locs ls hs hl')
theorem z_newi (X : ZX κ cc own nL ret nm l d mc ms G w0 post) {n : Int32} (N : Nat) (hdg : decode cc pc = .ok (.newarray .int, 2)) (harr : Cond.arrayClass .int ∈ lw_all) (hn : ¬ n < 0) (hN : n.toNatClampNeg = N) (hby : N * componentBytes .int ≤ 536870912) (hk : a + 1 ≤ mc) (hsl : b + N ≤ ms) (k : ∀ q : Nat, w q = none → Z κ (gu w q (.inl (G.2.1 0, N, .inl (fun _ => 0)))) lv (a + 1) (b + N) (pc + 2) (.ref q :: st)) : Z κ w lv a b pc (.int n :: st) := by
  obtain ⟨p, l', e, R, s, m, args, below, meth, c, nL', G', w0', Q⟩ := κ
  obtain ⟨hx, hb, hml, hown, hts, hK, hr, hlk, hnm, rfl, rfl, rfl, rfl, rfl, hQ⟩ := X
  intro H locs ls hs hl'
  refine va_newaK (atype := .int) hx hb (hts _ harr) rfl hdg rfl hn hN hby hk hsl rfl fun H1 cA e1 z1 o1 hAr hNm => ?_
  have hc : G'.2.1 0 = cA := Option.some.inj ((hK.1.2 0 _ rfl).2.symm.trans hNm)
  subst hc
  refine k H.size hs.1.fresh H1 locs ls (hs.push ?_ z1 o1) hl'
  show H1[H.size]? = some (vp_cell _ _)
  rw [e1]
  rfl
theorem z_newl (X : ZX κ cc own nL ret nm l d mc ms G w0 post) {n : Int32} (N : Nat) (hdg : decode cc pc = .ok (.newarray .long, 2)) (harr : Cond.arrayClass .long ∈ lw_all) (hn : ¬ n < 0) (hN : n.toNatClampNeg = N) (hby : N * componentBytes .long ≤ 536870912) (hk : a + 1 ≤ mc) (hsl : b + N ≤ ms) (k : ∀ q : Nat, w q = none → Z κ (gu w q (.inl (G.2.1 1, N, .inr (.inl (fun _ => 0))))) lv (a + 1) (b + N) (pc + 2) (.ref q :: st)) : Z κ w lv a b pc (.int n :: st) := by
  obtain ⟨p, l', e, R, s, m, args, below, meth, c, nL', G', w0', Q⟩ := κ
  obtain ⟨hx, hb, hml, hown, hts, hK, hr, hlk, hnm, rfl, rfl, rfl, rfl, rfl, hQ⟩ := X
  intro H locs ls hs hl'
  refine va_newaK (atype := .long) hx hb (hts _ harr) rfl hdg rfl hn hN hby hk hsl rfl fun H1 cA e1 z1 o1 hAr hNm => ?_
  have hc : G'.2.1 1 = cA := Option.some.inj ((hK.1.2 1 _ rfl).2.symm.trans hNm)
  subst hc
  refine k H.size hs.1.fresh H1 locs ls (hs.push ?_ z1 o1) hl'
  show H1[H.size]? = some (vp_cell _ _)
  rw [e1]
  rfl
theorem z_newb (X : ZX κ cc own nL ret nm l d mc ms G w0 post) {n : Int32} (N : Nat) (hdg : decode cc pc = .ok (.newarray .byte, 2)) (harr : Cond.arrayClass .byte ∈ lw_all) (hn : ¬ n < 0) (hN : n.toNatClampNeg = N) (hby : N * componentBytes .byte ≤ 536870912) (hk : a + 1 ≤ mc) (hsl : b + N ≤ ms) (k : ∀ q : Nat, w q = none → Z κ (gu w q (.inl (G.2.1 2, N, .inl (fun _ => 0)))) lv (a + 1) (b + N) (pc + 2) (.ref q :: st)) : Z κ w lv a b pc (.int n :: st) := by
  obtain ⟨p, l', e, R, s, m, args, below, meth, c, nL', G', w0', Q⟩ := κ
  obtain ⟨hx, hb, hml, hown, hts, hK, hr, hlk, hnm, rfl, rfl, rfl, rfl, rfl, hQ⟩ := X
  intro H locs ls hs hl'
  refine va_newaK (atype := .byte) hx hb (hts _ harr) rfl hdg rfl hn hN hby hk hsl rfl fun H1 cA e1 z1 o1 hAr hNm => ?_
  have hc : G'.2.1 2 = cA := Option.some.inj ((hK.1.2 2 _ rfl).2.symm.trans hNm)
  subst hc
  refine k H.size hs.1.fresh H1 locs ls (hs.push ?_ z1 o1) hl'
  show H1[H.size]? = some (vp_cell _ _)
  rw [e1]
  rfl
theorem z_news (X : ZX κ cc own nL ret nm l d mc ms G w0 post) {n : Int32} (N : Nat) (hdg : decode cc pc = .ok (.newarray .short, 2)) (harr : Cond.arrayClass .short ∈ lw_all) (hn : ¬ n < 0) (hN : n.toNatClampNeg = N) (hby : N * componentBytes .short ≤ 536870912) (hk : a + 1 ≤ mc) (hsl : b + N ≤ ms) (k : ∀ q : Nat, w q = none → Z κ (gu w q (.inl (G.2.1 3, N, .inl (fun _ => 0)))) lv (a + 1) (b + N) (pc + 2) (.ref q :: st)) : Z κ w lv a b pc (.int n :: st) := by
  obtain ⟨p, l', e, R, s, m, args, below, meth, c, nL', G', w0', Q⟩ := κ
  obtain ⟨hx, hb, hml, hown, hts, hK, hr, hlk, hnm, rfl, rfl, rfl, rfl, rfl, hQ⟩ := X
  intro H locs ls hs hl'
  refine va_newaK (atype := .short) hx hb (hts _ harr) rfl hdg rfl hn hN hby hk hsl rfl fun H1 cA e1 z1 o1 hAr hNm => ?_
  have hc : G'.2.1 3 = cA := Option.some.inj ((hK.1.2 3 _ rfl).2.symm.trans hNm)
  subst hc
  refine k H.size hs.1.fresh H1 locs ls (hs.push ?_ z1 o1) hl'
  show H1[H.size]? = some (vp_cell _ _)
  rw [e1]
  rfl
theorem z_newz (X : ZX κ cc own nL ret nm l d mc ms G w0 post) {n : Int32} (N : Nat) (hdg : decode cc pc = .ok (.newarray .boolean, 2)) (harr : Cond.arrayClass .boolean ∈ lw_all) (hn : ¬ n < 0) (hN : n.toNatClampNeg = N) (hby : N * componentBytes .boolean ≤ 536870912) (hk : a + 1 ≤ mc) (hsl : b + N ≤ ms) (k : ∀ q : Nat, w q = none → Z κ (gu w q (.inl (G.2.1 4, N, .inl (fun _ => 0)))) lv (a + 1) (b + N) (pc + 2) (.ref q :: st)) : Z κ w lv a b pc (.int n :: st) := by
  obtain ⟨p, l', e, R, s, m, args, below, meth, c, nL', G', w0', Q⟩ := κ
  obtain ⟨hx, hb, hml, hown, hts, hK, hr, hlk, hnm, rfl, rfl, rfl, rfl, rfl, hQ⟩ := X
  intro H locs ls hs hl'
  refine va_newaK (atype := .boolean) hx hb (hts _ harr) rfl hdg rfl hn hN hby hk hsl rfl fun H1 cA e1 z1 o1 hAr hNm => ?_
  have hc : G'.2.1 4 = cA := Option.some.inj ((hK.1.2 4 _ rfl).2.symm.trans hNm)
  subst hc
  refine k H.size hs.1.fresh H1 locs ls (hs.push ?_ z1 o1) hl'
  show H1[H.size]? = some (vp_cell _ _)
  rw [e1]
  rfl
theorem z_new (X : ZX κ cc own nL ret nm l d mc ms G w0 post) {C : String} {T : u_T} {N ci i : Nat} {fs : List Value} (hdg : decode cc pc = .ok (.new i, 3)) (hin : ∀ w ∈ u_ws C T N, w ∈ lw_all) (ty0 : Nat → FieldType) (hty : ∀ k, k < N → parseFieldDescriptor (T k).2.2.1 = some (ty0 k)) (hcl : Cond.classLink own i C ∈ lw_all) (hinst : Cond.instantiable C N ∈ lw_all) (hini : Cond.initialized C ∈ lw_all) (hc : CL[ci]? = some (C, T, N)) (hfs : ∀ j, j < N → defaultValue (ty0 j) = vp_V fs j) (hk : a + 1 ≤ mc) (hsl : b + N ≤ ms) (k : ∀ q : Nat, w q = none → Z κ (gu w q (.inr (ci, fs))) lv (a + 1) (b + N) (pc + 3) (.ref q :: st)) : Z κ w lv a b pc st := by
  obtain ⟨p, l', e, R, s, m, args, below, meth, c, nL', G', w0', Q⟩ := κ
  obtain ⟨hx, hb, hml, hown, hts, hK, hr, hlk, hnm, rfl, rfl, rfl, rfl, rfl, hQ⟩ := X
  intro H locs ls hs hl'
  have hKn := hK.1.1 ci _ hc
  refine W.newcK hx hb hown (hts _ hcl) (hts _ hinst) (hts _ hini) rfl hdg hk hsl hKn.2.1 rfl fun H1 kC hkC e1 z1 o1 => ?_
  exact k H.size hs.1.fresh H1 locs ls (hs.push ⟨_, hc, (u_born ty0 hts hin hKn hkC e1 hty).to hfs⟩ z1 o1) hl'
theorem z_iret (X : ZX κ cc own nL (some .int) nm l d mc ms G w0 post) {v : Int32} (hdg : decode cc pc = .ok (.ireturn, 1)) (hk : a ≤ mc) (hsl : b ≤ ms) (h : post (some (.int v)) w) : Z κ w lv a b pc [.int v] := by
  obtain ⟨p, l', e, R, s, m, args, below, meth, c, nL', G', w0', Q⟩ := κ
  obtain ⟨hx, hb, hml, hown, hts, hK, hr, hlk, hnm, rfl, rfl, rfl, rfl, rfl, hQ⟩ := X
  intro H locs ls hs hl'
  refine W.widen hk hsl (W_mono hQ ?_)
  exact W.iret hx hb hr (fun t ht hW => ⟨⟨_, w, rfl, h, by rw [ht]; exact hs.1, hs.2.1⟩, hs.2.2.F ht⟩) hs.2.2.2.2 hdg
theorem z_lret (X : ZX κ cc own nL (some .long) nm l d mc ms G w0 post) {v : Int64} (hdg : decode cc pc = .ok (.lreturn, 1)) (hk : a ≤ mc) (hsl : b ≤ ms) (h : post (some (.long v)) w) : Z κ w lv a b pc [.long v] := by
  obtain ⟨p, l', e, R, s, m, args, below, meth, c, nL', G', w0', Q⟩ := κ
  obtain ⟨hx, hb, hml, hown, hts, hK, hr, hlk, hnm, rfl, rfl, rfl, rfl, rfl, hQ⟩ := X
  intro H locs ls hs hl'
  refine W.widen hk hsl (W_mono hQ ?_)
  exact W.lret hx hb hr (fun t ht hW => ⟨⟨_, w, rfl, h, by rw [ht]; exact hs.1, hs.2.1⟩, hs.2.2.F ht⟩) hs.2.2.2.2 hdg
theorem z_zret (X : ZX κ cc own nL (some .boolean) nm l d mc ms G w0 post) {v : Int32} (hdg : decode cc pc = .ok (.ireturn, 1)) (hk : a ≤ mc) (hsl : b ≤ ms) (hn : narrow .boolean (.int v) = .int v) (h : post (some (.int v)) w) : Z κ w lv a b pc [.int v] := by
  obtain ⟨p, l', e, R, s, m, args, below, meth, c, nL', G', w0', Q⟩ := κ
  obtain ⟨hx, hb, hml, hown, hts, hK, hr, hlk, hnm, rfl, rfl, rfl, rfl, rfl, hQ⟩ := X
  intro H locs ls hs hl'
  refine W.widen hk hsl (W_mono hQ ?_)
  exact W.zret hx hb hr hn (fun t ht hW => ⟨⟨_, w, rfl, h, by rw [ht]; exact hs.1, hs.2.1⟩, hs.2.2.F ht⟩) hs.2.2.2.2 hdg
theorem z_vret (X : ZX κ cc own nL none nm l d mc ms G w0 post) (hdg : decode cc pc = .ok (.return_, 1)) (hk : a ≤ mc) (hsl : b ≤ ms) (h : post none w) : Z κ w lv a b pc [] := by
  obtain ⟨p, l', e, R, s, m, args, below, meth, c, nL', G', w0', Q⟩ := κ
  obtain ⟨hx, hb, hml, hown, hts, hK, hr, hlk, hnm, rfl, rfl, rfl, rfl, rfl, hQ⟩ := X
  intro H locs ls hs hl'
  refine W.widen hk hsl (W_mono hQ ?_)
  exact W.vret hx hb hr (fun t ht hW => ⟨⟨_, w, rfl, h, by rw [ht]; exact hs.1, hs.2.1⟩, hs.2.2.F ht⟩) hs.2.2.2.2 hdg
theorem z_aret {rt : FieldType} (X : ZX κ cc own nL (some rt) nm l d mc ms G w0 post) {q : Nat} (hdg : decode cc pc = .ok (.areturn, 1)) (hrt : (∃ n, rt = .object n) ∨ ∃ t, rt = .array t) (hk : a ≤ mc) (hsl : b ≤ ms) (h : post (some (.ref q)) w) : Z κ w lv a b pc [.ref q] := by
  obtain ⟨p, l', e, R, s, m, args, below, meth, c, nL', G', w0', Q⟩ := κ
  obtain ⟨hx, hb, hml, hown, hts, hK, hr, hlk, hnm, rfl, rfl, rfl, rfl, rfl, hQ⟩ := X
  intro H locs ls hs hl'
  refine W.widen hk hsl (W_mono hQ ?_)
  exact W.aret hx hb hr hrt (Or.inr ⟨_, rfl⟩) (fun t ht hW => ⟨⟨_, w, rfl, h, by rw [ht]; exact hs.1, hs.2.1⟩, hs.2.2.F ht⟩) hs.2.2.2.2 hdg
theorem z_aretN {rt : FieldType} (X : ZX κ cc own nL (some rt) nm l d mc ms G w0 post) (hdg : decode cc pc = .ok (.areturn, 1)) (hrt : (∃ n, rt = .object n) ∨ ∃ t, rt = .array t) (hk : a ≤ mc) (hsl : b ≤ ms) (h : post (some .null) w) : Z κ w lv a b pc [.null] := by
  obtain ⟨p, l', e, R, s, m, args, below, meth, c, nL', G', w0', Q⟩ := κ
  obtain ⟨hx, hb, hml, hown, hts, hK, hr, hlk, hnm, rfl, rfl, rfl, rfl, rfl, hQ⟩ := X
  intro H locs ls hs hl'
  refine W.widen hk hsl (W_mono hQ ?_)
  exact W.aret hx hb hr hrt (Or.inl rfl) (fun t ht hW => ⟨⟨_, w, rfl, h, by rw [ht]; exact hs.1, hs.2.1⟩, hs.2.2.F ht⟩) hs.2.2.2.2 hdg
theorem z_objInit (X : ZX κ cc own nL ret nm l d mc ms G w0 post) {i q : Nat} (hdg : decode cc pc = .ok (.invokespecial i, 3)) (hq : Cond.methodLink own i Lib.objectInit ∈ lw_all) (hq2 : Cond.instanceMethod Lib.objectInit ∈ lw_all) (hq3 : Cond.code Lib.objectInit ⟨#[0xb1]⟩ 1 none ∈ lw_all) (hd : 1 ≤ d) (hst : (st.map fun v => v.category).sum ≤ 8) (k : Z κ w lv a b (pc + 3) st) : Z κ w lv a b pc (.ref q :: st) := by
  obtain ⟨p, l', e, R, s, m, args, below, meth, c, nL', G', w0', Q⟩ := κ
  obtain ⟨hx, hb, hml, hown, hts, hK, hr, hlk, hnm, rfl, rfl, rfl, rfl, rfl, hQ⟩ := X
  intro H locs ls hs hl'
  refine W.objInit hx hb hown (hts _ hq) (hts _ hq2) (hts _ hq3) rfl (by rw [hml]; exact hl'.1) rfl hdg hd ?_ (k H locs ls hs hl')
  have := lv_room (m := m) (pc := pc) (ls := ls) (rest := .ref q :: st) (st := st) hst
  show _ ≤ 64 * d
  omega
/-- a call that comes back -/
def zRun (κ : ZK) (w : GW) (lv : List (Nat × Value)) (a b pc : Nat) (st rest : List Value) (mc' ms' : Nat) (post' : Option Value → GW → Prop) : Prop := match κ with
  | (p, l, e, R, s, m, args, below, meth, c, nL, G, w0, _) => ∀ (H : Heap) (locs : List Loc) (ls : Array Slot), gS G w0 s.heap w H locs → lv_has ls nL lv → ∃ aa, va_Run p l e R s m args below meth c H locs a b mc' ms' (F0 m pc ls st) rest (gQ G w H.size post' aa) (gA w H.size)
theorem z_call {mc' ms' : Nat} {post' : Option Value → GW → Prop} (hr : zRun κ w lv a b pc st rest mc' ms' post') (k : ∀ (v : Option Value) (w1 : GW), post' v w1 → Z κ w1 lv (a + mc') (b + ms') (pc + 3) (v.toList ++ rest)) : Z κ w lv a b pc st := by
  obtain ⟨p, l', e, R, s, m, args, below, meth, c, nL', G', w0', Q⟩ := κ
  intro H locs ls hs hl' T hT X
  obtain ⟨aa, hr⟩ := hr H locs ls hs hl'
  obtain ⟨v, st₀, t, T', L, h0, X', hL, e1, e2, ⟨⟨v', w1, hv, hp, hP1, hd1⟩, hz, hk⟩, go⟩ := hr T hT X
  cases hv
  rw [h0] at hz hk
  obtain ⟨t2, a1, b1⟩ := k v w1 hp T'.heap (locs ++ L) ls (hs.call (by rw [e1]; exact hP1) hd1 (by rw [e1]; exact hz) (fun q h1 h2 => by rw [e1]; exact hk q h1 h2) hL) hl' T' rfl X'
  exact ⟨t2, go t2 a1, b1⟩
theorem z_ci {mc' ms' : Nat} {f : Int32 → GW → Prop} (hr : zRun κ w lv a b pc st rest mc' ms' (pI f)) (k : ∀ (r : Int32) (w : GW), f r w → Z κ w lv (a + mc') (b + ms') (pc + 3) (.int r :: rest)) : Z κ w lv a b pc st := by
  refine z_call hr fun v w1 h => ?_
  obtain ⟨r, rfl, h⟩ := h
  exact k r w1 h
theorem z_cl {mc' ms' : Nat} {f : Int64 → GW → Prop} (hr : zRun κ w lv a b pc st rest mc' ms' (pL f)) (k : ∀ (r : Int64) (w : GW), f r w → Z κ w lv (a + mc') (b + ms') (pc + 3) (.long r :: rest)) : Z κ w lv a b pc st := by
  refine z_call hr fun v w1 h => ?_
  obtain ⟨r, rfl, h⟩ := h
  exact k r w1 h
theorem z_ca {mc' ms' : Nat} {f : Nat → GW → Prop} (hr : zRun κ w lv a b pc st rest mc' ms' (pA f)) (k : ∀ (r : Nat) (w : GW), f r w → Z κ w lv (a + mc') (b + ms') (pc + 3) (.ref r :: rest)) : Z κ w lv a b pc st := by
  refine z_call hr fun v w1 h => ?_
  obtain ⟨r, rfl, h⟩ := h
  exact k r w1 h
theorem z_cq {mc' ms' : Nat} {f : Option Nat → GW → Prop} (hr : zRun κ w lv a b pc st rest mc' ms' (pQ f)) (k : ∀ (r : Option Nat) (w : GW), f r w → Z κ w lv (a + mc') (b + ms') (pc + 3) (va_rf r :: rest)) : Z κ w lv a b pc st := by
  refine z_call hr fun v w1 h => ?_
  obtain ⟨r, rfl, h⟩ := h
  exact k r w1 h
theorem z_cv {mc' ms' : Nat} {f : GW → Prop} (hr : zRun κ w lv a b pc st rest mc' ms' (pV f)) (k : ∀ (w : GW), f w → Z κ w lv (a + mc') (b + ms') (pc + 3) rest) : Z κ w lv a b pc st := by
  refine z_call hr fun v w1 h => ?_
  obtain ⟨rfl, h⟩ := h
  exact k w1 h
theorem z_runV (X : ZX κ cc own nL ret nm l d mc ms G w0 post) {y : MethodName} {bytes : ByteArray} {maxL : Nat} {ret' : Option FieldType} {d' mc' ms' i n : Nat} {post' : Option Value → GW → Prop} {C : String} {T : u_T} {N ci : Nat} {fs : List Value} (As : List Value) {q : Nat} (hM : gM l G y bytes maxL ret' d' mc' ms' (.ref q :: As) w post') (hdg : decode cc pc = .ok (.invokevirtual i, 3)) (hw : w q = some (.inr (ci, fs))) (hc : CL[ci]? = some (C, T, N)) (hT : GoodIn lw_all (wsV own i C y (ws_ y bytes maxL ret'))) (hd : y.cls = C ∧ y.cls ≠ "java/lang/invoke/MethodHandle" ∧ y.cls ≠ "java/lang/invoke/VarHandle" ∧ (parseMethodDescriptor y.desc).map (fun d => d.parameters.length) = some n) (hn : As.length = n) (hg : d' + 1 ≤ d ∧ 8 + (maxL + 11) + 64 * d' ≤ 64 * d) (hf : a + mc' ≤ mc ∧ b + ms' ≤ ms) (hst : st = As.reverse ++ .ref q :: rest) (hW : (rest.map fun v => v.category).sum ≤ 8) : zRun κ w lv a b pc st rest mc' ms' post' := by
  obtain ⟨p, l', e, R, s, m, args, below, meth, c, nL', G', w0', Q⟩ := κ
  obtain ⟨hx, hb, hml, hown, hts, hK, hr, hlk, hnm, rfl, rfl, rfl, rfl, rfl, hQ⟩ := X
  intro H locs ls hs hl'
  exact ⟨_, va_runV (As := As) (rest := rest) ⟨hx, hb, hml, hown, hts⟩ (hM H.size) (cwV n hts hT rfl rfl rfl hd hg) ⟨gPc.blind, va_recv hK.1 (hs.1.one hw) hc (q0 := 0) rfl, fun U hU hW => ⟨rfl, by rw [hU], by rw [hU]; exact hs.1, gK.moved hW hK⟩⟩ rfl hn hl'.1 hst (lv_room hW) hdg hf⟩
theorem z_runS (X : ZX κ cc own nL ret nm l d mc ms G w0 post) {y : MethodName} {bytes : ByteArray} {maxL : Nat} {ret' : Option FieldType} {d' mc' ms' i n : Nat} {post' : Option Value → GW → Prop} (As : List Value) (hM : gM l G y bytes maxL ret' d' mc' ms' As w post') (hdg : decode cc pc = .ok (.invokestatic i, 3)) (hT : GoodIn lw_all (va_wsS own i y (ws_ y bytes maxL ret'))) (hd : y.cls ≠ "java/lang/invoke/MethodHandle" ∧ y.cls ≠ "java/lang/invoke/VarHandle" ∧ (parseMethodDescriptor y.desc).map (fun d => d.parameters.length) = some n) (hn : As.length = n) (hg : d' + 1 ≤ d ∧ 8 + (maxL + 11) + 64 * d' ≤ 64 * d) (hf : a + mc' ≤ mc ∧ b + ms' ≤ ms) (hst : st = As.reverse ++ rest) (hW : (rest.map fun v => v.category).sum ≤ 8) : zRun κ w lv a b pc st rest mc' ms' post' := by
  obtain ⟨p, l', e, R, s, m, args, below, meth, c, nL', G', w0', Q⟩ := κ
  obtain ⟨hx, hb, hml, hown, hts, hK, hr, hlk, hnm, rfl, rfl, rfl, rfl, rfl, hQ⟩ := X
  intro H locs ls hs hl'
  exact ⟨_, va_runS (As := As) (rest := rest) ⟨hx, hb, hml, hown, hts⟩ (hM H.size) (va_cwS n hts hT rfl rfl rfl hd hg) ⟨gPc.blind, fun U hU hW => ⟨rfl, by rw [hU], by rw [hU]; exact hs.1, gK.moved hW hK⟩⟩ rfl hn hl'.1 hst (lv_room hW) hdg hf⟩
theorem z_runI (X : ZX κ cc own nL ret nm l d mc ms G w0 post) {y : MethodName} {bytes : ByteArray} {maxL : Nat} {d' mc' ms' i n : Nat} {post' : Option Value → GW → Prop} (As : List Value) {q : Nat} (hM : gM l G y bytes maxL none d' mc' ms' (.ref q :: As) w post') (hdg : decode cc pc = .ok (.invokespecial i, 3)) (hG : GoodIn lw_all (ws_ y bytes maxL none)) (h1 : Cond.initialized y.cls ∈ lw_all) (h2 : Cond.methodLink own i y ∈ lw_all) (h3 : Cond.instanceMethod y ∈ lw_all) (hy : y.name = "<init>") (hd : y.cls ≠ "java/lang/invoke/MethodHandle" ∧ y.cls ≠ "java/lang/invoke/VarHandle" ∧ (parseMethodDescriptor y.desc).map (fun d => d.parameters.length) = some n) (hn : As.length = n) (hg : d' + 1 ≤ d ∧ 8 + (maxL + 11) + 64 * d' ≤ 64 * d) (hf : a + mc' ≤ mc ∧ b + ms' ≤ ms) (hst : st = As.reverse ++ .ref q :: rest) (hW : (rest.map fun v => v.category).sum ≤ 8) : zRun κ w lv a b pc st rest mc' ms' post' := by
  obtain ⟨p, l', e, R, s, m, args, below, meth, c, nL', G', w0', Q⟩ := κ
  obtain ⟨hx, hb, hml, hown, hts, hK, hr, hlk, hnm, rfl, rfl, rfl, rfl, rfl, hQ⟩ := X
  intro H locs ls hs hl'
  exact ⟨_, va_runI (As := As) (rest := rest) ⟨hx, hb, hml, hown, hts⟩ (hM H.size) (cwI n hts hG rfl rfl rfl (hts _ h1) (hts _ h2) (hts _ h3) hy hd hg) ⟨gPc.blind, fun U hU hW => ⟨rfl, by rw [hU], by rw [hU]; exact hs.1, gK.moved hW hK⟩⟩ rfl hn hl'.1 hst (lv_room hW) hdg hf⟩
theorem gK.nestM {G : GG} {s : State} (hK : gK G s) {own : String} {i : Nat} {y : MethodName} {host : String} (h : Cond.methodLinkNest own i y host ∈ lw_tbl) : va_Nw (.methodLinkNest own i y host) s := by
  obtain ⟨-, s0, b, h2, -, hW⟩ := hK
  exact va_Nw.warmM hW (va_Nw.of rfl (h2.1 _ h))
theorem gK.declares {G : GG} {s : State} (hK : gK G s) {y : MethodName} (h : Cond.declares y ∈ lw_tbl) : va_Nw (.declares y) s := by
  obtain ⟨-, s0, b, h2, -, hW⟩ := hK
  exact va_Nw.warmD hW (va_Nw.of rfl (h2.1 _ h))
theorem gK.castable {G : GG} {s : State} (hK : gK G s) {C T : String} (h : Cond.castable C T ∈ lw_tbl) : va_Nw (.castable C T) s := by
  obtain ⟨-, s0, b, h2, -, hW⟩ := hK
  exact va_Nw.warmC hW (va_Nw.of rfl (h2.1 _ h))
theorem z_runSN (X : ZX κ cc own nL ret nm l d mc ms G w0 post) {y : MethodName} {bytes : ByteArray} {maxL : Nat} {ret' : Option FieldType} {d' mc' ms' i n : Nat} {post' : Option Value → GW → Prop} {host : String} (As : List Value) (hM : gM l G y bytes maxL ret' d' mc' ms' As w post') (hdg : decode cc pc = .ok (.invokestatic i, 3)) (hG : GoodIn lw_all (ws_ y bytes maxL ret')) (h1 : Cond.methodLinkNest own i y host ∈ lw_tbl) (h2 : Cond.initialized y.cls ∈ lw_all) (h3 : Cond.static y ∈ lw_all) (hd : y.cls ≠ "java/lang/invoke/MethodHandle" ∧ y.cls ≠ "java/lang/invoke/VarHandle" ∧ (parseMethodDescriptor y.desc).map (fun d => d.parameters.length) = some n) (hn : As.length = n) (hg : d' + 1 ≤ d ∧ 8 + (maxL + 11) + 64 * d' ≤ 64 * d) (hf : a + mc' ≤ mc ∧ b + ms' ≤ ms) (hst : st = As.reverse ++ rest) (hW : (rest.map fun v => v.category).sum ≤ 8) : zRun κ w lv a b pc st rest mc' ms' post' := by
  obtain ⟨p, l', e, R, s, m, args, below, meth, c, nL', G', w0', Q⟩ := κ
  obtain ⟨hx, hb, hml, hown, hts, hK, hr, hlk, hnm, rfl, rfl, rfl, rfl, rfl, hQ⟩ := X
  intro H locs ls hs hl'
  exact ⟨_, va_runSN (As := As) (rest := rest) ⟨hx, hb, hml, hown, hts⟩ (hM H.size) ⟨va_cnB n hts hG rfl rfl rfl (hK.nestM h1) (hts _ h2) hd hg, hts _ h3, trivial⟩ ⟨gPc.blind, fun U hU hW => ⟨rfl, by rw [hU], by rw [hU]; exact hs.1, gK.moved hW hK⟩⟩ rfl hn hl'.1 hst (lv_room hW) hdg hf⟩
theorem z_runIN (X : ZX κ cc own nL ret nm l d mc ms G w0 post) {y : MethodName} {bytes : ByteArray} {maxL : Nat} {d' mc' ms' i n : Nat} {post' : Option Value → GW → Prop} {host : String} (As : List Value) {q : Nat} (hM : gM l G y bytes maxL none d' mc' ms' (.ref q :: As) w post') (hdg : decode cc pc = .ok (.invokespecial i, 3)) (hG : GoodIn lw_all (ws_ y bytes maxL none)) (h1 : Cond.methodLinkNest own i y host ∈ lw_tbl) (h2 : Cond.initialized y.cls ∈ lw_all) (h3 : Cond.instanceMethod y ∈ lw_all) (hy : y.name = "<init>") (hd : y.cls ≠ "java/lang/invoke/MethodHandle" ∧ y.cls ≠ "java/lang/invoke/VarHandle" ∧ (parseMethodDescriptor y.desc).map (fun d => d.parameters.length) = some n) (hn : As.length = n) (hg : d' + 1 ≤ d ∧ 8 + (maxL + 11) + 64 * d' ≤ 64 * d) (hf : a + mc' ≤ mc ∧ b + ms' ≤ ms) (hst : st = As.reverse ++ .ref q :: rest) (hW : (rest.map fun v => v.category).sum ≤ 8) : zRun κ w lv a b pc st rest mc' ms' post' := by
  obtain ⟨p, l', e, R, s, m, args, below, meth, c, nL', G', w0', Q⟩ := κ
  obtain ⟨hx, hb, hml, hown, hts, hK, hr, hlk, hnm, rfl, rfl, rfl, rfl, rfl, hQ⟩ := X
  intro H locs ls hs hl'
  exact ⟨_, va_runIN (As := As) (rest := rest) ⟨hx, hb, hml, hown, hts⟩ (hM H.size) ⟨va_cnB n hts hG rfl rfl rfl (hK.nestM h1) (hts _ h2) hd hg, hy, hts _ h3⟩ ⟨gPc.blind, fun U hU hW => ⟨rfl, by rw [hU], by rw [hU]; exact hs.1, gK.moved hW hK⟩⟩ rfl hn hl'.1 hst (lv_room hW) hdg hf⟩
theorem z_runVN (X : ZX κ cc own nL ret nm l d mc ms G w0 post) {y : MethodName} {bytes : ByteArray} {maxL : Nat} {ret' : Option FieldType} {d' mc' ms' i n : Nat} {post' : Option Value → GW → Prop} {C : String} {T : u_T} {N ci : Nat} {fs : List Value} {host : String} (As : List Value) {q : Nat} (hM : gM l G y bytes maxL ret' d' mc' ms' (.ref q :: As) w post') (hdg : decode cc pc = .ok (.invokevirtual i, 3)) (hw : w q = some (.inr (ci, fs))) (hc : CL[ci]? = some (C, T, N)) (hG : GoodIn lw_all (ws_ y bytes maxL ret')) (h1 : Cond.methodLinkNest own i y host ∈ lw_tbl) (h2 : Cond.initialized y.cls ∈ lw_all) (h3 : Cond.instanceMethod y ∈ lw_all) (h4 : Cond.selects C y y ∈ lw_all) (hd : y.cls ≠ "java/lang/invoke/MethodHandle" ∧ y.cls ≠ "java/lang/invoke/VarHandle" ∧ (parseMethodDescriptor y.desc).map (fun d => d.parameters.length) = some n) (hn : As.length = n) (hg : d' + 1 ≤ d ∧ 8 + (maxL + 11) + 64 * d' ≤ 64 * d) (hf : a + mc' ≤ mc ∧ b + ms' ≤ ms) (hst : st = As.reverse ++ .ref q :: rest) (hW : (rest.map fun v => v.category).sum ≤ 8) : zRun κ w lv a b pc st rest mc' ms' post' := by
  obtain ⟨p, l', e, R, s, m, args, below, meth, c, nL', G', w0', Q⟩ := κ
  obtain ⟨hx, hb, hml, hown, hts, hK, hr, hlk, hnm, rfl, rfl, rfl, rfl, rfl, hQ⟩ := X
  intro H locs ls hs hl'
  exact ⟨_, va_runVN (As := As) (rest := rest) ⟨hx, hb, hml, hown, hts⟩ (hM H.size) ⟨va_cnB n hts hG rfl rfl rfl (hK.nestM h1) (hts _ h2) hd hg, hts _ h3, hts _ h4⟩ ⟨gPc.blind, va_recv hK.1 (hs.1.one hw) hc (q0 := 0) rfl, fun U hU hW => ⟨rfl, by rw [hU], by rw [hU]; exact hs.1, gK.moved hW hK⟩⟩ rfl hn hl'.1 hst (lv_room hW) hdg hf⟩
theorem z_runA (X : ZX κ cc own nL ret nm l d mc ms G w0 post) {y : MethodName} {bytes : ByteArray} {maxL : Nat} {ret' : Option FieldType} {d' mc' ms' i n : Nat} {post' : Option Value → GW → Prop} {C : String} {T : u_T} {N ci : Nat} {fs : List Value} {x : MethodName} {owner : String} (As : List Value) {q : Nat} (hM : gM l G y bytes maxL ret' d' mc' ms' (.ref q :: As) w post') (hdg : decode cc pc = .ok (.invokevirtual i, 3)) (hw : w q = some (.inr (ci, fs))) (hc : CL[ci]? = some (C, T, N)) (hT : GoodIn lw_all (va_wsU own i C owner x y (ws_ y bytes maxL ret'))) (hz : Cond.declares ⟨owner, x.name, x.desc⟩ ∈ lw_tbl) (hd : owner ≠ "java/lang/invoke/MethodHandle" ∧ owner ≠ "java/lang/invoke/VarHandle" ∧ (parseMethodDescriptor x.desc).map (fun d => d.parameters.length) = some n) (hn : As.length = n) (hg : d' + 1 ≤ d ∧ 8 + (maxL + 11) + 64 * d' ≤ 64 * d) (hf : a + mc' ≤ mc ∧ b + ms' ≤ ms) (hst : st = As.reverse ++ .ref q :: rest) (hW : (rest.map fun v => v.category).sum ≤ 8) : zRun κ w lv a b pc st rest mc' ms' post' := by
  obtain ⟨p, l', e, R, s, m, args, below, meth, c, nL', G', w0', Q⟩ := κ
  obtain ⟨hx, hb, hml, hown, hts, hK, hr, hlk, hnm, rfl, rfl, rfl, rfl, rfl, hQ⟩ := X
  intro H locs ls hs hl'
  exact ⟨_, va_runU (As := As) (rest := rest) ⟨hx, hb, hml, hown, hts⟩ (hM H.size) (va_cwA n hts hT rfl rfl rfl (hK.declares hz) hd hg) ⟨gPc.blind, va_recv hK.1 (hs.1.one hw) hc (q0 := 0) rfl, fun U hU hW => ⟨rfl, by rw [hU], by rw [hU]; exact hs.1, gK.moved hW hK⟩⟩ rfl hn hl'.1 hst (lv_room hW) hdg hf⟩
theorem z_runU (X : ZX κ cc own nL ret nm l d mc ms G w0 post) {y : MethodName} {bytes : ByteArray} {maxL : Nat} {ret' : Option FieldType} {d' mc' ms' i n : Nat} {post' : Option Value → GW → Prop} {C : String} {T : u_T} {N ci : Nat} {fs : List Value} {x : MethodName} {owner : String} (As : List Value) {q : Nat} (hM : gM l G y bytes maxL ret' d' mc' ms' (.ref q :: As) w post') (hdg : decode cc pc = .ok (.invokevirtual i, 3)) (hw : w q = some (.inr (ci, fs))) (hc : CL[ci]? = some (C, T, N)) (hT : GoodIn lw_all (va_wsU own i C owner x y (ws_ y bytes maxL ret'))) (hyx : y = ⟨owner, x.name, x.desc⟩) (hd : owner ≠ "java/lang/invoke/MethodHandle" ∧ owner ≠ "java/lang/invoke/VarHandle" ∧ (parseMethodDescriptor x.desc).map (fun d => d.parameters.length) = some n) (hn : As.length = n) (hg : d' + 1 ≤ d ∧ 8 + (maxL + 11) + 64 * d' ≤ 64 * d) (hf : a + mc' ≤ mc ∧ b + ms' ≤ ms) (hst : st = As.reverse ++ .ref q :: rest) (hW : (rest.map fun v => v.category).sum ≤ 8) : zRun κ w lv a b pc st rest mc' ms' post' := by
  obtain ⟨p, l', e, R, s, m, args, below, meth, c, nL', G', w0', Q⟩ := κ
  obtain ⟨hx, hb, hml, hown, hts, hK, hr, hlk, hnm, rfl, rfl, rfl, rfl, rfl, hQ⟩ := X
  intro H locs ls hs hl'
  exact ⟨_, va_runU (As := As) (rest := rest) ⟨hx, hb, hml, hown, hts⟩ (hM H.size) (va_cwU n hts hT rfl rfl rfl hyx hd hg) ⟨gPc.blind, va_recv hK.1 (hs.1.one hw) hc (q0 := 0) rfl, fun U hU hW => ⟨rfl, by rw [hU], by rw [hU]; exact hs.1, gK.moved hW hK⟩⟩ rfl hn hl'.1 hst (lv_room hW) hdg hf⟩
theorem z_runO (X : ZX κ cc own nL ret nm l d mc ms G w0 post) {y : MethodName} {bytes : ByteArray} {maxL : Nat} {ret' : Option FieldType} {d' mc' ms' i n : Nat} {post' : Option Value → GW → Prop} {C : String} {T : u_T} {N ci : Nat} {fs : List Value} {x : MethodName} {owner : String} {b0 : ByteArray} {m0 : Nat} {r0 : Option FieldType} (As : List Value) {q : Nat} (hM : gM l G y bytes maxL ret' d' mc' ms' (.ref q :: As) w post') (hdg : decode cc pc = .ok (.invokevirtual i, 3)) (hw : w q = some (.inr (ci, fs))) (hc : CL[ci]? = some (C, T, N)) (hT : GoodIn lw_all (va_wsO own i C owner x y (ws_ y bytes maxL ret'))) (h0 : Cond.code ⟨owner, x.name, x.desc⟩ b0 m0 r0 ∈ lw_all) (hd : owner ≠ "java/lang/invoke/MethodHandle" ∧ owner ≠ "java/lang/invoke/VarHandle" ∧ (parseMethodDescriptor x.desc).map (fun d => d.parameters.length) = some n) (hn : As.length = n) (hg : d' + 1 ≤ d ∧ 8 + (maxL + 11) + 64 * d' ≤ 64 * d) (hf : a + mc' ≤ mc ∧ b + ms' ≤ ms) (hst : st = As.reverse ++ .ref q :: rest) (hW : (rest.map fun v => v.category).sum ≤ 8) : zRun κ w lv a b pc st rest mc' ms' post' := by
  obtain ⟨p, l', e, R, s, m, args, below, meth, c, nL', G', w0', Q⟩ := κ
  obtain ⟨hx, hb, hml, hown, hts, hK, hr, hlk, hnm, rfl, rfl, rfl, rfl, rfl, hQ⟩ := X
  intro H locs ls hs hl'
  exact ⟨_, va_runU (As := As) (rest := rest) ⟨hx, hb, hml, hown, hts⟩ (hM H.size) (va_cwO n hts hT rfl rfl rfl h0 hd hg) ⟨gPc.blind, va_recv hK.1 (hs.1.one hw) hc (q0 := 0) rfl, fun U hU hW => ⟨rfl, by rw [hU], by rw [hU]; exact hs.1, gK.moved hW hK⟩⟩ rfl hn hl'.1 hst (lv_room hW) hdg hf⟩
theorem z_runSU (X : ZX κ cc own nL ret nm l d mc ms G w0 post) {y : MethodName} {bytes : ByteArray} {maxL : Nat} {ret' : Option FieldType} {d' mc' ms' i n : Nat} {post' : Option Value → GW → Prop} {C : String} {T : u_T} {N ci : Nat} {fs : List Value} (As : List Value) {q : Nat} (hM : gM l G y bytes maxL ret' d' mc' ms' (.ref q :: As) w post') (hdg : decode cc pc = .ok (.invokespecial i, 3)) (hw : w q = some (.inr (ci, fs))) (hc : CL[ci]? = some (C, T, N)) (hT : GoodIn lw_all (va_wsSU own i y (ws_ y bytes maxL ret'))) (hd : y.name ≠ "<init>" ∧ (parseMethodDescriptor y.desc).map (fun d => d.parameters.length) = some n) (hn : As.length = n) (hg : d' + 1 ≤ d ∧ 8 + (maxL + 11) + 64 * d' ≤ 64 * d) (hf : a + mc' ≤ mc ∧ b + ms' ≤ ms) (hst : st = As.reverse ++ .ref q :: rest) (hW : (rest.map fun v => v.category).sum ≤ 8) : zRun κ w lv a b pc st rest mc' ms' post' := by
  obtain ⟨p, l', e, R, s, m, args, below, meth, c, nL', G', w0', Q⟩ := κ
  obtain ⟨hx, hb, hml, hown, hts, hK, hr, hlk, hnm, rfl, rfl, rfl, rfl, rfl, hQ⟩ := X
  intro H locs ls hs hl'
  exact ⟨_, va_runSU (As := As) (rest := rest) (hK.1.1 ci _ hc).2 ⟨hx, hb, hml, hown, hts⟩ (hM H.size) (va_cwSU n hts hT rfl rfl rfl hd hg) ⟨gPc.blind, va_recv hK.1 (hs.1.one hw) hc (q0 := 0) rfl, fun U hU hW => ⟨rfl, by rw [hU], by rw [hU]; exact hs.1, gK.moved hW hK⟩⟩ rfl hn hl'.1 hst (lv_room hW) hdg hf⟩
end ZR
/-- names for a goal's numbers: more room -/
theorem Z.up {κ : ZK} {w : GW} {lv : List (Nat × Value)} {a b a' b' pc : Nat} {st : List Value} (h1 : a ≤ a') (h2 : b ≤ b') (k : Z κ w lv a' b' pc st) : Z κ w lv a b pc st := by
  obtain ⟨p, l', e, R, s, m, args, below, meth, c, nL', G', w0', Q⟩ := κ
  intro H locs ls hs hl'
  exact W.widen h1 h2 (k H locs ls hs hl')
theorem Z.lv {κ : ZK} {w : GW} {lv lv2 : List (Nat × Value)} {a b pc : Nat} {st : List Value} (ks : List Nat) (hl : lv_pick lv ks = lv2) (k : Z κ w lv2 a b pc st) : Z κ w lv a b pc st := by
  obtain ⟨p, l', e, R, s, m, args, below, meth, c, nL', G', w0', Q⟩ := κ
  intro H locs ls hs hl'
  exact k H locs ls hs (lv_sub hl' ks hl)
theorem Z.st {κ : ZK} {w : GW} {lv : List (Nat × Value)} {a b pc pc' : Nat} {st st' : List Value} (h : st = st') (hp : pc = pc') (k : Z κ w lv a b pc' st') : Z κ w lv a b pc st := by subst h; subst hp; exact k
def bI (x : Bool) : Int32 := if x then 1 else 0
theorem bI_0 {x : Bool} : bI x = 0 ↔ x = false := by cases x <;> simp [bI]
theorem bI_1 {x : Bool} : bI x = 1 ↔ x = true := by cases x <;> simp [bI]
theorem bI_n {x : Bool} : narrow .boolean (.int (bI x)) = .int (bI x) := by cases x <;> rfl
theorem bI_n1 : narrow .boolean (.int 1) = .int 1 := rfl
theorem bI_n0 : narrow .boolean (.int 0) = .int 0 := rfl
