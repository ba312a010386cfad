/-! CASTS AND TESTS of objects and arrays of the ghost world; a cast that fails, with the machine's sentence about it -/
set_option maxRecDepth 100000
theorem cls_at {vm : Vm} {C : String} {c : ClassId} {k : Class} (h : vm.findClass C = some c) (hk : vm.classes[c]? = some k) : k.name = C ∧ k.hidden = none ∧ k.loader = none := by
  obtain ⟨hlt, hp, _⟩ := Array.findIdx?_eq_some_iff_getElem.mp h
  have e : vm.classes[c] = k := by
    rw [Array.getElem?_eq_getElem hlt] at hk
    exact Option.some.inj hk
  simp only [Bool.and_eq_true, beq_iff_eq] at hp
  rw [e] at hp
  obtain ⟨⟨⟨h1, h2⟩, -⟩, h4⟩ := hp
  exact ⟨h1, by simpa using h2, by simpa using h4⟩
def modR (vm : Vm) : Bool := vm.modules.all fun m => m.loader.isSome || m.name == "java.base" || !(castPackages_1.any fun p => m.packages.contains p)
theorem mod_jb {vm : Vm} (hm : modR vm = true) {k : Class} (hl : k.loader = none) (hp : packageOf k.name ∈ castPackages_1) (m : ModuleInfo) (h : vm.moduleOf k = some m) : m.name = "java.base" := by
  unfold Vm.moduleOf at h
  split at h
  · have := List.find?_some h
    simpa using this
  · have h1 := List.find?_some h
    have h2 := List.all_eq_true.mp hm m (List.mem_of_find?_eq_some h)
    simp only [Bool.and_eq_true, Bool.or_eq_true, beq_iff_eq, Bool.not_eq_true'] at h1 h2
    obtain ⟨h3, h4⟩ := h1
    rcases h2 with (h2 | h2) | h2
    · rw [h3, hl] at h2
      cases h2
    · exact h2
    · exfalso
      have h5 : (castPackages_1.any fun p => m.packages.contains p) = true := List.any_eq_true.mpr ⟨_, hp, h4⟩
      rw [h5] at h2
      cases h2
theorem home_len {vm : Vm} {k : Class} (hl : k.loader = none) (hm : ∀ m, vm.moduleOf k = some m → m.name = "java.base") : (vm.home k).toList.length ≤ 38 := by
  unfold Vm.home
  cases h : vm.moduleOf k with
  | none =>
    rw [hl]
    simp only [String.toList_append, List.length_append, Vm.loaderName]
    decide
  | some m =>
    rw [hl]
    have := hm m h
    simp only [this, String.toList_append, List.length_append, Vm.loaderName]
    decide
theorem shown_len {k : Class} (hh : k.hidden = none) {n : Nat} (hn : k.name.toList.length ≤ n) : k.shown.toList.length ≤ n := by
  unfold Class.shown
  rw [hh]
  show (dotted k.name).toList.length ≤ n
  unfold dotted turned
  rw [String.toList_ofList, List.length_map]
  exact hn
theorem cce_len {vm : Vm} {ks kt : Class} (h1 : ks.hidden = none) (h2 : kt.hidden = none) (h3 : ks.loader = none) (h4 : kt.loader = none) (n1 : ks.name.toList.length ≤ 17) (n2 : kt.name.toList.length ≤ 17)
    (m1 : ∀ m, vm.moduleOf ks = some m → m.name = "java.base") (m2 : ∀ m, vm.moduleOf kt = some m → m.name = "java.base") : (checkcast.message vm ks kt).toList.length ≤ 194 := by
  have a1 := shown_len h1 n1
  have a2 := shown_len h2 n2
  have b1 := home_len h3 m1
  have b2 := home_len h4 m2
  have hh : (vm.homes ks kt).toList.length ≤ 126 := by
    unfold Vm.homes
    split
    · show (toString ks.shown ++ " and " ++ toString kt.shown ++ " are in " ++ toString (vm.home ks)).toList.length ≤ 126
      simp only [String.toList_append, List.length_append]
      have c1 : (" and ").toList.length = 5 := by decide
      have c2 : (" are in ").toList.length = 8 := by decide
      show ks.shown.toList.length + _ + kt.shown.toList.length + _ + (vm.home ks).toList.length ≤ _
      omega
    · show (toString ks.shown ++ " is in " ++ toString (vm.home ks) ++ "; " ++ toString kt.shown ++ " is in " ++ toString (vm.home kt)).toList.length ≤ 126
      simp only [String.toList_append, List.length_append]
      have c1 : (" is in ").toList.length = 7 := by decide
      have c2 : ("; ").toList.length = 2 := by decide
      show ks.shown.toList.length + _ + (vm.home ks).toList.length + _ + kt.shown.toList.length + _ + (vm.home kt).toList.length ≤ _
      omega
  show ("class " ++ toString ks.shown ++ " cannot be cast to class " ++ toString kt.shown ++ " (" ++ toString (vm.homes ks kt) ++ ")").toList.length ≤ 194
  simp only [String.toList_append, List.length_append]
  have c1 : ("class ").toList.length = 6 := by decide
  have c2 : (" cannot be cast to class ").toList.length = 25 := by decide
  have c3 : (" (").toList.length = 2 := by decide
  have c4 : (")").toList.length = 1 := by decide
  show _ + ks.shown.toList.length + _ + kt.shown.toList.length + _ + (vm.homes ks kt).toList.length + _ ≤ _
  omega
theorem cce_mod {vm : Vm} {ks kt : Class} : (checkcast.message vm ks kt == notModelled) = false := by
  rw [beq_eq_false_iff_ne]
  intro h
  have h2 := congrArg String.toList h
  have h3 : (checkcast.message vm ks kt).toList = 'c' :: ("lass ".toList ++ ks.shown.toList ++ " cannot be cast to class ".toList ++ kt.shown.toList ++ " (".toList ++ (vm.homes ks kt).toList ++ ")".toList) := by
    show ("class " ++ toString ks.shown ++ " cannot be cast to class " ++ toString kt.shown ++ " (" ++ toString (vm.homes ks kt) ++ ")").toList = _
    simp only [String.toList_append]
    rfl
  rw [h3] at h2
  have h4 : notModelled.toList = '\u0000' :: " a message that is not modelled".toList := by decide
  rw [h4] at h2
  simp at h2
theorem cce_bytes {vm : Vm} {ks kt : Class} (h : (checkcast.message vm ks kt).toList.length ≤ 194) : (stringBytes (stringToUtf16 (checkcast.message vm ks kt))).size ≤ 776 := by
  have b1 := stringBytes_size_le (stringToUtf16 (checkcast.message vm ks kt))
  have b2 := utf16_size_le (checkcast.message vm ks kt)
  omega
section VCN
variable {p : Program} {l : Launch} {e : Env} {R : Room} {s : State} {m : MethodId} {args : Array Value} {below : List Frame} {meth : Method} {c : Code} {H : Heap} {locs : List Loc} {cells slots : Nat} {Q : State → Prop}
variable {cc : ByteArray} {pc : Nat} {ls : Array Slot} {rest : List Value} {a : Nat}
theorem vx_castNo (hexec : p.tables.exec = Jvm.exec) (hb : c.code = cc) {own C nm : String} {index : Nat} (hown : s.vm.findClass own = some m.cls) (hlink : (Cond.classLink own index nm).before args s = true) (hc : va_Nc C nm s)
    (hm : modR s.vm = true) (n1 : C.toList.length ≤ 17) (n2 : nm.toList.length ≤ 17) (p1 : packageOf C ∈ castPackages_1) (p2 : packageOf nm ∈ castPackages_1)
    (hr : ∃ cell : Cell, H[a]? = some cell ∧ cell.vm.isStatics = false ∧ s.vm.findClass C = some cell.cls) (hdg : decode cc pc = .ok (.checkcast index, 3))
    (k : ∀ tx : String, (tx == notModelled) = false → (stringBytes (stringToUtf16 tx)).size ≤ 776 → vx_Note p l e R s m args below meth c H locs cells slots Q (F0 m pc ls (.ref a :: rest)) "java/lang/ClassCastException" tx) : W p l e R s m args below meth c H locs cells slots Q (F0 m pc ls (.ref a :: rest)) := by
  obtain ⟨cell, h1, h2, h3⟩ := hr
  obtain ⟨c0, cT, f1, f2, f3⟩ := hc
  cases h3.symm.trans f1
  intro T hT X
  have hpl : e.platform.magicAccessors = ({} : Platform).magicAccessors := by rw [X.admits.platform]
  obtain ⟨c', hc', hcl⟩ := Cond.classLink_spec hown hlink e.platform hpl
  cases f2.symm.trans hc'
  obtain ⟨dk, _, _, kt, hd, _, _, _, _, hkt, _, hopen⟩ := hcl.here
  have hcl₀ := X.warmed.classLinks hcl
  have hW' : s.WarmedH (T.vm.noted m.cls index (.cls cT)) := X.warmed.noted hd hopen (State.rightAt_cls hcl)
  obtain ⟨ks, hks, -⟩ := Vm.findClass_spec h3
  obtain ⟨ks', hks', -⟩ := hW'.alike.2.2 _ _ hks
  obtain ⟨kt', hkt', -⟩ := hW'.alike.2.2 _ _ hkt
  have X' := X.noted hW'
  have hmod : (T.vm.noted m.cls index (.cls cT)).modules = s.vm.modules := by rw [hW'.alike.1]
  have hm' : modR (T.vm.noted m.cls index (.cls cT)) = true := by
    unfold modR
    rw [hmod]
    exact hm
  obtain ⟨e1, e2, e3⟩ := cls_at (by rw [hW'.alike.findClass]; exact h3) hks'
  obtain ⟨g1, g2, g3⟩ := cls_at (by rw [hW'.alike.findClass]; exact f2) hkt'
  have hlen := cce_len (vm := T.vm.noted m.cls index (.cls cT)) e2 g2 e3 g3 (by rw [e1]; exact n1) (by rw [g1]; exact n2) (mod_jb hm' e3 (by rw [e1]; exact p1)) (mod_jb hm' g3 (by rw [g1]; exact p2))
  obtain ⟨t, a1, b1⟩ := k _ (cce_mod (vm := T.vm.noted m.cls index (.cls cT)) (ks := ks') (kt := kt')) (cce_bytes hlen) (T.setVm (T.vm.noted m.cls index (.cls cT))) hT X'
  refine ⟨t, ?_, b1⟩
  have hcell : T.heap[a]? = some cell := by rw [hT]; exact h1
  have hdg' : decode c.code (F0 m pc ls (.ref a :: rest)).pc = .ok (.checkcast index, 3) := by rw [hb]; exact hdg
  jvm_step X.here [hexec, hdg', checkcast.wp_cold (e := e) (s := T) (f := F0 m pc ls (.ref a :: rest)) X.here.top rfl (resolveClass_links e.toSetting hcl₀) hcl₀.ready,
    checkcast.wp_ready (e := e) (s := T.setVm (T.vm.noted m.cls index (.cls cT))) (f := F0 m pc ls (.ref a :: rest)) X.here.top hcl₀.ready rfl]
  have hasg : (T.vm.noted m.cls index (Resolved.cls cT)).assignable cell.cls cT = false := by rw [hW'.alike.assignable]; exact f3
  refine ⟨cell, hcell, VmData.noStatics_of h2, ks', hks', kt', hkt', ?_⟩
  simp only [hasg]
  exact a1
end VCN
theorem gK.modW {G : GG} {s : State} (hK : gK G s) : modR s.vm = true := by
  obtain ⟨b, h, hW⟩ := hK.st
  unfold modR
  rw [hW.alike.1]
  exact h.2.2
/-- the names of the arrays' classes -/
theorem nmA_int {s : State} {G : GG} (hK : gK G s) : s.vm.findClass "[I" = some (G.2.1 0) := by have := (hK.1.2 0 _ rfl).2; exact this
theorem nmA_long {s : State} {G : GG} (hK : gK G s) : s.vm.findClass "[J" = some (G.2.1 1) := by have := (hK.1.2 1 _ rfl).2; exact this
theorem nmA_byte {s : State} {G : GG} (hK : gK G s) : s.vm.findClass "[B" = some (G.2.1 2) := by have := (hK.1.2 2 _ rfl).2; exact this
theorem nmA_short {s : State} {G : GG} (hK : gK G s) : s.vm.findClass "[S" = some (G.2.1 3) := by have := (hK.1.2 3 _ rfl).2; exact this
theorem nmA_bool {s : State} {G : GG} (hK : gK G s) : s.vm.findClass "[Z" = some (G.2.1 4) := by have := (hK.1.2 4 _ rfl).2; exact this
/-- what lies at q is of class C -/
def Is (κ : ZK) (w : GW) (q : Nat) (C : String) : Prop := match κ with
  | (_, _, _, _, s, _, _, _, _, _, _, G, _, _) => ∀ H, gK G s → gP G w H → ∃ cell : Cell, H[q]? = some cell ∧ cell.vm.isStatics = false ∧ s.vm.findClass C = some cell.cls
section ZC
variable {κ : ZK} {cc : ByteArray} {own nm : String} {nL : Nat} {ret : Option FieldType} {l : Launch} {d mc ms : Nat} {G : GG} {w0 w : GW} {post : Option Value → GW → Prop} {lv lv2 : List (Nat × Value)} {a b pc : Nat} {st rest : List Value} {hh : List (Nat × Nat × Nat × Nat)} {px : String → Nat → GW → Prop}
theorem Is.obj {q ci : Nat} {fs : List Value} {C : String} {T : u_T} {N : Nat} (X : ZX κ cc own nL ret nm l d mc ms G w0 post) (hw : w q = some (.inr (ci, fs))) (hc : CL[ci]? = some (C, T, N)) : Is κ w q C := by
  obtain ⟨p, l', e, R, s, m, args, below, meth, c, nL', G', w0', Q⟩ := κ
  intro H hK hP
  exact va_recv hK.1 (hP.one hw) hc (q0 := 0) rfl
theorem Is.arr {q : Nat} {cA : ClassId} {x : vp_A} {C : String} (X : ZX κ cc own nL ret nm l d mc ms G w0 post) (hw : w q = some (.inl (cA, x))) (hn : ∀ s, gK G s → s.vm.findClass C = some cA) : Is κ w q C := by
  obtain ⟨p, l', e, R, s, m, args, below, meth, c, nL', G', w0', Q⟩ := κ
  obtain ⟨hx, hb, hml, hown, hts, hK, hr, hlk, hnm, rfl, rfl, rfl, rfl, rfl, hQ⟩ := X
  intro H hK hP
  have hvm0 : (vp_cell cA x).vm = .none := by
    obtain ⟨n, f | f | f | f | f⟩ := x <;> rfl
  have hcl0 : (vp_cell cA x).cls = cA := by
    obtain ⟨n, f | f | f | f | f⟩ := x <;> rfl
  exact ⟨vp_cell cA x, hP.at hw, by rw [hvm0]; rfl, by rw [hcl0]; exact hn _ hK⟩
theorem z_castNl (X : ZX κ cc own nL ret nm l d mc ms G w0 post) {i : Nat} (hdg : decode cc pc = .ok (.checkcast i, 3)) (k : Z κ w lv a b (pc + 3) (.null :: st)) : Z κ w lv a b pc (.null :: st) := by
  obtain ⟨p, l', e, R, s, m, args, below, meth, c, nL', G', w0', Q⟩ := κ
  obtain ⟨hx, hb, hml, hown, hts, hK, hr, hlk, hnm, rfl, rfl, rfl, rfl, rfl, hQ⟩ := X
  intro H locs ls hs hl'
  exact lv_castN hx hb hdg (k H locs ls hs hl')
theorem z_instNl (X : ZX κ cc own nL ret nm l d mc ms G w0 post) {i : Nat} (hdg : decode cc pc = .ok (.instanceof i, 3)) (k : Z κ w lv a b (pc + 3) (.int 0 :: st)) : Z κ w lv a b pc (.null :: st) := by
  obtain ⟨p, l', e, R, s, m, args, below, meth, c, nL', G', w0', Q⟩ := κ
  obtain ⟨hx, hb, hml, hown, hts, hK, hr, hlk, hnm, rfl, rfl, rfl, rfl, rfl, hQ⟩ := X
  intro H locs ls hs hl'
  exact lv_instN hx hb hdg (k H locs ls hs hl')
theorem z_castY (X : ZX κ cc own nL ret nm l d mc ms G w0 post) {i q : Nat} {C nm2 : String} (hI : Is κ w q C) (hdg : decode cc pc = .ok (.checkcast i, 3)) (hq : Cond.classLink own i nm2 ∈ lw_all) (hc : Cond.castable C nm2 ∈ lw_tbl) (k : Z κ w lv a b (pc + 3) (.ref q :: st)) : Z κ w lv a b pc (.ref q :: st) := by
  obtain ⟨p, l', e, R, s, m, args, below, meth, c, nL', G', w0', Q⟩ := κ
  obtain ⟨hx, hb, hml, hown, hts, hK, hr, hlk, hnm, rfl, rfl, rfl, rfl, rfl, hQ⟩ := X
  intro H locs ls hs hl'
  exact va_castY hx hb hown (hts _ hq) (hK.castable hc) (hI H hK hs.1) hdg (k H locs ls hs hl')
theorem z_castE (X : ZX κ cc own nL ret nm l d mc ms G w0 post) {i q : Nat} {C : String} (hI : Is κ w q C) (hdg : decode cc pc = .ok (.checkcast i, 3)) (hq : Cond.classLink own i C ∈ lw_all) (k : Z κ w lv a b (pc + 3) (.ref q :: st)) : Z κ w lv a b pc (.ref q :: st) := by
  obtain ⟨p, l', e, R, s, m, args, below, meth, c, nL', G', w0', Q⟩ := κ
  obtain ⟨hx, hb, hml, hown, hts, hK, hr, hlk, hnm, rfl, rfl, rfl, rfl, rfl, hQ⟩ := X
  intro H locs ls hs hl'
  exact va_castE hx hb hown (hts _ hq) (hI H hK hs.1) hdg (k H locs ls hs hl')
theorem z_instY (X : ZX κ cc own nL ret nm l d mc ms G w0 post) {i q : Nat} {C nm2 : String} (hI : Is κ w q C) (hdg : decode cc pc = .ok (.instanceof i, 3)) (hq : Cond.classLink own i nm2 ∈ lw_all) (hc : Cond.castable C nm2 ∈ lw_tbl) (k : Z κ w lv a b (pc + 3) (.int 1 :: st)) : Z κ w lv a b pc (.ref q :: st) := by
  obtain ⟨p, l', e, R, s, m, args, below, meth, c, nL', G', w0', Q⟩ := κ
  obtain ⟨hx, hb, hml, hown, hts, hK, hr, hlk, hnm, rfl, rfl, rfl, rfl, rfl, hQ⟩ := X
  intro H locs ls hs hl'
  exact va_instY hx hb hown (hts _ hq) (hK.castable hc) (hI H hK hs.1) hdg (k H locs ls hs hl')
theorem z_instE (X : ZX κ cc own nL ret nm l d mc ms G w0 post) {i q : Nat} {C : String} (hI : Is κ w q C) (hdg : decode cc pc = .ok (.instanceof i, 3)) (hq : Cond.classLink own i C ∈ lw_all) (k : Z κ w lv a b (pc + 3) (.int 1 :: st)) : Z κ w lv a b pc (.ref q :: st) := by
  obtain ⟨p, l', e, R, s, m, args, below, meth, c, nL', G', w0', Q⟩ := κ
  obtain ⟨hx, hb, hml, hown, hts, hK, hr, hlk, hnm, rfl, rfl, rfl, rfl, rfl, hQ⟩ := X
  intro H locs ls hs hl'
  exact va_instE hx hb hown (hts _ hq) (hI H hK hs.1) hdg (k H locs ls hs hl')
theorem z_instNo (X : ZX κ cc own nL ret nm l d mc ms G w0 post) {i q : Nat} {C nm2 : String} (hI : Is κ w q C) (hdg : decode cc pc = .ok (.instanceof i, 3)) (hq : Cond.classLink own i nm2 ∈ lw_all) (pp : List Bool) (hp : cAt narrow_1 pp = some (.not (.castable C nm2))) (k : Z κ w lv a b (pc + 3) (.int 0 :: st)) : Z κ w lv a b pc (.ref q :: st) := by
  obtain ⟨p, l', e, R, s, m, args, below, meth, c, nL', G', w0', Q⟩ := κ
  obtain ⟨hx, hb, hml, hown, hts, hK, hr, hlk, hnm, rfl, rfl, rfl, rfl, rfl, hQ⟩ := X
  intro H locs ls hs hl'
  exact va_instNo hx hb hown (hts _ hq) (hK.nc hp) (hI H hK hs.1) hdg (k H locs ls hs hl')
theorem zt_castNo (X : ZX κ cc own nL ret nm l d mc ms G w0 post) (V : ZV κ) {i q : Nat} {C nm2 : String} (hI : Is κ w q C) (hdg : decode cc pc = .ok (.checkcast i, 3)) (hq : Cond.classLink own i nm2 ∈ lw_all) (pp : List Bool) (hp : cAt narrow_1 pp = some (.not (.castable C nm2))) (n1 : C.toList.length ≤ 17) (n2 : nm2.toList.length ≤ 17) (p1 : packageOf C ∈ castPackages_1) (p2 : packageOf nm2 ∈ castPackages_1) (hW : (rest.map fun v => v.category).sum ≤ 7) (hd : 162 ≤ d) (hf : a + 3 ≤ mc ∧ b + 786 ≤ ms) (k : ∀ q : Nat, ZT κ "java/lang/ClassCastException" q w lv (a + 3) (b + 786) pc) : Z κ w lv a b pc (.ref q :: rest) := by
  have kk := fun (tx : String) (h1 : (tx == notModelled) = false) (h2 : (stringBytes (stringToUtf16 tx)).size ≤ 776) => zt_note (rest := .ref q :: rest) X V (nb := 776) (text := tx) zmC h1 h2 (by omega) (by rw [List.map_cons, List.sum_cons]; show 1 + _ ≤ 8; omega) hd hf k
  obtain ⟨p, l', e, R, s, m, args, below, meth, c, nL', G', w0', Q⟩ := κ
  obtain ⟨hx, hb, hml, hown, hts, hK, hr, hlk, hnm, rfl, rfl, rfl, rfl, rfl, hQ⟩ := X
  intro H locs ls hs hl'
  exact vx_castNo hx hb hown (hts _ hq) (hK.nc hp) hK.modW n1 n2 p1 p2 (hI H hK hs.1) hdg (fun tx h1 h2 => kk tx h1 h2 H locs ls hs hl')
end ZC
