/-! System.arraycopy over the ghost world: it copies, or throws what the sentences say -/
set_option maxRecDepth 100000
theorem gS.putL {G : GG} {w0 w : GW} {H0 H H1 : Heap} {locs L : List Loc} {a : Nat} {e0 e : va_E} (hs : gS G w0 H0 w H locs) (ha : w a = some e0) (he : va_at G.1 CL (a, e) H1) (z : H1.size = H.size) (oq : ∀ q : Nat, q ≠ a → H1[q]? = H[q]?) (hL : ∀ z ∈ L, z.base = a) : gS G w0 H0 (gu w a e) H1 (locs ++ L) := by
  obtain ⟨h1, h2, h3, h4, h5⟩ := hs.put (k := 0) ha he z oq
  refine ⟨h1, h2, h3, h4, fun q hq => ?_⟩
  rcases List.mem_append.mp hq with h | h
  · exact h5 q (List.mem_append_left _ h)
  · have := h5 ⟨a, 0⟩ (List.mem_append_right _ List.mem_cons_self)
    rw [hL q h]
    exact this
theorem ac_i : Cond.static arraycopyName ∈ lw_all := q471
theorem ac_n : Cond.native arraycopyName ∈ lw_all := q472
theorem ac_s : Cond.initialized "java/lang/System" ∈ lw_all := lw_w 81 rfl rfl
theorem nn_cl (z : Int32) (hz : ¬ z < 0) : z.toInt = (z.toNatClampNeg : Int) := (toNatClampNeg_of_not_neg32 z hz).symm
theorem cell_sz (c : ClassId) (x : vp_A) : (vp_cell c x).slots.size = x.1 := by
  obtain ⟨n, f | f | f | f | f⟩ := x <;> exact arrV_size ..
theorem cell_cls (c : ClassId) (x : vp_A) : (vp_cell c x).cls = c := by
  obtain ⟨n, f | f | f | f | f⟩ := x <;> rfl
theorem cell_vm (c : ClassId) (x : vp_A) : (vp_cell c x).vm = .none := by
  obtain ⟨n, f | f | f | f | f⟩ := x <;> rfl
/-- the kinds' names and the sentences' lengths -/
theorem kn_len (t : FieldType) : (Native.java_lang_System.arraycopy.kindName t).toList.length ≤ 12 := by
  cases t <;> first
    | decide
    | exact (by decide : ("object array").toList.length ≤ 12)
theorem int_print {z : Int} (h1 : -10000000000 < z) (h2 : z < 10000000000) : (toString z).toList.length ≤ 11 := by
  show (Int.repr z).toList.length ≤ 11
  cases h : z with
  | ofNat m =>
    rw [h] at h2
    have h2' : (m : Int) < 10000000000 := h2
    have := nat_print (n := m) (by omega)
    show (toString m).toList.length ≤ 11
    omega
  | negSucc m =>
    rw [h] at h1
    have h1' : -(10000000000 : Int) < -((m : Int) + 1) := by simpa [Int.negSucc_eq] using h1
    have := nat_print (n := m.succ) (by omega)
    show ("-" ++ toString m.succ).toList.length ≤ 11
    rw [String.toList_append, List.length_append]
    have h0 : "-".toList.length = 1 := by decide
    omega
def acText (t0 t1 : FieldType) : String := toString "arraycopy: type mismatch: can not copy " ++ toString (Native.java_lang_System.arraycopy.kindName t0) ++ toString "[] into " ++ toString (Native.java_lang_System.arraycopy.kindName t1) ++ toString "[]"
def acArr (t : FieldType) (n : Nat) : String := toString (Native.java_lang_System.arraycopy.kindName t) ++ toString "[" ++ toString n ++ toString "]"
def acWhat (t0 t1 : FieldType) (n0 n1 : Nat) (sp dp n : Int32) : Option String :=
  if sp < 0 then some (toString "source index " ++ toString sp ++ toString " out of bounds for " ++ toString (acArr t0 n0))
    else if dp < 0 then some (toString "destination index " ++ toString dp ++ toString " out of bounds for " ++ toString (acArr t1 n1))
    else if n < 0 then some (toString "length " ++ toString n ++ toString " is negative")
    else if sp.toInt + n.toInt > n0 then some (toString "last source index " ++ toString (sp.toInt + n.toInt) ++ toString " out of bounds for " ++ toString (acArr t0 n0))
    else if dp.toInt + n.toInt > n1 then some (toString "last destination index " ++ toString (dp.toInt + n.toInt) ++ toString " out of bounds for " ++ toString (acArr t1 n1))
    else none
theorem txt_bytes {t : String} {k : Nat} (h : t.toList.length ≤ k) : (stringBytes (stringToUtf16 t)).size ≤ 4 * k := by
  have b1 := stringBytes_size_le (stringToUtf16 t)
  have b2 := utf16_size_le t
  omega
theorem txt_ac {t : String} : (("arraycopy: " ++ t) == notModelled) = false := by
  rw [beq_eq_false_iff_ne]
  intro h
  have h2 := congrArg String.toList h
  have h3 : ("arraycopy: " ++ t).toList = 'a' :: ("rraycopy: ".toList ++ t.toList) := by
    simp only [String.toList_append]
    rfl
  rw [h3] at h2
  have h4 : notModelled.toList = '\u0000' :: " a message that is not modelled".toList := by decide
  rw [h4] at h2
  simp at h2
theorem acText_len (t0 t1 : FieldType) : (acText t0 t1).toList.length ≤ 76 := by
  have k0 := kn_len t0
  have k1 := kn_len t1
  show ("arraycopy: type mismatch: can not copy " ++ toString (Native.java_lang_System.arraycopy.kindName t0) ++ "[] into " ++ toString (Native.java_lang_System.arraycopy.kindName t1) ++ "[]").toList.length ≤ 76
  simp only [String.toList_append, List.length_append]
  have c1 : ("arraycopy: type mismatch: can not copy ").toList.length = 39 := by decide
  have c2 : ("[] into ").toList.length = 8 := by decide
  have c3 : ("[]").toList.length = 2 := by decide
  show _ + (Native.java_lang_System.arraycopy.kindName t0).toList.length + _ + (Native.java_lang_System.arraycopy.kindName t1).toList.length + _ ≤ 76
  omega
theorem acText_mod (t0 t1 : FieldType) : (acText t0 t1 == notModelled) = false := by
  have : acText t0 t1 = "arraycopy: " ++ ("type mismatch: can not copy " ++ (Native.java_lang_System.arraycopy.kindName t0 ++ ("[] into " ++ (Native.java_lang_System.arraycopy.kindName t1 ++ "[]")))) := by
    apply String.toList_inj.mp
    show ("arraycopy: type mismatch: can not copy " ++ toString (Native.java_lang_System.arraycopy.kindName t0) ++ "[] into " ++ toString (Native.java_lang_System.arraycopy.kindName t1) ++ "[]").toList = _
    simp only [String.toList_append, List.append_assoc]
    rfl
  rw [this]
  exact txt_ac
theorem acWhat_len {t0 t1 : FieldType} {n0 n1 : Nat} {sp dp n : Int32} {t : String} (h0 : n0 < 2 ^ 31) (h1 : n1 < 2 ^ 31) (h : acWhat t0 t1 n0 n1 sp dp n = some t) : ("arraycopy: " ++ t).toList.length ≤ 100 := by
  have k0 := kn_len t0
  have k1 := kn_len t1
  have p0 := nat_print (n := n0) (by omega)
  have p1 := nat_print (n := n1) (by omega)
  have i0 := int32_print sp
  have i1 := int32_print dp
  have i2 := int32_print n
  have a1 := Int32.toInt_lt sp
  have a2 := Int32.le_toInt sp
  have a3 := Int32.toInt_lt dp
  have a4 := Int32.le_toInt dp
  have a5 := Int32.toInt_lt n
  have a6 := Int32.le_toInt n
  have j0 := int_print (z := sp.toInt + n.toInt) (by omega) (by omega)
  have j1 := int_print (z := dp.toInt + n.toInt) (by omega) (by omega)
  have c0 : ("arraycopy: ").toList.length = 11 := by decide
  have c1 : ("source index ").toList.length = 13 := by decide
  have c2 : (" out of bounds for ").toList.length = 19 := by decide
  have c3 : ("[").toList.length = 1 := by decide
  have c4 : ("]").toList.length = 1 := by decide
  have c5 : ("destination index ").toList.length = 18 := by decide
  have c6 : ("length ").toList.length = 7 := by decide
  have c7 : (" is negative").toList.length = 12 := by decide
  have c8 : ("last source index ").toList.length = 18 := by decide
  have c9 : ("last destination index ").toList.length = 23 := by decide
  unfold acWhat at h
  rw [String.toList_append, List.length_append]
  split at h
  · cases h
    show _ + ("source index " ++ toString sp ++ " out of bounds for " ++ (Native.java_lang_System.arraycopy.kindName t0 ++ "[" ++ toString n0 ++ "]")).toList.length ≤ 100
    simp only [String.toList_append, List.length_append]
    omega
  · split at h
    · cases h
      show _ + ("destination index " ++ toString dp ++ " out of bounds for " ++ (Native.java_lang_System.arraycopy.kindName t1 ++ "[" ++ toString n1 ++ "]")).toList.length ≤ 100
      simp only [String.toList_append, List.length_append]
      omega
    · split at h
      · cases h
        show _ + ("length " ++ toString n ++ " is negative").toList.length ≤ 100
        simp only [String.toList_append, List.length_append]
        omega
      · split at h
        · cases h
          show _ + ("last source index " ++ toString (sp.toInt + n.toInt) ++ " out of bounds for " ++ (Native.java_lang_System.arraycopy.kindName t0 ++ "[" ++ toString n0 ++ "]")).toList.length ≤ 100
          simp only [String.toList_append, List.length_append]
          omega
        · split at h
          · cases h
            show _ + ("last destination index " ++ toString (dp.toInt + n.toInt) ++ " out of bounds for " ++ (Native.java_lang_System.arraycopy.kindName t1 ++ "[" ++ toString n1 ++ "]")).toList.length ≤ 100
            simp only [String.toList_append, List.length_append]
            omega
          · cases h
section WP
variable {E : CtlPost} {e : Env} {d : Bool} {acts : List Action} {S : State} {Q : Option Value → Pre}
theorem wp_ac0 {v1 : Value} {sp dp n : Int32} (h : ∀ acts', E (.throwNew "java/lang/NullPointerException" none) acts' S) : wp (Native.java_lang_System.arraycopy.sem #[.null, .int sp, v1, .int dp, .int n]) Q E e d acts S := by
  show wp (do mark "nat.java_lang_System.arraycopy/null"; throwNew "java/lang/NullPointerException") Q E e d acts S
  simp only [wp_bind', W.mark, W.throwNew]
  exact h _
theorem wp_ac1 {q : Addr} {sp dp n : Int32} (h : ∀ acts', E (.throwNew "java/lang/NullPointerException" none) acts' S) : wp (Native.java_lang_System.arraycopy.sem #[.ref q, .int sp, .null, .int dp, .int n]) Q E e d acts S := by
  show wp (do mark "nat.java_lang_System.arraycopy/null"; throwNew "java/lang/NullPointerException") Q E e d acts S
  simp only [wp_bind', W.mark, W.throwNew]
  exact h _
theorem wp_acT {src dst : Addr} {sp dp n : Int32} {cs cd : Cell} {ks kd : Class} {sComp dComp : ClassId} {sType dType : FieldType}
    (hs : S.heap[src]? = some cs) (hd : S.heap[dst]? = some cd) (hsobj : ∀ k, cs.vm ≠ .statics k) (hdobj : ∀ k, cd.vm ≠ .statics k)
    (hks : S.vm.classes[cs.cls]? = some ks) (hkd : S.vm.classes[cd.cls]? = some kd) (hsk : ks.kind = .array sComp sType) (hdk : kd.kind = .array dComp dType)
    (hty : ((refKind sType != refKind dType) || (!refKind sType && sType != dType)) = true) (h : ∀ acts', E (.throwNew "java/lang/ArrayStoreException" (some (acText sType dType))) acts' S) :
    wp (Native.java_lang_System.arraycopy.sem #[.ref src, .int sp, .ref dst, .int dp, .int n]) Q E e d acts S := by
  rw [Native.java_lang_System.arraycopy.sem_refs]
  unfold Native.java_lang_System.arraycopy.behind
  simp only [wp_bind', W.classOf, W.theClass, hs, hd, hks, hkd, Option.some.injEq, exists_eq_left', hsk, hdk]
  refine ⟨hsobj, hdobj, ?_⟩
  unfold refKind at hty
  simp only [hty, if_true, wp_bind', W.mark, W.throwNew]
  exact h _
theorem wp_acB {src dst : Addr} {sp dp n : Int32} {cs cd : Cell} {ks kd : Class} {sComp dComp : ClassId} {sType dType : FieldType} {t : String}
    (hs : S.heap[src]? = some cs) (hd : S.heap[dst]? = some cd) (hsobj : ∀ k, cs.vm ≠ .statics k) (hdobj : ∀ k, cd.vm ≠ .statics k)
    (hks : S.vm.classes[cs.cls]? = some ks) (hkd : S.vm.classes[cd.cls]? = some kd) (hsk : ks.kind = .array sComp sType) (hdk : kd.kind = .array dComp dType)
    (hty : ((refKind sType != refKind dType) || (!refKind sType && sType != dType)) = false) (ht : acWhat sType dType cs.slots.size cd.slots.size sp dp n = some t) (h : ∀ acts', E (.throwNew "java/lang/ArrayIndexOutOfBoundsException" (some ("arraycopy: " ++ t))) acts' S) :
    wp (Native.java_lang_System.arraycopy.sem #[.ref src, .int sp, .ref dst, .int dp, .int n]) Q E e d acts S := by
  rw [Native.java_lang_System.arraycopy.sem_refs]
  unfold Native.java_lang_System.arraycopy.behind
  simp only [wp_bind', W.classOf, W.theClass, hs, hd, hks, hkd, Option.some.injEq, exists_eq_left', hsk, hdk]
  refine ⟨hsobj, hdobj, ?_⟩
  unfold refKind at hty
  simp only [hty, Bool.false_eq_true, if_false]
  simp only [wp_bind', W.sizeOf, hs, hd, Option.some.injEq, exists_eq_left']
  unfold acWhat acArr at ht
  split
  · rename_i what heq
    have e9 : what = t := Option.some.inj (heq.symm.trans ht)
    subst e9
    simp only [wp_bind', W.mark, W.throwNew]
    exact h _
  · rename_i heq
    exact absurd ht (heq _)
end WP
section ZA
variable {κ : ZK} {cc : ByteArray} {own nm : String} {nL : Nat} {ret : Option FieldType} {l : Launch} {d mc ms : Nat} {G : GG} {w0 w : GW} {post : Option Value → GW → Prop} {lv lv2 : List (Nat × Value)} {a b pc : Nat} {st rest : List Value} {hh : List (Nat × Nat × Nat × Nat)} {px : String → Nat → GW → Prop}
theorem z_cpyI (X : ZX κ cc own nL ret nm l d mc ms G w0 post) {i t q0 q1 n0 n1 : Nat} {ty : FieldType} {f g : Nat → Int32} {sp dp n : Int32} (ht : (TYS G.2.1)[t]? = some (G.2.1 t, ty)) (hprim : refKind ty = false) (hw0 : w q0 = some (.inl (G.2.1 t, n0, .inl f))) (hw1 : w q1 = some (.inl (G.2.1 t, n1, .inl g))) (h1 : ¬ sp < 0) (h2 : ¬ dp < 0) (h3 : ¬ n < 0) (h4 : sp.toNatClampNeg + n.toNatClampNeg ≤ n0) (h5 : dp.toNatClampNeg + n.toNatClampNeg ≤ n1) (hfit : ∀ i, i < n.toNatClampNeg → fits ty (.int (f (sp.toNatClampNeg + i))) = true) (hdg : decode cc pc = .ok (.invokestatic i, 3)) (hq : Cond.methodLink own i arraycopyName ∈ lw_all) (hW : (rest.map fun v => v.category).sum ≤ 8) (hd : 3 ≤ d) (k : Z κ (gu w q1 (.inl (G.2.1 t, n1, .inl (va_cpy f g sp.toNatClampNeg dp.toNatClampNeg n.toNatClampNeg)))) lv a b (pc + 3) rest) : Z κ w lv a b pc (.int n :: .int dp :: .ref q1 :: .int sp :: .ref q0 :: rest) := by
  obtain ⟨p, l', e, R, s, m, args, below, meth, c, nL', G', w0', Q⟩ := κ
  obtain ⟨hx, hb, hml, hown, hts, hK, hr, hlk, hnm, rfl, rfl, rfl, rfl, rfl, hQ⟩ := X
  intro H locs ls hs hl'
  intro T hT X
  have hc0 : H[q0]? = some (vp_cell (G'.2.1 t) (n0, .inl f)) := hs.1.at hw0
  have hc1 : H[q1]? = some (vp_cell (G'.2.1 t) (n1, .inl g)) := hs.1.at hw1
  obtain ⟨-, k0, hk0, cm0, hkk0⟩ := (hK.1.2 t _ ht).1 n0 (fun j => .int (f j))
  obtain ⟨-, k1, hk1, cm1, hkk1⟩ := (hK.1.2 t _ ht).1 n1 (fun j => .int (g j))
  obtain ⟨vm', X', step⟩ := X.arraycopy hx hown (hts _ hq) (hts _ ac_n) (hts _ ac_i) (hts _ ac_s) (src := q0) (dst := q1) (cs := vp_cell (G'.2.1 t) (n0, .inl f)) (cd := vp_cell (G'.2.1 t) (n1, .inl g)) (srcPos := sp) (destPos := dp) (n := n) (by rw [hT]; exact hc0) (by rw [hT]; exact hc1)
    (fun _ h => by cases h) (fun _ h => by cases h) (fun h => by cases h) (fun h => by cases h) hk0 hk1 hkk0 hkk1 (by simp [hprim]) h1 h2 h3
    (by rw [nn_cl sp h1, nn_cl n h3, cell_sz]; show ¬ _ > (n0 : Int); omega)
    (by rw [nn_cl dp h2, nn_cl n h3, cell_sz]; show ¬ _ > (n1 : Int); omega)
    (fun vm₁ _ i hi => by
      have e : (vp_cell (G'.2.1 t) (n0, .inl f)).slots.getD (sp.toNatClampNeg + i) .null = .int (f (sp.toNatClampNeg + i)) := by
        show (arrV (G'.2.1 t) n0 (fun j => .int (f j))).slots.getD _ _ = _
        rw [Array.getD_eq_getD_getElem?, arrV_read _ _ (by omega)]
        rfl
      refine ⟨?_, ?_⟩
      · rw [e]
        exact hfit i hi
      · rw [e]
        exact trivial)
    (g := F0 m pc ls (.int n :: .int dp :: .ref q1 :: .int sp :: .ref q0 :: rest)) rfl (by show ls.size = c.maxLocals; rw [hml]; exact hl'.1) (rest := rest) rfl (by rw [hb]; exact hdg) (by show 1 ≤ d; omega) (by
      have : nativeFrameWords "java/lang/System" "arraycopy" 5 = 7 := by decide
      rw [this]
      show 2 * 0 + _ + _ ≤ 64 * d; omega)
  have e1 : copied (vp_cell (G'.2.1 t) (n0, .inl f)) (vp_cell (G'.2.1 t) (n1, .inl g)) sp dp n = vp_cell (G'.2.1 t) (n1, .inl (va_cpy f g sp.toNatClampNeg dp.toNatClampNeg n.toNatClampNeg)) := va_copied (fun z => .int z) _ _ f g h4
  rw [e1] at X' step
  have hl : q1 < H.size := (Array.getElem?_eq_some_iff.mp hc1).1
  have hheap : ((T.setVm vm').setCell q1 (vp_cell (G'.2.1 t) (n1, .inl (va_cpy f g sp.toNatClampNeg dp.toNatClampNeg n.toNatClampNeg)))).heap = H.setIfInBounds q1 (vp_cell (G'.2.1 t) (n1, .inl (va_cpy f g sp.toNatClampNeg dp.toNatClampNeg n.toNatClampNeg))) := by rw [← hT]; rfl
  obtain ⟨t2, a1, b1⟩ := k _ _ ls (hs.putL hw1 (show (H.setIfInBounds q1 _)[q1]? = some _ by simp [Array.getElem?_setIfInBounds, hl]) (by simp) (fun q hq => by simp [Array.getElem?_setIfInBounds, Ne.symm hq]) (fun z hz => by
    obtain ⟨y, -, hy⟩ := List.mem_map.mp hz
    rw [← hy])) hl' _ hheap X'
  exact ⟨t2, step t2 a1, b1⟩
theorem z_cpyL (X : ZX κ cc own nL ret nm l d mc ms G w0 post) {i t q0 q1 n0 n1 : Nat} {ty : FieldType} {f g : Nat → Int64} {sp dp n : Int32} (ht : (TYS G.2.1)[t]? = some (G.2.1 t, ty)) (hprim : refKind ty = false) (hw0 : w q0 = some (.inl (G.2.1 t, n0, .inr (.inl f)))) (hw1 : w q1 = some (.inl (G.2.1 t, n1, .inr (.inl g)))) (h1 : ¬ sp < 0) (h2 : ¬ dp < 0) (h3 : ¬ n < 0) (h4 : sp.toNatClampNeg + n.toNatClampNeg ≤ n0) (h5 : dp.toNatClampNeg + n.toNatClampNeg ≤ n1) (hfit : ∀ i, i < n.toNatClampNeg → fits ty (.long (f (sp.toNatClampNeg + i))) = true) (hdg : decode cc pc = .ok (.invokestatic i, 3)) (hq : Cond.methodLink own i arraycopyName ∈ lw_all) (hW : (rest.map fun v => v.category).sum ≤ 8) (hd : 3 ≤ d) (k : Z κ (gu w q1 (.inl (G.2.1 t, n1, .inr (.inl (va_cpy f g sp.toNatClampNeg dp.toNatClampNeg n.toNatClampNeg))))) lv a b (pc + 3) rest) : Z κ w lv a b pc (.int n :: .int dp :: .ref q1 :: .int sp :: .ref q0 :: rest) := by
  obtain ⟨p, l', e, R, s, m, args, below, meth, c, nL', G', w0', Q⟩ := κ
  obtain ⟨hx, hb, hml, hown, hts, hK, hr, hlk, hnm, rfl, rfl, rfl, rfl, rfl, hQ⟩ := X
  intro H locs ls hs hl'
  intro T hT X
  have hc0 : H[q0]? = some (vp_cell (G'.2.1 t) (n0, .inr (.inl f))) := hs.1.at hw0
  have hc1 : H[q1]? = some (vp_cell (G'.2.1 t) (n1, .inr (.inl g))) := hs.1.at hw1
  obtain ⟨-, k0, hk0, cm0, hkk0⟩ := (hK.1.2 t _ ht).1 n0 (fun j => .long (f j))
  obtain ⟨-, k1, hk1, cm1, hkk1⟩ := (hK.1.2 t _ ht).1 n1 (fun j => .long (g j))
  obtain ⟨vm', X', step⟩ := X.arraycopy hx hown (hts _ hq) (hts _ ac_n) (hts _ ac_i) (hts _ ac_s) (src := q0) (dst := q1) (cs := vp_cell (G'.2.1 t) (n0, .inr (.inl f))) (cd := vp_cell (G'.2.1 t) (n1, .inr (.inl g))) (srcPos := sp) (destPos := dp) (n := n) (by rw [hT]; exact hc0) (by rw [hT]; exact hc1)
    (fun _ h => by cases h) (fun _ h => by cases h) (fun h => by cases h) (fun h => by cases h) hk0 hk1 hkk0 hkk1 (by simp [hprim]) h1 h2 h3
    (by rw [nn_cl sp h1, nn_cl n h3, cell_sz]; show ¬ _ > (n0 : Int); omega)
    (by rw [nn_cl dp h2, nn_cl n h3, cell_sz]; show ¬ _ > (n1 : Int); omega)
    (fun vm₁ _ i hi => by
      have e : (vp_cell (G'.2.1 t) (n0, .inr (.inl f))).slots.getD (sp.toNatClampNeg + i) .null = .long (f (sp.toNatClampNeg + i)) := by
        show (arrV (G'.2.1 t) n0 (fun j => .long (f j))).slots.getD _ _ = _
        rw [Array.getD_eq_getD_getElem?, arrV_read _ _ (by omega)]
        rfl
      refine ⟨?_, ?_⟩
      · rw [e]
        exact hfit i hi
      · rw [e]
        exact trivial)
    (g := F0 m pc ls (.int n :: .int dp :: .ref q1 :: .int sp :: .ref q0 :: rest)) rfl (by show ls.size = c.maxLocals; rw [hml]; exact hl'.1) (rest := rest) rfl (by rw [hb]; exact hdg) (by show 1 ≤ d; omega) (by
      have : nativeFrameWords "java/lang/System" "arraycopy" 5 = 7 := by decide
      rw [this]
      show 2 * 0 + _ + _ ≤ 64 * d; omega)
  have e1 : copied (vp_cell (G'.2.1 t) (n0, .inr (.inl f))) (vp_cell (G'.2.1 t) (n1, .inr (.inl g))) sp dp n = vp_cell (G'.2.1 t) (n1, .inr (.inl (va_cpy f g sp.toNatClampNeg dp.toNatClampNeg n.toNatClampNeg))) := va_copied (fun z => .long z) _ _ f g h4
  rw [e1] at X' step
  have hl : q1 < H.size := (Array.getElem?_eq_some_iff.mp hc1).1
  have hheap : ((T.setVm vm').setCell q1 (vp_cell (G'.2.1 t) (n1, .inr (.inl (va_cpy f g sp.toNatClampNeg dp.toNatClampNeg n.toNatClampNeg))))).heap = H.setIfInBounds q1 (vp_cell (G'.2.1 t) (n1, .inr (.inl (va_cpy f g sp.toNatClampNeg dp.toNatClampNeg n.toNatClampNeg)))) := by rw [← hT]; rfl
  obtain ⟨t2, a1, b1⟩ := k _ _ ls (hs.putL hw1 (show (H.setIfInBounds q1 _)[q1]? = some _ by simp [Array.getElem?_setIfInBounds, hl]) (by simp) (fun q hq => by simp [Array.getElem?_setIfInBounds, Ne.symm hq]) (fun z hz => by
    obtain ⟨y, -, hy⟩ := List.mem_map.mp hz
    rw [← hy])) hl' _ hheap X'
  exact ⟨t2, step t2 a1, b1⟩
theorem zt_acT (X : ZX κ cc own nL ret nm l d mc ms G w0 post) (V : ZV κ) {i t0 t1 q0 q1 : Nat} {ty0 ty1 : FieldType} {x0 x1 : vp_A} {sp dp n : Int32} (ht0 : (TYS G.2.1)[t0]? = some (G.2.1 t0, ty0)) (ht1 : (TYS G.2.1)[t1]? = some (G.2.1 t1, ty1)) (hw0 : w q0 = some (.inl (G.2.1 t0, x0))) (hw1 : w q1 = some (.inl (G.2.1 t1, x1))) (hty : ((refKind ty0 != refKind ty1) || (!refKind ty0 && ty0 != ty1)) = true) (hdg : decode cc pc = .ok (.invokestatic i, 3)) (hq : Cond.methodLink own i arraycopyName ∈ lw_all) (hW : (rest.map fun v => v.category).sum ≤ 8) (hd : 162 ≤ d) (hf : a + 3 ≤ mc ∧ b + 314 ≤ ms) (k : ∀ q : Nat, ZT κ "java/lang/ArrayStoreException" q w lv (a + 3) (b + 314) pc) : Z κ w lv a b pc (.int n :: .int dp :: .ref q1 :: .int sp :: .ref q0 :: rest) := by
  obtain ⟨p, l', e, R, s, m, args, below, meth, c, nL', G', w0', Q⟩ := κ
  obtain ⟨hx, hb, hml, hown, hts, hK, hr, hlk, hnm, rfl, rfl, rfl, rfl, rfl, hQ⟩ := X
  intro H locs ls hs hl'
  obtain ⟨hP0, hl⟩ := V
  have hkp : ∀ q : Nat, q < G'.2.2.heap.size → ¬ kA G' q → s.heap[q]? = G'.2.2.heap[q]? := fun q hq _ => hP0.2.2 q hq
  have hloc : (rest.map fun v => v.category).sum + (nativeFrameWords "java/lang/System" "arraycopy" 5 + 11) ≤ 64 * d := by
    have : nativeFrameWords "java/lang/System" "arraycopy" 5 = 7 := by decide
    rw [this]; omega
  exact vx_acopyT hx hb (by rw [hml]; exact hl'.1.symm) hown (hts _ hq) (hts _ ac_n) (hts _ ac_i) (hts _ ac_s) rfl rfl
    (fun S E' hS hA h => by
      obtain ⟨-, k0, hk0, cm0, hkk0⟩ := (hK.1.2 t0 _ ht0).1 0 (fun j => .null)
      obtain ⟨-, k1, hk1, cm1, hkk1⟩ := (hK.1.2 t1 _ ht1).1 0 (fun j => .null)
      obtain ⟨k0', hk0', he0⟩ := hA.2.2 _ _ hk0
      obtain ⟨k1', hk1', he1⟩ := hA.2.2 _ _ hk1
      have hc0 : H[q0]? = some (vp_cell (G'.2.1 t0) x0) := hs.1.at hw0
      have hc1 : H[q1]? = some (vp_cell (G'.2.1 t1) x1) := hs.1.at hw1
      exact wp_acT (by rw [hS]; exact hc0) (by rw [hS]; exact hc1) (fun _ h => by rw [cell_vm] at h; cases h) (fun _ h => by rw [cell_vm] at h; cases h) (by rw [cell_cls]; exact hk0') (by rw [cell_cls]; exact hk1') (by rw [he0]; exact hkk0) (by rw [he1]; exact hkk1) hty  h)
    (by show 1 ≤ d; omega) hloc hdg
    (vx_vmN (A := gA w0' s.heap.size) (cls := "java/lang/ArrayStoreException") (names := ["java/lang/RuntimeException", "java/lang/Exception"]) (nb := 304) hx hl zmS.2.2.2.1 zmS.2.2.2.2.1 zmS.2.2.2.2.2.1 zmS.2.2.2.2.2.2.1 (fun w h => hK.word hts (zmS.1 w h) (zmS.2.1 w h)) zmS.2.2.1 (((kU hK).kept hkp).narrow (gA_k hP0)) (((kS hK).kept hkp).narrow (gA_k hP0)) hs.2.2 (by rw [hml]; exact hl'.1) (acText_mod ty0 ty1) (txt_bytes (acText_len ty0 ty1)) (by omega) (by show _ < d; simp only [List.length_cons, List.length_nil]; omega) (by show _ ≤ 64 * d; omega) (by simp only [List.length_cons, List.length_nil]; omega) (by show _ ≤ mc; omega) (by show _ ≤ ms; omega) hlk
      (fun H1 q9 ce hz hk hS hce hv hcl => k q9 H1 locs ls ce rest ⟨hs.1.kept hz hk, hs.2.1, hS⟩ hl' hce hv hcl))
theorem zt_acB (X : ZX κ cc own nL ret nm l d mc ms G w0 post) (V : ZV κ) {i t0 t1 q0 q1 : Nat} {ty0 ty1 : FieldType} {x0 x1 : vp_A} {sp dp n : Int32} {t : String} (ht0 : (TYS G.2.1)[t0]? = some (G.2.1 t0, ty0)) (ht1 : (TYS G.2.1)[t1]? = some (G.2.1 t1, ty1)) (hw0 : w q0 = some (.inl (G.2.1 t0, x0))) (hw1 : w q1 = some (.inl (G.2.1 t1, x1))) (hty : ((refKind ty0 != refKind ty1) || (!refKind ty0 && ty0 != ty1)) = false) (hn0 : x0.1 < 2 ^ 31) (hn1 : x1.1 < 2 ^ 31) (ht : acWhat ty0 ty1 x0.1 x1.1 sp dp n = some t) (hdg : decode cc pc = .ok (.invokestatic i, 3)) (hq : Cond.methodLink own i arraycopyName ∈ lw_all) (hW : (rest.map fun v => v.category).sum ≤ 8) (hd : 162 ≤ d) (hf : a + 3 ≤ mc ∧ b + 410 ≤ ms) (k : ∀ q : Nat, ZT κ "java/lang/ArrayIndexOutOfBoundsException" q w lv (a + 3) (b + 410) pc) : Z κ w lv a b pc (.int n :: .int dp :: .ref q1 :: .int sp :: .ref q0 :: rest) := by
  obtain ⟨p, l', e, R, s, m, args, below, meth, c, nL', G', w0', Q⟩ := κ
  obtain ⟨hx, hb, hml, hown, hts, hK, hr, hlk, hnm, rfl, rfl, rfl, rfl, rfl, hQ⟩ := X
  intro H locs ls hs hl'
  obtain ⟨hP0, hl⟩ := V
  have hkp : ∀ q : Nat, q < G'.2.2.heap.size → ¬ kA G' q → s.heap[q]? = G'.2.2.heap[q]? := fun q hq _ => hP0.2.2 q hq
  have hloc : (rest.map fun v => v.category).sum + (nativeFrameWords "java/lang/System" "arraycopy" 5 + 11) ≤ 64 * d := by
    have : nativeFrameWords "java/lang/System" "arraycopy" 5 = 7 := by decide
    rw [this]; omega
  exact vx_acopyT hx hb (by rw [hml]; exact hl'.1.symm) hown (hts _ hq) (hts _ ac_n) (hts _ ac_i) (hts _ ac_s) rfl rfl
    (fun S E' hS hA h => by
      obtain ⟨-, k0, hk0, cm0, hkk0⟩ := (hK.1.2 t0 _ ht0).1 0 (fun j => .null)
      obtain ⟨-, k1, hk1, cm1, hkk1⟩ := (hK.1.2 t1 _ ht1).1 0 (fun j => .null)
      obtain ⟨k0', hk0', he0⟩ := hA.2.2 _ _ hk0
      obtain ⟨k1', hk1', he1⟩ := hA.2.2 _ _ hk1
      have hc0 : H[q0]? = some (vp_cell (G'.2.1 t0) x0) := hs.1.at hw0
      have hc1 : H[q1]? = some (vp_cell (G'.2.1 t1) x1) := hs.1.at hw1
      exact wp_acB (by rw [hS]; exact hc0) (by rw [hS]; exact hc1) (fun _ h => by rw [cell_vm] at h; cases h) (fun _ h => by rw [cell_vm] at h; cases h) (by rw [cell_cls]; exact hk0') (by rw [cell_cls]; exact hk1') (by rw [he0]; exact hkk0) (by rw [he1]; exact hkk1) hty (by rw [cell_sz, cell_sz]; exact ht) h)
    (by show 1 ≤ d; omega) hloc hdg
    (vx_vmN (A := gA w0' s.heap.size) (cls := "java/lang/ArrayIndexOutOfBoundsException") (names := ["java/lang/IndexOutOfBoundsException", "java/lang/RuntimeException", "java/lang/Exception"]) (nb := 400) hx hl zmA.2.2.2.1 zmA.2.2.2.2.1 zmA.2.2.2.2.2.1 zmA.2.2.2.2.2.2.1 (fun w h => hK.word hts (zmA.1 w h) (zmA.2.1 w h)) zmA.2.2.1 (((kU hK).kept hkp).narrow (gA_k hP0)) (((kS hK).kept hkp).narrow (gA_k hP0)) hs.2.2 (by rw [hml]; exact hl'.1) txt_ac (txt_bytes (acWhat_len hn0 hn1 ht)) (by omega) (by show _ < d; simp only [List.length_cons, List.length_nil]; omega) (by show _ ≤ 64 * d; omega) (by simp only [List.length_cons, List.length_nil]; omega) (by show _ ≤ mc; omega) (by show _ ≤ ms; omega) hlk
      (fun H1 q9 ce hz hk hS hce hv hcl => k q9 H1 locs ls ce rest ⟨hs.1.kept hz hk, hs.2.1, hS⟩ hl' hce hv hcl))
theorem zt_acN (X : ZX κ cc own nL ret nm l d mc ms G w0 post) (V : ZV κ) {i : Nat} {v0 v1 : Value} {sp dp n : Int32} (c0 : v0.isRef = true) (c1 : v1.isRef = true) (hz : v0 = .null ∨ ∃ q, v0 = .ref q ∧ v1 = .null) (hdg : decode cc pc = .ok (.invokestatic i, 3)) (hq : Cond.methodLink own i arraycopyName ∈ lw_all) (hW : (rest.map fun v => v.category).sum ≤ 8) (hd : 162 ≤ d) (hf : a + 1 ≤ mc ∧ b + 8 ≤ ms) (k : ∀ q : Nat, ZT κ "java/lang/NullPointerException" q w lv (a + 1) (b + 8) pc) : Z κ w lv a b pc (.int n :: .int dp :: v1 :: .int sp :: v0 :: rest) := by
  obtain ⟨p, l', e, R, s, m, args, below, meth, c, nL', G', w0', Q⟩ := κ
  obtain ⟨hx, hb, hml, hown, hts, hK, hr, hlk, hnm, rfl, rfl, rfl, rfl, rfl, hQ⟩ := X
  intro H locs ls hs hl'
  obtain ⟨hP0, hl⟩ := V
  have hkp : ∀ q : Nat, q < G'.2.2.heap.size → ¬ kA G' q → s.heap[q]? = G'.2.2.heap[q]? := fun q hq _ => hP0.2.2 q hq
  have hloc : (rest.map fun v => v.category).sum + (nativeFrameWords "java/lang/System" "arraycopy" 5 + 11) ≤ 64 * d := by
    have : nativeFrameWords "java/lang/System" "arraycopy" 5 = 7 := by decide
    rw [this]; omega
  exact vx_acopyT hx hb (by rw [hml]; exact hl'.1.symm) hown (hts _ hq) (hts _ ac_n) (hts _ ac_i) (hts _ ac_s) c0 c1
    (fun S E' hS hA h => by
      rcases hz with rfl | ⟨q, rfl, rfl⟩
      · exact wp_ac0 h
      · exact wp_ac1 h)
    (by show 1 ≤ d; omega) hloc hdg
    (vx_npeN (A := gA w0' s.heap.size) hx hl (fun w h => hK.word hts (atN w h) (agN2 w h)) agN (((kU hK).kept hkp).narrow (gA_k hP0)) (((kS hK).kept hkp).narrow (gA_k hP0)) hs.2.2 (by rw [hml]; exact hl'.1) (by show _ < d; omega) (by show _ ≤ 64 * d; omega) (by show _ ≤ mc; omega) (by show _ ≤ ms; omega) hlk
      (fun H1 q9 ce hz hk hS hce hv hcl => k q9 H1 locs ls ce rest ⟨hs.1.kept hz hk, hs.2.1, hS⟩ hl' hce hv hcl))
end ZA
