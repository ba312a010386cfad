/-! ARRAYS OF ARRAYS made at once; a fill of an array -/
set_option maxRecDepth 100000
theorem aoA_moved {t : FieldType} {u U : State} (hvm : u.vm.Alike U.vm) (h : (Cond.arrayOver (.array t)).before #[] u = true) : (Cond.arrayOver (.array t)).before #[] U = true := by
  have h0 := h
  unfold Cond.before at h
  simp only [Cond.holds, Cond.value, beq_iff_eq] at h
  cases hc : u.vm.findClass (FieldType.array t).toString with
  | none => simp [hc] at h
  | some comp =>
    simp only [hc, Option.bind_some, Option.bind_eq_some_iff, Option.map_eq_some_iff] at h
    obtain ⟨c, hi, k, hk, hb⟩ := h
    obtain ⟨k', hk', he⟩ := hvm.2.2 _ _ hk
    have hi2 : (U.vm.classes.findIdx? fun (x : Class) => match x.kind with | .array component _ => component == comp | _ => false) = some c := by
      have e1 := va_idx_bare U.vm comp
      have e2 := va_idx_bare u.vm comp
      have eb : U.vm.bare = u.vm.bare := by first | exact hvm.bare_eq | exact hvm.bare_eq.symm
      rw [eb] at e1
      exact e1.symm.trans (e2.trans hi)
    have f1 : U.vm.findClass (FieldType.array t).toString = some comp := by rw [hvm.findClass]; exact hc
    have hkind : k'.kind = k.kind := by rw [he]
    unfold Cond.before Cond.holds
    simp only [Cond.value]
    rw [f1, Option.bind_some]
    refine (congrArg (fun o : Option Nat => (o.bind (fun c => (U.vm.classes[c]?).map fun (k : Class) => match k.kind with | .array _ ty => decide (ty = FieldType.array t) && decide (U.vm.findClass ("[" ++ (FieldType.array t).toString) = some c) | _ => false) == some true)) hi2).trans ?_
    simp only [Option.bind_some, hk', Option.map_some, hkind]
    rw [hvm.findClass]
    simp only [beq_iff_eq, Option.some.injEq]
    exact hb
theorem gK.aover {G : GG} {s : State} {args : Array Value} (hK : gK G s) {t : FieldType} (h : Cond.arrayOver (.array t) ∈ lw_tbl) : (Cond.arrayOver (.array t)).before args s = true := by
  obtain ⟨-, s0, b, h2, -, hW⟩ := hK
  have hb := h2.1 _ h
  have h3 : (Cond.arrayOver (.array t)).before #[] s0 = true := by
    unfold Cond.before Cond.holds at hb ⊢
    simp only [Cond.value] at hb ⊢
    exact hb
  have h4 := aoA_moved (U := s0.setVm s.vm) hW.alike h3
  unfold Cond.before Cond.holds at h4 ⊢
  simp only [Cond.value] at h4 ⊢
  exact h4
theorem gS.grow {G : GG} {w0 w w1 : GW} {H0 H H1 : Heap} {locs : List Loc} (hs : gS G w0 H0 w H locs) (z : H.size ≤ H1.size) (oq : ∀ q : Nat, q < H.size → H1[q]? = H[q]?) (h1 : ∀ a e, w1 a = some e → w a = some e ∨ (H.size ≤ a ∧ va_at G.1 CL (a, e) H1)) : gS G w0 H0 w1 H1 locs := by
  obtain ⟨hP, hd, hS⟩ := hs
  refine ⟨⟨fun b e hb => ?_, Nat.le_trans hP.2.1 z, fun b hb => ?_⟩, fun b e hb => ?_, ⟨Nat.le_trans hS.1 z, fun q h1 h2 => ?_, hS.2.2⟩⟩
  · rcases h1 b e hb with h | h
    · exact ⟨(hP.1 b e h).1, (hP.at h).kept (oq b (hP.lt h))⟩
    · exact ⟨Nat.le_trans hP.2.1 h.1, h.2⟩
  · rw [oq b (Nat.lt_of_lt_of_le hb hP.2.1)]
    exact hP.2.2 b hb
  · rcases h1 b e hb with h | h
    · exact hd b e h
    · exact Or.inr (Nat.le_trans hS.1 h.1)
  · rw [oq q (Nat.lt_of_lt_of_le h1 hS.1)]
    exact hS.2.1 q h1 h2
/-- an outer cell at q, N inner ones behind it -/
def gmw (w : GW) (q N : Nat) (eo ei : va_E) : GW := fun a => if a = q then some eo else if q < a ∧ a ≤ q + N then some ei else w a
theorem gmw_o {w : GW} {q N : Nat} {eo ei : va_E} : gmw w q N eo ei q = some eo := by simp [gmw]
theorem gmw_i {w : GW} {q N j : Nat} {eo ei : va_E} (h : j < N) : gmw w q N eo ei (q + 1 + j) = some ei := by
  unfold gmw; rw [if_neg (by omega), if_pos (by omega)]
theorem gmw_k {w : GW} {q N : Nat} {eo ei : va_E} (hf : ∀ j, j ≤ N → w (q + j) = none) {b : Nat} {e : va_E} (hb : w b = some e) : gmw w q N eo ei b = some e := by
  unfold gmw
  rw [if_neg (fun h => ?_), if_neg (fun h => ?_)]
  · exact hb
  · have := hf (b - q) (by omega)
    rw [show q + (b - q) = b by omega, hb] at this
    cases this
  · have := hf 0 (by omega)
    rw [Nat.add_zero, ← h, hb] at this
    cases this
theorem outer_mh (c : ClassId) (N h0 : Nat) : ∀ i, (Jvm.Free.Multi.outerC c N h0 i).monitor = ({ cls := c, slots := #[], vm := .none } : Cell).monitor ∧ (Jvm.Free.Multi.outerC c N h0 i).hash = ({ cls := c, slots := #[], vm := .none } : Cell).hash
  | 0 => ⟨rfl, rfl⟩
  | i + 1 => by
    obtain ⟨a, b⟩ := outer_mh c N h0 i
    exact ⟨by simp [Jvm.Free.Multi.outerC, Cell.setSlot, a], by simp [Jvm.Free.Multi.outerC, Cell.setSlot, b]⟩
theorem outer_vp {c : ClassId} {N h0 : Nat} : Jvm.Free.Multi.outerC c N h0 N = vp_cell c (N, .inr (.inr (.inr (.inr (fun j => some (h0 + 1 + j)))))) := by
  rw [vp_cell_q]
  obtain ⟨h1, h2, h3⟩ := Jvm.Free.Multi.outerC_facts c N h0 N
  have hs : (Jvm.Free.Multi.outerC c N h0 N).slots = (arrV c N (fun j => va_rf (some (h0 + 1 + j)))).slots := by
    refine Array.ext_getElem? fun j => ?_
    by_cases hj : j < N
    · rw [Jvm.Free.Multi.outerC_slot c N h0 N j hj, if_pos hj, arrV_read _ _ hj]; rfl
    · rw [Array.getElem?_eq_none (by rw [h3]; omega), Array.getElem?_eq_none (by rw [arrV_size]; omega)]
  have e : ∀ x y : Cell, x.cls = y.cls → x.slots = y.slots → x.vm = y.vm → x.monitor = y.monitor → x.hash = y.hash → x = y := by
    intro x y a b c d f
    cases x; cases y
    simp only at a b c d f
    subst a; subst b; subst c; subst d; subst f
    rfl
  exact e _ _ h1 hs h2 (outer_mh c N h0 N).1 (outer_mh c N h0 N).2
section ZMW
variable {κ : ZK} {cc : ByteArray} {own nm : String} {nL : Nat} {ret : Option FieldType} {l : Launch} {d mc ms : Nat} {G : GG} {w0 w : GW} {post : Option Value → GW → Prop} {lv : List (Nat × Value)} {a b pc : Nat} {st : List Value}
theorem z_manew (X : ZX κ cc own nL ret nm l d mc ms G w0 post) {i : Nat} {n k : Int32} (N K : Nat) {ty : FieldType} (ti to : Nat) {ei : vp_A} (hdg : decode cc pc = .ok (.multianewarray i 2, 4)) (hcl : Cond.classLink own i ("[" ++ (FieldType.array ty).toString) ∈ lw_all) (hov : Cond.arrayOver (.array ty) ∈ lw_tbl) (har : Cond.arrayClass ty ∈ lw_all) (hn : ¬ n < 0) (hk : ¬ k < 0) (hN : n.toNatClampNeg = N) (hKe : k.toNatClampNeg = K) (hb1 : N * 4 ≤ 536870912) (hb2 : K * componentBytes ty ≤ 536870912) (hb3 : K ≤ 536870912) (hdf : fits ty (defaultValue ty) = true) (hdd : (defaultValue ty).isDefault = true)
    (hti : (TYS G.2.1)[ti]? = some (G.2.1 ti, ty)) (hto : (TYS G.2.1)[to]? = some (G.2.1 to, .array ty)) (hfi : ∀ U : State, va_RA U (G.2.1 ti) ty → U.vm.findClass (FieldType.array ty).toString = some (G.2.1 ti)) (hei : ∀ cA, vp_cell cA ei = arrV cA K (fun _ => defaultValue ty))
    (hc : a + (1 + N) ≤ mc) (hs2 : b + (N + N * K) ≤ ms)
    (kk : ∀ q : Nat, (∀ j, j ≤ N → w (q + j) = none) → Z κ (gmw w q N (.inl (G.2.1 to, N, .inr (.inr (.inr (.inr (fun j => some (q + 1 + j))))))) (.inl (G.2.1 ti, ei))) lv (a + 1 + N) (b + N + N * K) (pc + 4) (.ref q :: st)) : Z κ w lv a b pc (.int k :: .int n :: st) := by
  subst hN; subst hKe
  obtain ⟨p, l', e, R, s, m, args, below, meth, c, nL', G', w0', Q⟩ := κ
  obtain ⟨hx, hb, hml, hown, hts, hK, hr, hlk, hnm, rfl, rfl, rfl, rfl, rfl, hQ⟩ := X
  intro H locs ls hs hl T hT X
  subst hT
  obtain ⟨vm₁, cA, comp, hW, hfA, hfC, hO, hI, X1, step⟩ := X.multianewarray2F hx hown (hts _ hcl) (hK.aover hov) (hts _ har) (g := F0 m pc ls (.int k :: .int n :: st)) rfl (by rw [hb]; exact hdg) rfl hn hk hb1 hb2 hb3 hdf hdd hc hs2
  have c1 : G'.2.1 to = cA := Option.some.inj ((hK.1.2 to _ hto).2.symm.trans hfA)
  have c2 : G'.2.1 ti = comp := Option.some.inj ((hfi _ (hK.1.2 ti _ hti).2).symm.trans hfC)
  subst c1; subst c2
  have hfr : ∀ j, w (T.heap.size + j) = none := fun j => by
    cases hw : w (T.heap.size + j) with
    | none => rfl
    | some e => exact absurd (hs.1.lt hw) (by omega)
  have hff := Jvm.Free.Multi.fill_facts (T.setVm vm₁) (G'.2.1 to) (G'.2.1 ti) n.toNatClampNeg k.toNatClampNeg (defaultValue ty) n.toNatClampNeg
  have hsz : (T.setVm vm₁).heap.size = T.heap.size := rfl
  obtain ⟨t, a1, b1⟩ := kk T.heap.size (fun j _ => hfr j) _ locs ls (hs.grow (H1 := (Jvm.Free.Multi.fill (T.setVm vm₁) (G'.2.1 to) (G'.2.1 ti) n.toNatClampNeg k.toNatClampNeg (defaultValue ty) n.toNatClampNeg).heap) (by rw [hff.1, hsz]; omega) (fun q hq => Jvm.Free.Multi.fill_old (T.setVm vm₁) _ _ _ _ _ hq _) (fun b2 e2 h => by
    unfold gmw at h
    by_cases e1 : b2 = T.heap.size
    · rw [if_pos e1] at h
      cases h
      refine Or.inr ⟨by omega, ?_⟩
      show _ = some (vp_cell _ _)
      rw [e1, ← outer_vp]
      exact hff.2.1
    · rw [if_neg e1] at h
      by_cases e3 : T.heap.size < b2 ∧ b2 ≤ T.heap.size + n.toNatClampNeg
      · rw [if_pos e3] at h
        cases h
        refine Or.inr ⟨by omega, ?_⟩
        show _ = some (vp_cell _ _)
        have := Jvm.Free.Multi.fill_inner (T.setVm vm₁) (G'.2.1 to) (G'.2.1 ti) n.toNatClampNeg k.toNatClampNeg (defaultValue ty) n.toNatClampNeg (b2 - T.heap.size - 1) (by omega)
        rw [hsz, show T.heap.size + 1 + (b2 - T.heap.size - 1) = b2 by omega] at this
        rw [this, hei, ← arrV_new]
        rfl
      · rw [if_neg e3] at h
        exact Or.inl h)) hl _ rfl X1
  exact ⟨t, step t a1, b1⟩
end ZMW
