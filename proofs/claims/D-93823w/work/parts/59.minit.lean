/-! THE MODEL: made anew -/
set_option maxRecDepth 100000
section ZE
variable {κ : ZK} {cc : ByteArray} {own nm : String} {nL : Nat} {ret : Option FieldType} {l : Launch} {d mc ms : Nat} {G : GG} {w0 w : GW} {post : Option Value → GW → Prop} {lv lv2 : List (Nat × Value)} {a b pc : Nat} {st rest : List Value}
/-- another way to say the same world -/
theorem Z.eqv (X : ZX κ cc own nL ret nm l d mc ms G w0 post) {w2 : GW} (h : ∀ x e2, w2 x = some e2 → ∃ e, w x = some e ∧ ∀ H, va_at G.1 CL (x, e) H → va_at G.1 CL (x, e2) H) (k : Z κ w2 lv a b pc st) : Z κ w lv a b pc st := by
  obtain ⟨p, l, e, R, s, m, args, below, meth, c, nL, G, w0, Q⟩ := κ
  obtain ⟨hx, hb, hml, hown, hts, hK, hr, hlk, hnm, rfl, rfl, rfl, rfl, rfl, hQ⟩ := X
  intro H locs ls hs hl
  refine k H locs ls ⟨⟨fun x e2 hx2 => ?_, hs.1.2⟩, fun x e2 hx2 => ?_, hs.2.2⟩ hl
  · obtain ⟨e1, h1, h2⟩ := h x e2 hx2
    exact ⟨(hs.1.1 x e1 h1).1, h2 H (hs.1.at h1)⟩
  · obtain ⟨e1, h1, h2⟩ := h x e2 hx2
    exact hs.2.1 x e1 h1
end ZE
/-- references beyond an array length don't count -/
theorem vp_refs {c : ClassId} {n : Nat} {f g : Nat → Option Nat} (h : ∀ j, j < n → f j = g j) : vp_cell c (n, .inr (.inr (.inr (.inr f)))) = vp_cell c (n, .inr (.inr (.inr (.inr g)))) := by
  rw [vp_cell_q, vp_cell_q]
  unfold arrV
  have e : (fun (j : Fin n) => va_rf (f j.val)) = fun (j : Fin n) => va_rf (g j.val) := funext fun j => by rw [h j.val j.isLt]
  rw [e]
def m0 : MSt := (fun c => if c = 11 then upd (upd (upd (fun _ => 0) 0 (nI 2)) 1 (nI 2)) 2 (nI 2) else if c = 13 then upd (upd (upd (fun _ => 0) 0 (nI 3)) 1 (nI 3)) 2 (nI 3) else if c = 16 then upd (upd (fun _ => 0) 0 (nI 0)) 1 (nI 5) else fun _ => 0, fun _ _ => 0, fun k => if k = 17 then nI 1 else 0, fun _ => 0, fun _ => none)
/-- its fields when those below k are set -/
def iFs (k : Nat) (ad : Nat → Nat) : List Value := [(if 0 < k then .ref (ad 1) else .null), (if 1 < k then .ref (ad 2) else .null), (if 2 < k then .ref (ad 3) else .null), (if 3 < k then .ref (ad 4) else .null), (if 4 < k then .ref (ad 5) else .null), (if 5 < k then .ref (ad 6) else .null), (if 6 < k then .ref (ad 7) else .null), (if 7 < k then .ref (ad 8) else .null), .int 0, (if 9 < k then .ref (ad 10) else .null), (if 10 < k then .ref (ad 11) else .null), (if 11 < k then .ref (ad 12) else .null), (if 12 < k then .ref (ad 13) else .null), .int 0, (if 14 < k then .ref (ad 15) else .null), (if 15 < k then .ref (ad 16) else .null), (if 16 < k then .ref (ad 17) else .null), (if 17 < k then .int (nI 1) else .int 0), .null, .null, .int 0, .int 0, .int 0, .long 0, .int 0, (if 25 < k then .ref (ad 26) else .null), .int 0, (if 27 < k then .ref (ad 28) else .null), (if 28 < k then .ref (ad 29) else .null), (if 29 < k then .ref (ad 30) else .null), (if 30 < k then .ref (ad 31) else .null), (if 31 < k then .ref (ad 32) else .null), (if 32 < k then .ref (ad 33) else .null), .long 0, .int 0, .int 0, .int 0, .int 0]
def iOut (G : GG) (ad : Nat → Nat) (i : Nat) : va_E := if i = 4 then .inl (G.2.1 6, 8, .inr (.inr (.inr (.inr (fun j => some (ad 4 + 1 + j)))))) else if i = 15 then .inl (G.2.1 5, 6, .inr (.inr (.inr (.inr (fun j => some (ad 15 + 1 + j)))))) else if i = 28 then .inl (G.2.1 5, 6, .inr (.inr (.inr (.inr (fun j => some (ad 28 + 1 + j)))))) else .inl (G.2.1 6, 25, .inr (.inr (.inr (.inr (fun j => some (ad 29 + 1 + j))))))
def iCt (G : GG) (k : Nat) (ad : Nat → Nat) (i : Nat) : va_E := if i = 0 then .inr (4, iFs k ad) else if mK i = 0 then .inl (G.2.1 0, mLen i, .inl (m0.1 i)) else if mK i = 1 then .inl (G.2.1 1, mLen i, .inr (.inl (m0.2.1 i))) else iOut G ad i
def updN (ad : Nat → Nat) (c a : Nat) : Nat → Nat := fun i => if i = c then a else ad i
def updB (ad : Nat → Nat) (c b N a : Nat) : Nat → Nat := fun i => if i = c then a else if b ≤ i ∧ i < b + N then a + 1 + (i - b) else ad i
/-- the cells in L are made, fields below k set -/
def blk (b N c : Nat) : Prop := (c = 4 ∧ b = 40 ∧ N = 8) ∨ (c = 15 ∧ b = 50 ∧ N = 6) ∨ (c = 28 ∧ b = 60 ∧ N = 6) ∨ (c = 29 ∧ b = 70 ∧ N = 25)
theorem m0_b {i : Nat} (h : 20 ≤ i) : m0.1 i = fun _ => 0 := by
  show ite _ _ _ = _
  rw [if_neg (by omega), if_neg (by omega), if_neg (by omega)]
def IP (G : GG) (wb w : GW) (q : Nat) (L : List Nat) (k : Nat) (ad : Nat → Nat) : Prop := ad 0 = q ∧ 0 ∈ L ∧ (∀ i, i ∈ L → w (ad i) = some (iCt G k ad i)) ∧ (∀ i j, i ∈ L → j ∈ L → ad i = ad j → i = j) ∧ (∀ b e, b ≠ q → wb b = some e → w b = some e) ∧ (∀ i, i ∈ L → i ≠ 0 → wb (ad i) = none) ∧ ∀ b N c, blk b N c → c ∈ L → ∀ j, j < N → b + j ∈ L ∧ ad (b + j) = ad c + 1 + j
theorem mK_out {i : Nat} (h1 : ¬ mK i = 0) (h2 : ¬ mK i = 1) : i = 0 ∨ i = 4 ∨ i = 15 ∨ i = 28 ∨ i = 29 := by
  unfold mK at h1 h2
  by_cases a0 : i = 0
  · omega
  by_cases a1 : i = 4
  · omega
  by_cases a2 : i = 15
  · omega
  by_cases a3 : i = 28
  · omega
  by_cases a4 : i = 29
  · omega
  rw [if_neg a0, if_neg a1, if_neg a2, if_neg a3, if_neg a4] at h1 h2
  exfalso
  by_cases b1 : i = 5
  · rw [if_pos b1] at h2; exact h2 rfl
  rw [if_neg b1] at h1 h2
  by_cases b2 : i = 30
  · rw [if_pos b2] at h2; exact h2 rfl
  rw [if_neg b2] at h1 h2
  by_cases b3 : 70 ≤ i
  · rw [if_pos b3] at h2; exact h2 rfl
  rw [if_neg b3] at h1 h2
  by_cases b4 : 40 ≤ i ∧ i < 48
  · rw [if_pos b4] at h2; exact h2 rfl
  rw [if_neg b4] at h1
  exact h1 rfl
section IPS
variable {G : GG} {wb w : GW} {q k : Nat} {L : List Nat} {ad : Nat → Nat}
theorem IP.o (h : IP G wb w q L k ad) : w q = some (.inr (4, iFs k ad)) := by
  have := h.2.2.1 0 h.2.1
  rw [h.1] at this
  exact this
theorem IP.ct {ad2 : Nat → Nat} {k2 i : Nat} (h0 : i ≠ 0) (he : ad2 i = ad i) : iCt G k2 ad2 i = iCt G k ad i := by
  unfold iCt
  rw [if_neg h0, if_neg h0]
  by_cases h1 : mK i = 0
  · rw [if_pos h1, if_pos h1]
  rw [if_neg h1, if_neg h1]
  by_cases h2 : mK i = 1
  · rw [if_pos h2, if_pos h2]
  rw [if_neg h2, if_neg h2]
  unfold iOut
  have hi := mK_out h1 h2
  rcases hi with rfl | rfl | rfl | rfl | rfl
  · exact absurd rfl h0
  · rw [if_pos (by omega), if_pos (by omega), he]
  · rw [if_neg (by omega), if_pos (by omega), if_neg (by omega), if_pos (by omega), he]
  · rw [if_neg (by omega), if_neg (by omega), if_pos (by omega), if_neg (by omega), if_neg (by omega), if_pos (by omega), he]
  · rw [if_neg (by omega), if_neg (by omega), if_neg (by omega), if_neg (by omega), if_neg (by omega), if_neg (by omega), he]
/-- a new array is made and set -/
theorem IP.add (h : IP G wb w q L k ad) {c a k2 : Nat} {e : va_E} {fs : List Value} (ha : w a = none) (hc : c ∉ L) (he : iCt G k2 (updN ad c a) c = e) (hfs : fs = iFs k2 (updN ad c a)) (hnb : c ≠ 4 ∧ c ≠ 15 ∧ c ≠ 28 ∧ c ≠ 29) : IP G wb (gu (gu w a e) q (.inr (4, fs))) q (c :: L) k2 (updN ad c a) := by
  obtain ⟨h1, h2, h3, h4, h5, h6, h7⟩ := id h
  have hc0 : c ≠ 0 := fun e => hc (e ▸ h2)
  have ho : ∀ i, i ∈ L → updN ad c a i = ad i := fun i hi => by
    unfold updN
    exact if_neg (fun e => hc (by rw [← e]; exact hi))
  have hcc : updN ad c a c = a := if_pos rfl
  have hne : ∀ i, i ∈ L → ad i ≠ a := fun i hi e2 => by have := h3 i hi; rw [e2, ha] at this; cases this
  have hqa : q ≠ a := fun e2 => hne 0 h2 (h1.trans e2)
  refine ⟨by rw [ho 0 h2]; exact h1, List.mem_cons_of_mem _ h2, fun i hi => ?_, fun i j hi hj hij => ?_, fun b e2 hb hw => ?_, fun i hi hi0 => ?_, fun b N c2 hb hc2 j hj => ?_⟩
  · rcases List.mem_cons.mp hi with rfl | hi
    · rw [hcc, gu_n (Ne.symm hqa), gu_s, he]
    · rw [ho i hi]
      by_cases i0 : i = 0
      · subst i0; rw [h1, gu_s]; rw [hfs]; rfl
      · rw [gu_n (fun e2 => i0 (h4 i 0 hi h2 (e2.trans h1.symm))), gu_n (hne i hi), h3 i hi, IP.ct i0 (ho i hi)]
  · rcases List.mem_cons.mp hi with hi2 | hi2
    · rcases List.mem_cons.mp hj with hj2 | hj2
      · rw [hi2, hj2]
      · rw [hi2, hcc, ho j hj2] at hij; exact absurd hij.symm (hne j hj2)
    · rcases List.mem_cons.mp hj with hj2 | hj2
      · rw [hj2, hcc, ho i hi2] at hij; exact absurd hij (hne i hi2)
      · rw [ho i hi2, ho j hj2] at hij; exact h4 i j hi2 hj2 hij
  · rw [gu_n hb]
    have hba : b ≠ a := fun e3 => by have := h5 b e2 hb hw; rw [e3, ha] at this; cases this
    rw [gu_n hba]; exact h5 b e2 hb hw
  · rcases List.mem_cons.mp hi with rfl | hi
    · rw [hcc]
      cases hw : wb a with
      | none => rfl
      | some e2 => have := h5 a e2 (Ne.symm hqa) hw; rw [ha] at this; cases this
    · rw [ho i hi]; exact h6 i hi hi0
  · rcases List.mem_cons.mp hc2 with e3 | hc2
    · exfalso; unfold blk at hb; omega
    · obtain ⟨x, y⟩ := h7 b N c2 hb hc2 j hj
      exact ⟨List.mem_cons_of_mem _ x, by rw [ho _ x, ho _ hc2]; exact y⟩
/-- .. an array of arrays -/
theorem IP.addB (h : IP G wb w q L k ad) {c b N a k2 : Nat} {eo ei : va_E} {fs : List Value} (ha : ∀ j, j ≤ N → w (a + j) = none) (hc : c ∉ L) (hb : ∀ j, j < N → b + j ∉ L) (hcb : c < b ∨ b + N ≤ c) (he : iCt G k2 (updB ad c b N a) c = eo) (hei : ∀ j, j < N → iCt G k2 (updB ad c b N a) (b + j) = ei) (hfs : fs = iFs k2 (updB ad c b N a)) (hbk : blk b N c) : IP G wb (gu (gmw w a N eo ei) q (.inr (4, fs))) q (c :: ((List.range N).map (fun j => b + j) ++ L)) k2 (updB ad c b N a) := by
  obtain ⟨h1, h2, h3, h4, h5, h6, h7⟩ := id h
  have ho : ∀ i, i ∈ L → updB ad c b N a i = ad i := fun i hi => by
    unfold updB
    rw [if_neg (fun e => hc (by rw [← e]; exact hi)), if_neg (fun x => hb (i - b) (by omega) (by rw [show b + (i - b) = i by omega]; exact hi))]
  have hcc : updB ad c b N a c = a := if_pos rfl
  have hbb : ∀ j, j < N → updB ad c b N a (b + j) = a + 1 + j := fun j hj => by
    unfold updB
    rw [if_neg (by omega), if_pos (by omega)]; omega
  have hne : ∀ i, i ∈ L → ∀ j, j ≤ N → ad i ≠ a + j := fun i hi j hj e2 => by have := h3 i hi; rw [e2, ha j hj] at this; cases this
  have hqa : ∀ j, j ≤ N → q ≠ a + j := fun j hj e2 => hne 0 h2 j hj (h1.trans e2)
  have qa : a ≠ q := fun e => hqa 0 (by omega) (by omega)
  have gk : ∀ x, (∀ j, j ≤ N → x ≠ a + j) → gmw w a N eo ei x = w x := fun x hx => by
    unfold gmw
    rw [if_neg (fun e => hx 0 (by omega) (by omega)), if_neg (fun e => hx (x - a) (by omega) (by omega))]
  have cs : ∀ i, i ∈ c :: ((List.range N).map (fun j => b + j) ++ L) → i = c ∨ (∃ j, j < N ∧ i = b + j) ∨ i ∈ L := fun i hi => by
    rcases List.mem_cons.mp hi with x | x
    · exact Or.inl x
    · rcases List.mem_append.mp x with x | x
      · obtain ⟨j, hj, rfl⟩ := List.mem_map.mp x
        exact Or.inr (Or.inl ⟨j, List.mem_range.mp hj, rfl⟩)
      · exact Or.inr (Or.inr x)
  refine ⟨by rw [ho 0 h2]; exact h1, List.mem_cons_of_mem _ (List.mem_append_right _ h2), fun i hi => ?_, fun i j hi hj hij => ?_, fun x e2 hx hw => ?_, fun i hi hi0 => ?_, fun b2 N2 c2 hb2 hc2 j hj => ?_⟩
  · rcases cs i hi with rfl | ⟨j, hj, rfl⟩ | hi
    · rw [hcc, gu_n qa, gmw_o, he]
    · rw [hbb j hj, gu_n (show a + 1 + j ≠ q from fun e => hqa (1 + j) (by omega) (by omega)), gmw_i hj, hei j hj]
    · rw [ho i hi]
      by_cases i0 : i = 0
      · subst i0; rw [h1, gu_s]; rw [hfs]; rfl
      · rw [gu_n (fun e2 => i0 (h4 i 0 hi h2 (e2.trans h1.symm))), gk _ (fun j hj => hne i hi j hj), h3 i hi, IP.ct i0 (ho i hi)]
  · rcases cs i hi with hi2 | ⟨x, hx, hi2⟩ | hi2
    · rcases cs j hj with hj2 | ⟨y, hy, hj2⟩ | hj2
      · rw [hi2, hj2]
      · rw [hi2, hj2, hcc, hbb y hy] at hij; omega
      · rw [hi2, hcc, ho j hj2] at hij; exact absurd hij.symm (hne j hj2 0 (by omega))
    · rcases cs j hj with hj2 | ⟨y, hy, hj2⟩ | hj2
      · rw [hi2, hj2, hcc, hbb x hx] at hij; omega
      · rw [hi2, hj2, hbb x hx, hbb y hy] at hij; omega
      · rw [hi2, hbb x hx, ho j hj2] at hij; exact absurd hij.symm (by have := hne j hj2 (1 + x) (by omega); omega)
    · rcases cs j hj with hj2 | ⟨y, hy, hj2⟩ | hj2
      · rw [hj2, hcc, ho i hi2] at hij; exact absurd hij (hne i hi2 0 (by omega))
      · rw [hj2, hbb y hy, ho i hi2] at hij; exact absurd hij (by have := hne i hi2 (1 + y) (by omega); omega)
      · rw [ho i hi2, ho j hj2] at hij; exact h4 i j hi2 hj2 hij
  · rw [gu_n hx, gk]
    · exact h5 x e2 hx hw
    · intro j hj e3
      have := h5 x e2 hx hw
      rw [e3, ha j hj] at this; cases this
  · have nn : ∀ j, j ≤ N → wb (a + j) = none := fun j hj => by
      cases hw : wb (a + j) with
      | none => rfl
      | some e2 => have := h5 _ e2 (fun e => hqa j hj e.symm) hw; rw [ha j hj] at this; cases this
    rcases cs i hi with rfl | ⟨j, hj, rfl⟩ | hi
    · rw [hcc]; exact nn 0 (by omega)
    · rw [hbb j hj, show a + 1 + j = a + (1 + j) by omega]; exact nn _ (by omega)
    · rw [ho i hi]; exact h6 i hi hi0
  · rcases cs c2 hc2 with e3 | ⟨x, hx, e3⟩ | hc3
    · have e4 : b2 = b ∧ N2 = N := by unfold blk at hbk hb2; omega
      obtain ⟨rfl, rfl⟩ := e4
      rw [e3]
      exact ⟨List.mem_cons_of_mem _ (List.mem_append_left _ (List.mem_map.mpr ⟨j, List.mem_range.mpr hj, rfl⟩)), by rw [hbb j hj, hcc]⟩
    · exfalso; unfold blk at hbk hb2; omega
    · obtain ⟨x, y⟩ := h7 b2 N2 c2 hb2 hc3 j hj
      exact ⟨List.mem_cons_of_mem _ (List.mem_append_right _ x), by rw [ho _ x, ho _ hc3]; exact y⟩
/-- .. a number -/
theorem IP.addI (h : IP G wb w q L k ad) {k2 : Nat} {fs : List Value} (hfs : fs = iFs k2 ad) : IP G wb (gu w q (.inr (4, fs))) q L k2 ad := by
  obtain ⟨h1, h2, h3, h4, h5, h6, h7⟩ := id h
  refine ⟨h1, h2, fun i hi => ?_, h4, fun b e2 hb hw => by rw [gu_n hb]; exact h5 b e2 hb hw, h6, h7⟩
  by_cases i0 : i = 0
  · subst i0; rw [h1, gu_s]; rw [hfs]; rfl
  · rw [gu_n (fun e2 => i0 (h4 i 0 hi h2 (e2.trans h1.symm))), h3 i hi, IP.ct i0 rfl]
end IPS
section ZIP
variable {κ : ZK} {cc : ByteArray} {nL : Nat} {ret : Option FieldType} {l : Launch} {d mc ms : Nat} {G : GG} {w0 wb w : GW} {post : Option Value → GW → Prop} {lv : List (Nat × Value)} {a b pc q k : Nat} {st : List Value} {L : List Nat} {ad : Nat → Nat}
theorem z_iput (X : ZX κ cc "ThreeSizesModel" nL ret "<init>" l d mc ms G w0 post) (hP : IP G wb w q L k ad) {i c x k2 : Nat} {e : va_E} (hdg : decode cc pc = .ok (.putfield i, 3)) (hx : w x = none) (j : Nat) (hj : j < 38) (hq : Cond.fieldLink "ThreeSizesModel" i (TX4 j).1 (TX4 j).2.1 (TX4 j).2.2.1 ∈ lw_all) (hfin : (TX4 j).2.2.2 = true) (hdecl : (TX4 j).1 = "ThreeSizesModel") (hn : narrow (tyX4 j) (.ref x) = .ref x) (hfit : fits (tyX4 j) (.ref x) = true) (hc : c ∉ L) (he : iCt G k2 (updN ad c x) c = e) (hfs : (iFs k ad).set j (.ref x) = iFs k2 (updN ad c x)) (hnb : c ≠ 4 ∧ c ≠ 15 ∧ c ≠ 28 ∧ c ≠ 29) (kk : ∀ w2, IP G wb w2 q (c :: L) k2 (updN ad c x) → Z κ w2 lv a b (pc + 3) st) : Z κ (gu w x e) lv a b pc (.ref x :: .ref q :: st) :=
  z_putF X hdg (gu_f hx hP.o) in_X4 tyX4 tyX4_ok nmX4 rfl j hj hq hfin rfl hdecl hn hfit (Nat.lt_of_lt_of_le hj (Nat.le_of_ble_eq_true rfl)) (kk _ (hP.add hx hc he hfs hnb))
theorem z_iputB (X : ZX κ cc "ThreeSizesModel" nL ret "<init>" l d mc ms G w0 post) (hP : IP G wb w q L k ad) {i c x k2 : Nat} {eo ei : va_E} (bb N : Nat) (hdg : decode cc pc = .ok (.putfield i, 3)) (hx : ∀ j, j ≤ N → w (x + j) = none) (j : Nat) (hj : j < 38) (hq : Cond.fieldLink "ThreeSizesModel" i (TX4 j).1 (TX4 j).2.1 (TX4 j).2.2.1 ∈ lw_all) (hfin : (TX4 j).2.2.2 = true) (hdecl : (TX4 j).1 = "ThreeSizesModel") (hn : narrow (tyX4 j) (.ref x) = .ref x) (hfit : fits (tyX4 j) (.ref x) = true) (hc : c ∉ L) (hb : ∀ j, j < N → bb + j ∉ L) (hcb : c < bb ∨ bb + N ≤ c) (he : iCt G k2 (updB ad c bb N x) c = eo) (hei : ∀ j, j < N → iCt G k2 (updB ad c bb N x) (bb + j) = ei) (hfs : (iFs k ad).set j (.ref x) = iFs k2 (updB ad c bb N x)) (hbk : blk bb N c) (kk : ∀ w2, IP G wb w2 q (c :: ((List.range N).map (fun j => bb + j) ++ L)) k2 (updB ad c bb N x) → Z κ w2 lv a b (pc + 3) st) : Z κ (gmw w x N eo ei) lv a b pc (.ref x :: .ref q :: st) :=
  z_putF X hdg (gmw_k hx hP.o) in_X4 tyX4 tyX4_ok nmX4 rfl j hj hq hfin rfl hdecl hn hfit (Nat.lt_of_lt_of_le hj (Nat.le_of_ble_eq_true rfl)) (kk _ (hP.addB hx hc hb hcb he hei hfs hbk))
theorem z_iputI (X : ZX κ cc "ThreeSizesModel" nL ret "<init>" l d mc ms G w0 post) (hP : IP G wb w q L k ad) {i k2 : Nat} {v : Int32} (hdg : decode cc pc = .ok (.putfield i, 3)) (j : Nat) (hj : j < 38) (hq : Cond.fieldLink "ThreeSizesModel" i (TX4 j).1 (TX4 j).2.1 (TX4 j).2.2.1 ∈ lw_all) (hfin : (TX4 j).2.2.2 = false) (hn : narrow (tyX4 j) (.int v) = .int v) (hfit : fits (tyX4 j) (.int v) = true) (hfs : (iFs k ad).set j (.int v) = iFs k2 ad) (kk : ∀ w2, IP G wb w2 q L k2 ad → Z κ w2 lv a b (pc + 3) st) : Z κ w lv a b pc (.int v :: .ref q :: st) :=
  z_put X hdg hP.o in_X4 tyX4 tyX4_ok nmX4 rfl j hj hq hfin hn hfit (Nat.lt_of_lt_of_le hj (Nat.le_of_ble_eq_true rfl)) (kk _ (hP.addI hfs))
end ZIP
def INITL : List Nat := (33 :: (32 :: (31 :: (30 :: (29 :: ((List.range 25).map (fun j => 70 + j) ++ (28 :: ((List.range 6).map (fun j => 60 + j) ++ (26 :: (17 :: (16 :: (15 :: ((List.range 6).map (fun j => 50 + j) ++ (13 :: (12 :: (11 :: (10 :: (8 :: (7 :: (6 :: (5 :: (4 :: ((List.range 8).map (fun j => 40 + j) ++ (3 :: (2 :: (1 :: [0]))))))))))))))))))))))))))
theorem mP_in {i : Nat} (h : mP i = true) : i ∈ INITL := by
  have h2 : i < 95 := by
    have := of_decide_eq_true h
    omega
  have h3 : ∀ i, i < 95 → mP i = true → i ∈ INITL := by decide +kernel
  exact h3 i h2 h
theorem IP.done {G : GG} {wb w : GW} {q : Nat} {ad : Nat → Nat} (h : IP G wb w q INITL 38 ad) : ∃ w2 : GW, (∀ x e2, w2 x = some e2 → ∃ e, w x = some e ∧ ∀ H, va_at G.1 CL (x, e) H → va_at G.1 CL (x, e2) H) ∧ MW G w2 ad m0 ∧ (∀ b e, b ≠ q → wb b = some e → w2 b = some e) ∧ ad 0 = q ∧ ∀ i, mP i = true → i ≠ 0 → wb (ad i) = none := by
  obtain ⟨h1, h2, h3, h4, h5, h6, h7⟩ := h
  have inj : ∀ i j, mP i = true → mP j = true → ad i = ad j → i = j := fun i j hi hj => h4 i j (mP_in hi) (mP_in hj)
  have cv : ∀ c n (f g : Nat → Option Nat), (∀ j, j < n → f j = g j) → ∀ x H, va_at G.1 CL (x, .inl (c, n, .inr (.inr (.inr (.inr f))))) H → va_at G.1 CL (x, .inl (c, n, .inr (.inr (.inr (.inr g))))) H := by
    intro c n f g hfg x H hx
    have hx2 : H[x]? = some (vp_cell c (n, .inr (.inr (.inr (.inr f))))) := hx
    rw [vp_refs hfg] at hx2
    exact hx2
  let w2 : GW := fun x => if x = ad 4 then some (mOut G ad 4) else if x = ad 15 then some (mOut G ad 15) else if x = ad 28 then some (mOut G ad 28) else if x = ad 29 then some (mOut G ad 29) else w x
  have ho : ∀ x, x ≠ ad 4 → x ≠ ad 15 → x ≠ ad 28 → x ≠ ad 29 → w2 x = w x := fun x a1 a2 a3 a4 => by
    show ite _ _ _ = _
    rw [if_neg a1, if_neg a2, if_neg a3, if_neg a4]
  have g4 : w2 (ad 4) = some (mOut G ad 4) := if_pos rfl
  have g15 : w2 (ad 15) = some (mOut G ad 15) := (if_neg (fun e => absurd (inj 15 4 rfl rfl e) (by decide))).trans (if_pos rfl)
  have g28 : w2 (ad 28) = some (mOut G ad 28) := (if_neg (fun e => absurd (inj 28 4 rfl rfl e) (by decide))).trans ((if_neg (fun e => absurd (inj 28 15 rfl rfl e) (by decide))).trans (if_pos rfl))
  have g29 : w2 (ad 29) = some (mOut G ad 29) := (if_neg (fun e => absurd (inj 29 4 rfl rfl e) (by decide))).trans ((if_neg (fun e => absurd (inj 29 15 rfl rfl e) (by decide))).trans ((if_neg (fun e => absurd (inj 29 28 rfl rfl e) (by decide))).trans (if_pos rfl)))
  refine ⟨w2, fun x e2 hx => ?_, ⟨fun i hi => ?_, inj⟩, fun b e hbq hw => ?_, h1, fun i hi h0 => h6 i (mP_in hi) h0⟩
  · by_cases a1 : x = ad 4
    · subst a1; rw [g4] at hx; cases hx
      exact ⟨_, h3 4 (mP_in rfl), cv _ 8 _ _ (fun j hj => by rw [(h7 40 8 4 (by unfold blk; omega) (mP_in rfl) j hj).2]) _⟩
    by_cases a2 : x = ad 15
    · subst a2; rw [g15] at hx; cases hx
      exact ⟨_, h3 15 (mP_in rfl), cv _ 6 _ _ (fun j hj => by rw [(h7 50 6 15 (by unfold blk; omega) (mP_in rfl) j hj).2]) _⟩
    by_cases a3 : x = ad 28
    · subst a3; rw [g28] at hx; cases hx
      exact ⟨_, h3 28 (mP_in rfl), cv _ 6 _ _ (fun j hj => by rw [(h7 60 6 28 (by unfold blk; omega) (mP_in rfl) j hj).2]) _⟩
    by_cases a4 : x = ad 29
    · subst a4; rw [g29] at hx; cases hx
      exact ⟨_, h3 29 (mP_in rfl), cv _ 25 _ _ (fun j hj => by rw [(h7 70 25 29 (by unfold blk; omega) (mP_in rfl) j hj).2]) _⟩
    · rw [ho x a1 a2 a3 a4] at hx; exact ⟨e2, hx, fun _ h => h⟩
  · by_cases c4 : i = 4
    · subst c4; exact g4
    by_cases c15 : i = 15
    · subst c15; exact g15
    by_cases c28 : i = 28
    · subst c28; exact g28
    by_cases c29 : i = 29
    · subst c29; exact g29
    rw [ho _ (fun e => c4 (inj i 4 hi rfl e)) (fun e => c15 (inj i 15 hi rfl e)) (fun e => c28 (inj i 28 hi rfl e)) (fun e => c29 (inj i 29 hi rfl e)), h3 i (mP_in hi)]
    by_cases c0 : i = 0
    · subst c0; rfl
    unfold iCt mCt
    rw [if_neg c0, if_neg c0]
    by_cases k0 : mK i = 0
    · rw [if_pos k0, if_pos k0]
    by_cases k1 : mK i = 1
    · rw [if_neg k0, if_neg k0, if_pos k1, if_pos k1]
    · exact absurd (mK_out k0 k1) (by omega)
  · have hw1 := h5 b e hbq hw
    have nn : ∀ i, mP i = true → i ≠ 0 → b ≠ ad i := fun i hi i0 e3 => by rw [e3, h6 i (mP_in hi) i0] at hw; cases hw
    rw [ho b (nn 4 rfl (by decide)) (nn 15 rfl (by decide)) (nn 28 rfl (by decide)) (nn 29 rfl (by decide))]; exact hw1
set_option maxHeartbeats 4000000 in
theorem m_X4_init {l : Launch} {G : GG} {w : GW} {q : Nat} (hq : w q = some (.inr (4, iFs 0 (fun _ => q)))) : gM l G yX4_init cX4_init 1 none 2 67 4713 [.ref q] w (pV (fun w1 => ∃ ad : Nat → Nat, ad 0 = q ∧ MW G w1 ad m0 ∧ (∀ b e, b ≠ q → w b = some e → w1 b = some e) ∧ ∀ i, mP i = true → i ≠ 0 → w (ad i) = none)) := by
  refine Z.met (own := "ThreeSizesModel") (nm := "<init>") (lv := [(0, .ref (q))]) (by decide) rfl rfl (Nat.le_of_ble_eq_true rfl) rfl (fun κ X => ?_)
  have hP0 : IP G w w q [0] 0 (fun _ => q) := ⟨rfl, List.mem_cons_self, fun i hi => by rw [List.mem_singleton.mp hi]; exact hq, fun i j hi hj _ => (List.mem_singleton.mp hi).trans (List.mem_singleton.mp hj).symm, fun _ _ _ h => h, fun i hi h0 => absurd (List.mem_singleton.mp hi) h0, fun b N c hb hc => by have := List.mem_singleton.mp hc; unfold blk at hb; omega⟩
  refine z_aload_n X dX4_init_0 rfl 0 rfl ?_
  refine z_objInit X dX4_init_1 q1417 q108 q109 (Nat.le_of_ble_eq_true rfl) (Nat.le_of_ble_eq_true rfl) ?_
  refine z_aload_n X dX4_init_4 rfl 0 rfl ?_
  refine z_bipush (v := nI 8) X dX4_init_5 (by decide) ?_
  refine z_newi X 8 dX4_init_7 q188 (nI_pos (by omega)) (nI_clamp (by omega)) (by decide) (by omega) (by omega) (fun a1 ha1 => ?_)
  refine z_iput X hP0 (c := 1) (k2 := 1) dX4_init_9 ha1 0 (Nat.le_of_ble_eq_true rfl) q1421 rfl rfl rfl rfl (by decide) rfl rfl (by decide) (fun w1 hP1 => ?_)
  refine z_aload_n X dX4_init_12 rfl 0 rfl ?_
  refine z_bipush (v := nI 8) X dX4_init_13 (by decide) ?_
  refine z_newi X 8 dX4_init_15 q188 (nI_pos (by omega)) (nI_clamp (by omega)) (by decide) (by omega) (by omega) (fun a2 ha2 => ?_)
  refine z_iput X hP1 (c := 2) (k2 := 2) dX4_init_17 ha2 1 (Nat.le_of_ble_eq_true rfl) q1422 rfl rfl rfl rfl (by decide) rfl rfl (by decide) (fun w2 hP2 => ?_)
  refine z_aload_n X dX4_init_20 rfl 0 rfl ?_
  refine z_bipush (v := nI 8) X dX4_init_21 (by decide) ?_
  refine z_newi X 8 dX4_init_23 q188 (nI_pos (by omega)) (nI_clamp (by omega)) (by decide) (by omega) (by omega) (fun a3 ha3 => ?_)
  refine z_iput X hP2 (c := 3) (k2 := 3) dX4_init_25 ha3 2 (Nat.le_of_ble_eq_true rfl) q1423 rfl rfl rfl rfl (by decide) rfl rfl (by decide) (fun w3 hP3 => ?_)
  refine z_aload_n X dX4_init_28 rfl 0 rfl ?_
  refine z_bipush (v := nI 8) X dX4_init_29 (by decide) ?_
  refine z_bipush (v := nI 40) X dX4_init_31 (by decide) ?_
  refine z_manew (ty := .long) X 8 40 1 6 (ei := (40, .inr (.inl (fun _ => 0)))) dX4_init_33 q1418 q651 q358 (nI_pos (by omega)) (nI_pos (by omega)) (nI_clamp (by omega)) (nI_clamp (by omega)) (by decide) (by decide) (by decide) rfl rfl rfl rfl (fun U h => h) (fun cA => rfl) (by omega) (by omega) (fun a4 ha4 => ?_)
  refine z_iputB X hP3 (c := 4) (k2 := 4) 40 8 dX4_init_37 ha4 3 (Nat.le_of_ble_eq_true rfl) q1424 rfl rfl rfl rfl (by decide) (by decide) (by decide) rfl ?_ rfl (by unfold blk; omega) (fun w4 hP4 => ?_)
  · intro j hj; unfold iCt; rw [if_neg (by omega), mK_40 hj, mLen_40 hj]; rfl
  refine z_aload_n X dX4_init_40 rfl 0 rfl ?_
  refine z_bipush (v := nI 40) X dX4_init_41 (by decide) ?_
  refine z_newl X 40 dX4_init_43 q358 (nI_pos (by omega)) (nI_clamp (by omega)) (by decide) (by omega) (by omega) (fun a5 ha5 => ?_)
  refine z_iput X hP4 (c := 5) (k2 := 5) dX4_init_45 ha5 4 (Nat.le_of_ble_eq_true rfl) q1425 rfl rfl rfl rfl (by decide) rfl rfl (by decide) (fun w5 hP5 => ?_)
  refine z_aload_n X dX4_init_48 rfl 0 rfl ?_
  refine z_bipush (v := nI 8) X dX4_init_49 (by decide) ?_
  refine z_newi X 8 dX4_init_51 q188 (nI_pos (by omega)) (nI_clamp (by omega)) (by decide) (by omega) (by omega) (fun a6 ha6 => ?_)
  refine z_iput X hP5 (c := 6) (k2 := 6) dX4_init_53 ha6 5 (Nat.le_of_ble_eq_true rfl) q1426 rfl rfl rfl rfl (by decide) rfl rfl (by decide) (fun w6 hP6 => ?_)
  refine z_aload_n X dX4_init_56 rfl 0 rfl ?_
  refine z_bipush (v := nI 8) X dX4_init_57 (by decide) ?_
  refine z_newi X 8 dX4_init_59 q188 (nI_pos (by omega)) (nI_clamp (by omega)) (by decide) (by omega) (by omega) (fun a7 ha7 => ?_)
  refine z_iput X hP6 (c := 7) (k2 := 7) dX4_init_61 ha7 6 (Nat.le_of_ble_eq_true rfl) q1427 rfl rfl rfl rfl (by decide) rfl rfl (by decide) (fun w7 hP7 => ?_)
  refine z_aload_n X dX4_init_64 rfl 0 rfl ?_
  refine z_sipush (v := nI 200) X dX4_init_65 (by decide) ?_
  refine z_newi X 200 dX4_init_68 q188 (nI_pos (by omega)) (nI_clamp (by omega)) (by decide) (by omega) (by omega) (fun a8 ha8 => ?_)
  refine z_iput X hP7 (c := 8) (k2 := 8) dX4_init_70 ha8 7 (Nat.le_of_ble_eq_true rfl) q1428 rfl rfl rfl rfl (by decide) rfl rfl (by decide) (fun w8 hP8 => ?_)
  refine z_aload_n X dX4_init_73 rfl 0 rfl ?_
  refine z_bipush (v := nI 8) X dX4_init_74 (by decide) ?_
  refine z_newi X 8 dX4_init_76 q188 (nI_pos (by omega)) (nI_clamp (by omega)) (by decide) (by omega) (by omega) (fun a9 ha9 => ?_)
  refine z_iput X hP8 (c := 10) (k2 := 10) dX4_init_78 ha9 9 (Nat.le_of_ble_eq_true rfl) q1430 rfl rfl rfl rfl (by decide) rfl rfl (by decide) (fun w9 hP9 => ?_)
  refine z_aload_n X dX4_init_81 rfl 0 rfl ?_
  refine z_iconst (v := nI 3) X dX4_init_82 ci3 ?_
  refine z_newi X 3 dX4_init_83 q188 (nI_pos (by omega)) (nI_clamp (by omega)) (by decide) (by omega) (by omega) (fun a10 ha10 => ?_)
  refine z_dup X dX4_init_85 rfl ?_
  refine z_iconst (v := nI 0) X dX4_init_86 ci0 ?_
  refine z_iconst (v := nI 2) X dX4_init_87 ci2 ?_
  refine z_isN X dX4_init_88 gu_s (by omega) (by omega) ?_
  rw [gu_gu]
  refine z_dup X dX4_init_89 rfl ?_
  refine z_iconst (v := nI 1) X dX4_init_90 ci1 ?_
  refine z_iconst (v := nI 2) X dX4_init_91 ci2 ?_
  refine z_isN X dX4_init_92 gu_s (by omega) (by omega) ?_
  rw [gu_gu]
  refine z_dup X dX4_init_93 rfl ?_
  refine z_iconst (v := nI 2) X dX4_init_94 ci2 ?_
  refine z_iconst (v := nI 2) X dX4_init_95 ci2 ?_
  refine z_isN X dX4_init_96 gu_s (by omega) (by omega) ?_
  rw [gu_gu]
  refine z_iput X hP9 (c := 11) (k2 := 11) dX4_init_97 ha10 10 (Nat.le_of_ble_eq_true rfl) q1431 rfl rfl rfl rfl (by decide) rfl rfl (by decide) (fun w10 hP10 => ?_)
  refine z_aload_n X dX4_init_100 rfl 0 rfl ?_
  refine z_iconst (v := nI 3) X dX4_init_101 ci3 ?_
  refine z_newi X 3 dX4_init_102 q188 (nI_pos (by omega)) (nI_clamp (by omega)) (by decide) (by omega) (by omega) (fun a11 ha11 => ?_)
  refine z_iput X hP10 (c := 12) (k2 := 12) dX4_init_104 ha11 11 (Nat.le_of_ble_eq_true rfl) q1432 rfl rfl rfl rfl (by decide) rfl rfl (by decide) (fun w11 hP11 => ?_)
  refine z_aload_n X dX4_init_107 rfl 0 rfl ?_
  refine z_iconst (v := nI 3) X dX4_init_108 ci3 ?_
  refine z_newi X 3 dX4_init_109 q188 (nI_pos (by omega)) (nI_clamp (by omega)) (by decide) (by omega) (by omega) (fun a12 ha12 => ?_)
  refine z_dup X dX4_init_111 rfl ?_
  refine z_iconst (v := nI 0) X dX4_init_112 ci0 ?_
  refine z_iconst (v := nI 3) X dX4_init_113 ci3 ?_
  refine z_isN X dX4_init_114 gu_s (by omega) (by omega) ?_
  rw [gu_gu]
  refine z_dup X dX4_init_115 rfl ?_
  refine z_iconst (v := nI 1) X dX4_init_116 ci1 ?_
  refine z_iconst (v := nI 3) X dX4_init_117 ci3 ?_
  refine z_isN X dX4_init_118 gu_s (by omega) (by omega) ?_
  rw [gu_gu]
  refine z_dup X dX4_init_119 rfl ?_
  refine z_iconst (v := nI 2) X dX4_init_120 ci2 ?_
  refine z_iconst (v := nI 3) X dX4_init_121 ci3 ?_
  refine z_isN X dX4_init_122 gu_s (by omega) (by omega) ?_
  rw [gu_gu]
  refine z_iput X hP11 (c := 13) (k2 := 13) dX4_init_123 ha12 12 (Nat.le_of_ble_eq_true rfl) q1433 rfl rfl rfl rfl (by decide) rfl rfl (by decide) (fun w12 hP12 => ?_)
  refine z_aload_n X dX4_init_126 rfl 0 rfl ?_
  refine z_bipush (v := nI 6) X dX4_init_127 (by decide) ?_
  refine z_iconst (v := nI 4) X dX4_init_129 ci4 ?_
  refine z_manew (ty := .int) X 6 4 0 5 (ei := (4, .inl (fun _ => 0))) dX4_init_130 q1419 q1420 q188 (nI_pos (by omega)) (nI_pos (by omega)) (nI_clamp (by omega)) (nI_clamp (by omega)) (by decide) (by decide) (by decide) rfl rfl rfl rfl (fun U h => h) (fun cA => rfl) (by omega) (by omega) (fun a13 ha13 => ?_)
  refine z_iputB X hP12 (c := 15) (k2 := 15) 50 6 dX4_init_134 ha13 14 (Nat.le_of_ble_eq_true rfl) q1435 rfl rfl rfl rfl (by decide) (by decide) (by decide) rfl ?_ rfl (by unfold blk; omega) (fun w13 hP13 => ?_)
  · intro j hj; unfold iCt; rw [if_neg (by omega), mK_50 hj, mLen_50 hj, m0_b (by omega)]; rfl
  refine z_aload_n X dX4_init_137 rfl 0 rfl ?_
  refine z_iconst (v := nI 2) X dX4_init_138 ci2 ?_
  refine z_newi X 2 dX4_init_139 q188 (nI_pos (by omega)) (nI_clamp (by omega)) (by decide) (by omega) (by omega) (fun a14 ha14 => ?_)
  refine z_dup X dX4_init_141 rfl ?_
  refine z_iconst (v := nI 0) X dX4_init_142 ci0 ?_
  refine z_iconst (v := nI 0) X dX4_init_143 ci0 ?_
  refine z_isN X dX4_init_144 gu_s (by omega) (by omega) ?_
  rw [gu_gu]
  refine z_dup X dX4_init_145 rfl ?_
  refine z_iconst (v := nI 1) X dX4_init_146 ci1 ?_
  refine z_iconst (v := nI 5) X dX4_init_147 ci5 ?_
  refine z_isN X dX4_init_148 gu_s (by omega) (by omega) ?_
  rw [gu_gu]
  refine z_iput X hP13 (c := 16) (k2 := 16) dX4_init_149 ha14 15 (Nat.le_of_ble_eq_true rfl) q1436 rfl rfl rfl rfl (by decide) rfl rfl (by decide) (fun w14 hP14 => ?_)
  refine z_aload_n X dX4_init_152 rfl 0 rfl ?_
  refine z_bipush (v := nI 6) X dX4_init_153 (by decide) ?_
  refine z_newi X 6 dX4_init_155 q188 (nI_pos (by omega)) (nI_clamp (by omega)) (by decide) (by omega) (by omega) (fun a15 ha15 => ?_)
  refine z_iput X hP14 (c := 17) (k2 := 17) dX4_init_157 ha15 16 (Nat.le_of_ble_eq_true rfl) q1437 rfl rfl rfl rfl (by decide) rfl rfl (by decide) (fun w15 hP15 => ?_)
  refine z_aload_n X dX4_init_160 rfl 0 rfl ?_
  refine z_iconst (v := nI 1) X dX4_init_161 ci1 ?_
  refine z_iputI X hP15 (k2 := 18) dX4_init_162 17 (Nat.le_of_ble_eq_true rfl) q1438 rfl rfl rfl rfl (fun w16 hP16 => ?_)
  refine z_aload_n X dX4_init_165 rfl 0 rfl ?_
  refine z_iconst (v := nI 1) X dX4_init_166 ci1 ?_
  refine z_newi X 1 dX4_init_167 q188 (nI_pos (by omega)) (nI_clamp (by omega)) (by decide) (by omega) (by omega) (fun a17 ha17 => ?_)
  refine z_iput X hP16 (c := 26) (k2 := 26) dX4_init_169 ha17 25 (Nat.le_of_ble_eq_true rfl) q1446 rfl rfl rfl rfl (by decide) rfl rfl (by decide) (fun w17 hP17 => ?_)
  refine z_aload_n X dX4_init_172 rfl 0 rfl ?_
  refine z_bipush (v := nI 6) X dX4_init_173 (by decide) ?_
  refine z_bipush (v := nI 125) X dX4_init_175 (by decide) ?_
  refine z_manew (ty := .int) X 6 125 0 5 (ei := (125, .inl (fun _ => 0))) dX4_init_177 q1419 q1420 q188 (nI_pos (by omega)) (nI_pos (by omega)) (nI_clamp (by omega)) (nI_clamp (by omega)) (by decide) (by decide) (by decide) rfl rfl rfl rfl (fun U h => h) (fun cA => rfl) (by omega) (by omega) (fun a18 ha18 => ?_)
  refine z_iputB X hP17 (c := 28) (k2 := 28) 60 6 dX4_init_181 ha18 27 (Nat.le_of_ble_eq_true rfl) q1448 rfl rfl rfl rfl (by decide) (by decide) (by decide) rfl ?_ rfl (by unfold blk; omega) (fun w18 hP18 => ?_)
  · intro j hj; unfold iCt; rw [if_neg (by omega), mK_60 hj, mLen_60 hj, m0_b (by omega)]; rfl
  refine z_aload_n X dX4_init_184 rfl 0 rfl ?_
  refine z_bipush (v := nI 25) X dX4_init_185 (by decide) ?_
  refine z_bipush (v := nI 125) X dX4_init_187 (by decide) ?_
  refine z_manew (ty := .long) X 25 125 1 6 (ei := (125, .inr (.inl (fun _ => 0)))) dX4_init_189 q1418 q651 q358 (nI_pos (by omega)) (nI_pos (by omega)) (nI_clamp (by omega)) (nI_clamp (by omega)) (by decide) (by decide) (by decide) rfl rfl rfl rfl (fun U h => h) (fun cA => rfl) (by omega) (by omega) (fun a19 ha19 => ?_)
  refine z_iputB X hP18 (c := 29) (k2 := 29) 70 25 dX4_init_193 ha19 28 (Nat.le_of_ble_eq_true rfl) q1449 rfl rfl rfl rfl (by decide) (by decide) (by decide) rfl ?_ rfl (by unfold blk; omega) (fun w19 hP19 => ?_)
  · intro j hj; unfold iCt; rw [if_neg (by omega), mK_70 hj, mLen_70 hj]; rfl
  refine z_aload_n X dX4_init_196 rfl 0 rfl ?_
  refine z_bipush (v := nI 125) X dX4_init_197 (by decide) ?_
  refine z_newl X 125 dX4_init_199 q358 (nI_pos (by omega)) (nI_clamp (by omega)) (by decide) (by omega) (by omega) (fun a20 ha20 => ?_)
  refine z_iput X hP19 (c := 30) (k2 := 30) dX4_init_201 ha20 29 (Nat.le_of_ble_eq_true rfl) q1450 rfl rfl rfl rfl (by decide) rfl rfl (by decide) (fun w20 hP20 => ?_)
  refine z_aload_n X dX4_init_204 rfl 0 rfl ?_
  refine z_bipush (v := nI 6) X dX4_init_205 (by decide) ?_
  refine z_newi X 6 dX4_init_207 q188 (nI_pos (by omega)) (nI_clamp (by omega)) (by decide) (by omega) (by omega) (fun a21 ha21 => ?_)
  refine z_iput X hP20 (c := 31) (k2 := 31) dX4_init_209 ha21 30 (Nat.le_of_ble_eq_true rfl) q1451 rfl rfl rfl rfl (by decide) rfl rfl (by decide) (fun w21 hP21 => ?_)
  refine z_aload_n X dX4_init_212 rfl 0 rfl ?_
  refine z_bipush (v := nI 6) X dX4_init_213 (by decide) ?_
  refine z_newi X 6 dX4_init_215 q188 (nI_pos (by omega)) (nI_clamp (by omega)) (by decide) (by omega) (by omega) (fun a22 ha22 => ?_)
  refine z_iput X hP21 (c := 32) (k2 := 32) dX4_init_217 ha22 31 (Nat.le_of_ble_eq_true rfl) q1452 rfl rfl rfl rfl (by decide) rfl rfl (by decide) (fun w22 hP22 => ?_)
  refine z_aload_n X dX4_init_220 rfl 0 rfl ?_
  refine z_bipush (v := nI 6) X dX4_init_221 (by decide) ?_
  refine z_newi X 6 dX4_init_223 q188 (nI_pos (by omega)) (nI_clamp (by omega)) (by decide) (by omega) (by omega) (fun a23 ha23 => ?_)
  refine z_iput X hP22 (c := 33) (k2 := 38) dX4_init_225 ha23 32 (Nat.le_of_ble_eq_true rfl) q1453 rfl rfl rfl rfl (by decide) rfl rfl (by decide) (fun w23 hP23 => ?_)
  obtain ⟨w99, e1, e2, e3, e4, e5⟩ := hP23.done
  exact Z.eqv X e1 (z_vret X dX4_init_228 (by omega) (by omega) ⟨rfl, ⟨_, e4, e2, e3, e5⟩⟩)
