/-! THE MODEL: a statement of a text -/
set_option maxRecDepth 100000
abbrev W_sort : List Nat := [115, 111, 114, 116]
abbrev W_comes : List Nat := [99, 111, 109, 101, 115]
abbrev W_worth : List Nat := [119, 111, 114, 116, 104]
abbrev W_back : List Nat := [98, 97, 99, 107]
abbrev W_box : List Nat := [98, 111, 120]
abbrev W_goes : List Nat := [103, 111, 101, 115]
abbrev W_near : List Nat := [110, 101, 97, 114]
abbrev W_way : List Nat := [119, 97, 121]
theorem byt_lt {l : List Nat} (h : ∀ b ∈ l, b < 256) : ∀ j, j < l.length → l.getD j 0 < 256 := fun j hj => by
  rw [List.getD_eq_getElem?_getD, List.getElem?_eq_getElem hj]
  exact h _ (List.getElem_mem hj)
def bnd {α β : Type} (x : Sum Nat α) (f : α → Sum Nat β) : Sum Nat β := match x with
  | .inl e => .inl e
  | .inr y => f y
theorem bnd_r {α β : Type} {y : α} {f : α → Sum Nat β} : bnd (.inr y) f = f y := rfl
theorem bnd_l {α β : Type} {e : Nat} {f : α → Sum Nat β} : bnd (.inl e) f = .inl e := rfl
/-- what a statement makes of a wall; where the next token is looked for -/
def stmt (S : WS) (t : Nat → Nat) (n a : Nat) : Sum Nat (WS × Nat) :=
  if isW t n a W_sort = true ∧ S.2 0 < 6 then bnd (telR t n a W_sort 0 2) fun p => bnd (telR t n p.2 W_comes 0 (100 - sumTo (S.1 4) (S.2 0))) fun q => bnd (perR t n q.2 W_worth 1 99 10) fun x => bnd (perR t n x.2 W_back 0 99 5) fun y => .inr (addS S (lN p.1) (lN q.1) (lN x.1) (lN y.1), y.2)
  else if isW t n a W_box = true then bnd (telR t n a W_box 0 2) fun p => bnd (numR t n p.2 (S.1 1 p.1) 4) fun q => .inr (wPut S 0 p.1 q.1, q.2)
  else if isW t n a W_goes = true then bnd (telR t n a W_goes 0 2) fun p => bnd (numR t n p.2 0 10) fun q => .inr (wPut S 2 p.1 q.1, q.2)
  else if isW t n a W_near = true then bnd (telR t n a W_near 0 10) fun p => .inr (wPut0 S 1 p.1, p.2)
  else bnd (telR t n a W_way 0 99) fun p => .inr (wPut0 S 2 p.1, p.2)
theorem numR_e {t : Nat → Nat} {n a lo hi v e : Nat} (h : numR t n a lo hi = .inr (v, e)) (ha : a ≤ n) : a ≤ e ∧ e ≤ n := by
  unfold numR at h
  split at h
  · cases h; have := tk_le (t := t) ha; omega
  · cases h
theorem telR_e {t : Nat → Nat} {n a lo hi v e : Nat} {byt : List Nat} (h : telR t n a byt lo hi = .inr (v, e)) (ha : a ≤ n) : a ≤ e ∧ e ≤ n := by
  unfold telR at h
  have h2 := tk_le (t := t) ha
  split at h
  · have := numR_e h h2.2.2; omega
  · cases h
theorem perR_n {t : Nat → Nat} {n a lo hi d : Nat} {byt : List Nat} (h : isW t n a byt = false) : perR t n a byt lo hi d = .inr (d, a) := if_neg (ts_n h)
theorem perR_y {t : Nat → Nat} {n a lo hi d : Nat} {byt : List Nat} (h : isW t n a byt = true) : perR t n a byt lo hi d = telR t n a byt lo hi := (if_pos h).trans (if_pos h).symm
/-- cells that a reading doesnt touch -/
def KX (m m2 : MSt) : Prop := (∀ c, c < 11 ∨ c = 17 → m2.1 c = m.1 c) ∧ m2.2.1 = m.2.1 ∧ ∀ k, k = 8 ∨ k = 17 ∨ k = 26 → m2.2.2.1 k = m.2.2.1 k
theorem KX.rf {m : MSt} : KX m m := ⟨fun _ _ => rfl, rfl, fun _ _ => rfl⟩
theorem KX.trans {m m2 m3 : MSt} (h : KX m m2) (h2 : KX m2 m3) : KX m m3 := ⟨fun c hc => (h2.1 c hc).trans (h.1 c hc), h2.2.1.trans h.2.1, fun k hk => (h2.2.2 k hk).trans (h.2.2 k hk)⟩
theorem KX.kf {m m2 m3 : MSt} (h : KX m m2) (h2 : KF m2 m3) : KX m m3 := h.trans ⟨fun _ _ => by rw [h2.1], h2.2.1, fun k hk => h2.2.2 k (by omega)⟩
theorem KX.st {m m2 : MSt} (h : KX m m2) {c j : Nat} {x : Int32} (hc : 11 ≤ c ∧ c ≠ 17) : KX m (mI m2 c j x) := h.trans ⟨fun c2 hc2 => mI_oth (by omega), rfl, fun _ _ => rfl⟩
theorem KX.fl {m m2 : MSt} (h : KX m m2) {k : Nat} {x : Int32} (hk : k ≠ 8 ∧ k ≠ 17 ∧ k ≠ 26) : KX m (mF m2 k x) := h.trans ⟨fun _ _ => rfl, rfl, fun k2 hk2 => if_neg (by omega)⟩
theorem KX.tap {t : Nat → Nat} {n : Nat} {m m2 : MSt} (h : KX m m2) (hT : TapM t n m) : TapM t n m2 := ⟨fun i hi => by rw [h.1 8 (by omega)]; exact hT.1 i hi, (h.2.2 8 (by omega)).trans hT.2⟩
theorem KX.T {o : OS} {m m2 : MSt} (h : KX m m2) (hT : MT o m) {S : WS} (hR : MR S m2) : MT (oW o S) m2 := hT.w hR (fun c hc => h.1 c (by omega)) (fun _ _ => by rw [h.2.1]) (fun k hk => h.2.2 k (by omega))
theorem MR.KF {S : WS} {m m2 : MSt} (h : MR S m) (q : KF m m2) : MR S m2 := h.kept (fun c _ => by rw [q.1]) (q.2.2 13 (by omega))
theorem MR.told {S : WS} {m : MSt} (h : MR S m) {j : Nat} {x : Int32} : MR S (mI m 26 j x) := h.kept (fun c hc => mI_oth (by omega)) rfl
/-- a sort that is being told -/
def wRow (S : WS) (k z c w b : Nat) : WS := (fun f i => if i = k ∧ 3 ≤ f ∧ f < 7 then (if f = 3 then z else if f = 4 then c else if f = 5 then w else b) else S.1 f i, S.2)
theorem wRow_0 {S : WS} {k : Nat} : wRow S k (S.1 3 k) (S.1 4 k) (S.1 5 k) (S.1 6 k) = S := by
  refine Prod.ext (funext fun f => funext fun i => ?_) rfl
  show ite _ _ _ = _
  by_cases q : i = k ∧ 3 ≤ f ∧ f < 7
  · rw [if_pos q]
    obtain ⟨rfl, q1, q2⟩ := q
    rcases (show f = 3 ∨ f = 4 ∨ f = 5 ∨ f = 6 by omega) with rfl | rfl | rfl | rfl <;> rfl
  · rw [if_neg q]
theorem wRow_end {S : WS} {z c w b : Nat} (h : z < 200 ∧ c < 200 ∧ w < 200 ∧ b < 200) : ((wRow S (S.2 0) z c w b).1, fun k => if k = 0 then S.2 0 + 1 else S.2 k) = addS S (lN z) (lN c) (lN w) (lN b) := by
  unfold wRow addS
  rw [tnl_lN (by omega), tnl_lN (by omega), tnl_lN (by omega), tnl_lN (by omega)]
theorem MR.rowset {S : WS} {k z c w b : Nat} {m : MSt} (h : MR (wRow S k z c w b) m) (hk : k < 6) {j v : Nat} (hj : j < 4) : MR (wRow S k (if j = 0 then v else z) (if j = 1 then v else c) (if j = 2 then v else w) (if j = 3 then v else b)) (mI m (50 + k) j (nI v)) := by
  obtain ⟨h1, h2, h3, h4, h5⟩ := h
  refine ⟨fun i hi => ?_, h2, fun k2 hk2 => ?_, ?_, ?_⟩
  · rw [mI_oth (by omega), mI_oth (by omega), mI_oth (by omega)]
    have o : ∀ x0 x1 x2 x3 f, f < 3 → (wRow S k x0 x1 x2 x3).1 f i = S.1 f i := fun _ _ _ _ f hf => if_neg (fun y => by omega)
    have e := h1 i hi
    rw [o _ _ _ _ 0 (by decide), o _ _ _ _ 1 (by decide), o _ _ _ _ 2 (by decide)] at e
    rw [o _ _ _ _ 0 (by decide), o _ _ _ _ 1 (by decide), o _ _ _ _ 2 (by decide)]; exact e
  · have e := h3 k2 hk2
    by_cases q : k2 = k
    · subst q
      rw [mI_own]
      have a0 : ∀ x0 x1 x2 x3 : Nat, (wRow S k2 x0 x1 x2 x3).1 3 k2 = x0 ∧ (wRow S k2 x0 x1 x2 x3).1 4 k2 = x1 ∧ (wRow S k2 x0 x1 x2 x3).1 5 k2 = x2 ∧ (wRow S k2 x0 x1 x2 x3).1 6 k2 = x3 := fun _ _ _ _ => ⟨by simp [wRow], by simp [wRow], by simp [wRow], by simp [wRow]⟩
      obtain ⟨b0, b1, b2, b3⟩ := a0 z c w b
      rw [b0, b1, b2, b3] at e
      obtain ⟨d0, d1, d2, d3⟩ := a0 (if j = 0 then v else z) (if j = 1 then v else c) (if j = 2 then v else w) (if j = 3 then v else b)
      rw [d0, d1, d2, d3]
      rcases (show j = 0 ∨ j = 1 ∨ j = 2 ∨ j = 3 by omega) with rfl | rfl | rfl | rfl <;> simp [upd, e]
    · rw [mI_oth (by omega)]
      have o : ∀ x0 x1 x2 x3 f, (wRow S k x0 x1 x2 x3).1 f k2 = S.1 f k2 := fun _ _ _ _ _ => if_neg (fun y => q y.1)
      rw [o, o, o, o] at e
      rw [o, o, o, o]; exact e
  · rw [mI_oth (by omega)]; exact h4
  · rw [mI_oth (by omega)]; exact h5
theorem MR.r0 {S : WS} {k z c w b : Nat} {m : MSt} (h : MR (wRow S k z c w b) m) (hk : k < 6) {v : Nat} : MR (wRow S k v c w b) (mI m (50 + k) 0 (nI v)) := h.rowset hk (by decide)
theorem MR.r1 {S : WS} {k z c w b : Nat} {m : MSt} (h : MR (wRow S k z c w b) m) (hk : k < 6) {v : Nat} : MR (wRow S k z v w b) (mI m (50 + k) 1 (nI v)) := h.rowset hk (by decide)
theorem MR.r2 {S : WS} {k z c w b : Nat} {m : MSt} (h : MR (wRow S k z c w b) m) (hk : k < 6) {v : Nat} : MR (wRow S k z c v b) (mI m (50 + k) 2 (nI v)) := h.rowset hk (by decide)
theorem MR.r3 {S : WS} {k z c w b : Nat} {m : MSt} (h : MR (wRow S k z c w b) m) (hk : k < 6) {v : Nat} : MR (wRow S k z c w v) (mI m (50 + k) 3 (nI v)) := h.rowset hk (by decide)
theorem MR.rend {S : WS} {z c w b : Nat} {m : MSt} (h : MR (wRow S (S.2 0) z c w b) m) (hb : z < 200 ∧ c < 200 ∧ w < 200 ∧ b < 200) : MR (addS S (lN z) (lN c) (lN w) (lN b)) (mF m 13 (nI (S.2 0 + 1))) := by
  rw [← wRow_end hb]
  obtain ⟨h1, h2, h3, h4, h5⟩ := h
  exact ⟨h1, rfl, h3, h4, h5⟩
theorem wInv_goes {S : WS} (h : wInv S) {z v : Nat} (hv : v ≤ 10) : wInv (wPut S 2 z v) := by
  obtain ⟨a, b, c, d, e, f⟩ := h
  refine ⟨fun i hi => ?_, b, fun i hi => ?_, ?_, e, f⟩
  · rw [wPut_oth (f2 := 0) (by decide), wPut_oth (f2 := 1) (by decide)]
    by_cases q : i = z
    · subst q; rw [wPut_own]; have := a i hi; omega
    · rw [wPut_ne q]; exact a i hi
  · rw [wPut_oth (f2 := 3) (by decide), wPut_oth (f2 := 5) (by decide), wPut_oth (f2 := 6) (by decide)]; exact c i hi
  · rw [wPut_oth (f2 := 4) (by decide)]; exact d
theorem wInv_near {S : WS} (h : wInv S) {v : Nat} (hv : v ≤ 10) : wInv (wPut0 S 1 v) := by
  obtain ⟨a, b, c, d, e, f⟩ := h
  exact ⟨a, b, c, d, hv, f⟩
theorem wInv_way {S : WS} (h : wInv S) {v : Nat} (hv : v ≤ 99) : wInv (wPut0 S 2 v) := by
  obtain ⟨a, b, c, d, e, f⟩ := h
  exact ⟨a, b, c, d, e, hv⟩
/-- what a statement answers -/
def StQ (S : WS) (t : Nat → Nat) (n a : Nat) (m : MSt) (r : Int32) (m2 : MSt) : Prop := KX m m2 ∧ ((∃ S2 e, stmt S t n a = .inr (S2, e) ∧ a ≤ e ∧ e ≤ n ∧ wInv S2 ∧ r = nI 1 ∧ MR S2 m2 ∧ TokM t n e m2) ∨ (∃ f, stmt S t n a = .inl f ∧ f ≤ n ∧ r = nI 0 ∧ m2.2.2.1 24 = nI f ∧ ∃ S2, MR S2 m2))
set_option maxHeartbeats 2000000 in
theorem m_X4_statement {l : Launch} {G : GG} {wb w : GW} {ad : Nat → Nat} {m : MSt} (hM : MM G wb w ad m) {t : Nat → Nat} {n : Nat} (hTp : TapM t n m) (hn : n ≤ 200) (ht : ∀ i, i < 200 → t i < 256) {S : WS} (hR : MR S m) (hI : wInv S) {a : Nat} (hTok : TokM t n a m) (ha : a ≤ n) : gM l G yX4_statement cX4_statement 3 (some .boolean) 9 0 0 [.ref (ad 0)] w (pI (fun r w1 => ∃ m2, MM G wb w1 ad m2 ∧ StQ S t n a m r m2)) := by
  refine Z.met (own := "ThreeSizesModel") (nm := "statement") (lv := [(0, .ref (ad 0))]) (by decide) rfl rfl (Nat.le_of_ble_eq_true rfl) rfl (fun κ X => ?_)
  have h6 := hI.2.1
  have hs4 := hI.2.2.2.1
  have hz0 := hI.1 0 (by omega)
  have hz1 := hI.1 1 (by omega)
  have hz2 := hI.1 2 (by omega)
  refine z_aload_n X dX4_statement_0 rfl 0 rfl ?_
  refine z_ldcS X sk_X4_217 dX4_statement_1 (fun sk1 hk1 => ?_)
  refine z_cip (z_runV (rest := []) (n := 1) X [.ref (sk1)] (m_X4_isWord hM (KX.rf.tap hTp) hn ht hTok (a := a) (by omega) (byt := W_sort) (hS := hk1) (byt_lt (by decide)) (by decide)) dX4_statement_3 (mm_o hM) rfl (lw_V q1726 q1728 qs48 q70 q1729) hv_X4_isWord rfl ⟨Nat.le_of_ble_eq_true rfl, Nat.le_of_ble_eq_true rfl⟩ ⟨by omega, by omega⟩ rfl (Nat.le_of_ble_eq_true rfl)) ?_
  refine z_if_eq (tgt := 115) X dX4_statement_6 (by decide) bI_0 (fun c2 => ?_) (fun c2 => ?_)
  · refine z_aload_n X dX4_statement_115 rfl 0 rfl ?_
    refine z_ldcS X sk_X4_226 dX4_statement_116 (fun sk3 hk3 => ?_)
    refine z_cip (z_runV (rest := []) (n := 1) X [.ref (sk3)] (m_X4_isWord hM (KX.rf.tap hTp) hn ht hTok (a := a) (by omega) (byt := W_box) (hS := hk3) (byt_lt (by decide)) (by decide)) dX4_statement_118 (mm_o hM) rfl (lw_V q1726 q1728 qs48 q70 q1729) hv_X4_isWord rfl ⟨Nat.le_of_ble_eq_true rfl, Nat.le_of_ble_eq_true rfl⟩ ⟨by omega, by omega⟩ rfl (Nat.le_of_ble_eq_true rfl)) ?_
    refine z_if_eq (tgt := 175) X dX4_statement_121 (by decide) bI_0 (fun c4 => ?_) (fun c4 => ?_)
    · refine z_aload_n X dX4_statement_175 rfl 0 rfl ?_
      refine z_ldcS X sk_X4_228 dX4_statement_176 (fun sk5 hk5 => ?_)
      refine z_cip (z_runV (rest := []) (n := 1) X [.ref (sk5)] (m_X4_isWord hM (KX.rf.tap hTp) hn ht hTok (a := a) (by omega) (byt := W_goes) (hS := hk5) (byt_lt (by decide)) (by decide)) dX4_statement_178 (mm_o hM) rfl (lw_V q1726 q1728 qs48 q70 q1729) hv_X4_isWord rfl ⟨Nat.le_of_ble_eq_true rfl, Nat.le_of_ble_eq_true rfl⟩ ⟨by omega, by omega⟩ rfl (Nat.le_of_ble_eq_true rfl)) ?_
      refine z_if_eq (tgt := 226) X dX4_statement_181 (by decide) bI_0 (fun c6 => ?_) (fun c6 => ?_)
      · refine z_aload_n X dX4_statement_226 rfl 0 rfl ?_
        refine z_ldcS X sk_X4_229 dX4_statement_227 (fun sk7 hk7 => ?_)
        refine z_cip (z_runV (rest := []) (n := 1) X [.ref (sk7)] (m_X4_isWord hM (KX.rf.tap hTp) hn ht hTok (a := a) (by omega) (byt := W_near) (hS := hk7) (byt_lt (by decide)) (by decide)) dX4_statement_229 (mm_o hM) rfl (lw_V q1726 q1728 qs48 q70 q1729) hv_X4_isWord rfl ⟨Nat.le_of_ble_eq_true rfl, Nat.le_of_ble_eq_true rfl⟩ ⟨by omega, by omega⟩ rfl (Nat.le_of_ble_eq_true rfl)) ?_
        refine z_if_eq (tgt := 252) X dX4_statement_232 (by decide) bI_0 (fun c8 => ?_) (fun c8 => ?_)
        · refine z_aload_n X dX4_statement_252 rfl 0 rfl ?_
          refine z_ldcS X sk_X4_231 dX4_statement_253 (fun sk9 hk9 => ?_)
          refine z_aload_n X dX4_statement_255 rfl 0 rfl ?_
          refine z_mg15 X hM dX4_statement_256 ?_
          refine z_iconst (v := nI (1)) X dX4_statement_259 ci1 ?_
          refine z_iconst (v := nI (0)) X dX4_statement_260 ci0 ?_
          refine z_bipush (v := nI (99)) X dX4_statement_261 (by decide) ?_
          refine z_ci (z_runV (rest := []) (n := 5) X [.ref (sk9), .ref (ad 16), .int (nI (1)), .int (nI (0)), .int (nI (99))] (m_X4_tells hM (KX.rf.tap hTp) hn ht hTok (a := a) (by omega) (byt := W_way) (hS := hk9) (byt_lt (by decide)) (by decide) (c := 16) (N := 2) (j := 1) (lo := 0) (hi := 99) rfl rfl rfl (by omega) (by omega) (by omega) (by omega) (by omega)) dX4_statement_263 (mm_o hM) rfl (lw_V q1749 q1751 qs49 q70 q1752) hv_X4_tells rfl ⟨Nat.le_of_ble_eq_true rfl, Nat.le_of_ble_eq_true rfl⟩ ⟨by omega, by omega⟩ rfl (Nat.le_of_ble_eq_true rfl)) (fun r10 w12 h11 => ?_)
          obtain ⟨mv12, hM12, hQ12⟩ := h11
          rcases hQ12 with ⟨x12, y12, qa12, qb12, qc12, qd12, rfl, qe12, qf12⟩ | ⟨x12, qa12, qb12, rfl, qc12, qd12⟩
          · have ye12 := telR_e qa12 (by omega)
            have hR12 : MR (wPut0 S (1 + 1) x12) mv12 := MR.KF (hR.put0 (f := 1) (by decide)) qe12
            have e : stmt S t n a = .inr ((wPut0 S (1 + 1) x12), y12) := by
              unfold stmt
              rw [if_neg (fun q => ts_n c2 q.1), if_neg (ts_n c4), if_neg (ts_n c6), if_neg (ts_n c8), qa12, bnd_r]
            exact z_zret X dX4_statement_266 (by omega) (by omega) bz1 ⟨_, rfl, ⟨_, hM12, ((KX.rf.st (by omega)).kf qe12), Or.inl ⟨_, _, e, by omega, by omega, (wInv_way hI (by omega)), rfl, hR12, qf12⟩⟩⟩
          · have hR12 := MR.KF hR qc12
            have e : stmt S t n a = .inl x12 := by
              unfold stmt
              rw [if_neg (fun q => ts_n c2 q.1), if_neg (ts_n c4), if_neg (ts_n c6), if_neg (ts_n c8), qa12, bnd_l]
            exact z_zret X dX4_statement_266 (by omega) (by omega) bz0 ⟨_, rfl, ⟨_, hM12, (KX.rf.kf qc12), Or.inr ⟨x12, e, by omega, rfl, qd12, _, hR12⟩⟩⟩
        · have c8 := ts_t c8
          refine z_aload_n X dX4_statement_235 rfl 0 rfl ?_
          refine z_ldcS X sk_X4_229 dX4_statement_236 (fun sk13 hk13 => ?_)
          refine z_aload_n X dX4_statement_238 rfl 0 rfl ?_
          refine z_mg15 X hM dX4_statement_239 ?_
          refine z_iconst (v := nI (0)) X dX4_statement_242 ci0 ?_
          refine z_iconst (v := nI (0)) X dX4_statement_243 ci0 ?_
          refine z_bipush (v := nI (10)) X dX4_statement_244 (by decide) ?_
          refine z_ci (z_runV (rest := []) (n := 5) X [.ref (sk13), .ref (ad 16), .int (nI (0)), .int (nI (0)), .int (nI (10))] (m_X4_tells hM (KX.rf.tap hTp) hn ht hTok (a := a) (by omega) (byt := W_near) (hS := hk13) (byt_lt (by decide)) (by decide) (c := 16) (N := 2) (j := 0) (lo := 0) (hi := 10) rfl rfl rfl (by omega) (by omega) (by omega) (by omega) (by omega)) dX4_statement_246 (mm_o hM) rfl (lw_V q1749 q1751 qs49 q70 q1752) hv_X4_tells rfl ⟨Nat.le_of_ble_eq_true rfl, Nat.le_of_ble_eq_true rfl⟩ ⟨by omega, by omega⟩ rfl (Nat.le_of_ble_eq_true rfl)) (fun r14 w16 h15 => ?_)
          obtain ⟨mv16, hM16, hQ16⟩ := h15
          rcases hQ16 with ⟨x16, y16, qa16, qb16, qc16, qd16, rfl, qe16, qf16⟩ | ⟨x16, qa16, qb16, rfl, qc16, qd16⟩
          · have ye16 := telR_e qa16 (by omega)
            have hR16 : MR (wPut0 S (1 + 0) x16) mv16 := MR.KF (hR.put0 (f := 0) (by decide)) qe16
            refine z_goto (tgt := 266) X dX4_statement_249 (by decide) ?_
            have e : stmt S t n a = .inr ((wPut0 S (1 + 0) x16), y16) := by
              unfold stmt
              rw [if_neg (fun q => ts_n c2 q.1), if_neg (ts_n c4), if_neg (ts_n c6), if_pos c8, qa16, bnd_r]
            exact z_zret X dX4_statement_266 (by omega) (by omega) bz1 ⟨_, rfl, ⟨_, hM16, ((KX.rf.st (by omega)).kf qe16), Or.inl ⟨_, _, e, by omega, by omega, (wInv_near hI (by omega)), rfl, hR16, qf16⟩⟩⟩
          · have hR16 := MR.KF hR qc16
            refine z_goto (tgt := 266) X dX4_statement_249 (by decide) ?_
            have e : stmt S t n a = .inl x16 := by
              unfold stmt
              rw [if_neg (fun q => ts_n c2 q.1), if_neg (ts_n c4), if_neg (ts_n c6), if_pos c8, qa16, bnd_l]
            exact z_zret X dX4_statement_266 (by omega) (by omega) bz0 ⟨_, rfl, ⟨_, hM16, (KX.rf.kf qc16), Or.inr ⟨x16, e, by omega, rfl, qd16, _, hR16⟩⟩⟩
      · have c6 := ts_t c6
        refine z_aload_n X dX4_statement_184 rfl 0 rfl ?_
        refine z_ldcS X sk_X4_228 dX4_statement_185 (fun sk17 hk17 => ?_)
        refine z_aload_n X dX4_statement_187 rfl 0 rfl ?_
        refine z_mg25 X hM dX4_statement_188 ?_
        refine z_iconst (v := nI (0)) X dX4_statement_191 ci0 ?_
        refine z_iconst (v := nI (0)) X dX4_statement_192 ci0 ?_
        refine z_iconst (v := nI (2)) X dX4_statement_193 ci2 ?_
        refine z_ci (z_runV (rest := []) (n := 5) X [.ref (sk17), .ref (ad 26), .int (nI (0)), .int (nI (0)), .int (nI (2))] (m_X4_tells hM (KX.rf.tap hTp) hn ht hTok (a := a) (by omega) (byt := W_goes) (hS := hk17) (byt_lt (by decide)) (by decide) (c := 26) (N := 1) (j := 0) (lo := 0) (hi := 2) rfl rfl rfl (by omega) (by omega) (by omega) (by omega) (by omega)) dX4_statement_194 (mm_o hM) rfl (lw_V q1749 q1751 qs49 q70 q1752) hv_X4_tells rfl ⟨Nat.le_of_ble_eq_true rfl, Nat.le_of_ble_eq_true rfl⟩ ⟨by omega, by omega⟩ rfl (Nat.le_of_ble_eq_true rfl)) (fun r18 w20 h19 => ?_)
        obtain ⟨mv20, hM20, hQ20⟩ := h19
        rcases hQ20 with ⟨x20, y20, qa20, qb20, qc20, qd20, rfl, qe20, qf20⟩ | ⟨x20, qa20, qb20, rfl, qc20, qd20⟩
        · have ye20 := telR_e qa20 (by omega)
          have hR20 : MR S mv20 := MR.KF (hR.told) qe20
          refine z_if_eq_f (tgt := 224) X dX4_statement_197 (by decide) (by decide) ?_
          have hzx := hI.1 x20 (by omega)
          refine z_aload_n X dX4_statement_200 rfl 0 rfl ?_
          refine z_aload_n X dX4_statement_201 rfl 0 rfl ?_
          refine z_mg12 X hM20 dX4_statement_202 ?_
          refine z_aload_n X dX4_statement_205 rfl 0 rfl ?_
          refine z_mg25 X hM20 dX4_statement_206 ?_
          refine z_iconst (v := nI (0)) X dX4_statement_209 ci0 ?_
          refine z_iaN (v := nI (x20)) X dX4_statement_210 (mm_26 hM20) (by omega) (by omega) ((congrFun (congrFun qe20.1 26) 0).trans ((congrFun mI_own 0).trans pk_us)) ?_
          refine z_iconst (v := nI (0)) X dX4_statement_211 ci0 ?_
          refine z_bipush (v := nI (10)) X dX4_statement_212 (by decide) ?_
          refine z_ci (z_runV (rest := []) (n := 4) X [.ref (ad 13), .int (nI (x20)), .int (nI (0)), .int (nI (10))] (m_X4_number hM20 (((KX.rf.st (by omega)).kf qe20).tap hTp) hn ht qf20 (a := y20) (by omega) (c := 13) (N := 3) (j := x20) (lo := 0) (hi := 10) rfl rfl rfl (by omega) (by omega) (by omega) (by omega) (by omega)) dX4_statement_214 (mm_o hM20) rfl (lw_V q1757 q1759 qs51 q70 q1760) hv_X4_number rfl ⟨Nat.le_of_ble_eq_true rfl, Nat.le_of_ble_eq_true rfl⟩ ⟨by omega, by omega⟩ rfl (Nat.le_of_ble_eq_true rfl)) (fun r21 w23 h22 => ?_)
          obtain ⟨mv23, hM23, hQ23⟩ := h22
          rcases hQ23 with ⟨x23, y23, qa23, qb23, qc23, qd23, rfl, qe23, qf23⟩ | ⟨x23, qa23, qb23, rfl, qc23, qd23⟩
          · have ye23 := numR_e qa23 (by omega)
            have hR23 : MR (wPut S 2 x20 x23) mv23 := MR.KF (hR20.put (f := 2) (by decide) (by omega)) qe23
            refine z_if_eq_f (tgt := 224) X dX4_statement_217 (by decide) (by decide) ?_
            refine z_iconst (v := nI (1)) X dX4_statement_220 ci1 ?_
            refine z_goto (tgt := 225) X dX4_statement_221 (by decide) ?_
            have e : stmt S t n a = .inr ((wPut S 2 x20 x23), y23) := by
              unfold stmt
              rw [if_neg (fun q => ts_n c2 q.1), if_neg (ts_n c4), if_pos c6, qa20, bnd_r, qa23, bnd_r]
            exact z_zret X dX4_statement_225 (by omega) (by omega) bz1 ⟨_, rfl, ⟨_, hM23, ((((KX.rf.st (by omega)).kf qe20).st (by omega)).kf qe23), Or.inl ⟨_, _, e, by omega, by omega, (wInv_goes hI (by omega)), rfl, hR23, qf23⟩⟩⟩
          · have hR23 := MR.KF hR20 qc23
            refine z_if_eq_t (tgt := 224) X dX4_statement_217 (by decide) (by decide) ?_
            refine z_iconst (v := nI (0)) X dX4_statement_224 ci0 ?_
            have e : stmt S t n a = .inl x23 := by
              unfold stmt
              rw [if_neg (fun q => ts_n c2 q.1), if_neg (ts_n c4), if_pos c6, qa20, bnd_r, qa23, bnd_l]
            exact z_zret X dX4_statement_225 (by omega) (by omega) bz0 ⟨_, rfl, ⟨_, hM23, (((KX.rf.st (by omega)).kf qe20).kf qc23), Or.inr ⟨x23, e, by omega, rfl, qd23, _, hR23⟩⟩⟩
        · have hR20 := MR.KF hR qc20
          refine z_if_eq_t (tgt := 224) X dX4_statement_197 (by decide) (by decide) ?_
          refine z_iconst (v := nI (0)) X dX4_statement_224 ci0 ?_
          have e : stmt S t n a = .inl x20 := by
            unfold stmt
            rw [if_neg (fun q => ts_n c2 q.1), if_neg (ts_n c4), if_pos c6, qa20, bnd_l]
          exact z_zret X dX4_statement_225 (by omega) (by omega) bz0 ⟨_, rfl, ⟨_, hM20, (KX.rf.kf qc20), Or.inr ⟨x20, e, by omega, rfl, qd20, _, hR20⟩⟩⟩
    · have c4 := ts_t c4
      refine z_aload_n X dX4_statement_124 rfl 0 rfl ?_
      refine z_ldcS X sk_X4_226 dX4_statement_125 (fun sk24 hk24 => ?_)
      refine z_aload_n X dX4_statement_127 rfl 0 rfl ?_
      refine z_mg25 X hM dX4_statement_128 ?_
      refine z_iconst (v := nI (0)) X dX4_statement_131 ci0 ?_
      refine z_iconst (v := nI (0)) X dX4_statement_132 ci0 ?_
      refine z_iconst (v := nI (2)) X dX4_statement_133 ci2 ?_
      refine z_ci (z_runV (rest := []) (n := 5) X [.ref (sk24), .ref (ad 26), .int (nI (0)), .int (nI (0)), .int (nI (2))] (m_X4_tells hM (KX.rf.tap hTp) hn ht hTok (a := a) (by omega) (byt := W_box) (hS := hk24) (byt_lt (by decide)) (by decide) (c := 26) (N := 1) (j := 0) (lo := 0) (hi := 2) rfl rfl rfl (by omega) (by omega) (by omega) (by omega) (by omega)) dX4_statement_134 (mm_o hM) rfl (lw_V q1749 q1751 qs49 q70 q1752) hv_X4_tells rfl ⟨Nat.le_of_ble_eq_true rfl, Nat.le_of_ble_eq_true rfl⟩ ⟨by omega, by omega⟩ rfl (Nat.le_of_ble_eq_true rfl)) (fun r25 w27 h26 => ?_)
      obtain ⟨mv27, hM27, hQ27⟩ := h26
      rcases hQ27 with ⟨x27, y27, qa27, qb27, qc27, qd27, rfl, qe27, qf27⟩ | ⟨x27, qa27, qb27, rfl, qc27, qd27⟩
      · have ye27 := telR_e qa27 (by omega)
        have hR27 : MR S mv27 := MR.KF (hR.told) qe27
        refine z_if_eq_f (tgt := 173) X dX4_statement_137 (by decide) (by decide) ?_
        have hzx := hI.1 x27 (by omega)
        refine z_aload_n X dX4_statement_140 rfl 0 rfl ?_
        refine z_aload_n X dX4_statement_141 rfl 0 rfl ?_
        refine z_mg10 X hM27 dX4_statement_142 ?_
        refine z_aload_n X dX4_statement_145 rfl 0 rfl ?_
        refine z_mg25 X hM27 dX4_statement_146 ?_
        refine z_iconst (v := nI (0)) X dX4_statement_149 ci0 ?_
        refine z_iaN (v := nI (x27)) X dX4_statement_150 (mm_26 hM27) (by omega) (by omega) ((congrFun (congrFun qe27.1 26) 0).trans ((congrFun mI_own 0).trans pk_us)) ?_
        refine z_aload_n X dX4_statement_151 rfl 0 rfl ?_
        refine z_mg11 X hM27 dX4_statement_152 ?_
        refine z_aload_n X dX4_statement_155 rfl 0 rfl ?_
        refine z_mg25 X hM27 dX4_statement_156 ?_
        refine z_iconst (v := nI (0)) X dX4_statement_159 ci0 ?_
        refine z_iaN (v := nI (x27)) X dX4_statement_160 (mm_26 hM27) (by omega) (by omega) ((congrFun (congrFun qe27.1 26) 0).trans ((congrFun mI_own 0).trans pk_us)) ?_
        refine z_iaN (v := nI (S.1 1 x27)) X dX4_statement_161 (mm_12 hM27) (by omega) (by omega) (hR27.1 x27 (by omega)).2.1 ?_
        refine z_iconst (v := nI (4)) X dX4_statement_162 ci4 ?_
        refine z_ci (z_runV (rest := []) (n := 4) X [.ref (ad 11), .int (nI (x27)), .int (nI (S.1 1 x27)), .int (nI (4))] (m_X4_number hM27 (((KX.rf.st (by omega)).kf qe27).tap hTp) hn ht qf27 (a := y27) (by omega) (c := 11) (N := 3) (j := x27) (lo := S.1 1 x27) (hi := 4) rfl rfl rfl (by omega) (by omega) (by omega) (by omega) (by omega)) dX4_statement_163 (mm_o hM27) rfl (lw_V q1757 q1759 qs51 q70 q1760) hv_X4_number rfl ⟨Nat.le_of_ble_eq_true rfl, Nat.le_of_ble_eq_true rfl⟩ ⟨by omega, by omega⟩ rfl (Nat.le_of_ble_eq_true rfl)) (fun r28 w30 h29 => ?_)
        obtain ⟨mv30, hM30, hQ30⟩ := h29
        rcases hQ30 with ⟨x30, y30, qa30, qb30, qc30, qd30, rfl, qe30, qf30⟩ | ⟨x30, qa30, qb30, rfl, qc30, qd30⟩
        · have ye30 := numR_e qa30 (by omega)
          have hR30 : MR (wPut S 0 x27 x30) mv30 := MR.KF (hR27.put (f := 0) (by decide) (by omega)) qe30
          refine z_if_eq_f (tgt := 173) X dX4_statement_166 (by decide) (by decide) ?_
          refine z_iconst (v := nI (1)) X dX4_statement_169 ci1 ?_
          refine z_goto (tgt := 174) X dX4_statement_170 (by decide) ?_
          have e : stmt S t n a = .inr ((wPut S 0 x27 x30), y30) := by
            unfold stmt
            rw [if_neg (fun q => ts_n c2 q.1), if_pos c4, qa27, bnd_r, qa30, bnd_r]
          exact z_zret X dX4_statement_174 (by omega) (by omega) bz1 ⟨_, rfl, ⟨_, hM30, ((((KX.rf.st (by omega)).kf qe27).st (by omega)).kf qe30), Or.inl ⟨_, _, e, by omega, by omega, (wInv_box hI (by omega) (by omega)), rfl, hR30, qf30⟩⟩⟩
        · have hR30 := MR.KF hR27 qc30
          refine z_if_eq_t (tgt := 173) X dX4_statement_166 (by decide) (by decide) ?_
          refine z_iconst (v := nI (0)) X dX4_statement_173 ci0 ?_
          have e : stmt S t n a = .inl x30 := by
            unfold stmt
            rw [if_neg (fun q => ts_n c2 q.1), if_pos c4, qa27, bnd_r, qa30, bnd_l]
          exact z_zret X dX4_statement_174 (by omega) (by omega) bz0 ⟨_, rfl, ⟨_, hM30, (((KX.rf.st (by omega)).kf qe27).kf qc30), Or.inr ⟨x30, e, by omega, rfl, qd30, _, hR30⟩⟩⟩
      · have hR27 := MR.KF hR qc27
        refine z_if_eq_t (tgt := 173) X dX4_statement_137 (by decide) (by decide) ?_
        refine z_iconst (v := nI (0)) X dX4_statement_173 ci0 ?_
        have e : stmt S t n a = .inl x27 := by
          unfold stmt
          rw [if_neg (fun q => ts_n c2 q.1), if_pos c4, qa27, bnd_l]
        exact z_zret X dX4_statement_174 (by omega) (by omega) bz0 ⟨_, rfl, ⟨_, hM27, (KX.rf.kf qc27), Or.inr ⟨x27, e, by omega, rfl, qd27, _, hR27⟩⟩⟩
  · have c2 := ts_t c2
    refine z_aload_n X dX4_statement_9 rfl 0 rfl ?_
    refine z_mgv13 X hM dX4_statement_10 hR.2.1 ?_
    refine z_bipush (v := nI (6)) X dX4_statement_13 (by decide) ?_
    refine z_icmp_ge (tgt := 115) X dX4_statement_15 (by decide) (nI_leI (by omega) (by omega)) (fun c31 => ?_) (fun c31 => ?_)
    · refine z_aload_n X dX4_statement_115 rfl 0 rfl ?_
      refine z_ldcS X sk_X4_226 dX4_statement_116 (fun sk32 hk32 => ?_)
      refine z_cip (z_runV (rest := []) (n := 1) X [.ref (sk32)] (m_X4_isWord hM (KX.rf.tap hTp) hn ht hTok (a := a) (by omega) (byt := W_box) (hS := hk32) (byt_lt (by decide)) (by decide)) dX4_statement_118 (mm_o hM) rfl (lw_V q1726 q1728 qs48 q70 q1729) hv_X4_isWord rfl ⟨Nat.le_of_ble_eq_true rfl, Nat.le_of_ble_eq_true rfl⟩ ⟨by omega, by omega⟩ rfl (Nat.le_of_ble_eq_true rfl)) ?_
      refine z_if_eq (tgt := 175) X dX4_statement_121 (by decide) bI_0 (fun c33 => ?_) (fun c33 => ?_)
      · refine z_aload_n X dX4_statement_175 rfl 0 rfl ?_
        refine z_ldcS X sk_X4_228 dX4_statement_176 (fun sk34 hk34 => ?_)
        refine z_cip (z_runV (rest := []) (n := 1) X [.ref (sk34)] (m_X4_isWord hM (KX.rf.tap hTp) hn ht hTok (a := a) (by omega) (byt := W_goes) (hS := hk34) (byt_lt (by decide)) (by decide)) dX4_statement_178 (mm_o hM) rfl (lw_V q1726 q1728 qs48 q70 q1729) hv_X4_isWord rfl ⟨Nat.le_of_ble_eq_true rfl, Nat.le_of_ble_eq_true rfl⟩ ⟨by omega, by omega⟩ rfl (Nat.le_of_ble_eq_true rfl)) ?_
        refine z_if_eq (tgt := 226) X dX4_statement_181 (by decide) bI_0 (fun c35 => ?_) (fun c35 => ?_)
        · refine z_aload_n X dX4_statement_226 rfl 0 rfl ?_
          refine z_ldcS X sk_X4_229 dX4_statement_227 (fun sk36 hk36 => ?_)
          refine z_cip (z_runV (rest := []) (n := 1) X [.ref (sk36)] (m_X4_isWord hM (KX.rf.tap hTp) hn ht hTok (a := a) (by omega) (byt := W_near) (hS := hk36) (byt_lt (by decide)) (by decide)) dX4_statement_229 (mm_o hM) rfl (lw_V q1726 q1728 qs48 q70 q1729) hv_X4_isWord rfl ⟨Nat.le_of_ble_eq_true rfl, Nat.le_of_ble_eq_true rfl⟩ ⟨by omega, by omega⟩ rfl (Nat.le_of_ble_eq_true rfl)) ?_
          refine z_if_eq (tgt := 252) X dX4_statement_232 (by decide) bI_0 (fun c37 => ?_) (fun c37 => ?_)
          · refine z_aload_n X dX4_statement_252 rfl 0 rfl ?_
            refine z_ldcS X sk_X4_231 dX4_statement_253 (fun sk38 hk38 => ?_)
            refine z_aload_n X dX4_statement_255 rfl 0 rfl ?_
            refine z_mg15 X hM dX4_statement_256 ?_
            refine z_iconst (v := nI (1)) X dX4_statement_259 ci1 ?_
            refine z_iconst (v := nI (0)) X dX4_statement_260 ci0 ?_
            refine z_bipush (v := nI (99)) X dX4_statement_261 (by decide) ?_
            refine z_ci (z_runV (rest := []) (n := 5) X [.ref (sk38), .ref (ad 16), .int (nI (1)), .int (nI (0)), .int (nI (99))] (m_X4_tells hM (KX.rf.tap hTp) hn ht hTok (a := a) (by omega) (byt := W_way) (hS := hk38) (byt_lt (by decide)) (by decide) (c := 16) (N := 2) (j := 1) (lo := 0) (hi := 99) rfl rfl rfl (by omega) (by omega) (by omega) (by omega) (by omega)) dX4_statement_263 (mm_o hM) rfl (lw_V q1749 q1751 qs49 q70 q1752) hv_X4_tells rfl ⟨Nat.le_of_ble_eq_true rfl, Nat.le_of_ble_eq_true rfl⟩ ⟨by omega, by omega⟩ rfl (Nat.le_of_ble_eq_true rfl)) (fun r39 w41 h40 => ?_)
            obtain ⟨mv41, hM41, hQ41⟩ := h40
            rcases hQ41 with ⟨x41, y41, qa41, qb41, qc41, qd41, rfl, qe41, qf41⟩ | ⟨x41, qa41, qb41, rfl, qc41, qd41⟩
            · have ye41 := telR_e qa41 (by omega)
              have hR41 : MR (wPut0 S (1 + 1) x41) mv41 := MR.KF (hR.put0 (f := 1) (by decide)) qe41
              have e : stmt S t n a = .inr ((wPut0 S (1 + 1) x41), y41) := by
                unfold stmt
                rw [if_neg (fun q => by omega), if_neg (ts_n c33), if_neg (ts_n c35), if_neg (ts_n c37), qa41, bnd_r]
              exact z_zret X dX4_statement_266 (by omega) (by omega) bz1 ⟨_, rfl, ⟨_, hM41, ((KX.rf.st (by omega)).kf qe41), Or.inl ⟨_, _, e, by omega, by omega, (wInv_way hI (by omega)), rfl, hR41, qf41⟩⟩⟩
            · have hR41 := MR.KF hR qc41
              have e : stmt S t n a = .inl x41 := by
                unfold stmt
                rw [if_neg (fun q => by omega), if_neg (ts_n c33), if_neg (ts_n c35), if_neg (ts_n c37), qa41, bnd_l]
              exact z_zret X dX4_statement_266 (by omega) (by omega) bz0 ⟨_, rfl, ⟨_, hM41, (KX.rf.kf qc41), Or.inr ⟨x41, e, by omega, rfl, qd41, _, hR41⟩⟩⟩
          · have c37 := ts_t c37
            refine z_aload_n X dX4_statement_235 rfl 0 rfl ?_
            refine z_ldcS X sk_X4_229 dX4_statement_236 (fun sk42 hk42 => ?_)
            refine z_aload_n X dX4_statement_238 rfl 0 rfl ?_
            refine z_mg15 X hM dX4_statement_239 ?_
            refine z_iconst (v := nI (0)) X dX4_statement_242 ci0 ?_
            refine z_iconst (v := nI (0)) X dX4_statement_243 ci0 ?_
            refine z_bipush (v := nI (10)) X dX4_statement_244 (by decide) ?_
            refine z_ci (z_runV (rest := []) (n := 5) X [.ref (sk42), .ref (ad 16), .int (nI (0)), .int (nI (0)), .int (nI (10))] (m_X4_tells hM (KX.rf.tap hTp) hn ht hTok (a := a) (by omega) (byt := W_near) (hS := hk42) (byt_lt (by decide)) (by decide) (c := 16) (N := 2) (j := 0) (lo := 0) (hi := 10) rfl rfl rfl (by omega) (by omega) (by omega) (by omega) (by omega)) dX4_statement_246 (mm_o hM) rfl (lw_V q1749 q1751 qs49 q70 q1752) hv_X4_tells rfl ⟨Nat.le_of_ble_eq_true rfl, Nat.le_of_ble_eq_true rfl⟩ ⟨by omega, by omega⟩ rfl (Nat.le_of_ble_eq_true rfl)) (fun r43 w45 h44 => ?_)
            obtain ⟨mv45, hM45, hQ45⟩ := h44
            rcases hQ45 with ⟨x45, y45, qa45, qb45, qc45, qd45, rfl, qe45, qf45⟩ | ⟨x45, qa45, qb45, rfl, qc45, qd45⟩
            · have ye45 := telR_e qa45 (by omega)
              have hR45 : MR (wPut0 S (1 + 0) x45) mv45 := MR.KF (hR.put0 (f := 0) (by decide)) qe45
              refine z_goto (tgt := 266) X dX4_statement_249 (by decide) ?_
              have e : stmt S t n a = .inr ((wPut0 S (1 + 0) x45), y45) := by
                unfold stmt
                rw [if_neg (fun q => by omega), if_neg (ts_n c33), if_neg (ts_n c35), if_pos c37, qa45, bnd_r]
              exact z_zret X dX4_statement_266 (by omega) (by omega) bz1 ⟨_, rfl, ⟨_, hM45, ((KX.rf.st (by omega)).kf qe45), Or.inl ⟨_, _, e, by omega, by omega, (wInv_near hI (by omega)), rfl, hR45, qf45⟩⟩⟩
            · have hR45 := MR.KF hR qc45
              refine z_goto (tgt := 266) X dX4_statement_249 (by decide) ?_
              have e : stmt S t n a = .inl x45 := by
                unfold stmt
                rw [if_neg (fun q => by omega), if_neg (ts_n c33), if_neg (ts_n c35), if_pos c37, qa45, bnd_l]
              exact z_zret X dX4_statement_266 (by omega) (by omega) bz0 ⟨_, rfl, ⟨_, hM45, (KX.rf.kf qc45), Or.inr ⟨x45, e, by omega, rfl, qd45, _, hR45⟩⟩⟩
        · have c35 := ts_t c35
          refine z_aload_n X dX4_statement_184 rfl 0 rfl ?_
          refine z_ldcS X sk_X4_228 dX4_statement_185 (fun sk46 hk46 => ?_)
          refine z_aload_n X dX4_statement_187 rfl 0 rfl ?_
          refine z_mg25 X hM dX4_statement_188 ?_
          refine z_iconst (v := nI (0)) X dX4_statement_191 ci0 ?_
          refine z_iconst (v := nI (0)) X dX4_statement_192 ci0 ?_
          refine z_iconst (v := nI (2)) X dX4_statement_193 ci2 ?_
          refine z_ci (z_runV (rest := []) (n := 5) X [.ref (sk46), .ref (ad 26), .int (nI (0)), .int (nI (0)), .int (nI (2))] (m_X4_tells hM (KX.rf.tap hTp) hn ht hTok (a := a) (by omega) (byt := W_goes) (hS := hk46) (byt_lt (by decide)) (by decide) (c := 26) (N := 1) (j := 0) (lo := 0) (hi := 2) rfl rfl rfl (by omega) (by omega) (by omega) (by omega) (by omega)) dX4_statement_194 (mm_o hM) rfl (lw_V q1749 q1751 qs49 q70 q1752) hv_X4_tells rfl ⟨Nat.le_of_ble_eq_true rfl, Nat.le_of_ble_eq_true rfl⟩ ⟨by omega, by omega⟩ rfl (Nat.le_of_ble_eq_true rfl)) (fun r47 w49 h48 => ?_)
          obtain ⟨mv49, hM49, hQ49⟩ := h48
          rcases hQ49 with ⟨x49, y49, qa49, qb49, qc49, qd49, rfl, qe49, qf49⟩ | ⟨x49, qa49, qb49, rfl, qc49, qd49⟩
          · have ye49 := telR_e qa49 (by omega)
            have hR49 : MR S mv49 := MR.KF (hR.told) qe49
            refine z_if_eq_f (tgt := 224) X dX4_statement_197 (by decide) (by decide) ?_
            have hzx := hI.1 x49 (by omega)
            refine z_aload_n X dX4_statement_200 rfl 0 rfl ?_
            refine z_aload_n X dX4_statement_201 rfl 0 rfl ?_
            refine z_mg12 X hM49 dX4_statement_202 ?_
            refine z_aload_n X dX4_statement_205 rfl 0 rfl ?_
            refine z_mg25 X hM49 dX4_statement_206 ?_
            refine z_iconst (v := nI (0)) X dX4_statement_209 ci0 ?_
            refine z_iaN (v := nI (x49)) X dX4_statement_210 (mm_26 hM49) (by omega) (by omega) ((congrFun (congrFun qe49.1 26) 0).trans ((congrFun mI_own 0).trans pk_us)) ?_
            refine z_iconst (v := nI (0)) X dX4_statement_211 ci0 ?_
            refine z_bipush (v := nI (10)) X dX4_statement_212 (by decide) ?_
            refine z_ci (z_runV (rest := []) (n := 4) X [.ref (ad 13), .int (nI (x49)), .int (nI (0)), .int (nI (10))] (m_X4_number hM49 (((KX.rf.st (by omega)).kf qe49).tap hTp) hn ht qf49 (a := y49) (by omega) (c := 13) (N := 3) (j := x49) (lo := 0) (hi := 10) rfl rfl rfl (by omega) (by omega) (by omega) (by omega) (by omega)) dX4_statement_214 (mm_o hM49) rfl (lw_V q1757 q1759 qs51 q70 q1760) hv_X4_number rfl ⟨Nat.le_of_ble_eq_true rfl, Nat.le_of_ble_eq_true rfl⟩ ⟨by omega, by omega⟩ rfl (Nat.le_of_ble_eq_true rfl)) (fun r50 w52 h51 => ?_)
            obtain ⟨mv52, hM52, hQ52⟩ := h51
            rcases hQ52 with ⟨x52, y52, qa52, qb52, qc52, qd52, rfl, qe52, qf52⟩ | ⟨x52, qa52, qb52, rfl, qc52, qd52⟩
            · have ye52 := numR_e qa52 (by omega)
              have hR52 : MR (wPut S 2 x49 x52) mv52 := MR.KF (hR49.put (f := 2) (by decide) (by omega)) qe52
              refine z_if_eq_f (tgt := 224) X dX4_statement_217 (by decide) (by decide) ?_
              refine z_iconst (v := nI (1)) X dX4_statement_220 ci1 ?_
              refine z_goto (tgt := 225) X dX4_statement_221 (by decide) ?_
              have e : stmt S t n a = .inr ((wPut S 2 x49 x52), y52) := by
                unfold stmt
                rw [if_neg (fun q => by omega), if_neg (ts_n c33), if_pos c35, qa49, bnd_r, qa52, bnd_r]
              exact z_zret X dX4_statement_225 (by omega) (by omega) bz1 ⟨_, rfl, ⟨_, hM52, ((((KX.rf.st (by omega)).kf qe49).st (by omega)).kf qe52), Or.inl ⟨_, _, e, by omega, by omega, (wInv_goes hI (by omega)), rfl, hR52, qf52⟩⟩⟩
            · have hR52 := MR.KF hR49 qc52
              refine z_if_eq_t (tgt := 224) X dX4_statement_217 (by decide) (by decide) ?_
              refine z_iconst (v := nI (0)) X dX4_statement_224 ci0 ?_
              have e : stmt S t n a = .inl x52 := by
                unfold stmt
                rw [if_neg (fun q => by omega), if_neg (ts_n c33), if_pos c35, qa49, bnd_r, qa52, bnd_l]
              exact z_zret X dX4_statement_225 (by omega) (by omega) bz0 ⟨_, rfl, ⟨_, hM52, (((KX.rf.st (by omega)).kf qe49).kf qc52), Or.inr ⟨x52, e, by omega, rfl, qd52, _, hR52⟩⟩⟩
          · have hR49 := MR.KF hR qc49
            refine z_if_eq_t (tgt := 224) X dX4_statement_197 (by decide) (by decide) ?_
            refine z_iconst (v := nI (0)) X dX4_statement_224 ci0 ?_
            have e : stmt S t n a = .inl x49 := by
              unfold stmt
              rw [if_neg (fun q => by omega), if_neg (ts_n c33), if_pos c35, qa49, bnd_l]
            exact z_zret X dX4_statement_225 (by omega) (by omega) bz0 ⟨_, rfl, ⟨_, hM49, (KX.rf.kf qc49), Or.inr ⟨x49, e, by omega, rfl, qd49, _, hR49⟩⟩⟩
      · have c33 := ts_t c33
        refine z_aload_n X dX4_statement_124 rfl 0 rfl ?_
        refine z_ldcS X sk_X4_226 dX4_statement_125 (fun sk53 hk53 => ?_)
        refine z_aload_n X dX4_statement_127 rfl 0 rfl ?_
        refine z_mg25 X hM dX4_statement_128 ?_
        refine z_iconst (v := nI (0)) X dX4_statement_131 ci0 ?_
        refine z_iconst (v := nI (0)) X dX4_statement_132 ci0 ?_
        refine z_iconst (v := nI (2)) X dX4_statement_133 ci2 ?_
        refine z_ci (z_runV (rest := []) (n := 5) X [.ref (sk53), .ref (ad 26), .int (nI (0)), .int (nI (0)), .int (nI (2))] (m_X4_tells hM (KX.rf.tap hTp) hn ht hTok (a := a) (by omega) (byt := W_box) (hS := hk53) (byt_lt (by decide)) (by decide) (c := 26) (N := 1) (j := 0) (lo := 0) (hi := 2) rfl rfl rfl (by omega) (by omega) (by omega) (by omega) (by omega)) dX4_statement_134 (mm_o hM) rfl (lw_V q1749 q1751 qs49 q70 q1752) hv_X4_tells rfl ⟨Nat.le_of_ble_eq_true rfl, Nat.le_of_ble_eq_true rfl⟩ ⟨by omega, by omega⟩ rfl (Nat.le_of_ble_eq_true rfl)) (fun r54 w56 h55 => ?_)
        obtain ⟨mv56, hM56, hQ56⟩ := h55
        rcases hQ56 with ⟨x56, y56, qa56, qb56, qc56, qd56, rfl, qe56, qf56⟩ | ⟨x56, qa56, qb56, rfl, qc56, qd56⟩
        · have ye56 := telR_e qa56 (by omega)
          have hR56 : MR S mv56 := MR.KF (hR.told) qe56
          refine z_if_eq_f (tgt := 173) X dX4_statement_137 (by decide) (by decide) ?_
          have hzx := hI.1 x56 (by omega)
          refine z_aload_n X dX4_statement_140 rfl 0 rfl ?_
          refine z_aload_n X dX4_statement_141 rfl 0 rfl ?_
          refine z_mg10 X hM56 dX4_statement_142 ?_
          refine z_aload_n X dX4_statement_145 rfl 0 rfl ?_
          refine z_mg25 X hM56 dX4_statement_146 ?_
          refine z_iconst (v := nI (0)) X dX4_statement_149 ci0 ?_
          refine z_iaN (v := nI (x56)) X dX4_statement_150 (mm_26 hM56) (by omega) (by omega) ((congrFun (congrFun qe56.1 26) 0).trans ((congrFun mI_own 0).trans pk_us)) ?_
          refine z_aload_n X dX4_statement_151 rfl 0 rfl ?_
          refine z_mg11 X hM56 dX4_statement_152 ?_
          refine z_aload_n X dX4_statement_155 rfl 0 rfl ?_
          refine z_mg25 X hM56 dX4_statement_156 ?_
          refine z_iconst (v := nI (0)) X dX4_statement_159 ci0 ?_
          refine z_iaN (v := nI (x56)) X dX4_statement_160 (mm_26 hM56) (by omega) (by omega) ((congrFun (congrFun qe56.1 26) 0).trans ((congrFun mI_own 0).trans pk_us)) ?_
          refine z_iaN (v := nI (S.1 1 x56)) X dX4_statement_161 (mm_12 hM56) (by omega) (by omega) (hR56.1 x56 (by omega)).2.1 ?_
          refine z_iconst (v := nI (4)) X dX4_statement_162 ci4 ?_
          refine z_ci (z_runV (rest := []) (n := 4) X [.ref (ad 11), .int (nI (x56)), .int (nI (S.1 1 x56)), .int (nI (4))] (m_X4_number hM56 (((KX.rf.st (by omega)).kf qe56).tap hTp) hn ht qf56 (a := y56) (by omega) (c := 11) (N := 3) (j := x56) (lo := S.1 1 x56) (hi := 4) rfl rfl rfl (by omega) (by omega) (by omega) (by omega) (by omega)) dX4_statement_163 (mm_o hM56) rfl (lw_V q1757 q1759 qs51 q70 q1760) hv_X4_number rfl ⟨Nat.le_of_ble_eq_true rfl, Nat.le_of_ble_eq_true rfl⟩ ⟨by omega, by omega⟩ rfl (Nat.le_of_ble_eq_true rfl)) (fun r57 w59 h58 => ?_)
          obtain ⟨mv59, hM59, hQ59⟩ := h58
          rcases hQ59 with ⟨x59, y59, qa59, qb59, qc59, qd59, rfl, qe59, qf59⟩ | ⟨x59, qa59, qb59, rfl, qc59, qd59⟩
          · have ye59 := numR_e qa59 (by omega)
            have hR59 : MR (wPut S 0 x56 x59) mv59 := MR.KF (hR56.put (f := 0) (by decide) (by omega)) qe59
            refine z_if_eq_f (tgt := 173) X dX4_statement_166 (by decide) (by decide) ?_
            refine z_iconst (v := nI (1)) X dX4_statement_169 ci1 ?_
            refine z_goto (tgt := 174) X dX4_statement_170 (by decide) ?_
            have e : stmt S t n a = .inr ((wPut S 0 x56 x59), y59) := by
              unfold stmt
              rw [if_neg (fun q => by omega), if_pos c33, qa56, bnd_r, qa59, bnd_r]
            exact z_zret X dX4_statement_174 (by omega) (by omega) bz1 ⟨_, rfl, ⟨_, hM59, ((((KX.rf.st (by omega)).kf qe56).st (by omega)).kf qe59), Or.inl ⟨_, _, e, by omega, by omega, (wInv_box hI (by omega) (by omega)), rfl, hR59, qf59⟩⟩⟩
          · have hR59 := MR.KF hR56 qc59
            refine z_if_eq_t (tgt := 173) X dX4_statement_166 (by decide) (by decide) ?_
            refine z_iconst (v := nI (0)) X dX4_statement_173 ci0 ?_
            have e : stmt S t n a = .inl x59 := by
              unfold stmt
              rw [if_neg (fun q => by omega), if_pos c33, qa56, bnd_r, qa59, bnd_l]
            exact z_zret X dX4_statement_174 (by omega) (by omega) bz0 ⟨_, rfl, ⟨_, hM59, (((KX.rf.st (by omega)).kf qe56).kf qc59), Or.inr ⟨x59, e, by omega, rfl, qd59, _, hR59⟩⟩⟩
        · have hR56 := MR.KF hR qc56
          refine z_if_eq_t (tgt := 173) X dX4_statement_137 (by decide) (by decide) ?_
          refine z_iconst (v := nI (0)) X dX4_statement_173 ci0 ?_
          have e : stmt S t n a = .inl x56 := by
            unfold stmt
            rw [if_neg (fun q => by omega), if_pos c33, qa56, bnd_l]
          exact z_zret X dX4_statement_174 (by omega) (by omega) bz0 ⟨_, rfl, ⟨_, hM56, (KX.rf.kf qc56), Or.inr ⟨x56, e, by omega, rfl, qd56, _, hR56⟩⟩⟩
    · refine z_aload_n X dX4_statement_18 rfl 0 rfl ?_
      refine z_mg14 X hM dX4_statement_19 ?_
      refine z_aload_n X dX4_statement_22 rfl 0 rfl ?_
      refine z_mgv13 X hM dX4_statement_23 hR.2.1 ?_
      refine z_aN5 (v := .ref (ad (50 + (S.2 0)))) X dX4_statement_26 (mm_15 hM) (by omega) (by omega) rfl ?_
      refine z_astore_n (lv2 := [(1, .ref (ad (50 + (S.2 0)))), (0, .ref (ad 0))]) X dX4_statement_27 rfl (Nat.le_of_ble_eq_true rfl) rfl ?_
      refine z_bipush (v := nI (100)) X dX4_statement_28 (by decide) ?_
      refine z_aload_n X dX4_statement_30 rfl 1 rfl ?_
      refine z_cip (z_runV (rest := [.int (nI (100))]) (n := 0) X [] (m_X4_comes hM hR hI) dX4_statement_31 (mm_o hM) rfl (lw_V q1616 q1618 qs34 q70 q1619) hv_X4_comes rfl ⟨Nat.le_of_ble_eq_true rfl, Nat.le_of_ble_eq_true rfl⟩ ⟨by omega, by omega⟩ rfl (Nat.le_of_ble_eq_true rfl)) ?_
      refine z_isub (v := nI (100 - (sumTo (S.1 4) (S.2 0)))) X dX4_statement_34 (pk_sub (by omega)) ?_
      refine z_istore_n (lv2 := [(2, .int (nI (100 - (sumTo (S.1 4) (S.2 0))))), (1, .ref (ad (50 + (S.2 0)))), (0, .ref (ad 0))]) X dX4_statement_35 rfl (Nat.le_of_ble_eq_true rfl) rfl ?_
      have hR36 : MR (wRow S (S.2 0) (S.1 3 (S.2 0)) (S.1 4 (S.2 0)) (S.1 5 (S.2 0)) (S.1 6 (S.2 0))) m := wRow_0.symm ▸ hR
      refine z_aload_n X dX4_statement_36 rfl 1 rfl ?_
      refine z_iconst (v := nI (2)) X dX4_statement_37 ci2 ?_
      refine z_bipush (v := nI (10)) X dX4_statement_38 (by decide) ?_
      refine z_mst (n := 4) (j := 2) X hM (50 + (S.2 0)) dX4_statement_40 (mP_50 (by omega)) (mK_50 (by omega)) (mLen_50 (by omega)) (by omega) (by omega) (fun u60 hM60 => ?_)
      have hR60 : MR (wRow S (S.2 0) (S.1 3 (S.2 0)) (S.1 4 (S.2 0)) 10 (S.1 6 (S.2 0))) (mI m (50 + (S.2 0)) 2 (nI (10))) := hR36.r2 (by omega)
      have hTs60 : TokM t n a (mI m (50 + (S.2 0)) 2 (nI (10))) := hTok
      refine z_aload_n X dX4_statement_41 rfl 1 rfl ?_
      refine z_iconst (v := nI (3)) X dX4_statement_42 ci3 ?_
      refine z_iconst (v := nI (5)) X dX4_statement_43 ci5 ?_
      refine z_mst (n := 4) (j := 3) X hM60 (50 + (S.2 0)) dX4_statement_44 (mP_50 (by omega)) (mK_50 (by omega)) (mLen_50 (by omega)) (by omega) (by omega) (fun u61 hM61 => ?_)
      have hR61 : MR (wRow S (S.2 0) (S.1 3 (S.2 0)) (S.1 4 (S.2 0)) 10 5) (mI (mI m (50 + (S.2 0)) 2 (nI (10))) (50 + (S.2 0)) 3 (nI (5))) := hR60.r3 (by omega)
      have hTs61 : TokM t n a (mI (mI m (50 + (S.2 0)) 2 (nI (10))) (50 + (S.2 0)) 3 (nI (5))) := hTs60
      refine z_aload_n X dX4_statement_45 rfl 2 rfl ?_
      refine z_ldcS X sk_X4_217 dX4_statement_46 (fun sk62 hk62 => ?_)
      refine z_aload_n X dX4_statement_48 rfl 1 rfl ?_
      refine z_iconst (v := nI (0)) X dX4_statement_49 ci0 ?_
      refine z_iconst (v := nI (0)) X dX4_statement_50 ci0 ?_
      refine z_iconst (v := nI (2)) X dX4_statement_51 ci2 ?_
      refine z_ci (z_runV (rest := []) (n := 5) X [.ref (sk62), .ref (ad (50 + (S.2 0))), .int (nI (0)), .int (nI (0)), .int (nI (2))] (m_X4_tells hM61 (((KX.rf.st (by omega)).st (by omega)).tap hTp) hn ht hTs61 (a := a) (by omega) (byt := W_sort) (hS := hk62) (byt_lt (by decide)) (by decide) (c := (50 + (S.2 0))) (N := 4) (j := 0) (lo := 0) (hi := 2) (mP_50 (by omega)) (mK_50 (by omega)) (mLen_50 (by omega)) (by omega) (by omega) (by omega) (by omega) (by omega)) dX4_statement_52 (mm_o hM61) rfl (lw_V q1749 q1751 qs49 q70 q1752) hv_X4_tells rfl ⟨Nat.le_of_ble_eq_true rfl, Nat.le_of_ble_eq_true rfl⟩ ⟨by omega, by omega⟩ rfl (Nat.le_of_ble_eq_true rfl)) (fun r63 w65 h64 => ?_)
      obtain ⟨mv65, hM65, hQ65⟩ := h64
      rcases hQ65 with ⟨x65, y65, qa65, qb65, qc65, qd65, rfl, qe65, qf65⟩ | ⟨x65, qa65, qb65, rfl, qc65, qd65⟩
      · have ye65 := telR_e qa65 (by omega)
        have hR65 : MR (wRow S (S.2 0) x65 (S.1 4 (S.2 0)) 10 5) mv65 := MR.KF (hR61.r0 (by omega)) qe65
        refine z_if_eq_f (tgt := 71) X dX4_statement_55 (by decide) (by decide) ?_
        refine z_aload_n X dX4_statement_58 rfl 2 rfl ?_
        refine z_ldcS X sk_X4_218 dX4_statement_59 (fun sk66 hk66 => ?_)
        refine z_aload_n X dX4_statement_61 rfl 1 rfl ?_
        refine z_iconst (v := nI (1)) X dX4_statement_62 ci1 ?_
        refine z_iconst (v := nI (0)) X dX4_statement_63 ci0 ?_
        refine z_iload_n X dX4_statement_64 rfl 0 rfl ?_
        refine z_ci (z_runV (rest := []) (n := 5) X [.ref (sk66), .ref (ad (50 + (S.2 0))), .int (nI (1)), .int (nI (0)), .int (nI (100 - (sumTo (S.1 4) (S.2 0))))] (m_X4_tells hM65 (((((KX.rf.st (by omega)).st (by omega)).st (by omega)).kf qe65).tap hTp) hn ht qf65 (a := y65) (by omega) (byt := W_comes) (hS := hk66) (byt_lt (by decide)) (by decide) (c := (50 + (S.2 0))) (N := 4) (j := 1) (lo := 0) (hi := 100 - (sumTo (S.1 4) (S.2 0))) (mP_50 (by omega)) (mK_50 (by omega)) (mLen_50 (by omega)) (by omega) (by omega) (by omega) (by omega) (by omega)) dX4_statement_65 (mm_o hM65) rfl (lw_V q1749 q1751 qs49 q70 q1752) hv_X4_tells rfl ⟨Nat.le_of_ble_eq_true rfl, Nat.le_of_ble_eq_true rfl⟩ ⟨by omega, by omega⟩ rfl (Nat.le_of_ble_eq_true rfl)) (fun r67 w69 h68 => ?_)
        obtain ⟨mv69, hM69, hQ69⟩ := h68
        rcases hQ69 with ⟨x69, y69, qa69, qb69, qc69, qd69, rfl, qe69, qf69⟩ | ⟨x69, qa69, qb69, rfl, qc69, qd69⟩
        · have ye69 := telR_e qa69 (by omega)
          have hR69 : MR (wRow S (S.2 0) x65 x69 10 5) mv69 := MR.KF (hR65.r1 (by omega)) qe69
          refine z_if_ne_t (tgt := 73) X dX4_statement_68 (by decide) (by decide) ?_
          refine z_aload_n X dX4_statement_73 rfl 2 rfl ?_
          refine z_ldcS X sk_X4_219 dX4_statement_74 (fun sk70 hk70 => ?_)
          refine z_aload_n X dX4_statement_76 rfl 1 rfl ?_
          refine z_iconst (v := nI (2)) X dX4_statement_77 ci2 ?_
          refine z_iconst (v := nI (1)) X dX4_statement_78 ci1 ?_
          refine z_bipush (v := nI (99)) X dX4_statement_79 (by decide) ?_
          refine z_ci (z_runV (rest := []) (n := 5) X [.ref (sk70), .ref (ad (50 + (S.2 0))), .int (nI (2)), .int (nI (1)), .int (nI (99))] (m_X4_perhaps hM69 (((((((KX.rf.st (by omega)).st (by omega)).st (by omega)).kf qe65).st (by omega)).kf qe69).tap hTp) hn ht qf69 (a := y69) (by omega) (byt := W_worth) (hS := hk70) (byt_lt (by decide)) (by decide) (c := (50 + (S.2 0))) (N := 4) (j := 2) (lo := 1) (hi := 99) (mP_50 (by omega)) (mK_50 (by omega)) (mLen_50 (by omega)) (by omega) (by omega) (by omega) (by omega) (by omega)) dX4_statement_81 (mm_o hM69) rfl (lw_V q1763 q1765 qs52 q70 q1766) hv_X4_perhaps rfl ⟨Nat.le_of_ble_eq_true rfl, Nat.le_of_ble_eq_true rfl⟩ ⟨by omega, by omega⟩ rfl (Nat.le_of_ble_eq_true rfl)) (fun r71 w73 h72 => ?_)
          obtain ⟨mv73, hM73, hQ73⟩ := h72
          rcases hQ73 with ⟨qw73, rfl, rfl⟩ | ⟨qw73, (⟨x73, y73, qa73, qb73, qc73, qd73, rfl, qe73, qf73⟩ | ⟨x73, qa73, qb73, rfl, qc73, qd73⟩)⟩
          · skip
            refine z_if_eq_f (tgt := 101) X dX4_statement_84 (by decide) (by decide) ?_
            refine z_aload_n X dX4_statement_87 rfl 2 rfl ?_
            refine z_ldcS X sk_X4_224 dX4_statement_88 (fun sk74 hk74 => ?_)
            refine z_aload_n X dX4_statement_90 rfl 1 rfl ?_
            refine z_iconst (v := nI (3)) X dX4_statement_91 ci3 ?_
            refine z_iconst (v := nI (0)) X dX4_statement_92 ci0 ?_
            refine z_bipush (v := nI (99)) X dX4_statement_93 (by decide) ?_
            refine z_ci (z_runV (rest := []) (n := 5) X [.ref (sk74), .ref (ad (50 + (S.2 0))), .int (nI (3)), .int (nI (0)), .int (nI (99))] (m_X4_perhaps hM73 (((((((KX.rf.st (by omega)).st (by omega)).st (by omega)).kf qe65).st (by omega)).kf qe69).tap hTp) hn ht qf69 (a := y69) (by omega) (byt := W_back) (hS := hk74) (byt_lt (by decide)) (by decide) (c := (50 + (S.2 0))) (N := 4) (j := 3) (lo := 0) (hi := 99) (mP_50 (by omega)) (mK_50 (by omega)) (mLen_50 (by omega)) (by omega) (by omega) (by omega) (by omega) (by omega)) dX4_statement_95 (mm_o hM73) rfl (lw_V q1763 q1765 qs52 q70 q1766) hv_X4_perhaps rfl ⟨Nat.le_of_ble_eq_true rfl, Nat.le_of_ble_eq_true rfl⟩ ⟨by omega, by omega⟩ rfl (Nat.le_of_ble_eq_true rfl)) (fun r75 w77 h76 => ?_)
            obtain ⟨mv77, hM77, hQ77⟩ := h76
            rcases hQ77 with ⟨qw77, rfl, rfl⟩ | ⟨qw77, (⟨x77, y77, qa77, qb77, qc77, qd77, rfl, qe77, qf77⟩ | ⟨x77, qa77, qb77, rfl, qc77, qd77⟩)⟩
            · skip
              refine z_if_ne_t (tgt := 103) X dX4_statement_98 (by decide) (by decide) ?_
              refine z_aload_n X dX4_statement_103 rfl 2 rfl ?_
              refine z_dup X dX4_statement_104 rfl ?_
              refine z_mgv13 X hM77 dX4_statement_105 hR69.2.1 ?_
              refine z_iconst (v := nI (1)) X dX4_statement_108 ci1 ?_
              refine z_iadd (v := nI ((wRow S (S.2 0) x65 x69 10 5).2 0 + 1)) X dX4_statement_109 (nI_add _ _) ?_
              refine z_mp13 X hM77 dX4_statement_110 (fun u78 hM78 => ?_)
              have hR99 : MR (addS S (lN x65) (lN x69) (lN 10) (lN 5)) (mF mv77 13 (nI ((wRow S (S.2 0) x65 x69 10 5).2 0 + 1))) := hR69.rend ⟨by omega, by omega, by omega, by omega⟩
              have hV99 : wInv (addS S (lN x65) (lN x69) (lN 10) (lN 5)) := addS_inv hI (by omega) ⟨by omega, by omega⟩ (by omega) (by omega) (by omega)
              refine z_iconst (v := nI (1)) X dX4_statement_113 ci1 ?_
              have e : stmt S t n a = .inr (addS S (lN x65) (lN x69) (lN 10) (lN 5), y69) := by
                unfold stmt
                rw [if_pos ⟨c2, by omega⟩, qa65, bnd_r, qa69, bnd_r, perR_n qw73, bnd_r, perR_n qw77, bnd_r]
              exact z_zret X dX4_statement_114 (by omega) (by omega) bz1 ⟨_, rfl, ⟨_, hM78, (((((((KX.rf.st (by omega)).st (by omega)).st (by omega)).kf qe65).st (by omega)).kf qe69).fl (by decide)), Or.inl ⟨_, _, e, by omega, by omega, hV99, rfl, hR99, qf69⟩⟩⟩
            · have ye77 := telR_e qa77 (by omega)
              have hR77 : MR (wRow S (S.2 0) x65 x69 10 x77) mv77 := MR.KF (hR69.r3 (by omega)) qe77
              refine z_if_ne_t (tgt := 103) X dX4_statement_98 (by decide) (by decide) ?_
              refine z_aload_n X dX4_statement_103 rfl 2 rfl ?_
              refine z_dup X dX4_statement_104 rfl ?_
              refine z_mgv13 X hM77 dX4_statement_105 hR77.2.1 ?_
              refine z_iconst (v := nI (1)) X dX4_statement_108 ci1 ?_
              refine z_iadd (v := nI ((wRow S (S.2 0) x65 x69 10 x77).2 0 + 1)) X dX4_statement_109 (nI_add _ _) ?_
              refine z_mp13 X hM77 dX4_statement_110 (fun u79 hM79 => ?_)
              have hR99 : MR (addS S (lN x65) (lN x69) (lN 10) (lN x77)) (mF mv77 13 (nI ((wRow S (S.2 0) x65 x69 10 x77).2 0 + 1))) := hR77.rend ⟨by omega, by omega, by omega, by omega⟩
              have hV99 : wInv (addS S (lN x65) (lN x69) (lN 10) (lN x77)) := addS_inv hI (by omega) ⟨by omega, by omega⟩ (by omega) (by omega) (by omega)
              refine z_iconst (v := nI (1)) X dX4_statement_113 ci1 ?_
              have e : stmt S t n a = .inr (addS S (lN x65) (lN x69) (lN 10) (lN x77), y77) := by
                unfold stmt
                rw [if_pos ⟨c2, by omega⟩, qa65, bnd_r, qa69, bnd_r, perR_n qw73, bnd_r, perR_y qw77, qa77, bnd_r]
              exact z_zret X dX4_statement_114 (by omega) (by omega) bz1 ⟨_, rfl, ⟨_, hM79, (((((((((KX.rf.st (by omega)).st (by omega)).st (by omega)).kf qe65).st (by omega)).kf qe69).st (by omega)).kf qe77).fl (by decide)), Or.inl ⟨_, _, e, by omega, by omega, hV99, rfl, hR99, qf77⟩⟩⟩
            · have hR77 := MR.KF hR69 qc77
              refine z_if_ne_f (tgt := 103) X dX4_statement_98 (by decide) (by decide) ?_
              refine z_iconst (v := nI (0)) X dX4_statement_101 ci0 ?_
              have e : stmt S t n a = .inl x77 := by
                unfold stmt
                rw [if_pos ⟨c2, by omega⟩, qa65, bnd_r, qa69, bnd_r, perR_n qw73, bnd_r, perR_y qw77, qa77, bnd_l]
              exact z_zret X dX4_statement_102 (by omega) (by omega) bz0 ⟨_, rfl, ⟨_, hM77, (((((((KX.rf.st (by omega)).st (by omega)).st (by omega)).kf qe65).st (by omega)).kf qe69).kf qc77), Or.inr ⟨x77, e, by omega, rfl, qd77, _, hR77⟩⟩⟩
          · have ye73 := telR_e qa73 (by omega)
            have hR73 : MR (wRow S (S.2 0) x65 x69 x73 5) mv73 := MR.KF (hR69.r2 (by omega)) qe73
            refine z_if_eq_f (tgt := 101) X dX4_statement_84 (by decide) (by decide) ?_
            refine z_aload_n X dX4_statement_87 rfl 2 rfl ?_
            refine z_ldcS X sk_X4_224 dX4_statement_88 (fun sk80 hk80 => ?_)
            refine z_aload_n X dX4_statement_90 rfl 1 rfl ?_
            refine z_iconst (v := nI (3)) X dX4_statement_91 ci3 ?_
            refine z_iconst (v := nI (0)) X dX4_statement_92 ci0 ?_
            refine z_bipush (v := nI (99)) X dX4_statement_93 (by decide) ?_
            refine z_ci (z_runV (rest := []) (n := 5) X [.ref (sk80), .ref (ad (50 + (S.2 0))), .int (nI (3)), .int (nI (0)), .int (nI (99))] (m_X4_perhaps hM73 (((((((((KX.rf.st (by omega)).st (by omega)).st (by omega)).kf qe65).st (by omega)).kf qe69).st (by omega)).kf qe73).tap hTp) hn ht qf73 (a := y73) (by omega) (byt := W_back) (hS := hk80) (byt_lt (by decide)) (by decide) (c := (50 + (S.2 0))) (N := 4) (j := 3) (lo := 0) (hi := 99) (mP_50 (by omega)) (mK_50 (by omega)) (mLen_50 (by omega)) (by omega) (by omega) (by omega) (by omega) (by omega)) dX4_statement_95 (mm_o hM73) rfl (lw_V q1763 q1765 qs52 q70 q1766) hv_X4_perhaps rfl ⟨Nat.le_of_ble_eq_true rfl, Nat.le_of_ble_eq_true rfl⟩ ⟨by omega, by omega⟩ rfl (Nat.le_of_ble_eq_true rfl)) (fun r81 w83 h82 => ?_)
            obtain ⟨mv83, hM83, hQ83⟩ := h82
            rcases hQ83 with ⟨qw83, rfl, rfl⟩ | ⟨qw83, (⟨x83, y83, qa83, qb83, qc83, qd83, rfl, qe83, qf83⟩ | ⟨x83, qa83, qb83, rfl, qc83, qd83⟩)⟩
            · skip
              refine z_if_ne_t (tgt := 103) X dX4_statement_98 (by decide) (by decide) ?_
              refine z_aload_n X dX4_statement_103 rfl 2 rfl ?_
              refine z_dup X dX4_statement_104 rfl ?_
              refine z_mgv13 X hM83 dX4_statement_105 hR73.2.1 ?_
              refine z_iconst (v := nI (1)) X dX4_statement_108 ci1 ?_
              refine z_iadd (v := nI ((wRow S (S.2 0) x65 x69 x73 5).2 0 + 1)) X dX4_statement_109 (nI_add _ _) ?_
              refine z_mp13 X hM83 dX4_statement_110 (fun u84 hM84 => ?_)
              have hR99 : MR (addS S (lN x65) (lN x69) (lN x73) (lN 5)) (mF mv83 13 (nI ((wRow S (S.2 0) x65 x69 x73 5).2 0 + 1))) := hR73.rend ⟨by omega, by omega, by omega, by omega⟩
              have hV99 : wInv (addS S (lN x65) (lN x69) (lN x73) (lN 5)) := addS_inv hI (by omega) ⟨by omega, by omega⟩ (by omega) (by omega) (by omega)
              refine z_iconst (v := nI (1)) X dX4_statement_113 ci1 ?_
              have e : stmt S t n a = .inr (addS S (lN x65) (lN x69) (lN x73) (lN 5), y73) := by
                unfold stmt
                rw [if_pos ⟨c2, by omega⟩, qa65, bnd_r, qa69, bnd_r, perR_y qw73, qa73, bnd_r, perR_n qw83, bnd_r]
              exact z_zret X dX4_statement_114 (by omega) (by omega) bz1 ⟨_, rfl, ⟨_, hM84, (((((((((KX.rf.st (by omega)).st (by omega)).st (by omega)).kf qe65).st (by omega)).kf qe69).st (by omega)).kf qe73).fl (by decide)), Or.inl ⟨_, _, e, by omega, by omega, hV99, rfl, hR99, qf73⟩⟩⟩
            · have ye83 := telR_e qa83 (by omega)
              have hR83 : MR (wRow S (S.2 0) x65 x69 x73 x83) mv83 := MR.KF (hR73.r3 (by omega)) qe83
              refine z_if_ne_t (tgt := 103) X dX4_statement_98 (by decide) (by decide) ?_
              refine z_aload_n X dX4_statement_103 rfl 2 rfl ?_
              refine z_dup X dX4_statement_104 rfl ?_
              refine z_mgv13 X hM83 dX4_statement_105 hR83.2.1 ?_
              refine z_iconst (v := nI (1)) X dX4_statement_108 ci1 ?_
              refine z_iadd (v := nI ((wRow S (S.2 0) x65 x69 x73 x83).2 0 + 1)) X dX4_statement_109 (nI_add _ _) ?_
              refine z_mp13 X hM83 dX4_statement_110 (fun u85 hM85 => ?_)
              have hR99 : MR (addS S (lN x65) (lN x69) (lN x73) (lN x83)) (mF mv83 13 (nI ((wRow S (S.2 0) x65 x69 x73 x83).2 0 + 1))) := hR83.rend ⟨by omega, by omega, by omega, by omega⟩
              have hV99 : wInv (addS S (lN x65) (lN x69) (lN x73) (lN x83)) := addS_inv hI (by omega) ⟨by omega, by omega⟩ (by omega) (by omega) (by omega)
              refine z_iconst (v := nI (1)) X dX4_statement_113 ci1 ?_
              have e : stmt S t n a = .inr (addS S (lN x65) (lN x69) (lN x73) (lN x83), y83) := by
                unfold stmt
                rw [if_pos ⟨c2, by omega⟩, qa65, bnd_r, qa69, bnd_r, perR_y qw73, qa73, bnd_r, perR_y qw83, qa83, bnd_r]
              exact z_zret X dX4_statement_114 (by omega) (by omega) bz1 ⟨_, rfl, ⟨_, hM85, (((((((((((KX.rf.st (by omega)).st (by omega)).st (by omega)).kf qe65).st (by omega)).kf qe69).st (by omega)).kf qe73).st (by omega)).kf qe83).fl (by decide)), Or.inl ⟨_, _, e, by omega, by omega, hV99, rfl, hR99, qf83⟩⟩⟩
            · have hR83 := MR.KF hR73 qc83
              refine z_if_ne_f (tgt := 103) X dX4_statement_98 (by decide) (by decide) ?_
              refine z_iconst (v := nI (0)) X dX4_statement_101 ci0 ?_
              have e : stmt S t n a = .inl x83 := by
                unfold stmt
                rw [if_pos ⟨c2, by omega⟩, qa65, bnd_r, qa69, bnd_r, perR_y qw73, qa73, bnd_r, perR_y qw83, qa83, bnd_l]
              exact z_zret X dX4_statement_102 (by omega) (by omega) bz0 ⟨_, rfl, ⟨_, hM83, (((((((((KX.rf.st (by omega)).st (by omega)).st (by omega)).kf qe65).st (by omega)).kf qe69).st (by omega)).kf qe73).kf qc83), Or.inr ⟨x83, e, by omega, rfl, qd83, _, hR83⟩⟩⟩
          · have hR73 := MR.KF hR69 qc73
            refine z_if_eq_t (tgt := 101) X dX4_statement_84 (by decide) (by decide) ?_
            refine z_iconst (v := nI (0)) X dX4_statement_101 ci0 ?_
            have e : stmt S t n a = .inl x73 := by
              unfold stmt
              rw [if_pos ⟨c2, by omega⟩, qa65, bnd_r, qa69, bnd_r, perR_y qw73, qa73, bnd_l]
            exact z_zret X dX4_statement_102 (by omega) (by omega) bz0 ⟨_, rfl, ⟨_, hM73, (((((((KX.rf.st (by omega)).st (by omega)).st (by omega)).kf qe65).st (by omega)).kf qe69).kf qc73), Or.inr ⟨x73, e, by omega, rfl, qd73, _, hR73⟩⟩⟩
        · have hR69 := MR.KF hR65 qc69
          refine z_if_ne_f (tgt := 73) X dX4_statement_68 (by decide) (by decide) ?_
          refine z_iconst (v := nI (0)) X dX4_statement_71 ci0 ?_
          have e : stmt S t n a = .inl x69 := by
            unfold stmt
            rw [if_pos ⟨c2, by omega⟩, qa65, bnd_r, qa69, bnd_l]
          exact z_zret X dX4_statement_72 (by omega) (by omega) bz0 ⟨_, rfl, ⟨_, hM69, (((((KX.rf.st (by omega)).st (by omega)).st (by omega)).kf qe65).kf qc69), Or.inr ⟨x69, e, by omega, rfl, qd69, _, hR69⟩⟩⟩
      · have hR65 := MR.KF hR61 qc65
        refine z_if_eq_t (tgt := 71) X dX4_statement_55 (by decide) (by decide) ?_
        refine z_iconst (v := nI (0)) X dX4_statement_71 ci0 ?_
        have e : stmt S t n a = .inl x65 := by
          unfold stmt
          rw [if_pos ⟨c2, by omega⟩, qa65, bnd_l]
        exact z_zret X dX4_statement_72 (by omega) (by omega) bz0 ⟨_, rfl, ⟨_, hM65, (((KX.rf.st (by omega)).st (by omega)).kf qc65), Or.inr ⟨x65, e, by omega, rfl, qd65, _, hR65⟩⟩⟩
