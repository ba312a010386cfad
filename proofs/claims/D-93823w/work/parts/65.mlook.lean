/-! THE MODEL: a text is read, token by token -/
set_option maxRecDepth 100000
def isL (b : Nat) : Bool := decide (97 ≤ b ∧ b ≤ 122)
def isD (b : Nat) : Bool := decide (48 ≤ b ∧ b ≤ 57)
def skF (q : Nat → Bool) (n : Nat) : Nat → Nat → Nat
  | 0, i => i
  | k + 1, i => if i < n ∧ q i = true then skF q n k (i + 1) else i
/-- the first place from i on that q doesnt hold of, or n -/
def sk (q : Nat → Bool) (n i : Nat) : Nat := skF q n (n - i) i
theorem sk_go {q : Nat → Bool} {n i : Nat} (h : i < n) (hq : q i = true) : sk q n (i + 1) = sk q n i := by
  unfold sk
  rw [show n - i = (n - (i + 1)) + 1 by omega]
  exact (if_pos ⟨h, hq⟩).symm
theorem sk_n {q : Nat → Bool} {n : Nat} : sk q n n = n := by
  unfold sk
  rw [Nat.sub_self]; rfl
theorem sk_no {q : Nat → Bool} {n i : Nat} (hq : q i = false) : sk q n i = i := by
  unfold sk
  cases n - i with
  | zero => rfl
  | succ k => exact if_neg (fun h => by rw [hq] at h; exact Bool.false_ne_true h.2)
theorem skF_le {q : Nat → Bool} {n : Nat} : ∀ k i, i ≤ n → i ≤ skF q n k i ∧ skF q n k i ≤ n := by
  intro k
  induction k with
  | zero => intro i h; exact ⟨Nat.le_refl _, h⟩
  | succ k ih =>
    intro i h
    show i ≤ ite _ _ _ ∧ ite _ _ _ ≤ n
    by_cases c : i < n ∧ q i = true
    · rw [if_pos c]; have := ih (i + 1) (by omega); omega
    · rw [if_neg c]; exact ⟨Nat.le_refl _, h⟩
theorem sk_le {q : Nat → Bool} {n i : Nat} (h : i ≤ n) : i ≤ sk q n i ∧ sk q n i ≤ n := skF_le _ _ h
section TK
variable {t : Nat → Nat} {n a f : Nat}
/-- the token from a on: where it begins, its kind (0 the end, 1 a word, 2 a number, 3 ;, 4 none), where it ends, its number -/
def tkF (t : Nat → Nat) (n a : Nat) : Nat := sk (fun i => decide (t i = 32)) n a
def tkK (t : Nat → Nat) (n a : Nat) : Nat := if tkF t n a = n then 0 else if isL (t (tkF t n a)) = true then 1 else if isD (t (tkF t n a)) = true then 2 else if t (tkF t n a) = 59 then 3 else 4
def tkE (t : Nat → Nat) (n a : Nat) : Nat := if tkK t n a = 0 then tkF t n a else if tkK t n a = 1 then sk (fun i => isL (t i)) n (tkF t n a) else if tkK t n a = 2 then sk (fun i => isD (t i)) n (tkF t n a) else tkF t n a + 1
def dv (t : Nat → Nat) (f : Nat) : Nat → Nat
  | 0 => 0
  | j + 1 => dv t f j * 10 + t (f + j) - 48
def tkN (t : Nat → Nat) (n a : Nat) : Nat := if tkE t n a - tkF t n a ≤ 3 then dv t (tkF t n a) (tkE t n a - tkF t n a) else 1000
def dgV (t : Nat → Nat) (f i : Nat) : Nat := if i - f ≤ 3 then dv t f (i - f) else 100000
theorem tk_0 (hF : tkF t n a = f) (h : f = n) : tkK t n a = 0 ∧ tkE t n a = f := by
  have e : tkK t n a = 0 := by unfold tkK; rw [hF, if_pos h]
  exact ⟨e, by unfold tkE; rw [e, hF]; exact if_pos rfl⟩
theorem tk_1 (hF : tkF t n a = f) (h : ¬ f = n) (hl : isL (t f) = true) : tkK t n a = 1 ∧ tkE t n a = sk (fun i => isL (t i)) n f := by
  have e : tkK t n a = 1 := by unfold tkK; rw [hF, if_neg h, if_pos hl]
  exact ⟨e, by unfold tkE; rw [e, hF, if_neg (by decide)]; exact if_pos rfl⟩
theorem tk_2 (hF : tkF t n a = f) (h : ¬ f = n) (hl : isL (t f) = false) (hd : isD (t f) = true) : tkK t n a = 2 ∧ tkE t n a = sk (fun i => isD (t i)) n f := by
  have e : tkK t n a = 2 := by unfold tkK; rw [hF, if_neg h, if_neg (by rw [hl]; exact Bool.false_ne_true), if_pos hd]
  exact ⟨e, by unfold tkE; rw [e, hF, if_neg (by decide), if_neg (by decide)]; exact if_pos rfl⟩
theorem tk_3 (hF : tkF t n a = f) (h : ¬ f = n) (hl : isL (t f) = false) (hd : isD (t f) = false) (h3 : t f = 59) : tkK t n a = 3 ∧ tkE t n a = f + 1 := by
  have e : tkK t n a = 3 := by unfold tkK; rw [hF, if_neg h, if_neg (by rw [hl]; exact Bool.false_ne_true), if_neg (by rw [hd]; exact Bool.false_ne_true), if_pos h3]
  exact ⟨e, by unfold tkE; rw [e, hF, if_neg (by decide), if_neg (by decide), if_neg (by decide)]⟩
theorem tk_4 (hF : tkF t n a = f) (h : ¬ f = n) (hl : isL (t f) = false) (hd : isD (t f) = false) (h3 : ¬ t f = 59) : tkK t n a = 4 ∧ tkE t n a = f + 1 := by
  have e : tkK t n a = 4 := by unfold tkK; rw [hF, if_neg h, if_neg (by rw [hl]; exact Bool.false_ne_true), if_neg (by rw [hd]; exact Bool.false_ne_true), if_neg h3]
  exact ⟨e, by unfold tkE; rw [e, hF, if_neg (by decide), if_neg (by decide), if_neg (by decide)]⟩
theorem tk_le (h : a ≤ n) : a ≤ tkF t n a ∧ tkF t n a ≤ tkE t n a ∧ tkE t n a ≤ n := by
  have h1 := sk_le (q := fun i => decide (t i = 32)) h
  have hF : tkF t n a = tkF t n a := rfl
  refine ⟨h1.1, ?_⟩
  by_cases c0 : tkF t n a = n
  · rw [(tk_0 rfl c0).2]; exact ⟨Nat.le_refl _, h1.2⟩
  cases c1 : isL (t (tkF t n a)) with
  | true => rw [(tk_1 rfl c0 c1).2]; exact sk_le h1.2
  | false =>
    cases c2 : isD (t (tkF t n a)) with
    | true => rw [(tk_2 rfl c0 c1 c2).2]; exact sk_le h1.2
    | false =>
      have h2 : tkF t n a ≤ n := h1.2
      by_cases c3 : t (tkF t n a) = 59
      · rw [(tk_3 rfl c0 c1 c2 c3).2]; omega
      · rw [(tk_4 rfl c0 c1 c2 c3).2]; omega
end TK
/-- the model has looked at the token from a on -/
def TokM (t : Nat → Nat) (n a : Nat) (m : MSt) : Prop := m.2.2.1 20 = nI (tkE t n a) ∧ m.2.2.1 21 = nI (tkK t n a) ∧ m.2.2.1 22 = nI (tkF t n a) ∧ (tkK t n a = 2 → m.2.2.2.1 23 = lN (dgV t (tkF t n a) (tkE t n a)))
/-- but for what is looked at nothing has changed -/
def KF (m m2 : MSt) : Prop := m2.1 = m.1 ∧ m2.2.1 = m.2.1 ∧ ∀ k, ¬ (20 ≤ k ∧ k ≤ 24) → m2.2.2.1 k = m.2.2.1 k
theorem KF.rf {m : MSt} : KF m m := ⟨rfl, rfl, fun _ _ => rfl⟩
theorem KF.f {m m2 : MSt} (h : KF m m2) {k : Nat} {x : Int32} (hk : 20 ≤ k ∧ k ≤ 24) : KF m (mF m2 k x) := ⟨h.1, h.2.1, fun j hj => by
  show ite _ _ _ = _
  rw [if_neg (fun e => hj (by rw [e]; exact hk))]
  exact h.2.2 j hj⟩
theorem KF.g {m m2 : MSt} (h : KF m m2) {k : Nat} {x : Int64} : KF m (mG m2 k x) := h
theorem KF.trans {m m2 m3 : MSt} (h : KF m m2) (h2 : KF m2 m3) : KF m m3 := ⟨h2.1.trans h.1, h2.2.1.trans h.2.1, fun k hk => (h2.2.2 k hk).trans (h.2.2 k hk)⟩
theorem KF.T {o : OS} {m m2 : MSt} (h : KF m m2) (hT : MT o m) : MT o m2 := hT.kept (fun c _ => by rw [h.1]) (fun _ _ => by rw [h.2.1]) (fun k hk => h.2.2 k (by omega))
/-- the tape as the model has it -/
def TapM (t : Nat → Nat) (n : Nat) (m : MSt) : Prop := (∀ i, i < 200 → m.1 8 i = nI (t i)) ∧ m.2.2.1 8 = nI n
theorem KF.tap {t : Nat → Nat} {n : Nat} {m m2 : MSt} (h : KF m m2) (hT : TapM t n m) : TapM t n m2 := ⟨fun i hi => by rw [h.1]; exact hT.1 i hi, (h.2.2 8 (by omega)).trans hT.2⟩
theorem dgV_1 {t : Nat → Nat} {f i : Nat} (h : f ≤ i) (h3 : i - f < 3) : dgV t f (i + 1) = dgV t f i * 10 + t i - 48 := by
  unfold dgV
  rw [if_pos (by omega), if_pos (by omega), show i + 1 - f = (i - f) + 1 by omega]
  show dv t f (i - f) * 10 + t (f + (i - f)) - 48 = _
  rw [show f + (i - f) = i by omega]
theorem dgV_4 {t : Nat → Nat} {f i : Nat} (h : f ≤ i) (h3 : 3 ≤ i - f) : dgV t f (i + 1) = 100000 := if_neg (by omega)
theorem dgV_0 {t : Nat → Nat} {f : Nat} : dgV t f f = 0 := by
  unfold dgV
  rw [Nat.sub_self]; rfl
theorem isD_iff {b : Nat} : isD b = true ↔ 48 ≤ b ∧ b ≤ 57 := by simp [isD]
set_option maxHeartbeats 2000000 in
theorem m_X4_isLetter {l : Launch} {G : GG} {b : Nat} {w : GW} (hb : b < 256) : gM l G yX4_isLetter cX4_isLetter 1 (some .boolean) 1 0 0 [.int (nI (b))] w (pI (fun r w1 => r = bI (isL b) ∧ w1 = w)) := by
  refine Z.met (own := "ThreeSizesModel") (nm := "isLetter") (lv := [(0, .int (nI (b)))]) (by decide) rfl rfl (Nat.le_of_ble_eq_true rfl) rfl (fun κ X => ?_)
  refine z_iload_n X dX4_isLetter_0 rfl 0 rfl ?_
  refine z_bipush (v := nI (97)) X dX4_isLetter_1 (by decide) ?_
  refine z_icmp_lt (tgt := 16) X dX4_isLetter_3 (by decide) (nI_ltI (by omega) (by omega)) (fun c1 => ?_) (fun c1 => ?_)
  · refine z_iconst (v := nI (0)) X dX4_isLetter_16 ci0 ?_
    exact z_zret X dX4_isLetter_17 (by omega) (by omega) bz0 ⟨_, rfl, ⟨bz_f (by simp only [isL, decide_eq_true_eq, decide_eq_false_iff_not]; omega), rfl⟩⟩
  · refine z_iload_n X dX4_isLetter_6 rfl 0 rfl ?_
    refine z_bipush (v := nI (122)) X dX4_isLetter_7 (by decide) ?_
    refine z_icmp_gt (tgt := 16) X dX4_isLetter_9 (by decide) (nI_ltI (by omega) (by omega)) (fun c2 => ?_) (fun c2 => ?_)
    · refine z_iconst (v := nI (0)) X dX4_isLetter_16 ci0 ?_
      exact z_zret X dX4_isLetter_17 (by omega) (by omega) bz0 ⟨_, rfl, ⟨bz_f (by simp only [isL, decide_eq_true_eq, decide_eq_false_iff_not]; omega), rfl⟩⟩
    · refine z_iconst (v := nI (1)) X dX4_isLetter_12 ci1 ?_
      refine z_goto (tgt := 17) X dX4_isLetter_13 (by decide) ?_
      exact z_zret X dX4_isLetter_17 (by omega) (by omega) bz1 ⟨_, rfl, ⟨bz_t (by simp only [isL, decide_eq_true_eq, decide_eq_false_iff_not]; omega), rfl⟩⟩
set_option maxHeartbeats 2000000 in
theorem m_X4_isDigit {l : Launch} {G : GG} {b : Nat} {w : GW} (hb : b < 256) : gM l G yX4_isDigit cX4_isDigit 1 (some .boolean) 1 0 0 [.int (nI (b))] w (pI (fun r w1 => r = bI (isD b) ∧ w1 = w)) := by
  refine Z.met (own := "ThreeSizesModel") (nm := "isDigit") (lv := [(0, .int (nI (b)))]) (by decide) rfl rfl (Nat.le_of_ble_eq_true rfl) rfl (fun κ X => ?_)
  refine z_iload_n X dX4_isDigit_0 rfl 0 rfl ?_
  refine z_bipush (v := nI (48)) X dX4_isDigit_1 (by decide) ?_
  refine z_icmp_lt (tgt := 16) X dX4_isDigit_3 (by decide) (nI_ltI (by omega) (by omega)) (fun c1 => ?_) (fun c1 => ?_)
  · refine z_iconst (v := nI (0)) X dX4_isDigit_16 ci0 ?_
    exact z_zret X dX4_isDigit_17 (by omega) (by omega) bz0 ⟨_, rfl, ⟨bz_f (by simp only [isD, decide_eq_true_eq, decide_eq_false_iff_not]; omega), rfl⟩⟩
  · refine z_iload_n X dX4_isDigit_6 rfl 0 rfl ?_
    refine z_bipush (v := nI (57)) X dX4_isDigit_7 (by decide) ?_
    refine z_icmp_gt (tgt := 16) X dX4_isDigit_9 (by decide) (nI_ltI (by omega) (by omega)) (fun c2 => ?_) (fun c2 => ?_)
    · refine z_iconst (v := nI (0)) X dX4_isDigit_16 ci0 ?_
      exact z_zret X dX4_isDigit_17 (by omega) (by omega) bz0 ⟨_, rfl, ⟨bz_f (by simp only [isD, decide_eq_true_eq, decide_eq_false_iff_not]; omega), rfl⟩⟩
    · refine z_iconst (v := nI (1)) X dX4_isDigit_12 ci1 ?_
      refine z_goto (tgt := 17) X dX4_isDigit_13 (by decide) ?_
      exact z_zret X dX4_isDigit_17 (by omega) (by omega) bz1 ⟨_, rfl, ⟨bz_t (by simp only [isD, decide_eq_true_eq, decide_eq_false_iff_not]; omega), rfl⟩⟩
set_option maxHeartbeats 2000000 in
theorem m_X4_look {l : Launch} {G : GG} {wb w : GW} {ad : Nat → Nat} {m : MSt} (hM : MM G wb w ad m) {t : Nat → Nat} {n : Nat} (hTp : TapM t n m) (hn : n ≤ 200) (ht : ∀ i, i < 200 → t i < 256) {a : Nat} (hat : m.2.2.1 20 = nI a) (ha : a ≤ n) : gM l G yX4_look cX4_look 1 none 2 0 0 [.ref (ad 0)] w (pV (fun w1 => ∃ m2, MM G wb w1 ad m2 ∧ KF m m2 ∧ TokM t n a m2)) := by
  refine Z.met (own := "ThreeSizesModel") (nm := "look") (lv := [(0, .ref (ad 0))]) (by decide) rfl rfl (Nat.le_of_ble_eq_true rfl) rfl (fun κ X => ?_)
  have k38 : ∀ (f : Nat) (w2 : GW) (m2 : MSt), f ≤ n → MM G wb w2 ad m2 → KF m m2 → m2.2.2.1 20 = nI f → tkF t n a = f → Z κ w2 [(0, .ref (ad 0))] 0 0 38 [] := by
    intro f w2 m2 hfn hM2 hk2 h20 hF
    refine z_aload_n X dX4_look_38 rfl 0 rfl ?_
    refine z_aload_n X dX4_look_39 rfl 0 rfl ?_
    refine z_mgv20 X hM2 dX4_look_40 h20 ?_
    refine z_mp22 X hM2 dX4_look_43 (fun u1 hM1 => ?_)
    refine z_aload_n X dX4_look_46 rfl 0 rfl ?_
    refine z_lconst (v := lN 0) X dX4_look_47 cl0 ?_
    refine z_mp23 X hM1 dX4_look_48 (fun u2 hM2 => ?_)
    refine z_aload_n X dX4_look_51 rfl 0 rfl ?_
    refine z_mgv20 X hM2 dX4_look_52 h20 ?_
    refine z_aload_n X dX4_look_55 rfl 0 rfl ?_
    refine z_mgv8 X hM2 dX4_look_56 (hk2.tap hTp).2 ?_
    refine z_icmp_ne (tgt := 70) X dX4_look_59 (by decide) (nI_eq (by omega) (by omega)) (fun c3 => ?_) (fun c3 => ?_)
    · have hb := ht f (by omega)
      refine z_aload_n X dX4_look_70 rfl 0 rfl ?_
      refine z_mg7 X hM2 dX4_look_71 ?_
      refine z_aload_n X dX4_look_74 rfl 0 rfl ?_
      refine z_mgv20 X hM2 dX4_look_75 h20 ?_
      refine z_iaN (v := nI (t f)) X dX4_look_78 (mm_8 hM2) (by omega) (by omega) ((hk2.tap hTp).1 f (by omega)) ?_
      refine z_cip (z_runS (rest := []) (n := 1) X [.int (nI (t f))] (m_X4_isLetter (b := t f) (by omega)) dX4_look_79 (lw_S q1714 q1715 q70 q1716) hs_X4_isLetter rfl ⟨Nat.le_of_ble_eq_true rfl, Nat.le_of_ble_eq_true rfl⟩ ⟨by omega, by omega⟩ rfl (Nat.le_of_ble_eq_true rfl)) ?_
      refine z_if_eq (tgt := 129) X dX4_look_82 (by decide) bI_0 (fun c4 => ?_) (fun c4 => ?_)
      · refine z_aload_n X dX4_look_129 rfl 0 rfl ?_
        refine z_mg7 X hM2 dX4_look_130 ?_
        refine z_aload_n X dX4_look_133 rfl 0 rfl ?_
        refine z_mgv20 X hM2 dX4_look_134 h20 ?_
        refine z_iaN (v := nI (t f)) X dX4_look_137 (mm_8 hM2) (by omega) (by omega) ((hk2.tap hTp).1 f (by omega)) ?_
        refine z_cip (z_runS (rest := []) (n := 1) X [.int (nI (t f))] (m_X4_isDigit (b := t f) (by omega)) dX4_look_138 (lw_S q1717 q1718 q70 q1719) hs_X4_isDigit rfl ⟨Nat.le_of_ble_eq_true rfl, Nat.le_of_ble_eq_true rfl⟩ ⟨by omega, by omega⟩ rfl (Nat.le_of_ble_eq_true rfl)) ?_
        refine z_if_eq (tgt := 234) X dX4_look_141 (by decide) bI_0 (fun c5 => ?_) (fun c5 => ?_)
        · refine z_aload_n X dX4_look_234 rfl 0 rfl ?_
          refine z_aload_n X dX4_look_235 rfl 0 rfl ?_
          refine z_mg7 X hM2 dX4_look_236 ?_
          refine z_aload_n X dX4_look_239 rfl 0 rfl ?_
          refine z_mgv20 X hM2 dX4_look_240 h20 ?_
          refine z_iaN (v := nI (t f)) X dX4_look_243 (mm_8 hM2) (by omega) (by omega) ((hk2.tap hTp).1 f (by omega)) ?_
          refine z_bipush (v := nI (59)) X dX4_look_244 (by decide) ?_
          refine z_icmp_ne (tgt := 253) X dX4_look_246 (by decide) (nI_eq (by omega) (by omega)) (fun c6 => ?_) (fun c6 => ?_)
          · refine z_iconst (v := nI (4)) X dX4_look_253 ci4 ?_
            refine z_mp21 X hM2 dX4_look_254 (fun u7 hM7 => ?_)
            refine z_aload_n X dX4_look_257 rfl 0 rfl ?_
            refine z_dup X dX4_look_258 rfl ?_
            refine z_mgv20 X hM7 dX4_look_259 h20 ?_
            refine z_iconst (v := nI (1)) X dX4_look_262 ci1 ?_
            refine z_iadd (v := nI (f + 1)) X dX4_look_263 (nI_add _ _) ?_
            refine z_mp20 X hM7 dX4_look_264 (fun u8 hM8 => ?_)
            obtain ⟨ek, ee⟩ := tk_4 hF c3 c4 c5 c6
            exact z_vret X dX4_look_267 (by omega) (by omega) ⟨rfl, ⟨_, hM8, ((((hk2.f (by decide)).g).f (by decide)).f (by decide)), (by rw [ee]; exact rfl), (by rw [ek]; exact rfl), (by rw [hF]; exact rfl), fun h => absurd (ek.symm.trans h) (by decide)⟩⟩
          · refine z_iconst (v := nI (3)) X dX4_look_249 ci3 ?_
            refine z_goto (tgt := 254) X dX4_look_250 (by decide) ?_
            refine z_mp21 X hM2 dX4_look_254 (fun u9 hM9 => ?_)
            refine z_aload_n X dX4_look_257 rfl 0 rfl ?_
            refine z_dup X dX4_look_258 rfl ?_
            refine z_mgv20 X hM9 dX4_look_259 h20 ?_
            refine z_iconst (v := nI (1)) X dX4_look_262 ci1 ?_
            refine z_iadd (v := nI (f + 1)) X dX4_look_263 (nI_add _ _) ?_
            refine z_mp20 X hM9 dX4_look_264 (fun u10 hM10 => ?_)
            obtain ⟨ek, ee⟩ := tk_3 hF c3 c4 c5 c6
            exact z_vret X dX4_look_267 (by omega) (by omega) ⟨rfl, ⟨_, hM10, ((((hk2.f (by decide)).g).f (by decide)).f (by decide)), (by rw [ee]; exact rfl), (by rw [ek]; exact rfl), (by rw [hF]; exact rfl), fun h => absurd (ek.symm.trans h) (by decide)⟩⟩
        · have c5 := ts_t c5
          refine z_aload_n X dX4_look_144 rfl 0 rfl ?_
          refine z_iconst (v := nI (2)) X dX4_look_145 ci2 ?_
          refine z_mp21 X hM2 dX4_look_146 (fun u11 hM11 => ?_)
          have l9 : ∀ (lq i : Nat) (w3 : GW) (m3 : MSt), i + lq = n → MM G wb w3 ad m3 → KF m m3 → m3.2.2.1 20 = nI i → m3.2.2.1 21 = nI 2 → m3.2.2.1 22 = nI f → f ≤ i → sk (fun i => isD (t i)) n i = sk (fun i => isD (t i)) n f → m3.2.2.2.1 23 = lN (dgV t f i) → Z κ w3 [(0, .ref (ad 0))] 0 0 149 [] := by
            intro lq
            induction lq with
            | zero =>
              intro i w3 m3 lh hM3 hk3 h20 h21 h22 hfi hsk h23
              refine z_aload_n X dX4_look_149 rfl 0 rfl ?_
              refine z_mgv20 X hM3 dX4_look_150 h20 ?_
              refine z_aload_n X dX4_look_153 rfl 0 rfl ?_
              refine z_mgv8 X hM3 dX4_look_154 (hk3.tap hTp).2 ?_
              refine z_icmp_ge_t (tgt := 267) X dX4_look_157 (by decide) ((nI_leI (by omega) (by omega)).mpr (by omega)) ?_
              have hend : sk (fun i => isD (t i)) n f = i := hsk.symm.trans (by rw [show i = n by omega]; exact sk_n)
              obtain ⟨ek, ee⟩ := tk_2 hF c3 c4 c5
              exact z_vret X dX4_look_267 (by omega) (by omega) ⟨rfl, ⟨_, hM3, hk3, (by rw [ee]; exact (h20.trans (congrArg nI hend.symm))), (by rw [ek]; exact h21), (by rw [hF]; exact h22), fun _ => (by rw [ee, hF]; exact (h23.trans (congrArg (fun z => lN (dgV t f z)) hend.symm)))⟩⟩
            | succ lq ih =>
              intro i w3 m3 lh hM3 hk3 h20 h21 h22 hfi hsk h23
              refine z_aload_n X dX4_look_149 rfl 0 rfl ?_
              refine z_mgv20 X hM3 dX4_look_150 h20 ?_
              refine z_aload_n X dX4_look_153 rfl 0 rfl ?_
              refine z_mgv8 X hM3 dX4_look_154 (hk3.tap hTp).2 ?_
              refine z_icmp_ge_f (tgt := 267) X dX4_look_157 (by decide) (fun h => absurd ((nI_leI (by omega) (by omega)).mp h) (by omega)) ?_
              have hb2 := ht i (by omega)
              refine z_aload_n X dX4_look_160 rfl 0 rfl ?_
              refine z_mg7 X hM3 dX4_look_161 ?_
              refine z_aload_n X dX4_look_164 rfl 0 rfl ?_
              refine z_mgv20 X hM3 dX4_look_165 h20 ?_
              refine z_iaN (v := nI (t i)) X dX4_look_168 (mm_8 hM3) (by omega) (by omega) ((hk3.tap hTp).1 i (by omega)) ?_
              refine z_cip (z_runS (rest := []) (n := 1) X [.int (nI (t i))] (m_X4_isDigit (b := t i) (by omega)) dX4_look_169 (lw_S q1717 q1718 q70 q1719) hs_X4_isDigit rfl ⟨Nat.le_of_ble_eq_true rfl, Nat.le_of_ble_eq_true rfl⟩ ⟨by omega, by omega⟩ rfl (Nat.le_of_ble_eq_true rfl)) ?_
              refine z_if_eq (tgt := 267) X dX4_look_172 (by decide) bI_0 (fun c12 => ?_) (fun c12 => ?_)
              · have hend : sk (fun i => isD (t i)) n f = i := hsk.symm.trans (sk_no (q := (fun i => isD (t i))) c12)
                obtain ⟨ek, ee⟩ := tk_2 hF c3 c4 c5
                exact z_vret X dX4_look_267 (by omega) (by omega) ⟨rfl, ⟨_, hM3, hk3, (by rw [ee]; exact (h20.trans (congrArg nI hend.symm))), (by rw [ek]; exact h21), (by rw [hF]; exact h22), fun _ => (by rw [ee, hF]; exact (h23.trans (congrArg (fun z => lN (dgV t f z)) hend.symm)))⟩⟩
              · have c12 := ts_t c12
                refine z_aload_n X dX4_look_175 rfl 0 rfl ?_
                refine z_aload_n X dX4_look_176 rfl 0 rfl ?_
                refine z_mgv20 X hM3 dX4_look_177 h20 ?_
                refine z_aload_n X dX4_look_180 rfl 0 rfl ?_
                refine z_mgv22 X hM3 dX4_look_181 h22 ?_
                refine z_isub (v := nI (i - f)) X dX4_look_184 (pk_sub (by omega)) ?_
                refine z_iconst (v := nI (3)) X dX4_look_185 ci3 ?_
                refine z_icmp_ge (tgt := 215) X dX4_look_186 (by decide) (nI_leI (by omega) (by omega)) (fun c13 => ?_) (fun c13 => ?_)
                · refine z_ldc2 X dX4_look_215 q1628 ?_
                  refine z_mp23 X hM3 dX4_look_218 (fun u14 hM14 => ?_)
                  refine z_aload_n X dX4_look_221 rfl 0 rfl ?_
                  refine z_dup X dX4_look_222 rfl ?_
                  refine z_mgv20 X hM14 dX4_look_223 h20 ?_
                  refine z_iconst (v := nI (1)) X dX4_look_226 ci1 ?_
                  refine z_iadd (v := nI (i + 1)) X dX4_look_227 (nI_add _ _) ?_
                  refine z_mp20 X hM14 dX4_look_228 (fun u15 hM15 => ?_)
                  refine z_goto (tgt := 149) X dX4_look_231 (by decide) ?_
                  exact ih (i + 1) _ _ (by omega) hM15 ((hk3.g).f (by decide)) rfl h21 h22 (by omega) ((sk_go (q := (fun i => isD (t i))) (by omega) c12).trans hsk) (by rw [dgV_4 (by omega) (by omega)]; rfl)
                · refine z_aload_n X dX4_look_189 rfl 0 rfl ?_
                  refine z_mgv23 X hM3 dX4_look_190 h23 ?_
                  refine z_ldc2 X dX4_look_193 q1650 ?_
                  refine z_lmul (v := lN ((dgV t f i) * 10)) X dX4_look_196 (lN_mul _ _) ?_
                  refine z_aload_n X dX4_look_197 rfl 0 rfl ?_
                  refine z_mg7 X hM3 dX4_look_198 ?_
                  refine z_aload_n X dX4_look_201 rfl 0 rfl ?_
                  refine z_mgv20 X hM3 dX4_look_202 h20 ?_
                  refine z_iaN (v := nI (t i)) X dX4_look_205 (mm_8 hM3) (by omega) (by omega) ((hk3.tap hTp).1 i (by omega)) ?_
                  refine z_i2l (v := lN (t i)) X dX4_look_206 (nI_l (by omega)) ?_
                  refine z_ladd (v := lN ((dgV t f i) * 10 + t i)) X dX4_look_207 (lN_add _ _) ?_
                  refine z_ldc2 X dX4_look_208 q1720 ?_
                  refine z_lsub (v := lN ((dgV t f i) * 10 + t i - 48)) X dX4_look_211 (lN_sub (a := (dgV t f i) * 10 + t i) (b := 48) (by have := (isD_iff.mp c12); omega)) ?_
                  refine z_goto (tgt := 218) X dX4_look_212 (by decide) ?_
                  refine z_mp23 X hM3 dX4_look_218 (fun u16 hM16 => ?_)
                  refine z_aload_n X dX4_look_221 rfl 0 rfl ?_
                  refine z_dup X dX4_look_222 rfl ?_
                  refine z_mgv20 X hM16 dX4_look_223 h20 ?_
                  refine z_iconst (v := nI (1)) X dX4_look_226 ci1 ?_
                  refine z_iadd (v := nI (i + 1)) X dX4_look_227 (nI_add _ _) ?_
                  refine z_mp20 X hM16 dX4_look_228 (fun u17 hM17 => ?_)
                  refine z_goto (tgt := 149) X dX4_look_231 (by decide) ?_
                  exact ih (i + 1) _ _ (by omega) hM17 ((hk3.g).f (by decide)) rfl h21 h22 (by omega) ((sk_go (q := (fun i => isD (t i))) (by omega) c12).trans hsk) (by rw [dgV_1 (by omega) (by omega)]; rfl)
          exact l9 (n - f) f u11 (mF (mG (mF m2 22 (nI (f))) 23 (lN (0))) 21 (nI (2))) (by omega) hM11 (((hk2.f (by decide)).g).f (by decide)) h20 rfl rfl (Nat.le_refl _) rfl (by rw [dgV_0]; rfl)
      · have c4 := ts_t c4
        refine z_aload_n X dX4_look_85 rfl 0 rfl ?_
        refine z_iconst (v := nI (1)) X dX4_look_86 ci1 ?_
        refine z_mp21 X hM2 dX4_look_87 (fun u18 hM18 => ?_)
        have l9 : ∀ (lq i : Nat) (w3 : GW) (m3 : MSt), i + lq = n → MM G wb w3 ad m3 → KF m m3 → m3.2.2.1 20 = nI i → m3.2.2.1 21 = nI 1 → m3.2.2.1 22 = nI f → f ≤ i → sk (fun i => isL (t i)) n i = sk (fun i => isL (t i)) n f → Z κ w3 [(0, .ref (ad 0))] 0 0 90 [] := by
          intro lq
          induction lq with
          | zero =>
            intro i w3 m3 lh hM3 hk3 h20 h21 h22 hfi hsk
            refine z_aload_n X dX4_look_90 rfl 0 rfl ?_
            refine z_mgv20 X hM3 dX4_look_91 h20 ?_
            refine z_aload_n X dX4_look_94 rfl 0 rfl ?_
            refine z_mgv8 X hM3 dX4_look_95 (hk3.tap hTp).2 ?_
            refine z_icmp_ge_t (tgt := 267) X dX4_look_98 (by decide) ((nI_leI (by omega) (by omega)).mpr (by omega)) ?_
            have hend : sk (fun i => isL (t i)) n f = i := hsk.symm.trans (by rw [show i = n by omega]; exact sk_n)
            obtain ⟨ek, ee⟩ := tk_1 hF c3 c4
            exact z_vret X dX4_look_267 (by omega) (by omega) ⟨rfl, ⟨_, hM3, hk3, (by rw [ee]; exact (h20.trans (congrArg nI hend.symm))), (by rw [ek]; exact h21), (by rw [hF]; exact h22), fun h => absurd (ek.symm.trans h) (by decide)⟩⟩
          | succ lq ih =>
            intro i w3 m3 lh hM3 hk3 h20 h21 h22 hfi hsk
            refine z_aload_n X dX4_look_90 rfl 0 rfl ?_
            refine z_mgv20 X hM3 dX4_look_91 h20 ?_
            refine z_aload_n X dX4_look_94 rfl 0 rfl ?_
            refine z_mgv8 X hM3 dX4_look_95 (hk3.tap hTp).2 ?_
            refine z_icmp_ge_f (tgt := 267) X dX4_look_98 (by decide) (fun h => absurd ((nI_leI (by omega) (by omega)).mp h) (by omega)) ?_
            have hb2 := ht i (by omega)
            refine z_aload_n X dX4_look_101 rfl 0 rfl ?_
            refine z_mg7 X hM3 dX4_look_102 ?_
            refine z_aload_n X dX4_look_105 rfl 0 rfl ?_
            refine z_mgv20 X hM3 dX4_look_106 h20 ?_
            refine z_iaN (v := nI (t i)) X dX4_look_109 (mm_8 hM3) (by omega) (by omega) ((hk3.tap hTp).1 i (by omega)) ?_
            refine z_cip (z_runS (rest := []) (n := 1) X [.int (nI (t i))] (m_X4_isLetter (b := t i) (by omega)) dX4_look_110 (lw_S q1714 q1715 q70 q1716) hs_X4_isLetter rfl ⟨Nat.le_of_ble_eq_true rfl, Nat.le_of_ble_eq_true rfl⟩ ⟨by omega, by omega⟩ rfl (Nat.le_of_ble_eq_true rfl)) ?_
            refine z_if_eq (tgt := 267) X dX4_look_113 (by decide) bI_0 (fun c19 => ?_) (fun c19 => ?_)
            · have hend : sk (fun i => isL (t i)) n f = i := hsk.symm.trans (sk_no (q := (fun i => isL (t i))) c19)
              obtain ⟨ek, ee⟩ := tk_1 hF c3 c4
              exact z_vret X dX4_look_267 (by omega) (by omega) ⟨rfl, ⟨_, hM3, hk3, (by rw [ee]; exact (h20.trans (congrArg nI hend.symm))), (by rw [ek]; exact h21), (by rw [hF]; exact h22), fun h => absurd (ek.symm.trans h) (by decide)⟩⟩
            · have c19 := ts_t c19
              refine z_aload_n X dX4_look_116 rfl 0 rfl ?_
              refine z_dup X dX4_look_117 rfl ?_
              refine z_mgv20 X hM3 dX4_look_118 h20 ?_
              refine z_iconst (v := nI (1)) X dX4_look_121 ci1 ?_
              refine z_iadd (v := nI (i + 1)) X dX4_look_122 (nI_add _ _) ?_
              refine z_mp20 X hM3 dX4_look_123 (fun u20 hM20 => ?_)
              refine z_goto (tgt := 90) X dX4_look_126 (by decide) ?_
              exact ih (i + 1) _ _ (by omega) hM20 (hk3.f (by decide)) rfl h21 h22 (by omega) ((sk_go (q := (fun i => isL (t i))) (by omega) c19).trans hsk)
        exact l9 (n - f) f u18 (mF (mG (mF m2 22 (nI (f))) 23 (lN (0))) 21 (nI (1))) (by omega) hM18 (((hk2.f (by decide)).g).f (by decide)) h20 rfl rfl (Nat.le_refl _) rfl
    · refine z_aload_n X dX4_look_62 rfl 0 rfl ?_
      refine z_iconst (v := nI (0)) X dX4_look_63 ci0 ?_
      refine z_mp21 X hM2 dX4_look_64 (fun u21 hM21 => ?_)
      refine z_goto (tgt := 267) X dX4_look_67 (by decide) ?_
      obtain ⟨ek, ee⟩ := tk_0 hF c3
      exact z_vret X dX4_look_267 (by omega) (by omega) ⟨rfl, ⟨_, hM21, (((hk2.f (by decide)).g).f (by decide)), (by rw [ee]; exact h20), (by rw [ek]; exact rfl), (by rw [hF]; exact rfl), fun h => absurd (ek.symm.trans h) (by decide)⟩⟩
  have l0 : ∀ (lq i : Nat) (w2 : GW) (m2 : MSt), i + lq = n → MM G wb w2 ad m2 → KF m m2 → m2.2.2.1 20 = nI i → sk (fun i => decide (t i = 32)) n i = tkF t n a → Z κ w2 [(0, .ref (ad 0))] 0 0 0 [] := by
    intro lq
    induction lq with
    | zero =>
      intro i w2 m2 lh hM2 hk2 h20 hsk
      refine z_aload_n X dX4_look_0 rfl 0 rfl ?_
      refine z_mgv20 X hM2 dX4_look_1 h20 ?_
      refine z_aload_n X dX4_look_4 rfl 0 rfl ?_
      refine z_mgv8 X hM2 dX4_look_5 (hk2.tap hTp).2 ?_
      refine z_icmp_ge_t (tgt := 38) X dX4_look_8 (by decide) ((nI_leI (by omega) (by omega)).mpr (by omega)) ?_
      exact k38 i w2 m2 (by omega) hM2 hk2 h20 (hsk.symm.trans (by rw [show i = n by omega]; exact sk_n))
    | succ lq ih =>
      intro i w2 m2 lh hM2 hk2 h20 hsk
      refine z_aload_n X dX4_look_0 rfl 0 rfl ?_
      refine z_mgv20 X hM2 dX4_look_1 h20 ?_
      refine z_aload_n X dX4_look_4 rfl 0 rfl ?_
      refine z_mgv8 X hM2 dX4_look_5 (hk2.tap hTp).2 ?_
      refine z_icmp_ge_f (tgt := 38) X dX4_look_8 (by decide) (fun h => absurd ((nI_leI (by omega) (by omega)).mp h) (by omega)) ?_
      have hb := ht i (by omega)
      refine z_aload_n X dX4_look_11 rfl 0 rfl ?_
      refine z_mg7 X hM2 dX4_look_12 ?_
      refine z_aload_n X dX4_look_15 rfl 0 rfl ?_
      refine z_mgv20 X hM2 dX4_look_16 h20 ?_
      refine z_iaN (v := nI (t i)) X dX4_look_19 (mm_8 hM2) (by omega) (by omega) ((hk2.tap hTp).1 i (by omega)) ?_
      refine z_bipush (v := nI (32)) X dX4_look_20 (by decide) ?_
      refine z_icmp_ne (tgt := 38) X dX4_look_22 (by decide) (nI_eq (by omega) (by omega)) (fun c22 => ?_) (fun c22 => ?_)
      · exact k38 i w2 m2 (by omega) hM2 hk2 h20 (hsk.symm.trans (sk_no (q := (fun i => decide (t i = 32))) (decide_eq_false c22)))
      · refine z_aload_n X dX4_look_25 rfl 0 rfl ?_
        refine z_dup X dX4_look_26 rfl ?_
        refine z_mgv20 X hM2 dX4_look_27 h20 ?_
        refine z_iconst (v := nI (1)) X dX4_look_30 ci1 ?_
        refine z_iadd (v := nI (i + 1)) X dX4_look_31 (nI_add _ _) ?_
        refine z_mp20 X hM2 dX4_look_32 (fun u23 hM23 => ?_)
        refine z_goto (tgt := 0) X dX4_look_35 (by decide) ?_
        exact ih (i + 1) _ _ (by omega) hM23 (hk2.f (by decide)) rfl ((sk_go (q := (fun i => decide (t i = 32))) (by omega) (decide_eq_true c22)).trans hsk)
  exact l0 (n - a) a w m (by omega) hM KF.rf hat rfl
set_option maxHeartbeats 2000000 in
theorem m_X4_wrong {l : Launch} {G : GG} {wb w : GW} {ad : Nat → Nat} {m : MSt} (hM : MM G wb w ad m) {f : Nat} (hf : m.2.2.1 22 = nI f) : gM l G yX4_wrong cX4_wrong 1 (some .boolean) 1 0 0 [.ref (ad 0)] w (pI (fun r w1 => ∃ m2, MM G wb w1 ad m2 ∧ KF m m2 ∧ m2.2.2.1 24 = nI f ∧ r = nI 0)) := by
  refine Z.met (own := "ThreeSizesModel") (nm := "wrong") (lv := [(0, .ref (ad 0))]) (by decide) rfl rfl (Nat.le_of_ble_eq_true rfl) rfl (fun κ X => ?_)
  refine z_aload_n X dX4_wrong_0 rfl 0 rfl ?_
  refine z_aload_n X dX4_wrong_1 rfl 0 rfl ?_
  refine z_mgv22 X hM dX4_wrong_2 hf ?_
  refine z_mp24 X hM dX4_wrong_5 (fun u1 hM1 => ?_)
  refine z_iconst (v := nI (0)) X dX4_wrong_8 ci0 ?_
  exact z_zret X dX4_wrong_9 (by omega) (by omega) bz0 ⟨_, rfl, ⟨_, hM1, (KF.rf.f (by decide)), rfl, rfl⟩⟩
