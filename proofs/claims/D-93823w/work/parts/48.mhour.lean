/-! THE MODEL: hours in truth -/
set_option maxRecDepth 100000
def sdN (sd : Int32) : Int32 := sd * 1103515245 + 12345
def drN (sd : Int32) (b : Nat) : Nat := (sdN sd).toBitVec.toNat / 65536 % b
theorem ush_is {x : Int32} : (x.toUInt32 >>> ((nI 16).toUInt32 &&& Int32.toUInt32 31)).toInt32 = nI (x.toBitVec.toNat / 65536) := by
  have e := pk_ushr x (nI 16) 16 (by decide)
  have hx := x.toBitVec.isLt
  have e2 : (nI (x.toBitVec.toNat / 65536)).toBitVec.toNat = x.toBitVec.toNat / 65536 := pk_tn (by omega)
  exact Int32.toBitVec_inj.mp (BitVec.eq_of_toNat_eq (e.trans e2.symm))
theorem ush_lt {x : Int32} : x.toBitVec.toNat / 65536 < 65536 := by have := x.toBitVec.isLt; omega
theorem drN_lt {sd : Int32} {b : Nat} (h : 0 < b) : drN sd b < b := Nat.mod_lt _ h
theorem MT.day {o : OS} {m : MSt} (h : MT o m) {j : Nat} {x : Int32} : MT (oDay o (upd o.2.1 j x) o.2.2.1) (mI m 17 j x) := by
  obtain ⟨a, b, c, d, e, f, g, i⟩ := h
  have ot : ∀ c, c ≠ 17 → (mI m 17 j x).1 c = m.1 c := fun c hc => mI_oth hc
  refine ⟨a.kept (fun c hc => ot c (by omega)) rfl, ?_, c, ?_, e, ?_, g, ?_⟩
  · have e1 : (mI m 17 j x).1 17 = upd (m.1 17) j x := mI_own
    rw [e1]
    intro k hk
    show _ = upd _ _ _ k
    by_cases q : k = j
    · subst q; rw [pk_us, pk_us]
    · rw [pk_un q, pk_un q]; exact b k hk
  · rw [ot 1 (by omega), ot 2 (by omega), ot 3 (by omega), ot 6 (by omega), ot 7 (by omega)]; exact d
  · rw [ot 8 (by omega)]; exact f
  · rw [ot 10 (by omega)]; exact i
theorem oInv.day {o : OS} (h : oInv o) {d : Nat → Int32} {sd : Int32} : oInv (oDay o d sd) := h
theorem wInv_full {S : WS} (h : wInv S) {z v : Nat} (hv : v ≤ S.1 0 z) : wInv (wPut S 1 z v) := by
  obtain ⟨h1, h2, h3, h4, h5⟩ := h
  have on : ∀ f i, f ≠ 1 → (wPut S 1 z v).1 f i = S.1 f i := fun f i hf => if_neg (fun q => hf q.1)
  refine ⟨fun i hi => ?_, h2, fun i hi => ?_, ?_, h5⟩
  · rw [on 0 i (by decide), on 2 i (by decide)]
    by_cases q : i = z
    · subst q
      have e : (wPut S 1 i v).1 1 i = v := if_pos ⟨rfl, rfl⟩
      rw [e]; exact ⟨hv, (h1 i hi).2⟩
    · have e : (wPut S 1 z v).1 1 i = S.1 1 i := if_neg (fun x => q x.2)
      rw [e]; exact h1 i hi
  · rw [on 3 i (by decide), on 5 i (by decide), on 6 i (by decide)]; exact h3 i hi
  · have e : (wPut S 1 z v).1 4 = S.1 4 := funext fun i => on 4 i (by decide)
    rw [e]; exact h4
-- what comes of an hour
def oSeed (o : OS) : OS := oDay o o.2.1 (sdN o.2.2.1)
def oTick (o : OS) (j : Nat) : OS := oDay o (upd o.2.1 j (o.2.1 j + 1)) o.2.2.1
def fetS (o : OS) (z : Nat) : OS := if 0 < o.1.1 1 z then (if drN o.2.2.1 10 < o.1.1 2 z then oTick (oW (oSeed o) (wPut o.1 1 z (o.1.1 1 z - 1))) 4 else oSeed o) else o
def fetR : Nat → Nat → OS → OS
  | 0, _, o => o
  | n + 1, z, o => fetR n (z + 1) (fetS o z)
def lotK (S : WS) : Nat → Nat → Nat → Nat
  | 0, k, _ => k
  | n + 1, k, lot => if S.1 4 k ≤ lot then lotK S n (k + 1) (lot - S.1 4 k) else k
/-- what an hour brings, by the sort that comes and what it gets -/
def brgO (o : OS) (k : Nat) (g : Option Nat) : Int32 × OS := match g with
  | some z => (nI (o.1.1 5 k), oTick (oW o (wPut o.1 1 z (o.1.1 1 z + 1))) 1)
  | none => if drN o.2.2.1 10 < o.1.2 1 then (nI (o.1.1 5 k) - nI (o.1.2 2), oTick (oSeed o) 2) else (-(nI (o.1.1 6 k)), oTick (oSeed o) 3)
def hr2 (kd a : Nat) (T : Nat → Int64) (lot : Nat) (o : OS) : Int32 × OS := if lotK o.1 (o.1.2 0) 0 lot = o.1.2 0 then (nI 0, o) else brgO o (lotK o.1 (o.1.2 0) 0 lot) (rget o.1 kd a T (lotK o.1 (o.1.2 0) 0 lot) (stOf o.1))
def hourO (kd a : Nat) (T : Nat → Int64) (o : OS) : Int32 × OS := hr2 kd a T (drN (oTick (fetR 3 0 o) 0).2.2.1 100) (oSeed (oTick (fetR 3 0 o) 0))
def goTo (kd a : Nat) (T : Nat → Int64) (o : OS) : Nat → Int32 × OS
  | 0 => (nI 0, o)
  | n + 1 => ((goTo kd a T o n).1 + (hourO kd a T (goTo kd a T o n).2).1, oDay (hourO kd a T (goTo kd a T o n).2).2 (upd (hourO kd a T (goTo kd a T o n).2).2.2.1 5 ((hourO kd a T (goTo kd a T o n).2).2.2.1 5 + (hourO kd a T (goTo kd a T o n).2).1)) (hourO kd a T (goTo kd a T o n).2).2.2.2.1)
theorem oSeed_1 (o : OS) : (oSeed o).1 = o.1 := by obtain ⟨a, b, c, d⟩ := o; rfl
theorem oTick_1 (o : OS) (j : Nat) : (oTick o j).1 = o.1 := by obtain ⟨a, b, c, d⟩ := o; rfl
theorem oW_1 (o : OS) (S : WS) : (oW o S).1 = S := rfl
theorem fetS_inv {o : OS} (h : oInv o) {z : Nat} (hz : z < 3) : oInv (fetS o z) := by
  unfold fetS
  split
  · split
    · exact oInv.day (oInv.w (oInv.day h) (wInv_full h.1 (by have := (h.1.1 z hz).1; omega)))
    · exact oInv.day h
  · exact h
theorem lotK_le {S : WS} : ∀ n k lot, k ≤ lotK S n k lot ∧ lotK S n k lot ≤ k + n := by
  intro n
  induction n with
  | zero => intro k lot; exact ⟨Nat.le_refl _, Nat.le_refl _⟩
  | succ n ih =>
    intro k lot
    simp only [lotK]
    split
    · have := ih (k + 1) (lot - S.1 4 k); omega
    · omega
set_option maxHeartbeats 2000000 in
theorem m_X4_draw {l : Launch} {G : GG} {wb w : GW} {ad : Nat → Nat} {m : MSt} (hM : MM G wb w ad m) {o : OS} (hT : MT o m) (hO : oInv o) {b : Nat} (hb : 0 < b ∧ b ≤ 100) : gM l G yX4_draw cX4_draw 2 (some .int) 1 0 0 [.ref (ad 0), .int (nI (b))] w (pI (fun r w1 => MM G wb w1 ad (mF m 17 (sdN o.2.2.1)) ∧ MT (oSeed o) (mF m 17 (sdN o.2.2.1)) ∧ r = nI (drN o.2.2.1 b))) := by
  refine Z.met (own := "ThreeSizesModel") (nm := "draw") (lv := [(0, .ref (ad 0)), (1, .int (nI (b)))]) (by decide) rfl rfl (Nat.le_of_ble_eq_true rfl) rfl (fun κ X => ?_)
  refine z_aload_n X dX4_draw_0 rfl 0 rfl ?_
  refine z_aload_n X dX4_draw_1 rfl 0 rfl ?_
  refine z_mgv17 X hM dX4_draw_2 hT.2.2.1 ?_
  refine z_ldcw X dX4_draw_5 q1925 ?_
  refine z_imul (v := o.2.2.1 * (1103515245)) X dX4_draw_8 rfl ?_
  refine z_sipush (v := nI (12345)) X dX4_draw_9 (by decide) ?_
  refine z_iadd (v := sdN o.2.2.1) X dX4_draw_12 rfl ?_
  refine z_mp17 X hM dX4_draw_13 (fun u1 hM1 => ?_)
  refine z_aload_n X dX4_draw_16 rfl 0 rfl ?_
  refine z_mgv17 X hM1 dX4_draw_17 rfl ?_
  refine z_bipush (v := nI (16)) X dX4_draw_20 (by decide) ?_
  refine z_iushr (v := nI ((sdN o.2.2.1).toBitVec.toNat / 65536)) X dX4_draw_22 ush_is ?_
  refine z_iload_n X dX4_draw_23 rfl 1 rfl ?_
  refine z_irem (v := nI (drN o.2.2.1 b)) X dX4_draw_24 (nI_ne0 (by omega) (by omega)) (pk_rem (Nat.lt_trans ush_lt (by decide)) (by omega) (by omega)) ?_
  exact z_iret X dX4_draw_25 (by omega) (by omega) ⟨_, rfl, ⟨hM1, hT.sd, rfl⟩⟩
