/-! THE MODEL: an hour in truth -/
set_option maxRecDepth 100000
theorem oDay_1 (o : OS) (d : Nat → Int32) (sd : Int32) : (oDay o d sd).1 = o.1 := by obtain ⟨a, b, c, e⟩ := o; rfl
/-- the same but for what boxes are full -/
def FE (S S2 : WS) : Prop := S2.2 = S.2 ∧ ∀ f, f ≠ 1 → S2.1 f = S.1 f
theorem FE.rf {S : WS} : FE S S := ⟨rfl, fun _ _ => rfl⟩
theorem FE.put {S S2 : WS} (h : FE S S2) {i v : Nat} : FE S (wPut S2 1 i v) := ⟨h.1, fun f hf => (funext fun j => if_neg (fun q => hf q.1)).trans (h.2 f hf)⟩
theorem FE.fet {S : WS} {o : OS} (h : FE S o.1) {z : Nat} : FE S (fetS o z).1 := by
  unfold fetS
  by_cases q : 0 < o.1.1 1 z
  · rw [if_pos q]
    by_cases q2 : drN o.2.2.1 10 < o.1.1 2 z
    · rw [if_pos q2, oTick_1, oW_1]; exact h.put
    · rw [if_neg q2, oSeed_1]; exact h
  · rw [if_neg q]; exact h
theorem FE.best {S S2 : WS} (h : FE S S2) {k st : Nat} {T : Nat → Int64} : ∀ n, bestTo S2 k st T n = bestTo S k st T n := by
  obtain ⟨e, h⟩ := h
  have hb : ∀ o, bring S2 k o st T = bring S k o st T := fun o => by cases o <;> simp only [bring, lostL, e, h 5 (by decide), h 6 (by decide)]
  have hf : ∀ z, fitsB S2 k z st = fitsB S k z st := fun z => by simp only [fitsB, h 3 (by decide)]
  intro n
  induction n with
  | zero => rfl
  | succ n ih => simp only [bestTo, ih, hb, hf]
theorem FE.st {S S2 : WS} (h : FE S S2) {st : Nat} (hs : isStP S2 st) : isStP S st := by
  unfold isStP at hs
  rw [h.2 0 (by decide)] at hs
  exact hs
set_option maxHeartbeats 2000000 in
theorem m_X4_hour {l : Launch} {G : GG} {wb w : GW} {ad : Nat → Nat} {m : MSt} (hM : MM G wb w ad m) {o : OS} (hT : MT o m) (hO : oInv o) {kd a : Nat} {T : Nat → Int64} (hk : 1 ≤ kd ∧ kd ≤ 6) (ha : a < 100) (hw : kd = 6 → ∀ k, k < o.1.2 0 → ∀ st, isStP o.1 st → m.1 (60 + k) st = oI (bestO o.1 k st T)) : gM l G yX4_hour cX4_hour 6 (some .int) 4 0 0 [.ref (ad 0), .int (nI (kd)), .int (nI (a))] w (pI (fun r w1 => ∃ m2, MM G wb w1 ad m2 ∧ MT (hourO kd a T o).2 m2 ∧ (∀ c, 60 ≤ c → m2.1 c = m.1 c) ∧ r = (hourO kd a T o).1)) := by
  refine Z.met (own := "ThreeSizesModel") (nm := "hour") (lv := [(0, .ref (ad 0)), (1, .int (nI (kd))), (2, .int (nI (a)))]) (by decide) rfl rfl (Nat.le_of_ble_eq_true rfl) rfl (fun κ X => ?_)
  refine z_iconst (v := nI (0)) X dX4_hour_0 ci0 ?_
  refine z_istore_n (lv2 := [(3, .int (nI (0))), (0, .ref (ad 0)), (1, .int (nI (kd))), (2, .int (nI (a)))]) X dX4_hour_1 rfl (Nat.le_of_ble_eq_true rfl) rfl ?_
  have lf : ∀ (lq i : Nat) (w2 : GW) (m2 : MSt) (o2 : OS), i + lq = 3 → MM G wb w2 ad m2 → MT o2 m2 → oInv o2 → (∀ c, 60 ≤ c → m2.1 c = m.1 c) → FE o.1 o2.1 → fetR lq i o2 = fetR 3 0 o → Z κ w2 [(3, .int (nI (i))), (0, .ref (ad 0)), (1, .int (nI (kd))), (2, .int (nI (a)))] 0 0 2 [] := by
    intro lq
    induction lq with
    | zero =>
      intro i w2 m2 o2 lh hM2 hT2x hO2 hW hFE hf
      obtain rfl : 3 = i := by omega
      have hf2 : o2 = fetR 3 0 o := hf
      have hI2 := hO2.1
      have h62 := hI2.2.1
      have hst2 := stOf_lt hI2
      have h47 := hI2.2.2.2.2
      refine z_iload_n X dX4_hour_2 rfl 0 rfl ?_
      refine z_iconst (v := nI (3)) X dX4_hour_3 ci3 ?_
      refine z_icmp_ge_t (tgt := 57) X dX4_hour_4 (by decide) ((nI_leI (by omega) (by omega)).mpr (by omega)) ?_
      refine z_aload_n X dX4_hour_57 rfl 1 rfl ?_
      refine z_mg16 X hM2 dX4_hour_58 ?_
      refine z_iconst (v := nI (0)) X dX4_hour_61 ci0 ?_
      refine z_dup2 X dX4_hour_62 rfl rfl ?_
      refine z_iaN (v := o2.2.1 0) X dX4_hour_63 (mm_17 hM2) (by omega) (by omega) (hT2x.2.1 0 (by omega)) ?_
      refine z_iconst (v := nI (1)) X dX4_hour_64 ci1 ?_
      refine z_iadd (v := o2.2.1 0 + (nI (1))) X dX4_hour_65 rfl ?_
      refine z_mst (n := 6) (j := 0) X hM2 17 dX4_hour_66 rfl rfl rfl (by omega) (by omega) (fun u1 hM1 => ?_)
      have t2 : MT (oTick o2 0) (mI m2 17 0 (o2.2.1 0 + (nI (1)))) := MT.day hT2x (j := 0) (x := o2.2.1 0 + (nI (1)))
      have hR3 : MR o2.1 (mI m2 17 0 (o2.2.1 0 + (nI (1)))) := by
        have q := t2.1
        simp only [oSeed_1, oTick_1, oW_1, oDay_1] at q
        exact q
      refine z_aload_n X dX4_hour_67 rfl 1 rfl ?_
      refine z_bipush (v := nI (100)) X dX4_hour_68 (by decide) ?_
      refine z_ci (z_runV (rest := []) (n := 1) X [.int (nI (100))] (m_X4_draw hM1 t2 hO2 (b := 100) (by decide)) dX4_hour_70 (mm_o hM1) rfl (lw_V q1921 q1923 qs64 q70 q1924) hv_X4_draw rfl ⟨Nat.le_of_ble_eq_true rfl, Nat.le_of_ble_eq_true rfl⟩ ⟨by omega, by omega⟩ rfl (Nat.le_of_ble_eq_true rfl)) (fun r4 w6 h5 => ?_)
      obtain ⟨hM5, hT5, r4e⟩ := h5
      rw [r4e]
      have hd5 := drN_lt (sd := (oTick o2 0).2.2.1) (b := 100) (by decide)
      have hR7 : MR o2.1 (mF (mI m2 17 0 (o2.2.1 0 + (nI (1)))) 17 (sdN (oTick o2 0).2.2.1)) := by
        have q := hT5.1
        simp only [oSeed_1, oTick_1, oW_1, oDay_1] at q
        exact q
      refine z_istore_n (lv2 := [(3, .int (nI (drN (oTick o2 0).2.2.1 100))), (0, .ref (ad 0)), (1, .int (nI (kd))), (2, .int (nI (a)))]) X dX4_hour_73 rfl (Nat.le_of_ble_eq_true rfl) rfl ?_
      refine z_iconst (v := nI (0)) X dX4_hour_74 ci0 ?_
      refine z_istore (lv2 := [(4, .int (nI (0))), (3, .int (nI (drN (oTick o2 0).2.2.1 100))), (0, .ref (ad 0)), (1, .int (nI (kd))), (2, .int (nI (a)))]) X dX4_hour_75 (Nat.le_of_ble_eq_true rfl) rfl ?_
      have ll : ∀ (lq k : Nat) (lot : Nat), k + lq = o2.1.2 0 → lot < 100 → lotK o2.1 lq k lot = lotK o2.1 (o2.1.2 0) 0 (drN (oTick o2 0).2.2.1 100) → Z κ w6 [(4, .int (nI (k))), (3, .int (nI (lot))), (0, .ref (ad 0)), (1, .int (nI (kd))), (2, .int (nI (a)))] 0 0 77 [] := by
        intro lq
        induction lq with
        | zero =>
          intro k lot lh hlt hl
          obtain rfl : o2.1.2 0 = k := by omega
          refine z_iload X dX4_hour_77 0 rfl ?_
          refine z_aload_n X dX4_hour_79 rfl 2 rfl ?_
          refine z_mgv13 X hM5 dX4_hour_80 hR7.2.1 ?_
          refine z_icmp_ge_t (tgt := 117) X dX4_hour_83 (by decide) ((nI_leI (by omega) (by omega)).mpr (by omega)) ?_
          refine z_iload X dX4_hour_117 0 rfl ?_
          refine z_aload_n X dX4_hour_119 rfl 2 rfl ?_
          refine z_mgv13 X hM5 dX4_hour_120 hR7.2.1 ?_
          refine z_icmp_ne_f (tgt := 128) X dX4_hour_123 (by decide) ((nI_eq (by omega) (by omega)).mpr (by omega)) ?_
          refine z_iconst (v := nI (0)) X dX4_hour_126 ci0 ?_
          have e : hourO kd a T o = (nI (0), (oSeed (oTick o2 0))) := by
            unfold hourO
            rw [← hf2]
            unfold hr2
            simp only [oSeed_1, oTick_1, oW_1]
            exact if_pos hl.symm
          exact z_iret X dX4_hour_127 (by omega) (by omega) ⟨_, rfl, (by rw [e]; exact ⟨_, hM5, hT5, fun c hc => (mI_oth (by omega)).trans (hW c hc), rfl⟩)⟩
        | succ lq ih =>
          intro k lot lh hlt hl
          have h44 := sumTo_at (f := o2.1.1 4) (i := k) (n := o2.1.2 0) (by omega)
          have h45 := hI2.2.2.2.1
          have h46 := hI2.2.2.1 k (by omega)
          refine z_iload X dX4_hour_77 0 rfl ?_
          refine z_aload_n X dX4_hour_79 rfl 2 rfl ?_
          refine z_mgv13 X hM5 dX4_hour_80 hR7.2.1 ?_
          refine z_icmp_ge_f (tgt := 117) X dX4_hour_83 (by decide) (fun h => absurd ((nI_leI (by omega) (by omega)).mp h) (by omega)) ?_
          refine z_iload_n X dX4_hour_86 rfl 1 rfl ?_
          refine z_aload_n X dX4_hour_87 rfl 2 rfl ?_
          refine z_mg14 X hM5 dX4_hour_88 ?_
          refine z_iload X dX4_hour_91 0 rfl ?_
          refine z_aN5 (v := .ref (ad (50 + k))) X dX4_hour_93 (mm_15 hM5) (by omega) (by omega) rfl ?_
          refine z_iconst (v := nI (1)) X dX4_hour_94 ci1 ?_
          refine z_iaN (v := nI (o2.1.1 4 k)) X dX4_hour_95 (mmr_50 hM5 (by omega)) (by omega) (by omega) (hR7.2.2.1 k (by omega)).2.1 ?_
          refine z_icmp_lt (tgt := 117) X dX4_hour_96 (by decide) (nI_ltI (by omega) (by omega)) (fun c8 => ?_) (fun c8 => ?_)
          · refine z_iload X dX4_hour_117 0 rfl ?_
            refine z_aload_n X dX4_hour_119 rfl 2 rfl ?_
            refine z_mgv13 X hM5 dX4_hour_120 hR7.2.1 ?_
            refine z_icmp_ne_t (tgt := 128) X dX4_hour_123 (by decide) (fun h => absurd ((nI_eq (by omega) (by omega)).mp h) (by omega)) ?_
            have hlk : lotK o2.1 (o2.1.2 0) 0 (drN (oTick o2 0).2.2.1 100) = k := hl.symm.trans (if_neg (by omega))
            have hw9 : kd = 6 → (mF (mI m2 17 0 (o2.2.1 0 + (nI (1)))) 17 (sdN (oTick o2 0).2.2.1)).1 (60 + k) (stOf o2.1) = oI (bestO o2.1 k (stOf o2.1) T) := fun h6 => by
              have q1 : (mF (mI m2 17 0 (o2.2.1 0 + (nI (1)))) 17 (sdN (oTick o2 0).2.2.1)).1 (60 + k) = m.1 (60 + k) := (mI_oth (by omega)).trans (hW _ (by omega))
              rw [q1, hw h6 k (by rw [← hFE.1]; omega) _ (hFE.st (stOf_is hI2))]
              exact congrArg oI (hFE.best 3).symm
            refine z_aload_n X dX4_hour_128 rfl 2 rfl ?_
            refine z_iload_n X dX4_hour_129 rfl 3 rfl ?_
            refine z_iload_n X dX4_hour_130 rfl 4 rfl ?_
            refine z_iload X dX4_hour_131 0 rfl ?_
            refine z_aload_n X dX4_hour_133 rfl 2 rfl ?_
            refine z_cip (z_runV (rest := [.int (nI (k)), .int (nI (a)), .int (nI (kd)), .ref (ad 0)]) (n := 0) X [] (m_X4_stateNow hM5 hR7 hO2.1) dX4_hour_134 (mm_o hM5) rfl (lw_V q1585 q1587 qs28 q70 q1588) hv_X4_stateNow rfl ⟨Nat.le_of_ble_eq_true rfl, Nat.le_of_ble_eq_true rfl⟩ ⟨by omega, by omega⟩ rfl (Nat.le_of_ble_eq_true rfl)) ?_
            refine z_cip (z_runV (rest := []) (n := 4) X [.int (nI (kd)), .int (nI (a)), .int (nI (k)), .int (nI (stOf o2.1))] (m_X4_sizeBy hM5 hR7 hO2.1 (kd := kd) hk ha (ix := k) (st := stOf o2.1) (by omega) (stOf_lt hO2.1) (T := T) hw9) dX4_hour_137 (mm_o hM5) rfl (lw_V q1637 q1639 qs38 q70 q1640) hv_X4_sizeBy rfl ⟨Nat.le_of_ble_eq_true rfl, Nat.le_of_ble_eq_true rfl⟩ ⟨by omega, by omega⟩ rfl (Nat.le_of_ble_eq_true rfl)) ?_
            refine z_istore (lv2 := [(5, .int (oI (rget o2.1 kd a T k (stOf o2.1)))), (4, .int (nI (k))), (3, .int (nI (lot))), (0, .ref (ad 0)), (1, .int (nI (kd))), (2, .int (nI (a)))]) X dX4_hour_140 (Nat.le_of_ble_eq_true rfl) rfl ?_
            refine z_iload X dX4_hour_142 0 rfl ?_
            refine z_iconst (v := -1) X dX4_hour_144 cim1 ?_
            refine z_icmp_eq (tgt := 179) X dX4_hour_145 (by decide) (oI_m1 (fun z h => by have := (rget_lt h).1; omega)) (fun c9 => ?_) (fun c9 => ?_)
            · refine z_aload_n X dX4_hour_179 rfl 3 rfl ?_
              refine z_bipush (v := nI (10)) X dX4_hour_180 (by decide) ?_
              refine z_ci (z_runV (rest := []) (n := 1) X [.int (nI (10))] (m_X4_draw hM5 hT5 hO2 (b := 10) (by decide)) dX4_hour_182 (mm_o hM5) rfl (lw_V q1921 q1923 qs64 q70 q1924) hv_X4_draw rfl ⟨Nat.le_of_ble_eq_true rfl, Nat.le_of_ble_eq_true rfl⟩ ⟨by omega, by omega⟩ rfl (Nat.le_of_ble_eq_true rfl)) (fun r10 w12 h11 => ?_)
              obtain ⟨hM11, hT11, r10e⟩ := h11
              rw [r10e]
              have hd11 := drN_lt (sd := (oSeed (oTick o2 0)).2.2.1) (b := 10) (by decide)
              have hR13 : MR o2.1 (mF (mF (mI m2 17 0 (o2.2.1 0 + (nI (1)))) 17 (sdN (oTick o2 0).2.2.1)) 17 (sdN (oSeed (oTick o2 0)).2.2.1)) := by
                have q := hT11.1
                simp only [oSeed_1, oTick_1, oW_1, oDay_1] at q
                exact q
              refine z_aload_n X dX4_hour_185 rfl 3 rfl ?_
              refine z_mg15 X hM11 dX4_hour_186 ?_
              refine z_iconst (v := nI (0)) X dX4_hour_189 ci0 ?_
              refine z_iaN (v := nI (o2.1.2 1)) X dX4_hour_190 (mm_16 hM11) (by omega) (by omega) hR13.2.2.2.1 ?_
              refine z_icmp_ge (tgt := 221) X dX4_hour_191 (by decide) (nI_leI (by omega) (by omega)) (fun c14 => ?_) (fun c14 => ?_)
              · refine z_aload_n X dX4_hour_221 rfl 3 rfl ?_
                refine z_mg16 X hM11 dX4_hour_222 ?_
                refine z_iconst (v := nI (3)) X dX4_hour_225 ci3 ?_
                refine z_dup2 X dX4_hour_226 rfl rfl ?_
                refine z_iaN (v := (oSeed (oSeed (oTick o2 0))).2.1 3) X dX4_hour_227 (mm_17 hM11) (by omega) (by omega) (hT11.2.1 3 (by omega)) ?_
                refine z_iconst (v := nI (1)) X dX4_hour_228 ci1 ?_
                refine z_iadd (v := (oSeed (oSeed (oTick o2 0))).2.1 3 + (nI (1))) X dX4_hour_229 rfl ?_
                refine z_mst (n := 6) (j := 3) X hM11 17 dX4_hour_230 rfl rfl rfl (by omega) (by omega) (fun u15 hM15 => ?_)
                have t16 : MT (oTick (oSeed (oSeed (oTick o2 0))) 3) (mI (mF (mF (mI m2 17 0 (o2.2.1 0 + (nI (1)))) 17 (sdN (oTick o2 0).2.2.1)) 17 (sdN (oSeed (oTick o2 0)).2.2.1)) 17 3 ((oSeed (oSeed (oTick o2 0))).2.1 3 + (nI (1)))) := MT.day hT11 (j := 3) (x := (oSeed (oSeed (oTick o2 0))).2.1 3 + (nI (1)))
                have hR17 : MR o2.1 (mI (mF (mF (mI m2 17 0 (o2.2.1 0 + (nI (1)))) 17 (sdN (oTick o2 0).2.2.1)) 17 (sdN (oSeed (oTick o2 0)).2.2.1)) 17 3 ((oSeed (oSeed (oTick o2 0))).2.1 3 + (nI (1)))) := by
                  have q := t16.1
                  simp only [oSeed_1, oTick_1, oW_1, oDay_1] at q
                  exact q
                refine z_aload_n X dX4_hour_231 rfl 3 rfl ?_
                refine z_mg14 X hM15 dX4_hour_232 ?_
                refine z_iload X dX4_hour_235 1 rfl ?_
                refine z_aN5 (v := .ref (ad (50 + k))) X dX4_hour_237 (mm_15 hM15) (by omega) (by omega) rfl ?_
                refine z_iconst (v := nI (3)) X dX4_hour_238 ci3 ?_
                refine z_iaN (v := nI (o2.1.1 6 k)) X dX4_hour_239 (mmr_50 hM15 (by omega)) (by omega) (by omega) (hR17.2.2.1 k (by omega)).2.2.2 ?_
                refine z_ineg (v := -(nI (o2.1.1 6 k))) X dX4_hour_240 rfl ?_
                have e : hourO kd a T o = (-(nI (o2.1.1 6 k)), (oTick (oSeed (oSeed (oTick o2 0))) 3)) := by
                  unfold hourO
                  rw [← hf2]
                  unfold hr2
                  simp only [oSeed_1, oTick_1, oW_1]
                  rw [hlk, if_neg (by omega), c9]
                  unfold brgO
                  simp only [oSeed_1, oTick_1, oW_1]
                  exact if_neg (by omega)
                exact z_iret X dX4_hour_241 (by omega) (by omega) ⟨_, rfl, (by rw [e]; exact ⟨_, hM15, t16, fun c hc => (mI_oth (by omega)).trans ((mI_oth (by omega)).trans (hW c hc)), rfl⟩)⟩
              · refine z_aload_n X dX4_hour_194 rfl 3 rfl ?_
                refine z_mg16 X hM11 dX4_hour_195 ?_
                refine z_iconst (v := nI (2)) X dX4_hour_198 ci2 ?_
                refine z_dup2 X dX4_hour_199 rfl rfl ?_
                refine z_iaN (v := (oSeed (oSeed (oTick o2 0))).2.1 2) X dX4_hour_200 (mm_17 hM11) (by omega) (by omega) (hT11.2.1 2 (by omega)) ?_
                refine z_iconst (v := nI (1)) X dX4_hour_201 ci1 ?_
                refine z_iadd (v := (oSeed (oSeed (oTick o2 0))).2.1 2 + (nI (1))) X dX4_hour_202 rfl ?_
                refine z_mst (n := 6) (j := 2) X hM11 17 dX4_hour_203 rfl rfl rfl (by omega) (by omega) (fun u18 hM18 => ?_)
                have t19 : MT (oTick (oSeed (oSeed (oTick o2 0))) 2) (mI (mF (mF (mI m2 17 0 (o2.2.1 0 + (nI (1)))) 17 (sdN (oTick o2 0).2.2.1)) 17 (sdN (oSeed (oTick o2 0)).2.2.1)) 17 2 ((oSeed (oSeed (oTick o2 0))).2.1 2 + (nI (1)))) := MT.day hT11 (j := 2) (x := (oSeed (oSeed (oTick o2 0))).2.1 2 + (nI (1)))
                have hR20 : MR o2.1 (mI (mF (mF (mI m2 17 0 (o2.2.1 0 + (nI (1)))) 17 (sdN (oTick o2 0).2.2.1)) 17 (sdN (oSeed (oTick o2 0)).2.2.1)) 17 2 ((oSeed (oSeed (oTick o2 0))).2.1 2 + (nI (1)))) := by
                  have q := t19.1
                  simp only [oSeed_1, oTick_1, oW_1, oDay_1] at q
                  exact q
                refine z_aload_n X dX4_hour_204 rfl 3 rfl ?_
                refine z_mg14 X hM18 dX4_hour_205 ?_
                refine z_iload X dX4_hour_208 1 rfl ?_
                refine z_aN5 (v := .ref (ad (50 + k))) X dX4_hour_210 (mm_15 hM18) (by omega) (by omega) rfl ?_
                refine z_iconst (v := nI (2)) X dX4_hour_211 ci2 ?_
                refine z_iaN (v := nI (o2.1.1 5 k)) X dX4_hour_212 (mmr_50 hM18 (by omega)) (by omega) (by omega) (hR20.2.2.1 k (by omega)).2.2.1 ?_
                refine z_aload_n X dX4_hour_213 rfl 3 rfl ?_
                refine z_mg15 X hM18 dX4_hour_214 ?_
                refine z_iconst (v := nI (1)) X dX4_hour_217 ci1 ?_
                refine z_iaN (v := nI (o2.1.2 2)) X dX4_hour_218 (mm_16 hM18) (by omega) (by omega) hR20.2.2.2.2 ?_
                refine z_isub (v := nI (o2.1.1 5 k) - nI (o2.1.2 2)) X dX4_hour_219 rfl ?_
                have e : hourO kd a T o = (nI (o2.1.1 5 k) - nI (o2.1.2 2), (oTick (oSeed (oSeed (oTick o2 0))) 2)) := by
                  unfold hourO
                  rw [← hf2]
                  unfold hr2
                  simp only [oSeed_1, oTick_1, oW_1]
                  rw [hlk, if_neg (by omega), c9]
                  unfold brgO
                  simp only [oSeed_1, oTick_1, oW_1]
                  exact if_pos (by omega)
                exact z_iret X dX4_hour_220 (by omega) (by omega) ⟨_, rfl, (by rw [e]; exact ⟨_, hM18, t19, fun c hc => (mI_oth (by omega)).trans ((mI_oth (by omega)).trans (hW c hc)), rfl⟩)⟩
            · obtain ⟨y, hy⟩ := Option.ne_none_iff_exists.mp c9
              have hy2 := rget_lt hy.symm
              have hy3 := fits_of hy2.2
              have hy4 := stOf_fr hI2 hy2.1
              have hy5 := hI2.1 y hy2.1
              have hy6 := hy2.1
              rw [← hy]
              refine z_aload_n X dX4_hour_148 rfl 3 rfl ?_
              refine z_mg11 X hM5 dX4_hour_149 ?_
              refine z_iload X dX4_hour_152 0 rfl ?_
              refine z_dup2 X dX4_hour_154 rfl rfl ?_
              refine z_iaN (v := nI (o2.1.1 1 y)) X dX4_hour_155 (mm_12 hM5) (by omega) (by omega) (hR7.1 y (by omega)).2.1 ?_
              refine z_iconst (v := nI (1)) X dX4_hour_156 ci1 ?_
              refine z_iadd (v := nI (o2.1.1 1 y + 1)) X dX4_hour_157 (nI_add _ _) ?_
              refine z_mst (n := 3) (j := y) X hM5 12 dX4_hour_158 rfl rfl rfl (by omega) (by omega) (fun u21 hM21 => ?_)
              have t22 : MT (oW (oSeed (oTick o2 0)) (wPut (oSeed (oTick o2 0)).1 1 y (o2.1.1 1 y + 1))) (mI (mF (mI m2 17 0 (o2.2.1 0 + (nI (1)))) 17 (sdN (oTick o2 0).2.2.1)) 12 y (nI (o2.1.1 1 y + 1))) := MT.put hT5 (f := 1) (i := y) (v := o2.1.1 1 y + 1) (by decide) (by omega)
              have hR23 : MR (wPut o2.1 1 y (o2.1.1 1 y + 1)) (mI (mF (mI m2 17 0 (o2.2.1 0 + (nI (1)))) 17 (sdN (oTick o2 0).2.2.1)) 12 y (nI (o2.1.1 1 y + 1))) := by
                have q := t22.1
                simp only [oSeed_1, oTick_1, oW_1, oDay_1] at q
                exact q
              refine z_aload_n X dX4_hour_159 rfl 3 rfl ?_
              refine z_mg16 X hM21 dX4_hour_160 ?_
              refine z_iconst (v := nI (1)) X dX4_hour_163 ci1 ?_
              refine z_dup2 X dX4_hour_164 rfl rfl ?_
              refine z_iaN (v := (oW (oSeed (oTick o2 0)) (wPut (oSeed (oTick o2 0)).1 1 y (o2.1.1 1 y + 1))).2.1 1) X dX4_hour_165 (mm_17 hM21) (by omega) (by omega) (t22.2.1 1 (by omega)) ?_
              refine z_iconst (v := nI (1)) X dX4_hour_166 ci1 ?_
              refine z_iadd (v := (oW (oSeed (oTick o2 0)) (wPut (oSeed (oTick o2 0)).1 1 y (o2.1.1 1 y + 1))).2.1 1 + (nI (1))) X dX4_hour_167 rfl ?_
              refine z_mst (n := 6) (j := 1) X hM21 17 dX4_hour_168 rfl rfl rfl (by omega) (by omega) (fun u24 hM24 => ?_)
              have t25 : MT (oTick (oW (oSeed (oTick o2 0)) (wPut (oSeed (oTick o2 0)).1 1 y (o2.1.1 1 y + 1))) 1) (mI (mI (mF (mI m2 17 0 (o2.2.1 0 + (nI (1)))) 17 (sdN (oTick o2 0).2.2.1)) 12 y (nI (o2.1.1 1 y + 1))) 17 1 ((oW (oSeed (oTick o2 0)) (wPut (oSeed (oTick o2 0)).1 1 y (o2.1.1 1 y + 1))).2.1 1 + (nI (1)))) := MT.day t22 (j := 1) (x := (oW (oSeed (oTick o2 0)) (wPut (oSeed (oTick o2 0)).1 1 y (o2.1.1 1 y + 1))).2.1 1 + (nI (1)))
              have hR26 : MR (wPut o2.1 1 y (o2.1.1 1 y + 1)) (mI (mI (mF (mI m2 17 0 (o2.2.1 0 + (nI (1)))) 17 (sdN (oTick o2 0).2.2.1)) 12 y (nI (o2.1.1 1 y + 1))) 17 1 ((oW (oSeed (oTick o2 0)) (wPut (oSeed (oTick o2 0)).1 1 y (o2.1.1 1 y + 1))).2.1 1 + (nI (1)))) := by
                have q := t25.1
                simp only [oSeed_1, oTick_1, oW_1, oDay_1] at q
                exact q
              refine z_aload_n X dX4_hour_169 rfl 3 rfl ?_
              refine z_mg14 X hM24 dX4_hour_170 ?_
              refine z_iload X dX4_hour_173 1 rfl ?_
              refine z_aN5 (v := .ref (ad (50 + k))) X dX4_hour_175 (mm_15 hM24) (by omega) (by omega) rfl ?_
              refine z_iconst (v := nI (2)) X dX4_hour_176 ci2 ?_
              refine z_iaN (v := nI ((wPut o2.1 1 y (o2.1.1 1 y + 1)).1 5 k)) X dX4_hour_177 (mmr_50 hM24 (by omega)) (by omega) (by omega) (hR26.2.2.1 k (by omega)).2.2.1 ?_
              have e : hourO kd a T o = (nI ((wPut o2.1 1 y (o2.1.1 1 y + 1)).1 5 k), (oTick (oW (oSeed (oTick o2 0)) (wPut (oSeed (oTick o2 0)).1 1 y (o2.1.1 1 y + 1))) 1)) := by
                unfold hourO
                rw [← hf2]
                unfold hr2
                simp only [oSeed_1, oTick_1, oW_1]
                rw [hlk, if_neg (by omega), ← hy]
                unfold brgO
                simp only [oSeed_1, oTick_1, oW_1]
                rfl
              exact z_iret X dX4_hour_178 (by omega) (by omega) ⟨_, rfl, (by rw [e]; exact ⟨_, hM24, t25, fun c hc => (mI_oth (by omega)).trans ((mI_oth (by omega)).trans ((mI_oth (by omega)).trans (hW c hc))), rfl⟩)⟩
          · refine z_iload_n X dX4_hour_99 rfl 1 rfl ?_
            refine z_aload_n X dX4_hour_100 rfl 2 rfl ?_
            refine z_mg14 X hM5 dX4_hour_101 ?_
            refine z_iload X dX4_hour_104 0 rfl ?_
            refine z_aN5 (v := .ref (ad (50 + k))) X dX4_hour_106 (mm_15 hM5) (by omega) (by omega) rfl ?_
            refine z_iconst (v := nI (1)) X dX4_hour_107 ci1 ?_
            refine z_iaN (v := nI (o2.1.1 4 k)) X dX4_hour_108 (mmr_50 hM5 (by omega)) (by omega) (by omega) (hR7.2.2.1 k (by omega)).2.1 ?_
            refine z_isub (v := nI (lot - (o2.1.1 4 k))) X dX4_hour_109 (pk_sub (by omega)) ?_
            refine z_istore_n (lv2 := [(3, .int (nI (lot - (o2.1.1 4 k)))), (4, .int (nI (k))), (0, .ref (ad 0)), (1, .int (nI (kd))), (2, .int (nI (a)))]) X dX4_hour_110 rfl (Nat.le_of_ble_eq_true rfl) rfl ?_
            refine z_iinc (v := nI (k + 1)) (lv2 := [(4, .int (nI (k + 1))), (3, .int (nI (lot - (o2.1.1 4 k)))), (0, .ref (ad 0)), (1, .int (nI (kd))), (2, .int (nI (a)))]) X dX4_hour_111 1 rfl (nI_1 _) (Nat.le_of_ble_eq_true rfl) rfl ?_
            refine z_goto (tgt := 77) X dX4_hour_114 (by decide) ?_
            have hl2 : lotK o2.1 lq (k + 1) (lot - o2.1.1 4 k) = lotK o2.1 (o2.1.2 0) 0 (drN (oTick o2 0).2.2.1 100) := (if_pos (by omega)).symm.trans hl
            exact ih (k + 1) (lot - o2.1.1 4 k) (by omega) (by omega) hl2
      exact ll (o2.1.2 0) 0 (drN (oTick o2 0).2.2.1 100) (by omega) (by omega) rfl
    | succ lq ih =>
      intro i w2 m2 o2 lh hM2 hT2x hO2 hW hFE hf
      have w0 := hO2.1.1 i (by omega)
      refine z_iload_n X dX4_hour_2 rfl 0 rfl ?_
      refine z_iconst (v := nI (3)) X dX4_hour_3 ci3 ?_
      refine z_icmp_ge_f (tgt := 57) X dX4_hour_4 (by decide) (fun h => absurd ((nI_leI (by omega) (by omega)).mp h) (by omega)) ?_
      refine z_aload_n X dX4_hour_7 rfl 1 rfl ?_
      refine z_mg11 X hM2 dX4_hour_8 ?_
      refine z_iload_n X dX4_hour_11 rfl 0 rfl ?_
      refine z_iaN (v := nI (o2.1.1 1 i)) X dX4_hour_12 (mm_12 hM2) (by omega) (by omega) (hT2x.1.1 i (by omega)).2.1 ?_
      refine z_if_le (tgt := 51) X dX4_hour_13 (by decide) (nz_le (by omega)) (fun c27 => ?_) (fun c27 => ?_)
      · refine z_iinc (v := nI (i + 1)) (lv2 := [(3, .int (nI (i + 1))), (0, .ref (ad 0)), (1, .int (nI (kd))), (2, .int (nI (a)))]) X dX4_hour_51 0 rfl (nI_1 _) (Nat.le_of_ble_eq_true rfl) rfl ?_
        refine z_goto (tgt := 2) X dX4_hour_54 (by decide) ?_
        have e : fetS o2 i = o2 := if_neg (by omega)
        exact ih (i + 1) _ _ (fetS o2 i) (by omega) hM2 (by rw [e]; have q := hT2x; (try simp only [oSeed_1, oTick_1, oW_1] at q); (try simp only [oSeed_1, oTick_1, oW_1]); exact q) (fetS_inv hO2 (by omega)) (fun c hc => hW c hc) hFE.fet hf
      · refine z_aload_n X dX4_hour_16 rfl 1 rfl ?_
        refine z_bipush (v := nI (10)) X dX4_hour_17 (by decide) ?_
        refine z_ci (z_runV (rest := []) (n := 1) X [.int (nI (10))] (m_X4_draw hM2 hT2x hO2 (b := 10) (by decide)) dX4_hour_19 (mm_o hM2) rfl (lw_V q1921 q1923 qs64 q70 q1924) hv_X4_draw rfl ⟨Nat.le_of_ble_eq_true rfl, Nat.le_of_ble_eq_true rfl⟩ ⟨by omega, by omega⟩ rfl (Nat.le_of_ble_eq_true rfl)) (fun r28 w30 h29 => ?_)
        obtain ⟨hM29, hT29, r28e⟩ := h29
        rw [r28e]
        have hd29 := drN_lt (sd := o2.2.2.1) (b := 10) (by decide)
        have hR31 : MR o2.1 (mF m2 17 (sdN o2.2.2.1)) := by
          have q := hT29.1
          simp only [oSeed_1, oTick_1, oW_1, oDay_1] at q
          exact q
        refine z_aload_n X dX4_hour_22 rfl 1 rfl ?_
        refine z_mg12 X hM29 dX4_hour_23 ?_
        refine z_iload_n X dX4_hour_26 rfl 0 rfl ?_
        refine z_iaN (v := nI (o2.1.1 2 i)) X dX4_hour_27 (mm_13 hM29) (by omega) (by omega) (hR31.1 i (by omega)).2.2 ?_
        refine z_icmp_ge (tgt := 51) X dX4_hour_28 (by decide) (nI_leI (by omega) (by omega)) (fun c32 => ?_) (fun c32 => ?_)
        · refine z_iinc (v := nI (i + 1)) (lv2 := [(3, .int (nI (i + 1))), (0, .ref (ad 0)), (1, .int (nI (kd))), (2, .int (nI (a)))]) X dX4_hour_51 0 rfl (nI_1 _) (Nat.le_of_ble_eq_true rfl) rfl ?_
          refine z_goto (tgt := 2) X dX4_hour_54 (by decide) ?_
          have e : fetS o2 i = oSeed o2 := (if_pos (by omega)).trans (if_neg (by omega))
          exact ih (i + 1) _ _ (fetS o2 i) (by omega) hM29 (by rw [e]; have q := hT29; (try simp only [oSeed_1, oTick_1, oW_1] at q); (try simp only [oSeed_1, oTick_1, oW_1]); exact q) (fetS_inv hO2 (by omega)) (fun c hc => hW c hc) hFE.fet hf
        · refine z_aload_n X dX4_hour_31 rfl 1 rfl ?_
          refine z_mg11 X hM29 dX4_hour_32 ?_
          refine z_iload_n X dX4_hour_35 rfl 0 rfl ?_
          refine z_dup2 X dX4_hour_36 rfl rfl ?_
          refine z_iaN (v := nI (o2.1.1 1 i)) X dX4_hour_37 (mm_12 hM29) (by omega) (by omega) (hR31.1 i (by omega)).2.1 ?_
          refine z_iconst (v := nI (1)) X dX4_hour_38 ci1 ?_
          refine z_isub (v := nI (o2.1.1 1 i - 1)) X dX4_hour_39 (pk_sub (by omega)) ?_
          refine z_mst (n := 3) (j := i) X hM29 12 dX4_hour_40 rfl rfl rfl (by omega) (by omega) (fun u33 hM33 => ?_)
          have t34 : MT (oW (oSeed o2) (wPut (oSeed o2).1 1 i (o2.1.1 1 i - 1))) (mI (mF m2 17 (sdN o2.2.2.1)) 12 i (nI (o2.1.1 1 i - 1))) := MT.put hT29 (f := 1) (i := i) (v := o2.1.1 1 i - 1) (by decide) (by omega)
          have hR35 : MR (wPut o2.1 1 i (o2.1.1 1 i - 1)) (mI (mF m2 17 (sdN o2.2.2.1)) 12 i (nI (o2.1.1 1 i - 1))) := by
            have q := t34.1
            simp only [oSeed_1, oTick_1, oW_1, oDay_1] at q
            exact q
          refine z_aload_n X dX4_hour_41 rfl 1 rfl ?_
          refine z_mg16 X hM33 dX4_hour_42 ?_
          refine z_iconst (v := nI (4)) X dX4_hour_45 ci4 ?_
          refine z_dup2 X dX4_hour_46 rfl rfl ?_
          refine z_iaN (v := (oW (oSeed o2) (wPut (oSeed o2).1 1 i (o2.1.1 1 i - 1))).2.1 4) X dX4_hour_47 (mm_17 hM33) (by omega) (by omega) (t34.2.1 4 (by omega)) ?_
          refine z_iconst (v := nI (1)) X dX4_hour_48 ci1 ?_
          refine z_iadd (v := (oW (oSeed o2) (wPut (oSeed o2).1 1 i (o2.1.1 1 i - 1))).2.1 4 + (nI (1))) X dX4_hour_49 rfl ?_
          refine z_mst (n := 6) (j := 4) X hM33 17 dX4_hour_50 rfl rfl rfl (by omega) (by omega) (fun u36 hM36 => ?_)
          have t37 : MT (oTick (oW (oSeed o2) (wPut (oSeed o2).1 1 i (o2.1.1 1 i - 1))) 4) (mI (mI (mF m2 17 (sdN o2.2.2.1)) 12 i (nI (o2.1.1 1 i - 1))) 17 4 ((oW (oSeed o2) (wPut (oSeed o2).1 1 i (o2.1.1 1 i - 1))).2.1 4 + (nI (1)))) := MT.day t34 (j := 4) (x := (oW (oSeed o2) (wPut (oSeed o2).1 1 i (o2.1.1 1 i - 1))).2.1 4 + (nI (1)))
          have hR38 : MR (wPut o2.1 1 i (o2.1.1 1 i - 1)) (mI (mI (mF m2 17 (sdN o2.2.2.1)) 12 i (nI (o2.1.1 1 i - 1))) 17 4 ((oW (oSeed o2) (wPut (oSeed o2).1 1 i (o2.1.1 1 i - 1))).2.1 4 + (nI (1)))) := by
            have q := t37.1
            simp only [oSeed_1, oTick_1, oW_1, oDay_1] at q
            exact q
          refine z_iinc (v := nI (i + 1)) (lv2 := [(3, .int (nI (i + 1))), (0, .ref (ad 0)), (1, .int (nI (kd))), (2, .int (nI (a)))]) X dX4_hour_51 0 rfl (nI_1 _) (Nat.le_of_ble_eq_true rfl) rfl ?_
          refine z_goto (tgt := 2) X dX4_hour_54 (by decide) ?_
          have e : fetS o2 i = oTick (oW (oSeed o2) (wPut o2.1 1 i (o2.1.1 1 i - 1))) 4 := (if_pos (by omega)).trans (if_pos (by omega))
          exact ih (i + 1) _ _ (fetS o2 i) (by omega) hM36 (by rw [e]; have q := t37; (try simp only [oSeed_1, oTick_1, oW_1] at q); (try simp only [oSeed_1, oTick_1, oW_1]); exact q) (fetS_inv hO2 (by omega)) (fun c hc => (mI_oth (by omega)).trans ((mI_oth (by omega)).trans (hW c hc))) hFE.fet hf
  exact lf 3 0 w m o (by omega) hM hT hO (fun _ _ => rfl) FE.rf rfl
