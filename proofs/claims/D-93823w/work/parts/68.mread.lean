/-! THE MODEL: a whole text is read; wall -/
set_option maxRecDepth 100000
/-- further statements: fuel, wall, where the next token is looked for, how many there were -/
def rdTo (t : Nat → Nat) (n : Nat) : Nat → WS → Nat → Nat → Sum Nat (WS × Nat)
  | 0, S, _, k => .inr (S, k)
  | fu + 1, S, a, k => if tkK t n a = 0 then .inr (S, k) else if tkK t n a = 3 then bnd (stmt S t n (tkE t n a)) (fun p => rdTo t n fu p.1 p.2 (k + 1)) else .inl (tkF t n a)
def rdW (S : WS) (t : Nat → Nat) (n : Nat) : Sum Nat (WS × Nat) := bnd (stmt S t n 0) fun p => rdTo t n 201 p.1 p.2 1
theorem tkE_3 {t : Nat → Nat} {n a : Nat} (h : tkK t n a = 3) : tkE t n a = tkF t n a + 1 := by
  unfold tkE
  rw [h]; rfl
theorem tkK_n {t : Nat → Nat} {n : Nat} : tkK t n n = 0 := (tk_0 (t := t) (n := n) (a := n) sk_n rfl).1
def KY (m m2 : MSt) : Prop := (∀ c, c < 11 ∨ c = 17 → m2.1 c = m.1 c) ∧ m2.2.1 = m.2.1 ∧ ∀ k, k = 8 ∨ k = 17 → m2.2.2.1 k = m.2.2.1 k
theorem KY.rf {m : MSt} : KY m m := ⟨fun _ _ => rfl, rfl, fun _ _ => rfl⟩
theorem KY.x {m m2 m3 : MSt} (h : KY m m2) (h2 : KX m2 m3) : KY m m3 := ⟨fun c hc => (h2.1 c hc).trans (h.1 c hc), h2.2.1.trans h.2.1, fun k hk => (h2.2.2 k (by omega)).trans (h.2.2 k hk)⟩
theorem KY.kf {m m2 m3 : MSt} (h : KY m m2) (h2 : KF m2 m3) : KY m m3 := h.x (KX.rf.kf h2)
theorem KY.fl {m m2 : MSt} (h : KY m m2) {k : Nat} {x : Int32} (hk : k ≠ 8 ∧ k ≠ 17) : KY m (mF m2 k x) := ⟨h.1, h.2.1, fun k2 hk2 => (if_neg (by omega)).trans (h.2.2 k2 hk2)⟩
theorem KY.tap {t : Nat → Nat} {n : Nat} {m m2 : MSt} (h : KY m m2) (hT : TapM t n m) : TapM t n m2 := ⟨fun i hi => by rw [h.1 8 (by omega)]; exact hT.1 i hi, (h.2.2 8 (by omega)).trans hT.2⟩
theorem KY.T {o : OS} {m m2 : MSt} (h : KY m m2) (hT : MT o m) {S : WS} (hR : MR S m2) : MT (oW o S) m2 := hT.w hR (fun c hc => h.1 c (by omega)) (fun _ _ => by rw [h.2.1]) (fun k hk => h.2.2 k (by omega))
def RdQ (S : WS) (t : Nat → Nat) (n : Nat) (m : MSt) (r : Int32) (m2 : MSt) : Prop := KY m m2 ∧ ((∃ S2 k, rdW S t n = .inr (S2, k) ∧ wInv S2 ∧ r = nI 1 ∧ MR S2 m2 ∧ m2.2.2.1 26 = nI k) ∨ (∃ f, rdW S t n = .inl f ∧ f ≤ n ∧ r = nI 0 ∧ m2.2.2.1 24 = nI f ∧ ∃ S2, MR S2 m2))
def spWall (o : OS) : Int32 × OS := match rdW o.1 o.2.2.2.2.2.1 o.2.2.2.2.2.2.1 with
  | .inl f => ((-20) - nI f, oRef (oTape o o.2.2.2.2.2.1 0) 2)
  | .inr p => (nI p.2, oTape (oW o p.1) o.2.2.2.2.2.1 0)
set_option maxHeartbeats 2000000 in
theorem m_X4_read {l : Launch} {G : GG} {wb w : GW} {ad : Nat → Nat} {m : MSt} (hM : MM G wb w ad m) {t : Nat → Nat} {n : Nat} (hTp : TapM t n m) (hn : n ≤ 200) (ht : ∀ i, i < 200 → t i < 256) {S : WS} (hR : MR S m) (hI : wInv S) : gM l G yX4_read cX4_read 1 (some .boolean) 10 0 0 [.ref (ad 0)] w (pI (fun r w1 => ∃ m2, MM G wb w1 ad m2 ∧ RdQ S t n m r m2)) := by
  refine Z.met (own := "ThreeSizesModel") (nm := "read") (lv := [(0, .ref (ad 0))]) (by decide) rfl rfl (Nat.le_of_ble_eq_true rfl) rfl (fun κ X => ?_)
  refine z_aload_n X dX4_read_0 rfl 0 rfl ?_
  refine z_iconst (v := nI (1)) X dX4_read_1 ci1 ?_
  refine z_mp26 X hM dX4_read_2 (fun u1 hM1 => ?_)
  have hR1 : MR S (mF m 26 (nI (1))) := hR.kept (fun _ _ => rfl) rfl
  refine z_aload_n X dX4_read_5 rfl 0 rfl ?_
  refine z_iconst (v := nI (0)) X dX4_read_6 ci0 ?_
  refine z_mp20 X hM1 dX4_read_7 (fun u2 hM2 => ?_)
  have hR2 : MR S (mF (mF m 26 (nI (1))) 20 (nI (0))) := hR1.kept (fun _ _ => rfl) rfl
  refine z_aload_n X dX4_read_10 rfl 0 rfl ?_
  refine z_cv (z_runV (rest := []) (n := 0) X [] (m_X4_look hM2 (((KY.rf.fl (by decide)).fl (by decide)).tap hTp) hn ht (a := 0) rfl (by omega)) dX4_read_11 (mm_o hM2) rfl (lw_V q1710 q1712 qs46 q70 q1713) hv_X4_look rfl ⟨Nat.le_of_ble_eq_true rfl, Nat.le_of_ble_eq_true rfl⟩ ⟨by omega, by omega⟩ rfl (Nat.le_of_ble_eq_true rfl)) (fun w5 h4 => ?_)
  obtain ⟨mv4, hM4, hk4, hTok4⟩ := h4
  have hR4 := MR.KF hR2 hk4
  refine z_aload_n X dX4_read_14 rfl 0 rfl ?_
  refine z_ci (z_runV (rest := []) (n := 0) X [] (m_X4_statement hM4 ((((KY.rf.fl (by decide)).fl (by decide)).kf hk4).tap hTp) hn ht hR4 hI hTok4 (by omega)) dX4_read_15 (mm_o hM4) rfl (lw_V q1721 q1723 qs47 q70 q1724) hv_X4_statement rfl ⟨Nat.le_of_ble_eq_true rfl, Nat.le_of_ble_eq_true rfl⟩ ⟨by omega, by omega⟩ rfl (Nat.le_of_ble_eq_true rfl)) (fun r6 w8 h7 => ?_)
  obtain ⟨mv7, hM7, hkx7, hQ7⟩ := h7
  rcases hQ7 with ⟨S7, e7, qa7, qb7, qc7, qd7, rfl, qe7, qf7⟩ | ⟨f7, qa7, qb7, rfl, qc7, S7, qd7⟩
  · skip
    refine z_if_ne_t (tgt := 23) X dX4_read_18 (by decide) (by decide) ?_
    have e0 : rdTo t n 201 S7 e7 1 = rdW S t n := by unfold rdW; rw [qa7, bnd_r]
    have lr : ∀ (lq i : Nat) (w2 : GW) (m2 : MSt) (S2 : WS) (a k : Nat), i + lq = 200 → MM G wb w2 ad m2 → KY m m2 → MR S2 m2 → wInv S2 → TokM t n a m2 → a ≤ n → n ≤ a + lq → m2.2.2.1 26 = nI k → rdTo t n (lq + 1) S2 a k = rdW S t n → Z κ w2 [(0, .ref (ad 0))] 0 0 23 [] := by
      intro lq
      induction lq with
      | zero =>
        intro i w2 m2 S2 a k lh hM2 hk2 hR2 hV2 hTok2 han hal h26x hrd
        have hK0 : tkK t n a = 0 := by rw [show a = n by omega]; exact tkK_n
        refine z_aload_n X dX4_read_23 rfl 0 rfl ?_
        refine z_mgv21 X hM2 dX4_read_24 hTok2.2.1 ?_
        refine z_if_eq_t (tgt := 69) X dX4_read_27 (by decide) ((nz_eq (by omega)).mpr hK0) ?_
        refine z_iconst (v := nI (1)) X dX4_read_69 ci1 ?_
        exact z_zret X dX4_read_70 (by omega) (by omega) bz1 ⟨_, rfl, ⟨_, hM2, hk2, Or.inl ⟨S2, k, hrd.symm.trans (if_pos hK0), hV2, rfl, hR2, h26x⟩⟩⟩
      | succ lq ih =>
        intro i w2 m2 S2 a k lh hM2 hk2 hR2 hV2 hTok2 han hal h26x hrd
        obtain ⟨y1, y2, y3⟩ := tk_le (t := t) han
        have hK4 := tkK_le (t := t) (n := n) (a := a)
        refine z_aload_n X dX4_read_23 rfl 0 rfl ?_
        refine z_mgv21 X hM2 dX4_read_24 hTok2.2.1 ?_
        refine z_if_eq (tgt := 69) X dX4_read_27 (by decide) (nz_eq (by omega)) (fun c9 => ?_) (fun c9 => ?_)
        · refine z_iconst (v := nI (1)) X dX4_read_69 ci1 ?_
          exact z_zret X dX4_read_70 (by omega) (by omega) bz1 ⟨_, rfl, ⟨_, hM2, hk2, Or.inl ⟨S2, k, hrd.symm.trans (if_pos c9), hV2, rfl, hR2, h26x⟩⟩⟩
        · refine z_aload_n X dX4_read_30 rfl 0 rfl ?_
          refine z_mgv21 X hM2 dX4_read_31 hTok2.2.1 ?_
          refine z_iconst (v := nI (3)) X dX4_read_34 ci3 ?_
          refine z_icmp_eq (tgt := 43) X dX4_read_35 (by decide) (nI_eq (by omega) (by omega)) (fun c10 => ?_) (fun c10 => ?_)
          · have yE := tkE_3 c10
            refine z_aload_n X dX4_read_43 rfl 0 rfl ?_
            refine z_cv (z_runV (rest := []) (n := 0) X [] (m_X4_look hM2 (hk2.tap hTp) hn ht (a := (tkE t n a)) hTok2.1 (by omega)) dX4_read_44 (mm_o hM2) rfl (lw_V q1710 q1712 qs46 q70 q1713) hv_X4_look rfl ⟨Nat.le_of_ble_eq_true rfl, Nat.le_of_ble_eq_true rfl⟩ ⟨by omega, by omega⟩ rfl (Nat.le_of_ble_eq_true rfl)) (fun w13 h12 => ?_)
            obtain ⟨mv12, hM12, hk12, hTok12⟩ := h12
            have hR12 := MR.KF hR2 hk12
            refine z_aload_n X dX4_read_47 rfl 0 rfl ?_
            refine z_ci (z_runV (rest := []) (n := 0) X [] (m_X4_statement hM12 ((hk2.kf hk12).tap hTp) hn ht hR12 hV2 hTok12 (by omega)) dX4_read_48 (mm_o hM12) rfl (lw_V q1721 q1723 qs47 q70 q1724) hv_X4_statement rfl ⟨Nat.le_of_ble_eq_true rfl, Nat.le_of_ble_eq_true rfl⟩ ⟨by omega, by omega⟩ rfl (Nat.le_of_ble_eq_true rfl)) (fun r14 w16 h15 => ?_)
            obtain ⟨mv15, hM15, hkx15, hQ15⟩ := h15
            rcases hQ15 with ⟨S15, e15, qa15, qb15, qc15, qd15, rfl, qe15, qf15⟩ | ⟨f15, qa15, qb15, rfl, qc15, S15, qd15⟩
            · skip
              refine z_if_ne_t (tgt := 56) X dX4_read_51 (by decide) (by decide) ?_
              refine z_aload_n X dX4_read_56 rfl 0 rfl ?_
              refine z_dup X dX4_read_57 rfl ?_
              refine z_mgv26 X hM15 dX4_read_58 ((hkx15.2.2 26 (by omega)).trans ((hk12.2.2 26 (by omega)).trans h26x)) ?_
              refine z_iconst (v := nI (1)) X dX4_read_61 ci1 ?_
              refine z_iadd (v := nI (k + 1)) X dX4_read_62 (nI_add _ _) ?_
              refine z_mp26 X hM15 dX4_read_63 (fun u17 hM17 => ?_)
              have hR17 : MR S15 (mF mv15 26 (nI (k + 1))) := qe15.kept (fun _ _ => rfl) rfl
              refine z_goto (tgt := 23) X dX4_read_66 (by decide) ?_
              have er : rdTo t n (lq + 1 + 1) S2 a k = rdTo t n (lq + 1) S15 e15 (k + 1) := (if_neg c9).trans ((if_pos c10).trans (by rw [qa15, bnd_r]))
              exact ih (i + 1) _ _ _ _ _ (by omega) hM17 (((hk2.kf hk12).x hkx15).fl (by decide)) hR17 qd15 qf15 (by omega) (by omega) rfl (er.symm.trans hrd)
            · skip
              refine z_if_ne_f (tgt := 56) X dX4_read_51 (by decide) (by decide) ?_
              refine z_iconst (v := nI (0)) X dX4_read_54 ci0 ?_
              exact z_zret X dX4_read_55 (by omega) (by omega) bz0 ⟨_, rfl, ⟨_, hM15, ((hk2.kf hk12).x hkx15), Or.inr ⟨f15, (hrd.symm.trans ((if_neg c9).trans ((if_pos c10).trans (by rw [qa15, bnd_l])))), by omega, rfl, qc15, _, qd15⟩⟩⟩
          · refine z_aload_n X dX4_read_38 rfl 0 rfl ?_
            refine z_ci (z_runV (rest := []) (n := 0) X [] (m_X4_wrong hM2 hTok2.2.2.1) dX4_read_39 (mm_o hM2) rfl (lw_V q1753 q1755 qs50 q70 q1756) hv_X4_wrong rfl ⟨Nat.le_of_ble_eq_true rfl, Nat.le_of_ble_eq_true rfl⟩ ⟨by omega, by omega⟩ rfl (Nat.le_of_ble_eq_true rfl)) (fun r18 w20 h19 => ?_)
            obtain ⟨mv19, hM19, hk19, hf19, r18e⟩ := h19
            rw [r18e]
            have hR19 := MR.KF hR2 hk19
            exact z_zret X dX4_read_42 (by omega) (by omega) bz0 ⟨_, rfl, ⟨_, hM19, (hk2.kf hk19), Or.inr ⟨tkF t n a, hrd.symm.trans ((if_neg c9).trans (if_neg c10)), by omega, rfl, hf19, _, hR19⟩⟩⟩
    exact lr 200 0 w8 mv7 S7 e7 1 (by omega) hM7 ((((KY.rf.fl (by decide)).fl (by decide)).kf hk4).x hkx7) qe7 qd7 qf7 (by omega) (by omega) ((hkx7.2.2 26 (by omega)).trans ((hk4.2.2 26 (by omega)).trans rfl)) e0
  · skip
    refine z_if_ne_f (tgt := 23) X dX4_read_18 (by decide) (by decide) ?_
    refine z_iconst (v := nI (0)) X dX4_read_21 ci0 ?_
    exact z_zret X dX4_read_22 (by omega) (by omega) bz0 ⟨_, rfl, ⟨_, hM7, ((((KY.rf.fl (by decide)).fl (by decide)).kf hk4).x hkx7), Or.inr ⟨f7, (by unfold rdW; rw [qa7, bnd_l]), by omega, rfl, qc7, _, qd7⟩⟩⟩
set_option maxHeartbeats 2000000 in
theorem m_X4_wall {l : Launch} {G : GG} {wb w : GW} {ad : Nat → Nat} {m : MSt} (hM : MM G wb w ad m) {o : OS} (hT : MT o m) (hO : oInv o) {am : Nat → Nat} {t : Bool} (hTr : TrO G w ad m 19 am t)  : gM l G yX4_wall cX4_wall 3 (some .int) 11 68 4751 [.ref (ad 0)] w (pI (fun r w1 => ∃ m2, TrQ G w ad m am t w1 m2 ∧ MT (spWall o).2 m2 ∧ r = (spWall o).1)) := by
  refine Z.met (own := "ThreeSizesModel") (nm := "wall") (lv := [(0, .ref (ad 0))]) (by decide) rfl rfl (Nat.le_of_ble_eq_true rfl) rfl (fun κ X => ?_)
  have hM0 := hM.1.mm
  have hI := hO.1
  have h6 := hI.2.1
  have hn200 := hO.2.2.2
  refine z_aload_n X dX4_wall_0 rfl 0 rfl ?_
  refine z_ca (z_runV (rest := []) (n := 0) X [] (m_X4_fresh hM0 hTr) dX4_wall_1 (mm_o hM0) rfl (lw_V q1693 q1695 qs43 q70 q1696) hv_X4_fresh rfl ⟨Nat.le_of_ble_eq_true rfl, Nat.le_of_ble_eq_true rfl⟩ ⟨by omega, by omega⟩ rfl (Nat.le_of_ble_eq_true rfl)) (fun r1 w3 h2 => ?_)
  obtain ⟨at_, mA, mB, r1e, hQ⟩ := h2
  rw [r1e]
  obtain ⟨hA, hB, hd, hq4, hq5, hq6, hRQ, ⟨mt9, hTk⟩⟩ := id hQ
  have hTA : MT o mA := hT.RQ hRQ
  have hRB0 : MR o.1 mB := (hTk.mk hT.mk).1
  have hF0 : ∀ b, (∀ i, mP i = true → b ≠ ad i) → (∀ i, mP i = true → b ≠ at_ i) → w3 b = w3 b := fun _ _ _ => rfl
  have hr0 : mA.2.2.2.2 18 = mA.2.2.2.2 18 ∧ mA.2.2.2.2 19 = mA.2.2.2.2 19 := ⟨rfl, rfl⟩
  refine z_astore_n (lv2 := [(1, .ref (at_ 0)), (0, .ref (ad 0))]) X dX4_wall_4 rfl (Nat.le_of_ble_eq_true rfl) rfl ?_
  refine z_aload_n X dX4_wall_5 rfl 1 rfl ?_
  refine z_ci (z_runV (rest := []) (n := 0) X [] (m_X4_read hA.1.mm (t := o.2.2.2.2.2.1) (n := o.2.2.2.2.2.2.1) ⟨hTA.2.2.2.2.2.1, hTA.2.2.2.2.2.2.1⟩ hO.2.2.2 hO.2.2.1 (S := o.1) hTA.1 hI) dX4_wall_6 (mm_o hA) rfl (lw_V q1706 q1708 qs45 q70 q1709) hv_X4_read rfl ⟨Nat.le_of_ble_eq_true rfl, Nat.le_of_ble_eq_true rfl⟩ ⟨by omega, by omega⟩ rfl (Nat.le_of_ble_eq_true rfl)) (fun r4 w6 h5 => ?_)
  obtain ⟨mv5, hM5, hky5, hQ5⟩ := h5
  have hs7 := hB.side hM5 (fun i j x y e => hd j i y x e.symm)
  have hf8 := fun b (x : ∀ i, mP i = true → b ≠ ad i) (y : ∀ i, mP i = true → b ≠ at_ i) => (hM5.2.1 b x).trans (hF0 b x y)
  have hr9 := And.intro ((hA.refs hM5).1.trans hr0.1) ((hA.refs hM5).2.trans hr0.2)
  rcases hQ5 with ⟨S2, k, qa, qb, rfl, qc, qd⟩ | ⟨f, qa, qb, rfl, qc, S2, qd⟩
  · have hTz := MT.tp (hky5.T hTA qc) (n := 0)
    refine z_istore_n (lv2 := [(2, .int (nI (1))), (1, .ref (at_ 0)), (0, .ref (ad 0))]) X dX4_wall_9 rfl (Nat.le_of_ble_eq_true rfl) rfl ?_
    refine z_aload_n X dX4_wall_10 rfl 2 rfl ?_
    refine z_iconst (v := nI (0)) X dX4_wall_11 ci0 ?_
    refine z_mp8 X hM5.1.mm dX4_wall_12 (fun u12 hM12 => ?_)
    have hs10 := hs7.side hM12 (fun i j x y e => hd j i y x e.symm)
    have hf11 := fun b (x : ∀ i, mP i = true → b ≠ ad i) (y : ∀ i, mP i = true → b ≠ at_ i) => (hM12.2.1 b x).trans (hf8 b x y)
    have hr12 := And.intro ((hM5.refs hM12).1.trans hr9.1) ((hM5.refs hM12).2.trans hr9.2)
    refine z_iload_n X dX4_wall_15 rfl 0 rfl ?_
    refine z_if_ne_t (tgt := 39) X dX4_wall_16 (by decide) (by decide) ?_
    refine z_aload_n X dX4_wall_39 rfl 2 rfl ?_
    refine z_mgv26 X hM12 dX4_wall_40 qd ?_
    have e : spWall o = (nI k, oTape (oW o S2) o.2.2.2.2.2.1 0) := by unfold spWall; rw [qa]
    exact z_iret X dX4_wall_43 (by omega) (by omega) ⟨_, rfl, (by rw [e]; exact ⟨_, TrQ.fin hQ hM12.1.mm hs10.1.mm hf11 hr12, hTz, rfl⟩)⟩
  · have hTz := MT.tp (hky5.T hTA qd) (n := 0)
    refine z_istore_n (lv2 := [(2, .int (nI (0))), (1, .ref (at_ 0)), (0, .ref (ad 0))]) X dX4_wall_9 rfl (Nat.le_of_ble_eq_true rfl) rfl ?_
    refine z_aload_n X dX4_wall_10 rfl 2 rfl ?_
    refine z_iconst (v := nI (0)) X dX4_wall_11 ci0 ?_
    refine z_mp8 X hM5.1.mm dX4_wall_12 (fun u12 hM12 => ?_)
    have hs13 := hs7.side hM12 (fun i j x y e => hd j i y x e.symm)
    have hf14 := fun b (x : ∀ i, mP i = true → b ≠ ad i) (y : ∀ i, mP i = true → b ≠ at_ i) => (hM12.2.1 b x).trans (hf8 b x y)
    have hr15 := And.intro ((hM5.refs hM12).1.trans hr9.1) ((hM5.refs hM12).2.trans hr9.2)
    refine z_iload_n X dX4_wall_15 rfl 0 rfl ?_
    refine z_if_ne_f (tgt := 39) X dX4_wall_16 (by decide) (by decide) ?_
    refine z_aload_n X dX4_wall_19 rfl 2 rfl ?_
    refine z_aload_n X dX4_wall_20 rfl 1 rfl ?_
    refine z_cv (z_runV (rest := []) (n := 1) X [.ref (at_ 0)] (m_X4_takeFrom hM12 hs13 hd) dX4_wall_21 (mm_o hM12) rfl (lw_V q1699 q1701 qs44 q70 q1702) hv_X4_takeFrom rfl ⟨Nat.le_of_ble_eq_true rfl, Nat.le_of_ble_eq_true rfl⟩ ⟨by omega, by omega⟩ rfl (Nat.le_of_ble_eq_true rfl)) (fun w18 h17 => ?_)
    obtain ⟨mv18, hM18, hk18⟩ := h17
    have hs19 := hs13.side hM18 (fun i j x y e => hd j i y x e.symm)
    have hf20 := fun b (x : ∀ i, mP i = true → b ≠ ad i) (y : ∀ i, mP i = true → b ≠ at_ i) => (hM18.2.1 b x).trans (hf14 b x y)
    have hr21 := And.intro ((hM12.refs hM18).1.trans hr15.1) ((hM12.refs hM18).2.trans hr15.2)
    have hTb := hTz.back hk18 (hTk.mk hT.mk)
    have h24 : mv18.2.2.1 24 = nI f := (hk18.2.2.2.2.1 24 (by unfold tkD; omega)).trans qc
    refine z_aload_n X dX4_wall_24 rfl 2 rfl ?_
    refine z_bipush (v := (-2)) X dX4_wall_25 (by decide) ?_
    refine z_ci (z_runV (rest := []) (n := 1) X [.int ((-2))] (m_X4_refuse hM18.1.mm (k := 2) (by decide) (v := (-2)) rfl) dX4_wall_27 (mm_o hM18) rfl (lw_V q1546 q1548 qs27 q70 q1549) hv_X4_refuse rfl ⟨Nat.le_of_ble_eq_true rfl, Nat.le_of_ble_eq_true rfl⟩ ⟨by omega, by omega⟩ rfl (Nat.le_of_ble_eq_true rfl)) (fun r22 w24 h23 => ?_)
    obtain ⟨hM23, r22e⟩ := h23
    rw [r22e]
    have hs25 := hs19.side hM23 (fun i j x y e => hd j i y x e.symm)
    have hf26 := fun b (x : ∀ i, mP i = true → b ≠ ad i) (y : ∀ i, mP i = true → b ≠ at_ i) => (hM23.2.1 b x).trans (hf20 b x y)
    have hr27 := And.intro ((hM18.refs hM23).1.trans hr21.1) ((hM18.refs hM23).2.trans hr21.2)
    have hTf := MT.ref hTb (k := 2) (by decide)
    refine z_pop X dX4_wall_30 rfl ?_
    refine z_bipush (v := (-20)) X dX4_wall_31 (by decide) ?_
    refine z_aload_n X dX4_wall_33 rfl 2 rfl ?_
    refine z_mgv24 X hM23 dX4_wall_34 h24 ?_
    refine z_isub (v := (-20) - nI f) X dX4_wall_37 rfl ?_
    have e : spWall o = ((-20) - nI f, oRef (oTape o o.2.2.2.2.2.1 0) 2) := by unfold spWall; rw [qa]
    exact z_iret X dX4_wall_38 (by omega) (by omega) ⟨_, rfl, (by rw [e]; exact ⟨_, TrQ.fin hQ hM23.1.mm hs25.1.mm hf26 hr27, hTf, rfl⟩)⟩
