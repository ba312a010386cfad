/-! THE MODEL: sorts are added, the tape is fed, rows are copied -/
set_option maxRecDepth 100000
theorem dec1 (x : Int32) : x + Int32.ofInt (-1) = x - nI 1 := by rw [Int32.sub_eq_add_neg]; rfl
theorem byte_is {v : Int32} {k : Nat} : (v >>> (nI (8 * k) &&& 31)) &&& nI 255 = nI (byteN v k) := by
  have e := pk_and (v >>> (nI (8 * k) &&& 31)) (m := nI 255) 8 (by decide)
  unfold byteN
  show _ = nI (tn ((v >>> (nI (8 * k) &&& 31)) &&& nI 255))
  rw [e, tn_nI (by omega)]
theorem byteN_lt {v : Int32} {k : Nat} : byteN v k < 256 := by
  have e := pk_and (v >>> (nI (8 * k) &&& 31)) (m := nI 255) 8 (by decide)
  unfold byteN
  show tn ((v >>> (nI (8 * k) &&& 31)) &&& nI 255) < 256
  rw [e, tn_nI (by omega)]; omega
theorem MT.feed {o : OS} {m : MSt} {t : Nat → Nat} {sz x : Nat} (h : MT (oTape o t sz) m) : MT (oTape o (fun i => if i = sz then x else t i) (sz + 1)) (mI (mF m 8 (nI (sz + 1))) 8 sz (nI x)) := by
  obtain ⟨a, b, c, d, e, f, g, i⟩ := h
  have ot : ∀ c, c ≠ 8 → (mI (mF m 8 (nI (sz + 1))) 8 sz (nI x)).1 c = m.1 c := fun c hc => mI_oth hc
  refine ⟨a.kept (fun c hc => ot c (by omega)) rfl, ?_, c, ?_, e, ?_, rfl, ?_⟩
  · rw [ot 17 (by omega)]; exact b
  · rw [ot 1 (by omega), ot 2 (by omega), ot 3 (by omega), ot 6 (by omega), ot 7 (by omega)]; exact d
  · have e1 : (mI (mF m 8 (nI (sz + 1))) 8 sz (nI x)).1 8 = upd (m.1 8) sz (nI x) := mI_own
    rw [e1]
    intro j hj
    show _ = nI (ite _ _ _)
    by_cases q : j = sz
    · subst q; rw [pk_us, if_pos rfl]
    · rw [pk_un q, if_neg q]; exact f j hj
  · rw [ot 10 (by omega)]; exact i
theorem MT.add {o : OS} {m : MSt} (h : MT o m) (hk : o.1.2 0 < 6) {a b c d : Nat} (ha : a < 200 ∧ b < 200 ∧ c < 200 ∧ d < 200) : MT (oW o (addS o.1 (lN a) (lN b) (lN c) (lN d))) (mF (mI (mI (mI (mI m (50 + o.1.2 0) 0 (nI a)) (50 + o.1.2 0) 1 (nI b)) (50 + o.1.2 0) 2 (nI c)) (50 + o.1.2 0) 3 (nI d)) 13 (nI (o.1.2 0 + 1))) := by
  have ot : ∀ q, q ≠ 50 + o.1.2 0 → (mI (mI (mI (mI m (50 + o.1.2 0) 0 (nI a)) (50 + o.1.2 0) 1 (nI b)) (50 + o.1.2 0) 2 (nI c)) (50 + o.1.2 0) 3 (nI d)).1 q = m.1 q := fun q hq => (mI_oth hq).trans ((mI_oth hq).trans ((mI_oth hq).trans (mI_oth hq)))
  have ow : (mI (mI (mI (mI m (50 + o.1.2 0) 0 (nI a)) (50 + o.1.2 0) 1 (nI b)) (50 + o.1.2 0) 2 (nI c)) (50 + o.1.2 0) 3 (nI d)).1 (50 + o.1.2 0) = upd (upd (upd (upd (m.1 (50 + o.1.2 0)) 0 (nI a)) 1 (nI b)) 2 (nI c)) 3 (nI d) := by rw [mI_own, mI_own, mI_own, mI_own]
  refine h.w ?_ (fun q hq => ot q (by omega)) (fun _ _ => rfl) (fun k hk => by rcases hk with rfl | rfl <;> rfl)
  obtain ⟨x1, x2, x3, x4, x5⟩ := h.1
  have ol : ∀ f, f < 3 → ∀ j, (addS o.1 (lN a) (lN b) (lN c) (lN d)).1 f j = o.1.1 f j := fun f hf j => if_neg (by omega)
  refine ⟨fun j hj => ?_, rfl, fun k hk2 => ?_, ?_, ?_⟩
  · show (mI (mI (mI (mI m (50 + o.1.2 0) 0 (nI a)) (50 + o.1.2 0) 1 (nI b)) (50 + o.1.2 0) 2 (nI c)) (50 + o.1.2 0) 3 (nI d)).1 11 j = _ ∧ (mI (mI (mI (mI m (50 + o.1.2 0) 0 (nI a)) (50 + o.1.2 0) 1 (nI b)) (50 + o.1.2 0) 2 (nI c)) (50 + o.1.2 0) 3 (nI d)).1 12 j = _ ∧ (mI (mI (mI (mI m (50 + o.1.2 0) 0 (nI a)) (50 + o.1.2 0) 1 (nI b)) (50 + o.1.2 0) 2 (nI c)) (50 + o.1.2 0) 3 (nI d)).1 13 j = _
    rw [ol 0 (by omega), ol 1 (by omega), ol 2 (by omega), ot 11 (by omega), ot 12 (by omega), ot 13 (by omega)]; exact x1 j hj
  · by_cases q : k = o.1.2 0
    · subst q
      have e3 : (addS o.1 (lN a) (lN b) (lN c) (lN d)).1 3 (o.1.2 0) = a := (if_pos (by omega)).trans (tnl_lN (by omega))
      have e4 : (addS o.1 (lN a) (lN b) (lN c) (lN d)).1 4 (o.1.2 0) = b := (if_pos (by omega)).trans (tnl_lN (by omega))
      have e5 : (addS o.1 (lN a) (lN b) (lN c) (lN d)).1 5 (o.1.2 0) = c := (if_pos (by omega)).trans (tnl_lN (by omega))
      have e6 : (addS o.1 (lN a) (lN b) (lN c) (lN d)).1 6 (o.1.2 0) = d := (if_pos (by omega)).trans (tnl_lN (by omega))
      rw [e3, e4, e5, e6]
      show (mI (mI (mI (mI m (50 + o.1.2 0) 0 (nI a)) (50 + o.1.2 0) 1 (nI b)) (50 + o.1.2 0) 2 (nI c)) (50 + o.1.2 0) 3 (nI d)).1 (50 + o.1.2 0) 0 = _ ∧ (mI (mI (mI (mI m (50 + o.1.2 0) 0 (nI a)) (50 + o.1.2 0) 1 (nI b)) (50 + o.1.2 0) 2 (nI c)) (50 + o.1.2 0) 3 (nI d)).1 (50 + o.1.2 0) 1 = _ ∧ (mI (mI (mI (mI m (50 + o.1.2 0) 0 (nI a)) (50 + o.1.2 0) 1 (nI b)) (50 + o.1.2 0) 2 (nI c)) (50 + o.1.2 0) 3 (nI d)).1 (50 + o.1.2 0) 2 = _ ∧ (mI (mI (mI (mI m (50 + o.1.2 0) 0 (nI a)) (50 + o.1.2 0) 1 (nI b)) (50 + o.1.2 0) 2 (nI c)) (50 + o.1.2 0) 3 (nI d)).1 (50 + o.1.2 0) 3 = _
      rw [ow]
      exact ⟨by rw [pk_un (by decide), pk_un (by decide), pk_un (by decide), pk_us], by rw [pk_un (by decide), pk_un (by decide), pk_us], by rw [pk_un (by decide), pk_us], pk_us⟩
    · have oe : ∀ f, (addS o.1 (lN a) (lN b) (lN c) (lN d)).1 f k = o.1.1 f k := fun f => if_neg (fun x => q x.1)
      rw [oe, oe, oe, oe]
      have e := ot (50 + k) (by omega)
      show (mI (mI (mI (mI m (50 + o.1.2 0) 0 (nI a)) (50 + o.1.2 0) 1 (nI b)) (50 + o.1.2 0) 2 (nI c)) (50 + o.1.2 0) 3 (nI d)).1 (50 + k) 0 = _ ∧ (mI (mI (mI (mI m (50 + o.1.2 0) 0 (nI a)) (50 + o.1.2 0) 1 (nI b)) (50 + o.1.2 0) 2 (nI c)) (50 + o.1.2 0) 3 (nI d)).1 (50 + k) 1 = _ ∧ (mI (mI (mI (mI m (50 + o.1.2 0) 0 (nI a)) (50 + o.1.2 0) 1 (nI b)) (50 + o.1.2 0) 2 (nI c)) (50 + o.1.2 0) 3 (nI d)).1 (50 + k) 2 = _ ∧ (mI (mI (mI (mI m (50 + o.1.2 0) 0 (nI a)) (50 + o.1.2 0) 1 (nI b)) (50 + o.1.2 0) 2 (nI c)) (50 + o.1.2 0) 3 (nI d)).1 (50 + k) 3 = _
      rw [e]; exact x3 k hk2
  · exact (congrFun (ot 16 (by omega)) 0).trans x4
  · exact (congrFun (ot 16 (by omega)) 1).trans x5
theorem sumTo_congr2 {f g : Nat → Nat} : ∀ n, (∀ i, i < n → f i = g i) → sumTo f n = sumTo g n := by
  intro n
  induction n with
  | zero => intro _; rfl
  | succ n ih => intro h; simp only [sumTo]; rw [ih (fun i hi => h i (Nat.lt_succ_of_lt hi)), h n (Nat.lt_succ_self n)]
theorem addS_inv {S : WS} (h : wInv S) {a b c d : Nat} (ha : a ≤ 2) (hc : 1 ≤ c ∧ c ≤ 99) (hd : d ≤ 99) (hb : sumTo (S.1 4) (S.2 0) + b ≤ 100) (hs : S.2 0 < 6) : wInv (addS S (lN a) (lN b) (lN c) (lN d)) := by
  obtain ⟨h1, h2, h3, h4, h5, h6⟩ := h
  have ol : ∀ f, f < 3 → ∀ j, (addS S (lN a) (lN b) (lN c) (lN d)).1 f j = S.1 f j := fun f hf j => if_neg (by omega)
  have on : ∀ f i, i ≠ S.2 0 → (addS S (lN a) (lN b) (lN c) (lN d)).1 f i = S.1 f i := fun f i hi => if_neg (fun x => hi x.1)
  have e3 : (addS S (lN a) (lN b) (lN c) (lN d)).1 3 (S.2 0) = a := (if_pos (by omega)).trans (tnl_lN (by omega))
  have e4 : (addS S (lN a) (lN b) (lN c) (lN d)).1 4 (S.2 0) = b := (if_pos (by omega)).trans (tnl_lN (by omega))
  have e5 : (addS S (lN a) (lN b) (lN c) (lN d)).1 5 (S.2 0) = c := (if_pos (by omega)).trans (tnl_lN (by omega))
  have e6 : (addS S (lN a) (lN b) (lN c) (lN d)).1 6 (S.2 0) = d := (if_pos (by omega)).trans (tnl_lN (by omega))
  have e0 : (addS S (lN a) (lN b) (lN c) (lN d)).2 0 = S.2 0 + 1 := rfl
  refine ⟨fun i hi => ?_, by omega, fun i hi => ?_, ?_, h5, h6⟩
  · rw [ol 0 (by omega), ol 1 (by omega), ol 2 (by omega)]; exact h1 i hi
  · by_cases q : i = S.2 0
    · subst q; rw [e3, e5, e6]; omega
    · rw [on 3 i q, on 5 i q, on 6 i q]; exact h3 i (by omega)
  · rw [e0]
    simp only [sumTo]
    rw [e4, sumTo_congr2 (S.2 0) (fun i hi => on 4 i (by omega))]; exact hb
/-- what adding a sort answers -/
def AddQ (o : OS) (a b c d : Int64) (r : Int32) (m2 : MSt) : Prop := (addK o.1 a b c d = 0 ∧ r = nI (o.1.2 0) ∧ o.1.2 0 < 6 ∧ wInv (addS o.1 a b c d) ∧ MT (oW o (addS o.1 a b c d)) m2) ∨ (addK o.1 a b c d = 2 ∧ r = (-2) ∧ MT o m2) ∨ (addK o.1 a b c d = 5 ∧ r = (-5) ∧ MT o m2) ∨ (addK o.1 a b c d = 6 ∧ r = (-6) ∧ MT o m2)
theorem MT.copy {o : OS} {m m2 : MSt} (h : MT o m) {p q i j n : Nat} (h1 : m2.1 = m.1) (h2 : m2.2.2 = m.2.2) (h3 : ∀ t, t < 8 → t ≠ q → ∀ x, x < 40 → m2.2.1 (40 + t) x = m.2.1 (40 + t) x) (h4 : ∀ x, x < 40 → m2.2.1 (40 + q) x = cpyV (o.2.2.2.2.1 p) (o.2.2.2.2.1 q) i j n x) : MT (setCopy o p q i j n) m2 := by
  obtain ⟨a, b, c, d, e, f, g, x⟩ := h
  refine ⟨a.kept (fun c _ => by rw [h1]) (by rw [h2]), ?_, (by rw [h2]; exact c), ?_, ?_, ?_, (by rw [h2]; exact g), ?_⟩
  · rw [h1]; exact b
  · rw [h1]; exact d
  · intro t ht y hy
    show _ = (ite _ _ _ : Nat → Int64) y
    by_cases z : t = q
    · subst z; rw [if_pos rfl]; exact h4 y hy
    · rw [if_neg z, h3 t ht z y hy]; exact e t ht y hy
  · rw [h1]; exact f
  · rw [h1]; exact x
set_option maxHeartbeats 2000000 in
theorem m_X4_add {l : Launch} {G : GG} {wb w : GW} {ad : Nat → Nat} {m : MSt} (hM : MM G wb w ad m) {o : OS} (hT : MT o m) (hO : oInv o) {a b c d : Int64} : gM l G yX4_add cX4_add 9 (some .int) 3 0 0 [.ref (ad 0), .long (a), .long (b), .long (c), .long (d)] w (pI (fun r w1 => ∃ m2, MM G wb w1 ad m2 ∧ AddQ o a b c d r m2)) := by
  refine Z.met (own := "ThreeSizesModel") (nm := "add") (lv := [(0, .ref (ad 0)), (1, .long (a)), (3, .long (b)), (5, .long (c)), (7, .long (d))]) (by decide) rfl rfl (Nat.le_of_ble_eq_true rfl) rfl (fun κ X => ?_)
  have hI := hO.1
  have h6 := hI.2.1
  have h4 := hI.2.2.2.1
  refine z_lload_n X dX4_add_0 rfl 1 rfl ?_
  refine z_lconst (v := lN 0) X dX4_add_1 cl0 ?_
  refine z_ldc2 X dX4_add_2 q1649 ?_
  refine z_cip (z_runS (rest := []) (n := 3) X [.long (a), .long (lN (0)), .long ((2))] m_X4_in dX4_add_5 (lw_S q1541 q1542 q70 q1543) hs_X4_in rfl ⟨Nat.le_of_ble_eq_true rfl, Nat.le_of_ble_eq_true rfl⟩ ⟨by omega, by omega⟩ rfl (Nat.le_of_ble_eq_true rfl)) ?_
  refine z_if_eq (tgt := 46) X dX4_add_8 (by decide) bI_d (fun c1 => ?_) (fun c1 => ?_)
  · have e1 : rgl 0 2 a = none := rgl_f c1
    refine z_bipush (v := (-2)) X dX4_add_46 (by decide) ?_
    have e : addK o.1 a b c d = 2 := by
      unfold addK
      repeat (first | rw [el_some (by assumption)] | rw [el_none (by assumption)] | rw [if_pos (by omega)] | rw [if_neg (by omega)] | rw [if_pos (by assumption)] | rw [if_neg (ts_n (by assumption))])
      all_goals first | rfl | (exfalso; omega)
    exact z_iret X dX4_add_48 (by omega) (by omega) ⟨_, rfl, ⟨_, hM, Or.inr <| Or.inl ⟨e, rfl, hT⟩⟩⟩
  · have c1 := Classical.not_not.mp c1
    obtain ⟨aN, aNl, aNh, rfl, e2⟩ := rgl_t (lo := 0) (hi := 2) (by decide) (by decide) c1
    refine z_lload_n X dX4_add_11 rfl 2 rfl ?_
    refine z_lconst (v := lN 0) X dX4_add_12 cl0 ?_
    refine z_ldc2 X dX4_add_13 q1659 ?_
    refine z_cip (z_runS (rest := []) (n := 3) X [.long (b), .long (lN (0)), .long ((100))] m_X4_in dX4_add_16 (lw_S q1541 q1542 q70 q1543) hs_X4_in rfl ⟨Nat.le_of_ble_eq_true rfl, Nat.le_of_ble_eq_true rfl⟩ ⟨by omega, by omega⟩ rfl (Nat.le_of_ble_eq_true rfl)) ?_
    refine z_if_eq (tgt := 46) X dX4_add_19 (by decide) bI_d (fun c2 => ?_) (fun c2 => ?_)
    · have e3 : rgl 0 100 b = none := rgl_f c2
      refine z_bipush (v := (-2)) X dX4_add_46 (by decide) ?_
      have e : addK o.1 (lN aN) b c d = 2 := by
        unfold addK
        repeat (first | rw [el_some (by assumption)] | rw [el_none (by assumption)] | rw [if_pos (by omega)] | rw [if_neg (by omega)] | rw [if_pos (by assumption)] | rw [if_neg (ts_n (by assumption))])
        all_goals first | rfl | (exfalso; omega)
      exact z_iret X dX4_add_48 (by omega) (by omega) ⟨_, rfl, ⟨_, hM, Or.inr <| Or.inl ⟨e, rfl, hT⟩⟩⟩
    · have c2 := Classical.not_not.mp c2
      obtain ⟨bN, bNl, bNh, rfl, e4⟩ := rgl_t (lo := 0) (hi := 100) (by decide) (by decide) c2
      refine z_lload X dX4_add_22 3 rfl ?_
      refine z_lconst (v := lN 1) X dX4_add_24 cl1 ?_
      refine z_ldc2 X dX4_add_25 q1574 ?_
      refine z_cip (z_runS (rest := []) (n := 3) X [.long (c), .long (lN (1)), .long ((99))] m_X4_in dX4_add_28 (lw_S q1541 q1542 q70 q1543) hs_X4_in rfl ⟨Nat.le_of_ble_eq_true rfl, Nat.le_of_ble_eq_true rfl⟩ ⟨by omega, by omega⟩ rfl (Nat.le_of_ble_eq_true rfl)) ?_
      refine z_if_eq (tgt := 46) X dX4_add_31 (by decide) bI_d (fun c3 => ?_) (fun c3 => ?_)
      · have e5 : rgl 1 99 c = none := rgl_f c3
        refine z_bipush (v := (-2)) X dX4_add_46 (by decide) ?_
        have e : addK o.1 (lN aN) (lN bN) c d = 2 := by
          unfold addK
          repeat (first | rw [el_some (by assumption)] | rw [el_none (by assumption)] | rw [if_pos (by omega)] | rw [if_neg (by omega)] | rw [if_pos (by assumption)] | rw [if_neg (ts_n (by assumption))])
          all_goals first | rfl | (exfalso; omega)
        exact z_iret X dX4_add_48 (by omega) (by omega) ⟨_, rfl, ⟨_, hM, Or.inr <| Or.inl ⟨e, rfl, hT⟩⟩⟩
      · have c3 := Classical.not_not.mp c3
        obtain ⟨cN, cNl, cNh, rfl, e6⟩ := rgl_t (lo := 1) (hi := 99) (by decide) (by decide) c3
        refine z_lload X dX4_add_34 4 rfl ?_
        refine z_lconst (v := lN 0) X dX4_add_36 cl0 ?_
        refine z_ldc2 X dX4_add_37 q1574 ?_
        refine z_cip (z_runS (rest := []) (n := 3) X [.long (d), .long (lN (0)), .long ((99))] m_X4_in dX4_add_40 (lw_S q1541 q1542 q70 q1543) hs_X4_in rfl ⟨Nat.le_of_ble_eq_true rfl, Nat.le_of_ble_eq_true rfl⟩ ⟨by omega, by omega⟩ rfl (Nat.le_of_ble_eq_true rfl)) ?_
        refine z_if_ne (tgt := 49) X dX4_add_43 (by decide) bI_d (fun c4 => ?_) (fun c4 => ?_)
        · have c4 := Classical.not_not.mp c4
          obtain ⟨dN, dNl, dNh, rfl, e7⟩ := rgl_t (lo := 0) (hi := 99) (by decide) (by decide) c4
          refine z_aload_n X dX4_add_49 rfl 0 rfl ?_
          refine z_cip (z_runV (rest := []) (n := 0) X [] (m_X4_comes hM hT.1 hI) dX4_add_50 (mm_o hM) rfl (lw_V q1616 q1618 qs34 q70 q1619) hv_X4_comes rfl ⟨Nat.le_of_ble_eq_true rfl, Nat.le_of_ble_eq_true rfl⟩ ⟨by omega, by omega⟩ rfl (Nat.le_of_ble_eq_true rfl)) ?_
          refine z_i2l (v := lN (sumTo (o.1.1 4) (o.1.2 0))) X dX4_add_53 (nI_l (by omega)) ?_
          refine z_lload_n X dX4_add_54 rfl 2 rfl ?_
          refine z_ladd (v := lN (sumTo (o.1.1 4) (o.1.2 0) + bN)) X dX4_add_55 (lN_add _ _) ?_
          refine z_ldc2 X dX4_add_56 q1659 ?_
          refine z_lcmp (v := lg_cmp (lN (sumTo (o.1.1 4) (o.1.2 0) + bN)) ((100))) X dX4_add_59 rfl ?_
          refine z_if_le (tgt := 66) X dX4_add_60 (by decide) (lg_cmp_le _ _) (fun c5 => ?_) (fun c5 => ?_)
          · have hs9 : sumTo (o.1.1 4) (o.1.2 0) + bN ≤ 100 := (lN_le (b := 100) (by omega) (by decide)).mp c5
            refine z_aload_n X dX4_add_66 rfl 0 rfl ?_
            refine z_mgv13 X hM dX4_add_67 hT.1.2.1 ?_
            refine z_bipush (v := nI (6)) X dX4_add_70 (by decide) ?_
            refine z_icmp_ne (tgt := 78) X dX4_add_72 (by decide) (nI_eq (by omega) (by omega)) (fun c6 => ?_) (fun c6 => ?_)
            · refine z_aload_n X dX4_add_78 rfl 0 rfl ?_
              refine z_mg14 X hM dX4_add_79 ?_
              refine z_aload_n X dX4_add_82 rfl 0 rfl ?_
              refine z_mgv13 X hM dX4_add_83 hT.1.2.1 ?_
              refine z_aN5 (v := .ref (ad (50 + (o.1.2 0)))) X dX4_add_86 (mm_15 hM) (by omega) (by omega) rfl ?_
              refine z_iconst (v := nI (0)) X dX4_add_87 ci0 ?_
              refine z_lload_n X dX4_add_88 rfl 1 rfl ?_
              refine z_l2i (v := nI (aN)) X dX4_add_89 (lN_i _) ?_
              refine z_mst (n := 4) (j := 0) X hM (50 + (o.1.2 0)) dX4_add_90 (mP_50 (by omega)) (mK_50 (by omega)) (mLen_50 (by omega)) (by omega) (by omega) (fun u7 hM7 => ?_)
              refine z_aload_n X dX4_add_91 rfl 0 rfl ?_
              refine z_mg14 X hM7 dX4_add_92 ?_
              refine z_aload_n X dX4_add_95 rfl 0 rfl ?_
              refine z_mgv13 X hM7 dX4_add_96 hT.1.2.1 ?_
              refine z_aN5 (v := .ref (ad (50 + (o.1.2 0)))) X dX4_add_99 (mm_15 hM7) (by omega) (by omega) rfl ?_
              refine z_iconst (v := nI (1)) X dX4_add_100 ci1 ?_
              refine z_lload_n X dX4_add_101 rfl 2 rfl ?_
              refine z_l2i (v := nI (bN)) X dX4_add_102 (lN_i _) ?_
              refine z_mst (n := 4) (j := 1) X hM7 (50 + (o.1.2 0)) dX4_add_103 (mP_50 (by omega)) (mK_50 (by omega)) (mLen_50 (by omega)) (by omega) (by omega) (fun u8 hM8 => ?_)
              refine z_aload_n X dX4_add_104 rfl 0 rfl ?_
              refine z_mg14 X hM8 dX4_add_105 ?_
              refine z_aload_n X dX4_add_108 rfl 0 rfl ?_
              refine z_mgv13 X hM8 dX4_add_109 hT.1.2.1 ?_
              refine z_aN5 (v := .ref (ad (50 + (o.1.2 0)))) X dX4_add_112 (mm_15 hM8) (by omega) (by omega) rfl ?_
              refine z_iconst (v := nI (2)) X dX4_add_113 ci2 ?_
              refine z_lload X dX4_add_114 3 rfl ?_
              refine z_l2i (v := nI (cN)) X dX4_add_116 (lN_i _) ?_
              refine z_mst (n := 4) (j := 2) X hM8 (50 + (o.1.2 0)) dX4_add_117 (mP_50 (by omega)) (mK_50 (by omega)) (mLen_50 (by omega)) (by omega) (by omega) (fun u9 hM9 => ?_)
              refine z_aload_n X dX4_add_118 rfl 0 rfl ?_
              refine z_mg14 X hM9 dX4_add_119 ?_
              refine z_aload_n X dX4_add_122 rfl 0 rfl ?_
              refine z_mgv13 X hM9 dX4_add_123 hT.1.2.1 ?_
              refine z_aN5 (v := .ref (ad (50 + (o.1.2 0)))) X dX4_add_126 (mm_15 hM9) (by omega) (by omega) rfl ?_
              refine z_iconst (v := nI (3)) X dX4_add_127 ci3 ?_
              refine z_lload X dX4_add_128 4 rfl ?_
              refine z_l2i (v := nI (dN)) X dX4_add_130 (lN_i _) ?_
              refine z_mst (n := 4) (j := 3) X hM9 (50 + (o.1.2 0)) dX4_add_131 (mP_50 (by omega)) (mK_50 (by omega)) (mLen_50 (by omega)) (by omega) (by omega) (fun u10 hM10 => ?_)
              refine z_aload_n X dX4_add_132 rfl 0 rfl ?_
              refine z_dup X dX4_add_133 rfl ?_
              refine z_mgv13 X hM10 dX4_add_134 hT.1.2.1 ?_
              refine z_dup_x1 X dX4_add_137 rfl rfl ?_
              refine z_iconst (v := nI (1)) X dX4_add_138 ci1 ?_
              refine z_iadd (v := nI (o.1.2 0 + 1)) X dX4_add_139 (nI_add _ _) ?_
              refine z_mp13 X hM10 dX4_add_140 (fun u11 hM11 => ?_)
              have hT9 := hT.add (a := aN) (b := bN) (c := cN) (d := dN) (by omega) (by omega)
              have hI9 := addS_inv hI (a := aN) (b := bN) (c := cN) (d := dN) (by omega) (by omega) (by omega) (by omega) (by omega)
              have e : addK o.1 (lN aN) (lN bN) (lN cN) (lN dN) = 0 := by
                unfold addK
                repeat (first | rw [el_some (by assumption)] | rw [el_none (by assumption)] | rw [if_pos (by omega)] | rw [if_neg (by omega)] | rw [if_pos (by assumption)] | rw [if_neg (ts_n (by assumption))])
                all_goals first | rfl | (exfalso; omega)
              exact z_iret X dX4_add_143 (by omega) (by omega) ⟨_, rfl, ⟨_, hM11, Or.inl ⟨e, rfl, by omega, hI9, hT9⟩⟩⟩
            · refine z_bipush (v := (-6)) X dX4_add_75 (by decide) ?_
              have e : addK o.1 (lN aN) (lN bN) (lN cN) (lN dN) = 6 := by
                unfold addK
                repeat (first | rw [el_some (by assumption)] | rw [el_none (by assumption)] | rw [if_pos (by omega)] | rw [if_neg (by omega)] | rw [if_pos (by assumption)] | rw [if_neg (ts_n (by assumption))])
                all_goals first | rfl | (exfalso; omega)
              exact z_iret X dX4_add_77 (by omega) (by omega) ⟨_, rfl, ⟨_, hM, Or.inr <| Or.inr <| Or.inr ⟨e, rfl, hT⟩⟩⟩
          · have hs9 : ¬ (sumTo (o.1.1 4) (o.1.2 0) + bN ≤ 100) := fun q => c5 ((lN_le (by omega) (by decide)).mpr q)
            refine z_bipush (v := (-5)) X dX4_add_63 (by decide) ?_
            have e : addK o.1 (lN aN) (lN bN) (lN cN) (lN dN) = 5 := by
              unfold addK
              repeat (first | rw [el_some (by assumption)] | rw [el_none (by assumption)] | rw [if_pos (by omega)] | rw [if_neg (by omega)] | rw [if_pos (by assumption)] | rw [if_neg (ts_n (by assumption))])
              all_goals first | rfl | (exfalso; omega)
            exact z_iret X dX4_add_65 (by omega) (by omega) ⟨_, rfl, ⟨_, hM, Or.inr <| Or.inr <| Or.inl ⟨e, rfl, hT⟩⟩⟩
        · have e8 : rgl 0 99 d = none := rgl_f c4
          refine z_bipush (v := (-2)) X dX4_add_46 (by decide) ?_
          have e : addK o.1 (lN aN) (lN bN) (lN cN) d = 2 := by
            unfold addK
            repeat (first | rw [el_some (by assumption)] | rw [el_none (by assumption)] | rw [if_pos (by omega)] | rw [if_neg (by omega)] | rw [if_pos (by assumption)] | rw [if_neg (ts_n (by assumption))])
            all_goals first | rfl | (exfalso; omega)
          exact z_iret X dX4_add_48 (by omega) (by omega) ⟨_, rfl, ⟨_, hM, Or.inr <| Or.inl ⟨e, rfl, hT⟩⟩⟩
set_option maxHeartbeats 2000000 in
theorem m_X4_sort {l : Launch} {G : GG} {wb w : GW} {ad : Nat → Nat} {m : MSt} (hM : MM G wb w ad m) {o : OS} (hT : MT o m) (hO : oInv o) {a b c d : Int32} : gM l G yX4_sort cX4_sort 6 (some .int) 4 0 0 [.ref (ad 0), .int (a), .int (b), .int (c), .int (d)] w (pI (fun r w1 => ∃ m2, MM G wb w1 ad m2 ∧ MT (spSort o a b c d).2 m2 ∧ r = (spSort o a b c d).1)) := by
  refine Z.met (own := "ThreeSizesModel") (nm := "sort") (lv := [(0, .ref (ad 0)), (1, .int (a)), (2, .int (b)), (3, .int (c)), (4, .int (d))]) (by decide) rfl rfl (Nat.le_of_ble_eq_true rfl) rfl (fun κ X => ?_)
  have hI := hO.1
  have h6 := hI.2.1
  have ht200 := hO.2.2.2
  refine z_aload_n X dX4_sort_0 rfl 0 rfl ?_
  refine z_iload_n X dX4_sort_1 rfl 1 rfl ?_
  refine z_i2l (v := (a).toInt64) X dX4_sort_2 rfl ?_
  refine z_iload_n X dX4_sort_3 rfl 2 rfl ?_
  refine z_i2l (v := (b).toInt64) X dX4_sort_4 rfl ?_
  refine z_iload_n X dX4_sort_5 rfl 3 rfl ?_
  refine z_i2l (v := (c).toInt64) X dX4_sort_6 rfl ?_
  refine z_iload X dX4_sort_7 4 rfl ?_
  refine z_i2l (v := (d).toInt64) X dX4_sort_9 rfl ?_
  refine z_ci (z_runV (rest := []) (n := 4) X [.long ((a).toInt64), .long ((b).toInt64), .long ((c).toInt64), .long ((d).toInt64)] (m_X4_add hM hT hO (a := (a).toInt64) (b := (b).toInt64) (c := (c).toInt64) (d := (d).toInt64)) dX4_sort_10 (mm_o hM) rfl (lw_V q1655 q1657 qs40 q70 q1658) hv_X4_add rfl ⟨Nat.le_of_ble_eq_true rfl, Nat.le_of_ble_eq_true rfl⟩ ⟨by omega, by omega⟩ rfl (Nat.le_of_ble_eq_true rfl)) (fun r1 w3 h2 => ?_)
  obtain ⟨mv2, hM2, hQ2⟩ := h2
  rcases hQ2 with ⟨e1, rfl, hs6, hI9, hT9⟩ | ⟨e1, rfl, hT9⟩ | ⟨e1, rfl, hT9⟩ | ⟨e1, rfl, hT9⟩
  · skip
    refine z_istore (lv2 := [(5, .int (nI (o.1.2 0))), (0, .ref (ad 0)), (1, .int (a)), (2, .int (b)), (3, .int (c)), (4, .int (d))]) X dX4_sort_13 (Nat.le_of_ble_eq_true rfl) rfl ?_
    refine z_iload X dX4_sort_15 0 rfl ?_
    refine z_if_ge_t (tgt := 29) X dX4_sort_17 (by decide) ((nz_ge (by omega)).mpr trivial) ?_
    refine z_iload X dX4_sort_29 0 rfl ?_
    have e : spSort o a b c d = (nI (o.1.2 0), oW o (addS o.1 ((a).toInt64) ((b).toInt64) ((c).toInt64) ((d).toInt64))) := by
      unfold spSort
      rw [if_pos (by rw [e1])]
      try rfl
    exact z_iret X dX4_sort_31 (by omega) (by omega) ⟨_, rfl, (by rw [e]; exact ⟨_, hM2, hT9, rfl⟩)⟩
  · skip
    refine z_istore (lv2 := [(5, .int ((-2))), (0, .ref (ad 0)), (1, .int (a)), (2, .int (b)), (3, .int (c)), (4, .int (d))]) X dX4_sort_13 (Nat.le_of_ble_eq_true rfl) rfl ?_
    refine z_iload X dX4_sort_15 0 rfl ?_
    refine z_if_ge_f (tgt := 29) X dX4_sort_17 (by decide) (by decide) ?_
    refine z_aload_n X dX4_sort_20 rfl 1 rfl ?_
    refine z_iload X dX4_sort_21 0 rfl ?_
    refine z_ci (z_runV (rest := []) (n := 1) X [.int ((-2))] (m_X4_refuse hM2 (k := 2) (by decide) (v := (-2)) rfl) dX4_sort_23 (mm_o hM2) rfl (lw_V q1546 q1548 qs27 q70 q1549) hv_X4_refuse rfl ⟨Nat.le_of_ble_eq_true rfl, Nat.le_of_ble_eq_true rfl⟩ ⟨by omega, by omega⟩ rfl (Nat.le_of_ble_eq_true rfl)) (fun r4 w6 h5 => ?_)
    obtain ⟨hM5, r4e⟩ := h5
    rw [r4e]
    have hT5 := MT.ref hT9 (k := 2) (by decide)
    refine z_goto (tgt := 31) X dX4_sort_26 (by decide) ?_
    have e : spSort o a b c d = ((-2), oRef o 2) := by
      unfold spSort
      rw [if_neg (by rw [e1]; decide)]
      rw [e1]
      try rfl
    exact z_iret X dX4_sort_31 (by omega) (by omega) ⟨_, rfl, (by rw [e]; exact ⟨_, hM5, hT5, rfl⟩)⟩
  · skip
    refine z_istore (lv2 := [(5, .int ((-5))), (0, .ref (ad 0)), (1, .int (a)), (2, .int (b)), (3, .int (c)), (4, .int (d))]) X dX4_sort_13 (Nat.le_of_ble_eq_true rfl) rfl ?_
    refine z_iload X dX4_sort_15 0 rfl ?_
    refine z_if_ge_f (tgt := 29) X dX4_sort_17 (by decide) (by decide) ?_
    refine z_aload_n X dX4_sort_20 rfl 1 rfl ?_
    refine z_iload X dX4_sort_21 0 rfl ?_
    refine z_ci (z_runV (rest := []) (n := 1) X [.int ((-5))] (m_X4_refuse hM2 (k := 5) (by decide) (v := (-5)) rfl) dX4_sort_23 (mm_o hM2) rfl (lw_V q1546 q1548 qs27 q70 q1549) hv_X4_refuse rfl ⟨Nat.le_of_ble_eq_true rfl, Nat.le_of_ble_eq_true rfl⟩ ⟨by omega, by omega⟩ rfl (Nat.le_of_ble_eq_true rfl)) (fun r7 w9 h8 => ?_)
    obtain ⟨hM8, r7e⟩ := h8
    rw [r7e]
    have hT8 := MT.ref hT9 (k := 5) (by decide)
    refine z_goto (tgt := 31) X dX4_sort_26 (by decide) ?_
    have e : spSort o a b c d = ((-5), oRef o 5) := by
      unfold spSort
      rw [if_neg (by rw [e1]; decide)]
      rw [e1]
      try rfl
    exact z_iret X dX4_sort_31 (by omega) (by omega) ⟨_, rfl, (by rw [e]; exact ⟨_, hM8, hT8, rfl⟩)⟩
  · skip
    refine z_istore (lv2 := [(5, .int ((-6))), (0, .ref (ad 0)), (1, .int (a)), (2, .int (b)), (3, .int (c)), (4, .int (d))]) X dX4_sort_13 (Nat.le_of_ble_eq_true rfl) rfl ?_
    refine z_iload X dX4_sort_15 0 rfl ?_
    refine z_if_ge_f (tgt := 29) X dX4_sort_17 (by decide) (by decide) ?_
    refine z_aload_n X dX4_sort_20 rfl 1 rfl ?_
    refine z_iload X dX4_sort_21 0 rfl ?_
    refine z_ci (z_runV (rest := []) (n := 1) X [.int ((-6))] (m_X4_refuse hM2 (k := 6) (by decide) (v := (-6)) rfl) dX4_sort_23 (mm_o hM2) rfl (lw_V q1546 q1548 qs27 q70 q1549) hv_X4_refuse rfl ⟨Nat.le_of_ble_eq_true rfl, Nat.le_of_ble_eq_true rfl⟩ ⟨by omega, by omega⟩ rfl (Nat.le_of_ble_eq_true rfl)) (fun r10 w12 h11 => ?_)
    obtain ⟨hM11, r10e⟩ := h11
    rw [r10e]
    have hT11 := MT.ref hT9 (k := 6) (by decide)
    refine z_goto (tgt := 31) X dX4_sort_26 (by decide) ?_
    have e : spSort o a b c d = ((-6), oRef o 6) := by
      unfold spSort
      rw [if_neg (by rw [e1]; decide)]
      rw [e1]
      try rfl
    exact z_iret X dX4_sort_31 (by omega) (by omega) ⟨_, rfl, (by rw [e]; exact ⟨_, hM11, hT11, rfl⟩)⟩
