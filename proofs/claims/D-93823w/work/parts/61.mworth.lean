/-! THE MODEL: what else is worth (by another one, tried) -/
set_option maxRecDepth 100000
theorem wPut_oth {S : WS} {f f2 i v : Nat} (h : f2 ≠ f) : (wPut S f i v).1 f2 = S.1 f2 := funext fun _ => if_neg (fun q => h q.1)
theorem wPut_own {S : WS} {f i v : Nat} : (wPut S f i v).1 f i = v := if_pos ⟨rfl, rfl⟩
theorem wPut_ne {S : WS} {f i j v : Nat} (h : j ≠ i) : (wPut S f i v).1 f j = S.1 f j := if_neg (fun q => h q.2)
theorem wInv_box {S : WS} (h : wInv S) {z v : Nat} (h1 : S.1 1 z ≤ v) (h2 : v ≤ 4) : wInv (wPut S 0 z v) := by
  obtain ⟨a, b, c, d, e, f⟩ := h
  refine ⟨fun i hi => ?_, b, fun i hi => ?_, ?_, e, f⟩
  · rw [wPut_oth (f2 := 1) (by decide), wPut_oth (f2 := 2) (by decide)]
    by_cases q : i = z
    · subst q; rw [wPut_own]; have := a i hi; omega
    · rw [wPut_ne q]; exact a i hi
  · rw [wPut_oth (f2 := 3) (by decide), wPut_oth (f2 := 5) (by decide), wPut_oth (f2 := 6) (by decide)]; exact c i hi
  · rw [wPut_oth (f2 := 4) (by decide)]; exact d
theorem sumTo_mono {f g : Nat → Nat} : ∀ n, (∀ i, i < n → f i ≤ g i) → sumTo f n ≤ sumTo g n := by
  intro n
  induction n with
  | zero => intro _; exact Nat.le_refl _
  | succ n ih => intro h; simp only [sumTo]; exact Nat.add_le_add (ih (fun i hi => h i (by omega))) (h n (by omega))
theorem wInv_zero {S : WS} (h : wInv S) {k : Nat} : wInv (wPut S 4 k 0) := by
  obtain ⟨a, b, c, d, e, f⟩ := h
  refine ⟨fun i hi => ?_, b, fun i hi => ?_, ?_, e, f⟩
  · rw [wPut_oth (f2 := 0) (by decide), wPut_oth (f2 := 1) (by decide), wPut_oth (f2 := 2) (by decide)]; exact a i hi
  · rw [wPut_oth (f2 := 3) (by decide), wPut_oth (f2 := 5) (by decide), wPut_oth (f2 := 6) (by decide)]; exact c i hi
  · refine Nat.le_trans (sumTo_mono _ (fun i _ => ?_)) d
    by_cases q : i = k
    · subst q; rw [wPut_own]; exact Nat.zero_le _
    · rw [wPut_ne q]; exact Nat.le_refl _
/-- of every sort more comes -/
def wPl (S : WS) (k n : Nat) : WS := (fun f i => if f = 4 ∧ i < n then S.1 4 i + k else S.1 f i, S.2)
theorem wPl_0 {S : WS} {k : Nat} : wPl S k 0 = S := by
  unfold wPl
  refine Prod.ext (funext fun f => funext fun i => ?_) rfl
  exact if_neg (by omega)
theorem wPl_at {S : WS} {k n : Nat} : (wPl S k n).1 4 n = S.1 4 n := if_neg (by omega)
theorem wPl_1 {S : WS} {k n : Nat} : wPut (wPl S k n) 4 n (S.1 4 n + k) = wPl S k (n + 1) := by
  refine Prod.ext (funext fun f => funext fun i => ?_) rfl
  show ite _ _ (ite _ _ _) = ite _ _ _
  by_cases q : f = 4 ∧ i = n
  · obtain ⟨rfl, rfl⟩ := q
    rw [if_pos ⟨rfl, rfl⟩, if_pos ⟨rfl, Nat.lt_succ_self _⟩]
  · rw [if_neg q]
    by_cases q2 : f = 4 ∧ i < n
    · rw [if_pos q2, if_pos ⟨q2.1, by omega⟩]
    · rw [if_neg q2, if_neg (fun q3 => q ⟨q3.1, by omega⟩)]
theorem sumTo_pl {S : WS} {k m : Nat} : ∀ n, n ≤ m → sumTo ((wPl S k m).1 4) n = sumTo (S.1 4) n + k * n := by
  intro n
  induction n with
  | zero => intro _; rfl
  | succ n ih =>
    intro h
    simp only [sumTo]
    rw [ih (by omega), show (wPl S k m).1 4 n = S.1 4 n + k from if_pos ⟨rfl, by omega⟩, Nat.mul_succ]; omega
theorem wPl_oth {S : WS} {k n f : Nat} (h : f ≠ 4) : (wPl S k n).1 f = S.1 f := funext fun _ => if_neg (fun q => h q.1)
theorem wInv_pl {S : WS} (h : wInv S) {k : Nat} (hs : sumTo (S.1 4) (S.2 0) + k * S.2 0 ≤ 100) : wInv (wPl S k (S.2 0)) := by
  obtain ⟨a, b, c, d, e, f⟩ := h
  refine ⟨fun i hi => ?_, b, fun i hi => ?_, ?_, e, f⟩
  · rw [wPl_oth (f := 0) (by decide), wPl_oth (f := 1) (by decide), wPl_oth (f := 2) (by decide)]; exact a i hi
  · rw [wPl_oth (f := 3) (by decide), wPl_oth (f := 5) (by decide), wPl_oth (f := 6) (by decide)]; exact c i hi
  · show sumTo ((wPl S k (S.2 0)).1 4) (S.2 0) ≤ 100
    rw [sumTo_pl _ (Nat.le_refl _)]; exact hs
theorem MR.put4 {S : WS} {m : MSt} (h : MR S m) {i v : Nat} (hi : i < 6) : MR (wPut S 4 i v) (mI m (50 + i) 1 (nI v)) := by
  obtain ⟨a, b, c, d, e⟩ := h
  refine ⟨fun j hj => ?_, b, fun k hk => ?_, ?_, ?_⟩
  · rw [mI_oth (by omega), mI_oth (by omega), mI_oth (by omega), wPut_oth (f2 := 0) (by decide), wPut_oth (f2 := 1) (by decide), wPut_oth (f2 := 2) (by decide)]; exact a j hj
  · rw [wPut_oth (f2 := 3) (by decide), wPut_oth (f2 := 5) (by decide), wPut_oth (f2 := 6) (by decide)]
    have ck := c k hk
    by_cases q : k = i
    · subst q
      rw [mI_own, wPut_own, pk_un (by decide), pk_us, pk_un (by decide), pk_un (by decide)]
      exact ⟨ck.1, rfl, ck.2.2.1, ck.2.2.2⟩
    · rw [mI_oth (by omega), wPut_ne q]; exact ck
  · rw [mI_oth (by omega)]; exact d
  · rw [mI_oth (by omega)]; exact e
theorem MR.KM {S : WS} {m m2 : MSt} (h : MR S m) (q : KM m m2) : MR S m2 := h.kept (fun c hc => q.2 c (by omega)) (by rw [q.1.1])
def spWorth (o : OS) (z n : Int32) : Int64 × OS := el (rgb 0 2 z) (badL o 2) fun z => el (rgb 0 24 n) (badL o 2) fun n => if o.1.1 1 z < o.1.1 0 z then (bestV o.1 n - bestV (wPut o.1 0 z (o.1.1 0 z - 1)) n, o) else badL o 5
def spPrice (o : OS) (z n : Int32) : Int64 × OS := el (rgb 0 2 z) (badL o 2) fun z => el (rgb 0 24 n) (badL o 2) fun n => if o.1.1 1 z < o.1.1 0 z then (bestV o.1 n - bestV (wPut o.1 1 z (o.1.1 1 z + 1)) n, o) else badL o 5
def spBrings (o : OS) (k n : Int32) : Int64 × OS := el (rgn (o.1.2 0) k) (badL o 2) fun k => el (rgb 0 24 n) (badL o 2) fun n => (bestV o.1 n - bestV (wPut o.1 4 k 0) n, o)
def brd (S : WS) : Nat := if 1 < S.1 0 0 then 4 else S.1 0 0 + 3
def wBoard (S : WS) : WS := wPut (wPut S 0 2 (S.1 0 2 - 1)) 0 0 (brd S)
def spBoard (o : OS) (n : Int32) : Int64 × OS := el (rgb 0 24 n) (badL o 2) fun n => if o.1.1 1 2 < o.1.1 0 2 then (bestV (wBoard o.1) n - bestV o.1 n, o) else badL o 5
def spFeast (o : OS) (k n : Int32) : Int64 × OS := el (rgb 0 50 k) (badL o 2) fun k => el (rgb 0 24 n) (badL o 2) fun n => if 100 < sumTo (o.1.1 4) (o.1.2 0) + k * o.1.2 0 then badL o 5 else (bestV (wPl o.1 k (o.1.2 0)) n - bestV o.1 n, o)
set_option maxHeartbeats 2000000 in
theorem m_X4_worth {l : Launch} {G : GG} {wb w : GW} {ad : Nat → Nat} {m : MSt} (hM : MM G wb w ad m) {o : OS} (hT : MT o m) (hO : oInv o) {am : Nat → Nat} {t : Bool} (hTr : TrO G w ad m 19 am t) {z n : Int32} : gM l G yX4_worth cX4_worth 4 (some .long) 10 68 4751 [.ref (ad 0), .int (z), .int (n)] w (pL (fun r w1 => ∃ m2, TrQ G w ad m am t w1 m2 ∧ MT (spWorth o z n).2 m2 ∧ r = (spWorth o z n).1)) := by
  refine Z.met (own := "ThreeSizesModel") (nm := "worth") (lv := [(0, .ref (ad 0)), (1, .int (z)), (2, .int (n))]) (by decide) rfl rfl (Nat.le_of_ble_eq_true rfl) rfl (fun κ X => ?_)
  have hM0 := hM.1.mm
  have hI := hO.1
  have h6 := hI.2.1
  refine z_iload_n X dX4_worth_0 rfl 1 rfl ?_
  refine z_i2l (v := (z).toInt64) X dX4_worth_1 rfl ?_
  refine z_lconst (v := lN 0) X dX4_worth_2 cl0 ?_
  refine z_ldc2 X dX4_worth_3 q1649 ?_
  refine z_cip (z_runS (rest := []) (n := 3) X [.long ((z).toInt64), .long (lN (0)), .long ((2))] m_X4_in dX4_worth_6 (lw_S q1541 q1542 q70 q1543) hs_X4_in rfl ⟨Nat.le_of_ble_eq_true rfl, Nat.le_of_ble_eq_true rfl⟩ ⟨by omega, by omega⟩ rfl (Nat.le_of_ble_eq_true rfl)) ?_
  refine z_if_eq (tgt := 19) X dX4_worth_9 (by decide) bI_d (fun c1 => ?_) (fun c1 => ?_)
  · have e1 : rgb 0 2 z = none := rgb_f (fun q => c1 ((in32 (lo := nI 0) (hi := nI 2)).mpr q))
    refine z_ldc2 X dX4_worth_19 q1780 ?_
    refine z_aload_n X dX4_worth_22 rfl 0 rfl ?_
    refine z_bipush (v := (-2)) X dX4_worth_23 (by decide) ?_
    refine z_ci (z_runV (rest := [.long ((-1000000000000))]) (n := 1) X [.int ((-2))] (m_X4_refuse hM0 (k := 2) (by decide) (v := (-2)) rfl) dX4_worth_25 (mm_o hM0) rfl (lw_V q1546 q1548 qs27 q70 q1549) hv_X4_refuse rfl ⟨Nat.le_of_ble_eq_true rfl, Nat.le_of_ble_eq_true rfl⟩ ⟨by omega, by omega⟩ rfl (Nat.le_of_ble_eq_true rfl)) (fun r2 w4 h3 => ?_)
    obtain ⟨hM3, r2e⟩ := h3
    rw [r2e]
    have hT3 := MT.ref hT (k := 2) (by decide)
    refine z_i2l (v := ((-2)).toInt64) X dX4_worth_28 rfl ?_
    refine z_ladd (v := (-1000000000000) + (((-2)).toInt64)) X dX4_worth_29 rfl ?_
    have e : spWorth o z n = ((-1000000000000) + (((-2)).toInt64), oRef o 2) := by
      unfold spWorth
      repeat (first | rw [el_some (by assumption)] | rw [el_none (by assumption)] | rw [if_pos (by omega)] | rw [if_neg (by omega)] | rw [if_pos (by assumption)] | rw [if_neg (ts_n (by assumption))])
      all_goals first | rfl | (exfalso; omega)
    exact z_lret X dX4_worth_30 (by omega) (by omega) ⟨_, rfl, (by rw [e]; exact ⟨_, TrQ.ofb hTr hM0 hM3, hT3, rfl⟩)⟩
  · have c1 := Classical.not_not.mp c1
    obtain ⟨zN, zNl, zNh, rfl, e2⟩ := rgb_t (lo := 0) (hi := 2) (by decide) (by decide) ((in32 (lo := nI 0) (hi := nI 2)).mp c1)
    refine z_iload_n X dX4_worth_12 rfl 2 rfl ?_
    refine z_cip (z_runS (rest := []) (n := 1) X [.int (n)] (m_X4_areHours (v := n)) dX4_worth_13 (lw_S q1797 q1798 q70 q1799) hs_X4_areHours rfl ⟨Nat.le_of_ble_eq_true rfl, Nat.le_of_ble_eq_true rfl⟩ ⟨by omega, by omega⟩ rfl (Nat.le_of_ble_eq_true rfl)) ?_
    refine z_if_ne (tgt := 31) X dX4_worth_16 (by decide) bI_d (fun c5 => ?_) (fun c5 => ?_)
    · have c5 := Classical.not_not.mp c5
      obtain ⟨nN, nNl, nNh, rfl, e3⟩ := rgb_t (lo := 0) (hi := 24) (by decide) (by decide) (c5)
      have hz := hI.1 zN (by omega)
      refine z_aload_n X dX4_worth_31 rfl 0 rfl ?_
      refine z_iload_n X dX4_worth_32 rfl 1 rfl ?_
      refine z_cip (z_runV (rest := []) (n := 1) X [.int (nI (zN))] (m_X4_isFree hM0 hT.1 hI (z := zN) (by omega)) dX4_worth_33 (mm_o hM0) rfl (lw_V q1870 q1872 qs61 q70 q1873) hv_X4_isFree rfl ⟨Nat.le_of_ble_eq_true rfl, Nat.le_of_ble_eq_true rfl⟩ ⟨by omega, by omega⟩ rfl (Nat.le_of_ble_eq_true rfl)) ?_
      refine z_if_ne (tgt := 51) X dX4_worth_36 (by decide) bI_d (fun c6 => ?_) (fun c6 => ?_)
      · have c6 := Classical.not_not.mp c6
        refine z_aload_n X dX4_worth_51 rfl 0 rfl ?_
        refine z_ca (z_runV (rest := []) (n := 0) X [] (m_X4_fresh hM0 hTr) dX4_worth_52 (mm_o hM0) rfl (lw_V q1693 q1695 qs43 q70 q1696) hv_X4_fresh rfl ⟨Nat.le_of_ble_eq_true rfl, Nat.le_of_ble_eq_true rfl⟩ ⟨by omega, by omega⟩ rfl (Nat.le_of_ble_eq_true rfl)) (fun r7 w9 h8 => ?_)
        obtain ⟨at_, mA, mB, r7e, hQ⟩ := h8
        rw [r7e]
        obtain ⟨hA, hB, hd, hq4, hq5, hq6, hRQ, ⟨mt9, hTk⟩⟩ := id hQ
        have hTA : MT o mA := hT.RQ hRQ
        have hRB0 : MR o.1 mB := (hTk.mk hT.mk).1
        have hF0 : ∀ b, (∀ i, mP i = true → b ≠ ad i) → (∀ i, mP i = true → b ≠ at_ i) → w9 b = w9 b := fun _ _ _ => rfl
        have hr0 : mA.2.2.2.2 18 = mA.2.2.2.2 18 ∧ mA.2.2.2.2 19 = mA.2.2.2.2 19 := ⟨rfl, rfl⟩
        refine z_astore_n (lv2 := [(3, .ref (at_ 0)), (0, .ref (ad 0)), (1, .int (nI (zN))), (2, .int (nI (nN)))]) X dX4_worth_55 rfl (Nat.le_of_ble_eq_true rfl) rfl ?_
        refine z_aload_n X dX4_worth_56 rfl 0 rfl ?_
        refine z_mg10 X hB dX4_worth_57 ?_
        refine z_iload_n X dX4_worth_60 rfl 2 rfl ?_
        refine z_dup2 X dX4_worth_61 rfl rfl ?_
        refine z_iaN (v := nI (o.1.1 0 zN)) X dX4_worth_62 (mm_11 hB) (by omega) (by omega) (hRB0.1 zN (by omega)).1 ?_
        refine z_iconst (v := nI (1)) X dX4_worth_63 ci1 ?_
        refine z_isub (v := nI (o.1.1 0 zN - 1)) X dX4_worth_64 (pk_sub (by omega)) ?_
        refine z_mst (n := 3) (j := zN) X hB.1.mm 11 dX4_worth_65 rfl rfl rfl (by omega) (by omega) (fun u10 hM10 => ?_)
        have hs11 := hA.side hM10 hd
        have hf12 := fun b (x : ∀ i, mP i = true → b ≠ ad i) (y : ∀ i, mP i = true → b ≠ at_ i) => (hM10.2.1 b y).trans (hF0 b x y)
        have hW13 : MR (wPut o.1 0 zN (o.1.1 0 zN - 1)) (mI mB 11 zN (nI (o.1.1 0 zN - 1))) := hRB0.put (f := 0) (by decide) (by omega)
        have hV14 : wInv (wPut o.1 0 zN (o.1.1 0 zN - 1)) := wInv_box hI (by omega) (by omega)
        refine z_aload_n X dX4_worth_66 rfl 1 rfl ?_
        refine z_iload_n X dX4_worth_67 rfl 3 rfl ?_
        refine z_cl (z_runV (rest := []) (n := 1) X [.int (nI (nN))] (m_X4_bestNow hs11.1.mm hTA.1 hI (n := nN) (by omega)) dX4_worth_68 (mm_o hs11) rfl (lw_V q1809 q1811 qs56 q70 q1812) hv_X4_bestNow rfl ⟨Nat.le_of_ble_eq_true rfl, Nat.le_of_ble_eq_true rfl⟩ ⟨by omega, by omega⟩ rfl (Nat.le_of_ble_eq_true rfl)) (fun r15 w17 h16 => ?_)
        obtain ⟨mv16, hM16, hQ16, r15e⟩ := h16
        rw [r15e]
        have hT16 := MT.KM hTA hQ16
        have hs18 := hM10.side hM16 (fun i j x y e => hd j i y x e.symm)
        have hf19 := fun b (x : ∀ i, mP i = true → b ≠ ad i) (y : ∀ i, mP i = true → b ≠ at_ i) => (hM16.2.1 b x).trans (hf12 b x y)
        have hr20 := And.intro ((hs11.refs hM16).1.trans hr0.1) ((hs11.refs hM16).2.trans hr0.2)
        refine z_aload_n X dX4_worth_71 rfl 0 rfl ?_
        refine z_iload_n X dX4_worth_72 rfl 3 rfl ?_
        refine z_cl (z_runV (rest := [.long (bestV o.1 nN)]) (n := 1) X [.int (nI (nN))] (m_X4_bestNow hs18.1.mm hW13 hV14 (n := nN) (by omega)) dX4_worth_73 (mm_o hs18) rfl (lw_V q1809 q1811 qs56 q70 q1812) hv_X4_bestNow rfl ⟨Nat.le_of_ble_eq_true rfl, Nat.le_of_ble_eq_true rfl⟩ ⟨by omega, by omega⟩ rfl (Nat.le_of_ble_eq_true rfl)) (fun r21 w23 h22 => ?_)
        obtain ⟨mv22, hM22, hQ22, r21e⟩ := h22
        rw [r21e]
        have hR22 := MR.KM hW13 hQ22
        have hs24 := hM16.side hM22 hd
        have hf25 := fun b (x : ∀ i, mP i = true → b ≠ ad i) (y : ∀ i, mP i = true → b ≠ at_ i) => (hM22.2.1 b y).trans (hf19 b x y)
        refine z_lsub (v := (bestV o.1 nN) - (bestV (wPut o.1 0 zN (o.1.1 0 zN - 1)) nN)) X dX4_worth_76 rfl ?_
        have e : spWorth o (nI zN) (nI nN) = ((bestV o.1 nN) - (bestV (wPut o.1 0 zN (o.1.1 0 zN - 1)) nN), o) := by
          unfold spWorth
          repeat (first | rw [el_some (by assumption)] | rw [el_none (by assumption)] | rw [if_pos (by omega)] | rw [if_neg (by omega)] | rw [if_pos (by assumption)] | rw [if_neg (ts_n (by assumption))])
          all_goals first | rfl | (exfalso; omega)
        exact z_lret X dX4_worth_77 (by omega) (by omega) ⟨_, rfl, (by rw [e]; exact ⟨_, TrQ.fin hQ hs24.1.mm hM22.1.mm hf25 hr20, hT16, rfl⟩)⟩
      · refine z_ldc2 X dX4_worth_39 q1780 ?_
        refine z_aload_n X dX4_worth_42 rfl 0 rfl ?_
        refine z_bipush (v := (-5)) X dX4_worth_43 (by decide) ?_
        refine z_ci (z_runV (rest := [.long ((-1000000000000))]) (n := 1) X [.int ((-5))] (m_X4_refuse hM0 (k := 5) (by decide) (v := (-5)) rfl) dX4_worth_45 (mm_o hM0) rfl (lw_V q1546 q1548 qs27 q70 q1549) hv_X4_refuse rfl ⟨Nat.le_of_ble_eq_true rfl, Nat.le_of_ble_eq_true rfl⟩ ⟨by omega, by omega⟩ rfl (Nat.le_of_ble_eq_true rfl)) (fun r26 w28 h27 => ?_)
        obtain ⟨hM27, r26e⟩ := h27
        rw [r26e]
        have hT27 := MT.ref hT (k := 5) (by decide)
        refine z_i2l (v := ((-5)).toInt64) X dX4_worth_48 rfl ?_
        refine z_ladd (v := (-1000000000000) + (((-5)).toInt64)) X dX4_worth_49 rfl ?_
        have e : spWorth o (nI zN) (nI nN) = ((-1000000000000) + (((-5)).toInt64), oRef o 5) := by
          unfold spWorth
          repeat (first | rw [el_some (by assumption)] | rw [el_none (by assumption)] | rw [if_pos (by omega)] | rw [if_neg (by omega)] | rw [if_pos (by assumption)] | rw [if_neg (ts_n (by assumption))])
          all_goals first | rfl | (exfalso; omega)
        exact z_lret X dX4_worth_50 (by omega) (by omega) ⟨_, rfl, (by rw [e]; exact ⟨_, TrQ.ofb hTr hM0 hM27, hT27, rfl⟩)⟩
    · have e4 : rgb 0 24 n = none := rgb_f c5
      refine z_ldc2 X dX4_worth_19 q1780 ?_
      refine z_aload_n X dX4_worth_22 rfl 0 rfl ?_
      refine z_bipush (v := (-2)) X dX4_worth_23 (by decide) ?_
      refine z_ci (z_runV (rest := [.long ((-1000000000000))]) (n := 1) X [.int ((-2))] (m_X4_refuse hM0 (k := 2) (by decide) (v := (-2)) rfl) dX4_worth_25 (mm_o hM0) rfl (lw_V q1546 q1548 qs27 q70 q1549) hv_X4_refuse rfl ⟨Nat.le_of_ble_eq_true rfl, Nat.le_of_ble_eq_true rfl⟩ ⟨by omega, by omega⟩ rfl (Nat.le_of_ble_eq_true rfl)) (fun r29 w31 h30 => ?_)
      obtain ⟨hM30, r29e⟩ := h30
      rw [r29e]
      have hT30 := MT.ref hT (k := 2) (by decide)
      refine z_i2l (v := ((-2)).toInt64) X dX4_worth_28 rfl ?_
      refine z_ladd (v := (-1000000000000) + (((-2)).toInt64)) X dX4_worth_29 rfl ?_
      have e : spWorth o (nI zN) n = ((-1000000000000) + (((-2)).toInt64), oRef o 2) := by
        unfold spWorth
        repeat (first | rw [el_some (by assumption)] | rw [el_none (by assumption)] | rw [if_pos (by omega)] | rw [if_neg (by omega)] | rw [if_pos (by assumption)] | rw [if_neg (ts_n (by assumption))])
        all_goals first | rfl | (exfalso; omega)
      exact z_lret X dX4_worth_30 (by omega) (by omega) ⟨_, rfl, (by rw [e]; exact ⟨_, TrQ.ofb hTr hM0 hM30, hT30, rfl⟩)⟩
set_option maxHeartbeats 2000000 in
theorem m_X4_price {l : Launch} {G : GG} {wb w : GW} {ad : Nat → Nat} {m : MSt} (hM : MM G wb w ad m) {o : OS} (hT : MT o m) (hO : oInv o) {am : Nat → Nat} {t : Bool} (hTr : TrO G w ad m 19 am t) {z n : Int32} : gM l G yX4_price cX4_price 4 (some .long) 10 68 4751 [.ref (ad 0), .int (z), .int (n)] w (pL (fun r w1 => ∃ m2, TrQ G w ad m am t w1 m2 ∧ MT (spPrice o z n).2 m2 ∧ r = (spPrice o z n).1)) := by
  refine Z.met (own := "ThreeSizesModel") (nm := "price") (lv := [(0, .ref (ad 0)), (1, .int (z)), (2, .int (n))]) (by decide) rfl rfl (Nat.le_of_ble_eq_true rfl) rfl (fun κ X => ?_)
  have hM0 := hM.1.mm
  have hI := hO.1
  have h6 := hI.2.1
  refine z_iload_n X dX4_price_0 rfl 1 rfl ?_
  refine z_i2l (v := (z).toInt64) X dX4_price_1 rfl ?_
  refine z_lconst (v := lN 0) X dX4_price_2 cl0 ?_
  refine z_ldc2 X dX4_price_3 q1649 ?_
  refine z_cip (z_runS (rest := []) (n := 3) X [.long ((z).toInt64), .long (lN (0)), .long ((2))] m_X4_in dX4_price_6 (lw_S q1541 q1542 q70 q1543) hs_X4_in rfl ⟨Nat.le_of_ble_eq_true rfl, Nat.le_of_ble_eq_true rfl⟩ ⟨by omega, by omega⟩ rfl (Nat.le_of_ble_eq_true rfl)) ?_
  refine z_if_eq (tgt := 19) X dX4_price_9 (by decide) bI_d (fun c1 => ?_) (fun c1 => ?_)
  · have e1 : rgb 0 2 z = none := rgb_f (fun q => c1 ((in32 (lo := nI 0) (hi := nI 2)).mpr q))
    refine z_ldc2 X dX4_price_19 q1780 ?_
    refine z_aload_n X dX4_price_22 rfl 0 rfl ?_
    refine z_bipush (v := (-2)) X dX4_price_23 (by decide) ?_
    refine z_ci (z_runV (rest := [.long ((-1000000000000))]) (n := 1) X [.int ((-2))] (m_X4_refuse hM0 (k := 2) (by decide) (v := (-2)) rfl) dX4_price_25 (mm_o hM0) rfl (lw_V q1546 q1548 qs27 q70 q1549) hv_X4_refuse rfl ⟨Nat.le_of_ble_eq_true rfl, Nat.le_of_ble_eq_true rfl⟩ ⟨by omega, by omega⟩ rfl (Nat.le_of_ble_eq_true rfl)) (fun r2 w4 h3 => ?_)
    obtain ⟨hM3, r2e⟩ := h3
    rw [r2e]
    have hT3 := MT.ref hT (k := 2) (by decide)
    refine z_i2l (v := ((-2)).toInt64) X dX4_price_28 rfl ?_
    refine z_ladd (v := (-1000000000000) + (((-2)).toInt64)) X dX4_price_29 rfl ?_
    have e : spPrice o z n = ((-1000000000000) + (((-2)).toInt64), oRef o 2) := by
      unfold spPrice
      repeat (first | rw [el_some (by assumption)] | rw [el_none (by assumption)] | rw [if_pos (by omega)] | rw [if_neg (by omega)] | rw [if_pos (by assumption)] | rw [if_neg (ts_n (by assumption))])
      all_goals first | rfl | (exfalso; omega)
    exact z_lret X dX4_price_30 (by omega) (by omega) ⟨_, rfl, (by rw [e]; exact ⟨_, TrQ.ofb hTr hM0 hM3, hT3, rfl⟩)⟩
  · have c1 := Classical.not_not.mp c1
    obtain ⟨zN, zNl, zNh, rfl, e2⟩ := rgb_t (lo := 0) (hi := 2) (by decide) (by decide) ((in32 (lo := nI 0) (hi := nI 2)).mp c1)
    refine z_iload_n X dX4_price_12 rfl 2 rfl ?_
    refine z_cip (z_runS (rest := []) (n := 1) X [.int (n)] (m_X4_areHours (v := n)) dX4_price_13 (lw_S q1797 q1798 q70 q1799) hs_X4_areHours rfl ⟨Nat.le_of_ble_eq_true rfl, Nat.le_of_ble_eq_true rfl⟩ ⟨by omega, by omega⟩ rfl (Nat.le_of_ble_eq_true rfl)) ?_
    refine z_if_ne (tgt := 31) X dX4_price_16 (by decide) bI_d (fun c5 => ?_) (fun c5 => ?_)
    · have c5 := Classical.not_not.mp c5
      obtain ⟨nN, nNl, nNh, rfl, e3⟩ := rgb_t (lo := 0) (hi := 24) (by decide) (by decide) (c5)
      have hz := hI.1 zN (by omega)
      refine z_aload_n X dX4_price_31 rfl 0 rfl ?_
      refine z_iload_n X dX4_price_32 rfl 1 rfl ?_
      refine z_cip (z_runV (rest := []) (n := 1) X [.int (nI (zN))] (m_X4_isFree hM0 hT.1 hI (z := zN) (by omega)) dX4_price_33 (mm_o hM0) rfl (lw_V q1870 q1872 qs61 q70 q1873) hv_X4_isFree rfl ⟨Nat.le_of_ble_eq_true rfl, Nat.le_of_ble_eq_true rfl⟩ ⟨by omega, by omega⟩ rfl (Nat.le_of_ble_eq_true rfl)) ?_
      refine z_if_ne (tgt := 51) X dX4_price_36 (by decide) bI_d (fun c6 => ?_) (fun c6 => ?_)
      · have c6 := Classical.not_not.mp c6
        refine z_aload_n X dX4_price_51 rfl 0 rfl ?_
        refine z_ca (z_runV (rest := []) (n := 0) X [] (m_X4_fresh hM0 hTr) dX4_price_52 (mm_o hM0) rfl (lw_V q1693 q1695 qs43 q70 q1696) hv_X4_fresh rfl ⟨Nat.le_of_ble_eq_true rfl, Nat.le_of_ble_eq_true rfl⟩ ⟨by omega, by omega⟩ rfl (Nat.le_of_ble_eq_true rfl)) (fun r7 w9 h8 => ?_)
        obtain ⟨at_, mA, mB, r7e, hQ⟩ := h8
        rw [r7e]
        obtain ⟨hA, hB, hd, hq4, hq5, hq6, hRQ, ⟨mt9, hTk⟩⟩ := id hQ
        have hTA : MT o mA := hT.RQ hRQ
        have hRB0 : MR o.1 mB := (hTk.mk hT.mk).1
        have hF0 : ∀ b, (∀ i, mP i = true → b ≠ ad i) → (∀ i, mP i = true → b ≠ at_ i) → w9 b = w9 b := fun _ _ _ => rfl
        have hr0 : mA.2.2.2.2 18 = mA.2.2.2.2 18 ∧ mA.2.2.2.2 19 = mA.2.2.2.2 19 := ⟨rfl, rfl⟩
        refine z_astore_n (lv2 := [(3, .ref (at_ 0)), (0, .ref (ad 0)), (1, .int (nI (zN))), (2, .int (nI (nN)))]) X dX4_price_55 rfl (Nat.le_of_ble_eq_true rfl) rfl ?_
        refine z_aload_n X dX4_price_56 rfl 0 rfl ?_
        refine z_mg11 X hB dX4_price_57 ?_
        refine z_iload_n X dX4_price_60 rfl 2 rfl ?_
        refine z_dup2 X dX4_price_61 rfl rfl ?_
        refine z_iaN (v := nI (o.1.1 1 zN)) X dX4_price_62 (mm_12 hB) (by omega) (by omega) (hRB0.1 zN (by omega)).2.1 ?_
        refine z_iconst (v := nI (1)) X dX4_price_63 ci1 ?_
        refine z_iadd (v := nI (o.1.1 1 zN + 1)) X dX4_price_64 (nI_add _ _) ?_
        refine z_mst (n := 3) (j := zN) X hB.1.mm 12 dX4_price_65 rfl rfl rfl (by omega) (by omega) (fun u10 hM10 => ?_)
        have hs11 := hA.side hM10 hd
        have hf12 := fun b (x : ∀ i, mP i = true → b ≠ ad i) (y : ∀ i, mP i = true → b ≠ at_ i) => (hM10.2.1 b y).trans (hF0 b x y)
        have hW13 : MR (wPut o.1 1 zN (o.1.1 1 zN + 1)) (mI mB 12 zN (nI (o.1.1 1 zN + 1))) := hRB0.put (f := 1) (by decide) (by omega)
        have hV14 : wInv (wPut o.1 1 zN (o.1.1 1 zN + 1)) := wInv_full hI (by omega)
        refine z_aload_n X dX4_price_66 rfl 1 rfl ?_
        refine z_iload_n X dX4_price_67 rfl 3 rfl ?_
        refine z_cl (z_runV (rest := []) (n := 1) X [.int (nI (nN))] (m_X4_bestNow hs11.1.mm hTA.1 hI (n := nN) (by omega)) dX4_price_68 (mm_o hs11) rfl (lw_V q1809 q1811 qs56 q70 q1812) hv_X4_bestNow rfl ⟨Nat.le_of_ble_eq_true rfl, Nat.le_of_ble_eq_true rfl⟩ ⟨by omega, by omega⟩ rfl (Nat.le_of_ble_eq_true rfl)) (fun r15 w17 h16 => ?_)
        obtain ⟨mv16, hM16, hQ16, r15e⟩ := h16
        rw [r15e]
        have hT16 := MT.KM hTA hQ16
        have hs18 := hM10.side hM16 (fun i j x y e => hd j i y x e.symm)
        have hf19 := fun b (x : ∀ i, mP i = true → b ≠ ad i) (y : ∀ i, mP i = true → b ≠ at_ i) => (hM16.2.1 b x).trans (hf12 b x y)
        have hr20 := And.intro ((hs11.refs hM16).1.trans hr0.1) ((hs11.refs hM16).2.trans hr0.2)
        refine z_aload_n X dX4_price_71 rfl 0 rfl ?_
        refine z_iload_n X dX4_price_72 rfl 3 rfl ?_
        refine z_cl (z_runV (rest := [.long (bestV o.1 nN)]) (n := 1) X [.int (nI (nN))] (m_X4_bestNow hs18.1.mm hW13 hV14 (n := nN) (by omega)) dX4_price_73 (mm_o hs18) rfl (lw_V q1809 q1811 qs56 q70 q1812) hv_X4_bestNow rfl ⟨Nat.le_of_ble_eq_true rfl, Nat.le_of_ble_eq_true rfl⟩ ⟨by omega, by omega⟩ rfl (Nat.le_of_ble_eq_true rfl)) (fun r21 w23 h22 => ?_)
        obtain ⟨mv22, hM22, hQ22, r21e⟩ := h22
        rw [r21e]
        have hR22 := MR.KM hW13 hQ22
        have hs24 := hM16.side hM22 hd
        have hf25 := fun b (x : ∀ i, mP i = true → b ≠ ad i) (y : ∀ i, mP i = true → b ≠ at_ i) => (hM22.2.1 b y).trans (hf19 b x y)
        refine z_lsub (v := (bestV o.1 nN) - (bestV (wPut o.1 1 zN (o.1.1 1 zN + 1)) nN)) X dX4_price_76 rfl ?_
        have e : spPrice o (nI zN) (nI nN) = ((bestV o.1 nN) - (bestV (wPut o.1 1 zN (o.1.1 1 zN + 1)) nN), o) := by
          unfold spPrice
          repeat (first | rw [el_some (by assumption)] | rw [el_none (by assumption)] | rw [if_pos (by omega)] | rw [if_neg (by omega)] | rw [if_pos (by assumption)] | rw [if_neg (ts_n (by assumption))])
          all_goals first | rfl | (exfalso; omega)
        exact z_lret X dX4_price_77 (by omega) (by omega) ⟨_, rfl, (by rw [e]; exact ⟨_, TrQ.fin hQ hs24.1.mm hM22.1.mm hf25 hr20, hT16, rfl⟩)⟩
      · refine z_ldc2 X dX4_price_39 q1780 ?_
        refine z_aload_n X dX4_price_42 rfl 0 rfl ?_
        refine z_bipush (v := (-5)) X dX4_price_43 (by decide) ?_
        refine z_ci (z_runV (rest := [.long ((-1000000000000))]) (n := 1) X [.int ((-5))] (m_X4_refuse hM0 (k := 5) (by decide) (v := (-5)) rfl) dX4_price_45 (mm_o hM0) rfl (lw_V q1546 q1548 qs27 q70 q1549) hv_X4_refuse rfl ⟨Nat.le_of_ble_eq_true rfl, Nat.le_of_ble_eq_true rfl⟩ ⟨by omega, by omega⟩ rfl (Nat.le_of_ble_eq_true rfl)) (fun r26 w28 h27 => ?_)
        obtain ⟨hM27, r26e⟩ := h27
        rw [r26e]
        have hT27 := MT.ref hT (k := 5) (by decide)
        refine z_i2l (v := ((-5)).toInt64) X dX4_price_48 rfl ?_
        refine z_ladd (v := (-1000000000000) + (((-5)).toInt64)) X dX4_price_49 rfl ?_
        have e : spPrice o (nI zN) (nI nN) = ((-1000000000000) + (((-5)).toInt64), oRef o 5) := by
          unfold spPrice
          repeat (first | rw [el_some (by assumption)] | rw [el_none (by assumption)] | rw [if_pos (by omega)] | rw [if_neg (by omega)] | rw [if_pos (by assumption)] | rw [if_neg (ts_n (by assumption))])
          all_goals first | rfl | (exfalso; omega)
        exact z_lret X dX4_price_50 (by omega) (by omega) ⟨_, rfl, (by rw [e]; exact ⟨_, TrQ.ofb hTr hM0 hM27, hT27, rfl⟩)⟩
    · have e4 : rgb 0 24 n = none := rgb_f c5
      refine z_ldc2 X dX4_price_19 q1780 ?_
      refine z_aload_n X dX4_price_22 rfl 0 rfl ?_
      refine z_bipush (v := (-2)) X dX4_price_23 (by decide) ?_
      refine z_ci (z_runV (rest := [.long ((-1000000000000))]) (n := 1) X [.int ((-2))] (m_X4_refuse hM0 (k := 2) (by decide) (v := (-2)) rfl) dX4_price_25 (mm_o hM0) rfl (lw_V q1546 q1548 qs27 q70 q1549) hv_X4_refuse rfl ⟨Nat.le_of_ble_eq_true rfl, Nat.le_of_ble_eq_true rfl⟩ ⟨by omega, by omega⟩ rfl (Nat.le_of_ble_eq_true rfl)) (fun r29 w31 h30 => ?_)
      obtain ⟨hM30, r29e⟩ := h30
      rw [r29e]
      have hT30 := MT.ref hT (k := 2) (by decide)
      refine z_i2l (v := ((-2)).toInt64) X dX4_price_28 rfl ?_
      refine z_ladd (v := (-1000000000000) + (((-2)).toInt64)) X dX4_price_29 rfl ?_
      have e : spPrice o (nI zN) n = ((-1000000000000) + (((-2)).toInt64), oRef o 2) := by
        unfold spPrice
        repeat (first | rw [el_some (by assumption)] | rw [el_none (by assumption)] | rw [if_pos (by omega)] | rw [if_neg (by omega)] | rw [if_pos (by assumption)] | rw [if_neg (ts_n (by assumption))])
        all_goals first | rfl | (exfalso; omega)
      exact z_lret X dX4_price_30 (by omega) (by omega) ⟨_, rfl, (by rw [e]; exact ⟨_, TrQ.ofb hTr hM0 hM30, hT30, rfl⟩)⟩
set_option maxHeartbeats 2000000 in
theorem m_X4_brings {l : Launch} {G : GG} {wb w : GW} {ad : Nat → Nat} {m : MSt} (hM : MM G wb w ad m) {o : OS} (hT : MT o m) (hO : oInv o) {am : Nat → Nat} {t : Bool} (hTr : TrO G w ad m 19 am t) {k n : Int32} : gM l G yX4_brings cX4_brings 4 (some .long) 10 68 4751 [.ref (ad 0), .int (k), .int (n)] w (pL (fun r w1 => ∃ m2, TrQ G w ad m am t w1 m2 ∧ MT (spBrings o k n).2 m2 ∧ r = (spBrings o k n).1)) := by
  refine Z.met (own := "ThreeSizesModel") (nm := "brings") (lv := [(0, .ref (ad 0)), (1, .int (k)), (2, .int (n))]) (by decide) rfl rfl (Nat.le_of_ble_eq_true rfl) rfl (fun κ X => ?_)
  have hM0 := hM.1.mm
  have hI := hO.1
  have h6 := hI.2.1
  refine z_aload_n X dX4_brings_0 rfl 0 rfl ?_
  refine z_iload_n X dX4_brings_1 rfl 1 rfl ?_
  refine z_i2l (v := (k).toInt64) X dX4_brings_2 rfl ?_
  refine z_cip (z_runV (rest := []) (n := 1) X [.long ((k).toInt64)] (m_X4_isSortI hM0 hT.1 hI (v := k)) dX4_brings_3 (mm_o hM0) rfl (lw_V q1672 q1674 qs42 q70 q1675) hv_X4_isSort rfl ⟨Nat.le_of_ble_eq_true rfl, Nat.le_of_ble_eq_true rfl⟩ ⟨by omega, by omega⟩ rfl (Nat.le_of_ble_eq_true rfl)) ?_
  refine z_if_eq (tgt := 16) X dX4_brings_6 (by decide) bI_d (fun c1 => ?_) (fun c1 => ?_)
  · have e1 : rgn (o.1.2 0) k = none := rgn_f c1
    refine z_ldc2 X dX4_brings_16 q1780 ?_
    refine z_aload_n X dX4_brings_19 rfl 0 rfl ?_
    refine z_bipush (v := (-2)) X dX4_brings_20 (by decide) ?_
    refine z_ci (z_runV (rest := [.long ((-1000000000000))]) (n := 1) X [.int ((-2))] (m_X4_refuse hM0 (k := 2) (by decide) (v := (-2)) rfl) dX4_brings_22 (mm_o hM0) rfl (lw_V q1546 q1548 qs27 q70 q1549) hv_X4_refuse rfl ⟨Nat.le_of_ble_eq_true rfl, Nat.le_of_ble_eq_true rfl⟩ ⟨by omega, by omega⟩ rfl (Nat.le_of_ble_eq_true rfl)) (fun r2 w4 h3 => ?_)
    obtain ⟨hM3, r2e⟩ := h3
    rw [r2e]
    have hT3 := MT.ref hT (k := 2) (by decide)
    refine z_i2l (v := ((-2)).toInt64) X dX4_brings_25 rfl ?_
    refine z_ladd (v := (-1000000000000) + (((-2)).toInt64)) X dX4_brings_26 rfl ?_
    have e : spBrings o k n = ((-1000000000000) + (((-2)).toInt64), oRef o 2) := by
      unfold spBrings
      repeat (first | rw [el_some (by assumption)] | rw [el_none (by assumption)] | rw [if_pos (by omega)] | rw [if_neg (by omega)] | rw [if_pos (by assumption)] | rw [if_neg (ts_n (by assumption))])
      all_goals first | rfl | (exfalso; omega)
    exact z_lret X dX4_brings_27 (by omega) (by omega) ⟨_, rfl, (by rw [e]; exact ⟨_, TrQ.ofb hTr hM0 hM3, hT3, rfl⟩)⟩
  · have c1 := Classical.not_not.mp c1
    obtain ⟨kN, kNh, rfl, e2⟩ := rgn_t (n := o.1.2 0) (by omega) c1
    refine z_iload_n X dX4_brings_9 rfl 2 rfl ?_
    refine z_cip (z_runS (rest := []) (n := 1) X [.int (n)] (m_X4_areHours (v := n)) dX4_brings_10 (lw_S q1797 q1798 q70 q1799) hs_X4_areHours rfl ⟨Nat.le_of_ble_eq_true rfl, Nat.le_of_ble_eq_true rfl⟩ ⟨by omega, by omega⟩ rfl (Nat.le_of_ble_eq_true rfl)) ?_
    refine z_if_ne (tgt := 28) X dX4_brings_13 (by decide) bI_d (fun c5 => ?_) (fun c5 => ?_)
    · have c5 := Classical.not_not.mp c5
      obtain ⟨nN, nNl, nNh, rfl, e3⟩ := rgb_t (lo := 0) (hi := 24) (by decide) (by decide) (c5)
      refine z_aload_n X dX4_brings_28 rfl 0 rfl ?_
      refine z_ca (z_runV (rest := []) (n := 0) X [] (m_X4_fresh hM0 hTr) dX4_brings_29 (mm_o hM0) rfl (lw_V q1693 q1695 qs43 q70 q1696) hv_X4_fresh rfl ⟨Nat.le_of_ble_eq_true rfl, Nat.le_of_ble_eq_true rfl⟩ ⟨by omega, by omega⟩ rfl (Nat.le_of_ble_eq_true rfl)) (fun r6 w8 h7 => ?_)
      obtain ⟨at_, mA, mB, r6e, hQ⟩ := h7
      rw [r6e]
      obtain ⟨hA, hB, hd, hq4, hq5, hq6, hRQ, ⟨mt9, hTk⟩⟩ := id hQ
      have hTA : MT o mA := hT.RQ hRQ
      have hRB0 : MR o.1 mB := (hTk.mk hT.mk).1
      have hF0 : ∀ b, (∀ i, mP i = true → b ≠ ad i) → (∀ i, mP i = true → b ≠ at_ i) → w8 b = w8 b := fun _ _ _ => rfl
      have hr0 : mA.2.2.2.2 18 = mA.2.2.2.2 18 ∧ mA.2.2.2.2 19 = mA.2.2.2.2 19 := ⟨rfl, rfl⟩
      refine z_astore_n (lv2 := [(3, .ref (at_ 0)), (0, .ref (ad 0)), (1, .int (nI (kN))), (2, .int (nI (nN)))]) X dX4_brings_32 rfl (Nat.le_of_ble_eq_true rfl) rfl ?_
      refine z_aload_n X dX4_brings_33 rfl 0 rfl ?_
      refine z_mg14 X hB dX4_brings_34 ?_
      refine z_iload_n X dX4_brings_37 rfl 2 rfl ?_
      refine z_aN5 (v := .ref (at_ (50 + kN))) X dX4_brings_38 (mm_15 hB) (by omega) (by omega) rfl ?_
      refine z_iconst (v := nI (1)) X dX4_brings_39 ci1 ?_
      refine z_iconst (v := nI (0)) X dX4_brings_40 ci0 ?_
      refine z_mst (n := 4) (j := 1) X hB.1.mm (50 + kN) dX4_brings_41 (mP_50 (by omega)) (mK_50 (by omega)) (mLen_50 (by omega)) (by omega) (by omega) (fun u9 hM9 => ?_)
      have hs10 := hA.side hM9 hd
      have hf11 := fun b (x : ∀ i, mP i = true → b ≠ ad i) (y : ∀ i, mP i = true → b ≠ at_ i) => (hM9.2.1 b y).trans (hF0 b x y)
      have hW12 : MR (wPut o.1 4 kN 0) (mI mB (50 + kN) 1 (nI (0))) := hRB0.put4 (by omega)
      have hV13 : wInv (wPut o.1 4 kN 0) := wInv_zero hI
      refine z_aload_n X dX4_brings_42 rfl 1 rfl ?_
      refine z_iload_n X dX4_brings_43 rfl 3 rfl ?_
      refine z_cl (z_runV (rest := []) (n := 1) X [.int (nI (nN))] (m_X4_bestNow hs10.1.mm hTA.1 hI (n := nN) (by omega)) dX4_brings_44 (mm_o hs10) rfl (lw_V q1809 q1811 qs56 q70 q1812) hv_X4_bestNow rfl ⟨Nat.le_of_ble_eq_true rfl, Nat.le_of_ble_eq_true rfl⟩ ⟨by omega, by omega⟩ rfl (Nat.le_of_ble_eq_true rfl)) (fun r14 w16 h15 => ?_)
      obtain ⟨mv15, hM15, hQ15, r14e⟩ := h15
      rw [r14e]
      have hT15 := MT.KM hTA hQ15
      have hs17 := hM9.side hM15 (fun i j x y e => hd j i y x e.symm)
      have hf18 := fun b (x : ∀ i, mP i = true → b ≠ ad i) (y : ∀ i, mP i = true → b ≠ at_ i) => (hM15.2.1 b x).trans (hf11 b x y)
      have hr19 := And.intro ((hs10.refs hM15).1.trans hr0.1) ((hs10.refs hM15).2.trans hr0.2)
      refine z_aload_n X dX4_brings_47 rfl 0 rfl ?_
      refine z_iload_n X dX4_brings_48 rfl 3 rfl ?_
      refine z_cl (z_runV (rest := [.long (bestV o.1 nN)]) (n := 1) X [.int (nI (nN))] (m_X4_bestNow hs17.1.mm hW12 hV13 (n := nN) (by omega)) dX4_brings_49 (mm_o hs17) rfl (lw_V q1809 q1811 qs56 q70 q1812) hv_X4_bestNow rfl ⟨Nat.le_of_ble_eq_true rfl, Nat.le_of_ble_eq_true rfl⟩ ⟨by omega, by omega⟩ rfl (Nat.le_of_ble_eq_true rfl)) (fun r20 w22 h21 => ?_)
      obtain ⟨mv21, hM21, hQ21, r20e⟩ := h21
      rw [r20e]
      have hR21 := MR.KM hW12 hQ21
      have hs23 := hM15.side hM21 hd
      have hf24 := fun b (x : ∀ i, mP i = true → b ≠ ad i) (y : ∀ i, mP i = true → b ≠ at_ i) => (hM21.2.1 b y).trans (hf18 b x y)
      refine z_lsub (v := (bestV o.1 nN) - (bestV (wPut o.1 4 kN 0) nN)) X dX4_brings_52 rfl ?_
      have e : spBrings o (nI kN) (nI nN) = ((bestV o.1 nN) - (bestV (wPut o.1 4 kN 0) nN), o) := by
        unfold spBrings
        repeat (first | rw [el_some (by assumption)] | rw [el_none (by assumption)] | rw [if_pos (by omega)] | rw [if_neg (by omega)] | rw [if_pos (by assumption)] | rw [if_neg (ts_n (by assumption))])
        all_goals first | rfl | (exfalso; omega)
      exact z_lret X dX4_brings_53 (by omega) (by omega) ⟨_, rfl, (by rw [e]; exact ⟨_, TrQ.fin hQ hs23.1.mm hM21.1.mm hf24 hr19, hT15, rfl⟩)⟩
    · have e4 : rgb 0 24 n = none := rgb_f c5
      refine z_ldc2 X dX4_brings_16 q1780 ?_
      refine z_aload_n X dX4_brings_19 rfl 0 rfl ?_
      refine z_bipush (v := (-2)) X dX4_brings_20 (by decide) ?_
      refine z_ci (z_runV (rest := [.long ((-1000000000000))]) (n := 1) X [.int ((-2))] (m_X4_refuse hM0 (k := 2) (by decide) (v := (-2)) rfl) dX4_brings_22 (mm_o hM0) rfl (lw_V q1546 q1548 qs27 q70 q1549) hv_X4_refuse rfl ⟨Nat.le_of_ble_eq_true rfl, Nat.le_of_ble_eq_true rfl⟩ ⟨by omega, by omega⟩ rfl (Nat.le_of_ble_eq_true rfl)) (fun r25 w27 h26 => ?_)
      obtain ⟨hM26, r25e⟩ := h26
      rw [r25e]
      have hT26 := MT.ref hT (k := 2) (by decide)
      refine z_i2l (v := ((-2)).toInt64) X dX4_brings_25 rfl ?_
      refine z_ladd (v := (-1000000000000) + (((-2)).toInt64)) X dX4_brings_26 rfl ?_
      have e : spBrings o (nI kN) n = ((-1000000000000) + (((-2)).toInt64), oRef o 2) := by
        unfold spBrings
        repeat (first | rw [el_some (by assumption)] | rw [el_none (by assumption)] | rw [if_pos (by omega)] | rw [if_neg (by omega)] | rw [if_pos (by assumption)] | rw [if_neg (ts_n (by assumption))])
        all_goals first | rfl | (exfalso; omega)
      exact z_lret X dX4_brings_27 (by omega) (by omega) ⟨_, rfl, (by rw [e]; exact ⟨_, TrQ.ofb hTr hM0 hM26, hT26, rfl⟩)⟩
set_option maxHeartbeats 2000000 in
theorem m_X4_board {l : Launch} {G : GG} {wb w : GW} {ad : Nat → Nat} {m : MSt} (hM : MM G wb w ad m) {o : OS} (hT : MT o m) (hO : oInv o) {am : Nat → Nat} {t : Bool} (hTr : TrO G w ad m 19 am t) {n : Int32} : gM l G yX4_board cX4_board 3 (some .long) 10 68 4751 [.ref (ad 0), .int (n)] w (pL (fun r w1 => ∃ m2, TrQ G w ad m am t w1 m2 ∧ MT (spBoard o n).2 m2 ∧ r = (spBoard o n).1)) := by
  refine Z.met (own := "ThreeSizesModel") (nm := "board") (lv := [(0, .ref (ad 0)), (1, .int (n))]) (by decide) rfl rfl (Nat.le_of_ble_eq_true rfl) rfl (fun κ X => ?_)
  have hM0 := hM.1.mm
  have hI := hO.1
  have h6 := hI.2.1
  have hz := hI.1 2 (by omega)
  have hz0 := hI.1 0 (by omega)
  refine z_iload_n X dX4_board_0 rfl 1 rfl ?_
  refine z_cip (z_runS (rest := []) (n := 1) X [.int (n)] (m_X4_areHours (v := n)) dX4_board_1 (lw_S q1797 q1798 q70 q1799) hs_X4_areHours rfl ⟨Nat.le_of_ble_eq_true rfl, Nat.le_of_ble_eq_true rfl⟩ ⟨by omega, by omega⟩ rfl (Nat.le_of_ble_eq_true rfl)) ?_
  refine z_if_ne (tgt := 19) X dX4_board_4 (by decide) bI_d (fun c1 => ?_) (fun c1 => ?_)
  · have c1 := Classical.not_not.mp c1
    obtain ⟨nN, nNl, nNh, rfl, e1⟩ := rgb_t (lo := 0) (hi := 24) (by decide) (by decide) (c1)
    refine z_aload_n X dX4_board_19 rfl 0 rfl ?_
    refine z_iconst (v := nI (2)) X dX4_board_20 ci2 ?_
    refine z_cip (z_runV (rest := []) (n := 1) X [.int (nI (2))] (m_X4_isFree hM0 hT.1 hI (z := 2) (by omega)) dX4_board_21 (mm_o hM0) rfl (lw_V q1870 q1872 qs61 q70 q1873) hv_X4_isFree rfl ⟨Nat.le_of_ble_eq_true rfl, Nat.le_of_ble_eq_true rfl⟩ ⟨by omega, by omega⟩ rfl (Nat.le_of_ble_eq_true rfl)) ?_
    refine z_if_ne (tgt := 39) X dX4_board_24 (by decide) bI_d (fun c2 => ?_) (fun c2 => ?_)
    · have c2 := Classical.not_not.mp c2
      refine z_aload_n X dX4_board_39 rfl 0 rfl ?_
      refine z_ca (z_runV (rest := []) (n := 0) X [] (m_X4_fresh hM0 hTr) dX4_board_40 (mm_o hM0) rfl (lw_V q1693 q1695 qs43 q70 q1696) hv_X4_fresh rfl ⟨Nat.le_of_ble_eq_true rfl, Nat.le_of_ble_eq_true rfl⟩ ⟨by omega, by omega⟩ rfl (Nat.le_of_ble_eq_true rfl)) (fun r3 w5 h4 => ?_)
      obtain ⟨at_, mA, mB, r3e, hQ⟩ := h4
      rw [r3e]
      obtain ⟨hA, hB, hd, hq4, hq5, hq6, hRQ, ⟨mt9, hTk⟩⟩ := id hQ
      have hTA : MT o mA := hT.RQ hRQ
      have hRB0 : MR o.1 mB := (hTk.mk hT.mk).1
      have hF0 : ∀ b, (∀ i, mP i = true → b ≠ ad i) → (∀ i, mP i = true → b ≠ at_ i) → w5 b = w5 b := fun _ _ _ => rfl
      have hr0 : mA.2.2.2.2 18 = mA.2.2.2.2 18 ∧ mA.2.2.2.2 19 = mA.2.2.2.2 19 := ⟨rfl, rfl⟩
      refine z_astore_n (lv2 := [(2, .ref (at_ 0)), (0, .ref (ad 0)), (1, .int (nI (nN)))]) X dX4_board_43 rfl (Nat.le_of_ble_eq_true rfl) rfl ?_
      refine z_aload_n X dX4_board_44 rfl 0 rfl ?_
      refine z_mg10 X hB dX4_board_45 ?_
      refine z_iconst (v := nI (2)) X dX4_board_48 ci2 ?_
      refine z_dup2 X dX4_board_49 rfl rfl ?_
      refine z_iaN (v := nI (o.1.1 0 2)) X dX4_board_50 (mm_11 hB) (by omega) (by omega) (hRB0.1 2 (by omega)).1 ?_
      refine z_iconst (v := nI (1)) X dX4_board_51 ci1 ?_
      refine z_isub (v := nI (o.1.1 0 2 - 1)) X dX4_board_52 (pk_sub (by omega)) ?_
      refine z_mst (n := 3) (j := 2) X hB.1.mm 11 dX4_board_53 rfl rfl rfl (by omega) (by omega) (fun u6 hM6 => ?_)
      have hs7 := hA.side hM6 hd
      have hf8 := fun b (x : ∀ i, mP i = true → b ≠ ad i) (y : ∀ i, mP i = true → b ≠ at_ i) => (hM6.2.1 b y).trans (hF0 b x y)
      have hW9 : MR (wPut o.1 0 2 (o.1.1 0 2 - 1)) (mI mB 11 2 (nI (o.1.1 0 2 - 1))) := hRB0.put (f := 0) (by decide) (by omega)
      have hV10 : wInv (wPut o.1 0 2 (o.1.1 0 2 - 1)) := wInv_box hI (by omega) (by omega)
      refine z_aload_n X dX4_board_54 rfl 0 rfl ?_
      refine z_mg10 X hM6 dX4_board_55 ?_
      refine z_iconst (v := nI (0)) X dX4_board_58 ci0 ?_
      refine z_aload_n X dX4_board_59 rfl 1 rfl ?_
      refine z_mg10 X hs7 dX4_board_60 ?_
      refine z_iconst (v := nI (0)) X dX4_board_63 ci0 ?_
      refine z_iaN (v := nI (o.1.1 0 0)) X dX4_board_64 (mm_11 hs7) (by omega) (by omega) (hTA.1.1 0 (by omega)).1 ?_
      refine z_iconst (v := nI (1)) X dX4_board_65 ci1 ?_
      refine z_icmp_le (tgt := 73) X dX4_board_66 (by decide) (nI_leI (by omega) (by omega)) (fun c11 => ?_) (fun c11 => ?_)
      · refine z_aload_n X dX4_board_73 rfl 1 rfl ?_
        refine z_mg10 X hs7 dX4_board_74 ?_
        refine z_iconst (v := nI (0)) X dX4_board_77 ci0 ?_
        refine z_iaN (v := nI (o.1.1 0 0)) X dX4_board_78 (mm_11 hs7) (by omega) (by omega) (hTA.1.1 0 (by omega)).1 ?_
        refine z_iconst (v := nI (3)) X dX4_board_79 ci3 ?_
        refine z_iadd (v := nI (o.1.1 0 0 + 3)) X dX4_board_80 (nI_add _ _) ?_
        refine z_mst (n := 3) (j := 0) X hM6.1.mm 11 dX4_board_81 rfl rfl rfl (by omega) (by omega) (fun u12 hM12 => ?_)
        have hs13 := hs7.side hM12 hd
        have hf14 := fun b (x : ∀ i, mP i = true → b ≠ ad i) (y : ∀ i, mP i = true → b ≠ at_ i) => (hM12.2.1 b y).trans (hf8 b x y)
        have hW15 : MR (wPut (wPut o.1 0 2 (o.1.1 0 2 - 1)) 0 0 (o.1.1 0 0 + 3)) (mI (mI mB 11 2 (nI (o.1.1 0 2 - 1))) 11 0 (nI (o.1.1 0 0 + 3))) := hW9.put (f := 0) (by decide) (by omega)
        have hV16 : wInv (wPut (wPut o.1 0 2 (o.1.1 0 2 - 1)) 0 0 (o.1.1 0 0 + 3)) := wInv_box hV10 (by rw [wPut_oth (by decide)]; omega) (by omega)
        refine z_aload_n X dX4_board_82 rfl 0 rfl ?_
        refine z_iload_n X dX4_board_83 rfl 2 rfl ?_
        refine z_cl (z_runV (rest := []) (n := 1) X [.int (nI (nN))] (m_X4_bestNow hM12.1.mm hW15 hV16 (n := nN) (by omega)) dX4_board_84 (mm_o hM12) rfl (lw_V q1809 q1811 qs56 q70 q1812) hv_X4_bestNow rfl ⟨Nat.le_of_ble_eq_true rfl, Nat.le_of_ble_eq_true rfl⟩ ⟨by omega, by omega⟩ rfl (Nat.le_of_ble_eq_true rfl)) (fun r17 w19 h18 => ?_)
        obtain ⟨mv18, hM18, hQ18, r17e⟩ := h18
        rw [r17e]
        have hR18 := MR.KM hW15 hQ18
        have hs20 := hs13.side hM18 hd
        have hf21 := fun b (x : ∀ i, mP i = true → b ≠ ad i) (y : ∀ i, mP i = true → b ≠ at_ i) => (hM18.2.1 b y).trans (hf14 b x y)
        refine z_aload_n X dX4_board_87 rfl 1 rfl ?_
        refine z_iload_n X dX4_board_88 rfl 2 rfl ?_
        refine z_cl (z_runV (rest := [.long (bestV (wPut (wPut o.1 0 2 (o.1.1 0 2 - 1)) 0 0 (o.1.1 0 0 + 3)) nN)]) (n := 1) X [.int (nI (nN))] (m_X4_bestNow hs20.1.mm hTA.1 hI (n := nN) (by omega)) dX4_board_89 (mm_o hs20) rfl (lw_V q1809 q1811 qs56 q70 q1812) hv_X4_bestNow rfl ⟨Nat.le_of_ble_eq_true rfl, Nat.le_of_ble_eq_true rfl⟩ ⟨by omega, by omega⟩ rfl (Nat.le_of_ble_eq_true rfl)) (fun r22 w24 h23 => ?_)
        obtain ⟨mv23, hM23, hQ23, r22e⟩ := h23
        rw [r22e]
        have hT23 := MT.KM hTA hQ23
        have hs25 := hM18.side hM23 (fun i j x y e => hd j i y x e.symm)
        have hf26 := fun b (x : ∀ i, mP i = true → b ≠ ad i) (y : ∀ i, mP i = true → b ≠ at_ i) => (hM23.2.1 b x).trans (hf21 b x y)
        have hr27 := And.intro ((hs20.refs hM23).1.trans hr0.1) ((hs20.refs hM23).2.trans hr0.2)
        refine z_lsub (v := (bestV (wPut (wPut o.1 0 2 (o.1.1 0 2 - 1)) 0 0 (o.1.1 0 0 + 3)) nN) - (bestV o.1 nN)) X dX4_board_92 rfl ?_
        have eb : brd o.1 = o.1.1 0 0 + 3 := if_neg (by omega)
        have e : spBoard o (nI nN) = ((bestV (wPut (wPut o.1 0 2 (o.1.1 0 2 - 1)) 0 0 (o.1.1 0 0 + 3)) nN) - (bestV o.1 nN), o) := by
          unfold spBoard
          rw [el_some (by assumption), if_pos (by assumption)]
          unfold wBoard
          rw [eb]
        exact z_lret X dX4_board_93 (by omega) (by omega) ⟨_, rfl, (by rw [e]; exact ⟨_, TrQ.fin hQ hM23.1.mm hs25.1.mm hf26 hr27, hT23, rfl⟩)⟩
      · refine z_iconst (v := nI (4)) X dX4_board_69 ci4 ?_
        refine z_goto (tgt := 81) X dX4_board_70 (by decide) ?_
        refine z_mst (n := 3) (j := 0) X hM6.1.mm 11 dX4_board_81 rfl rfl rfl (by omega) (by omega) (fun u28 hM28 => ?_)
        have hs29 := hs7.side hM28 hd
        have hf30 := fun b (x : ∀ i, mP i = true → b ≠ ad i) (y : ∀ i, mP i = true → b ≠ at_ i) => (hM28.2.1 b y).trans (hf8 b x y)
        have hW31 : MR (wPut (wPut o.1 0 2 (o.1.1 0 2 - 1)) 0 0 4) (mI (mI mB 11 2 (nI (o.1.1 0 2 - 1))) 11 0 (nI (4))) := hW9.put (f := 0) (by decide) (by omega)
        have hV32 : wInv (wPut (wPut o.1 0 2 (o.1.1 0 2 - 1)) 0 0 4) := wInv_box hV10 (by rw [wPut_oth (by decide)]; omega) (by omega)
        refine z_aload_n X dX4_board_82 rfl 0 rfl ?_
        refine z_iload_n X dX4_board_83 rfl 2 rfl ?_
        refine z_cl (z_runV (rest := []) (n := 1) X [.int (nI (nN))] (m_X4_bestNow hM28.1.mm hW31 hV32 (n := nN) (by omega)) dX4_board_84 (mm_o hM28) rfl (lw_V q1809 q1811 qs56 q70 q1812) hv_X4_bestNow rfl ⟨Nat.le_of_ble_eq_true rfl, Nat.le_of_ble_eq_true rfl⟩ ⟨by omega, by omega⟩ rfl (Nat.le_of_ble_eq_true rfl)) (fun r33 w35 h34 => ?_)
        obtain ⟨mv34, hM34, hQ34, r33e⟩ := h34
        rw [r33e]
        have hR34 := MR.KM hW31 hQ34
        have hs36 := hs29.side hM34 hd
        have hf37 := fun b (x : ∀ i, mP i = true → b ≠ ad i) (y : ∀ i, mP i = true → b ≠ at_ i) => (hM34.2.1 b y).trans (hf30 b x y)
        refine z_aload_n X dX4_board_87 rfl 1 rfl ?_
        refine z_iload_n X dX4_board_88 rfl 2 rfl ?_
        refine z_cl (z_runV (rest := [.long (bestV (wPut (wPut o.1 0 2 (o.1.1 0 2 - 1)) 0 0 4) nN)]) (n := 1) X [.int (nI (nN))] (m_X4_bestNow hs36.1.mm hTA.1 hI (n := nN) (by omega)) dX4_board_89 (mm_o hs36) rfl (lw_V q1809 q1811 qs56 q70 q1812) hv_X4_bestNow rfl ⟨Nat.le_of_ble_eq_true rfl, Nat.le_of_ble_eq_true rfl⟩ ⟨by omega, by omega⟩ rfl (Nat.le_of_ble_eq_true rfl)) (fun r38 w40 h39 => ?_)
        obtain ⟨mv39, hM39, hQ39, r38e⟩ := h39
        rw [r38e]
        have hT39 := MT.KM hTA hQ39
        have hs41 := hM34.side hM39 (fun i j x y e => hd j i y x e.symm)
        have hf42 := fun b (x : ∀ i, mP i = true → b ≠ ad i) (y : ∀ i, mP i = true → b ≠ at_ i) => (hM39.2.1 b x).trans (hf37 b x y)
        have hr43 := And.intro ((hs36.refs hM39).1.trans hr0.1) ((hs36.refs hM39).2.trans hr0.2)
        refine z_lsub (v := (bestV (wPut (wPut o.1 0 2 (o.1.1 0 2 - 1)) 0 0 4) nN) - (bestV o.1 nN)) X dX4_board_92 rfl ?_
        have eb : brd o.1 = 4 := if_pos (by omega)
        have e : spBoard o (nI nN) = ((bestV (wPut (wPut o.1 0 2 (o.1.1 0 2 - 1)) 0 0 4) nN) - (bestV o.1 nN), o) := by
          unfold spBoard
          rw [el_some (by assumption), if_pos (by assumption)]
          unfold wBoard
          rw [eb]
        exact z_lret X dX4_board_93 (by omega) (by omega) ⟨_, rfl, (by rw [e]; exact ⟨_, TrQ.fin hQ hM39.1.mm hs41.1.mm hf42 hr43, hT39, rfl⟩)⟩
    · refine z_ldc2 X dX4_board_27 q1780 ?_
      refine z_aload_n X dX4_board_30 rfl 0 rfl ?_
      refine z_bipush (v := (-5)) X dX4_board_31 (by decide) ?_
      refine z_ci (z_runV (rest := [.long ((-1000000000000))]) (n := 1) X [.int ((-5))] (m_X4_refuse hM0 (k := 5) (by decide) (v := (-5)) rfl) dX4_board_33 (mm_o hM0) rfl (lw_V q1546 q1548 qs27 q70 q1549) hv_X4_refuse rfl ⟨Nat.le_of_ble_eq_true rfl, Nat.le_of_ble_eq_true rfl⟩ ⟨by omega, by omega⟩ rfl (Nat.le_of_ble_eq_true rfl)) (fun r44 w46 h45 => ?_)
      obtain ⟨hM45, r44e⟩ := h45
      rw [r44e]
      have hT45 := MT.ref hT (k := 5) (by decide)
      refine z_i2l (v := ((-5)).toInt64) X dX4_board_36 rfl ?_
      refine z_ladd (v := (-1000000000000) + (((-5)).toInt64)) X dX4_board_37 rfl ?_
      have e : spBoard o (nI nN) = ((-1000000000000) + (((-5)).toInt64), oRef o 5) := by
        unfold spBoard
        repeat (first | rw [el_some (by assumption)] | rw [el_none (by assumption)] | rw [if_pos (by omega)] | rw [if_neg (by omega)] | rw [if_pos (by assumption)] | rw [if_neg (ts_n (by assumption))])
        all_goals first | rfl | (exfalso; omega)
      exact z_lret X dX4_board_38 (by omega) (by omega) ⟨_, rfl, (by rw [e]; exact ⟨_, TrQ.ofb hTr hM0 hM45, hT45, rfl⟩)⟩
  · have e2 : rgb 0 24 n = none := rgb_f c1
    refine z_ldc2 X dX4_board_7 q1780 ?_
    refine z_aload_n X dX4_board_10 rfl 0 rfl ?_
    refine z_bipush (v := (-2)) X dX4_board_11 (by decide) ?_
    refine z_ci (z_runV (rest := [.long ((-1000000000000))]) (n := 1) X [.int ((-2))] (m_X4_refuse hM0 (k := 2) (by decide) (v := (-2)) rfl) dX4_board_13 (mm_o hM0) rfl (lw_V q1546 q1548 qs27 q70 q1549) hv_X4_refuse rfl ⟨Nat.le_of_ble_eq_true rfl, Nat.le_of_ble_eq_true rfl⟩ ⟨by omega, by omega⟩ rfl (Nat.le_of_ble_eq_true rfl)) (fun r47 w49 h48 => ?_)
    obtain ⟨hM48, r47e⟩ := h48
    rw [r47e]
    have hT48 := MT.ref hT (k := 2) (by decide)
    refine z_i2l (v := ((-2)).toInt64) X dX4_board_16 rfl ?_
    refine z_ladd (v := (-1000000000000) + (((-2)).toInt64)) X dX4_board_17 rfl ?_
    have e : spBoard o n = ((-1000000000000) + (((-2)).toInt64), oRef o 2) := by
      unfold spBoard
      repeat (first | rw [el_some (by assumption)] | rw [el_none (by assumption)] | rw [if_pos (by omega)] | rw [if_neg (by omega)] | rw [if_pos (by assumption)] | rw [if_neg (ts_n (by assumption))])
      all_goals first | rfl | (exfalso; omega)
    exact z_lret X dX4_board_18 (by omega) (by omega) ⟨_, rfl, (by rw [e]; exact ⟨_, TrQ.ofb hTr hM0 hM48, hT48, rfl⟩)⟩
set_option maxHeartbeats 2000000 in
theorem m_X4_feast {l : Launch} {G : GG} {wb w : GW} {ad : Nat → Nat} {m : MSt} (hM : MM G wb w ad m) {o : OS} (hT : MT o m) (hO : oInv o) {am : Nat → Nat} {t : Bool} (hTr : TrO G w ad m 19 am t) {k n : Int32} : gM l G yX4_feast cX4_feast 5 (some .long) 10 68 4751 [.ref (ad 0), .int (k), .int (n)] w (pL (fun r w1 => ∃ m2, TrQ G w ad m am t w1 m2 ∧ MT (spFeast o k n).2 m2 ∧ r = (spFeast o k n).1)) := by
  refine Z.met (own := "ThreeSizesModel") (nm := "feast") (lv := [(0, .ref (ad 0)), (1, .int (k)), (2, .int (n))]) (by decide) rfl rfl (Nat.le_of_ble_eq_true rfl) rfl (fun κ X => ?_)
  have hM0 := hM.1.mm
  have hI := hO.1
  have h6 := hI.2.1
  refine z_iload_n X dX4_feast_0 rfl 1 rfl ?_
  refine z_i2l (v := (k).toInt64) X dX4_feast_1 rfl ?_
  refine z_lconst (v := lN 0) X dX4_feast_2 cl0 ?_
  refine z_ldc2 X dX4_feast_3 q1910 ?_
  refine z_cip (z_runS (rest := []) (n := 3) X [.long ((k).toInt64), .long (lN (0)), .long ((50))] m_X4_in dX4_feast_6 (lw_S q1541 q1542 q70 q1543) hs_X4_in rfl ⟨Nat.le_of_ble_eq_true rfl, Nat.le_of_ble_eq_true rfl⟩ ⟨by omega, by omega⟩ rfl (Nat.le_of_ble_eq_true rfl)) ?_
  refine z_if_eq (tgt := 19) X dX4_feast_9 (by decide) bI_d (fun c1 => ?_) (fun c1 => ?_)
  · have e1 : rgb 0 50 k = none := rgb_f (fun q => c1 ((in32 (lo := nI 0) (hi := nI 50)).mpr q))
    refine z_ldc2 X dX4_feast_19 q1780 ?_
    refine z_aload_n X dX4_feast_22 rfl 0 rfl ?_
    refine z_bipush (v := (-2)) X dX4_feast_23 (by decide) ?_
    refine z_ci (z_runV (rest := [.long ((-1000000000000))]) (n := 1) X [.int ((-2))] (m_X4_refuse hM0 (k := 2) (by decide) (v := (-2)) rfl) dX4_feast_25 (mm_o hM0) rfl (lw_V q1546 q1548 qs27 q70 q1549) hv_X4_refuse rfl ⟨Nat.le_of_ble_eq_true rfl, Nat.le_of_ble_eq_true rfl⟩ ⟨by omega, by omega⟩ rfl (Nat.le_of_ble_eq_true rfl)) (fun r2 w4 h3 => ?_)
    obtain ⟨hM3, r2e⟩ := h3
    rw [r2e]
    have hT3 := MT.ref hT (k := 2) (by decide)
    refine z_i2l (v := ((-2)).toInt64) X dX4_feast_28 rfl ?_
    refine z_ladd (v := (-1000000000000) + (((-2)).toInt64)) X dX4_feast_29 rfl ?_
    have e : spFeast o k n = ((-1000000000000) + (((-2)).toInt64), oRef o 2) := by
      unfold spFeast
      repeat (first | rw [el_some (by assumption)] | rw [el_none (by assumption)] | rw [if_pos (by omega)] | rw [if_neg (by omega)] | rw [if_pos (by assumption)] | rw [if_neg (ts_n (by assumption))])
      all_goals first | rfl | (exfalso; omega)
    exact z_lret X dX4_feast_30 (by omega) (by omega) ⟨_, rfl, (by rw [e]; exact ⟨_, TrQ.ofb hTr hM0 hM3, hT3, rfl⟩)⟩
  · have c1 := Classical.not_not.mp c1
    obtain ⟨kN, kNl, kNh, rfl, e2⟩ := rgb_t (lo := 0) (hi := 50) (by decide) (by decide) ((in32 (lo := nI 0) (hi := nI 50)).mp c1)
    refine z_iload_n X dX4_feast_12 rfl 2 rfl ?_
    refine z_cip (z_runS (rest := []) (n := 1) X [.int (n)] (m_X4_areHours (v := n)) dX4_feast_13 (lw_S q1797 q1798 q70 q1799) hs_X4_areHours rfl ⟨Nat.le_of_ble_eq_true rfl, Nat.le_of_ble_eq_true rfl⟩ ⟨by omega, by omega⟩ rfl (Nat.le_of_ble_eq_true rfl)) ?_
    refine z_if_ne (tgt := 31) X dX4_feast_16 (by decide) bI_d (fun c5 => ?_) (fun c5 => ?_)
    · have c5 := Classical.not_not.mp c5
      obtain ⟨nN, nNl, nNh, rfl, e3⟩ := rgb_t (lo := 0) (hi := 24) (by decide) (by decide) (c5)
      have hmul : kN * o.1.2 0 ≤ 50 * 6 := Nat.mul_le_mul (by omega) h6
      have hs4 := hI.2.2.2.1
      refine z_aload_n X dX4_feast_31 rfl 0 rfl ?_
      refine z_cip (z_runV (rest := []) (n := 0) X [] (m_X4_comes hM0 hT.1 hI) dX4_feast_32 (mm_o hM0) rfl (lw_V q1616 q1618 qs34 q70 q1619) hv_X4_comes rfl ⟨Nat.le_of_ble_eq_true rfl, Nat.le_of_ble_eq_true rfl⟩ ⟨by omega, by omega⟩ rfl (Nat.le_of_ble_eq_true rfl)) ?_
      refine z_iload_n X dX4_feast_35 rfl 1 rfl ?_
      refine z_aload_n X dX4_feast_36 rfl 0 rfl ?_
      refine z_mgv13 X hM0 dX4_feast_37 hT.1.2.1 ?_
      refine z_imul (v := nI (kN * (o.1.2 0))) X dX4_feast_40 (pk_mul _ _) ?_
      refine z_iadd (v := nI (sumTo (o.1.1 4) (o.1.2 0) + (kN * (o.1.2 0)))) X dX4_feast_41 (nI_add _ _) ?_
      refine z_bipush (v := nI (100)) X dX4_feast_42 (by decide) ?_
      refine z_icmp_le (tgt := 59) X dX4_feast_44 (by decide) (nI_leI (by omega) (by omega)) (fun c6 => ?_) (fun c6 => ?_)
      · refine z_aload_n X dX4_feast_59 rfl 0 rfl ?_
        refine z_ca (z_runV (rest := []) (n := 0) X [] (m_X4_fresh hM0 hTr) dX4_feast_60 (mm_o hM0) rfl (lw_V q1693 q1695 qs43 q70 q1696) hv_X4_fresh rfl ⟨Nat.le_of_ble_eq_true rfl, Nat.le_of_ble_eq_true rfl⟩ ⟨by omega, by omega⟩ rfl (Nat.le_of_ble_eq_true rfl)) (fun r7 w9 h8 => ?_)
        obtain ⟨at_, mA, mB, r7e, hQ⟩ := h8
        rw [r7e]
        obtain ⟨hA, hB, hd, hq4, hq5, hq6, hRQ, ⟨mt9, hTk⟩⟩ := id hQ
        have hTA : MT o mA := hT.RQ hRQ
        have hRB0 : MR o.1 mB := (hTk.mk hT.mk).1
        have hF0 : ∀ b, (∀ i, mP i = true → b ≠ ad i) → (∀ i, mP i = true → b ≠ at_ i) → w9 b = w9 b := fun _ _ _ => rfl
        have hr0 : mA.2.2.2.2 18 = mA.2.2.2.2 18 ∧ mA.2.2.2.2 19 = mA.2.2.2.2 19 := ⟨rfl, rfl⟩
        refine z_astore_n (lv2 := [(3, .ref (at_ 0)), (0, .ref (ad 0)), (1, .int (nI (kN))), (2, .int (nI (nN)))]) X dX4_feast_63 rfl (Nat.le_of_ble_eq_true rfl) rfl ?_
        refine z_iconst (v := nI (0)) X dX4_feast_64 ci0 ?_
        refine z_istore (lv2 := [(4, .int (nI (0))), (3, .ref (at_ 0)), (0, .ref (ad 0)), (1, .int (nI (kN))), (2, .int (nI (nN)))]) X dX4_feast_65 (Nat.le_of_ble_eq_true rfl) rfl ?_
        have lf : ∀ (lq i : Nat) (w2 : GW) (mt2 : MSt), i + lq = o.1.2 0 → MM G w2 w2 ad mA → MM G w2 w2 at_ mt2 → MR (wPl o.1 kN i) mt2 → (∀ b, (∀ i, mP i = true → b ≠ ad i) → (∀ i, mP i = true → b ≠ at_ i) → w2 b = w9 b) → Z κ w2 [(4, .int (nI (i))), (3, .ref (at_ 0)), (0, .ref (ad 0)), (1, .int (nI (kN))), (2, .int (nI (nN)))] 68 4751 67 [] := by
          intro lq
          induction lq with
          | zero =>
            intro i w2 mt2 lh hA2 hB2 hRB2 hF2
            obtain rfl : i = o.1.2 0 := by omega
            refine z_iload X dX4_feast_67 0 rfl ?_
            refine z_aload_n X dX4_feast_69 rfl 2 rfl ?_
            refine z_mgv13 X hA2 dX4_feast_70 hTA.1.2.1 ?_
            refine z_icmp_ge_t (tgt := 95) X dX4_feast_73 (by decide) ((nI_leI (by omega) (by omega)).mpr (by omega)) ?_
            have hIP := wInv_pl hI (k := kN) (by omega)
            refine z_aload_n X dX4_feast_95 rfl 1 rfl ?_
            refine z_iload_n X dX4_feast_96 rfl 4 rfl ?_
            refine z_cl (z_runV (rest := []) (n := 1) X [.int (nI (nN))] (m_X4_bestNow hB2.1.mm hRB2 hIP (n := nN) (by omega)) dX4_feast_97 (mm_o hB2) rfl (lw_V q1809 q1811 qs56 q70 q1812) hv_X4_bestNow rfl ⟨Nat.le_of_ble_eq_true rfl, Nat.le_of_ble_eq_true rfl⟩ ⟨by omega, by omega⟩ rfl (Nat.le_of_ble_eq_true rfl)) (fun r10 w12 h11 => ?_)
            obtain ⟨mv11, hM11, hQ11, r10e⟩ := h11
            rw [r10e]
            have hR11 := MR.KM hRB2 hQ11
            have hs13 := hA2.side hM11 hd
            have hf14 := fun b (x : ∀ i, mP i = true → b ≠ ad i) (y : ∀ i, mP i = true → b ≠ at_ i) => (hM11.2.1 b y).trans (hF2 b x y)
            refine z_aload_n X dX4_feast_100 rfl 2 rfl ?_
            refine z_iload_n X dX4_feast_101 rfl 4 rfl ?_
            refine z_cl (z_runV (rest := [.long (bestV (wPl o.1 kN (o.1.2 0)) nN)]) (n := 1) X [.int (nI (nN))] (m_X4_bestNow hs13.1.mm hTA.1 hI (n := nN) (by omega)) dX4_feast_102 (mm_o hs13) rfl (lw_V q1809 q1811 qs56 q70 q1812) hv_X4_bestNow rfl ⟨Nat.le_of_ble_eq_true rfl, Nat.le_of_ble_eq_true rfl⟩ ⟨by omega, by omega⟩ rfl (Nat.le_of_ble_eq_true rfl)) (fun r15 w17 h16 => ?_)
            obtain ⟨mv16, hM16, hQ16, r15e⟩ := h16
            rw [r15e]
            have hT16 := MT.KM hTA hQ16
            have hs18 := hM11.side hM16 (fun i j x y e => hd j i y x e.symm)
            have hf19 := fun b (x : ∀ i, mP i = true → b ≠ ad i) (y : ∀ i, mP i = true → b ≠ at_ i) => (hM16.2.1 b x).trans (hf14 b x y)
            have hr20 := And.intro ((hs13.refs hM16).1.trans hr0.1) ((hs13.refs hM16).2.trans hr0.2)
            refine z_lsub (v := (bestV (wPl o.1 kN (o.1.2 0)) nN) - (bestV o.1 nN)) X dX4_feast_105 rfl ?_
            have e : spFeast o (nI kN) (nI nN) = ((bestV (wPl o.1 kN (o.1.2 0)) nN) - (bestV o.1 nN), o) := by
              unfold spFeast
              repeat (first | rw [el_some (by assumption)] | rw [el_none (by assumption)] | rw [if_pos (by omega)] | rw [if_neg (by omega)] | rw [if_pos (by assumption)] | rw [if_neg (ts_n (by assumption))])
              all_goals first | rfl | (exfalso; omega)
            exact z_lret X dX4_feast_106 (by omega) (by omega) ⟨_, rfl, (by rw [e]; exact ⟨_, TrQ.fin hQ hM16.1.mm hs18.1.mm hf19 hr20, hT16, rfl⟩)⟩
          | succ lq ih =>
            intro i w2 mt2 lh hA2 hB2 hRB2 hF2
            refine z_iload X dX4_feast_67 0 rfl ?_
            refine z_aload_n X dX4_feast_69 rfl 2 rfl ?_
            refine z_mgv13 X hA2 dX4_feast_70 hTA.1.2.1 ?_
            refine z_icmp_ge_f (tgt := 95) X dX4_feast_73 (by decide) (fun h => absurd ((nI_leI (by omega) (by omega)).mp h) (by omega)) ?_
            refine z_aload_n X dX4_feast_76 rfl 1 rfl ?_
            refine z_mg14 X hB2 dX4_feast_77 ?_
            refine z_iload X dX4_feast_80 0 rfl ?_
            refine z_aN5 (v := .ref (at_ (50 + i))) X dX4_feast_82 (mm_15 hB2) (by omega) (by omega) rfl ?_
            refine z_iconst (v := nI (1)) X dX4_feast_83 ci1 ?_
            refine z_dup2 X dX4_feast_84 rfl rfl ?_
            refine z_iaN (v := nI (o.1.1 4 i)) X dX4_feast_85 (mmr_50 hB2 (by omega)) (by omega) (by omega) ((hRB2.2.2.1 i (by omega)).2.1.trans (congrArg nI wPl_at)) ?_
            refine z_iload_n X dX4_feast_86 rfl 3 rfl ?_
            refine z_iadd (v := nI (o.1.1 4 i + kN)) X dX4_feast_87 (nI_add _ _) ?_
            refine z_mst (n := 4) (j := 1) X hB2.1.mm (50 + i) dX4_feast_88 (mP_50 (by omega)) (mK_50 (by omega)) (mLen_50 (by omega)) (by omega) (by omega) (fun u21 hM21 => ?_)
            have hs22 := hA2.side hM21 hd
            have hf23 := fun b (x : ∀ i, mP i = true → b ≠ ad i) (y : ∀ i, mP i = true → b ≠ at_ i) => (hM21.2.1 b y).trans (hF2 b x y)
            have hW24 : MR (wPut (wPl o.1 kN i) 4 i (o.1.1 4 i + kN)) (mI mt2 (50 + i) 1 (nI (o.1.1 4 i + kN))) := hRB2.put4 (by omega)
            refine z_iinc (v := nI (i + 1)) (lv2 := [(4, .int (nI (i + 1))), (3, .ref (at_ 0)), (0, .ref (ad 0)), (1, .int (nI (kN))), (2, .int (nI (nN)))]) X dX4_feast_89 0 rfl (nI_1 _) (Nat.le_of_ble_eq_true rfl) rfl ?_
            refine z_goto (tgt := 67) X dX4_feast_92 (by decide) ?_
            have kk := ih (i + 1) _ _ (by omega) hs22.1.mm hM21.1.mm (wPl_1 ▸ hW24) hf23
            exact kk
        exact Z.up (a' := 68) (b' := 4751) (by omega) (by omega) (lf (o.1.2 0) 0 w9 mB (by omega) hA hB (wPl_0.symm ▸ hRB0) hF0)
      · refine z_ldc2 X dX4_feast_47 q1780 ?_
        refine z_aload_n X dX4_feast_50 rfl 0 rfl ?_
        refine z_bipush (v := (-5)) X dX4_feast_51 (by decide) ?_
        refine z_ci (z_runV (rest := [.long ((-1000000000000))]) (n := 1) X [.int ((-5))] (m_X4_refuse hM0 (k := 5) (by decide) (v := (-5)) rfl) dX4_feast_53 (mm_o hM0) rfl (lw_V q1546 q1548 qs27 q70 q1549) hv_X4_refuse rfl ⟨Nat.le_of_ble_eq_true rfl, Nat.le_of_ble_eq_true rfl⟩ ⟨by omega, by omega⟩ rfl (Nat.le_of_ble_eq_true rfl)) (fun r25 w27 h26 => ?_)
        obtain ⟨hM26, r25e⟩ := h26
        rw [r25e]
        have hT26 := MT.ref hT (k := 5) (by decide)
        refine z_i2l (v := ((-5)).toInt64) X dX4_feast_56 rfl ?_
        refine z_ladd (v := (-1000000000000) + (((-5)).toInt64)) X dX4_feast_57 rfl ?_
        have e : spFeast o (nI kN) (nI nN) = ((-1000000000000) + (((-5)).toInt64), oRef o 5) := by
          unfold spFeast
          repeat (first | rw [el_some (by assumption)] | rw [el_none (by assumption)] | rw [if_pos (by omega)] | rw [if_neg (by omega)] | rw [if_pos (by assumption)] | rw [if_neg (ts_n (by assumption))])
          all_goals first | rfl | (exfalso; omega)
        exact z_lret X dX4_feast_58 (by omega) (by omega) ⟨_, rfl, (by rw [e]; exact ⟨_, TrQ.ofb hTr hM0 hM26, hT26, rfl⟩)⟩
    · have e4 : rgb 0 24 n = none := rgb_f c5
      refine z_ldc2 X dX4_feast_19 q1780 ?_
      refine z_aload_n X dX4_feast_22 rfl 0 rfl ?_
      refine z_bipush (v := (-2)) X dX4_feast_23 (by decide) ?_
      refine z_ci (z_runV (rest := [.long ((-1000000000000))]) (n := 1) X [.int ((-2))] (m_X4_refuse hM0 (k := 2) (by decide) (v := (-2)) rfl) dX4_feast_25 (mm_o hM0) rfl (lw_V q1546 q1548 qs27 q70 q1549) hv_X4_refuse rfl ⟨Nat.le_of_ble_eq_true rfl, Nat.le_of_ble_eq_true rfl⟩ ⟨by omega, by omega⟩ rfl (Nat.le_of_ble_eq_true rfl)) (fun r28 w30 h29 => ?_)
      obtain ⟨hM29, r28e⟩ := h29
      rw [r28e]
      have hT29 := MT.ref hT (k := 2) (by decide)
      refine z_i2l (v := ((-2)).toInt64) X dX4_feast_28 rfl ?_
      refine z_ladd (v := (-1000000000000) + (((-2)).toInt64)) X dX4_feast_29 rfl ?_
      have e : spFeast o (nI kN) n = ((-1000000000000) + (((-2)).toInt64), oRef o 2) := by
        unfold spFeast
        repeat (first | rw [el_some (by assumption)] | rw [el_none (by assumption)] | rw [if_pos (by omega)] | rw [if_neg (by omega)] | rw [if_pos (by assumption)] | rw [if_neg (ts_n (by assumption))])
        all_goals first | rfl | (exfalso; omega)
      exact z_lret X dX4_feast_30 (by omega) (by omega) ⟨_, rfl, (by rw [e]; exact ⟨_, TrQ.ofb hTr hM0 hM29, hT29, rfl⟩)⟩
