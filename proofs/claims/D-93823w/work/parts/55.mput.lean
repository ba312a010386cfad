/-! THE MODEL: put -/
set_option maxRecDepth 100000
def wFull (S : WS) (st : Nat) : WS := wPut (wPut (wPut S 1 0 (S.1 0 0 - fr st 0)) 1 1 (S.1 0 1 - fr st 1)) 1 2 (S.1 0 2 - fr st 2)
def spPut (o : OS) (s t k : Int32) : Int32 × OS := plEl o s t k (bad o) fun a b n => if (thrTo o.1 (o.2.2.2.2.1 a) (o.2.2.2.2.1 b) n).1 = none then (nI (thrTo o.1 (o.2.2.2.2.1 a) (o.2.2.2.2.1 b) n).2.2, oW o (wFull o.1 (thrTo o.1 (o.2.2.2.2.1 a) (o.2.2.2.2.1 b) n).2.1)) else bad o 5
/-- a box more is full -/
theorem fr_sub {st z y : Nat} (hs : st < 125) (hz : z < 3) (hy : y < 3) (h : 0 < fr st z) : fr (st - pw5 z) y = if y = z then fr st y - 1 else fr st y := by
  rcases (show z = 0 ∨ z = 1 ∨ z = 2 by omega) with rfl | rfl | rfl <;> rcases (show y = 0 ∨ y = 1 ∨ y = 2 by omega) with rfl | rfl | rfl <;> simp only [fr, pw5_0, pw5_1, pw5_2] at h ⊢ <;> simp <;> omega
theorem isStP_sub {S : WS} {st z : Nat} (hs : isStP S st) (hz : z < 3) (h : 0 < fr st z) : isStP S (st - pw5 z) := by
  obtain ⟨a, b, c, d⟩ := hs
  refine ⟨by omega, ?_, ?_, ?_⟩ <;> rw [fr_sub a hz (by omega) h] <;> split <;> omega
theorem thrTo_st {S : WS} (h : wInv S) {g v : Nat → Int64} : ∀ n, isStP S (thrTo S g v n).2.1 := by
  intro n
  induction n with
  | zero => exact stOf_is h
  | succ n ih =>
    simp only [thrTo]
    unfold thrS
    by_cases q : (thrTo S g v n).1 = none
    · rw [if_pos q]
      by_cases q2 : lN 0 ≤ v n ∧ v n ≤ lN 2
      · obtain ⟨z, z1, z2, ze, z4⟩ := rgl_t (lo := 0) (hi := 2) (by decide) (by decide) q2
        rw [el_some (by rw [ze]; exact z4)]
        by_cases q3 : fitsB S (tnl (g n)) z (thrTo S g v n).2.1 = true
        · rw [if_pos q3]; exact isStP_sub ih (by omega) (fits_of q3).2
        · rw [if_neg q3]; exact ih
      · rw [el_none (rgl_f q2)]; exact ih
    · rw [if_neg q]; exact ih
set_option maxHeartbeats 2000000 in
theorem m_X4_put {l : Launch} {G : GG} {wb w : GW} {ad : Nat → Nat} {m : MSt} (hM : MM G wb w ad m) {o : OS} (hT : MT o m) (hO : oInv o) {s t k : Int32} : gM l G yX4_put cX4_put 6 (some .int) 5 0 0 [.ref (ad 0), .int (s), .int (t), .int (k)] w (pI (fun r w1 => ∃ m2, MM G wb w1 ad m2 ∧ MT (spPut o s t k).2 m2 ∧ r = (spPut o s t k).1)) := by
  refine Z.met (own := "ThreeSizesModel") (nm := "put") (lv := [(0, .ref (ad 0)), (1, .int (s)), (2, .int (t)), (3, .int (k))]) (by decide) rfl rfl (Nat.le_of_ble_eq_true rfl) rfl (fun κ X => ?_)
  have hI := hO.1
  have h6 := hI.2.1
  have ht200 := hO.2.2.2
  refine z_aload_n X dX4_put_0 rfl 0 rfl ?_
  refine z_iload_n X dX4_put_1 rfl 1 rfl ?_
  refine z_iload_n X dX4_put_2 rfl 2 rfl ?_
  refine z_iload_n X dX4_put_3 rfl 3 rfl ?_
  refine z_ci (z_runV (rest := []) (n := 3) X [.int (s), .int (t), .int (k)] (m_X4_noPlacing hM hT hO (s := s) (t := t) (k := k)) dX4_put_4 (mm_o hM) rfl (lw_V q1846 q1848 qs59 q70 q1849) hv_X4_noPlacing rfl ⟨Nat.le_of_ble_eq_true rfl, Nat.le_of_ble_eq_true rfl⟩ ⟨by omega, by omega⟩ rfl (Nat.le_of_ble_eq_true rfl)) (fun r1 w3 h2 => ?_)
  obtain ⟨mv2, hM2, hQ2⟩ := h2
  rcases hQ2 with ⟨c9, (rfl | rfl | rfl), rfl, hTp2, hpl⟩ | ⟨sN, tN, kN, hsN, htN, hkN, hkt, rfl, rfl, rfl, rfl, hTp2, hca, hpl⟩
  · skip
    refine z_istore (lv2 := [(4, .int ((-2))), (0, .ref (ad 0)), (1, .int (s)), (2, .int (t)), (3, .int (k))]) X dX4_put_7 (Nat.le_of_ble_eq_true rfl) rfl ?_
    refine z_iload X dX4_put_9 0 rfl ?_
    refine z_if_eq_f (tgt := 17) X dX4_put_11 (by decide) (by decide) ?_
    refine z_iload X dX4_put_14 0 rfl ?_
    have e : spPut o s t k = ((-2), oRef o 2) := by
      exact hpl _
    exact z_iret X dX4_put_16 (by omega) (by omega) ⟨_, rfl, (by rw [e]; exact ⟨_, hM2, hTp2, rfl⟩)⟩
  · skip
    refine z_istore (lv2 := [(4, .int ((-3))), (0, .ref (ad 0)), (1, .int (s)), (2, .int (t)), (3, .int (k))]) X dX4_put_7 (Nat.le_of_ble_eq_true rfl) rfl ?_
    refine z_iload X dX4_put_9 0 rfl ?_
    refine z_if_eq_f (tgt := 17) X dX4_put_11 (by decide) (by decide) ?_
    refine z_iload X dX4_put_14 0 rfl ?_
    have e : spPut o s t k = ((-3), oRef o 3) := by
      exact hpl _
    exact z_iret X dX4_put_16 (by omega) (by omega) ⟨_, rfl, (by rw [e]; exact ⟨_, hM2, hTp2, rfl⟩)⟩
  · skip
    refine z_istore (lv2 := [(4, .int ((-4))), (0, .ref (ad 0)), (1, .int (s)), (2, .int (t)), (3, .int (k))]) X dX4_put_7 (Nat.le_of_ble_eq_true rfl) rfl ?_
    refine z_iload X dX4_put_9 0 rfl ?_
    refine z_if_eq_f (tgt := 17) X dX4_put_11 (by decide) (by decide) ?_
    refine z_iload X dX4_put_14 0 rfl ?_
    have e : spPut o s t k = ((-4), oRef o 4) := by
      exact hpl _
    exact z_iret X dX4_put_16 (by omega) (by omega) ⟨_, rfl, (by rw [e]; exact ⟨_, hM2, hTp2, rfl⟩)⟩
  · skip
    refine z_istore (lv2 := [(4, .int (nI (0))), (0, .ref (ad 0)), (1, .int (nI (sN))), (2, .int (nI (tN))), (3, .int (nI (kN)))]) X dX4_put_7 (Nat.le_of_ble_eq_true rfl) rfl ?_
    refine z_iload X dX4_put_9 0 rfl ?_
    refine z_if_eq_t (tgt := 17) X dX4_put_11 (by decide) (by decide) ?_
    refine z_aload_n X dX4_put_17 rfl 1 rfl ?_
    refine z_iload_n X dX4_put_18 rfl 3 rfl ?_
    refine z_iload_n X dX4_put_19 rfl 4 rfl ?_
    refine z_cv (z_runV (rest := []) (n := 2) X [.int (nI (tN)), .int (nI (kN))] (m_X4_goThrough hM2 hTp2 hO (s := sN) (t := tN) (k := kN) (by omega) (by omega) (by omega) (by omega) hca) dX4_put_20 (mm_o hM2) rfl (lw_V q1850 q1852 qs60 q70 q1853) hv_X4_goThrough rfl ⟨Nat.le_of_ble_eq_true rfl, Nat.le_of_ble_eq_true rfl⟩ ⟨by omega, by omega⟩ rfl (Nat.le_of_ble_eq_true rfl)) (fun w6 h5 => ?_)
    obtain ⟨mv6, hM6, hK6, hT6, hq6⟩ := h5
    have hb := thrTo_le hI (g := o.2.2.2.2.1 sN) (v := o.2.2.2.2.1 tN) kN
    refine z_aload_n X dX4_put_23 rfl 1 rfl ?_
    refine z_mgv35 X hM6 dX4_put_24 hq6.1 ?_
    refine z_iconst (v := -1) X dX4_put_27 cim1 ?_
    refine z_icmp_eq (tgt := 38) X dX4_put_28 (by decide) (oI_m1 (fun z h => by have := hb.2.2 z h; omega)) (fun c7 => ?_) (fun c7 => ?_)
    · have hst := thrTo_st hI (g := o.2.2.2.2.1 sN) (v := o.2.2.2.2.1 tN) kN
      obtain ⟨hs125, hf0, hf1, hf2⟩ := hst
      refine z_iconst (v := nI (0)) X dX4_put_38 ci0 ?_
      refine z_istore (lv2 := [(5, .int (nI (0))), (4, .int (nI (0))), (0, .ref (ad 0)), (1, .int (nI (sN))), (2, .int (nI (tN))), (3, .int (nI (kN)))]) X dX4_put_39 (Nat.le_of_ble_eq_true rfl) rfl ?_
      refine z_iload X dX4_put_41 0 rfl ?_
      refine z_iconst (v := nI (3)) X dX4_put_43 ci3 ?_
      refine z_icmp_ge_f (tgt := 77) X dX4_put_44 (by decide) (by decide) ?_
      refine z_aload_n X dX4_put_47 rfl 2 rfl ?_
      refine z_mg11 X hM6 dX4_put_48 ?_
      refine z_iload X dX4_put_51 0 rfl ?_
      refine z_aload_n X dX4_put_53 rfl 2 rfl ?_
      refine z_mg10 X hM6 dX4_put_54 ?_
      refine z_iload X dX4_put_57 0 rfl ?_
      refine z_iaN (v := nI (o.1.1 0 0)) X dX4_put_59 (mm_11 hM6) (by omega) (by omega) (hT6.1.1 0 (by omega)).1 ?_
      refine z_aload_n X dX4_put_60 rfl 2 rfl ?_
      refine z_mgv36 X hM6 dX4_put_61 hq6.2.1 ?_
      refine z_iload X dX4_put_64 0 rfl ?_
      refine z_cip (z_runS (rest := [.int (nI (o.1.1 0 0)), .int (nI (0)), .ref (ad 12)]) (n := 2) X [.int (nI ((thrTo o.1 (o.2.2.2.2.1 sN) (o.2.2.2.2.1 tN) kN).2.1)), .int (nI (0))] (m_X4_freeOf (st := (thrTo o.1 (o.2.2.2.2.1 sN) (o.2.2.2.2.1 tN) kN).2.1) (z := 0) (by omega) (by omega)) dX4_put_66 (lw_S q1609 q1610 q70 q1611) hs_X4_freeOf rfl ⟨Nat.le_of_ble_eq_true rfl, Nat.le_of_ble_eq_true rfl⟩ ⟨by omega, by omega⟩ rfl (Nat.le_of_ble_eq_true rfl)) ?_
      refine z_isub (v := nI (o.1.1 0 0 - (fr ((thrTo o.1 (o.2.2.2.2.1 sN) (o.2.2.2.2.1 tN) kN).2.1) 0))) X dX4_put_69 (pk_sub (by omega)) ?_
      refine z_mst (n := 3) (j := 0) X hM6 12 dX4_put_70 rfl rfl rfl (by omega) (by omega) (fun u8 hM8 => ?_)
      refine z_iinc (v := nI (1)) (lv2 := [(5, .int (nI (1))), (4, .int (nI (0))), (0, .ref (ad 0)), (1, .int (nI (sN))), (2, .int (nI (tN))), (3, .int (nI (kN)))]) X dX4_put_71 0 rfl (nI_1 _) (Nat.le_of_ble_eq_true rfl) rfl ?_
      refine z_goto (tgt := 41) X dX4_put_74 (by decide) ?_
      refine z_iload X dX4_put_41 0 rfl ?_
      refine z_iconst (v := nI (3)) X dX4_put_43 ci3 ?_
      refine z_icmp_ge_f (tgt := 77) X dX4_put_44 (by decide) (by decide) ?_
      refine z_aload_n X dX4_put_47 rfl 2 rfl ?_
      refine z_mg11 X hM8 dX4_put_48 ?_
      refine z_iload X dX4_put_51 0 rfl ?_
      refine z_aload_n X dX4_put_53 rfl 2 rfl ?_
      refine z_mg10 X hM8 dX4_put_54 ?_
      refine z_iload X dX4_put_57 0 rfl ?_
      refine z_iaN (v := nI (o.1.1 0 1)) X dX4_put_59 (mm_11 hM8) (by omega) (by omega) ((congrFun (mI_oth (by decide)) 1).trans (hT6.1.1 1 (by omega)).1) ?_
      refine z_aload_n X dX4_put_60 rfl 2 rfl ?_
      refine z_mgv36 X hM8 dX4_put_61 hq6.2.1 ?_
      refine z_iload X dX4_put_64 0 rfl ?_
      refine z_cip (z_runS (rest := [.int (nI (o.1.1 0 1)), .int (nI (1)), .ref (ad 12)]) (n := 2) X [.int (nI ((thrTo o.1 (o.2.2.2.2.1 sN) (o.2.2.2.2.1 tN) kN).2.1)), .int (nI (1))] (m_X4_freeOf (st := (thrTo o.1 (o.2.2.2.2.1 sN) (o.2.2.2.2.1 tN) kN).2.1) (z := 1) (by omega) (by omega)) dX4_put_66 (lw_S q1609 q1610 q70 q1611) hs_X4_freeOf rfl ⟨Nat.le_of_ble_eq_true rfl, Nat.le_of_ble_eq_true rfl⟩ ⟨by omega, by omega⟩ rfl (Nat.le_of_ble_eq_true rfl)) ?_
      refine z_isub (v := nI (o.1.1 0 1 - (fr ((thrTo o.1 (o.2.2.2.2.1 sN) (o.2.2.2.2.1 tN) kN).2.1) 1))) X dX4_put_69 (pk_sub (by omega)) ?_
      refine z_mst (n := 3) (j := 1) X hM8 12 dX4_put_70 rfl rfl rfl (by omega) (by omega) (fun u9 hM9 => ?_)
      refine z_iinc (v := nI (2)) (lv2 := [(5, .int (nI (2))), (4, .int (nI (0))), (0, .ref (ad 0)), (1, .int (nI (sN))), (2, .int (nI (tN))), (3, .int (nI (kN)))]) X dX4_put_71 0 rfl (nI_1 _) (Nat.le_of_ble_eq_true rfl) rfl ?_
      refine z_goto (tgt := 41) X dX4_put_74 (by decide) ?_
      refine z_iload X dX4_put_41 0 rfl ?_
      refine z_iconst (v := nI (3)) X dX4_put_43 ci3 ?_
      refine z_icmp_ge_f (tgt := 77) X dX4_put_44 (by decide) (by decide) ?_
      refine z_aload_n X dX4_put_47 rfl 2 rfl ?_
      refine z_mg11 X hM9 dX4_put_48 ?_
      refine z_iload X dX4_put_51 0 rfl ?_
      refine z_aload_n X dX4_put_53 rfl 2 rfl ?_
      refine z_mg10 X hM9 dX4_put_54 ?_
      refine z_iload X dX4_put_57 0 rfl ?_
      refine z_iaN (v := nI (o.1.1 0 2)) X dX4_put_59 (mm_11 hM9) (by omega) (by omega) ((congrFun (mI_oth (by decide)) 2).trans ((congrFun (mI_oth (by decide)) 2).trans (hT6.1.1 2 (by omega)).1)) ?_
      refine z_aload_n X dX4_put_60 rfl 2 rfl ?_
      refine z_mgv36 X hM9 dX4_put_61 hq6.2.1 ?_
      refine z_iload X dX4_put_64 0 rfl ?_
      refine z_cip (z_runS (rest := [.int (nI (o.1.1 0 2)), .int (nI (2)), .ref (ad 12)]) (n := 2) X [.int (nI ((thrTo o.1 (o.2.2.2.2.1 sN) (o.2.2.2.2.1 tN) kN).2.1)), .int (nI (2))] (m_X4_freeOf (st := (thrTo o.1 (o.2.2.2.2.1 sN) (o.2.2.2.2.1 tN) kN).2.1) (z := 2) (by omega) (by omega)) dX4_put_66 (lw_S q1609 q1610 q70 q1611) hs_X4_freeOf rfl ⟨Nat.le_of_ble_eq_true rfl, Nat.le_of_ble_eq_true rfl⟩ ⟨by omega, by omega⟩ rfl (Nat.le_of_ble_eq_true rfl)) ?_
      refine z_isub (v := nI (o.1.1 0 2 - (fr ((thrTo o.1 (o.2.2.2.2.1 sN) (o.2.2.2.2.1 tN) kN).2.1) 2))) X dX4_put_69 (pk_sub (by omega)) ?_
      refine z_mst (n := 3) (j := 2) X hM9 12 dX4_put_70 rfl rfl rfl (by omega) (by omega) (fun u10 hM10 => ?_)
      have hT9 : MT (oW o (wFull o.1 (thrTo o.1 (o.2.2.2.2.1 sN) (o.2.2.2.2.1 tN) kN).2.1)) (mI (mI (mI mv6 12 0 (nI (o.1.1 0 0 - (fr ((thrTo o.1 (o.2.2.2.2.1 sN) (o.2.2.2.2.1 tN) kN).2.1) 0)))) 12 1 (nI (o.1.1 0 1 - (fr ((thrTo o.1 (o.2.2.2.2.1 sN) (o.2.2.2.2.1 tN) kN).2.1) 1)))) 12 2 (nI (o.1.1 0 2 - (fr ((thrTo o.1 (o.2.2.2.2.1 sN) (o.2.2.2.2.1 tN) kN).2.1) 2)))) := ((hT6.put (f := 1) (i := 0) (v := o.1.1 0 0 - fr (thrTo o.1 (o.2.2.2.2.1 sN) (o.2.2.2.2.1 tN) kN).2.1 0) (by decide) (by decide)).put (f := 1) (i := 1) (v := o.1.1 0 1 - fr (thrTo o.1 (o.2.2.2.2.1 sN) (o.2.2.2.2.1 tN) kN).2.1 1) (by decide) (by decide)).put (f := 1) (i := 2) (v := o.1.1 0 2 - fr (thrTo o.1 (o.2.2.2.2.1 sN) (o.2.2.2.2.1 tN) kN).2.1 2) (by decide) (by decide)
      refine z_iinc (v := nI (3)) (lv2 := [(5, .int (nI (3))), (4, .int (nI (0))), (0, .ref (ad 0)), (1, .int (nI (sN))), (2, .int (nI (tN))), (3, .int (nI (kN)))]) X dX4_put_71 0 rfl (nI_1 _) (Nat.le_of_ble_eq_true rfl) rfl ?_
      refine z_goto (tgt := 41) X dX4_put_74 (by decide) ?_
      refine z_iload X dX4_put_41 0 rfl ?_
      refine z_iconst (v := nI (3)) X dX4_put_43 ci3 ?_
      refine z_icmp_ge_t (tgt := 77) X dX4_put_44 (by decide) (by decide) ?_
      refine z_aload_n X dX4_put_77 rfl 2 rfl ?_
      refine z_mgv37 X hM10 dX4_put_78 hq6.2.2 ?_
      have e : spPut o (nI sN) (nI tN) (nI kN) = (nI ((thrTo o.1 (o.2.2.2.2.1 sN) (o.2.2.2.2.1 tN) kN).2.2), oW o (wFull o.1 (thrTo o.1 (o.2.2.2.2.1 sN) (o.2.2.2.2.1 tN) kN).2.1)) := by
        unfold spPut
        rw [hpl]
        exact if_pos c7
      exact z_iret X dX4_put_81 (by omega) (by omega) ⟨_, rfl, (by rw [e]; exact ⟨_, hM10, hT9, rfl⟩)⟩
    · refine z_aload_n X dX4_put_31 rfl 1 rfl ?_
      refine z_bipush (v := (-5)) X dX4_put_32 (by decide) ?_
      refine z_ci (z_runV (rest := []) (n := 1) X [.int ((-5))] (m_X4_refuse hM6 (k := 5) (by decide) (v := (-5)) rfl) dX4_put_34 (mm_o hM6) rfl (lw_V q1546 q1548 qs27 q70 q1549) hv_X4_refuse rfl ⟨Nat.le_of_ble_eq_true rfl, Nat.le_of_ble_eq_true rfl⟩ ⟨by omega, by omega⟩ rfl (Nat.le_of_ble_eq_true rfl)) (fun r11 w13 h12 => ?_)
      obtain ⟨hM12, r11e⟩ := h12
      rw [r11e]
      have hT12 := MT.ref hT6 (k := 5) (by decide)
      have e : spPut o (nI sN) (nI tN) (nI kN) = ((-5), oRef o 5) := by
        unfold spPut
        rw [hpl]
        exact if_neg c7
      exact z_iret X dX4_put_37 (by omega) (by omega) ⟨_, rfl, (by rw [e]; exact ⟨_, hM12, hT12, rfl⟩)⟩
