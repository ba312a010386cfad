/-! THE MODEL: judge -/
set_option maxRecDepth 100000
def spJudge (o : OS) (s t k : Int32) : Int32 × OS := plEl o s t k (bad o) fun a b n => (oI (thrTo o.1 (o.2.2.2.2.1 a) (o.2.2.2.2.1 b) n).1, o)
set_option maxHeartbeats 2000000 in
theorem m_X4_judge {l : Launch} {G : GG} {wb w : GW} {ad : Nat → Nat} {m : MSt} (hM : MM G wb w ad m) {o : OS} (hT : MT o m) (hO : oInv o) {s t k : Int32} : gM l G yX4_judge cX4_judge 5 (some .int) 5 0 0 [.ref (ad 0), .int (s), .int (t), .int (k)] w (pI (fun r w1 => ∃ m2, MM G wb w1 ad m2 ∧ MT (spJudge o s t k).2 m2 ∧ r = (spJudge o s t k).1)) := by
  refine Z.met (own := "ThreeSizesModel") (nm := "judge") (lv := [(0, .ref (ad 0)), (1, .int (s)), (2, .int (t)), (3, .int (k))]) (by decide) rfl rfl (Nat.le_of_ble_eq_true rfl) rfl (fun κ X => ?_)
  have hI := hO.1
  have h6 := hI.2.1
  have ht200 := hO.2.2.2
  refine z_aload_n X dX4_judge_0 rfl 0 rfl ?_
  refine z_iload_n X dX4_judge_1 rfl 1 rfl ?_
  refine z_iload_n X dX4_judge_2 rfl 2 rfl ?_
  refine z_iload_n X dX4_judge_3 rfl 3 rfl ?_
  refine z_ci (z_runV (rest := []) (n := 3) X [.int (s), .int (t), .int (k)] (m_X4_noPlacing hM hT hO (s := s) (t := t) (k := k)) dX4_judge_4 (mm_o hM) rfl (lw_V q1846 q1848 qs59 q70 q1849) hv_X4_noPlacing rfl ⟨Nat.le_of_ble_eq_true rfl, Nat.le_of_ble_eq_true rfl⟩ ⟨by omega, by omega⟩ rfl (Nat.le_of_ble_eq_true rfl)) (fun r1 w3 h2 => ?_)
  obtain ⟨mv2, hM2, hQ2⟩ := h2
  rcases hQ2 with ⟨c9, (rfl | rfl | rfl), rfl, hTp2, hpl⟩ | ⟨sN, tN, kN, hsN, htN, hkN, hkt, rfl, rfl, rfl, rfl, hTp2, hca, hpl⟩
  · skip
    refine z_istore (lv2 := [(4, .int ((-2))), (0, .ref (ad 0)), (1, .int (s)), (2, .int (t)), (3, .int (k))]) X dX4_judge_7 (Nat.le_of_ble_eq_true rfl) rfl ?_
    refine z_iload X dX4_judge_9 0 rfl ?_
    refine z_if_eq_f (tgt := 17) X dX4_judge_11 (by decide) (by decide) ?_
    refine z_iload X dX4_judge_14 0 rfl ?_
    have e : spJudge o s t k = ((-2), oRef o 2) := hpl _
    exact z_iret X dX4_judge_16 (by omega) (by omega) ⟨_, rfl, (by rw [e]; exact ⟨_, hM2, hTp2, rfl⟩)⟩
  · skip
    refine z_istore (lv2 := [(4, .int ((-3))), (0, .ref (ad 0)), (1, .int (s)), (2, .int (t)), (3, .int (k))]) X dX4_judge_7 (Nat.le_of_ble_eq_true rfl) rfl ?_
    refine z_iload X dX4_judge_9 0 rfl ?_
    refine z_if_eq_f (tgt := 17) X dX4_judge_11 (by decide) (by decide) ?_
    refine z_iload X dX4_judge_14 0 rfl ?_
    have e : spJudge o s t k = ((-3), oRef o 3) := hpl _
    exact z_iret X dX4_judge_16 (by omega) (by omega) ⟨_, rfl, (by rw [e]; exact ⟨_, hM2, hTp2, rfl⟩)⟩
  · skip
    refine z_istore (lv2 := [(4, .int ((-4))), (0, .ref (ad 0)), (1, .int (s)), (2, .int (t)), (3, .int (k))]) X dX4_judge_7 (Nat.le_of_ble_eq_true rfl) rfl ?_
    refine z_iload X dX4_judge_9 0 rfl ?_
    refine z_if_eq_f (tgt := 17) X dX4_judge_11 (by decide) (by decide) ?_
    refine z_iload X dX4_judge_14 0 rfl ?_
    have e : spJudge o s t k = ((-4), oRef o 4) := hpl _
    exact z_iret X dX4_judge_16 (by omega) (by omega) ⟨_, rfl, (by rw [e]; exact ⟨_, hM2, hTp2, rfl⟩)⟩
  · skip
    refine z_istore (lv2 := [(4, .int (nI (0))), (0, .ref (ad 0)), (1, .int (nI (sN))), (2, .int (nI (tN))), (3, .int (nI (kN)))]) X dX4_judge_7 (Nat.le_of_ble_eq_true rfl) rfl ?_
    refine z_iload X dX4_judge_9 0 rfl ?_
    refine z_if_eq_t (tgt := 17) X dX4_judge_11 (by decide) (by decide) ?_
    refine z_aload_n X dX4_judge_17 rfl 1 rfl ?_
    refine z_iload_n X dX4_judge_18 rfl 3 rfl ?_
    refine z_iload_n X dX4_judge_19 rfl 4 rfl ?_
    refine z_cv (z_runV (rest := []) (n := 2) X [.int (nI (tN)), .int (nI (kN))] (m_X4_goThrough hM2 hTp2 hO (s := sN) (t := tN) (k := kN) (by omega) (by omega) (by omega) (by omega) hca) dX4_judge_20 (mm_o hM2) rfl (lw_V q1850 q1852 qs60 q70 q1853) hv_X4_goThrough rfl ⟨Nat.le_of_ble_eq_true rfl, Nat.le_of_ble_eq_true rfl⟩ ⟨by omega, by omega⟩ rfl (Nat.le_of_ble_eq_true rfl)) (fun w6 h5 => ?_)
    obtain ⟨mv6, hM6, hK6, hT6, hq6⟩ := h5
    have hb := thrTo_le hI (g := o.2.2.2.2.1 sN) (v := o.2.2.2.2.1 tN) kN
    refine z_aload_n X dX4_judge_23 rfl 1 rfl ?_
    refine z_mgv35 X hM6 dX4_judge_24 hq6.1 ?_
    have e : spJudge o (nI sN) (nI tN) (nI kN) = (oI ((thrTo o.1 (o.2.2.2.2.1 sN) (o.2.2.2.2.1 tN) kN).1), o) := hpl _
    exact z_iret X dX4_judge_27 (by omega) (by omega) ⟨_, rfl, (by rw [e]; exact ⟨_, hM6, hT6, rfl⟩)⟩
