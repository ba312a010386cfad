/-! x: rules are made -/
set_option maxRecDepth 100000
set_option maxHeartbeats 2000000 in
theorem m_X6_init_X7 {l : Launch} {G : GG} {w : GW} {q ra : Nat} (hq : w q = some (.inr (6, [.int 0]))) : gM l G yX6_init cX6_init 2 none 2 0 0 [.ref (q), .int (nI (ra))] w (pV (fun w1 => w1 = gu w q (.inr (6, [.int (nI ra)])))) := by
  refine Z.met (own := "ThreeSizes$Rule") (nm := "<init>") (lv := [(0, .ref (q)), (1, .int (nI (ra)))]) (by decide) rfl rfl (Nat.le_of_ble_eq_true rfl) rfl (fun κ X => ?_)
  refine z_aload_n X dX6_init_0 rfl 0 rfl ?_
  refine z_objInit X dX6_init_1 q520 q108 q109 (Nat.le_of_ble_eq_true rfl) (Nat.le_of_ble_eq_true rfl) ?_
  refine z_aload_n X dX6_init_4 rfl 0 rfl ?_
  refine z_iload_n X dX6_init_5 rfl 1 rfl ?_
  refine z_putF X dX6_init_6 hq in_X7 tyX7 tyX7_ok nmX7 rfl 0 (Nat.le_of_ble_eq_true rfl) q521 rfl rfl rfl rfl rfl (Nat.le_of_ble_eq_true rfl) ?_
  exact z_vret X dX6_init_9 (by omega) (by omega) ⟨rfl, rfl⟩
set_option maxHeartbeats 2000000 in
theorem m_X6_init_X8 {l : Launch} {G : GG} {w : GW} {q ra : Nat} (hq : w q = some (.inr (7, [.int 0]))) : gM l G yX6_init cX6_init 2 none 2 0 0 [.ref (q), .int (nI (ra))] w (pV (fun w1 => w1 = gu w q (.inr (7, [.int (nI ra)])))) := by
  refine Z.met (own := "ThreeSizes$Rule") (nm := "<init>") (lv := [(0, .ref (q)), (1, .int (nI (ra)))]) (by decide) rfl rfl (Nat.le_of_ble_eq_true rfl) rfl (fun κ X => ?_)
  refine z_aload_n X dX6_init_0 rfl 0 rfl ?_
  refine z_objInit X dX6_init_1 q520 q108 q109 (Nat.le_of_ble_eq_true rfl) (Nat.le_of_ble_eq_true rfl) ?_
  refine z_aload_n X dX6_init_4 rfl 0 rfl ?_
  refine z_iload_n X dX6_init_5 rfl 1 rfl ?_
  refine z_putF X dX6_init_6 hq in_X8 tyX8 tyX8_ok nmX8 rfl 0 (Nat.le_of_ble_eq_true rfl) q521 rfl rfl rfl rfl rfl (Nat.le_of_ble_eq_true rfl) ?_
  exact z_vret X dX6_init_9 (by omega) (by omega) ⟨rfl, rfl⟩
set_option maxHeartbeats 2000000 in
theorem m_X6_init_X9 {l : Launch} {G : GG} {w : GW} {q ra : Nat} (hq : w q = some (.inr (8, [.int 0]))) : gM l G yX6_init cX6_init 2 none 2 0 0 [.ref (q), .int (nI (ra))] w (pV (fun w1 => w1 = gu w q (.inr (8, [.int (nI ra)])))) := by
  refine Z.met (own := "ThreeSizes$Rule") (nm := "<init>") (lv := [(0, .ref (q)), (1, .int (nI (ra)))]) (by decide) rfl rfl (Nat.le_of_ble_eq_true rfl) rfl (fun κ X => ?_)
  refine z_aload_n X dX6_init_0 rfl 0 rfl ?_
  refine z_objInit X dX6_init_1 q520 q108 q109 (Nat.le_of_ble_eq_true rfl) (Nat.le_of_ble_eq_true rfl) ?_
  refine z_aload_n X dX6_init_4 rfl 0 rfl ?_
  refine z_iload_n X dX6_init_5 rfl 1 rfl ?_
  refine z_putF X dX6_init_6 hq in_X9 tyX9 tyX9_ok nmX9 rfl 0 (Nat.le_of_ble_eq_true rfl) q521 rfl rfl rfl rfl rfl (Nat.le_of_ble_eq_true rfl) ?_
  exact z_vret X dX6_init_9 (by omega) (by omega) ⟨rfl, rfl⟩
set_option maxHeartbeats 2000000 in
theorem m_X6_init_X10 {l : Launch} {G : GG} {w : GW} {q ra : Nat} (hq : w q = some (.inr (9, [.int 0]))) : gM l G yX6_init cX6_init 2 none 2 0 0 [.ref (q), .int (nI (ra))] w (pV (fun w1 => w1 = gu w q (.inr (9, [.int (nI ra)])))) := by
  refine Z.met (own := "ThreeSizes$Rule") (nm := "<init>") (lv := [(0, .ref (q)), (1, .int (nI (ra)))]) (by decide) rfl rfl (Nat.le_of_ble_eq_true rfl) rfl (fun κ X => ?_)
  refine z_aload_n X dX6_init_0 rfl 0 rfl ?_
  refine z_objInit X dX6_init_1 q520 q108 q109 (Nat.le_of_ble_eq_true rfl) (Nat.le_of_ble_eq_true rfl) ?_
  refine z_aload_n X dX6_init_4 rfl 0 rfl ?_
  refine z_iload_n X dX6_init_5 rfl 1 rfl ?_
  refine z_putF X dX6_init_6 hq in_X10 tyX10 tyX10_ok nmX10 rfl 0 (Nat.le_of_ble_eq_true rfl) q521 rfl rfl rfl rfl rfl (Nat.le_of_ble_eq_true rfl) ?_
  exact z_vret X dX6_init_9 (by omega) (by omega) ⟨rfl, rfl⟩
set_option maxHeartbeats 2000000 in
theorem m_X6_init_X11 {l : Launch} {G : GG} {w : GW} {q ra : Nat} (hq : w q = some (.inr (10, [.int 0]))) : gM l G yX6_init cX6_init 2 none 2 0 0 [.ref (q), .int (nI (ra))] w (pV (fun w1 => w1 = gu w q (.inr (10, [.int (nI ra)])))) := by
  refine Z.met (own := "ThreeSizes$Rule") (nm := "<init>") (lv := [(0, .ref (q)), (1, .int (nI (ra)))]) (by decide) rfl rfl (Nat.le_of_ble_eq_true rfl) rfl (fun κ X => ?_)
  refine z_aload_n X dX6_init_0 rfl 0 rfl ?_
  refine z_objInit X dX6_init_1 q520 q108 q109 (Nat.le_of_ble_eq_true rfl) (Nat.le_of_ble_eq_true rfl) ?_
  refine z_aload_n X dX6_init_4 rfl 0 rfl ?_
  refine z_iload_n X dX6_init_5 rfl 1 rfl ?_
  refine z_putF X dX6_init_6 hq in_X11 tyX11 tyX11_ok nmX11 rfl 0 (Nat.le_of_ble_eq_true rfl) q521 rfl rfl rfl rfl rfl (Nat.le_of_ble_eq_true rfl) ?_
  exact z_vret X dX6_init_9 (by omega) (by omega) ⟨rfl, rfl⟩
set_option maxHeartbeats 2000000 in
theorem m_X6_init_X12 {l : Launch} {G : GG} {w : GW} {q ra : Nat} (hq : w q = some (.inr (11, [.int 0, .null]))) : gM l G yX6_init cX6_init 2 none 2 0 0 [.ref (q), .int (nI (ra))] w (pV (fun w1 => w1 = gu w q (.inr (11, [.int (nI ra), .null])))) := by
  refine Z.met (own := "ThreeSizes$Rule") (nm := "<init>") (lv := [(0, .ref (q)), (1, .int (nI (ra)))]) (by decide) rfl rfl (Nat.le_of_ble_eq_true rfl) rfl (fun κ X => ?_)
  refine z_aload_n X dX6_init_0 rfl 0 rfl ?_
  refine z_objInit X dX6_init_1 q520 q108 q109 (Nat.le_of_ble_eq_true rfl) (Nat.le_of_ble_eq_true rfl) ?_
  refine z_aload_n X dX6_init_4 rfl 0 rfl ?_
  refine z_iload_n X dX6_init_5 rfl 1 rfl ?_
  refine z_putF X dX6_init_6 hq in_X12 tyX12 tyX12_ok nmX12 rfl 0 (Nat.le_of_ble_eq_true rfl) q521 rfl rfl rfl rfl rfl (Nat.le_of_ble_eq_true rfl) ?_
  exact z_vret X dX6_init_9 (by omega) (by omega) ⟨rfl, rfl⟩
set_option maxHeartbeats 2000000 in
theorem m_X7_init_X7 {l : Launch} {G : GG} {w : GW} {q ra : Nat} (hq : w q = some (.inr (6, [.int 0]))) : gM l G yX7_init cX7_init 2 none 4 0 0 [.ref (q), .int (nI (ra))] w (pV (fun w1 => w1 = gu w q (.inr (6, [.int (nI ra)])))) := by
  refine Z.met (own := "ThreeSizes$Least") (nm := "<init>") (lv := [(0, .ref (q)), (1, .int (nI (ra)))]) (by decide) rfl rfl (Nat.le_of_ble_eq_true rfl) rfl (fun κ X => ?_)
  refine z_aload_n X dX7_init_0 rfl 0 rfl ?_
  refine z_iload_n X dX7_init_1 rfl 1 rfl ?_
  refine z_cv (z_runI (rest := []) (n := 1) X [.int (nI (ra))] (m_X6_init_X7 hq (ra := ra)) dX7_init_2 (lw_meth q519) q82 q517 q518 rfl hs_X6_init rfl ⟨Nat.le_of_ble_eq_true rfl, Nat.le_of_ble_eq_true rfl⟩ ⟨by omega, by omega⟩ rfl (Nat.le_of_ble_eq_true rfl)) (fun w3 h2 => ?_)
  subst h2
  exact z_vret X dX7_init_5 (by omega) (by omega) ⟨rfl, rfl⟩
set_option maxHeartbeats 2000000 in
theorem m_X7_init_X8 {l : Launch} {G : GG} {w : GW} {q ra : Nat} (hq : w q = some (.inr (7, [.int 0]))) : gM l G yX7_init cX7_init 2 none 4 0 0 [.ref (q), .int (nI (ra))] w (pV (fun w1 => w1 = gu w q (.inr (7, [.int (nI ra)])))) := by
  refine Z.met (own := "ThreeSizes$Least") (nm := "<init>") (lv := [(0, .ref (q)), (1, .int (nI (ra)))]) (by decide) rfl rfl (Nat.le_of_ble_eq_true rfl) rfl (fun κ X => ?_)
  refine z_aload_n X dX7_init_0 rfl 0 rfl ?_
  refine z_iload_n X dX7_init_1 rfl 1 rfl ?_
  refine z_cv (z_runI (rest := []) (n := 1) X [.int (nI (ra))] (m_X6_init_X8 hq (ra := ra)) dX7_init_2 (lw_meth q519) q82 q517 q518 rfl hs_X6_init rfl ⟨Nat.le_of_ble_eq_true rfl, Nat.le_of_ble_eq_true rfl⟩ ⟨by omega, by omega⟩ rfl (Nat.le_of_ble_eq_true rfl)) (fun w3 h2 => ?_)
  subst h2
  exact z_vret X dX7_init_5 (by omega) (by omega) ⟨rfl, rfl⟩
set_option maxHeartbeats 2000000 in
theorem m_X7_init_X9 {l : Launch} {G : GG} {w : GW} {q ra : Nat} (hq : w q = some (.inr (8, [.int 0]))) : gM l G yX7_init cX7_init 2 none 4 0 0 [.ref (q), .int (nI (ra))] w (pV (fun w1 => w1 = gu w q (.inr (8, [.int (nI ra)])))) := by
  refine Z.met (own := "ThreeSizes$Least") (nm := "<init>") (lv := [(0, .ref (q)), (1, .int (nI (ra)))]) (by decide) rfl rfl (Nat.le_of_ble_eq_true rfl) rfl (fun κ X => ?_)
  refine z_aload_n X dX7_init_0 rfl 0 rfl ?_
  refine z_iload_n X dX7_init_1 rfl 1 rfl ?_
  refine z_cv (z_runI (rest := []) (n := 1) X [.int (nI (ra))] (m_X6_init_X9 hq (ra := ra)) dX7_init_2 (lw_meth q519) q82 q517 q518 rfl hs_X6_init rfl ⟨Nat.le_of_ble_eq_true rfl, Nat.le_of_ble_eq_true rfl⟩ ⟨by omega, by omega⟩ rfl (Nat.le_of_ble_eq_true rfl)) (fun w3 h2 => ?_)
  subst h2
  exact z_vret X dX7_init_5 (by omega) (by omega) ⟨rfl, rfl⟩
set_option maxHeartbeats 2000000 in
theorem m_X10_init_X10 {l : Launch} {G : GG} {w : GW} {q ra : Nat} (hq : w q = some (.inr (9, [.int 0]))) : gM l G yX10_init cX10_init 2 none 4 0 0 [.ref (q), .int (nI (ra))] w (pV (fun w1 => w1 = gu w q (.inr (9, [.int (nI ra)])))) := by
  refine Z.met (own := "ThreeSizes$Great") (nm := "<init>") (lv := [(0, .ref (q)), (1, .int (nI (ra)))]) (by decide) rfl rfl (Nat.le_of_ble_eq_true rfl) rfl (fun κ X => ?_)
  refine z_aload_n X dX10_init_0 rfl 0 rfl ?_
  refine z_iload_n X dX10_init_1 rfl 1 rfl ?_
  refine z_cv (z_runI (rest := []) (n := 1) X [.int (nI (ra))] (m_X6_init_X10 hq (ra := ra)) dX10_init_2 (lw_meth q519) q82 q553 q518 rfl hs_X6_init rfl ⟨Nat.le_of_ble_eq_true rfl, Nat.le_of_ble_eq_true rfl⟩ ⟨by omega, by omega⟩ rfl (Nat.le_of_ble_eq_true rfl)) (fun w3 h2 => ?_)
  subst h2
  exact z_vret X dX10_init_5 (by omega) (by omega) ⟨rfl, rfl⟩
set_option maxHeartbeats 2000000 in
theorem m_X10_init_X11 {l : Launch} {G : GG} {w : GW} {q ra : Nat} (hq : w q = some (.inr (10, [.int 0]))) : gM l G yX10_init cX10_init 2 none 4 0 0 [.ref (q), .int (nI (ra))] w (pV (fun w1 => w1 = gu w q (.inr (10, [.int (nI ra)])))) := by
  refine Z.met (own := "ThreeSizes$Great") (nm := "<init>") (lv := [(0, .ref (q)), (1, .int (nI (ra)))]) (by decide) rfl rfl (Nat.le_of_ble_eq_true rfl) rfl (fun κ X => ?_)
  refine z_aload_n X dX10_init_0 rfl 0 rfl ?_
  refine z_iload_n X dX10_init_1 rfl 1 rfl ?_
  refine z_cv (z_runI (rest := []) (n := 1) X [.int (nI (ra))] (m_X6_init_X11 hq (ra := ra)) dX10_init_2 (lw_meth q519) q82 q553 q518 rfl hs_X6_init rfl ⟨Nat.le_of_ble_eq_true rfl, Nat.le_of_ble_eq_true rfl⟩ ⟨by omega, by omega⟩ rfl (Nat.le_of_ble_eq_true rfl)) (fun w3 h2 => ?_)
  subst h2
  exact z_vret X dX10_init_5 (by omega) (by omega) ⟨rfl, rfl⟩
set_option maxHeartbeats 2000000 in
theorem m_X8_init_X8 {l : Launch} {G : GG} {w : GW} {q ra : Nat} (hq : w q = some (.inr (7, [.int 0]))) : gM l G yX8_init cX8_init 2 none 6 0 0 [.ref (q), .int (nI (ra))] w (pV (fun w1 => w1 = gu w q (.inr (7, [.int (nI ra)])))) := by
  refine Z.met (own := "ThreeSizes$Keep") (nm := "<init>") (lv := [(0, .ref (q)), (1, .int (nI (ra)))]) (by decide) rfl rfl (Nat.le_of_ble_eq_true rfl) rfl (fun κ X => ?_)
  refine z_aload_n X dX8_init_0 rfl 0 rfl ?_
  refine z_iload_n X dX8_init_1 rfl 1 rfl ?_
  refine z_cv (z_runI (rest := []) (n := 1) X [.int (nI (ra))] (m_X7_init_X8 hq (ra := ra)) dX8_init_2 (lw_meth q516) q83 q537 q515 rfl hs_X7_init rfl ⟨Nat.le_of_ble_eq_true rfl, Nat.le_of_ble_eq_true rfl⟩ ⟨by omega, by omega⟩ rfl (Nat.le_of_ble_eq_true rfl)) (fun w3 h2 => ?_)
  subst h2
  exact z_vret X dX8_init_5 (by omega) (by omega) ⟨rfl, rfl⟩
set_option maxHeartbeats 2000000 in
theorem m_X9_init_X9 {l : Launch} {G : GG} {w : GW} {q ra : Nat} (hq : w q = some (.inr (8, [.int 0]))) : gM l G yX9_init cX9_init 2 none 6 0 0 [.ref (q), .int (nI (ra))] w (pV (fun w1 => w1 = gu w q (.inr (8, [.int (nI ra)])))) := by
  refine Z.met (own := "ThreeSizes$Some") (nm := "<init>") (lv := [(0, .ref (q)), (1, .int (nI (ra)))]) (by decide) rfl rfl (Nat.le_of_ble_eq_true rfl) rfl (fun κ X => ?_)
  refine z_aload_n X dX9_init_0 rfl 0 rfl ?_
  refine z_iload_n X dX9_init_1 rfl 1 rfl ?_
  refine z_cv (z_runI (rest := []) (n := 1) X [.int (nI (ra))] (m_X7_init_X9 hq (ra := ra)) dX9_init_2 (lw_meth q516) q83 q545 q515 rfl hs_X7_init rfl ⟨Nat.le_of_ble_eq_true rfl, Nat.le_of_ble_eq_true rfl⟩ ⟨by omega, by omega⟩ rfl (Nat.le_of_ble_eq_true rfl)) (fun w3 h2 => ?_)
  subst h2
  exact z_vret X dX9_init_5 (by omega) (by omega) ⟨rfl, rfl⟩
set_option maxHeartbeats 2000000 in
theorem m_X11_init_X11 {l : Launch} {G : GG} {w : GW} {q ra : Nat} (hq : w q = some (.inr (10, [.int 0]))) : gM l G yX11_init cX11_init 2 none 6 0 0 [.ref (q), .int (nI (ra))] w (pV (fun w1 => w1 = gu w q (.inr (10, [.int (nI ra)])))) := by
  refine Z.met (own := "ThreeSizes$Even") (nm := "<init>") (lv := [(0, .ref (q)), (1, .int (nI (ra)))]) (by decide) rfl rfl (Nat.le_of_ble_eq_true rfl) rfl (fun κ X => ?_)
  refine z_aload_n X dX11_init_0 rfl 0 rfl ?_
  refine z_iload_n X dX11_init_1 rfl 1 rfl ?_
  refine z_cv (z_runI (rest := []) (n := 1) X [.int (nI (ra))] (m_X10_init_X11 hq (ra := ra)) dX11_init_2 (lw_meth q552) q86 q561 q551 rfl hs_X10_init rfl ⟨Nat.le_of_ble_eq_true rfl, Nat.le_of_ble_eq_true rfl⟩ ⟨by omega, by omega⟩ rfl (Nat.le_of_ble_eq_true rfl)) (fun w3 h2 => ?_)
  subst h2
  exact z_vret X dX11_init_5 (by omega) (by omega) ⟨rfl, rfl⟩
