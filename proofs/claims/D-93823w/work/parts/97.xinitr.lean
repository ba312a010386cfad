/-! x: Worths made for a rule that learns nothing -/
set_option maxRecDepth 100000
set_option maxHeartbeats 2000000 in
theorem m_X13_initR_1 {l : Launch} {G : GG} {w : GW} {xa : Nat → Nat} {rr : Option Nat} {o : OS} {im : IM} (hX : XT G w xa rr o im) (hO : oInv o) {q ra : Nat} (hru : w q = some (.inr (6, [.int (nI ra)]))) {wq : Nat} (hq : w wq = some (.inr (12, [.null, .null, .int 0]))) : gM l G yX13_init cX13_init 3 none 4 0 0 [.ref (wq), .ref (xa 5), .ref (q)] w (pV (fun w1 => w1 = gu w wq (.inr (12, [.ref (xa 5), .ref q, .int (nI (100 - sumTo (o.1.1 4) (o.1.2 0)))])))) := by
  refine Z.met (own := "ThreeSizes$Worths") (nm := "<init>") (lv := [(0, .ref (wq)), (1, .ref (xa 5)), (2, .ref (q))]) (by decide) rfl rfl (Nat.le_of_ble_eq_true rfl) rfl (fun κ X => ?_)
  have hI := hO.1
  refine z_aload_n X dX13_init_0 rfl 0 rfl ?_
  refine z_objInit X dX13_init_1 q619 q108 q109 (Nat.le_of_ble_eq_true rfl) (Nat.le_of_ble_eq_true rfl) ?_
  refine z_aload_n X dX13_init_4 rfl 0 rfl ?_
  refine z_aload_n X dX13_init_5 rfl 1 rfl ?_
  refine z_putF X dX13_init_6 hq in_X13 tyX13 tyX13_ok nmX13 rfl 0 (Nat.le_of_ble_eq_true rfl) q625 rfl rfl rfl rfl rfl (Nat.le_of_ble_eq_true rfl) ?_
  have hne1 : q ≠ wq := fun z => by rw [z, hq] at hru; cases hru
  have hne2 : ∀ i, i < 8 → xw xa i ≠ wq := fun i hi z => by have h1 := hX.wall.neO hq (by decide) i (by simpa [wP] using hi); exact h1 z
  have hwz1 : WallW G (gu w wq (.inr (12, [.ref (xa 5), .null, .int (0)]))) (xw xa) rr o.1 := wl_far hX.wall hne2
  refine z_aload_n X dX13_init_9 rfl 0 rfl ?_
  refine z_aload_n X dX13_init_10 rfl 2 rfl ?_
  refine z_putF X dX13_init_11 gu_s in_X13 tyX13 tyX13_ok nmX13 rfl 1 (Nat.le_of_ble_eq_true rfl) q626 rfl rfl rfl rfl rfl (Nat.le_of_ble_eq_true rfl) ?_
  rw [gu_gu]
  have hwz2 : WallW G (gu w wq (.inr (12, [.ref (xa 5), .ref (q), .int (0)]))) (xw xa) rr o.1 := wl_far hX.wall hne2
  refine z_aload_n X dX13_init_14 rfl 0 rfl ?_
  refine z_bipush (v := nI (100)) X dX13_init_15 (by decide) ?_
  refine z_aload_n X dX13_init_17 rfl 1 rfl ?_
  refine z_cip (z_runV (rest := [.int (nI (100)), .ref (wq)]) (n := 0) X [] (m_X2_all hwz2 hI) dX13_init_18 (wl_o hwz2) rfl (lw_V q620 q621 q622 q68 q623) hv_X2_all rfl ⟨Nat.le_of_ble_eq_true rfl, Nat.le_of_ble_eq_true rfl⟩ ⟨by omega, by omega⟩ rfl (Nat.le_of_ble_eq_true rfl)) ?_
  refine z_isub (v := nI (100 - sumTo (o.1.1 4) (o.1.2 0))) X dX13_init_21 (pk_sub (by have := hI.2.2.2.1; omega)) ?_
  refine z_putF X dX13_init_22 gu_s in_X13 tyX13 tyX13_ok nmX13 rfl 2 (Nat.le_of_ble_eq_true rfl) q627 rfl rfl rfl rfl rfl (Nat.le_of_ble_eq_true rfl) ?_
  rw [gu_gu]
  have hwz3 : WallW G (gu w wq (.inr (12, [.ref (xa 5), .ref (q), .int (nI (100 - sumTo (o.1.1 4) (o.1.2 0)))]))) (xw xa) rr o.1 := wl_far hX.wall hne2
  refine z_aload_n X dX13_init_25 rfl 2 rfl ?_
  refine z_isnull X dX13_init_26 ?_
  refine z_aload_n X dX13_init_29 rfl 2 rfl ?_
  refine z_aload_n X dX13_init_30 rfl 1 rfl ?_
  refine z_cv (z_runU (owner := "ThreeSizes$Rule") (x := ⟨"ThreeSizes$Rule", "learns", "(LThreeSizes$Wall;)V"⟩) (rest := []) (n := 1) X [.ref (xa 5)] m_X6_learns dX13_init_31 ((gu_n hne1).trans hru) rfl (lw_app (lw_in _ [624, 605, 609, 604, 82] (by decide +kernel) (by decide +kernel)) (lw_meth q741)) (by decide +kernel) (by decide +kernel) rfl ⟨Nat.le_of_ble_eq_true rfl, Nat.le_of_ble_eq_true rfl⟩ ⟨by omega, by omega⟩ rfl (Nat.le_of_ble_eq_true rfl)) (fun w6 h5 => ?_)
  subst h5
  exact z_vret X dX13_init_34 (by omega) (by omega) ⟨rfl, rfl⟩
set_option maxHeartbeats 2000000 in
theorem m_X13_initR_2 {l : Launch} {G : GG} {w : GW} {xa : Nat → Nat} {rr : Option Nat} {o : OS} {im : IM} (hX : XT G w xa rr o im) (hO : oInv o) {q ra : Nat} (hru : w q = some (.inr (7, [.int (nI ra)]))) {wq : Nat} (hq : w wq = some (.inr (12, [.null, .null, .int 0]))) : gM l G yX13_init cX13_init 3 none 4 0 0 [.ref (wq), .ref (xa 5), .ref (q)] w (pV (fun w1 => w1 = gu w wq (.inr (12, [.ref (xa 5), .ref q, .int (nI (100 - sumTo (o.1.1 4) (o.1.2 0)))])))) := by
  refine Z.met (own := "ThreeSizes$Worths") (nm := "<init>") (lv := [(0, .ref (wq)), (1, .ref (xa 5)), (2, .ref (q))]) (by decide) rfl rfl (Nat.le_of_ble_eq_true rfl) rfl (fun κ X => ?_)
  have hI := hO.1
  refine z_aload_n X dX13_init_0 rfl 0 rfl ?_
  refine z_objInit X dX13_init_1 q619 q108 q109 (Nat.le_of_ble_eq_true rfl) (Nat.le_of_ble_eq_true rfl) ?_
  refine z_aload_n X dX13_init_4 rfl 0 rfl ?_
  refine z_aload_n X dX13_init_5 rfl 1 rfl ?_
  refine z_putF X dX13_init_6 hq in_X13 tyX13 tyX13_ok nmX13 rfl 0 (Nat.le_of_ble_eq_true rfl) q625 rfl rfl rfl rfl rfl (Nat.le_of_ble_eq_true rfl) ?_
  have hne1 : q ≠ wq := fun z => by rw [z, hq] at hru; cases hru
  have hne2 : ∀ i, i < 8 → xw xa i ≠ wq := fun i hi z => by have h1 := hX.wall.neO hq (by decide) i (by simpa [wP] using hi); exact h1 z
  have hwz1 : WallW G (gu w wq (.inr (12, [.ref (xa 5), .null, .int (0)]))) (xw xa) rr o.1 := wl_far hX.wall hne2
  refine z_aload_n X dX13_init_9 rfl 0 rfl ?_
  refine z_aload_n X dX13_init_10 rfl 2 rfl ?_
  refine z_putF X dX13_init_11 gu_s in_X13 tyX13 tyX13_ok nmX13 rfl 1 (Nat.le_of_ble_eq_true rfl) q626 rfl rfl rfl rfl rfl (Nat.le_of_ble_eq_true rfl) ?_
  rw [gu_gu]
  have hwz2 : WallW G (gu w wq (.inr (12, [.ref (xa 5), .ref (q), .int (0)]))) (xw xa) rr o.1 := wl_far hX.wall hne2
  refine z_aload_n X dX13_init_14 rfl 0 rfl ?_
  refine z_bipush (v := nI (100)) X dX13_init_15 (by decide) ?_
  refine z_aload_n X dX13_init_17 rfl 1 rfl ?_
  refine z_cip (z_runV (rest := [.int (nI (100)), .ref (wq)]) (n := 0) X [] (m_X2_all hwz2 hI) dX13_init_18 (wl_o hwz2) rfl (lw_V q620 q621 q622 q68 q623) hv_X2_all rfl ⟨Nat.le_of_ble_eq_true rfl, Nat.le_of_ble_eq_true rfl⟩ ⟨by omega, by omega⟩ rfl (Nat.le_of_ble_eq_true rfl)) ?_
  refine z_isub (v := nI (100 - sumTo (o.1.1 4) (o.1.2 0))) X dX13_init_21 (pk_sub (by have := hI.2.2.2.1; omega)) ?_
  refine z_putF X dX13_init_22 gu_s in_X13 tyX13 tyX13_ok nmX13 rfl 2 (Nat.le_of_ble_eq_true rfl) q627 rfl rfl rfl rfl rfl (Nat.le_of_ble_eq_true rfl) ?_
  rw [gu_gu]
  have hwz3 : WallW G (gu w wq (.inr (12, [.ref (xa 5), .ref (q), .int (nI (100 - sumTo (o.1.1 4) (o.1.2 0)))]))) (xw xa) rr o.1 := wl_far hX.wall hne2
  refine z_aload_n X dX13_init_25 rfl 2 rfl ?_
  refine z_isnull X dX13_init_26 ?_
  refine z_aload_n X dX13_init_29 rfl 2 rfl ?_
  refine z_aload_n X dX13_init_30 rfl 1 rfl ?_
  refine z_cv (z_runU (owner := "ThreeSizes$Rule") (x := ⟨"ThreeSizes$Rule", "learns", "(LThreeSizes$Wall;)V"⟩) (rest := []) (n := 1) X [.ref (xa 5)] m_X6_learns dX13_init_31 ((gu_n hne1).trans hru) rfl (lw_app (lw_in _ [624, 605, 608, 604, 82] (by decide +kernel) (by decide +kernel)) (lw_meth q741)) (by decide +kernel) (by decide +kernel) rfl ⟨Nat.le_of_ble_eq_true rfl, Nat.le_of_ble_eq_true rfl⟩ ⟨by omega, by omega⟩ rfl (Nat.le_of_ble_eq_true rfl)) (fun w6 h5 => ?_)
  subst h5
  exact z_vret X dX13_init_34 (by omega) (by omega) ⟨rfl, rfl⟩
set_option maxHeartbeats 2000000 in
theorem m_X13_initR_3 {l : Launch} {G : GG} {w : GW} {xa : Nat → Nat} {rr : Option Nat} {o : OS} {im : IM} (hX : XT G w xa rr o im) (hO : oInv o) {q ra : Nat} (hru : w q = some (.inr (8, [.int (nI ra)]))) {wq : Nat} (hq : w wq = some (.inr (12, [.null, .null, .int 0]))) : gM l G yX13_init cX13_init 3 none 4 0 0 [.ref (wq), .ref (xa 5), .ref (q)] w (pV (fun w1 => w1 = gu w wq (.inr (12, [.ref (xa 5), .ref q, .int (nI (100 - sumTo (o.1.1 4) (o.1.2 0)))])))) := by
  refine Z.met (own := "ThreeSizes$Worths") (nm := "<init>") (lv := [(0, .ref (wq)), (1, .ref (xa 5)), (2, .ref (q))]) (by decide) rfl rfl (Nat.le_of_ble_eq_true rfl) rfl (fun κ X => ?_)
  have hI := hO.1
  refine z_aload_n X dX13_init_0 rfl 0 rfl ?_
  refine z_objInit X dX13_init_1 q619 q108 q109 (Nat.le_of_ble_eq_true rfl) (Nat.le_of_ble_eq_true rfl) ?_
  refine z_aload_n X dX13_init_4 rfl 0 rfl ?_
  refine z_aload_n X dX13_init_5 rfl 1 rfl ?_
  refine z_putF X dX13_init_6 hq in_X13 tyX13 tyX13_ok nmX13 rfl 0 (Nat.le_of_ble_eq_true rfl) q625 rfl rfl rfl rfl rfl (Nat.le_of_ble_eq_true rfl) ?_
  have hne1 : q ≠ wq := fun z => by rw [z, hq] at hru; cases hru
  have hne2 : ∀ i, i < 8 → xw xa i ≠ wq := fun i hi z => by have h1 := hX.wall.neO hq (by decide) i (by simpa [wP] using hi); exact h1 z
  have hwz1 : WallW G (gu w wq (.inr (12, [.ref (xa 5), .null, .int (0)]))) (xw xa) rr o.1 := wl_far hX.wall hne2
  refine z_aload_n X dX13_init_9 rfl 0 rfl ?_
  refine z_aload_n X dX13_init_10 rfl 2 rfl ?_
  refine z_putF X dX13_init_11 gu_s in_X13 tyX13 tyX13_ok nmX13 rfl 1 (Nat.le_of_ble_eq_true rfl) q626 rfl rfl rfl rfl rfl (Nat.le_of_ble_eq_true rfl) ?_
  rw [gu_gu]
  have hwz2 : WallW G (gu w wq (.inr (12, [.ref (xa 5), .ref (q), .int (0)]))) (xw xa) rr o.1 := wl_far hX.wall hne2
  refine z_aload_n X dX13_init_14 rfl 0 rfl ?_
  refine z_bipush (v := nI (100)) X dX13_init_15 (by decide) ?_
  refine z_aload_n X dX13_init_17 rfl 1 rfl ?_
  refine z_cip (z_runV (rest := [.int (nI (100)), .ref (wq)]) (n := 0) X [] (m_X2_all hwz2 hI) dX13_init_18 (wl_o hwz2) rfl (lw_V q620 q621 q622 q68 q623) hv_X2_all rfl ⟨Nat.le_of_ble_eq_true rfl, Nat.le_of_ble_eq_true rfl⟩ ⟨by omega, by omega⟩ rfl (Nat.le_of_ble_eq_true rfl)) ?_
  refine z_isub (v := nI (100 - sumTo (o.1.1 4) (o.1.2 0))) X dX13_init_21 (pk_sub (by have := hI.2.2.2.1; omega)) ?_
  refine z_putF X dX13_init_22 gu_s in_X13 tyX13 tyX13_ok nmX13 rfl 2 (Nat.le_of_ble_eq_true rfl) q627 rfl rfl rfl rfl rfl (Nat.le_of_ble_eq_true rfl) ?_
  rw [gu_gu]
  have hwz3 : WallW G (gu w wq (.inr (12, [.ref (xa 5), .ref (q), .int (nI (100 - sumTo (o.1.1 4) (o.1.2 0)))]))) (xw xa) rr o.1 := wl_far hX.wall hne2
  refine z_aload_n X dX13_init_25 rfl 2 rfl ?_
  refine z_isnull X dX13_init_26 ?_
  refine z_aload_n X dX13_init_29 rfl 2 rfl ?_
  refine z_aload_n X dX13_init_30 rfl 1 rfl ?_
  refine z_cv (z_runU (owner := "ThreeSizes$Rule") (x := ⟨"ThreeSizes$Rule", "learns", "(LThreeSizes$Wall;)V"⟩) (rest := []) (n := 1) X [.ref (xa 5)] m_X6_learns dX13_init_31 ((gu_n hne1).trans hru) rfl (lw_app (lw_in _ [624, 605, 610, 604, 82] (by decide +kernel) (by decide +kernel)) (lw_meth q741)) (by decide +kernel) (by decide +kernel) rfl ⟨Nat.le_of_ble_eq_true rfl, Nat.le_of_ble_eq_true rfl⟩ ⟨by omega, by omega⟩ rfl (Nat.le_of_ble_eq_true rfl)) (fun w6 h5 => ?_)
  subst h5
  exact z_vret X dX13_init_34 (by omega) (by omega) ⟨rfl, rfl⟩
set_option maxHeartbeats 2000000 in
theorem m_X13_initR_4 {l : Launch} {G : GG} {w : GW} {xa : Nat → Nat} {rr : Option Nat} {o : OS} {im : IM} (hX : XT G w xa rr o im) (hO : oInv o) {q ra : Nat} (hru : w q = some (.inr (9, [.int (nI ra)]))) {wq : Nat} (hq : w wq = some (.inr (12, [.null, .null, .int 0]))) : gM l G yX13_init cX13_init 3 none 4 0 0 [.ref (wq), .ref (xa 5), .ref (q)] w (pV (fun w1 => w1 = gu w wq (.inr (12, [.ref (xa 5), .ref q, .int (nI (100 - sumTo (o.1.1 4) (o.1.2 0)))])))) := by
  refine Z.met (own := "ThreeSizes$Worths") (nm := "<init>") (lv := [(0, .ref (wq)), (1, .ref (xa 5)), (2, .ref (q))]) (by decide) rfl rfl (Nat.le_of_ble_eq_true rfl) rfl (fun κ X => ?_)
  have hI := hO.1
  refine z_aload_n X dX13_init_0 rfl 0 rfl ?_
  refine z_objInit X dX13_init_1 q619 q108 q109 (Nat.le_of_ble_eq_true rfl) (Nat.le_of_ble_eq_true rfl) ?_
  refine z_aload_n X dX13_init_4 rfl 0 rfl ?_
  refine z_aload_n X dX13_init_5 rfl 1 rfl ?_
  refine z_putF X dX13_init_6 hq in_X13 tyX13 tyX13_ok nmX13 rfl 0 (Nat.le_of_ble_eq_true rfl) q625 rfl rfl rfl rfl rfl (Nat.le_of_ble_eq_true rfl) ?_
  have hne1 : q ≠ wq := fun z => by rw [z, hq] at hru; cases hru
  have hne2 : ∀ i, i < 8 → xw xa i ≠ wq := fun i hi z => by have h1 := hX.wall.neO hq (by decide) i (by simpa [wP] using hi); exact h1 z
  have hwz1 : WallW G (gu w wq (.inr (12, [.ref (xa 5), .null, .int (0)]))) (xw xa) rr o.1 := wl_far hX.wall hne2
  refine z_aload_n X dX13_init_9 rfl 0 rfl ?_
  refine z_aload_n X dX13_init_10 rfl 2 rfl ?_
  refine z_putF X dX13_init_11 gu_s in_X13 tyX13 tyX13_ok nmX13 rfl 1 (Nat.le_of_ble_eq_true rfl) q626 rfl rfl rfl rfl rfl (Nat.le_of_ble_eq_true rfl) ?_
  rw [gu_gu]
  have hwz2 : WallW G (gu w wq (.inr (12, [.ref (xa 5), .ref (q), .int (0)]))) (xw xa) rr o.1 := wl_far hX.wall hne2
  refine z_aload_n X dX13_init_14 rfl 0 rfl ?_
  refine z_bipush (v := nI (100)) X dX13_init_15 (by decide) ?_
  refine z_aload_n X dX13_init_17 rfl 1 rfl ?_
  refine z_cip (z_runV (rest := [.int (nI (100)), .ref (wq)]) (n := 0) X [] (m_X2_all hwz2 hI) dX13_init_18 (wl_o hwz2) rfl (lw_V q620 q621 q622 q68 q623) hv_X2_all rfl ⟨Nat.le_of_ble_eq_true rfl, Nat.le_of_ble_eq_true rfl⟩ ⟨by omega, by omega⟩ rfl (Nat.le_of_ble_eq_true rfl)) ?_
  refine z_isub (v := nI (100 - sumTo (o.1.1 4) (o.1.2 0))) X dX13_init_21 (pk_sub (by have := hI.2.2.2.1; omega)) ?_
  refine z_putF X dX13_init_22 gu_s in_X13 tyX13 tyX13_ok nmX13 rfl 2 (Nat.le_of_ble_eq_true rfl) q627 rfl rfl rfl rfl rfl (Nat.le_of_ble_eq_true rfl) ?_
  rw [gu_gu]
  have hwz3 : WallW G (gu w wq (.inr (12, [.ref (xa 5), .ref (q), .int (nI (100 - sumTo (o.1.1 4) (o.1.2 0)))]))) (xw xa) rr o.1 := wl_far hX.wall hne2
  refine z_aload_n X dX13_init_25 rfl 2 rfl ?_
  refine z_isnull X dX13_init_26 ?_
  refine z_aload_n X dX13_init_29 rfl 2 rfl ?_
  refine z_aload_n X dX13_init_30 rfl 1 rfl ?_
  refine z_cv (z_runU (owner := "ThreeSizes$Rule") (x := ⟨"ThreeSizes$Rule", "learns", "(LThreeSizes$Wall;)V"⟩) (rest := []) (n := 1) X [.ref (xa 5)] m_X6_learns dX13_init_31 ((gu_n hne1).trans hru) rfl (lw_app (lw_in _ [624, 605, 607, 604, 82] (by decide +kernel) (by decide +kernel)) (lw_meth q741)) (by decide +kernel) (by decide +kernel) rfl ⟨Nat.le_of_ble_eq_true rfl, Nat.le_of_ble_eq_true rfl⟩ ⟨by omega, by omega⟩ rfl (Nat.le_of_ble_eq_true rfl)) (fun w6 h5 => ?_)
  subst h5
  exact z_vret X dX13_init_34 (by omega) (by omega) ⟨rfl, rfl⟩
set_option maxHeartbeats 2000000 in
theorem m_X13_initR_5 {l : Launch} {G : GG} {w : GW} {xa : Nat → Nat} {rr : Option Nat} {o : OS} {im : IM} (hX : XT G w xa rr o im) (hO : oInv o) {q ra : Nat} (hru : w q = some (.inr (10, [.int (nI ra)]))) {wq : Nat} (hq : w wq = some (.inr (12, [.null, .null, .int 0]))) : gM l G yX13_init cX13_init 3 none 4 0 0 [.ref (wq), .ref (xa 5), .ref (q)] w (pV (fun w1 => w1 = gu w wq (.inr (12, [.ref (xa 5), .ref q, .int (nI (100 - sumTo (o.1.1 4) (o.1.2 0)))])))) := by
  refine Z.met (own := "ThreeSizes$Worths") (nm := "<init>") (lv := [(0, .ref (wq)), (1, .ref (xa 5)), (2, .ref (q))]) (by decide) rfl rfl (Nat.le_of_ble_eq_true rfl) rfl (fun κ X => ?_)
  have hI := hO.1
  refine z_aload_n X dX13_init_0 rfl 0 rfl ?_
  refine z_objInit X dX13_init_1 q619 q108 q109 (Nat.le_of_ble_eq_true rfl) (Nat.le_of_ble_eq_true rfl) ?_
  refine z_aload_n X dX13_init_4 rfl 0 rfl ?_
  refine z_aload_n X dX13_init_5 rfl 1 rfl ?_
  refine z_putF X dX13_init_6 hq in_X13 tyX13 tyX13_ok nmX13 rfl 0 (Nat.le_of_ble_eq_true rfl) q625 rfl rfl rfl rfl rfl (Nat.le_of_ble_eq_true rfl) ?_
  have hne1 : q ≠ wq := fun z => by rw [z, hq] at hru; cases hru
  have hne2 : ∀ i, i < 8 → xw xa i ≠ wq := fun i hi z => by have h1 := hX.wall.neO hq (by decide) i (by simpa [wP] using hi); exact h1 z
  have hwz1 : WallW G (gu w wq (.inr (12, [.ref (xa 5), .null, .int (0)]))) (xw xa) rr o.1 := wl_far hX.wall hne2
  refine z_aload_n X dX13_init_9 rfl 0 rfl ?_
  refine z_aload_n X dX13_init_10 rfl 2 rfl ?_
  refine z_putF X dX13_init_11 gu_s in_X13 tyX13 tyX13_ok nmX13 rfl 1 (Nat.le_of_ble_eq_true rfl) q626 rfl rfl rfl rfl rfl (Nat.le_of_ble_eq_true rfl) ?_
  rw [gu_gu]
  have hwz2 : WallW G (gu w wq (.inr (12, [.ref (xa 5), .ref (q), .int (0)]))) (xw xa) rr o.1 := wl_far hX.wall hne2
  refine z_aload_n X dX13_init_14 rfl 0 rfl ?_
  refine z_bipush (v := nI (100)) X dX13_init_15 (by decide) ?_
  refine z_aload_n X dX13_init_17 rfl 1 rfl ?_
  refine z_cip (z_runV (rest := [.int (nI (100)), .ref (wq)]) (n := 0) X [] (m_X2_all hwz2 hI) dX13_init_18 (wl_o hwz2) rfl (lw_V q620 q621 q622 q68 q623) hv_X2_all rfl ⟨Nat.le_of_ble_eq_true rfl, Nat.le_of_ble_eq_true rfl⟩ ⟨by omega, by omega⟩ rfl (Nat.le_of_ble_eq_true rfl)) ?_
  refine z_isub (v := nI (100 - sumTo (o.1.1 4) (o.1.2 0))) X dX13_init_21 (pk_sub (by have := hI.2.2.2.1; omega)) ?_
  refine z_putF X dX13_init_22 gu_s in_X13 tyX13 tyX13_ok nmX13 rfl 2 (Nat.le_of_ble_eq_true rfl) q627 rfl rfl rfl rfl rfl (Nat.le_of_ble_eq_true rfl) ?_
  rw [gu_gu]
  have hwz3 : WallW G (gu w wq (.inr (12, [.ref (xa 5), .ref (q), .int (nI (100 - sumTo (o.1.1 4) (o.1.2 0)))]))) (xw xa) rr o.1 := wl_far hX.wall hne2
  refine z_aload_n X dX13_init_25 rfl 2 rfl ?_
  refine z_isnull X dX13_init_26 ?_
  refine z_aload_n X dX13_init_29 rfl 2 rfl ?_
  refine z_aload_n X dX13_init_30 rfl 1 rfl ?_
  refine z_cv (z_runU (owner := "ThreeSizes$Rule") (x := ⟨"ThreeSizes$Rule", "learns", "(LThreeSizes$Wall;)V"⟩) (rest := []) (n := 1) X [.ref (xa 5)] m_X6_learns dX13_init_31 ((gu_n hne1).trans hru) rfl (lw_app (lw_in _ [624, 605, 606, 604, 82] (by decide +kernel) (by decide +kernel)) (lw_meth q741)) (by decide +kernel) (by decide +kernel) rfl ⟨Nat.le_of_ble_eq_true rfl, Nat.le_of_ble_eq_true rfl⟩ ⟨by omega, by omega⟩ rfl (Nat.le_of_ble_eq_true rfl)) (fun w6 h5 => ?_)
  subst h5
  exact z_vret X dX13_init_34 (by omega) (by omega) ⟨rfl, rfl⟩
