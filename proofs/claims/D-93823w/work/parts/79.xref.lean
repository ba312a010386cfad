/-! x: Refused, Fault: their constructors; what refuses -/
set_option maxRecDepth 100000
theorem gu_back {w : GW} {q : Nat} {e e2 : va_E} (h : w q = some e) (he : e2 = e) : gu w q e2 = w := by rw [he]; exact gu_self h
set_option maxHeartbeats 2000000 in
theorem m_J0_init_3_X5 {l : Launch} {G : GG} {w : GW} {q : Nat} (hq : w q = some (.inr (5, [.null, .null, .null, .null, .null, .int 0, .int 0]))) : gM l G yJ0_init_3 cJ0_init_3 5 none 3 0 0 [.ref (q), .null, .null, .int (nI (0)), .int (nI (0))] w (pV (fun w1 => w1 = w)) := by
  refine Z.met (own := "java/lang/Throwable") (nm := "<init>") (lv := [(0, .ref (q)), (1, .null), (2, .null), (3, .int (nI (0))), (4, .int (nI (0)))]) (by decide) rfl rfl (Nat.le_of_ble_eq_true rfl) rfl (fun κ X => ?_)
  refine z_aload_n X dJ0_init_3_0 rfl 0 rfl ?_
  refine z_objInit X dJ0_init_3_1 q269 q108 q109 (Nat.le_of_ble_eq_true rfl) (Nat.le_of_ble_eq_true rfl) ?_
  refine z_aload_n X dJ0_init_3_4 rfl 0 rfl ?_
  refine z_aload_n X dJ0_init_3_5 rfl 0 rfl ?_
  refine z_put X dJ0_init_3_6 hq in_X5 tyX5 tyX5_ok nmX5 rfl 0 (Nat.le_of_ble_eq_true rfl) q305 rfl rfl rfl (Nat.le_of_ble_eq_true rfl) ?_
  refine z_aload_n X dJ0_init_3_9 rfl 0 rfl ?_
  refine z_gstQ X (fun s hK => (kU hK).1) dJ0_init_3_10 q270 (fun o1 => ?_)
  refine z_put X dJ0_init_3_13 gu_s in_X5 tyX5 tyX5_ok nmX5 rfl 1 (Nat.le_of_ble_eq_true rfl) q306 rfl (by rcases (o1) with _ | _ <;> rfl) (by rcases (o1) with _ | _ <;> rfl) (Nat.le_of_ble_eq_true rfl) ?_
  refine z_aload_n X dJ0_init_3_16 rfl 0 rfl ?_
  refine z_gstQ X (fun s hK => (kS hK).1) dJ0_init_3_17 q272 (fun o2 => ?_)
  refine z_put X dJ0_init_3_20 gu_s in_X5 tyX5 tyX5_ok nmX5 rfl 2 (Nat.le_of_ble_eq_true rfl) q307 rfl (by rcases (o2) with _ | _ <;> rfl) (by rcases (o2) with _ | _ <;> rfl) (Nat.le_of_ble_eq_true rfl) ?_
  refine z_iload X dJ0_init_3_23 4 rfl ?_
  refine z_if_eq_t (tgt := 36) X dJ0_init_3_25 (by decide) (by decide) ?_
  refine z_aload_n X dJ0_init_3_36 rfl 0 rfl ?_
  refine z_null X dJ0_init_3_37 ?_
  refine z_put X dJ0_init_3_38 gu_s in_X5 tyX5 tyX5_ok nmX5 rfl 1 (Nat.le_of_ble_eq_true rfl) q306 rfl rfl rfl (Nat.le_of_ble_eq_true rfl) ?_
  refine z_aload_n X dJ0_init_3_41 rfl 0 rfl ?_
  refine z_aload_nN X dJ0_init_3_42 rfl 1 rfl ?_
  refine z_put X dJ0_init_3_43 gu_s in_X5 tyX5 tyX5_ok nmX5 rfl 3 (Nat.le_of_ble_eq_true rfl) q304 rfl rfl rfl (Nat.le_of_ble_eq_true rfl) ?_
  refine z_aload_n X dJ0_init_3_46 rfl 0 rfl ?_
  refine z_aload_nN X dJ0_init_3_47 rfl 2 rfl ?_
  refine z_put X dJ0_init_3_48 gu_s in_X5 tyX5 tyX5_ok nmX5 rfl 0 (Nat.le_of_ble_eq_true rfl) q305 rfl rfl rfl (Nat.le_of_ble_eq_true rfl) ?_
  refine z_iload_n X dJ0_init_3_51 rfl 3 rfl ?_
  refine z_if_ne_f (tgt := 60) X dJ0_init_3_52 (by decide) (by decide) ?_
  refine z_aload_n X dJ0_init_3_55 rfl 0 rfl ?_
  refine z_null X dJ0_init_3_56 ?_
  refine z_put X dJ0_init_3_57 gu_s in_X5 tyX5 tyX5_ok nmX5 rfl 2 (Nat.le_of_ble_eq_true rfl) q307 rfl rfl rfl (Nat.le_of_ble_eq_true rfl) ?_
  exact z_vret X dJ0_init_3_60 (by omega) (by omega) ⟨rfl, (by rw [gu_gu]; rw [gu_gu]; rw [gu_gu]; rw [gu_gu]; rw [gu_gu]; rw [gu_gu]; exact gu_back hq rfl)⟩
set_option maxHeartbeats 2000000 in
theorem m_J1_init_2_X5 {l : Launch} {G : GG} {w : GW} {q : Nat} (hq : w q = some (.inr (5, [.null, .null, .null, .null, .null, .int 0, .int 0]))) : gM l G yJ1_init_2 cJ1_init_2 5 none 5 0 0 [.ref (q), .null, .null, .int (nI (0)), .int (nI (0))] w (pV (fun w1 => w1 = w)) := by
  refine Z.met (own := "java/lang/Exception") (nm := "<init>") (lv := [(0, .ref (q)), (1, .null), (2, .null), (3, .int (nI (0))), (4, .int (nI (0)))]) (by decide) rfl rfl (Nat.le_of_ble_eq_true rfl) rfl (fun κ X => ?_)
  refine z_aload_n X dJ1_init_2_0 rfl 0 rfl ?_
  refine z_aload_nN X dJ1_init_2_1 rfl 1 rfl ?_
  refine z_aload_nN X dJ1_init_2_2 rfl 2 rfl ?_
  refine z_iload_n X dJ1_init_2_3 rfl 3 rfl ?_
  refine z_iload X dJ1_init_2_4 4 rfl ?_
  refine z_cv (z_runI (rest := []) (n := 4) X [.null, .null, .int (nI (0)), .int (nI (0))] (m_J0_init_3_X5 hq) dJ1_init_2_6 (lw_meth q408) q71 q406 q407 rfl hs_J0_init_3 rfl ⟨Nat.le_of_ble_eq_true rfl, Nat.le_of_ble_eq_true rfl⟩ ⟨by omega, by omega⟩ rfl (Nat.le_of_ble_eq_true rfl)) (fun w3 h2 => ?_)
  rw [h2]
  exact z_vret X dJ1_init_2_9 (by omega) (by omega) ⟨rfl, rfl⟩
set_option maxHeartbeats 2000000 in
theorem m_J2_init_2_X5 {l : Launch} {G : GG} {w : GW} {q : Nat} (hq : w q = some (.inr (5, [.null, .null, .null, .null, .null, .int 0, .int 0]))) : gM l G yJ2_init_2 cJ2_init_2 5 none 7 0 0 [.ref (q), .null, .null, .int (nI (0)), .int (nI (0))] w (pV (fun w1 => w1 = w)) := by
  refine Z.met (own := "java/lang/RuntimeException") (nm := "<init>") (lv := [(0, .ref (q)), (1, .null), (2, .null), (3, .int (nI (0))), (4, .int (nI (0)))]) (by decide) rfl rfl (Nat.le_of_ble_eq_true rfl) rfl (fun κ X => ?_)
  refine z_aload_n X dJ2_init_2_0 rfl 0 rfl ?_
  refine z_aload_nN X dJ2_init_2_1 rfl 1 rfl ?_
  refine z_aload_nN X dJ2_init_2_2 rfl 2 rfl ?_
  refine z_iload_n X dJ2_init_2_3 rfl 3 rfl ?_
  refine z_iload X dJ2_init_2_4 4 rfl ?_
  refine z_cv (z_runI (rest := []) (n := 4) X [.null, .null, .int (nI (0)), .int (nI (0))] (m_J1_init_2_X5 hq) dJ2_init_2_6 (lw_meth q405) q72 q403 q404 rfl hs_J1_init_2 rfl ⟨Nat.le_of_ble_eq_true rfl, Nat.le_of_ble_eq_true rfl⟩ ⟨by omega, by omega⟩ rfl (Nat.le_of_ble_eq_true rfl)) (fun w3 h2 => ?_)
  rw [h2]
  exact z_vret X dJ2_init_2_9 (by omega) (by omega) ⟨rfl, rfl⟩
set_option maxHeartbeats 2000000 in
theorem m_X5_init {l : Launch} {G : GG} {w : GW} {q : Nat} (hq : w q = some (.inr (5, [.null, .null, .null, .null, .null, .int 0, .int 0]))) {v : Int32} : gM l G yX5_init cX5_init 2 none 9 0 0 [.ref (q), .int (v)] w (pV (fun w1 => w1 = gu w q (.inr (5, [.null, .null, .null, .null, .null, .int 0, .int v])))) := by
  refine Z.met (own := "ThreeSizes$Refused") (nm := "<init>") (lv := [(0, .ref (q)), (1, .int (v))]) (by decide) rfl rfl (Nat.le_of_ble_eq_true rfl) rfl (fun κ X => ?_)
  refine z_aload_n X dX5_init_0 rfl 0 rfl ?_
  refine z_null X dX5_init_1 ?_
  refine z_null X dX5_init_2 ?_
  refine z_iconst (v := nI (0)) X dX5_init_3 ci0 ?_
  refine z_iconst (v := nI (0)) X dX5_init_4 ci0 ?_
  refine z_cv (z_runI (rest := []) (n := 4) X [.null, .null, .int (nI (0)), .int (nI (0))] (m_J2_init_2_X5 hq) dX5_init_5 (lw_meth q402) q73 q400 q401 rfl hs_J2_init_2 rfl ⟨Nat.le_of_ble_eq_true rfl, Nat.le_of_ble_eq_true rfl⟩ ⟨by omega, by omega⟩ rfl (Nat.le_of_ble_eq_true rfl)) (fun w3 h2 => ?_)
  rw [h2]
  refine z_aload_n X dX5_init_8 rfl 0 rfl ?_
  refine z_iload_n X dX5_init_9 rfl 1 rfl ?_
  refine z_putF X dX5_init_10 hq in_X5 tyX5 tyX5_ok nmX5 rfl 6 (Nat.le_of_ble_eq_true rfl) q409 rfl rfl rfl rfl rfl (Nat.le_of_ble_eq_true rfl) ?_
  exact z_vret X dX5_init_13 (by omega) (by omega) ⟨rfl, rfl⟩
set_option maxHeartbeats 2000000 in
theorem m_J0_init_3_X15 {l : Launch} {G : GG} {w : GW} {q : Nat} (hq : w q = some (.inr (14, [.null, .null, .null, .null, .null, .int 0, .int 0]))) : gM l G yJ0_init_3 cJ0_init_3 5 none 3 0 0 [.ref (q), .null, .null, .int (nI (0)), .int (nI (0))] w (pV (fun w1 => w1 = w)) := by
  refine Z.met (own := "java/lang/Throwable") (nm := "<init>") (lv := [(0, .ref (q)), (1, .null), (2, .null), (3, .int (nI (0))), (4, .int (nI (0)))]) (by decide) rfl rfl (Nat.le_of_ble_eq_true rfl) rfl (fun κ X => ?_)
  refine z_aload_n X dJ0_init_3_0 rfl 0 rfl ?_
  refine z_objInit X dJ0_init_3_1 q269 q108 q109 (Nat.le_of_ble_eq_true rfl) (Nat.le_of_ble_eq_true rfl) ?_
  refine z_aload_n X dJ0_init_3_4 rfl 0 rfl ?_
  refine z_aload_n X dJ0_init_3_5 rfl 0 rfl ?_
  refine z_put X dJ0_init_3_6 hq in_X15 tyX15 tyX15_ok nmX15 rfl 0 (Nat.le_of_ble_eq_true rfl) q305 rfl rfl rfl (Nat.le_of_ble_eq_true rfl) ?_
  refine z_aload_n X dJ0_init_3_9 rfl 0 rfl ?_
  refine z_gstQ X (fun s hK => (kU hK).1) dJ0_init_3_10 q270 (fun o1 => ?_)
  refine z_put X dJ0_init_3_13 gu_s in_X15 tyX15 tyX15_ok nmX15 rfl 1 (Nat.le_of_ble_eq_true rfl) q306 rfl (by rcases (o1) with _ | _ <;> rfl) (by rcases (o1) with _ | _ <;> rfl) (Nat.le_of_ble_eq_true rfl) ?_
  refine z_aload_n X dJ0_init_3_16 rfl 0 rfl ?_
  refine z_gstQ X (fun s hK => (kS hK).1) dJ0_init_3_17 q272 (fun o2 => ?_)
  refine z_put X dJ0_init_3_20 gu_s in_X15 tyX15 tyX15_ok nmX15 rfl 2 (Nat.le_of_ble_eq_true rfl) q307 rfl (by rcases (o2) with _ | _ <;> rfl) (by rcases (o2) with _ | _ <;> rfl) (Nat.le_of_ble_eq_true rfl) ?_
  refine z_iload X dJ0_init_3_23 4 rfl ?_
  refine z_if_eq_t (tgt := 36) X dJ0_init_3_25 (by decide) (by decide) ?_
  refine z_aload_n X dJ0_init_3_36 rfl 0 rfl ?_
  refine z_null X dJ0_init_3_37 ?_
  refine z_put X dJ0_init_3_38 gu_s in_X15 tyX15 tyX15_ok nmX15 rfl 1 (Nat.le_of_ble_eq_true rfl) q306 rfl rfl rfl (Nat.le_of_ble_eq_true rfl) ?_
  refine z_aload_n X dJ0_init_3_41 rfl 0 rfl ?_
  refine z_aload_nN X dJ0_init_3_42 rfl 1 rfl ?_
  refine z_put X dJ0_init_3_43 gu_s in_X15 tyX15 tyX15_ok nmX15 rfl 3 (Nat.le_of_ble_eq_true rfl) q304 rfl rfl rfl (Nat.le_of_ble_eq_true rfl) ?_
  refine z_aload_n X dJ0_init_3_46 rfl 0 rfl ?_
  refine z_aload_nN X dJ0_init_3_47 rfl 2 rfl ?_
  refine z_put X dJ0_init_3_48 gu_s in_X15 tyX15 tyX15_ok nmX15 rfl 0 (Nat.le_of_ble_eq_true rfl) q305 rfl rfl rfl (Nat.le_of_ble_eq_true rfl) ?_
  refine z_iload_n X dJ0_init_3_51 rfl 3 rfl ?_
  refine z_if_ne_f (tgt := 60) X dJ0_init_3_52 (by decide) (by decide) ?_
  refine z_aload_n X dJ0_init_3_55 rfl 0 rfl ?_
  refine z_null X dJ0_init_3_56 ?_
  refine z_put X dJ0_init_3_57 gu_s in_X15 tyX15 tyX15_ok nmX15 rfl 2 (Nat.le_of_ble_eq_true rfl) q307 rfl rfl rfl (Nat.le_of_ble_eq_true rfl) ?_
  exact z_vret X dJ0_init_3_60 (by omega) (by omega) ⟨rfl, (by rw [gu_gu]; rw [gu_gu]; rw [gu_gu]; rw [gu_gu]; rw [gu_gu]; rw [gu_gu]; exact gu_back hq rfl)⟩
set_option maxHeartbeats 2000000 in
theorem m_J1_init_2_X15 {l : Launch} {G : GG} {w : GW} {q : Nat} (hq : w q = some (.inr (14, [.null, .null, .null, .null, .null, .int 0, .int 0]))) : gM l G yJ1_init_2 cJ1_init_2 5 none 5 0 0 [.ref (q), .null, .null, .int (nI (0)), .int (nI (0))] w (pV (fun w1 => w1 = w)) := by
  refine Z.met (own := "java/lang/Exception") (nm := "<init>") (lv := [(0, .ref (q)), (1, .null), (2, .null), (3, .int (nI (0))), (4, .int (nI (0)))]) (by decide) rfl rfl (Nat.le_of_ble_eq_true rfl) rfl (fun κ X => ?_)
  refine z_aload_n X dJ1_init_2_0 rfl 0 rfl ?_
  refine z_aload_nN X dJ1_init_2_1 rfl 1 rfl ?_
  refine z_aload_nN X dJ1_init_2_2 rfl 2 rfl ?_
  refine z_iload_n X dJ1_init_2_3 rfl 3 rfl ?_
  refine z_iload X dJ1_init_2_4 4 rfl ?_
  refine z_cv (z_runI (rest := []) (n := 4) X [.null, .null, .int (nI (0)), .int (nI (0))] (m_J0_init_3_X15 hq) dJ1_init_2_6 (lw_meth q408) q71 q406 q407 rfl hs_J0_init_3 rfl ⟨Nat.le_of_ble_eq_true rfl, Nat.le_of_ble_eq_true rfl⟩ ⟨by omega, by omega⟩ rfl (Nat.le_of_ble_eq_true rfl)) (fun w3 h2 => ?_)
  rw [h2]
  exact z_vret X dJ1_init_2_9 (by omega) (by omega) ⟨rfl, rfl⟩
set_option maxHeartbeats 2000000 in
theorem m_X15_init {l : Launch} {G : GG} {w : GW} {q : Nat} (hq : w q = some (.inr (14, [.null, .null, .null, .null, .null, .int 0, .int 0]))) {v : Int32} : gM l G yX15_init cX15_init 2 none 9 0 0 [.ref (q), .int (v)] w (pV (fun w1 => w1 = gu w q (.inr (14, [.null, .null, .null, .null, .null, .int 0, .int v])))) := by
  refine Z.met (own := "ThreeSizes$Fault") (nm := "<init>") (lv := [(0, .ref (q)), (1, .int (v))]) (by decide) rfl rfl (Nat.le_of_ble_eq_true rfl) rfl (fun κ X => ?_)
  refine z_aload_n X dX15_init_0 rfl 0 rfl ?_
  refine z_null X dX15_init_1 ?_
  refine z_null X dX15_init_2 ?_
  refine z_iconst (v := nI (0)) X dX15_init_3 ci0 ?_
  refine z_iconst (v := nI (0)) X dX15_init_4 ci0 ?_
  refine z_cv (z_runI (rest := []) (n := 4) X [.null, .null, .int (nI (0)), .int (nI (0))] (m_J1_init_2_X15 hq) dX15_init_5 (lw_meth q405) q72 q1074 q404 rfl hs_J1_init_2 rfl ⟨Nat.le_of_ble_eq_true rfl, Nat.le_of_ble_eq_true rfl⟩ ⟨by omega, by omega⟩ rfl (Nat.le_of_ble_eq_true rfl)) (fun w3 h2 => ?_)
  rw [h2]
  refine z_aload_n X dX15_init_8 rfl 0 rfl ?_
  refine z_iload_n X dX15_init_9 rfl 1 rfl ?_
  refine z_putF X dX15_init_10 hq in_X15 tyX15 tyX15_ok nmX15 rfl 6 (Nat.le_of_ble_eq_true rfl) q1075 rfl rfl rfl rfl rfl (Nat.le_of_ble_eq_true rfl) ?_
  exact z_vret X dX15_init_13 (by omega) (by omega) ⟨rfl, rfl⟩
