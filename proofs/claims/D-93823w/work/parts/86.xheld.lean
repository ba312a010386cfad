/-! x: what a shelf holds, tested and cast; the row of a shelf or a refusal -/
set_option maxRecDepth 100000
section ZRU
variable {κ : ZK} {cc : ByteArray} {own nm : String} {nL : Nat} {ret : Option FieldType} {l : Launch} {d mc ms : Nat} {G : GG} {w0 w : GW} {post : Option Value → GW → Prop} {lv lv2 : List (Nat × Value)} {a b pc : Nat} {st rest : List Value}
theorem z_instR (X : ZX κ cc own nL ret nm l d mc ms G w0 post) {i q kd ra tq : Nat} (hk : 1 ≤ kd ∧ kd ≤ 6) (hw : w q = some (rCell kd ra tq)) (hdg : decode cc pc = .ok (.instanceof i, 3)) (hq : Cond.classLink own i "ThreeSizes$Rule" ∈ lw_all) (k : Z κ w lv a b (pc + 3) (.int 1 :: st)) : Z κ w lv a b pc (.ref q :: st) := by
  rcases kd_cases hk with rfl | rfl | rfl | rfl | rfl | rfl
  · exact z_instY X (Is.obj X (show w q = some (.inr (6, [.int (nI ra)])) from hw) rfl) hdg hq q1961 k
  · exact z_instY X (Is.obj X (show w q = some (.inr (7, [.int (nI ra)])) from hw) rfl) hdg hq q1960 k
  · exact z_instY X (Is.obj X (show w q = some (.inr (8, [.int (nI ra)])) from hw) rfl) hdg hq q1962 k
  · exact z_instY X (Is.obj X (show w q = some (.inr (9, [.int (nI ra)])) from hw) rfl) hdg hq q1959 k
  · exact z_instY X (Is.obj X (show w q = some (.inr (10, [.int (nI ra)])) from hw) rfl) hdg hq q1958 k
  · exact z_instY X (Is.obj X (show w q = some (.inr (11, [.int (nI ra), .ref tq])) from hw) rfl) hdg hq q1963 k

theorem z_castR (X : ZX κ cc own nL ret nm l d mc ms G w0 post) {i q kd ra tq : Nat} (hk : 1 ≤ kd ∧ kd ≤ 6) (hw : w q = some (rCell kd ra tq)) (hdg : decode cc pc = .ok (.checkcast i, 3)) (hq : Cond.classLink own i "ThreeSizes$Rule" ∈ lw_all) (k : Z κ w lv a b (pc + 3) (.ref q :: st)) : Z κ w lv a b pc (.ref q :: st) := by
  rcases kd_cases hk with rfl | rfl | rfl | rfl | rfl | rfl
  · exact z_castY X (Is.obj X (show w q = some (.inr (6, [.int (nI ra)])) from hw) rfl) hdg hq q1961 k
  · exact z_castY X (Is.obj X (show w q = some (.inr (7, [.int (nI ra)])) from hw) rfl) hdg hq q1960 k
  · exact z_castY X (Is.obj X (show w q = some (.inr (8, [.int (nI ra)])) from hw) rfl) hdg hq q1962 k
  · exact z_castY X (Is.obj X (show w q = some (.inr (9, [.int (nI ra)])) from hw) rfl) hdg hq q1959 k
  · exact z_castY X (Is.obj X (show w q = some (.inr (10, [.int (nI ra)])) from hw) rfl) hdg hq q1958 k
  · exact z_castY X (Is.obj X (show w q = some (.inr (11, [.int (nI ra), .ref tq])) from hw) rfl) hdg hq q1963 k

theorem z_instRow (X : ZX κ cc own nL ret nm l d mc ms G w0 post) {i q k n : Nat} {f : Nat → Int64} (hk : k ≤ 4) (hw : w q = some (rowE G k n f)) (hdg : decode cc pc = .ok (.instanceof i, 3)) (hq : Cond.classLink own i "ThreeSizes$Rule" ∈ lw_all) (kk : Z κ w lv a b (pc + 3) (.int 0 :: st)) : Z κ w lv a b pc (.ref q :: st) := by
  rcases (show k = 0 ∨ k = 1 ∨ k = 2 ∨ k = 3 ∨ k = 4 by omega) with rfl | rfl | rfl | rfl | rfl
  · exact z_instNo X (Is.arr X (show w q = some (.inl (G.2.1 2, n, .inl (fun j => (f j).toInt32))) from hw) (fun _ h => nmA_byte h)) hdg hq [false, true, true, false, false, false, true, true, false, false] rfl kk
  · exact z_instNo X (Is.arr X (show w q = some (.inl (G.2.1 3, n, .inl (fun j => (f j).toInt32))) from hw) (fun _ h => nmA_short h)) hdg hq [false, true, true, false, false, false, true, true, false, true] rfl kk
  · exact z_instNo X (Is.arr X (show w q = some (.inl (G.2.1 0, n, .inl (fun j => (f j).toInt32))) from hw) (fun _ h => nmA_int h)) hdg hq [false, true, true, false, false, false, true, false, true, false] rfl kk
  · exact z_instNo X (Is.arr X (show w q = some (.inl (G.2.1 1, n, .inr (.inl f))) from hw) (fun _ h => nmA_long h)) hdg hq [false, true, true, false, false, false, true, true, true, false] rfl kk
  · exact z_instNo X (Is.arr X (show w q = some (.inl (G.2.1 4, n, .inl (fun j => (f j).toInt32))) from hw) (fun _ h => nmA_bool h)) hdg hq [false, true, true, false, false, false, true, true, true, true] rfl kk
end ZRU
def rfE (by_ : Int32) (E : String) (x : Nat) (w w1 : GW) : Prop := E = "ThreeSizes$Refused" ∧ w x = none ∧ w1 = gu w x (.inr (5, [.null, .null, .null, .null, .null, .int 0, .int by_]))
set_option maxHeartbeats 2000000 in
theorem m_X0_rowIn {l : Launch} {G : GG} {w : GW} {xa : Nat → Nat} {rr : Option Nat} {o : OS} {im : IM} (hX : XT G w xa rr o im) (hO : oInv o) {s : Nat} (hs : s < 8) : gMX l G yX0_rowIn (ws_ yX0_rowIn cX0_rowIn 3 (some (.object "java/lang/Object"))) 12 1 7 [.ref (xa 0), .int (nI (s))] w (pA (fun r w1 => o.2.2.2.1 0 s = 1 ∧ r = xa (40 + s) ∧ w1 = w)) (fun E x w1 => ∃ by_, rfE by_ E x w w1 ∧ ((o.2.2.2.1 0 s = 2 ∧ by_ = -3) ∨ (o.2.2.2.1 0 s = 0 ∧ by_ = -4))) := by
  refine Z.metX (own := "ThreeSizes") (nm := "rowIn") (lv := [(0, .ref (xa 0)), (1, .int (nI (s)))]) (by decide) rfl rfl (Nat.le_of_ble_eq_true rfl) rfl (fun κ X Y V0 => ?_)
  refine z_aload_n X dX0_rowIn_0 rfl 0 rfl ?_
  refine z_get X dX0_rowIn_1 hX.ob in_X0 rfl 2 (Nat.le_of_ble_eq_true rfl) q235 rfl ?_
  refine z_iload_n X dX0_rowIn_4 rfl 1 rfl ?_
  refine z_aN7 (v := .ref (xa (30 + s))) X dX0_rowIn_5 hX.sh (by omega) (by omega) (shF_at (by omega)) ?_
  have hq9 := hO.2.1 s (by omega)
  rcases hX.shelf (s := s) (by omega) with ⟨hk9, hs9⟩ | ⟨hk9, hs9, f9, hr9, ho9, he9⟩ | ⟨hk9, hs9, hr9, hl9⟩
  · skip
    refine z_get X dX0_rowIn_6 hs9 in_X3 rfl 0 (Nat.le_of_ble_eq_true rfl) q229 rfl ?_
    refine z_astore_nN (lv2 := [(2, .null), (0, .ref (xa 0)), (1, .int (nI (s)))]) X dX0_rowIn_9 rfl (Nat.le_of_ble_eq_true rfl) rfl ?_
    refine z_aload_nN X dX0_rowIn_10 rfl 0 rfl ?_
    refine z_instNl X dX0_rowIn_11 ?_
    refine z_if_eq_t (tgt := 27) X dX0_rowIn_14 (by decide) (by decide) ?_
    refine z_aload_nN X dX0_rowIn_27 rfl 0 rfl ?_
    refine z_nonnullN X dX0_rowIn_28 ?_
    refine z_new X dX0_rowIn_31 in_X5 tyX5 tyX5_ok (ci := 5) (fs := [.null, .null, .null, .null, .null, .int 0, .int 0]) q364 q389 q78 rfl (fun j hj => by rcases (show j = 0 ∨ j = 1 ∨ j = 2 ∨ j = 3 ∨ j = 4 ∨ j = 5 ∨ j = 6 by omega) with rfl | rfl | rfl | rfl | rfl | rfl | rfl <;> rfl) (by omega) (by omega) (fun q1 hq1 => ?_)
    have hXq1 := XT.fresh hX hq1 (e := .inr (5, [.null, .null, .null, .null, .null, .int 0, .int 0]))
    refine z_dup X dX0_rowIn_34 rfl ?_
    refine z_bipush (v := (-4)) X dX0_rowIn_35 (by decide) ?_
    refine z_cv (z_runI (rest := [.ref (q1)]) (n := 1) X [.int ((-4))] (m_X5_init gu_s (v := (-4))) dX0_rowIn_37 (lw_meth q399) q78 q397 q398 rfl hs_X5_init rfl ⟨Nat.le_of_ble_eq_true rfl, Nat.le_of_ble_eq_true rfl⟩ ⟨by omega, by omega⟩ rfl (Nat.le_of_ble_eq_true rfl)) (fun w4 h3 => ?_)
    rw [gu_gu] at h3
    subst h3
    refine z_athrow X gu_s rfl dX0_rowIn_40 ?_
    exact zt_out X Y zp_n ⟨-4, ⟨rfl, hq1, rfl⟩, Or.inr ⟨hk9, rfl⟩⟩ ⟨by omega, by omega⟩
  · skip
    refine z_get X dX0_rowIn_6 hs9 in_X3 rfl 0 (Nat.le_of_ble_eq_true rfl) q229 rfl ?_
    refine z_astore_n (lv2 := [(2, .ref (xa (40 + s))), (0, .ref (xa 0)), (1, .int (nI (s)))]) X dX0_rowIn_9 rfl (Nat.le_of_ble_eq_true rfl) rfl ?_
    refine z_aload_n X dX0_rowIn_10 rfl 0 rfl ?_
    refine z_instRow X hq9.2.1 hr9 dX0_rowIn_11 q388 ?_
    refine z_if_eq_t (tgt := 27) X dX0_rowIn_14 (by decide) (by decide) ?_
    refine z_aload_n X dX0_rowIn_27 rfl 0 rfl ?_
    refine z_nonnull (tgt := 41) X dX0_rowIn_28 (by decide) ?_
    refine z_aload_n X dX0_rowIn_41 rfl 0 rfl ?_
    exact z_aret X dX0_rowIn_42 (Or.inl ⟨_, rfl⟩) (by omega) (by omega) ⟨_, rfl, ⟨hk9, rfl, rfl⟩⟩
  · skip
    refine z_get X dX0_rowIn_6 hs9 in_X3 rfl 0 (Nat.le_of_ble_eq_true rfl) q229 rfl ?_
    refine z_astore_n (lv2 := [(2, .ref (xa (40 + s))), (0, .ref (xa 0)), (1, .int (nI (s)))]) X dX0_rowIn_9 rfl (Nat.le_of_ble_eq_true rfl) rfl ?_
    refine z_aload_n X dX0_rowIn_10 rfl 0 rfl ?_
    refine z_instR X ⟨hq9.2.2.2.2.1 hk9, hq9.2.2.2.1⟩ hr9 dX0_rowIn_11 q388 ?_
    refine z_if_eq_f (tgt := 27) X dX0_rowIn_14 (by decide) (by decide) ?_
    refine z_new X dX0_rowIn_17 in_X5 tyX5 tyX5_ok (ci := 5) (fs := [.null, .null, .null, .null, .null, .int 0, .int 0]) q364 q389 q78 rfl (fun j hj => by rcases (show j = 0 ∨ j = 1 ∨ j = 2 ∨ j = 3 ∨ j = 4 ∨ j = 5 ∨ j = 6 by omega) with rfl | rfl | rfl | rfl | rfl | rfl | rfl <;> rfl) (by omega) (by omega) (fun q5 hq5 => ?_)
    have hXq5 := XT.fresh hX hq5 (e := .inr (5, [.null, .null, .null, .null, .null, .int 0, .int 0]))
    refine z_dup X dX0_rowIn_20 rfl ?_
    refine z_bipush (v := (-3)) X dX0_rowIn_21 (by decide) ?_
    refine z_cv (z_runI (rest := [.ref (q5)]) (n := 1) X [.int ((-3))] (m_X5_init gu_s (v := (-3))) dX0_rowIn_23 (lw_meth q399) q78 q397 q398 rfl hs_X5_init rfl ⟨Nat.le_of_ble_eq_true rfl, Nat.le_of_ble_eq_true rfl⟩ ⟨by omega, by omega⟩ rfl (Nat.le_of_ble_eq_true rfl)) (fun w8 h7 => ?_)
    rw [gu_gu] at h7
    subst h7
    refine z_athrow X gu_s rfl dX0_rowIn_26 ?_
    exact zt_out X Y zp_n ⟨-3, ⟨rfl, hq5, rfl⟩, Or.inl ⟨hk9, rfl⟩⟩ ⟨by omega, by omega⟩
