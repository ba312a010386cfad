/-! RULES: what they give; a wall's isState and brings; the best size -/
set_option maxRecDepth 100000
theorem sel_up {args : Array Value} {s : State} {C owner : String} {x y : MethodName} (hsame : (Cond.sameMethod x.cls owner x.name x.desc).before args s = true) (ho : owner ≠ "java/lang/invoke/MethodHandle" ∧ owner ≠ "java/lang/invoke/VarHandle") (h : (Cond.selects C ⟨owner, x.name, x.desc⟩ y).before args s = true) : (Cond.selects C x y).before args s = true := by
  obtain ⟨cn, ck, r1, hcn, hck, hni, hf, hn1⟩ := Cond.sameMethod_found hsame
  have hf2 := State.methodFound?_of_named hn1 ho
  unfold Cond.before Cond.holds at h ⊢
  simp only [Cond.value] at h ⊢
  rw [hf]
  rw [hf2] at h
  exact h
theorem dw_foldr {args : Array Value} {s : State} {L : List Cond} (h : (L.foldr Jvm.Cond.and Jvm.Cond.tt).before args s = true) : ∀ w ∈ L, w.before args s = true := by
  induction L with
  | nil => intro w hw; cases hw
  | cons a L ih =>
    have h2 : (Cond.and a (L.foldr Jvm.Cond.and Jvm.Cond.tt)).before args s = true := h
    rw [Cond.before_and, Bool.and_eq_true] at h2
    intro w hw
    rcases List.mem_cons.mp hw with rfl | hw
    · exact h2.1
    · exact ih h2.2 w hw
theorem gK.dw {G : GG} {s : State} {args : Array Value} (hK : gK G s) {w : Cond} (h : w ∈ defaultWords_1) (g : goodWord w = true) : w.before args s = true := by
  obtain ⟨-, s0, b, ⟨-, h2, -⟩, -, hW⟩ := hK
  have e : ∀ (a b2 : Cond), (Cond.and a b2).before #[Value.ref b] s0 = true → a.before #[Value.ref b] s0 = true := fun a b2 h => by
    rw [Cond.before_and, Bool.and_eq_true] at h; exact h.1
  have e2 : ∀ (a b2 : Cond), (Cond.and a b2).before #[Value.ref b] s0 = true → b2.before #[Value.ref b] s0 = true := fun a b2 h => by
    rw [Cond.before_and, Bool.and_eq_true] at h; exact h.2
  have h3 : narrow_1.before #[Value.ref b] s0 = true := e2 _ _ h2
  have h4 : (defaultWords_1.foldr Jvm.Cond.and Jvm.Cond.tt).before #[Value.ref b] s0 = true := e _ _ (e _ _ (e _ _ (e _ _ (e _ _ (e _ _ (e _ _ (e _ _ (e _ _ h3))))))))
  exact word_at hW (good_of_word g) (dw_foldr h4 w h)
section ZG
variable {κ : ZK} {cc : ByteArray} {own nm : String} {nL : Nat} {ret : Option FieldType} {l : Launch} {d mc ms : Nat} {G : GG} {w0 w : GW} {post : Option Value → GW → Prop} {lv : List (Nat × Value)} {a b pc : Nat} {st rest : List Value}
/-- a call by a name that the tables tell through the start's own words -/
theorem z_runG (X : ZX κ cc own nL ret nm l d mc ms G w0 post) {y : MethodName} {bytes : ByteArray} {maxL : Nat} {ret2 : Option FieldType} {d2 mc2 ms2 i n : Nat} {post2 : Option Value → GW → Prop} {C : String} {T : u_T} {N ci : Nat} {fs : List Value} {x : MethodName} {owner : String} (As : List Value) {q : Nat} (hM : gM l G y bytes maxL ret2 d2 mc2 ms2 (.ref q :: As) w post2) (hdg : decode cc pc = .ok (.invokevirtual i, 3)) (hw : w q = some (.inr (ci, fs))) (hc : CL[ci]? = some (C, T, N))
    (h1 : Cond.methodLink own i x ∈ defaultWords_1) (h2 : Cond.sameMethod x.cls owner x.name x.desc ∈ defaultWords_1) (h3 : Cond.selects C ⟨owner, x.name, x.desc⟩ y ∈ lw_all) (h4 : Cond.instanceMethod y ∈ lw_all) (h5 : Cond.initialized y.cls ∈ lw_all) (h6 : Cond.code y bytes maxL ret2 ∈ lw_all)
    (hz : Cond.declares ⟨owner, x.name, x.desc⟩ ∈ lw_tbl) (hd : owner ≠ "java/lang/invoke/MethodHandle" ∧ owner ≠ "java/lang/invoke/VarHandle" ∧ (parseMethodDescriptor x.desc).map (fun d => d.parameters.length) = some n) (hn : As.length = n) (hg : d2 + 1 ≤ d ∧ 8 + (maxL + 11) + 64 * d2 ≤ 64 * d) (hf : a + mc2 ≤ mc ∧ b + ms2 ≤ ms) (hst : st = As.reverse ++ .ref q :: rest) (hW : (rest.map fun v => v.category).sum ≤ 8) : zRun κ w lv a b pc st rest mc2 ms2 post2 := by
  obtain ⟨p, l', e, R, s, m, args, below, meth, c, nL', G', w0', Q⟩ := κ
  obtain ⟨hx, hb, hml, hown, hts, hK, hr, hlk, hnm, rfl, rfl, rfl, rfl, rfl, hQ⟩ := X
  intro H locs ls hs hl2
  have k2 := hK.dw (args := args) h2 rfl
  have hG : GoodIn lw_all (ws_ y bytes maxL ret2) := lw_meth h6
  refine ⟨_, va_runU (As := As) (rest := rest) (C := C) (owner := owner) (x := x) (bytes := bytes) (maxL := maxL) (ret := ret2) (n := n) ⟨hx, hb, hml, hown, hts⟩ (hM H.size) ?_ ⟨gPc.blind, va_recv hK.1 (hs.1.one hw) hc (q0 := 0) rfl, fun U hU hW => ⟨rfl, by rw [hU], by rw [hU]; exact hs.1, gK.moved hW hK⟩⟩ rfl hn hl2.1 hst (lv_room hW) hdg hf⟩
  refine ⟨⟨rfl, rfl, hg.1, hg.2, pay_in hts hG, List.mem_cons_self⟩, hts _ h6, hts _ h5, ⟨hd.1, hd.2.1⟩, fun sig h => ?_, hK.dw h1 rfl, k2, va_Decl.abs (hK.declares hz), sel_up k2 ⟨hd.1, hd.2.1⟩ (hts _ h3), hts _ h4⟩
  have e2 := hd.2.2
  rw [h] at e2
  exact (Option.some.inj e2).symm
end ZG
theorem fits_of {S : WS} {i z st : Nat} (h : fitsB S i z st = true) : S.1 3 i ≤ z ∧ 0 < fr st z := by simpa [fitsB] using h
theorem nI_nm1 {z : Nat} (h : z < 2 ^ 31) : ¬ nI z = -1 := fun q => by
  have h1 := nI_toInt h
  rw [q] at h1
  have h2 : (-1 : Int32).toInt = -1 := by decide
  omega
theorem oI_s {o : Option Nat} {z : Nat} (h : o = some z) : oI o = nI z := by rw [h]; rfl
set_option maxHeartbeats 2000000 in
theorem m_X2_isState {l : Launch} {G : GG} {w : GW} {aw : Nat → Nat} {rr : Option Nat} {S : WS} (hW : WallW G w aw rr S) (hI : wInv S) {st : Nat} (hs : st < 125) : gM l G yX2_isState cX2_isState 4 (some .boolean) 3 0 0 [.ref (aw 0), .int (nI (st))] w (pI (fun r w1 => r = bI (isSt S st) ∧ w1 = w)) := by
  refine Z.met (own := "ThreeSizes$Wall") (nm := "isState") (lv := [(0, .ref (aw 0)), (1, .int (nI (st)))]) (by decide) rfl rfl (Nat.le_of_ble_eq_true rfl) rfl (fun κ X => ?_)
  have h0 := hI.1 0 (by omega)
  have h1 := hI.1 1 (by omega)
  have h2 := hI.1 2 (by omega)
  have f0 := fr_lt st 0
  have f1 := fr_lt st 1
  have f2 := fr_lt st 2
  refine z_iload_n X dX2_isState_0 rfl 1 rfl ?_
  refine z_iconst (v := nI (0)) X dX2_isState_1 ci0 ?_
  refine z_bipush (v := nI (124)) X dX2_isState_2 (by decide) ?_
  refine z_cip (z_runSN (rest := []) (n := 3) X [.int (nI (st)), .int (nI (0)), .int (nI (124))] m_X0_isIn dX2_isState_4 (lw_meth q349) q659 q66 q348 hs_X0_isIn rfl ⟨Nat.le_of_ble_eq_true rfl, Nat.le_of_ble_eq_true rfl⟩ ⟨by omega, by omega⟩ rfl (Nat.le_of_ble_eq_true rfl)) ?_
  refine z_istore_n (lv2 := [(2, .int (bI (decide (nI (0) ≤ nI (st) ∧ nI (st) ≤ nI (124))))), (0, .ref (aw 0)), (1, .int (nI (st)))]) X dX2_isState_7 rfl (Nat.le_of_ble_eq_true rfl) rfl ?_
  refine z_iconst (v := nI (0)) X dX2_isState_8 ci0 ?_
  refine z_istore_n (lv2 := [(3, .int (nI (0))), (2, .int (bI (decide (nI (0) ≤ nI (st) ∧ nI (st) ≤ nI (124))))), (0, .ref (aw 0)), (1, .int (nI (st)))]) X dX2_isState_9 rfl (Nat.le_of_ble_eq_true rfl) rfl ?_
  refine z_iload_n X dX2_isState_10 rfl 0 rfl ?_
  refine z_iconst (v := nI (3)) X dX2_isState_11 ci3 ?_
  refine z_icmp_ge_f (tgt := 45) X dX2_isState_12 (by decide) (by decide) ?_
  refine z_iload_n X dX2_isState_15 rfl 1 rfl ?_
  refine z_if_eq_f (tgt := 45) X dX2_isState_16 (by decide) (fun h => bI_d.mp h ⟨(nI_leI (by omega) (by omega)).mpr (by omega), (nI_leI (by omega) (by omega)).mpr (by omega)⟩) ?_
  refine z_iload_n X dX2_isState_19 rfl 3 rfl ?_
  refine z_iload_n X dX2_isState_20 rfl 0 rfl ?_
  refine z_cip (z_runSN (rest := []) (n := 2) X [.int (nI (st)), .int (nI (0))] (m_X0_freeOf (st := st) (z := 0) (by omega) (by omega)) dX2_isState_21 (lw_meth q662) q660 q66 q661 hs_X0_freeOf rfl ⟨Nat.le_of_ble_eq_true rfl, Nat.le_of_ble_eq_true rfl⟩ ⟨by omega, by omega⟩ rfl (Nat.le_of_ble_eq_true rfl)) ?_
  refine z_aload_n X dX2_isState_24 rfl 2 rfl ?_
  refine z_get X dX2_isState_25 (wl_o hW) in_X2 rfl 0 (Nat.le_of_ble_eq_true rfl) q122 rfl ?_
  refine z_iload_n X dX2_isState_28 rfl 0 rfl ?_
  refine z_iaN (v := nI (S.1 0 0)) X dX2_isState_29 (wl_1 hW) (by omega) (by omega) rfl ?_
  refine z_icmp_gt (tgt := 37) X dX2_isState_30 (by decide) (nI_ltI (by omega) (by omega)) (fun c1 => ?_) (fun c1 => ?_)
  · refine z_iconst (v := nI (0)) X dX2_isState_37 ci0 ?_
    refine z_istore_n (lv2 := [(2, .int (nI (0))), (3, .int (nI (0))), (0, .ref (aw 0)), (1, .int (nI (st)))]) X dX2_isState_38 rfl (Nat.le_of_ble_eq_true rfl) rfl ?_
    refine z_iinc (v := nI (1)) (lv2 := [(3, .int (nI (1))), (2, .int (nI (0))), (0, .ref (aw 0)), (1, .int (nI (st)))]) X dX2_isState_39 1 rfl (nI_1 _) (Nat.le_of_ble_eq_true rfl) rfl ?_
    refine z_goto (tgt := 10) X dX2_isState_42 (by decide) ?_
    refine z_iload_n X dX2_isState_10 rfl 0 rfl ?_
    refine z_iconst (v := nI (3)) X dX2_isState_11 ci3 ?_
    refine z_icmp_ge_f (tgt := 45) X dX2_isState_12 (by decide) (by decide) ?_
    refine z_iload_n X dX2_isState_15 rfl 1 rfl ?_
    refine z_if_eq_t (tgt := 45) X dX2_isState_16 (by decide) (by decide) ?_
    refine z_iload_n X dX2_isState_45 rfl 1 rfl ?_
    exact z_zret X dX2_isState_46 (by omega) (by omega) bz0 ⟨_, rfl, ⟨bz_f (by simp only [isSt, Bool.and_eq_false_iff, Bool.and_eq_true, decide_eq_false_iff_not, decide_eq_true_eq]; omega), rfl⟩⟩
  · refine z_iconst (v := nI (1)) X dX2_isState_33 ci1 ?_
    refine z_goto (tgt := 38) X dX2_isState_34 (by decide) ?_
    refine z_istore_n (lv2 := [(2, .int (nI (1))), (3, .int (nI (0))), (0, .ref (aw 0)), (1, .int (nI (st)))]) X dX2_isState_38 rfl (Nat.le_of_ble_eq_true rfl) rfl ?_
    refine z_iinc (v := nI (1)) (lv2 := [(3, .int (nI (1))), (2, .int (nI (1))), (0, .ref (aw 0)), (1, .int (nI (st)))]) X dX2_isState_39 1 rfl (nI_1 _) (Nat.le_of_ble_eq_true rfl) rfl ?_
    refine z_goto (tgt := 10) X dX2_isState_42 (by decide) ?_
    refine z_iload_n X dX2_isState_10 rfl 0 rfl ?_
    refine z_iconst (v := nI (3)) X dX2_isState_11 ci3 ?_
    refine z_icmp_ge_f (tgt := 45) X dX2_isState_12 (by decide) (by decide) ?_
    refine z_iload_n X dX2_isState_15 rfl 1 rfl ?_
    refine z_if_eq_f (tgt := 45) X dX2_isState_16 (by decide) (by decide) ?_
    refine z_iload_n X dX2_isState_19 rfl 3 rfl ?_
    refine z_iload_n X dX2_isState_20 rfl 0 rfl ?_
    refine z_cip (z_runSN (rest := []) (n := 2) X [.int (nI (st)), .int (nI (1))] (m_X0_freeOf (st := st) (z := 1) (by omega) (by omega)) dX2_isState_21 (lw_meth q662) q660 q66 q661 hs_X0_freeOf rfl ⟨Nat.le_of_ble_eq_true rfl, Nat.le_of_ble_eq_true rfl⟩ ⟨by omega, by omega⟩ rfl (Nat.le_of_ble_eq_true rfl)) ?_
    refine z_aload_n X dX2_isState_24 rfl 2 rfl ?_
    refine z_get X dX2_isState_25 (wl_o hW) in_X2 rfl 0 (Nat.le_of_ble_eq_true rfl) q122 rfl ?_
    refine z_iload_n X dX2_isState_28 rfl 0 rfl ?_
    refine z_iaN (v := nI (S.1 0 1)) X dX2_isState_29 (wl_1 hW) (by omega) (by omega) rfl ?_
    refine z_icmp_gt (tgt := 37) X dX2_isState_30 (by decide) (nI_ltI (by omega) (by omega)) (fun c2 => ?_) (fun c2 => ?_)
    · refine z_iconst (v := nI (0)) X dX2_isState_37 ci0 ?_
      refine z_istore_n (lv2 := [(2, .int (nI (0))), (3, .int (nI (1))), (0, .ref (aw 0)), (1, .int (nI (st)))]) X dX2_isState_38 rfl (Nat.le_of_ble_eq_true rfl) rfl ?_
      refine z_iinc (v := nI (2)) (lv2 := [(3, .int (nI (2))), (2, .int (nI (0))), (0, .ref (aw 0)), (1, .int (nI (st)))]) X dX2_isState_39 1 rfl (nI_1 _) (Nat.le_of_ble_eq_true rfl) rfl ?_
      refine z_goto (tgt := 10) X dX2_isState_42 (by decide) ?_
      refine z_iload_n X dX2_isState_10 rfl 0 rfl ?_
      refine z_iconst (v := nI (3)) X dX2_isState_11 ci3 ?_
      refine z_icmp_ge_f (tgt := 45) X dX2_isState_12 (by decide) (by decide) ?_
      refine z_iload_n X dX2_isState_15 rfl 1 rfl ?_
      refine z_if_eq_t (tgt := 45) X dX2_isState_16 (by decide) (by decide) ?_
      refine z_iload_n X dX2_isState_45 rfl 1 rfl ?_
      exact z_zret X dX2_isState_46 (by omega) (by omega) bz0 ⟨_, rfl, ⟨bz_f (by simp only [isSt, Bool.and_eq_false_iff, Bool.and_eq_true, decide_eq_false_iff_not, decide_eq_true_eq]; omega), rfl⟩⟩
    · refine z_iconst (v := nI (1)) X dX2_isState_33 ci1 ?_
      refine z_goto (tgt := 38) X dX2_isState_34 (by decide) ?_
      refine z_istore_n (lv2 := [(2, .int (nI (1))), (3, .int (nI (1))), (0, .ref (aw 0)), (1, .int (nI (st)))]) X dX2_isState_38 rfl (Nat.le_of_ble_eq_true rfl) rfl ?_
      refine z_iinc (v := nI (2)) (lv2 := [(3, .int (nI (2))), (2, .int (nI (1))), (0, .ref (aw 0)), (1, .int (nI (st)))]) X dX2_isState_39 1 rfl (nI_1 _) (Nat.le_of_ble_eq_true rfl) rfl ?_
      refine z_goto (tgt := 10) X dX2_isState_42 (by decide) ?_
      refine z_iload_n X dX2_isState_10 rfl 0 rfl ?_
      refine z_iconst (v := nI (3)) X dX2_isState_11 ci3 ?_
      refine z_icmp_ge_f (tgt := 45) X dX2_isState_12 (by decide) (by decide) ?_
      refine z_iload_n X dX2_isState_15 rfl 1 rfl ?_
      refine z_if_eq_f (tgt := 45) X dX2_isState_16 (by decide) (by decide) ?_
      refine z_iload_n X dX2_isState_19 rfl 3 rfl ?_
      refine z_iload_n X dX2_isState_20 rfl 0 rfl ?_
      refine z_cip (z_runSN (rest := []) (n := 2) X [.int (nI (st)), .int (nI (2))] (m_X0_freeOf (st := st) (z := 2) (by omega) (by omega)) dX2_isState_21 (lw_meth q662) q660 q66 q661 hs_X0_freeOf rfl ⟨Nat.le_of_ble_eq_true rfl, Nat.le_of_ble_eq_true rfl⟩ ⟨by omega, by omega⟩ rfl (Nat.le_of_ble_eq_true rfl)) ?_
      refine z_aload_n X dX2_isState_24 rfl 2 rfl ?_
      refine z_get X dX2_isState_25 (wl_o hW) in_X2 rfl 0 (Nat.le_of_ble_eq_true rfl) q122 rfl ?_
      refine z_iload_n X dX2_isState_28 rfl 0 rfl ?_
      refine z_iaN (v := nI (S.1 0 2)) X dX2_isState_29 (wl_1 hW) (by omega) (by omega) rfl ?_
      refine z_icmp_gt (tgt := 37) X dX2_isState_30 (by decide) (nI_ltI (by omega) (by omega)) (fun c3 => ?_) (fun c3 => ?_)
      · refine z_iconst (v := nI (0)) X dX2_isState_37 ci0 ?_
        refine z_istore_n (lv2 := [(2, .int (nI (0))), (3, .int (nI (2))), (0, .ref (aw 0)), (1, .int (nI (st)))]) X dX2_isState_38 rfl (Nat.le_of_ble_eq_true rfl) rfl ?_
        refine z_iinc (v := nI (3)) (lv2 := [(3, .int (nI (3))), (2, .int (nI (0))), (0, .ref (aw 0)), (1, .int (nI (st)))]) X dX2_isState_39 1 rfl (nI_1 _) (Nat.le_of_ble_eq_true rfl) rfl ?_
        refine z_goto (tgt := 10) X dX2_isState_42 (by decide) ?_
        refine z_iload_n X dX2_isState_10 rfl 0 rfl ?_
        refine z_iconst (v := nI (3)) X dX2_isState_11 ci3 ?_
        refine z_icmp_ge_t (tgt := 45) X dX2_isState_12 (by decide) (by decide) ?_
        refine z_iload_n X dX2_isState_45 rfl 1 rfl ?_
        exact z_zret X dX2_isState_46 (by omega) (by omega) bz0 ⟨_, rfl, ⟨bz_f (by simp only [isSt, Bool.and_eq_false_iff, Bool.and_eq_true, decide_eq_false_iff_not, decide_eq_true_eq]; omega), rfl⟩⟩
      · refine z_iconst (v := nI (1)) X dX2_isState_33 ci1 ?_
        refine z_goto (tgt := 38) X dX2_isState_34 (by decide) ?_
        refine z_istore_n (lv2 := [(2, .int (nI (1))), (3, .int (nI (2))), (0, .ref (aw 0)), (1, .int (nI (st)))]) X dX2_isState_38 rfl (Nat.le_of_ble_eq_true rfl) rfl ?_
        refine z_iinc (v := nI (3)) (lv2 := [(3, .int (nI (3))), (2, .int (nI (1))), (0, .ref (aw 0)), (1, .int (nI (st)))]) X dX2_isState_39 1 rfl (nI_1 _) (Nat.le_of_ble_eq_true rfl) rfl ?_
        refine z_goto (tgt := 10) X dX2_isState_42 (by decide) ?_
        refine z_iload_n X dX2_isState_10 rfl 0 rfl ?_
        refine z_iconst (v := nI (3)) X dX2_isState_11 ci3 ?_
        refine z_icmp_ge_t (tgt := 45) X dX2_isState_12 (by decide) (by decide) ?_
        refine z_iload_n X dX2_isState_45 rfl 1 rfl ?_
        exact z_zret X dX2_isState_46 (by omega) (by omega) bz1 ⟨_, rfl, ⟨bz_t (by simp only [isSt, Bool.and_eq_false_iff, Bool.and_eq_true, decide_eq_false_iff_not, decide_eq_true_eq]; omega), rfl⟩⟩
set_option maxHeartbeats 2000000 in
theorem m_X2_isStateF {l : Launch} {G : GG} {w : GW} {aw : Nat → Nat} {v : Int32} (hv : ¬ (nI 0 ≤ v ∧ v ≤ nI 124)) : gM l G yX2_isState cX2_isState 4 (some .boolean) 3 0 0 [.ref (aw 0), .int (v)] w (pI (fun r w1 => r = bI false ∧ w1 = w)) := by
  refine Z.met (own := "ThreeSizes$Wall") (nm := "isState") (lv := [(0, .ref (aw 0)), (1, .int (v))]) (by decide) rfl rfl (Nat.le_of_ble_eq_true rfl) rfl (fun κ X => ?_)
  refine z_iload_n X dX2_isState_0 rfl 1 rfl ?_
  refine z_iconst (v := nI (0)) X dX2_isState_1 ci0 ?_
  refine z_bipush (v := nI (124)) X dX2_isState_2 (by decide) ?_
  refine z_cip (z_runSN (rest := []) (n := 3) X [.int (v), .int (nI (0)), .int (nI (124))] m_X0_isIn dX2_isState_4 (lw_meth q349) q659 q66 q348 hs_X0_isIn rfl ⟨Nat.le_of_ble_eq_true rfl, Nat.le_of_ble_eq_true rfl⟩ ⟨by omega, by omega⟩ rfl (Nat.le_of_ble_eq_true rfl)) ?_
  refine z_istore_n (lv2 := [(2, .int (bI (decide (nI (0) ≤ v ∧ v ≤ nI (124))))), (0, .ref (aw 0)), (1, .int (v))]) X dX2_isState_7 rfl (Nat.le_of_ble_eq_true rfl) rfl ?_
  refine z_iconst (v := nI (0)) X dX2_isState_8 ci0 ?_
  refine z_istore_n (lv2 := [(3, .int (nI (0))), (2, .int (bI (decide (nI (0) ≤ v ∧ v ≤ nI (124))))), (0, .ref (aw 0)), (1, .int (v))]) X dX2_isState_9 rfl (Nat.le_of_ble_eq_true rfl) rfl ?_
  refine z_iload_n X dX2_isState_10 rfl 0 rfl ?_
  refine z_iconst (v := nI (3)) X dX2_isState_11 ci3 ?_
  refine z_icmp_ge_f (tgt := 45) X dX2_isState_12 (by decide) (by decide) ?_
  refine z_iload_n X dX2_isState_15 rfl 1 rfl ?_
  refine z_if_eq_t (tgt := 45) X dX2_isState_16 (by decide) (bI_d.mpr hv) ?_
  refine z_iload_n X dX2_isState_45 rfl 1 rfl ?_
  exact z_zret X dX2_isState_46 (by omega) (by omega) bI_n ⟨_, rfl, ⟨by rw [decide_eq_false hv], rfl⟩⟩
set_option maxHeartbeats 2000000 in
theorem m_X2_bringsN {l : Launch} {G : GG} {w : GW} {aw : Nat → Nat} {rr : Option Nat} {S : WS} (hW : WallW G w aw rr S) (hI : wInv S) {i st : Nat} {tq : Nat} {T : Nat → Int64} (hi : i < S.2 0) (hs : st < 125) (ht : w tq = some (.inl (G.2.1 1, 125, .inr (.inl T)))) : gM l G yX2_brings cX2_brings 5 (some .long) 2 0 0 [.ref (aw 0), .int (nI (i)), .int (-1), .int (nI (st)), .ref (tq)] w (pL (fun r w1 => r = bring S i none st T ∧ w1 = w)) := by
  refine Z.met (own := "ThreeSizes$Wall") (nm := "brings") (lv := [(0, .ref (aw 0)), (1, .int (nI (i))), (2, .int (-1)), (3, .int (nI (st))), (4, .ref (tq))]) (by decide) rfl rfl (Nat.le_of_ble_eq_true rfl) rfl (fun κ X => ?_)
  have h6 := hI.2.1
  have h5 := hI.2.2.1 i hi
  refine z_iload_n X dX2_brings_0 rfl 2 rfl ?_
  refine z_iconst (v := -1) X dX2_brings_1 cim1 ?_
  refine z_icmp_ne_f (tgt := 18) X dX2_brings_2 (by decide) rfl ?_
  refine z_aload_n X dX2_brings_5 rfl 0 rfl ?_
  refine z_iload_n X dX2_brings_6 rfl 1 rfl ?_
  refine z_clp (z_runV (rest := []) (n := 1) X [.int (nI (i))] (m_X2_lost hW hI (i := i) (by omega)) dX2_brings_7 (wl_o hW) rfl (lw_V q691 q692 q693 q68 q694) hv_X2_lost rfl ⟨Nat.le_of_ble_eq_true rfl, Nat.le_of_ble_eq_true rfl⟩ ⟨by omega, by omega⟩ rfl (Nat.le_of_ble_eq_true rfl)) ?_
  refine z_aload X dX2_brings_10 4 rfl ?_
  refine z_iload_n X dX2_brings_12 rfl 3 rfl ?_
  refine z_laN (v := T st) X dX2_brings_13 ht (by omega) (by omega) rfl ?_
  refine z_ladd (v := (lostL S i) + (T st)) X dX2_brings_14 rfl ?_
  refine z_goto (tgt := 39) X dX2_brings_15 (by decide) ?_
  exact z_lret X dX2_brings_39 (by omega) (by omega) ⟨_, rfl, ⟨rfl, rfl⟩⟩
set_option maxHeartbeats 2000000 in
theorem m_X2_bringsS {l : Launch} {G : GG} {w : GW} {aw : Nat → Nat} {rr : Option Nat} {S : WS} (hW : WallW G w aw rr S) (hI : wInv S) {i st : Nat} {tq : Nat} {T : Nat → Int64} (hi : i < S.2 0) (hs : st < 125) {z : Nat} (hz : z < 3) (hp : pw5 z ≤ st) (ht : w tq = some (.inl (G.2.1 1, 125, .inr (.inl T)))) : gM l G yX2_brings cX2_brings 5 (some .long) 2 0 0 [.ref (aw 0), .int (nI (i)), .int (nI (z)), .int (nI (st)), .ref (tq)] w (pL (fun r w1 => r = bring S i (some z) st T ∧ w1 = w)) := by
  refine Z.met (own := "ThreeSizes$Wall") (nm := "brings") (lv := [(0, .ref (aw 0)), (1, .int (nI (i))), (2, .int (nI (z))), (3, .int (nI (st))), (4, .ref (tq))]) (by decide) rfl rfl (Nat.le_of_ble_eq_true rfl) rfl (fun κ X => ?_)
  have h6 := hI.2.1
  have h5 := hI.2.2.1 i hi
  refine z_iload_n X dX2_brings_0 rfl 2 rfl ?_
  refine z_iconst (v := -1) X dX2_brings_1 cim1 ?_
  refine z_icmp_ne_t (tgt := 18) X dX2_brings_2 (by decide) (nI_nm1 (by omega)) ?_
  refine z_ldc2 X dX2_brings_18 q696 ?_
  refine z_aload_n X dX2_brings_21 rfl 0 rfl ?_
  refine z_get X dX2_brings_22 (wl_o hW) in_X2 rfl 5 (Nat.le_of_ble_eq_true rfl) q142 rfl ?_
  refine z_iload_n X dX2_brings_25 rfl 1 rfl ?_
  refine z_iaN (v := nI (S.1 5 i)) X dX2_brings_26 (wl_6 hW) (by omega) (by omega) rfl ?_
  refine z_i2l (v := lN (S.1 5 i)) X dX2_brings_27 (nI_l (by omega)) ?_
  refine z_lmul (v := (1000000) * (lN (S.1 5 i))) X dX2_brings_28 rfl ?_
  refine z_aload X dX2_brings_29 4 rfl ?_
  refine z_iload_n X dX2_brings_31 rfl 3 rfl ?_
  refine z_iload_n X dX2_brings_32 rfl 2 rfl ?_
  refine z_cip (z_runSN (rest := [.int (nI (st)), .ref (tq), .long ((1000000) * (lN (S.1 5 i)))]) (n := 1) X [.int (nI (z))] (m_X0_step (z := z) (by omega) rfl) dX2_brings_33 (lw_meth q665) q697 q66 q664 hs_X0_step rfl ⟨Nat.le_of_ble_eq_true rfl, Nat.le_of_ble_eq_true rfl⟩ ⟨by omega, by omega⟩ rfl (Nat.le_of_ble_eq_true rfl)) ?_
  refine z_isub (v := nI (st - (pw5 z))) X dX2_brings_36 (pk_sub (by omega)) ?_
  refine z_laN (v := T (st - (pw5 z))) X dX2_brings_37 ht (by omega) (by omega) rfl ?_
  refine z_ladd (v := ((1000000) * (lN (S.1 5 i))) + (T (st - (pw5 z)))) X dX2_brings_38 rfl ?_
  exact z_lret X dX2_brings_39 (by omega) (by omega) ⟨_, rfl, ⟨rfl, rfl⟩⟩
theorem m_X2_brings {l : Launch} {G : GG} {w : GW} {aw : Nat → Nat} {rr : Option Nat} {S : WS} (hW : WallW G w aw rr S) (hI : wInv S) {i st : Nat} {tq : Nat} {T : Nat → Int64} (hi : i < S.2 0) (hs : st < 125) {o : Option Nat} (ho : ∀ z, o = some z → z < 3 ∧ fitsB S i z st = true) (ht : w tq = some (.inl (G.2.1 1, 125, .inr (.inl T)))) : gM l G yX2_brings cX2_brings 5 (some .long) 2 0 0 [.ref (aw 0), .int (nI i), .int (oI o), .int (nI st), .ref tq] w (pL (fun r w1 => r = bring S i o st T ∧ w1 = w)) := by
  cases o with
  | none => exact m_X2_bringsN hW hI hi hs ht
  | some z => exact m_X2_bringsS hW hI hi hs (ho z rfl).1 (fr_ge (fits_of (ho z rfl).2).2) ht
set_option maxHeartbeats 2000000 in
theorem m_X0_bestOf {l : Launch} {G : GG} {w : GW} {aw : Nat → Nat} {rr : Option Nat} {S : WS} (hW : WallW G w aw rr S) (hI : wInv S) {ix st : Nat} {tq : Nat} {T : Nat → Int64} (hi : ix < S.2 0) (hs : st < 125) (ht : w tq = some (.inl (G.2.1 1, 125, .inr (.inl T)))) : gM l G yX0_bestOf cX0_bestOf 6 (some .int) 4 0 0 [.ref (aw 0), .int (nI (ix)), .int (nI (st)), .ref (tq)] w (pI (fun r w1 => r = oI (bestO S ix st T) ∧ w1 = w)) := by
  refine Z.met (own := "ThreeSizes") (nm := "bestOf") (lv := [(0, .ref (aw 0)), (1, .int (nI (ix))), (2, .int (nI (st))), (3, .ref (tq))]) (by decide) rfl rfl (Nat.le_of_ble_eq_true rfl) rfl (fun κ X => ?_)
  have h6 := hI.2.1
  refine z_iconst (v := -1) X dX0_bestOf_0 cim1 ?_
  refine z_istore (lv2 := [(4, .int (-1)), (0, .ref (aw 0)), (1, .int (nI (ix))), (2, .int (nI (st))), (3, .ref (tq))]) X dX0_bestOf_1 (Nat.le_of_ble_eq_true rfl) rfl ?_
  refine z_iconst (v := nI (0)) X dX0_bestOf_3 ci0 ?_
  refine z_istore (lv2 := [(5, .int (nI (0))), (4, .int (-1)), (0, .ref (aw 0)), (1, .int (nI (ix))), (2, .int (nI (st))), (3, .ref (tq))]) X dX0_bestOf_4 (Nat.le_of_ble_eq_true rfl) rfl ?_
  have lp : ∀ (lq i : Nat), i + lq = 3 → Z κ w [(5, .int (nI (i))), (4, .int (oI (bestTo S ix st T i))), (0, .ref (aw 0)), (1, .int (nI (ix))), (2, .int (nI (st))), (3, .ref (tq))] 0 0 6 [] := by
    intro lq
    induction lq with
    | zero =>
      intro i lh
      obtain rfl : i = 3 := by omega
      refine z_iload X dX0_bestOf_6 0 rfl ?_
      refine z_iconst (v := nI (3)) X dX0_bestOf_8 ci3 ?_
      refine z_icmp_ge_t (tgt := 55) X dX0_bestOf_9 (by decide) ((nI_leI (by omega) (by omega)).mpr (by omega)) ?_
      refine z_iload X dX0_bestOf_55 1 rfl ?_
      exact z_iret X dX0_bestOf_57 (by omega) (by omega) ⟨_, rfl, ⟨rfl, rfl⟩⟩
    | succ lq ih =>
      intro i lh
      have hi3 : i < 3 := by omega
      refine z_iload X dX0_bestOf_6 0 rfl ?_
      refine z_iconst (v := nI (3)) X dX0_bestOf_8 ci3 ?_
      refine z_icmp_ge_f (tgt := 55) X dX0_bestOf_9 (by decide) (fun h => absurd ((nI_leI (by omega) (by omega)).mp h) (by omega)) ?_
      refine z_aload_n X dX0_bestOf_12 rfl 2 rfl ?_
      refine z_iload_n X dX0_bestOf_13 rfl 3 rfl ?_
      refine z_iload X dX0_bestOf_14 0 rfl ?_
      refine z_iload_n X dX0_bestOf_16 rfl 4 rfl ?_
      refine z_cip (z_runV (rest := []) (n := 3) X [.int (nI (ix)), .int (nI (i)), .int (nI (st))] (m_X2_fits hW hI (i := ix) (z := i) (st := st) (by omega) (by omega) (by omega)) dX0_bestOf_17 (wl_o hW) rfl (lw_V q683 q684 q685 q68 q686) hv_X2_fits rfl ⟨Nat.le_of_ble_eq_true rfl, Nat.le_of_ble_eq_true rfl⟩ ⟨by omega, by omega⟩ rfl (Nat.le_of_ble_eq_true rfl)) ?_
      refine z_if_eq (tgt := 49) X dX0_bestOf_20 (by decide) bI_0 (fun c1 => ?_) (fun c1 => ?_)
      · refine z_iinc (v := nI (i + 1)) (lv2 := [(5, .int (nI (i + 1))), (4, .int (oI (bestTo S ix st T i))), (0, .ref (aw 0)), (1, .int (nI (ix))), (2, .int (nI (st))), (3, .ref (tq))]) X dX0_bestOf_49 0 rfl (nI_1 _) (Nat.le_of_ble_eq_true rfl) rfl ?_
        refine z_goto (tgt := 6) X dX0_bestOf_52 (by decide) ?_
        have e : bestTo S ix st T (i + 1) = bestTo S ix st T i := if_neg (fun h => Bool.noConfusion (c1.symm.trans h.1))
        have k := ih (i + 1) (by omega)
        rw [e] at k
        exact k
      · have c1 := ts_t c1
        refine z_aload_n X dX0_bestOf_23 rfl 2 rfl ?_
        refine z_iload_n X dX0_bestOf_24 rfl 3 rfl ?_
        refine z_iload X dX0_bestOf_25 0 rfl ?_
        refine z_iload_n X dX0_bestOf_27 rfl 4 rfl ?_
        refine z_aload_n X dX0_bestOf_28 rfl 5 rfl ?_
        refine z_clp (z_runV (rest := []) (n := 4) X [.int (nI (ix)), .int (nI (i)), .int (nI (st)), .ref (tq)] (m_X2_brings hW hI (i := ix) (st := st) (o := (some i)) (by omega) (by omega) (fun z h => ⟨by cases h; omega, by cases h; assumption⟩) ht) dX0_bestOf_29 (wl_o hW) rfl (lw_V q687 q688 q689 q68 q690) hv_X2_brings rfl ⟨Nat.le_of_ble_eq_true rfl, Nat.le_of_ble_eq_true rfl⟩ ⟨by omega, by omega⟩ rfl (Nat.le_of_ble_eq_true rfl)) ?_
        refine z_aload_n X dX0_bestOf_32 rfl 2 rfl ?_
        refine z_iload_n X dX0_bestOf_33 rfl 3 rfl ?_
        refine z_iload X dX0_bestOf_34 1 rfl ?_
        refine z_iload_n X dX0_bestOf_36 rfl 4 rfl ?_
        refine z_aload_n X dX0_bestOf_37 rfl 5 rfl ?_
        refine z_clp (z_runV (rest := [.long (bring S ix (some i) st T)]) (n := 4) X [.int (nI (ix)), .int (oI (bestTo S ix st T i)), .int (nI (st)), .ref (tq)] (m_X2_brings hW hI (i := ix) (st := st) (o := bestTo S ix st T i) (by omega) (by omega) (fun z h => ⟨by have := (bestTo_lt _ _ h).1; omega, (bestTo_lt _ _ h).2⟩) ht) dX0_bestOf_38 (wl_o hW) rfl (lw_V q687 q688 q689 q68 q690) hv_X2_brings rfl ⟨Nat.le_of_ble_eq_true rfl, Nat.le_of_ble_eq_true rfl⟩ ⟨by omega, by omega⟩ rfl (Nat.le_of_ble_eq_true rfl)) ?_
        refine z_lcmp (v := lg_cmp (bring S ix (some i) st T) (bring S ix (bestTo S ix st T i) st T)) X dX0_bestOf_41 rfl ?_
        refine z_if_le (tgt := 49) X dX0_bestOf_42 (by decide) (lg_cmp_le _ _) (fun c2 => ?_) (fun c2 => ?_)
        · refine z_iinc (v := nI (i + 1)) (lv2 := [(5, .int (nI (i + 1))), (4, .int (oI (bestTo S ix st T i))), (0, .ref (aw 0)), (1, .int (nI (ix))), (2, .int (nI (st))), (3, .ref (tq))]) X dX0_bestOf_49 0 rfl (nI_1 _) (Nat.le_of_ble_eq_true rfl) rfl ?_
          refine z_goto (tgt := 6) X dX0_bestOf_52 (by decide) ?_
          have e : bestTo S ix st T (i + 1) = bestTo S ix st T i := if_neg (fun h => Int64.not_lt.mpr c2 h.2)
          have k := ih (i + 1) (by omega)
          rw [e] at k
          exact k
        · refine z_iload X dX0_bestOf_45 0 rfl ?_
          refine z_istore (lv2 := [(4, .int (nI (i))), (5, .int (nI (i))), (0, .ref (aw 0)), (1, .int (nI (ix))), (2, .int (nI (st))), (3, .ref (tq))]) X dX0_bestOf_47 (Nat.le_of_ble_eq_true rfl) rfl ?_
          refine z_iinc (v := nI (i + 1)) (lv2 := [(5, .int (nI (i + 1))), (4, .int (nI (i))), (0, .ref (aw 0)), (1, .int (nI (ix))), (2, .int (nI (st))), (3, .ref (tq))]) X dX0_bestOf_49 1 rfl (nI_1 _) (Nat.le_of_ble_eq_true rfl) rfl ?_
          refine z_goto (tgt := 6) X dX0_bestOf_52 (by decide) ?_
          have e : bestTo S ix st T (i + 1) = some i := if_pos ⟨c1, Int64.not_le.mp c2⟩
          have k := ih (i + 1) (by omega)
          rw [e] at k
          exact k
  exact lp (3) 0 (by omega)
set_option maxHeartbeats 2000000 in
theorem m_X7_isKept {l : Launch} {G : GG} {w : GW} {q aw i z st : Nat} : gM l G yX7_isKept cX7_isKept 5 (some .boolean) 1 0 0 [.ref (q), .ref (aw), .int (nI (i)), .int (nI (z)), .int (nI (st))] w (pI (fun r w1 => r = nI 0 ∧ w1 = w)) := by
  refine Z.met (own := "ThreeSizes$Least") (nm := "isKept") (lv := [(0, .ref (q)), (1, .ref (aw)), (2, .int (nI (i))), (3, .int (nI (z))), (4, .int (nI (st)))]) (by decide) rfl rfl (Nat.le_of_ble_eq_true rfl) rfl (fun κ X => ?_)
  refine z_iconst (v := nI (0)) X dX7_isKept_0 ci0 ?_
  exact z_zret X dX7_isKept_1 (by omega) (by omega) bz0 ⟨_, rfl, ⟨rfl, rfl⟩⟩
set_option maxHeartbeats 2000000 in
theorem m_X8_isKept {l : Launch} {G : GG} {w : GW} {aw : Nat → Nat} {rr : Option Nat} {S : WS} (hW : WallW G w aw rr S) (hI : wInv S) {q a : Nat} (hq : w q = some (.inr (7, [.int (nI a)]))) {i z st : Nat} (hi : i < S.2 0) (hz : z < 3) (hs : st < 125) (ha : a < 100) : gM l G yX8_isKept cX8_isKept 5 (some .boolean) 3 0 0 [.ref (q), .ref (aw 0), .int (nI (i)), .int (nI (z)), .int (nI (st))] w (pI (fun r w1 => r = bI (keptB S a i z st) ∧ w1 = w)) := by
  refine Z.met (own := "ThreeSizes$Keep") (nm := "isKept") (lv := [(0, .ref (q)), (1, .ref (aw 0)), (2, .int (nI (i))), (3, .int (nI (z))), (4, .int (nI (st)))]) (by decide) rfl rfl (Nat.le_of_ble_eq_true rfl) rfl (fun κ X => ?_)
  have h6 := hI.2.1
  have h5 := hI.2.2.1 i hi
  have h7 := fr_lt st z
  refine z_iload_n X dX8_isKept_0 rfl 3 rfl ?_
  refine z_aload_n X dX8_isKept_1 rfl 1 rfl ?_
  refine z_get X dX8_isKept_2 (wl_o hW) in_X2 rfl 3 (Nat.le_of_ble_eq_true rfl) q136 rfl ?_
  refine z_iload_n X dX8_isKept_5 rfl 2 rfl ?_
  refine z_iaN (v := nI (S.1 3 i)) X dX8_isKept_6 (wl_4 hW) (by omega) (by omega) rfl ?_
  refine z_icmp_le (tgt := 27) X dX8_isKept_7 (by decide) (nI_leI (by omega) (by omega)) (fun c1 => ?_) (fun c1 => ?_)
  · refine z_iconst (v := nI (0)) X dX8_isKept_27 ci0 ?_
    exact z_zret X dX8_isKept_28 (by omega) (by omega) bz0 ⟨_, rfl, ⟨bz_f (by simp only [keptB, Bool.and_eq_false_iff, Bool.and_eq_true, decide_eq_false_iff_not, decide_eq_true_eq]; omega), rfl⟩⟩
  · refine z_iload X dX8_isKept_10 4 rfl ?_
    refine z_iload_n X dX8_isKept_12 rfl 3 rfl ?_
    refine z_cip (z_runSN (rest := []) (n := 2) X [.int (nI (st)), .int (nI (z))] (m_X0_freeOf (st := st) (z := z) (by omega) (by omega)) dX8_isKept_13 (lw_meth q662) q726 q66 q661 hs_X0_freeOf rfl ⟨Nat.le_of_ble_eq_true rfl, Nat.le_of_ble_eq_true rfl⟩ ⟨by omega, by omega⟩ rfl (Nat.le_of_ble_eq_true rfl)) ?_
    refine z_aload_n X dX8_isKept_16 rfl 0 rfl ?_
    refine z_getI X dX8_isKept_17 hq in_X8 rfl 0 (Nat.le_of_ble_eq_true rfl) q526 q527 rfl ?_
    refine z_icmp_gt (tgt := 27) X dX8_isKept_20 (by decide) (nI_ltI (by omega) (by omega)) (fun c2 => ?_) (fun c2 => ?_)
    · refine z_iconst (v := nI (0)) X dX8_isKept_27 ci0 ?_
      exact z_zret X dX8_isKept_28 (by omega) (by omega) bz0 ⟨_, rfl, ⟨bz_f (by simp only [keptB, Bool.and_eq_false_iff, Bool.and_eq_true, decide_eq_false_iff_not, decide_eq_true_eq]; omega), rfl⟩⟩
    · refine z_iconst (v := nI (1)) X dX8_isKept_23 ci1 ?_
      refine z_goto (tgt := 28) X dX8_isKept_24 (by decide) ?_
      exact z_zret X dX8_isKept_28 (by omega) (by omega) bz1 ⟨_, rfl, ⟨bz_t (by simp only [keptB, Bool.and_eq_false_iff, Bool.and_eq_true, decide_eq_false_iff_not, decide_eq_true_eq]; omega), rfl⟩⟩
