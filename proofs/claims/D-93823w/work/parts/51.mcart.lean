/-! THE MODEL: cartfuls -/
set_option maxRecDepth 100000
def srtL (S : WS) (v : Int64) : Bool := decide (lN 0 ≤ v ∧ v < lN (S.2 0))
def allTo (p : Nat → Bool) : Nat → Bool
  | 0 => true
  | n + 1 => allTo p n && p n
theorem allTo_no {p : Nat → Bool} {i : Nat} (h : p i = false) : ∀ n, i < n → allTo p n = false := by
  intro n
  induction n with
  | zero => intro hi; omega
  | succ n ih =>
    intro hi
    simp only [allTo]
    by_cases q : i = n
    · subst q; rw [h]; exact Bool.and_false _
    · rw [ih (by omega)]; exact Bool.false_and _
theorem srt_i {v : Int64} {n : Nat} (hn : n ≤ 6) (h : lN 0 ≤ v ∧ v < lN n) : v.toInt32 = nI (tnl v) ∧ tnl v < n := by
  obtain ⟨j, hj, rfl⟩ := lN_nn (hi := 6) (by decide) h.1 (Int64.le_of_lt (Int64.lt_of_lt_of_le h.2 ((lN_le (by omega) (by decide)).mpr hn)))
  rw [tnl_lN (by omega)]
  exact ⟨lN_i j, (lN_lt (by omega) (by omega)).mp h.2⟩
/-- the first k of a row are sorts -/
def cartB (o : OS) (s k : Nat) : Bool := decide (k ≤ o.2.2.2.1 2 s) && allTo (fun i => srtL o.1 (o.2.2.2.2.1 s i)) k
/-- nothing changed but what is carted -/
def K31 (m m2 : MSt) : Prop := m2.2 = m.2 ∧ ∀ c, c ≠ 31 → m2.1 c = m.1 c
theorem MT.K31 {o : OS} {m m2 : MSt} (h : MT o m) (k : K31 m m2) : MT o m2 := h.kept (fun c hc => k.2 c (by omega)) (fun _ _ => by rw [k.1]) (fun _ _ => by rw [k.1])
def CartQ (o : OS) (s k : Nat) (r : Int32) (m2 : MSt) : Prop := (cartB o s k = true ∧ r = nI 1 ∧ ∀ i, i < k → m2.1 31 i = nI (tnl (o.2.2.2.2.1 s i)) ∧ tnl (o.2.2.2.2.1 s i) < o.1.2 0) ∨ (cartB o s k = false ∧ r = nI 0)
set_option maxHeartbeats 2000000 in
theorem m_X4_areSorts {l : Launch} {G : GG} {wb w : GW} {ad : Nat → Nat} {m : MSt} (hM : MM G wb w ad m) {o : OS} (hT : MT o m) (hO : oInv o) {s k : Nat} (hs : s < 8) (hk : k ≤ 6) : gM l G yX4_areSorts cX4_areSorts 4 (some .boolean) 3 0 0 [.ref (ad 0), .int (nI (s)), .int (nI (k))] w (pI (fun r w1 => ∃ m2, MM G wb w1 ad m2 ∧ K31 m m2 ∧ CartQ o s k r m2)) := by
  refine Z.met (own := "ThreeSizesModel") (nm := "areSorts") (lv := [(0, .ref (ad 0)), (1, .int (nI (s))), (2, .int (nI (k)))]) (by decide) rfl rfl (Nat.le_of_ble_eq_true rfl) rfl (fun κ X => ?_)
  have hI := hO.1
  have h6 := hI.2.1
  have hqs := hO.2.1 s hs
  refine z_aload_n X dX4_areSorts_0 rfl 0 rfl ?_
  refine z_mg2 X hM dX4_areSorts_1 ?_
  refine z_iload_n X dX4_areSorts_4 rfl 1 rfl ?_
  refine z_iaN (v := nI (o.2.2.2.1 2 s)) X dX4_areSorts_5 (mm_3 hM) (by omega) (by omega) ((hT.2.2.2.1 s (by omega)).2.2.1) ?_
  refine z_iload_n X dX4_areSorts_6 rfl 2 rfl ?_
  refine z_icmp_ge (tgt := 12) X dX4_areSorts_7 (by decide) (nI_leI (by omega) (by omega)) (fun c1 => ?_) (fun c1 => ?_)
  · refine z_iconst (v := nI (0)) X dX4_areSorts_12 ci0 ?_
    refine z_istore_n (lv2 := [(3, .int (nI (0))), (0, .ref (ad 0)), (1, .int (nI (s))), (2, .int (nI (k)))]) X dX4_areSorts_13 rfl (Nat.le_of_ble_eq_true rfl) rfl ?_
    have la : ∀ (lq i : Nat) (w2 : GW) (m2 : MSt), i + lq = k → MM G wb w2 ad m2 → K31 m m2 → MT o m2 → allTo (fun i => srtL o.1 (o.2.2.2.2.1 s i)) i = true → (∀ j, j < i → m2.1 31 j = nI (tnl (o.2.2.2.2.1 s j)) ∧ tnl (o.2.2.2.2.1 s j) < o.1.2 0) → Z κ w2 [(3, .int (nI (i))), (0, .ref (ad 0)), (1, .int (nI (s))), (2, .int (nI (k)))] 0 0 14 [] := by
      intro lq
      induction lq with
      | zero =>
        intro i w2 m2 lh hM2 hk31 hT2x ha hcr
        obtain rfl : k = i := by omega
        refine z_iload_n X dX4_areSorts_14 rfl 0 rfl ?_
        refine z_iload_n X dX4_areSorts_15 rfl 3 rfl ?_
        refine z_icmp_ge_t (tgt := 57) X dX4_areSorts_16 (by decide) ((nI_leI (by omega) (by omega)).mpr (by omega)) ?_
        refine z_iconst (v := nI (1)) X dX4_areSorts_57 ci1 ?_
        exact z_zret X dX4_areSorts_58 (by omega) (by omega) bz1 ⟨_, rfl, ⟨_, hM2, hk31, Or.inl ⟨by unfold cartB; rw [decide_eq_true (by omega), ha]; rfl, rfl, hcr⟩⟩⟩
      | succ lq ih =>
        intro i w2 m2 lh hM2 hk31 hT2x ha hcr
        refine z_iload_n X dX4_areSorts_14 rfl 0 rfl ?_
        refine z_iload_n X dX4_areSorts_15 rfl 3 rfl ?_
        refine z_icmp_ge_f (tgt := 57) X dX4_areSorts_16 (by decide) (fun h => absurd ((nI_leI (by omega) (by omega)).mp h) (by omega)) ?_
        refine z_aload_n X dX4_areSorts_19 rfl 1 rfl ?_
        refine z_aload_n X dX4_areSorts_20 rfl 1 rfl ?_
        refine z_mg3 X hM2 dX4_areSorts_21 ?_
        refine z_iload_n X dX4_areSorts_24 rfl 2 rfl ?_
        refine z_aN6 (v := .ref (ad (40 + s))) X dX4_areSorts_25 (mm_4 hM2) (by omega) (by omega) rfl ?_
        refine z_iload_n X dX4_areSorts_26 rfl 0 rfl ?_
        refine z_laN (v := o.2.2.2.2.1 s i) X dX4_areSorts_27 (mmr_40 hM2 (by omega)) (by omega) (by omega) (hT2x.2.2.2.2.1 s (by omega) i (by omega)) ?_
        refine z_cip (z_runV (rest := []) (n := 1) X [.long (o.2.2.2.2.1 s i)] (m_X4_isSort hM2 hT2x.1 hI (v := o.2.2.2.2.1 s i)) dX4_areSorts_28 (mm_o hM2) rfl (lw_V q1672 q1674 qs42 q70 q1675) hv_X4_isSort rfl ⟨Nat.le_of_ble_eq_true rfl, Nat.le_of_ble_eq_true rfl⟩ ⟨by omega, by omega⟩ rfl (Nat.le_of_ble_eq_true rfl)) ?_
        refine z_if_ne (tgt := 36) X dX4_areSorts_31 (by decide) bI_d (fun c2 => ?_) (fun c2 => ?_)
        · have c2 := Classical.not_not.mp c2
          have hv := srt_i h6 c2
          refine z_aload_n X dX4_areSorts_36 rfl 1 rfl ?_
          refine z_mg30 X hM2 dX4_areSorts_37 ?_
          refine z_iload_n X dX4_areSorts_40 rfl 0 rfl ?_
          refine z_aload_n X dX4_areSorts_41 rfl 1 rfl ?_
          refine z_mg3 X hM2 dX4_areSorts_42 ?_
          refine z_iload_n X dX4_areSorts_45 rfl 2 rfl ?_
          refine z_aN6 (v := .ref (ad (40 + s))) X dX4_areSorts_46 (mm_4 hM2) (by omega) (by omega) rfl ?_
          refine z_iload_n X dX4_areSorts_47 rfl 0 rfl ?_
          refine z_laN (v := o.2.2.2.2.1 s i) X dX4_areSorts_48 (mmr_40 hM2 (by omega)) (by omega) (by omega) (hT2x.2.2.2.2.1 s (by omega) i (by omega)) ?_
          refine z_l2i (v := (o.2.2.2.2.1 s i).toInt32) X dX4_areSorts_49 rfl ?_
          refine z_mst (n := 6) (j := i) X hM2 31 dX4_areSorts_50 rfl rfl rfl (by omega) (by omega) (fun u3 hM3 => ?_)
          refine z_iinc (v := nI (i + 1)) (lv2 := [(3, .int (nI (i + 1))), (0, .ref (ad 0)), (1, .int (nI (s))), (2, .int (nI (k)))]) X dX4_areSorts_51 0 rfl (nI_1 _) (Nat.le_of_ble_eq_true rfl) rfl ?_
          refine z_goto (tgt := 14) X dX4_areSorts_54 (by decide) ?_
          have ea : allTo (fun i => srtL o.1 (o.2.2.2.2.1 s i)) (i + 1) = true := by
            simp only [allTo]
            rw [ha]
            exact decide_eq_true c2
          have hk2 : K31 m (mI m2 31 i ((o.2.2.2.2.1 s i).toInt32)) := ⟨hk31.1, fun c hc => (mI_oth hc).trans (hk31.2 c hc)⟩
          exact ih (i + 1) _ _ (by omega) hM3 hk2 (hT.K31 hk2) ea (mI_row (p := fun j x => x = nI (tnl (o.2.2.2.2.1 s j)) ∧ tnl (o.2.2.2.2.1 s j) < o.1.2 0) hcr ⟨hv.1, hv.2⟩)
        · refine z_iconst (v := nI (0)) X dX4_areSorts_34 ci0 ?_
          exact z_zret X dX4_areSorts_35 (by omega) (by omega) bz0 ⟨_, rfl, ⟨_, hM2, hk31, Or.inr ⟨by unfold cartB; rw [allTo_no (p := (fun i => srtL o.1 (o.2.2.2.2.1 s i))) (i := i) (decide_eq_false c2) k (by omega)]; exact Bool.and_false _, rfl⟩⟩⟩
    exact la k 0 w m (by omega) hM ⟨rfl, fun _ _ => rfl⟩ hT rfl (fun j hj => absurd hj (by omega))
  · refine z_iconst (v := nI (0)) X dX4_areSorts_10 ci0 ?_
    exact z_zret X dX4_areSorts_11 (by omega) (by omega) bz0 ⟨_, rfl, ⟨_, hM, ⟨rfl, fun _ _ => rfl⟩, Or.inr ⟨by unfold cartB; rw [decide_eq_false (by omega)]; exact Bool.false_and _, rfl⟩⟩⟩
