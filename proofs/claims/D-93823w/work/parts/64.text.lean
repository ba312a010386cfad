/-! TEXTS: the JDK leaves -/
set_option maxRecDepth 100000
theorem shr_0 (x : Int32) : x >>> (nI 0 &&& 31) = x := by
  rw [show (nI 0 &&& 31 : Int32) = 0 by decide]; exact Int32.shiftRight_zero
theorem shl_0 (x : Int32) : x <<< (nI 0 &&& 31) = x := by
  rw [show (nI 0 &&& 31 : Int32) = 0 by decide]; exact Int32.shiftLeft_zero
theorem and_255 {b : Nat} (h : b < 256) : nI b &&& nI 255 = nI b := by
  have e := pk_and (nI b) (m := nI 255) 8 (by decide)
  rw [e]
  congr 1
  have h2 : (nI b).toBitVec.toNat = b := by
    show (BitVec.ofNat 32 b).toNat = b
    rw [BitVec.toNat_ofNat]; exact Nat.mod_eq_of_lt (by omega)
  rw [h2]; exact Nat.mod_eq_of_lt (by omega)
theorem chr_n {b : Nat} (h : b < 65536) : ((nI b).toUInt32 % 65536).toInt32 = nI b := by
  have e : (nI b).toUInt32 = UInt32.ofNat b := rfl
  rw [e]
  apply Int32.toBitVec_inj.mp
  show (UInt32.ofNat b % 65536).toBitVec = (nI b).toBitVec
  apply BitVec.eq_of_toNat_eq
  show (UInt32.ofNat b % 65536).toNat = _
  rw [UInt32.toNat_mod, UInt32.toNat_ofNat]
  show b % 2 ^ 32 % (65536 : UInt32).toNat = b % 2 ^ 32
  have e2 : (65536 : UInt32).toNat = 65536 := rfl
  rw [e2, Nat.mod_eq_of_lt (show b < 2 ^ 32 by omega)]; exact Nat.mod_eq_of_lt h
theorem nar_c {b : Nat} (h : b < 65536) : narrow .char (.int (nI b)) = .int (nI b) := by
  show Value.int ((nI b).toUInt32.toUInt16.toUInt32.toInt32) = _
  congr 1
  have e : (nI b).toUInt32.toUInt16.toUInt32 = (nI b).toUInt32 % 65536 := by
    apply UInt32.toNat_inj.mp
    rw [UInt32.toNat_mod]
    simp
  rw [e]; exact chr_n h
set_option maxHeartbeats 2000000 in
theorem x_J4_coder {l : Launch} {G : GG} {w : GW} {q v : Nat} {hh : Int32} (hS : SO G w q v hh) : gM l G yJ4_coder cJ4_coder 1 (some .byte) 1 0 0 [.ref (q)] w (pI (fun r w1 => r = nI 0 ∧ w1 = w)) := by
  refine Z.met (own := "java/lang/String") (nm := "coder") (lv := [(0, .ref (q))]) (by decide) rfl rfl (Nat.le_of_ble_eq_true rfl) rfl (fun κ X => ?_)
  refine z_gstI X cs_1 dJ4_coder_0 q1029 ?_
  refine z_if_eq_f (tgt := 13) X dJ4_coder_3 (by decide) (by decide) ?_
  refine z_aload_n X dJ4_coder_6 rfl 0 rfl ?_
  refine z_gS X hS dJ4_coder_7 1 (Nat.le_of_ble_eq_true rfl) q1044 rfl ?_
  refine z_goto (tgt := 14) X dJ4_coder_10 (by decide) ?_
  exact z_nret X dJ4_coder_14 (by omega) (by omega) rfl ⟨_, rfl, ⟨rfl, rfl⟩⟩
set_option maxHeartbeats 2000000 in
theorem x_J4_isLatin1 {l : Launch} {G : GG} {w : GW} {q v : Nat} {hh : Int32} (hS : SO G w q v hh) : gM l G yJ4_isLatin1 cJ4_isLatin1 1 (some .boolean) 1 0 0 [.ref (q)] w (pI (fun r w1 => r = nI 1 ∧ w1 = w)) := by
  refine Z.met (own := "java/lang/String") (nm := "isLatin1") (lv := [(0, .ref (q))]) (by decide) rfl rfl (Nat.le_of_ble_eq_true rfl) rfl (fun κ X => ?_)
  refine z_gstI X cs_1 dJ4_isLatin1_0 q1029 ?_
  refine z_if_eq_f (tgt := 17) X dJ4_isLatin1_3 (by decide) (by decide) ?_
  refine z_aload_n X dJ4_isLatin1_6 rfl 0 rfl ?_
  refine z_gS X hS dJ4_isLatin1_7 1 (Nat.le_of_ble_eq_true rfl) q1044 rfl ?_
  refine z_if_ne_f (tgt := 17) X dJ4_isLatin1_10 (by decide) (by decide) ?_
  refine z_iconst (v := nI (1)) X dJ4_isLatin1_13 ci1 ?_
  refine z_goto (tgt := 18) X dJ4_isLatin1_14 (by decide) ?_
  exact z_zret X dJ4_isLatin1_18 (by omega) (by omega) bz1 ⟨_, rfl, ⟨rfl, rfl⟩⟩
set_option maxHeartbeats 2000000 in
theorem x_J4_length {l : Launch} {G : GG} {w : GW} {q v : Nat} {hh : Int32} (hS : SO G w q v hh) {n : Nat} {f : Nat → Nat} (hB : BA G w v n (fun j => nI (f j))) : gM l G yJ4_length cJ4_length 1 (some .int) 2 0 0 [.ref (q)] w (pI (fun r w1 => r = nI n ∧ w1 = w)) := by
  refine Z.met (own := "java/lang/String") (nm := "length") (lv := [(0, .ref (q))]) (by decide) rfl rfl (Nat.le_of_ble_eq_true rfl) rfl (fun κ X => ?_)
  refine z_aload_n X dJ4_length_0 rfl 0 rfl ?_
  refine z_gS X hS dJ4_length_1 0 (Nat.le_of_ble_eq_true rfl) q1043 rfl ?_
  refine z_alK X hB dJ4_length_4 ?_
  refine z_aload_n X dJ4_length_5 rfl 0 rfl ?_
  refine z_cip (z_runVS (rest := [.int (nI (n))]) (n := 0) X [] (x_J4_coder hS) dJ4_length_6 hS (lw_V q1734 q1735 q1736 q75 q1737) hv_J4_coder rfl ⟨Nat.le_of_ble_eq_true rfl, Nat.le_of_ble_eq_true rfl⟩ ⟨by omega, by omega⟩ rfl (Nat.le_of_ble_eq_true rfl)) ?_
  refine z_ishr (v := nI (n)) X dJ4_length_9 (shr_0 _) ?_
  exact z_iret X dJ4_length_10 (by omega) (by omega) ⟨_, rfl, ⟨rfl, rfl⟩⟩
set_option maxHeartbeats 2000000 in
theorem x_J17_checkIndex_n {l : Launch} {G : GG} {w : GW} {i n : Nat} (hi : i < n) (hn : n < 2 ^ 31) : gM l G yJ17_checkIndex cJ17_checkIndex 3 (some .int) 1 0 0 [.int (nI (i)), .int (nI (n)), .null] w (pI (fun r w1 => r = nI i ∧ w1 = w)) := by
  refine Z.met (own := "jdk/internal/util/Preconditions") (nm := "checkIndex") (lv := [(0, .int (nI (i))), (1, .int (nI (n))), (2, .null)]) (by decide) rfl rfl (Nat.le_of_ble_eq_true rfl) rfl (fun κ X => ?_)
  refine z_iload_n X dJ17_checkIndex_0 rfl 0 rfl ?_
  refine z_if_lt_f (tgt := 9) X dJ17_checkIndex_1 (by decide) (nI_pos (by omega)) ?_
  refine z_iload_n X dJ17_checkIndex_4 rfl 0 rfl ?_
  refine z_iload_n X dJ17_checkIndex_5 rfl 1 rfl ?_
  refine z_icmp_lt_t (tgt := 16) X dJ17_checkIndex_6 (by decide) ((nI_ltI (by omega) (by omega)).mpr (by omega)) ?_
  refine z_iload_n X dJ17_checkIndex_16 rfl 0 rfl ?_
  exact z_iret X dJ17_checkIndex_17 (by omega) (by omega) ⟨_, rfl, ⟨rfl, rfl⟩⟩
set_option maxHeartbeats 2000000 in
theorem x_J17_checkIndex_r {l : Launch} {G : GG} {w : GW} {i n t : Nat} (hi : i < n) (hn : n < 2 ^ 31) : gM l G yJ17_checkIndex cJ17_checkIndex 3 (some .int) 1 0 0 [.int (nI (i)), .int (nI (n)), .ref (t)] w (pI (fun r w1 => r = nI i ∧ w1 = w)) := by
  refine Z.met (own := "jdk/internal/util/Preconditions") (nm := "checkIndex") (lv := [(0, .int (nI (i))), (1, .int (nI (n))), (2, .ref (t))]) (by decide) rfl rfl (Nat.le_of_ble_eq_true rfl) rfl (fun κ X => ?_)
  refine z_iload_n X dJ17_checkIndex_0 rfl 0 rfl ?_
  refine z_if_lt_f (tgt := 9) X dJ17_checkIndex_1 (by decide) (nI_pos (by omega)) ?_
  refine z_iload_n X dJ17_checkIndex_4 rfl 0 rfl ?_
  refine z_iload_n X dJ17_checkIndex_5 rfl 1 rfl ?_
  refine z_icmp_lt_t (tgt := 16) X dJ17_checkIndex_6 (by decide) ((nI_ltI (by omega) (by omega)).mpr (by omega)) ?_
  refine z_iload_n X dJ17_checkIndex_16 rfl 0 rfl ?_
  exact z_iret X dJ17_checkIndex_17 (by omega) (by omega) ⟨_, rfl, ⟨rfl, rfl⟩⟩
set_option maxHeartbeats 2000000 in
theorem x_J4_checkIndex {l : Launch} {G : GG} {w : GW} {i n : Nat} (hi : i < n) (hn : n < 2 ^ 31) : gM l G yJ4_checkIndex cJ4_checkIndex 2 none 2 0 0 [.int (nI (i)), .int (nI (n))] w (pV (fun w1 => w1 = w)) := by
  refine Z.met (own := "java/lang/String") (nm := "checkIndex") (lv := [(0, .int (nI (i))), (1, .int (nI (n)))]) (by decide) rfl rfl (Nat.le_of_ble_eq_true rfl) rfl (fun κ X => ?_)
  refine z_iload_n X dJ4_checkIndex_0 rfl 0 rfl ?_
  refine z_iload_n X dJ4_checkIndex_1 rfl 1 rfl ?_
  refine z_gstQ X pf_1 dJ4_checkIndex_2 q968 (fun o1 => ?_)
  cases o1 with
  | none =>
    refine z_cip (z_runS (rest := []) (n := 3) X [.int (nI (i)), .int (nI (n)), .null] (x_J17_checkIndex_n (i := i) (n := n) (by omega) (by omega)) dJ4_checkIndex_5 (lw_S q991 q992 q99 q993) hs_J17_checkIndex rfl ⟨Nat.le_of_ble_eq_true rfl, Nat.le_of_ble_eq_true rfl⟩ ⟨by omega, by omega⟩ rfl (Nat.le_of_ble_eq_true rfl)) ?_
    refine z_pop X dJ4_checkIndex_8 rfl ?_
    exact z_vret X dJ4_checkIndex_9 (by omega) (by omega) ⟨rfl, rfl⟩
  | some to1 =>
    refine z_cip (z_runS (rest := []) (n := 3) X [.int (nI (i)), .int (nI (n)), .ref (to1)] (x_J17_checkIndex_r (i := i) (n := n) (by omega) (by omega) (t := to1)) dJ4_checkIndex_5 (lw_S q991 q992 q99 q993) hs_J17_checkIndex rfl ⟨Nat.le_of_ble_eq_true rfl, Nat.le_of_ble_eq_true rfl⟩ ⟨by omega, by omega⟩ rfl (Nat.le_of_ble_eq_true rfl)) ?_
    refine z_pop X dJ4_checkIndex_8 rfl ?_
    exact z_vret X dJ4_checkIndex_9 (by omega) (by omega) ⟨rfl, rfl⟩
set_option maxHeartbeats 2000000 in
theorem x_J16_charAt {l : Launch} {G : GG} {w : GW} {v n i : Nat} {f : Nat → Nat} (hB : BA G w v n (fun j => nI (f j))) (hi : i < n) (hn : n < 2 ^ 31) (hf : ∀ j, j < n → f j < 256) : gM l G yJ16_charAt cJ16_charAt 2 (some .char) 3 0 0 [.ref (v), .int (nI (i))] w (pI (fun r w1 => r = nI (f i) ∧ w1 = w)) := by
  refine Z.met (own := "java/lang/StringLatin1") (nm := "charAt") (lv := [(0, .ref (v)), (1, .int (nI (i)))]) (by decide) rfl rfl (Nat.le_of_ble_eq_true rfl) rfl (fun κ X => ?_)
  have h256 := hf i hi
  refine z_iload_n X dJ16_charAt_0 rfl 1 rfl ?_
  refine z_aload_n X dJ16_charAt_1 rfl 0 rfl ?_
  refine z_alK X hB dJ16_charAt_2 ?_
  refine z_cv (z_runS (rest := []) (n := 2) X [.int (nI (i)), .int (nI (n))] (x_J4_checkIndex (i := i) (n := n) (by omega) (by omega)) dJ16_charAt_3 (lw_S q1745 q989 q75 q990) hs_J4_checkIndex rfl ⟨Nat.le_of_ble_eq_true rfl, Nat.le_of_ble_eq_true rfl⟩ ⟨by omega, by omega⟩ rfl (Nat.le_of_ble_eq_true rfl)) (fun w3 h2 => ?_)
  subst h2
  refine z_aload_n X dJ16_charAt_6 rfl 0 rfl ?_
  refine z_iload_n X dJ16_charAt_7 rfl 1 rfl ?_
  refine z_bKN X hB dJ16_charAt_8 (by omega) (by omega) rfl ?_
  refine z_sipush (v := nI (255)) X dJ16_charAt_9 (by decide) ?_
  refine z_iand (v := nI (f i)) X dJ16_charAt_12 (and_255 h256) ?_
  refine z_i2c (v := nI (f i)) X dJ16_charAt_13 (chr_n (by omega)) ?_
  exact z_nret X dJ16_charAt_14 (by omega) (by omega) (nar_c (by have := hf i hi; omega)) ⟨_, rfl, ⟨rfl, rfl⟩⟩
set_option maxHeartbeats 2000000 in
theorem x_J4_charAt {l : Launch} {G : GG} {w : GW} {q v : Nat} {hh : Int32} (hS : SO G w q v hh) {n i : Nat} {f : Nat → Nat} (hB : BA G w v n (fun j => nI (f j))) (hi : i < n) (hn : n < 2 ^ 31) (hf : ∀ j, j < n → f j < 256) : gM l G yJ4_charAt cJ4_charAt 2 (some .char) 4 0 0 [.ref (q), .int (nI (i))] w (pI (fun r w1 => r = nI (f i) ∧ w1 = w)) := by
  refine Z.met (own := "java/lang/String") (nm := "charAt") (lv := [(0, .ref (q)), (1, .int (nI (i)))]) (by decide) rfl rfl (Nat.le_of_ble_eq_true rfl) rfl (fun κ X => ?_)
  have h256 := hf i hi
  refine z_aload_n X dJ4_charAt_0 rfl 0 rfl ?_
  refine z_cip (z_runVS (rest := []) (n := 0) X [] (x_J4_isLatin1 hS) dJ4_charAt_1 hS (lw_V q1085 q1086 q1087 q75 q1088) hv_J4_isLatin1 rfl ⟨Nat.le_of_ble_eq_true rfl, Nat.le_of_ble_eq_true rfl⟩ ⟨by omega, by omega⟩ rfl (Nat.le_of_ble_eq_true rfl)) ?_
  refine z_if_eq_f (tgt := 16) X dJ4_charAt_4 (by decide) (by decide) ?_
  refine z_aload_n X dJ4_charAt_7 rfl 0 rfl ?_
  refine z_gS X hS dJ4_charAt_8 0 (Nat.le_of_ble_eq_true rfl) q1043 rfl ?_
  refine z_iload_n X dJ4_charAt_11 rfl 1 rfl ?_
  refine z_cip (z_runS (rest := []) (n := 2) X [.ref (v), .int (nI (i))] (x_J16_charAt hB (i := i) (by omega) (by omega) hf) dJ4_charAt_12 (lw_S q1742 q1743 q98 q1744) hs_J16_charAt rfl ⟨Nat.le_of_ble_eq_true rfl, Nat.le_of_ble_eq_true rfl⟩ ⟨by omega, by omega⟩ rfl (Nat.le_of_ble_eq_true rfl)) ?_
  exact z_nret X dJ4_charAt_15 (by omega) (by omega) (nar_c (by have := hf i hi; omega)) ⟨_, rfl, ⟨rfl, rfl⟩⟩
