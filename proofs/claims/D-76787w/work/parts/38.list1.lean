theorem nl_max {b k : Nat} (hb : b < 1000) (hk : k < 1000) : (if nI b < nI k then nI k else nI b) = nI (if b < k then k else b) := by
  by_cases q : b < k
  · rw [if_pos q, if_pos ((nI_ltI (by omega) (by omega)).mpr q)]
  · rw [if_neg q, if_neg (fun w => q ((nI_ltI (by omega) (by omega)).mp w))]
theorem nl_big {n : Nat} (h : n < 2000) : ¬ (2147483639 : Int32) < nI n := fun q => by
  have h1 := Int32.lt_iff_toInt_lt.mp q
  rw [nI_toInt (by omega)] at h1
  have h2 : (2147483639 : Int32).toInt = 2147483639 := by decide
  omega
theorem mx_le {b k : Nat} (hb : b < 1000) (hk : k < 1000) : (if b < k then k else b) < 1000 := by split <;> omega
set_option maxHeartbeats 800000 in
set_option maxRecDepth 100000 in
theorem c_J18_checkIndex (l : Launch) (G : kG) (M : kM) (i n : Nat) (hi : i < n) (hn : n < 2147483648) : Kt l G yJ18_checkIndex cJ18_checkIndex 3 (some .int) 0 0 [.int (nI i), .int (nI n), .null] M (0) (0) (fun v M2 => v = some (.int (nI i)) ∧ M2 = M) := by
  refine Kt.of (own := "jdk/internal/util/Preconditions") (L := [some (.int (nI i)), some (.int (nI n)), some (.null)]) (by decide +kernel) rfl (Nat.le_of_ble_eq_true rfl) rfl ?_
  intro pp ee ss mm args below meth cd hmn hret
  refine x_iload_n (n' := 1) dJ18_checkIndex_0 rfl rfl rfl ?_
  refine x_if_lt (n' := 4) (tgt := 9) dJ18_checkIndex_1 (by decide) rfl (fun c1_1 => absurd c1_1 (nI_pos (by omega))) (fun c1_1 => ?_)
  refine x_iload_n (n' := 5) dJ18_checkIndex_4 rfl rfl rfl ?_
  refine x_iload_n (n' := 6) dJ18_checkIndex_5 rfl rfl rfl ?_
  refine x_icmp_lt (n' := 9) (tgt := 16) dJ18_checkIndex_6 (by decide) rfl (fun c6_2 => ?_) (fun c6_2 => absurd (nI_lt hi hn) c6_2)
  refine x_iload_n (n' := 17) dJ18_checkIndex_16 rfl rfl rfl ?_
  exact x_iret dJ18_checkIndex_17 hret (by repeat' (first | with_reducible exact kE.rf | with_reducible apply kE_A | with_reducible apply kE_I | with_reducible apply kE_L | with_reducible apply kE_R | with_reducible apply kE_O | with_reducible apply kE_G)) (⟨rfl, rfl⟩)

set_option maxHeartbeats 800000 in
set_option maxRecDepth 100000 in
theorem c_J26_checkIndex (l : Launch) (G : kG) (M : kM) (i n : Nat) (hi : i < n) (hn : n < 2147483648) : Kt l G yJ26_checkIndex cJ26_checkIndex 2 (some .int) 1 22 [.int (nI i), .int (nI n)] M (0) (0) (fun v M2 => v = some (.int (nI i)) ∧ M2 = M) := by
  refine Kt.of (own := "java/util/Objects") (L := [some (.int (nI i)), some (.int (nI n))]) (by decide +kernel) rfl (Nat.le_of_ble_eq_true rfl) rfl ?_
  intro pp ee ss mm args below meth cd hmn hret
  refine x_iload_n (n' := 1) dJ26_checkIndex_0 rfl rfl rfl ?_
  refine x_iload_n (n' := 2) dJ26_checkIndex_1 rfl rfl rfl ?_
  refine x_null (n' := 3) dJ26_checkIndex_2 rfl ?_
  refine x_callS (n' := 6) (n := 3) (c_J18_checkIndex l G _ i n hi hn) dJ26_checkIndex_3 (lw_S q969 q970 q104 q971) (by decide +kernel) ⟨(Nat.le_of_ble_eq_true rfl), (Nat.le_of_ble_eq_true rfl)⟩ rfl rfl (Nat.le_of_ble_eq_true rfl) (by first | exact Nat.le_of_ble_eq_true rfl | omega) (by first | exact Nat.le_of_ble_eq_true rfl | omega) rfl (fun v_1 M_2 h_4 hE_3 => ?_)
  obtain ⟨rfl, hMs⟩ := h_4
  have hMs := hMs.symm
  subst hMs
  exact x_iret dJ26_checkIndex_6 hret (by repeat' (first | with_reducible exact kE.rf | with_reducible exact hE_3 | with_reducible apply kE_A | with_reducible apply kE_I | with_reducible apply kE_L | with_reducible apply kE_R | with_reducible apply kE_O | with_reducible apply kE_G | with_reducible refine kE.tr ?_ hE_3)) (⟨rfl, rfl⟩)

theorem ffJ5_48_45 : FF "java/util/ArrayList" 48 45 2 "java/util/ArrayList" := ⟨by decide, by decide, q312, Or.inl rfl⟩
set_option maxHeartbeats 800000 in
set_option maxRecDepth 100000 in
theorem c_J5_size (l : Launch) (G : kG) (M : kM) (t n c0 : Nat) (f : Nat → Nat) (hal : AL G M t n c0 f) : Kt l G yJ5_size cJ5_size 1 (some .int) 0 0 [.ref t] M (0) (0) (fun v M2 => v = some (.int (nI n)) ∧ M2 = M) := by
  refine Kt.of (own := "java/util/ArrayList") (L := [some (.ref t)]) (by decide +kernel) rfl (Nat.le_of_ble_eq_true rfl) rfl ?_
  intro pp ee ss mm args below meth cd hmn hret
  have hal0 := hal
  obtain ⟨d0, h⟩ := hal
  have hlk : mK M t = some 45 := h.k
  have hle := h.le
  have hlt := CP_lt h.cp
  refine x_aload_n (n' := 1) dJ5_size_0 rfl rfl rfl ?_
  refine x_getI (n' := 4) dJ5_size_1 (by repeat' (first | with_reducible exact hlk | with_reducible apply mK_A | with_reducible apply mK_I | with_reducible apply mK_L | with_reducible apply mK_R | with_reducible apply mK_O | with_reducible apply mK_G | with_reducible refine mK_NA ?_ (by assumption) | with_reducible refine mK_NO ?_ (by assumption))) ffJ5_48_45 rfl rfl ?_
  refine x_topv h.sz ?_
  exact x_iret dJ5_size_4 hret (by repeat' (first | with_reducible exact kE.rf | with_reducible apply kE_A | with_reducible apply kE_I | with_reducible apply kE_L | with_reducible apply kE_R | with_reducible apply kE_O | with_reducible apply kE_G)) (⟨rfl, rfl⟩)

set_option maxHeartbeats 800000 in
set_option maxRecDepth 100000 in
theorem c_J5_isEmpty (l : Launch) (G : kG) (M : kM) (t n c0 : Nat) (f : Nat → Nat) (hal : AL G M t n c0 f) : Kt l G yJ5_isEmpty cJ5_isEmpty 1 (some .boolean) 0 0 [.ref t] M (0) (0) (fun v M2 => v = some (.int (bi (n = 0))) ∧ M2 = M) := by
  refine Kt.of (own := "java/util/ArrayList") (L := [some (.ref t)]) (by decide +kernel) rfl (Nat.le_of_ble_eq_true rfl) rfl ?_
  intro pp ee ss mm args below meth cd hmn hret
  have hal0 := hal
  obtain ⟨d0, h⟩ := hal
  have hlk : mK M t = some 45 := h.k
  have hle := h.le
  have hlt := CP_lt h.cp
  refine x_aload_n (n' := 1) dJ5_isEmpty_0 rfl rfl rfl ?_
  refine x_getI (n' := 4) dJ5_isEmpty_1 (by repeat' (first | with_reducible exact hlk | with_reducible apply mK_A | with_reducible apply mK_I | with_reducible apply mK_L | with_reducible apply mK_R | with_reducible apply mK_O | with_reducible apply mK_G | with_reducible refine mK_NA ?_ (by assumption) | with_reducible refine mK_NO ?_ (by assumption))) ffJ5_48_45 rfl rfl ?_
  refine x_topv h.sz ?_
  refine x_forkN (J := 12) (x_if_ne (n' := 7) (tgt := 11) dJ5_isEmpty_4 (by decide) rfl) (v1 := ?v1_f4_1) (v2 := ?v2_f4_1) (fun c_f4_1 j_f4_1 => ?b1_f4_1) (fun c_f4_1 j_f4_1 => ?b2_f4_1) ?k_f4_1
  case b1_f4_1 =>
    refine x_iconst (n' := 12) (v := 0) dJ5_isEmpty_11 (by decide) rfl ?_
    exact j_f4_1
  case b2_f4_1 =>
    refine x_iconst (n' := 8) (v := 1) dJ5_isEmpty_7 (by decide) rfl ?_
    refine x_goto (tgt := 12) dJ5_isEmpty_8 (by decide) ?_
    exact j_f4_1
  refine x_topv (y := bi (n = 0)) (by exact bi_c (nI_eq (b := 0) (by omega) (by decide))) ?_
  exact x_zret dJ5_isEmpty_12 hret (k_zn (bi_01 _)) (by repeat' (first | with_reducible exact kE.rf | with_reducible apply kE_A | with_reducible apply kE_I | with_reducible apply kE_L | with_reducible apply kE_R | with_reducible apply kE_O | with_reducible apply kE_G)) (⟨rfl, rfl⟩)

theorem ffJ5_9_45 : FF "java/util/ArrayList" 9 45 1 "java/util/ArrayList" := ⟨by decide, by decide, q309, Or.inl rfl⟩
set_option maxHeartbeats 800000 in
set_option maxRecDepth 100000 in
theorem c_J5_elementData (l : Launch) (G : kG) (M : kM) (t n c0 : Nat) (f : Nat → Nat) (i : Nat) (hal : AL G M t n c0 f) (hi : i < n) : Kt l G yJ5_elementData cJ5_elementData 2 (some (.object "java/lang/Object")) 0 0 [.ref t, .int (nI i)] M (0) (0) (fun v M2 => v = some (.ref (f i)) ∧ M2 = M) := by
  refine Kt.of (own := "java/util/ArrayList") (L := [some (.ref t), some (.int (nI i))]) (by decide +kernel) rfl (Nat.le_of_ble_eq_true rfl) rfl ?_
  intro pp ee ss mm args below meth cd hmn hret
  have hal0 := hal
  obtain ⟨d0, h⟩ := hal
  have hlk : mK M t = some 45 := h.k
  have hle := h.le
  have hlt := CP_lt h.cp
  have hc : c0 ≠ 0 := by omega
  have hr : mR M (fc 45 1) t = some d0 := h.r
  have hd : mK M d0 = some 125 := h.dk hc
  refine x_aload_n (n' := 1) dJ5_elementData_0 rfl rfl rfl ?_
  refine x_getRs (n' := 4) (b := d0) dJ5_elementData_1 (by repeat' (first | with_reducible exact hlk | with_reducible apply mK_A | with_reducible apply mK_I | with_reducible apply mK_L | with_reducible apply mK_R | with_reducible apply mK_O | with_reducible apply mK_G | with_reducible refine mK_NA ?_ (by assumption) | with_reducible refine mK_NO ?_ (by assumption))) ffJ5_9_45 rfl (by repeat' (first | with_reducible exact hr | with_reducible apply mR_A | with_reducible apply mR_I | with_reducible apply mR_L | with_reducible apply mR_R | with_reducible apply mR_O | with_reducible apply mR_G | with_reducible refine mR_NA ?_ (by assumption) (by assumption))) rfl ?_
  refine x_iload_n (n' := 5) dJ5_elementData_4 rfl rfl rfl ?_
  refine x_aalds (n' := 6) (b := (f i)) dJ5_elementData_5 (by repeat' (first | with_reducible exact hd | with_reducible apply mK_A | with_reducible apply mK_I | with_reducible apply mK_L | with_reducible apply mK_R | with_reducible apply mK_O | with_reducible apply mK_G | with_reducible refine mK_NA ?_ (by assumption) | with_reducible refine mK_NO ?_ (by assumption))) (by decide) (by decide) (by rw [h.dn hc]; exact vp_in_nI (by omega) (by omega)) (by rw [nI_clamp (by omega)]; exact h.e hi) rfl ?_
  exact x_aret dJ5_elementData_6 hret (Or.inl ⟨_, rfl⟩) (by repeat' (first | with_reducible exact kE.rf | with_reducible apply kE_A | with_reducible apply kE_I | with_reducible apply kE_L | with_reducible apply kE_R | with_reducible apply kE_O | with_reducible apply kE_G)) (⟨rfl, rfl⟩)

set_option maxHeartbeats 800000 in
set_option maxRecDepth 100000 in
theorem c_J5_get (l : Launch) (G : kG) (M : kM) (t n c0 : Nat) (f : Nat → Nat) (i : Nat) (hal : AL G M t n c0 f) (hi : i < n) : Kt l G yJ5_get cJ5_get 2 (some (.object "java/lang/Object")) 2 43 [.ref t, .int (nI i)] M (0) (0) (fun v M2 => v = some (.ref (f i)) ∧ M2 = M) := by
  refine Kt.of (own := "java/util/ArrayList") (L := [some (.ref t), some (.int (nI i))]) (by decide +kernel) rfl (Nat.le_of_ble_eq_true rfl) rfl ?_
  intro pp ee ss mm args below meth cd hmn hret
  have hal0 := hal
  obtain ⟨d0, h⟩ := hal
  have hlk : mK M t = some 45 := h.k
  have hle := h.le
  have hlt := CP_lt h.cp
  refine x_iload_n (n' := 1) dJ5_get_0 rfl rfl rfl ?_
  refine x_aload_n (n' := 2) dJ5_get_1 rfl rfl rfl ?_
  refine x_getI (n' := 5) dJ5_get_2 (by repeat' (first | with_reducible exact hlk | with_reducible apply mK_A | with_reducible apply mK_I | with_reducible apply mK_L | with_reducible apply mK_R | with_reducible apply mK_O | with_reducible apply mK_G | with_reducible refine mK_NA ?_ (by assumption) | with_reducible refine mK_NO ?_ (by assumption))) ffJ5_48_45 rfl rfl ?_
  refine x_topv h.sz ?_
  refine x_callS (n' := 8) (n := 2) (c_J26_checkIndex l G _ i n hi (by omega)) dJ5_get_5 (lw_S q966 q967 q115 q968) (by decide +kernel) ⟨(Nat.le_of_ble_eq_true rfl), (Nat.le_of_ble_eq_true rfl)⟩ rfl rfl (Nat.le_of_ble_eq_true rfl) (by first | exact Nat.le_of_ble_eq_true rfl | omega) (by first | exact Nat.le_of_ble_eq_true rfl | omega) rfl (fun v_1 M_2 h_4 hE_3 => ?_)
  obtain ⟨rfl, hMs⟩ := h_4
  have hMs := hMs.symm
  subst hMs
  refine x_pop (n' := 9) dJ5_get_8 rfl rfl ?_
  refine x_aload_n (n' := 10) dJ5_get_9 rfl rfl rfl ?_
  refine x_iload_n (n' := 11) dJ5_get_10 rfl rfl rfl ?_
  refine x_callV (n' := 14) (n := 1) (K := 45) (c_J5_elementData l G _ t n c0 f i hal0 hi) dJ5_get_11 (by repeat' (first | with_reducible exact hlk | with_reducible apply mK_A | with_reducible apply mK_I | with_reducible apply mK_L | with_reducible apply mK_R | with_reducible apply mK_O | with_reducible apply mK_G | with_reducible refine mK_NA ?_ (by assumption) | with_reducible refine mK_NO ?_ (by assumption) | with_reducible refine kE.ap hE_3 ?_)) rfl (lw_V q972 q973 q974 q90 q975) (by decide +kernel) ⟨(Nat.le_of_ble_eq_true rfl), (Nat.le_of_ble_eq_true rfl)⟩ rfl rfl (Nat.le_of_ble_eq_true rfl) (by first | exact Nat.le_of_ble_eq_true rfl | omega) (by first | exact Nat.le_of_ble_eq_true rfl | omega) rfl (fun v_5 M_6 h_8 hE_7 => ?_)
  obtain ⟨rfl, hMs⟩ := h_8
  have hMs := hMs.symm
  subst hMs
  exact x_aret dJ5_get_14 hret (Or.inl ⟨_, rfl⟩) (by repeat' (first | with_reducible exact kE.rf | with_reducible exact hE_3 | with_reducible exact hE_7 | with_reducible apply kE_A | with_reducible apply kE_I | with_reducible apply kE_L | with_reducible apply kE_R | with_reducible apply kE_O | with_reducible apply kE_G | with_reducible refine kE.tr ?_ hE_3 | with_reducible refine kE.tr ?_ hE_7)) (⟨rfl, rfl⟩)

set_option maxHeartbeats 800000 in
set_option maxRecDepth 100000 in
theorem c_J3_init (l : Launch) (G : kG) (M : kM) (t : Nat) : Kt l G yJ3_init cJ3_init 1 none 1 20 [.ref t] M (0) (0) (fun v M2 => v = none ∧ M2 = M) := by
  refine Kt.of (own := "java/util/AbstractCollection") (L := [some (.ref t)]) (by decide +kernel) rfl (Nat.le_of_ble_eq_true rfl) rfl ?_
  intro pp ee ss mm args below meth cd hmn hret
  refine x_aload_n (n' := 1) dJ3_init_0 rfl rfl rfl ?_
  refine x_objInit (n' := 4) dJ3_init_1 q306 ⟨(Nat.le_of_ble_eq_true rfl), (Nat.le_of_ble_eq_true rfl)⟩ (Nat.le_of_ble_eq_true rfl) rfl ?_
  exact x_vret dJ3_init_4 hret (by repeat' (first | with_reducible exact kE.rf | with_reducible apply kE_A | with_reducible apply kE_I | with_reducible apply kE_L | with_reducible apply kE_R | with_reducible apply kE_O | with_reducible apply kE_G)) (⟨rfl, rfl⟩)

theorem ffJ4_7_45 : FF "java/util/AbstractList" 7 45 0 "java/util/AbstractList" := ⟨by decide, by decide, q313, Or.inl rfl⟩
set_option maxHeartbeats 800000 in
set_option maxRecDepth 100000 in
theorem c_J4_init (l : Launch) (G : kG) (M : kM) (t : Nat) (hl : mK M t = some 45) : Kt l G yJ4_init cJ4_init 1 none 2 40 [.ref t] M (0) (0) (fun v M2 => v = none ∧ M2 = sI M (fc 45 0) t 0) := by
  refine Kt.of (own := "java/util/AbstractList") (L := [some (.ref t)]) (by decide +kernel) rfl (Nat.le_of_ble_eq_true rfl) rfl ?_
  intro pp ee ss mm args below meth cd hmn hret
  refine x_aload_n (n' := 1) dJ4_init_0 rfl rfl rfl ?_
  refine x_callI (n' := 4) (ret := none) (n := 0) (c_J3_init l G _ t) dJ4_init_1 (lw_meth q305) q88 q303 q304 rfl (by decide +kernel) ⟨(Nat.le_of_ble_eq_true rfl), (Nat.le_of_ble_eq_true rfl)⟩ rfl rfl (Nat.le_of_ble_eq_true rfl) (by first | exact Nat.le_of_ble_eq_true rfl | omega) (by first | exact Nat.le_of_ble_eq_true rfl | omega) rfl (fun v_1 M_2 h_4 hE_3 => ?_)
  obtain ⟨rfl, hMs⟩ := h_4
  have hMs := hMs.symm
  subst hMs
  refine x_aload_n (n' := 5) dJ4_init_4 rfl rfl rfl ?_
  refine x_iconst (n' := 6) (v := 0) dJ4_init_5 (by decide) rfl ?_
  refine x_putI (n' := 9) dJ4_init_6 (by repeat' (first | with_reducible exact hl | with_reducible apply mK_A | with_reducible apply mK_I | with_reducible apply mK_L | with_reducible apply mK_R | with_reducible apply mK_O | with_reducible apply mK_G | with_reducible refine mK_NA ?_ (by assumption) | with_reducible refine mK_NO ?_ (by assumption) | with_reducible refine kE.ap hE_3 ?_)) ffJ4_7_45 rfl (⟨rfl, rfl⟩) rfl rfl ?_
  exact x_vret dJ4_init_9 hret (by repeat' (first | with_reducible exact kE.rf | with_reducible exact hE_3 | with_reducible apply kE_A | with_reducible apply kE_I | with_reducible apply kE_L | with_reducible apply kE_R | with_reducible apply kE_O | with_reducible apply kE_G | with_reducible refine kE.tr ?_ hE_3)) (⟨rfl, rfl⟩)

set_option maxHeartbeats 800000 in
set_option maxRecDepth 100000 in
theorem c_J5_init (l : Launch) (G : kG) (M : kM) (t : Nat) (hl : mK M t = some 45) : Kt l G yJ5_init cJ5_init 1 none 3 60 [.ref t] M (0) (0) (fun v M2 => v = none ∧ M2 = sR (sI M (fc 45 0) t 0) (fc 45 1) t (some (G.2.2.2 6))) := by
  refine Kt.of (own := "java/util/ArrayList") (L := [some (.ref t)]) (by decide +kernel) rfl (Nat.le_of_ble_eq_true rfl) rfl ?_
  intro pp ee ss mm args below meth cd hmn hret
  refine x_aload_n (n' := 1) dJ5_init_0 rfl rfl rfl ?_
  refine x_callI (n' := 4) (ret := none) (n := 0) (c_J4_init l G _ t hl) dJ5_init_1 (lw_meth q302) q89 q300 q301 rfl (by decide +kernel) ⟨(Nat.le_of_ble_eq_true rfl), (Nat.le_of_ble_eq_true rfl)⟩ rfl rfl (Nat.le_of_ble_eq_true rfl) (by first | exact Nat.le_of_ble_eq_true rfl | omega) (by first | exact Nat.le_of_ble_eq_true rfl | omega) rfl (fun v_1 M_2 h_4 hE_3 => ?_)
  obtain ⟨rfl, hMs⟩ := h_4
  have hMs := hMs.symm
  subst hMs
  refine x_aload_n (n' := 5) dJ5_init_4 rfl rfl rfl ?_
  refine x_gets (n' := 8) dJ5_init_5 (List.mem_of_getElem? (i := 6) rfl) q307 rfl ?_
  refine x_putR (n' := 11) (v := some ((G.2.2.2 6))) dJ5_init_8 (by repeat' (first | with_reducible exact hl | with_reducible apply mK_A | with_reducible apply mK_I | with_reducible apply mK_L | with_reducible apply mK_R | with_reducible apply mK_O | with_reducible apply mK_G | with_reducible refine mK_NA ?_ (by assumption) | with_reducible refine mK_NO ?_ (by assumption) | with_reducible refine kE.ap hE_3 ?_)) ffJ5_9_45 rfl rfl rfl ?_
  exact x_vret dJ5_init_11 hret (by repeat' (first | with_reducible exact kE.rf | with_reducible exact hE_3 | with_reducible apply kE_A | with_reducible apply kE_I | with_reducible apply kE_L | with_reducible apply kE_R | with_reducible apply kE_O | with_reducible apply kE_G | with_reducible refine kE.tr ?_ hE_3)) (⟨rfl, rfl⟩)

set_option maxHeartbeats 800000 in
set_option maxRecDepth 100000 in
theorem c_J15_newLength (l : Launch) (G : kG) (M : kM) (a b k : Nat) (ha0 : 0 < a) (ha : a < 1000) (hb : b < 1000) (hk : k < 1000) : Kt l G yJ15_newLength cJ15_newLength 4 (some .int) 1 21 [.int (nI a), .int (nI b), .int (nI k)] M (0) (0) (fun v M2 => v = some (.int (nI (a + (if b < k then k else b)))) ∧ M2 = M) := by
  refine Kt.of (own := "jdk/internal/util/ArraysSupport") (L := [some (.int (nI a)), some (.int (nI b)), some (.int (nI k)), none]) (by decide +kernel) rfl (Nat.le_of_ble_eq_true rfl) rfl ?_
  intro pp ee ss mm args below meth cd hmn hret
  have hm := nl_max (b := b) (k := k) hb hk
  have hz := mx_le hb hk
  refine x_iload_n (n' := 1) dJ15_newLength_0 rfl rfl rfl ?_
  refine x_iload_n (n' := 2) dJ15_newLength_1 rfl rfl rfl ?_
  refine x_iload_n (n' := 3) dJ15_newLength_2 rfl rfl rfl ?_
  refine x_mmax (n' := 6) dJ15_newLength_3 q477 q478 q101 q479 ⟨(Nat.le_of_ble_eq_true rfl), (Nat.le_of_ble_eq_true rfl)⟩ (Nat.le_of_ble_eq_true rfl) rfl ?_
  rw [hm]
  refine x_iadd (n' := 7) dJ15_newLength_6 rfl ?_
  rw [nI_add]
  refine x_istore_n (n' := 8) dJ15_newLength_7 rfl (Nat.le_of_ble_eq_true rfl) rfl (by dsimp only [List.set] <;> rfl) rfl ?_
  refine x_iconst (n' := 9) (v := 0) dJ15_newLength_8 (by decide) rfl ?_
  refine x_iload_n (n' := 10) dJ15_newLength_9 rfl rfl rfl ?_
  refine x_icmp_ge (n' := 13) (tgt := 21) dJ15_newLength_10 (by decide) rfl (fun c10_1 => absurd c10_1 (nI_nle (by omega) (by omega))) (fun c10_1 => ?_)
  refine x_iload_n (n' := 14) dJ15_newLength_13 rfl rfl rfl ?_
  refine x_ldc (n' := 16) q480 dJ15_newLength_14 rfl ?_
  refine x_icmp_gt (n' := 19) (tgt := 21) dJ15_newLength_16 (by decide) rfl (fun c16_2 => absurd c16_2 (nl_big (by omega))) (fun c16_2 => ?_)
  refine x_iload_n (n' := 20) dJ15_newLength_19 rfl rfl rfl ?_
  exact x_iret dJ15_newLength_20 hret (by repeat' (first | with_reducible exact kE.rf | with_reducible apply kE_A | with_reducible apply kE_I | with_reducible apply kE_L | with_reducible apply kE_R | with_reducible apply kE_O | with_reducible apply kE_G)) (⟨rfl, rfl⟩)
