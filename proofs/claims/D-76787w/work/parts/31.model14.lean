theorem elG_p {so z : gT} {e : Nat → Int64} {k i : Int32} (c : okEl so z k i) : e (40 * nn k + nn i) = elG so z e k i := (if_pos c).symm
theorem elG_n {so z : gT} {e : Nat → Int64} {k i : Int32} (c : ¬ okEl so z k i) : 0 = elG so z e k i := (if_neg c).symm
set_option maxHeartbeats 4000000 in
set_option maxRecDepth 100000 in
theorem c_X9_element (l : Launch) (G : kG) (M : kM) (m : Nat) (ad : Nat → Nat) (hS : MS M m ad) (k i : Int32) (hz : SZ (mA M (ad 8))) : Kt l G yX9_element cX9_element 3 (some .long) 2 45 [.ref m, .int k, .int i] M (0) (0) (fun v M2 => v = some (.long (elG (mA M (ad 7)) (mA M (ad 8)) (mL M (ad 13)) k i)) ∧ M2 = M) := by
  refine Kt.of (own := "KeptLightModel") (L := [some (.ref m), some (.int k), some (.int i)]) (by decide +kernel) rfl (Nat.le_of_ble_eq_true rfl) rfl ?_
  intro pp ee ss mm args below meth cd hmn hret
  have km := hS.1
  obtain ⟨hr_sorts, kk_sorts, hn_sorts⟩ := hS.2.1 7 (by decide)
  have hr_sorts : mR M (fc 9 17) m = some (ad 7) := hr_sorts
  have hn_sorts : mN M (ad 7) = 8 := hn_sorts
  have kk_sorts : mK M (ad 7) = some 120 := kk_sorts
  obtain ⟨hr_sizes, kk_sizes, hn_sizes⟩ := hS.2.1 8 (by decide)
  have hr_sizes : mR M (fc 9 18) m = some (ad 8) := hr_sizes
  have hn_sizes : mN M (ad 8) = 8 := hn_sizes
  have kk_sizes : mK M (ad 8) = some 120 := kk_sizes
  obtain ⟨hr_elements, kk_elements, hn_elements⟩ := hS.2.1 13 (by decide)
  have hr_elements : mR M (fc 9 19) m = some (ad 13) := hr_elements
  have hn_elements : mN M (ad 13) = 320 := hn_elements
  have kk_elements : mK M (ad 13) = some 124 := kk_elements
  have ne_sorts_sizes := hS.eqf 7 8 (by decide) (by decide) (by decide)
  have ne_sorts_elements := hS.eqf 7 13 (by decide) (by decide) (by decide)
  have ne_sizes_sorts := hS.eqf 8 7 (by decide) (by decide) (by decide)
  have ne_sizes_elements := hS.eqf 8 13 (by decide) (by decide) (by decide)
  have ne_elements_sorts := hS.eqf 13 7 (by decide) (by decide) (by decide)
  have ne_elements_sizes := hS.eqf 13 8 (by decide) (by decide) (by decide)
  refine x_iload_n (n' := 1) dX9_element_0 rfl rfl rfl ?_
  refine x_callS (n' := 4) (n := 1) (c_X9_isShelf l G _ k) dX9_element_1 (lw_S q3364 q3365 q109 q3366) (by decide +kernel) ⟨(Nat.le_of_ble_eq_true rfl), (Nat.le_of_ble_eq_true rfl)⟩ rfl rfl (Nat.le_of_ble_eq_true rfl) (by first | exact Nat.le_of_ble_eq_true rfl | omega) (by first | exact Nat.le_of_ble_eq_true rfl | omega) rfl (fun v_1 M_2 h_4 hE_3 => ?_)
  obtain ⟨rfl, hMs⟩ := h_4
  have hMs := hMs.symm
  subst hMs
  refine x_if_eq (n' := 7) (tgt := 56) dX9_element_4 (by decide) rfl (fun c4_5 => ?_) (fun c4_5 => ?_)
  · have C4 := c4_5
    refine x_lconst (n' := 57) (v := 0) dX9_element_56 (by decide) rfl ?_
    exact x_lret dX9_element_57 hret (by repeat' (first | with_reducible exact kE.rf | with_reducible exact kE_SS | with_reducible apply kE_A | with_reducible apply kE_I | with_reducible apply kE_L | with_reducible apply kE_R | with_reducible apply kE_O | with_reducible apply kE_S)) (by first | exact ⟨congrArg (fun z => some (Value.long z)) (elG_p ⟨hs1, bi_n0 C21, hi1.1, by rw [(hz.n (k := nn k) (by omega)).1]; exact hi1.2⟩), rfl⟩ | exact ⟨congrArg (fun z => some (Value.long z)) (elG_n (fun q => bi_0.mp C4 q.1)), rfl⟩ | exact ⟨congrArg (fun z => some (Value.long z)) (elG_n (fun q => bi_0.mp C21 q.2.1)), rfl⟩ | exact ⟨congrArg (fun z => some (Value.long z)) (elG_n (fun q => bi_0.mp C39 ⟨q.2.2.1, by rw [← (hz.n (k := nn k) (by omega)).1]; exact q.2.2.2⟩)), rfl⟩)
  · have C4 := c4_5
    have hs1 : shP k := bi_n0 C4
    have hn7 := nn_le (n := 7) hs1.1 hs1.2 (by decide)
    refine x_loc (i := 1) rfl (nn_of hs1.1) (by dsimp only [List.set] <;> rfl) ?_
    refine x_aload_n (n' := 8) dX9_element_7 rfl rfl rfl ?_
    refine x_getRs (n' := 11) (b := (ad 7)) dX9_element_8 (by repeat' (first | with_reducible exact km | with_reducible apply mK_A | with_reducible apply mK_I | with_reducible apply mK_L | with_reducible apply mK_R | with_reducible apply mK_O | with_reducible apply mK_S)) ffX9_41_9 rfl (by repeat' (first | with_reducible exact hr_sorts | with_reducible apply mR_A | with_reducible apply mR_I | with_reducible apply mR_L | with_reducible apply mR_S)) rfl ?_
    refine x_iload_n (n' := 12) dX9_element_11 rfl rfl rfl ?_
    refine x_ildk (n' := 13) (N := 8) dX9_element_12 (by repeat' (first | with_reducible exact kk_sorts | with_reducible apply mK_A | with_reducible apply mK_I | with_reducible apply mK_L | with_reducible apply mK_R | with_reducible apply mK_O | with_reducible apply mK_S)) (by repeat' (first | with_reducible exact hn_sorts | with_reducible apply mN_A | with_reducible apply mN_I | with_reducible apply mN_L | with_reducible apply mN_R | with_reducible apply mN_O | with_reducible apply mN_S)) (by repeat' (first | with_reducible exact nl_0 | with_reducible exact nl_1 | with_reducible exact nl_40 | with_reducible exact rfl | apply i_add | apply i_mul)) (by omega) (by decide) (by first | (simp (disch := omega) only [mA_sA, mA_sI, mA_SC0, mA_SC1 hS, mA_SC5 hS, mA_SC6 hS, mA_SC10 hS, mA_SC11 hS, mA_SC12 hS, up_s, up_n, if_false, ne_sorts_sizes, ne_sorts_elements, ne_sizes_sorts, ne_sizes_elements, ne_elements_sorts, ne_elements_sizes] <;> rfl) | rfl) rfl ?_
    refine x_i2l (n' := 14) dX9_element_13 rfl rfl ?_
    refine x_lconst (n' := 15) (v := 0) dX9_element_14 (by decide) rfl ?_
    refine x_ldc2 (n' := 18) q3384 dX9_element_15 rfl ?_
    refine x_callS (n' := 21) (n := 3) (c_X9_in l G _ _ _ _) dX9_element_18 (lw_S q3321 q3322 q109 q3323) (by decide +kernel) ⟨(Nat.le_of_ble_eq_true rfl), (Nat.le_of_ble_eq_true rfl)⟩ rfl rfl (Nat.le_of_ble_eq_true rfl) (by first | exact Nat.le_of_ble_eq_true rfl | omega) (by first | exact Nat.le_of_ble_eq_true rfl | omega) rfl (fun v_6 M_7 h_9 hE_8 => ?_)
    obtain ⟨rfl, hMs⟩ := h_9
    have hMs := hMs.symm
    subst hMs
    rw [k_in3 (x := 0) (y := 4) (by decide) (by decide)]
    refine x_if_eq (n' := 24) (tgt := 56) dX9_element_21 (by decide) rfl (fun c21_10 => ?_) (fun c21_10 => ?_)
    · have C21 := c21_10
      refine x_lconst (n' := 57) (v := 0) dX9_element_56 (by decide) rfl ?_
      exact x_lret dX9_element_57 hret (by repeat' (first | with_reducible exact kE.rf | with_reducible exact kE_SS | with_reducible apply kE_A | with_reducible apply kE_I | with_reducible apply kE_L | with_reducible apply kE_R | with_reducible apply kE_O | with_reducible apply kE_S)) (by first | exact ⟨congrArg (fun z => some (Value.long z)) (elG_p ⟨hs1, bi_n0 C21, hi1.1, by rw [(hz.n (k := nn k) (by omega)).1]; exact hi1.2⟩), rfl⟩ | exact ⟨congrArg (fun z => some (Value.long z)) (elG_n (fun q => bi_0.mp C4 q.1)), rfl⟩ | exact ⟨congrArg (fun z => some (Value.long z)) (elG_n (fun q => bi_0.mp C21 q.2.1)), rfl⟩ | exact ⟨congrArg (fun z => some (Value.long z)) (elG_n (fun q => bi_0.mp C39 ⟨q.2.2.1, by rw [← (hz.n (k := nn k) (by omega)).1]; exact q.2.2.2⟩)), rfl⟩)
    · have C21 := c21_10
      refine x_iload_n (n' := 25) dX9_element_24 rfl rfl rfl ?_
      refine x_i2l (n' := 26) dX9_element_25 rfl rfl ?_
      refine x_lconst (n' := 27) (v := 0) dX9_element_26 (by decide) rfl ?_
      refine x_aload_n (n' := 28) dX9_element_27 rfl rfl rfl ?_
      refine x_getRs (n' := 31) (b := (ad 8)) dX9_element_28 (by repeat' (first | with_reducible exact km | with_reducible apply mK_A | with_reducible apply mK_I | with_reducible apply mK_L | with_reducible apply mK_R | with_reducible apply mK_O | with_reducible apply mK_S)) ffX9_44_9 rfl (by repeat' (first | with_reducible exact hr_sizes | with_reducible apply mR_A | with_reducible apply mR_I | with_reducible apply mR_L | with_reducible apply mR_S)) rfl ?_
      refine x_iload_n (n' := 32) dX9_element_31 rfl rfl rfl ?_
      refine x_ildk (n' := 33) (N := 8) dX9_element_32 (by repeat' (first | with_reducible exact kk_sizes | with_reducible apply mK_A | with_reducible apply mK_I | with_reducible apply mK_L | with_reducible apply mK_R | with_reducible apply mK_O | with_reducible apply mK_S)) (by repeat' (first | with_reducible exact hn_sizes | with_reducible apply mN_A | with_reducible apply mN_I | with_reducible apply mN_L | with_reducible apply mN_R | with_reducible apply mN_O | with_reducible apply mN_S)) (by repeat' (first | with_reducible exact nl_0 | with_reducible exact nl_1 | with_reducible exact nl_40 | with_reducible exact rfl | apply i_add | apply i_mul)) (by omega) (by decide) (hz.n (by omega)).1 rfl ?_
      refine x_iconst (n' := 34) (v := 1) dX9_element_33 (by decide) rfl ?_
      refine x_isub (n' := 35) dX9_element_34 rfl ?_
      refine x_i2l (n' := 36) dX9_element_35 rfl rfl ?_
      refine x_callS (n' := 39) (n := 3) (c_X9_in l G _ _ _ _) dX9_element_36 (lw_S q3321 q3322 q109 q3323) (by decide +kernel) ⟨(Nat.le_of_ble_eq_true rfl), (Nat.le_of_ble_eq_true rfl)⟩ rfl rfl (Nat.le_of_ble_eq_true rfl) (by first | exact Nat.le_of_ble_eq_true rfl | omega) (by first | exact Nat.le_of_ble_eq_true rfl | omega) rfl (fun v_11 M_12 h_14 hE_13 => ?_)
      obtain ⟨rfl, hMs⟩ := h_14
      have hMs := hMs.symm
      subst hMs
      rw [k_in1 i (n := nn ((mA M (ad 8)) (nn k))) (by have := (hz.n (k := nn k) (by omega)).2; omega)]
      refine x_if_eq (n' := 42) (tgt := 56) dX9_element_39 (by decide) rfl (fun c39_15 => ?_) (fun c39_15 => ?_)
      · have C39 := c39_15
        refine x_lconst (n' := 57) (v := 0) dX9_element_56 (by decide) rfl ?_
        exact x_lret dX9_element_57 hret (by repeat' (first | with_reducible exact kE.rf | with_reducible exact kE_SS | with_reducible apply kE_A | with_reducible apply kE_I | with_reducible apply kE_L | with_reducible apply kE_R | with_reducible apply kE_O | with_reducible apply kE_S)) (by first | exact ⟨congrArg (fun z => some (Value.long z)) (elG_p ⟨hs1, bi_n0 C21, hi1.1, by rw [(hz.n (k := nn k) (by omega)).1]; exact hi1.2⟩), rfl⟩ | exact ⟨congrArg (fun z => some (Value.long z)) (elG_n (fun q => bi_0.mp C4 q.1)), rfl⟩ | exact ⟨congrArg (fun z => some (Value.long z)) (elG_n (fun q => bi_0.mp C21 q.2.1)), rfl⟩ | exact ⟨congrArg (fun z => some (Value.long z)) (elG_n (fun q => bi_0.mp C39 ⟨q.2.2.1, by rw [← (hz.n (k := nn k) (by omega)).1]; exact q.2.2.2⟩)), rfl⟩)
      · have C39 := c39_15
        have hi1 := bi_n0 C39
        have hz1 := (hz.n (k := nn k) (by omega)).2
        have hn8 := nn_ltn hi1.1 hi1.2 (by omega)
        refine x_loc (i := 2) rfl (nn_of hi1.1) (by dsimp only [List.set] <;> rfl) ?_
        refine x_aload_n (n' := 43) dX9_element_42 rfl rfl rfl ?_
        refine x_getRs (n' := 46) (b := (ad 13)) dX9_element_43 (by repeat' (first | with_reducible exact km | with_reducible apply mK_A | with_reducible apply mK_I | with_reducible apply mK_L | with_reducible apply mK_R | with_reducible apply mK_O | with_reducible apply mK_S)) ffX9_47_9 rfl (by repeat' (first | with_reducible exact hr_elements | with_reducible apply mR_A | with_reducible apply mR_I | with_reducible apply mR_L | with_reducible apply mR_S)) rfl ?_
        refine x_bipush (n' := 48) (v := 40) dX9_element_46 (by decide) rfl ?_
        refine x_iload_n (n' := 49) dX9_element_48 rfl rfl rfl ?_
        refine x_imul (n' := 50) dX9_element_49 rfl ?_
        refine x_iload_n (n' := 51) dX9_element_50 rfl rfl rfl ?_
        refine x_iadd (n' := 52) dX9_element_51 rfl ?_
        refine x_lldk (n' := 53) (N := 320) dX9_element_52 (by repeat' (first | with_reducible exact kk_elements | with_reducible apply mK_A | with_reducible apply mK_I | with_reducible apply mK_L | with_reducible apply mK_R | with_reducible apply mK_O | with_reducible apply mK_S)) (by repeat' (first | with_reducible exact hn_elements | with_reducible apply mN_A | with_reducible apply mN_I | with_reducible apply mN_L | with_reducible apply mN_R | with_reducible apply mN_O | with_reducible apply mN_S)) (by repeat' (first | with_reducible exact nl_0 | with_reducible exact nl_1 | with_reducible exact nl_40 | with_reducible exact rfl | apply i_add | apply i_mul)) (by omega) (by decide) rfl rfl ?_
        refine x_goto (tgt := 57) dX9_element_53 (by decide) ?_
        exact x_lret dX9_element_57 hret (by repeat' (first | with_reducible exact kE.rf | with_reducible exact kE_SS | with_reducible apply kE_A | with_reducible apply kE_I | with_reducible apply kE_L | with_reducible apply kE_R | with_reducible apply kE_O | with_reducible apply kE_S)) (by first | exact ⟨congrArg (fun z => some (Value.long z)) (elG_p ⟨hs1, bi_n0 C21, hi1.1, by rw [(hz.n (k := nn k) (by omega)).1]; exact hi1.2⟩), rfl⟩ | exact ⟨congrArg (fun z => some (Value.long z)) (elG_n (fun q => bi_0.mp C4 q.1)), rfl⟩ | exact ⟨congrArg (fun z => some (Value.long z)) (elG_n (fun q => bi_0.mp C21 q.2.1)), rfl⟩ | exact ⟨congrArg (fun z => some (Value.long z)) (elG_n (fun q => bi_0.mp C39 ⟨q.2.2.1, by rw [← (hz.n (k := nn k) (by omega)).1]; exact q.2.2.2⟩)), rfl⟩)

set_option maxHeartbeats 4000000 in
set_option maxRecDepth 100000 in
theorem c_X9_holds (l : Launch) (G : kG) (M : kM) (m : Nat) (ad : Nat → Nat) (hS : MS M m ad) (k : Int32)  : Kt l G yX9_holds cX9_holds 2 (some .int) 2 45 [.ref m, .int k] M (0) (0) (fun v M2 => v = some (.int (if shP k then (mA M (ad 7)) (nn k) else -1)) ∧ M2 = M) := by
  refine Kt.of (own := "KeptLightModel") (L := [some (.ref m), some (.int k)]) (by decide +kernel) rfl (Nat.le_of_ble_eq_true rfl) rfl ?_
  intro pp ee ss mm args below meth cd hmn hret
  have km := hS.1
  obtain ⟨hr_sorts, kk_sorts, hn_sorts⟩ := hS.2.1 7 (by decide)
  have hr_sorts : mR M (fc 9 17) m = some (ad 7) := hr_sorts
  have hn_sorts : mN M (ad 7) = 8 := hn_sorts
  have kk_sorts : mK M (ad 7) = some 120 := kk_sorts
  refine x_iload_n (n' := 1) dX9_holds_0 rfl rfl rfl ?_
  refine x_callS (n' := 4) (n := 1) (c_X9_isShelf l G _ k) dX9_holds_1 (lw_S q3364 q3365 q109 q3366) (by decide +kernel) ⟨(Nat.le_of_ble_eq_true rfl), (Nat.le_of_ble_eq_true rfl)⟩ rfl rfl (Nat.le_of_ble_eq_true rfl) (by first | exact Nat.le_of_ble_eq_true rfl | omega) (by first | exact Nat.le_of_ble_eq_true rfl | omega) rfl (fun v_1 M_2 h_4 hE_3 => ?_)
  obtain ⟨rfl, hMs⟩ := h_4
  have hMs := hMs.symm
  subst hMs
  refine x_if_eq (n' := 7) (tgt := 16) dX9_holds_4 (by decide) rfl (fun c4_5 => ?_) (fun c4_5 => ?_)
  · have C4 := c4_5
    refine x_iconst (n' := 17) (v := -1) dX9_holds_16 (by decide) rfl ?_
    exact x_iret dX9_holds_17 hret (by repeat' (first | with_reducible exact kE.rf | with_reducible exact kE_SS | with_reducible apply kE_A | with_reducible apply kE_I | with_reducible apply kE_L | with_reducible apply kE_R | with_reducible apply kE_O | with_reducible apply kE_S)) (by first | exact ⟨congrArg (fun z => some (Value.int z)) (if_pos hs1).symm, rfl⟩ | exact ⟨congrArg (fun z => some (Value.int z)) (if_neg (bi_0.mp C4)).symm, rfl⟩)
  · have C4 := c4_5
    have hs1 : shP k := bi_n0 C4
    have hn7 := nn_le (n := 7) hs1.1 hs1.2 (by decide)
    refine x_loc (i := 1) rfl (nn_of hs1.1) (by dsimp only [List.set] <;> rfl) ?_
    refine x_aload_n (n' := 8) dX9_holds_7 rfl rfl rfl ?_
    refine x_getRs (n' := 11) (b := (ad 7)) dX9_holds_8 (by repeat' (first | with_reducible exact km | with_reducible apply mK_A | with_reducible apply mK_I | with_reducible apply mK_L | with_reducible apply mK_R | with_reducible apply mK_O | with_reducible apply mK_S)) ffX9_41_9 rfl (by repeat' (first | with_reducible exact hr_sorts | with_reducible apply mR_A | with_reducible apply mR_I | with_reducible apply mR_L | with_reducible apply mR_S)) rfl ?_
    refine x_iload_n (n' := 12) dX9_holds_11 rfl rfl rfl ?_
    refine x_ildk (n' := 13) (N := 8) dX9_holds_12 (by repeat' (first | with_reducible exact kk_sorts | with_reducible apply mK_A | with_reducible apply mK_I | with_reducible apply mK_L | with_reducible apply mK_R | with_reducible apply mK_O | with_reducible apply mK_S)) (by repeat' (first | with_reducible exact hn_sorts | with_reducible apply mN_A | with_reducible apply mN_I | with_reducible apply mN_L | with_reducible apply mN_R | with_reducible apply mN_O | with_reducible apply mN_S)) (by repeat' (first | with_reducible exact nl_0 | with_reducible exact rfl | apply i_add | apply i_mul)) (by omega) (by decide) (by first | (simp (disch := omega) only [mA_sA, mA_sI, mA_SC0, mA_SC1 hS, mA_SC5 hS, mA_SC6 hS, mA_SC10 hS, mA_SC11 hS, mA_SC12 hS, up_s, up_n, if_false] <;> rfl) | rfl) rfl ?_
    refine x_goto (tgt := 17) dX9_holds_13 (by decide) ?_
    exact x_iret dX9_holds_17 hret (by repeat' (first | with_reducible exact kE.rf | with_reducible exact kE_SS | with_reducible apply kE_A | with_reducible apply kE_I | with_reducible apply kE_L | with_reducible apply kE_R | with_reducible apply kE_O | with_reducible apply kE_S)) (by first | exact ⟨congrArg (fun z => some (Value.int z)) (if_pos hs1).symm, rfl⟩ | exact ⟨congrArg (fun z => some (Value.int z)) (if_neg (bi_0.mp C4)).symm, rfl⟩)

set_option maxHeartbeats 4000000 in
set_option maxRecDepth 100000 in
theorem c_X9_show (l : Launch) (G : kG) (M : kM) (m : Nat) (ad : Nat → Nat) (hS : MS M m ad) (k x : Int32) (ns : Nat) (hs : mA M (ad 0) 14 = nI ns) (hn : ns ≤ 200) : Kt l G yX9_show cX9_show 3 (some .int) 2 46 [.ref m, .int k, .int x] M (0) (0) (fun v M2 => (shP k ∧ (x = -1 ∨ (0 ≤ x ∧ x < nI ns)) → v = some (.int 1) ∧ M2 = sA M (ad 7) (va_up (mA M (ad 7)) (nn k) (if x = -1 then -1 else 10 + x))) ∧ (¬ (shP k ∧ (x = -1 ∨ (0 ≤ x ∧ x < nI ns))) → v = some (.int (-(nI 102))) ∧ M2 = rfM M ad 0)) := by
  refine Kt.of (own := "KeptLightModel") (L := [some (.ref m), some (.int k), some (.int x)]) (by decide +kernel) rfl (Nat.le_of_ble_eq_true rfl) rfl ?_
  intro pp ee ss mm args below meth cd hmn hret
  have km := hS.1
  obtain ⟨hr_sorts, kk_sorts, hn_sorts⟩ := hS.2.1 7 (by decide)
  have hr_sorts : mR M (fc 9 17) m = some (ad 7) := hr_sorts
  have hn_sorts : mN M (ad 7) = 8 := hn_sorts
  have kk_sorts : mK M (ad 7) = some 120 := kk_sorts
  refine x_iload_n (n' := 1) dX9_show_0 rfl rfl rfl ?_
  refine x_callS (n' := 4) (n := 1) (c_X9_isShelf l G _ k) dX9_show_1 (lw_S q3364 q3365 q109 q3366) (by decide +kernel) ⟨(Nat.le_of_ble_eq_true rfl), (Nat.le_of_ble_eq_true rfl)⟩ rfl rfl (Nat.le_of_ble_eq_true rfl) (by first | exact Nat.le_of_ble_eq_true rfl | omega) (by first | exact Nat.le_of_ble_eq_true rfl | omega) rfl (fun v_1 M_2 h_4 hE_3 => ?_)
  obtain ⟨rfl, hMs⟩ := h_4
  have hMs := hMs.symm
  subst hMs
  refine x_if_eq (n' := 7) (tgt := 20) dX9_show_4 (by decide) rfl (fun c4_5 => ?_) (fun c4_5 => ?_)
  · have C4 := c4_5
    refine x_aload_n (n' := 21) dX9_show_20 rfl rfl rfl ?_
    refine x_bipush (n' := 23) (v := -102) dX9_show_21 (by decide) rfl ?_
    refine x_topv (y := -(nI (102 + 0))) (by decide) ?_
    refine x_callV (n' := 26) (n := 1) (K := 9) (c_X9_refused l G _ m ad hS 0 (by decide)) dX9_show_23 (by repeat' (first | with_reducible exact km | with_reducible apply mK_A | with_reducible apply mK_I | with_reducible apply mK_L | with_reducible apply mK_R | with_reducible apply mK_O | with_reducible apply mK_S)) rfl (lw_V q3324 q3326 qs48 q109 q3327) (by decide +kernel) ⟨(Nat.le_of_ble_eq_true rfl), (Nat.le_of_ble_eq_true rfl)⟩ rfl rfl (Nat.le_of_ble_eq_true rfl) (by first | exact Nat.le_of_ble_eq_true rfl | omega) (by first | exact Nat.le_of_ble_eq_true rfl | omega) rfl (fun v_6 M_7 h_9 hE_8 => ?_)
    obtain ⟨rfl, hMs⟩ := h_9
    have hMs := hMs.symm
    subst hMs
    exact x_iret dX9_show_26 hret (by repeat' (first | with_reducible exact kE.rf | with_reducible exact kE_SS | with_reducible apply kE_A | with_reducible apply kE_I | with_reducible apply kE_L | with_reducible apply kE_R | with_reducible apply kE_O | with_reducible apply kE_S)) (⟨fun q => absurd q (by first | exact fun q => bi_0.mp C4 q.1 | exact fun q => q.2.elim C9 (fun q => bi_0.mp C17 q)), fun _ => ⟨rfl, rfl⟩⟩)
  · have C4 := c4_5
    refine x_iload_n (n' := 8) dX9_show_7 rfl rfl rfl ?_
    refine x_iconst (n' := 9) (v := -1) dX9_show_8 (by decide) rfl ?_
    refine x_icmp_eq (n' := 12) (tgt := 27) dX9_show_9 (by decide) rfl (fun c9_10 => ?_) (fun c9_10 => ?_)
    · have C9 := c9_10
      have hok : shP k ∧ (x = -1 ∨ (0 ≤ x ∧ x < nI ns)) := by first | exact ⟨bi_n0 C4, Or.inl C9⟩ | exact ⟨bi_n0 C4, Or.inr (bi_n0 C17)⟩
      have hn7 := nn_le (n := 7) hok.1.1 hok.1.2 (by decide)
      refine x_loc (i := 1) rfl (nn_of hok.1.1) (by dsimp only [List.set] <;> rfl) ?_
      refine x_aload_n (n' := 28) dX9_show_27 rfl rfl rfl ?_
      refine x_getRs (n' := 31) (b := (ad 7)) dX9_show_28 (by repeat' (first | with_reducible exact km | with_reducible apply mK_A | with_reducible apply mK_I | with_reducible apply mK_L | with_reducible apply mK_R | with_reducible apply mK_O | with_reducible apply mK_S)) ffX9_41_9 rfl (by repeat' (first | with_reducible exact hr_sorts | with_reducible apply mR_A | with_reducible apply mR_I | with_reducible apply mR_L | with_reducible apply mR_S)) rfl ?_
      refine x_iload_n (n' := 32) dX9_show_31 rfl rfl rfl ?_
      refine x_iload_n (n' := 33) dX9_show_32 rfl rfl rfl ?_
      refine x_iconst (n' := 34) (v := -1) dX9_show_33 (by decide) rfl ?_
      refine x_forkN (J := 45) (x_icmp_ne (n' := 37) (tgt := 41) dX9_show_34 (by decide) rfl) (v1 := ?v1_f34_11) (v2 := ?v2_f34_11) (fun c_f34_11 j_f34_11 => ?b1_f34_11) (fun c_f34_11 j_f34_11 => ?b2_f34_11) ?k_f34_11
      case b1_f34_11 =>
        refine x_bipush (n' := 43) (v := 10) dX9_show_41 (by decide) rfl ?_
        refine x_iload_n (n' := 44) dX9_show_43 rfl rfl rfl ?_
        refine x_iadd (n' := 45) dX9_show_44 rfl ?_
        exact j_f34_11
      case b2_f34_11 =>
        refine x_iconst (n' := 38) (v := -1) dX9_show_37 (by decide) rfl ?_
        refine x_goto (tgt := 45) dX9_show_38 (by decide) ?_
        exact j_f34_11
      refine x_topv (y := if x = -1 then -1 else 10 + x) (by exact rfl) ?_
      refine x_iastk (n' := 46) (N := 8) dX9_show_45 (by repeat' (first | with_reducible exact kk_sorts | with_reducible apply mK_A | with_reducible apply mK_I | with_reducible apply mK_L | with_reducible apply mK_R | with_reducible apply mK_O | with_reducible apply mK_S)) (by repeat' (first | with_reducible exact hn_sorts | with_reducible apply mN_A | with_reducible apply mN_I | with_reducible apply mN_L | with_reducible apply mN_R | with_reducible apply mN_O | with_reducible apply mN_S)) (by repeat' (first | with_reducible exact nl_0 | with_reducible exact nl_1 | with_reducible exact nl_10 | with_reducible exact rfl | apply i_add | apply i_mul)) (by omega) (by decide) (by first | with_reducible exact mA_sA | with_reducible exact mA_SC0 | with_reducible exact mA_SC1 hS | with_reducible exact mA_SC5 hS | with_reducible exact mA_SC6 hS | with_reducible exact mA_SC10 hS | with_reducible exact mA_SC11 hS | with_reducible exact mA_SC12 hS | with_reducible exact mA_sI_sA | with_reducible exact mA_sI3_sA | rfl) (by first | with_reducible exact SC_A0 | with_reducible exact SC_A1 hS | with_reducible exact SC_A5 hS | with_reducible exact SC_A6 hS | with_reducible exact SC_A10 hS | with_reducible exact SC_A11 hS | with_reducible exact SC_A12 hS | with_reducible exact sA_sA | with_reducible exact sA_sI_sA | with_reducible exact sA_sI3_sA | rfl) rfl ?_
      refine x_iconst (n' := 47) (v := 1) dX9_show_46 (by decide) rfl ?_
      exact x_iret dX9_show_47 hret (by repeat' (first | with_reducible exact kE.rf | with_reducible exact kE_SS | with_reducible apply kE_A | with_reducible apply kE_I | with_reducible apply kE_L | with_reducible apply kE_R | with_reducible apply kE_O | with_reducible apply kE_S)) (⟨fun _ => ⟨rfl, rfl⟩, fun q => absurd hok q⟩)
    · have C9 := c9_10
      refine x_aload_n (n' := 13) dX9_show_12 rfl rfl rfl ?_
      refine x_iload_n (n' := 14) dX9_show_13 rfl rfl rfl ?_
      refine x_callV (n' := 17) (n := 1) (K := 9) (c_X9_isShip l G _ m ad hS x ns hs (by omega)) dX9_show_14 (by repeat' (first | with_reducible exact km | with_reducible apply mK_A | with_reducible apply mK_I | with_reducible apply mK_L | with_reducible apply mK_R | with_reducible apply mK_O | with_reducible apply mK_S)) rfl (lw_V q3482 q3484 qs68 q109 q3485) (by decide +kernel) ⟨(Nat.le_of_ble_eq_true rfl), (Nat.le_of_ble_eq_true rfl)⟩ rfl rfl (Nat.le_of_ble_eq_true rfl) (by first | exact Nat.le_of_ble_eq_true rfl | omega) (by first | exact Nat.le_of_ble_eq_true rfl | omega) rfl (fun v_12 M_13 h_15 hE_14 => ?_)
      obtain ⟨rfl, hMs⟩ := h_15
      have hMs := hMs.symm
      subst hMs
      refine x_if_ne (n' := 20) (tgt := 27) dX9_show_17 (by decide) rfl (fun c17_16 => ?_) (fun c17_16 => ?_)
      · have C17 := c17_16
        have hok : shP k ∧ (x = -1 ∨ (0 ≤ x ∧ x < nI ns)) := by first | exact ⟨bi_n0 C4, Or.inl C9⟩ | exact ⟨bi_n0 C4, Or.inr (bi_n0 C17)⟩
        have hn7 := nn_le (n := 7) hok.1.1 hok.1.2 (by decide)
        refine x_loc (i := 1) rfl (nn_of hok.1.1) (by dsimp only [List.set] <;> rfl) ?_
        refine x_aload_n (n' := 28) dX9_show_27 rfl rfl rfl ?_
        refine x_getRs (n' := 31) (b := (ad 7)) dX9_show_28 (by repeat' (first | with_reducible exact km | with_reducible apply mK_A | with_reducible apply mK_I | with_reducible apply mK_L | with_reducible apply mK_R | with_reducible apply mK_O | with_reducible apply mK_S)) ffX9_41_9 rfl (by repeat' (first | with_reducible exact hr_sorts | with_reducible apply mR_A | with_reducible apply mR_I | with_reducible apply mR_L | with_reducible apply mR_S)) rfl ?_
        refine x_iload_n (n' := 32) dX9_show_31 rfl rfl rfl ?_
        refine x_iload_n (n' := 33) dX9_show_32 rfl rfl rfl ?_
        refine x_iconst (n' := 34) (v := -1) dX9_show_33 (by decide) rfl ?_
        refine x_forkN (J := 45) (x_icmp_ne (n' := 37) (tgt := 41) dX9_show_34 (by decide) rfl) (v1 := ?v1_f34_17) (v2 := ?v2_f34_17) (fun c_f34_17 j_f34_17 => ?b1_f34_17) (fun c_f34_17 j_f34_17 => ?b2_f34_17) ?k_f34_17
        case b1_f34_17 =>
          refine x_bipush (n' := 43) (v := 10) dX9_show_41 (by decide) rfl ?_
          refine x_iload_n (n' := 44) dX9_show_43 rfl rfl rfl ?_
          refine x_iadd (n' := 45) dX9_show_44 rfl ?_
          exact j_f34_17
        case b2_f34_17 =>
          refine x_iconst (n' := 38) (v := -1) dX9_show_37 (by decide) rfl ?_
          refine x_goto (tgt := 45) dX9_show_38 (by decide) ?_
          exact j_f34_17
        refine x_topv (y := if x = -1 then -1 else 10 + x) (by exact rfl) ?_
        refine x_iastk (n' := 46) (N := 8) dX9_show_45 (by repeat' (first | with_reducible exact kk_sorts | with_reducible apply mK_A | with_reducible apply mK_I | with_reducible apply mK_L | with_reducible apply mK_R | with_reducible apply mK_O | with_reducible apply mK_S)) (by repeat' (first | with_reducible exact hn_sorts | with_reducible apply mN_A | with_reducible apply mN_I | with_reducible apply mN_L | with_reducible apply mN_R | with_reducible apply mN_O | with_reducible apply mN_S)) (by repeat' (first | with_reducible exact nl_0 | with_reducible exact nl_1 | with_reducible exact nl_10 | with_reducible exact rfl | apply i_add | apply i_mul)) (by omega) (by decide) (by first | with_reducible exact mA_sA | with_reducible exact mA_SC0 | with_reducible exact mA_SC1 hS | with_reducible exact mA_SC5 hS | with_reducible exact mA_SC6 hS | with_reducible exact mA_SC10 hS | with_reducible exact mA_SC11 hS | with_reducible exact mA_SC12 hS | with_reducible exact mA_sI_sA | with_reducible exact mA_sI3_sA | rfl) (by first | with_reducible exact SC_A0 | with_reducible exact SC_A1 hS | with_reducible exact SC_A5 hS | with_reducible exact SC_A6 hS | with_reducible exact SC_A10 hS | with_reducible exact SC_A11 hS | with_reducible exact SC_A12 hS | with_reducible exact sA_sA | with_reducible exact sA_sI_sA | with_reducible exact sA_sI3_sA | rfl) rfl ?_
        refine x_iconst (n' := 47) (v := 1) dX9_show_46 (by decide) rfl ?_
        exact x_iret dX9_show_47 hret (by repeat' (first | with_reducible exact kE.rf | with_reducible exact kE_SS | with_reducible apply kE_A | with_reducible apply kE_I | with_reducible apply kE_L | with_reducible apply kE_R | with_reducible apply kE_O | with_reducible apply kE_S)) (⟨fun _ => ⟨rfl, rfl⟩, fun q => absurd hok q⟩)
      · have C17 := c17_16
        refine x_aload_n (n' := 21) dX9_show_20 rfl rfl rfl ?_
        refine x_bipush (n' := 23) (v := -102) dX9_show_21 (by decide) rfl ?_
        refine x_topv (y := -(nI (102 + 0))) (by decide) ?_
        refine x_callV (n' := 26) (n := 1) (K := 9) (c_X9_refused l G _ m ad hS 0 (by decide)) dX9_show_23 (by repeat' (first | with_reducible exact km | with_reducible apply mK_A | with_reducible apply mK_I | with_reducible apply mK_L | with_reducible apply mK_R | with_reducible apply mK_O | with_reducible apply mK_S)) rfl (lw_V q3324 q3326 qs48 q109 q3327) (by decide +kernel) ⟨(Nat.le_of_ble_eq_true rfl), (Nat.le_of_ble_eq_true rfl)⟩ rfl rfl (Nat.le_of_ble_eq_true rfl) (by first | exact Nat.le_of_ble_eq_true rfl | omega) (by first | exact Nat.le_of_ble_eq_true rfl | omega) rfl (fun v_18 M_19 h_21 hE_20 => ?_)
        obtain ⟨rfl, hMs⟩ := h_21
        have hMs := hMs.symm
        subst hMs
        exact x_iret dX9_show_26 hret (by repeat' (first | with_reducible exact kE.rf | with_reducible exact kE_SS | with_reducible apply kE_A | with_reducible apply kE_I | with_reducible apply kE_L | with_reducible apply kE_R | with_reducible apply kE_O | with_reducible apply kE_S)) (⟨fun q => absurd q (by first | exact fun q => bi_0.mp C4 q.1 | exact fun q => q.2.elim C9 (fun q => bi_0.mp C17 q)), fun _ => ⟨rfl, rfl⟩⟩)

set_option maxHeartbeats 4000000 in
set_option maxRecDepth 100000 in
theorem c_X9_says (l : Launch) (G : kG) (M : kM) (m : Nat) (ad : Nat → Nat) (hS : MS M m ad) (k w : Int32) (ns : Nat) (hr : SR (mA M (ad 7)) ns) (hn : ns ≤ 200) : Kt l G yX9_says cX9_says 5 (some .int) 2 47 [.ref m, .int k, .int w] M (0) (0) (fun v M2 => (okY (mA M (ad 0)) (mA M (ad 7)) k w → v = some (.int (sayG (mA M (ad 0)) (nn ((mA M (ad 7)) (nn k)) - 10) w)) ∧ M2 = M) ∧ (¬ (okY (mA M (ad 0)) (mA M (ad 7)) k w) → v = some (.int (-(nI (102 + rcY (mA M (ad 0)) (mA M (ad 7)) k w)))) ∧ M2 = rfM M ad (rcY (mA M (ad 0)) (mA M (ad 7)) k w))) := by
  refine Kt.of (own := "KeptLightModel") (L := [some (.ref m), some (.int k), some (.int w), none, none]) (by decide +kernel) rfl (Nat.le_of_ble_eq_true rfl) rfl ?_
  intro pp ee ss mm args below meth cd hmn hret
  have km := hS.1
  obtain ⟨hr_sorts, kk_sorts, hn_sorts⟩ := hS.2.1 7 (by decide)
  have hr_sorts : mR M (fc 9 17) m = some (ad 7) := hr_sorts
  have hn_sorts : mN M (ad 7) = 8 := hn_sorts
  have kk_sorts : mK M (ad 7) = some 120 := kk_sorts
  refine x_iload_n (n' := 1) dX9_says_0 rfl rfl rfl ?_
  refine x_callS (n' := 4) (n := 1) (c_X9_isShelf l G _ k) dX9_says_1 (lw_S q3364 q3365 q109 q3366) (by decide +kernel) ⟨(Nat.le_of_ble_eq_true rfl), (Nat.le_of_ble_eq_true rfl)⟩ rfl rfl (Nat.le_of_ble_eq_true rfl) (by first | exact Nat.le_of_ble_eq_true rfl | omega) (by first | exact Nat.le_of_ble_eq_true rfl | omega) rfl (fun v_1 M_2 h_4 hE_3 => ?_)
  obtain ⟨rfl, hMs⟩ := h_4
  have hMs := hMs.symm
  subst hMs
  refine x_if_eq (n' := 7) (tgt := 19) dX9_says_4 (by decide) rfl (fun c4_5 => ?_) (fun c4_5 => ?_)
  · have C4 := c4_5
    refine x_aload_n (n' := 20) dX9_says_19 rfl rfl rfl ?_
    refine x_bipush (n' := 22) (v := -102) dX9_says_20 (by decide) rfl ?_
    refine x_topv (y := -(nI (102 + 0))) (by decide) ?_
    refine x_callV (n' := 25) (n := 1) (K := 9) (c_X9_refused l G _ m ad (by repeat' (first | with_reducible exact hS | with_reducible apply MS.sA | with_reducible apply MS.sI | with_reducible apply MS.sL | with_reducible apply MS.sc)) 0 (by decide)) dX9_says_22 (by repeat' (first | with_reducible exact km | with_reducible apply mK_A | with_reducible apply mK_I | with_reducible apply mK_L | with_reducible apply mK_R | with_reducible apply mK_O | with_reducible apply mK_S)) rfl (lw_V q3324 q3326 qs48 q109 q3327) (by decide +kernel) ⟨(Nat.le_of_ble_eq_true rfl), (Nat.le_of_ble_eq_true rfl)⟩ rfl rfl (Nat.le_of_ble_eq_true rfl) (by first | exact Nat.le_of_ble_eq_true rfl | omega) (by first | exact Nat.le_of_ble_eq_true rfl | omega) rfl (fun v_6 M_7 h_9 hE_8 => ?_)
    obtain ⟨rfl, hMs⟩ := h_9
    have hMs := hMs.symm
    subst hMs
    exact x_iret dX9_says_25 hret (by repeat' (first | with_reducible exact kE.rf | with_reducible exact kE_SS | with_reducible apply kE_A | with_reducible apply kE_I | with_reducible apply kE_L | with_reducible apply kE_R | with_reducible apply kE_O | with_reducible apply kE_S)) (⟨fun q => absurd q (by first | exact fun q => bi_0.mp C4 q.1.1 | exact fun q => bi_0.mp C16 q.1.2), fun _ => by rw [show rcY (mA M (ad 0)) (mA M (ad 7)) k w = 0 from (by first | exact rcY_a (fun q => bi_0.mp C4 q.1) | exact rcY_a (fun q => bi_0.mp C16 q.2))]; exact ⟨rfl, rfl⟩⟩)
  · have C4 := c4_5
    refine x_iload_n (n' := 8) dX9_says_7 rfl rfl rfl ?_
    refine x_i2l (n' := 9) dX9_says_8 rfl rfl ?_
    refine x_lconst (n' := 10) (v := 0) dX9_says_9 (by decide) rfl ?_
    refine x_ldc2 (n' := 13) q3367 dX9_says_10 rfl ?_
    refine x_callS (n' := 16) (n := 3) (c_X9_in l G _ _ _ _) dX9_says_13 (lw_S q3321 q3322 q109 q3323) (by decide +kernel) ⟨(Nat.le_of_ble_eq_true rfl), (Nat.le_of_ble_eq_true rfl)⟩ rfl rfl (Nat.le_of_ble_eq_true rfl) (by first | exact Nat.le_of_ble_eq_true rfl | omega) (by first | exact Nat.le_of_ble_eq_true rfl | omega) rfl (fun v_10 M_11 h_13 hE_12 => ?_)
    obtain ⟨rfl, hMs⟩ := h_13
    have hMs := hMs.symm
    subst hMs
    rw [k_in3 (x := 0) (y := 7) (by decide) (by decide)]
    refine x_if_ne (n' := 19) (tgt := 26) dX9_says_16 (by decide) rfl (fun c16_14 => ?_) (fun c16_14 => ?_)
    · have C16 := c16_14
      have hs1 : shP k := bi_n0 C4
      have hn7 := nn_le (n := 7) hs1.1 hs1.2 (by decide)
      refine x_loc (i := 1) rfl (nn_of hs1.1) (by dsimp only [List.set] <;> rfl) ?_
      refine x_aload_n (n' := 27) dX9_says_26 rfl rfl rfl ?_
      refine x_getRs (n' := 30) (b := (ad 7)) dX9_says_27 (by repeat' (first | with_reducible exact km | with_reducible apply mK_A | with_reducible apply mK_I | with_reducible apply mK_L | with_reducible apply mK_R | with_reducible apply mK_O | with_reducible apply mK_S)) ffX9_41_9 rfl (by repeat' (first | with_reducible exact hr_sorts | with_reducible apply mR_A | with_reducible apply mR_I | with_reducible apply mR_L | with_reducible apply mR_S)) rfl ?_
      refine x_iload_n (n' := 31) dX9_says_30 rfl rfl rfl ?_
      refine x_ildk (n' := 32) (N := 8) dX9_says_31 (by repeat' (first | with_reducible exact kk_sorts | with_reducible apply mK_A | with_reducible apply mK_I | with_reducible apply mK_L | with_reducible apply mK_R | with_reducible apply mK_O | with_reducible apply mK_S)) (by repeat' (first | with_reducible exact hn_sorts | with_reducible apply mN_A | with_reducible apply mN_I | with_reducible apply mN_L | with_reducible apply mN_R | with_reducible apply mN_O | with_reducible apply mN_S)) (by repeat' (first | with_reducible exact nl_0 | with_reducible exact nl_1 | with_reducible exact nl_2 | with_reducible exact nl_3 | with_reducible exact nl_10 | with_reducible exact rfl | apply i_add | apply i_mul)) (by omega) (by decide) (by first | (simp (disch := omega) only [mA_sA, mA_sI, mA_SC0, mA_SC1 hS, mA_SC5 hS, mA_SC6 hS, mA_SC10 hS, mA_SC11 hS, mA_SC12 hS, up_s, up_n, if_false] <;> rfl) | rfl) rfl ?_
      refine x_i2l (n' := 33) dX9_says_32 rfl rfl ?_
      refine x_lconst (n' := 34) (v := 0) dX9_says_33 (by decide) rfl ?_
      refine x_ldc2 (n' := 37) q3384 dX9_says_34 rfl ?_
      refine x_callS (n' := 40) (n := 3) (c_X9_in l G _ _ _ _) dX9_says_37 (lw_S q3321 q3322 q109 q3323) (by decide +kernel) ⟨(Nat.le_of_ble_eq_true rfl), (Nat.le_of_ble_eq_true rfl)⟩ rfl rfl (Nat.le_of_ble_eq_true rfl) (by first | exact Nat.le_of_ble_eq_true rfl | omega) (by first | exact Nat.le_of_ble_eq_true rfl | omega) rfl (fun v_15 M_16 h_18 hE_17 => ?_)
      obtain ⟨rfl, hMs⟩ := h_18
      have hMs := hMs.symm
      subst hMs
      rw [k_in3 (x := 0) (y := 4) (by decide) (by decide)]
      refine x_if_eq (n' := 43) (tgt := 50) dX9_says_40 (by decide) rfl (fun c40_19 => ?_) (fun c40_19 => ?_)
      · have C40 := c40_19
        refine x_aload_n (n' := 51) dX9_says_50 rfl rfl rfl ?_
        refine x_getRs (n' := 54) (b := (ad 7)) dX9_says_51 (by repeat' (first | with_reducible exact km | with_reducible apply mK_A | with_reducible apply mK_I | with_reducible apply mK_L | with_reducible apply mK_R | with_reducible apply mK_O | with_reducible apply mK_S)) ffX9_41_9 rfl (by repeat' (first | with_reducible exact hr_sorts | with_reducible apply mR_A | with_reducible apply mR_I | with_reducible apply mR_L | with_reducible apply mR_S)) rfl ?_
        refine x_iload_n (n' := 55) dX9_says_54 rfl rfl rfl ?_
        refine x_ildk (n' := 56) (N := 8) dX9_says_55 (by repeat' (first | with_reducible exact kk_sorts | with_reducible apply mK_A | with_reducible apply mK_I | with_reducible apply mK_L | with_reducible apply mK_R | with_reducible apply mK_O | with_reducible apply mK_S)) (by repeat' (first | with_reducible exact hn_sorts | with_reducible apply mN_A | with_reducible apply mN_I | with_reducible apply mN_L | with_reducible apply mN_R | with_reducible apply mN_O | with_reducible apply mN_S)) (by repeat' (first | with_reducible exact nl_0 | with_reducible exact nl_1 | with_reducible exact nl_2 | with_reducible exact nl_3 | with_reducible exact nl_10 | with_reducible exact rfl | apply i_add | apply i_mul)) (by omega) (by decide) (by first | (simp (disch := omega) only [mA_sA, mA_sI, mA_SC0, mA_SC1 hS, mA_SC5 hS, mA_SC6 hS, mA_SC10 hS, mA_SC11 hS, mA_SC12 hS, up_s, up_n, if_false] <;> rfl) | rfl) rfl ?_
        refine x_if_ge (n' := 59) (tgt := 66) dX9_says_56 (by decide) rfl (fun c56_20 => ?_) (fun c56_20 => ?_)
        · have C56 := c56_20
          obtain ⟨hh9, e10⟩ := say_n hr hn (k := nn k) (by omega) (bi_0.mp C40) (Int32.not_lt.mpr C56)
          refine x_aload_n (n' := 67) dX9_says_66 rfl rfl rfl ?_
          refine x_getRs (n' := 70) (b := (ad 7)) dX9_says_67 (by repeat' (first | with_reducible exact km | with_reducible apply mK_A | with_reducible apply mK_I | with_reducible apply mK_L | with_reducible apply mK_R | with_reducible apply mK_O | with_reducible apply mK_S)) ffX9_41_9 rfl (by repeat' (first | with_reducible exact hr_sorts | with_reducible apply mR_A | with_reducible apply mR_I | with_reducible apply mR_L | with_reducible apply mR_S)) rfl ?_
          refine x_iload_n (n' := 71) dX9_says_70 rfl rfl rfl ?_
          refine x_ildk (n' := 72) (N := 8) dX9_says_71 (by repeat' (first | with_reducible exact kk_sorts | with_reducible apply mK_A | with_reducible apply mK_I | with_reducible apply mK_L | with_reducible apply mK_R | with_reducible apply mK_O | with_reducible apply mK_S)) (by repeat' (first | with_reducible exact hn_sorts | with_reducible apply mN_A | with_reducible apply mN_I | with_reducible apply mN_L | with_reducible apply mN_R | with_reducible apply mN_O | with_reducible apply mN_S)) (by repeat' (first | with_reducible exact nl_0 | with_reducible exact nl_1 | with_reducible exact nl_2 | with_reducible exact nl_3 | with_reducible exact nl_10 | with_reducible exact rfl | apply i_add | apply i_mul)) (by omega) (by decide) (by first | (simp (disch := omega) only [mA_sA, mA_sI, mA_SC0, mA_SC1 hS, mA_SC5 hS, mA_SC6 hS, mA_SC10 hS, mA_SC11 hS, mA_SC12 hS, up_s, up_n, if_false] <;> rfl) | rfl) rfl ?_
          refine x_bipush (n' := 74) (v := 10) dX9_says_72 (by decide) rfl ?_
          refine x_isub (n' := 75) dX9_says_74 rfl ?_
          refine x_topv (y := nI (nn ((mA M (ad 7)) (nn k)) - 10)) (by exact e10) ?_
          refine x_istore_n (n' := 76) dX9_says_75 rfl (Nat.le_of_ble_eq_true rfl) rfl (by dsimp only [List.set] <;> rfl) rfl ?_
          refine x_aload_n (n' := 77) dX9_says_76 rfl rfl rfl ?_
          refine x_iload_n (n' := 78) dX9_says_77 rfl rfl rfl ?_
          refine x_iconst (n' := 79) (v := 0) dX9_says_78 (by decide) rfl ?_
          refine x_callV (n' := 82) (n := 2) (K := 9) (c_X9_ofShip l G _ m ad hS (nn ((mA M (ad 7)) (nn k)) - 10) 0 (by omega)) dX9_says_79 (by repeat' (first | with_reducible exact km | with_reducible apply mK_A | with_reducible apply mK_I | with_reducible apply mK_L | with_reducible apply mK_R | with_reducible apply mK_O | with_reducible apply mK_S)) rfl (lw_V q3445 q3447 qs65 q109 q3448) (by decide +kernel) ⟨(Nat.le_of_ble_eq_true rfl), (Nat.le_of_ble_eq_true rfl)⟩ rfl rfl (Nat.le_of_ble_eq_true rfl) (by first | exact Nat.le_of_ble_eq_true rfl | omega) (by first | exact Nat.le_of_ble_eq_true rfl | omega) rfl (fun v_21 M_22 h_24 hE_23 => ?_)
          obtain ⟨rfl, hMs⟩ := h_24
          have hMs := hMs.symm
          subst hMs
          refine x_istore (n' := 84) dX9_says_82 (Nat.le_of_ble_eq_true rfl) rfl (by dsimp only [List.set] <;> rfl) rfl ?_
          refine x_iload (n' := 86) dX9_says_84 rfl rfl ?_
          refine x_iload_n (n' := 87) dX9_says_86 rfl rfl rfl ?_
          refine x_callS (n' := 90) (n := 2) (c_X9_isUnder l G _ _ w) dX9_says_87 (lw_S q3494 q3495 q109 q3496) (by decide +kernel) ⟨(Nat.le_of_ble_eq_true rfl), (Nat.le_of_ble_eq_true rfl)⟩ rfl rfl (Nat.le_of_ble_eq_true rfl) (by first | exact Nat.le_of_ble_eq_true rfl | omega) (by first | exact Nat.le_of_ble_eq_true rfl | omega) rfl (fun v_25 M_26 h_28 hE_27 => ?_)
          obtain ⟨rfl, hMs⟩ := h_28
          have hMs := hMs.symm
          subst hMs
          refine x_if_ne (n' := 93) (tgt := 100) dX9_says_90 (by decide) rfl (fun c90_29 => ?_) (fun c90_29 => ?_)
          · have C90 := c90_29
            have hok : okY (mA M (ad 0)) (mA M (ad 7)) k w := ⟨⟨hs1, bi_n0 C16⟩, bi_0.mp C40, Int32.not_lt.mpr C56, bi_n0 C90⟩
            refine x_iload_n (n' := 101) dX9_says_100 rfl rfl rfl ?_
            by_cases c101_31 : w = 0
            · refine x_tableIn (off := 47) (tgt := 148) dX9_says_101 (by rw [c101_31]; decide) (by rw [c101_31]; decide) (by rw [c101_31]; decide) (by decide) ?_
              refine x_aload_n (n' := 149) dX9_says_148 rfl rfl rfl ?_
              refine x_iload_n (n' := 150) dX9_says_149 rfl rfl rfl ?_
              refine x_iconst (n' := 151) (v := 1) dX9_says_150 (by decide) rfl ?_
              refine x_callV (n' := 154) (n := 2) (K := 9) (c_X9_ofShip l G _ m ad hS (nn ((mA M (ad 7)) (nn k)) - 10) 1 (by omega)) dX9_says_151 (by repeat' (first | with_reducible exact km | with_reducible apply mK_A | with_reducible apply mK_I | with_reducible apply mK_L | with_reducible apply mK_R | with_reducible apply mK_O | with_reducible apply mK_S)) rfl (lw_V q3445 q3447 qs65 q109 q3448) (by decide +kernel) ⟨(Nat.le_of_ble_eq_true rfl), (Nat.le_of_ble_eq_true rfl)⟩ rfl rfl (Nat.le_of_ble_eq_true rfl) (by first | exact Nat.le_of_ble_eq_true rfl | omega) (by first | exact Nat.le_of_ble_eq_true rfl | omega) rfl (fun v_32 M_33 h_35 hE_34 => ?_)
              obtain ⟨rfl, hMs⟩ := h_35
              have hMs := hMs.symm
              subst hMs
              exact x_iret dX9_says_154 hret (by repeat' (first | with_reducible exact kE.rf | with_reducible exact kE_SS | with_reducible apply kE_A | with_reducible apply kE_I | with_reducible apply kE_L | with_reducible apply kE_R | with_reducible apply kE_O | with_reducible apply kE_S)) (⟨fun _ => ⟨congrArg (fun z => some (Value.int z)) (say_0 (by assumption)), rfl⟩, fun q => absurd hok q⟩)
            by_cases c101_36 : w = 1
            · refine x_tableIn (off := 54) (tgt := 155) dX9_says_101 (by rw [c101_36]; decide) (by rw [c101_36]; decide) (by rw [c101_36]; decide) (by decide) ?_
              refine x_iload (n' := 157) dX9_says_155 rfl rfl ?_
              refine x_iconst (n' := 158) (v := 0) dX9_says_157 (by decide) rfl ?_
              refine x_iconst (n' := 159) (v := 0) dX9_says_158 (by decide) rfl ?_
              refine x_iconst (n' := 160) (v := 0) dX9_says_159 (by decide) rfl ?_
              refine x_iconst (n' := 161) (v := 2) dX9_says_160 (by decide) rfl ?_
              refine x_callS (n' := 164) (n := 5) (c_X9_lacks l G _ _ _ _ _ _) dX9_says_161 (lw_S q3449 q3450 q109 q3451) (by decide +kernel) ⟨(Nat.le_of_ble_eq_true rfl), (Nat.le_of_ble_eq_true rfl)⟩ rfl rfl (Nat.le_of_ble_eq_true rfl) (by first | exact Nat.le_of_ble_eq_true rfl | omega) (by first | exact Nat.le_of_ble_eq_true rfl | omega) rfl (fun v_37 M_38 h_40 hE_39 => ?_)
              obtain ⟨rfl, hMs⟩ := h_40
              have hMs := hMs.symm
              subst hMs
              exact x_iret dX9_says_164 hret (by repeat' (first | with_reducible exact kE.rf | with_reducible exact kE_SS | with_reducible apply kE_A | with_reducible apply kE_I | with_reducible apply kE_L | with_reducible apply kE_R | with_reducible apply kE_O | with_reducible apply kE_S)) (⟨fun _ => ⟨congrArg (fun z => some (Value.int z)) (say_1 (by assumption)), rfl⟩, fun q => absurd hok q⟩)
            by_cases c101_41 : w = 2
            · refine x_tableIn (off := 64) (tgt := 165) dX9_says_101 (by rw [c101_41]; decide) (by rw [c101_41]; decide) (by rw [c101_41]; decide) (by decide) ?_
              refine x_iload (n' := 167) dX9_says_165 rfl rfl ?_
              refine x_iconst (n' := 168) (v := 1) dX9_says_167 (by decide) rfl ?_
              refine x_iconst (n' := 169) (v := 0) dX9_says_168 (by decide) rfl ?_
              refine x_iconst (n' := 170) (v := 0) dX9_says_169 (by decide) rfl ?_
              refine x_iconst (n' := 171) (v := 1) dX9_says_170 (by decide) rfl ?_
              refine x_callS (n' := 174) (n := 5) (c_X9_lacks l G _ _ _ _ _ _) dX9_says_171 (lw_S q3449 q3450 q109 q3451) (by decide +kernel) ⟨(Nat.le_of_ble_eq_true rfl), (Nat.le_of_ble_eq_true rfl)⟩ rfl rfl (Nat.le_of_ble_eq_true rfl) (by first | exact Nat.le_of_ble_eq_true rfl | omega) (by first | exact Nat.le_of_ble_eq_true rfl | omega) rfl (fun v_42 M_43 h_45 hE_44 => ?_)
              obtain ⟨rfl, hMs⟩ := h_45
              have hMs := hMs.symm
              subst hMs
              exact x_iret dX9_says_174 hret (by repeat' (first | with_reducible exact kE.rf | with_reducible exact kE_SS | with_reducible apply kE_A | with_reducible apply kE_I | with_reducible apply kE_L | with_reducible apply kE_R | with_reducible apply kE_O | with_reducible apply kE_S)) (⟨fun _ => ⟨congrArg (fun z => some (Value.int z)) (say_2 (by assumption)), rfl⟩, fun q => absurd hok q⟩)
            by_cases c101_46 : w = 3
            · refine x_tableIn (off := 97) (tgt := 198) dX9_says_101 (by rw [c101_46]; decide) (by rw [c101_46]; decide) (by rw [c101_46]; decide) (by decide) ?_
              refine x_aload_n (n' := 199) dX9_says_198 rfl rfl rfl ?_
              refine x_iload_n (n' := 200) dX9_says_199 rfl rfl rfl ?_
              refine x_iconst (n' := 201) (v := 2) dX9_says_200 (by decide) rfl ?_
              refine x_callV (n' := 204) (n := 2) (K := 9) (c_X9_ofShip l G _ m ad hS (nn ((mA M (ad 7)) (nn k)) - 10) 2 (by omega)) dX9_says_201 (by repeat' (first | with_reducible exact km | with_reducible apply mK_A | with_reducible apply mK_I | with_reducible apply mK_L | with_reducible apply mK_R | with_reducible apply mK_O | with_reducible apply mK_S)) rfl (lw_V q3445 q3447 qs65 q109 q3448) (by decide +kernel) ⟨(Nat.le_of_ble_eq_true rfl), (Nat.le_of_ble_eq_true rfl)⟩ rfl rfl (Nat.le_of_ble_eq_true rfl) (by first | exact Nat.le_of_ble_eq_true rfl | omega) (by first | exact Nat.le_of_ble_eq_true rfl | omega) rfl (fun v_47 M_48 h_50 hE_49 => ?_)
              obtain ⟨rfl, hMs⟩ := h_50
              have hMs := hMs.symm
              subst hMs
              exact x_iret dX9_says_204 hret (by repeat' (first | with_reducible exact kE.rf | with_reducible exact kE_SS | with_reducible apply kE_A | with_reducible apply kE_I | with_reducible apply kE_L | with_reducible apply kE_R | with_reducible apply kE_O | with_reducible apply kE_S)) (by first | exact ⟨fun _ => ⟨congrArg (fun z => some (Value.int z)) (say_3 (by first | exact Or.inl (by assumption) | exact Or.inr (Or.inl (by assumption)) | exact Or.inr (Or.inr (by assumption)))), rfl⟩, fun q => absurd hok q⟩ | exact absurd (bi_n0 C16) (say_out (fun j hj => by rcases (show j = 0 ∨ j = 1 ∨ j = 2 ∨ j = 3 ∨ j = 4 ∨ j = 5 ∨ j = 6 ∨ j = 7 by omega) with rfl | rfl | rfl | rfl | rfl | rfl | rfl | rfl <;> assumption)))
            by_cases c101_51 : w = 4
            · refine x_tableIn (off := 97) (tgt := 198) dX9_says_101 (by rw [c101_51]; decide) (by rw [c101_51]; decide) (by rw [c101_51]; decide) (by decide) ?_
              refine x_aload_n (n' := 199) dX9_says_198 rfl rfl rfl ?_
              refine x_iload_n (n' := 200) dX9_says_199 rfl rfl rfl ?_
              refine x_iconst (n' := 201) (v := 2) dX9_says_200 (by decide) rfl ?_
              refine x_callV (n' := 204) (n := 2) (K := 9) (c_X9_ofShip l G _ m ad hS (nn ((mA M (ad 7)) (nn k)) - 10) 2 (by omega)) dX9_says_201 (by repeat' (first | with_reducible exact km | with_reducible apply mK_A | with_reducible apply mK_I | with_reducible apply mK_L | with_reducible apply mK_R | with_reducible apply mK_O | with_reducible apply mK_S)) rfl (lw_V q3445 q3447 qs65 q109 q3448) (by decide +kernel) ⟨(Nat.le_of_ble_eq_true rfl), (Nat.le_of_ble_eq_true rfl)⟩ rfl rfl (Nat.le_of_ble_eq_true rfl) (by first | exact Nat.le_of_ble_eq_true rfl | omega) (by first | exact Nat.le_of_ble_eq_true rfl | omega) rfl (fun v_52 M_53 h_55 hE_54 => ?_)
              obtain ⟨rfl, hMs⟩ := h_55
              have hMs := hMs.symm
              subst hMs
              exact x_iret dX9_says_204 hret (by repeat' (first | with_reducible exact kE.rf | with_reducible exact kE_SS | with_reducible apply kE_A | with_reducible apply kE_I | with_reducible apply kE_L | with_reducible apply kE_R | with_reducible apply kE_O | with_reducible apply kE_S)) (by first | exact ⟨fun _ => ⟨congrArg (fun z => some (Value.int z)) (say_3 (by first | exact Or.inl (by assumption) | exact Or.inr (Or.inl (by assumption)) | exact Or.inr (Or.inr (by assumption)))), rfl⟩, fun q => absurd hok q⟩ | exact absurd (bi_n0 C16) (say_out (fun j hj => by rcases (show j = 0 ∨ j = 1 ∨ j = 2 ∨ j = 3 ∨ j = 4 ∨ j = 5 ∨ j = 6 ∨ j = 7 by omega) with rfl | rfl | rfl | rfl | rfl | rfl | rfl | rfl <;> assumption)))
            by_cases c101_56 : w = 5
            · refine x_tableIn (off := 97) (tgt := 198) dX9_says_101 (by rw [c101_56]; decide) (by rw [c101_56]; decide) (by rw [c101_56]; decide) (by decide) ?_
              refine x_aload_n (n' := 199) dX9_says_198 rfl rfl rfl ?_
              refine x_iload_n (n' := 200) dX9_says_199 rfl rfl rfl ?_
              refine x_iconst (n' := 201) (v := 2) dX9_says_200 (by decide) rfl ?_
              refine x_callV (n' := 204) (n := 2) (K := 9) (c_X9_ofShip l G _ m ad hS (nn ((mA M (ad 7)) (nn k)) - 10) 2 (by omega)) dX9_says_201 (by repeat' (first | with_reducible exact km | with_reducible apply mK_A | with_reducible apply mK_I | with_reducible apply mK_L | with_reducible apply mK_R | with_reducible apply mK_O | with_reducible apply mK_S)) rfl (lw_V q3445 q3447 qs65 q109 q3448) (by decide +kernel) ⟨(Nat.le_of_ble_eq_true rfl), (Nat.le_of_ble_eq_true rfl)⟩ rfl rfl (Nat.le_of_ble_eq_true rfl) (by first | exact Nat.le_of_ble_eq_true rfl | omega) (by first | exact Nat.le_of_ble_eq_true rfl | omega) rfl (fun v_57 M_58 h_60 hE_59 => ?_)
              obtain ⟨rfl, hMs⟩ := h_60
              have hMs := hMs.symm
              subst hMs
              exact x_iret dX9_says_204 hret (by repeat' (first | with_reducible exact kE.rf | with_reducible exact kE_SS | with_reducible apply kE_A | with_reducible apply kE_I | with_reducible apply kE_L | with_reducible apply kE_R | with_reducible apply kE_O | with_reducible apply kE_S)) (by first | exact ⟨fun _ => ⟨congrArg (fun z => some (Value.int z)) (say_3 (by first | exact Or.inl (by assumption) | exact Or.inr (Or.inl (by assumption)) | exact Or.inr (Or.inr (by assumption)))), rfl⟩, fun q => absurd hok q⟩ | exact absurd (bi_n0 C16) (say_out (fun j hj => by rcases (show j = 0 ∨ j = 1 ∨ j = 2 ∨ j = 3 ∨ j = 4 ∨ j = 5 ∨ j = 6 ∨ j = 7 by omega) with rfl | rfl | rfl | rfl | rfl | rfl | rfl | rfl <;> assumption)))
            by_cases c101_61 : w = 6
            · refine x_tableIn (off := 74) (tgt := 175) dX9_says_101 (by rw [c101_61]; decide) (by rw [c101_61]; decide) (by rw [c101_61]; decide) (by decide) ?_
              refine x_aload_n (n' := 176) dX9_says_175 rfl rfl rfl ?_
              refine x_iload_n (n' := 177) dX9_says_176 rfl rfl rfl ?_
              refine x_iconst (n' := 178) (v := 3) dX9_says_177 (by decide) rfl ?_
              refine x_callV (n' := 181) (n := 2) (K := 9) (c_X9_ofShip l G _ m ad hS (nn ((mA M (ad 7)) (nn k)) - 10) 3 (by omega)) dX9_says_178 (by repeat' (first | with_reducible exact km | with_reducible apply mK_A | with_reducible apply mK_I | with_reducible apply mK_L | with_reducible apply mK_R | with_reducible apply mK_O | with_reducible apply mK_S)) rfl (lw_V q3445 q3447 qs65 q109 q3448) (by decide +kernel) ⟨(Nat.le_of_ble_eq_true rfl), (Nat.le_of_ble_eq_true rfl)⟩ rfl rfl (Nat.le_of_ble_eq_true rfl) (by first | exact Nat.le_of_ble_eq_true rfl | omega) (by first | exact Nat.le_of_ble_eq_true rfl | omega) rfl (fun v_62 M_63 h_65 hE_64 => ?_)
              obtain ⟨rfl, hMs⟩ := h_65
              have hMs := hMs.symm
              subst hMs
              exact x_iret dX9_says_181 hret (by repeat' (first | with_reducible exact kE.rf | with_reducible exact kE_SS | with_reducible apply kE_A | with_reducible apply kE_I | with_reducible apply kE_L | with_reducible apply kE_R | with_reducible apply kE_O | with_reducible apply kE_S)) (⟨fun _ => ⟨congrArg (fun z => some (Value.int z)) (say_6 (by assumption)), rfl⟩, fun q => absurd hok q⟩)
            by_cases c101_66 : w = 7
            · refine x_tableIn (off := 81) (tgt := 182) dX9_says_101 (by rw [c101_66]; decide) (by rw [c101_66]; decide) (by rw [c101_66]; decide) (by decide) ?_
              refine x_aload_n (n' := 183) dX9_says_182 rfl rfl rfl ?_
              refine x_iload_n (n' := 184) dX9_says_183 rfl rfl rfl ?_
              refine x_iconst (n' := 185) (v := 2) dX9_says_184 (by decide) rfl ?_
              refine x_callV (n' := 188) (n := 2) (K := 9) (c_X9_ofShip l G _ m ad hS (nn ((mA M (ad 7)) (nn k)) - 10) 2 (by omega)) dX9_says_185 (by repeat' (first | with_reducible exact km | with_reducible apply mK_A | with_reducible apply mK_I | with_reducible apply mK_L | with_reducible apply mK_R | with_reducible apply mK_O | with_reducible apply mK_S)) rfl (lw_V q3445 q3447 qs65 q109 q3448) (by decide +kernel) ⟨(Nat.le_of_ble_eq_true rfl), (Nat.le_of_ble_eq_true rfl)⟩ rfl rfl (Nat.le_of_ble_eq_true rfl) (by first | exact Nat.le_of_ble_eq_true rfl | omega) (by first | exact Nat.le_of_ble_eq_true rfl | omega) rfl (fun v_67 M_68 h_70 hE_69 => ?_)
              obtain ⟨rfl, hMs⟩ := h_70
              have hMs := hMs.symm
              subst hMs
              refine x_iconst (n' := 189) (v := 2) dX9_says_188 (by decide) rfl ?_
              refine x_forkN (J := 197) (x_icmp_ne (n' := 192) (tgt := 196) dX9_says_189 (by decide) rfl) (v1 := ?v1_f189_71) (v2 := ?v2_f189_71) (fun c_f189_71 j_f189_71 => ?b1_f189_71) (fun c_f189_71 j_f189_71 => ?b2_f189_71) ?k_f189_71
              case b1_f189_71 =>
                refine x_iconst (n' := 197) (v := 0) dX9_says_196 (by decide) rfl ?_
                exact j_f189_71
              case b2_f189_71 =>
                refine x_iconst (n' := 193) (v := 1) dX9_says_192 (by decide) rfl ?_
                refine x_goto (tgt := 197) dX9_says_193 (by decide) ?_
                exact j_f189_71
              refine x_topv (y := bi ((mA M (ad 0)) (109 + 4 * (nn ((mA M (ad 7)) (nn k)) - 10) + 2) = 2)) (by exact rfl) ?_
              exact x_iret dX9_says_197 hret (by repeat' (first | with_reducible exact kE.rf | with_reducible exact kE_SS | with_reducible apply kE_A | with_reducible apply kE_I | with_reducible apply kE_L | with_reducible apply kE_R | with_reducible apply kE_O | with_reducible apply kE_S)) (⟨fun _ => ⟨congrArg (fun z => some (Value.int z)) (say_7 (by assumption)), rfl⟩, fun q => absurd hok q⟩)
            refine x_tableOut (tgt := 198) dX9_says_101 (absurd (bi_n0 C16) (say_out (fun j hj => by rcases (show j = 0 ∨ j = 1 ∨ j = 2 ∨ j = 3 ∨ j = 4 ∨ j = 5 ∨ j = 6 ∨ j = 7 by omega) with rfl | rfl | rfl | rfl | rfl | rfl | rfl | rfl <;> assumption))) (by decide) ?_
            refine x_aload_n (n' := 199) dX9_says_198 rfl rfl rfl ?_
            refine x_iload_n (n' := 200) dX9_says_199 rfl rfl rfl ?_
            refine x_iconst (n' := 201) (v := 2) dX9_says_200 (by decide) rfl ?_
            refine x_callV (n' := 204) (n := 2) (K := 9) (c_X9_ofShip l G _ m ad hS (nn ((mA M (ad 7)) (nn k)) - 10) 2 (by omega)) dX9_says_201 (by repeat' (first | with_reducible exact km | with_reducible apply mK_A | with_reducible apply mK_I | with_reducible apply mK_L | with_reducible apply mK_R | with_reducible apply mK_O | with_reducible apply mK_S)) rfl (lw_V q3445 q3447 qs65 q109 q3448) (by decide +kernel) ⟨(Nat.le_of_ble_eq_true rfl), (Nat.le_of_ble_eq_true rfl)⟩ rfl rfl (Nat.le_of_ble_eq_true rfl) (by first | exact Nat.le_of_ble_eq_true rfl | omega) (by first | exact Nat.le_of_ble_eq_true rfl | omega) rfl (fun v_72 M_73 h_75 hE_74 => ?_)
            obtain ⟨rfl, hMs⟩ := h_75
            have hMs := hMs.symm
            subst hMs
            exact x_iret dX9_says_204 hret (by repeat' (first | with_reducible exact kE.rf | with_reducible exact kE_SS | with_reducible apply kE_A | with_reducible apply kE_I | with_reducible apply kE_L | with_reducible apply kE_R | with_reducible apply kE_O | with_reducible apply kE_S)) (by first | exact ⟨fun _ => ⟨congrArg (fun z => some (Value.int z)) (say_3 (by first | exact Or.inl (by assumption) | exact Or.inr (Or.inl (by assumption)) | exact Or.inr (Or.inr (by assumption)))), rfl⟩, fun q => absurd hok q⟩ | exact absurd (bi_n0 C16) (say_out (fun j hj => by rcases (show j = 0 ∨ j = 1 ∨ j = 2 ∨ j = 3 ∨ j = 4 ∨ j = 5 ∨ j = 6 ∨ j = 7 by omega) with rfl | rfl | rfl | rfl | rfl | rfl | rfl | rfl <;> assumption)))
          · have C90 := c90_29
            refine x_aload_n (n' := 94) dX9_says_93 rfl rfl rfl ?_
            refine x_bipush (n' := 96) (v := -103) dX9_says_94 (by decide) rfl ?_
            refine x_topv (y := -(nI (102 + 1))) (by decide) ?_
            refine x_callV (n' := 99) (n := 1) (K := 9) (c_X9_refused l G _ m ad (by repeat' (first | with_reducible exact hS | with_reducible apply MS.sA | with_reducible apply MS.sI | with_reducible apply MS.sL | with_reducible apply MS.sc)) 1 (by decide)) dX9_says_96 (by repeat' (first | with_reducible exact km | with_reducible apply mK_A | with_reducible apply mK_I | with_reducible apply mK_L | with_reducible apply mK_R | with_reducible apply mK_O | with_reducible apply mK_S)) rfl (lw_V q3324 q3326 qs48 q109 q3327) (by decide +kernel) ⟨(Nat.le_of_ble_eq_true rfl), (Nat.le_of_ble_eq_true rfl)⟩ rfl rfl (Nat.le_of_ble_eq_true rfl) (by first | exact Nat.le_of_ble_eq_true rfl | omega) (by first | exact Nat.le_of_ble_eq_true rfl | omega) rfl (fun v_76 M_77 h_79 hE_78 => ?_)
            obtain ⟨rfl, hMs⟩ := h_79
            have hMs := hMs.symm
            subst hMs
            exact x_iret dX9_says_99 hret (by repeat' (first | with_reducible exact kE.rf | with_reducible exact kE_SS | with_reducible apply kE_A | with_reducible apply kE_I | with_reducible apply kE_L | with_reducible apply kE_R | with_reducible apply kE_O | with_reducible apply kE_S)) (⟨fun q => absurd q (by exact fun q => bi_0.mp C90 q.2.2.2), fun _ => by rw [show rcY (mA M (ad 0)) (mA M (ad 7)) k w = 1 from (by exact rcY_d ⟨hs1, bi_n0 C16⟩ (bi_0.mp C40) (Int32.not_lt.mpr C56))]; exact ⟨rfl, rfl⟩⟩)
        · have C56 := c56_20
          refine x_aload_n (n' := 60) dX9_says_59 rfl rfl rfl ?_
          refine x_bipush (n' := 62) (v := -104) dX9_says_60 (by decide) rfl ?_
          refine x_topv (y := -(nI (102 + 2))) (by decide) ?_
          refine x_callV (n' := 65) (n := 1) (K := 9) (c_X9_refused l G _ m ad (by repeat' (first | with_reducible exact hS | with_reducible apply MS.sA | with_reducible apply MS.sI | with_reducible apply MS.sL | with_reducible apply MS.sc)) 2 (by decide)) dX9_says_62 (by repeat' (first | with_reducible exact km | with_reducible apply mK_A | with_reducible apply mK_I | with_reducible apply mK_L | with_reducible apply mK_R | with_reducible apply mK_O | with_reducible apply mK_S)) rfl (lw_V q3324 q3326 qs48 q109 q3327) (by decide +kernel) ⟨(Nat.le_of_ble_eq_true rfl), (Nat.le_of_ble_eq_true rfl)⟩ rfl rfl (Nat.le_of_ble_eq_true rfl) (by first | exact Nat.le_of_ble_eq_true rfl | omega) (by first | exact Nat.le_of_ble_eq_true rfl | omega) rfl (fun v_80 M_81 h_83 hE_82 => ?_)
          obtain ⟨rfl, hMs⟩ := h_83
          have hMs := hMs.symm
          subst hMs
          exact x_iret dX9_says_65 hret (by repeat' (first | with_reducible exact kE.rf | with_reducible exact kE_SS | with_reducible apply kE_A | with_reducible apply kE_I | with_reducible apply kE_L | with_reducible apply kE_R | with_reducible apply kE_O | with_reducible apply kE_S)) (⟨fun q => absurd q (by exact fun q => q.2.2.1 (Int32.not_le.mp C56)), fun _ => by rw [show rcY (mA M (ad 0)) (mA M (ad 7)) k w = 2 from (by exact rcY_c ⟨hs1, bi_n0 C16⟩ (bi_0.mp C40) (Int32.not_le.mp C56))]; exact ⟨rfl, rfl⟩⟩)
      · have C40 := c40_19
        refine x_aload_n (n' := 44) dX9_says_43 rfl rfl rfl ?_
        refine x_bipush (n' := 46) (v := -103) dX9_says_44 (by decide) rfl ?_
        refine x_topv (y := -(nI (102 + 1))) (by decide) ?_
        refine x_callV (n' := 49) (n := 1) (K := 9) (c_X9_refused l G _ m ad (by repeat' (first | with_reducible exact hS | with_reducible apply MS.sA | with_reducible apply MS.sI | with_reducible apply MS.sL | with_reducible apply MS.sc)) 1 (by decide)) dX9_says_46 (by repeat' (first | with_reducible exact km | with_reducible apply mK_A | with_reducible apply mK_I | with_reducible apply mK_L | with_reducible apply mK_R | with_reducible apply mK_O | with_reducible apply mK_S)) rfl (lw_V q3324 q3326 qs48 q109 q3327) (by decide +kernel) ⟨(Nat.le_of_ble_eq_true rfl), (Nat.le_of_ble_eq_true rfl)⟩ rfl rfl (Nat.le_of_ble_eq_true rfl) (by first | exact Nat.le_of_ble_eq_true rfl | omega) (by first | exact Nat.le_of_ble_eq_true rfl | omega) rfl (fun v_84 M_85 h_87 hE_86 => ?_)
        obtain ⟨rfl, hMs⟩ := h_87
        have hMs := hMs.symm
        subst hMs
        exact x_iret dX9_says_49 hret (by repeat' (first | with_reducible exact kE.rf | with_reducible exact kE_SS | with_reducible apply kE_A | with_reducible apply kE_I | with_reducible apply kE_L | with_reducible apply kE_R | with_reducible apply kE_O | with_reducible apply kE_S)) (⟨fun q => absurd q (by exact fun q => q.2.1 (bi_n0 C40)), fun _ => by rw [show rcY (mA M (ad 0)) (mA M (ad 7)) k w = 1 from (by exact rcY_b ⟨hs1, bi_n0 C16⟩ (bi_n0 C40))]; exact ⟨rfl, rfl⟩⟩)
    · have C16 := c16_14
      refine x_aload_n (n' := 20) dX9_says_19 rfl rfl rfl ?_
      refine x_bipush (n' := 22) (v := -102) dX9_says_20 (by decide) rfl ?_
      refine x_topv (y := -(nI (102 + 0))) (by decide) ?_
      refine x_callV (n' := 25) (n := 1) (K := 9) (c_X9_refused l G _ m ad (by repeat' (first | with_reducible exact hS | with_reducible apply MS.sA | with_reducible apply MS.sI | with_reducible apply MS.sL | with_reducible apply MS.sc)) 0 (by decide)) dX9_says_22 (by repeat' (first | with_reducible exact km | with_reducible apply mK_A | with_reducible apply mK_I | with_reducible apply mK_L | with_reducible apply mK_R | with_reducible apply mK_O | with_reducible apply mK_S)) rfl (lw_V q3324 q3326 qs48 q109 q3327) (by decide +kernel) ⟨(Nat.le_of_ble_eq_true rfl), (Nat.le_of_ble_eq_true rfl)⟩ rfl rfl (Nat.le_of_ble_eq_true rfl) (by first | exact Nat.le_of_ble_eq_true rfl | omega) (by first | exact Nat.le_of_ble_eq_true rfl | omega) rfl (fun v_88 M_89 h_91 hE_90 => ?_)
      obtain ⟨rfl, hMs⟩ := h_91
      have hMs := hMs.symm
      subst hMs
      exact x_iret dX9_says_25 hret (by repeat' (first | with_reducible exact kE.rf | with_reducible exact kE_SS | with_reducible apply kE_A | with_reducible apply kE_I | with_reducible apply kE_L | with_reducible apply kE_R | with_reducible apply kE_O | with_reducible apply kE_S)) (⟨fun q => absurd q (by first | exact fun q => bi_0.mp C4 q.1.1 | exact fun q => bi_0.mp C16 q.1.2), fun _ => by rw [show rcY (mA M (ad 0)) (mA M (ad 7)) k w = 0 from (by first | exact rcY_a (fun q => bi_0.mp C4 q.1) | exact rcY_a (fun q => bi_0.mp C16 q.2))]; exact ⟨rfl, rfl⟩⟩)

set_option maxHeartbeats 4000000 in
set_option maxRecDepth 100000 in
theorem c_X9_judge (l : Launch) (G : kG) (M : kM) (m : Nat) (ad : Nat → Nat) (hS : MS M m ad) (i k n : Int32) (nl : Nat) (hz : SZ (mA M (ad 8))) (hl : mA M (ad 0) 15 = nI nl) (hb : nl ≤ 400) : Kt l G yX9_judge cX9_judge 6 (some .int) 2 45 [.ref m, .int i, .int k, .int n] M (0) (0) (fun v M2 => (okJ (mA M (ad 7)) (mA M (ad 8)) i k n → v = some (.int (jdF (jdP (mA M (ad 0)) (mL M (ad 13)) nl (nn i) (nn k)) (nn n) 0)) ∧ M2 = M) ∧ (¬ (okJ (mA M (ad 7)) (mA M (ad 8)) i k n) → v = some (.int (-(nI (102 + rcJ (mA M (ad 7)) i k n)))) ∧ M2 = rfM M ad (rcJ (mA M (ad 7)) i k n))) := by
  refine Kt.of (own := "KeptLightModel") (L := [some (.ref m), some (.int i), some (.int k), some (.int n), none, none]) (by decide +kernel) rfl (Nat.le_of_ble_eq_true rfl) rfl ?_
  intro pp ee ss mm args below meth cd hmn hret
  have km := hS.1
  obtain ⟨hr_g, kk_g, hn_g⟩ := hS.2.1 0 (by decide)
  have hr_g : mR M (fc 9 0) m = some (ad 0) := hr_g
  have hn_g : mN M (ad 0) = 2509 := hn_g
  have kk_g : mK M (ad 0) = some 120 := kk_g
  obtain ⟨hr_sorts, kk_sorts, hn_sorts⟩ := hS.2.1 7 (by decide)
  have hr_sorts : mR M (fc 9 17) m = some (ad 7) := hr_sorts
  have hn_sorts : mN M (ad 7) = 8 := hn_sorts
  have kk_sorts : mK M (ad 7) = some 120 := kk_sorts
  obtain ⟨hr_sizes, kk_sizes, hn_sizes⟩ := hS.2.1 8 (by decide)
  have hr_sizes : mR M (fc 9 18) m = some (ad 8) := hr_sizes
  have hn_sizes : mN M (ad 8) = 8 := hn_sizes
  have kk_sizes : mK M (ad 8) = some 120 := kk_sizes
  obtain ⟨hr_elements, kk_elements, hn_elements⟩ := hS.2.1 13 (by decide)
  have hr_elements : mR M (fc 9 19) m = some (ad 13) := hr_elements
  have hn_elements : mN M (ad 13) = 320 := hn_elements
  have kk_elements : mK M (ad 13) = some 124 := kk_elements
  have ne_g_sorts := hS.eqf 0 7 (by decide) (by decide) (by decide)
  have ne_g_sizes := hS.eqf 0 8 (by decide) (by decide) (by decide)
  have ne_g_elements := hS.eqf 0 13 (by decide) (by decide) (by decide)
  have ne_sorts_g := hS.eqf 7 0 (by decide) (by decide) (by decide)
  have ne_sorts_sizes := hS.eqf 7 8 (by decide) (by decide) (by decide)
  have ne_sorts_elements := hS.eqf 7 13 (by decide) (by decide) (by decide)
  have ne_sizes_g := hS.eqf 8 0 (by decide) (by decide) (by decide)
  have ne_sizes_sorts := hS.eqf 8 7 (by decide) (by decide) (by decide)
  have ne_sizes_elements := hS.eqf 8 13 (by decide) (by decide) (by decide)
  have ne_elements_g := hS.eqf 13 0 (by decide) (by decide) (by decide)
  have ne_elements_sorts := hS.eqf 13 7 (by decide) (by decide) (by decide)
  have ne_elements_sizes := hS.eqf 13 8 (by decide) (by decide) (by decide)
  have cut85 : ∀ (fuel : Nat) (t : Nat) (h1 : nn n - t < fuel) (h2 : t ≤ nn n) (hok : okJ (mA M (ad 7)) (mA M (ad 8)) i k n) (h3 : jdF (jdP (mA M (ad 0)) (mL M (ad 13)) nl (nn i) (nn k)) (nn n - t) t = jdF (jdP (mA M (ad 0)) (mL M (ad 13)) nl (nn i) (nn k)) (nn n) 0), Wx pp l ee { frames := 2, cells := 0, slots := 0, locals := 45 } ss mm args below meth cd "KeptLightModel" cX9_judge 6 G (MQ below (KQ G M (fun v M2 => (okJ (mA M (ad 7)) (mA M (ad 8)) i k n → v = some (.int (jdF (jdP (mA M (ad 0)) (mL M (ad 13)) nl (nn i) (nn k)) (nn n) 0)) ∧ M2 = M) ∧ (¬ (okJ (mA M (ad 7)) (mA M (ad 8)) i k n) → v = some (.int (-(nI (102 + rcJ (mA M (ad 7)) i k n)))) ∧ M2 = rfM M ad (rcJ (mA M (ad 7)) i k n)))) args ss (0) (0) (kA G)) 85 [some (.ref m), some (.int (nI (nn i))), some (.int (nI (nn k))), some (.int (nI (nn n))), some (.int (nI t)), none] [] (M) (0) (0) := by
    intro fuel
    induction fuel with
    | zero => intro t h1 h2 hok h3; omega
    | succ fuel ih =>
      intro t h1 h2 hok h3
      have hj0 := hok.1
      have hn7 := nn_le (n := 7) hj0.2.1.1 hj0.2.1.2 (by decide)
      have hn20 := nn_le (n := 20) hj0.2.2.1 hj0.2.2.2 (by decide)
      have hz1 := jd_z (hz (nn k) (by omega)) hj0.2.2.1 hj0.2.2.2 hok.2.2.2
      have hl0 := nn_lt i
      refine x_iload (n' := 87) dX9_judge_85 rfl rfl ?_
      refine x_iload_n (n' := 88) dX9_judge_87 rfl rfl rfl ?_
      refine x_icmp_ge (n' := 91) (tgt := 200) dX9_judge_88 (by decide) rfl (fun c88_1 => ?_) (fun c88_1 => ?_)
      · have n_c88_1 := (cv_le (by repeat' (first | with_reducible exact nl_0 | with_reducible exact nl_1 | with_reducible exact nl_2 | with_reducible exact nl_4 | with_reducible exact nl_15 | with_reducible exact nl_40 | with_reducible exact nl_909 | with_reducible exact rfl | apply i_add | apply i_mul)) (by repeat' (first | with_reducible exact nl_0 | with_reducible exact nl_1 | with_reducible exact nl_2 | with_reducible exact nl_4 | with_reducible exact nl_15 | with_reducible exact nl_40 | with_reducible exact nl_909 | with_reducible exact rfl | apply i_add | apply i_mul)) (by omega) (by omega)).mp c88_1
        refine x_iconst (n' := 201) (v := -1) dX9_judge_200 (by decide) rfl ?_
        exact x_iret dX9_judge_201 hret (by repeat' (first | with_reducible exact kE.rf | with_reducible exact kE_SS | with_reducible apply kE_A | with_reducible apply kE_I | with_reducible apply kE_L | with_reducible apply kE_R | with_reducible apply kE_O | with_reducible apply kE_S)) (⟨fun _ => ⟨congrArg (fun z => some (Value.int z)) (jd_n h3 (by omega)), rfl⟩, fun q => absurd hok q⟩)
      · have n_c88_1 := (not_congr (cv_le (by repeat' (first | with_reducible exact nl_0 | with_reducible exact nl_1 | with_reducible exact nl_2 | with_reducible exact nl_4 | with_reducible exact nl_15 | with_reducible exact nl_40 | with_reducible exact nl_909 | with_reducible exact rfl | apply i_add | apply i_mul)) (by repeat' (first | with_reducible exact nl_0 | with_reducible exact nl_1 | with_reducible exact nl_2 | with_reducible exact nl_4 | with_reducible exact nl_15 | with_reducible exact nl_40 | with_reducible exact nl_909 | with_reducible exact rfl | apply i_add | apply i_mul)) (by omega) (by omega))).mp c88_1
        refine x_iload_n (n' := 92) dX9_judge_91 rfl rfl rfl ?_
        refine x_aload_n (n' := 93) dX9_judge_92 rfl rfl rfl ?_
        refine x_getRs (n' := 96) (b := (ad 0)) dX9_judge_93 (by repeat' (first | with_reducible exact km | with_reducible apply mK_A | with_reducible apply mK_I | with_reducible apply mK_L | with_reducible apply mK_R | with_reducible apply mK_O | with_reducible apply mK_S)) ffX9_9_9 rfl (by repeat' (first | with_reducible exact hr_g | with_reducible apply mR_A | with_reducible apply mR_I | with_reducible apply mR_L | with_reducible apply mR_S)) rfl ?_
        refine x_bipush (n' := 98) (v := 15) dX9_judge_96 (by decide) rfl ?_
        refine x_ildk (n' := 99) (N := 2509) dX9_judge_98 (by repeat' (first | with_reducible exact kk_g | with_reducible apply mK_A | with_reducible apply mK_I | with_reducible apply mK_L | with_reducible apply mK_R | with_reducible apply mK_O | with_reducible apply mK_S)) (by repeat' (first | with_reducible exact hn_g | with_reducible apply mN_A | with_reducible apply mN_I | with_reducible apply mN_L | with_reducible apply mN_R | with_reducible apply mN_O | with_reducible apply mN_S)) (by repeat' (first | with_reducible exact nl_0 | with_reducible exact nl_1 | with_reducible exact nl_2 | with_reducible exact nl_4 | with_reducible exact nl_15 | with_reducible exact nl_40 | with_reducible exact nl_909 | with_reducible exact rfl | apply i_add | apply i_mul)) (by omega) (by decide) (by first | with_reducible exact hl | (simp (disch := omega) only [mA_sA, mA_sI, mA_SC0, mA_SC1 hS, mA_SC5 hS, mA_SC6 hS, mA_SC10 hS, mA_SC11 hS, mA_SC12 hS, up_s, up_n, hl, if_false, ne_g_sorts, ne_g_sizes, ne_g_elements, ne_sorts_g, ne_sorts_sizes, ne_sorts_elements, ne_sizes_g, ne_sizes_sorts, ne_sizes_elements, ne_elements_g, ne_elements_sorts, ne_elements_sizes] <;> rfl) | rfl) rfl ?_
        refine x_iload (n' := 101) dX9_judge_99 rfl rfl ?_
        refine x_isub (n' := 102) dX9_judge_101 rfl ?_
        refine x_fork (J := 184) (x_icmp_ge (n' := 105) (tgt := 183) dX9_judge_102 (by decide) rfl) (v1 := ?v1_f102_2) (v2 := ?v2_f102_2) (fun c_f102_2 j_f102_2 => ?b1_f102_2) (fun c_f102_2 j_f102_2 => ?b2_f102_2) ?k_f102_2
        case b1_f102_2 =>
          refine x_iconst (n' := 184) (v := 0) dX9_judge_183 (by decide) rfl ?_
          exact j_f102_2
        case b2_f102_2 =>
          have hlt9 := jd_lt (t := t) (i := nn i) hb (by omega) (nn_lt i) (by assumption)
          refine x_aload_n (n' := 106) dX9_judge_105 rfl rfl rfl ?_
          refine x_getRs (n' := 109) (b := (ad 13)) dX9_judge_106 (by repeat' (first | with_reducible exact km | with_reducible apply mK_A | with_reducible apply mK_I | with_reducible apply mK_L | with_reducible apply mK_R | with_reducible apply mK_O | with_reducible apply mK_S)) ffX9_47_9 rfl (by repeat' (first | with_reducible exact hr_elements | with_reducible apply mR_A | with_reducible apply mR_I | with_reducible apply mR_L | with_reducible apply mR_S)) rfl ?_
          refine x_bipush (n' := 111) (v := 40) dX9_judge_109 (by decide) rfl ?_
          refine x_iload_n (n' := 112) dX9_judge_111 rfl rfl rfl ?_
          refine x_imul (n' := 113) dX9_judge_112 rfl ?_
          refine x_iconst (n' := 114) (v := 2) dX9_judge_113 (by decide) rfl ?_
          refine x_iload (n' := 116) dX9_judge_114 rfl rfl ?_
          refine x_imul (n' := 117) dX9_judge_116 rfl ?_
          refine x_iadd (n' := 118) dX9_judge_117 rfl ?_
          refine x_lldk (n' := 119) (N := 320) dX9_judge_118 (by repeat' (first | with_reducible exact kk_elements | with_reducible apply mK_A | with_reducible apply mK_I | with_reducible apply mK_L | with_reducible apply mK_R | with_reducible apply mK_O | with_reducible apply mK_S)) (by repeat' (first | with_reducible exact hn_elements | with_reducible apply mN_A | with_reducible apply mN_I | with_reducible apply mN_L | with_reducible apply mN_R | with_reducible apply mN_O | with_reducible apply mN_S)) (by repeat' (first | with_reducible exact nl_0 | with_reducible exact nl_1 | with_reducible exact nl_2 | with_reducible exact nl_4 | with_reducible exact nl_15 | with_reducible exact nl_40 | with_reducible exact nl_909 | with_reducible exact rfl | apply i_add | apply i_mul)) (by omega) (by decide) rfl rfl ?_
          refine x_aload_n (n' := 120) dX9_judge_119 rfl rfl rfl ?_
          refine x_getRs (n' := 123) (b := (ad 0)) dX9_judge_120 (by repeat' (first | with_reducible exact km | with_reducible apply mK_A | with_reducible apply mK_I | with_reducible apply mK_L | with_reducible apply mK_R | with_reducible apply mK_O | with_reducible apply mK_S)) ffX9_9_9 rfl (by repeat' (first | with_reducible exact hr_g | with_reducible apply mR_A | with_reducible apply mR_I | with_reducible apply mR_L | with_reducible apply mR_S)) rfl ?_
          refine x_sipush (n' := 126) (v := 909) dX9_judge_123 (by decide) rfl ?_
          refine x_iconst (n' := 127) (v := 4) dX9_judge_126 (by decide) rfl ?_
          refine x_iload_n (n' := 128) dX9_judge_127 rfl rfl rfl ?_
          refine x_iload (n' := 130) dX9_judge_128 rfl rfl ?_
          refine x_iadd (n' := 131) dX9_judge_130 rfl ?_
          refine x_imul (n' := 132) dX9_judge_131 rfl ?_
          refine x_iadd (n' := 133) dX9_judge_132 rfl ?_
          refine x_iconst (n' := 134) (v := 1) dX9_judge_133 (by decide) rfl ?_
          refine x_iadd (n' := 135) dX9_judge_134 rfl ?_
          refine x_ildk (n' := 136) (N := 2509) dX9_judge_135 (by repeat' (first | with_reducible exact kk_g | with_reducible apply mK_A | with_reducible apply mK_I | with_reducible apply mK_L | with_reducible apply mK_R | with_reducible apply mK_O | with_reducible apply mK_S)) (by repeat' (first | with_reducible exact hn_g | with_reducible apply mN_A | with_reducible apply mN_I | with_reducible apply mN_L | with_reducible apply mN_R | with_reducible apply mN_O | with_reducible apply mN_S)) (by repeat' (first | with_reducible exact nl_0 | with_reducible exact nl_1 | with_reducible exact nl_2 | with_reducible exact nl_4 | with_reducible exact nl_15 | with_reducible exact nl_40 | with_reducible exact nl_909 | with_reducible exact rfl | apply i_add | apply i_mul)) (by omega) (by decide) (by first | with_reducible exact hl | (simp (disch := omega) only [mA_sA, mA_sI, mA_SC0, mA_SC1 hS, mA_SC5 hS, mA_SC6 hS, mA_SC10 hS, mA_SC11 hS, mA_SC12 hS, up_s, up_n, hl, if_false, ne_g_sorts, ne_g_sizes, ne_g_elements, ne_sorts_g, ne_sorts_sizes, ne_sorts_elements, ne_sizes_g, ne_sizes_sorts, ne_sizes_elements, ne_elements_g, ne_elements_sorts, ne_elements_sizes] <;> rfl) | rfl) rfl ?_
          refine x_i2l (n' := 137) dX9_judge_136 rfl rfl ?_
          refine x_lcmp (n' := 138) dX9_judge_137 rfl ?_
          refine x_forkN (J := 184) (x_if_ne (n' := 141) (tgt := 183) dX9_judge_138 (by decide) rfl) (v1 := ?v1_f138_3) (v2 := ?v2_f138_3) (fun c_f138_3 j_f138_3 => ?b1_f138_3) (fun c_f138_3 j_f138_3 => ?b2_f138_3) ?k_f138_3
          case b1_f138_3 =>
            refine x_iconst (n' := 184) (v := 0) dX9_judge_183 (by decide) rfl ?_
            exact j_f138_3
          case b2_f138_3 =>
            refine x_aload_n (n' := 142) dX9_judge_141 rfl rfl rfl ?_
            refine x_getRs (n' := 145) (b := (ad 13)) dX9_judge_142 (by repeat' (first | with_reducible exact km | with_reducible apply mK_A | with_reducible apply mK_I | with_reducible apply mK_L | with_reducible apply mK_R | with_reducible apply mK_O | with_reducible apply mK_S)) ffX9_47_9 rfl (by repeat' (first | with_reducible exact hr_elements | with_reducible apply mR_A | with_reducible apply mR_I | with_reducible apply mR_L | with_reducible apply mR_S)) rfl ?_
            refine x_bipush (n' := 147) (v := 40) dX9_judge_145 (by decide) rfl ?_
            refine x_iload_n (n' := 148) dX9_judge_147 rfl rfl rfl ?_
            refine x_imul (n' := 149) dX9_judge_148 rfl ?_
            refine x_iconst (n' := 150) (v := 2) dX9_judge_149 (by decide) rfl ?_
            refine x_iload (n' := 152) dX9_judge_150 rfl rfl ?_
            refine x_imul (n' := 153) dX9_judge_152 rfl ?_
            refine x_iadd (n' := 154) dX9_judge_153 rfl ?_
            refine x_iconst (n' := 155) (v := 1) dX9_judge_154 (by decide) rfl ?_
            refine x_iadd (n' := 156) dX9_judge_155 rfl ?_
            refine x_lldk (n' := 157) (N := 320) dX9_judge_156 (by repeat' (first | with_reducible exact kk_elements | with_reducible apply mK_A | with_reducible apply mK_I | with_reducible apply mK_L | with_reducible apply mK_R | with_reducible apply mK_O | with_reducible apply mK_S)) (by repeat' (first | with_reducible exact hn_elements | with_reducible apply mN_A | with_reducible apply mN_I | with_reducible apply mN_L | with_reducible apply mN_R | with_reducible apply mN_O | with_reducible apply mN_S)) (by repeat' (first | with_reducible exact nl_0 | with_reducible exact nl_1 | with_reducible exact nl_2 | with_reducible exact nl_4 | with_reducible exact nl_15 | with_reducible exact nl_40 | with_reducible exact nl_909 | with_reducible exact rfl | apply i_add | apply i_mul)) (by omega) (by decide) rfl rfl ?_
            refine x_aload_n (n' := 158) dX9_judge_157 rfl rfl rfl ?_
            refine x_getRs (n' := 161) (b := (ad 0)) dX9_judge_158 (by repeat' (first | with_reducible exact km | with_reducible apply mK_A | with_reducible apply mK_I | with_reducible apply mK_L | with_reducible apply mK_R | with_reducible apply mK_O | with_reducible apply mK_S)) ffX9_9_9 rfl (by repeat' (first | with_reducible exact hr_g | with_reducible apply mR_A | with_reducible apply mR_I | with_reducible apply mR_L | with_reducible apply mR_S)) rfl ?_
            refine x_sipush (n' := 164) (v := 909) dX9_judge_161 (by decide) rfl ?_
            refine x_iconst (n' := 165) (v := 4) dX9_judge_164 (by decide) rfl ?_
            refine x_iload_n (n' := 166) dX9_judge_165 rfl rfl rfl ?_
            refine x_iload (n' := 168) dX9_judge_166 rfl rfl ?_
            refine x_iadd (n' := 169) dX9_judge_168 rfl ?_
            refine x_imul (n' := 170) dX9_judge_169 rfl ?_
            refine x_iadd (n' := 171) dX9_judge_170 rfl ?_
            refine x_iconst (n' := 172) (v := 2) dX9_judge_171 (by decide) rfl ?_
            refine x_iadd (n' := 173) dX9_judge_172 rfl ?_
            refine x_ildk (n' := 174) (N := 2509) dX9_judge_173 (by repeat' (first | with_reducible exact kk_g | with_reducible apply mK_A | with_reducible apply mK_I | with_reducible apply mK_L | with_reducible apply mK_R | with_reducible apply mK_O | with_reducible apply mK_S)) (by repeat' (first | with_reducible exact hn_g | with_reducible apply mN_A | with_reducible apply mN_I | with_reducible apply mN_L | with_reducible apply mN_R | with_reducible apply mN_O | with_reducible apply mN_S)) (by repeat' (first | with_reducible exact nl_0 | with_reducible exact nl_1 | with_reducible exact nl_2 | with_reducible exact nl_4 | with_reducible exact nl_15 | with_reducible exact nl_40 | with_reducible exact nl_909 | with_reducible exact rfl | apply i_add | apply i_mul)) (by omega) (by decide) (by first | with_reducible exact hl | (simp (disch := omega) only [mA_sA, mA_sI, mA_SC0, mA_SC1 hS, mA_SC5 hS, mA_SC6 hS, mA_SC10 hS, mA_SC11 hS, mA_SC12 hS, up_s, up_n, hl, if_false, ne_g_sorts, ne_g_sizes, ne_g_elements, ne_sorts_g, ne_sorts_sizes, ne_sorts_elements, ne_sizes_g, ne_sizes_sorts, ne_sizes_elements, ne_elements_g, ne_elements_sorts, ne_elements_sizes] <;> rfl) | rfl) rfl ?_
            refine x_i2l (n' := 175) dX9_judge_174 rfl rfl ?_
            refine x_lcmp (n' := 176) dX9_judge_175 rfl ?_
            refine x_forkN (J := 184) (x_if_ne (n' := 179) (tgt := 183) dX9_judge_176 (by decide) rfl) (v1 := ?v1_f176_4) (v2 := ?v2_f176_4) (fun c_f176_4 j_f176_4 => ?b1_f176_4) (fun c_f176_4 j_f176_4 => ?b2_f176_4) ?k_f176_4
            case b1_f176_4 =>
              refine x_iconst (n' := 184) (v := 0) dX9_judge_183 (by decide) rfl ?_
              exact j_f176_4
            case b2_f176_4 =>
              refine x_iconst (n' := 180) (v := 1) dX9_judge_179 (by decide) rfl ?_
              refine x_goto (tgt := 184) dX9_judge_180 (by decide) ?_
              exact j_f176_4
            exact j_f138_3
          exact j_f102_2
        refine x_topv (y := bi ((jdP (mA M (ad 0)) (mL M (ad 13)) nl (nn i) (nn k)) t)) (by exact jd_eq hb (by omega) (nn_lt i)) ?_
        refine x_istore (n' := 186) dX9_judge_184 (Nat.le_of_ble_eq_true rfl) rfl (by dsimp only [List.set] <;> rfl) rfl ?_
        refine x_iload (n' := 188) dX9_judge_186 rfl rfl ?_
        refine x_if_ne (n' := 191) (tgt := 194) dX9_judge_188 (by decide) rfl (fun c188_5 => ?_) (fun c188_5 => ?_)
        · have C188 := c188_5
          refine x_iinc (n' := 197) dX9_judge_194 rfl (by first | exact nI_inc _ | exact nI_decp (by omega) | exact i_inc _ | rfl) (Nat.le_of_ble_eq_true rfl) rfl (by dsimp only [List.set] <;> rfl) rfl ?_
          refine x_goto (tgt := 85) dX9_judge_197 (by decide) ?_
          exact x_drop (ih (t + 1) (by omega) (by omega) hok (jd_s (bi_n0 C188) h3 (by omega))) ⟨rfl, ⟨rfl, ⟨rfl, ⟨rfl, ⟨rfl, trivial⟩⟩⟩⟩⟩
        · have C188 := c188_5
          refine x_iload (n' := 193) dX9_judge_191 rfl rfl ?_
          exact x_iret dX9_judge_193 hret (by repeat' (first | with_reducible exact kE.rf | with_reducible exact kE_SS | with_reducible apply kE_A | with_reducible apply kE_I | with_reducible apply kE_L | with_reducible apply kE_R | with_reducible apply kE_O | with_reducible apply kE_S)) (⟨fun _ => ⟨congrArg (fun z => some (Value.int z)) (jd_e (bi_0.mp C188) h3 (by omega)), rfl⟩, fun q => absurd hok q⟩)
  refine x_iload_n (n' := 1) dX9_judge_0 rfl rfl rfl ?_
  refine x_if_lt (n' := 4) (tgt := 23) dX9_judge_1 (by decide) rfl (fun c1_6 => ?_) (fun c1_6 => ?_)
  · have C1 := c1_6
    refine x_aload_n (n' := 24) dX9_judge_23 rfl rfl rfl ?_
    refine x_bipush (n' := 26) (v := -102) dX9_judge_24 (by decide) rfl ?_
    refine x_topv (y := -(nI (102 + 0))) (by decide) ?_
    refine x_callV (n' := 29) (n := 1) (K := 9) (c_X9_refused l G _ m ad (by repeat' (first | with_reducible exact hS | with_reducible apply MS.sA | with_reducible apply MS.sI | with_reducible apply MS.sL | with_reducible apply MS.sc)) 0 (by decide)) dX9_judge_26 (by repeat' (first | with_reducible exact km | with_reducible apply mK_A | with_reducible apply mK_I | with_reducible apply mK_L | with_reducible apply mK_R | with_reducible apply mK_O | with_reducible apply mK_S)) rfl (lw_V q3324 q3326 qs48 q109 q3327) (by decide +kernel) ⟨(Nat.le_of_ble_eq_true rfl), (Nat.le_of_ble_eq_true rfl)⟩ rfl rfl (Nat.le_of_ble_eq_true rfl) (by first | exact Nat.le_of_ble_eq_true rfl | omega) (by first | exact Nat.le_of_ble_eq_true rfl | omega) rfl (fun v_7 M_8 h_10 hE_9 => ?_)
    obtain ⟨rfl, hMs⟩ := h_10
    have hMs := hMs.symm
    subst hMs
    exact x_iret dX9_judge_29 hret (by repeat' (first | with_reducible exact kE.rf | with_reducible exact kE_SS | with_reducible apply kE_A | with_reducible apply kE_I | with_reducible apply kE_L | with_reducible apply kE_R | with_reducible apply kE_O | with_reducible apply kE_S)) (⟨fun q => absurd q (by first | exact fun q => absurd q.1.1 (Int32.not_le.mpr C1) | exact fun q => bi_0.mp C8 q.1.2.1 | exact fun q => bi_0.mp C20 q.1.2.2), fun _ => by rw [show rcJ (mA M (ad 7)) i k n = 0 from (by first | exact rcJ_a (fun q => absurd q.1 (Int32.not_le.mpr C1)) | exact rcJ_a (fun q => bi_0.mp C8 q.2.1) | exact rcJ_a (fun q => bi_0.mp C20 q.2.2))]; exact ⟨rfl, rfl⟩⟩)
  · have C1 := c1_6
    refine x_iload_n (n' := 5) dX9_judge_4 rfl rfl rfl ?_
    refine x_callS (n' := 8) (n := 1) (c_X9_isShelf l G _ k) dX9_judge_5 (lw_S q3364 q3365 q109 q3366) (by decide +kernel) ⟨(Nat.le_of_ble_eq_true rfl), (Nat.le_of_ble_eq_true rfl)⟩ rfl rfl (Nat.le_of_ble_eq_true rfl) (by first | exact Nat.le_of_ble_eq_true rfl | omega) (by first | exact Nat.le_of_ble_eq_true rfl | omega) rfl (fun v_11 M_12 h_14 hE_13 => ?_)
    obtain ⟨rfl, hMs⟩ := h_14
    have hMs := hMs.symm
    subst hMs
    refine x_if_eq (n' := 11) (tgt := 23) dX9_judge_8 (by decide) rfl (fun c8_15 => ?_) (fun c8_15 => ?_)
    · have C8 := c8_15
      refine x_aload_n (n' := 24) dX9_judge_23 rfl rfl rfl ?_
      refine x_bipush (n' := 26) (v := -102) dX9_judge_24 (by decide) rfl ?_
      refine x_topv (y := -(nI (102 + 0))) (by decide) ?_
      refine x_callV (n' := 29) (n := 1) (K := 9) (c_X9_refused l G _ m ad (by repeat' (first | with_reducible exact hS | with_reducible apply MS.sA | with_reducible apply MS.sI | with_reducible apply MS.sL | with_reducible apply MS.sc)) 0 (by decide)) dX9_judge_26 (by repeat' (first | with_reducible exact km | with_reducible apply mK_A | with_reducible apply mK_I | with_reducible apply mK_L | with_reducible apply mK_R | with_reducible apply mK_O | with_reducible apply mK_S)) rfl (lw_V q3324 q3326 qs48 q109 q3327) (by decide +kernel) ⟨(Nat.le_of_ble_eq_true rfl), (Nat.le_of_ble_eq_true rfl)⟩ rfl rfl (Nat.le_of_ble_eq_true rfl) (by first | exact Nat.le_of_ble_eq_true rfl | omega) (by first | exact Nat.le_of_ble_eq_true rfl | omega) rfl (fun v_16 M_17 h_19 hE_18 => ?_)
      obtain ⟨rfl, hMs⟩ := h_19
      have hMs := hMs.symm
      subst hMs
      exact x_iret dX9_judge_29 hret (by repeat' (first | with_reducible exact kE.rf | with_reducible exact kE_SS | with_reducible apply kE_A | with_reducible apply kE_I | with_reducible apply kE_L | with_reducible apply kE_R | with_reducible apply kE_O | with_reducible apply kE_S)) (⟨fun q => absurd q (by first | exact fun q => absurd q.1.1 (Int32.not_le.mpr C1) | exact fun q => bi_0.mp C8 q.1.2.1 | exact fun q => bi_0.mp C20 q.1.2.2), fun _ => by rw [show rcJ (mA M (ad 7)) i k n = 0 from (by first | exact rcJ_a (fun q => absurd q.1 (Int32.not_le.mpr C1)) | exact rcJ_a (fun q => bi_0.mp C8 q.2.1) | exact rcJ_a (fun q => bi_0.mp C20 q.2.2))]; exact ⟨rfl, rfl⟩⟩)
    · have C8 := c8_15
      refine x_iload_n (n' := 12) dX9_judge_11 rfl rfl rfl ?_
      refine x_i2l (n' := 13) dX9_judge_12 rfl rfl ?_
      refine x_lconst (n' := 14) (v := 0) dX9_judge_13 (by decide) rfl ?_
      refine x_ldc2 (n' := 17) q3605 dX9_judge_14 rfl ?_
      refine x_callS (n' := 20) (n := 3) (c_X9_in l G _ _ _ _) dX9_judge_17 (lw_S q3321 q3322 q109 q3323) (by decide +kernel) ⟨(Nat.le_of_ble_eq_true rfl), (Nat.le_of_ble_eq_true rfl)⟩ rfl rfl (Nat.le_of_ble_eq_true rfl) (by first | exact Nat.le_of_ble_eq_true rfl | omega) (by first | exact Nat.le_of_ble_eq_true rfl | omega) rfl (fun v_20 M_21 h_23 hE_22 => ?_)
      obtain ⟨rfl, hMs⟩ := h_23
      have hMs := hMs.symm
      subst hMs
      rw [k_in3 (x := 0) (y := 20) (by decide) (by decide)]
      refine x_if_ne (n' := 23) (tgt := 30) dX9_judge_20 (by decide) rfl (fun c20_24 => ?_) (fun c20_24 => ?_)
      · have C20 := c20_24
        have hj0 : okJ0 i k n := ⟨Int32.not_lt.mp C1, bi_n0 C8, bi_n0 C20⟩
        have hn7 := nn_le (n := 7) hj0.2.1.1 hj0.2.1.2 (by decide)
        have hn20 := nn_le (n := 20) hj0.2.2.1 hj0.2.2.2 (by decide)
        refine x_loc (i := 1) rfl (nn_of hj0.1) (by dsimp only [List.set] <;> rfl) ?_
        refine x_loc (i := 2) rfl (nn_of hj0.2.1.1) (by dsimp only [List.set] <;> rfl) ?_
        refine x_loc (i := 3) rfl (nn_of hj0.2.2.1) (by dsimp only [List.set] <;> rfl) ?_
        refine x_aload_n (n' := 31) dX9_judge_30 rfl rfl rfl ?_
        refine x_getRs (n' := 34) (b := (ad 7)) dX9_judge_31 (by repeat' (first | with_reducible exact km | with_reducible apply mK_A | with_reducible apply mK_I | with_reducible apply mK_L | with_reducible apply mK_R | with_reducible apply mK_O | with_reducible apply mK_S)) ffX9_41_9 rfl (by repeat' (first | with_reducible exact hr_sorts | with_reducible apply mR_A | with_reducible apply mR_I | with_reducible apply mR_L | with_reducible apply mR_S)) rfl ?_
        refine x_iload_n (n' := 35) dX9_judge_34 rfl rfl rfl ?_
        refine x_ildk (n' := 36) (N := 8) dX9_judge_35 (by repeat' (first | with_reducible exact kk_sorts | with_reducible apply mK_A | with_reducible apply mK_I | with_reducible apply mK_L | with_reducible apply mK_R | with_reducible apply mK_O | with_reducible apply mK_S)) (by repeat' (first | with_reducible exact hn_sorts | with_reducible apply mN_A | with_reducible apply mN_I | with_reducible apply mN_L | with_reducible apply mN_R | with_reducible apply mN_O | with_reducible apply mN_S)) (by repeat' (first | with_reducible exact nl_0 | with_reducible exact nl_1 | with_reducible exact nl_2 | with_reducible exact nl_4 | with_reducible exact nl_15 | with_reducible exact nl_40 | with_reducible exact nl_909 | with_reducible exact rfl | apply i_add | apply i_mul)) (by omega) (by decide) (by first | with_reducible exact hl | (simp (disch := omega) only [mA_sA, mA_sI, mA_SC0, mA_SC1 hS, mA_SC5 hS, mA_SC6 hS, mA_SC10 hS, mA_SC11 hS, mA_SC12 hS, up_s, up_n, hl, if_false, ne_g_sorts, ne_g_sizes, ne_g_elements, ne_sorts_g, ne_sorts_sizes, ne_sorts_elements, ne_sizes_g, ne_sizes_sorts, ne_sizes_elements, ne_elements_g, ne_elements_sorts, ne_elements_sizes] <;> rfl) | rfl) rfl ?_
        refine x_iconst (n' := 37) (v := 4) dX9_judge_36 (by decide) rfl ?_
        refine x_icmp_le (n' := 40) (tgt := 47) dX9_judge_37 (by decide) rfl (fun c37_25 => ?_) (fun c37_25 => ?_)
        · have C37 := c37_25
          refine x_aload_n (n' := 48) dX9_judge_47 rfl rfl rfl ?_
          refine x_getRs (n' := 51) (b := (ad 7)) dX9_judge_48 (by repeat' (first | with_reducible exact km | with_reducible apply mK_A | with_reducible apply mK_I | with_reducible apply mK_L | with_reducible apply mK_R | with_reducible apply mK_O | with_reducible apply mK_S)) ffX9_41_9 rfl (by repeat' (first | with_reducible exact hr_sorts | with_reducible apply mR_A | with_reducible apply mR_I | with_reducible apply mR_L | with_reducible apply mR_S)) rfl ?_
          refine x_iload_n (n' := 52) dX9_judge_51 rfl rfl rfl ?_
          refine x_ildk (n' := 53) (N := 8) dX9_judge_52 (by repeat' (first | with_reducible exact kk_sorts | with_reducible apply mK_A | with_reducible apply mK_I | with_reducible apply mK_L | with_reducible apply mK_R | with_reducible apply mK_O | with_reducible apply mK_S)) (by repeat' (first | with_reducible exact hn_sorts | with_reducible apply mN_A | with_reducible apply mN_I | with_reducible apply mN_L | with_reducible apply mN_R | with_reducible apply mN_O | with_reducible apply mN_S)) (by repeat' (first | with_reducible exact nl_0 | with_reducible exact nl_1 | with_reducible exact nl_2 | with_reducible exact nl_4 | with_reducible exact nl_15 | with_reducible exact nl_40 | with_reducible exact nl_909 | with_reducible exact rfl | apply i_add | apply i_mul)) (by omega) (by decide) (by first | with_reducible exact hl | (simp (disch := omega) only [mA_sA, mA_sI, mA_SC0, mA_SC1 hS, mA_SC5 hS, mA_SC6 hS, mA_SC10 hS, mA_SC11 hS, mA_SC12 hS, up_s, up_n, hl, if_false, ne_g_sorts, ne_g_sizes, ne_g_elements, ne_sorts_g, ne_sorts_sizes, ne_sorts_elements, ne_sizes_g, ne_sizes_sorts, ne_sizes_elements, ne_elements_g, ne_elements_sorts, ne_elements_sizes] <;> rfl) | rfl) rfl ?_
          refine x_if_ge (n' := 56) (tgt := 63) dX9_judge_53 (by decide) rfl (fun c53_26 => ?_) (fun c53_26 => ?_)
          · have C53 := c53_26
            refine x_iconst (n' := 64) (v := 2) dX9_judge_63 (by decide) rfl ?_
            refine x_iload_n (n' := 65) dX9_judge_64 rfl rfl rfl ?_
            refine x_imul (n' := 66) dX9_judge_65 rfl ?_
            refine x_aload_n (n' := 67) dX9_judge_66 rfl rfl rfl ?_
            refine x_getRs (n' := 70) (b := (ad 8)) dX9_judge_67 (by repeat' (first | with_reducible exact km | with_reducible apply mK_A | with_reducible apply mK_I | with_reducible apply mK_L | with_reducible apply mK_R | with_reducible apply mK_O | with_reducible apply mK_S)) ffX9_44_9 rfl (by repeat' (first | with_reducible exact hr_sizes | with_reducible apply mR_A | with_reducible apply mR_I | with_reducible apply mR_L | with_reducible apply mR_S)) rfl ?_
            refine x_iload_n (n' := 71) dX9_judge_70 rfl rfl rfl ?_
            refine x_ildk (n' := 72) (N := 8) dX9_judge_71 (by repeat' (first | with_reducible exact kk_sizes | with_reducible apply mK_A | with_reducible apply mK_I | with_reducible apply mK_L | with_reducible apply mK_R | with_reducible apply mK_O | with_reducible apply mK_S)) (by repeat' (first | with_reducible exact hn_sizes | with_reducible apply mN_A | with_reducible apply mN_I | with_reducible apply mN_L | with_reducible apply mN_R | with_reducible apply mN_O | with_reducible apply mN_S)) (by repeat' (first | with_reducible exact nl_0 | with_reducible exact nl_1 | with_reducible exact nl_2 | with_reducible exact nl_4 | with_reducible exact nl_15 | with_reducible exact nl_40 | with_reducible exact nl_909 | with_reducible exact rfl | apply i_add | apply i_mul)) (by omega) (by decide) (by first | with_reducible exact hl | (simp (disch := omega) only [mA_sA, mA_sI, mA_SC0, mA_SC1 hS, mA_SC5 hS, mA_SC6 hS, mA_SC10 hS, mA_SC11 hS, mA_SC12 hS, up_s, up_n, hl, if_false, ne_g_sorts, ne_g_sizes, ne_g_elements, ne_sorts_g, ne_sorts_sizes, ne_sorts_elements, ne_sizes_g, ne_sizes_sorts, ne_sizes_elements, ne_elements_g, ne_elements_sorts, ne_elements_sizes] <;> rfl) | rfl) rfl ?_
            refine x_icmp_le (n' := 75) (tgt := 82) dX9_judge_72 (by decide) rfl (fun c72_27 => ?_) (fun c72_27 => ?_)
            · have C72 := c72_27
              have hok : okJ (mA M (ad 7)) (mA M (ad 8)) i k n := ⟨hj0, C37, Int32.not_lt.mpr C53, by rw [nn_of hj0.2.2.1]; exact C72⟩
              refine x_iconst (n' := 83) (v := 0) dX9_judge_82 (by decide) rfl ?_
              refine x_istore (n' := 85) dX9_judge_83 (Nat.le_of_ble_eq_true rfl) rfl (by dsimp only [List.set] <;> rfl) rfl ?_
              exact x_drop (cut85 (nn n + 1) 0 (by omega) (by omega) hok (by rw [Nat.sub_zero])) ⟨rfl, ⟨rfl, ⟨rfl, ⟨rfl, ⟨rfl, trivial⟩⟩⟩⟩⟩
            · have C72 := c72_27
              refine x_aload_n (n' := 76) dX9_judge_75 rfl rfl rfl ?_
              refine x_bipush (n' := 78) (v := -102) dX9_judge_76 (by decide) rfl ?_
              refine x_topv (y := -(nI (102 + 0))) (by decide) ?_
              refine x_callV (n' := 81) (n := 1) (K := 9) (c_X9_refused l G _ m ad (by repeat' (first | with_reducible exact hS | with_reducible apply MS.sA | with_reducible apply MS.sI | with_reducible apply MS.sL | with_reducible apply MS.sc)) 0 (by decide)) dX9_judge_78 (by repeat' (first | with_reducible exact km | with_reducible apply mK_A | with_reducible apply mK_I | with_reducible apply mK_L | with_reducible apply mK_R | with_reducible apply mK_O | with_reducible apply mK_S)) rfl (lw_V q3324 q3326 qs48 q109 q3327) (by decide +kernel) ⟨(Nat.le_of_ble_eq_true rfl), (Nat.le_of_ble_eq_true rfl)⟩ rfl rfl (Nat.le_of_ble_eq_true rfl) (by first | exact Nat.le_of_ble_eq_true rfl | omega) (by first | exact Nat.le_of_ble_eq_true rfl | omega) rfl (fun v_28 M_29 h_31 hE_30 => ?_)
              obtain ⟨rfl, hMs⟩ := h_31
              have hMs := hMs.symm
              subst hMs
              exact x_iret dX9_judge_81 hret (by repeat' (first | with_reducible exact kE.rf | with_reducible exact kE_SS | with_reducible apply kE_A | with_reducible apply kE_I | with_reducible apply kE_L | with_reducible apply kE_R | with_reducible apply kE_O | with_reducible apply kE_S)) (⟨fun q => absurd q (by exact fun q => C72 (by rw [← nn_of hj0.2.2.1]; exact q.2.2.2)), fun _ => by rw [show rcJ (mA M (ad 7)) i k n = 0 from (by exact rcJ_d hj0 C37 (Int32.not_lt.mpr C53))]; exact ⟨rfl, rfl⟩⟩)
          · have C53 := c53_26
            refine x_aload_n (n' := 57) dX9_judge_56 rfl rfl rfl ?_
            refine x_bipush (n' := 59) (v := -104) dX9_judge_57 (by decide) rfl ?_
            refine x_topv (y := -(nI (102 + 2))) (by decide) ?_
            refine x_callV (n' := 62) (n := 1) (K := 9) (c_X9_refused l G _ m ad (by repeat' (first | with_reducible exact hS | with_reducible apply MS.sA | with_reducible apply MS.sI | with_reducible apply MS.sL | with_reducible apply MS.sc)) 2 (by decide)) dX9_judge_59 (by repeat' (first | with_reducible exact km | with_reducible apply mK_A | with_reducible apply mK_I | with_reducible apply mK_L | with_reducible apply mK_R | with_reducible apply mK_O | with_reducible apply mK_S)) rfl (lw_V q3324 q3326 qs48 q109 q3327) (by decide +kernel) ⟨(Nat.le_of_ble_eq_true rfl), (Nat.le_of_ble_eq_true rfl)⟩ rfl rfl (Nat.le_of_ble_eq_true rfl) (by first | exact Nat.le_of_ble_eq_true rfl | omega) (by first | exact Nat.le_of_ble_eq_true rfl | omega) rfl (fun v_32 M_33 h_35 hE_34 => ?_)
            obtain ⟨rfl, hMs⟩ := h_35
            have hMs := hMs.symm
            subst hMs
            exact x_iret dX9_judge_62 hret (by repeat' (first | with_reducible exact kE.rf | with_reducible exact kE_SS | with_reducible apply kE_A | with_reducible apply kE_I | with_reducible apply kE_L | with_reducible apply kE_R | with_reducible apply kE_O | with_reducible apply kE_S)) (⟨fun q => absurd q (by exact fun q => q.2.2.1 (Int32.not_le.mp C53)), fun _ => by rw [show rcJ (mA M (ad 7)) i k n = 2 from (by exact rcJ_c hj0 C37 (Int32.not_le.mp C53))]; exact ⟨rfl, rfl⟩⟩)
        · have C37 := c37_25
          refine x_aload_n (n' := 41) dX9_judge_40 rfl rfl rfl ?_
          refine x_bipush (n' := 43) (v := -103) dX9_judge_41 (by decide) rfl ?_
          refine x_topv (y := -(nI (102 + 1))) (by decide) ?_
          refine x_callV (n' := 46) (n := 1) (K := 9) (c_X9_refused l G _ m ad (by repeat' (first | with_reducible exact hS | with_reducible apply MS.sA | with_reducible apply MS.sI | with_reducible apply MS.sL | with_reducible apply MS.sc)) 1 (by decide)) dX9_judge_43 (by repeat' (first | with_reducible exact km | with_reducible apply mK_A | with_reducible apply mK_I | with_reducible apply mK_L | with_reducible apply mK_R | with_reducible apply mK_O | with_reducible apply mK_S)) rfl (lw_V q3324 q3326 qs48 q109 q3327) (by decide +kernel) ⟨(Nat.le_of_ble_eq_true rfl), (Nat.le_of_ble_eq_true rfl)⟩ rfl rfl (Nat.le_of_ble_eq_true rfl) (by first | exact Nat.le_of_ble_eq_true rfl | omega) (by first | exact Nat.le_of_ble_eq_true rfl | omega) rfl (fun v_36 M_37 h_39 hE_38 => ?_)
          obtain ⟨rfl, hMs⟩ := h_39
          have hMs := hMs.symm
          subst hMs
          exact x_iret dX9_judge_46 hret (by repeat' (first | with_reducible exact kE.rf | with_reducible exact kE_SS | with_reducible apply kE_A | with_reducible apply kE_I | with_reducible apply kE_L | with_reducible apply kE_R | with_reducible apply kE_O | with_reducible apply kE_S)) (⟨fun q => absurd q (by exact fun q => C37 q.2.1), fun _ => by rw [show rcJ (mA M (ad 7)) i k n = 1 from (by exact rcJ_b hj0 C37)]; exact ⟨rfl, rfl⟩⟩)
      · have C20 := c20_24
        refine x_aload_n (n' := 24) dX9_judge_23 rfl rfl rfl ?_
        refine x_bipush (n' := 26) (v := -102) dX9_judge_24 (by decide) rfl ?_
        refine x_topv (y := -(nI (102 + 0))) (by decide) ?_
        refine x_callV (n' := 29) (n := 1) (K := 9) (c_X9_refused l G _ m ad (by repeat' (first | with_reducible exact hS | with_reducible apply MS.sA | with_reducible apply MS.sI | with_reducible apply MS.sL | with_reducible apply MS.sc)) 0 (by decide)) dX9_judge_26 (by repeat' (first | with_reducible exact km | with_reducible apply mK_A | with_reducible apply mK_I | with_reducible apply mK_L | with_reducible apply mK_R | with_reducible apply mK_O | with_reducible apply mK_S)) rfl (lw_V q3324 q3326 qs48 q109 q3327) (by decide +kernel) ⟨(Nat.le_of_ble_eq_true rfl), (Nat.le_of_ble_eq_true rfl)⟩ rfl rfl (Nat.le_of_ble_eq_true rfl) (by first | exact Nat.le_of_ble_eq_true rfl | omega) (by first | exact Nat.le_of_ble_eq_true rfl | omega) rfl (fun v_40 M_41 h_43 hE_42 => ?_)
        obtain ⟨rfl, hMs⟩ := h_43
        have hMs := hMs.symm
        subst hMs
        exact x_iret dX9_judge_29 hret (by repeat' (first | with_reducible exact kE.rf | with_reducible exact kE_SS | with_reducible apply kE_A | with_reducible apply kE_I | with_reducible apply kE_L | with_reducible apply kE_R | with_reducible apply kE_O | with_reducible apply kE_S)) (⟨fun q => absurd q (by first | exact fun q => absurd q.1.1 (Int32.not_le.mpr C1) | exact fun q => bi_0.mp C8 q.1.2.1 | exact fun q => bi_0.mp C20 q.1.2.2), fun _ => by rw [show rcJ (mA M (ad 7)) i k n = 0 from (by first | exact rcJ_a (fun q => absurd q.1 (Int32.not_le.mpr C1)) | exact rcJ_a (fun q => bi_0.mp C8 q.2.1) | exact rcJ_a (fun q => bi_0.mp C20 q.2.2))]; exact ⟨rfl, rfl⟩⟩)
