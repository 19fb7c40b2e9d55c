theorem ffX9_47_9 : FF "KeptLightModel" 47 9 19 "KeptLightModel" := ⟨by decide, by decide, q3271, Or.inl rfl⟩
set_option maxHeartbeats 600000 in
set_option maxRecDepth 100000 in
theorem c_X9_takesPlan (l : Launch) (G : kG) (M : kM) (m : Nat) (ad : Nat → Nat) (hS : MS M m ad) (g : gT) (sa : Nat → gT) (sf : Nat → Int32) (k : Nat) (hk : k < 8) : Kt l G yX9_takesPlan cX9_takesPlan 3 none 0 0 [.ref m, .int (nI k)] (SC M m ad g sa sf) (0) (0) (fun v M2 => v = none ∧ M2 = SC M m ad (plB g (elP (mL M (ad 13)) k) 24) sa sf) := by
  refine Kt.of (own := "KeptLightModel") (L := [some (.ref m), some (.int (nI k)), none]) (by decide +kernel) rfl (Nat.le_of_ble_eq_true rfl) rfl ?_
  intro pp ee ss mm args below meth cd hmn hret
  have km := hS.1
  obtain ⟨hr_g, kk_g, hn_g⟩ := hS.2.1 0 (by decide)
  have hr_g : mR M (fc 9 0) m = some (ad 0) := hr_g
  have hn_g : mN M (ad 0) = 2509 := hn_g
  have kk_g : mK M (ad 0) = some 120 := kk_g
  obtain ⟨hr_elements, kk_elements, hn_elements⟩ := hS.2.1 13 (by decide)
  have hr_elements : mR M (fc 9 19) m = some (ad 13) := hr_elements
  have hn_elements : mN M (ad 13) = 320 := hn_elements
  have kk_elements : mK M (ad 13) = some 124 := kk_elements
  have ne_g_elements := hS.eqf 0 13 (by decide) (by decide) (by decide)
  have ne_elements_g := hS.eqf 13 0 (by decide) (by decide) (by decide)
  have cut2 : ∀ (fuel : Nat) (i : Nat) (h1 : 24 - i < fuel) (h2 : i ≤ 24), Wx pp l ee { frames := 0, cells := 0, slots := 0, locals := 0 } ss mm args below meth cd "KeptLightModel" cX9_takesPlan 3 G (MQ below (KQ G (SC M m ad g sa sf) (fun v M2 => v = none ∧ M2 = SC M m ad (plB g (elP (mL M (ad 13)) k) 24) sa sf)) args ss (0) (0) (kA G)) 2 [some (.ref m), some (.int (nI k)), some (.int (nI i))] [] (SC M m ad (plB g (elP (mL M (ad 13)) k) i) sa sf) (0) (0) := by
    intro fuel
    induction fuel with
    | zero => intro i h1 h2; omega
    | succ fuel ih =>
      intro i h1 h2
      refine x_iload_n (n' := 3) dX9_takesPlan_2 rfl rfl rfl ?_
      refine x_bipush (n' := 5) (v := 24) dX9_takesPlan_3 (by decide) rfl ?_
      refine x_icmp_ge (n' := 8) (tgt := 35) dX9_takesPlan_5 (by decide) rfl (fun c5_1 => ?_) (fun c5_1 => ?_)
      · have n_c5_1 := (cv_le (by repeat' (first | with_reducible exact nl_0 | with_reducible exact nl_24 | with_reducible exact nl_40 | with_reducible exact nl_85 | with_reducible exact rfl | apply i_add | apply i_mul)) (by repeat' (first | with_reducible exact nl_0 | with_reducible exact nl_24 | with_reducible exact nl_40 | with_reducible exact nl_85 | with_reducible exact rfl | apply i_add | apply i_mul)) (by omega) (by omega)).mp c5_1
        exact x_vret dX9_takesPlan_35 hret (by repeat' (first | with_reducible exact kE.rf | with_reducible exact kE_SS | with_reducible apply kE_A | with_reducible apply kE_I | with_reducible apply kE_L | with_reducible apply kE_R | with_reducible apply kE_O | with_reducible apply kE_S)) (by rw [show i = 24 by omega]; exact ⟨rfl, rfl⟩)
      · have n_c5_1 := (not_congr (cv_le (by repeat' (first | with_reducible exact nl_0 | with_reducible exact nl_24 | with_reducible exact nl_40 | with_reducible exact nl_85 | with_reducible exact rfl | apply i_add | apply i_mul)) (by repeat' (first | with_reducible exact nl_0 | with_reducible exact nl_24 | with_reducible exact nl_40 | with_reducible exact nl_85 | with_reducible exact rfl | apply i_add | apply i_mul)) (by omega) (by omega))).mp c5_1
        refine x_aload_n (n' := 9) dX9_takesPlan_8 rfl rfl rfl ?_
        refine x_getRs (n' := 12) (b := (ad 0)) dX9_takesPlan_9 (by repeat' (first | with_reducible exact km | with_reducible apply mK_A | with_reducible apply mK_I | with_reducible apply mK_L | with_reducible apply mK_R | with_reducible apply mK_O | with_reducible apply mK_S)) ffX9_9_9 rfl (by repeat' (first | with_reducible exact hr_g | with_reducible apply mR_A | with_reducible apply mR_I | with_reducible apply mR_L | with_reducible apply mR_S)) rfl ?_
        refine x_bipush (n' := 14) (v := 85) dX9_takesPlan_12 (by decide) rfl ?_
        refine x_iload_n (n' := 15) dX9_takesPlan_14 rfl rfl rfl ?_
        refine x_iadd (n' := 16) dX9_takesPlan_15 rfl ?_
        refine x_aload_n (n' := 17) dX9_takesPlan_16 rfl rfl rfl ?_
        refine x_getRs (n' := 20) (b := (ad 13)) dX9_takesPlan_17 (by repeat' (first | with_reducible exact km | with_reducible apply mK_A | with_reducible apply mK_I | with_reducible apply mK_L | with_reducible apply mK_R | with_reducible apply mK_O | with_reducible apply mK_S)) ffX9_47_9 rfl (by repeat' (first | with_reducible exact hr_elements | with_reducible apply mR_A | with_reducible apply mR_I | with_reducible apply mR_L | with_reducible apply mR_S)) rfl ?_
        refine x_bipush (n' := 22) (v := 40) dX9_takesPlan_20 (by decide) rfl ?_
        refine x_iload_n (n' := 23) dX9_takesPlan_22 rfl rfl rfl ?_
        refine x_imul (n' := 24) dX9_takesPlan_23 rfl ?_
        refine x_iload_n (n' := 25) dX9_takesPlan_24 rfl rfl rfl ?_
        refine x_iadd (n' := 26) dX9_takesPlan_25 rfl ?_
        refine x_lldk (n' := 27) (N := 320) dX9_takesPlan_26 (by repeat' (first | with_reducible exact kk_elements | with_reducible apply mK_A | with_reducible apply mK_I | with_reducible apply mK_L | with_reducible apply mK_R | with_reducible apply mK_O | with_reducible apply mK_S)) (by repeat' (first | with_reducible exact hn_elements | with_reducible apply mN_A | with_reducible apply mN_I | with_reducible apply mN_L | with_reducible apply mN_R | with_reducible apply mN_O | with_reducible apply mN_S)) (by repeat' (first | with_reducible exact nl_0 | with_reducible exact nl_24 | with_reducible exact nl_40 | with_reducible exact nl_85 | with_reducible exact rfl | apply i_add | apply i_mul)) (by omega) (by decide) (congrFun (congrFun mL_SC (ad 13)) _) rfl ?_
        refine x_l2i (n' := 28) dX9_takesPlan_27 rfl rfl ?_
        refine x_iastk (n' := 29) (N := 2509) dX9_takesPlan_28 (by repeat' (first | with_reducible exact kk_g | with_reducible apply mK_A | with_reducible apply mK_I | with_reducible apply mK_L | with_reducible apply mK_R | with_reducible apply mK_O | with_reducible apply mK_S)) (by repeat' (first | with_reducible exact hn_g | with_reducible apply mN_A | with_reducible apply mN_I | with_reducible apply mN_L | with_reducible apply mN_R | with_reducible apply mN_O | with_reducible apply mN_S)) (by repeat' (first | with_reducible exact nl_0 | with_reducible exact nl_24 | with_reducible exact nl_40 | with_reducible exact nl_85 | with_reducible exact rfl | apply i_add | apply i_mul)) (by omega) (by decide) (by first | with_reducible exact mA_sA | with_reducible exact mA_SC0 | with_reducible exact mA_SC1 hS | with_reducible exact mA_SC5 hS | with_reducible exact mA_SC6 hS | with_reducible exact mA_SC10 hS | with_reducible exact mA_SC11 hS | with_reducible exact mA_SC12 hS | with_reducible exact mA_sI_sA | with_reducible exact mA_sI3_sA | rfl) (by first | with_reducible exact SC_A0 | with_reducible exact SC_A1 hS | with_reducible exact SC_A5 hS | with_reducible exact SC_A6 hS | with_reducible exact SC_A10 hS | with_reducible exact SC_A11 hS | with_reducible exact SC_A12 hS | with_reducible exact sA_sA | with_reducible exact sA_sI_sA | with_reducible exact sA_sI3_sA | rfl) rfl ?_
        refine x_iinc (n' := 32) dX9_takesPlan_29 rfl (by first | exact nI_inc _ | exact nI_decp (by omega) | exact i_inc _ | rfl) (Nat.le_of_ble_eq_true rfl) rfl (by dsimp only [List.set] <;> rfl) rfl ?_
        refine x_goto (tgt := 2) dX9_takesPlan_32 (by decide) ?_
        rw [show (mL M (ad 13) (40 * k + i)).toInt32 = elP (mL M (ad 13)) k i from rfl, plB_s]
        exact x_drop (ih (i + 1) (by omega) (by omega)) ⟨rfl, ⟨rfl, ⟨rfl, trivial⟩⟩⟩
  refine x_iconst (n' := 1) (v := 0) dX9_takesPlan_0 (by decide) rfl ?_
  refine x_istore_n (n' := 2) dX9_takesPlan_1 rfl (Nat.le_of_ble_eq_true rfl) rfl (by dsimp only [List.set] <;> rfl) rfl ?_
  refine x_mem (M2 := SC M m ad (plB g (elP (mL M (ad 13)) k) 0) sa sf) (by rw [plB_0]) ?_
  exact x_drop (cut2 25 0 (by omega) (by omega)) ⟨rfl, ⟨rfl, ⟨rfl, trivial⟩⟩⟩

theorem ffX9_44_9 : FF "KeptLightModel" 44 9 18 "KeptLightModel" := ⟨by decide, by decide, q3270, Or.inl rfl⟩
set_option maxHeartbeats 600000 in
set_option maxRecDepth 100000 in
theorem c_X9_isPlan (l : Launch) (G : kG) (M : kM) (m : Nat) (ad : Nat → Nat) (hS : MS M m ad) (k nk : Nat) (hk : k < 8) (hnk : mA M (ad 0) 13 = nI nk) : Kt l G yX9_isPlan cX9_isPlan 3 (some .int) 1 25 [.ref m, .int (nI k)] M (0) (0) (fun v M2 => v = some (.int (ipG (mA M (ad 7)) (mA M (ad 8)) (mL M (ad 13)) nk k)) ∧ M2 = M) := by
  refine Kt.of (own := "KeptLightModel") (L := [some (.ref m), some (.int (nI k)), none]) (by decide +kernel) rfl (Nat.le_of_ble_eq_true rfl) rfl ?_
  intro pp ee ss mm args below meth cd hmn hret
  have km := hS.1
  obtain ⟨hr_g, kk_g, hn_g⟩ := hS.2.1 0 (by decide)
  have hr_g : mR M (fc 9 0) m = some (ad 0) := hr_g
  have hn_g : mN M (ad 0) = 2509 := hn_g
  have kk_g : mK M (ad 0) = some 120 := kk_g
  obtain ⟨hr_sorts, kk_sorts, hn_sorts⟩ := hS.2.1 7 (by decide)
  have hr_sorts : mR M (fc 9 17) m = some (ad 7) := hr_sorts
  have hn_sorts : mN M (ad 7) = 8 := hn_sorts
  have kk_sorts : mK M (ad 7) = some 120 := kk_sorts
  obtain ⟨hr_sizes, kk_sizes, hn_sizes⟩ := hS.2.1 8 (by decide)
  have hr_sizes : mR M (fc 9 18) m = some (ad 8) := hr_sizes
  have hn_sizes : mN M (ad 8) = 8 := hn_sizes
  have kk_sizes : mK M (ad 8) = some 120 := kk_sizes
  obtain ⟨hr_elements, kk_elements, hn_elements⟩ := hS.2.1 13 (by decide)
  have hr_elements : mR M (fc 9 19) m = some (ad 13) := hr_elements
  have hn_elements : mN M (ad 13) = 320 := hn_elements
  have kk_elements : mK M (ad 13) = some 124 := kk_elements
  have ne_g_sorts := hS.eqf 0 7 (by decide) (by decide) (by decide)
  have ne_g_sizes := hS.eqf 0 8 (by decide) (by decide) (by decide)
  have ne_g_elements := hS.eqf 0 13 (by decide) (by decide) (by decide)
  have ne_sorts_g := hS.eqf 7 0 (by decide) (by decide) (by decide)
  have ne_sorts_sizes := hS.eqf 7 8 (by decide) (by decide) (by decide)
  have ne_sorts_elements := hS.eqf 7 13 (by decide) (by decide) (by decide)
  have ne_sizes_g := hS.eqf 8 0 (by decide) (by decide) (by decide)
  have ne_sizes_sorts := hS.eqf 8 7 (by decide) (by decide) (by decide)
  have ne_sizes_elements := hS.eqf 8 13 (by decide) (by decide) (by decide)
  have ne_elements_g := hS.eqf 13 0 (by decide) (by decide) (by decide)
  have ne_elements_sorts := hS.eqf 13 7 (by decide) (by decide) (by decide)
  have ne_elements_sizes := hS.eqf 13 8 (by decide) (by decide) (by decide)
  have cut27 : ∀ (fuel : Nat) (i : Nat) (h1 : 24 - i < fuel) (h2 : i ≤ 24) (h3 : ∀ t, t < i → ipP (mL M (ad 13)) nk k t) (h4 : 0 < i → 24 ≤ (mA M (ad 8)) k) (C7 : (mA M (ad 7)) k ≤ 4) (C19 : ¬ (mA M (ad 7)) k < 0), Wx pp l ee { frames := 1, cells := 0, slots := 0, locals := 25 } ss mm args below meth cd "KeptLightModel" cX9_isPlan 3 G (MQ below (KQ G M (fun v M2 => v = some (.int (ipG (mA M (ad 7)) (mA M (ad 8)) (mL M (ad 13)) nk k)) ∧ M2 = M)) args ss (0) (0) (kA G)) 27 [some (.ref m), some (.int (nI k)), some (.int (nI i))] [] (M) (0) (0) := by
    intro fuel
    induction fuel with
    | zero => intro i h1 h2 h3 h4 C7 C19; omega
    | succ fuel ih =>
      intro i h1 h2 h3 h4 C7 C19
      refine x_iload_n (n' := 28) dX9_isPlan_27 rfl rfl rfl ?_
      refine x_bipush (n' := 30) (v := 24) dX9_isPlan_28 (by decide) rfl ?_
      refine x_icmp_ge (n' := 33) (tgt := 83) dX9_isPlan_30 (by decide) rfl (fun c30_1 => ?_) (fun c30_1 => ?_)
      · have n_c30_1 := (cv_le (by repeat' (first | with_reducible exact nl_0 | with_reducible exact nl_1 | with_reducible exact nl_4 | with_reducible exact nl_13 | with_reducible exact nl_24 | with_reducible exact nl_40 | with_reducible exact rfl | apply i_add | apply i_mul)) (by repeat' (first | with_reducible exact nl_0 | with_reducible exact nl_1 | with_reducible exact nl_4 | with_reducible exact nl_13 | with_reducible exact nl_24 | with_reducible exact nl_40 | with_reducible exact rfl | apply i_add | apply i_mul)) (by omega) (by omega)).mp c30_1
        refine x_iconst (n' := 84) (v := 0) dX9_isPlan_83 (by decide) rfl ?_
        exact x_iret dX9_isPlan_84 hret (by repeat' (first | with_reducible exact kE.rf | with_reducible exact kE_SS | with_reducible apply kE_A | with_reducible apply kE_I | with_reducible apply kE_L | with_reducible apply kE_R | with_reducible apply kE_O | with_reducible apply kE_S)) (⟨congrArg (fun z => some (Value.int z)) (ipG_d C7 C19 ⟨h4 (by omega), fun t q => h3 t (by omega)⟩), rfl⟩)
      · have n_c30_1 := (not_congr (cv_le (by repeat' (first | with_reducible exact nl_0 | with_reducible exact nl_1 | with_reducible exact nl_4 | with_reducible exact nl_13 | with_reducible exact nl_24 | with_reducible exact nl_40 | with_reducible exact rfl | apply i_add | apply i_mul)) (by repeat' (first | with_reducible exact nl_0 | with_reducible exact nl_1 | with_reducible exact nl_4 | with_reducible exact nl_13 | with_reducible exact nl_24 | with_reducible exact nl_40 | with_reducible exact rfl | apply i_add | apply i_mul)) (by omega) (by omega))).mp c30_1
        refine x_aload_n (n' := 34) dX9_isPlan_33 rfl rfl rfl ?_
        refine x_getRs (n' := 37) (b := (ad 8)) dX9_isPlan_34 (by repeat' (first | with_reducible exact km | with_reducible apply mK_A | with_reducible apply mK_I | with_reducible apply mK_L | with_reducible apply mK_R | with_reducible apply mK_O | with_reducible apply mK_S)) ffX9_44_9 rfl (by repeat' (first | with_reducible exact hr_sizes | with_reducible apply mR_A | with_reducible apply mR_I | with_reducible apply mR_L | with_reducible apply mR_S)) rfl ?_
        refine x_iload_n (n' := 38) dX9_isPlan_37 rfl rfl rfl ?_
        refine x_ildk (n' := 39) (N := 8) dX9_isPlan_38 (by repeat' (first | with_reducible exact kk_sizes | with_reducible apply mK_A | with_reducible apply mK_I | with_reducible apply mK_L | with_reducible apply mK_R | with_reducible apply mK_O | with_reducible apply mK_S)) (by repeat' (first | with_reducible exact hn_sizes | with_reducible apply mN_A | with_reducible apply mN_I | with_reducible apply mN_L | with_reducible apply mN_R | with_reducible apply mN_O | with_reducible apply mN_S)) (by repeat' (first | with_reducible exact nl_0 | with_reducible exact nl_1 | with_reducible exact nl_4 | with_reducible exact nl_13 | with_reducible exact nl_24 | with_reducible exact nl_40 | with_reducible exact rfl | apply i_add | apply i_mul)) (by omega) (by decide) (by first | with_reducible exact hnk | (simp (disch := omega) only [mA_sA, mA_sI, mA_SC0, mA_SC1 hS, mA_SC5 hS, mA_SC6 hS, mA_SC10 hS, mA_SC11 hS, mA_SC12 hS, up_s, up_n, hnk, if_false, ne_g_sorts, ne_g_sizes, ne_g_elements, ne_sorts_g, ne_sorts_sizes, ne_sorts_elements, ne_sizes_g, ne_sizes_sorts, ne_sizes_elements, ne_elements_g, ne_elements_sorts, ne_elements_sizes] <;> rfl) | rfl) rfl ?_
        refine x_bipush (n' := 41) (v := 24) dX9_isPlan_39 (by decide) rfl ?_
        refine x_icmp_lt (n' := 44) (tgt := 74) dX9_isPlan_41 (by decide) rfl (fun c41_2 => ?_) (fun c41_2 => ?_)
        · have C41 := c41_2
          refine x_bipush (n' := 76) (v := -102) dX9_isPlan_74 (by decide) rfl ?_
          exact x_iret dX9_isPlan_76 hret (by repeat' (first | with_reducible exact kE.rf | with_reducible exact kE_SS | with_reducible apply kE_A | with_reducible apply kE_I | with_reducible apply kE_L | with_reducible apply kE_R | with_reducible apply kE_O | with_reducible apply kE_S)) (⟨congrArg (fun z => some (Value.int z)) (ipG_c C7 C19 (fun q => by first | exact absurd q.1 (Int32.not_le.mpr C41) | exact bi_0.mp C71 (q.2 i (by omega)))), rfl⟩)
        · have C41 := c41_2
          refine x_aload_n (n' := 45) dX9_isPlan_44 rfl rfl rfl ?_
          refine x_getRs (n' := 48) (b := (ad 13)) dX9_isPlan_45 (by repeat' (first | with_reducible exact km | with_reducible apply mK_A | with_reducible apply mK_I | with_reducible apply mK_L | with_reducible apply mK_R | with_reducible apply mK_O | with_reducible apply mK_S)) ffX9_47_9 rfl (by repeat' (first | with_reducible exact hr_elements | with_reducible apply mR_A | with_reducible apply mR_I | with_reducible apply mR_L | with_reducible apply mR_S)) rfl ?_
          refine x_bipush (n' := 50) (v := 40) dX9_isPlan_48 (by decide) rfl ?_
          refine x_iload_n (n' := 51) dX9_isPlan_50 rfl rfl rfl ?_
          refine x_imul (n' := 52) dX9_isPlan_51 rfl ?_
          refine x_iload_n (n' := 53) dX9_isPlan_52 rfl rfl rfl ?_
          refine x_iadd (n' := 54) dX9_isPlan_53 rfl ?_
          refine x_lldk (n' := 55) (N := 320) dX9_isPlan_54 (by repeat' (first | with_reducible exact kk_elements | with_reducible apply mK_A | with_reducible apply mK_I | with_reducible apply mK_L | with_reducible apply mK_R | with_reducible apply mK_O | with_reducible apply mK_S)) (by repeat' (first | with_reducible exact hn_elements | with_reducible apply mN_A | with_reducible apply mN_I | with_reducible apply mN_L | with_reducible apply mN_R | with_reducible apply mN_O | with_reducible apply mN_S)) (by repeat' (first | with_reducible exact nl_0 | with_reducible exact nl_1 | with_reducible exact nl_4 | with_reducible exact nl_13 | with_reducible exact nl_24 | with_reducible exact nl_40 | with_reducible exact rfl | apply i_add | apply i_mul)) (by omega) (by decide) rfl rfl ?_
          refine x_ldc2 (n' := 58) q3372 dX9_isPlan_55 rfl ?_
          refine x_aload_n (n' := 59) dX9_isPlan_58 rfl rfl rfl ?_
          refine x_getRs (n' := 62) (b := (ad 0)) dX9_isPlan_59 (by repeat' (first | with_reducible exact km | with_reducible apply mK_A | with_reducible apply mK_I | with_reducible apply mK_L | with_reducible apply mK_R | with_reducible apply mK_O | with_reducible apply mK_S)) ffX9_9_9 rfl (by repeat' (first | with_reducible exact hr_g | with_reducible apply mR_A | with_reducible apply mR_I | with_reducible apply mR_L | with_reducible apply mR_S)) rfl ?_
          refine x_bipush (n' := 64) (v := 13) dX9_isPlan_62 (by decide) rfl ?_
          refine x_ildk (n' := 65) (N := 2509) dX9_isPlan_64 (by repeat' (first | with_reducible exact kk_g | with_reducible apply mK_A | with_reducible apply mK_I | with_reducible apply mK_L | with_reducible apply mK_R | with_reducible apply mK_O | with_reducible apply mK_S)) (by repeat' (first | with_reducible exact hn_g | with_reducible apply mN_A | with_reducible apply mN_I | with_reducible apply mN_L | with_reducible apply mN_R | with_reducible apply mN_O | with_reducible apply mN_S)) (by repeat' (first | with_reducible exact nl_0 | with_reducible exact nl_1 | with_reducible exact nl_4 | with_reducible exact nl_13 | with_reducible exact nl_24 | with_reducible exact nl_40 | with_reducible exact rfl | apply i_add | apply i_mul)) (by omega) (by decide) (by first | with_reducible exact hnk | (simp (disch := omega) only [mA_sA, mA_sI, mA_SC0, mA_SC1 hS, mA_SC5 hS, mA_SC6 hS, mA_SC10 hS, mA_SC11 hS, mA_SC12 hS, up_s, up_n, hnk, if_false, ne_g_sorts, ne_g_sizes, ne_g_elements, ne_sorts_g, ne_sorts_sizes, ne_sorts_elements, ne_sizes_g, ne_sizes_sorts, ne_sizes_elements, ne_elements_g, ne_elements_sorts, ne_elements_sizes] <;> rfl) | rfl) rfl ?_
          refine x_iconst (n' := 66) (v := 1) dX9_isPlan_65 (by decide) rfl ?_
          refine x_isub (n' := 67) dX9_isPlan_66 rfl ?_
          refine x_i2l (n' := 68) dX9_isPlan_67 rfl rfl ?_
          refine x_callS (n' := 71) (n := 3) (c_X9_in l G _ _ _ _) dX9_isPlan_68 (lw_S q3321 q3322 q109 q3323) (by decide +kernel) ⟨(Nat.le_of_ble_eq_true rfl), (Nat.le_of_ble_eq_true rfl)⟩ rfl rfl (Nat.le_of_ble_eq_true rfl) (by first | exact Nat.le_of_ble_eq_true rfl | omega) (by first | exact Nat.le_of_ble_eq_true rfl | omega) rfl (fun v_3 M_4 h_6 hE_5 => ?_)
          obtain ⟨rfl, hMs⟩ := h_6
          have hMs := hMs.symm
          subst hMs
          refine x_if_ne (n' := 74) (tgt := 77) dX9_isPlan_71 (by decide) rfl (fun c71_7 => ?_) (fun c71_7 => ?_)
          · have C71 := c71_7
            refine x_iinc (n' := 80) dX9_isPlan_77 rfl (by first | exact nI_inc _ | exact nI_decp (by omega) | exact i_inc _ | rfl) (Nat.le_of_ble_eq_true rfl) rfl (by dsimp only [List.set] <;> rfl) rfl ?_
            refine x_goto (tgt := 27) dX9_isPlan_80 (by decide) ?_
            exact x_drop (ih (i + 1) (by omega) (by omega) (fun t q => by rcases Nat.lt_or_ge t i with w | w <;> first | exact h3 t w | exact (show t = i by omega) ▸ bi_n0 C71) (fun _ => Int32.not_lt.mp C41) C7 C19) ⟨rfl, ⟨rfl, ⟨rfl, trivial⟩⟩⟩
          · have C71 := c71_7
            refine x_bipush (n' := 76) (v := -102) dX9_isPlan_74 (by decide) rfl ?_
            exact x_iret dX9_isPlan_76 hret (by repeat' (first | with_reducible exact kE.rf | with_reducible exact kE_SS | with_reducible apply kE_A | with_reducible apply kE_I | with_reducible apply kE_L | with_reducible apply kE_R | with_reducible apply kE_O | with_reducible apply kE_S)) (⟨congrArg (fun z => some (Value.int z)) (ipG_c C7 C19 (fun q => by first | exact absurd q.1 (Int32.not_le.mpr C41) | exact bi_0.mp C71 (q.2 i (by omega)))), rfl⟩)
  refine x_aload_n (n' := 1) dX9_isPlan_0 rfl rfl rfl ?_
  refine x_getRs (n' := 4) (b := (ad 7)) dX9_isPlan_1 (by repeat' (first | with_reducible exact km | with_reducible apply mK_A | with_reducible apply mK_I | with_reducible apply mK_L | with_reducible apply mK_R | with_reducible apply mK_O | with_reducible apply mK_S)) ffX9_41_9 rfl (by repeat' (first | with_reducible exact hr_sorts | with_reducible apply mR_A | with_reducible apply mR_I | with_reducible apply mR_L | with_reducible apply mR_S)) rfl ?_
  refine x_iload_n (n' := 5) dX9_isPlan_4 rfl rfl rfl ?_
  refine x_ildk (n' := 6) (N := 8) dX9_isPlan_5 (by repeat' (first | with_reducible exact kk_sorts | with_reducible apply mK_A | with_reducible apply mK_I | with_reducible apply mK_L | with_reducible apply mK_R | with_reducible apply mK_O | with_reducible apply mK_S)) (by repeat' (first | with_reducible exact hn_sorts | with_reducible apply mN_A | with_reducible apply mN_I | with_reducible apply mN_L | with_reducible apply mN_R | with_reducible apply mN_O | with_reducible apply mN_S)) (by repeat' (first | with_reducible exact nl_0 | with_reducible exact nl_1 | with_reducible exact nl_4 | with_reducible exact nl_13 | with_reducible exact nl_24 | with_reducible exact nl_40 | with_reducible exact rfl | apply i_add | apply i_mul)) (by omega) (by decide) (by first | with_reducible exact hnk | (simp (disch := omega) only [mA_sA, mA_sI, mA_SC0, mA_SC1 hS, mA_SC5 hS, mA_SC6 hS, mA_SC10 hS, mA_SC11 hS, mA_SC12 hS, up_s, up_n, hnk, if_false, ne_g_sorts, ne_g_sizes, ne_g_elements, ne_sorts_g, ne_sorts_sizes, ne_sorts_elements, ne_sizes_g, ne_sizes_sorts, ne_sizes_elements, ne_elements_g, ne_elements_sorts, ne_elements_sizes] <;> rfl) | rfl) rfl ?_
  refine x_iconst (n' := 7) (v := 4) dX9_isPlan_6 (by decide) rfl ?_
  refine x_icmp_le (n' := 10) (tgt := 13) dX9_isPlan_7 (by decide) rfl (fun c7_8 => ?_) (fun c7_8 => ?_)
  · have C7 := c7_8
    refine x_aload_n (n' := 14) dX9_isPlan_13 rfl rfl rfl ?_
    refine x_getRs (n' := 17) (b := (ad 7)) dX9_isPlan_14 (by repeat' (first | with_reducible exact km | with_reducible apply mK_A | with_reducible apply mK_I | with_reducible apply mK_L | with_reducible apply mK_R | with_reducible apply mK_O | with_reducible apply mK_S)) ffX9_41_9 rfl (by repeat' (first | with_reducible exact hr_sorts | with_reducible apply mR_A | with_reducible apply mR_I | with_reducible apply mR_L | with_reducible apply mR_S)) rfl ?_
    refine x_iload_n (n' := 18) dX9_isPlan_17 rfl rfl rfl ?_
    refine x_ildk (n' := 19) (N := 8) dX9_isPlan_18 (by repeat' (first | with_reducible exact kk_sorts | with_reducible apply mK_A | with_reducible apply mK_I | with_reducible apply mK_L | with_reducible apply mK_R | with_reducible apply mK_O | with_reducible apply mK_S)) (by repeat' (first | with_reducible exact hn_sorts | with_reducible apply mN_A | with_reducible apply mN_I | with_reducible apply mN_L | with_reducible apply mN_R | with_reducible apply mN_O | with_reducible apply mN_S)) (by repeat' (first | with_reducible exact nl_0 | with_reducible exact nl_1 | with_reducible exact nl_4 | with_reducible exact nl_13 | with_reducible exact nl_24 | with_reducible exact nl_40 | with_reducible exact rfl | apply i_add | apply i_mul)) (by omega) (by decide) (by first | with_reducible exact hnk | (simp (disch := omega) only [mA_sA, mA_sI, mA_SC0, mA_SC1 hS, mA_SC5 hS, mA_SC6 hS, mA_SC10 hS, mA_SC11 hS, mA_SC12 hS, up_s, up_n, hnk, if_false, ne_g_sorts, ne_g_sizes, ne_g_elements, ne_sorts_g, ne_sorts_sizes, ne_sorts_elements, ne_sizes_g, ne_sizes_sorts, ne_sizes_elements, ne_elements_g, ne_elements_sorts, ne_elements_sizes] <;> rfl) | rfl) rfl ?_
    refine x_if_ge (n' := 22) (tgt := 25) dX9_isPlan_19 (by decide) rfl (fun c19_9 => ?_) (fun c19_9 => ?_)
    · have C19 := c19_9
      refine x_iconst (n' := 26) (v := 0) dX9_isPlan_25 (by decide) rfl ?_
      refine x_istore_n (n' := 27) dX9_isPlan_26 rfl (Nat.le_of_ble_eq_true rfl) rfl (by dsimp only [List.set] <;> rfl) rfl ?_
      exact x_drop (cut27 25 0 (by omega) (by omega) (fun t q => absurd q (by omega)) (fun q => absurd q (by omega)) C7 (Int32.not_lt.mpr C19)) ⟨rfl, ⟨rfl, ⟨rfl, trivial⟩⟩⟩
    · have C19 := c19_9
      refine x_bipush (n' := 24) (v := -104) dX9_isPlan_22 (by decide) rfl ?_
      exact x_iret dX9_isPlan_24 hret (by repeat' (first | with_reducible exact kE.rf | with_reducible exact kE_SS | with_reducible apply kE_A | with_reducible apply kE_I | with_reducible apply kE_L | with_reducible apply kE_R | with_reducible apply kE_O | with_reducible apply kE_S)) (⟨congrArg (fun z => some (Value.int z)) (ipG_b C7 (Int32.not_le.mp C19)), rfl⟩)
  · have C7 := c7_8
    refine x_bipush (n' := 12) (v := -103) dX9_isPlan_10 (by decide) rfl ?_
    exact x_iret dX9_isPlan_12 hret (by repeat' (first | with_reducible exact kE.rf | with_reducible exact kE_SS | with_reducible apply kE_A | with_reducible apply kE_I | with_reducible apply kE_L | with_reducible apply kE_R | with_reducible apply kE_O | with_reducible apply kE_S)) (⟨congrArg (fun z => some (Value.int z)) (ipG_a C7), rfl⟩)

set_option maxHeartbeats 600000 in
set_option maxRecDepth 100000 in
theorem c_X9_other (l : Launch) (G : kG) (M : kM) (m : Nat) (ad : Nat → Nat) (hS : MS M m ad) (g : gT) (sa : Nat → gT) (sf : Nat → Int32) (k a : Int32) (h nr nk ns : Nat) (hw : WF g h nr nk ns) (hb : h + 200 < 2147483648) : Kt l G yX9_other cX9_other 6 (some .int) 6 151 [.ref m, .int k, .int a] (SC M m ad g sa sf) (0) (0) (fun v M2 => ((0 ≤ a ∧ a ≤ 200) ∧ (0 ≤ k ∧ k ≤ 7) → 0 ≤ (ipG (mA M (ad 7)) (mA M (ad 8)) (mL M (ad 13)) nk (nn k)) → v = some (.int (unlG (plB g (elP (mL M (ad 13)) (nn k)) 24) h nr nk ns (nn a) - unlG g h nr nk ns (nn a))) ∧ ∃ sa2 sf2, M2 = SC M m ad g sa2 sf2) ∧ ((0 ≤ a ∧ a ≤ 200) ∧ (0 ≤ k ∧ k ≤ 7) → ¬ 0 ≤ (ipG (mA M (ad 7)) (mA M (ad 8)) (mL M (ad 13)) nk (nn k)) → v = some (.int (ipG (mA M (ad 7)) (mA M (ad 8)) (mL M (ad 13)) nk (nn k))) ∧ M2 = rfM (SC M m ad g sa sf) ad (rxN (ipG (mA M (ad 7)) (mA M (ad 8)) (mL M (ad 13)) nk (nn k)))) ∧ (¬ ((0 ≤ a ∧ a ≤ 200) ∧ (0 ≤ k ∧ k ≤ 7)) → v = some (.int (-102)) ∧ M2 = rfM (SC M m ad g sa sf) ad 0)) := by
  refine Kt.of (own := "KeptLightModel") (L := [some (.ref m), some (.int k), some (.int a), none, none, none]) (by decide +kernel) rfl (Nat.le_of_ble_eq_true rfl) rfl ?_
  intro pp ee ss mm args below meth cd hmn hret
  have km := hS.1
  have hk6 := hw.k6
  have cut29 : ∀ (r : Int32) (hr1 : (0 ≤ a ∧ a ≤ 200) ∧ (0 ≤ k ∧ k ≤ 7) → r = (ipG (mA M (ad 7)) (mA M (ad 8)) (mL M (ad 13)) nk (nn k))) (hr2 : ¬ ((0 ≤ a ∧ a ≤ 200) ∧ (0 ≤ k ∧ k ≤ 7)) → r = -102), Wx pp l ee { frames := 6, cells := 0, slots := 0, locals := 151 } ss mm args below meth cd "KeptLightModel" cX9_other 6 G (MQ below (KQ G (SC M m ad g sa sf) (fun v M2 => ((0 ≤ a ∧ a ≤ 200) ∧ (0 ≤ k ∧ k ≤ 7) → 0 ≤ (ipG (mA M (ad 7)) (mA M (ad 8)) (mL M (ad 13)) nk (nn k)) → v = some (.int (unlG (plB g (elP (mL M (ad 13)) (nn k)) 24) h nr nk ns (nn a) - unlG g h nr nk ns (nn a))) ∧ ∃ sa2 sf2, M2 = SC M m ad g sa2 sf2) ∧ ((0 ≤ a ∧ a ≤ 200) ∧ (0 ≤ k ∧ k ≤ 7) → ¬ 0 ≤ (ipG (mA M (ad 7)) (mA M (ad 8)) (mL M (ad 13)) nk (nn k)) → v = some (.int (ipG (mA M (ad 7)) (mA M (ad 8)) (mL M (ad 13)) nk (nn k))) ∧ M2 = rfM (SC M m ad g sa sf) ad (rxN (ipG (mA M (ad 7)) (mA M (ad 8)) (mL M (ad 13)) nk (nn k)))) ∧ (¬ ((0 ≤ a ∧ a ≤ 200) ∧ (0 ≤ k ∧ k ≤ 7)) → v = some (.int (-102)) ∧ M2 = rfM (SC M m ad g sa sf) ad 0))) args ss (0) (0) (kA G)) 29 [some (.ref m), some (.int k), some (.int a), none, none, none] [.int r] (SC M m ad g sa sf) (0) (0) := by
    intro r hr1 hr2
    refine x_istore_n (n' := 30) dX9_other_29 rfl (Nat.le_of_ble_eq_true rfl) rfl (by dsimp only [List.set] <;> rfl) rfl ?_
    refine x_iload_n (n' := 31) dX9_other_30 rfl rfl rfl ?_
    refine x_if_ge (n' := 34) (tgt := 40) dX9_other_31 (by decide) rfl (fun c31_1 => ?_) (fun c31_1 => ?_)
    · have C31 := c31_1
      have hok : (0 ≤ a ∧ a ≤ 200) ∧ (0 ≤ k ∧ k ≤ 7) := by
        by_cases q : (0 ≤ a ∧ a ≤ 200) ∧ (0 ≤ k ∧ k ≤ 7)
        · exact q
        · rw [hr2 q] at C31; exact absurd C31 (by decide)
      have hn7 := nn_le (n := 7) hok.2.1 hok.2.2 (by decide)
      have hn9 := nn_le (n := 200) hok.1.1 hok.1.2 (by decide)
      have hip := ipG_ok (hr1 hok) C31
      have hwp : WF (plB g (elP (mL M (ad 13)) (nn k)) 24) h nr nk ns := plB_WF hw (fun t ht q => el_lt hw.k6 (hip.2 t ht).2 (hip.2 t ht).1 q)
      refine x_aload_n (n' := 41) dX9_other_40 rfl rfl rfl ?_
      refine x_iload_n (n' := 42) dX9_other_41 rfl rfl rfl ?_
      refine x_callV (n' := 45) (n := 1) (K := 9) (c_X9_unlitOf__i l G M m ad hS g sa sf a h nr nk ns hw hok.1.1 (by omega)) dX9_other_42 (by repeat' (first | with_reducible exact km | with_reducible apply mK_A | with_reducible apply mK_I | with_reducible apply mK_L | with_reducible apply mK_R | with_reducible apply mK_O | with_reducible apply mK_S)) rfl (lw_V q3553 q3555 qs72 q109 q3556) (by decide +kernel) ⟨(Nat.le_of_ble_eq_true rfl), (Nat.le_of_ble_eq_true rfl)⟩ rfl rfl (Nat.le_of_ble_eq_true rfl) (by first | exact Nat.le_of_ble_eq_true rfl | omega) (by first | exact Nat.le_of_ble_eq_true rfl | omega) rfl (fun v_2 M_3 h_5 hE_4 => ?_)
      obtain ⟨rfl, X8, sf8, hMs⟩ := h_5
      have hMs := hMs.symm
      subst hMs
      
      refine x_istore (n' := 47) dX9_other_45 (Nat.le_of_ble_eq_true rfl) rfl (by dsimp only [List.set] <;> rfl) rfl ?_
      refine x_aload_n (n' := 48) dX9_other_47 rfl rfl rfl ?_
      refine x_iconst (n' := 49) (v := 0) dX9_other_48 (by decide) rfl ?_
      refine x_callV (n' := 52) (n := 1) (K := 9) (c_X9_keepsPlan__save l G M m ad hS g _ _) dX9_other_49 (by repeat' (first | with_reducible exact km | with_reducible apply mK_A | with_reducible apply mK_I | with_reducible apply mK_L | with_reducible apply mK_R | with_reducible apply mK_O | with_reducible apply mK_S)) rfl (lw_V q3561 q3563 qs73 q109 q3564) (by decide +kernel) ⟨(Nat.le_of_ble_eq_true rfl), (Nat.le_of_ble_eq_true rfl)⟩ rfl rfl (Nat.le_of_ble_eq_true rfl) (by first | exact Nat.le_of_ble_eq_true rfl | omega) (by first | exact Nat.le_of_ble_eq_true rfl | omega) rfl (fun v_6 M_7 h_9 hE_8 => ?_)
      obtain ⟨rfl, hMs⟩ := h_9
      have hMs := hMs.symm
      subst hMs
      refine x_aload_n (n' := 53) dX9_other_52 rfl rfl rfl ?_
      refine x_iload_n (n' := 54) dX9_other_53 rfl rfl rfl ?_
      refine x_topv (nn_of hok.2.1) ?_
      refine x_callV (n' := 57) (n := 1) (K := 9) (c_X9_takesPlan l G M m ad hS g _ _ (nn k) (by omega)) dX9_other_54 (by repeat' (first | with_reducible exact km | with_reducible apply mK_A | with_reducible apply mK_I | with_reducible apply mK_L | with_reducible apply mK_R | with_reducible apply mK_O | with_reducible apply mK_S)) rfl (lw_V q3373 q3375 qs53 q109 q3376) (by decide +kernel) ⟨(Nat.le_of_ble_eq_true rfl), (Nat.le_of_ble_eq_true rfl)⟩ rfl rfl (Nat.le_of_ble_eq_true rfl) (by first | exact Nat.le_of_ble_eq_true rfl | omega) (by first | exact Nat.le_of_ble_eq_true rfl | omega) rfl (fun v_10 M_11 h_13 hE_12 => ?_)
      obtain ⟨rfl, hMs⟩ := h_13
      have hMs := hMs.symm
      subst hMs
      refine x_aload_n (n' := 58) dX9_other_57 rfl rfl rfl ?_
      refine x_iload_n (n' := 59) dX9_other_58 rfl rfl rfl ?_
      refine x_callV (n' := 62) (n := 1) (K := 9) (c_X9_unlitOf__i l G M m ad hS (plB g (elP (mL M (ad 13)) (nn k)) 24) (va_up (va_up sa 1 X8) 6 (plS (va_up sa 1 X8 6) g 24)) sf8 a h nr nk ns hwp hok.1.1 (by omega)) dX9_other_59 (by repeat' (first | with_reducible exact km | with_reducible apply mK_A | with_reducible apply mK_I | with_reducible apply mK_L | with_reducible apply mK_R | with_reducible apply mK_O | with_reducible apply mK_S)) rfl (lw_V q3553 q3555 qs72 q109 q3556) (by decide +kernel) ⟨(Nat.le_of_ble_eq_true rfl), (Nat.le_of_ble_eq_true rfl)⟩ rfl rfl (Nat.le_of_ble_eq_true rfl) (by first | exact Nat.le_of_ble_eq_true rfl | omega) (by first | exact Nat.le_of_ble_eq_true rfl | omega) rfl (fun v_14 M_15 h_17 hE_16 => ?_)
      obtain ⟨rfl, X9, sf9, hMs⟩ := h_17
      have hMs := hMs.symm
      subst hMs
      refine x_istore (n' := 64) dX9_other_62 (Nat.le_of_ble_eq_true rfl) rfl (by dsimp only [List.set] <;> rfl) rfl ?_
      refine x_aload_n (n' := 65) dX9_other_64 rfl rfl rfl ?_
      refine x_iconst (n' := 66) (v := 1) dX9_other_65 (by decide) rfl ?_
      refine x_callV (n' := 69) (n := 1) (K := 9) (c_X9_keepsPlan__back l G M m ad hS (plB g (elP (mL M (ad 13)) (nn k)) 24) _ _) dX9_other_66 (by repeat' (first | with_reducible exact km | with_reducible apply mK_A | with_reducible apply mK_I | with_reducible apply mK_L | with_reducible apply mK_R | with_reducible apply mK_O | with_reducible apply mK_S)) rfl (lw_V q3561 q3563 qs73 q109 q3564) (by decide +kernel) ⟨(Nat.le_of_ble_eq_true rfl), (Nat.le_of_ble_eq_true rfl)⟩ rfl rfl (Nat.le_of_ble_eq_true rfl) (by first | exact Nat.le_of_ble_eq_true rfl | omega) (by first | exact Nat.le_of_ble_eq_true rfl | omega) rfl (fun v_18 M_19 h_21 hE_20 => ?_)
      obtain ⟨rfl, hMs⟩ := h_21
      have hMs := hMs.symm
      subst hMs
      refine x_iload (n' := 71) dX9_other_69 rfl rfl ?_
      refine x_iload (n' := 73) dX9_other_71 rfl rfl ?_
      refine x_isub (n' := 74) dX9_other_73 rfl ?_
      exact x_iret dX9_other_74 hret (by repeat' (first | with_reducible exact kE.rf | with_reducible exact kE_SS | with_reducible apply kE_A | with_reducible apply kE_I | with_reducible apply kE_L | with_reducible apply kE_R | with_reducible apply kE_O | with_reducible apply kE_S)) (⟨fun _ _ => ⟨rfl, _, _, by rw [va_up_ne _ _ (by decide), va_up_self, plB_back2]⟩, fun q w => absurd (hr1 q ▸ C31) w, fun q => absurd hok q⟩)
    · have C31 := c31_1
      refine x_aload_n (n' := 35) dX9_other_34 rfl rfl rfl ?_
      refine x_iload_n (n' := 36) dX9_other_35 rfl rfl rfl ?_
      have hrx : r = -(nI (102 + rxN r)) ∧ rxN r < 5 := by
        by_cases hok : (0 ≤ a ∧ a ≤ 200) ∧ (0 ≤ k ∧ k ≤ 7)
        · exact ipG_rx (hr1 hok) C31
        · rw [hr2 hok]; exact rx_102
      refine x_topv hrx.1 ?_
      refine x_callV (n' := 39) (n := 1) (K := 9) (c_X9_refused l G _ m ad (by repeat' (first | with_reducible exact hS | with_reducible apply MS.sA | with_reducible apply MS.sI | with_reducible apply MS.sL | with_reducible apply MS.sc)) (rxN r) hrx.2) dX9_other_36 (by repeat' (first | with_reducible exact km | with_reducible apply mK_A | with_reducible apply mK_I | with_reducible apply mK_L | with_reducible apply mK_R | with_reducible apply mK_O | with_reducible apply mK_S)) rfl (lw_V q3324 q3326 qs48 q109 q3327) (by decide +kernel) ⟨(Nat.le_of_ble_eq_true rfl), (Nat.le_of_ble_eq_true rfl)⟩ rfl rfl (Nat.le_of_ble_eq_true rfl) (by first | exact Nat.le_of_ble_eq_true rfl | omega) (by first | exact Nat.le_of_ble_eq_true rfl | omega) rfl (fun v_22 M_23 h_25 hE_24 => ?_)
      obtain ⟨rfl, hMs⟩ := h_25
      have hMs := hMs.symm
      subst hMs
      exact x_iret dX9_other_39 hret (by repeat' (first | with_reducible exact kE.rf | with_reducible exact kE_SS | with_reducible apply kE_A | with_reducible apply kE_I | with_reducible apply kE_L | with_reducible apply kE_R | with_reducible apply kE_O | with_reducible apply kE_S)) (⟨fun q w => absurd w (hr1 q ▸ C31), fun q _ => ⟨by rw [← hr1 q, ← hrx.1], by rw [← hr1 q]; rfl⟩, fun q => by rw [hr2 q] at hrx ⊢; exact ⟨by rw [← hrx.1], rfl⟩⟩)
  refine x_iload_n (n' := 1) dX9_other_0 rfl rfl rfl ?_
  refine x_i2l (n' := 2) dX9_other_1 rfl rfl ?_
  refine x_lconst (n' := 3) (v := 0) dX9_other_2 (by decide) rfl ?_
  refine x_ldc2 (n' := 6) q3404 dX9_other_3 rfl ?_
  refine x_callS (n' := 9) (n := 3) (c_X9_in l G _ _ _ _) dX9_other_6 (lw_S q3321 q3322 q109 q3323) (by decide +kernel) ⟨(Nat.le_of_ble_eq_true rfl), (Nat.le_of_ble_eq_true rfl)⟩ rfl rfl (Nat.le_of_ble_eq_true rfl) (by first | exact Nat.le_of_ble_eq_true rfl | omega) (by first | exact Nat.le_of_ble_eq_true rfl | omega) rfl (fun v_26 M_27 h_29 hE_28 => ?_)
  obtain ⟨rfl, hMs⟩ := h_29
  have hMs := hMs.symm
  subst hMs
  rw [k_in3 (x := 0) (y := 200) (by decide) (by decide)]
  refine x_if_eq (n' := 12) (tgt := 27) dX9_other_9 (by decide) rfl (fun c9_30 => ?_) (fun c9_30 => ?_)
  · have C9 := c9_30
    refine x_bipush (n' := 29) (v := -102) dX9_other_27 (by decide) rfl ?_
    exact x_drop (cut29 _ (fun q => by first | exact absurd q (fun q => bi_0.mp C9 q.1) | exact absurd q (fun q => bi_0.mp C16 q.2) | exact rfl) (fun q => by first | exact rfl | exact absurd (⟨bi_n0 C9, bi_n0 C16⟩ : (0 ≤ a ∧ a ≤ 200) ∧ (0 ≤ k ∧ k ≤ 7)) q)) ⟨rfl, ⟨rfl, ⟨rfl, trivial⟩⟩⟩
  · have C9 := c9_30
    refine x_iload_n (n' := 13) dX9_other_12 rfl rfl rfl ?_
    refine x_callS (n' := 16) (n := 1) (c_X9_isShelf l G _ k) dX9_other_13 (lw_S q3364 q3365 q109 q3366) (by decide +kernel) ⟨(Nat.le_of_ble_eq_true rfl), (Nat.le_of_ble_eq_true rfl)⟩ rfl rfl (Nat.le_of_ble_eq_true rfl) (by first | exact Nat.le_of_ble_eq_true rfl | omega) (by first | exact Nat.le_of_ble_eq_true rfl | omega) rfl (fun v_31 M_32 h_34 hE_33 => ?_)
    obtain ⟨rfl, hMs⟩ := h_34
    have hMs := hMs.symm
    subst hMs
    refine x_if_eq (n' := 19) (tgt := 27) dX9_other_16 (by decide) rfl (fun c16_35 => ?_) (fun c16_35 => ?_)
    · have C16 := c16_35
      refine x_bipush (n' := 29) (v := -102) dX9_other_27 (by decide) rfl ?_
      exact x_drop (cut29 _ (fun q => by first | exact absurd q (fun q => bi_0.mp C9 q.1) | exact absurd q (fun q => bi_0.mp C16 q.2) | exact rfl) (fun q => by first | exact rfl | exact absurd (⟨bi_n0 C9, bi_n0 C16⟩ : (0 ≤ a ∧ a ≤ 200) ∧ (0 ≤ k ∧ k ≤ 7)) q)) ⟨rfl, ⟨rfl, ⟨rfl, trivial⟩⟩⟩
    · have C16 := c16_35
      refine x_aload_n (n' := 20) dX9_other_19 rfl rfl rfl ?_
      refine x_iload_n (n' := 21) dX9_other_20 rfl rfl rfl ?_
      have hok : (0 ≤ a ∧ a ≤ 200) ∧ (0 ≤ k ∧ k ≤ 7) := ⟨bi_n0 C9, bi_n0 C16⟩
      have hn7 := nn_le (n := 7) hok.2.1 hok.2.2 (by decide)
      refine x_topv (nn_of hok.2.1) ?_
      refine x_callV (n' := 24) (n := 1) (K := 9) (c_X9_isPlan l G _ m ad (by repeat' (first | with_reducible exact hS | with_reducible apply MS.sA | with_reducible apply MS.sI | with_reducible apply MS.sL | with_reducible apply MS.sc)) (nn k) nk (by omega) (by rw [mA_SC0]; exact hw.kk)) dX9_other_21 (by repeat' (first | with_reducible exact km | with_reducible apply mK_A | with_reducible apply mK_I | with_reducible apply mK_L | with_reducible apply mK_R | with_reducible apply mK_O | with_reducible apply mK_S)) rfl (lw_V q3368 q3370 qs52 q109 q3371) (by decide +kernel) ⟨(Nat.le_of_ble_eq_true rfl), (Nat.le_of_ble_eq_true rfl)⟩ rfl rfl (Nat.le_of_ble_eq_true rfl) (by first | exact Nat.le_of_ble_eq_true rfl | omega) (by first | exact Nat.le_of_ble_eq_true rfl | omega) rfl (fun v_36 M_37 h_39 hE_38 => ?_)
      obtain ⟨rfl, hMs⟩ := h_39
      have hMs := hMs.symm
      subst hMs
      rw [mA_SCn hS 7 (by decide) (by decide), mA_SCn hS 8 (by decide) (by decide), mL_SC]
      refine x_goto (tgt := 29) dX9_other_24 (by decide) ?_
      exact x_drop (cut29 _ (fun q => by first | exact absurd q (fun q => bi_0.mp C9 q.1) | exact absurd q (fun q => bi_0.mp C16 q.2) | exact rfl) (fun q => by first | exact rfl | exact absurd (⟨bi_n0 C9, bi_n0 C16⟩ : (0 ≤ a ∧ a ≤ 200) ∧ (0 ≤ k ∧ k ≤ 7)) q)) ⟨rfl, ⟨rfl, ⟨rfl, trivial⟩⟩⟩
