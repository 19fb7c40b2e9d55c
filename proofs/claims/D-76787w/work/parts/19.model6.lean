theorem ffX9_38_9 : FF "KeptLightModel" 38 9 16 "KeptLightModel" := ⟨by decide, by decide, q3268, Or.inl rfl⟩
set_option maxHeartbeats 4000000 in
set_option maxRecDepth 100000 in
theorem c_X9_keepsPlan__save (l : Launch) (G : kG) (M : kM) (m : Nat) (ad : Nat → Nat) (hS : MS M m ad) (g : gT) (sa : Nat → gT) (sf : Nat → Int32)   : Kt l G yX9_keepsPlan cX9_keepsPlan 3 none 0 0 [.ref m, .int 0] (SC M m ad g sa sf) (0) (0) (fun v M2 => v = none ∧ M2 = SC M m ad g (va_up sa 6 (plS (sa 6) g 24)) sf) := by
  refine Kt.of (own := "KeptLightModel") (L := [some (.ref m), some (.int 0), none]) (by decide +kernel) rfl (Nat.le_of_ble_eq_true rfl) rfl ?_
  intro pp ee ss mm args below meth cd hmn hret
  have km := hS.1
  obtain ⟨hr_g, kk_g, hn_g⟩ := hS.2.1 0 (by decide)
  have hr_g : mR M (fc 9 0) m = some (ad 0) := hr_g
  have hn_g : mN M (ad 0) = 2509 := hn_g
  have kk_g : mK M (ad 0) = some 120 := kk_g
  obtain ⟨hr_hadPlan, kk_hadPlan, hn_hadPlan⟩ := hS.2.1 6 (by decide)
  have hr_hadPlan : mR M (fc 9 16) m = some (ad 6) := hr_hadPlan
  have hn_hadPlan : mN M (ad 6) = 24 := hn_hadPlan
  have kk_hadPlan : mK M (ad 6) = some 120 := kk_hadPlan
  have ne_g_hadPlan := hS.eqf 0 6 (by decide) (by decide) (by decide)
  have ne_hadPlan_g := hS.eqf 6 0 (by decide) (by decide) (by decide)
  have cut2 : ∀ (fuel : Nat) (i : Nat) (h1 : 24 - i < fuel) (h2 : i ≤ 24), Wx pp l ee { frames := 0, cells := 0, slots := 0, locals := 0 } ss mm args below meth cd "KeptLightModel" cX9_keepsPlan 3 G (MQ below (KQ G (SC M m ad g sa sf) (fun v M2 => v = none ∧ M2 = SC M m ad g (va_up sa 6 (plS (sa 6) g 24)) sf)) args ss (0) (0) (kA G)) 2 [some (.ref m), some (.int 0), some (.int (nI i))] [] (SC M m ad g (va_up sa 6 (plS (sa 6) g i)) sf) (0) (0) := by
    intro fuel
    induction fuel with
    | zero => intro i h1 h2; omega
    | succ fuel ih =>
      intro i h1 h2
      refine x_iload_n (n' := 3) dX9_keepsPlan_2 rfl rfl rfl ?_
      refine x_bipush (n' := 5) (v := 24) dX9_keepsPlan_3 (by decide) rfl ?_
      refine x_icmp_ge (n' := 8) (tgt := 51) dX9_keepsPlan_5 (by decide) rfl (fun c5_1 => ?_) (fun c5_1 => ?_)
      · have n_c5_1 := (cv_le (by repeat' (first | with_reducible exact nl_0 | with_reducible exact nl_24 | with_reducible exact nl_85 | with_reducible exact rfl | apply i_add | apply i_mul)) (by repeat' (first | with_reducible exact nl_0 | with_reducible exact nl_24 | with_reducible exact nl_85 | with_reducible exact rfl | apply i_add | apply i_mul)) (by omega) (by omega)).mp c5_1
        exact x_vret dX9_keepsPlan_51 hret (by repeat' (first | with_reducible exact kE.rf | with_reducible exact kE_SS | with_reducible apply kE_A | with_reducible apply kE_I | with_reducible apply kE_L | with_reducible apply kE_R | with_reducible apply kE_O | with_reducible apply kE_S)) (by rw [show i = 24 by omega]; exact ⟨rfl, rfl⟩)
      · have n_c5_1 := (not_congr (cv_le (by repeat' (first | with_reducible exact nl_0 | with_reducible exact nl_24 | with_reducible exact nl_85 | with_reducible exact rfl | apply i_add | apply i_mul)) (by repeat' (first | with_reducible exact nl_0 | with_reducible exact nl_24 | with_reducible exact nl_85 | with_reducible exact rfl | apply i_add | apply i_mul)) (by omega) (by omega))).mp c5_1
        refine x_iload_n (n' := 9) dX9_keepsPlan_8 rfl rfl rfl ?_
        refine x_if_eq (n' := 12) (tgt := 30) dX9_keepsPlan_9 (by decide) rfl (fun c9_2 => ?_) (fun c9_2 => absurd rfl c9_2)
        refine x_aload_n (n' := 31) dX9_keepsPlan_30 rfl rfl rfl ?_
        refine x_getRs (n' := 34) (b := (ad 6)) dX9_keepsPlan_31 (by repeat' (first | with_reducible exact km | with_reducible apply mK_A | with_reducible apply mK_I | with_reducible apply mK_L | with_reducible apply mK_R | with_reducible apply mK_O | with_reducible apply mK_S)) ffX9_38_9 rfl (by repeat' (first | with_reducible exact hr_hadPlan | with_reducible apply mR_A | with_reducible apply mR_I | with_reducible apply mR_L | with_reducible apply mR_S)) rfl ?_
        refine x_iload_n (n' := 35) dX9_keepsPlan_34 rfl rfl rfl ?_
        refine x_aload_n (n' := 36) dX9_keepsPlan_35 rfl rfl rfl ?_
        refine x_getRs (n' := 39) (b := (ad 0)) dX9_keepsPlan_36 (by repeat' (first | with_reducible exact km | with_reducible apply mK_A | with_reducible apply mK_I | with_reducible apply mK_L | with_reducible apply mK_R | with_reducible apply mK_O | with_reducible apply mK_S)) ffX9_9_9 rfl (by repeat' (first | with_reducible exact hr_g | with_reducible apply mR_A | with_reducible apply mR_I | with_reducible apply mR_L | with_reducible apply mR_S)) rfl ?_
        refine x_bipush (n' := 41) (v := 85) dX9_keepsPlan_39 (by decide) rfl ?_
        refine x_iload_n (n' := 42) dX9_keepsPlan_41 rfl rfl rfl ?_
        refine x_iadd (n' := 43) dX9_keepsPlan_42 rfl ?_
        refine x_ildk (n' := 44) (N := 2509) dX9_keepsPlan_43 (by repeat' (first | with_reducible exact kk_g | with_reducible apply mK_A | with_reducible apply mK_I | with_reducible apply mK_L | with_reducible apply mK_R | with_reducible apply mK_O | with_reducible apply mK_S)) (by repeat' (first | with_reducible exact hn_g | with_reducible apply mN_A | with_reducible apply mN_I | with_reducible apply mN_L | with_reducible apply mN_R | with_reducible apply mN_O | with_reducible apply mN_S)) (by repeat' (first | with_reducible exact nl_0 | with_reducible exact nl_24 | with_reducible exact nl_85 | with_reducible exact rfl | apply i_add | apply i_mul)) (by omega) (by decide) (by first | (simp (disch := omega) only [mA_sA, mA_sI, mA_SC0, mA_SC1 hS, mA_SC5 hS, mA_SC6 hS, mA_SC10 hS, mA_SC11 hS, mA_SC12 hS, up_s, up_n, if_false, ne_g_hadPlan, ne_hadPlan_g] <;> rfl) | rfl) rfl ?_
        refine x_iastk (n' := 45) (N := 24) dX9_keepsPlan_44 (by repeat' (first | with_reducible exact kk_hadPlan | with_reducible apply mK_A | with_reducible apply mK_I | with_reducible apply mK_L | with_reducible apply mK_R | with_reducible apply mK_O | with_reducible apply mK_S)) (by repeat' (first | with_reducible exact hn_hadPlan | with_reducible apply mN_A | with_reducible apply mN_I | with_reducible apply mN_L | with_reducible apply mN_R | with_reducible apply mN_O | with_reducible apply mN_S)) (by repeat' (first | with_reducible exact nl_0 | with_reducible exact nl_24 | with_reducible exact nl_85 | with_reducible exact rfl | apply i_add | apply i_mul)) (by omega) (by decide) (by first | with_reducible exact mA_sA | with_reducible exact mA_SC0 | with_reducible exact mA_SC1 hS | with_reducible exact mA_SC5 hS | with_reducible exact mA_SC6 hS | with_reducible exact mA_SC10 hS | with_reducible exact mA_SC11 hS | with_reducible exact mA_SC12 hS | with_reducible exact mA_sI_sA | with_reducible exact mA_sI3_sA | rfl) (by first | with_reducible exact SC_A0 | with_reducible exact SC_A1 hS | with_reducible exact SC_A5 hS | with_reducible exact SC_A6 hS | with_reducible exact SC_A10 hS | with_reducible exact SC_A11 hS | with_reducible exact SC_A12 hS | with_reducible exact sA_sA | with_reducible exact sA_sI_sA | with_reducible exact sA_sI3_sA | rfl) rfl ?_
        refine x_iinc (n' := 48) dX9_keepsPlan_45 rfl (by first | exact nI_inc _ | exact nI_decp (by omega) | exact i_inc _ | rfl) (Nat.le_of_ble_eq_true rfl) rfl (by dsimp only [List.set] <;> rfl) rfl ?_
        refine x_goto (tgt := 2) dX9_keepsPlan_48 (by decide) ?_
        rw [va_up_self, up_up, plS_s]
        exact x_drop (ih (i + 1) (by omega) (by omega)) ⟨rfl, ⟨rfl, ⟨rfl, trivial⟩⟩⟩
  refine x_iconst (n' := 1) (v := 0) dX9_keepsPlan_0 (by decide) rfl ?_
  refine x_istore_n (n' := 2) dX9_keepsPlan_1 rfl (Nat.le_of_ble_eq_true rfl) rfl (by dsimp only [List.set] <;> rfl) rfl ?_
  refine x_mem (M2 := SC M m ad g (va_up sa 6 (plS (sa 6) g 0)) sf) (by rw [plS_0, up_eta]) ?_
  exact x_drop (cut2 25 0 (by omega) (by omega)) ⟨rfl, ⟨rfl, ⟨rfl, trivial⟩⟩⟩

set_option maxHeartbeats 4000000 in
set_option maxRecDepth 100000 in
theorem c_X9_keepsPlan__back (l : Launch) (G : kG) (M : kM) (m : Nat) (ad : Nat → Nat) (hS : MS M m ad) (g : gT) (sa : Nat → gT) (sf : Nat → Int32)   : Kt l G yX9_keepsPlan cX9_keepsPlan 3 none 0 0 [.ref m, .int 1] (SC M m ad g sa sf) (0) (0) (fun v M2 => v = none ∧ M2 = SC M m ad (plB g (sa 6) 24) sa sf) := by
  refine Kt.of (own := "KeptLightModel") (L := [some (.ref m), some (.int 1), none]) (by decide +kernel) rfl (Nat.le_of_ble_eq_true rfl) rfl ?_
  intro pp ee ss mm args below meth cd hmn hret
  have km := hS.1
  obtain ⟨hr_g, kk_g, hn_g⟩ := hS.2.1 0 (by decide)
  have hr_g : mR M (fc 9 0) m = some (ad 0) := hr_g
  have hn_g : mN M (ad 0) = 2509 := hn_g
  have kk_g : mK M (ad 0) = some 120 := kk_g
  obtain ⟨hr_hadPlan, kk_hadPlan, hn_hadPlan⟩ := hS.2.1 6 (by decide)
  have hr_hadPlan : mR M (fc 9 16) m = some (ad 6) := hr_hadPlan
  have hn_hadPlan : mN M (ad 6) = 24 := hn_hadPlan
  have kk_hadPlan : mK M (ad 6) = some 120 := kk_hadPlan
  have ne_g_hadPlan := hS.eqf 0 6 (by decide) (by decide) (by decide)
  have ne_hadPlan_g := hS.eqf 6 0 (by decide) (by decide) (by decide)
  have cut2 : ∀ (fuel : Nat) (i : Nat) (h1 : 24 - i < fuel) (h2 : i ≤ 24), Wx pp l ee { frames := 0, cells := 0, slots := 0, locals := 0 } ss mm args below meth cd "KeptLightModel" cX9_keepsPlan 3 G (MQ below (KQ G (SC M m ad g sa sf) (fun v M2 => v = none ∧ M2 = SC M m ad (plB g (sa 6) 24) sa sf)) args ss (0) (0) (kA G)) 2 [some (.ref m), some (.int 1), some (.int (nI i))] [] (SC M m ad (plB g (sa 6) i) sa sf) (0) (0) := by
    intro fuel
    induction fuel with
    | zero => intro i h1 h2; omega
    | succ fuel ih =>
      intro i h1 h2
      refine x_iload_n (n' := 3) dX9_keepsPlan_2 rfl rfl rfl ?_
      refine x_bipush (n' := 5) (v := 24) dX9_keepsPlan_3 (by decide) rfl ?_
      refine x_icmp_ge (n' := 8) (tgt := 51) dX9_keepsPlan_5 (by decide) rfl (fun c5_1 => ?_) (fun c5_1 => ?_)
      · have n_c5_1 := (cv_le (by repeat' (first | with_reducible exact nl_0 | with_reducible exact nl_24 | with_reducible exact nl_85 | with_reducible exact rfl | apply i_add | apply i_mul)) (by repeat' (first | with_reducible exact nl_0 | with_reducible exact nl_24 | with_reducible exact nl_85 | with_reducible exact rfl | apply i_add | apply i_mul)) (by omega) (by omega)).mp c5_1
        exact x_vret dX9_keepsPlan_51 hret (by repeat' (first | with_reducible exact kE.rf | with_reducible exact kE_SS | with_reducible apply kE_A | with_reducible apply kE_I | with_reducible apply kE_L | with_reducible apply kE_R | with_reducible apply kE_O | with_reducible apply kE_S)) (by rw [show i = 24 by omega]; exact ⟨rfl, rfl⟩)
      · have n_c5_1 := (not_congr (cv_le (by repeat' (first | with_reducible exact nl_0 | with_reducible exact nl_24 | with_reducible exact nl_85 | with_reducible exact rfl | apply i_add | apply i_mul)) (by repeat' (first | with_reducible exact nl_0 | with_reducible exact nl_24 | with_reducible exact nl_85 | with_reducible exact rfl | apply i_add | apply i_mul)) (by omega) (by omega))).mp c5_1
        refine x_iload_n (n' := 9) dX9_keepsPlan_8 rfl rfl rfl ?_
        refine x_if_eq (n' := 12) (tgt := 30) dX9_keepsPlan_9 (by decide) rfl (fun c9_2 => absurd c9_2 (by decide)) (fun c9_2 => ?_)
        refine x_aload_n (n' := 13) dX9_keepsPlan_12 rfl rfl rfl ?_
        refine x_getRs (n' := 16) (b := (ad 0)) dX9_keepsPlan_13 (by repeat' (first | with_reducible exact km | with_reducible apply mK_A | with_reducible apply mK_I | with_reducible apply mK_L | with_reducible apply mK_R | with_reducible apply mK_O | with_reducible apply mK_S)) ffX9_9_9 rfl (by repeat' (first | with_reducible exact hr_g | with_reducible apply mR_A | with_reducible apply mR_I | with_reducible apply mR_L | with_reducible apply mR_S)) rfl ?_
        refine x_bipush (n' := 18) (v := 85) dX9_keepsPlan_16 (by decide) rfl ?_
        refine x_iload_n (n' := 19) dX9_keepsPlan_18 rfl rfl rfl ?_
        refine x_iadd (n' := 20) dX9_keepsPlan_19 rfl ?_
        refine x_aload_n (n' := 21) dX9_keepsPlan_20 rfl rfl rfl ?_
        refine x_getRs (n' := 24) (b := (ad 6)) dX9_keepsPlan_21 (by repeat' (first | with_reducible exact km | with_reducible apply mK_A | with_reducible apply mK_I | with_reducible apply mK_L | with_reducible apply mK_R | with_reducible apply mK_O | with_reducible apply mK_S)) ffX9_38_9 rfl (by repeat' (first | with_reducible exact hr_hadPlan | with_reducible apply mR_A | with_reducible apply mR_I | with_reducible apply mR_L | with_reducible apply mR_S)) rfl ?_
        refine x_iload_n (n' := 25) dX9_keepsPlan_24 rfl rfl rfl ?_
        refine x_ildk (n' := 26) (N := 24) dX9_keepsPlan_25 (by repeat' (first | with_reducible exact kk_hadPlan | with_reducible apply mK_A | with_reducible apply mK_I | with_reducible apply mK_L | with_reducible apply mK_R | with_reducible apply mK_O | with_reducible apply mK_S)) (by repeat' (first | with_reducible exact hn_hadPlan | with_reducible apply mN_A | with_reducible apply mN_I | with_reducible apply mN_L | with_reducible apply mN_R | with_reducible apply mN_O | with_reducible apply mN_S)) (by repeat' (first | with_reducible exact nl_0 | with_reducible exact nl_24 | with_reducible exact nl_85 | with_reducible exact rfl | apply i_add | apply i_mul)) (by omega) (by decide) (by first | (simp (disch := omega) only [mA_sA, mA_sI, mA_SC0, mA_SC1 hS, mA_SC5 hS, mA_SC6 hS, mA_SC10 hS, mA_SC11 hS, mA_SC12 hS, up_s, up_n, if_false, ne_g_hadPlan, ne_hadPlan_g] <;> rfl) | rfl) rfl ?_
        refine x_iastk (n' := 27) (N := 2509) dX9_keepsPlan_26 (by repeat' (first | with_reducible exact kk_g | with_reducible apply mK_A | with_reducible apply mK_I | with_reducible apply mK_L | with_reducible apply mK_R | with_reducible apply mK_O | with_reducible apply mK_S)) (by repeat' (first | with_reducible exact hn_g | with_reducible apply mN_A | with_reducible apply mN_I | with_reducible apply mN_L | with_reducible apply mN_R | with_reducible apply mN_O | with_reducible apply mN_S)) (by repeat' (first | with_reducible exact nl_0 | with_reducible exact nl_24 | with_reducible exact nl_85 | with_reducible exact rfl | apply i_add | apply i_mul)) (by omega) (by decide) (by first | with_reducible exact mA_sA | with_reducible exact mA_SC0 | with_reducible exact mA_SC1 hS | with_reducible exact mA_SC5 hS | with_reducible exact mA_SC6 hS | with_reducible exact mA_SC10 hS | with_reducible exact mA_SC11 hS | with_reducible exact mA_SC12 hS | with_reducible exact mA_sI_sA | with_reducible exact mA_sI3_sA | rfl) (by first | with_reducible exact SC_A0 | with_reducible exact SC_A1 hS | with_reducible exact SC_A5 hS | with_reducible exact SC_A6 hS | with_reducible exact SC_A10 hS | with_reducible exact SC_A11 hS | with_reducible exact SC_A12 hS | with_reducible exact sA_sA | with_reducible exact sA_sI_sA | with_reducible exact sA_sI3_sA | rfl) rfl ?_
        refine x_goto (tgt := 45) dX9_keepsPlan_27 (by decide) ?_
        refine x_iinc (n' := 48) dX9_keepsPlan_45 rfl (by first | exact nI_inc _ | exact nI_decp (by omega) | exact i_inc _ | rfl) (Nat.le_of_ble_eq_true rfl) rfl (by dsimp only [List.set] <;> rfl) rfl ?_
        refine x_goto (tgt := 2) dX9_keepsPlan_48 (by decide) ?_
        rw [plB_s]
        exact x_drop (ih (i + 1) (by omega) (by omega)) ⟨rfl, ⟨rfl, ⟨rfl, trivial⟩⟩⟩
  refine x_iconst (n' := 1) (v := 0) dX9_keepsPlan_0 (by decide) rfl ?_
  refine x_istore_n (n' := 2) dX9_keepsPlan_1 rfl (Nat.le_of_ble_eq_true rfl) rfl (by dsimp only [List.set] <;> rfl) rfl ?_
  refine x_mem (M2 := SC M m ad (plB g (sa 6) 0) sa sf) (by rw [plB_0]) ?_
  exact x_drop (cut2 25 0 (by omega) (by omega)) ⟨rfl, ⟨rfl, ⟨rfl, trivial⟩⟩⟩

theorem ffX9_28_9 : FF "KeptLightModel" 28 9 13 "KeptLightModel" := ⟨by decide, by decide, q3265, Or.inl rfl⟩
theorem ffX9_32_9 : FF "KeptLightModel" 32 9 14 "KeptLightModel" := ⟨by decide, by decide, q3266, Or.inl rfl⟩
theorem ffX9_35_9 : FF "KeptLightModel" 35 9 15 "KeptLightModel" := ⟨by decide, by decide, q3267, Or.inl rfl⟩
set_option maxHeartbeats 4000000 in
set_option maxRecDepth 100000 in
theorem c_X9_unlitBy (l : Launch) (G : kG) (M : kM) (m : Nat) (ad : Nat → Nat) (hS : MS M m ad) (g : gT) (sa : Nat → gT) (sf : Nat → Int32) (o : Int32) (n : Nat) (hn : n ≤ 200) : Kt l G yX9_unlitBy cX9_unlitBy 9 (some .int) 1 21 [.ref m, .int o, .int (nI n)] (SC M m ad g sa sf) (0) (0) (fun v M2 => v = some (.int (ubG g (sa 10) (sa 11) (sa 12) o n)) ∧ M2 = SC M m ad g sa sf) := by
  refine Kt.of (own := "KeptLightModel") (L := [some (.ref m), some (.int o), some (.int (nI n)), none, none, none, none, none, none]) (by decide +kernel) rfl (Nat.le_of_ble_eq_true rfl) rfl ?_
  intro pp ee ss mm args below meth cd hmn hret
  have km := hS.1
  obtain ⟨hr_g, kk_g, hn_g⟩ := hS.2.1 0 (by decide)
  have hr_g : mR M (fc 9 0) m = some (ad 0) := hr_g
  have hn_g : mN M (ad 0) = 2509 := hn_g
  have kk_g : mK M (ad 0) = some 120 := kk_g
  obtain ⟨hr_darkAt, kk_darkAt, hn_darkAt⟩ := hS.2.1 10 (by decide)
  have hr_darkAt : mR M (fc 9 13) m = some (ad 10) := hr_darkAt
  have hn_darkAt : mN M (ad 10) = 200 := hn_darkAt
  have kk_darkAt : mK M (ad 10) = some 123 := kk_darkAt
  obtain ⟨hr_tendedAt, kk_tendedAt, hn_tendedAt⟩ := hS.2.1 11 (by decide)
  have hr_tendedAt : mR M (fc 9 14) m = some (ad 11) := hr_tendedAt
  have hn_tendedAt : mN M (ad 11) = 200 := hn_tendedAt
  have kk_tendedAt : mK M (ad 11) = some 123 := kk_tendedAt
  obtain ⟨hr_boatAt, kk_boatAt, hn_boatAt⟩ := hS.2.1 12 (by decide)
  have hr_boatAt : mR M (fc 9 15) m = some (ad 12) := hr_boatAt
  have hn_boatAt : mN M (ad 12) = 200 := hn_boatAt
  have kk_boatAt : mK M (ad 12) = some 123 := kk_boatAt
  have ne_g_darkAt := hS.eqf 0 10 (by decide) (by decide) (by decide)
  have ne_g_tendedAt := hS.eqf 0 11 (by decide) (by decide) (by decide)
  have ne_g_boatAt := hS.eqf 0 12 (by decide) (by decide) (by decide)
  have ne_darkAt_g := hS.eqf 10 0 (by decide) (by decide) (by decide)
  have ne_darkAt_tendedAt := hS.eqf 10 11 (by decide) (by decide) (by decide)
  have ne_darkAt_boatAt := hS.eqf 10 12 (by decide) (by decide) (by decide)
  have ne_tendedAt_g := hS.eqf 11 0 (by decide) (by decide) (by decide)
  have ne_tendedAt_darkAt := hS.eqf 11 10 (by decide) (by decide) (by decide)
  have ne_tendedAt_boatAt := hS.eqf 11 12 (by decide) (by decide) (by decide)
  have ne_boatAt_g := hS.eqf 12 0 (by decide) (by decide) (by decide)
  have ne_boatAt_darkAt := hS.eqf 12 10 (by decide) (by decide) (by decide)
  have ne_boatAt_tendedAt := hS.eqf 12 11 (by decide) (by decide) (by decide)
  have cut43 : ∀ (fuel : Nat) (i : Nat) (h1 : n - i < fuel) (h2 : i ≤ n), Wx pp l ee { frames := 1, cells := 0, slots := 0, locals := 21 } ss mm args below meth cd "KeptLightModel" cX9_unlitBy 9 G (MQ below (KQ G (SC M m ad g sa sf) (fun v M2 => v = some (.int (ubG g (sa 10) (sa 11) (sa 12) o n)) ∧ M2 = SC M m ad g sa sf)) args ss (0) (0) (kA G)) 43 [some (.ref m), some (.int o), some (.int (nI n)), some (.int (ubT g (sa 10) (sa 11) (sa 12) o i).1), some (.int (ubT g (sa 10) (sa 11) (sa 12) o i).2.1), some (.int (ubT g (sa 10) (sa 11) (sa 12) o i).2.2.1), some (.int (ubT g (sa 10) (sa 11) (sa 12) o i).2.2.2), some (.int (nI i)), none] [] (SC M m ad g sa sf) (0) (0) := by
    intro fuel
    induction fuel with
    | zero => intro i h1 h2; omega
    | succ fuel ih =>
      intro i h1 h2
      refine x_iload (n' := 45) dX9_unlitBy_43 rfl rfl ?_
      refine x_iload_n (n' := 46) dX9_unlitBy_45 rfl rfl rfl ?_
      refine x_icmp_ge (n' := 49) (tgt := 201) dX9_unlitBy_46 (by decide) rfl (fun c46_1 => ?_) (fun c46_1 => ?_)
      · have n_c46_1 := (cv_le (by repeat' (first | with_reducible exact nl_0 | with_reducible exact nl_1 | with_reducible exact nl_3 | with_reducible exact nl_6 | with_reducible exact nl_7 | with_reducible exact nl_10 | with_reducible exact nl_9999 | with_reducible exact rfl | apply i_add | apply i_mul)) (by repeat' (first | with_reducible exact nl_0 | with_reducible exact nl_1 | with_reducible exact nl_3 | with_reducible exact nl_6 | with_reducible exact nl_7 | with_reducible exact nl_10 | with_reducible exact nl_9999 | with_reducible exact rfl | apply i_add | apply i_mul)) (by omega) (by omega)).mp c46_1
        refine x_iload (n' := 203) dX9_unlitBy_201 rfl rfl ?_
        exact x_iret dX9_unlitBy_203 hret (by repeat' (first | with_reducible exact kE.rf | with_reducible exact kE_SS | with_reducible apply kE_A | with_reducible apply kE_I | with_reducible apply kE_L | with_reducible apply kE_R | with_reducible apply kE_O | with_reducible apply kE_S)) (by rw [show i = n by omega]; exact ⟨rfl, rfl⟩)
      · have n_c46_1 := (not_congr (cv_le (by repeat' (first | with_reducible exact nl_0 | with_reducible exact nl_1 | with_reducible exact nl_3 | with_reducible exact nl_6 | with_reducible exact nl_7 | with_reducible exact nl_10 | with_reducible exact nl_9999 | with_reducible exact rfl | apply i_add | apply i_mul)) (by repeat' (first | with_reducible exact nl_0 | with_reducible exact nl_1 | with_reducible exact nl_3 | with_reducible exact nl_6 | with_reducible exact nl_7 | with_reducible exact nl_10 | with_reducible exact nl_9999 | with_reducible exact rfl | apply i_add | apply i_mul)) (by omega) (by omega))).mp c46_1
        refine x_aload_n (n' := 50) dX9_unlitBy_49 rfl rfl rfl ?_
        refine x_getRs (n' := 53) (b := (ad 10)) dX9_unlitBy_50 (by repeat' (first | with_reducible exact km | with_reducible apply mK_A | with_reducible apply mK_I | with_reducible apply mK_L | with_reducible apply mK_R | with_reducible apply mK_O | with_reducible apply mK_S)) ffX9_28_9 rfl (by repeat' (first | with_reducible exact hr_darkAt | with_reducible apply mR_A | with_reducible apply mR_I | with_reducible apply mR_L | with_reducible apply mR_S)) rfl ?_
        refine x_iload (n' := 55) dX9_unlitBy_53 rfl rfl ?_
        refine x_zldk (n' := 56) (N := 200) dX9_unlitBy_55 (by repeat' (first | with_reducible exact kk_darkAt | with_reducible apply mK_A | with_reducible apply mK_I | with_reducible apply mK_L | with_reducible apply mK_R | with_reducible apply mK_O | with_reducible apply mK_S)) (by repeat' (first | with_reducible exact hn_darkAt | with_reducible apply mN_A | with_reducible apply mN_I | with_reducible apply mN_L | with_reducible apply mN_R | with_reducible apply mN_O | with_reducible apply mN_S)) (by repeat' (first | with_reducible exact nl_0 | with_reducible exact nl_1 | with_reducible exact nl_3 | with_reducible exact nl_6 | with_reducible exact nl_7 | with_reducible exact nl_10 | with_reducible exact nl_9999 | with_reducible exact rfl | apply i_add | apply i_mul)) (by omega) (by decide) (by first | (simp (disch := omega) only [mA_sA, mA_sI, mA_SC0, mA_SC1 hS, mA_SC5 hS, mA_SC6 hS, mA_SC10 hS, mA_SC11 hS, mA_SC12 hS, up_s, up_n, if_false, ne_g_darkAt, ne_g_tendedAt, ne_g_boatAt, ne_darkAt_g, ne_darkAt_tendedAt, ne_darkAt_boatAt, ne_tendedAt_g, ne_tendedAt_darkAt, ne_tendedAt_boatAt, ne_boatAt_g, ne_boatAt_darkAt, ne_boatAt_tendedAt] <;> rfl) | rfl) rfl ?_
        refine x_fork (J := 94) (x_if_eq (n' := 59) (tgt := 93) dX9_unlitBy_56 (by decide) rfl) (v1 := ?v1_f56_2) (v2 := ?v2_f56_2) (fun c_f56_2 j_f56_2 => ?b1_f56_2) (fun c_f56_2 j_f56_2 => ?b2_f56_2) ?k_f56_2
        case b1_f56_2 =>
          refine x_iconst (n' := 94) (v := 0) dX9_unlitBy_93 (by decide) rfl ?_
          exact j_f56_2
        case b2_f56_2 =>
          refine x_aload_n (n' := 60) dX9_unlitBy_59 rfl rfl rfl ?_
          refine x_getRs (n' := 63) (b := (ad 11)) dX9_unlitBy_60 (by repeat' (first | with_reducible exact km | with_reducible apply mK_A | with_reducible apply mK_I | with_reducible apply mK_L | with_reducible apply mK_R | with_reducible apply mK_O | with_reducible apply mK_S)) ffX9_32_9 rfl (by repeat' (first | with_reducible exact hr_tendedAt | with_reducible apply mR_A | with_reducible apply mR_I | with_reducible apply mR_L | with_reducible apply mR_S)) rfl ?_
          refine x_iload (n' := 65) dX9_unlitBy_63 rfl rfl ?_
          refine x_zldk (n' := 66) (N := 200) dX9_unlitBy_65 (by repeat' (first | with_reducible exact kk_tendedAt | with_reducible apply mK_A | with_reducible apply mK_I | with_reducible apply mK_L | with_reducible apply mK_R | with_reducible apply mK_O | with_reducible apply mK_S)) (by repeat' (first | with_reducible exact hn_tendedAt | with_reducible apply mN_A | with_reducible apply mN_I | with_reducible apply mN_L | with_reducible apply mN_R | with_reducible apply mN_O | with_reducible apply mN_S)) (by repeat' (first | with_reducible exact nl_0 | with_reducible exact nl_1 | with_reducible exact nl_3 | with_reducible exact nl_6 | with_reducible exact nl_7 | with_reducible exact nl_10 | with_reducible exact nl_9999 | with_reducible exact rfl | apply i_add | apply i_mul)) (by omega) (by decide) (by first | (simp (disch := omega) only [mA_sA, mA_sI, mA_SC0, mA_SC1 hS, mA_SC5 hS, mA_SC6 hS, mA_SC10 hS, mA_SC11 hS, mA_SC12 hS, up_s, up_n, if_false, ne_g_darkAt, ne_g_tendedAt, ne_g_boatAt, ne_darkAt_g, ne_darkAt_tendedAt, ne_darkAt_boatAt, ne_tendedAt_g, ne_tendedAt_darkAt, ne_tendedAt_boatAt, ne_boatAt_g, ne_boatAt_darkAt, ne_boatAt_tendedAt] <;> rfl) | rfl) rfl ?_
          refine x_forkN (J := 94) (x_if_ne (n' := 69) (tgt := 79) dX9_unlitBy_66 (by decide) rfl) (v1 := ?v1_f66_3) (v2 := ?v2_f66_3) (fun c_f66_3 j_f66_3 => ?b1_f66_3) (fun c_f66_3 j_f66_3 => ?b2_f66_3) ?k_f66_3
          case b1_f66_3 =>
            refine x_iload_n (n' := 80) dX9_unlitBy_79 rfl rfl rfl ?_
            refine x_aload_n (n' := 81) dX9_unlitBy_80 rfl rfl rfl ?_
            refine x_getRs (n' := 84) (b := (ad 0)) dX9_unlitBy_81 (by repeat' (first | with_reducible exact km | with_reducible apply mK_A | with_reducible apply mK_I | with_reducible apply mK_L | with_reducible apply mK_R | with_reducible apply mK_O | with_reducible apply mK_S)) ffX9_9_9 rfl (by repeat' (first | with_reducible exact hr_g | with_reducible apply mR_A | with_reducible apply mR_I | with_reducible apply mR_L | with_reducible apply mR_S)) rfl ?_
            refine x_iconst (n' := 85) (v := 3) dX9_unlitBy_84 (by decide) rfl ?_
            refine x_ildk (n' := 86) (N := 2509) dX9_unlitBy_85 (by repeat' (first | with_reducible exact kk_g | with_reducible apply mK_A | with_reducible apply mK_I | with_reducible apply mK_L | with_reducible apply mK_R | with_reducible apply mK_O | with_reducible apply mK_S)) (by repeat' (first | with_reducible exact hn_g | with_reducible apply mN_A | with_reducible apply mN_I | with_reducible apply mN_L | with_reducible apply mN_R | with_reducible apply mN_O | with_reducible apply mN_S)) (by repeat' (first | with_reducible exact nl_0 | with_reducible exact nl_1 | with_reducible exact nl_3 | with_reducible exact nl_6 | with_reducible exact nl_7 | with_reducible exact nl_10 | with_reducible exact nl_9999 | with_reducible exact rfl | apply i_add | apply i_mul)) (by omega) (by decide) (by first | (simp (disch := omega) only [mA_sA, mA_sI, mA_SC0, mA_SC1 hS, mA_SC5 hS, mA_SC6 hS, mA_SC10 hS, mA_SC11 hS, mA_SC12 hS, up_s, up_n, if_false, ne_g_darkAt, ne_g_tendedAt, ne_g_boatAt, ne_darkAt_g, ne_darkAt_tendedAt, ne_darkAt_boatAt, ne_tendedAt_g, ne_tendedAt_darkAt, ne_tendedAt_boatAt, ne_boatAt_g, ne_boatAt_darkAt, ne_boatAt_tendedAt] <;> rfl) | rfl) rfl ?_
            refine x_fork (J := 94) (x_icmp_lt (n' := 89) (tgt := 93) dX9_unlitBy_86 (by decide) rfl) (v1 := ?v1_f86_4) (v2 := ?v2_f86_4) (fun c_f86_4 j_f86_4 => ?b1_f86_4) (fun c_f86_4 j_f86_4 => ?b2_f86_4) ?k_f86_4
            case b1_f86_4 =>
              refine x_iconst (n' := 94) (v := 0) dX9_unlitBy_93 (by decide) rfl ?_
              exact j_f86_4
            case b2_f86_4 =>
              refine x_iconst (n' := 90) (v := 1) dX9_unlitBy_89 (by decide) rfl ?_
              refine x_goto (tgt := 94) dX9_unlitBy_90 (by decide) ?_
              exact j_f86_4
            exact j_f66_3
          case b2_f66_3 =>
            refine x_iload (n' := 71) dX9_unlitBy_69 rfl rfl ?_
            refine x_fork (J := 94) (x_if_eq (n' := 74) (tgt := 93) dX9_unlitBy_71 (by decide) rfl) (v1 := ?v1_f71_5) (v2 := ?v2_f71_5) (fun c_f71_5 j_f71_5 => ?b1_f71_5) (fun c_f71_5 j_f71_5 => ?b2_f71_5) ?k_f71_5
            case b1_f71_5 =>
              refine x_iconst (n' := 94) (v := 0) dX9_unlitBy_93 (by decide) rfl ?_
              exact j_f71_5
            case b2_f71_5 =>
              refine x_iload (n' := 76) dX9_unlitBy_74 rfl rfl ?_
              refine x_forkN (J := 94) (x_if_ne (n' := 79) (tgt := 93) dX9_unlitBy_76 (by decide) rfl) (v1 := ?v1_f76_6) (v2 := ?v2_f76_6) (fun c_f76_6 j_f76_6 => ?b1_f76_6) (fun c_f76_6 j_f76_6 => ?b2_f76_6) ?k_f76_6
              case b1_f76_6 =>
                refine x_iconst (n' := 94) (v := 0) dX9_unlitBy_93 (by decide) rfl ?_
                exact j_f76_6
              case b2_f76_6 =>
                refine x_iload_n (n' := 80) dX9_unlitBy_79 rfl rfl rfl ?_
                refine x_aload_n (n' := 81) dX9_unlitBy_80 rfl rfl rfl ?_
                refine x_getRs (n' := 84) (b := (ad 0)) dX9_unlitBy_81 (by repeat' (first | with_reducible exact km | with_reducible apply mK_A | with_reducible apply mK_I | with_reducible apply mK_L | with_reducible apply mK_R | with_reducible apply mK_O | with_reducible apply mK_S)) ffX9_9_9 rfl (by repeat' (first | with_reducible exact hr_g | with_reducible apply mR_A | with_reducible apply mR_I | with_reducible apply mR_L | with_reducible apply mR_S)) rfl ?_
                refine x_iconst (n' := 85) (v := 3) dX9_unlitBy_84 (by decide) rfl ?_
                refine x_ildk (n' := 86) (N := 2509) dX9_unlitBy_85 (by repeat' (first | with_reducible exact kk_g | with_reducible apply mK_A | with_reducible apply mK_I | with_reducible apply mK_L | with_reducible apply mK_R | with_reducible apply mK_O | with_reducible apply mK_S)) (by repeat' (first | with_reducible exact hn_g | with_reducible apply mN_A | with_reducible apply mN_I | with_reducible apply mN_L | with_reducible apply mN_R | with_reducible apply mN_O | with_reducible apply mN_S)) (by repeat' (first | with_reducible exact nl_0 | with_reducible exact nl_1 | with_reducible exact nl_3 | with_reducible exact nl_6 | with_reducible exact nl_7 | with_reducible exact nl_10 | with_reducible exact nl_9999 | with_reducible exact rfl | apply i_add | apply i_mul)) (by omega) (by decide) (by first | (simp (disch := omega) only [mA_sA, mA_sI, mA_SC0, mA_SC1 hS, mA_SC5 hS, mA_SC6 hS, mA_SC10 hS, mA_SC11 hS, mA_SC12 hS, up_s, up_n, if_false, ne_g_darkAt, ne_g_tendedAt, ne_g_boatAt, ne_darkAt_g, ne_darkAt_tendedAt, ne_darkAt_boatAt, ne_tendedAt_g, ne_tendedAt_darkAt, ne_tendedAt_boatAt, ne_boatAt_g, ne_boatAt_darkAt, ne_boatAt_tendedAt] <;> rfl) | rfl) rfl ?_
                refine x_fork (J := 94) (x_icmp_lt (n' := 89) (tgt := 93) dX9_unlitBy_86 (by decide) rfl) (v1 := ?v1_f86_7) (v2 := ?v2_f86_7) (fun c_f86_7 j_f86_7 => ?b1_f86_7) (fun c_f86_7 j_f86_7 => ?b2_f86_7) ?k_f86_7
                case b1_f86_7 =>
                  refine x_iconst (n' := 94) (v := 0) dX9_unlitBy_93 (by decide) rfl ?_
                  exact j_f86_7
                case b2_f86_7 =>
                  refine x_iconst (n' := 90) (v := 1) dX9_unlitBy_89 (by decide) rfl ?_
                  refine x_goto (tgt := 94) dX9_unlitBy_90 (by decide) ?_
                  exact j_f86_7
                exact j_f76_6
              exact j_f71_5
            exact j_f66_3
          exact j_f56_2
        refine x_topv (y := (ubL g (sa 10) (sa 11) i (ubT g (sa 10) (sa 11) (sa 12) o i).1 (ubT g (sa 10) (sa 11) (sa 12) o i).2.1 (ubT g (sa 10) (sa 11) (sa 12) o i).2.2.1)) (by exact ubL_eq) ?_
        refine x_istore (n' := 96) dX9_unlitBy_94 (Nat.le_of_ble_eq_true rfl) rfl (by dsimp only [List.set] <;> rfl) rfl ?_
        refine x_iload_n (n' := 97) dX9_unlitBy_96 rfl rfl rfl ?_
        refine x_iload (n' := 99) dX9_unlitBy_97 rfl rfl ?_
        refine x_fork (J := 112) (x_if_eq (n' := 102) (tgt := 111) dX9_unlitBy_99 (by decide) rfl) (v1 := ?v1_f99_8) (v2 := ?v2_f99_8) (fun c_f99_8 j_f99_8 => ?b1_f99_8) (fun c_f99_8 j_f99_8 => ?b2_f99_8) ?k_f99_8
        case b1_f99_8 =>
          refine x_iconst (n' := 112) (v := 0) dX9_unlitBy_111 (by decide) rfl ?_
          exact j_f99_8
        case b2_f99_8 =>
          refine x_aload_n (n' := 103) dX9_unlitBy_102 rfl rfl rfl ?_
          refine x_getRs (n' := 106) (b := (ad 0)) dX9_unlitBy_103 (by repeat' (first | with_reducible exact km | with_reducible apply mK_A | with_reducible apply mK_I | with_reducible apply mK_L | with_reducible apply mK_R | with_reducible apply mK_O | with_reducible apply mK_S)) ffX9_9_9 rfl (by repeat' (first | with_reducible exact hr_g | with_reducible apply mR_A | with_reducible apply mR_I | with_reducible apply mR_L | with_reducible apply mR_S)) rfl ?_
          refine x_iconst (n' := 107) (v := 3) dX9_unlitBy_106 (by decide) rfl ?_
          refine x_ildk (n' := 108) (N := 2509) dX9_unlitBy_107 (by repeat' (first | with_reducible exact kk_g | with_reducible apply mK_A | with_reducible apply mK_I | with_reducible apply mK_L | with_reducible apply mK_R | with_reducible apply mK_O | with_reducible apply mK_S)) (by repeat' (first | with_reducible exact hn_g | with_reducible apply mN_A | with_reducible apply mN_I | with_reducible apply mN_L | with_reducible apply mN_R | with_reducible apply mN_O | with_reducible apply mN_S)) (by repeat' (first | with_reducible exact nl_0 | with_reducible exact nl_1 | with_reducible exact nl_3 | with_reducible exact nl_6 | with_reducible exact nl_7 | with_reducible exact nl_10 | with_reducible exact nl_9999 | with_reducible exact rfl | apply i_add | apply i_mul)) (by omega) (by decide) (by first | (simp (disch := omega) only [mA_sA, mA_sI, mA_SC0, mA_SC1 hS, mA_SC5 hS, mA_SC6 hS, mA_SC10 hS, mA_SC11 hS, mA_SC12 hS, up_s, up_n, if_false, ne_g_darkAt, ne_g_tendedAt, ne_g_boatAt, ne_darkAt_g, ne_darkAt_tendedAt, ne_darkAt_boatAt, ne_tendedAt_g, ne_tendedAt_darkAt, ne_tendedAt_boatAt, ne_boatAt_g, ne_boatAt_darkAt, ne_boatAt_tendedAt] <;> rfl) | rfl) rfl ?_
          refine x_goto (tgt := 112) dX9_unlitBy_108 (by decide) ?_
          exact j_f99_8
        refine x_isub (n' := 113) dX9_unlitBy_112 rfl ?_
        refine x_istore_n (n' := 114) dX9_unlitBy_113 rfl (Nat.le_of_ble_eq_true rfl) rfl (by dsimp only [List.set] <;> rfl) rfl ?_
        refine x_iload (n' := 116) dX9_unlitBy_114 rfl rfl ?_
        refine x_fork (J := 134) (x_if_eq (n' := 119) (tgt := 133) dX9_unlitBy_116 (by decide) rfl) (v1 := ?v1_f116_9) (v2 := ?v2_f116_9) (fun c_f116_9 j_f116_9 => ?b1_f116_9) (fun c_f116_9 j_f116_9 => ?b2_f116_9) ?k_f116_9
        case b1_f116_9 =>
          refine x_iconst (n' := 134) (v := 0) dX9_unlitBy_133 (by decide) rfl ?_
          exact j_f116_9
        case b2_f116_9 =>
          refine x_aload_n (n' := 120) dX9_unlitBy_119 rfl rfl rfl ?_
          refine x_getRs (n' := 123) (b := (ad 11)) dX9_unlitBy_120 (by repeat' (first | with_reducible exact km | with_reducible apply mK_A | with_reducible apply mK_I | with_reducible apply mK_L | with_reducible apply mK_R | with_reducible apply mK_O | with_reducible apply mK_S)) ffX9_32_9 rfl (by repeat' (first | with_reducible exact hr_tendedAt | with_reducible apply mR_A | with_reducible apply mR_I | with_reducible apply mR_L | with_reducible apply mR_S)) rfl ?_
          refine x_iload (n' := 125) dX9_unlitBy_123 rfl rfl ?_
          refine x_zldk (n' := 126) (N := 200) dX9_unlitBy_125 (by repeat' (first | with_reducible exact kk_tendedAt | with_reducible apply mK_A | with_reducible apply mK_I | with_reducible apply mK_L | with_reducible apply mK_R | with_reducible apply mK_O | with_reducible apply mK_S)) (by repeat' (first | with_reducible exact hn_tendedAt | with_reducible apply mN_A | with_reducible apply mN_I | with_reducible apply mN_L | with_reducible apply mN_R | with_reducible apply mN_O | with_reducible apply mN_S)) (by repeat' (first | with_reducible exact nl_0 | with_reducible exact nl_1 | with_reducible exact nl_3 | with_reducible exact nl_6 | with_reducible exact nl_7 | with_reducible exact nl_10 | with_reducible exact nl_9999 | with_reducible exact rfl | apply i_add | apply i_mul)) (by omega) (by decide) (by first | (simp (disch := omega) only [mA_sA, mA_sI, mA_SC0, mA_SC1 hS, mA_SC5 hS, mA_SC6 hS, mA_SC10 hS, mA_SC11 hS, mA_SC12 hS, up_s, up_n, if_false, ne_g_darkAt, ne_g_tendedAt, ne_g_boatAt, ne_darkAt_g, ne_darkAt_tendedAt, ne_darkAt_boatAt, ne_tendedAt_g, ne_tendedAt_darkAt, ne_tendedAt_boatAt, ne_boatAt_g, ne_boatAt_darkAt, ne_boatAt_tendedAt] <;> rfl) | rfl) rfl ?_
          refine x_forkN (J := 134) (x_if_ne (n' := 129) (tgt := 133) dX9_unlitBy_126 (by decide) rfl) (v1 := ?v1_f126_10) (v2 := ?v2_f126_10) (fun c_f126_10 j_f126_10 => ?b1_f126_10) (fun c_f126_10 j_f126_10 => ?b2_f126_10) ?k_f126_10
          case b1_f126_10 =>
            refine x_iconst (n' := 134) (v := 0) dX9_unlitBy_133 (by decide) rfl ?_
            exact j_f126_10
          case b2_f126_10 =>
            refine x_iconst (n' := 130) (v := 1) dX9_unlitBy_129 (by decide) rfl ?_
            refine x_goto (tgt := 134) dX9_unlitBy_130 (by decide) ?_
            exact j_f126_10
          exact j_f116_9
        refine x_topv bi_nn ?_
        refine x_istore (n' := 136) dX9_unlitBy_134 (Nat.le_of_ble_eq_true rfl) rfl (by dsimp only [List.set] <;> rfl) rfl ?_
        refine x_iload (n' := 138) dX9_unlitBy_136 rfl rfl ?_
        refine x_istore (n' := 140) dX9_unlitBy_138 (Nat.le_of_ble_eq_true rfl) rfl (by dsimp only [List.set] <;> rfl) rfl ?_
        refine x_iload (n' := 142) dX9_unlitBy_140 rfl rfl ?_
        refine x_aload_n (n' := 143) dX9_unlitBy_142 rfl rfl rfl ?_
        refine x_getRs (n' := 146) (b := (ad 10)) dX9_unlitBy_143 (by repeat' (first | with_reducible exact km | with_reducible apply mK_A | with_reducible apply mK_I | with_reducible apply mK_L | with_reducible apply mK_R | with_reducible apply mK_O | with_reducible apply mK_S)) ffX9_28_9 rfl (by repeat' (first | with_reducible exact hr_darkAt | with_reducible apply mR_A | with_reducible apply mR_I | with_reducible apply mR_L | with_reducible apply mR_S)) rfl ?_
        refine x_iload (n' := 148) dX9_unlitBy_146 rfl rfl ?_
        refine x_zldk (n' := 149) (N := 200) dX9_unlitBy_148 (by repeat' (first | with_reducible exact kk_darkAt | with_reducible apply mK_A | with_reducible apply mK_I | with_reducible apply mK_L | with_reducible apply mK_R | with_reducible apply mK_O | with_reducible apply mK_S)) (by repeat' (first | with_reducible exact hn_darkAt | with_reducible apply mN_A | with_reducible apply mN_I | with_reducible apply mN_L | with_reducible apply mN_R | with_reducible apply mN_O | with_reducible apply mN_S)) (by repeat' (first | with_reducible exact nl_0 | with_reducible exact nl_1 | with_reducible exact nl_3 | with_reducible exact nl_6 | with_reducible exact nl_7 | with_reducible exact nl_10 | with_reducible exact nl_9999 | with_reducible exact rfl | apply i_add | apply i_mul)) (by omega) (by decide) (by first | (simp (disch := omega) only [mA_sA, mA_sI, mA_SC0, mA_SC1 hS, mA_SC5 hS, mA_SC6 hS, mA_SC10 hS, mA_SC11 hS, mA_SC12 hS, up_s, up_n, if_false, ne_g_darkAt, ne_g_tendedAt, ne_g_boatAt, ne_darkAt_g, ne_darkAt_tendedAt, ne_darkAt_boatAt, ne_tendedAt_g, ne_tendedAt_darkAt, ne_tendedAt_boatAt, ne_boatAt_g, ne_boatAt_darkAt, ne_boatAt_tendedAt] <;> rfl) | rfl) rfl ?_
        refine x_fork (J := 162) (x_if_eq (n' := 152) (tgt := 161) dX9_unlitBy_149 (by decide) rfl) (v1 := ?v1_f149_11) (v2 := ?v2_f149_11) (fun c_f149_11 j_f149_11 => ?b1_f149_11) (fun c_f149_11 j_f149_11 => ?b2_f149_11) ?k_f149_11
        case b1_f149_11 =>
          refine x_iconst (n' := 162) (v := 0) dX9_unlitBy_161 (by decide) rfl ?_
          exact j_f149_11
        case b2_f149_11 =>
          refine x_iload (n' := 154) dX9_unlitBy_152 rfl rfl ?_
          refine x_forkN (J := 162) (x_if_ne (n' := 157) (tgt := 161) dX9_unlitBy_154 (by decide) rfl) (v1 := ?v1_f154_12) (v2 := ?v2_f154_12) (fun c_f154_12 j_f154_12 => ?b1_f154_12) (fun c_f154_12 j_f154_12 => ?b2_f154_12) ?k_f154_12
          case b1_f154_12 =>
            refine x_iconst (n' := 162) (v := 0) dX9_unlitBy_161 (by decide) rfl ?_
            exact j_f154_12
          case b2_f154_12 =>
            refine x_iconst (n' := 158) (v := 1) dX9_unlitBy_157 (by decide) rfl ?_
            refine x_goto (tgt := 162) dX9_unlitBy_158 (by decide) ?_
            exact j_f154_12
          exact j_f149_11
        refine x_topv bi_nn ?_
        refine x_iadd (n' := 163) dX9_unlitBy_162 rfl ?_
        refine x_istore (n' := 165) dX9_unlitBy_163 (Nat.le_of_ble_eq_true rfl) rfl (by dsimp only [List.set] <;> rfl) rfl ?_
        refine x_aload_n (n' := 166) dX9_unlitBy_165 rfl rfl rfl ?_
        refine x_getRs (n' := 169) (b := (ad 12)) dX9_unlitBy_166 (by repeat' (first | with_reducible exact km | with_reducible apply mK_A | with_reducible apply mK_I | with_reducible apply mK_L | with_reducible apply mK_R | with_reducible apply mK_O | with_reducible apply mK_S)) ffX9_35_9 rfl (by repeat' (first | with_reducible exact hr_boatAt | with_reducible apply mR_A | with_reducible apply mR_I | with_reducible apply mR_L | with_reducible apply mR_S)) rfl ?_
        refine x_iload (n' := 171) dX9_unlitBy_169 rfl rfl ?_
        refine x_zldk (n' := 172) (N := 200) dX9_unlitBy_171 (by repeat' (first | with_reducible exact kk_boatAt | with_reducible apply mK_A | with_reducible apply mK_I | with_reducible apply mK_L | with_reducible apply mK_R | with_reducible apply mK_O | with_reducible apply mK_S)) (by repeat' (first | with_reducible exact hn_boatAt | with_reducible apply mN_A | with_reducible apply mN_I | with_reducible apply mN_L | with_reducible apply mN_R | with_reducible apply mN_O | with_reducible apply mN_S)) (by repeat' (first | with_reducible exact nl_0 | with_reducible exact nl_1 | with_reducible exact nl_3 | with_reducible exact nl_6 | with_reducible exact nl_7 | with_reducible exact nl_10 | with_reducible exact nl_9999 | with_reducible exact rfl | apply i_add | apply i_mul)) (by omega) (by decide) (by first | (simp (disch := omega) only [mA_sA, mA_sI, mA_SC0, mA_SC1 hS, mA_SC5 hS, mA_SC6 hS, mA_SC10 hS, mA_SC11 hS, mA_SC12 hS, up_s, up_n, if_false, ne_g_darkAt, ne_g_tendedAt, ne_g_boatAt, ne_darkAt_g, ne_darkAt_tendedAt, ne_darkAt_boatAt, ne_tendedAt_g, ne_tendedAt_darkAt, ne_tendedAt_boatAt, ne_boatAt_g, ne_boatAt_darkAt, ne_boatAt_tendedAt] <;> rfl) | rfl) rfl ?_
        refine x_if_eq (n' := 175) (tgt := 193) dX9_unlitBy_172 (by decide) rfl (fun c172_13 => ?_) (fun c172_13 => ?_)
        · have C172 := c172_13
          refine x_iload_n (n' := 194) dX9_unlitBy_193 rfl rfl rfl ?_
          refine x_topv (y := ubO g (sa 12) i (ubT g (sa 10) (sa 11) (sa 12) o i).1 (ubL g (sa 10) (sa 11) i (ubT g (sa 10) (sa 11) (sa 12) o i).1 (ubT g (sa 10) (sa 11) (sa 12) o i).2.1 (ubT g (sa 10) (sa 11) (sa 12) o i).2.2.1)) (by unfold ubO; first | (rw [if_pos C172]; try rfl) | (rw [if_neg C172]; try rfl)) ?_
          refine x_istore_n (n' := 195) dX9_unlitBy_194 rfl (Nat.le_of_ble_eq_true rfl) rfl (by dsimp only [List.set] <;> rfl) rfl ?_
          refine x_iinc (n' := 198) dX9_unlitBy_195 rfl (by first | exact nI_inc _ | exact nI_decp (by omega) | exact i_inc _ | rfl) (Nat.le_of_ble_eq_true rfl) rfl (by dsimp only [List.set] <;> rfl) rfl ?_
          refine x_goto (tgt := 43) dX9_unlitBy_198 (by decide) ?_
          exact x_drop (ih (i + 1) (by omega) (by omega)) ⟨rfl, ⟨rfl, ⟨rfl, ⟨rfl, ⟨rfl, ⟨rfl, ⟨rfl, ⟨rfl, trivial⟩⟩⟩⟩⟩⟩⟩⟩
        · have C172 := c172_13
          refine x_sipush (n' := 178) (v := 9999) dX9_unlitBy_175 (by decide) rfl ?_
          refine x_iload_n (n' := 179) dX9_unlitBy_178 rfl rfl rfl ?_
          refine x_aload_n (n' := 180) dX9_unlitBy_179 rfl rfl rfl ?_
          refine x_getRs (n' := 183) (b := (ad 0)) dX9_unlitBy_180 (by repeat' (first | with_reducible exact km | with_reducible apply mK_A | with_reducible apply mK_I | with_reducible apply mK_L | with_reducible apply mK_R | with_reducible apply mK_O | with_reducible apply mK_S)) ffX9_9_9 rfl (by repeat' (first | with_reducible exact hr_g | with_reducible apply mR_A | with_reducible apply mR_I | with_reducible apply mR_L | with_reducible apply mR_S)) rfl ?_
          refine x_bipush (n' := 185) (v := 10) dX9_unlitBy_183 (by decide) rfl ?_
          refine x_ildk (n' := 186) (N := 2509) dX9_unlitBy_185 (by repeat' (first | with_reducible exact kk_g | with_reducible apply mK_A | with_reducible apply mK_I | with_reducible apply mK_L | with_reducible apply mK_R | with_reducible apply mK_O | with_reducible apply mK_S)) (by repeat' (first | with_reducible exact hn_g | with_reducible apply mN_A | with_reducible apply mN_I | with_reducible apply mN_L | with_reducible apply mN_R | with_reducible apply mN_O | with_reducible apply mN_S)) (by repeat' (first | with_reducible exact nl_0 | with_reducible exact nl_1 | with_reducible exact nl_3 | with_reducible exact nl_6 | with_reducible exact nl_7 | with_reducible exact nl_10 | with_reducible exact nl_9999 | with_reducible exact rfl | apply i_add | apply i_mul)) (by omega) (by decide) (by first | (simp (disch := omega) only [mA_sA, mA_sI, mA_SC0, mA_SC1 hS, mA_SC5 hS, mA_SC6 hS, mA_SC10 hS, mA_SC11 hS, mA_SC12 hS, up_s, up_n, if_false, ne_g_darkAt, ne_g_tendedAt, ne_g_boatAt, ne_darkAt_g, ne_darkAt_tendedAt, ne_darkAt_boatAt, ne_tendedAt_g, ne_tendedAt_darkAt, ne_tendedAt_boatAt, ne_boatAt_g, ne_boatAt_darkAt, ne_boatAt_tendedAt] <;> rfl) | rfl) rfl ?_
          refine x_iadd (n' := 187) dX9_unlitBy_186 rfl ?_
          refine x_mmin (n' := 190) dX9_unlitBy_187 q3460 q496 q101 q497 ⟨(Nat.le_of_ble_eq_true rfl), (Nat.le_of_ble_eq_true rfl)⟩ (Nat.le_of_ble_eq_true rfl) rfl ?_
          refine x_goto (tgt := 194) dX9_unlitBy_190 (by decide) ?_
          refine x_topv (y := ubO g (sa 12) i (ubT g (sa 10) (sa 11) (sa 12) o i).1 (ubL g (sa 10) (sa 11) i (ubT g (sa 10) (sa 11) (sa 12) o i).1 (ubT g (sa 10) (sa 11) (sa 12) o i).2.1 (ubT g (sa 10) (sa 11) (sa 12) o i).2.2.1)) (by unfold ubO; first | (rw [if_pos C172]; try rfl) | (rw [if_neg C172]; try rfl)) ?_
          refine x_istore_n (n' := 195) dX9_unlitBy_194 rfl (Nat.le_of_ble_eq_true rfl) rfl (by dsimp only [List.set] <;> rfl) rfl ?_
          refine x_iinc (n' := 198) dX9_unlitBy_195 rfl (by first | exact nI_inc _ | exact nI_decp (by omega) | exact i_inc _ | rfl) (Nat.le_of_ble_eq_true rfl) rfl (by dsimp only [List.set] <;> rfl) rfl ?_
          refine x_goto (tgt := 43) dX9_unlitBy_198 (by decide) ?_
          exact x_drop (ih (i + 1) (by omega) (by omega)) ⟨rfl, ⟨rfl, ⟨rfl, ⟨rfl, ⟨rfl, ⟨rfl, ⟨rfl, ⟨rfl, trivial⟩⟩⟩⟩⟩⟩⟩⟩
  refine x_iload_n (n' := 1) dX9_unlitBy_0 rfl rfl rfl ?_
  refine x_istore_n (n' := 2) dX9_unlitBy_1 rfl (Nat.le_of_ble_eq_true rfl) rfl (by dsimp only [List.set] <;> rfl) rfl ?_
  refine x_aload_n (n' := 3) dX9_unlitBy_2 rfl rfl rfl ?_
  refine x_getRs (n' := 6) (b := (ad 0)) dX9_unlitBy_3 (by repeat' (first | with_reducible exact km | with_reducible apply mK_A | with_reducible apply mK_I | with_reducible apply mK_L | with_reducible apply mK_R | with_reducible apply mK_O | with_reducible apply mK_S)) ffX9_9_9 rfl (by repeat' (first | with_reducible exact hr_g | with_reducible apply mR_A | with_reducible apply mR_I | with_reducible apply mR_L | with_reducible apply mR_S)) rfl ?_
  refine x_bipush (n' := 8) (v := 6) dX9_unlitBy_6 (by decide) rfl ?_
  refine x_ildk (n' := 9) (N := 2509) dX9_unlitBy_8 (by repeat' (first | with_reducible exact kk_g | with_reducible apply mK_A | with_reducible apply mK_I | with_reducible apply mK_L | with_reducible apply mK_R | with_reducible apply mK_O | with_reducible apply mK_S)) (by repeat' (first | with_reducible exact hn_g | with_reducible apply mN_A | with_reducible apply mN_I | with_reducible apply mN_L | with_reducible apply mN_R | with_reducible apply mN_O | with_reducible apply mN_S)) (by repeat' (first | with_reducible exact nl_0 | with_reducible exact nl_1 | with_reducible exact nl_3 | with_reducible exact nl_6 | with_reducible exact nl_7 | with_reducible exact nl_10 | with_reducible exact nl_9999 | with_reducible exact rfl | apply i_add | apply i_mul)) (by omega) (by decide) (by first | (simp (disch := omega) only [mA_sA, mA_sI, mA_SC0, mA_SC1 hS, mA_SC5 hS, mA_SC6 hS, mA_SC10 hS, mA_SC11 hS, mA_SC12 hS, up_s, up_n, if_false, ne_g_darkAt, ne_g_tendedAt, ne_g_boatAt, ne_darkAt_g, ne_darkAt_tendedAt, ne_darkAt_boatAt, ne_tendedAt_g, ne_tendedAt_darkAt, ne_tendedAt_boatAt, ne_boatAt_g, ne_boatAt_darkAt, ne_boatAt_tendedAt] <;> rfl) | rfl) rfl ?_
  refine x_iconst (n' := 10) (v := 1) dX9_unlitBy_9 (by decide) rfl ?_
  refine x_forkN (J := 18) (x_icmp_ne (n' := 13) (tgt := 17) dX9_unlitBy_10 (by decide) rfl) (v1 := ?v1_f10_14) (v2 := ?v2_f10_14) (fun c_f10_14 j_f10_14 => ?b1_f10_14) (fun c_f10_14 j_f10_14 => ?b2_f10_14) ?k_f10_14
  case b1_f10_14 =>
    refine x_iconst (n' := 18) (v := 0) dX9_unlitBy_17 (by decide) rfl ?_
    exact j_f10_14
  case b2_f10_14 =>
    refine x_iconst (n' := 14) (v := 1) dX9_unlitBy_13 (by decide) rfl ?_
    refine x_goto (tgt := 18) dX9_unlitBy_14 (by decide) ?_
    exact j_f10_14
  refine x_topv (y := bi (g 6 = 1)) (by exact rfl) ?_
  refine x_istore (n' := 20) dX9_unlitBy_18 (Nat.le_of_ble_eq_true rfl) rfl (by dsimp only [List.set] <;> rfl) rfl ?_
  refine x_aload_n (n' := 21) dX9_unlitBy_20 rfl rfl rfl ?_
  refine x_getRs (n' := 24) (b := (ad 0)) dX9_unlitBy_21 (by repeat' (first | with_reducible exact km | with_reducible apply mK_A | with_reducible apply mK_I | with_reducible apply mK_L | with_reducible apply mK_R | with_reducible apply mK_O | with_reducible apply mK_S)) ffX9_9_9 rfl (by repeat' (first | with_reducible exact hr_g | with_reducible apply mR_A | with_reducible apply mR_I | with_reducible apply mR_L | with_reducible apply mR_S)) rfl ?_
  refine x_bipush (n' := 26) (v := 7) dX9_unlitBy_24 (by decide) rfl ?_
  refine x_ildk (n' := 27) (N := 2509) dX9_unlitBy_26 (by repeat' (first | with_reducible exact kk_g | with_reducible apply mK_A | with_reducible apply mK_I | with_reducible apply mK_L | with_reducible apply mK_R | with_reducible apply mK_O | with_reducible apply mK_S)) (by repeat' (first | with_reducible exact hn_g | with_reducible apply mN_A | with_reducible apply mN_I | with_reducible apply mN_L | with_reducible apply mN_R | with_reducible apply mN_O | with_reducible apply mN_S)) (by repeat' (first | with_reducible exact nl_0 | with_reducible exact nl_1 | with_reducible exact nl_3 | with_reducible exact nl_6 | with_reducible exact nl_7 | with_reducible exact nl_10 | with_reducible exact nl_9999 | with_reducible exact rfl | apply i_add | apply i_mul)) (by omega) (by decide) (by first | (simp (disch := omega) only [mA_sA, mA_sI, mA_SC0, mA_SC1 hS, mA_SC5 hS, mA_SC6 hS, mA_SC10 hS, mA_SC11 hS, mA_SC12 hS, up_s, up_n, if_false, ne_g_darkAt, ne_g_tendedAt, ne_g_boatAt, ne_darkAt_g, ne_darkAt_tendedAt, ne_darkAt_boatAt, ne_tendedAt_g, ne_tendedAt_darkAt, ne_tendedAt_boatAt, ne_boatAt_g, ne_boatAt_darkAt, ne_boatAt_tendedAt] <;> rfl) | rfl) rfl ?_
  refine x_fork (J := 35) (x_if_le (n' := 30) (tgt := 34) dX9_unlitBy_27 (by decide) rfl) (v1 := ?v1_f27_15) (v2 := ?v2_f27_15) (fun c_f27_15 j_f27_15 => ?b1_f27_15) (fun c_f27_15 j_f27_15 => ?b2_f27_15) ?k_f27_15
  case b1_f27_15 =>
    refine x_iconst (n' := 35) (v := 0) dX9_unlitBy_34 (by decide) rfl ?_
    exact j_f27_15
  case b2_f27_15 =>
    refine x_iconst (n' := 31) (v := 1) dX9_unlitBy_30 (by decide) rfl ?_
    refine x_goto (tgt := 35) dX9_unlitBy_31 (by decide) ?_
    exact j_f27_15
  refine x_topv bi_gt ?_
  refine x_istore (n' := 37) dX9_unlitBy_35 (Nat.le_of_ble_eq_true rfl) rfl (by dsimp only [List.set] <;> rfl) rfl ?_
  refine x_iconst (n' := 38) (v := 0) dX9_unlitBy_37 (by decide) rfl ?_
  refine x_istore (n' := 40) dX9_unlitBy_38 (Nat.le_of_ble_eq_true rfl) rfl (by dsimp only [List.set] <;> rfl) rfl ?_
  refine x_iconst (n' := 41) (v := 0) dX9_unlitBy_40 (by decide) rfl ?_
  refine x_istore (n' := 43) dX9_unlitBy_41 (Nat.le_of_ble_eq_true rfl) rfl (by dsimp only [List.set] <;> rfl) rfl ?_
  exact x_drop (cut43 (n + 1) 0 (by omega) (by omega)) ⟨rfl, ⟨rfl, ⟨rfl, ⟨rfl, ⟨rfl, ⟨rfl, ⟨rfl, ⟨rfl, trivial⟩⟩⟩⟩⟩⟩⟩⟩
