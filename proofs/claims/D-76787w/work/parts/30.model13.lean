theorem cpX_eq {i j n k : Nat} (hi : i < 2147483648) (hj : j < 2147483648) (hk : k < n) : (if nI j ≤ nI i then nI k else nI n - 1 - nI k) = nI (cpX i j n k) := by
  unfold cpX
  by_cases h : j ≤ i
  · rw [if_pos ((nI_leI hj hi).mpr h), if_neg (by omega)]
  · rw [if_neg (fun q => h ((nI_leI hj hi).mp q)), if_pos (by omega), nl_1, pk_sub (by omega), pk_sub (by omega)]
set_option maxHeartbeats 4000000 in
set_option maxRecDepth 100000 in
theorem c_X9_row (l : Launch) (G : kG) (M : kM) (m : Nat) (ad : Nat → Nat) (hS : MS M m ad) (k s n : Int32)  : Kt l G yX9_row cX9_row 5 (some .int) 2 45 [.ref m, .int k, .int s, .int n] M (0) (0) (fun v M2 => (shP k ∧ (0 ≤ s ∧ s ≤ 4) ∧ (0 ≤ n ∧ n ≤ 40) → v = some (.int 1) ∧ M2 = sL (sA (sA M (ad 7) (va_up (mA M (ad 7)) (nn k) s)) (ad 8) (va_up (mA M (ad 8)) (nn k) n)) (ad 13) (elZ (mL M (ad 13)) (nn k) 40)) ∧ (¬ (shP k ∧ (0 ≤ s ∧ s ≤ 4) ∧ (0 ≤ n ∧ n ≤ 40)) → v = some (.int (-(nI 102))) ∧ M2 = rfM M ad 0)) := by
  refine Kt.of (own := "KeptLightModel") (L := [some (.ref m), some (.int k), some (.int s), some (.int n), none]) (by decide +kernel) rfl (Nat.le_of_ble_eq_true rfl) rfl ?_
  intro pp ee ss mm args below meth cd hmn hret
  have km := hS.1
  obtain ⟨hr_sorts, kk_sorts, hn_sorts⟩ := hS.2.1 7 (by decide)
  have hr_sorts : mR M (fc 9 17) m = some (ad 7) := hr_sorts
  have hn_sorts : mN M (ad 7) = 8 := hn_sorts
  have kk_sorts : mK M (ad 7) = some 120 := kk_sorts
  obtain ⟨hr_sizes, kk_sizes, hn_sizes⟩ := hS.2.1 8 (by decide)
  have hr_sizes : mR M (fc 9 18) m = some (ad 8) := hr_sizes
  have hn_sizes : mN M (ad 8) = 8 := hn_sizes
  have kk_sizes : mK M (ad 8) = some 120 := kk_sizes
  obtain ⟨hr_elements, kk_elements, hn_elements⟩ := hS.2.1 13 (by decide)
  have hr_elements : mR M (fc 9 19) m = some (ad 13) := hr_elements
  have hn_elements : mN M (ad 13) = 320 := hn_elements
  have kk_elements : mK M (ad 13) = some 124 := kk_elements
  have ne_sorts_sizes := hS.eqf 7 8 (by decide) (by decide) (by decide)
  have ne_sorts_elements := hS.eqf 7 13 (by decide) (by decide) (by decide)
  have ne_sizes_sorts := hS.eqf 8 7 (by decide) (by decide) (by decide)
  have ne_sizes_elements := hS.eqf 8 13 (by decide) (by decide) (by decide)
  have ne_elements_sorts := hS.eqf 13 7 (by decide) (by decide) (by decide)
  have ne_elements_sizes := hS.eqf 13 8 (by decide) (by decide) (by decide)
  have cut55 : ∀ (fuel : Nat) (i : Nat) (h1 : 40 - i < fuel) (h2 : i ≤ 40) (hok : shP k ∧ (0 ≤ s ∧ s ≤ 4) ∧ (0 ≤ n ∧ n ≤ 40)), Wx pp l ee { frames := 2, cells := 0, slots := 0, locals := 45 } ss mm args below meth cd "KeptLightModel" cX9_row 5 G (MQ below (KQ G M (fun v M2 => (shP k ∧ (0 ≤ s ∧ s ≤ 4) ∧ (0 ≤ n ∧ n ≤ 40) → v = some (.int 1) ∧ M2 = sL (sA (sA M (ad 7) (va_up (mA M (ad 7)) (nn k) s)) (ad 8) (va_up (mA M (ad 8)) (nn k) n)) (ad 13) (elZ (mL M (ad 13)) (nn k) 40)) ∧ (¬ (shP k ∧ (0 ≤ s ∧ s ≤ 4) ∧ (0 ≤ n ∧ n ≤ 40)) → v = some (.int (-(nI 102))) ∧ M2 = rfM M ad 0))) args ss (0) (0) (kA G)) 55 [some (.ref m), some (.int (nI (nn k))), some (.int s), some (.int n), some (.int (nI i))] [] (sL (sA (sA M (ad 7) (va_up (mA M (ad 7)) (nn k) s)) (ad 8) (va_up (mA M (ad 8)) (nn k) n)) (ad 13) (elZ (mL M (ad 13)) (nn k) i)) (0) (0) := by
    intro fuel
    induction fuel with
    | zero => intro i h1 h2 hok; omega
    | succ fuel ih =>
      intro i h1 h2 hok
      have hn7 := nn_le (n := 7) hok.1.1 hok.1.2 (by decide)
      refine x_iload (n' := 57) dX9_row_55 rfl rfl ?_
      refine x_bipush (n' := 59) (v := 40) dX9_row_57 (by decide) rfl ?_
      refine x_icmp_ge (n' := 62) (tgt := 81) dX9_row_59 (by decide) rfl (fun c59_1 => ?_) (fun c59_1 => ?_)
      · have n_c59_1 := (cv_le (by repeat' (first | with_reducible exact nl_0 | with_reducible exact nl_1 | with_reducible exact nl_40 | with_reducible exact rfl | apply i_add | apply i_mul)) (by repeat' (first | with_reducible exact nl_0 | with_reducible exact nl_1 | with_reducible exact nl_40 | with_reducible exact rfl | apply i_add | apply i_mul)) (by omega) (by omega)).mp c59_1
        refine x_iconst (n' := 82) (v := 1) dX9_row_81 (by decide) rfl ?_
        exact x_iret dX9_row_82 hret (by repeat' (first | with_reducible exact kE.rf | with_reducible exact kE_SS | with_reducible apply kE_A | with_reducible apply kE_I | with_reducible apply kE_L | with_reducible apply kE_R | with_reducible apply kE_O | with_reducible apply kE_S)) (⟨fun _ => by rw [show i = 40 by omega]; exact ⟨rfl, rfl⟩, fun q => absurd hok q⟩)
      · have n_c59_1 := (not_congr (cv_le (by repeat' (first | with_reducible exact nl_0 | with_reducible exact nl_1 | with_reducible exact nl_40 | with_reducible exact rfl | apply i_add | apply i_mul)) (by repeat' (first | with_reducible exact nl_0 | with_reducible exact nl_1 | with_reducible exact nl_40 | with_reducible exact rfl | apply i_add | apply i_mul)) (by omega) (by omega))).mp c59_1
        refine x_aload_n (n' := 63) dX9_row_62 rfl rfl rfl ?_
        refine x_getRs (n' := 66) (b := (ad 13)) dX9_row_63 (by repeat' (first | with_reducible exact km | with_reducible apply mK_A | with_reducible apply mK_I | with_reducible apply mK_L | with_reducible apply mK_R | with_reducible apply mK_O | with_reducible apply mK_S)) ffX9_47_9 rfl (by repeat' (first | with_reducible exact hr_elements | with_reducible apply mR_A | with_reducible apply mR_I | with_reducible apply mR_L | with_reducible apply mR_S)) rfl ?_
        refine x_bipush (n' := 68) (v := 40) dX9_row_66 (by decide) rfl ?_
        refine x_iload_n (n' := 69) dX9_row_68 rfl rfl rfl ?_
        refine x_imul (n' := 70) dX9_row_69 rfl ?_
        refine x_iload (n' := 72) dX9_row_70 rfl rfl ?_
        refine x_iadd (n' := 73) dX9_row_72 rfl ?_
        refine x_lconst (n' := 74) (v := 0) dX9_row_73 (by decide) rfl ?_
        refine x_lastk (n' := 75) (N := 320) dX9_row_74 (by repeat' (first | with_reducible exact kk_elements | with_reducible apply mK_A | with_reducible apply mK_I | with_reducible apply mK_L | with_reducible apply mK_R | with_reducible apply mK_O | with_reducible apply mK_S)) (by repeat' (first | with_reducible exact hn_elements | with_reducible apply mN_A | with_reducible apply mN_I | with_reducible apply mN_L | with_reducible apply mN_R | with_reducible apply mN_O | with_reducible apply mN_S)) (by repeat' (first | with_reducible exact nl_0 | with_reducible exact nl_1 | with_reducible exact nl_40 | with_reducible exact rfl | apply i_add | apply i_mul)) (by omega) (by decide) (by first | with_reducible exact mL_sL | rfl) (by first | with_reducible exact sL_sL | rfl) rfl ?_
        refine x_iinc (n' := 78) dX9_row_75 rfl (by first | exact nI_inc _ | exact nI_decp (by omega) | exact i_inc _ | rfl) (Nat.le_of_ble_eq_true rfl) rfl (by dsimp only [List.set] <;> rfl) rfl ?_
        refine x_goto (tgt := 55) dX9_row_78 (by decide) ?_
        rw [elZ_s]
        exact x_drop (ih (i + 1) (by omega) (by omega) hok) ⟨rfl, ⟨rfl, ⟨rfl, ⟨rfl, ⟨rfl, trivial⟩⟩⟩⟩⟩
  refine x_iload_n (n' := 1) dX9_row_0 rfl rfl rfl ?_
  refine x_callS (n' := 4) (n := 1) (c_X9_isShelf l G _ k) dX9_row_1 (lw_S q3364 q3365 q109 q3366) (by decide +kernel) ⟨(Nat.le_of_ble_eq_true rfl), (Nat.le_of_ble_eq_true rfl)⟩ rfl rfl (Nat.le_of_ble_eq_true rfl) (by first | exact Nat.le_of_ble_eq_true rfl | omega) (by first | exact Nat.le_of_ble_eq_true rfl | omega) rfl (fun v_2 M_3 h_5 hE_4 => ?_)
  obtain ⟨rfl, hMs⟩ := h_5
  have hMs := hMs.symm
  subst hMs
  refine x_if_eq (n' := 7) (tgt := 31) dX9_row_4 (by decide) rfl (fun c4_6 => ?_) (fun c4_6 => ?_)
  · have C4 := c4_6
    refine x_aload_n (n' := 32) dX9_row_31 rfl rfl rfl ?_
    refine x_bipush (n' := 34) (v := -102) dX9_row_32 (by decide) rfl ?_
    refine x_topv (y := -(nI (102 + 0))) (by decide) ?_
    refine x_callV (n' := 37) (n := 1) (K := 9) (c_X9_refused l G _ m ad hS 0 (by decide)) dX9_row_34 (by repeat' (first | with_reducible exact km | with_reducible apply mK_A | with_reducible apply mK_I | with_reducible apply mK_L | with_reducible apply mK_R | with_reducible apply mK_O | with_reducible apply mK_S)) rfl (lw_V q3324 q3326 qs48 q109 q3327) (by decide +kernel) ⟨(Nat.le_of_ble_eq_true rfl), (Nat.le_of_ble_eq_true rfl)⟩ rfl rfl (Nat.le_of_ble_eq_true rfl) (by first | exact Nat.le_of_ble_eq_true rfl | omega) (by first | exact Nat.le_of_ble_eq_true rfl | omega) rfl (fun v_7 M_8 h_10 hE_9 => ?_)
    obtain ⟨rfl, hMs⟩ := h_10
    have hMs := hMs.symm
    subst hMs
    exact x_iret dX9_row_37 hret (by repeat' (first | with_reducible exact kE.rf | with_reducible exact kE_SS | with_reducible apply kE_A | with_reducible apply kE_I | with_reducible apply kE_L | with_reducible apply kE_R | with_reducible apply kE_O | with_reducible apply kE_S)) (⟨fun q => absurd q (by first | exact fun q => bi_0.mp C4 q.1 | exact fun q => bi_0.mp C16 q.2.1 | exact fun q => bi_0.mp C28 q.2.2), fun _ => ⟨rfl, rfl⟩⟩)
  · have C4 := c4_6
    refine x_iload_n (n' := 8) dX9_row_7 rfl rfl rfl ?_
    refine x_i2l (n' := 9) dX9_row_8 rfl rfl ?_
    refine x_lconst (n' := 10) (v := 0) dX9_row_9 (by decide) rfl ?_
    refine x_ldc2 (n' := 13) q3384 dX9_row_10 rfl ?_
    refine x_callS (n' := 16) (n := 3) (c_X9_in l G _ _ _ _) dX9_row_13 (lw_S q3321 q3322 q109 q3323) (by decide +kernel) ⟨(Nat.le_of_ble_eq_true rfl), (Nat.le_of_ble_eq_true rfl)⟩ rfl rfl (Nat.le_of_ble_eq_true rfl) (by first | exact Nat.le_of_ble_eq_true rfl | omega) (by first | exact Nat.le_of_ble_eq_true rfl | omega) rfl (fun v_11 M_12 h_14 hE_13 => ?_)
    obtain ⟨rfl, hMs⟩ := h_14
    have hMs := hMs.symm
    subst hMs
    rw [k_in3 (x := 0) (y := 4) (by decide) (by decide)]
    refine x_if_eq (n' := 19) (tgt := 31) dX9_row_16 (by decide) rfl (fun c16_15 => ?_) (fun c16_15 => ?_)
    · have C16 := c16_15
      refine x_aload_n (n' := 32) dX9_row_31 rfl rfl rfl ?_
      refine x_bipush (n' := 34) (v := -102) dX9_row_32 (by decide) rfl ?_
      refine x_topv (y := -(nI (102 + 0))) (by decide) ?_
      refine x_callV (n' := 37) (n := 1) (K := 9) (c_X9_refused l G _ m ad hS 0 (by decide)) dX9_row_34 (by repeat' (first | with_reducible exact km | with_reducible apply mK_A | with_reducible apply mK_I | with_reducible apply mK_L | with_reducible apply mK_R | with_reducible apply mK_O | with_reducible apply mK_S)) rfl (lw_V q3324 q3326 qs48 q109 q3327) (by decide +kernel) ⟨(Nat.le_of_ble_eq_true rfl), (Nat.le_of_ble_eq_true rfl)⟩ rfl rfl (Nat.le_of_ble_eq_true rfl) (by first | exact Nat.le_of_ble_eq_true rfl | omega) (by first | exact Nat.le_of_ble_eq_true rfl | omega) rfl (fun v_16 M_17 h_19 hE_18 => ?_)
      obtain ⟨rfl, hMs⟩ := h_19
      have hMs := hMs.symm
      subst hMs
      exact x_iret dX9_row_37 hret (by repeat' (first | with_reducible exact kE.rf | with_reducible exact kE_SS | with_reducible apply kE_A | with_reducible apply kE_I | with_reducible apply kE_L | with_reducible apply kE_R | with_reducible apply kE_O | with_reducible apply kE_S)) (⟨fun q => absurd q (by first | exact fun q => bi_0.mp C4 q.1 | exact fun q => bi_0.mp C16 q.2.1 | exact fun q => bi_0.mp C28 q.2.2), fun _ => ⟨rfl, rfl⟩⟩)
    · have C16 := c16_15
      refine x_iload_n (n' := 20) dX9_row_19 rfl rfl rfl ?_
      refine x_i2l (n' := 21) dX9_row_20 rfl rfl ?_
      refine x_lconst (n' := 22) (v := 0) dX9_row_21 (by decide) rfl ?_
      refine x_ldc2 (n' := 25) q3573 dX9_row_22 rfl ?_
      refine x_callS (n' := 28) (n := 3) (c_X9_in l G _ _ _ _) dX9_row_25 (lw_S q3321 q3322 q109 q3323) (by decide +kernel) ⟨(Nat.le_of_ble_eq_true rfl), (Nat.le_of_ble_eq_true rfl)⟩ rfl rfl (Nat.le_of_ble_eq_true rfl) (by first | exact Nat.le_of_ble_eq_true rfl | omega) (by first | exact Nat.le_of_ble_eq_true rfl | omega) rfl (fun v_20 M_21 h_23 hE_22 => ?_)
      obtain ⟨rfl, hMs⟩ := h_23
      have hMs := hMs.symm
      subst hMs
      rw [k_in3 (x := 0) (y := 40) (by decide) (by decide)]
      refine x_if_ne (n' := 31) (tgt := 38) dX9_row_28 (by decide) rfl (fun c28_24 => ?_) (fun c28_24 => ?_)
      · have C28 := c28_24
        have hok : shP k ∧ (0 ≤ s ∧ s ≤ 4) ∧ (0 ≤ n ∧ n ≤ 40) := ⟨bi_n0 C4, bi_n0 C16, bi_n0 C28⟩
        have hn7 := nn_le (n := 7) hok.1.1 hok.1.2 (by decide)
        refine x_loc (i := 1) rfl (nn_of hok.1.1) (by dsimp only [List.set] <;> rfl) ?_
        refine x_aload_n (n' := 39) dX9_row_38 rfl rfl rfl ?_
        refine x_getRs (n' := 42) (b := (ad 7)) dX9_row_39 (by repeat' (first | with_reducible exact km | with_reducible apply mK_A | with_reducible apply mK_I | with_reducible apply mK_L | with_reducible apply mK_R | with_reducible apply mK_O | with_reducible apply mK_S)) ffX9_41_9 rfl (by repeat' (first | with_reducible exact hr_sorts | with_reducible apply mR_A | with_reducible apply mR_I | with_reducible apply mR_L | with_reducible apply mR_S)) rfl ?_
        refine x_iload_n (n' := 43) dX9_row_42 rfl rfl rfl ?_
        refine x_iload_n (n' := 44) dX9_row_43 rfl rfl rfl ?_
        refine x_iastk (n' := 45) (N := 8) dX9_row_44 (by repeat' (first | with_reducible exact kk_sorts | with_reducible apply mK_A | with_reducible apply mK_I | with_reducible apply mK_L | with_reducible apply mK_R | with_reducible apply mK_O | with_reducible apply mK_S)) (by repeat' (first | with_reducible exact hn_sorts | with_reducible apply mN_A | with_reducible apply mN_I | with_reducible apply mN_L | with_reducible apply mN_R | with_reducible apply mN_O | with_reducible apply mN_S)) (by repeat' (first | with_reducible exact nl_0 | with_reducible exact nl_1 | with_reducible exact nl_40 | with_reducible exact rfl | apply i_add | apply i_mul)) (by omega) (by decide) (by first | with_reducible exact mA_sA | with_reducible exact mA_SC0 | with_reducible exact mA_SC1 hS | with_reducible exact mA_SC5 hS | with_reducible exact mA_SC6 hS | with_reducible exact mA_SC10 hS | with_reducible exact mA_SC11 hS | with_reducible exact mA_SC12 hS | with_reducible exact mA_sI_sA | with_reducible exact mA_sI3_sA | rfl) (by first | with_reducible exact SC_A0 | with_reducible exact SC_A1 hS | with_reducible exact SC_A5 hS | with_reducible exact SC_A6 hS | with_reducible exact SC_A10 hS | with_reducible exact SC_A11 hS | with_reducible exact SC_A12 hS | with_reducible exact sA_sA | with_reducible exact sA_sI_sA | with_reducible exact sA_sI3_sA | rfl) rfl ?_
        refine x_aload_n (n' := 46) dX9_row_45 rfl rfl rfl ?_
        refine x_getRs (n' := 49) (b := (ad 8)) dX9_row_46 (by repeat' (first | with_reducible exact km | with_reducible apply mK_A | with_reducible apply mK_I | with_reducible apply mK_L | with_reducible apply mK_R | with_reducible apply mK_O | with_reducible apply mK_S)) ffX9_44_9 rfl (by repeat' (first | with_reducible exact hr_sizes | with_reducible apply mR_A | with_reducible apply mR_I | with_reducible apply mR_L | with_reducible apply mR_S)) rfl ?_
        refine x_iload_n (n' := 50) dX9_row_49 rfl rfl rfl ?_
        refine x_iload_n (n' := 51) dX9_row_50 rfl rfl rfl ?_
        refine x_iastk (n' := 52) (N := 8) dX9_row_51 (by repeat' (first | with_reducible exact kk_sizes | with_reducible apply mK_A | with_reducible apply mK_I | with_reducible apply mK_L | with_reducible apply mK_R | with_reducible apply mK_O | with_reducible apply mK_S)) (by repeat' (first | with_reducible exact hn_sizes | with_reducible apply mN_A | with_reducible apply mN_I | with_reducible apply mN_L | with_reducible apply mN_R | with_reducible apply mN_O | with_reducible apply mN_S)) (by repeat' (first | with_reducible exact nl_0 | with_reducible exact nl_1 | with_reducible exact nl_40 | with_reducible exact rfl | apply i_add | apply i_mul)) (by omega) (by decide) (by first | with_reducible exact mA_sA | with_reducible exact mA_SC0 | with_reducible exact mA_SC1 hS | with_reducible exact mA_SC5 hS | with_reducible exact mA_SC6 hS | with_reducible exact mA_SC10 hS | with_reducible exact mA_SC11 hS | with_reducible exact mA_SC12 hS | with_reducible exact mA_sI_sA | with_reducible exact mA_sI3_sA | rfl) (by first | with_reducible exact SC_A0 | with_reducible exact SC_A1 hS | with_reducible exact SC_A5 hS | with_reducible exact SC_A6 hS | with_reducible exact SC_A10 hS | with_reducible exact SC_A11 hS | with_reducible exact SC_A12 hS | with_reducible exact sA_sA | with_reducible exact sA_sI_sA | with_reducible exact sA_sI3_sA | rfl) rfl ?_
        refine x_iconst (n' := 53) (v := 0) dX9_row_52 (by decide) rfl ?_
        refine x_istore (n' := 55) dX9_row_53 (Nat.le_of_ble_eq_true rfl) rfl (by dsimp only [List.set] <;> rfl) rfl ?_
        refine x_mem (M2 := sL (sA (sA M (ad 7) (va_up (mA M (ad 7)) (nn k) s)) (ad 8) (va_up (mA M (ad 8)) (nn k) n)) (ad 13) (elZ (mL M (ad 13)) (nn k) 0)) (by rw [elZ_0, mA_sA_n (fun q => by rw [q] at ne_sizes_sorts; simp at ne_sizes_sorts)]; exact sL_eta.symm) ?_
        exact x_drop (cut55 41 0 (by omega) (by omega) hok) ⟨rfl, ⟨rfl, ⟨rfl, ⟨rfl, ⟨rfl, trivial⟩⟩⟩⟩⟩
      · have C28 := c28_24
        refine x_aload_n (n' := 32) dX9_row_31 rfl rfl rfl ?_
        refine x_bipush (n' := 34) (v := -102) dX9_row_32 (by decide) rfl ?_
        refine x_topv (y := -(nI (102 + 0))) (by decide) ?_
        refine x_callV (n' := 37) (n := 1) (K := 9) (c_X9_refused l G _ m ad hS 0 (by decide)) dX9_row_34 (by repeat' (first | with_reducible exact km | with_reducible apply mK_A | with_reducible apply mK_I | with_reducible apply mK_L | with_reducible apply mK_R | with_reducible apply mK_O | with_reducible apply mK_S)) rfl (lw_V q3324 q3326 qs48 q109 q3327) (by decide +kernel) ⟨(Nat.le_of_ble_eq_true rfl), (Nat.le_of_ble_eq_true rfl)⟩ rfl rfl (Nat.le_of_ble_eq_true rfl) (by first | exact Nat.le_of_ble_eq_true rfl | omega) (by first | exact Nat.le_of_ble_eq_true rfl | omega) rfl (fun v_25 M_26 h_28 hE_27 => ?_)
        obtain ⟨rfl, hMs⟩ := h_28
        have hMs := hMs.symm
        subst hMs
        exact x_iret dX9_row_37 hret (by repeat' (first | with_reducible exact kE.rf | with_reducible exact kE_SS | with_reducible apply kE_A | with_reducible apply kE_I | with_reducible apply kE_L | with_reducible apply kE_R | with_reducible apply kE_O | with_reducible apply kE_S)) (⟨fun q => absurd q (by first | exact fun q => bi_0.mp C4 q.1 | exact fun q => bi_0.mp C16 q.2.1 | exact fun q => bi_0.mp C28 q.2.2), fun _ => ⟨rfl, rfl⟩⟩)

set_option maxHeartbeats 4000000 in
set_option maxRecDepth 100000 in
theorem c_X9_lowest (l : Launch) (G : kG) (M : kM) (s : Int32) (x : Int64) : Kt l G yX9_lowest cX9_lowest 3 (some .long) 0 0 [.int s, .long x] M (0) (0) (fun v M2 => v = some (.long (lowV s x)) ∧ M2 = M) := by
  refine Kt.of (own := "KeptLightModel") (L := [some (.int s), some (.long x), none]) (by decide +kernel) rfl (Nat.le_of_ble_eq_true rfl) rfl ?_
  intro pp ee ss mm args below meth cd hmn hret
  refine x_iload_n (n' := 1) dX9_lowest_0 rfl rfl rfl ?_
  by_cases c1_2 : s = 0
  · refine x_tableIn (off := 31) (tgt := 32) dX9_lowest_1 (by rw [c1_2]; decide) (by rw [c1_2]; decide) (by rw [c1_2]; decide) (by decide) ?_
    refine x_lload_n (n' := 33) dX9_lowest_32 rfl rfl rfl ?_
    refine x_l2i (n' := 34) dX9_lowest_33 rfl rfl ?_
    refine x_i2b (n' := 35) dX9_lowest_34 rfl rfl ?_
    refine x_i2l (n' := 36) dX9_lowest_35 rfl rfl ?_
    exact x_lret dX9_lowest_36 hret (by repeat' (first | with_reducible exact kE.rf | with_reducible exact kE_SS | with_reducible apply kE_A | with_reducible apply kE_I | with_reducible apply kE_L | with_reducible apply kE_R | with_reducible apply kE_O | with_reducible apply kE_S)) (⟨congrArg (fun z => some (Value.long z)) (low_0 (by assumption)), rfl⟩)
  by_cases c1_3 : s = 1
  · refine x_tableIn (off := 36) (tgt := 37) dX9_lowest_1 (by rw [c1_3]; decide) (by rw [c1_3]; decide) (by rw [c1_3]; decide) (by decide) ?_
    refine x_lload_n (n' := 38) dX9_lowest_37 rfl rfl rfl ?_
    refine x_l2i (n' := 39) dX9_lowest_38 rfl rfl ?_
    refine x_i2s (n' := 40) dX9_lowest_39 rfl rfl ?_
    refine x_i2l (n' := 41) dX9_lowest_40 rfl rfl ?_
    exact x_lret dX9_lowest_41 hret (by repeat' (first | with_reducible exact kE.rf | with_reducible exact kE_SS | with_reducible apply kE_A | with_reducible apply kE_I | with_reducible apply kE_L | with_reducible apply kE_R | with_reducible apply kE_O | with_reducible apply kE_S)) (⟨congrArg (fun z => some (Value.long z)) (low_1 (by assumption)), rfl⟩)
  by_cases c1_4 : s = 2
  · refine x_tableIn (off := 41) (tgt := 42) dX9_lowest_1 (by rw [c1_4]; decide) (by rw [c1_4]; decide) (by rw [c1_4]; decide) (by decide) ?_
    refine x_lload_n (n' := 43) dX9_lowest_42 rfl rfl rfl ?_
    refine x_l2i (n' := 44) dX9_lowest_43 rfl rfl ?_
    refine x_i2l (n' := 45) dX9_lowest_44 rfl rfl ?_
    exact x_lret dX9_lowest_45 hret (by repeat' (first | with_reducible exact kE.rf | with_reducible exact kE_SS | with_reducible apply kE_A | with_reducible apply kE_I | with_reducible apply kE_L | with_reducible apply kE_R | with_reducible apply kE_O | with_reducible apply kE_S)) (⟨congrArg (fun z => some (Value.long z)) (low_2 (by assumption)), rfl⟩)
  by_cases c1_5 : s = 3
  · refine x_tableIn (off := 45) (tgt := 46) dX9_lowest_1 (by rw [c1_5]; decide) (by rw [c1_5]; decide) (by rw [c1_5]; decide) (by decide) ?_
    refine x_lload_n (n' := 47) dX9_lowest_46 rfl rfl rfl ?_
    exact x_lret dX9_lowest_47 hret (by repeat' (first | with_reducible exact kE.rf | with_reducible exact kE_SS | with_reducible apply kE_A | with_reducible apply kE_I | with_reducible apply kE_L | with_reducible apply kE_R | with_reducible apply kE_O | with_reducible apply kE_S)) (⟨congrArg (fun z => some (Value.long z)) (low_3 (by assumption)), rfl⟩)
  refine x_tableOut (tgt := 48) dX9_lowest_1 (sw_out (n := 4) (by decide) (by decide) (fun j hj => by rcases (show j = 0 ∨ j = 1 ∨ j = 2 ∨ j = 3 by omega) with rfl | rfl | rfl | rfl <;> assumption)) (by decide) ?_
  refine x_lload_n (n' := 49) dX9_lowest_48 rfl rfl rfl ?_
  refine x_lconst (n' := 50) (v := 0) dX9_lowest_49 (by decide) rfl ?_
  refine x_lcmp (n' := 51) dX9_lowest_50 rfl ?_
  refine x_if_ne (n' := 54) (tgt := 58) dX9_lowest_51 (by decide) rfl (fun c51_6 => ?_) (fun c51_6 => ?_)
  · have C51 := c51_6
    refine x_lconst (n' := 59) (v := 1) dX9_lowest_58 (by decide) rfl ?_
    exact x_lret dX9_lowest_59 hret (by repeat' (first | with_reducible exact kE.rf | with_reducible exact kE_SS | with_reducible apply kE_A | with_reducible apply kE_I | with_reducible apply kE_L | with_reducible apply kE_R | with_reducible apply kE_O | with_reducible apply kE_S)) (by first | exact ⟨congrArg (fun z => some (Value.long z)) (low_5 (by assumption) (by assumption) (by assumption) (by assumption) (fun q => C51 (lc_0.mpr q))), rfl⟩ | exact ⟨congrArg (fun z => some (Value.long z)) (low_4 (by assumption) (by assumption) (by assumption) (by assumption) (lc_0.mp C51)), rfl⟩)
  · have C51 := c51_6
    refine x_lconst (n' := 55) (v := 0) dX9_lowest_54 (by decide) rfl ?_
    refine x_goto (tgt := 59) dX9_lowest_55 (by decide) ?_
    exact x_lret dX9_lowest_59 hret (by repeat' (first | with_reducible exact kE.rf | with_reducible exact kE_SS | with_reducible apply kE_A | with_reducible apply kE_I | with_reducible apply kE_L | with_reducible apply kE_R | with_reducible apply kE_O | with_reducible apply kE_S)) (by first | exact ⟨congrArg (fun z => some (Value.long z)) (low_5 (by assumption) (by assumption) (by assumption) (by assumption) (fun q => C51 (lc_0.mpr q))), rfl⟩ | exact ⟨congrArg (fun z => some (Value.long z)) (low_4 (by assumption) (by assumption) (by assumption) (by assumption) (lc_0.mp C51)), rfl⟩)

set_option maxHeartbeats 4000000 in
set_option maxRecDepth 100000 in
theorem c_X9_set (l : Launch) (G : kG) (M : kM) (m : Nat) (ad : Nat → Nat) (hS : MS M m ad) (k i : Int32) (x : Int64) (hz : SZ (mA M (ad 8))) : Kt l G yX9_set cX9_set 5 (some .int) 2 45 [.ref m, .int k, .int i, .long x] M (0) (0) (fun v M2 => (okSet (mA M (ad 7)) (mA M (ad 8)) k i → v = some (.int 1) ∧ M2 = sL M (ad 13) (va_up (mL M (ad 13)) (40 * nn k + nn i) (lowV ((mA M (ad 7)) (nn k)) x))) ∧ (¬ (okSet (mA M (ad 7)) (mA M (ad 8)) k i) → v = some (.int (-(nI (102 + rcS k ((mA M (ad 7)) (nn k)))))) ∧ M2 = rfM M ad (rcS k ((mA M (ad 7)) (nn k))))) := by
  refine Kt.of (own := "KeptLightModel") (L := [some (.ref m), some (.int k), some (.int i), some (.long x), none]) (by decide +kernel) rfl (Nat.le_of_ble_eq_true rfl) rfl ?_
  intro pp ee ss mm args below meth cd hmn hret
  have km := hS.1
  obtain ⟨hr_sorts, kk_sorts, hn_sorts⟩ := hS.2.1 7 (by decide)
  have hr_sorts : mR M (fc 9 17) m = some (ad 7) := hr_sorts
  have hn_sorts : mN M (ad 7) = 8 := hn_sorts
  have kk_sorts : mK M (ad 7) = some 120 := kk_sorts
  obtain ⟨hr_sizes, kk_sizes, hn_sizes⟩ := hS.2.1 8 (by decide)
  have hr_sizes : mR M (fc 9 18) m = some (ad 8) := hr_sizes
  have hn_sizes : mN M (ad 8) = 8 := hn_sizes
  have kk_sizes : mK M (ad 8) = some 120 := kk_sizes
  obtain ⟨hr_elements, kk_elements, hn_elements⟩ := hS.2.1 13 (by decide)
  have hr_elements : mR M (fc 9 19) m = some (ad 13) := hr_elements
  have hn_elements : mN M (ad 13) = 320 := hn_elements
  have kk_elements : mK M (ad 13) = some 124 := kk_elements
  have ne_sorts_sizes := hS.eqf 7 8 (by decide) (by decide) (by decide)
  have ne_sorts_elements := hS.eqf 7 13 (by decide) (by decide) (by decide)
  have ne_sizes_sorts := hS.eqf 8 7 (by decide) (by decide) (by decide)
  have ne_sizes_elements := hS.eqf 8 13 (by decide) (by decide) (by decide)
  have ne_elements_sorts := hS.eqf 13 7 (by decide) (by decide) (by decide)
  have ne_elements_sizes := hS.eqf 13 8 (by decide) (by decide) (by decide)
  refine x_iload_n (n' := 1) dX9_set_0 rfl rfl rfl ?_
  refine x_callS (n' := 4) (n := 1) (c_X9_isShelf l G _ k) dX9_set_1 (lw_S q3364 q3365 q109 q3366) (by decide +kernel) ⟨(Nat.le_of_ble_eq_true rfl), (Nat.le_of_ble_eq_true rfl)⟩ rfl rfl (Nat.le_of_ble_eq_true rfl) (by first | exact Nat.le_of_ble_eq_true rfl | omega) (by first | exact Nat.le_of_ble_eq_true rfl | omega) rfl (fun v_1 M_2 h_4 hE_3 => ?_)
  obtain ⟨rfl, hMs⟩ := h_4
  have hMs := hMs.symm
  subst hMs
  refine x_if_ne (n' := 7) (tgt := 14) dX9_set_4 (by decide) rfl (fun c4_5 => ?_) (fun c4_5 => ?_)
  · have C4 := c4_5
    have hs1 : shP k := bi_n0 C4
    have hn7 := nn_le (n := 7) hs1.1 hs1.2 (by decide)
    refine x_loc (i := 1) rfl (nn_of hs1.1) (by dsimp only [List.set] <;> rfl) ?_
    refine x_aload_n (n' := 15) dX9_set_14 rfl rfl rfl ?_
    refine x_getRs (n' := 18) (b := (ad 7)) dX9_set_15 (by repeat' (first | with_reducible exact km | with_reducible apply mK_A | with_reducible apply mK_I | with_reducible apply mK_L | with_reducible apply mK_R | with_reducible apply mK_O | with_reducible apply mK_S)) ffX9_41_9 rfl (by repeat' (first | with_reducible exact hr_sorts | with_reducible apply mR_A | with_reducible apply mR_I | with_reducible apply mR_L | with_reducible apply mR_S)) rfl ?_
    refine x_iload_n (n' := 19) dX9_set_18 rfl rfl rfl ?_
    refine x_ildk (n' := 20) (N := 8) dX9_set_19 (by repeat' (first | with_reducible exact kk_sorts | with_reducible apply mK_A | with_reducible apply mK_I | with_reducible apply mK_L | with_reducible apply mK_R | with_reducible apply mK_O | with_reducible apply mK_S)) (by repeat' (first | with_reducible exact hn_sorts | with_reducible apply mN_A | with_reducible apply mN_I | with_reducible apply mN_L | with_reducible apply mN_R | with_reducible apply mN_O | with_reducible apply mN_S)) (by repeat' (first | with_reducible exact nl_0 | with_reducible exact nl_1 | with_reducible exact nl_4 | with_reducible exact nl_40 | with_reducible exact rfl | apply i_add | apply i_mul)) (by omega) (by decide) (by first | (simp (disch := omega) only [mA_sA, mA_sI, mA_SC0, mA_SC1 hS, mA_SC5 hS, mA_SC6 hS, mA_SC10 hS, mA_SC11 hS, mA_SC12 hS, up_s, up_n, if_false, ne_sorts_sizes, ne_sorts_elements, ne_sizes_sorts, ne_sizes_elements, ne_elements_sorts, ne_elements_sizes] <;> rfl) | rfl) rfl ?_
    refine x_iconst (n' := 21) (v := 4) dX9_set_20 (by decide) rfl ?_
    refine x_icmp_le (n' := 24) (tgt := 31) dX9_set_21 (by decide) rfl (fun c21_6 => ?_) (fun c21_6 => ?_)
    · have C21 := c21_6
      refine x_aload_n (n' := 32) dX9_set_31 rfl rfl rfl ?_
      refine x_getRs (n' := 35) (b := (ad 7)) dX9_set_32 (by repeat' (first | with_reducible exact km | with_reducible apply mK_A | with_reducible apply mK_I | with_reducible apply mK_L | with_reducible apply mK_R | with_reducible apply mK_O | with_reducible apply mK_S)) ffX9_41_9 rfl (by repeat' (first | with_reducible exact hr_sorts | with_reducible apply mR_A | with_reducible apply mR_I | with_reducible apply mR_L | with_reducible apply mR_S)) rfl ?_
      refine x_iload_n (n' := 36) dX9_set_35 rfl rfl rfl ?_
      refine x_ildk (n' := 37) (N := 8) dX9_set_36 (by repeat' (first | with_reducible exact kk_sorts | with_reducible apply mK_A | with_reducible apply mK_I | with_reducible apply mK_L | with_reducible apply mK_R | with_reducible apply mK_O | with_reducible apply mK_S)) (by repeat' (first | with_reducible exact hn_sorts | with_reducible apply mN_A | with_reducible apply mN_I | with_reducible apply mN_L | with_reducible apply mN_R | with_reducible apply mN_O | with_reducible apply mN_S)) (by repeat' (first | with_reducible exact nl_0 | with_reducible exact nl_1 | with_reducible exact nl_4 | with_reducible exact nl_40 | with_reducible exact rfl | apply i_add | apply i_mul)) (by omega) (by decide) (by first | (simp (disch := omega) only [mA_sA, mA_sI, mA_SC0, mA_SC1 hS, mA_SC5 hS, mA_SC6 hS, mA_SC10 hS, mA_SC11 hS, mA_SC12 hS, up_s, up_n, if_false, ne_sorts_sizes, ne_sorts_elements, ne_sizes_sorts, ne_sizes_elements, ne_elements_sorts, ne_elements_sizes] <;> rfl) | rfl) rfl ?_
      refine x_if_ge (n' := 40) (tgt := 47) dX9_set_37 (by decide) rfl (fun c37_7 => ?_) (fun c37_7 => ?_)
      · have C37 := c37_7
        refine x_iload_n (n' := 48) dX9_set_47 rfl rfl rfl ?_
        refine x_i2l (n' := 49) dX9_set_48 rfl rfl ?_
        refine x_lconst (n' := 50) (v := 0) dX9_set_49 (by decide) rfl ?_
        refine x_aload_n (n' := 51) dX9_set_50 rfl rfl rfl ?_
        refine x_getRs (n' := 54) (b := (ad 8)) dX9_set_51 (by repeat' (first | with_reducible exact km | with_reducible apply mK_A | with_reducible apply mK_I | with_reducible apply mK_L | with_reducible apply mK_R | with_reducible apply mK_O | with_reducible apply mK_S)) ffX9_44_9 rfl (by repeat' (first | with_reducible exact hr_sizes | with_reducible apply mR_A | with_reducible apply mR_I | with_reducible apply mR_L | with_reducible apply mR_S)) rfl ?_
        refine x_iload_n (n' := 55) dX9_set_54 rfl rfl rfl ?_
        refine x_ildk (n' := 56) (N := 8) dX9_set_55 (by repeat' (first | with_reducible exact kk_sizes | with_reducible apply mK_A | with_reducible apply mK_I | with_reducible apply mK_L | with_reducible apply mK_R | with_reducible apply mK_O | with_reducible apply mK_S)) (by repeat' (first | with_reducible exact hn_sizes | with_reducible apply mN_A | with_reducible apply mN_I | with_reducible apply mN_L | with_reducible apply mN_R | with_reducible apply mN_O | with_reducible apply mN_S)) (by repeat' (first | with_reducible exact nl_0 | with_reducible exact nl_1 | with_reducible exact nl_4 | with_reducible exact nl_40 | with_reducible exact rfl | apply i_add | apply i_mul)) (by omega) (by decide) (hz.n (by omega)).1 rfl ?_
        refine x_iconst (n' := 57) (v := 1) dX9_set_56 (by decide) rfl ?_
        refine x_isub (n' := 58) dX9_set_57 rfl ?_
        refine x_i2l (n' := 59) dX9_set_58 rfl rfl ?_
        refine x_callS (n' := 62) (n := 3) (c_X9_in l G _ _ _ _) dX9_set_59 (lw_S q3321 q3322 q109 q3323) (by decide +kernel) ⟨(Nat.le_of_ble_eq_true rfl), (Nat.le_of_ble_eq_true rfl)⟩ rfl rfl (Nat.le_of_ble_eq_true rfl) (by first | exact Nat.le_of_ble_eq_true rfl | omega) (by first | exact Nat.le_of_ble_eq_true rfl | omega) rfl (fun v_8 M_9 h_11 hE_10 => ?_)
        obtain ⟨rfl, hMs⟩ := h_11
        have hMs := hMs.symm
        subst hMs
        rw [k_in1 i (n := nn ((mA M (ad 8)) (nn k))) (by have := (hz.n (k := nn k) (by omega)).2; omega)]
        refine x_if_ne (n' := 65) (tgt := 72) dX9_set_62 (by decide) rfl (fun c62_12 => ?_) (fun c62_12 => ?_)
        · have C62 := c62_12
          have hi1 := bi_n0 C62
          have hz1 := (hz.n (k := nn k) (by omega)).2
          have hn8 := nn_ltn hi1.1 hi1.2 (by omega)
          refine x_loc (i := 2) rfl (nn_of hi1.1) (by dsimp only [List.set] <;> rfl) ?_
          refine x_aload_n (n' := 73) dX9_set_72 rfl rfl rfl ?_
          refine x_getRs (n' := 76) (b := (ad 13)) dX9_set_73 (by repeat' (first | with_reducible exact km | with_reducible apply mK_A | with_reducible apply mK_I | with_reducible apply mK_L | with_reducible apply mK_R | with_reducible apply mK_O | with_reducible apply mK_S)) ffX9_47_9 rfl (by repeat' (first | with_reducible exact hr_elements | with_reducible apply mR_A | with_reducible apply mR_I | with_reducible apply mR_L | with_reducible apply mR_S)) rfl ?_
          refine x_bipush (n' := 78) (v := 40) dX9_set_76 (by decide) rfl ?_
          refine x_iload_n (n' := 79) dX9_set_78 rfl rfl rfl ?_
          refine x_imul (n' := 80) dX9_set_79 rfl ?_
          refine x_iload_n (n' := 81) dX9_set_80 rfl rfl rfl ?_
          refine x_iadd (n' := 82) dX9_set_81 rfl ?_
          refine x_aload_n (n' := 83) dX9_set_82 rfl rfl rfl ?_
          refine x_getRs (n' := 86) (b := (ad 7)) dX9_set_83 (by repeat' (first | with_reducible exact km | with_reducible apply mK_A | with_reducible apply mK_I | with_reducible apply mK_L | with_reducible apply mK_R | with_reducible apply mK_O | with_reducible apply mK_S)) ffX9_41_9 rfl (by repeat' (first | with_reducible exact hr_sorts | with_reducible apply mR_A | with_reducible apply mR_I | with_reducible apply mR_L | with_reducible apply mR_S)) rfl ?_
          refine x_iload_n (n' := 87) dX9_set_86 rfl rfl rfl ?_
          refine x_ildk (n' := 88) (N := 8) dX9_set_87 (by repeat' (first | with_reducible exact kk_sorts | with_reducible apply mK_A | with_reducible apply mK_I | with_reducible apply mK_L | with_reducible apply mK_R | with_reducible apply mK_O | with_reducible apply mK_S)) (by repeat' (first | with_reducible exact hn_sorts | with_reducible apply mN_A | with_reducible apply mN_I | with_reducible apply mN_L | with_reducible apply mN_R | with_reducible apply mN_O | with_reducible apply mN_S)) (by repeat' (first | with_reducible exact nl_0 | with_reducible exact nl_1 | with_reducible exact nl_4 | with_reducible exact nl_40 | with_reducible exact rfl | apply i_add | apply i_mul)) (by omega) (by decide) (by first | (simp (disch := omega) only [mA_sA, mA_sI, mA_SC0, mA_SC1 hS, mA_SC5 hS, mA_SC6 hS, mA_SC10 hS, mA_SC11 hS, mA_SC12 hS, up_s, up_n, if_false, ne_sorts_sizes, ne_sorts_elements, ne_sizes_sorts, ne_sizes_elements, ne_elements_sorts, ne_elements_sizes] <;> rfl) | rfl) rfl ?_
          refine x_lload_n (n' := 89) dX9_set_88 rfl rfl rfl ?_
          refine x_callS (n' := 92) (n := 2) (c_X9_lowest l G _ _ x) dX9_set_89 (lw_S q3578 q3579 q109 q3580) (by decide +kernel) ⟨(Nat.le_of_ble_eq_true rfl), (Nat.le_of_ble_eq_true rfl)⟩ rfl rfl (Nat.le_of_ble_eq_true rfl) (by first | exact Nat.le_of_ble_eq_true rfl | omega) (by first | exact Nat.le_of_ble_eq_true rfl | omega) rfl (fun v_13 M_14 h_16 hE_15 => ?_)
          obtain ⟨rfl, hMs⟩ := h_16
          have hMs := hMs.symm
          subst hMs
          refine x_lastk (n' := 93) (N := 320) dX9_set_92 (by repeat' (first | with_reducible exact kk_elements | with_reducible apply mK_A | with_reducible apply mK_I | with_reducible apply mK_L | with_reducible apply mK_R | with_reducible apply mK_O | with_reducible apply mK_S)) (by repeat' (first | with_reducible exact hn_elements | with_reducible apply mN_A | with_reducible apply mN_I | with_reducible apply mN_L | with_reducible apply mN_R | with_reducible apply mN_O | with_reducible apply mN_S)) (by repeat' (first | with_reducible exact nl_0 | with_reducible exact nl_1 | with_reducible exact nl_4 | with_reducible exact nl_40 | with_reducible exact rfl | apply i_add | apply i_mul)) (by omega) (by decide) (by first | with_reducible exact mL_sL | rfl) (by first | with_reducible exact sL_sL | rfl) rfl ?_
          refine x_iconst (n' := 94) (v := 1) dX9_set_93 (by decide) rfl ?_
          exact x_iret dX9_set_94 hret (by repeat' (first | with_reducible exact kE.rf | with_reducible exact kE_SS | with_reducible apply kE_A | with_reducible apply kE_I | with_reducible apply kE_L | with_reducible apply kE_R | with_reducible apply kE_O | with_reducible apply kE_S)) (⟨fun _ => ⟨rfl, rfl⟩, fun q => absurd (⟨hs1, C21, C37, hi1.1, by rw [(hz.n (k := nn k) (by omega)).1]; exact hi1.2⟩ : okSet (mA M (ad 7)) (mA M (ad 8)) k i) q⟩)
        · have C62 := c62_12
          refine x_aload_n (n' := 66) dX9_set_65 rfl rfl rfl ?_
          refine x_bipush (n' := 68) (v := -102) dX9_set_66 (by decide) rfl ?_
          refine x_topv (y := -(nI (102 + 0))) (by decide) ?_
          refine x_callV (n' := 71) (n := 1) (K := 9) (c_X9_refused l G _ m ad (by repeat' (first | with_reducible exact hS | with_reducible apply MS.sA | with_reducible apply MS.sI | with_reducible apply MS.sL | with_reducible apply MS.sc)) 0 (by decide)) dX9_set_68 (by repeat' (first | with_reducible exact km | with_reducible apply mK_A | with_reducible apply mK_I | with_reducible apply mK_L | with_reducible apply mK_R | with_reducible apply mK_O | with_reducible apply mK_S)) rfl (lw_V q3324 q3326 qs48 q109 q3327) (by decide +kernel) ⟨(Nat.le_of_ble_eq_true rfl), (Nat.le_of_ble_eq_true rfl)⟩ rfl rfl (Nat.le_of_ble_eq_true rfl) (by first | exact Nat.le_of_ble_eq_true rfl | omega) (by first | exact Nat.le_of_ble_eq_true rfl | omega) rfl (fun v_17 M_18 h_20 hE_19 => ?_)
          obtain ⟨rfl, hMs⟩ := h_20
          have hMs := hMs.symm
          subst hMs
          exact x_iret dX9_set_71 hret (by repeat' (first | with_reducible exact kE.rf | with_reducible exact kE_SS | with_reducible apply kE_A | with_reducible apply kE_I | with_reducible apply kE_L | with_reducible apply kE_R | with_reducible apply kE_O | with_reducible apply kE_S)) (⟨fun q => absurd q (by exact fun q => bi_0.mp C62 ⟨q.2.2.2.1, (hz.n (k := nn k) (by omega)).1 ▸ q.2.2.2.2⟩), fun _ => by rw [show rcS k ((mA M (ad 7)) (nn k)) = 0 from (by exact rcS_d hs1 C21 (Int32.not_lt.mpr C37))]; exact ⟨rfl, rfl⟩⟩)
      · have C37 := c37_7
        refine x_aload_n (n' := 41) dX9_set_40 rfl rfl rfl ?_
        refine x_bipush (n' := 43) (v := -104) dX9_set_41 (by decide) rfl ?_
        refine x_topv (y := -(nI (102 + 2))) (by decide) ?_
        refine x_callV (n' := 46) (n := 1) (K := 9) (c_X9_refused l G _ m ad (by repeat' (first | with_reducible exact hS | with_reducible apply MS.sA | with_reducible apply MS.sI | with_reducible apply MS.sL | with_reducible apply MS.sc)) 2 (by decide)) dX9_set_43 (by repeat' (first | with_reducible exact km | with_reducible apply mK_A | with_reducible apply mK_I | with_reducible apply mK_L | with_reducible apply mK_R | with_reducible apply mK_O | with_reducible apply mK_S)) rfl (lw_V q3324 q3326 qs48 q109 q3327) (by decide +kernel) ⟨(Nat.le_of_ble_eq_true rfl), (Nat.le_of_ble_eq_true rfl)⟩ rfl rfl (Nat.le_of_ble_eq_true rfl) (by first | exact Nat.le_of_ble_eq_true rfl | omega) (by first | exact Nat.le_of_ble_eq_true rfl | omega) rfl (fun v_21 M_22 h_24 hE_23 => ?_)
        obtain ⟨rfl, hMs⟩ := h_24
        have hMs := hMs.symm
        subst hMs
        exact x_iret dX9_set_46 hret (by repeat' (first | with_reducible exact kE.rf | with_reducible exact kE_SS | with_reducible apply kE_A | with_reducible apply kE_I | with_reducible apply kE_L | with_reducible apply kE_R | with_reducible apply kE_O | with_reducible apply kE_S)) (⟨fun q => absurd q (by exact fun q => C37 q.2.2.1), fun _ => by rw [show rcS k ((mA M (ad 7)) (nn k)) = 2 from (by exact rcS_c hs1 C21 (Int32.not_le.mp C37))]; exact ⟨rfl, rfl⟩⟩)
    · have C21 := c21_6
      refine x_aload_n (n' := 25) dX9_set_24 rfl rfl rfl ?_
      refine x_bipush (n' := 27) (v := -103) dX9_set_25 (by decide) rfl ?_
      refine x_topv (y := -(nI (102 + 1))) (by decide) ?_
      refine x_callV (n' := 30) (n := 1) (K := 9) (c_X9_refused l G _ m ad (by repeat' (first | with_reducible exact hS | with_reducible apply MS.sA | with_reducible apply MS.sI | with_reducible apply MS.sL | with_reducible apply MS.sc)) 1 (by decide)) dX9_set_27 (by repeat' (first | with_reducible exact km | with_reducible apply mK_A | with_reducible apply mK_I | with_reducible apply mK_L | with_reducible apply mK_R | with_reducible apply mK_O | with_reducible apply mK_S)) rfl (lw_V q3324 q3326 qs48 q109 q3327) (by decide +kernel) ⟨(Nat.le_of_ble_eq_true rfl), (Nat.le_of_ble_eq_true rfl)⟩ rfl rfl (Nat.le_of_ble_eq_true rfl) (by first | exact Nat.le_of_ble_eq_true rfl | omega) (by first | exact Nat.le_of_ble_eq_true rfl | omega) rfl (fun v_25 M_26 h_28 hE_27 => ?_)
      obtain ⟨rfl, hMs⟩ := h_28
      have hMs := hMs.symm
      subst hMs
      exact x_iret dX9_set_30 hret (by repeat' (first | with_reducible exact kE.rf | with_reducible exact kE_SS | with_reducible apply kE_A | with_reducible apply kE_I | with_reducible apply kE_L | with_reducible apply kE_R | with_reducible apply kE_O | with_reducible apply kE_S)) (⟨fun q => absurd q (by exact fun q => C21 q.2.1), fun _ => by rw [show rcS k ((mA M (ad 7)) (nn k)) = 1 from (by exact rcS_b hs1 C21)]; exact ⟨rfl, rfl⟩⟩)
  · have C4 := c4_5
    refine x_aload_n (n' := 8) dX9_set_7 rfl rfl rfl ?_
    refine x_bipush (n' := 10) (v := -102) dX9_set_8 (by decide) rfl ?_
    refine x_topv (y := -(nI (102 + 0))) (by decide) ?_
    refine x_callV (n' := 13) (n := 1) (K := 9) (c_X9_refused l G _ m ad (by repeat' (first | with_reducible exact hS | with_reducible apply MS.sA | with_reducible apply MS.sI | with_reducible apply MS.sL | with_reducible apply MS.sc)) 0 (by decide)) dX9_set_10 (by repeat' (first | with_reducible exact km | with_reducible apply mK_A | with_reducible apply mK_I | with_reducible apply mK_L | with_reducible apply mK_R | with_reducible apply mK_O | with_reducible apply mK_S)) rfl (lw_V q3324 q3326 qs48 q109 q3327) (by decide +kernel) ⟨(Nat.le_of_ble_eq_true rfl), (Nat.le_of_ble_eq_true rfl)⟩ rfl rfl (Nat.le_of_ble_eq_true rfl) (by first | exact Nat.le_of_ble_eq_true rfl | omega) (by first | exact Nat.le_of_ble_eq_true rfl | omega) rfl (fun v_29 M_30 h_32 hE_31 => ?_)
    obtain ⟨rfl, hMs⟩ := h_32
    have hMs := hMs.symm
    subst hMs
    exact x_iret dX9_set_13 hret (by repeat' (first | with_reducible exact kE.rf | with_reducible exact kE_SS | with_reducible apply kE_A | with_reducible apply kE_I | with_reducible apply kE_L | with_reducible apply kE_R | with_reducible apply kE_O | with_reducible apply kE_S)) (⟨fun q => absurd q (by exact fun q => bi_0.mp C4 q.1), fun _ => by rw [show rcS k ((mA M (ad 7)) (nn k)) = 0 from (by exact rcS_a (bi_0.mp C4))]; exact ⟨rfl, rfl⟩⟩)

set_option maxHeartbeats 4000000 in
set_option maxRecDepth 100000 in
theorem c_X9_copy (l : Launch) (G : kG) (M : kM) (m : Nat) (ad : Nat → Nat) (hS : MS M m ad) (p q i j n : Int32) (hz : SZ (mA M (ad 8))) : Kt l G yX9_copy cX9_copy 8 (some .int) 2 45 [.ref m, .int p, .int q, .int i, .int j, .int n] M (0) (0) (fun v M2 => (okCp (mA M (ad 7)) (mA M (ad 8)) p q i j n → v = some (.int n) ∧ M2 = sL M (ad 13) (cpE (mL M (ad 13)) (nn p) (nn q) (nn i) (nn j) 0 (nn n))) ∧ (¬ (okCp (mA M (ad 7)) (mA M (ad 8)) p q i j n) → v = some (.int (-(nI (102 + rcC (mA M (ad 7)) p q)))) ∧ M2 = rfM M ad (rcC (mA M (ad 7)) p q))) := by
  refine Kt.of (own := "KeptLightModel") (L := [some (.ref m), some (.int p), some (.int q), some (.int i), some (.int j), some (.int n), none, none]) (by decide +kernel) rfl (Nat.le_of_ble_eq_true rfl) rfl ?_
  intro pp ee ss mm args below meth cd hmn hret
  have km := hS.1
  obtain ⟨hr_sorts, kk_sorts, hn_sorts⟩ := hS.2.1 7 (by decide)
  have hr_sorts : mR M (fc 9 17) m = some (ad 7) := hr_sorts
  have hn_sorts : mN M (ad 7) = 8 := hn_sorts
  have kk_sorts : mK M (ad 7) = some 120 := kk_sorts
  obtain ⟨hr_sizes, kk_sizes, hn_sizes⟩ := hS.2.1 8 (by decide)
  have hr_sizes : mR M (fc 9 18) m = some (ad 8) := hr_sizes
  have hn_sizes : mN M (ad 8) = 8 := hn_sizes
  have kk_sizes : mK M (ad 8) = some 120 := kk_sizes
  obtain ⟨hr_elements, kk_elements, hn_elements⟩ := hS.2.1 13 (by decide)
  have hr_elements : mR M (fc 9 19) m = some (ad 13) := hr_elements
  have hn_elements : mN M (ad 13) = 320 := hn_elements
  have kk_elements : mK M (ad 13) = some 124 := kk_elements
  have ne_sorts_sizes := hS.eqf 7 8 (by decide) (by decide) (by decide)
  have ne_sorts_elements := hS.eqf 7 13 (by decide) (by decide) (by decide)
  have ne_sizes_sorts := hS.eqf 8 7 (by decide) (by decide) (by decide)
  have ne_sizes_elements := hS.eqf 8 13 (by decide) (by decide) (by decide)
  have ne_elements_sorts := hS.eqf 13 7 (by decide) (by decide) (by decide)
  have ne_elements_sizes := hS.eqf 13 8 (by decide) (by decide) (by decide)
  have cut178 : ∀ (fuel : Nat) (k : Nat) (h1 : nn n - k < fuel) (h2 : k ≤ nn n) (hok : okCp (mA M (ad 7)) (mA M (ad 8)) p q i j n), Wx pp l ee { frames := 2, cells := 0, slots := 0, locals := 45 } ss mm args below meth cd "KeptLightModel" cX9_copy 8 G (MQ below (KQ G M (fun v M2 => (okCp (mA M (ad 7)) (mA M (ad 8)) p q i j n → v = some (.int n) ∧ M2 = sL M (ad 13) (cpE (mL M (ad 13)) (nn p) (nn q) (nn i) (nn j) 0 (nn n))) ∧ (¬ (okCp (mA M (ad 7)) (mA M (ad 8)) p q i j n) → v = some (.int (-(nI (102 + rcC (mA M (ad 7)) p q)))) ∧ M2 = rfM M ad (rcC (mA M (ad 7)) p q)))) args ss (0) (0) (kA G)) 178 [some (.ref m), some (.int (nI (nn p))), some (.int (nI (nn q))), some (.int (nI (nn i))), some (.int (nI (nn j))), some (.int (nI (nn n))), some (.int (nI k)), none] [] (sL M (ad 13) (cpI (mL M (ad 13)) (nn p) (nn q) (nn i) (nn j) (nn n) k)) (0) (0) := by
    intro fuel
    induction fuel with
    | zero => intro k h1 h2 hok; omega
    | succ fuel ih =>
      intro k h1 h2 hok
      have hs12 := hok.1
      have hr := hok.2.2.2
      have hn7 := nn_le (n := 7) hs12.1.1 hs12.1.2 (by decide)
      have hn6 := nn_le (n := 7) hs12.2.1 hs12.2.2 (by decide)
      have hc1 := cp_nat (k := 0) (hz (nn p) (by omega)) hr.1 hr.2.2.1 hr.2.2.2.1 hr.2.2.2.2.2.1
      have hc2 := cp_nat (k := 0) (hz (nn q) (by omega)) hr.2.1 hr.2.2.1 hr.2.2.2.2.1 hr.2.2.2.2.2.2
      have hx9 : k < nn n → cpX (nn i) (nn j) (nn n) k < nn n := fun w => by unfold cpX; split <;> omega
      refine x_iload (n' := 180) dX9_copy_178 rfl rfl ?_
      refine x_iload (n' := 182) dX9_copy_180 rfl rfl ?_
      refine x_icmp_ge (n' := 185) (tgt := 240) dX9_copy_182 (by decide) rfl (fun c182_1 => ?_) (fun c182_1 => ?_)
      · have n_c182_1 := (cv_le (by repeat' (first | with_reducible exact nl_0 | with_reducible exact nl_1 | with_reducible exact nl_4 | with_reducible exact nl_40 | with_reducible exact rfl | apply i_add | apply i_mul)) (by repeat' (first | with_reducible exact nl_0 | with_reducible exact nl_1 | with_reducible exact nl_4 | with_reducible exact nl_40 | with_reducible exact rfl | apply i_add | apply i_mul)) (by omega) (by omega)).mp c182_1
        refine x_iload (n' := 242) dX9_copy_240 rfl rfl ?_
        exact x_iret dX9_copy_242 hret (by repeat' (first | with_reducible exact kE.rf | with_reducible exact kE_SS | with_reducible apply kE_A | with_reducible apply kE_I | with_reducible apply kE_L | with_reducible apply kE_R | with_reducible apply kE_O | with_reducible apply kE_S)) (⟨fun _ => ⟨by rw [← nn_of hr.2.2.1], by rw [show k = nn n by omega, cpI_n]⟩, fun w => absurd hok w⟩)
      · have n_c182_1 := (not_congr (cv_le (by repeat' (first | with_reducible exact nl_0 | with_reducible exact nl_1 | with_reducible exact nl_4 | with_reducible exact nl_40 | with_reducible exact rfl | apply i_add | apply i_mul)) (by repeat' (first | with_reducible exact nl_0 | with_reducible exact nl_1 | with_reducible exact nl_4 | with_reducible exact nl_40 | with_reducible exact rfl | apply i_add | apply i_mul)) (by omega) (by omega))).mp c182_1
        refine x_iload_n (n' := 186) dX9_copy_185 rfl rfl rfl ?_
        refine x_iload (n' := 188) dX9_copy_186 rfl rfl ?_
        refine x_fork (J := 203) (x_icmp_ge (n' := 191) (tgt := 201) dX9_copy_188 (by decide) rfl) (v1 := ?v1_f188_2) (v2 := ?v2_f188_2) (fun c_f188_2 j_f188_2 => ?b1_f188_2) (fun c_f188_2 j_f188_2 => ?b2_f188_2) ?k_f188_2
        case b1_f188_2 =>
          refine x_iload (n' := 203) dX9_copy_201 rfl rfl ?_
          exact j_f188_2
        case b2_f188_2 =>
          refine x_iload (n' := 193) dX9_copy_191 rfl rfl ?_
          refine x_iconst (n' := 194) (v := 1) dX9_copy_193 (by decide) rfl ?_
          refine x_isub (n' := 195) dX9_copy_194 rfl ?_
          refine x_iload (n' := 197) dX9_copy_195 rfl rfl ?_
          refine x_isub (n' := 198) dX9_copy_197 rfl ?_
          refine x_goto (tgt := 203) dX9_copy_198 (by decide) ?_
          exact j_f188_2
        refine x_topv (y := nI (cpX (nn i) (nn j) (nn n) k)) (by exact cpX_eq (nn_lt i) (nn_lt j) (by omega)) ?_
        refine x_istore (n' := 205) dX9_copy_203 (Nat.le_of_ble_eq_true rfl) rfl (by dsimp only [List.set] <;> rfl) rfl ?_
        refine x_aload_n (n' := 206) dX9_copy_205 rfl rfl rfl ?_
        refine x_getRs (n' := 209) (b := (ad 13)) dX9_copy_206 (by repeat' (first | with_reducible exact km | with_reducible apply mK_A | with_reducible apply mK_I | with_reducible apply mK_L | with_reducible apply mK_R | with_reducible apply mK_O | with_reducible apply mK_S)) ffX9_47_9 rfl (by repeat' (first | with_reducible exact hr_elements | with_reducible apply mR_A | with_reducible apply mR_I | with_reducible apply mR_L | with_reducible apply mR_S)) rfl ?_
        refine x_bipush (n' := 211) (v := 40) dX9_copy_209 (by decide) rfl ?_
        refine x_iload_n (n' := 212) dX9_copy_211 rfl rfl rfl ?_
        refine x_imul (n' := 213) dX9_copy_212 rfl ?_
        refine x_iload (n' := 215) dX9_copy_213 rfl rfl ?_
        refine x_iadd (n' := 216) dX9_copy_215 rfl ?_
        refine x_iload (n' := 218) dX9_copy_216 rfl rfl ?_
        refine x_iadd (n' := 219) dX9_copy_218 rfl ?_
        refine x_aload_n (n' := 220) dX9_copy_219 rfl rfl rfl ?_
        refine x_getRs (n' := 223) (b := (ad 13)) dX9_copy_220 (by repeat' (first | with_reducible exact km | with_reducible apply mK_A | with_reducible apply mK_I | with_reducible apply mK_L | with_reducible apply mK_R | with_reducible apply mK_O | with_reducible apply mK_S)) ffX9_47_9 rfl (by repeat' (first | with_reducible exact hr_elements | with_reducible apply mR_A | with_reducible apply mR_I | with_reducible apply mR_L | with_reducible apply mR_S)) rfl ?_
        refine x_bipush (n' := 225) (v := 40) dX9_copy_223 (by decide) rfl ?_
        refine x_iload_n (n' := 226) dX9_copy_225 rfl rfl rfl ?_
        refine x_imul (n' := 227) dX9_copy_226 rfl ?_
        refine x_iload_n (n' := 228) dX9_copy_227 rfl rfl rfl ?_
        refine x_iadd (n' := 229) dX9_copy_228 rfl ?_
        refine x_iload (n' := 231) dX9_copy_229 rfl rfl ?_
        refine x_iadd (n' := 232) dX9_copy_231 rfl ?_
        refine x_lldk (n' := 233) (N := 320) dX9_copy_232 (by repeat' (first | with_reducible exact kk_elements | with_reducible apply mK_A | with_reducible apply mK_I | with_reducible apply mK_L | with_reducible apply mK_R | with_reducible apply mK_O | with_reducible apply mK_S)) (by repeat' (first | with_reducible exact hn_elements | with_reducible apply mN_A | with_reducible apply mN_I | with_reducible apply mN_L | with_reducible apply mN_R | with_reducible apply mN_O | with_reducible apply mN_S)) (by repeat' (first | with_reducible exact nl_0 | with_reducible exact nl_1 | with_reducible exact nl_4 | with_reducible exact nl_40 | with_reducible exact rfl | apply i_add | apply i_mul)) (by omega) (by decide) rfl rfl ?_
        refine x_lastk (n' := 234) (N := 320) dX9_copy_233 (by repeat' (first | with_reducible exact kk_elements | with_reducible apply mK_A | with_reducible apply mK_I | with_reducible apply mK_L | with_reducible apply mK_R | with_reducible apply mK_O | with_reducible apply mK_S)) (by repeat' (first | with_reducible exact hn_elements | with_reducible apply mN_A | with_reducible apply mN_I | with_reducible apply mN_L | with_reducible apply mN_R | with_reducible apply mN_O | with_reducible apply mN_S)) (by repeat' (first | with_reducible exact nl_0 | with_reducible exact nl_1 | with_reducible exact nl_4 | with_reducible exact nl_40 | with_reducible exact rfl | apply i_add | apply i_mul)) (by omega) (by decide) (by first | with_reducible exact mL_sL | rfl) (by first | with_reducible exact sL_sL | rfl) rfl ?_
        refine x_iinc (n' := 237) dX9_copy_234 rfl (by first | exact nI_inc _ | exact nI_decp (by omega) | exact i_inc _ | rfl) (Nat.le_of_ble_eq_true rfl) rfl (by dsimp only [List.set] <;> rfl) rfl ?_
        refine x_goto (tgt := 178) dX9_copy_237 (by decide) ?_
        rw [mL_sL, cpI_at (by omega) (by omega) (by omega), cpI_s (by omega)]
        exact x_drop (ih (k + 1) (by omega) (by omega) hok) ⟨rfl, ⟨rfl, ⟨rfl, ⟨rfl, ⟨rfl, ⟨rfl, ⟨rfl, trivial⟩⟩⟩⟩⟩⟩⟩
  have cut81 : ∀ (hs12 : shP p ∧ shP q) (hb1 : ¬ cpB (mA M (ad 7)) p q), Wx pp l ee { frames := 2, cells := 0, slots := 0, locals := 45 } ss mm args below meth cd "KeptLightModel" cX9_copy 8 G (MQ below (KQ G M (fun v M2 => (okCp (mA M (ad 7)) (mA M (ad 8)) p q i j n → v = some (.int n) ∧ M2 = sL M (ad 13) (cpE (mL M (ad 13)) (nn p) (nn q) (nn i) (nn j) 0 (nn n))) ∧ (¬ (okCp (mA M (ad 7)) (mA M (ad 8)) p q i j n) → v = some (.int (-(nI (102 + rcC (mA M (ad 7)) p q)))) ∧ M2 = rfM M ad (rcC (mA M (ad 7)) p q)))) args ss (0) (0) (kA G)) 81 [some (.ref m), some (.int (nI (nn p))), some (.int (nI (nn q))), some (.int i), some (.int j), some (.int n), none, none] [] (M) (0) (0) := by
    intro hs12 hb1
    have hn7 := nn_le (n := 7) hs12.1.1 hs12.1.2 (by decide)
    have hn6 := nn_le (n := 7) hs12.2.1 hs12.2.2 (by decide)
    refine x_aload_n (n' := 82) dX9_copy_81 rfl rfl rfl ?_
    refine x_getRs (n' := 85) (b := (ad 7)) dX9_copy_82 (by repeat' (first | with_reducible exact km | with_reducible apply mK_A | with_reducible apply mK_I | with_reducible apply mK_L | with_reducible apply mK_R | with_reducible apply mK_O | with_reducible apply mK_S)) ffX9_41_9 rfl (by repeat' (first | with_reducible exact hr_sorts | with_reducible apply mR_A | with_reducible apply mR_I | with_reducible apply mR_L | with_reducible apply mR_S)) rfl ?_
    refine x_iload_n (n' := 86) dX9_copy_85 rfl rfl rfl ?_
    refine x_ildk (n' := 87) (N := 8) dX9_copy_86 (by repeat' (first | with_reducible exact kk_sorts | with_reducible apply mK_A | with_reducible apply mK_I | with_reducible apply mK_L | with_reducible apply mK_R | with_reducible apply mK_O | with_reducible apply mK_S)) (by repeat' (first | with_reducible exact hn_sorts | with_reducible apply mN_A | with_reducible apply mN_I | with_reducible apply mN_L | with_reducible apply mN_R | with_reducible apply mN_O | with_reducible apply mN_S)) (by repeat' (first | with_reducible exact nl_0 | with_reducible exact nl_1 | with_reducible exact nl_4 | with_reducible exact nl_40 | with_reducible exact rfl | apply i_add | apply i_mul)) (by omega) (by decide) (by first | (simp (disch := omega) only [mA_sA, mA_sI, mA_SC0, mA_SC1 hS, mA_SC5 hS, mA_SC6 hS, mA_SC10 hS, mA_SC11 hS, mA_SC12 hS, up_s, up_n, if_false, ne_sorts_sizes, ne_sorts_elements, ne_sizes_sorts, ne_sizes_elements, ne_elements_sorts, ne_elements_sizes] <;> rfl) | rfl) rfl ?_
    refine x_if_lt (n' := 90) (tgt := 99) dX9_copy_87 (by decide) rfl (fun c87_3 => ?_) (fun c87_3 => ?_)
    · have C87 := c87_3
      refine x_aload_n (n' := 100) dX9_copy_99 rfl rfl rfl ?_
      refine x_bipush (n' := 102) (v := -104) dX9_copy_100 (by decide) rfl ?_
      refine x_topv (y := -(nI (102 + 2))) (by decide) ?_
      refine x_callV (n' := 105) (n := 1) (K := 9) (c_X9_refused l G _ m ad (by repeat' (first | with_reducible exact hS | with_reducible apply MS.sA | with_reducible apply MS.sI | with_reducible apply MS.sL | with_reducible apply MS.sc)) 2 (by decide)) dX9_copy_102 (by repeat' (first | with_reducible exact km | with_reducible apply mK_A | with_reducible apply mK_I | with_reducible apply mK_L | with_reducible apply mK_R | with_reducible apply mK_O | with_reducible apply mK_S)) rfl (lw_V q3324 q3326 qs48 q109 q3327) (by decide +kernel) ⟨(Nat.le_of_ble_eq_true rfl), (Nat.le_of_ble_eq_true rfl)⟩ rfl rfl (Nat.le_of_ble_eq_true rfl) (by first | exact Nat.le_of_ble_eq_true rfl | omega) (by first | exact Nat.le_of_ble_eq_true rfl | omega) rfl (fun v_4 M_5 h_7 hE_6 => ?_)
      obtain ⟨rfl, hMs⟩ := h_7
      have hMs := hMs.symm
      subst hMs
      exact x_iret dX9_copy_105 hret (by repeat' (first | with_reducible exact kE.rf | with_reducible exact kE_SS | with_reducible apply kE_A | with_reducible apply kE_I | with_reducible apply kE_L | with_reducible apply kE_R | with_reducible apply kE_O | with_reducible apply kE_S)) (⟨fun q => absurd q (by first | exact fun w => w.2.2.1 (Or.inl C87) | exact fun w => w.2.2.1 (Or.inr (Int32.not_le.mp C96))), fun _ => by rw [show rcC (mA M (ad 7)) p q = 2 from (by first | exact rcC_c hs12 hb1 (Or.inl C87) | exact rcC_c hs12 hb1 (Or.inr (Int32.not_le.mp C96)))]; exact ⟨rfl, rfl⟩⟩)
    · have C87 := c87_3
      refine x_aload_n (n' := 91) dX9_copy_90 rfl rfl rfl ?_
      refine x_getRs (n' := 94) (b := (ad 7)) dX9_copy_91 (by repeat' (first | with_reducible exact km | with_reducible apply mK_A | with_reducible apply mK_I | with_reducible apply mK_L | with_reducible apply mK_R | with_reducible apply mK_O | with_reducible apply mK_S)) ffX9_41_9 rfl (by repeat' (first | with_reducible exact hr_sorts | with_reducible apply mR_A | with_reducible apply mR_I | with_reducible apply mR_L | with_reducible apply mR_S)) rfl ?_
      refine x_iload_n (n' := 95) dX9_copy_94 rfl rfl rfl ?_
      refine x_ildk (n' := 96) (N := 8) dX9_copy_95 (by repeat' (first | with_reducible exact kk_sorts | with_reducible apply mK_A | with_reducible apply mK_I | with_reducible apply mK_L | with_reducible apply mK_R | with_reducible apply mK_O | with_reducible apply mK_S)) (by repeat' (first | with_reducible exact hn_sorts | with_reducible apply mN_A | with_reducible apply mN_I | with_reducible apply mN_L | with_reducible apply mN_R | with_reducible apply mN_O | with_reducible apply mN_S)) (by repeat' (first | with_reducible exact nl_0 | with_reducible exact nl_1 | with_reducible exact nl_4 | with_reducible exact nl_40 | with_reducible exact rfl | apply i_add | apply i_mul)) (by omega) (by decide) (by first | (simp (disch := omega) only [mA_sA, mA_sI, mA_SC0, mA_SC1 hS, mA_SC5 hS, mA_SC6 hS, mA_SC10 hS, mA_SC11 hS, mA_SC12 hS, up_s, up_n, if_false, ne_sorts_sizes, ne_sorts_elements, ne_sizes_sorts, ne_sizes_elements, ne_elements_sorts, ne_elements_sizes] <;> rfl) | rfl) rfl ?_
      refine x_if_ge (n' := 99) (tgt := 106) dX9_copy_96 (by decide) rfl (fun c96_8 => ?_) (fun c96_8 => ?_)
      · have C96 := c96_8
        have hb2 : ¬ ((mA M (ad 7)) (nn p) < 0 ∨ (mA M (ad 7)) (nn q) < 0) := fun w => w.elim C87 (fun w => absurd C96 (Int32.not_le.mpr w))
        refine x_iload_n (n' := 107) dX9_copy_106 rfl rfl rfl ?_
        refine x_if_lt (n' := 110) (tgt := 168) dX9_copy_107 (by decide) rfl (fun c107_9 => ?_) (fun c107_9 => ?_)
        · have C107 := c107_9
          refine x_aload_n (n' := 169) dX9_copy_168 rfl rfl rfl ?_
          refine x_bipush (n' := 171) (v := -102) dX9_copy_169 (by decide) rfl ?_
          refine x_topv (y := -(nI (102 + 0))) (by decide) ?_
          refine x_callV (n' := 174) (n := 1) (K := 9) (c_X9_refused l G _ m ad (by repeat' (first | with_reducible exact hS | with_reducible apply MS.sA | with_reducible apply MS.sI | with_reducible apply MS.sL | with_reducible apply MS.sc)) 0 (by decide)) dX9_copy_171 (by repeat' (first | with_reducible exact km | with_reducible apply mK_A | with_reducible apply mK_I | with_reducible apply mK_L | with_reducible apply mK_R | with_reducible apply mK_O | with_reducible apply mK_S)) rfl (lw_V q3324 q3326 qs48 q109 q3327) (by decide +kernel) ⟨(Nat.le_of_ble_eq_true rfl), (Nat.le_of_ble_eq_true rfl)⟩ rfl rfl (Nat.le_of_ble_eq_true rfl) (by first | exact Nat.le_of_ble_eq_true rfl | omega) (by first | exact Nat.le_of_ble_eq_true rfl | omega) rfl (fun v_10 M_11 h_13 hE_12 => ?_)
          obtain ⟨rfl, hMs⟩ := h_13
          have hMs := hMs.symm
          subst hMs
          exact x_iret dX9_copy_174 hret (by repeat' (first | with_reducible exact kE.rf | with_reducible exact kE_SS | with_reducible apply kE_A | with_reducible apply kE_I | with_reducible apply kE_L | with_reducible apply kE_R | with_reducible apply kE_O | with_reducible apply kE_S)) (⟨fun q => absurd q (by first | exact fun w => absurd w.2.2.2.1 (Int32.not_le.mpr C107) | exact fun w => absurd w.2.2.2.2.1 (Int32.not_le.mpr C112) | exact fun w => absurd w.2.2.2.2.2.1 (Int32.not_le.mpr C117) | exact fun w => absurd w.2.2.2.2.2.2.1 (Int32.not_le.mpr C127) | exact fun w => absurd w.2.2.2.2.2.2.2.1 (Int32.not_le.mpr C138) | exact fun w => absurd w.2.2.2.2.2.2.2.2.1 (Int32.not_le.mpr C151) | exact fun w => absurd w.2.2.2.2.2.2.2.2.2 C165), fun _ => by rw [show rcC (mA M (ad 7)) p q = 0 from (by exact rcC_d hs12 hb1 hb2)]; exact ⟨rfl, rfl⟩⟩)
        · have C107 := c107_9
          refine x_iload (n' := 112) dX9_copy_110 rfl rfl ?_
          refine x_if_lt (n' := 115) (tgt := 168) dX9_copy_112 (by decide) rfl (fun c112_14 => ?_) (fun c112_14 => ?_)
          · have C112 := c112_14
            refine x_aload_n (n' := 169) dX9_copy_168 rfl rfl rfl ?_
            refine x_bipush (n' := 171) (v := -102) dX9_copy_169 (by decide) rfl ?_
            refine x_topv (y := -(nI (102 + 0))) (by decide) ?_
            refine x_callV (n' := 174) (n := 1) (K := 9) (c_X9_refused l G _ m ad (by repeat' (first | with_reducible exact hS | with_reducible apply MS.sA | with_reducible apply MS.sI | with_reducible apply MS.sL | with_reducible apply MS.sc)) 0 (by decide)) dX9_copy_171 (by repeat' (first | with_reducible exact km | with_reducible apply mK_A | with_reducible apply mK_I | with_reducible apply mK_L | with_reducible apply mK_R | with_reducible apply mK_O | with_reducible apply mK_S)) rfl (lw_V q3324 q3326 qs48 q109 q3327) (by decide +kernel) ⟨(Nat.le_of_ble_eq_true rfl), (Nat.le_of_ble_eq_true rfl)⟩ rfl rfl (Nat.le_of_ble_eq_true rfl) (by first | exact Nat.le_of_ble_eq_true rfl | omega) (by first | exact Nat.le_of_ble_eq_true rfl | omega) rfl (fun v_15 M_16 h_18 hE_17 => ?_)
            obtain ⟨rfl, hMs⟩ := h_18
            have hMs := hMs.symm
            subst hMs
            exact x_iret dX9_copy_174 hret (by repeat' (first | with_reducible exact kE.rf | with_reducible exact kE_SS | with_reducible apply kE_A | with_reducible apply kE_I | with_reducible apply kE_L | with_reducible apply kE_R | with_reducible apply kE_O | with_reducible apply kE_S)) (⟨fun q => absurd q (by first | exact fun w => absurd w.2.2.2.1 (Int32.not_le.mpr C107) | exact fun w => absurd w.2.2.2.2.1 (Int32.not_le.mpr C112) | exact fun w => absurd w.2.2.2.2.2.1 (Int32.not_le.mpr C117) | exact fun w => absurd w.2.2.2.2.2.2.1 (Int32.not_le.mpr C127) | exact fun w => absurd w.2.2.2.2.2.2.2.1 (Int32.not_le.mpr C138) | exact fun w => absurd w.2.2.2.2.2.2.2.2.1 (Int32.not_le.mpr C151) | exact fun w => absurd w.2.2.2.2.2.2.2.2.2 C165), fun _ => by rw [show rcC (mA M (ad 7)) p q = 0 from (by exact rcC_d hs12 hb1 hb2)]; exact ⟨rfl, rfl⟩⟩)
          · have C112 := c112_14
            refine x_iload (n' := 117) dX9_copy_115 rfl rfl ?_
            refine x_if_lt (n' := 120) (tgt := 168) dX9_copy_117 (by decide) rfl (fun c117_19 => ?_) (fun c117_19 => ?_)
            · have C117 := c117_19
              refine x_aload_n (n' := 169) dX9_copy_168 rfl rfl rfl ?_
              refine x_bipush (n' := 171) (v := -102) dX9_copy_169 (by decide) rfl ?_
              refine x_topv (y := -(nI (102 + 0))) (by decide) ?_
              refine x_callV (n' := 174) (n := 1) (K := 9) (c_X9_refused l G _ m ad (by repeat' (first | with_reducible exact hS | with_reducible apply MS.sA | with_reducible apply MS.sI | with_reducible apply MS.sL | with_reducible apply MS.sc)) 0 (by decide)) dX9_copy_171 (by repeat' (first | with_reducible exact km | with_reducible apply mK_A | with_reducible apply mK_I | with_reducible apply mK_L | with_reducible apply mK_R | with_reducible apply mK_O | with_reducible apply mK_S)) rfl (lw_V q3324 q3326 qs48 q109 q3327) (by decide +kernel) ⟨(Nat.le_of_ble_eq_true rfl), (Nat.le_of_ble_eq_true rfl)⟩ rfl rfl (Nat.le_of_ble_eq_true rfl) (by first | exact Nat.le_of_ble_eq_true rfl | omega) (by first | exact Nat.le_of_ble_eq_true rfl | omega) rfl (fun v_20 M_21 h_23 hE_22 => ?_)
              obtain ⟨rfl, hMs⟩ := h_23
              have hMs := hMs.symm
              subst hMs
              exact x_iret dX9_copy_174 hret (by repeat' (first | with_reducible exact kE.rf | with_reducible exact kE_SS | with_reducible apply kE_A | with_reducible apply kE_I | with_reducible apply kE_L | with_reducible apply kE_R | with_reducible apply kE_O | with_reducible apply kE_S)) (⟨fun q => absurd q (by first | exact fun w => absurd w.2.2.2.1 (Int32.not_le.mpr C107) | exact fun w => absurd w.2.2.2.2.1 (Int32.not_le.mpr C112) | exact fun w => absurd w.2.2.2.2.2.1 (Int32.not_le.mpr C117) | exact fun w => absurd w.2.2.2.2.2.2.1 (Int32.not_le.mpr C127) | exact fun w => absurd w.2.2.2.2.2.2.2.1 (Int32.not_le.mpr C138) | exact fun w => absurd w.2.2.2.2.2.2.2.2.1 (Int32.not_le.mpr C151) | exact fun w => absurd w.2.2.2.2.2.2.2.2.2 C165), fun _ => by rw [show rcC (mA M (ad 7)) p q = 0 from (by exact rcC_d hs12 hb1 hb2)]; exact ⟨rfl, rfl⟩⟩)
            · have C117 := c117_19
              refine x_iload_n (n' := 121) dX9_copy_120 rfl rfl rfl ?_
              refine x_aload_n (n' := 122) dX9_copy_121 rfl rfl rfl ?_
              refine x_getRs (n' := 125) (b := (ad 8)) dX9_copy_122 (by repeat' (first | with_reducible exact km | with_reducible apply mK_A | with_reducible apply mK_I | with_reducible apply mK_L | with_reducible apply mK_R | with_reducible apply mK_O | with_reducible apply mK_S)) ffX9_44_9 rfl (by repeat' (first | with_reducible exact hr_sizes | with_reducible apply mR_A | with_reducible apply mR_I | with_reducible apply mR_L | with_reducible apply mR_S)) rfl ?_
              refine x_iload_n (n' := 126) dX9_copy_125 rfl rfl rfl ?_
              refine x_ildk (n' := 127) (N := 8) dX9_copy_126 (by repeat' (first | with_reducible exact kk_sizes | with_reducible apply mK_A | with_reducible apply mK_I | with_reducible apply mK_L | with_reducible apply mK_R | with_reducible apply mK_O | with_reducible apply mK_S)) (by repeat' (first | with_reducible exact hn_sizes | with_reducible apply mN_A | with_reducible apply mN_I | with_reducible apply mN_L | with_reducible apply mN_R | with_reducible apply mN_O | with_reducible apply mN_S)) (by repeat' (first | with_reducible exact nl_0 | with_reducible exact nl_1 | with_reducible exact nl_4 | with_reducible exact nl_40 | with_reducible exact rfl | apply i_add | apply i_mul)) (by omega) (by decide) (by first | (simp (disch := omega) only [mA_sA, mA_sI, mA_SC0, mA_SC1 hS, mA_SC5 hS, mA_SC6 hS, mA_SC10 hS, mA_SC11 hS, mA_SC12 hS, up_s, up_n, if_false, ne_sorts_sizes, ne_sorts_elements, ne_sizes_sorts, ne_sizes_elements, ne_elements_sorts, ne_elements_sizes] <;> rfl) | rfl) rfl ?_
              refine x_icmp_gt (n' := 130) (tgt := 168) dX9_copy_127 (by decide) rfl (fun c127_24 => ?_) (fun c127_24 => ?_)
              · have C127 := c127_24
                refine x_aload_n (n' := 169) dX9_copy_168 rfl rfl rfl ?_
                refine x_bipush (n' := 171) (v := -102) dX9_copy_169 (by decide) rfl ?_
                refine x_topv (y := -(nI (102 + 0))) (by decide) ?_
                refine x_callV (n' := 174) (n := 1) (K := 9) (c_X9_refused l G _ m ad (by repeat' (first | with_reducible exact hS | with_reducible apply MS.sA | with_reducible apply MS.sI | with_reducible apply MS.sL | with_reducible apply MS.sc)) 0 (by decide)) dX9_copy_171 (by repeat' (first | with_reducible exact km | with_reducible apply mK_A | with_reducible apply mK_I | with_reducible apply mK_L | with_reducible apply mK_R | with_reducible apply mK_O | with_reducible apply mK_S)) rfl (lw_V q3324 q3326 qs48 q109 q3327) (by decide +kernel) ⟨(Nat.le_of_ble_eq_true rfl), (Nat.le_of_ble_eq_true rfl)⟩ rfl rfl (Nat.le_of_ble_eq_true rfl) (by first | exact Nat.le_of_ble_eq_true rfl | omega) (by first | exact Nat.le_of_ble_eq_true rfl | omega) rfl (fun v_25 M_26 h_28 hE_27 => ?_)
                obtain ⟨rfl, hMs⟩ := h_28
                have hMs := hMs.symm
                subst hMs
                exact x_iret dX9_copy_174 hret (by repeat' (first | with_reducible exact kE.rf | with_reducible exact kE_SS | with_reducible apply kE_A | with_reducible apply kE_I | with_reducible apply kE_L | with_reducible apply kE_R | with_reducible apply kE_O | with_reducible apply kE_S)) (⟨fun q => absurd q (by first | exact fun w => absurd w.2.2.2.1 (Int32.not_le.mpr C107) | exact fun w => absurd w.2.2.2.2.1 (Int32.not_le.mpr C112) | exact fun w => absurd w.2.2.2.2.2.1 (Int32.not_le.mpr C117) | exact fun w => absurd w.2.2.2.2.2.2.1 (Int32.not_le.mpr C127) | exact fun w => absurd w.2.2.2.2.2.2.2.1 (Int32.not_le.mpr C138) | exact fun w => absurd w.2.2.2.2.2.2.2.2.1 (Int32.not_le.mpr C151) | exact fun w => absurd w.2.2.2.2.2.2.2.2.2 C165), fun _ => by rw [show rcC (mA M (ad 7)) p q = 0 from (by exact rcC_d hs12 hb1 hb2)]; exact ⟨rfl, rfl⟩⟩)
              · have C127 := c127_24
                refine x_iload (n' := 132) dX9_copy_130 rfl rfl ?_
                refine x_aload_n (n' := 133) dX9_copy_132 rfl rfl rfl ?_
                refine x_getRs (n' := 136) (b := (ad 8)) dX9_copy_133 (by repeat' (first | with_reducible exact km | with_reducible apply mK_A | with_reducible apply mK_I | with_reducible apply mK_L | with_reducible apply mK_R | with_reducible apply mK_O | with_reducible apply mK_S)) ffX9_44_9 rfl (by repeat' (first | with_reducible exact hr_sizes | with_reducible apply mR_A | with_reducible apply mR_I | with_reducible apply mR_L | with_reducible apply mR_S)) rfl ?_
                refine x_iload_n (n' := 137) dX9_copy_136 rfl rfl rfl ?_
                refine x_ildk (n' := 138) (N := 8) dX9_copy_137 (by repeat' (first | with_reducible exact kk_sizes | with_reducible apply mK_A | with_reducible apply mK_I | with_reducible apply mK_L | with_reducible apply mK_R | with_reducible apply mK_O | with_reducible apply mK_S)) (by repeat' (first | with_reducible exact hn_sizes | with_reducible apply mN_A | with_reducible apply mN_I | with_reducible apply mN_L | with_reducible apply mN_R | with_reducible apply mN_O | with_reducible apply mN_S)) (by repeat' (first | with_reducible exact nl_0 | with_reducible exact nl_1 | with_reducible exact nl_4 | with_reducible exact nl_40 | with_reducible exact rfl | apply i_add | apply i_mul)) (by omega) (by decide) (by first | (simp (disch := omega) only [mA_sA, mA_sI, mA_SC0, mA_SC1 hS, mA_SC5 hS, mA_SC6 hS, mA_SC10 hS, mA_SC11 hS, mA_SC12 hS, up_s, up_n, if_false, ne_sorts_sizes, ne_sorts_elements, ne_sizes_sorts, ne_sizes_elements, ne_elements_sorts, ne_elements_sizes] <;> rfl) | rfl) rfl ?_
                refine x_icmp_gt (n' := 141) (tgt := 168) dX9_copy_138 (by decide) rfl (fun c138_29 => ?_) (fun c138_29 => ?_)
                · have C138 := c138_29
                  refine x_aload_n (n' := 169) dX9_copy_168 rfl rfl rfl ?_
                  refine x_bipush (n' := 171) (v := -102) dX9_copy_169 (by decide) rfl ?_
                  refine x_topv (y := -(nI (102 + 0))) (by decide) ?_
                  refine x_callV (n' := 174) (n := 1) (K := 9) (c_X9_refused l G _ m ad (by repeat' (first | with_reducible exact hS | with_reducible apply MS.sA | with_reducible apply MS.sI | with_reducible apply MS.sL | with_reducible apply MS.sc)) 0 (by decide)) dX9_copy_171 (by repeat' (first | with_reducible exact km | with_reducible apply mK_A | with_reducible apply mK_I | with_reducible apply mK_L | with_reducible apply mK_R | with_reducible apply mK_O | with_reducible apply mK_S)) rfl (lw_V q3324 q3326 qs48 q109 q3327) (by decide +kernel) ⟨(Nat.le_of_ble_eq_true rfl), (Nat.le_of_ble_eq_true rfl)⟩ rfl rfl (Nat.le_of_ble_eq_true rfl) (by first | exact Nat.le_of_ble_eq_true rfl | omega) (by first | exact Nat.le_of_ble_eq_true rfl | omega) rfl (fun v_30 M_31 h_33 hE_32 => ?_)
                  obtain ⟨rfl, hMs⟩ := h_33
                  have hMs := hMs.symm
                  subst hMs
                  exact x_iret dX9_copy_174 hret (by repeat' (first | with_reducible exact kE.rf | with_reducible exact kE_SS | with_reducible apply kE_A | with_reducible apply kE_I | with_reducible apply kE_L | with_reducible apply kE_R | with_reducible apply kE_O | with_reducible apply kE_S)) (⟨fun q => absurd q (by first | exact fun w => absurd w.2.2.2.1 (Int32.not_le.mpr C107) | exact fun w => absurd w.2.2.2.2.1 (Int32.not_le.mpr C112) | exact fun w => absurd w.2.2.2.2.2.1 (Int32.not_le.mpr C117) | exact fun w => absurd w.2.2.2.2.2.2.1 (Int32.not_le.mpr C127) | exact fun w => absurd w.2.2.2.2.2.2.2.1 (Int32.not_le.mpr C138) | exact fun w => absurd w.2.2.2.2.2.2.2.2.1 (Int32.not_le.mpr C151) | exact fun w => absurd w.2.2.2.2.2.2.2.2.2 C165), fun _ => by rw [show rcC (mA M (ad 7)) p q = 0 from (by exact rcC_d hs12 hb1 hb2)]; exact ⟨rfl, rfl⟩⟩)
                · have C138 := c138_29
                  refine x_iload (n' := 143) dX9_copy_141 rfl rfl ?_
                  refine x_aload_n (n' := 144) dX9_copy_143 rfl rfl rfl ?_
                  refine x_getRs (n' := 147) (b := (ad 8)) dX9_copy_144 (by repeat' (first | with_reducible exact km | with_reducible apply mK_A | with_reducible apply mK_I | with_reducible apply mK_L | with_reducible apply mK_R | with_reducible apply mK_O | with_reducible apply mK_S)) ffX9_44_9 rfl (by repeat' (first | with_reducible exact hr_sizes | with_reducible apply mR_A | with_reducible apply mR_I | with_reducible apply mR_L | with_reducible apply mR_S)) rfl ?_
                  refine x_iload_n (n' := 148) dX9_copy_147 rfl rfl rfl ?_
                  refine x_ildk (n' := 149) (N := 8) dX9_copy_148 (by repeat' (first | with_reducible exact kk_sizes | with_reducible apply mK_A | with_reducible apply mK_I | with_reducible apply mK_L | with_reducible apply mK_R | with_reducible apply mK_O | with_reducible apply mK_S)) (by repeat' (first | with_reducible exact hn_sizes | with_reducible apply mN_A | with_reducible apply mN_I | with_reducible apply mN_L | with_reducible apply mN_R | with_reducible apply mN_O | with_reducible apply mN_S)) (by repeat' (first | with_reducible exact nl_0 | with_reducible exact nl_1 | with_reducible exact nl_4 | with_reducible exact nl_40 | with_reducible exact rfl | apply i_add | apply i_mul)) (by omega) (by decide) (by first | (simp (disch := omega) only [mA_sA, mA_sI, mA_SC0, mA_SC1 hS, mA_SC5 hS, mA_SC6 hS, mA_SC10 hS, mA_SC11 hS, mA_SC12 hS, up_s, up_n, if_false, ne_sorts_sizes, ne_sorts_elements, ne_sizes_sorts, ne_sizes_elements, ne_elements_sorts, ne_elements_sizes] <;> rfl) | rfl) rfl ?_
                  refine x_iload_n (n' := 150) dX9_copy_149 rfl rfl rfl ?_
                  refine x_isub (n' := 151) dX9_copy_150 rfl ?_
                  refine x_icmp_gt (n' := 154) (tgt := 168) dX9_copy_151 (by decide) rfl (fun c151_34 => ?_) (fun c151_34 => ?_)
                  · have C151 := c151_34
                    refine x_aload_n (n' := 169) dX9_copy_168 rfl rfl rfl ?_
                    refine x_bipush (n' := 171) (v := -102) dX9_copy_169 (by decide) rfl ?_
                    refine x_topv (y := -(nI (102 + 0))) (by decide) ?_
                    refine x_callV (n' := 174) (n := 1) (K := 9) (c_X9_refused l G _ m ad (by repeat' (first | with_reducible exact hS | with_reducible apply MS.sA | with_reducible apply MS.sI | with_reducible apply MS.sL | with_reducible apply MS.sc)) 0 (by decide)) dX9_copy_171 (by repeat' (first | with_reducible exact km | with_reducible apply mK_A | with_reducible apply mK_I | with_reducible apply mK_L | with_reducible apply mK_R | with_reducible apply mK_O | with_reducible apply mK_S)) rfl (lw_V q3324 q3326 qs48 q109 q3327) (by decide +kernel) ⟨(Nat.le_of_ble_eq_true rfl), (Nat.le_of_ble_eq_true rfl)⟩ rfl rfl (Nat.le_of_ble_eq_true rfl) (by first | exact Nat.le_of_ble_eq_true rfl | omega) (by first | exact Nat.le_of_ble_eq_true rfl | omega) rfl (fun v_35 M_36 h_38 hE_37 => ?_)
                    obtain ⟨rfl, hMs⟩ := h_38
                    have hMs := hMs.symm
                    subst hMs
                    exact x_iret dX9_copy_174 hret (by repeat' (first | with_reducible exact kE.rf | with_reducible exact kE_SS | with_reducible apply kE_A | with_reducible apply kE_I | with_reducible apply kE_L | with_reducible apply kE_R | with_reducible apply kE_O | with_reducible apply kE_S)) (⟨fun q => absurd q (by first | exact fun w => absurd w.2.2.2.1 (Int32.not_le.mpr C107) | exact fun w => absurd w.2.2.2.2.1 (Int32.not_le.mpr C112) | exact fun w => absurd w.2.2.2.2.2.1 (Int32.not_le.mpr C117) | exact fun w => absurd w.2.2.2.2.2.2.1 (Int32.not_le.mpr C127) | exact fun w => absurd w.2.2.2.2.2.2.2.1 (Int32.not_le.mpr C138) | exact fun w => absurd w.2.2.2.2.2.2.2.2.1 (Int32.not_le.mpr C151) | exact fun w => absurd w.2.2.2.2.2.2.2.2.2 C165), fun _ => by rw [show rcC (mA M (ad 7)) p q = 0 from (by exact rcC_d hs12 hb1 hb2)]; exact ⟨rfl, rfl⟩⟩)
                  · have C151 := c151_34
                    refine x_iload (n' := 156) dX9_copy_154 rfl rfl ?_
                    refine x_aload_n (n' := 157) dX9_copy_156 rfl rfl rfl ?_
                    refine x_getRs (n' := 160) (b := (ad 8)) dX9_copy_157 (by repeat' (first | with_reducible exact km | with_reducible apply mK_A | with_reducible apply mK_I | with_reducible apply mK_L | with_reducible apply mK_R | with_reducible apply mK_O | with_reducible apply mK_S)) ffX9_44_9 rfl (by repeat' (first | with_reducible exact hr_sizes | with_reducible apply mR_A | with_reducible apply mR_I | with_reducible apply mR_L | with_reducible apply mR_S)) rfl ?_
                    refine x_iload_n (n' := 161) dX9_copy_160 rfl rfl rfl ?_
                    refine x_ildk (n' := 162) (N := 8) dX9_copy_161 (by repeat' (first | with_reducible exact kk_sizes | with_reducible apply mK_A | with_reducible apply mK_I | with_reducible apply mK_L | with_reducible apply mK_R | with_reducible apply mK_O | with_reducible apply mK_S)) (by repeat' (first | with_reducible exact hn_sizes | with_reducible apply mN_A | with_reducible apply mN_I | with_reducible apply mN_L | with_reducible apply mN_R | with_reducible apply mN_O | with_reducible apply mN_S)) (by repeat' (first | with_reducible exact nl_0 | with_reducible exact nl_1 | with_reducible exact nl_4 | with_reducible exact nl_40 | with_reducible exact rfl | apply i_add | apply i_mul)) (by omega) (by decide) (by first | (simp (disch := omega) only [mA_sA, mA_sI, mA_SC0, mA_SC1 hS, mA_SC5 hS, mA_SC6 hS, mA_SC10 hS, mA_SC11 hS, mA_SC12 hS, up_s, up_n, if_false, ne_sorts_sizes, ne_sorts_elements, ne_sizes_sorts, ne_sizes_elements, ne_elements_sorts, ne_elements_sizes] <;> rfl) | rfl) rfl ?_
                    refine x_iload (n' := 164) dX9_copy_162 rfl rfl ?_
                    refine x_isub (n' := 165) dX9_copy_164 rfl ?_
                    refine x_icmp_le (n' := 168) (tgt := 175) dX9_copy_165 (by decide) rfl (fun c165_39 => ?_) (fun c165_39 => ?_)
                    · have C165 := c165_39
                      have hr : cpR (mA M (ad 8)) p q i j n := ⟨Int32.not_lt.mp C107, Int32.not_lt.mp C112, Int32.not_lt.mp C117, Int32.not_lt.mp C127, Int32.not_lt.mp C138, Int32.not_lt.mp C151, C165⟩
                      have hok : okCp (mA M (ad 7)) (mA M (ad 8)) p q i j n := ⟨hs12, hb1, hb2, hr⟩
                      refine x_loc (i := 3) rfl (nn_of hr.1) (by dsimp only [List.set] <;> rfl) ?_
                      refine x_loc (i := 4) rfl (nn_of hr.2.1) (by dsimp only [List.set] <;> rfl) ?_
                      refine x_loc (i := 5) rfl (nn_of hr.2.2.1) (by dsimp only [List.set] <;> rfl) ?_
                      refine x_iconst (n' := 176) (v := 0) dX9_copy_175 (by decide) rfl ?_
                      refine x_istore (n' := 178) dX9_copy_176 (Nat.le_of_ble_eq_true rfl) rfl (by dsimp only [List.set] <;> rfl) rfl ?_
                      refine x_mem (M2 := sL M (ad 13) (cpI (mL M (ad 13)) (nn p) (nn q) (nn i) (nn j) (nn n) 0)) (by rw [cpI_0]; exact sL_eta.symm) ?_
                      exact x_drop (cut178 (nn n + 1) 0 (by omega) (by omega) hok) ⟨rfl, ⟨rfl, ⟨rfl, ⟨rfl, ⟨rfl, ⟨rfl, ⟨rfl, trivial⟩⟩⟩⟩⟩⟩⟩
                    · have C165 := c165_39
                      refine x_aload_n (n' := 169) dX9_copy_168 rfl rfl rfl ?_
                      refine x_bipush (n' := 171) (v := -102) dX9_copy_169 (by decide) rfl ?_
                      refine x_topv (y := -(nI (102 + 0))) (by decide) ?_
                      refine x_callV (n' := 174) (n := 1) (K := 9) (c_X9_refused l G _ m ad (by repeat' (first | with_reducible exact hS | with_reducible apply MS.sA | with_reducible apply MS.sI | with_reducible apply MS.sL | with_reducible apply MS.sc)) 0 (by decide)) dX9_copy_171 (by repeat' (first | with_reducible exact km | with_reducible apply mK_A | with_reducible apply mK_I | with_reducible apply mK_L | with_reducible apply mK_R | with_reducible apply mK_O | with_reducible apply mK_S)) rfl (lw_V q3324 q3326 qs48 q109 q3327) (by decide +kernel) ⟨(Nat.le_of_ble_eq_true rfl), (Nat.le_of_ble_eq_true rfl)⟩ rfl rfl (Nat.le_of_ble_eq_true rfl) (by first | exact Nat.le_of_ble_eq_true rfl | omega) (by first | exact Nat.le_of_ble_eq_true rfl | omega) rfl (fun v_40 M_41 h_43 hE_42 => ?_)
                      obtain ⟨rfl, hMs⟩ := h_43
                      have hMs := hMs.symm
                      subst hMs
                      exact x_iret dX9_copy_174 hret (by repeat' (first | with_reducible exact kE.rf | with_reducible exact kE_SS | with_reducible apply kE_A | with_reducible apply kE_I | with_reducible apply kE_L | with_reducible apply kE_R | with_reducible apply kE_O | with_reducible apply kE_S)) (⟨fun q => absurd q (by first | exact fun w => absurd w.2.2.2.1 (Int32.not_le.mpr C107) | exact fun w => absurd w.2.2.2.2.1 (Int32.not_le.mpr C112) | exact fun w => absurd w.2.2.2.2.2.1 (Int32.not_le.mpr C117) | exact fun w => absurd w.2.2.2.2.2.2.1 (Int32.not_le.mpr C127) | exact fun w => absurd w.2.2.2.2.2.2.2.1 (Int32.not_le.mpr C138) | exact fun w => absurd w.2.2.2.2.2.2.2.2.1 (Int32.not_le.mpr C151) | exact fun w => absurd w.2.2.2.2.2.2.2.2.2 C165), fun _ => by rw [show rcC (mA M (ad 7)) p q = 0 from (by exact rcC_d hs12 hb1 hb2)]; exact ⟨rfl, rfl⟩⟩)
      · have C96 := c96_8
        refine x_aload_n (n' := 100) dX9_copy_99 rfl rfl rfl ?_
        refine x_bipush (n' := 102) (v := -104) dX9_copy_100 (by decide) rfl ?_
        refine x_topv (y := -(nI (102 + 2))) (by decide) ?_
        refine x_callV (n' := 105) (n := 1) (K := 9) (c_X9_refused l G _ m ad (by repeat' (first | with_reducible exact hS | with_reducible apply MS.sA | with_reducible apply MS.sI | with_reducible apply MS.sL | with_reducible apply MS.sc)) 2 (by decide)) dX9_copy_102 (by repeat' (first | with_reducible exact km | with_reducible apply mK_A | with_reducible apply mK_I | with_reducible apply mK_L | with_reducible apply mK_R | with_reducible apply mK_O | with_reducible apply mK_S)) rfl (lw_V q3324 q3326 qs48 q109 q3327) (by decide +kernel) ⟨(Nat.le_of_ble_eq_true rfl), (Nat.le_of_ble_eq_true rfl)⟩ rfl rfl (Nat.le_of_ble_eq_true rfl) (by first | exact Nat.le_of_ble_eq_true rfl | omega) (by first | exact Nat.le_of_ble_eq_true rfl | omega) rfl (fun v_44 M_45 h_47 hE_46 => ?_)
        obtain ⟨rfl, hMs⟩ := h_47
        have hMs := hMs.symm
        subst hMs
        exact x_iret dX9_copy_105 hret (by repeat' (first | with_reducible exact kE.rf | with_reducible exact kE_SS | with_reducible apply kE_A | with_reducible apply kE_I | with_reducible apply kE_L | with_reducible apply kE_R | with_reducible apply kE_O | with_reducible apply kE_S)) (⟨fun q => absurd q (by first | exact fun w => w.2.2.1 (Or.inl C87) | exact fun w => w.2.2.1 (Or.inr (Int32.not_le.mp C96))), fun _ => by rw [show rcC (mA M (ad 7)) p q = 2 from (by first | exact rcC_c hs12 hb1 (Or.inl C87) | exact rcC_c hs12 hb1 (Or.inr (Int32.not_le.mp C96)))]; exact ⟨rfl, rfl⟩⟩)
  refine x_iload_n (n' := 1) dX9_copy_0 rfl rfl rfl ?_
  refine x_callS (n' := 4) (n := 1) (c_X9_isShelf l G _ p) dX9_copy_1 (lw_S q3364 q3365 q109 q3366) (by decide +kernel) ⟨(Nat.le_of_ble_eq_true rfl), (Nat.le_of_ble_eq_true rfl)⟩ rfl rfl (Nat.le_of_ble_eq_true rfl) (by first | exact Nat.le_of_ble_eq_true rfl | omega) (by first | exact Nat.le_of_ble_eq_true rfl | omega) rfl (fun v_48 M_49 h_51 hE_50 => ?_)
  obtain ⟨rfl, hMs⟩ := h_51
  have hMs := hMs.symm
  subst hMs
  refine x_if_eq (n' := 7) (tgt := 14) dX9_copy_4 (by decide) rfl (fun c4_52 => ?_) (fun c4_52 => ?_)
  · have C4 := c4_52
    refine x_aload_n (n' := 15) dX9_copy_14 rfl rfl rfl ?_
    refine x_bipush (n' := 17) (v := -102) dX9_copy_15 (by decide) rfl ?_
    refine x_topv (y := -(nI (102 + 0))) (by decide) ?_
    refine x_callV (n' := 20) (n := 1) (K := 9) (c_X9_refused l G _ m ad (by repeat' (first | with_reducible exact hS | with_reducible apply MS.sA | with_reducible apply MS.sI | with_reducible apply MS.sL | with_reducible apply MS.sc)) 0 (by decide)) dX9_copy_17 (by repeat' (first | with_reducible exact km | with_reducible apply mK_A | with_reducible apply mK_I | with_reducible apply mK_L | with_reducible apply mK_R | with_reducible apply mK_O | with_reducible apply mK_S)) rfl (lw_V q3324 q3326 qs48 q109 q3327) (by decide +kernel) ⟨(Nat.le_of_ble_eq_true rfl), (Nat.le_of_ble_eq_true rfl)⟩ rfl rfl (Nat.le_of_ble_eq_true rfl) (by first | exact Nat.le_of_ble_eq_true rfl | omega) (by first | exact Nat.le_of_ble_eq_true rfl | omega) rfl (fun v_53 M_54 h_56 hE_55 => ?_)
    obtain ⟨rfl, hMs⟩ := h_56
    have hMs := hMs.symm
    subst hMs
    exact x_iret dX9_copy_20 hret (by repeat' (first | with_reducible exact kE.rf | with_reducible exact kE_SS | with_reducible apply kE_A | with_reducible apply kE_I | with_reducible apply kE_L | with_reducible apply kE_R | with_reducible apply kE_O | with_reducible apply kE_S)) (⟨fun q => absurd q (by first | exact fun w => bi_0.mp C4 w.1.1 | exact fun w => bi_0.mp C11 w.1.2), fun _ => by rw [show rcC (mA M (ad 7)) p q = 0 from (by first | exact rcC_a (fun w => bi_0.mp C4 w.1) | exact rcC_a (fun w => bi_0.mp C11 w.2))]; exact ⟨rfl, rfl⟩⟩)
  · have C4 := c4_52
    refine x_iload_n (n' := 8) dX9_copy_7 rfl rfl rfl ?_
    refine x_callS (n' := 11) (n := 1) (c_X9_isShelf l G _ q) dX9_copy_8 (lw_S q3364 q3365 q109 q3366) (by decide +kernel) ⟨(Nat.le_of_ble_eq_true rfl), (Nat.le_of_ble_eq_true rfl)⟩ rfl rfl (Nat.le_of_ble_eq_true rfl) (by first | exact Nat.le_of_ble_eq_true rfl | omega) (by first | exact Nat.le_of_ble_eq_true rfl | omega) rfl (fun v_57 M_58 h_60 hE_59 => ?_)
    obtain ⟨rfl, hMs⟩ := h_60
    have hMs := hMs.symm
    subst hMs
    refine x_if_ne (n' := 14) (tgt := 21) dX9_copy_11 (by decide) rfl (fun c11_61 => ?_) (fun c11_61 => ?_)
    · have C11 := c11_61
      have hs1 : shP p := bi_n0 C4
      have hs2 : shP q := bi_n0 C11
      have hn7 := nn_le (n := 7) hs1.1 hs1.2 (by decide)
      have hn6 := nn_le (n := 7) hs2.1 hs2.2 (by decide)
      refine x_loc (i := 1) rfl (nn_of hs1.1) (by dsimp only [List.set] <;> rfl) ?_
      refine x_loc (i := 2) rfl (nn_of hs2.1) (by dsimp only [List.set] <;> rfl) ?_
      refine x_aload_n (n' := 22) dX9_copy_21 rfl rfl rfl ?_
      refine x_getRs (n' := 25) (b := (ad 7)) dX9_copy_22 (by repeat' (first | with_reducible exact km | with_reducible apply mK_A | with_reducible apply mK_I | with_reducible apply mK_L | with_reducible apply mK_R | with_reducible apply mK_O | with_reducible apply mK_S)) ffX9_41_9 rfl (by repeat' (first | with_reducible exact hr_sorts | with_reducible apply mR_A | with_reducible apply mR_I | with_reducible apply mR_L | with_reducible apply mR_S)) rfl ?_
      refine x_iload_n (n' := 26) dX9_copy_25 rfl rfl rfl ?_
      refine x_ildk (n' := 27) (N := 8) dX9_copy_26 (by repeat' (first | with_reducible exact kk_sorts | with_reducible apply mK_A | with_reducible apply mK_I | with_reducible apply mK_L | with_reducible apply mK_R | with_reducible apply mK_O | with_reducible apply mK_S)) (by repeat' (first | with_reducible exact hn_sorts | with_reducible apply mN_A | with_reducible apply mN_I | with_reducible apply mN_L | with_reducible apply mN_R | with_reducible apply mN_O | with_reducible apply mN_S)) (by repeat' (first | with_reducible exact nl_0 | with_reducible exact nl_1 | with_reducible exact nl_4 | with_reducible exact nl_40 | with_reducible exact rfl | apply i_add | apply i_mul)) (by omega) (by decide) (by first | (simp (disch := omega) only [mA_sA, mA_sI, mA_SC0, mA_SC1 hS, mA_SC5 hS, mA_SC6 hS, mA_SC10 hS, mA_SC11 hS, mA_SC12 hS, up_s, up_n, if_false, ne_sorts_sizes, ne_sorts_elements, ne_sizes_sorts, ne_sizes_elements, ne_elements_sorts, ne_elements_sizes] <;> rfl) | rfl) rfl ?_
      refine x_iconst (n' := 28) (v := 4) dX9_copy_27 (by decide) rfl ?_
      refine x_icmp_gt (n' := 31) (tgt := 74) dX9_copy_28 (by decide) rfl (fun c28_62 => ?_) (fun c28_62 => ?_)
      · have C28 := c28_62
        refine x_aload_n (n' := 75) dX9_copy_74 rfl rfl rfl ?_
        refine x_bipush (n' := 77) (v := -103) dX9_copy_75 (by decide) rfl ?_
        refine x_topv (y := -(nI (102 + 1))) (by decide) ?_
        refine x_callV (n' := 80) (n := 1) (K := 9) (c_X9_refused l G _ m ad (by repeat' (first | with_reducible exact hS | with_reducible apply MS.sA | with_reducible apply MS.sI | with_reducible apply MS.sL | with_reducible apply MS.sc)) 1 (by decide)) dX9_copy_77 (by repeat' (first | with_reducible exact km | with_reducible apply mK_A | with_reducible apply mK_I | with_reducible apply mK_L | with_reducible apply mK_R | with_reducible apply mK_O | with_reducible apply mK_S)) rfl (lw_V q3324 q3326 qs48 q109 q3327) (by decide +kernel) ⟨(Nat.le_of_ble_eq_true rfl), (Nat.le_of_ble_eq_true rfl)⟩ rfl rfl (Nat.le_of_ble_eq_true rfl) (by first | exact Nat.le_of_ble_eq_true rfl | omega) (by first | exact Nat.le_of_ble_eq_true rfl | omega) rfl (fun v_63 M_64 h_66 hE_65 => ?_)
        obtain ⟨rfl, hMs⟩ := h_66
        have hMs := hMs.symm
        subst hMs
        exact x_iret dX9_copy_80 hret (by repeat' (first | with_reducible exact kE.rf | with_reducible exact kE_SS | with_reducible apply kE_A | with_reducible apply kE_I | with_reducible apply kE_L | with_reducible apply kE_R | with_reducible apply kE_O | with_reducible apply kE_S)) (⟨fun q => absurd q (by first | exact fun w => w.2.1 (Or.inl C28) | exact fun w => w.2.1 (Or.inr (Or.inl C38)) | exact fun w => w.2.1 (Or.inr (Or.inr ⟨Int32.not_lt.mp C47, Int32.not_lt.mp C56, C71⟩))), fun _ => by rw [show rcC (mA M (ad 7)) p q = 1 from (by first | exact rcC_b ⟨hs1, hs2⟩ (Or.inl C28) | exact rcC_b ⟨hs1, hs2⟩ (Or.inr (Or.inl C38)) | exact rcC_b ⟨hs1, hs2⟩ (Or.inr (Or.inr ⟨Int32.not_lt.mp C47, Int32.not_lt.mp C56, C71⟩)))]; exact ⟨rfl, rfl⟩⟩)
      · have C28 := c28_62
        refine x_aload_n (n' := 32) dX9_copy_31 rfl rfl rfl ?_
        refine x_getRs (n' := 35) (b := (ad 7)) dX9_copy_32 (by repeat' (first | with_reducible exact km | with_reducible apply mK_A | with_reducible apply mK_I | with_reducible apply mK_L | with_reducible apply mK_R | with_reducible apply mK_O | with_reducible apply mK_S)) ffX9_41_9 rfl (by repeat' (first | with_reducible exact hr_sorts | with_reducible apply mR_A | with_reducible apply mR_I | with_reducible apply mR_L | with_reducible apply mR_S)) rfl ?_
        refine x_iload_n (n' := 36) dX9_copy_35 rfl rfl rfl ?_
        refine x_ildk (n' := 37) (N := 8) dX9_copy_36 (by repeat' (first | with_reducible exact kk_sorts | with_reducible apply mK_A | with_reducible apply mK_I | with_reducible apply mK_L | with_reducible apply mK_R | with_reducible apply mK_O | with_reducible apply mK_S)) (by repeat' (first | with_reducible exact hn_sorts | with_reducible apply mN_A | with_reducible apply mN_I | with_reducible apply mN_L | with_reducible apply mN_R | with_reducible apply mN_O | with_reducible apply mN_S)) (by repeat' (first | with_reducible exact nl_0 | with_reducible exact nl_1 | with_reducible exact nl_4 | with_reducible exact nl_40 | with_reducible exact rfl | apply i_add | apply i_mul)) (by omega) (by decide) (by first | (simp (disch := omega) only [mA_sA, mA_sI, mA_SC0, mA_SC1 hS, mA_SC5 hS, mA_SC6 hS, mA_SC10 hS, mA_SC11 hS, mA_SC12 hS, up_s, up_n, if_false, ne_sorts_sizes, ne_sorts_elements, ne_sizes_sorts, ne_sizes_elements, ne_elements_sorts, ne_elements_sizes] <;> rfl) | rfl) rfl ?_
        refine x_iconst (n' := 38) (v := 4) dX9_copy_37 (by decide) rfl ?_
        refine x_icmp_gt (n' := 41) (tgt := 74) dX9_copy_38 (by decide) rfl (fun c38_67 => ?_) (fun c38_67 => ?_)
        · have C38 := c38_67
          refine x_aload_n (n' := 75) dX9_copy_74 rfl rfl rfl ?_
          refine x_bipush (n' := 77) (v := -103) dX9_copy_75 (by decide) rfl ?_
          refine x_topv (y := -(nI (102 + 1))) (by decide) ?_
          refine x_callV (n' := 80) (n := 1) (K := 9) (c_X9_refused l G _ m ad (by repeat' (first | with_reducible exact hS | with_reducible apply MS.sA | with_reducible apply MS.sI | with_reducible apply MS.sL | with_reducible apply MS.sc)) 1 (by decide)) dX9_copy_77 (by repeat' (first | with_reducible exact km | with_reducible apply mK_A | with_reducible apply mK_I | with_reducible apply mK_L | with_reducible apply mK_R | with_reducible apply mK_O | with_reducible apply mK_S)) rfl (lw_V q3324 q3326 qs48 q109 q3327) (by decide +kernel) ⟨(Nat.le_of_ble_eq_true rfl), (Nat.le_of_ble_eq_true rfl)⟩ rfl rfl (Nat.le_of_ble_eq_true rfl) (by first | exact Nat.le_of_ble_eq_true rfl | omega) (by first | exact Nat.le_of_ble_eq_true rfl | omega) rfl (fun v_68 M_69 h_71 hE_70 => ?_)
          obtain ⟨rfl, hMs⟩ := h_71
          have hMs := hMs.symm
          subst hMs
          exact x_iret dX9_copy_80 hret (by repeat' (first | with_reducible exact kE.rf | with_reducible exact kE_SS | with_reducible apply kE_A | with_reducible apply kE_I | with_reducible apply kE_L | with_reducible apply kE_R | with_reducible apply kE_O | with_reducible apply kE_S)) (⟨fun q => absurd q (by first | exact fun w => w.2.1 (Or.inl C28) | exact fun w => w.2.1 (Or.inr (Or.inl C38)) | exact fun w => w.2.1 (Or.inr (Or.inr ⟨Int32.not_lt.mp C47, Int32.not_lt.mp C56, C71⟩))), fun _ => by rw [show rcC (mA M (ad 7)) p q = 1 from (by first | exact rcC_b ⟨hs1, hs2⟩ (Or.inl C28) | exact rcC_b ⟨hs1, hs2⟩ (Or.inr (Or.inl C38)) | exact rcC_b ⟨hs1, hs2⟩ (Or.inr (Or.inr ⟨Int32.not_lt.mp C47, Int32.not_lt.mp C56, C71⟩)))]; exact ⟨rfl, rfl⟩⟩)
        · have C38 := c38_67
          refine x_aload_n (n' := 42) dX9_copy_41 rfl rfl rfl ?_
          refine x_getRs (n' := 45) (b := (ad 7)) dX9_copy_42 (by repeat' (first | with_reducible exact km | with_reducible apply mK_A | with_reducible apply mK_I | with_reducible apply mK_L | with_reducible apply mK_R | with_reducible apply mK_O | with_reducible apply mK_S)) ffX9_41_9 rfl (by repeat' (first | with_reducible exact hr_sorts | with_reducible apply mR_A | with_reducible apply mR_I | with_reducible apply mR_L | with_reducible apply mR_S)) rfl ?_
          refine x_iload_n (n' := 46) dX9_copy_45 rfl rfl rfl ?_
          refine x_ildk (n' := 47) (N := 8) dX9_copy_46 (by repeat' (first | with_reducible exact kk_sorts | with_reducible apply mK_A | with_reducible apply mK_I | with_reducible apply mK_L | with_reducible apply mK_R | with_reducible apply mK_O | with_reducible apply mK_S)) (by repeat' (first | with_reducible exact hn_sorts | with_reducible apply mN_A | with_reducible apply mN_I | with_reducible apply mN_L | with_reducible apply mN_R | with_reducible apply mN_O | with_reducible apply mN_S)) (by repeat' (first | with_reducible exact nl_0 | with_reducible exact nl_1 | with_reducible exact nl_4 | with_reducible exact nl_40 | with_reducible exact rfl | apply i_add | apply i_mul)) (by omega) (by decide) (by first | (simp (disch := omega) only [mA_sA, mA_sI, mA_SC0, mA_SC1 hS, mA_SC5 hS, mA_SC6 hS, mA_SC10 hS, mA_SC11 hS, mA_SC12 hS, up_s, up_n, if_false, ne_sorts_sizes, ne_sorts_elements, ne_sizes_sorts, ne_sizes_elements, ne_elements_sorts, ne_elements_sizes] <;> rfl) | rfl) rfl ?_
          refine x_if_lt (n' := 50) (tgt := 81) dX9_copy_47 (by decide) rfl (fun c47_72 => ?_) (fun c47_72 => ?_)
          · have C47 := c47_72
            have hb1 : ¬ cpB (mA M (ad 7)) p q := by
              rintro (w | w | w)
              · exact C28 w
              · exact C38 w
              · first | exact absurd w.1 (Int32.not_le.mpr C47) | exact absurd w.2.1 (Int32.not_le.mpr C56) | exact w.2.2 C71
            exact x_drop (cut81 ⟨hs1, hs2⟩ hb1) ⟨rfl, ⟨rfl, ⟨rfl, ⟨rfl, ⟨rfl, ⟨rfl, trivial⟩⟩⟩⟩⟩⟩
          · have C47 := c47_72
            refine x_aload_n (n' := 51) dX9_copy_50 rfl rfl rfl ?_
            refine x_getRs (n' := 54) (b := (ad 7)) dX9_copy_51 (by repeat' (first | with_reducible exact km | with_reducible apply mK_A | with_reducible apply mK_I | with_reducible apply mK_L | with_reducible apply mK_R | with_reducible apply mK_O | with_reducible apply mK_S)) ffX9_41_9 rfl (by repeat' (first | with_reducible exact hr_sorts | with_reducible apply mR_A | with_reducible apply mR_I | with_reducible apply mR_L | with_reducible apply mR_S)) rfl ?_
            refine x_iload_n (n' := 55) dX9_copy_54 rfl rfl rfl ?_
            refine x_ildk (n' := 56) (N := 8) dX9_copy_55 (by repeat' (first | with_reducible exact kk_sorts | with_reducible apply mK_A | with_reducible apply mK_I | with_reducible apply mK_L | with_reducible apply mK_R | with_reducible apply mK_O | with_reducible apply mK_S)) (by repeat' (first | with_reducible exact hn_sorts | with_reducible apply mN_A | with_reducible apply mN_I | with_reducible apply mN_L | with_reducible apply mN_R | with_reducible apply mN_O | with_reducible apply mN_S)) (by repeat' (first | with_reducible exact nl_0 | with_reducible exact nl_1 | with_reducible exact nl_4 | with_reducible exact nl_40 | with_reducible exact rfl | apply i_add | apply i_mul)) (by omega) (by decide) (by first | (simp (disch := omega) only [mA_sA, mA_sI, mA_SC0, mA_SC1 hS, mA_SC5 hS, mA_SC6 hS, mA_SC10 hS, mA_SC11 hS, mA_SC12 hS, up_s, up_n, if_false, ne_sorts_sizes, ne_sorts_elements, ne_sizes_sorts, ne_sizes_elements, ne_elements_sorts, ne_elements_sizes] <;> rfl) | rfl) rfl ?_
            refine x_if_lt (n' := 59) (tgt := 81) dX9_copy_56 (by decide) rfl (fun c56_73 => ?_) (fun c56_73 => ?_)
            · have C56 := c56_73
              have hb1 : ¬ cpB (mA M (ad 7)) p q := by
                rintro (w | w | w)
                · exact C28 w
                · exact C38 w
                · first | exact absurd w.1 (Int32.not_le.mpr C47) | exact absurd w.2.1 (Int32.not_le.mpr C56) | exact w.2.2 C71
              exact x_drop (cut81 ⟨hs1, hs2⟩ hb1) ⟨rfl, ⟨rfl, ⟨rfl, ⟨rfl, ⟨rfl, ⟨rfl, trivial⟩⟩⟩⟩⟩⟩
            · have C56 := c56_73
              refine x_aload_n (n' := 60) dX9_copy_59 rfl rfl rfl ?_
              refine x_getRs (n' := 63) (b := (ad 7)) dX9_copy_60 (by repeat' (first | with_reducible exact km | with_reducible apply mK_A | with_reducible apply mK_I | with_reducible apply mK_L | with_reducible apply mK_R | with_reducible apply mK_O | with_reducible apply mK_S)) ffX9_41_9 rfl (by repeat' (first | with_reducible exact hr_sorts | with_reducible apply mR_A | with_reducible apply mR_I | with_reducible apply mR_L | with_reducible apply mR_S)) rfl ?_
              refine x_iload_n (n' := 64) dX9_copy_63 rfl rfl rfl ?_
              refine x_ildk (n' := 65) (N := 8) dX9_copy_64 (by repeat' (first | with_reducible exact kk_sorts | with_reducible apply mK_A | with_reducible apply mK_I | with_reducible apply mK_L | with_reducible apply mK_R | with_reducible apply mK_O | with_reducible apply mK_S)) (by repeat' (first | with_reducible exact hn_sorts | with_reducible apply mN_A | with_reducible apply mN_I | with_reducible apply mN_L | with_reducible apply mN_R | with_reducible apply mN_O | with_reducible apply mN_S)) (by repeat' (first | with_reducible exact nl_0 | with_reducible exact nl_1 | with_reducible exact nl_4 | with_reducible exact nl_40 | with_reducible exact rfl | apply i_add | apply i_mul)) (by omega) (by decide) (by first | (simp (disch := omega) only [mA_sA, mA_sI, mA_SC0, mA_SC1 hS, mA_SC5 hS, mA_SC6 hS, mA_SC10 hS, mA_SC11 hS, mA_SC12 hS, up_s, up_n, if_false, ne_sorts_sizes, ne_sorts_elements, ne_sizes_sorts, ne_sizes_elements, ne_elements_sorts, ne_elements_sizes] <;> rfl) | rfl) rfl ?_
              refine x_aload_n (n' := 66) dX9_copy_65 rfl rfl rfl ?_
              refine x_getRs (n' := 69) (b := (ad 7)) dX9_copy_66 (by repeat' (first | with_reducible exact km | with_reducible apply mK_A | with_reducible apply mK_I | with_reducible apply mK_L | with_reducible apply mK_R | with_reducible apply mK_O | with_reducible apply mK_S)) ffX9_41_9 rfl (by repeat' (first | with_reducible exact hr_sorts | with_reducible apply mR_A | with_reducible apply mR_I | with_reducible apply mR_L | with_reducible apply mR_S)) rfl ?_
              refine x_iload_n (n' := 70) dX9_copy_69 rfl rfl rfl ?_
              refine x_ildk (n' := 71) (N := 8) dX9_copy_70 (by repeat' (first | with_reducible exact kk_sorts | with_reducible apply mK_A | with_reducible apply mK_I | with_reducible apply mK_L | with_reducible apply mK_R | with_reducible apply mK_O | with_reducible apply mK_S)) (by repeat' (first | with_reducible exact hn_sorts | with_reducible apply mN_A | with_reducible apply mN_I | with_reducible apply mN_L | with_reducible apply mN_R | with_reducible apply mN_O | with_reducible apply mN_S)) (by repeat' (first | with_reducible exact nl_0 | with_reducible exact nl_1 | with_reducible exact nl_4 | with_reducible exact nl_40 | with_reducible exact rfl | apply i_add | apply i_mul)) (by omega) (by decide) (by first | (simp (disch := omega) only [mA_sA, mA_sI, mA_SC0, mA_SC1 hS, mA_SC5 hS, mA_SC6 hS, mA_SC10 hS, mA_SC11 hS, mA_SC12 hS, up_s, up_n, if_false, ne_sorts_sizes, ne_sorts_elements, ne_sizes_sorts, ne_sizes_elements, ne_elements_sorts, ne_elements_sizes] <;> rfl) | rfl) rfl ?_
              refine x_icmp_eq (n' := 74) (tgt := 81) dX9_copy_71 (by decide) rfl (fun c71_74 => ?_) (fun c71_74 => ?_)
              · have C71 := c71_74
                have hb1 : ¬ cpB (mA M (ad 7)) p q := by
                  rintro (w | w | w)
                  · exact C28 w
                  · exact C38 w
                  · first | exact absurd w.1 (Int32.not_le.mpr C47) | exact absurd w.2.1 (Int32.not_le.mpr C56) | exact w.2.2 C71
                exact x_drop (cut81 ⟨hs1, hs2⟩ hb1) ⟨rfl, ⟨rfl, ⟨rfl, ⟨rfl, ⟨rfl, ⟨rfl, trivial⟩⟩⟩⟩⟩⟩
              · have C71 := c71_74
                refine x_aload_n (n' := 75) dX9_copy_74 rfl rfl rfl ?_
                refine x_bipush (n' := 77) (v := -103) dX9_copy_75 (by decide) rfl ?_
                refine x_topv (y := -(nI (102 + 1))) (by decide) ?_
                refine x_callV (n' := 80) (n := 1) (K := 9) (c_X9_refused l G _ m ad (by repeat' (first | with_reducible exact hS | with_reducible apply MS.sA | with_reducible apply MS.sI | with_reducible apply MS.sL | with_reducible apply MS.sc)) 1 (by decide)) dX9_copy_77 (by repeat' (first | with_reducible exact km | with_reducible apply mK_A | with_reducible apply mK_I | with_reducible apply mK_L | with_reducible apply mK_R | with_reducible apply mK_O | with_reducible apply mK_S)) rfl (lw_V q3324 q3326 qs48 q109 q3327) (by decide +kernel) ⟨(Nat.le_of_ble_eq_true rfl), (Nat.le_of_ble_eq_true rfl)⟩ rfl rfl (Nat.le_of_ble_eq_true rfl) (by first | exact Nat.le_of_ble_eq_true rfl | omega) (by first | exact Nat.le_of_ble_eq_true rfl | omega) rfl (fun v_75 M_76 h_78 hE_77 => ?_)
                obtain ⟨rfl, hMs⟩ := h_78
                have hMs := hMs.symm
                subst hMs
                exact x_iret dX9_copy_80 hret (by repeat' (first | with_reducible exact kE.rf | with_reducible exact kE_SS | with_reducible apply kE_A | with_reducible apply kE_I | with_reducible apply kE_L | with_reducible apply kE_R | with_reducible apply kE_O | with_reducible apply kE_S)) (⟨fun q => absurd q (by first | exact fun w => w.2.1 (Or.inl C28) | exact fun w => w.2.1 (Or.inr (Or.inl C38)) | exact fun w => w.2.1 (Or.inr (Or.inr ⟨Int32.not_lt.mp C47, Int32.not_lt.mp C56, C71⟩))), fun _ => by rw [show rcC (mA M (ad 7)) p q = 1 from (by first | exact rcC_b ⟨hs1, hs2⟩ (Or.inl C28) | exact rcC_b ⟨hs1, hs2⟩ (Or.inr (Or.inl C38)) | exact rcC_b ⟨hs1, hs2⟩ (Or.inr (Or.inr ⟨Int32.not_lt.mp C47, Int32.not_lt.mp C56, C71⟩)))]; exact ⟨rfl, rfl⟩⟩)
    · have C11 := c11_61
      refine x_aload_n (n' := 15) dX9_copy_14 rfl rfl rfl ?_
      refine x_bipush (n' := 17) (v := -102) dX9_copy_15 (by decide) rfl ?_
      refine x_topv (y := -(nI (102 + 0))) (by decide) ?_
      refine x_callV (n' := 20) (n := 1) (K := 9) (c_X9_refused l G _ m ad (by repeat' (first | with_reducible exact hS | with_reducible apply MS.sA | with_reducible apply MS.sI | with_reducible apply MS.sL | with_reducible apply MS.sc)) 0 (by decide)) dX9_copy_17 (by repeat' (first | with_reducible exact km | with_reducible apply mK_A | with_reducible apply mK_I | with_reducible apply mK_L | with_reducible apply mK_R | with_reducible apply mK_O | with_reducible apply mK_S)) rfl (lw_V q3324 q3326 qs48 q109 q3327) (by decide +kernel) ⟨(Nat.le_of_ble_eq_true rfl), (Nat.le_of_ble_eq_true rfl)⟩ rfl rfl (Nat.le_of_ble_eq_true rfl) (by first | exact Nat.le_of_ble_eq_true rfl | omega) (by first | exact Nat.le_of_ble_eq_true rfl | omega) rfl (fun v_79 M_80 h_82 hE_81 => ?_)
      obtain ⟨rfl, hMs⟩ := h_82
      have hMs := hMs.symm
      subst hMs
      exact x_iret dX9_copy_20 hret (by repeat' (first | with_reducible exact kE.rf | with_reducible exact kE_SS | with_reducible apply kE_A | with_reducible apply kE_I | with_reducible apply kE_L | with_reducible apply kE_R | with_reducible apply kE_O | with_reducible apply kE_S)) (⟨fun q => absurd q (by first | exact fun w => bi_0.mp C4 w.1.1 | exact fun w => bi_0.mp C11 w.1.2), fun _ => by rw [show rcC (mA M (ad 7)) p q = 0 from (by first | exact rcC_a (fun w => bi_0.mp C4 w.1) | exact rcC_a (fun w => bi_0.mp C11 w.2))]; exact ⟨rfl, rfl⟩⟩)
