set_option maxHeartbeats 4000000 in
set_option maxRecDepth 100000 in
theorem c_X9_became (l : Launch) (G : kG) (M : kM) (m : Nat) (ad : Nat → Nat) (hS : MS M m ad) (k : Int32) (ns : Nat) (hs : mA M (ad 0) 14 = nI ns) (hb : ns ≤ 200) : Kt l G yX9_became cX9_became 4 (some .int) 1 22 [.ref m, .int k] M (0) (0) (fun v M2 => v = some (.int (cnt (fun s => (mA M (ad 0)) (109 + 4 * s + 2) = k) ns)) ∧ M2 = M) := by
  refine Kt.of (own := "KeptLightModel") (L := [some (.ref m), some (.int k), none, none]) (by decide +kernel) rfl (Nat.le_of_ble_eq_true rfl) rfl ?_
  intro pp ee ss mm args below meth cd hmn hret
  have km := hS.1
  obtain ⟨hr_g, kk_g, hn_g⟩ := hS.2.1 0 (by decide)
  have hr_g : mR M (fc 9 0) m = some (ad 0) := hr_g
  have hn_g : mN M (ad 0) = 2509 := hn_g
  have kk_g : mK M (ad 0) = some 120 := kk_g
  have cut4 : ∀ (fuel : Nat) (i : Nat) (h1 : ns - i < fuel) (h2 : i ≤ ns), Wx pp l ee { frames := 1, cells := 0, slots := 0, locals := 22 } ss mm args below meth cd "KeptLightModel" cX9_became 4 G (MQ below (KQ G M (fun v M2 => v = some (.int (cnt (fun s => (mA M (ad 0)) (109 + 4 * s + 2) = k) ns)) ∧ M2 = M)) args ss (0) (0) (kA G)) 4 [some (.ref m), some (.int k), some (.int (cnt (fun s => (mA M (ad 0)) (109 + 4 * s + 2) = k) i)), some (.int (nI i))] [] (M) (0) (0) := by
    intro fuel
    induction fuel with
    | zero => intro i h1 h2; omega
    | succ fuel ih =>
      intro i h1 h2
      refine x_iload_n (n' := 5) dX9_became_4 rfl rfl rfl ?_
      refine x_aload_n (n' := 6) dX9_became_5 rfl rfl rfl ?_
      refine x_getRs (n' := 9) (b := (ad 0)) dX9_became_6 (by repeat' (first | with_reducible exact km | with_reducible apply mK_A | with_reducible apply mK_I | with_reducible apply mK_L | with_reducible apply mK_R | with_reducible apply mK_O | with_reducible apply mK_S)) ffX9_9_9 rfl (by repeat' (first | with_reducible exact hr_g | with_reducible apply mR_A | with_reducible apply mR_I | with_reducible apply mR_L | with_reducible apply mR_S)) rfl ?_
      refine x_bipush (n' := 11) (v := 14) dX9_became_9 (by decide) rfl ?_
      refine x_ildk (n' := 12) (N := 2509) dX9_became_11 (by repeat' (first | with_reducible exact kk_g | with_reducible apply mK_A | with_reducible apply mK_I | with_reducible apply mK_L | with_reducible apply mK_R | with_reducible apply mK_O | with_reducible apply mK_S)) (by repeat' (first | with_reducible exact hn_g | with_reducible apply mN_A | with_reducible apply mN_I | with_reducible apply mN_L | with_reducible apply mN_R | with_reducible apply mN_O | with_reducible apply mN_S)) (by repeat' (first | with_reducible exact nl_0 | with_reducible exact nl_1 | with_reducible exact nl_2 | with_reducible exact nl_14 | with_reducible exact rfl | apply i_add | apply i_mul)) (by omega) (by decide) (by first | with_reducible exact hs | (simp (disch := omega) only [mA_sA, mA_sI, mA_SC0, mA_SC1 hS, mA_SC5 hS, mA_SC6 hS, mA_SC10 hS, mA_SC11 hS, mA_SC12 hS, up_s, up_n, hs, if_false] <;> rfl) | rfl) rfl ?_
      refine x_icmp_ge (n' := 15) (tgt := 39) dX9_became_12 (by decide) rfl (fun c12_1 => ?_) (fun c12_1 => ?_)
      · have n_c12_1 := (cv_le (by repeat' (first | with_reducible exact nl_0 | with_reducible exact nl_1 | with_reducible exact nl_2 | with_reducible exact nl_14 | with_reducible exact rfl | apply i_add | apply i_mul)) (by repeat' (first | with_reducible exact nl_0 | with_reducible exact nl_1 | with_reducible exact nl_2 | with_reducible exact nl_14 | with_reducible exact rfl | apply i_add | apply i_mul)) (by omega) (by omega)).mp c12_1
        refine x_iload_n (n' := 40) dX9_became_39 rfl rfl rfl ?_
        exact x_iret dX9_became_40 hret (by repeat' (first | with_reducible exact kE.rf | with_reducible exact kE_SS | with_reducible apply kE_A | with_reducible apply kE_I | with_reducible apply kE_L | with_reducible apply kE_R | with_reducible apply kE_O | with_reducible apply kE_S)) (by rw [show i = ns by omega]; exact ⟨rfl, rfl⟩)
      · have n_c12_1 := (not_congr (cv_le (by repeat' (first | with_reducible exact nl_0 | with_reducible exact nl_1 | with_reducible exact nl_2 | with_reducible exact nl_14 | with_reducible exact rfl | apply i_add | apply i_mul)) (by repeat' (first | with_reducible exact nl_0 | with_reducible exact nl_1 | with_reducible exact nl_2 | with_reducible exact nl_14 | with_reducible exact rfl | apply i_add | apply i_mul)) (by omega) (by omega))).mp c12_1
        refine x_iload_n (n' := 16) dX9_became_15 rfl rfl rfl ?_
        refine x_aload_n (n' := 17) dX9_became_16 rfl rfl rfl ?_
        refine x_iload_n (n' := 18) dX9_became_17 rfl rfl rfl ?_
        refine x_iconst (n' := 19) (v := 2) dX9_became_18 (by decide) rfl ?_
        refine x_callV (n' := 22) (n := 2) (K := 9) (c_X9_ofShip l G _ m ad hS i 2 (by omega)) dX9_became_19 (by repeat' (first | with_reducible exact km | with_reducible apply mK_A | with_reducible apply mK_I | with_reducible apply mK_L | with_reducible apply mK_R | with_reducible apply mK_O | with_reducible apply mK_S)) rfl (lw_V q3445 q3447 qs65 q109 q3448) (by decide +kernel) ⟨(Nat.le_of_ble_eq_true rfl), (Nat.le_of_ble_eq_true rfl)⟩ rfl rfl (Nat.le_of_ble_eq_true rfl) (by first | exact Nat.le_of_ble_eq_true rfl | omega) (by first | exact Nat.le_of_ble_eq_true rfl | omega) rfl (fun v_2 M_3 h_5 hE_4 => ?_)
        obtain ⟨rfl, hMs⟩ := h_5
        have hMs := hMs.symm
        subst hMs
        refine x_iload_n (n' := 23) dX9_became_22 rfl rfl rfl ?_
        refine x_forkN (J := 31) (x_icmp_ne (n' := 26) (tgt := 30) dX9_became_23 (by decide) rfl) (v1 := ?v1_f23_6) (v2 := ?v2_f23_6) (fun c_f23_6 j_f23_6 => ?b1_f23_6) (fun c_f23_6 j_f23_6 => ?b2_f23_6) ?k_f23_6
        case b1_f23_6 =>
          refine x_iconst (n' := 31) (v := 0) dX9_became_30 (by decide) rfl ?_
          exact j_f23_6
        case b2_f23_6 =>
          refine x_iconst (n' := 27) (v := 1) dX9_became_26 (by decide) rfl ?_
          refine x_goto (tgt := 31) dX9_became_27 (by decide) ?_
          exact j_f23_6
        refine x_topv (y := bi ((mA M (ad 0)) (109 + 4 * i + 2) = k)) (by exact rfl) ?_
        refine x_iadd (n' := 32) dX9_became_31 rfl ?_
        refine x_istore_n (n' := 33) dX9_became_32 rfl (Nat.le_of_ble_eq_true rfl) rfl (by dsimp only [List.set] <;> rfl) rfl ?_
        refine x_iinc (n' := 36) dX9_became_33 rfl (by first | exact nI_inc _ | exact nI_decp (by omega) | exact i_inc _ | rfl) (Nat.le_of_ble_eq_true rfl) rfl (by dsimp only [List.set] <;> rfl) rfl ?_
        refine x_goto (tgt := 4) dX9_became_36 (by decide) ?_
        exact x_drop (ih (i + 1) (by omega) (by omega)) ⟨rfl, ⟨rfl, ⟨rfl, ⟨rfl, trivial⟩⟩⟩⟩
  refine x_iconst (n' := 1) (v := 0) dX9_became_0 (by decide) rfl ?_
  refine x_istore_n (n' := 2) dX9_became_1 rfl (Nat.le_of_ble_eq_true rfl) rfl (by dsimp only [List.set] <;> rfl) rfl ?_
  refine x_iconst (n' := 3) (v := 0) dX9_became_2 (by decide) rfl ?_
  refine x_istore_n (n' := 4) dX9_became_3 rfl (Nat.le_of_ble_eq_true rfl) rfl (by dsimp only [List.set] <;> rfl) rfl ?_
  exact x_drop (cut4 (ns + 1) 0 (by omega) (by omega)) ⟨rfl, ⟨rfl, ⟨rfl, ⟨rfl, trivial⟩⟩⟩⟩

set_option maxHeartbeats 4000000 in
set_option maxRecDepth 100000 in
theorem c_X9_hoursOf (l : Launch) (G : kG) (M : kM) (m : Nat) (ad : Nat → Nat) (hS : MS M m ad) (k : Int32)  : Kt l G yX9_hoursOf cX9_hoursOf 4 (some .int) 0 0 [.ref m, .int k] M (0) (0) (fun v M2 => v = some (.int (cnt (fun s => (mA M (ad 0)) (85 + s) = k) 24)) ∧ M2 = M) := by
  refine Kt.of (own := "KeptLightModel") (L := [some (.ref m), some (.int k), none, none]) (by decide +kernel) rfl (Nat.le_of_ble_eq_true rfl) rfl ?_
  intro pp ee ss mm args below meth cd hmn hret
  have km := hS.1
  obtain ⟨hr_g, kk_g, hn_g⟩ := hS.2.1 0 (by decide)
  have hr_g : mR M (fc 9 0) m = some (ad 0) := hr_g
  have hn_g : mN M (ad 0) = 2509 := hn_g
  have kk_g : mK M (ad 0) = some 120 := kk_g
  have cut4 : ∀ (fuel : Nat) (i : Nat) (h1 : 24 - i < fuel) (h2 : i ≤ 24), Wx pp l ee { frames := 0, cells := 0, slots := 0, locals := 0 } ss mm args below meth cd "KeptLightModel" cX9_hoursOf 4 G (MQ below (KQ G M (fun v M2 => v = some (.int (cnt (fun s => (mA M (ad 0)) (85 + s) = k) 24)) ∧ M2 = M)) args ss (0) (0) (kA G)) 4 [some (.ref m), some (.int k), some (.int (cnt (fun s => (mA M (ad 0)) (85 + s) = k) i)), some (.int (nI i))] [] (M) (0) (0) := by
    intro fuel
    induction fuel with
    | zero => intro i h1 h2; omega
    | succ fuel ih =>
      intro i h1 h2
      refine x_iload_n (n' := 5) dX9_hoursOf_4 rfl rfl rfl ?_
      refine x_bipush (n' := 7) (v := 24) dX9_hoursOf_5 (by decide) rfl ?_
      refine x_icmp_ge (n' := 10) (tgt := 37) dX9_hoursOf_7 (by decide) rfl (fun c7_1 => ?_) (fun c7_1 => ?_)
      · have n_c7_1 := (cv_le (by repeat' (first | with_reducible exact nl_0 | with_reducible exact nl_1 | with_reducible exact nl_24 | with_reducible exact nl_85 | with_reducible exact rfl | apply i_add | apply i_mul)) (by repeat' (first | with_reducible exact nl_0 | with_reducible exact nl_1 | with_reducible exact nl_24 | with_reducible exact nl_85 | with_reducible exact rfl | apply i_add | apply i_mul)) (by omega) (by omega)).mp c7_1
        refine x_iload_n (n' := 38) dX9_hoursOf_37 rfl rfl rfl ?_
        exact x_iret dX9_hoursOf_38 hret (by repeat' (first | with_reducible exact kE.rf | with_reducible exact kE_SS | with_reducible apply kE_A | with_reducible apply kE_I | with_reducible apply kE_L | with_reducible apply kE_R | with_reducible apply kE_O | with_reducible apply kE_S)) (by rw [show i = 24 by omega]; exact ⟨rfl, rfl⟩)
      · have n_c7_1 := (not_congr (cv_le (by repeat' (first | with_reducible exact nl_0 | with_reducible exact nl_1 | with_reducible exact nl_24 | with_reducible exact nl_85 | with_reducible exact rfl | apply i_add | apply i_mul)) (by repeat' (first | with_reducible exact nl_0 | with_reducible exact nl_1 | with_reducible exact nl_24 | with_reducible exact nl_85 | with_reducible exact rfl | apply i_add | apply i_mul)) (by omega) (by omega))).mp c7_1
        refine x_iload_n (n' := 11) dX9_hoursOf_10 rfl rfl rfl ?_
        refine x_aload_n (n' := 12) dX9_hoursOf_11 rfl rfl rfl ?_
        refine x_getRs (n' := 15) (b := (ad 0)) dX9_hoursOf_12 (by repeat' (first | with_reducible exact km | with_reducible apply mK_A | with_reducible apply mK_I | with_reducible apply mK_L | with_reducible apply mK_R | with_reducible apply mK_O | with_reducible apply mK_S)) ffX9_9_9 rfl (by repeat' (first | with_reducible exact hr_g | with_reducible apply mR_A | with_reducible apply mR_I | with_reducible apply mR_L | with_reducible apply mR_S)) rfl ?_
        refine x_bipush (n' := 17) (v := 85) dX9_hoursOf_15 (by decide) rfl ?_
        refine x_iload_n (n' := 18) dX9_hoursOf_17 rfl rfl rfl ?_
        refine x_iadd (n' := 19) dX9_hoursOf_18 rfl ?_
        refine x_ildk (n' := 20) (N := 2509) dX9_hoursOf_19 (by repeat' (first | with_reducible exact kk_g | with_reducible apply mK_A | with_reducible apply mK_I | with_reducible apply mK_L | with_reducible apply mK_R | with_reducible apply mK_O | with_reducible apply mK_S)) (by repeat' (first | with_reducible exact hn_g | with_reducible apply mN_A | with_reducible apply mN_I | with_reducible apply mN_L | with_reducible apply mN_R | with_reducible apply mN_O | with_reducible apply mN_S)) (by repeat' (first | with_reducible exact nl_0 | with_reducible exact nl_1 | with_reducible exact nl_24 | with_reducible exact nl_85 | with_reducible exact rfl | apply i_add | apply i_mul)) (by omega) (by decide) (by first | (simp (disch := omega) only [mA_sA, mA_sI, mA_SC0, mA_SC1 hS, mA_SC5 hS, mA_SC6 hS, mA_SC10 hS, mA_SC11 hS, mA_SC12 hS, up_s, up_n, if_false] <;> rfl) | rfl) rfl ?_
        refine x_iload_n (n' := 21) dX9_hoursOf_20 rfl rfl rfl ?_
        refine x_forkN (J := 29) (x_icmp_ne (n' := 24) (tgt := 28) dX9_hoursOf_21 (by decide) rfl) (v1 := ?v1_f21_2) (v2 := ?v2_f21_2) (fun c_f21_2 j_f21_2 => ?b1_f21_2) (fun c_f21_2 j_f21_2 => ?b2_f21_2) ?k_f21_2
        case b1_f21_2 =>
          refine x_iconst (n' := 29) (v := 0) dX9_hoursOf_28 (by decide) rfl ?_
          exact j_f21_2
        case b2_f21_2 =>
          refine x_iconst (n' := 25) (v := 1) dX9_hoursOf_24 (by decide) rfl ?_
          refine x_goto (tgt := 29) dX9_hoursOf_25 (by decide) ?_
          exact j_f21_2
        refine x_topv (y := bi ((mA M (ad 0)) (85 + i) = k)) (by exact rfl) ?_
        refine x_iadd (n' := 30) dX9_hoursOf_29 rfl ?_
        refine x_istore_n (n' := 31) dX9_hoursOf_30 rfl (Nat.le_of_ble_eq_true rfl) rfl (by dsimp only [List.set] <;> rfl) rfl ?_
        refine x_iinc (n' := 34) dX9_hoursOf_31 rfl (by first | exact nI_inc _ | exact nI_decp (by omega) | exact i_inc _ | rfl) (Nat.le_of_ble_eq_true rfl) rfl (by dsimp only [List.set] <;> rfl) rfl ?_
        refine x_goto (tgt := 4) dX9_hoursOf_34 (by decide) ?_
        exact x_drop (ih (i + 1) (by omega) (by omega)) ⟨rfl, ⟨rfl, ⟨rfl, ⟨rfl, trivial⟩⟩⟩⟩
  refine x_iconst (n' := 1) (v := 0) dX9_hoursOf_0 (by decide) rfl ?_
  refine x_istore_n (n' := 2) dX9_hoursOf_1 rfl (Nat.le_of_ble_eq_true rfl) rfl (by dsimp only [List.set] <;> rfl) rfl ?_
  refine x_iconst (n' := 3) (v := 0) dX9_hoursOf_2 (by decide) rfl ?_
  refine x_istore_n (n' := 4) dX9_hoursOf_3 rfl (Nat.le_of_ble_eq_true rfl) rfl (by dsimp only [List.set] <;> rfl) rfl ?_
  exact x_drop (cut4 (24 + 1) 0 (by omega) (by omega)) ⟨rfl, ⟨rfl, ⟨rfl, ⟨rfl, trivial⟩⟩⟩⟩

theorem ffX9_41_9 : FF "KeptLightModel" 41 9 17 "KeptLightModel" := ⟨by decide, by decide, q3269, Or.inl rfl⟩
set_option maxHeartbeats 4000000 in
set_option maxRecDepth 100000 in
theorem c_X9_held (l : Launch) (G : kG) (M : kM) (m : Nat) (ad : Nat → Nat) (hS : MS M m ad)   : Kt l G yX9_held cX9_held 3 (some .int) 0 0 [.ref m] M (0) (0) (fun v M2 => v = some (.int (cnt (fun s => 0 ≤ mA M (ad 7) s) 8)) ∧ M2 = M) := by
  refine Kt.of (own := "KeptLightModel") (L := [some (.ref m), none, none]) (by decide +kernel) rfl (Nat.le_of_ble_eq_true rfl) rfl ?_
  intro pp ee ss mm args below meth cd hmn hret
  have km := hS.1
  obtain ⟨hr_sorts, kk_sorts, hn_sorts⟩ := hS.2.1 7 (by decide)
  have hr_sorts : mR M (fc 9 17) m = some (ad 7) := hr_sorts
  have hn_sorts : mN M (ad 7) = 8 := hn_sorts
  have kk_sorts : mK M (ad 7) = some 120 := kk_sorts
  have cut4 : ∀ (fuel : Nat) (i : Nat) (h1 : 8 - i < fuel) (h2 : i ≤ 8), Wx pp l ee { frames := 0, cells := 0, slots := 0, locals := 0 } ss mm args below meth cd "KeptLightModel" cX9_held 3 G (MQ below (KQ G M (fun v M2 => v = some (.int (cnt (fun s => 0 ≤ mA M (ad 7) s) 8)) ∧ M2 = M)) args ss (0) (0) (kA G)) 4 [some (.ref m), some (.int (cnt (fun s => 0 ≤ mA M (ad 7) s) i)), some (.int (nI i))] [] (M) (0) (0) := by
    intro fuel
    induction fuel with
    | zero => intro i h1 h2; omega
    | succ fuel ih =>
      intro i h1 h2
      refine x_iload_n (n' := 5) dX9_held_4 rfl rfl rfl ?_
      refine x_bipush (n' := 7) (v := 8) dX9_held_5 (by decide) rfl ?_
      refine x_icmp_ge (n' := 10) (tgt := 33) dX9_held_7 (by decide) rfl (fun c7_1 => ?_) (fun c7_1 => ?_)
      · have n_c7_1 := (cv_le (by repeat' (first | with_reducible exact nl_0 | with_reducible exact nl_1 | with_reducible exact nl_8 | with_reducible exact rfl | apply i_add | apply i_mul)) (by repeat' (first | with_reducible exact nl_0 | with_reducible exact nl_1 | with_reducible exact nl_8 | with_reducible exact rfl | apply i_add | apply i_mul)) (by omega) (by omega)).mp c7_1
        refine x_iload_n (n' := 34) dX9_held_33 rfl rfl rfl ?_
        exact x_iret dX9_held_34 hret (by repeat' (first | with_reducible exact kE.rf | with_reducible exact kE_SS | with_reducible apply kE_A | with_reducible apply kE_I | with_reducible apply kE_L | with_reducible apply kE_R | with_reducible apply kE_O | with_reducible apply kE_S)) (by rw [show i = 8 by omega]; exact ⟨rfl, rfl⟩)
      · have n_c7_1 := (not_congr (cv_le (by repeat' (first | with_reducible exact nl_0 | with_reducible exact nl_1 | with_reducible exact nl_8 | with_reducible exact rfl | apply i_add | apply i_mul)) (by repeat' (first | with_reducible exact nl_0 | with_reducible exact nl_1 | with_reducible exact nl_8 | with_reducible exact rfl | apply i_add | apply i_mul)) (by omega) (by omega))).mp c7_1
        refine x_iload_n (n' := 11) dX9_held_10 rfl rfl rfl ?_
        refine x_aload_n (n' := 12) dX9_held_11 rfl rfl rfl ?_
        refine x_getRs (n' := 15) (b := (ad 7)) dX9_held_12 (by repeat' (first | with_reducible exact km | with_reducible apply mK_A | with_reducible apply mK_I | with_reducible apply mK_L | with_reducible apply mK_R | with_reducible apply mK_O | with_reducible apply mK_S)) ffX9_41_9 rfl (by repeat' (first | with_reducible exact hr_sorts | with_reducible apply mR_A | with_reducible apply mR_I | with_reducible apply mR_L | with_reducible apply mR_S)) rfl ?_
        refine x_iload_n (n' := 16) dX9_held_15 rfl rfl rfl ?_
        refine x_ildk (n' := 17) (N := 8) dX9_held_16 (by repeat' (first | with_reducible exact kk_sorts | with_reducible apply mK_A | with_reducible apply mK_I | with_reducible apply mK_L | with_reducible apply mK_R | with_reducible apply mK_O | with_reducible apply mK_S)) (by repeat' (first | with_reducible exact hn_sorts | with_reducible apply mN_A | with_reducible apply mN_I | with_reducible apply mN_L | with_reducible apply mN_R | with_reducible apply mN_O | with_reducible apply mN_S)) (by repeat' (first | with_reducible exact nl_0 | with_reducible exact nl_1 | with_reducible exact nl_8 | with_reducible exact rfl | apply i_add | apply i_mul)) (by omega) (by decide) (by first | (simp (disch := omega) only [mA_sA, mA_sI, mA_SC0, mA_SC1 hS, mA_SC5 hS, mA_SC6 hS, mA_SC10 hS, mA_SC11 hS, mA_SC12 hS, up_s, up_n, if_false] <;> rfl) | rfl) rfl ?_
        refine x_fork (J := 25) (x_if_lt (n' := 20) (tgt := 24) dX9_held_17 (by decide) rfl) (v1 := ?v1_f17_2) (v2 := ?v2_f17_2) (fun c_f17_2 j_f17_2 => ?b1_f17_2) (fun c_f17_2 j_f17_2 => ?b2_f17_2) ?k_f17_2
        case b1_f17_2 =>
          refine x_iconst (n' := 25) (v := 0) dX9_held_24 (by decide) rfl ?_
          exact j_f17_2
        case b2_f17_2 =>
          refine x_iconst (n' := 21) (v := 1) dX9_held_20 (by decide) rfl ?_
          refine x_goto (tgt := 25) dX9_held_21 (by decide) ?_
          exact j_f17_2
        refine x_topv bi_ge ?_
        refine x_iadd (n' := 26) dX9_held_25 rfl ?_
        refine x_istore_n (n' := 27) dX9_held_26 rfl (Nat.le_of_ble_eq_true rfl) rfl (by dsimp only [List.set] <;> rfl) rfl ?_
        refine x_iinc (n' := 30) dX9_held_27 rfl (by first | exact nI_inc _ | exact nI_decp (by omega) | exact i_inc _ | rfl) (Nat.le_of_ble_eq_true rfl) rfl (by dsimp only [List.set] <;> rfl) rfl ?_
        refine x_goto (tgt := 4) dX9_held_30 (by decide) ?_
        exact x_drop (ih (i + 1) (by omega) (by omega)) ⟨rfl, ⟨rfl, ⟨rfl, trivial⟩⟩⟩
  refine x_iconst (n' := 1) (v := 0) dX9_held_0 (by decide) rfl ?_
  refine x_istore_n (n' := 2) dX9_held_1 rfl (Nat.le_of_ble_eq_true rfl) rfl (by dsimp only [List.set] <;> rfl) rfl ?_
  refine x_iconst (n' := 3) (v := 0) dX9_held_2 (by decide) rfl ?_
  refine x_istore_n (n' := 4) dX9_held_3 rfl (Nat.le_of_ble_eq_true rfl) rfl (by dsimp only [List.set] <;> rfl) rfl ?_
  exact x_drop (cut4 (8 + 1) 0 (by omega) (by omega)) ⟨rfl, ⟨rfl, ⟨rfl, trivial⟩⟩⟩

set_option maxHeartbeats 4000000 in
set_option maxRecDepth 100000 in
theorem c_X9_draw (l : Launch) (G : kG) (M : kM) (m : Nat) (ad : Nat → Nat) (hS : MS M m ad) (n : Int32) (h0 : ¬ n = 0) : Kt l G yX9_draw cX9_draw 2 (some .int) 0 0 [.ref m, .int n] M (0) (0) (fun v M2 => v = some (.int (drwG (mA M (ad 0)) n)) ∧ M2 = sA M (ad 0) (va_up (mA M (ad 0)) 19 (rndG (mA M (ad 0))))) := by
  refine Kt.of (own := "KeptLightModel") (L := [some (.ref m), some (.int n)]) (by decide +kernel) rfl (Nat.le_of_ble_eq_true rfl) rfl ?_
  intro pp ee ss mm args below meth cd hmn hret
  have km := hS.1
  obtain ⟨hr_g, kk_g, hn_g⟩ := hS.2.1 0 (by decide)
  have hr_g : mR M (fc 9 0) m = some (ad 0) := hr_g
  have hn_g : mN M (ad 0) = 2509 := hn_g
  have kk_g : mK M (ad 0) = some 120 := kk_g
  refine x_aload_n (n' := 1) dX9_draw_0 rfl rfl rfl ?_
  refine x_getRs (n' := 4) (b := (ad 0)) dX9_draw_1 (by repeat' (first | with_reducible exact km | with_reducible apply mK_A | with_reducible apply mK_I | with_reducible apply mK_L | with_reducible apply mK_R | with_reducible apply mK_O | with_reducible apply mK_S)) ffX9_9_9 rfl (by repeat' (first | with_reducible exact hr_g | with_reducible apply mR_A | with_reducible apply mR_I | with_reducible apply mR_L | with_reducible apply mR_S)) rfl ?_
  refine x_bipush (n' := 6) (v := 19) dX9_draw_4 (by decide) rfl ?_
  refine x_aload_n (n' := 7) dX9_draw_6 rfl rfl rfl ?_
  refine x_getRs (n' := 10) (b := (ad 0)) dX9_draw_7 (by repeat' (first | with_reducible exact km | with_reducible apply mK_A | with_reducible apply mK_I | with_reducible apply mK_L | with_reducible apply mK_R | with_reducible apply mK_O | with_reducible apply mK_S)) ffX9_9_9 rfl (by repeat' (first | with_reducible exact hr_g | with_reducible apply mR_A | with_reducible apply mR_I | with_reducible apply mR_L | with_reducible apply mR_S)) rfl ?_
  refine x_bipush (n' := 12) (v := 19) dX9_draw_10 (by decide) rfl ?_
  refine x_ildk (n' := 13) (N := 2509) dX9_draw_12 (by repeat' (first | with_reducible exact kk_g | with_reducible apply mK_A | with_reducible apply mK_I | with_reducible apply mK_L | with_reducible apply mK_R | with_reducible apply mK_O | with_reducible apply mK_S)) (by repeat' (first | with_reducible exact hn_g | with_reducible apply mN_A | with_reducible apply mN_I | with_reducible apply mN_L | with_reducible apply mN_R | with_reducible apply mN_O | with_reducible apply mN_S)) (by repeat' (first | with_reducible exact nl_0 | with_reducible exact nl_16 | with_reducible exact nl_19 | with_reducible exact nl_12345 | with_reducible exact rfl | apply i_add | apply i_mul)) (by omega) (by decide) (by first | (simp (disch := omega) only [mA_sA, mA_sI, mA_SC0, mA_SC1 hS, mA_SC5 hS, mA_SC6 hS, mA_SC10 hS, mA_SC11 hS, mA_SC12 hS, up_s, up_n, if_false] <;> rfl) | rfl) rfl ?_
  refine x_ldc (n' := 15) q3615 dX9_draw_13 rfl ?_
  refine x_imul (n' := 16) dX9_draw_15 rfl ?_
  refine x_sipush (n' := 19) (v := 12345) dX9_draw_16 (by decide) rfl ?_
  refine x_iadd (n' := 20) dX9_draw_19 rfl ?_
  refine x_iastk (n' := 21) (N := 2509) dX9_draw_20 (by repeat' (first | with_reducible exact kk_g | with_reducible apply mK_A | with_reducible apply mK_I | with_reducible apply mK_L | with_reducible apply mK_R | with_reducible apply mK_O | with_reducible apply mK_S)) (by repeat' (first | with_reducible exact hn_g | with_reducible apply mN_A | with_reducible apply mN_I | with_reducible apply mN_L | with_reducible apply mN_R | with_reducible apply mN_O | with_reducible apply mN_S)) (by repeat' (first | with_reducible exact nl_0 | with_reducible exact nl_16 | with_reducible exact nl_19 | with_reducible exact nl_12345 | with_reducible exact rfl | apply i_add | apply i_mul)) (by omega) (by decide) (by first | with_reducible exact mA_sA | with_reducible exact mA_SC0 | with_reducible exact mA_SC1 hS | with_reducible exact mA_SC5 hS | with_reducible exact mA_SC6 hS | with_reducible exact mA_SC10 hS | with_reducible exact mA_SC11 hS | with_reducible exact mA_SC12 hS | with_reducible exact mA_sI_sA | with_reducible exact mA_sI3_sA | rfl) (by first | with_reducible exact SC_A0 | with_reducible exact SC_A1 hS | with_reducible exact SC_A5 hS | with_reducible exact SC_A6 hS | with_reducible exact SC_A10 hS | with_reducible exact SC_A11 hS | with_reducible exact SC_A12 hS | with_reducible exact sA_sA | with_reducible exact sA_sI_sA | with_reducible exact sA_sI3_sA | rfl) rfl ?_
  refine x_aload_n (n' := 22) dX9_draw_21 rfl rfl rfl ?_
  refine x_getRs (n' := 25) (b := (ad 0)) dX9_draw_22 (by repeat' (first | with_reducible exact km | with_reducible apply mK_A | with_reducible apply mK_I | with_reducible apply mK_L | with_reducible apply mK_R | with_reducible apply mK_O | with_reducible apply mK_S)) ffX9_9_9 rfl (by repeat' (first | with_reducible exact hr_g | with_reducible apply mR_A | with_reducible apply mR_I | with_reducible apply mR_L | with_reducible apply mR_S)) rfl ?_
  refine x_bipush (n' := 27) (v := 19) dX9_draw_25 (by decide) rfl ?_
  refine x_ildk (n' := 28) (N := 2509) dX9_draw_27 (by repeat' (first | with_reducible exact kk_g | with_reducible apply mK_A | with_reducible apply mK_I | with_reducible apply mK_L | with_reducible apply mK_R | with_reducible apply mK_O | with_reducible apply mK_S)) (by repeat' (first | with_reducible exact hn_g | with_reducible apply mN_A | with_reducible apply mN_I | with_reducible apply mN_L | with_reducible apply mN_R | with_reducible apply mN_O | with_reducible apply mN_S)) (by repeat' (first | with_reducible exact nl_0 | with_reducible exact nl_16 | with_reducible exact nl_19 | with_reducible exact nl_12345 | with_reducible exact rfl | apply i_add | apply i_mul)) (by omega) (by decide) (by first | (simp (disch := omega) only [mA_sA, mA_sI, mA_SC0, mA_SC1 hS, mA_SC5 hS, mA_SC6 hS, mA_SC10 hS, mA_SC11 hS, mA_SC12 hS, up_s, up_n, if_false] <;> rfl) | rfl) rfl ?_
  refine x_bipush (n' := 30) (v := 16) dX9_draw_28 (by decide) rfl ?_
  refine x_iushr (n' := 31) dX9_draw_30 rfl rfl ?_
  refine x_iload_n (n' := 32) dX9_draw_31 rfl rfl rfl ?_
  refine x_irem (n' := 33) dX9_draw_32 h0 rfl ?_
  exact x_iret dX9_draw_33 hret (by repeat' (first | with_reducible exact kE.rf | with_reducible exact kE_SS | with_reducible apply kE_A | with_reducible apply kE_I | with_reducible apply kE_L | with_reducible apply kE_R | with_reducible apply kE_O | with_reducible apply kE_S)) (⟨rfl, rfl⟩)

set_option maxHeartbeats 4000000 in
set_option maxRecDepth 100000 in
theorem c_X9_comesShip (l : Launch) (G : kG) (M : kM) (m : Nat) (ad : Nat → Nat) (hS : MS M m ad) (k h : Int32) (ns : Nat) (hs : mA M (ad 0) 14 = nI ns) (hb : ns < 200) : Kt l G yX9_comesShip cX9_comesShip 4 (some .int) 0 0 [.ref m, .int k, .int h] M (0) (0) (fun v M2 => v = some (.int (nI ns)) ∧ M2 = sA M (ad 0) (cmG (mA M (ad 0)) k h ns)) := by
  refine Kt.of (own := "KeptLightModel") (L := [some (.ref m), some (.int k), some (.int h), none]) (by decide +kernel) rfl (Nat.le_of_ble_eq_true rfl) rfl ?_
  intro pp ee ss mm args below meth cd hmn hret
  have km := hS.1
  obtain ⟨hr_g, kk_g, hn_g⟩ := hS.2.1 0 (by decide)
  have hr_g : mR M (fc 9 0) m = some (ad 0) := hr_g
  have hn_g : mN M (ad 0) = 2509 := hn_g
  have kk_g : mK M (ad 0) = some 120 := kk_g
  refine x_aload_n (n' := 1) dX9_comesShip_0 rfl rfl rfl ?_
  refine x_getRs (n' := 4) (b := (ad 0)) dX9_comesShip_1 (by repeat' (first | with_reducible exact km | with_reducible apply mK_A | with_reducible apply mK_I | with_reducible apply mK_L | with_reducible apply mK_R | with_reducible apply mK_O | with_reducible apply mK_S)) ffX9_9_9 rfl (by repeat' (first | with_reducible exact hr_g | with_reducible apply mR_A | with_reducible apply mR_I | with_reducible apply mR_L | with_reducible apply mR_S)) rfl ?_
  refine x_bipush (n' := 6) (v := 14) dX9_comesShip_4 (by decide) rfl ?_
  refine x_ildk (n' := 7) (N := 2509) dX9_comesShip_6 (by repeat' (first | with_reducible exact kk_g | with_reducible apply mK_A | with_reducible apply mK_I | with_reducible apply mK_L | with_reducible apply mK_R | with_reducible apply mK_O | with_reducible apply mK_S)) (by repeat' (first | with_reducible exact hn_g | with_reducible apply mN_A | with_reducible apply mN_I | with_reducible apply mN_L | with_reducible apply mN_R | with_reducible apply mN_O | with_reducible apply mN_S)) (by repeat' (first | with_reducible exact nl_0 | with_reducible exact nl_1 | with_reducible exact nl_2 | with_reducible exact nl_3 | with_reducible exact nl_4 | with_reducible exact nl_14 | with_reducible exact nl_109 | with_reducible exact rfl | apply i_add | apply i_mul)) (by omega) (by decide) (by first | with_reducible exact hs | (simp (disch := omega) only [mA_sA, mA_sI, mA_SC0, mA_SC1 hS, mA_SC5 hS, mA_SC6 hS, mA_SC10 hS, mA_SC11 hS, mA_SC12 hS, up_s, up_n, hs, if_false] <;> rfl) | rfl) rfl ?_
  refine x_istore_n (n' := 8) dX9_comesShip_7 rfl (Nat.le_of_ble_eq_true rfl) rfl (by dsimp only [List.set] <;> rfl) rfl ?_
  refine x_aload_n (n' := 9) dX9_comesShip_8 rfl rfl rfl ?_
  refine x_getRs (n' := 12) (b := (ad 0)) dX9_comesShip_9 (by repeat' (first | with_reducible exact km | with_reducible apply mK_A | with_reducible apply mK_I | with_reducible apply mK_L | with_reducible apply mK_R | with_reducible apply mK_O | with_reducible apply mK_S)) ffX9_9_9 rfl (by repeat' (first | with_reducible exact hr_g | with_reducible apply mR_A | with_reducible apply mR_I | with_reducible apply mR_L | with_reducible apply mR_S)) rfl ?_
  refine x_bipush (n' := 14) (v := 109) dX9_comesShip_12 (by decide) rfl ?_
  refine x_iconst (n' := 15) (v := 4) dX9_comesShip_14 (by decide) rfl ?_
  refine x_iload_n (n' := 16) dX9_comesShip_15 rfl rfl rfl ?_
  refine x_imul (n' := 17) dX9_comesShip_16 rfl ?_
  refine x_iadd (n' := 18) dX9_comesShip_17 rfl ?_
  refine x_iload_n (n' := 19) dX9_comesShip_18 rfl rfl rfl ?_
  refine x_iastk (n' := 20) (N := 2509) dX9_comesShip_19 (by repeat' (first | with_reducible exact kk_g | with_reducible apply mK_A | with_reducible apply mK_I | with_reducible apply mK_L | with_reducible apply mK_R | with_reducible apply mK_O | with_reducible apply mK_S)) (by repeat' (first | with_reducible exact hn_g | with_reducible apply mN_A | with_reducible apply mN_I | with_reducible apply mN_L | with_reducible apply mN_R | with_reducible apply mN_O | with_reducible apply mN_S)) (by repeat' (first | with_reducible exact nl_0 | with_reducible exact nl_1 | with_reducible exact nl_2 | with_reducible exact nl_3 | with_reducible exact nl_4 | with_reducible exact nl_14 | with_reducible exact nl_109 | with_reducible exact rfl | apply i_add | apply i_mul)) (by omega) (by decide) (by first | with_reducible exact mA_sA | with_reducible exact mA_SC0 | with_reducible exact mA_SC1 hS | with_reducible exact mA_SC5 hS | with_reducible exact mA_SC6 hS | with_reducible exact mA_SC10 hS | with_reducible exact mA_SC11 hS | with_reducible exact mA_SC12 hS | with_reducible exact mA_sI_sA | with_reducible exact mA_sI3_sA | rfl) (by first | with_reducible exact SC_A0 | with_reducible exact SC_A1 hS | with_reducible exact SC_A5 hS | with_reducible exact SC_A6 hS | with_reducible exact SC_A10 hS | with_reducible exact SC_A11 hS | with_reducible exact SC_A12 hS | with_reducible exact sA_sA | with_reducible exact sA_sI_sA | with_reducible exact sA_sI3_sA | rfl) rfl ?_
  refine x_aload_n (n' := 21) dX9_comesShip_20 rfl rfl rfl ?_
  refine x_getRs (n' := 24) (b := (ad 0)) dX9_comesShip_21 (by repeat' (first | with_reducible exact km | with_reducible apply mK_A | with_reducible apply mK_I | with_reducible apply mK_L | with_reducible apply mK_R | with_reducible apply mK_O | with_reducible apply mK_S)) ffX9_9_9 rfl (by repeat' (first | with_reducible exact hr_g | with_reducible apply mR_A | with_reducible apply mR_I | with_reducible apply mR_L | with_reducible apply mR_S)) rfl ?_
  refine x_bipush (n' := 26) (v := 109) dX9_comesShip_24 (by decide) rfl ?_
  refine x_iconst (n' := 27) (v := 4) dX9_comesShip_26 (by decide) rfl ?_
  refine x_iload_n (n' := 28) dX9_comesShip_27 rfl rfl rfl ?_
  refine x_imul (n' := 29) dX9_comesShip_28 rfl ?_
  refine x_iadd (n' := 30) dX9_comesShip_29 rfl ?_
  refine x_iconst (n' := 31) (v := 1) dX9_comesShip_30 (by decide) rfl ?_
  refine x_iadd (n' := 32) dX9_comesShip_31 rfl ?_
  refine x_iload_n (n' := 33) dX9_comesShip_32 rfl rfl rfl ?_
  refine x_iastk (n' := 34) (N := 2509) dX9_comesShip_33 (by repeat' (first | with_reducible exact kk_g | with_reducible apply mK_A | with_reducible apply mK_I | with_reducible apply mK_L | with_reducible apply mK_R | with_reducible apply mK_O | with_reducible apply mK_S)) (by repeat' (first | with_reducible exact hn_g | with_reducible apply mN_A | with_reducible apply mN_I | with_reducible apply mN_L | with_reducible apply mN_R | with_reducible apply mN_O | with_reducible apply mN_S)) (by repeat' (first | with_reducible exact nl_0 | with_reducible exact nl_1 | with_reducible exact nl_2 | with_reducible exact nl_3 | with_reducible exact nl_4 | with_reducible exact nl_14 | with_reducible exact nl_109 | with_reducible exact rfl | apply i_add | apply i_mul)) (by omega) (by decide) (by first | with_reducible exact mA_sA | with_reducible exact mA_SC0 | with_reducible exact mA_SC1 hS | with_reducible exact mA_SC5 hS | with_reducible exact mA_SC6 hS | with_reducible exact mA_SC10 hS | with_reducible exact mA_SC11 hS | with_reducible exact mA_SC12 hS | with_reducible exact mA_sI_sA | with_reducible exact mA_sI3_sA | rfl) (by first | with_reducible exact SC_A0 | with_reducible exact SC_A1 hS | with_reducible exact SC_A5 hS | with_reducible exact SC_A6 hS | with_reducible exact SC_A10 hS | with_reducible exact SC_A11 hS | with_reducible exact SC_A12 hS | with_reducible exact sA_sA | with_reducible exact sA_sI_sA | with_reducible exact sA_sI3_sA | rfl) rfl ?_
  refine x_aload_n (n' := 35) dX9_comesShip_34 rfl rfl rfl ?_
  refine x_getRs (n' := 38) (b := (ad 0)) dX9_comesShip_35 (by repeat' (first | with_reducible exact km | with_reducible apply mK_A | with_reducible apply mK_I | with_reducible apply mK_L | with_reducible apply mK_R | with_reducible apply mK_O | with_reducible apply mK_S)) ffX9_9_9 rfl (by repeat' (first | with_reducible exact hr_g | with_reducible apply mR_A | with_reducible apply mR_I | with_reducible apply mR_L | with_reducible apply mR_S)) rfl ?_
  refine x_bipush (n' := 40) (v := 109) dX9_comesShip_38 (by decide) rfl ?_
  refine x_iconst (n' := 41) (v := 4) dX9_comesShip_40 (by decide) rfl ?_
  refine x_iload_n (n' := 42) dX9_comesShip_41 rfl rfl rfl ?_
  refine x_imul (n' := 43) dX9_comesShip_42 rfl ?_
  refine x_iadd (n' := 44) dX9_comesShip_43 rfl ?_
  refine x_iconst (n' := 45) (v := 2) dX9_comesShip_44 (by decide) rfl ?_
  refine x_iadd (n' := 46) dX9_comesShip_45 rfl ?_
  refine x_iconst (n' := 47) (v := -1) dX9_comesShip_46 (by decide) rfl ?_
  refine x_iastk (n' := 48) (N := 2509) dX9_comesShip_47 (by repeat' (first | with_reducible exact kk_g | with_reducible apply mK_A | with_reducible apply mK_I | with_reducible apply mK_L | with_reducible apply mK_R | with_reducible apply mK_O | with_reducible apply mK_S)) (by repeat' (first | with_reducible exact hn_g | with_reducible apply mN_A | with_reducible apply mN_I | with_reducible apply mN_L | with_reducible apply mN_R | with_reducible apply mN_O | with_reducible apply mN_S)) (by repeat' (first | with_reducible exact nl_0 | with_reducible exact nl_1 | with_reducible exact nl_2 | with_reducible exact nl_3 | with_reducible exact nl_4 | with_reducible exact nl_14 | with_reducible exact nl_109 | with_reducible exact rfl | apply i_add | apply i_mul)) (by omega) (by decide) (by first | with_reducible exact mA_sA | with_reducible exact mA_SC0 | with_reducible exact mA_SC1 hS | with_reducible exact mA_SC5 hS | with_reducible exact mA_SC6 hS | with_reducible exact mA_SC10 hS | with_reducible exact mA_SC11 hS | with_reducible exact mA_SC12 hS | with_reducible exact mA_sI_sA | with_reducible exact mA_sI3_sA | rfl) (by first | with_reducible exact SC_A0 | with_reducible exact SC_A1 hS | with_reducible exact SC_A5 hS | with_reducible exact SC_A6 hS | with_reducible exact SC_A10 hS | with_reducible exact SC_A11 hS | with_reducible exact SC_A12 hS | with_reducible exact sA_sA | with_reducible exact sA_sI_sA | with_reducible exact sA_sI3_sA | rfl) rfl ?_
  refine x_aload_n (n' := 49) dX9_comesShip_48 rfl rfl rfl ?_
  refine x_getRs (n' := 52) (b := (ad 0)) dX9_comesShip_49 (by repeat' (first | with_reducible exact km | with_reducible apply mK_A | with_reducible apply mK_I | with_reducible apply mK_L | with_reducible apply mK_R | with_reducible apply mK_O | with_reducible apply mK_S)) ffX9_9_9 rfl (by repeat' (first | with_reducible exact hr_g | with_reducible apply mR_A | with_reducible apply mR_I | with_reducible apply mR_L | with_reducible apply mR_S)) rfl ?_
  refine x_bipush (n' := 54) (v := 109) dX9_comesShip_52 (by decide) rfl ?_
  refine x_iconst (n' := 55) (v := 4) dX9_comesShip_54 (by decide) rfl ?_
  refine x_iload_n (n' := 56) dX9_comesShip_55 rfl rfl rfl ?_
  refine x_imul (n' := 57) dX9_comesShip_56 rfl ?_
  refine x_iadd (n' := 58) dX9_comesShip_57 rfl ?_
  refine x_iconst (n' := 59) (v := 3) dX9_comesShip_58 (by decide) rfl ?_
  refine x_iadd (n' := 60) dX9_comesShip_59 rfl ?_
  refine x_iconst (n' := 61) (v := -1) dX9_comesShip_60 (by decide) rfl ?_
  refine x_iastk (n' := 62) (N := 2509) dX9_comesShip_61 (by repeat' (first | with_reducible exact kk_g | with_reducible apply mK_A | with_reducible apply mK_I | with_reducible apply mK_L | with_reducible apply mK_R | with_reducible apply mK_O | with_reducible apply mK_S)) (by repeat' (first | with_reducible exact hn_g | with_reducible apply mN_A | with_reducible apply mN_I | with_reducible apply mN_L | with_reducible apply mN_R | with_reducible apply mN_O | with_reducible apply mN_S)) (by repeat' (first | with_reducible exact nl_0 | with_reducible exact nl_1 | with_reducible exact nl_2 | with_reducible exact nl_3 | with_reducible exact nl_4 | with_reducible exact nl_14 | with_reducible exact nl_109 | with_reducible exact rfl | apply i_add | apply i_mul)) (by omega) (by decide) (by first | with_reducible exact mA_sA | with_reducible exact mA_SC0 | with_reducible exact mA_SC1 hS | with_reducible exact mA_SC5 hS | with_reducible exact mA_SC6 hS | with_reducible exact mA_SC10 hS | with_reducible exact mA_SC11 hS | with_reducible exact mA_SC12 hS | with_reducible exact mA_sI_sA | with_reducible exact mA_sI3_sA | rfl) (by first | with_reducible exact SC_A0 | with_reducible exact SC_A1 hS | with_reducible exact SC_A5 hS | with_reducible exact SC_A6 hS | with_reducible exact SC_A10 hS | with_reducible exact SC_A11 hS | with_reducible exact SC_A12 hS | with_reducible exact sA_sA | with_reducible exact sA_sI_sA | with_reducible exact sA_sI3_sA | rfl) rfl ?_
  refine x_aload_n (n' := 63) dX9_comesShip_62 rfl rfl rfl ?_
  refine x_getRs (n' := 66) (b := (ad 0)) dX9_comesShip_63 (by repeat' (first | with_reducible exact km | with_reducible apply mK_A | with_reducible apply mK_I | with_reducible apply mK_L | with_reducible apply mK_R | with_reducible apply mK_O | with_reducible apply mK_S)) ffX9_9_9 rfl (by repeat' (first | with_reducible exact hr_g | with_reducible apply mR_A | with_reducible apply mR_I | with_reducible apply mR_L | with_reducible apply mR_S)) rfl ?_
  refine x_bipush (n' := 68) (v := 14) dX9_comesShip_66 (by decide) rfl ?_
  refine x_iload_n (n' := 69) dX9_comesShip_68 rfl rfl rfl ?_
  refine x_iconst (n' := 70) (v := 1) dX9_comesShip_69 (by decide) rfl ?_
  refine x_iadd (n' := 71) dX9_comesShip_70 rfl ?_
  refine x_iastk (n' := 72) (N := 2509) dX9_comesShip_71 (by repeat' (first | with_reducible exact kk_g | with_reducible apply mK_A | with_reducible apply mK_I | with_reducible apply mK_L | with_reducible apply mK_R | with_reducible apply mK_O | with_reducible apply mK_S)) (by repeat' (first | with_reducible exact hn_g | with_reducible apply mN_A | with_reducible apply mN_I | with_reducible apply mN_L | with_reducible apply mN_R | with_reducible apply mN_O | with_reducible apply mN_S)) (by repeat' (first | with_reducible exact nl_0 | with_reducible exact nl_1 | with_reducible exact nl_2 | with_reducible exact nl_3 | with_reducible exact nl_4 | with_reducible exact nl_14 | with_reducible exact nl_109 | with_reducible exact rfl | apply i_add | apply i_mul)) (by omega) (by decide) (by first | with_reducible exact mA_sA | with_reducible exact mA_SC0 | with_reducible exact mA_SC1 hS | with_reducible exact mA_SC5 hS | with_reducible exact mA_SC6 hS | with_reducible exact mA_SC10 hS | with_reducible exact mA_SC11 hS | with_reducible exact mA_SC12 hS | with_reducible exact mA_sI_sA | with_reducible exact mA_sI3_sA | rfl) (by first | with_reducible exact SC_A0 | with_reducible exact SC_A1 hS | with_reducible exact SC_A5 hS | with_reducible exact SC_A6 hS | with_reducible exact SC_A10 hS | with_reducible exact SC_A11 hS | with_reducible exact SC_A12 hS | with_reducible exact sA_sA | with_reducible exact sA_sI_sA | with_reducible exact sA_sI3_sA | rfl) rfl ?_
  refine x_iload_n (n' := 73) dX9_comesShip_72 rfl rfl rfl ?_
  exact x_iret dX9_comesShip_73 hret (by repeat' (first | with_reducible exact kE.rf | with_reducible exact kE_SS | with_reducible apply kE_A | with_reducible apply kE_I | with_reducible apply kE_L | with_reducible apply kE_R | with_reducible apply kE_O | with_reducible apply kE_S)) (by unfold cmG; rw [← nI_1]; exact ⟨rfl, rfl⟩)

set_option maxHeartbeats 4000000 in
set_option maxRecDepth 100000 in
theorem c_X9_shipAgainst (l : Launch) (G : kG) (M : kM) (m : Nat) (ad : Nat → Nat) (hS : MS M m ad) (i0 ns : Nat) (hi : i0 < 400) (hs : mA M (ad 0) 14 = nI ns) (hb : ns ≤ 200) : Kt l G yX9_shipAgainst cX9_shipAgainst 7 (some .int) 2 47 [.ref m, .int (nI i0)] M (0) (0) (fun v M2 => v = some (.int (agG (mA M (ad 0)) ns i0)) ∧ M2 = M) := by
  refine Kt.of (own := "KeptLightModel") (L := [some (.ref m), some (.int (nI i0)), none, none, none, none, none]) (by decide +kernel) rfl (Nat.le_of_ble_eq_true rfl) rfl ?_
  intro pp ee ss mm args below meth cd hmn hret
  have km := hS.1
  obtain ⟨hr_g, kk_g, hn_g⟩ := hS.2.1 0 (by decide)
  have hr_g : mR M (fc 9 0) m = some (ad 0) := hr_g
  have hn_g : mN M (ad 0) = 2509 := hn_g
  have kk_g : mK M (ad 0) = some 120 := kk_g
  have cut38 : ∀ (fuel : Nat) (i : Nat) (h1 : 1001 - i < fuel) (h2 : i ≤ 1000) (h3 : agI (mA M (ad 0)) ((mA M (ad 0)) (909 + 4 * i0 + 1)) ((mA M (ad 0)) (909 + 4 * i0)) ns i = agG (mA M (ad 0)) ns i0), Wx pp l ee { frames := 2, cells := 0, slots := 0, locals := 47 } ss mm args below meth cd "KeptLightModel" cX9_shipAgainst 7 G (MQ below (KQ G M (fun v M2 => v = some (.int (agG (mA M (ad 0)) ns i0)) ∧ M2 = M)) args ss (0) (0) (kA G)) 38 [some (.ref m), some (.int (nI i0)), some (.int ((mA M (ad 0)) (909 + 4 * i0 + 1))), some (.int ((mA M (ad 0)) (909 + 4 * i0))), some (.int (nI i)), none, none] [] (M) (0) (0) := by
    intro fuel
    induction fuel with
    | zero => intro i h1 h2 h3; omega
    | succ fuel ih =>
      intro i h1 h2 h3
      refine x_aload_n (n' := 39) dX9_shipAgainst_38 rfl rfl rfl ?_
      refine x_iload_n (n' := 40) dX9_shipAgainst_39 rfl rfl rfl ?_
      refine x_iload (n' := 42) dX9_shipAgainst_40 rfl rfl ?_
      refine x_callV (n' := 45) (n := 2) (K := 9) (c_X9_rankedAt l G _ m ad hS _ i ns hs hb (by omega)) dX9_shipAgainst_42 (by repeat' (first | with_reducible exact km | with_reducible apply mK_A | with_reducible apply mK_I | with_reducible apply mK_L | with_reducible apply mK_R | with_reducible apply mK_O | with_reducible apply mK_S)) rfl (lw_V q3441 q3443 qs64 q109 q3444) (by decide +kernel) ⟨(Nat.le_of_ble_eq_true rfl), (Nat.le_of_ble_eq_true rfl)⟩ rfl rfl (Nat.le_of_ble_eq_true rfl) (by first | exact Nat.le_of_ble_eq_true rfl | omega) (by first | exact Nat.le_of_ble_eq_true rfl | omega) rfl (fun v_1 M_2 h_4 hE_3 => ?_)
      obtain ⟨rfl, hMs⟩ := h_4
      have hMs := hMs.symm
      subst hMs
      refine x_if_lt (n' := 48) (tgt := 111) dX9_shipAgainst_45 (by decide) rfl (fun c45_5 => ?_) (fun c45_5 => ?_)
      · have C45 := c45_5
        refine x_iconst (n' := 112) (v := -1) dX9_shipAgainst_111 (by decide) rfl ?_
        exact x_iret dX9_shipAgainst_112 hret (by repeat' (first | with_reducible exact kE.rf | with_reducible exact kE_SS | with_reducible apply kE_A | with_reducible apply kE_I | with_reducible apply kE_L | with_reducible apply kE_R | with_reducible apply kE_O | with_reducible apply kE_S)) (⟨by rw [← h3, agI_n (rkA_neg hb C45)], rfl⟩)
      · have C45 := c45_5
        obtain ⟨s, hs9, hR, eR⟩ := rkA_pos hb C45
        have hi9 := rk_lt hb hR
        refine x_aload_n (n' := 49) dX9_shipAgainst_48 rfl rfl rfl ?_
        refine x_iload_n (n' := 50) dX9_shipAgainst_49 rfl rfl rfl ?_
        refine x_iload (n' := 52) dX9_shipAgainst_50 rfl rfl ?_
        refine x_callV (n' := 55) (n := 2) (K := 9) (c_X9_rankedAt l G _ m ad hS _ i ns hs hb (by omega)) dX9_shipAgainst_52 (by repeat' (first | with_reducible exact km | with_reducible apply mK_A | with_reducible apply mK_I | with_reducible apply mK_L | with_reducible apply mK_R | with_reducible apply mK_O | with_reducible apply mK_S)) rfl (lw_V q3441 q3443 qs64 q109 q3444) (by decide +kernel) ⟨(Nat.le_of_ble_eq_true rfl), (Nat.le_of_ble_eq_true rfl)⟩ rfl rfl (Nat.le_of_ble_eq_true rfl) (by first | exact Nat.le_of_ble_eq_true rfl | omega) (by first | exact Nat.le_of_ble_eq_true rfl | omega) rfl (fun v_6 M_7 h_9 hE_8 => ?_)
        obtain ⟨rfl, hMs⟩ := h_9
        have hMs := hMs.symm
        subst hMs
        rw [eR]
        refine x_istore (n' := 57) dX9_shipAgainst_55 (Nat.le_of_ble_eq_true rfl) rfl (by dsimp only [List.set] <;> rfl) rfl ?_
        refine x_aload_n (n' := 58) dX9_shipAgainst_57 rfl rfl rfl ?_
        refine x_iload (n' := 60) dX9_shipAgainst_58 rfl rfl ?_
        refine x_iconst (n' := 61) (v := 3) dX9_shipAgainst_60 (by decide) rfl ?_
        refine x_callV (n' := 64) (n := 2) (K := 9) (c_X9_ofShip l G _ m ad hS s 3 (by omega)) dX9_shipAgainst_61 (by repeat' (first | with_reducible exact km | with_reducible apply mK_A | with_reducible apply mK_I | with_reducible apply mK_L | with_reducible apply mK_R | with_reducible apply mK_O | with_reducible apply mK_S)) rfl (lw_V q3445 q3447 qs65 q109 q3448) (by decide +kernel) ⟨(Nat.le_of_ble_eq_true rfl), (Nat.le_of_ble_eq_true rfl)⟩ rfl rfl (Nat.le_of_ble_eq_true rfl) (by first | exact Nat.le_of_ble_eq_true rfl | omega) (by first | exact Nat.le_of_ble_eq_true rfl | omega) rfl (fun v_10 M_11 h_13 hE_12 => ?_)
        obtain ⟨rfl, hMs⟩ := h_13
        have hMs := hMs.symm
        subst hMs
        refine x_iconst (n' := 65) (v := 1) dX9_shipAgainst_64 (by decide) rfl ?_
        refine x_iand (n' := 66) dX9_shipAgainst_65 rfl ?_
        refine x_iconst (n' := 67) (v := 1) dX9_shipAgainst_66 (by decide) rfl ?_
        refine x_forkN (J := 75) (x_icmp_ne (n' := 70) (tgt := 74) dX9_shipAgainst_67 (by decide) rfl) (v1 := ?v1_f67_14) (v2 := ?v2_f67_14) (fun c_f67_14 j_f67_14 => ?b1_f67_14) (fun c_f67_14 j_f67_14 => ?b2_f67_14) ?k_f67_14
        case b1_f67_14 =>
          refine x_iconst (n' := 75) (v := 0) dX9_shipAgainst_74 (by decide) rfl ?_
          exact j_f67_14
        case b2_f67_14 =>
          refine x_iconst (n' := 71) (v := 1) dX9_shipAgainst_70 (by decide) rfl ?_
          refine x_goto (tgt := 75) dX9_shipAgainst_71 (by decide) ?_
          exact j_f67_14
        refine x_topv (y := bi ((mA M (ad 0)) (109 + 4 * s + 3) &&& 1 = 1)) (by exact rfl) ?_
        refine x_istore (n' := 77) dX9_shipAgainst_75 (Nat.le_of_ble_eq_true rfl) rfl (by dsimp only [List.set] <;> rfl) rfl ?_
        refine x_aload_n (n' := 78) dX9_shipAgainst_77 rfl rfl rfl ?_
        refine x_iload (n' := 80) dX9_shipAgainst_78 rfl rfl ?_
        refine x_iconst (n' := 81) (v := 3) dX9_shipAgainst_80 (by decide) rfl ?_
        refine x_callV (n' := 84) (n := 2) (K := 9) (c_X9_ofShip l G _ m ad hS s 3 (by omega)) dX9_shipAgainst_81 (by repeat' (first | with_reducible exact km | with_reducible apply mK_A | with_reducible apply mK_I | with_reducible apply mK_L | with_reducible apply mK_R | with_reducible apply mK_O | with_reducible apply mK_S)) rfl (lw_V q3445 q3447 qs65 q109 q3448) (by decide +kernel) ⟨(Nat.le_of_ble_eq_true rfl), (Nat.le_of_ble_eq_true rfl)⟩ rfl rfl (Nat.le_of_ble_eq_true rfl) (by first | exact Nat.le_of_ble_eq_true rfl | omega) (by first | exact Nat.le_of_ble_eq_true rfl | omega) rfl (fun v_15 M_16 h_18 hE_17 => ?_)
        obtain ⟨rfl, hMs⟩ := h_18
        have hMs := hMs.symm
        subst hMs
        refine x_if_lt (n' := 87) (tgt := 105) dX9_shipAgainst_84 (by decide) rfl (fun c84_19 => ?_) (fun c84_19 => ?_)
        · have C84 := c84_19
          refine x_iinc (n' := 108) dX9_shipAgainst_105 rfl (by first | exact nI_inc _ | exact nI_decp (by omega) | exact i_inc _ | rfl) (Nat.le_of_ble_eq_true rfl) rfl (by dsimp only [List.set] <;> rfl) rfl ?_
          refine x_goto (tgt := 38) dX9_shipAgainst_108 (by decide) ?_
          have h9 := agI_s (what := (mA M (ad 0)) (909 + 4 * i0 + 1)) hR
          rw [if_neg (by first | exact (fun q => absurd C84 (Int32.not_lt.mpr q.1)) | exact (fun q => C99 q.2))] at h9
          exact x_drop (ih (i + 1) (by omega) (by omega) (h9.symm.trans h3)) ⟨rfl, ⟨rfl, ⟨rfl, ⟨rfl, ⟨rfl, trivial⟩⟩⟩⟩⟩
        · have C84 := c84_19
          refine x_iload (n' := 89) dX9_shipAgainst_87 rfl rfl ?_
          refine x_iload_n (n' := 90) dX9_shipAgainst_89 rfl rfl rfl ?_
          refine x_iconst (n' := 91) (v := 2) dX9_shipAgainst_90 (by decide) rfl ?_
          refine x_forkN (J := 99) (x_icmp_ne (n' := 94) (tgt := 98) dX9_shipAgainst_91 (by decide) rfl) (v1 := ?v1_f91_20) (v2 := ?v2_f91_20) (fun c_f91_20 j_f91_20 => ?b1_f91_20) (fun c_f91_20 j_f91_20 => ?b2_f91_20) ?k_f91_20
          case b1_f91_20 =>
            refine x_iconst (n' := 99) (v := 0) dX9_shipAgainst_98 (by decide) rfl ?_
            exact j_f91_20
          case b2_f91_20 =>
            refine x_iconst (n' := 95) (v := 1) dX9_shipAgainst_94 (by decide) rfl ?_
            refine x_goto (tgt := 99) dX9_shipAgainst_95 (by decide) ?_
            exact j_f91_20
          refine x_topv (y := bi ((mA M (ad 0)) (909 + 4 * i0 + 1) = 2)) (by exact rfl) ?_
          refine x_icmp_ne (n' := 102) (tgt := 105) dX9_shipAgainst_99 (by decide) rfl (fun c99_21 => ?_) (fun c99_21 => ?_)
          · have C99 := c99_21
            refine x_iinc (n' := 108) dX9_shipAgainst_105 rfl (by first | exact nI_inc _ | exact nI_decp (by omega) | exact i_inc _ | rfl) (Nat.le_of_ble_eq_true rfl) rfl (by dsimp only [List.set] <;> rfl) rfl ?_
            refine x_goto (tgt := 38) dX9_shipAgainst_108 (by decide) ?_
            have h9 := agI_s (what := (mA M (ad 0)) (909 + 4 * i0 + 1)) hR
            rw [if_neg (by first | exact (fun q => absurd C84 (Int32.not_lt.mpr q.1)) | exact (fun q => C99 q.2))] at h9
            exact x_drop (ih (i + 1) (by omega) (by omega) (h9.symm.trans h3)) ⟨rfl, ⟨rfl, ⟨rfl, ⟨rfl, ⟨rfl, trivial⟩⟩⟩⟩⟩
          · have C99 := c99_21
            refine x_iload (n' := 104) dX9_shipAgainst_102 rfl rfl ?_
            exact x_iret dX9_shipAgainst_104 hret (by repeat' (first | with_reducible exact kE.rf | with_reducible exact kE_SS | with_reducible apply kE_A | with_reducible apply kE_I | with_reducible apply kE_L | with_reducible apply kE_R | with_reducible apply kE_O | with_reducible apply kE_S)) (⟨by rw [← h3, agI_s hR, if_pos ⟨Int32.not_lt.mp C84, C99⟩], rfl⟩)
  refine x_aload_n (n' := 1) dX9_shipAgainst_0 rfl rfl rfl ?_
  refine x_getRs (n' := 4) (b := (ad 0)) dX9_shipAgainst_1 (by repeat' (first | with_reducible exact km | with_reducible apply mK_A | with_reducible apply mK_I | with_reducible apply mK_L | with_reducible apply mK_R | with_reducible apply mK_O | with_reducible apply mK_S)) ffX9_9_9 rfl (by repeat' (first | with_reducible exact hr_g | with_reducible apply mR_A | with_reducible apply mR_I | with_reducible apply mR_L | with_reducible apply mR_S)) rfl ?_
  refine x_sipush (n' := 7) (v := 909) dX9_shipAgainst_4 (by decide) rfl ?_
  refine x_iconst (n' := 8) (v := 4) dX9_shipAgainst_7 (by decide) rfl ?_
  refine x_iload_n (n' := 9) dX9_shipAgainst_8 rfl rfl rfl ?_
  refine x_imul (n' := 10) dX9_shipAgainst_9 rfl ?_
  refine x_iadd (n' := 11) dX9_shipAgainst_10 rfl ?_
  refine x_iconst (n' := 12) (v := 1) dX9_shipAgainst_11 (by decide) rfl ?_
  refine x_iadd (n' := 13) dX9_shipAgainst_12 rfl ?_
  refine x_ildk (n' := 14) (N := 2509) dX9_shipAgainst_13 (by repeat' (first | with_reducible exact kk_g | with_reducible apply mK_A | with_reducible apply mK_I | with_reducible apply mK_L | with_reducible apply mK_R | with_reducible apply mK_O | with_reducible apply mK_S)) (by repeat' (first | with_reducible exact hn_g | with_reducible apply mN_A | with_reducible apply mN_I | with_reducible apply mN_L | with_reducible apply mN_R | with_reducible apply mN_O | with_reducible apply mN_S)) (by repeat' (first | with_reducible exact nl_0 | with_reducible exact nl_1 | with_reducible exact nl_2 | with_reducible exact nl_3 | with_reducible exact nl_4 | with_reducible exact nl_909 | with_reducible exact rfl | apply i_add | apply i_mul)) (by omega) (by decide) (by first | (simp (disch := omega) only [mA_sA, mA_sI, mA_SC0, mA_SC1 hS, mA_SC5 hS, mA_SC6 hS, mA_SC10 hS, mA_SC11 hS, mA_SC12 hS, up_s, up_n, if_false] <;> rfl) | rfl) rfl ?_
  refine x_istore_n (n' := 15) dX9_shipAgainst_14 rfl (Nat.le_of_ble_eq_true rfl) rfl (by dsimp only [List.set] <;> rfl) rfl ?_
  refine x_iload_n (n' := 16) dX9_shipAgainst_15 rfl rfl rfl ?_
  refine x_iconst (n' := 17) (v := 2) dX9_shipAgainst_16 (by decide) rfl ?_
  refine x_icmp_le (n' := 20) (tgt := 22) dX9_shipAgainst_17 (by decide) rfl (fun c17_22 => ?_) (fun c17_22 => ?_)
  · have C17 := c17_22
    refine x_aload_n (n' := 23) dX9_shipAgainst_22 rfl rfl rfl ?_
    refine x_getRs (n' := 26) (b := (ad 0)) dX9_shipAgainst_23 (by repeat' (first | with_reducible exact km | with_reducible apply mK_A | with_reducible apply mK_I | with_reducible apply mK_L | with_reducible apply mK_R | with_reducible apply mK_O | with_reducible apply mK_S)) ffX9_9_9 rfl (by repeat' (first | with_reducible exact hr_g | with_reducible apply mR_A | with_reducible apply mR_I | with_reducible apply mR_L | with_reducible apply mR_S)) rfl ?_
    refine x_sipush (n' := 29) (v := 909) dX9_shipAgainst_26 (by decide) rfl ?_
    refine x_iconst (n' := 30) (v := 4) dX9_shipAgainst_29 (by decide) rfl ?_
    refine x_iload_n (n' := 31) dX9_shipAgainst_30 rfl rfl rfl ?_
    refine x_imul (n' := 32) dX9_shipAgainst_31 rfl ?_
    refine x_iadd (n' := 33) dX9_shipAgainst_32 rfl ?_
    refine x_ildk (n' := 34) (N := 2509) dX9_shipAgainst_33 (by repeat' (first | with_reducible exact kk_g | with_reducible apply mK_A | with_reducible apply mK_I | with_reducible apply mK_L | with_reducible apply mK_R | with_reducible apply mK_O | with_reducible apply mK_S)) (by repeat' (first | with_reducible exact hn_g | with_reducible apply mN_A | with_reducible apply mN_I | with_reducible apply mN_L | with_reducible apply mN_R | with_reducible apply mN_O | with_reducible apply mN_S)) (by repeat' (first | with_reducible exact nl_0 | with_reducible exact nl_1 | with_reducible exact nl_2 | with_reducible exact nl_3 | with_reducible exact nl_4 | with_reducible exact nl_909 | with_reducible exact rfl | apply i_add | apply i_mul)) (by omega) (by decide) (by first | (simp (disch := omega) only [mA_sA, mA_sI, mA_SC0, mA_SC1 hS, mA_SC5 hS, mA_SC6 hS, mA_SC10 hS, mA_SC11 hS, mA_SC12 hS, up_s, up_n, if_false] <;> rfl) | rfl) rfl ?_
    refine x_istore_n (n' := 35) dX9_shipAgainst_34 rfl (Nat.le_of_ble_eq_true rfl) rfl (by dsimp only [List.set] <;> rfl) rfl ?_
    refine x_iconst (n' := 36) (v := 0) dX9_shipAgainst_35 (by decide) rfl ?_
    refine x_istore (n' := 38) dX9_shipAgainst_36 (Nat.le_of_ble_eq_true rfl) rfl (by dsimp only [List.set] <;> rfl) rfl ?_
    exact x_drop (cut38 1002 0 (by omega) (by omega) (by unfold agG; rw [if_neg (Int32.not_lt.mpr C17)])) ⟨rfl, ⟨rfl, ⟨rfl, ⟨rfl, ⟨rfl, trivial⟩⟩⟩⟩⟩
  · have C17 := c17_22
    refine x_iconst (n' := 21) (v := -1) dX9_shipAgainst_20 (by decide) rfl ?_
    exact x_iret dX9_shipAgainst_21 hret (by repeat' (first | with_reducible exact kE.rf | with_reducible exact kE_SS | with_reducible apply kE_A | with_reducible apply kE_I | with_reducible apply kE_L | with_reducible apply kE_R | with_reducible apply kE_O | with_reducible apply kE_S)) (⟨by unfold agG; rw [if_pos (Int32.not_le.mp C17)], rfl⟩)
