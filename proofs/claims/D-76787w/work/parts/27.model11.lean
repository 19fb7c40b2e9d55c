theorem many_eq {c : Prop} [Decidable c] {x f : Int32} : (if bi c = 0 then (0 : Int32) else if x = f then 1 else 0) = bi (c ∧ x = f) := by
  unfold bi
  by_cases h : c <;> by_cases h2 : x = f <;> simp [h, h2]
theorem logged_eq {k x : Int32} : (if k = 0 then (1 : Int32) else if x = k then 1 else 0) = bi (k = 0 ∨ x = k) := by
  unfold bi
  by_cases h : k = 0 <;> by_cases h2 : x = k <;> simp [h, h2]
set_option maxHeartbeats 4000000 in
set_option maxRecDepth 100000 in
theorem c_X9_many (l : Launch) (G : kG) (M : kM) (m : Nat) (ad : Nat → Nat) (hS : MS M m ad) (k f : Int32) (ns : Nat) (hs : mA M (ad 0) 14 = nI ns) (hb : ns ≤ 200) : Kt l G yX9_many cX9_many 5 (some .int) 2 41 [.ref m, .int k, .int f] M (0) (0) (fun v M2 => ((0 ≤ k ∧ k ≤ 7) ∧ (0 ≤ f ∧ f ≤ 2) → v = some (.int (cnt (fun s => underP ((mA M (ad 0)) (109 + 4 * s)) k ∧ (mA M (ad 0)) (109 + 4 * s + 2) = f) ns)) ∧ M2 = M) ∧ (¬ ((0 ≤ k ∧ k ≤ 7) ∧ (0 ≤ f ∧ f ≤ 2)) → v = some (.int (-(nI 102))) ∧ M2 = rfM M ad 0)) := by
  refine Kt.of (own := "KeptLightModel") (L := [some (.ref m), some (.int k), some (.int f), none, none]) (by decide +kernel) rfl (Nat.le_of_ble_eq_true rfl) rfl ?_
  intro pp ee ss mm args below meth cd hmn hret
  have km := hS.1
  obtain ⟨hr_g, kk_g, hn_g⟩ := hS.2.1 0 (by decide)
  have hr_g : mR M (fc 9 0) m = some (ad 0) := hr_g
  have hn_g : mN M (ad 0) = 2509 := hn_g
  have kk_g : mK M (ad 0) = some 120 := kk_g
  have cut36 : ∀ (fuel : Nat) (i : Nat) (h1 : ns - i < fuel) (h2 : i ≤ ns) (hok : (0 ≤ k ∧ k ≤ 7) ∧ (0 ≤ f ∧ f ≤ 2)), Wx pp l ee { frames := 2, cells := 0, slots := 0, locals := 41 } ss mm args below meth cd "KeptLightModel" cX9_many 5 G (MQ below (KQ G M (fun v M2 => ((0 ≤ k ∧ k ≤ 7) ∧ (0 ≤ f ∧ f ≤ 2) → v = some (.int (cnt (fun s => underP ((mA M (ad 0)) (109 + 4 * s)) k ∧ (mA M (ad 0)) (109 + 4 * s + 2) = f) ns)) ∧ M2 = M) ∧ (¬ ((0 ≤ k ∧ k ≤ 7) ∧ (0 ≤ f ∧ f ≤ 2)) → v = some (.int (-(nI 102))) ∧ M2 = rfM M ad 0))) args ss (0) (0) (kA G)) 36 [some (.ref m), some (.int k), some (.int f), some (.int (cnt (fun s => underP ((mA M (ad 0)) (109 + 4 * s)) k ∧ (mA M (ad 0)) (109 + 4 * s + 2) = f) i)), some (.int (nI i))] [] (M) (0) (0) := by
    intro fuel
    induction fuel with
    | zero => intro i h1 h2 hok; omega
    | succ fuel ih =>
      intro i h1 h2 hok
      refine x_iload (n' := 38) dX9_many_36 rfl rfl ?_
      refine x_aload_n (n' := 39) dX9_many_38 rfl rfl rfl ?_
      refine x_getRs (n' := 42) (b := (ad 0)) dX9_many_39 (by repeat' (first | with_reducible exact km | with_reducible apply mK_A | with_reducible apply mK_I | with_reducible apply mK_L | with_reducible apply mK_R | with_reducible apply mK_O | with_reducible apply mK_S)) ffX9_9_9 rfl (by repeat' (first | with_reducible exact hr_g | with_reducible apply mR_A | with_reducible apply mR_I | with_reducible apply mR_L | with_reducible apply mR_S)) rfl ?_
      refine x_bipush (n' := 44) (v := 14) dX9_many_42 (by decide) rfl ?_
      refine x_ildk (n' := 45) (N := 2509) dX9_many_44 (by repeat' (first | with_reducible exact kk_g | with_reducible apply mK_A | with_reducible apply mK_I | with_reducible apply mK_L | with_reducible apply mK_R | with_reducible apply mK_O | with_reducible apply mK_S)) (by repeat' (first | with_reducible exact hn_g | with_reducible apply mN_A | with_reducible apply mN_I | with_reducible apply mN_L | with_reducible apply mN_R | with_reducible apply mN_O | with_reducible apply mN_S)) (by repeat' (first | with_reducible exact nl_0 | with_reducible exact nl_1 | with_reducible exact nl_2 | with_reducible exact nl_14 | with_reducible exact rfl | apply i_add | apply i_mul)) (by omega) (by decide) (by first | with_reducible exact hs | (simp (disch := omega) only [mA_sA, mA_sI, mA_SC0, mA_SC1 hS, mA_SC5 hS, mA_SC6 hS, mA_SC10 hS, mA_SC11 hS, mA_SC12 hS, up_s, up_n, hs, if_false] <;> rfl) | rfl) rfl ?_
      refine x_icmp_ge (n' := 48) (tgt := 87) dX9_many_45 (by decide) rfl (fun c45_1 => ?_) (fun c45_1 => ?_)
      · have n_c45_1 := (cv_le (by repeat' (first | with_reducible exact nl_0 | with_reducible exact nl_1 | with_reducible exact nl_2 | with_reducible exact nl_14 | with_reducible exact rfl | apply i_add | apply i_mul)) (by repeat' (first | with_reducible exact nl_0 | with_reducible exact nl_1 | with_reducible exact nl_2 | with_reducible exact nl_14 | with_reducible exact rfl | apply i_add | apply i_mul)) (by omega) (by omega)).mp c45_1
        refine x_iload_n (n' := 88) dX9_many_87 rfl rfl rfl ?_
        exact x_iret dX9_many_88 hret (by repeat' (first | with_reducible exact kE.rf | with_reducible exact kE_SS | with_reducible apply kE_A | with_reducible apply kE_I | with_reducible apply kE_L | with_reducible apply kE_R | with_reducible apply kE_O | with_reducible apply kE_S)) (⟨fun _ => by rw [show i = ns by omega]; exact ⟨rfl, rfl⟩, fun q => absurd hok q⟩)
      · have n_c45_1 := (not_congr (cv_le (by repeat' (first | with_reducible exact nl_0 | with_reducible exact nl_1 | with_reducible exact nl_2 | with_reducible exact nl_14 | with_reducible exact rfl | apply i_add | apply i_mul)) (by repeat' (first | with_reducible exact nl_0 | with_reducible exact nl_1 | with_reducible exact nl_2 | with_reducible exact nl_14 | with_reducible exact rfl | apply i_add | apply i_mul)) (by omega) (by omega))).mp c45_1
        refine x_iload_n (n' := 49) dX9_many_48 rfl rfl rfl ?_
        refine x_aload_n (n' := 50) dX9_many_49 rfl rfl rfl ?_
        refine x_iload (n' := 52) dX9_many_50 rfl rfl ?_
        refine x_iconst (n' := 53) (v := 0) dX9_many_52 (by decide) rfl ?_
        refine x_callV (n' := 56) (n := 2) (K := 9) (c_X9_ofShip l G _ m ad hS i 0 (by omega)) dX9_many_53 (by repeat' (first | with_reducible exact km | with_reducible apply mK_A | with_reducible apply mK_I | with_reducible apply mK_L | with_reducible apply mK_R | with_reducible apply mK_O | with_reducible apply mK_S)) rfl (lw_V q3445 q3447 qs65 q109 q3448) (by decide +kernel) ⟨(Nat.le_of_ble_eq_true rfl), (Nat.le_of_ble_eq_true rfl)⟩ rfl rfl (Nat.le_of_ble_eq_true rfl) (by first | exact Nat.le_of_ble_eq_true rfl | omega) (by first | exact Nat.le_of_ble_eq_true rfl | omega) rfl (fun v_2 M_3 h_5 hE_4 => ?_)
        obtain ⟨rfl, hMs⟩ := h_5
        have hMs := hMs.symm
        subst hMs
        refine x_iload_n (n' := 57) dX9_many_56 rfl rfl rfl ?_
        refine x_callS (n' := 60) (n := 2) (c_X9_isUnder l G _ _ k) dX9_many_57 (lw_S q3494 q3495 q109 q3496) (by decide +kernel) ⟨(Nat.le_of_ble_eq_true rfl), (Nat.le_of_ble_eq_true rfl)⟩ rfl rfl (Nat.le_of_ble_eq_true rfl) (by first | exact Nat.le_of_ble_eq_true rfl | omega) (by first | exact Nat.le_of_ble_eq_true rfl | omega) rfl (fun v_6 M_7 h_9 hE_8 => ?_)
        obtain ⟨rfl, hMs⟩ := h_9
        have hMs := hMs.symm
        subst hMs
        refine x_fork (J := 79) (x_if_eq (n' := 63) (tgt := 78) dX9_many_60 (by decide) rfl) (v1 := ?v1_f60_10) (v2 := ?v2_f60_10) (fun c_f60_10 j_f60_10 => ?b1_f60_10) (fun c_f60_10 j_f60_10 => ?b2_f60_10) ?k_f60_10
        case b1_f60_10 =>
          refine x_iconst (n' := 79) (v := 0) dX9_many_78 (by decide) rfl ?_
          exact j_f60_10
        case b2_f60_10 =>
          refine x_aload_n (n' := 64) dX9_many_63 rfl rfl rfl ?_
          refine x_iload (n' := 66) dX9_many_64 rfl rfl ?_
          refine x_iconst (n' := 67) (v := 2) dX9_many_66 (by decide) rfl ?_
          refine x_callV (n' := 70) (n := 2) (K := 9) (c_X9_ofShip l G _ m ad hS i 2 (by omega)) dX9_many_67 (by repeat' (first | with_reducible exact km | with_reducible apply mK_A | with_reducible apply mK_I | with_reducible apply mK_L | with_reducible apply mK_R | with_reducible apply mK_O | with_reducible apply mK_S)) rfl (lw_V q3445 q3447 qs65 q109 q3448) (by decide +kernel) ⟨(Nat.le_of_ble_eq_true rfl), (Nat.le_of_ble_eq_true rfl)⟩ rfl rfl (Nat.le_of_ble_eq_true rfl) (by first | exact Nat.le_of_ble_eq_true rfl | omega) (by first | exact Nat.le_of_ble_eq_true rfl | omega) rfl (fun v_11 M_12 h_14 hE_13 => ?_)
          obtain ⟨rfl, hMs⟩ := h_14
          have hMs := hMs.symm
          subst hMs
          refine x_iload_n (n' := 71) dX9_many_70 rfl rfl rfl ?_
          refine x_forkN (J := 79) (x_icmp_ne (n' := 74) (tgt := 78) dX9_many_71 (by decide) rfl) (v1 := ?v1_f71_15) (v2 := ?v2_f71_15) (fun c_f71_15 j_f71_15 => ?b1_f71_15) (fun c_f71_15 j_f71_15 => ?b2_f71_15) ?k_f71_15
          case b1_f71_15 =>
            refine x_iconst (n' := 79) (v := 0) dX9_many_78 (by decide) rfl ?_
            exact j_f71_15
          case b2_f71_15 =>
            refine x_iconst (n' := 75) (v := 1) dX9_many_74 (by decide) rfl ?_
            refine x_goto (tgt := 79) dX9_many_75 (by decide) ?_
            exact j_f71_15
          exact j_f60_10
        refine x_topv (y := bi (underP ((mA M (ad 0)) (109 + 4 * i)) k ∧ (mA M (ad 0)) (109 + 4 * i + 2) = f)) (by exact many_eq) ?_
        refine x_iadd (n' := 80) dX9_many_79 rfl ?_
        refine x_istore_n (n' := 81) dX9_many_80 rfl (Nat.le_of_ble_eq_true rfl) rfl (by dsimp only [List.set] <;> rfl) rfl ?_
        refine x_iinc (n' := 84) dX9_many_81 rfl (by first | exact nI_inc _ | exact nI_decp (by omega) | exact i_inc _ | rfl) (Nat.le_of_ble_eq_true rfl) rfl (by dsimp only [List.set] <;> rfl) rfl ?_
        refine x_goto (tgt := 36) dX9_many_84 (by decide) ?_
        exact x_drop (ih (i + 1) (by omega) (by omega) hok) ⟨rfl, ⟨rfl, ⟨rfl, ⟨rfl, ⟨rfl, trivial⟩⟩⟩⟩⟩
  refine x_iload_n (n' := 1) dX9_many_0 rfl rfl rfl ?_
  refine x_i2l (n' := 2) dX9_many_1 rfl rfl ?_
  refine x_lconst (n' := 3) (v := 0) dX9_many_2 (by decide) rfl ?_
  refine x_ldc2 (n' := 6) q3367 dX9_many_3 rfl ?_
  refine x_callS (n' := 9) (n := 3) (c_X9_in l G _ _ _ _) dX9_many_6 (lw_S q3321 q3322 q109 q3323) (by decide +kernel) ⟨(Nat.le_of_ble_eq_true rfl), (Nat.le_of_ble_eq_true rfl)⟩ rfl rfl (Nat.le_of_ble_eq_true rfl) (by first | exact Nat.le_of_ble_eq_true rfl | omega) (by first | exact Nat.le_of_ble_eq_true rfl | omega) rfl (fun v_16 M_17 h_19 hE_18 => ?_)
  obtain ⟨rfl, hMs⟩ := h_19
  have hMs := hMs.symm
  subst hMs
  rw [k_in3 (x := 0) (y := 7) (by decide) (by decide)]
  refine x_if_eq (n' := 12) (tgt := 24) dX9_many_9 (by decide) rfl (fun c9_20 => ?_) (fun c9_20 => ?_)
  · have C9 := c9_20
    refine x_aload_n (n' := 25) dX9_many_24 rfl rfl rfl ?_
    refine x_bipush (n' := 27) (v := -102) dX9_many_25 (by decide) rfl ?_
    refine x_topv (y := -(nI (102 + 0))) (by decide) ?_
    refine x_callV (n' := 30) (n := 1) (K := 9) (c_X9_refused l G _ m ad hS 0 (by decide)) dX9_many_27 (by repeat' (first | with_reducible exact km | with_reducible apply mK_A | with_reducible apply mK_I | with_reducible apply mK_L | with_reducible apply mK_R | with_reducible apply mK_O | with_reducible apply mK_S)) rfl (lw_V q3324 q3326 qs48 q109 q3327) (by decide +kernel) ⟨(Nat.le_of_ble_eq_true rfl), (Nat.le_of_ble_eq_true rfl)⟩ rfl rfl (Nat.le_of_ble_eq_true rfl) (by first | exact Nat.le_of_ble_eq_true rfl | omega) (by first | exact Nat.le_of_ble_eq_true rfl | omega) rfl (fun v_21 M_22 h_24 hE_23 => ?_)
    obtain ⟨rfl, hMs⟩ := h_24
    have hMs := hMs.symm
    subst hMs
    exact x_iret dX9_many_30 hret (by repeat' (first | with_reducible exact kE.rf | with_reducible exact kE_SS | with_reducible apply kE_A | with_reducible apply kE_I | with_reducible apply kE_L | with_reducible apply kE_R | with_reducible apply kE_O | with_reducible apply kE_S)) (⟨fun q => absurd q (by first | exact fun q => bi_0.mp C9 q.1 | exact fun q => bi_0.mp C21 q.2), fun _ => ⟨rfl, rfl⟩⟩)
  · have C9 := c9_20
    refine x_iload_n (n' := 13) dX9_many_12 rfl rfl rfl ?_
    refine x_i2l (n' := 14) dX9_many_13 rfl rfl ?_
    refine x_lconst (n' := 15) (v := 0) dX9_many_14 (by decide) rfl ?_
    refine x_ldc2 (n' := 18) q3350 dX9_many_15 rfl ?_
    refine x_callS (n' := 21) (n := 3) (c_X9_in l G _ _ _ _) dX9_many_18 (lw_S q3321 q3322 q109 q3323) (by decide +kernel) ⟨(Nat.le_of_ble_eq_true rfl), (Nat.le_of_ble_eq_true rfl)⟩ rfl rfl (Nat.le_of_ble_eq_true rfl) (by first | exact Nat.le_of_ble_eq_true rfl | omega) (by first | exact Nat.le_of_ble_eq_true rfl | omega) rfl (fun v_25 M_26 h_28 hE_27 => ?_)
    obtain ⟨rfl, hMs⟩ := h_28
    have hMs := hMs.symm
    subst hMs
    rw [k_in3 (x := 0) (y := 2) (by decide) (by decide)]
    refine x_if_ne (n' := 24) (tgt := 31) dX9_many_21 (by decide) rfl (fun c21_29 => ?_) (fun c21_29 => ?_)
    · have C21 := c21_29
      have hok : (0 ≤ k ∧ k ≤ 7) ∧ (0 ≤ f ∧ f ≤ 2) := ⟨bi_n0 C9, bi_n0 C21⟩
      refine x_iconst (n' := 32) (v := 0) dX9_many_31 (by decide) rfl ?_
      refine x_istore_n (n' := 33) dX9_many_32 rfl (Nat.le_of_ble_eq_true rfl) rfl (by dsimp only [List.set] <;> rfl) rfl ?_
      refine x_iconst (n' := 34) (v := 0) dX9_many_33 (by decide) rfl ?_
      refine x_istore (n' := 36) dX9_many_34 (Nat.le_of_ble_eq_true rfl) rfl (by dsimp only [List.set] <;> rfl) rfl ?_
      exact x_drop (cut36 (ns + 1) 0 (by omega) (by omega) hok) ⟨rfl, ⟨rfl, ⟨rfl, ⟨rfl, ⟨rfl, trivial⟩⟩⟩⟩⟩
    · have C21 := c21_29
      refine x_aload_n (n' := 25) dX9_many_24 rfl rfl rfl ?_
      refine x_bipush (n' := 27) (v := -102) dX9_many_25 (by decide) rfl ?_
      refine x_topv (y := -(nI (102 + 0))) (by decide) ?_
      refine x_callV (n' := 30) (n := 1) (K := 9) (c_X9_refused l G _ m ad hS 0 (by decide)) dX9_many_27 (by repeat' (first | with_reducible exact km | with_reducible apply mK_A | with_reducible apply mK_I | with_reducible apply mK_L | with_reducible apply mK_R | with_reducible apply mK_O | with_reducible apply mK_S)) rfl (lw_V q3324 q3326 qs48 q109 q3327) (by decide +kernel) ⟨(Nat.le_of_ble_eq_true rfl), (Nat.le_of_ble_eq_true rfl)⟩ rfl rfl (Nat.le_of_ble_eq_true rfl) (by first | exact Nat.le_of_ble_eq_true rfl | omega) (by first | exact Nat.le_of_ble_eq_true rfl | omega) rfl (fun v_30 M_31 h_33 hE_32 => ?_)
      obtain ⟨rfl, hMs⟩ := h_33
      have hMs := hMs.symm
      subst hMs
      exact x_iret dX9_many_30 hret (by repeat' (first | with_reducible exact kE.rf | with_reducible exact kE_SS | with_reducible apply kE_A | with_reducible apply kE_I | with_reducible apply kE_L | with_reducible apply kE_R | with_reducible apply kE_O | with_reducible apply kE_S)) (⟨fun q => absurd q (by first | exact fun q => bi_0.mp C9 q.1 | exact fun q => bi_0.mp C21 q.2), fun _ => ⟨rfl, rfl⟩⟩)

set_option maxHeartbeats 4000000 in
set_option maxRecDepth 100000 in
theorem c_X9_logged (l : Launch) (G : kG) (M : kM) (m : Nat) (ad : Nat → Nat) (hS : MS M m ad) (k : Int32) (nl : Nat) (hs : mA M (ad 0) 15 = nI nl) (hb : nl ≤ 400) : Kt l G yX9_logged cX9_logged 4 (some .int) 1 25 [.ref m, .int k] M (0) (0) (fun v M2 => (0 ≤ k ∧ k ≤ 6 → v = some (.int (cnt (fun s => k = 0 ∨ (mA M (ad 0)) (909 + 4 * s + 1) = k) nl)) ∧ M2 = M) ∧ (¬ (0 ≤ k ∧ k ≤ 6) → v = some (.int (-(nI 102))) ∧ M2 = rfM M ad 0)) := by
  refine Kt.of (own := "KeptLightModel") (L := [some (.ref m), some (.int k), none, none]) (by decide +kernel) rfl (Nat.le_of_ble_eq_true rfl) rfl ?_
  intro pp ee ss mm args below meth cd hmn hret
  have km := hS.1
  obtain ⟨hr_g, kk_g, hn_g⟩ := hS.2.1 0 (by decide)
  have hr_g : mR M (fc 9 0) m = some (ad 0) := hr_g
  have hn_g : mN M (ad 0) = 2509 := hn_g
  have kk_g : mK M (ad 0) = some 120 := kk_g
  have cut23 : ∀ (fuel : Nat) (i : Nat) (h1 : nl - i < fuel) (h2 : i ≤ nl) (hok : 0 ≤ k ∧ k ≤ 6), Wx pp l ee { frames := 1, cells := 0, slots := 0, locals := 25 } ss mm args below meth cd "KeptLightModel" cX9_logged 4 G (MQ below (KQ G M (fun v M2 => (0 ≤ k ∧ k ≤ 6 → v = some (.int (cnt (fun s => k = 0 ∨ (mA M (ad 0)) (909 + 4 * s + 1) = k) nl)) ∧ M2 = M) ∧ (¬ (0 ≤ k ∧ k ≤ 6) → v = some (.int (-(nI 102))) ∧ M2 = rfM M ad 0))) args ss (0) (0) (kA G)) 23 [some (.ref m), some (.int k), some (.int (cnt (fun s => k = 0 ∨ (mA M (ad 0)) (909 + 4 * s + 1) = k) i)), some (.int (nI i))] [] (M) (0) (0) := by
    intro fuel
    induction fuel with
    | zero => intro i h1 h2 hok; omega
    | succ fuel ih =>
      intro i h1 h2 hok
      refine x_iload_n (n' := 24) dX9_logged_23 rfl rfl rfl ?_
      refine x_aload_n (n' := 25) dX9_logged_24 rfl rfl rfl ?_
      refine x_getRs (n' := 28) (b := (ad 0)) dX9_logged_25 (by repeat' (first | with_reducible exact km | with_reducible apply mK_A | with_reducible apply mK_I | with_reducible apply mK_L | with_reducible apply mK_R | with_reducible apply mK_O | with_reducible apply mK_S)) ffX9_9_9 rfl (by repeat' (first | with_reducible exact hr_g | with_reducible apply mR_A | with_reducible apply mR_I | with_reducible apply mR_L | with_reducible apply mR_S)) rfl ?_
      refine x_bipush (n' := 30) (v := 15) dX9_logged_28 (by decide) rfl ?_
      refine x_ildk (n' := 31) (N := 2509) dX9_logged_30 (by repeat' (first | with_reducible exact kk_g | with_reducible apply mK_A | with_reducible apply mK_I | with_reducible apply mK_L | with_reducible apply mK_R | with_reducible apply mK_O | with_reducible apply mK_S)) (by repeat' (first | with_reducible exact hn_g | with_reducible apply mN_A | with_reducible apply mN_I | with_reducible apply mN_L | with_reducible apply mN_R | with_reducible apply mN_O | with_reducible apply mN_S)) (by repeat' (first | with_reducible exact nl_0 | with_reducible exact nl_1 | with_reducible exact nl_4 | with_reducible exact nl_15 | with_reducible exact nl_909 | with_reducible exact rfl | apply i_add | apply i_mul)) (by omega) (by decide) (by first | with_reducible exact hs | (simp (disch := omega) only [mA_sA, mA_sI, mA_SC0, mA_SC1 hS, mA_SC5 hS, mA_SC6 hS, mA_SC10 hS, mA_SC11 hS, mA_SC12 hS, up_s, up_n, hs, if_false] <;> rfl) | rfl) rfl ?_
      refine x_icmp_ge (n' := 34) (tgt := 70) dX9_logged_31 (by decide) rfl (fun c31_1 => ?_) (fun c31_1 => ?_)
      · have n_c31_1 := (cv_le (by repeat' (first | with_reducible exact nl_0 | with_reducible exact nl_1 | with_reducible exact nl_4 | with_reducible exact nl_15 | with_reducible exact nl_909 | with_reducible exact rfl | apply i_add | apply i_mul)) (by repeat' (first | with_reducible exact nl_0 | with_reducible exact nl_1 | with_reducible exact nl_4 | with_reducible exact nl_15 | with_reducible exact nl_909 | with_reducible exact rfl | apply i_add | apply i_mul)) (by omega) (by omega)).mp c31_1
        refine x_iload_n (n' := 71) dX9_logged_70 rfl rfl rfl ?_
        exact x_iret dX9_logged_71 hret (by repeat' (first | with_reducible exact kE.rf | with_reducible exact kE_SS | with_reducible apply kE_A | with_reducible apply kE_I | with_reducible apply kE_L | with_reducible apply kE_R | with_reducible apply kE_O | with_reducible apply kE_S)) (⟨fun _ => by rw [show i = nl by omega]; exact ⟨rfl, rfl⟩, fun q => absurd hok q⟩)
      · have n_c31_1 := (not_congr (cv_le (by repeat' (first | with_reducible exact nl_0 | with_reducible exact nl_1 | with_reducible exact nl_4 | with_reducible exact nl_15 | with_reducible exact nl_909 | with_reducible exact rfl | apply i_add | apply i_mul)) (by repeat' (first | with_reducible exact nl_0 | with_reducible exact nl_1 | with_reducible exact nl_4 | with_reducible exact nl_15 | with_reducible exact nl_909 | with_reducible exact rfl | apply i_add | apply i_mul)) (by omega) (by omega))).mp c31_1
        refine x_iload_n (n' := 35) dX9_logged_34 rfl rfl rfl ?_
        refine x_iload_n (n' := 36) dX9_logged_35 rfl rfl rfl ?_
        refine x_fork (J := 62) (x_if_eq (n' := 39) (tgt := 57) dX9_logged_36 (by decide) rfl) (v1 := ?v1_f36_2) (v2 := ?v2_f36_2) (fun c_f36_2 j_f36_2 => ?b1_f36_2) (fun c_f36_2 j_f36_2 => ?b2_f36_2) ?k_f36_2
        case b1_f36_2 =>
          refine x_iconst (n' := 58) (v := 1) dX9_logged_57 (by decide) rfl ?_
          refine x_goto (tgt := 62) dX9_logged_58 (by decide) ?_
          exact j_f36_2
        case b2_f36_2 =>
          refine x_aload_n (n' := 40) dX9_logged_39 rfl rfl rfl ?_
          refine x_getRs (n' := 43) (b := (ad 0)) dX9_logged_40 (by repeat' (first | with_reducible exact km | with_reducible apply mK_A | with_reducible apply mK_I | with_reducible apply mK_L | with_reducible apply mK_R | with_reducible apply mK_O | with_reducible apply mK_S)) ffX9_9_9 rfl (by repeat' (first | with_reducible exact hr_g | with_reducible apply mR_A | with_reducible apply mR_I | with_reducible apply mR_L | with_reducible apply mR_S)) rfl ?_
          refine x_sipush (n' := 46) (v := 909) dX9_logged_43 (by decide) rfl ?_
          refine x_iconst (n' := 47) (v := 4) dX9_logged_46 (by decide) rfl ?_
          refine x_iload_n (n' := 48) dX9_logged_47 rfl rfl rfl ?_
          refine x_imul (n' := 49) dX9_logged_48 rfl ?_
          refine x_iadd (n' := 50) dX9_logged_49 rfl ?_
          refine x_iconst (n' := 51) (v := 1) dX9_logged_50 (by decide) rfl ?_
          refine x_iadd (n' := 52) dX9_logged_51 rfl ?_
          refine x_ildk (n' := 53) (N := 2509) dX9_logged_52 (by repeat' (first | with_reducible exact kk_g | with_reducible apply mK_A | with_reducible apply mK_I | with_reducible apply mK_L | with_reducible apply mK_R | with_reducible apply mK_O | with_reducible apply mK_S)) (by repeat' (first | with_reducible exact hn_g | with_reducible apply mN_A | with_reducible apply mN_I | with_reducible apply mN_L | with_reducible apply mN_R | with_reducible apply mN_O | with_reducible apply mN_S)) (by repeat' (first | with_reducible exact nl_0 | with_reducible exact nl_1 | with_reducible exact nl_4 | with_reducible exact nl_15 | with_reducible exact nl_909 | with_reducible exact rfl | apply i_add | apply i_mul)) (by omega) (by decide) (by first | with_reducible exact hs | (simp (disch := omega) only [mA_sA, mA_sI, mA_SC0, mA_SC1 hS, mA_SC5 hS, mA_SC6 hS, mA_SC10 hS, mA_SC11 hS, mA_SC12 hS, up_s, up_n, hs, if_false] <;> rfl) | rfl) rfl ?_
          refine x_iload_n (n' := 54) dX9_logged_53 rfl rfl rfl ?_
          refine x_forkN (J := 62) (x_icmp_ne (n' := 57) (tgt := 61) dX9_logged_54 (by decide) rfl) (v1 := ?v1_f54_3) (v2 := ?v2_f54_3) (fun c_f54_3 j_f54_3 => ?b1_f54_3) (fun c_f54_3 j_f54_3 => ?b2_f54_3) ?k_f54_3
          case b1_f54_3 =>
            refine x_iconst (n' := 62) (v := 0) dX9_logged_61 (by decide) rfl ?_
            exact j_f54_3
          case b2_f54_3 =>
            refine x_iconst (n' := 58) (v := 1) dX9_logged_57 (by decide) rfl ?_
            refine x_goto (tgt := 62) dX9_logged_58 (by decide) ?_
            exact j_f54_3
          exact j_f36_2
        refine x_topv (y := bi (k = 0 ∨ (mA M (ad 0)) (909 + 4 * i + 1) = k)) (by exact logged_eq) ?_
        refine x_iadd (n' := 63) dX9_logged_62 rfl ?_
        refine x_istore_n (n' := 64) dX9_logged_63 rfl (Nat.le_of_ble_eq_true rfl) rfl (by dsimp only [List.set] <;> rfl) rfl ?_
        refine x_iinc (n' := 67) dX9_logged_64 rfl (by first | exact nI_inc _ | exact nI_decp (by omega) | exact i_inc _ | rfl) (Nat.le_of_ble_eq_true rfl) rfl (by dsimp only [List.set] <;> rfl) rfl ?_
        refine x_goto (tgt := 23) dX9_logged_67 (by decide) ?_
        exact x_drop (ih (i + 1) (by omega) (by omega) hok) ⟨rfl, ⟨rfl, ⟨rfl, ⟨rfl, trivial⟩⟩⟩⟩
  refine x_iload_n (n' := 1) dX9_logged_0 rfl rfl rfl ?_
  refine x_i2l (n' := 2) dX9_logged_1 rfl rfl ?_
  refine x_lconst (n' := 3) (v := 0) dX9_logged_2 (by decide) rfl ?_
  refine x_ldc2 (n' := 6) q3505 dX9_logged_3 rfl ?_
  refine x_callS (n' := 9) (n := 3) (c_X9_in l G _ _ _ _) dX9_logged_6 (lw_S q3321 q3322 q109 q3323) (by decide +kernel) ⟨(Nat.le_of_ble_eq_true rfl), (Nat.le_of_ble_eq_true rfl)⟩ rfl rfl (Nat.le_of_ble_eq_true rfl) (by first | exact Nat.le_of_ble_eq_true rfl | omega) (by first | exact Nat.le_of_ble_eq_true rfl | omega) rfl (fun v_4 M_5 h_7 hE_6 => ?_)
  obtain ⟨rfl, hMs⟩ := h_7
  have hMs := hMs.symm
  subst hMs
  rw [k_in3 (x := 0) (y := 6) (by decide) (by decide)]
  refine x_if_ne (n' := 12) (tgt := 19) dX9_logged_9 (by decide) rfl (fun c9_8 => ?_) (fun c9_8 => ?_)
  · have C9 := c9_8
    have hok : 0 ≤ k ∧ k ≤ 6 := bi_n0 C9
    refine x_iconst (n' := 20) (v := 0) dX9_logged_19 (by decide) rfl ?_
    refine x_istore_n (n' := 21) dX9_logged_20 rfl (Nat.le_of_ble_eq_true rfl) rfl (by dsimp only [List.set] <;> rfl) rfl ?_
    refine x_iconst (n' := 22) (v := 0) dX9_logged_21 (by decide) rfl ?_
    refine x_istore_n (n' := 23) dX9_logged_22 rfl (Nat.le_of_ble_eq_true rfl) rfl (by dsimp only [List.set] <;> rfl) rfl ?_
    exact x_drop (cut23 (nl + 1) 0 (by omega) (by omega) hok) ⟨rfl, ⟨rfl, ⟨rfl, ⟨rfl, trivial⟩⟩⟩⟩
  · have C9 := c9_8
    refine x_aload_n (n' := 13) dX9_logged_12 rfl rfl rfl ?_
    refine x_bipush (n' := 15) (v := -102) dX9_logged_13 (by decide) rfl ?_
    refine x_topv (y := -(nI (102 + 0))) (by decide) ?_
    refine x_callV (n' := 18) (n := 1) (K := 9) (c_X9_refused l G _ m ad hS 0 (by decide)) dX9_logged_15 (by repeat' (first | with_reducible exact km | with_reducible apply mK_A | with_reducible apply mK_I | with_reducible apply mK_L | with_reducible apply mK_R | with_reducible apply mK_O | with_reducible apply mK_S)) rfl (lw_V q3324 q3326 qs48 q109 q3327) (by decide +kernel) ⟨(Nat.le_of_ble_eq_true rfl), (Nat.le_of_ble_eq_true rfl)⟩ rfl rfl (Nat.le_of_ble_eq_true rfl) (by first | exact Nat.le_of_ble_eq_true rfl | omega) (by first | exact Nat.le_of_ble_eq_true rfl | omega) rfl (fun v_9 M_10 h_12 hE_11 => ?_)
    obtain ⟨rfl, hMs⟩ := h_12
    have hMs := hMs.symm
    subst hMs
    exact x_iret dX9_logged_18 hret (by repeat' (first | with_reducible exact kE.rf | with_reducible exact kE_SS | with_reducible apply kE_A | with_reducible apply kE_I | with_reducible apply kE_L | with_reducible apply kE_R | with_reducible apply kE_O | with_reducible apply kE_S)) (⟨fun q => absurd q (by exact fun q => bi_0.mp C9 q), fun _ => ⟨rfl, rfl⟩⟩)

set_option maxHeartbeats 4000000 in
set_option maxRecDepth 100000 in
theorem c_X9_weather (l : Launch) (G : kG) (M : kM) (m : Nat) (ad : Nat → Nat) (hS : MS M m ad) (a : Int32) (nr : Nat) (hr : RunsOK (mA M (ad 0)) nr) : Kt l G yX9_weather cX9_weather 2 (some .int) 1 24 [.ref m, .int a] M (0) (0) (fun v M2 => (0 ≤ a → v = some (.int (weaG (mA M (ad 0)) nr (nn a))) ∧ M2 = M) ∧ (¬ (0 ≤ a) → v = some (.int (-(nI 102))) ∧ M2 = rfM M ad 0)) := by
  refine Kt.of (own := "KeptLightModel") (L := [some (.ref m), some (.int a)]) (by decide +kernel) rfl (Nat.le_of_ble_eq_true rfl) rfl ?_
  intro pp ee ss mm args below meth cd hmn hret
  have km := hS.1
  refine x_iload_n (n' := 1) dX9_weather_0 rfl rfl rfl ?_
  refine x_if_lt (n' := 4) (tgt := 12) dX9_weather_1 (by decide) rfl (fun c1_1 => ?_) (fun c1_1 => ?_)
  · have C1 := c1_1
    refine x_aload_n (n' := 13) dX9_weather_12 rfl rfl rfl ?_
    refine x_bipush (n' := 15) (v := -102) dX9_weather_13 (by decide) rfl ?_
    refine x_topv (y := -(nI (102 + 0))) (by decide) ?_
    refine x_callV (n' := 18) (n := 1) (K := 9) (c_X9_refused l G _ m ad hS 0 (by decide)) dX9_weather_15 (by repeat' (first | with_reducible exact km | with_reducible apply mK_A | with_reducible apply mK_I | with_reducible apply mK_L | with_reducible apply mK_R | with_reducible apply mK_O | with_reducible apply mK_S)) rfl (lw_V q3324 q3326 qs48 q109 q3327) (by decide +kernel) ⟨(Nat.le_of_ble_eq_true rfl), (Nat.le_of_ble_eq_true rfl)⟩ rfl rfl (Nat.le_of_ble_eq_true rfl) (by first | exact Nat.le_of_ble_eq_true rfl | omega) (by first | exact Nat.le_of_ble_eq_true rfl | omega) rfl (fun v_2 M_3 h_5 hE_4 => ?_)
    obtain ⟨rfl, hMs⟩ := h_5
    have hMs := hMs.symm
    subst hMs
    exact x_iret dX9_weather_18 hret (by repeat' (first | with_reducible exact kE.rf | with_reducible exact kE_SS | with_reducible apply kE_A | with_reducible apply kE_I | with_reducible apply kE_L | with_reducible apply kE_R | with_reducible apply kE_O | with_reducible apply kE_S)) (by first | exact ⟨fun _ => ⟨rfl, rfl⟩, fun q => absurd (Int32.not_lt.mp C1) q⟩ | exact ⟨fun q => absurd C1 (Int32.not_lt.mpr q), fun _ => ⟨rfl, rfl⟩⟩)
  · have C1 := c1_1
    refine x_aload_n (n' := 5) dX9_weather_4 rfl rfl rfl ?_
    refine x_iload_n (n' := 6) dX9_weather_5 rfl rfl rfl ?_
    refine x_topv (nn_of (Int32.not_lt.mp C1)) ?_
    refine x_callV (n' := 9) (n := 1) (K := 9) (c_X9_weatherOf l G _ m ad hS (nn a) nr hr (nn_lt a)) dX9_weather_6 (by repeat' (first | with_reducible exact km | with_reducible apply mK_A | with_reducible apply mK_I | with_reducible apply mK_L | with_reducible apply mK_R | with_reducible apply mK_O | with_reducible apply mK_S)) rfl (lw_V q3413 q3415 qs57 q109 q3416) (by decide +kernel) ⟨(Nat.le_of_ble_eq_true rfl), (Nat.le_of_ble_eq_true rfl)⟩ rfl rfl (Nat.le_of_ble_eq_true rfl) (by first | exact Nat.le_of_ble_eq_true rfl | omega) (by first | exact Nat.le_of_ble_eq_true rfl | omega) rfl (fun v_6 M_7 h_9 hE_8 => ?_)
    obtain ⟨rfl, hMs⟩ := h_9
    have hMs := hMs.symm
    subst hMs
    refine x_goto (tgt := 18) dX9_weather_9 (by decide) ?_
    exact x_iret dX9_weather_18 hret (by repeat' (first | with_reducible exact kE.rf | with_reducible exact kE_SS | with_reducible apply kE_A | with_reducible apply kE_I | with_reducible apply kE_L | with_reducible apply kE_R | with_reducible apply kE_O | with_reducible apply kE_S)) (by first | exact ⟨fun _ => ⟨rfl, rfl⟩, fun q => absurd (Int32.not_lt.mp C1) q⟩ | exact ⟨fun q => absurd C1 (Int32.not_lt.mpr q), fun _ => ⟨rfl, rfl⟩⟩)

set_option maxHeartbeats 4000000 in
set_option maxRecDepth 100000 in
theorem c_X9_dark (l : Launch) (G : kG) (M : kM) (m : Nat) (ad : Nat → Nat) (hS : MS M m ad) (a : Int32)  : Kt l G yX9_dark cX9_dark 2 (some .int) 1 21 [.ref m, .int a] M (0) (0) (fun v M2 => (0 ≤ a → v = some (.int (bi (dkG (mA M (ad 0)) (nn a)))) ∧ M2 = M) ∧ (¬ (0 ≤ a) → v = some (.int (-(nI 102))) ∧ M2 = rfM M ad 0)) := by
  refine Kt.of (own := "KeptLightModel") (L := [some (.ref m), some (.int a)]) (by decide +kernel) rfl (Nat.le_of_ble_eq_true rfl) rfl ?_
  intro pp ee ss mm args below meth cd hmn hret
  have km := hS.1
  refine x_iload_n (n' := 1) dX9_dark_0 rfl rfl rfl ?_
  refine x_if_ge (n' := 4) (tgt := 11) dX9_dark_1 (by decide) rfl (fun c1_1 => ?_) (fun c1_1 => ?_)
  · have C1 := c1_1
    refine x_aload_n (n' := 12) dX9_dark_11 rfl rfl rfl ?_
    refine x_iload_n (n' := 13) dX9_dark_12 rfl rfl rfl ?_
    refine x_topv (nn_of C1) ?_
    refine x_callV (n' := 16) (n := 1) (K := 9) (c_X9_isDark l G _ m ad hS (nn a) (nn_lt a)) dX9_dark_13 (by repeat' (first | with_reducible exact km | with_reducible apply mK_A | with_reducible apply mK_I | with_reducible apply mK_L | with_reducible apply mK_R | with_reducible apply mK_O | with_reducible apply mK_S)) rfl (lw_V q3417 q3419 qs58 q109 q3420) (by decide +kernel) ⟨(Nat.le_of_ble_eq_true rfl), (Nat.le_of_ble_eq_true rfl)⟩ rfl rfl (Nat.le_of_ble_eq_true rfl) (by first | exact Nat.le_of_ble_eq_true rfl | omega) (by first | exact Nat.le_of_ble_eq_true rfl | omega) rfl (fun v_2 M_3 h_5 hE_4 => ?_)
    obtain ⟨rfl, hMs⟩ := h_5
    have hMs := hMs.symm
    subst hMs
    refine x_fork (J := 24) (x_if_eq (n' := 19) (tgt := 23) dX9_dark_16 (by decide) rfl) (v1 := ?v1_f16_6) (v2 := ?v2_f16_6) (fun c_f16_6 j_f16_6 => ?b1_f16_6) (fun c_f16_6 j_f16_6 => ?b2_f16_6) ?k_f16_6
    case b1_f16_6 =>
      refine x_iconst (n' := 24) (v := 0) dX9_dark_23 (by decide) rfl ?_
      exact j_f16_6
    case b2_f16_6 =>
      refine x_iconst (n' := 20) (v := 1) dX9_dark_19 (by decide) rfl ?_
      refine x_goto (tgt := 24) dX9_dark_20 (by decide) ?_
      exact j_f16_6
    refine x_topv bi_if ?_
    exact x_iret dX9_dark_24 hret (by repeat' (first | with_reducible exact kE.rf | with_reducible exact kE_SS | with_reducible apply kE_A | with_reducible apply kE_I | with_reducible apply kE_L | with_reducible apply kE_R | with_reducible apply kE_O | with_reducible apply kE_S)) (⟨fun _ => ⟨rfl, rfl⟩, fun q => absurd C1 q⟩)
  · have C1 := c1_1
    refine x_aload_n (n' := 5) dX9_dark_4 rfl rfl rfl ?_
    refine x_bipush (n' := 7) (v := -102) dX9_dark_5 (by decide) rfl ?_
    refine x_topv (y := -(nI (102 + 0))) (by decide) ?_
    refine x_callV (n' := 10) (n := 1) (K := 9) (c_X9_refused l G _ m ad hS 0 (by decide)) dX9_dark_7 (by repeat' (first | with_reducible exact km | with_reducible apply mK_A | with_reducible apply mK_I | with_reducible apply mK_L | with_reducible apply mK_R | with_reducible apply mK_O | with_reducible apply mK_S)) rfl (lw_V q3324 q3326 qs48 q109 q3327) (by decide +kernel) ⟨(Nat.le_of_ble_eq_true rfl), (Nat.le_of_ble_eq_true rfl)⟩ rfl rfl (Nat.le_of_ble_eq_true rfl) (by first | exact Nat.le_of_ble_eq_true rfl | omega) (by first | exact Nat.le_of_ble_eq_true rfl | omega) rfl (fun v_7 M_8 h_10 hE_9 => ?_)
    obtain ⟨rfl, hMs⟩ := h_10
    have hMs := hMs.symm
    subst hMs
    exact x_iret dX9_dark_10 hret (by repeat' (first | with_reducible exact kE.rf | with_reducible exact kE_SS | with_reducible apply kE_A | with_reducible apply kE_I | with_reducible apply kE_L | with_reducible apply kE_R | with_reducible apply kE_O | with_reducible apply kE_S)) (⟨fun q => absurd q (by exact C1), fun _ => ⟨rfl, rfl⟩⟩)

set_option maxHeartbeats 4000000 in
set_option maxRecDepth 100000 in
theorem c_X9_shipAt (l : Launch) (G : kG) (M : kM) (m : Nat) (ad : Nat → Nat) (hS : MS M m ad) (h a : Int32) (ns : Nat) (hs : mA M (ad 0) 14 = nI ns) (hb : ns ≤ 200) : Kt l G yX9_shipAt cX9_shipAt 3 (some .int) 2 47 [.ref m, .int h, .int a] M (0) (0) (fun v M2 => (0 ≤ h → v = some (.int (if 0 ≤ a then rkA (mA M (ad 0)) h ns (nn a) else -1)) ∧ M2 = M) ∧ (¬ (0 ≤ h) → v = some (.int (-(nI 102))) ∧ M2 = rfM M ad 0)) := by
  refine Kt.of (own := "KeptLightModel") (L := [some (.ref m), some (.int h), some (.int a)]) (by decide +kernel) rfl (Nat.le_of_ble_eq_true rfl) rfl ?_
  intro pp ee ss mm args below meth cd hmn hret
  have km := hS.1
  refine x_iload_n (n' := 1) dX9_shipAt_0 rfl rfl rfl ?_
  refine x_if_ge (n' := 4) (tgt := 11) dX9_shipAt_1 (by decide) rfl (fun c1_1 => ?_) (fun c1_1 => ?_)
  · have C1 := c1_1
    refine x_iload_n (n' := 12) dX9_shipAt_11 rfl rfl rfl ?_
    refine x_if_ge (n' := 15) (tgt := 19) dX9_shipAt_12 (by decide) rfl (fun c12_2 => ?_) (fun c12_2 => ?_)
    · have C12 := c12_2
      refine x_aload_n (n' := 20) dX9_shipAt_19 rfl rfl rfl ?_
      refine x_iload_n (n' := 21) dX9_shipAt_20 rfl rfl rfl ?_
      refine x_iload_n (n' := 22) dX9_shipAt_21 rfl rfl rfl ?_
      refine x_topv (nn_of C12) ?_
      refine x_callV (n' := 25) (n := 2) (K := 9) (c_X9_rankedAt l G _ m ad hS h (nn a) ns hs hb (nn_lt a)) dX9_shipAt_22 (by repeat' (first | with_reducible exact km | with_reducible apply mK_A | with_reducible apply mK_I | with_reducible apply mK_L | with_reducible apply mK_R | with_reducible apply mK_O | with_reducible apply mK_S)) rfl (lw_V q3441 q3443 qs64 q109 q3444) (by decide +kernel) ⟨(Nat.le_of_ble_eq_true rfl), (Nat.le_of_ble_eq_true rfl)⟩ rfl rfl (Nat.le_of_ble_eq_true rfl) (by first | exact Nat.le_of_ble_eq_true rfl | omega) (by first | exact Nat.le_of_ble_eq_true rfl | omega) rfl (fun v_3 M_4 h_6 hE_5 => ?_)
      obtain ⟨rfl, hMs⟩ := h_6
      have hMs := hMs.symm
      subst hMs
      exact x_iret dX9_shipAt_25 hret (by repeat' (first | with_reducible exact kE.rf | with_reducible exact kE_SS | with_reducible apply kE_A | with_reducible apply kE_I | with_reducible apply kE_L | with_reducible apply kE_R | with_reducible apply kE_O | with_reducible apply kE_S)) (by first | exact ⟨fun _ => ⟨congrArg (fun z => some (Value.int z)) (if_pos C12).symm, rfl⟩, fun q => absurd C1 q⟩ | exact ⟨fun _ => ⟨congrArg (fun z => some (Value.int z)) (if_neg C12).symm, rfl⟩, fun q => absurd C1 q⟩)
    · have C12 := c12_2
      refine x_iconst (n' := 16) (v := -1) dX9_shipAt_15 (by decide) rfl ?_
      refine x_goto (tgt := 25) dX9_shipAt_16 (by decide) ?_
      exact x_iret dX9_shipAt_25 hret (by repeat' (first | with_reducible exact kE.rf | with_reducible exact kE_SS | with_reducible apply kE_A | with_reducible apply kE_I | with_reducible apply kE_L | with_reducible apply kE_R | with_reducible apply kE_O | with_reducible apply kE_S)) (by first | exact ⟨fun _ => ⟨congrArg (fun z => some (Value.int z)) (if_pos C12).symm, rfl⟩, fun q => absurd C1 q⟩ | exact ⟨fun _ => ⟨congrArg (fun z => some (Value.int z)) (if_neg C12).symm, rfl⟩, fun q => absurd C1 q⟩)
  · have C1 := c1_1
    refine x_aload_n (n' := 5) dX9_shipAt_4 rfl rfl rfl ?_
    refine x_bipush (n' := 7) (v := -102) dX9_shipAt_5 (by decide) rfl ?_
    refine x_topv (y := -(nI (102 + 0))) (by decide) ?_
    refine x_callV (n' := 10) (n := 1) (K := 9) (c_X9_refused l G _ m ad hS 0 (by decide)) dX9_shipAt_7 (by repeat' (first | with_reducible exact km | with_reducible apply mK_A | with_reducible apply mK_I | with_reducible apply mK_L | with_reducible apply mK_R | with_reducible apply mK_O | with_reducible apply mK_S)) rfl (lw_V q3324 q3326 qs48 q109 q3327) (by decide +kernel) ⟨(Nat.le_of_ble_eq_true rfl), (Nat.le_of_ble_eq_true rfl)⟩ rfl rfl (Nat.le_of_ble_eq_true rfl) (by first | exact Nat.le_of_ble_eq_true rfl | omega) (by first | exact Nat.le_of_ble_eq_true rfl | omega) rfl (fun v_7 M_8 h_10 hE_9 => ?_)
    obtain ⟨rfl, hMs⟩ := h_10
    have hMs := hMs.symm
    subst hMs
    exact x_iret dX9_shipAt_10 hret (by repeat' (first | with_reducible exact kE.rf | with_reducible exact kE_SS | with_reducible apply kE_A | with_reducible apply kE_I | with_reducible apply kE_L | with_reducible apply kE_R | with_reducible apply kE_O | with_reducible apply kE_S)) (⟨fun q => absurd q (by exact C1), fun _ => ⟨rfl, rfl⟩⟩)

set_option maxHeartbeats 4000000 in
set_option maxRecDepth 100000 in
theorem c_X9_plan (l : Launch) (G : kG) (M : kM) (m : Nat) (ad : Nat → Nat) (hS : MS M m ad) (t k : Int32) (nk : Nat) (hnk : mA M (ad 0) 13 = nI nk) (h6 : nk ≤ 6) : Kt l G yX9_plan cX9_plan 4 (some .int) 2 46 [.ref m, .int t, .int k] M (0) (0) (fun v M2 => ((0 ≤ t ∧ t ≤ 23) ∧ (k = -1 ∨ (0 ≤ k ∧ k < nI nk)) → v = some (.int ((mA M (ad 0)) (85 + nn t))) ∧ M2 = sA M (ad 0) (va_up (mA M (ad 0)) (85 + nn t) k)) ∧ (¬ ((0 ≤ t ∧ t ≤ 23) ∧ (k = -1 ∨ (0 ≤ k ∧ k < nI nk))) → v = some (.int (-(nI 102))) ∧ M2 = rfM M ad 0)) := by
  refine Kt.of (own := "KeptLightModel") (L := [some (.ref m), some (.int t), some (.int k), none]) (by decide +kernel) rfl (Nat.le_of_ble_eq_true rfl) rfl ?_
  intro pp ee ss mm args below meth cd hmn hret
  have km := hS.1
  obtain ⟨hr_g, kk_g, hn_g⟩ := hS.2.1 0 (by decide)
  have hr_g : mR M (fc 9 0) m = some (ad 0) := hr_g
  have hn_g : mN M (ad 0) = 2509 := hn_g
  have kk_g : mK M (ad 0) = some 120 := kk_g
  refine x_iload_n (n' := 1) dX9_plan_0 rfl rfl rfl ?_
  refine x_i2l (n' := 2) dX9_plan_1 rfl rfl ?_
  refine x_lconst (n' := 3) (v := 0) dX9_plan_2 (by decide) rfl ?_
  refine x_ldc2 (n' := 6) q3355 dX9_plan_3 rfl ?_
  refine x_callS (n' := 9) (n := 3) (c_X9_in l G _ _ _ _) dX9_plan_6 (lw_S q3321 q3322 q109 q3323) (by decide +kernel) ⟨(Nat.le_of_ble_eq_true rfl), (Nat.le_of_ble_eq_true rfl)⟩ rfl rfl (Nat.le_of_ble_eq_true rfl) (by first | exact Nat.le_of_ble_eq_true rfl | omega) (by first | exact Nat.le_of_ble_eq_true rfl | omega) rfl (fun v_1 M_2 h_4 hE_3 => ?_)
  obtain ⟨rfl, hMs⟩ := h_4
  have hMs := hMs.symm
  subst hMs
  rw [k_in3 (x := 0) (y := 23) (by decide) (by decide)]
  refine x_if_eq (n' := 12) (tgt := 25) dX9_plan_9 (by decide) rfl (fun c9_5 => ?_) (fun c9_5 => ?_)
  · have C9 := c9_5
    refine x_aload_n (n' := 26) dX9_plan_25 rfl rfl rfl ?_
    refine x_bipush (n' := 28) (v := -102) dX9_plan_26 (by decide) rfl ?_
    refine x_topv (y := -(nI (102 + 0))) (by decide) ?_
    refine x_callV (n' := 31) (n := 1) (K := 9) (c_X9_refused l G _ m ad hS 0 (by decide)) dX9_plan_28 (by repeat' (first | with_reducible exact km | with_reducible apply mK_A | with_reducible apply mK_I | with_reducible apply mK_L | with_reducible apply mK_R | with_reducible apply mK_O | with_reducible apply mK_S)) rfl (lw_V q3324 q3326 qs48 q109 q3327) (by decide +kernel) ⟨(Nat.le_of_ble_eq_true rfl), (Nat.le_of_ble_eq_true rfl)⟩ rfl rfl (Nat.le_of_ble_eq_true rfl) (by first | exact Nat.le_of_ble_eq_true rfl | omega) (by first | exact Nat.le_of_ble_eq_true rfl | omega) rfl (fun v_6 M_7 h_9 hE_8 => ?_)
    obtain ⟨rfl, hMs⟩ := h_9
    have hMs := hMs.symm
    subst hMs
    exact x_iret dX9_plan_31 hret (by repeat' (first | with_reducible exact kE.rf | with_reducible exact kE_SS | with_reducible apply kE_A | with_reducible apply kE_I | with_reducible apply kE_L | with_reducible apply kE_R | with_reducible apply kE_O | with_reducible apply kE_S)) (⟨fun q => absurd q (by first | exact fun q => bi_0.mp C9 q.1 | exact fun q => q.2.elim C14 (fun w => bi_0.mp C22 w)), fun _ => ⟨rfl, rfl⟩⟩)
  · have C9 := c9_5
    refine x_iload_n (n' := 13) dX9_plan_12 rfl rfl rfl ?_
    refine x_iconst (n' := 14) (v := -1) dX9_plan_13 (by decide) rfl ?_
    refine x_icmp_eq (n' := 17) (tgt := 32) dX9_plan_14 (by decide) rfl (fun c14_10 => ?_) (fun c14_10 => ?_)
    · have C14 := c14_10
      have hok : (0 ≤ t ∧ t ≤ 23) ∧ (k = -1 ∨ (0 ≤ k ∧ k < nI nk)) := by
        first | exact ⟨bi_n0 C9, Or.inl C14⟩ | exact ⟨bi_n0 C9, Or.inr (bi_n0 C22)⟩
      have hn8 := nn_le (n := 23) hok.1.1 hok.1.2 (by decide)
      refine x_aload_n (n' := 33) dX9_plan_32 rfl rfl rfl ?_
      refine x_getRs (n' := 36) (b := (ad 0)) dX9_plan_33 (by repeat' (first | with_reducible exact km | with_reducible apply mK_A | with_reducible apply mK_I | with_reducible apply mK_L | with_reducible apply mK_R | with_reducible apply mK_O | with_reducible apply mK_S)) ffX9_9_9 rfl (by repeat' (first | with_reducible exact hr_g | with_reducible apply mR_A | with_reducible apply mR_I | with_reducible apply mR_L | with_reducible apply mR_S)) rfl ?_
      refine x_bipush (n' := 38) (v := 85) dX9_plan_36 (by decide) rfl ?_
      refine x_iload_n (n' := 39) dX9_plan_38 rfl rfl rfl ?_
      refine x_topv (nn_of hok.1.1) ?_
      refine x_iadd (n' := 40) dX9_plan_39 rfl ?_
      refine x_ildk (n' := 41) (N := 2509) dX9_plan_40 (by repeat' (first | with_reducible exact kk_g | with_reducible apply mK_A | with_reducible apply mK_I | with_reducible apply mK_L | with_reducible apply mK_R | with_reducible apply mK_O | with_reducible apply mK_S)) (by repeat' (first | with_reducible exact hn_g | with_reducible apply mN_A | with_reducible apply mN_I | with_reducible apply mN_L | with_reducible apply mN_R | with_reducible apply mN_O | with_reducible apply mN_S)) (by repeat' (first | with_reducible exact nl_0 | with_reducible exact nl_85 | with_reducible exact rfl | apply i_add | apply i_mul)) (by omega) (by decide) (by first | (simp (disch := omega) only [mA_sA, mA_sI, mA_SC0, mA_SC1 hS, mA_SC5 hS, mA_SC6 hS, mA_SC10 hS, mA_SC11 hS, mA_SC12 hS, up_s, up_n, if_false] <;> rfl) | rfl) rfl ?_
      refine x_istore_n (n' := 42) dX9_plan_41 rfl (Nat.le_of_ble_eq_true rfl) rfl (by dsimp only [List.set] <;> rfl) rfl ?_
      refine x_aload_n (n' := 43) dX9_plan_42 rfl rfl rfl ?_
      refine x_getRs (n' := 46) (b := (ad 0)) dX9_plan_43 (by repeat' (first | with_reducible exact km | with_reducible apply mK_A | with_reducible apply mK_I | with_reducible apply mK_L | with_reducible apply mK_R | with_reducible apply mK_O | with_reducible apply mK_S)) ffX9_9_9 rfl (by repeat' (first | with_reducible exact hr_g | with_reducible apply mR_A | with_reducible apply mR_I | with_reducible apply mR_L | with_reducible apply mR_S)) rfl ?_
      refine x_bipush (n' := 48) (v := 85) dX9_plan_46 (by decide) rfl ?_
      refine x_iload_n (n' := 49) dX9_plan_48 rfl rfl rfl ?_
      refine x_topv (nn_of hok.1.1) ?_
      refine x_iadd (n' := 50) dX9_plan_49 rfl ?_
      refine x_iload_n (n' := 51) dX9_plan_50 rfl rfl rfl ?_
      refine x_iastk (n' := 52) (N := 2509) dX9_plan_51 (by repeat' (first | with_reducible exact kk_g | with_reducible apply mK_A | with_reducible apply mK_I | with_reducible apply mK_L | with_reducible apply mK_R | with_reducible apply mK_O | with_reducible apply mK_S)) (by repeat' (first | with_reducible exact hn_g | with_reducible apply mN_A | with_reducible apply mN_I | with_reducible apply mN_L | with_reducible apply mN_R | with_reducible apply mN_O | with_reducible apply mN_S)) (by repeat' (first | with_reducible exact nl_0 | with_reducible exact nl_85 | with_reducible exact rfl | apply i_add | apply i_mul)) (by omega) (by decide) (by first | with_reducible exact mA_sA | with_reducible exact mA_SC0 | with_reducible exact mA_SC1 hS | with_reducible exact mA_SC5 hS | with_reducible exact mA_SC6 hS | with_reducible exact mA_SC10 hS | with_reducible exact mA_SC11 hS | with_reducible exact mA_SC12 hS | with_reducible exact mA_sI_sA | with_reducible exact mA_sI3_sA | rfl) (by first | with_reducible exact SC_A0 | with_reducible exact SC_A1 hS | with_reducible exact SC_A5 hS | with_reducible exact SC_A6 hS | with_reducible exact SC_A10 hS | with_reducible exact SC_A11 hS | with_reducible exact SC_A12 hS | with_reducible exact sA_sA | with_reducible exact sA_sI_sA | with_reducible exact sA_sI3_sA | rfl) rfl ?_
      refine x_iload_n (n' := 53) dX9_plan_52 rfl rfl rfl ?_
      exact x_iret dX9_plan_53 hret (by repeat' (first | with_reducible exact kE.rf | with_reducible exact kE_SS | with_reducible apply kE_A | with_reducible apply kE_I | with_reducible apply kE_L | with_reducible apply kE_R | with_reducible apply kE_O | with_reducible apply kE_S)) (⟨fun _ => ⟨rfl, rfl⟩, fun q => absurd hok q⟩)
    · have C14 := c14_10
      refine x_aload_n (n' := 18) dX9_plan_17 rfl rfl rfl ?_
      refine x_iload_n (n' := 19) dX9_plan_18 rfl rfl rfl ?_
      refine x_callV (n' := 22) (n := 1) (K := 9) (c_X9_isKeeper l G _ m ad hS k nk hnk (by omega)) dX9_plan_19 (by repeat' (first | with_reducible exact km | with_reducible apply mK_A | with_reducible apply mK_I | with_reducible apply mK_L | with_reducible apply mK_R | with_reducible apply mK_O | with_reducible apply mK_S)) rfl (lw_V q3356 q3358 qs51 q109 q3359) (by decide +kernel) ⟨(Nat.le_of_ble_eq_true rfl), (Nat.le_of_ble_eq_true rfl)⟩ rfl rfl (Nat.le_of_ble_eq_true rfl) (by first | exact Nat.le_of_ble_eq_true rfl | omega) (by first | exact Nat.le_of_ble_eq_true rfl | omega) rfl (fun v_11 M_12 h_14 hE_13 => ?_)
      obtain ⟨rfl, hMs⟩ := h_14
      have hMs := hMs.symm
      subst hMs
      refine x_if_ne (n' := 25) (tgt := 32) dX9_plan_22 (by decide) rfl (fun c22_15 => ?_) (fun c22_15 => ?_)
      · have C22 := c22_15
        have hok : (0 ≤ t ∧ t ≤ 23) ∧ (k = -1 ∨ (0 ≤ k ∧ k < nI nk)) := by
          first | exact ⟨bi_n0 C9, Or.inl C14⟩ | exact ⟨bi_n0 C9, Or.inr (bi_n0 C22)⟩
        have hn8 := nn_le (n := 23) hok.1.1 hok.1.2 (by decide)
        refine x_aload_n (n' := 33) dX9_plan_32 rfl rfl rfl ?_
        refine x_getRs (n' := 36) (b := (ad 0)) dX9_plan_33 (by repeat' (first | with_reducible exact km | with_reducible apply mK_A | with_reducible apply mK_I | with_reducible apply mK_L | with_reducible apply mK_R | with_reducible apply mK_O | with_reducible apply mK_S)) ffX9_9_9 rfl (by repeat' (first | with_reducible exact hr_g | with_reducible apply mR_A | with_reducible apply mR_I | with_reducible apply mR_L | with_reducible apply mR_S)) rfl ?_
        refine x_bipush (n' := 38) (v := 85) dX9_plan_36 (by decide) rfl ?_
        refine x_iload_n (n' := 39) dX9_plan_38 rfl rfl rfl ?_
        refine x_topv (nn_of hok.1.1) ?_
        refine x_iadd (n' := 40) dX9_plan_39 rfl ?_
        refine x_ildk (n' := 41) (N := 2509) dX9_plan_40 (by repeat' (first | with_reducible exact kk_g | with_reducible apply mK_A | with_reducible apply mK_I | with_reducible apply mK_L | with_reducible apply mK_R | with_reducible apply mK_O | with_reducible apply mK_S)) (by repeat' (first | with_reducible exact hn_g | with_reducible apply mN_A | with_reducible apply mN_I | with_reducible apply mN_L | with_reducible apply mN_R | with_reducible apply mN_O | with_reducible apply mN_S)) (by repeat' (first | with_reducible exact nl_0 | with_reducible exact nl_85 | with_reducible exact rfl | apply i_add | apply i_mul)) (by omega) (by decide) (by first | (simp (disch := omega) only [mA_sA, mA_sI, mA_SC0, mA_SC1 hS, mA_SC5 hS, mA_SC6 hS, mA_SC10 hS, mA_SC11 hS, mA_SC12 hS, up_s, up_n, if_false] <;> rfl) | rfl) rfl ?_
        refine x_istore_n (n' := 42) dX9_plan_41 rfl (Nat.le_of_ble_eq_true rfl) rfl (by dsimp only [List.set] <;> rfl) rfl ?_
        refine x_aload_n (n' := 43) dX9_plan_42 rfl rfl rfl ?_
        refine x_getRs (n' := 46) (b := (ad 0)) dX9_plan_43 (by repeat' (first | with_reducible exact km | with_reducible apply mK_A | with_reducible apply mK_I | with_reducible apply mK_L | with_reducible apply mK_R | with_reducible apply mK_O | with_reducible apply mK_S)) ffX9_9_9 rfl (by repeat' (first | with_reducible exact hr_g | with_reducible apply mR_A | with_reducible apply mR_I | with_reducible apply mR_L | with_reducible apply mR_S)) rfl ?_
        refine x_bipush (n' := 48) (v := 85) dX9_plan_46 (by decide) rfl ?_
        refine x_iload_n (n' := 49) dX9_plan_48 rfl rfl rfl ?_
        refine x_topv (nn_of hok.1.1) ?_
        refine x_iadd (n' := 50) dX9_plan_49 rfl ?_
        refine x_iload_n (n' := 51) dX9_plan_50 rfl rfl rfl ?_
        refine x_iastk (n' := 52) (N := 2509) dX9_plan_51 (by repeat' (first | with_reducible exact kk_g | with_reducible apply mK_A | with_reducible apply mK_I | with_reducible apply mK_L | with_reducible apply mK_R | with_reducible apply mK_O | with_reducible apply mK_S)) (by repeat' (first | with_reducible exact hn_g | with_reducible apply mN_A | with_reducible apply mN_I | with_reducible apply mN_L | with_reducible apply mN_R | with_reducible apply mN_O | with_reducible apply mN_S)) (by repeat' (first | with_reducible exact nl_0 | with_reducible exact nl_85 | with_reducible exact rfl | apply i_add | apply i_mul)) (by omega) (by decide) (by first | with_reducible exact mA_sA | with_reducible exact mA_SC0 | with_reducible exact mA_SC1 hS | with_reducible exact mA_SC5 hS | with_reducible exact mA_SC6 hS | with_reducible exact mA_SC10 hS | with_reducible exact mA_SC11 hS | with_reducible exact mA_SC12 hS | with_reducible exact mA_sI_sA | with_reducible exact mA_sI3_sA | rfl) (by first | with_reducible exact SC_A0 | with_reducible exact SC_A1 hS | with_reducible exact SC_A5 hS | with_reducible exact SC_A6 hS | with_reducible exact SC_A10 hS | with_reducible exact SC_A11 hS | with_reducible exact SC_A12 hS | with_reducible exact sA_sA | with_reducible exact sA_sI_sA | with_reducible exact sA_sI3_sA | rfl) rfl ?_
        refine x_iload_n (n' := 53) dX9_plan_52 rfl rfl rfl ?_
        exact x_iret dX9_plan_53 hret (by repeat' (first | with_reducible exact kE.rf | with_reducible exact kE_SS | with_reducible apply kE_A | with_reducible apply kE_I | with_reducible apply kE_L | with_reducible apply kE_R | with_reducible apply kE_O | with_reducible apply kE_S)) (⟨fun _ => ⟨rfl, rfl⟩, fun q => absurd hok q⟩)
      · have C22 := c22_15
        refine x_aload_n (n' := 26) dX9_plan_25 rfl rfl rfl ?_
        refine x_bipush (n' := 28) (v := -102) dX9_plan_26 (by decide) rfl ?_
        refine x_topv (y := -(nI (102 + 0))) (by decide) ?_
        refine x_callV (n' := 31) (n := 1) (K := 9) (c_X9_refused l G _ m ad hS 0 (by decide)) dX9_plan_28 (by repeat' (first | with_reducible exact km | with_reducible apply mK_A | with_reducible apply mK_I | with_reducible apply mK_L | with_reducible apply mK_R | with_reducible apply mK_O | with_reducible apply mK_S)) rfl (lw_V q3324 q3326 qs48 q109 q3327) (by decide +kernel) ⟨(Nat.le_of_ble_eq_true rfl), (Nat.le_of_ble_eq_true rfl)⟩ rfl rfl (Nat.le_of_ble_eq_true rfl) (by first | exact Nat.le_of_ble_eq_true rfl | omega) (by first | exact Nat.le_of_ble_eq_true rfl | omega) rfl (fun v_16 M_17 h_19 hE_18 => ?_)
        obtain ⟨rfl, hMs⟩ := h_19
        have hMs := hMs.symm
        subst hMs
        exact x_iret dX9_plan_31 hret (by repeat' (first | with_reducible exact kE.rf | with_reducible exact kE_SS | with_reducible apply kE_A | with_reducible apply kE_I | with_reducible apply kE_L | with_reducible apply kE_R | with_reducible apply kE_O | with_reducible apply kE_S)) (⟨fun q => absurd q (by first | exact fun q => bi_0.mp C9 q.1 | exact fun q => q.2.elim C14 (fun w => bi_0.mp C22 w)), fun _ => ⟨rfl, rfl⟩⟩)

set_option maxHeartbeats 4000000 in
set_option maxRecDepth 100000 in
theorem c_X9_keeper (l : Launch) (G : kG) (M : kM) (m : Nat) (ad : Nat → Nat) (hS : MS M m ad) (k : Int32) (nk : Nat) (hnk : mA M (ad 0) 13 = nI nk) (h6 : nk ≤ 6) : Kt l G yX9_keeper cX9_keeper 3 (some .int) 1 25 [.ref m, .int k] M (0) (0) (fun v M2 => (0 ≤ k ∧ k ≤ 2 → nk < 6 → v = some (.int (nI nk)) ∧ M2 = sA M (ad 0) (va_up (va_up (va_up (va_up (va_up (mA M (ad 0)) (61 + 4 * nk) k) (61 + 4 * nk + 1) 0) (61 + 4 * nk + 2) 0) (61 + 4 * nk + 3) 0) 13 (nI (nk + 1)))) ∧ (0 ≤ k ∧ k ≤ 2 → nk = 6 → v = some (.int (-(nI 106))) ∧ M2 = rfM M ad 4) ∧ (¬ (0 ≤ k ∧ k ≤ 2) → v = some (.int (-(nI 102))) ∧ M2 = rfM M ad 0)) := by
  refine Kt.of (own := "KeptLightModel") (L := [some (.ref m), some (.int k), none]) (by decide +kernel) rfl (Nat.le_of_ble_eq_true rfl) rfl ?_
  intro pp ee ss mm args below meth cd hmn hret
  have km := hS.1
  obtain ⟨hr_g, kk_g, hn_g⟩ := hS.2.1 0 (by decide)
  have hr_g : mR M (fc 9 0) m = some (ad 0) := hr_g
  have hn_g : mN M (ad 0) = 2509 := hn_g
  have kk_g : mK M (ad 0) = some 120 := kk_g
  refine x_iload_n (n' := 1) dX9_keeper_0 rfl rfl rfl ?_
  refine x_i2l (n' := 2) dX9_keeper_1 rfl rfl ?_
  refine x_lconst (n' := 3) (v := 0) dX9_keeper_2 (by decide) rfl ?_
  refine x_ldc2 (n' := 6) q3350 dX9_keeper_3 rfl ?_
  refine x_callS (n' := 9) (n := 3) (c_X9_in l G _ _ _ _) dX9_keeper_6 (lw_S q3321 q3322 q109 q3323) (by decide +kernel) ⟨(Nat.le_of_ble_eq_true rfl), (Nat.le_of_ble_eq_true rfl)⟩ rfl rfl (Nat.le_of_ble_eq_true rfl) (by first | exact Nat.le_of_ble_eq_true rfl | omega) (by first | exact Nat.le_of_ble_eq_true rfl | omega) rfl (fun v_1 M_2 h_4 hE_3 => ?_)
  obtain ⟨rfl, hMs⟩ := h_4
  have hMs := hMs.symm
  subst hMs
  rw [k_in3 (x := 0) (y := 2) (by decide) (by decide)]
  refine x_if_ne (n' := 12) (tgt := 19) dX9_keeper_9 (by decide) rfl (fun c9_5 => ?_) (fun c9_5 => ?_)
  · have C9 := c9_5
    refine x_aload_n (n' := 20) dX9_keeper_19 rfl rfl rfl ?_
    refine x_getRs (n' := 23) (b := (ad 0)) dX9_keeper_20 (by repeat' (first | with_reducible exact km | with_reducible apply mK_A | with_reducible apply mK_I | with_reducible apply mK_L | with_reducible apply mK_R | with_reducible apply mK_O | with_reducible apply mK_S)) ffX9_9_9 rfl (by repeat' (first | with_reducible exact hr_g | with_reducible apply mR_A | with_reducible apply mR_I | with_reducible apply mR_L | with_reducible apply mR_S)) rfl ?_
    refine x_bipush (n' := 25) (v := 13) dX9_keeper_23 (by decide) rfl ?_
    refine x_ildk (n' := 26) (N := 2509) dX9_keeper_25 (by repeat' (first | with_reducible exact kk_g | with_reducible apply mK_A | with_reducible apply mK_I | with_reducible apply mK_L | with_reducible apply mK_R | with_reducible apply mK_O | with_reducible apply mK_S)) (by repeat' (first | with_reducible exact hn_g | with_reducible apply mN_A | with_reducible apply mN_I | with_reducible apply mN_L | with_reducible apply mN_R | with_reducible apply mN_O | with_reducible apply mN_S)) (by repeat' (first | with_reducible exact nl_0 | with_reducible exact nl_1 | with_reducible exact nl_2 | with_reducible exact nl_3 | with_reducible exact nl_4 | with_reducible exact nl_6 | with_reducible exact nl_13 | with_reducible exact nl_61 | with_reducible exact rfl | apply i_add | apply i_mul)) (by omega) (by decide) (by first | with_reducible exact hnk | (simp (disch := omega) only [mA_sA, mA_sI, mA_SC0, mA_SC1 hS, mA_SC5 hS, mA_SC6 hS, mA_SC10 hS, mA_SC11 hS, mA_SC12 hS, up_s, up_n, hnk, if_false] <;> rfl) | rfl) rfl ?_
    refine x_istore_n (n' := 27) dX9_keeper_26 rfl (Nat.le_of_ble_eq_true rfl) rfl (by dsimp only [List.set] <;> rfl) rfl ?_
    refine x_iload_n (n' := 28) dX9_keeper_27 rfl rfl rfl ?_
    refine x_bipush (n' := 30) (v := 6) dX9_keeper_28 (by decide) rfl ?_
    refine x_icmp_ne (n' := 33) (tgt := 40) dX9_keeper_30 (by decide) rfl (fun c30_6 => ?_) (fun c30_6 => ?_)
    · have C30 := c30_6
      have N30 := (not_congr (cv_eq (by repeat' (first | with_reducible exact nl_0 | with_reducible exact nl_1 | with_reducible exact nl_2 | with_reducible exact nl_3 | with_reducible exact nl_4 | with_reducible exact nl_6 | with_reducible exact nl_13 | with_reducible exact nl_61 | with_reducible exact rfl | apply i_add | apply i_mul)) (by repeat' (first | with_reducible exact nl_0 | with_reducible exact nl_1 | with_reducible exact nl_2 | with_reducible exact nl_3 | with_reducible exact nl_4 | with_reducible exact nl_6 | with_reducible exact nl_13 | with_reducible exact nl_61 | with_reducible exact rfl | apply i_add | apply i_mul)) (by omega) (by omega))).mp c30_6
      refine x_aload_n (n' := 41) dX9_keeper_40 rfl rfl rfl ?_
      refine x_getRs (n' := 44) (b := (ad 0)) dX9_keeper_41 (by repeat' (first | with_reducible exact km | with_reducible apply mK_A | with_reducible apply mK_I | with_reducible apply mK_L | with_reducible apply mK_R | with_reducible apply mK_O | with_reducible apply mK_S)) ffX9_9_9 rfl (by repeat' (first | with_reducible exact hr_g | with_reducible apply mR_A | with_reducible apply mR_I | with_reducible apply mR_L | with_reducible apply mR_S)) rfl ?_
      refine x_bipush (n' := 46) (v := 61) dX9_keeper_44 (by decide) rfl ?_
      refine x_iconst (n' := 47) (v := 4) dX9_keeper_46 (by decide) rfl ?_
      refine x_iload_n (n' := 48) dX9_keeper_47 rfl rfl rfl ?_
      refine x_imul (n' := 49) dX9_keeper_48 rfl ?_
      refine x_iadd (n' := 50) dX9_keeper_49 rfl ?_
      refine x_iload_n (n' := 51) dX9_keeper_50 rfl rfl rfl ?_
      refine x_iastk (n' := 52) (N := 2509) dX9_keeper_51 (by repeat' (first | with_reducible exact kk_g | with_reducible apply mK_A | with_reducible apply mK_I | with_reducible apply mK_L | with_reducible apply mK_R | with_reducible apply mK_O | with_reducible apply mK_S)) (by repeat' (first | with_reducible exact hn_g | with_reducible apply mN_A | with_reducible apply mN_I | with_reducible apply mN_L | with_reducible apply mN_R | with_reducible apply mN_O | with_reducible apply mN_S)) (by repeat' (first | with_reducible exact nl_0 | with_reducible exact nl_1 | with_reducible exact nl_2 | with_reducible exact nl_3 | with_reducible exact nl_4 | with_reducible exact nl_6 | with_reducible exact nl_13 | with_reducible exact nl_61 | with_reducible exact rfl | apply i_add | apply i_mul)) (by omega) (by decide) (by first | with_reducible exact mA_sA | with_reducible exact mA_SC0 | with_reducible exact mA_SC1 hS | with_reducible exact mA_SC5 hS | with_reducible exact mA_SC6 hS | with_reducible exact mA_SC10 hS | with_reducible exact mA_SC11 hS | with_reducible exact mA_SC12 hS | with_reducible exact mA_sI_sA | with_reducible exact mA_sI3_sA | rfl) (by first | with_reducible exact SC_A0 | with_reducible exact SC_A1 hS | with_reducible exact SC_A5 hS | with_reducible exact SC_A6 hS | with_reducible exact SC_A10 hS | with_reducible exact SC_A11 hS | with_reducible exact SC_A12 hS | with_reducible exact sA_sA | with_reducible exact sA_sI_sA | with_reducible exact sA_sI3_sA | rfl) rfl ?_
      refine x_aload_n (n' := 53) dX9_keeper_52 rfl rfl rfl ?_
      refine x_getRs (n' := 56) (b := (ad 0)) dX9_keeper_53 (by repeat' (first | with_reducible exact km | with_reducible apply mK_A | with_reducible apply mK_I | with_reducible apply mK_L | with_reducible apply mK_R | with_reducible apply mK_O | with_reducible apply mK_S)) ffX9_9_9 rfl (by repeat' (first | with_reducible exact hr_g | with_reducible apply mR_A | with_reducible apply mR_I | with_reducible apply mR_L | with_reducible apply mR_S)) rfl ?_
      refine x_bipush (n' := 58) (v := 61) dX9_keeper_56 (by decide) rfl ?_
      refine x_iconst (n' := 59) (v := 4) dX9_keeper_58 (by decide) rfl ?_
      refine x_iload_n (n' := 60) dX9_keeper_59 rfl rfl rfl ?_
      refine x_imul (n' := 61) dX9_keeper_60 rfl ?_
      refine x_iadd (n' := 62) dX9_keeper_61 rfl ?_
      refine x_iconst (n' := 63) (v := 1) dX9_keeper_62 (by decide) rfl ?_
      refine x_iadd (n' := 64) dX9_keeper_63 rfl ?_
      refine x_iconst (n' := 65) (v := 0) dX9_keeper_64 (by decide) rfl ?_
      refine x_iastk (n' := 66) (N := 2509) dX9_keeper_65 (by repeat' (first | with_reducible exact kk_g | with_reducible apply mK_A | with_reducible apply mK_I | with_reducible apply mK_L | with_reducible apply mK_R | with_reducible apply mK_O | with_reducible apply mK_S)) (by repeat' (first | with_reducible exact hn_g | with_reducible apply mN_A | with_reducible apply mN_I | with_reducible apply mN_L | with_reducible apply mN_R | with_reducible apply mN_O | with_reducible apply mN_S)) (by repeat' (first | with_reducible exact nl_0 | with_reducible exact nl_1 | with_reducible exact nl_2 | with_reducible exact nl_3 | with_reducible exact nl_4 | with_reducible exact nl_6 | with_reducible exact nl_13 | with_reducible exact nl_61 | with_reducible exact rfl | apply i_add | apply i_mul)) (by omega) (by decide) (by first | with_reducible exact mA_sA | with_reducible exact mA_SC0 | with_reducible exact mA_SC1 hS | with_reducible exact mA_SC5 hS | with_reducible exact mA_SC6 hS | with_reducible exact mA_SC10 hS | with_reducible exact mA_SC11 hS | with_reducible exact mA_SC12 hS | with_reducible exact mA_sI_sA | with_reducible exact mA_sI3_sA | rfl) (by first | with_reducible exact SC_A0 | with_reducible exact SC_A1 hS | with_reducible exact SC_A5 hS | with_reducible exact SC_A6 hS | with_reducible exact SC_A10 hS | with_reducible exact SC_A11 hS | with_reducible exact SC_A12 hS | with_reducible exact sA_sA | with_reducible exact sA_sI_sA | with_reducible exact sA_sI3_sA | rfl) rfl ?_
      refine x_aload_n (n' := 67) dX9_keeper_66 rfl rfl rfl ?_
      refine x_getRs (n' := 70) (b := (ad 0)) dX9_keeper_67 (by repeat' (first | with_reducible exact km | with_reducible apply mK_A | with_reducible apply mK_I | with_reducible apply mK_L | with_reducible apply mK_R | with_reducible apply mK_O | with_reducible apply mK_S)) ffX9_9_9 rfl (by repeat' (first | with_reducible exact hr_g | with_reducible apply mR_A | with_reducible apply mR_I | with_reducible apply mR_L | with_reducible apply mR_S)) rfl ?_
      refine x_bipush (n' := 72) (v := 61) dX9_keeper_70 (by decide) rfl ?_
      refine x_iconst (n' := 73) (v := 4) dX9_keeper_72 (by decide) rfl ?_
      refine x_iload_n (n' := 74) dX9_keeper_73 rfl rfl rfl ?_
      refine x_imul (n' := 75) dX9_keeper_74 rfl ?_
      refine x_iadd (n' := 76) dX9_keeper_75 rfl ?_
      refine x_iconst (n' := 77) (v := 2) dX9_keeper_76 (by decide) rfl ?_
      refine x_iadd (n' := 78) dX9_keeper_77 rfl ?_
      refine x_iconst (n' := 79) (v := 0) dX9_keeper_78 (by decide) rfl ?_
      refine x_iastk (n' := 80) (N := 2509) dX9_keeper_79 (by repeat' (first | with_reducible exact kk_g | with_reducible apply mK_A | with_reducible apply mK_I | with_reducible apply mK_L | with_reducible apply mK_R | with_reducible apply mK_O | with_reducible apply mK_S)) (by repeat' (first | with_reducible exact hn_g | with_reducible apply mN_A | with_reducible apply mN_I | with_reducible apply mN_L | with_reducible apply mN_R | with_reducible apply mN_O | with_reducible apply mN_S)) (by repeat' (first | with_reducible exact nl_0 | with_reducible exact nl_1 | with_reducible exact nl_2 | with_reducible exact nl_3 | with_reducible exact nl_4 | with_reducible exact nl_6 | with_reducible exact nl_13 | with_reducible exact nl_61 | with_reducible exact rfl | apply i_add | apply i_mul)) (by omega) (by decide) (by first | with_reducible exact mA_sA | with_reducible exact mA_SC0 | with_reducible exact mA_SC1 hS | with_reducible exact mA_SC5 hS | with_reducible exact mA_SC6 hS | with_reducible exact mA_SC10 hS | with_reducible exact mA_SC11 hS | with_reducible exact mA_SC12 hS | with_reducible exact mA_sI_sA | with_reducible exact mA_sI3_sA | rfl) (by first | with_reducible exact SC_A0 | with_reducible exact SC_A1 hS | with_reducible exact SC_A5 hS | with_reducible exact SC_A6 hS | with_reducible exact SC_A10 hS | with_reducible exact SC_A11 hS | with_reducible exact SC_A12 hS | with_reducible exact sA_sA | with_reducible exact sA_sI_sA | with_reducible exact sA_sI3_sA | rfl) rfl ?_
      refine x_aload_n (n' := 81) dX9_keeper_80 rfl rfl rfl ?_
      refine x_getRs (n' := 84) (b := (ad 0)) dX9_keeper_81 (by repeat' (first | with_reducible exact km | with_reducible apply mK_A | with_reducible apply mK_I | with_reducible apply mK_L | with_reducible apply mK_R | with_reducible apply mK_O | with_reducible apply mK_S)) ffX9_9_9 rfl (by repeat' (first | with_reducible exact hr_g | with_reducible apply mR_A | with_reducible apply mR_I | with_reducible apply mR_L | with_reducible apply mR_S)) rfl ?_
      refine x_bipush (n' := 86) (v := 61) dX9_keeper_84 (by decide) rfl ?_
      refine x_iconst (n' := 87) (v := 4) dX9_keeper_86 (by decide) rfl ?_
      refine x_iload_n (n' := 88) dX9_keeper_87 rfl rfl rfl ?_
      refine x_imul (n' := 89) dX9_keeper_88 rfl ?_
      refine x_iadd (n' := 90) dX9_keeper_89 rfl ?_
      refine x_iconst (n' := 91) (v := 3) dX9_keeper_90 (by decide) rfl ?_
      refine x_iadd (n' := 92) dX9_keeper_91 rfl ?_
      refine x_iconst (n' := 93) (v := 0) dX9_keeper_92 (by decide) rfl ?_
      refine x_iastk (n' := 94) (N := 2509) dX9_keeper_93 (by repeat' (first | with_reducible exact kk_g | with_reducible apply mK_A | with_reducible apply mK_I | with_reducible apply mK_L | with_reducible apply mK_R | with_reducible apply mK_O | with_reducible apply mK_S)) (by repeat' (first | with_reducible exact hn_g | with_reducible apply mN_A | with_reducible apply mN_I | with_reducible apply mN_L | with_reducible apply mN_R | with_reducible apply mN_O | with_reducible apply mN_S)) (by repeat' (first | with_reducible exact nl_0 | with_reducible exact nl_1 | with_reducible exact nl_2 | with_reducible exact nl_3 | with_reducible exact nl_4 | with_reducible exact nl_6 | with_reducible exact nl_13 | with_reducible exact nl_61 | with_reducible exact rfl | apply i_add | apply i_mul)) (by omega) (by decide) (by first | with_reducible exact mA_sA | with_reducible exact mA_SC0 | with_reducible exact mA_SC1 hS | with_reducible exact mA_SC5 hS | with_reducible exact mA_SC6 hS | with_reducible exact mA_SC10 hS | with_reducible exact mA_SC11 hS | with_reducible exact mA_SC12 hS | with_reducible exact mA_sI_sA | with_reducible exact mA_sI3_sA | rfl) (by first | with_reducible exact SC_A0 | with_reducible exact SC_A1 hS | with_reducible exact SC_A5 hS | with_reducible exact SC_A6 hS | with_reducible exact SC_A10 hS | with_reducible exact SC_A11 hS | with_reducible exact SC_A12 hS | with_reducible exact sA_sA | with_reducible exact sA_sI_sA | with_reducible exact sA_sI3_sA | rfl) rfl ?_
      refine x_aload_n (n' := 95) dX9_keeper_94 rfl rfl rfl ?_
      refine x_getRs (n' := 98) (b := (ad 0)) dX9_keeper_95 (by repeat' (first | with_reducible exact km | with_reducible apply mK_A | with_reducible apply mK_I | with_reducible apply mK_L | with_reducible apply mK_R | with_reducible apply mK_O | with_reducible apply mK_S)) ffX9_9_9 rfl (by repeat' (first | with_reducible exact hr_g | with_reducible apply mR_A | with_reducible apply mR_I | with_reducible apply mR_L | with_reducible apply mR_S)) rfl ?_
      refine x_bipush (n' := 100) (v := 13) dX9_keeper_98 (by decide) rfl ?_
      refine x_iload_n (n' := 101) dX9_keeper_100 rfl rfl rfl ?_
      refine x_iconst (n' := 102) (v := 1) dX9_keeper_101 (by decide) rfl ?_
      refine x_iadd (n' := 103) dX9_keeper_102 rfl ?_
      refine x_iastk (n' := 104) (N := 2509) dX9_keeper_103 (by repeat' (first | with_reducible exact kk_g | with_reducible apply mK_A | with_reducible apply mK_I | with_reducible apply mK_L | with_reducible apply mK_R | with_reducible apply mK_O | with_reducible apply mK_S)) (by repeat' (first | with_reducible exact hn_g | with_reducible apply mN_A | with_reducible apply mN_I | with_reducible apply mN_L | with_reducible apply mN_R | with_reducible apply mN_O | with_reducible apply mN_S)) (by repeat' (first | with_reducible exact nl_0 | with_reducible exact nl_1 | with_reducible exact nl_2 | with_reducible exact nl_3 | with_reducible exact nl_4 | with_reducible exact nl_6 | with_reducible exact nl_13 | with_reducible exact nl_61 | with_reducible exact rfl | apply i_add | apply i_mul)) (by omega) (by decide) (by first | with_reducible exact mA_sA | with_reducible exact mA_SC0 | with_reducible exact mA_SC1 hS | with_reducible exact mA_SC5 hS | with_reducible exact mA_SC6 hS | with_reducible exact mA_SC10 hS | with_reducible exact mA_SC11 hS | with_reducible exact mA_SC12 hS | with_reducible exact mA_sI_sA | with_reducible exact mA_sI3_sA | rfl) (by first | with_reducible exact SC_A0 | with_reducible exact SC_A1 hS | with_reducible exact SC_A5 hS | with_reducible exact SC_A6 hS | with_reducible exact SC_A10 hS | with_reducible exact SC_A11 hS | with_reducible exact SC_A12 hS | with_reducible exact sA_sA | with_reducible exact sA_sI_sA | with_reducible exact sA_sI3_sA | rfl) rfl ?_
      refine x_iload_n (n' := 105) dX9_keeper_104 rfl rfl rfl ?_
      exact x_iret dX9_keeper_105 hret (by repeat' (first | with_reducible exact kE.rf | with_reducible exact kE_SS | with_reducible apply kE_A | with_reducible apply kE_I | with_reducible apply kE_L | with_reducible apply kE_R | with_reducible apply kE_O | with_reducible apply kE_S)) (⟨fun _ _ => ⟨rfl, by rw [nI_1]⟩, fun _ q => absurd q (by omega), fun q => absurd (bi_n0 C9) q⟩)
    · have C30 := c30_6
      have N30 := (cv_eq (by repeat' (first | with_reducible exact nl_0 | with_reducible exact nl_1 | with_reducible exact nl_2 | with_reducible exact nl_3 | with_reducible exact nl_4 | with_reducible exact nl_6 | with_reducible exact nl_13 | with_reducible exact nl_61 | with_reducible exact rfl | apply i_add | apply i_mul)) (by repeat' (first | with_reducible exact nl_0 | with_reducible exact nl_1 | with_reducible exact nl_2 | with_reducible exact nl_3 | with_reducible exact nl_4 | with_reducible exact nl_6 | with_reducible exact nl_13 | with_reducible exact nl_61 | with_reducible exact rfl | apply i_add | apply i_mul)) (by omega) (by omega)).mp c30_6
      refine x_aload_n (n' := 34) dX9_keeper_33 rfl rfl rfl ?_
      refine x_bipush (n' := 36) (v := -106) dX9_keeper_34 (by decide) rfl ?_
      refine x_topv (y := -(nI (102 + 4))) (by decide) ?_
      refine x_callV (n' := 39) (n := 1) (K := 9) (c_X9_refused l G _ m ad hS 4 (by decide)) dX9_keeper_36 (by repeat' (first | with_reducible exact km | with_reducible apply mK_A | with_reducible apply mK_I | with_reducible apply mK_L | with_reducible apply mK_R | with_reducible apply mK_O | with_reducible apply mK_S)) rfl (lw_V q3324 q3326 qs48 q109 q3327) (by decide +kernel) ⟨(Nat.le_of_ble_eq_true rfl), (Nat.le_of_ble_eq_true rfl)⟩ rfl rfl (Nat.le_of_ble_eq_true rfl) (by first | exact Nat.le_of_ble_eq_true rfl | omega) (by first | exact Nat.le_of_ble_eq_true rfl | omega) rfl (fun v_7 M_8 h_10 hE_9 => ?_)
      obtain ⟨rfl, hMs⟩ := h_10
      have hMs := hMs.symm
      subst hMs
      exact x_iret dX9_keeper_39 hret (by repeat' (first | with_reducible exact kE.rf | with_reducible exact kE_SS | with_reducible apply kE_A | with_reducible apply kE_I | with_reducible apply kE_L | with_reducible apply kE_R | with_reducible apply kE_O | with_reducible apply kE_S)) (⟨fun _ q => absurd q (by omega), fun _ _ => ⟨rfl, rfl⟩, fun q => absurd (bi_n0 C9) q⟩)
  · have C9 := c9_5
    refine x_aload_n (n' := 13) dX9_keeper_12 rfl rfl rfl ?_
    refine x_bipush (n' := 15) (v := -102) dX9_keeper_13 (by decide) rfl ?_
    refine x_topv (y := -(nI (102 + 0))) (by decide) ?_
    refine x_callV (n' := 18) (n := 1) (K := 9) (c_X9_refused l G _ m ad hS 0 (by decide)) dX9_keeper_15 (by repeat' (first | with_reducible exact km | with_reducible apply mK_A | with_reducible apply mK_I | with_reducible apply mK_L | with_reducible apply mK_R | with_reducible apply mK_O | with_reducible apply mK_S)) rfl (lw_V q3324 q3326 qs48 q109 q3327) (by decide +kernel) ⟨(Nat.le_of_ble_eq_true rfl), (Nat.le_of_ble_eq_true rfl)⟩ rfl rfl (Nat.le_of_ble_eq_true rfl) (by first | exact Nat.le_of_ble_eq_true rfl | omega) (by first | exact Nat.le_of_ble_eq_true rfl | omega) rfl (fun v_11 M_12 h_14 hE_13 => ?_)
    obtain ⟨rfl, hMs⟩ := h_14
    have hMs := hMs.symm
    subst hMs
    exact x_iret dX9_keeper_18 hret (by repeat' (first | with_reducible exact kE.rf | with_reducible exact kE_SS | with_reducible apply kE_A | with_reducible apply kE_I | with_reducible apply kE_L | with_reducible apply kE_R | with_reducible apply kE_O | with_reducible apply kE_S)) (⟨fun q => absurd q (bi_0.mp C9), fun q => absurd q (bi_0.mp C9), fun _ => ⟨rfl, rfl⟩⟩)

set_option maxHeartbeats 4000000 in
set_option maxRecDepth 100000 in
theorem c_X9_shipOf (l : Launch) (G : kG) (M : kM) (m : Nat) (ad : Nat → Nat) (hS : MS M m ad) (k w : Int32) (ns : Nat) (hs : mA M (ad 0) 14 = nI ns) (hb : ns ≤ 200) : Kt l G yX9_shipOf cX9_shipOf 3 (some .int) 2 46 [.ref m, .int k, .int w] M (0) (0) (fun v M2 => ((0 ≤ k ∧ k < nI ns) ∧ (0 ≤ w ∧ w ≤ 3) → v = some (.int ((mA M (ad 0)) (109 + 4 * nn k + nn w))) ∧ M2 = M) ∧ (¬ ((0 ≤ k ∧ k < nI ns) ∧ (0 ≤ w ∧ w ≤ 3)) → v = some (.int (-(nI 102))) ∧ M2 = rfM M ad 0)) := by
  refine Kt.of (own := "KeptLightModel") (L := [some (.ref m), some (.int k), some (.int w)]) (by decide +kernel) rfl (Nat.le_of_ble_eq_true rfl) rfl ?_
  intro pp ee ss mm args below meth cd hmn hret
  have km := hS.1
  refine x_aload_n (n' := 1) dX9_shipOf_0 rfl rfl rfl ?_
  refine x_iload_n (n' := 2) dX9_shipOf_1 rfl rfl rfl ?_
  refine x_callV (n' := 5) (n := 1) (K := 9) (c_X9_isShip l G _ m ad hS k ns hs (by omega)) dX9_shipOf_2 (by repeat' (first | with_reducible exact km | with_reducible apply mK_A | with_reducible apply mK_I | with_reducible apply mK_L | with_reducible apply mK_R | with_reducible apply mK_O | with_reducible apply mK_S)) rfl (lw_V q3482 q3484 qs68 q109 q3485) (by decide +kernel) ⟨(Nat.le_of_ble_eq_true rfl), (Nat.le_of_ble_eq_true rfl)⟩ rfl rfl (Nat.le_of_ble_eq_true rfl) (by first | exact Nat.le_of_ble_eq_true rfl | omega) (by first | exact Nat.le_of_ble_eq_true rfl | omega) rfl (fun v_1 M_2 h_4 hE_3 => ?_)
  obtain ⟨rfl, hMs⟩ := h_4
  have hMs := hMs.symm
  subst hMs
  refine x_if_eq (n' := 8) (tgt := 29) dX9_shipOf_5 (by decide) rfl (fun c5_5 => ?_) (fun c5_5 => ?_)
  · have C5 := c5_5
    refine x_aload_n (n' := 30) dX9_shipOf_29 rfl rfl rfl ?_
    refine x_bipush (n' := 32) (v := -102) dX9_shipOf_30 (by decide) rfl ?_
    refine x_topv (y := -(nI (102 + 0))) (by decide) ?_
    refine x_callV (n' := 35) (n := 1) (K := 9) (c_X9_refused l G _ m ad hS 0 (by decide)) dX9_shipOf_32 (by repeat' (first | with_reducible exact km | with_reducible apply mK_A | with_reducible apply mK_I | with_reducible apply mK_L | with_reducible apply mK_R | with_reducible apply mK_O | with_reducible apply mK_S)) rfl (lw_V q3324 q3326 qs48 q109 q3327) (by decide +kernel) ⟨(Nat.le_of_ble_eq_true rfl), (Nat.le_of_ble_eq_true rfl)⟩ rfl rfl (Nat.le_of_ble_eq_true rfl) (by first | exact Nat.le_of_ble_eq_true rfl | omega) (by first | exact Nat.le_of_ble_eq_true rfl | omega) rfl (fun v_6 M_7 h_9 hE_8 => ?_)
    obtain ⟨rfl, hMs⟩ := h_9
    have hMs := hMs.symm
    subst hMs
    exact x_iret dX9_shipOf_35 hret (by repeat' (first | with_reducible exact kE.rf | with_reducible exact kE_SS | with_reducible apply kE_A | with_reducible apply kE_I | with_reducible apply kE_L | with_reducible apply kE_R | with_reducible apply kE_O | with_reducible apply kE_S)) (by first | exact ⟨fun _ => ⟨rfl, rfl⟩, fun q => absurd hok q⟩ | exact ⟨fun q => absurd q.1 (bi_0.mp C5), fun _ => ⟨rfl, rfl⟩⟩ | exact ⟨fun q => absurd q.2 (bi_0.mp C17), fun _ => ⟨rfl, rfl⟩⟩)
  · have C5 := c5_5
    refine x_iload_n (n' := 9) dX9_shipOf_8 rfl rfl rfl ?_
    refine x_i2l (n' := 10) dX9_shipOf_9 rfl rfl ?_
    refine x_lconst (n' := 11) (v := 0) dX9_shipOf_10 (by decide) rfl ?_
    refine x_ldc2 (n' := 14) q3385 dX9_shipOf_11 rfl ?_
    refine x_callS (n' := 17) (n := 3) (c_X9_in l G _ _ _ _) dX9_shipOf_14 (lw_S q3321 q3322 q109 q3323) (by decide +kernel) ⟨(Nat.le_of_ble_eq_true rfl), (Nat.le_of_ble_eq_true rfl)⟩ rfl rfl (Nat.le_of_ble_eq_true rfl) (by first | exact Nat.le_of_ble_eq_true rfl | omega) (by first | exact Nat.le_of_ble_eq_true rfl | omega) rfl (fun v_10 M_11 h_13 hE_12 => ?_)
    obtain ⟨rfl, hMs⟩ := h_13
    have hMs := hMs.symm
    subst hMs
    rw [k_in3 (x := 0) (y := 3) (by decide) (by decide)]
    refine x_if_eq (n' := 20) (tgt := 29) dX9_shipOf_17 (by decide) rfl (fun c17_14 => ?_) (fun c17_14 => ?_)
    · have C17 := c17_14
      refine x_aload_n (n' := 30) dX9_shipOf_29 rfl rfl rfl ?_
      refine x_bipush (n' := 32) (v := -102) dX9_shipOf_30 (by decide) rfl ?_
      refine x_topv (y := -(nI (102 + 0))) (by decide) ?_
      refine x_callV (n' := 35) (n := 1) (K := 9) (c_X9_refused l G _ m ad hS 0 (by decide)) dX9_shipOf_32 (by repeat' (first | with_reducible exact km | with_reducible apply mK_A | with_reducible apply mK_I | with_reducible apply mK_L | with_reducible apply mK_R | with_reducible apply mK_O | with_reducible apply mK_S)) rfl (lw_V q3324 q3326 qs48 q109 q3327) (by decide +kernel) ⟨(Nat.le_of_ble_eq_true rfl), (Nat.le_of_ble_eq_true rfl)⟩ rfl rfl (Nat.le_of_ble_eq_true rfl) (by first | exact Nat.le_of_ble_eq_true rfl | omega) (by first | exact Nat.le_of_ble_eq_true rfl | omega) rfl (fun v_15 M_16 h_18 hE_17 => ?_)
      obtain ⟨rfl, hMs⟩ := h_18
      have hMs := hMs.symm
      subst hMs
      exact x_iret dX9_shipOf_35 hret (by repeat' (first | with_reducible exact kE.rf | with_reducible exact kE_SS | with_reducible apply kE_A | with_reducible apply kE_I | with_reducible apply kE_L | with_reducible apply kE_R | with_reducible apply kE_O | with_reducible apply kE_S)) (by first | exact ⟨fun _ => ⟨rfl, rfl⟩, fun q => absurd hok q⟩ | exact ⟨fun q => absurd q.1 (bi_0.mp C5), fun _ => ⟨rfl, rfl⟩⟩ | exact ⟨fun q => absurd q.2 (bi_0.mp C17), fun _ => ⟨rfl, rfl⟩⟩)
    · have C17 := c17_14
      have hok : (0 ≤ k ∧ k < nI ns) ∧ (0 ≤ w ∧ w ≤ 3) := ⟨bi_n0 C5, bi_n0 C17⟩
      have hn8 := nn_le (n := 3) hok.2.1 hok.2.2 (by decide)
      have hn7 := nn_le (n := 200) hok.1.1 (Int32.le_trans (Int32.le_of_lt hok.1.2) ((nI_leI (by omega) (by decide)).mpr hb)) (by decide)
      refine x_aload_n (n' := 21) dX9_shipOf_20 rfl rfl rfl ?_
      refine x_iload_n (n' := 22) dX9_shipOf_21 rfl rfl rfl ?_
      refine x_topv (nn_of hok.1.1) ?_
      refine x_iload_n (n' := 23) dX9_shipOf_22 rfl rfl rfl ?_
      refine x_topv (nn_of hok.2.1) ?_
      refine x_callV (n' := 26) (n := 2) (K := 9) (c_X9_ofShip l G _ m ad hS (nn k) (nn w) (by omega)) dX9_shipOf_23 (by repeat' (first | with_reducible exact km | with_reducible apply mK_A | with_reducible apply mK_I | with_reducible apply mK_L | with_reducible apply mK_R | with_reducible apply mK_O | with_reducible apply mK_S)) rfl (lw_V q3445 q3447 qs65 q109 q3448) (by decide +kernel) ⟨(Nat.le_of_ble_eq_true rfl), (Nat.le_of_ble_eq_true rfl)⟩ rfl rfl (Nat.le_of_ble_eq_true rfl) (by first | exact Nat.le_of_ble_eq_true rfl | omega) (by first | exact Nat.le_of_ble_eq_true rfl | omega) rfl (fun v_19 M_20 h_22 hE_21 => ?_)
      obtain ⟨rfl, hMs⟩ := h_22
      have hMs := hMs.symm
      subst hMs
      refine x_goto (tgt := 35) dX9_shipOf_26 (by decide) ?_
      exact x_iret dX9_shipOf_35 hret (by repeat' (first | with_reducible exact kE.rf | with_reducible exact kE_SS | with_reducible apply kE_A | with_reducible apply kE_I | with_reducible apply kE_L | with_reducible apply kE_R | with_reducible apply kE_O | with_reducible apply kE_S)) (by first | exact ⟨fun _ => ⟨rfl, rfl⟩, fun q => absurd hok q⟩ | exact ⟨fun q => absurd q.1 (bi_0.mp C5), fun _ => ⟨rfl, rfl⟩⟩ | exact ⟨fun q => absurd q.2 (bi_0.mp C17), fun _ => ⟨rfl, rfl⟩⟩)

set_option maxHeartbeats 4000000 in
set_option maxRecDepth 100000 in
theorem c_X9_pass (l : Launch) (G : kG) (M : kM) (m : Nat) (ad : Nat → Nat) (hS : MS M m ad) (g : gT) (sa : Nat → gT) (sf : Nat → Int32) (a : Int32) (h nr nk ns : Nat) (hw : WF g h nr nk ns) (hb : h + 200 < 2147483648) : Kt l G yX9_pass cX9_pass 2 (some .int) 5 129 [.ref m, .int a] (SC M m ad g sa sf) (0) (0) (fun v M2 => (0 ≤ a ∧ a ≤ 200 → v = some (.int (unlG g h nr nk ns (nn a))) ∧ ∃ sf2, M2 = SC M m ad (hrsG g h nr nk ns (nn a)) sa sf2) ∧ (¬ (0 ≤ a ∧ a ≤ 200) → v = some (.int (-(nI 102))) ∧ M2 = rfM (SC M m ad g sa sf) ad 0)) := by
  refine Kt.of (own := "KeptLightModel") (L := [some (.ref m), some (.int a)]) (by decide +kernel) rfl (Nat.le_of_ble_eq_true rfl) rfl ?_
  intro pp ee ss mm args below meth cd hmn hret
  have km := hS.1
  refine x_iload_n (n' := 1) dX9_pass_0 rfl rfl rfl ?_
  refine x_i2l (n' := 2) dX9_pass_1 rfl rfl ?_
  refine x_lconst (n' := 3) (v := 0) dX9_pass_2 (by decide) rfl ?_
  refine x_ldc2 (n' := 6) q3404 dX9_pass_3 rfl ?_
  refine x_callS (n' := 9) (n := 3) (c_X9_in l G _ _ _ _) dX9_pass_6 (lw_S q3321 q3322 q109 q3323) (by decide +kernel) ⟨(Nat.le_of_ble_eq_true rfl), (Nat.le_of_ble_eq_true rfl)⟩ rfl rfl (Nat.le_of_ble_eq_true rfl) (by first | exact Nat.le_of_ble_eq_true rfl | omega) (by first | exact Nat.le_of_ble_eq_true rfl | omega) rfl (fun v_1 M_2 h_4 hE_3 => ?_)
  obtain ⟨rfl, hMs⟩ := h_4
  have hMs := hMs.symm
  subst hMs
  rw [k_in3 (x := 0) (y := 200) (by decide) (by decide)]
  refine x_if_eq (n' := 12) (tgt := 20) dX9_pass_9 (by decide) rfl (fun c9_5 => ?_) (fun c9_5 => ?_)
  · have C9 := c9_5
    refine x_aload_n (n' := 21) dX9_pass_20 rfl rfl rfl ?_
    refine x_bipush (n' := 23) (v := -102) dX9_pass_21 (by decide) rfl ?_
    refine x_topv (y := -(nI (102 + 0))) (by decide) ?_
    refine x_callV (n' := 26) (n := 1) (K := 9) (c_X9_refused l G _ m ad (by repeat' (first | with_reducible exact hS | with_reducible apply MS.sA | with_reducible apply MS.sI | with_reducible apply MS.sL | with_reducible apply MS.sc)) 0 (by decide)) dX9_pass_23 (by repeat' (first | with_reducible exact km | with_reducible apply mK_A | with_reducible apply mK_I | with_reducible apply mK_L | with_reducible apply mK_R | with_reducible apply mK_O | with_reducible apply mK_S)) rfl (lw_V q3324 q3326 qs48 q109 q3327) (by decide +kernel) ⟨(Nat.le_of_ble_eq_true rfl), (Nat.le_of_ble_eq_true rfl)⟩ rfl rfl (Nat.le_of_ble_eq_true rfl) (by first | exact Nat.le_of_ble_eq_true rfl | omega) (by first | exact Nat.le_of_ble_eq_true rfl | omega) rfl (fun v_6 M_7 h_9 hE_8 => ?_)
    obtain ⟨rfl, hMs⟩ := h_9
    have hMs := hMs.symm
    subst hMs
    exact x_iret dX9_pass_26 hret (by repeat' (first | with_reducible exact kE.rf | with_reducible exact kE_SS | with_reducible apply kE_A | with_reducible apply kE_I | with_reducible apply kE_L | with_reducible apply kE_R | with_reducible apply kE_O | with_reducible apply kE_S)) (by first | exact ⟨fun _ => ⟨rfl, sf2, rfl⟩, fun q => absurd hok q⟩ | exact ⟨fun q => absurd q (bi_0.mp C9), fun _ => ⟨rfl, rfl⟩⟩)
  · have C9 := c9_5
    have hok : 0 ≤ a ∧ a ≤ 200 := bi_n0 C9
    have hn9 := nn_le (n := 200) hok.1 hok.2 (by decide)
    refine x_aload_n (n' := 13) dX9_pass_12 rfl rfl rfl ?_
    refine x_iload_n (n' := 14) dX9_pass_13 rfl rfl rfl ?_
    refine x_topv (nn_of hok.1) ?_
    refine x_callV (n' := 17) (n := 1) (K := 9) (c_X9_passes l G M m ad hS g sa sf h nr nk ns (nn a) hw (by omega)) dX9_pass_14 (by repeat' (first | with_reducible exact km | with_reducible apply mK_A | with_reducible apply mK_I | with_reducible apply mK_L | with_reducible apply mK_R | with_reducible apply mK_O | with_reducible apply mK_S)) rfl (lw_V q3405 q3407 qs55 q109 q3408) (by decide +kernel) ⟨(Nat.le_of_ble_eq_true rfl), (Nat.le_of_ble_eq_true rfl)⟩ rfl rfl (Nat.le_of_ble_eq_true rfl) (by first | exact Nat.le_of_ble_eq_true rfl | omega) (by first | exact Nat.le_of_ble_eq_true rfl | omega) rfl (fun v_10 M_11 h_13 hE_12 => ?_)
    obtain ⟨rfl, sf2, hMs⟩ := h_13
    have hMs := hMs.symm
    subst hMs
    refine x_goto (tgt := 26) dX9_pass_17 (by decide) ?_
    exact x_iret dX9_pass_26 hret (by repeat' (first | with_reducible exact kE.rf | with_reducible exact kE_SS | with_reducible apply kE_A | with_reducible apply kE_I | with_reducible apply kE_L | with_reducible apply kE_R | with_reducible apply kE_O | with_reducible apply kE_S)) (by first | exact ⟨fun _ => ⟨rfl, sf2, rfl⟩, fun q => absurd hok q⟩ | exact ⟨fun q => absurd q (bi_0.mp C9), fun _ => ⟨rfl, rfl⟩⟩)

set_option maxHeartbeats 600000 in
set_option maxRecDepth 100000 in
theorem c_X9_plans (l : Launch) (G : kG) (M : kM) (m : Nat) (ad : Nat → Nat) (hS : MS M m ad) (g : gT) (sa : Nat → gT) (sf : Nat → Int32) (k : Int32) (h nr nk ns : Nat) (hw : WF g h nr nk ns) : Kt l G yX9_plans cX9_plans 3 (some .int) 2 47 [.ref m, .int k] (SC M m ad g sa sf) (0) (0) (fun v M2 => (0 ≤ k ∧ k ≤ 7 → 0 ≤ (ipG (mA M (ad 7)) (mA M (ad 8)) (mL M (ad 13)) nk (nn k)) → v = some (.int 1) ∧ M2 = SC M m ad (plB g (elP (mL M (ad 13)) (nn k)) 24) sa sf) ∧ (0 ≤ k ∧ k ≤ 7 → ¬ 0 ≤ (ipG (mA M (ad 7)) (mA M (ad 8)) (mL M (ad 13)) nk (nn k)) → v = some (.int (ipG (mA M (ad 7)) (mA M (ad 8)) (mL M (ad 13)) nk (nn k))) ∧ M2 = rfM (SC M m ad g sa sf) ad (rxN (ipG (mA M (ad 7)) (mA M (ad 8)) (mL M (ad 13)) nk (nn k)))) ∧ (¬ (0 ≤ k ∧ k ≤ 7) → v = some (.int (-102)) ∧ M2 = rfM (SC M m ad g sa sf) ad 0)) := by
  refine Kt.of (own := "KeptLightModel") (L := [some (.ref m), some (.int k), none]) (by decide +kernel) rfl (Nat.le_of_ble_eq_true rfl) rfl ?_
  intro pp ee ss mm args below meth cd hmn hret
  have km := hS.1
  have hk6 := hw.k6
  have cut17 : ∀ (r : Int32) (hr1 : 0 ≤ k ∧ k ≤ 7 → r = (ipG (mA M (ad 7)) (mA M (ad 8)) (mL M (ad 13)) nk (nn k))) (hr2 : ¬ (0 ≤ k ∧ k ≤ 7) → r = -102), Wx pp l ee { frames := 2, cells := 0, slots := 0, locals := 47 } ss mm args below meth cd "KeptLightModel" cX9_plans 3 G (MQ below (KQ G (SC M m ad g sa sf) (fun v M2 => (0 ≤ k ∧ k ≤ 7 → 0 ≤ (ipG (mA M (ad 7)) (mA M (ad 8)) (mL M (ad 13)) nk (nn k)) → v = some (.int 1) ∧ M2 = SC M m ad (plB g (elP (mL M (ad 13)) (nn k)) 24) sa sf) ∧ (0 ≤ k ∧ k ≤ 7 → ¬ 0 ≤ (ipG (mA M (ad 7)) (mA M (ad 8)) (mL M (ad 13)) nk (nn k)) → v = some (.int (ipG (mA M (ad 7)) (mA M (ad 8)) (mL M (ad 13)) nk (nn k))) ∧ M2 = rfM (SC M m ad g sa sf) ad (rxN (ipG (mA M (ad 7)) (mA M (ad 8)) (mL M (ad 13)) nk (nn k)))) ∧ (¬ (0 ≤ k ∧ k ≤ 7) → v = some (.int (-102)) ∧ M2 = rfM (SC M m ad g sa sf) ad 0))) args ss (0) (0) (kA G)) 17 [some (.ref m), some (.int k), none] [.int r] (SC M m ad g sa sf) (0) (0) := by
    intro r hr1 hr2
    refine x_istore_n (n' := 18) dX9_plans_17 rfl (Nat.le_of_ble_eq_true rfl) rfl (by dsimp only [List.set] <;> rfl) rfl ?_
    refine x_iload_n (n' := 19) dX9_plans_18 rfl rfl rfl ?_
    refine x_if_ge (n' := 22) (tgt := 28) dX9_plans_19 (by decide) rfl (fun c19_1 => ?_) (fun c19_1 => ?_)
    · have C19 := c19_1
      have hok : 0 ≤ k ∧ k ≤ 7 := by
        by_cases q : 0 ≤ k ∧ k ≤ 7
        · exact q
        · rw [hr2 q] at C19; exact absurd C19 (by decide)
      have hn7 := nn_le (n := 7) hok.1 hok.2 (by decide)
      refine x_aload_n (n' := 29) dX9_plans_28 rfl rfl rfl ?_
      refine x_iload_n (n' := 30) dX9_plans_29 rfl rfl rfl ?_
      refine x_topv (nn_of hok.1) ?_
      refine x_callV (n' := 33) (n := 1) (K := 9) (c_X9_takesPlan l G M m ad hS g _ _ (nn k) (by omega)) dX9_plans_30 (by repeat' (first | with_reducible exact km | with_reducible apply mK_A | with_reducible apply mK_I | with_reducible apply mK_L | with_reducible apply mK_R | with_reducible apply mK_O | with_reducible apply mK_S)) rfl (lw_V q3373 q3375 qs53 q109 q3376) (by decide +kernel) ⟨(Nat.le_of_ble_eq_true rfl), (Nat.le_of_ble_eq_true rfl)⟩ rfl rfl (Nat.le_of_ble_eq_true rfl) (by first | exact Nat.le_of_ble_eq_true rfl | omega) (by first | exact Nat.le_of_ble_eq_true rfl | omega) rfl (fun v_2 M_3 h_5 hE_4 => ?_)
      obtain ⟨rfl, hMs⟩ := h_5
      have hMs := hMs.symm
      subst hMs
      refine x_iconst (n' := 34) (v := 1) dX9_plans_33 (by decide) rfl ?_
      exact x_iret dX9_plans_34 hret (by repeat' (first | with_reducible exact kE.rf | with_reducible exact kE_SS | with_reducible apply kE_A | with_reducible apply kE_I | with_reducible apply kE_L | with_reducible apply kE_R | with_reducible apply kE_O | with_reducible apply kE_S)) (⟨fun _ _ => ⟨rfl, rfl⟩, fun q w => absurd (hr1 q ▸ C19) w, fun q => absurd hok q⟩)
    · have C19 := c19_1
      refine x_aload_n (n' := 23) dX9_plans_22 rfl rfl rfl ?_
      refine x_iload_n (n' := 24) dX9_plans_23 rfl rfl rfl ?_
      have hrx : r = -(nI (102 + rxN r)) ∧ rxN r < 5 := by
        by_cases hok : 0 ≤ k ∧ k ≤ 7
        · exact ipG_rx (hr1 hok) C19
        · rw [hr2 hok]; exact rx_102
      refine x_topv hrx.1 ?_
      refine x_callV (n' := 27) (n := 1) (K := 9) (c_X9_refused l G _ m ad (by repeat' (first | with_reducible exact hS | with_reducible apply MS.sA | with_reducible apply MS.sI | with_reducible apply MS.sL | with_reducible apply MS.sc)) (rxN r) hrx.2) dX9_plans_24 (by repeat' (first | with_reducible exact km | with_reducible apply mK_A | with_reducible apply mK_I | with_reducible apply mK_L | with_reducible apply mK_R | with_reducible apply mK_O | with_reducible apply mK_S)) rfl (lw_V q3324 q3326 qs48 q109 q3327) (by decide +kernel) ⟨(Nat.le_of_ble_eq_true rfl), (Nat.le_of_ble_eq_true rfl)⟩ rfl rfl (Nat.le_of_ble_eq_true rfl) (by first | exact Nat.le_of_ble_eq_true rfl | omega) (by first | exact Nat.le_of_ble_eq_true rfl | omega) rfl (fun v_6 M_7 h_9 hE_8 => ?_)
      obtain ⟨rfl, hMs⟩ := h_9
      have hMs := hMs.symm
      subst hMs
      exact x_iret dX9_plans_27 hret (by repeat' (first | with_reducible exact kE.rf | with_reducible exact kE_SS | with_reducible apply kE_A | with_reducible apply kE_I | with_reducible apply kE_L | with_reducible apply kE_R | with_reducible apply kE_O | with_reducible apply kE_S)) (⟨fun q w => absurd w (hr1 q ▸ C19), fun q _ => ⟨by rw [← hr1 q, ← hrx.1], by rw [← hr1 q]; rfl⟩, fun q => by rw [hr2 q] at hrx ⊢; exact ⟨by rw [← hrx.1], rfl⟩⟩)
  refine x_iload_n (n' := 1) dX9_plans_0 rfl rfl rfl ?_
  refine x_callS (n' := 4) (n := 1) (c_X9_isShelf l G _ k) dX9_plans_1 (lw_S q3364 q3365 q109 q3366) (by decide +kernel) ⟨(Nat.le_of_ble_eq_true rfl), (Nat.le_of_ble_eq_true rfl)⟩ rfl rfl (Nat.le_of_ble_eq_true rfl) (by first | exact Nat.le_of_ble_eq_true rfl | omega) (by first | exact Nat.le_of_ble_eq_true rfl | omega) rfl (fun v_10 M_11 h_13 hE_12 => ?_)
  obtain ⟨rfl, hMs⟩ := h_13
  have hMs := hMs.symm
  subst hMs
  refine x_if_eq (n' := 7) (tgt := 15) dX9_plans_4 (by decide) rfl (fun c4_14 => ?_) (fun c4_14 => ?_)
  · have C4 := c4_14
    refine x_bipush (n' := 17) (v := -102) dX9_plans_15 (by decide) rfl ?_
    exact x_drop (cut17 _ (fun q => by first | exact absurd q (bi_0.mp C4) | exact rfl) (fun q => by first | exact rfl | exact absurd (bi_n0 C4) q)) ⟨rfl, ⟨rfl, trivial⟩⟩
  · have C4 := c4_14
    refine x_aload_n (n' := 8) dX9_plans_7 rfl rfl rfl ?_
    refine x_iload_n (n' := 9) dX9_plans_8 rfl rfl rfl ?_
    have hok : 0 ≤ k ∧ k ≤ 7 := bi_n0 C4
    have hn7 := nn_le (n := 7) hok.1 hok.2 (by decide)
    refine x_topv (nn_of hok.1) ?_
    refine x_callV (n' := 12) (n := 1) (K := 9) (c_X9_isPlan l G _ m ad (by repeat' (first | with_reducible exact hS | with_reducible apply MS.sA | with_reducible apply MS.sI | with_reducible apply MS.sL | with_reducible apply MS.sc)) (nn k) nk (by omega) (by rw [mA_SC0]; exact hw.kk)) dX9_plans_9 (by repeat' (first | with_reducible exact km | with_reducible apply mK_A | with_reducible apply mK_I | with_reducible apply mK_L | with_reducible apply mK_R | with_reducible apply mK_O | with_reducible apply mK_S)) rfl (lw_V q3368 q3370 qs52 q109 q3371) (by decide +kernel) ⟨(Nat.le_of_ble_eq_true rfl), (Nat.le_of_ble_eq_true rfl)⟩ rfl rfl (Nat.le_of_ble_eq_true rfl) (by first | exact Nat.le_of_ble_eq_true rfl | omega) (by first | exact Nat.le_of_ble_eq_true rfl | omega) rfl (fun v_15 M_16 h_18 hE_17 => ?_)
    obtain ⟨rfl, hMs⟩ := h_18
    have hMs := hMs.symm
    subst hMs
    rw [mA_SCn hS 7 (by decide) (by decide), mA_SCn hS 8 (by decide) (by decide), mL_SC]
    refine x_goto (tgt := 17) dX9_plans_12 (by decide) ?_
    exact x_drop (cut17 _ (fun q => by first | exact absurd q (bi_0.mp C4) | exact rfl) (fun q => by first | exact rfl | exact absurd (bi_n0 C4) q)) ⟨rfl, ⟨rfl, trivial⟩⟩
