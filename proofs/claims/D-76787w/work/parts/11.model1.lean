theorem in_eq {v a b : Int64} : (if lg_cmp v a < 0 then (0 : Int32) else if 0 < lg_cmp v b then 0 else 1) = bi (a ≤ v ∧ v ≤ b) := by
  unfold bi
  simp only [lc_lt, lc_gt, Int64.lt_iff_toInt_lt, Int64.le_iff_toInt_le]
  repeat' split
  all_goals first | rfl | omega

set_option maxHeartbeats 4000000 in
set_option maxRecDepth 100000 in
theorem c_X9_in (l : Launch) (G : kG) (M : kM) (v a b : Int64) : Kt l G yX9_in cX9_in 6 (some .boolean) 0 0 [.long v, .long a, .long b] M (0) (0) (fun r M2 => r = some (.int (bi (a ≤ v ∧ v ≤ b))) ∧ M2 = M) := by
  refine Kt.of (own := "KeptLightModel") (L := [some (.long v), none, some (.long a), none, some (.long b), none]) (by decide +kernel) rfl (Nat.le_of_ble_eq_true rfl) rfl ?_
  intro pp ee ss mm args below meth cd hmn hret
  have hE0 : kE M M := kE.rf
  refine x_lload_n (n' := 1) dX9_in_0 rfl rfl rfl ?_
  refine x_lload_n (n' := 2) dX9_in_1 rfl rfl rfl ?_
  refine x_lcmp (n' := 3) dX9_in_2 rfl ?_
  refine x_fork (J := 18) (x_if_lt (n' := 6) (tgt := 17) dX9_in_3 (by decide) rfl) (v1 := ?v1_f3_1) (v2 := ?v2_f3_1) (fun c_f3_1 j_f3_1 => ?b1_f3_1) (fun c_f3_1 j_f3_1 => ?b2_f3_1) ?k_f3_1
  case b1_f3_1 =>
    refine x_iconst (n' := 18) (v := 0) dX9_in_17 (by decide) rfl ?_
    exact j_f3_1
  case b2_f3_1 =>
    refine x_lload_n (n' := 7) dX9_in_6 rfl rfl rfl ?_
    refine x_lload (n' := 9) dX9_in_7 rfl rfl ?_
    refine x_lcmp (n' := 10) dX9_in_9 rfl ?_
    refine x_fork (J := 18) (x_if_gt (n' := 13) (tgt := 17) dX9_in_10 (by decide) rfl) (v1 := ?v1_f10_2) (v2 := ?v2_f10_2) (fun c_f10_2 j_f10_2 => ?b1_f10_2) (fun c_f10_2 j_f10_2 => ?b2_f10_2) ?k_f10_2
    case b1_f10_2 =>
      refine x_iconst (n' := 18) (v := 0) dX9_in_17 (by decide) rfl ?_
      exact j_f10_2
    case b2_f10_2 =>
      refine x_iconst (n' := 14) (v := 1) dX9_in_13 (by decide) rfl ?_
      refine x_goto (tgt := 18) dX9_in_14 (by decide) ?_
      exact j_f10_2
    exact j_f3_1
  exact x_zret dX9_in_18 hret (by rw [in_eq]; exact k_zn (bi_01 _)) hE0 (by rw [in_eq]; exact ⟨rfl, rfl⟩)

theorem ffX9_9_9 : FF "KeptLightModel" 9 9 0 "KeptLightModel" := ⟨by decide, by decide, q3252, Or.inl rfl⟩
set_option maxHeartbeats 4000000 in
set_option maxRecDepth 100000 in
theorem c_X9_ofKeeper (l : Launch) (G : kG) (M : kM) (m : Nat) (ad : Nat → Nat) (hS : MS M m ad) (k w : Nat) (hk : 4 * k + w < 2000) : Kt l G yX9_ofKeeper cX9_ofKeeper 3 (some .int) 0 0 [.ref m, .int (nI k), .int (nI w)] M (0) (0) (fun v M2 => v = some (.int (mA M (ad 0) (61 + 4 * k + w))) ∧ M2 = M) := by
  refine Kt.of (own := "KeptLightModel") (L := [some (.ref m), some (.int (nI k)), some (.int (nI w))]) (by decide +kernel) rfl (Nat.le_of_ble_eq_true rfl) rfl ?_
  intro pp ee ss mm args below meth cd hmn hret
  have hE0 : kE M M := kE.rf
  have km := hS.1
  obtain ⟨hr_g, kk_g, hn_g⟩ := hS.2.1 0 (by decide)
  have hn_g : mN M (ad 0) = 2509 := hn_g
  have kk_g : mK M (ad 0) = some 120 := kk_g
  refine x_aload_n (n' := 1) dX9_ofKeeper_0 rfl rfl rfl ?_
  refine x_getRs (n' := 4) (b := (ad 0)) dX9_ofKeeper_1 km ffX9_9_9 rfl hr_g rfl ?_
  refine x_bipush (n' := 6) (v := 61) dX9_ofKeeper_4 (by decide) rfl ?_
  refine x_iconst (n' := 7) (v := 4) dX9_ofKeeper_6 (by decide) rfl ?_
  refine x_iload_n (n' := 8) dX9_ofKeeper_7 rfl rfl rfl ?_
  refine x_imul (n' := 9) dX9_ofKeeper_8 rfl ?_
  refine x_iadd (n' := 10) dX9_ofKeeper_9 rfl ?_
  refine x_iload_n (n' := 11) dX9_ofKeeper_10 rfl rfl rfl ?_
  refine x_iadd (n' := 12) dX9_ofKeeper_11 rfl ?_
  refine x_ildk (n' := 13) dX9_ofKeeper_12 kk_g hn_g (by repeat' (first | with_reducible exact nl_0 | with_reducible exact nl_4 | with_reducible exact nl_61 | with_reducible exact rfl | apply i_add | apply i_mul)) (by omega) (by decide) (by first | (simp (disch := omega) only [mA_sA, up_s, up_n, if_false] <;> rfl) | rfl) rfl ?_
  exact x_iret dX9_ofKeeper_13 hret hE0 (⟨rfl, rfl⟩)

set_option maxHeartbeats 4000000 in
set_option maxRecDepth 100000 in
theorem c_X9_ofShip (l : Launch) (G : kG) (M : kM) (m : Nat) (ad : Nat → Nat) (hS : MS M m ad) (k w : Nat) (hk : 4 * k + w < 2000) : Kt l G yX9_ofShip cX9_ofShip 3 (some .int) 0 0 [.ref m, .int (nI k), .int (nI w)] M (0) (0) (fun v M2 => v = some (.int (mA M (ad 0) (109 + 4 * k + w))) ∧ M2 = M) := by
  refine Kt.of (own := "KeptLightModel") (L := [some (.ref m), some (.int (nI k)), some (.int (nI w))]) (by decide +kernel) rfl (Nat.le_of_ble_eq_true rfl) rfl ?_
  intro pp ee ss mm args below meth cd hmn hret
  have hE0 : kE M M := kE.rf
  have km := hS.1
  obtain ⟨hr_g, kk_g, hn_g⟩ := hS.2.1 0 (by decide)
  have hn_g : mN M (ad 0) = 2509 := hn_g
  have kk_g : mK M (ad 0) = some 120 := kk_g
  refine x_aload_n (n' := 1) dX9_ofShip_0 rfl rfl rfl ?_
  refine x_getRs (n' := 4) (b := (ad 0)) dX9_ofShip_1 km ffX9_9_9 rfl hr_g rfl ?_
  refine x_bipush (n' := 6) (v := 109) dX9_ofShip_4 (by decide) rfl ?_
  refine x_iconst (n' := 7) (v := 4) dX9_ofShip_6 (by decide) rfl ?_
  refine x_iload_n (n' := 8) dX9_ofShip_7 rfl rfl rfl ?_
  refine x_imul (n' := 9) dX9_ofShip_8 rfl ?_
  refine x_iadd (n' := 10) dX9_ofShip_9 rfl ?_
  refine x_iload_n (n' := 11) dX9_ofShip_10 rfl rfl rfl ?_
  refine x_iadd (n' := 12) dX9_ofShip_11 rfl ?_
  refine x_ildk (n' := 13) dX9_ofShip_12 kk_g hn_g (by repeat' (first | with_reducible exact nl_0 | with_reducible exact nl_4 | with_reducible exact nl_109 | with_reducible exact rfl | apply i_add | apply i_mul)) (by omega) (by decide) (by first | (simp (disch := omega) only [mA_sA, up_s, up_n, if_false] <;> rfl) | rfl) rfl ?_
  exact x_iret dX9_ofShip_13 hret hE0 (⟨rfl, rfl⟩)

theorem ffX9_135_9 : FF "KeptLightModel" 135 9 9 "KeptLightModel" := ⟨by decide, by decide, q3261, Or.inl rfl⟩
set_option maxHeartbeats 4000000 in
set_option maxRecDepth 100000 in
theorem c_X9_wipe (l : Launch) (G : kG) (M : kM) (m : Nat) (ad : Nat → Nat) (hS : MS M m ad)   : Kt l G yX9_wipe cX9_wipe 2 (some .int) 0 0 [.ref m] M (0) (0) (fun v M2 => v = some (.int (mI M (fc 9 9) m)) ∧ M2 = sI M (fc 9 9) m 0) := by
  refine Kt.of (own := "KeptLightModel") (L := [some (.ref m), none]) (by decide +kernel) rfl (Nat.le_of_ble_eq_true rfl) rfl ?_
  intro pp ee ss mm args below meth cd hmn hret
  have hE0 : kE M M := kE.rf
  have km := hS.1
  refine x_aload_n (n' := 1) dX9_wipe_0 rfl rfl rfl ?_
  refine x_getI (n' := 4) dX9_wipe_1 km ffX9_135_9 rfl rfl ?_
  refine x_istore_n (n' := 5) dX9_wipe_4 rfl (Nat.le_of_ble_eq_true rfl) rfl (by dsimp only [List.set] <;> rfl) rfl ?_
  refine x_aload_n (n' := 6) dX9_wipe_5 rfl rfl rfl ?_
  refine x_iconst (n' := 7) (v := 0) dX9_wipe_6 (by decide) rfl ?_
  refine x_putI (n' := 10) dX9_wipe_7 km ffX9_135_9 rfl (⟨rfl, rfl⟩) rfl rfl ?_
  refine x_iload_n (n' := 11) dX9_wipe_10 rfl rfl rfl ?_
  exact x_iret dX9_wipe_11 hret hE0 (⟨rfl, rfl⟩)

set_option maxHeartbeats 4000000 in
set_option maxRecDepth 100000 in
theorem c_X9_unlit (l : Launch) (G : kG) (M : kM) (m : Nat) (ad : Nat → Nat) (hS : MS M m ad)   : Kt l G yX9_unlit cX9_unlit 1 (some .int) 0 0 [.ref m] M (0) (0) (fun v M2 => v = some (.int (mA M (ad 0) 17)) ∧ M2 = M) := by
  refine Kt.of (own := "KeptLightModel") (L := [some (.ref m)]) (by decide +kernel) rfl (Nat.le_of_ble_eq_true rfl) rfl ?_
  intro pp ee ss mm args below meth cd hmn hret
  have hE0 : kE M M := kE.rf
  have km := hS.1
  obtain ⟨hr_g, kk_g, hn_g⟩ := hS.2.1 0 (by decide)
  have hn_g : mN M (ad 0) = 2509 := hn_g
  have kk_g : mK M (ad 0) = some 120 := kk_g
  refine x_aload_n (n' := 1) dX9_unlit_0 rfl rfl rfl ?_
  refine x_getRs (n' := 4) (b := (ad 0)) dX9_unlit_1 km ffX9_9_9 rfl hr_g rfl ?_
  refine x_bipush (n' := 6) (v := 17) dX9_unlit_4 (by decide) rfl ?_
  refine x_ildk (n' := 7) dX9_unlit_6 kk_g hn_g (by repeat' (first | with_reducible exact nl_0 | with_reducible exact nl_17 | with_reducible exact rfl | apply i_add | apply i_mul)) (by omega) (by decide) (by first | (simp (disch := omega) only [mA_sA, up_s, up_n, if_false] <;> rfl) | rfl) rfl ?_
  exact x_iret dX9_unlit_7 hret hE0 (⟨rfl, rfl⟩)

set_option maxHeartbeats 4000000 in
set_option maxRecDepth 100000 in
theorem c_X9_seed (l : Launch) (G : kG) (M : kM) (m : Nat) (ad : Nat → Nat) (hS : MS M m ad) (x : Int32)  : Kt l G yX9_seed cX9_seed 3 (some .int) 0 0 [.ref m, .int x] M (0) (0) (fun v M2 => v = some (.int (mA M (ad 0) 19)) ∧ M2 = sA M (ad 0) (va_up (mA M (ad 0)) 19 x)) := by
  refine Kt.of (own := "KeptLightModel") (L := [some (.ref m), some (.int x), none]) (by decide +kernel) rfl (Nat.le_of_ble_eq_true rfl) rfl ?_
  intro pp ee ss mm args below meth cd hmn hret
  have hE0 : kE M M := kE.rf
  have km := hS.1
  obtain ⟨hr_g, kk_g, hn_g⟩ := hS.2.1 0 (by decide)
  have hn_g : mN M (ad 0) = 2509 := hn_g
  have kk_g : mK M (ad 0) = some 120 := kk_g
  refine x_aload_n (n' := 1) dX9_seed_0 rfl rfl rfl ?_
  refine x_getRs (n' := 4) (b := (ad 0)) dX9_seed_1 km ffX9_9_9 rfl hr_g rfl ?_
  refine x_bipush (n' := 6) (v := 19) dX9_seed_4 (by decide) rfl ?_
  refine x_ildk (n' := 7) dX9_seed_6 kk_g hn_g (by repeat' (first | with_reducible exact nl_0 | with_reducible exact nl_19 | with_reducible exact rfl | apply i_add | apply i_mul)) (by omega) (by decide) (by first | (simp (disch := omega) only [mA_sA, up_s, up_n, if_false] <;> rfl) | rfl) rfl ?_
  refine x_istore_n (n' := 8) dX9_seed_7 rfl (Nat.le_of_ble_eq_true rfl) rfl (by dsimp only [List.set] <;> rfl) rfl ?_
  refine x_aload_n (n' := 9) dX9_seed_8 rfl rfl rfl ?_
  refine x_getRs (n' := 12) (b := (ad 0)) dX9_seed_9 km ffX9_9_9 rfl hr_g rfl ?_
  refine x_bipush (n' := 14) (v := 19) dX9_seed_12 (by decide) rfl ?_
  refine x_iload_n (n' := 15) dX9_seed_14 rfl rfl rfl ?_
  refine x_iastk (n' := 16) dX9_seed_15 kk_g hn_g (by repeat' (first | with_reducible exact nl_0 | with_reducible exact nl_19 | with_reducible exact rfl | apply i_add | apply i_mul)) (by omega) (by decide) (by first | exact mA_sA | rfl) (by first | exact sA_sA | rfl) rfl ?_
  refine x_iload_n (n' := 17) dX9_seed_16 rfl rfl rfl ?_
  exact x_iret dX9_seed_17 hret hE0 (⟨rfl, rfl⟩)

set_option maxHeartbeats 4000000 in
set_option maxRecDepth 100000 in
theorem c_X9_isSmall (l : Launch) (G : kG) (M : kM) (k : Int32) : Kt l G yX9_isSmall cX9_isSmall 1 (some .boolean) 0 0 [.int k] M (0) (0) (fun v M2 => v = some (.int (bi (k = 3 ∨ k = 4))) ∧ M2 = M) := by
  refine Kt.of (own := "KeptLightModel") (L := [some (.int k)]) (by decide +kernel) rfl (Nat.le_of_ble_eq_true rfl) rfl ?_
  intro pp ee ss mm args below meth cd hmn hret
  have hE0 : kE M M := kE.rf
  have he : (if k = 3 then (1 : Int32) else if k = 4 then 1 else 0) = bi (k = 3 ∨ k = 4) := by unfold bi; by_cases h1 : k = 3 <;> by_cases h2 : k = 4 <;> simp [h1, h2]
  refine x_iload_n (n' := 1) dX9_isSmall_0 rfl rfl rfl ?_
  refine x_iconst (n' := 2) (v := 3) dX9_isSmall_1 (by decide) rfl ?_
  refine x_fork (J := 15) (x_icmp_eq (n' := 5) (tgt := 10) dX9_isSmall_2 (by decide) rfl) (v1 := ?v1_f2_1) (v2 := ?v2_f2_1) (fun c_f2_1 j_f2_1 => ?b1_f2_1) (fun c_f2_1 j_f2_1 => ?b2_f2_1) ?k_f2_1
  case b1_f2_1 =>
    refine x_iconst (n' := 11) (v := 1) dX9_isSmall_10 (by decide) rfl ?_
    refine x_goto (tgt := 15) dX9_isSmall_11 (by decide) ?_
    exact j_f2_1
  case b2_f2_1 =>
    refine x_iload_n (n' := 6) dX9_isSmall_5 rfl rfl rfl ?_
    refine x_iconst (n' := 7) (v := 4) dX9_isSmall_6 (by decide) rfl ?_
    refine x_forkN (J := 15) (x_icmp_ne (n' := 10) (tgt := 14) dX9_isSmall_7 (by decide) rfl) (v1 := ?v1_f7_2) (v2 := ?v2_f7_2) (fun c_f7_2 j_f7_2 => ?b1_f7_2) (fun c_f7_2 j_f7_2 => ?b2_f7_2) ?k_f7_2
    case b1_f7_2 =>
      refine x_iconst (n' := 15) (v := 0) dX9_isSmall_14 (by decide) rfl ?_
      exact j_f7_2
    case b2_f7_2 =>
      refine x_iconst (n' := 11) (v := 1) dX9_isSmall_10 (by decide) rfl ?_
      refine x_goto (tgt := 15) dX9_isSmall_11 (by decide) ?_
      exact j_f7_2
    exact j_f2_1
  exact x_zret dX9_isSmall_15 hret (by rw [he]; exact k_zn (bi_01 _)) hE0 (by rw [he]; exact ⟨rfl, rfl⟩)

set_option maxHeartbeats 4000000 in
set_option maxRecDepth 100000 in
theorem c_X9_copies (l : Launch) (G : kG) (M : kM) (a b : Nat) (ha : mK M a = some 120) (hb : mK M b = some 120) (hab : (a = b) = False) (hna : mN M a = 2509) (hnb : mN M b = 2509) : Kt l G yX9_copies cX9_copies 3 none 0 0 [.ref a, .ref b] M (0) (0) (fun v M2 => v = none ∧ M2 = sA M b (cpy (mA M a) (mA M b) 2509)) := by
  refine Kt.of (own := "KeptLightModel") (L := [some (.ref a), some (.ref b), none]) (by decide +kernel) rfl (Nat.le_of_ble_eq_true rfl) rfl ?_
  intro pp ee ss mm args below meth cd hmn hret
  have hE0 : kE M M := kE.rf
  have cut2 : ∀ (fuel : Nat) (i : Nat) (h1 : 2509 - i < fuel) (h2 : i ≤ 2509) (hE0 : kE M M), Wx pp l ee { frames := 0, cells := 0, slots := 0, locals := 0 } ss mm args below meth cd "KeptLightModel" cX9_copies 3 G (MQ below (KQ G M (fun v M2 => v = none ∧ M2 = sA M b (cpy (mA M a) (mA M b) 2509))) args ss (0) (0) (kA G)) 2 [some (.ref a), some (.ref b), some (.int (nI i))] [] (sA M b (cpy (mA M a) (mA M b) i)) (0) (0) := by
    intro fuel
    induction fuel with
    | zero => intro i h1 h2 hE0; omega
    | succ fuel ih =>
      intro i h1 h2 hE0
      refine x_iload_n (n' := 3) dX9_copies_2 rfl rfl rfl ?_
      refine x_sipush (n' := 6) (v := 2509) dX9_copies_3 (by decide) rfl ?_
      refine x_icmp_ge (n' := 9) (tgt := 21) dX9_copies_6 (by decide) rfl (fun c6_1 => ?_) (fun c6_1 => ?_)
      · have n_c6_1 := (cv_le (by repeat' (first | with_reducible exact nl_0 | with_reducible exact nl_2509 | with_reducible exact rfl | apply i_add | apply i_mul)) (by repeat' (first | with_reducible exact nl_0 | with_reducible exact nl_2509 | with_reducible exact rfl | apply i_add | apply i_mul)) (by omega) (by omega)).mp c6_1
        exact x_vret dX9_copies_21 hret hE0 (⟨rfl, by rw [show i = 2509 by omega]⟩)
      · have n_c6_1 := (not_congr (cv_le (by repeat' (first | with_reducible exact nl_0 | with_reducible exact nl_2509 | with_reducible exact rfl | apply i_add | apply i_mul)) (by repeat' (first | with_reducible exact nl_0 | with_reducible exact nl_2509 | with_reducible exact rfl | apply i_add | apply i_mul)) (by omega) (by omega))).mp c6_1
        refine x_aload_n (n' := 10) dX9_copies_9 rfl rfl rfl ?_
        refine x_iload_n (n' := 11) dX9_copies_10 rfl rfl rfl ?_
        refine x_aload_n (n' := 12) dX9_copies_11 rfl rfl rfl ?_
        refine x_iload_n (n' := 13) dX9_copies_12 rfl rfl rfl ?_
        refine x_ildk (n' := 14) dX9_copies_13 ha hna (by repeat' (first | with_reducible exact nl_0 | with_reducible exact nl_2509 | with_reducible exact rfl | apply i_add | apply i_mul)) (by omega) (by decide) (by rw [mA_sA_n (fun q => by rw [q] at hab; simp at hab)]) rfl ?_
        refine x_iastk (n' := 15) dX9_copies_14 hb hnb (by repeat' (first | with_reducible exact nl_0 | with_reducible exact nl_2509 | with_reducible exact rfl | apply i_add | apply i_mul)) (by omega) (by decide) (by first | exact mA_sA | rfl) (by first | exact sA_sA | rfl) rfl ?_
        refine x_iinc (n' := 18) dX9_copies_15 rfl (by first | exact nI_inc _ | exact nI_decp (by omega) | exact i_inc _ | rfl) (Nat.le_of_ble_eq_true rfl) rfl (by dsimp only [List.set] <;> rfl) rfl ?_
        refine x_goto (tgt := 2) dX9_copies_18 (by decide) ?_
        rw [cpy_s]
        exact x_drop (ih (i + 1) (by omega) (by omega) hE0) ⟨rfl, ⟨rfl, ⟨rfl, trivial⟩⟩⟩
  refine x_iconst (n' := 1) (v := 0) dX9_copies_0 (by decide) rfl ?_
  refine x_istore_n (n' := 2) dX9_copies_1 rfl (Nat.le_of_ble_eq_true rfl) rfl (by dsimp only [List.set] <;> rfl) rfl ?_
  refine x_mem (M2 := sA M b (cpy (mA M a) (mA M b) 0)) (by rw [cpy_0, sA_eta]) ?_
  exact x_drop (cut2 2510 0 (by omega) (by omega) hE0) ⟨rfl, ⟨rfl, ⟨rfl, trivial⟩⟩⟩

set_option maxHeartbeats 4000000 in
set_option maxRecDepth 100000 in
theorem c_X9_lasts (l : Launch) (G : kG) (M : kM) (m : Nat) (ad : Nat → Nat) (hS : MS M m ad) (k : Nat) (hk : k < 6) : Kt l G yX9_lasts cX9_lasts 2 (some .int) 1 22 [.ref m, .int (nI k)] M (0) (0) (fun v M2 => v = some (.int (12 - 3 * mA M (ad 0) (61 + 4 * k))) ∧ M2 = M) := by
  refine Kt.of (own := "KeptLightModel") (L := [some (.ref m), some (.int (nI k))]) (by decide +kernel) rfl (Nat.le_of_ble_eq_true rfl) rfl ?_
  intro pp ee ss mm args below meth cd hmn hret
  have hE0 : kE M M := kE.rf
  have km := hS.1
  refine x_bipush (n' := 2) (v := 12) dX9_lasts_0 (by decide) rfl ?_
  refine x_iconst (n' := 3) (v := 3) dX9_lasts_2 (by decide) rfl ?_
  refine x_aload_n (n' := 4) dX9_lasts_3 rfl rfl rfl ?_
  refine x_iload_n (n' := 5) dX9_lasts_4 rfl rfl rfl ?_
  refine x_iconst (n' := 6) (v := 0) dX9_lasts_5 (by decide) rfl ?_
  refine x_callV (n' := 9) (n := 2) (c_X9_ofKeeper l G _ m ad hS k 0 (by omega)) dX9_lasts_6 km rfl (lw_V q3421 q3423 qs59 q109 q3424) (by decide +kernel) ⟨(Nat.le_of_ble_eq_true rfl), (Nat.le_of_ble_eq_true rfl)⟩ rfl rfl (Nat.le_of_ble_eq_true rfl) (by first | exact Nat.le_of_ble_eq_true rfl | omega) (by first | exact Nat.le_of_ble_eq_true rfl | omega) rfl (fun v_1 M_2 h_4 hE_3 => ?_)
  have km := hE_3 _ _ km
  have hE0 : kE M _ := fun a K q9 => hE_3 a K (hE0 a K q9)
  obtain ⟨rfl, hMs⟩ := h_4
  have hMs := hMs.symm
  subst hMs
  refine x_imul (n' := 10) dX9_lasts_9 rfl ?_
  refine x_isub (n' := 11) dX9_lasts_10 rfl ?_
  exact x_iret dX9_lasts_11 hret hE0 (⟨rfl, rfl⟩)

set_option maxHeartbeats 4000000 in
set_option maxRecDepth 100000 in
theorem c_X9_isKeeper (l : Launch) (G : kG) (M : kM) (m : Nat) (ad : Nat → Nat) (hS : MS M m ad) (k : Int32) (nk : Nat) (hnk : mA M (ad 0) 13 = nI nk) (hk : nk < 7) : Kt l G yX9_isKeeper cX9_isKeeper 2 (some .boolean) 1 25 [.ref m, .int k] M (0) (0) (fun v M2 => v = some (.int (bi (0 ≤ k ∧ k < nI nk))) ∧ M2 = M) := by
  refine Kt.of (own := "KeptLightModel") (L := [some (.ref m), some (.int k)]) (by decide +kernel) rfl (Nat.le_of_ble_eq_true rfl) rfl ?_
  intro pp ee ss mm args below meth cd hmn hret
  have hE0 : kE M M := kE.rf
  have km := hS.1
  obtain ⟨hr_g, kk_g, hn_g⟩ := hS.2.1 0 (by decide)
  have hn_g : mN M (ad 0) = 2509 := hn_g
  have kk_g : mK M (ad 0) = some 120 := kk_g
  refine x_iload_n (n' := 1) dX9_isKeeper_0 rfl rfl rfl ?_
  refine x_i2l (n' := 2) dX9_isKeeper_1 rfl rfl ?_
  refine x_lconst (n' := 3) (v := 0) dX9_isKeeper_2 (by decide) rfl ?_
  refine x_aload_n (n' := 4) dX9_isKeeper_3 rfl rfl rfl ?_
  refine x_getRs (n' := 7) (b := (ad 0)) dX9_isKeeper_4 km ffX9_9_9 rfl hr_g rfl ?_
  refine x_bipush (n' := 9) (v := 13) dX9_isKeeper_7 (by decide) rfl ?_
  refine x_ildk (n' := 10) dX9_isKeeper_9 kk_g hn_g (by repeat' (first | with_reducible exact nl_0 | with_reducible exact nl_1 | with_reducible exact nl_13 | with_reducible exact rfl | apply i_add | apply i_mul)) (by omega) (by decide) (by first | exact hnk | (simp (disch := omega) only [mA_sA, up_s, up_n, hnk, if_false] <;> rfl) | rfl) rfl ?_
  refine x_iconst (n' := 11) (v := 1) dX9_isKeeper_10 (by decide) rfl ?_
  refine x_isub (n' := 12) dX9_isKeeper_11 rfl ?_
  refine x_i2l (n' := 13) dX9_isKeeper_12 rfl rfl ?_
  refine x_callS (n' := 16) (n := 3) (c_X9_in l G _ k.toInt64 0 (nI nk - 1).toInt64) dX9_isKeeper_13 (lw_S q3321 q3322 q109 q3323) (by decide +kernel) ⟨(Nat.le_of_ble_eq_true rfl), (Nat.le_of_ble_eq_true rfl)⟩ rfl rfl (Nat.le_of_ble_eq_true rfl) (by first | exact Nat.le_of_ble_eq_true rfl | omega) (by first | exact Nat.le_of_ble_eq_true rfl | omega) rfl (fun v_1 M_2 h_4 hE_3 => ?_)
  have kk_g := hE_3 _ _ kk_g
  have km := hE_3 _ _ km
  have hE0 : kE M _ := fun a K q9 => hE_3 a K (hE0 a K q9)
  obtain ⟨rfl, hMs⟩ := h_4
  have hMs := hMs.symm
  subst hMs
  exact x_zret dX9_isKeeper_16 hret (k_zn (bi_01 _)) hE0 (by rw [k_in1 k (Nat.lt_of_lt_of_le hk (by decide))]; exact ⟨rfl, rfl⟩)

set_option maxHeartbeats 4000000 in
set_option maxRecDepth 100000 in
theorem c_X9_isShip (l : Launch) (G : kG) (M : kM) (m : Nat) (ad : Nat → Nat) (hS : MS M m ad) (k : Int32) (nk : Nat) (hnk : mA M (ad 0) 14 = nI nk) (hk : nk < 201) : Kt l G yX9_isShip cX9_isShip 2 (some .boolean) 1 25 [.ref m, .int k] M (0) (0) (fun v M2 => v = some (.int (bi (0 ≤ k ∧ k < nI nk))) ∧ M2 = M) := by
  refine Kt.of (own := "KeptLightModel") (L := [some (.ref m), some (.int k)]) (by decide +kernel) rfl (Nat.le_of_ble_eq_true rfl) rfl ?_
  intro pp ee ss mm args below meth cd hmn hret
  have hE0 : kE M M := kE.rf
  have km := hS.1
  obtain ⟨hr_g, kk_g, hn_g⟩ := hS.2.1 0 (by decide)
  have hn_g : mN M (ad 0) = 2509 := hn_g
  have kk_g : mK M (ad 0) = some 120 := kk_g
  refine x_iload_n (n' := 1) dX9_isShip_0 rfl rfl rfl ?_
  refine x_i2l (n' := 2) dX9_isShip_1 rfl rfl ?_
  refine x_lconst (n' := 3) (v := 0) dX9_isShip_2 (by decide) rfl ?_
  refine x_aload_n (n' := 4) dX9_isShip_3 rfl rfl rfl ?_
  refine x_getRs (n' := 7) (b := (ad 0)) dX9_isShip_4 km ffX9_9_9 rfl hr_g rfl ?_
  refine x_bipush (n' := 9) (v := 14) dX9_isShip_7 (by decide) rfl ?_
  refine x_ildk (n' := 10) dX9_isShip_9 kk_g hn_g (by repeat' (first | with_reducible exact nl_0 | with_reducible exact nl_1 | with_reducible exact nl_14 | with_reducible exact rfl | apply i_add | apply i_mul)) (by omega) (by decide) (by first | exact hnk | (simp (disch := omega) only [mA_sA, up_s, up_n, hnk, if_false] <;> rfl) | rfl) rfl ?_
  refine x_iconst (n' := 11) (v := 1) dX9_isShip_10 (by decide) rfl ?_
  refine x_isub (n' := 12) dX9_isShip_11 rfl ?_
  refine x_i2l (n' := 13) dX9_isShip_12 rfl rfl ?_
  refine x_callS (n' := 16) (n := 3) (c_X9_in l G _ k.toInt64 0 (nI nk - 1).toInt64) dX9_isShip_13 (lw_S q3321 q3322 q109 q3323) (by decide +kernel) ⟨(Nat.le_of_ble_eq_true rfl), (Nat.le_of_ble_eq_true rfl)⟩ rfl rfl (Nat.le_of_ble_eq_true rfl) (by first | exact Nat.le_of_ble_eq_true rfl | omega) (by first | exact Nat.le_of_ble_eq_true rfl | omega) rfl (fun v_1 M_2 h_4 hE_3 => ?_)
  have kk_g := hE_3 _ _ kk_g
  have km := hE_3 _ _ km
  have hE0 : kE M _ := fun a K q9 => hE_3 a K (hE0 a K q9)
  obtain ⟨rfl, hMs⟩ := h_4
  have hMs := hMs.symm
  subst hMs
  exact x_zret dX9_isShip_16 hret (k_zn (bi_01 _)) hE0 (by rw [k_in1 k (Nat.lt_of_lt_of_le hk (by decide))]; exact ⟨rfl, rfl⟩)

set_option maxHeartbeats 4000000 in
set_option maxRecDepth 100000 in
theorem c_X9_isShelf (l : Launch) (G : kG) (M : kM) (k : Int32) : Kt l G yX9_isShelf cX9_isShelf 1 (some .boolean) 1 25 [.int k] M (0) (0) (fun v M2 => v = some (.int (bi (0 ≤ k ∧ k ≤ 7))) ∧ M2 = M) := by
  refine Kt.of (own := "KeptLightModel") (L := [some (.int k)]) (by decide +kernel) rfl (Nat.le_of_ble_eq_true rfl) rfl ?_
  intro pp ee ss mm args below meth cd hmn hret
  have hE0 : kE M M := kE.rf
  refine x_iload_n (n' := 1) dX9_isShelf_0 rfl rfl rfl ?_
  refine x_i2l (n' := 2) dX9_isShelf_1 rfl rfl ?_
  refine x_lconst (n' := 3) (v := 0) dX9_isShelf_2 (by decide) rfl ?_
  refine x_ldc2 (n' := 6) q3367 dX9_isShelf_3 rfl ?_
  refine x_callS (n' := 9) (n := 3) (c_X9_in l G _ k.toInt64 0 7) dX9_isShelf_6 (lw_S q3321 q3322 q109 q3323) (by decide +kernel) ⟨(Nat.le_of_ble_eq_true rfl), (Nat.le_of_ble_eq_true rfl)⟩ rfl rfl (Nat.le_of_ble_eq_true rfl) (by first | exact Nat.le_of_ble_eq_true rfl | omega) (by first | exact Nat.le_of_ble_eq_true rfl | omega) rfl (fun v_1 M_2 h_4 hE_3 => ?_)
  have hE0 : kE M _ := fun a K q9 => hE_3 a K (hE0 a K q9)
  obtain ⟨rfl, hMs⟩ := h_4
  have hMs := hMs.symm
  subst hMs
  exact x_zret dX9_isShelf_9 hret (k_zn (bi_01 _)) hE0 (by rw [k_in2 k (z := 7) (y := 7) rfl]; exact ⟨rfl, rfl⟩)

theorem ffX9_19_9 : FF "KeptLightModel" 19 9 4 "KeptLightModel" := ⟨by decide, by decide, q3256, Or.inl rfl⟩
set_option maxHeartbeats 4000000 in
set_option maxRecDepth 100000 in
theorem c_X9_refused (l : Launch) (G : kG) (M : kM) (m : Nat) (ad : Nat → Nat) (hS : MS M m ad) (k : Nat) (hk : k < 5) : Kt l G yX9_refused cX9_refused 2 (some .int) 0 0 [.ref m, .int (-(nI (102 + k)))] M (0) (0) (fun v M2 => v = some (.int (-(nI (102 + k)))) ∧ M2 = sA M (ad 3) (va_up (mA M (ad 3)) k (mA M (ad 3) k + 1))) := by
  refine Kt.of (own := "KeptLightModel") (L := [some (.ref m), some (.int (-(nI (102 + k))))]) (by decide +kernel) rfl (Nat.le_of_ble_eq_true rfl) rfl ?_
  intro pp ee ss mm args below meth cd hmn hret
  have hE0 : kE M M := kE.rf
  have km := hS.1
  obtain ⟨hr_refusals, kk_refusals, hn_refusals⟩ := hS.2.1 3 (by decide)
  have hn_refusals : mN M (ad 3) = 5 := hn_refusals
  have kk_refusals : mK M (ad 3) = some 120 := kk_refusals
  have hx : -(-(nI (102 + k))) - nI 102 = nI k := k_neg2 k hk
  refine x_aload_n (n' := 1) dX9_refused_0 rfl rfl rfl ?_
  refine x_getRs (n' := 4) (b := (ad 3)) dX9_refused_1 km ffX9_19_9 rfl hr_refusals rfl ?_
  refine x_iload_n (n' := 5) dX9_refused_4 rfl rfl rfl ?_
  refine x_ineg (n' := 6) dX9_refused_5 rfl ?_
  refine x_bipush (n' := 8) (v := 102) dX9_refused_6 (by decide) rfl ?_
  refine x_isub (n' := 9) dX9_refused_8 rfl ?_
  refine x_dup2_11 (n' := 10) dX9_refused_9 rfl rfl rfl ?_
  refine x_ildk (n' := 11) dX9_refused_10 kk_refusals hn_refusals hx (by omega) (by decide) (by first | (simp (disch := omega) only [mA_sA, up_s, up_n, if_false] <;> rfl) | rfl) rfl ?_
  refine x_iconst (n' := 12) (v := 1) dX9_refused_11 (by decide) rfl ?_
  refine x_iadd (n' := 13) dX9_refused_12 rfl ?_
  refine x_iastk (n' := 14) dX9_refused_13 kk_refusals hn_refusals hx (by omega) (by decide) (by first | exact mA_sA | rfl) (by first | exact sA_sA | rfl) rfl ?_
  refine x_iload_n (n' := 15) dX9_refused_14 rfl rfl rfl ?_
  exact x_iret dX9_refused_15 hret hE0 (⟨rfl, rfl⟩)

set_option maxHeartbeats 4000000 in
set_option maxRecDepth 100000 in
theorem c_X9_isDark (l : Launch) (G : kG) (M : kM) (m : Nat) (ad : Nat → Nat) (hS : MS M m ad) (n : Nat) (hn : n < 2147483648) : Kt l G yX9_isDark cX9_isDark 2 (some .boolean) 0 0 [.ref m, .int (nI n)] M (0) (0) (fun v M2 => v = some (.int (bi (dkG (mA M (ad 0)) n))) ∧ M2 = M) := by
  refine Kt.of (own := "KeptLightModel") (L := [some (.ref m), some (.int (nI n))]) (by decide +kernel) rfl (Nat.le_of_ble_eq_true rfl) rfl ?_
  intro pp ee ss mm args below meth cd hmn hret
  have hE0 : kE M M := kE.rf
  have km := hS.1
  obtain ⟨hr_g, kk_g, hn_g⟩ := hS.2.1 0 (by decide)
  have hn_g : mN M (ad 0) = 2509 := hn_g
  have kk_g : mK M (ad 0) = some 120 := kk_g
  have hrem : nI n - nI n / 24 * 24 = nI (n % 24) := pk_rem (d := 24) (by omega) (by decide) (by decide)
  have he : (if nI (n % 24) < mA M (ad 0) 1 then (1 : Int32) else if nI (n % 24) < mA M (ad 0) 2 then 0 else 1) = bi (dkG (mA M (ad 0)) n) := by
    unfold bi dkG
    by_cases h1 : nI (n % 24) < mA M (ad 0) 1 <;> by_cases h2 : nI (n % 24) < mA M (ad 0) 2
    · simp [h1]
    · simp [h1]
    · have : ¬ mA M (ad 0) 2 ≤ nI (n % 24) := Int32.not_le.mpr h2
      simp [h1, h2, this]
    · have : mA M (ad 0) 2 ≤ nI (n % 24) := Int32.not_lt.mp h2
      simp [h1, h2, this]
  refine x_iload_n (n' := 1) dX9_isDark_0 rfl rfl rfl ?_
  refine x_bipush (n' := 3) (v := 24) dX9_isDark_1 (by decide) rfl ?_
  refine x_irem (n' := 4) dX9_isDark_3 (by decide) rfl ?_
  refine x_aload_n (n' := 5) dX9_isDark_4 rfl rfl rfl ?_
  refine x_getRs (n' := 8) (b := (ad 0)) dX9_isDark_5 km ffX9_9_9 rfl hr_g rfl ?_
  refine x_iconst (n' := 9) (v := 1) dX9_isDark_8 (by decide) rfl ?_
  refine x_ildk (n' := 10) dX9_isDark_9 kk_g hn_g (by repeat' (first | with_reducible exact nl_0 | with_reducible exact nl_1 | with_reducible exact nl_2 | with_reducible exact nl_24 | with_reducible exact rfl | apply i_add | apply i_mul)) (by omega) (by decide) (by first | (simp (disch := omega) only [mA_sA, up_s, up_n, if_false] <;> rfl) | rfl) rfl ?_
  refine x_fork (J := 31) (x_icmp_lt (n' := 13) (tgt := 26) dX9_isDark_10 (by decide) rfl) (v1 := ?v1_f10_1) (v2 := ?v2_f10_1) (fun c_f10_1 j_f10_1 => ?b1_f10_1) (fun c_f10_1 j_f10_1 => ?b2_f10_1) ?k_f10_1
  case b1_f10_1 =>
    refine x_iconst (n' := 27) (v := 1) dX9_isDark_26 (by decide) rfl ?_
    refine x_goto (tgt := 31) dX9_isDark_27 (by decide) ?_
    exact j_f10_1
  case b2_f10_1 =>
    refine x_iload_n (n' := 14) dX9_isDark_13 rfl rfl rfl ?_
    refine x_bipush (n' := 16) (v := 24) dX9_isDark_14 (by decide) rfl ?_
    refine x_irem (n' := 17) dX9_isDark_16 (by decide) rfl ?_
    refine x_aload_n (n' := 18) dX9_isDark_17 rfl rfl rfl ?_
    refine x_getRs (n' := 21) (b := (ad 0)) dX9_isDark_18 km ffX9_9_9 rfl hr_g rfl ?_
    refine x_iconst (n' := 22) (v := 2) dX9_isDark_21 (by decide) rfl ?_
    refine x_ildk (n' := 23) dX9_isDark_22 kk_g hn_g (by repeat' (first | with_reducible exact nl_0 | with_reducible exact nl_1 | with_reducible exact nl_2 | with_reducible exact nl_24 | with_reducible exact rfl | apply i_add | apply i_mul)) (by omega) (by decide) (by first | (simp (disch := omega) only [mA_sA, up_s, up_n, if_false] <;> rfl) | rfl) rfl ?_
    refine x_fork (J := 31) (x_icmp_lt (n' := 26) (tgt := 30) dX9_isDark_23 (by decide) rfl) (v1 := ?v1_f23_2) (v2 := ?v2_f23_2) (fun c_f23_2 j_f23_2 => ?b1_f23_2) (fun c_f23_2 j_f23_2 => ?b2_f23_2) ?k_f23_2
    case b1_f23_2 =>
      refine x_iconst (n' := 31) (v := 0) dX9_isDark_30 (by decide) rfl ?_
      exact j_f23_2
    case b2_f23_2 =>
      refine x_iconst (n' := 27) (v := 1) dX9_isDark_26 (by decide) rfl ?_
      refine x_goto (tgt := 31) dX9_isDark_27 (by decide) ?_
      exact j_f23_2
    exact j_f10_1
  exact x_zret dX9_isDark_31 hret (by rw [hrem, he]; exact k_zn (bi_01 _)) hE0 (by rw [hrem, he]; exact ⟨rfl, rfl⟩)

theorem lacks_eq (k d l s w : Int32) : True := trivial
