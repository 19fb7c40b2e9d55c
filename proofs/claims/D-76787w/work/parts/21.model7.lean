set_option maxHeartbeats 4000000 in
set_option maxRecDepth 100000 in
theorem c_X9_would (l : Launch) (G : kG) (M : kM) (m : Nat) (ad : Nat → Nat) (hS : MS M m ad) (g : gT) (sa : Nat → gT) (sf : Nat → Int32) (a k : Int32) (h nr nk ns : Nat) (hw : WF g h nr nk ns) (hb : h + 200 < 2147483648) : Kt l G yX9_would cX9_would 8 (some .int) 5 129 [.ref m, .int a, .int k] (SC M m ad g sa sf) (0) (0) (fun v M2 => ((0 ≤ a ∧ a ≤ 200) ∧ (0 ≤ k ∧ k ≤ 5) → v = some (.int (wldG g h nr nk ns (nn a) k)) ∧ ∃ sa2 sf2, M2 = SC M m ad g sa2 sf2) ∧ (¬ ((0 ≤ a ∧ a ≤ 200) ∧ (0 ≤ k ∧ k ≤ 5)) → v = some (.int (-(nI 102))) ∧ M2 = rfM (SC M m ad g sa sf) ad 0)) := by
  refine Kt.of (own := "KeptLightModel") (L := [some (.ref m), some (.int a), some (.int k), none, none, none, none, none]) (by decide +kernel) rfl (Nat.le_of_ble_eq_true rfl) rfl ?_
  intro pp ee ss mm args below meth cd hmn hret
  have km := hS.1
  obtain ⟨hr_g, kk_g, hn_g⟩ := hS.2.1 0 (by decide)
  have hr_g : mR M (fc 9 0) m = some (ad 0) := hr_g
  have hn_g : mN M (ad 0) = 2509 := hn_g
  have kk_g : mK M (ad 0) = some 120 := kk_g
  obtain ⟨hr_was, kk_was, hn_was⟩ := hS.2.1 1 (by decide)
  have hr_was : mR M (fc 9 1) m = some (ad 1) := hr_was
  have hn_was : mN M (ad 1) = 2509 := hn_was
  have kk_was : mK M (ad 1) = some 120 := kk_was
  have ne_g_was := hS.eqf 0 1 (by decide) (by decide) (by decide)
  have ne_was_g := hS.eqf 1 0 (by decide) (by decide) (by decide)
  refine x_iload_n (n' := 1) dX9_would_0 rfl rfl rfl ?_
  refine x_i2l (n' := 2) dX9_would_1 rfl rfl ?_
  refine x_lconst (n' := 3) (v := 0) dX9_would_2 (by decide) rfl ?_
  refine x_ldc2 (n' := 6) q3404 dX9_would_3 rfl ?_
  refine x_callS (n' := 9) (n := 3) (c_X9_in l G _ _ _ _) dX9_would_6 (lw_S q3321 q3322 q109 q3323) (by decide +kernel) ⟨(Nat.le_of_ble_eq_true rfl), (Nat.le_of_ble_eq_true rfl)⟩ rfl rfl (Nat.le_of_ble_eq_true rfl) (by first | exact Nat.le_of_ble_eq_true rfl | omega) (by first | exact Nat.le_of_ble_eq_true rfl | omega) rfl (fun v_1 M_2 h_4 hE_3 => ?_)
  obtain ⟨rfl, hMs⟩ := h_4
  have hMs := hMs.symm
  subst hMs
  rw [k_in3 (x := 0) (y := 200) (by decide) (by decide)]
  refine x_if_eq (n' := 12) (tgt := 24) dX9_would_9 (by decide) rfl (fun c9_5 => ?_) (fun c9_5 => ?_)
  · have C9 := c9_5
    refine x_aload_n (n' := 25) dX9_would_24 rfl rfl rfl ?_
    refine x_bipush (n' := 27) (v := -102) dX9_would_25 (by decide) rfl ?_
    refine x_topv (y := -(nI (102 + 0))) (by decide) ?_
    refine x_callV (n' := 30) (n := 1) (K := 9) (c_X9_refused l G _ m ad (by repeat' (first | with_reducible exact hS | with_reducible apply MS.sA | with_reducible apply MS.sI | with_reducible apply MS.sL | with_reducible apply MS.sc)) 0 (by decide)) dX9_would_27 (by repeat' (first | with_reducible exact km | with_reducible apply mK_A | with_reducible apply mK_I | with_reducible apply mK_L | with_reducible apply mK_R | with_reducible apply mK_O | with_reducible apply mK_S)) rfl (lw_V q3324 q3326 qs48 q109 q3327) (by decide +kernel) ⟨(Nat.le_of_ble_eq_true rfl), (Nat.le_of_ble_eq_true rfl)⟩ rfl rfl (Nat.le_of_ble_eq_true rfl) (by first | exact Nat.le_of_ble_eq_true rfl | omega) (by first | exact Nat.le_of_ble_eq_true rfl | omega) rfl (fun v_6 M_7 h_9 hE_8 => ?_)
    obtain ⟨rfl, hMs⟩ := h_9
    have hMs := hMs.symm
    subst hMs
    exact x_iret dX9_would_30 hret (by repeat' (first | with_reducible exact kE.rf | with_reducible exact kE_SS | with_reducible apply kE_A | with_reducible apply kE_I | with_reducible apply kE_L | with_reducible apply kE_R | with_reducible apply kE_O | with_reducible apply kE_S)) (⟨fun q => absurd q (by first | exact fun q => bi_0.mp C9 q.1 | exact fun q => bi_0.mp C21 q.2), fun _ => ⟨rfl, rfl⟩⟩)
  · have C9 := c9_5
    refine x_iload_n (n' := 13) dX9_would_12 rfl rfl rfl ?_
    refine x_i2l (n' := 14) dX9_would_13 rfl rfl ?_
    refine x_lconst (n' := 15) (v := 0) dX9_would_14 (by decide) rfl ?_
    refine x_ldc2 (n' := 18) q3473 dX9_would_15 rfl ?_
    refine x_callS (n' := 21) (n := 3) (c_X9_in l G _ _ _ _) dX9_would_18 (lw_S q3321 q3322 q109 q3323) (by decide +kernel) ⟨(Nat.le_of_ble_eq_true rfl), (Nat.le_of_ble_eq_true rfl)⟩ rfl rfl (Nat.le_of_ble_eq_true rfl) (by first | exact Nat.le_of_ble_eq_true rfl | omega) (by first | exact Nat.le_of_ble_eq_true rfl | omega) rfl (fun v_10 M_11 h_13 hE_12 => ?_)
    obtain ⟨rfl, hMs⟩ := h_13
    have hMs := hMs.symm
    subst hMs
    rw [k_in3 (x := 0) (y := 5) (by decide) (by decide)]
    refine x_if_ne (n' := 24) (tgt := 31) dX9_would_21 (by decide) rfl (fun c21_14 => ?_) (fun c21_14 => ?_)
    · have C21 := c21_14
      have hok : (0 ≤ a ∧ a ≤ 200) ∧ (0 ≤ k ∧ k ≤ 5) := ⟨bi_n0 C9, bi_n0 C21⟩
      have hn9 := nn_le (n := 200) hok.1.1 hok.1.2 (by decide)
      refine x_aload_n (n' := 32) dX9_would_31 rfl rfl rfl ?_
      refine x_getRs (n' := 35) (b := (ad 0)) dX9_would_32 (by repeat' (first | with_reducible exact km | with_reducible apply mK_A | with_reducible apply mK_I | with_reducible apply mK_L | with_reducible apply mK_R | with_reducible apply mK_O | with_reducible apply mK_S)) ffX9_9_9 rfl (by repeat' (first | with_reducible exact hr_g | with_reducible apply mR_A | with_reducible apply mR_I | with_reducible apply mR_L | with_reducible apply mR_S)) rfl ?_
      refine x_aload_n (n' := 36) dX9_would_35 rfl rfl rfl ?_
      refine x_getRs (n' := 39) (b := (ad 1)) dX9_would_36 (by repeat' (first | with_reducible exact km | with_reducible apply mK_A | with_reducible apply mK_I | with_reducible apply mK_L | with_reducible apply mK_R | with_reducible apply mK_O | with_reducible apply mK_S)) ffX9_13_9 rfl (by repeat' (first | with_reducible exact hr_was | with_reducible apply mR_A | with_reducible apply mR_I | with_reducible apply mR_L | with_reducible apply mR_S)) rfl ?_
      refine x_callS (n' := 42) (n := 2) (c_X9_copies l G _ (ad 0) (ad 1) (by repeat' (first | with_reducible exact kk_g | with_reducible apply mK_A | with_reducible apply mK_I | with_reducible apply mK_L | with_reducible apply mK_S)) (by repeat' (first | with_reducible exact kk_was | with_reducible apply mK_A | with_reducible apply mK_I | with_reducible apply mK_L | with_reducible apply mK_S)) ne_g_was (by repeat' (first | with_reducible exact hn_g | with_reducible apply mN_A | with_reducible apply mN_I | with_reducible apply mN_L | with_reducible apply mN_S)) (by repeat' (first | with_reducible exact hn_was | with_reducible apply mN_A | with_reducible apply mN_I | with_reducible apply mN_L | with_reducible apply mN_S))) dX9_would_39 (lw_S q3526 q3527 q109 q3528) (by decide +kernel) ⟨(Nat.le_of_ble_eq_true rfl), (Nat.le_of_ble_eq_true rfl)⟩ rfl rfl (Nat.le_of_ble_eq_true rfl) (by first | exact Nat.le_of_ble_eq_true rfl | omega) (by first | exact Nat.le_of_ble_eq_true rfl | omega) rfl (fun v_15 M_16 h_18 hE_17 => ?_)
      obtain ⟨rfl, hMs⟩ := h_18
      have hMs : M_16 = SC M m ad g (va_up sa 1 (cpy g (sa 1) 2509)) sf := hMs.trans (by rw [mA_SC0, mA_SC1 hS, SC_A1 hS])
      have hMs := hMs.symm
      subst hMs
      refine x_aload_n (n' := 43) dX9_would_42 rfl rfl rfl ?_
      refine x_iconst (n' := 44) (v := 1) dX9_would_43 (by decide) rfl ?_
      refine x_callV (n' := 47) (n := 1) (K := 9) (c_X9_became l G _ m ad (by repeat' (first | with_reducible exact hS | with_reducible apply MS.sA | with_reducible apply MS.sI | with_reducible apply MS.sL | with_reducible apply MS.sc)) 1 ns (by rw [mA_SC0]; exact hw.ss) hw.s2) dX9_would_44 (by repeat' (first | with_reducible exact km | with_reducible apply mK_A | with_reducible apply mK_I | with_reducible apply mK_L | with_reducible apply mK_R | with_reducible apply mK_O | with_reducible apply mK_S)) rfl (lw_V q3529 q3531 qs70 q109 q3532) (by decide +kernel) ⟨(Nat.le_of_ble_eq_true rfl), (Nat.le_of_ble_eq_true rfl)⟩ rfl rfl (Nat.le_of_ble_eq_true rfl) (by first | exact Nat.le_of_ble_eq_true rfl | omega) (by first | exact Nat.le_of_ble_eq_true rfl | omega) rfl (fun v_19 M_20 h_22 hE_21 => ?_)
      obtain ⟨rfl, hMs⟩ := h_22
      have hMs := hMs.symm
      subst hMs
      rw [mA_SC0]
      refine x_istore_n (n' := 48) dX9_would_47 rfl (Nat.le_of_ble_eq_true rfl) rfl (by dsimp only [List.set] <;> rfl) rfl ?_
      refine x_aload_n (n' := 49) dX9_would_48 rfl rfl rfl ?_
      refine x_iconst (n' := 50) (v := 2) dX9_would_49 (by decide) rfl ?_
      refine x_callV (n' := 53) (n := 1) (K := 9) (c_X9_became l G _ m ad (by repeat' (first | with_reducible exact hS | with_reducible apply MS.sA | with_reducible apply MS.sI | with_reducible apply MS.sL | with_reducible apply MS.sc)) 2 ns (by rw [mA_SC0]; exact hw.ss) hw.s2) dX9_would_50 (by repeat' (first | with_reducible exact km | with_reducible apply mK_A | with_reducible apply mK_I | with_reducible apply mK_L | with_reducible apply mK_R | with_reducible apply mK_O | with_reducible apply mK_S)) rfl (lw_V q3529 q3531 qs70 q109 q3532) (by decide +kernel) ⟨(Nat.le_of_ble_eq_true rfl), (Nat.le_of_ble_eq_true rfl)⟩ rfl rfl (Nat.le_of_ble_eq_true rfl) (by first | exact Nat.le_of_ble_eq_true rfl | omega) (by first | exact Nat.le_of_ble_eq_true rfl | omega) rfl (fun v_23 M_24 h_26 hE_25 => ?_)
      obtain ⟨rfl, hMs⟩ := h_26
      have hMs := hMs.symm
      subst hMs
      rw [mA_SC0]
      refine x_istore (n' := 55) dX9_would_53 (Nat.le_of_ble_eq_true rfl) rfl (by dsimp only [List.set] <;> rfl) rfl ?_
      refine x_aload_n (n' := 56) dX9_would_55 rfl rfl rfl ?_
      refine x_getRs (n' := 59) (b := (ad 0)) dX9_would_56 (by repeat' (first | with_reducible exact km | with_reducible apply mK_A | with_reducible apply mK_I | with_reducible apply mK_L | with_reducible apply mK_R | with_reducible apply mK_O | with_reducible apply mK_S)) ffX9_9_9 rfl (by repeat' (first | with_reducible exact hr_g | with_reducible apply mR_A | with_reducible apply mR_I | with_reducible apply mR_L | with_reducible apply mR_S)) rfl ?_
      refine x_bipush (n' := 61) (v := 20) dX9_would_59 (by decide) rfl ?_
      refine x_ildk (n' := 62) (N := 2509) dX9_would_61 (by repeat' (first | with_reducible exact kk_g | with_reducible apply mK_A | with_reducible apply mK_I | with_reducible apply mK_L | with_reducible apply mK_R | with_reducible apply mK_O | with_reducible apply mK_S)) (by repeat' (first | with_reducible exact hn_g | with_reducible apply mN_A | with_reducible apply mN_I | with_reducible apply mN_L | with_reducible apply mN_R | with_reducible apply mN_O | with_reducible apply mN_S)) (by repeat' (first | with_reducible exact nl_0 | with_reducible exact nl_1 | with_reducible exact nl_2 | with_reducible exact nl_3 | with_reducible exact nl_4 | with_reducible exact nl_5 | with_reducible exact nl_20 | with_reducible exact rfl | apply i_add | apply i_mul)) (by omega) (by decide) (by first | (simp (disch := omega) only [mA_sA, mA_sI, mA_SC0, mA_SC1 hS, mA_SC5 hS, mA_SC6 hS, mA_SC10 hS, mA_SC11 hS, mA_SC12 hS, up_s, up_n, if_false, ne_g_was, ne_was_g] <;> rfl) | rfl) rfl ?_
      refine x_istore (n' := 64) dX9_would_62 (Nat.le_of_ble_eq_true rfl) rfl (by dsimp only [List.set] <;> rfl) rfl ?_
      refine x_aload_n (n' := 65) dX9_would_64 rfl rfl rfl ?_
      refine x_iload_n (n' := 66) dX9_would_65 rfl rfl rfl ?_
      refine x_topv (nn_of hok.1.1) ?_
      refine x_callV (n' := 69) (n := 1) (K := 9) (c_X9_passes l G M m ad hS g _ sf h nr nk ns (nn a) hw (by omega)) dX9_would_66 (by repeat' (first | with_reducible exact km | with_reducible apply mK_A | with_reducible apply mK_I | with_reducible apply mK_L | with_reducible apply mK_R | with_reducible apply mK_O | with_reducible apply mK_S)) rfl (lw_V q3405 q3407 qs55 q109 q3408) (by decide +kernel) ⟨(Nat.le_of_ble_eq_true rfl), (Nat.le_of_ble_eq_true rfl)⟩ rfl rfl (Nat.le_of_ble_eq_true rfl) (by first | exact Nat.le_of_ble_eq_true rfl | omega) (by first | exact Nat.le_of_ble_eq_true rfl | omega) rfl (fun v_27 M_28 h_30 hE_29 => ?_)
      obtain ⟨rfl, sf2, hMs⟩ := h_30
      have hMs := hMs.symm
      subst hMs
      refine x_istore (n' := 71) dX9_would_69 (Nat.le_of_ble_eq_true rfl) rfl (by dsimp only [List.set] <;> rfl) rfl ?_
      refine x_iload_n (n' := 72) dX9_would_71 rfl rfl rfl ?_
      refine x_if_ne (n' := 75) (tgt := 80) dX9_would_72 (by decide) rfl (fun c72_31 => ?_) (fun c72_31 => ?_)
      · have C72 := c72_31
        refine x_iload_n (n' := 81) dX9_would_80 rfl rfl rfl ?_
        refine x_iconst (n' := 82) (v := 1) dX9_would_81 (by decide) rfl ?_
        refine x_icmp_ne (n' := 85) (tgt := 94) dX9_would_82 (by decide) rfl (fun c82_32 => ?_) (fun c82_32 => ?_)
        · have C82 := c82_32
          refine x_iload_n (n' := 95) dX9_would_94 rfl rfl rfl ?_
          refine x_iconst (n' := 96) (v := 2) dX9_would_95 (by decide) rfl ?_
          refine x_icmp_ne (n' := 99) (tgt := 108) dX9_would_96 (by decide) rfl (fun c96_33 => ?_) (fun c96_33 => ?_)
          · have C96 := c96_33
            refine x_iload_n (n' := 109) dX9_would_108 rfl rfl rfl ?_
            refine x_iconst (n' := 110) (v := 3) dX9_would_109 (by decide) rfl ?_
            refine x_icmp_ne (n' := 113) (tgt := 123) dX9_would_110 (by decide) rfl (fun c110_34 => ?_) (fun c110_34 => ?_)
            · have C110 := c110_34
              refine x_iload_n (n' := 124) dX9_would_123 rfl rfl rfl ?_
              refine x_iconst (n' := 125) (v := 4) dX9_would_124 (by decide) rfl ?_
              refine x_icmp_ne (n' := 128) (tgt := 139) dX9_would_125 (by decide) rfl (fun c125_35 => ?_) (fun c125_35 => ?_)
              · have C125 := c125_35
                refine x_aload_n (n' := 140) dX9_would_139 rfl rfl rfl ?_
                refine x_getRs (n' := 143) (b := (ad 0)) dX9_would_140 (by repeat' (first | with_reducible exact km | with_reducible apply mK_A | with_reducible apply mK_I | with_reducible apply mK_L | with_reducible apply mK_R | with_reducible apply mK_O | with_reducible apply mK_S)) ffX9_9_9 rfl (by repeat' (first | with_reducible exact hr_g | with_reducible apply mR_A | with_reducible apply mR_I | with_reducible apply mR_L | with_reducible apply mR_S)) rfl ?_
                refine x_bipush (n' := 145) (v := 20) dX9_would_143 (by decide) rfl ?_
                refine x_ildk (n' := 146) (N := 2509) dX9_would_145 (by repeat' (first | with_reducible exact kk_g | with_reducible apply mK_A | with_reducible apply mK_I | with_reducible apply mK_L | with_reducible apply mK_R | with_reducible apply mK_O | with_reducible apply mK_S)) (by repeat' (first | with_reducible exact hn_g | with_reducible apply mN_A | with_reducible apply mN_I | with_reducible apply mN_L | with_reducible apply mN_R | with_reducible apply mN_O | with_reducible apply mN_S)) (by repeat' (first | with_reducible exact nl_0 | with_reducible exact nl_1 | with_reducible exact nl_2 | with_reducible exact nl_3 | with_reducible exact nl_4 | with_reducible exact nl_5 | with_reducible exact nl_20 | with_reducible exact rfl | apply i_add | apply i_mul)) (by omega) (by decide) (by first | (simp (disch := omega) only [mA_sA, mA_sI, mA_SC0, mA_SC1 hS, mA_SC5 hS, mA_SC6 hS, mA_SC10 hS, mA_SC11 hS, mA_SC12 hS, up_s, up_n, if_false, ne_g_was, ne_was_g] <;> rfl) | rfl) rfl ?_
                refine x_iload (n' := 148) dX9_would_146 rfl rfl ?_
                refine x_isub (n' := 149) dX9_would_148 rfl ?_
                refine x_istore (n' := 151) dX9_would_149 (Nat.le_of_ble_eq_true rfl) rfl (by dsimp only [List.set] <;> rfl) rfl ?_
                refine x_aload_n (n' := 152) dX9_would_151 rfl rfl rfl ?_
                refine x_getRs (n' := 155) (b := (ad 1)) dX9_would_152 (by repeat' (first | with_reducible exact km | with_reducible apply mK_A | with_reducible apply mK_I | with_reducible apply mK_L | with_reducible apply mK_R | with_reducible apply mK_O | with_reducible apply mK_S)) ffX9_13_9 rfl (by repeat' (first | with_reducible exact hr_was | with_reducible apply mR_A | with_reducible apply mR_I | with_reducible apply mR_L | with_reducible apply mR_S)) rfl ?_
                refine x_aload_n (n' := 156) dX9_would_155 rfl rfl rfl ?_
                refine x_getRs (n' := 159) (b := (ad 0)) dX9_would_156 (by repeat' (first | with_reducible exact km | with_reducible apply mK_A | with_reducible apply mK_I | with_reducible apply mK_L | with_reducible apply mK_R | with_reducible apply mK_O | with_reducible apply mK_S)) ffX9_9_9 rfl (by repeat' (first | with_reducible exact hr_g | with_reducible apply mR_A | with_reducible apply mR_I | with_reducible apply mR_L | with_reducible apply mR_S)) rfl ?_
                refine x_callS (n' := 162) (n := 2) (c_X9_copies l G _ (ad 1) (ad 0) (by repeat' (first | with_reducible exact kk_was | with_reducible apply mK_A | with_reducible apply mK_I | with_reducible apply mK_L | with_reducible apply mK_S)) (by repeat' (first | with_reducible exact kk_g | with_reducible apply mK_A | with_reducible apply mK_I | with_reducible apply mK_L | with_reducible apply mK_S)) ne_was_g (by repeat' (first | with_reducible exact hn_was | with_reducible apply mN_A | with_reducible apply mN_I | with_reducible apply mN_L | with_reducible apply mN_S)) (by repeat' (first | with_reducible exact hn_g | with_reducible apply mN_A | with_reducible apply mN_I | with_reducible apply mN_L | with_reducible apply mN_S))) dX9_would_159 (lw_S q3526 q3527 q109 q3528) (by decide +kernel) ⟨(Nat.le_of_ble_eq_true rfl), (Nat.le_of_ble_eq_true rfl)⟩ rfl rfl (Nat.le_of_ble_eq_true rfl) (by first | exact Nat.le_of_ble_eq_true rfl | omega) (by first | exact Nat.le_of_ble_eq_true rfl | omega) rfl (fun v_36 M_37 h_39 hE_38 => ?_)
                obtain ⟨rfl, hMs⟩ := h_39
                have hMs : M_37 = SC M m ad g (va_up sa 1 (cpy g (sa 1) 2509)) sf2 := hMs.trans (by rw [mA_SC0, mA_SC1 hS, SC_A0, va_up_self, hrs_back hw (nn a)])
                have hMs := hMs.symm
                subst hMs
                refine x_iload (n' := 164) dX9_would_162 rfl rfl ?_
                exact x_iret dX9_would_164 hret (by repeat' (first | with_reducible exact kE.rf | with_reducible exact kE_SS | with_reducible apply kE_A | with_reducible apply kE_I | with_reducible apply kE_L | with_reducible apply kE_R | with_reducible apply kE_O | with_reducible apply kE_S)) (⟨fun _ => ⟨congrArg (fun z => some (Value.int z)) (by unfold wldG; first | rw [if_pos C72] | rw [if_neg C72, if_pos C82] | rw [if_neg C72, if_neg C82, if_pos C96] | rw [if_neg C72, if_neg C82, if_neg C96, if_pos C110] | rw [if_neg C72, if_neg C82, if_neg C96, if_neg C110, if_pos C125] | rw [if_neg C72, if_neg C82, if_neg C96, if_neg C110, if_neg C125]), _, _, rfl⟩, fun q => absurd hok q⟩)
              · have C125 := c125_35
                refine x_aload_n (n' := 129) dX9_would_128 rfl rfl rfl ?_
                refine x_iconst (n' := 130) (v := 2) dX9_would_129 (by decide) rfl ?_
                refine x_callV (n' := 133) (n := 1) (K := 9) (c_X9_became l G _ m ad (by repeat' (first | with_reducible exact hS | with_reducible apply MS.sA | with_reducible apply MS.sI | with_reducible apply MS.sL | with_reducible apply MS.sc)) 2 ns (by rw [mA_SC0]; exact (hrs_WF hw (nn a)).ss) hw.s2) dX9_would_130 (by repeat' (first | with_reducible exact km | with_reducible apply mK_A | with_reducible apply mK_I | with_reducible apply mK_L | with_reducible apply mK_R | with_reducible apply mK_O | with_reducible apply mK_S)) rfl (lw_V q3529 q3531 qs70 q109 q3532) (by decide +kernel) ⟨(Nat.le_of_ble_eq_true rfl), (Nat.le_of_ble_eq_true rfl)⟩ rfl rfl (Nat.le_of_ble_eq_true rfl) (by first | exact Nat.le_of_ble_eq_true rfl | omega) (by first | exact Nat.le_of_ble_eq_true rfl | omega) rfl (fun v_40 M_41 h_43 hE_42 => ?_)
                obtain ⟨rfl, hMs⟩ := h_43
                have hMs := hMs.symm
                subst hMs
                rw [mA_SC0]
                refine x_iload (n' := 135) dX9_would_133 rfl rfl ?_
                refine x_isub (n' := 136) dX9_would_135 rfl ?_
                refine x_goto (tgt := 149) dX9_would_136 (by decide) ?_
                refine x_istore (n' := 151) dX9_would_149 (Nat.le_of_ble_eq_true rfl) rfl (by dsimp only [List.set] <;> rfl) rfl ?_
                refine x_aload_n (n' := 152) dX9_would_151 rfl rfl rfl ?_
                refine x_getRs (n' := 155) (b := (ad 1)) dX9_would_152 (by repeat' (first | with_reducible exact km | with_reducible apply mK_A | with_reducible apply mK_I | with_reducible apply mK_L | with_reducible apply mK_R | with_reducible apply mK_O | with_reducible apply mK_S)) ffX9_13_9 rfl (by repeat' (first | with_reducible exact hr_was | with_reducible apply mR_A | with_reducible apply mR_I | with_reducible apply mR_L | with_reducible apply mR_S)) rfl ?_
                refine x_aload_n (n' := 156) dX9_would_155 rfl rfl rfl ?_
                refine x_getRs (n' := 159) (b := (ad 0)) dX9_would_156 (by repeat' (first | with_reducible exact km | with_reducible apply mK_A | with_reducible apply mK_I | with_reducible apply mK_L | with_reducible apply mK_R | with_reducible apply mK_O | with_reducible apply mK_S)) ffX9_9_9 rfl (by repeat' (first | with_reducible exact hr_g | with_reducible apply mR_A | with_reducible apply mR_I | with_reducible apply mR_L | with_reducible apply mR_S)) rfl ?_
                refine x_callS (n' := 162) (n := 2) (c_X9_copies l G _ (ad 1) (ad 0) (by repeat' (first | with_reducible exact kk_was | with_reducible apply mK_A | with_reducible apply mK_I | with_reducible apply mK_L | with_reducible apply mK_S)) (by repeat' (first | with_reducible exact kk_g | with_reducible apply mK_A | with_reducible apply mK_I | with_reducible apply mK_L | with_reducible apply mK_S)) ne_was_g (by repeat' (first | with_reducible exact hn_was | with_reducible apply mN_A | with_reducible apply mN_I | with_reducible apply mN_L | with_reducible apply mN_S)) (by repeat' (first | with_reducible exact hn_g | with_reducible apply mN_A | with_reducible apply mN_I | with_reducible apply mN_L | with_reducible apply mN_S))) dX9_would_159 (lw_S q3526 q3527 q109 q3528) (by decide +kernel) ⟨(Nat.le_of_ble_eq_true rfl), (Nat.le_of_ble_eq_true rfl)⟩ rfl rfl (Nat.le_of_ble_eq_true rfl) (by first | exact Nat.le_of_ble_eq_true rfl | omega) (by first | exact Nat.le_of_ble_eq_true rfl | omega) rfl (fun v_44 M_45 h_47 hE_46 => ?_)
                obtain ⟨rfl, hMs⟩ := h_47
                have hMs : M_45 = SC M m ad g (va_up sa 1 (cpy g (sa 1) 2509)) sf2 := hMs.trans (by rw [mA_SC0, mA_SC1 hS, SC_A0, va_up_self, hrs_back hw (nn a)])
                have hMs := hMs.symm
                subst hMs
                refine x_iload (n' := 164) dX9_would_162 rfl rfl ?_
                exact x_iret dX9_would_164 hret (by repeat' (first | with_reducible exact kE.rf | with_reducible exact kE_SS | with_reducible apply kE_A | with_reducible apply kE_I | with_reducible apply kE_L | with_reducible apply kE_R | with_reducible apply kE_O | with_reducible apply kE_S)) (⟨fun _ => ⟨congrArg (fun z => some (Value.int z)) (by unfold wldG; first | rw [if_pos C72] | rw [if_neg C72, if_pos C82] | rw [if_neg C72, if_neg C82, if_pos C96] | rw [if_neg C72, if_neg C82, if_neg C96, if_pos C110] | rw [if_neg C72, if_neg C82, if_neg C96, if_neg C110, if_pos C125] | rw [if_neg C72, if_neg C82, if_neg C96, if_neg C110, if_neg C125]), _, _, rfl⟩, fun q => absurd hok q⟩)
            · have C110 := c110_34
              refine x_aload_n (n' := 114) dX9_would_113 rfl rfl rfl ?_
              refine x_iconst (n' := 115) (v := 1) dX9_would_114 (by decide) rfl ?_
              refine x_callV (n' := 118) (n := 1) (K := 9) (c_X9_became l G _ m ad (by repeat' (first | with_reducible exact hS | with_reducible apply MS.sA | with_reducible apply MS.sI | with_reducible apply MS.sL | with_reducible apply MS.sc)) 1 ns (by rw [mA_SC0]; exact (hrs_WF hw (nn a)).ss) hw.s2) dX9_would_115 (by repeat' (first | with_reducible exact km | with_reducible apply mK_A | with_reducible apply mK_I | with_reducible apply mK_L | with_reducible apply mK_R | with_reducible apply mK_O | with_reducible apply mK_S)) rfl (lw_V q3529 q3531 qs70 q109 q3532) (by decide +kernel) ⟨(Nat.le_of_ble_eq_true rfl), (Nat.le_of_ble_eq_true rfl)⟩ rfl rfl (Nat.le_of_ble_eq_true rfl) (by first | exact Nat.le_of_ble_eq_true rfl | omega) (by first | exact Nat.le_of_ble_eq_true rfl | omega) rfl (fun v_48 M_49 h_51 hE_50 => ?_)
              obtain ⟨rfl, hMs⟩ := h_51
              have hMs := hMs.symm
              subst hMs
              rw [mA_SC0]
              refine x_iload_n (n' := 119) dX9_would_118 rfl rfl rfl ?_
              refine x_isub (n' := 120) dX9_would_119 rfl ?_
              refine x_goto (tgt := 149) dX9_would_120 (by decide) ?_
              refine x_istore (n' := 151) dX9_would_149 (Nat.le_of_ble_eq_true rfl) rfl (by dsimp only [List.set] <;> rfl) rfl ?_
              refine x_aload_n (n' := 152) dX9_would_151 rfl rfl rfl ?_
              refine x_getRs (n' := 155) (b := (ad 1)) dX9_would_152 (by repeat' (first | with_reducible exact km | with_reducible apply mK_A | with_reducible apply mK_I | with_reducible apply mK_L | with_reducible apply mK_R | with_reducible apply mK_O | with_reducible apply mK_S)) ffX9_13_9 rfl (by repeat' (first | with_reducible exact hr_was | with_reducible apply mR_A | with_reducible apply mR_I | with_reducible apply mR_L | with_reducible apply mR_S)) rfl ?_
              refine x_aload_n (n' := 156) dX9_would_155 rfl rfl rfl ?_
              refine x_getRs (n' := 159) (b := (ad 0)) dX9_would_156 (by repeat' (first | with_reducible exact km | with_reducible apply mK_A | with_reducible apply mK_I | with_reducible apply mK_L | with_reducible apply mK_R | with_reducible apply mK_O | with_reducible apply mK_S)) ffX9_9_9 rfl (by repeat' (first | with_reducible exact hr_g | with_reducible apply mR_A | with_reducible apply mR_I | with_reducible apply mR_L | with_reducible apply mR_S)) rfl ?_
              refine x_callS (n' := 162) (n := 2) (c_X9_copies l G _ (ad 1) (ad 0) (by repeat' (first | with_reducible exact kk_was | with_reducible apply mK_A | with_reducible apply mK_I | with_reducible apply mK_L | with_reducible apply mK_S)) (by repeat' (first | with_reducible exact kk_g | with_reducible apply mK_A | with_reducible apply mK_I | with_reducible apply mK_L | with_reducible apply mK_S)) ne_was_g (by repeat' (first | with_reducible exact hn_was | with_reducible apply mN_A | with_reducible apply mN_I | with_reducible apply mN_L | with_reducible apply mN_S)) (by repeat' (first | with_reducible exact hn_g | with_reducible apply mN_A | with_reducible apply mN_I | with_reducible apply mN_L | with_reducible apply mN_S))) dX9_would_159 (lw_S q3526 q3527 q109 q3528) (by decide +kernel) ⟨(Nat.le_of_ble_eq_true rfl), (Nat.le_of_ble_eq_true rfl)⟩ rfl rfl (Nat.le_of_ble_eq_true rfl) (by first | exact Nat.le_of_ble_eq_true rfl | omega) (by first | exact Nat.le_of_ble_eq_true rfl | omega) rfl (fun v_52 M_53 h_55 hE_54 => ?_)
              obtain ⟨rfl, hMs⟩ := h_55
              have hMs : M_53 = SC M m ad g (va_up sa 1 (cpy g (sa 1) 2509)) sf2 := hMs.trans (by rw [mA_SC0, mA_SC1 hS, SC_A0, va_up_self, hrs_back hw (nn a)])
              have hMs := hMs.symm
              subst hMs
              refine x_iload (n' := 164) dX9_would_162 rfl rfl ?_
              exact x_iret dX9_would_164 hret (by repeat' (first | with_reducible exact kE.rf | with_reducible exact kE_SS | with_reducible apply kE_A | with_reducible apply kE_I | with_reducible apply kE_L | with_reducible apply kE_R | with_reducible apply kE_O | with_reducible apply kE_S)) (⟨fun _ => ⟨congrArg (fun z => some (Value.int z)) (by unfold wldG; first | rw [if_pos C72] | rw [if_neg C72, if_pos C82] | rw [if_neg C72, if_neg C82, if_pos C96] | rw [if_neg C72, if_neg C82, if_neg C96, if_pos C110] | rw [if_neg C72, if_neg C82, if_neg C96, if_neg C110, if_pos C125] | rw [if_neg C72, if_neg C82, if_neg C96, if_neg C110, if_neg C125]), _, _, rfl⟩, fun q => absurd hok q⟩)
          · have C96 := c96_33
            refine x_aload_n (n' := 100) dX9_would_99 rfl rfl rfl ?_
            refine x_getRs (n' := 103) (b := (ad 0)) dX9_would_100 (by repeat' (first | with_reducible exact km | with_reducible apply mK_A | with_reducible apply mK_I | with_reducible apply mK_L | with_reducible apply mK_R | with_reducible apply mK_O | with_reducible apply mK_S)) ffX9_9_9 rfl (by repeat' (first | with_reducible exact hr_g | with_reducible apply mR_A | with_reducible apply mR_I | with_reducible apply mR_L | with_reducible apply mR_S)) rfl ?_
            refine x_iconst (n' := 104) (v := 5) dX9_would_103 (by decide) rfl ?_
            refine x_ildk (n' := 105) (N := 2509) dX9_would_104 (by repeat' (first | with_reducible exact kk_g | with_reducible apply mK_A | with_reducible apply mK_I | with_reducible apply mK_L | with_reducible apply mK_R | with_reducible apply mK_O | with_reducible apply mK_S)) (by repeat' (first | with_reducible exact hn_g | with_reducible apply mN_A | with_reducible apply mN_I | with_reducible apply mN_L | with_reducible apply mN_R | with_reducible apply mN_O | with_reducible apply mN_S)) (by repeat' (first | with_reducible exact nl_0 | with_reducible exact nl_1 | with_reducible exact nl_2 | with_reducible exact nl_3 | with_reducible exact nl_4 | with_reducible exact nl_5 | with_reducible exact nl_20 | with_reducible exact rfl | apply i_add | apply i_mul)) (by omega) (by decide) (by first | (simp (disch := omega) only [mA_sA, mA_sI, mA_SC0, mA_SC1 hS, mA_SC5 hS, mA_SC6 hS, mA_SC10 hS, mA_SC11 hS, mA_SC12 hS, up_s, up_n, if_false, ne_g_was, ne_was_g] <;> rfl) | rfl) rfl ?_
            refine x_goto (tgt := 149) dX9_would_105 (by decide) ?_
            refine x_istore (n' := 151) dX9_would_149 (Nat.le_of_ble_eq_true rfl) rfl (by dsimp only [List.set] <;> rfl) rfl ?_
            refine x_aload_n (n' := 152) dX9_would_151 rfl rfl rfl ?_
            refine x_getRs (n' := 155) (b := (ad 1)) dX9_would_152 (by repeat' (first | with_reducible exact km | with_reducible apply mK_A | with_reducible apply mK_I | with_reducible apply mK_L | with_reducible apply mK_R | with_reducible apply mK_O | with_reducible apply mK_S)) ffX9_13_9 rfl (by repeat' (first | with_reducible exact hr_was | with_reducible apply mR_A | with_reducible apply mR_I | with_reducible apply mR_L | with_reducible apply mR_S)) rfl ?_
            refine x_aload_n (n' := 156) dX9_would_155 rfl rfl rfl ?_
            refine x_getRs (n' := 159) (b := (ad 0)) dX9_would_156 (by repeat' (first | with_reducible exact km | with_reducible apply mK_A | with_reducible apply mK_I | with_reducible apply mK_L | with_reducible apply mK_R | with_reducible apply mK_O | with_reducible apply mK_S)) ffX9_9_9 rfl (by repeat' (first | with_reducible exact hr_g | with_reducible apply mR_A | with_reducible apply mR_I | with_reducible apply mR_L | with_reducible apply mR_S)) rfl ?_
            refine x_callS (n' := 162) (n := 2) (c_X9_copies l G _ (ad 1) (ad 0) (by repeat' (first | with_reducible exact kk_was | with_reducible apply mK_A | with_reducible apply mK_I | with_reducible apply mK_L | with_reducible apply mK_S)) (by repeat' (first | with_reducible exact kk_g | with_reducible apply mK_A | with_reducible apply mK_I | with_reducible apply mK_L | with_reducible apply mK_S)) ne_was_g (by repeat' (first | with_reducible exact hn_was | with_reducible apply mN_A | with_reducible apply mN_I | with_reducible apply mN_L | with_reducible apply mN_S)) (by repeat' (first | with_reducible exact hn_g | with_reducible apply mN_A | with_reducible apply mN_I | with_reducible apply mN_L | with_reducible apply mN_S))) dX9_would_159 (lw_S q3526 q3527 q109 q3528) (by decide +kernel) ⟨(Nat.le_of_ble_eq_true rfl), (Nat.le_of_ble_eq_true rfl)⟩ rfl rfl (Nat.le_of_ble_eq_true rfl) (by first | exact Nat.le_of_ble_eq_true rfl | omega) (by first | exact Nat.le_of_ble_eq_true rfl | omega) rfl (fun v_56 M_57 h_59 hE_58 => ?_)
            obtain ⟨rfl, hMs⟩ := h_59
            have hMs : M_57 = SC M m ad g (va_up sa 1 (cpy g (sa 1) 2509)) sf2 := hMs.trans (by rw [mA_SC0, mA_SC1 hS, SC_A0, va_up_self, hrs_back hw (nn a)])
            have hMs := hMs.symm
            subst hMs
            refine x_iload (n' := 164) dX9_would_162 rfl rfl ?_
            exact x_iret dX9_would_164 hret (by repeat' (first | with_reducible exact kE.rf | with_reducible exact kE_SS | with_reducible apply kE_A | with_reducible apply kE_I | with_reducible apply kE_L | with_reducible apply kE_R | with_reducible apply kE_O | with_reducible apply kE_S)) (⟨fun _ => ⟨congrArg (fun z => some (Value.int z)) (by unfold wldG; first | rw [if_pos C72] | rw [if_neg C72, if_pos C82] | rw [if_neg C72, if_neg C82, if_pos C96] | rw [if_neg C72, if_neg C82, if_neg C96, if_pos C110] | rw [if_neg C72, if_neg C82, if_neg C96, if_neg C110, if_pos C125] | rw [if_neg C72, if_neg C82, if_neg C96, if_neg C110, if_neg C125]), _, _, rfl⟩, fun q => absurd hok q⟩)
        · have C82 := c82_32
          refine x_aload_n (n' := 86) dX9_would_85 rfl rfl rfl ?_
          refine x_getRs (n' := 89) (b := (ad 0)) dX9_would_86 (by repeat' (first | with_reducible exact km | with_reducible apply mK_A | with_reducible apply mK_I | with_reducible apply mK_L | with_reducible apply mK_R | with_reducible apply mK_O | with_reducible apply mK_S)) ffX9_9_9 rfl (by repeat' (first | with_reducible exact hr_g | with_reducible apply mR_A | with_reducible apply mR_I | with_reducible apply mR_L | with_reducible apply mR_S)) rfl ?_
          refine x_iconst (n' := 90) (v := 4) dX9_would_89 (by decide) rfl ?_
          refine x_ildk (n' := 91) (N := 2509) dX9_would_90 (by repeat' (first | with_reducible exact kk_g | with_reducible apply mK_A | with_reducible apply mK_I | with_reducible apply mK_L | with_reducible apply mK_R | with_reducible apply mK_O | with_reducible apply mK_S)) (by repeat' (first | with_reducible exact hn_g | with_reducible apply mN_A | with_reducible apply mN_I | with_reducible apply mN_L | with_reducible apply mN_R | with_reducible apply mN_O | with_reducible apply mN_S)) (by repeat' (first | with_reducible exact nl_0 | with_reducible exact nl_1 | with_reducible exact nl_2 | with_reducible exact nl_3 | with_reducible exact nl_4 | with_reducible exact nl_5 | with_reducible exact nl_20 | with_reducible exact rfl | apply i_add | apply i_mul)) (by omega) (by decide) (by first | (simp (disch := omega) only [mA_sA, mA_sI, mA_SC0, mA_SC1 hS, mA_SC5 hS, mA_SC6 hS, mA_SC10 hS, mA_SC11 hS, mA_SC12 hS, up_s, up_n, if_false, ne_g_was, ne_was_g] <;> rfl) | rfl) rfl ?_
          refine x_goto (tgt := 149) dX9_would_91 (by decide) ?_
          refine x_istore (n' := 151) dX9_would_149 (Nat.le_of_ble_eq_true rfl) rfl (by dsimp only [List.set] <;> rfl) rfl ?_
          refine x_aload_n (n' := 152) dX9_would_151 rfl rfl rfl ?_
          refine x_getRs (n' := 155) (b := (ad 1)) dX9_would_152 (by repeat' (first | with_reducible exact km | with_reducible apply mK_A | with_reducible apply mK_I | with_reducible apply mK_L | with_reducible apply mK_R | with_reducible apply mK_O | with_reducible apply mK_S)) ffX9_13_9 rfl (by repeat' (first | with_reducible exact hr_was | with_reducible apply mR_A | with_reducible apply mR_I | with_reducible apply mR_L | with_reducible apply mR_S)) rfl ?_
          refine x_aload_n (n' := 156) dX9_would_155 rfl rfl rfl ?_
          refine x_getRs (n' := 159) (b := (ad 0)) dX9_would_156 (by repeat' (first | with_reducible exact km | with_reducible apply mK_A | with_reducible apply mK_I | with_reducible apply mK_L | with_reducible apply mK_R | with_reducible apply mK_O | with_reducible apply mK_S)) ffX9_9_9 rfl (by repeat' (first | with_reducible exact hr_g | with_reducible apply mR_A | with_reducible apply mR_I | with_reducible apply mR_L | with_reducible apply mR_S)) rfl ?_
          refine x_callS (n' := 162) (n := 2) (c_X9_copies l G _ (ad 1) (ad 0) (by repeat' (first | with_reducible exact kk_was | with_reducible apply mK_A | with_reducible apply mK_I | with_reducible apply mK_L | with_reducible apply mK_S)) (by repeat' (first | with_reducible exact kk_g | with_reducible apply mK_A | with_reducible apply mK_I | with_reducible apply mK_L | with_reducible apply mK_S)) ne_was_g (by repeat' (first | with_reducible exact hn_was | with_reducible apply mN_A | with_reducible apply mN_I | with_reducible apply mN_L | with_reducible apply mN_S)) (by repeat' (first | with_reducible exact hn_g | with_reducible apply mN_A | with_reducible apply mN_I | with_reducible apply mN_L | with_reducible apply mN_S))) dX9_would_159 (lw_S q3526 q3527 q109 q3528) (by decide +kernel) ⟨(Nat.le_of_ble_eq_true rfl), (Nat.le_of_ble_eq_true rfl)⟩ rfl rfl (Nat.le_of_ble_eq_true rfl) (by first | exact Nat.le_of_ble_eq_true rfl | omega) (by first | exact Nat.le_of_ble_eq_true rfl | omega) rfl (fun v_60 M_61 h_63 hE_62 => ?_)
          obtain ⟨rfl, hMs⟩ := h_63
          have hMs : M_61 = SC M m ad g (va_up sa 1 (cpy g (sa 1) 2509)) sf2 := hMs.trans (by rw [mA_SC0, mA_SC1 hS, SC_A0, va_up_self, hrs_back hw (nn a)])
          have hMs := hMs.symm
          subst hMs
          refine x_iload (n' := 164) dX9_would_162 rfl rfl ?_
          exact x_iret dX9_would_164 hret (by repeat' (first | with_reducible exact kE.rf | with_reducible exact kE_SS | with_reducible apply kE_A | with_reducible apply kE_I | with_reducible apply kE_L | with_reducible apply kE_R | with_reducible apply kE_O | with_reducible apply kE_S)) (⟨fun _ => ⟨congrArg (fun z => some (Value.int z)) (by unfold wldG; first | rw [if_pos C72] | rw [if_neg C72, if_pos C82] | rw [if_neg C72, if_neg C82, if_pos C96] | rw [if_neg C72, if_neg C82, if_neg C96, if_pos C110] | rw [if_neg C72, if_neg C82, if_neg C96, if_neg C110, if_pos C125] | rw [if_neg C72, if_neg C82, if_neg C96, if_neg C110, if_neg C125]), _, _, rfl⟩, fun q => absurd hok q⟩)
      · have C72 := c72_31
        refine x_iload (n' := 77) dX9_would_75 rfl rfl ?_
        refine x_goto (tgt := 149) dX9_would_77 (by decide) ?_
        refine x_istore (n' := 151) dX9_would_149 (Nat.le_of_ble_eq_true rfl) rfl (by dsimp only [List.set] <;> rfl) rfl ?_
        refine x_aload_n (n' := 152) dX9_would_151 rfl rfl rfl ?_
        refine x_getRs (n' := 155) (b := (ad 1)) dX9_would_152 (by repeat' (first | with_reducible exact km | with_reducible apply mK_A | with_reducible apply mK_I | with_reducible apply mK_L | with_reducible apply mK_R | with_reducible apply mK_O | with_reducible apply mK_S)) ffX9_13_9 rfl (by repeat' (first | with_reducible exact hr_was | with_reducible apply mR_A | with_reducible apply mR_I | with_reducible apply mR_L | with_reducible apply mR_S)) rfl ?_
        refine x_aload_n (n' := 156) dX9_would_155 rfl rfl rfl ?_
        refine x_getRs (n' := 159) (b := (ad 0)) dX9_would_156 (by repeat' (first | with_reducible exact km | with_reducible apply mK_A | with_reducible apply mK_I | with_reducible apply mK_L | with_reducible apply mK_R | with_reducible apply mK_O | with_reducible apply mK_S)) ffX9_9_9 rfl (by repeat' (first | with_reducible exact hr_g | with_reducible apply mR_A | with_reducible apply mR_I | with_reducible apply mR_L | with_reducible apply mR_S)) rfl ?_
        refine x_callS (n' := 162) (n := 2) (c_X9_copies l G _ (ad 1) (ad 0) (by repeat' (first | with_reducible exact kk_was | with_reducible apply mK_A | with_reducible apply mK_I | with_reducible apply mK_L | with_reducible apply mK_S)) (by repeat' (first | with_reducible exact kk_g | with_reducible apply mK_A | with_reducible apply mK_I | with_reducible apply mK_L | with_reducible apply mK_S)) ne_was_g (by repeat' (first | with_reducible exact hn_was | with_reducible apply mN_A | with_reducible apply mN_I | with_reducible apply mN_L | with_reducible apply mN_S)) (by repeat' (first | with_reducible exact hn_g | with_reducible apply mN_A | with_reducible apply mN_I | with_reducible apply mN_L | with_reducible apply mN_S))) dX9_would_159 (lw_S q3526 q3527 q109 q3528) (by decide +kernel) ⟨(Nat.le_of_ble_eq_true rfl), (Nat.le_of_ble_eq_true rfl)⟩ rfl rfl (Nat.le_of_ble_eq_true rfl) (by first | exact Nat.le_of_ble_eq_true rfl | omega) (by first | exact Nat.le_of_ble_eq_true rfl | omega) rfl (fun v_64 M_65 h_67 hE_66 => ?_)
        obtain ⟨rfl, hMs⟩ := h_67
        have hMs : M_65 = SC M m ad g (va_up sa 1 (cpy g (sa 1) 2509)) sf2 := hMs.trans (by rw [mA_SC0, mA_SC1 hS, SC_A0, va_up_self, hrs_back hw (nn a)])
        have hMs := hMs.symm
        subst hMs
        refine x_iload (n' := 164) dX9_would_162 rfl rfl ?_
        exact x_iret dX9_would_164 hret (by repeat' (first | with_reducible exact kE.rf | with_reducible exact kE_SS | with_reducible apply kE_A | with_reducible apply kE_I | with_reducible apply kE_L | with_reducible apply kE_R | with_reducible apply kE_O | with_reducible apply kE_S)) (⟨fun _ => ⟨congrArg (fun z => some (Value.int z)) (by unfold wldG; first | rw [if_pos C72] | rw [if_neg C72, if_pos C82] | rw [if_neg C72, if_neg C82, if_pos C96] | rw [if_neg C72, if_neg C82, if_neg C96, if_pos C110] | rw [if_neg C72, if_neg C82, if_neg C96, if_neg C110, if_pos C125] | rw [if_neg C72, if_neg C82, if_neg C96, if_neg C110, if_neg C125]), _, _, rfl⟩, fun q => absurd hok q⟩)
    · have C21 := c21_14
      refine x_aload_n (n' := 25) dX9_would_24 rfl rfl rfl ?_
      refine x_bipush (n' := 27) (v := -102) dX9_would_25 (by decide) rfl ?_
      refine x_topv (y := -(nI (102 + 0))) (by decide) ?_
      refine x_callV (n' := 30) (n := 1) (K := 9) (c_X9_refused l G _ m ad (by repeat' (first | with_reducible exact hS | with_reducible apply MS.sA | with_reducible apply MS.sI | with_reducible apply MS.sL | with_reducible apply MS.sc)) 0 (by decide)) dX9_would_27 (by repeat' (first | with_reducible exact km | with_reducible apply mK_A | with_reducible apply mK_I | with_reducible apply mK_L | with_reducible apply mK_R | with_reducible apply mK_O | with_reducible apply mK_S)) rfl (lw_V q3324 q3326 qs48 q109 q3327) (by decide +kernel) ⟨(Nat.le_of_ble_eq_true rfl), (Nat.le_of_ble_eq_true rfl)⟩ rfl rfl (Nat.le_of_ble_eq_true rfl) (by first | exact Nat.le_of_ble_eq_true rfl | omega) (by first | exact Nat.le_of_ble_eq_true rfl | omega) rfl (fun v_68 M_69 h_71 hE_70 => ?_)
      obtain ⟨rfl, hMs⟩ := h_71
      have hMs := hMs.symm
      subst hMs
      exact x_iret dX9_would_30 hret (by repeat' (first | with_reducible exact kE.rf | with_reducible exact kE_SS | with_reducible apply kE_A | with_reducible apply kE_I | with_reducible apply kE_L | with_reducible apply kE_R | with_reducible apply kE_O | with_reducible apply kE_S)) (⟨fun q => absurd q (by first | exact fun q => bi_0.mp C9 q.1 | exact fun q => bi_0.mp C21 q.2), fun _ => ⟨rfl, rfl⟩⟩)

set_option maxHeartbeats 4000000 in
set_option maxRecDepth 100000 in
theorem c_X9_comes (l : Launch) (G : kG) (M : kM) (m : Nat) (ad : Nat → Nat) (hS : MS M m ad) (g : gT) (sa : Nat → gT) (sf : Nat → Int32) (h nr nk ns : Nat) (hw : WF g h nr nk ns) (hb : h + 400 < 2147483648) : Kt l G yX9_comes cX9_comes 3 (some .int) 4 106 [.ref m] (SC M m ad g sa sf) (0) (0) (fun v M2 => v = some (.int (comF nr nk ns 400 g h)) ∧ ∃ sa2 sf2, M2 = SC M m ad g sa2 sf2) := by
  refine Kt.of (own := "KeptLightModel") (L := [some (.ref m), none, none]) (by decide +kernel) rfl (Nat.le_of_ble_eq_true rfl) rfl ?_
  intro pp ee ss mm args below meth cd hmn hret
  have km := hS.1
  obtain ⟨hr_g, kk_g, hn_g⟩ := hS.2.1 0 (by decide)
  have hr_g : mR M (fc 9 0) m = some (ad 0) := hr_g
  have hn_g : mN M (ad 0) = 2509 := hn_g
  have kk_g : mK M (ad 0) = some 120 := kk_g
  obtain ⟨hr_was, kk_was, hn_was⟩ := hS.2.1 1 (by decide)
  have hr_was : mR M (fc 9 1) m = some (ad 1) := hr_was
  have hn_was : mN M (ad 1) = 2509 := hn_was
  have kk_was : mK M (ad 1) = some 120 := kk_was
  have ne_g_was := hS.eqf 0 1 (by decide) (by decide) (by decide)
  have ne_was_g := hS.eqf 1 0 (by decide) (by decide) (by decide)
  have cut15 : ∀ (fuel : Nat) (i : Nat) (r : Int32) (sf1 : Nat → Int32) (h1 : 400 - i < fuel) (h2 : i ≤ 400) (h3 : comI g h nr nk ns i r), Wx pp l ee { frames := 4, cells := 0, slots := 0, locals := 106 } ss mm args below meth cd "KeptLightModel" cX9_comes 3 G (MQ below (KQ G (SC M m ad g sa sf) (fun v M2 => v = some (.int (comF nr nk ns 400 g h)) ∧ ∃ sa2 sf2, M2 = SC M m ad g sa2 sf2)) args ss (0) (0) (kA G)) 15 [some (.ref m), some (.int r), some (.int (nI i))] [] (SC M m ad (hrsG g h nr nk ns i) (va_up sa 1 (cpy g (sa 1) 2509)) sf1) (0) (0) := by
    intro fuel
    induction fuel with
    | zero => intro i r sf1 h1 h2 h3; omega
    | succ fuel ih =>
      intro i r sf1 h1 h2 h3
      refine x_iload_n (n' := 16) dX9_comes_15 rfl rfl rfl ?_
      refine x_sipush (n' := 19) (v := 400) dX9_comes_16 (by decide) rfl ?_
      refine x_icmp_ge (n' := 22) (tgt := 56) dX9_comes_19 (by decide) rfl (fun c19_1 => ?_) (fun c19_1 => ?_)
      · have C19 := c19_1
        have N19 := (cv_le (by repeat' (first | with_reducible exact nl_0 | with_reducible exact nl_1 | with_reducible exact nl_400 | with_reducible exact rfl | apply i_add | apply i_mul)) (by repeat' (first | with_reducible exact nl_0 | with_reducible exact nl_1 | with_reducible exact nl_400 | with_reducible exact rfl | apply i_add | apply i_mul)) (by omega) (by omega)).mp c19_1
        refine x_aload_n (n' := 57) dX9_comes_56 rfl rfl rfl ?_
        refine x_getRs (n' := 60) (b := (ad 1)) dX9_comes_57 (by repeat' (first | with_reducible exact km | with_reducible apply mK_A | with_reducible apply mK_I | with_reducible apply mK_L | with_reducible apply mK_R | with_reducible apply mK_O | with_reducible apply mK_S)) ffX9_13_9 rfl (by repeat' (first | with_reducible exact hr_was | with_reducible apply mR_A | with_reducible apply mR_I | with_reducible apply mR_L | with_reducible apply mR_S)) rfl ?_
        refine x_aload_n (n' := 61) dX9_comes_60 rfl rfl rfl ?_
        refine x_getRs (n' := 64) (b := (ad 0)) dX9_comes_61 (by repeat' (first | with_reducible exact km | with_reducible apply mK_A | with_reducible apply mK_I | with_reducible apply mK_L | with_reducible apply mK_R | with_reducible apply mK_O | with_reducible apply mK_S)) ffX9_9_9 rfl (by repeat' (first | with_reducible exact hr_g | with_reducible apply mR_A | with_reducible apply mR_I | with_reducible apply mR_L | with_reducible apply mR_S)) rfl ?_
        refine x_callS (n' := 67) (n := 2) (c_X9_copies l G _ (ad 1) (ad 0) (by repeat' (first | with_reducible exact kk_was | with_reducible apply mK_A | with_reducible apply mK_I | with_reducible apply mK_L | with_reducible apply mK_S)) (by repeat' (first | with_reducible exact kk_g | with_reducible apply mK_A | with_reducible apply mK_I | with_reducible apply mK_L | with_reducible apply mK_S)) ne_was_g (by repeat' (first | with_reducible exact hn_was | with_reducible apply mN_A | with_reducible apply mN_I | with_reducible apply mN_L | with_reducible apply mN_S)) (by repeat' (first | with_reducible exact hn_g | with_reducible apply mN_A | with_reducible apply mN_I | with_reducible apply mN_L | with_reducible apply mN_S))) dX9_comes_64 (lw_S q3526 q3527 q109 q3528) (by decide +kernel) ⟨(Nat.le_of_ble_eq_true rfl), (Nat.le_of_ble_eq_true rfl)⟩ rfl rfl (Nat.le_of_ble_eq_true rfl) (by first | exact Nat.le_of_ble_eq_true rfl | omega) (by first | exact Nat.le_of_ble_eq_true rfl | omega) rfl (fun v_2 M_3 h_5 hE_4 => ?_)
        obtain ⟨rfl, hMs⟩ := h_5
        have hMs : M_3 = SC M m ad g (va_up sa 1 (cpy g (sa 1) 2509)) sf1 := hMs.trans (by rw [mA_SC0, mA_SC1 hS, SC_A0, va_up_self, hrs_back hw i])
        have hMs := hMs.symm
        subst hMs
        refine x_iload_n (n' := 68) dX9_comes_67 rfl rfl rfl ?_
        exact x_iret dX9_comes_68 hret (by repeat' (first | with_reducible exact kE.rf | with_reducible exact kE_SS | with_reducible apply kE_A | with_reducible apply kE_I | with_reducible apply kE_L | with_reducible apply kE_R | with_reducible apply kE_O | with_reducible apply kE_S)) (by rw [comI_e h3 (by first | exact Or.inl (by omega) | exact Or.inr C23)]; exact ⟨rfl, _, sf1, rfl⟩)
      · have C19 := c19_1
        have N19 := (not_congr (cv_le (by repeat' (first | with_reducible exact nl_0 | with_reducible exact nl_1 | with_reducible exact nl_400 | with_reducible exact rfl | apply i_add | apply i_mul)) (by repeat' (first | with_reducible exact nl_0 | with_reducible exact nl_1 | with_reducible exact nl_400 | with_reducible exact rfl | apply i_add | apply i_mul)) (by omega) (by omega))).mp c19_1
        refine x_iload_n (n' := 23) dX9_comes_22 rfl rfl rfl ?_
        refine x_if_ge (n' := 26) (tgt := 56) dX9_comes_23 (by decide) rfl (fun c23_6 => ?_) (fun c23_6 => ?_)
        · have C23 := c23_6
          refine x_aload_n (n' := 57) dX9_comes_56 rfl rfl rfl ?_
          refine x_getRs (n' := 60) (b := (ad 1)) dX9_comes_57 (by repeat' (first | with_reducible exact km | with_reducible apply mK_A | with_reducible apply mK_I | with_reducible apply mK_L | with_reducible apply mK_R | with_reducible apply mK_O | with_reducible apply mK_S)) ffX9_13_9 rfl (by repeat' (first | with_reducible exact hr_was | with_reducible apply mR_A | with_reducible apply mR_I | with_reducible apply mR_L | with_reducible apply mR_S)) rfl ?_
          refine x_aload_n (n' := 61) dX9_comes_60 rfl rfl rfl ?_
          refine x_getRs (n' := 64) (b := (ad 0)) dX9_comes_61 (by repeat' (first | with_reducible exact km | with_reducible apply mK_A | with_reducible apply mK_I | with_reducible apply mK_L | with_reducible apply mK_R | with_reducible apply mK_O | with_reducible apply mK_S)) ffX9_9_9 rfl (by repeat' (first | with_reducible exact hr_g | with_reducible apply mR_A | with_reducible apply mR_I | with_reducible apply mR_L | with_reducible apply mR_S)) rfl ?_
          refine x_callS (n' := 67) (n := 2) (c_X9_copies l G _ (ad 1) (ad 0) (by repeat' (first | with_reducible exact kk_was | with_reducible apply mK_A | with_reducible apply mK_I | with_reducible apply mK_L | with_reducible apply mK_S)) (by repeat' (first | with_reducible exact kk_g | with_reducible apply mK_A | with_reducible apply mK_I | with_reducible apply mK_L | with_reducible apply mK_S)) ne_was_g (by repeat' (first | with_reducible exact hn_was | with_reducible apply mN_A | with_reducible apply mN_I | with_reducible apply mN_L | with_reducible apply mN_S)) (by repeat' (first | with_reducible exact hn_g | with_reducible apply mN_A | with_reducible apply mN_I | with_reducible apply mN_L | with_reducible apply mN_S))) dX9_comes_64 (lw_S q3526 q3527 q109 q3528) (by decide +kernel) ⟨(Nat.le_of_ble_eq_true rfl), (Nat.le_of_ble_eq_true rfl)⟩ rfl rfl (Nat.le_of_ble_eq_true rfl) (by first | exact Nat.le_of_ble_eq_true rfl | omega) (by first | exact Nat.le_of_ble_eq_true rfl | omega) rfl (fun v_7 M_8 h_10 hE_9 => ?_)
          obtain ⟨rfl, hMs⟩ := h_10
          have hMs : M_8 = SC M m ad g (va_up sa 1 (cpy g (sa 1) 2509)) sf1 := hMs.trans (by rw [mA_SC0, mA_SC1 hS, SC_A0, va_up_self, hrs_back hw i])
          have hMs := hMs.symm
          subst hMs
          refine x_iload_n (n' := 68) dX9_comes_67 rfl rfl rfl ?_
          exact x_iret dX9_comes_68 hret (by repeat' (first | with_reducible exact kE.rf | with_reducible exact kE_SS | with_reducible apply kE_A | with_reducible apply kE_I | with_reducible apply kE_L | with_reducible apply kE_R | with_reducible apply kE_O | with_reducible apply kE_S)) (by rw [comI_e h3 (by first | exact Or.inl (by omega) | exact Or.inr C23)]; exact ⟨rfl, _, sf1, rfl⟩)
        · have C23 := c23_6
          refine x_aload_n (n' := 27) dX9_comes_26 rfl rfl rfl ?_
          refine x_callV (n' := 30) (n := 0) (K := 9) (c_X9_hourPasses l G _ m ad (by repeat' (first | with_reducible exact hS | with_reducible apply MS.sA | with_reducible apply MS.sI | with_reducible apply MS.sL | with_reducible apply MS.sc)) (h + i) nr nk ns (by rw [mA_SC0]; exact hrs_WF hw i) (by omega)) dX9_comes_27 (by repeat' (first | with_reducible exact km | with_reducible apply mK_A | with_reducible apply mK_I | with_reducible apply mK_L | with_reducible apply mK_R | with_reducible apply mK_O | with_reducible apply mK_S)) rfl (lw_V q3409 q3411 qs56 q109 q3412) (by decide +kernel) ⟨(Nat.le_of_ble_eq_true rfl), (Nat.le_of_ble_eq_true rfl)⟩ rfl rfl (Nat.le_of_ble_eq_true rfl) (by first | exact Nat.le_of_ble_eq_true rfl | omega) (by first | exact Nat.le_of_ble_eq_true rfl | omega) rfl (fun v_11 M9 h_13 hE_12 => ?_)
          obtain ⟨rfl, hM8⟩ := h_13
          obtain ⟨sf2, hb7, hMs⟩ : ∃ sf2 : Nat → Int32, sf2 (fc 9 7) = boV (hrsG g h nr nk ns i) (h + i) nr nk ns ∧ M9 = SC M m ad (hrsG g h nr nk ns (i + 1)) (va_up sa 1 (cpy g (sa 1) 2509)) sf2 := ⟨_, sf_7 _ _ _ _, hM8.trans (by rw [mA_SC0, SC_hrM]; rfl)⟩
          have hMs := hMs.symm
          subst hMs
          have hg0 : hrsG g h nr nk ns (i + 1) 0 - 1 = nI (h + i) := by rw [(hrs_WF hw (i + 1)).hh]; exact nI_prd _
          refine x_aload_n (n' := 31) dX9_comes_30 rfl rfl rfl ?_
          refine x_getI (n' := 34) dX9_comes_31 (by repeat' (first | with_reducible exact km | with_reducible apply mK_A | with_reducible apply mK_I | with_reducible apply mK_L | with_reducible apply mK_R | with_reducible apply mK_O | with_reducible apply mK_S)) ffX9_107_9 rfl rfl ?_
          refine x_topv (mI_SC_7.trans hb7) ?_
          refine x_fork (J := 49) (x_if_eq (n' := 37) (tgt := 48) dX9_comes_34 (by decide) rfl) (v1 := ?v1_f34_14) (v2 := ?v2_f34_14) (fun c_f34_14 j_f34_14 => ?b1_f34_14) (fun c_f34_14 j_f34_14 => ?b2_f34_14) ?k_f34_14
          case b1_f34_14 =>
            refine x_iconst (n' := 49) (v := -1) dX9_comes_48 (by decide) rfl ?_
            exact j_f34_14
          case b2_f34_14 =>
            refine x_aload_n (n' := 38) dX9_comes_37 rfl rfl rfl ?_
            refine x_getRs (n' := 41) (b := (ad 0)) dX9_comes_38 (by repeat' (first | with_reducible exact km | with_reducible apply mK_A | with_reducible apply mK_I | with_reducible apply mK_L | with_reducible apply mK_R | with_reducible apply mK_O | with_reducible apply mK_S)) ffX9_9_9 rfl (by repeat' (first | with_reducible exact hr_g | with_reducible apply mR_A | with_reducible apply mR_I | with_reducible apply mR_L | with_reducible apply mR_S)) rfl ?_
            refine x_iconst (n' := 42) (v := 0) dX9_comes_41 (by decide) rfl ?_
            refine x_ildk (n' := 43) (N := 2509) dX9_comes_42 (by repeat' (first | with_reducible exact kk_g | with_reducible apply mK_A | with_reducible apply mK_I | with_reducible apply mK_L | with_reducible apply mK_R | with_reducible apply mK_O | with_reducible apply mK_S)) (by repeat' (first | with_reducible exact hn_g | with_reducible apply mN_A | with_reducible apply mN_I | with_reducible apply mN_L | with_reducible apply mN_R | with_reducible apply mN_O | with_reducible apply mN_S)) (by repeat' (first | with_reducible exact nl_0 | with_reducible exact nl_1 | with_reducible exact nl_400 | with_reducible exact rfl | apply i_add | apply i_mul)) (by omega) (by decide) (by first | (simp (disch := omega) only [mA_sA, mA_sI, mA_SC0, mA_SC1 hS, mA_SC5 hS, mA_SC6 hS, mA_SC10 hS, mA_SC11 hS, mA_SC12 hS, up_s, up_n, if_false, ne_g_was, ne_was_g] <;> rfl) | rfl) rfl ?_
            refine x_iconst (n' := 44) (v := 1) dX9_comes_43 (by decide) rfl ?_
            refine x_isub (n' := 45) dX9_comes_44 rfl ?_
            refine x_goto (tgt := 49) dX9_comes_45 (by decide) ?_
            exact j_f34_14
          refine x_topv (y := if boV (hrsG g h nr nk ns i) (h + i) nr nk ns = 0 then -1 else nI (h + i)) (by rw [hg0]) ?_
          refine x_istore_n (n' := 50) dX9_comes_49 rfl (Nat.le_of_ble_eq_true rfl) rfl (by dsimp only [List.set] <;> rfl) rfl ?_
          refine x_iinc (n' := 53) dX9_comes_50 rfl (by first | exact nI_inc _ | exact nI_decp (by omega) | exact i_inc _ | rfl) (Nat.le_of_ble_eq_true rfl) rfl (by dsimp only [List.set] <;> rfl) rfl ?_
          refine x_goto (tgt := 15) dX9_comes_53 (by decide) ?_
          exact x_drop (ih (i + 1) _ sf2 (by omega) (by omega) (comI_s h3 (by omega) C23 (by omega))) ⟨rfl, ⟨rfl, ⟨rfl, trivial⟩⟩⟩
  refine x_aload_n (n' := 1) dX9_comes_0 rfl rfl rfl ?_
  refine x_getRs (n' := 4) (b := (ad 0)) dX9_comes_1 (by repeat' (first | with_reducible exact km | with_reducible apply mK_A | with_reducible apply mK_I | with_reducible apply mK_L | with_reducible apply mK_R | with_reducible apply mK_O | with_reducible apply mK_S)) ffX9_9_9 rfl (by repeat' (first | with_reducible exact hr_g | with_reducible apply mR_A | with_reducible apply mR_I | with_reducible apply mR_L | with_reducible apply mR_S)) rfl ?_
  refine x_aload_n (n' := 5) dX9_comes_4 rfl rfl rfl ?_
  refine x_getRs (n' := 8) (b := (ad 1)) dX9_comes_5 (by repeat' (first | with_reducible exact km | with_reducible apply mK_A | with_reducible apply mK_I | with_reducible apply mK_L | with_reducible apply mK_R | with_reducible apply mK_O | with_reducible apply mK_S)) ffX9_13_9 rfl (by repeat' (first | with_reducible exact hr_was | with_reducible apply mR_A | with_reducible apply mR_I | with_reducible apply mR_L | with_reducible apply mR_S)) rfl ?_
  refine x_callS (n' := 11) (n := 2) (c_X9_copies l G _ (ad 0) (ad 1) (by repeat' (first | with_reducible exact kk_g | with_reducible apply mK_A | with_reducible apply mK_I | with_reducible apply mK_L | with_reducible apply mK_S)) (by repeat' (first | with_reducible exact kk_was | with_reducible apply mK_A | with_reducible apply mK_I | with_reducible apply mK_L | with_reducible apply mK_S)) ne_g_was (by repeat' (first | with_reducible exact hn_g | with_reducible apply mN_A | with_reducible apply mN_I | with_reducible apply mN_L | with_reducible apply mN_S)) (by repeat' (first | with_reducible exact hn_was | with_reducible apply mN_A | with_reducible apply mN_I | with_reducible apply mN_L | with_reducible apply mN_S))) dX9_comes_8 (lw_S q3526 q3527 q109 q3528) (by decide +kernel) ⟨(Nat.le_of_ble_eq_true rfl), (Nat.le_of_ble_eq_true rfl)⟩ rfl rfl (Nat.le_of_ble_eq_true rfl) (by first | exact Nat.le_of_ble_eq_true rfl | omega) (by first | exact Nat.le_of_ble_eq_true rfl | omega) rfl (fun v_15 M_16 h_18 hE_17 => ?_)
  obtain ⟨rfl, hMs⟩ := h_18
  have hMs : M_16 = SC M m ad g (va_up sa 1 (cpy g (sa 1) 2509)) sf := hMs.trans (by rw [mA_SC0, mA_SC1 hS, SC_A1 hS])
  have hMs := hMs.symm
  subst hMs
  refine x_iconst (n' := 12) (v := -1) dX9_comes_11 (by decide) rfl ?_
  refine x_istore_n (n' := 13) dX9_comes_12 rfl (Nat.le_of_ble_eq_true rfl) rfl (by dsimp only [List.set] <;> rfl) rfl ?_
  refine x_iconst (n' := 14) (v := 0) dX9_comes_13 (by decide) rfl ?_
  refine x_istore_n (n' := 15) dX9_comes_14 rfl (Nat.le_of_ble_eq_true rfl) rfl (by dsimp only [List.set] <;> rfl) rfl ?_
  exact x_drop (cut15 401 0 _ sf (by omega) (by omega) (comI_0 _ _ _ _ _)) ⟨rfl, ⟨rfl, ⟨rfl, trivial⟩⟩⟩

set_option maxHeartbeats 4000000 in
set_option maxRecDepth 100000 in
theorem c_X9_fails (l : Launch) (G : kG) (M : kM) (m : Nat) (ad : Nat → Nat) (hS : MS M m ad) (g : gT) (sa : Nat → gT) (sf : Nat → Int32) (h nr nk ns : Nat) (hw : WF g h nr nk ns) (hb : h + 400 < 2147483648) : Kt l G yX9_fails cX9_fails 3 (some .int) 5 129 [.ref m] (SC M m ad g sa sf) (0) (0) (fun v M2 => v = some (.int (falF nr nk ns 200 g h)) ∧ ∃ sa2 sf2, M2 = SC M m ad g sa2 sf2) := by
  refine Kt.of (own := "KeptLightModel") (L := [some (.ref m), none, none]) (by decide +kernel) rfl (Nat.le_of_ble_eq_true rfl) rfl ?_
  intro pp ee ss mm args below meth cd hmn hret
  have km := hS.1
  obtain ⟨hr_g, kk_g, hn_g⟩ := hS.2.1 0 (by decide)
  have hr_g : mR M (fc 9 0) m = some (ad 0) := hr_g
  have hn_g : mN M (ad 0) = 2509 := hn_g
  have kk_g : mK M (ad 0) = some 120 := kk_g
  obtain ⟨hr_was, kk_was, hn_was⟩ := hS.2.1 1 (by decide)
  have hr_was : mR M (fc 9 1) m = some (ad 1) := hr_was
  have hn_was : mN M (ad 1) = 2509 := hn_was
  have kk_was : mK M (ad 1) = some 120 := kk_was
  have ne_g_was := hS.eqf 0 1 (by decide) (by decide) (by decide)
  have ne_was_g := hS.eqf 1 0 (by decide) (by decide) (by decide)
  have cut15 : ∀ (fuel : Nat) (i : Nat) (r : Int32) (sf1 : Nat → Int32) (h1 : 200 - i < fuel) (h2 : i ≤ 200) (h3 : falI g h nr nk ns i r), Wx pp l ee { frames := 5, cells := 0, slots := 0, locals := 129 } ss mm args below meth cd "KeptLightModel" cX9_fails 3 G (MQ below (KQ G (SC M m ad g sa sf) (fun v M2 => v = some (.int (falF nr nk ns 200 g h)) ∧ ∃ sa2 sf2, M2 = SC M m ad g sa2 sf2)) args ss (0) (0) (kA G)) 15 [some (.ref m), some (.int r), some (.int (nI i))] [] (SC M m ad (hrsG g h nr nk ns i) (va_up sa 1 (cpy g (sa 1) 2509)) sf1) (0) (0) := by
    intro fuel
    induction fuel with
    | zero => intro i r sf1 h1 h2 h3; omega
    | succ fuel ih =>
      intro i r sf1 h1 h2 h3
      refine x_iload_n (n' := 16) dX9_fails_15 rfl rfl rfl ?_
      refine x_sipush (n' := 19) (v := 200) dX9_fails_16 (by decide) rfl ?_
      refine x_icmp_ge (n' := 22) (tgt := 53) dX9_fails_19 (by decide) rfl (fun c19_1 => ?_) (fun c19_1 => ?_)
      · have C19 := c19_1
        have N19 := (cv_le (by repeat' (first | with_reducible exact nl_0 | with_reducible exact nl_1 | with_reducible exact nl_200 | with_reducible exact rfl | apply i_add | apply i_mul)) (by repeat' (first | with_reducible exact nl_0 | with_reducible exact nl_1 | with_reducible exact nl_200 | with_reducible exact rfl | apply i_add | apply i_mul)) (by omega) (by omega)).mp c19_1
        refine x_aload_n (n' := 54) dX9_fails_53 rfl rfl rfl ?_
        refine x_getRs (n' := 57) (b := (ad 1)) dX9_fails_54 (by repeat' (first | with_reducible exact km | with_reducible apply mK_A | with_reducible apply mK_I | with_reducible apply mK_L | with_reducible apply mK_R | with_reducible apply mK_O | with_reducible apply mK_S)) ffX9_13_9 rfl (by repeat' (first | with_reducible exact hr_was | with_reducible apply mR_A | with_reducible apply mR_I | with_reducible apply mR_L | with_reducible apply mR_S)) rfl ?_
        refine x_aload_n (n' := 58) dX9_fails_57 rfl rfl rfl ?_
        refine x_getRs (n' := 61) (b := (ad 0)) dX9_fails_58 (by repeat' (first | with_reducible exact km | with_reducible apply mK_A | with_reducible apply mK_I | with_reducible apply mK_L | with_reducible apply mK_R | with_reducible apply mK_O | with_reducible apply mK_S)) ffX9_9_9 rfl (by repeat' (first | with_reducible exact hr_g | with_reducible apply mR_A | with_reducible apply mR_I | with_reducible apply mR_L | with_reducible apply mR_S)) rfl ?_
        refine x_callS (n' := 64) (n := 2) (c_X9_copies l G _ (ad 1) (ad 0) (by repeat' (first | with_reducible exact kk_was | with_reducible apply mK_A | with_reducible apply mK_I | with_reducible apply mK_L | with_reducible apply mK_S)) (by repeat' (first | with_reducible exact kk_g | with_reducible apply mK_A | with_reducible apply mK_I | with_reducible apply mK_L | with_reducible apply mK_S)) ne_was_g (by repeat' (first | with_reducible exact hn_was | with_reducible apply mN_A | with_reducible apply mN_I | with_reducible apply mN_L | with_reducible apply mN_S)) (by repeat' (first | with_reducible exact hn_g | with_reducible apply mN_A | with_reducible apply mN_I | with_reducible apply mN_L | with_reducible apply mN_S))) dX9_fails_61 (lw_S q3526 q3527 q109 q3528) (by decide +kernel) ⟨(Nat.le_of_ble_eq_true rfl), (Nat.le_of_ble_eq_true rfl)⟩ rfl rfl (Nat.le_of_ble_eq_true rfl) (by first | exact Nat.le_of_ble_eq_true rfl | omega) (by first | exact Nat.le_of_ble_eq_true rfl | omega) rfl (fun v_2 M_3 h_5 hE_4 => ?_)
        obtain ⟨rfl, hMs⟩ := h_5
        have hMs : M_3 = SC M m ad g (va_up sa 1 (cpy g (sa 1) 2509)) sf1 := hMs.trans (by rw [mA_SC0, mA_SC1 hS, SC_A0, va_up_self, hrs_back hw i])
        have hMs := hMs.symm
        subst hMs
        refine x_iload_n (n' := 65) dX9_fails_64 rfl rfl rfl ?_
        exact x_iret dX9_fails_65 hret (by repeat' (first | with_reducible exact kE.rf | with_reducible exact kE_SS | with_reducible apply kE_A | with_reducible apply kE_I | with_reducible apply kE_L | with_reducible apply kE_R | with_reducible apply kE_O | with_reducible apply kE_S)) (by rw [falI_e h3 (by first | exact Or.inl (by omega) | exact Or.inr C23)]; exact ⟨rfl, _, sf1, rfl⟩)
      · have C19 := c19_1
        have N19 := (not_congr (cv_le (by repeat' (first | with_reducible exact nl_0 | with_reducible exact nl_1 | with_reducible exact nl_200 | with_reducible exact rfl | apply i_add | apply i_mul)) (by repeat' (first | with_reducible exact nl_0 | with_reducible exact nl_1 | with_reducible exact nl_200 | with_reducible exact rfl | apply i_add | apply i_mul)) (by omega) (by omega))).mp c19_1
        refine x_iload_n (n' := 23) dX9_fails_22 rfl rfl rfl ?_
        refine x_if_ge (n' := 26) (tgt := 53) dX9_fails_23 (by decide) rfl (fun c23_6 => ?_) (fun c23_6 => ?_)
        · have C23 := c23_6
          refine x_aload_n (n' := 54) dX9_fails_53 rfl rfl rfl ?_
          refine x_getRs (n' := 57) (b := (ad 1)) dX9_fails_54 (by repeat' (first | with_reducible exact km | with_reducible apply mK_A | with_reducible apply mK_I | with_reducible apply mK_L | with_reducible apply mK_R | with_reducible apply mK_O | with_reducible apply mK_S)) ffX9_13_9 rfl (by repeat' (first | with_reducible exact hr_was | with_reducible apply mR_A | with_reducible apply mR_I | with_reducible apply mR_L | with_reducible apply mR_S)) rfl ?_
          refine x_aload_n (n' := 58) dX9_fails_57 rfl rfl rfl ?_
          refine x_getRs (n' := 61) (b := (ad 0)) dX9_fails_58 (by repeat' (first | with_reducible exact km | with_reducible apply mK_A | with_reducible apply mK_I | with_reducible apply mK_L | with_reducible apply mK_R | with_reducible apply mK_O | with_reducible apply mK_S)) ffX9_9_9 rfl (by repeat' (first | with_reducible exact hr_g | with_reducible apply mR_A | with_reducible apply mR_I | with_reducible apply mR_L | with_reducible apply mR_S)) rfl ?_
          refine x_callS (n' := 64) (n := 2) (c_X9_copies l G _ (ad 1) (ad 0) (by repeat' (first | with_reducible exact kk_was | with_reducible apply mK_A | with_reducible apply mK_I | with_reducible apply mK_L | with_reducible apply mK_S)) (by repeat' (first | with_reducible exact kk_g | with_reducible apply mK_A | with_reducible apply mK_I | with_reducible apply mK_L | with_reducible apply mK_S)) ne_was_g (by repeat' (first | with_reducible exact hn_was | with_reducible apply mN_A | with_reducible apply mN_I | with_reducible apply mN_L | with_reducible apply mN_S)) (by repeat' (first | with_reducible exact hn_g | with_reducible apply mN_A | with_reducible apply mN_I | with_reducible apply mN_L | with_reducible apply mN_S))) dX9_fails_61 (lw_S q3526 q3527 q109 q3528) (by decide +kernel) ⟨(Nat.le_of_ble_eq_true rfl), (Nat.le_of_ble_eq_true rfl)⟩ rfl rfl (Nat.le_of_ble_eq_true rfl) (by first | exact Nat.le_of_ble_eq_true rfl | omega) (by first | exact Nat.le_of_ble_eq_true rfl | omega) rfl (fun v_7 M_8 h_10 hE_9 => ?_)
          obtain ⟨rfl, hMs⟩ := h_10
          have hMs : M_8 = SC M m ad g (va_up sa 1 (cpy g (sa 1) 2509)) sf1 := hMs.trans (by rw [mA_SC0, mA_SC1 hS, SC_A0, va_up_self, hrs_back hw i])
          have hMs := hMs.symm
          subst hMs
          refine x_iload_n (n' := 65) dX9_fails_64 rfl rfl rfl ?_
          exact x_iret dX9_fails_65 hret (by repeat' (first | with_reducible exact kE.rf | with_reducible exact kE_SS | with_reducible apply kE_A | with_reducible apply kE_I | with_reducible apply kE_L | with_reducible apply kE_R | with_reducible apply kE_O | with_reducible apply kE_S)) (by rw [falI_e h3 (by first | exact Or.inl (by omega) | exact Or.inr C23)]; exact ⟨rfl, _, sf1, rfl⟩)
        · have C23 := c23_6
          refine x_aload_n (n' := 27) dX9_fails_26 rfl rfl rfl ?_
          refine x_iconst (n' := 28) (v := 1) dX9_fails_27 (by decide) rfl ?_
          refine x_callV (n' := 31) (n := 1) (K := 9) (c_X9_passes l G M m ad hS (hrsG g h nr nk ns i) (va_up sa 1 (cpy g (sa 1) 2509)) sf1 (h + i) nr nk ns 1 (hrs_WF hw i) (by omega)) dX9_fails_28 (by repeat' (first | with_reducible exact km | with_reducible apply mK_A | with_reducible apply mK_I | with_reducible apply mK_L | with_reducible apply mK_R | with_reducible apply mK_O | with_reducible apply mK_S)) rfl (lw_V q3405 q3407 qs55 q109 q3408) (by decide +kernel) ⟨(Nat.le_of_ble_eq_true rfl), (Nat.le_of_ble_eq_true rfl)⟩ rfl rfl (Nat.le_of_ble_eq_true rfl) (by first | exact Nat.le_of_ble_eq_true rfl | omega) (by first | exact Nat.le_of_ble_eq_true rfl | omega) rfl (fun v_11 M9 h_13 hE_12 => ?_)
          obtain ⟨rfl, sf2, hM8⟩ := h_13
          have hMs : SC M m ad (hrsG g h nr nk ns (i + 1)) (va_up sa 1 (cpy g (sa 1) 2509)) sf2 = M9 := hM8.symm
          subst hMs
          have hg0 : hrsG g h nr nk ns (i + 1) 0 - 1 = nI (h + i) := by rw [(hrs_WF hw (i + 1)).hh]; exact nI_prd _
          refine x_fork (J := 46) (x_if_le (n' := 34) (tgt := 45) dX9_fails_31 (by decide) rfl) (v1 := ?v1_f31_14) (v2 := ?v2_f31_14) (fun c_f31_14 j_f31_14 => ?b1_f31_14) (fun c_f31_14 j_f31_14 => ?b2_f31_14) ?k_f31_14
          case b1_f31_14 =>
            refine x_iconst (n' := 46) (v := -1) dX9_fails_45 (by decide) rfl ?_
            exact j_f31_14
          case b2_f31_14 =>
            refine x_aload_n (n' := 35) dX9_fails_34 rfl rfl rfl ?_
            refine x_getRs (n' := 38) (b := (ad 0)) dX9_fails_35 (by repeat' (first | with_reducible exact km | with_reducible apply mK_A | with_reducible apply mK_I | with_reducible apply mK_L | with_reducible apply mK_R | with_reducible apply mK_O | with_reducible apply mK_S)) ffX9_9_9 rfl (by repeat' (first | with_reducible exact hr_g | with_reducible apply mR_A | with_reducible apply mR_I | with_reducible apply mR_L | with_reducible apply mR_S)) rfl ?_
            refine x_iconst (n' := 39) (v := 0) dX9_fails_38 (by decide) rfl ?_
            refine x_ildk (n' := 40) (N := 2509) dX9_fails_39 (by repeat' (first | with_reducible exact kk_g | with_reducible apply mK_A | with_reducible apply mK_I | with_reducible apply mK_L | with_reducible apply mK_R | with_reducible apply mK_O | with_reducible apply mK_S)) (by repeat' (first | with_reducible exact hn_g | with_reducible apply mN_A | with_reducible apply mN_I | with_reducible apply mN_L | with_reducible apply mN_R | with_reducible apply mN_O | with_reducible apply mN_S)) (by repeat' (first | with_reducible exact nl_0 | with_reducible exact nl_1 | with_reducible exact nl_200 | with_reducible exact rfl | apply i_add | apply i_mul)) (by omega) (by decide) (by first | (simp (disch := omega) only [mA_sA, mA_sI, mA_SC0, mA_SC1 hS, mA_SC5 hS, mA_SC6 hS, mA_SC10 hS, mA_SC11 hS, mA_SC12 hS, up_s, up_n, if_false, ne_g_was, ne_was_g] <;> rfl) | rfl) rfl ?_
            refine x_iconst (n' := 41) (v := 1) dX9_fails_40 (by decide) rfl ?_
            refine x_isub (n' := 42) dX9_fails_41 rfl ?_
            refine x_goto (tgt := 46) dX9_fails_42 (by decide) ?_
            exact j_f31_14
          refine x_topv (y := if unlG (hrsG g h nr nk ns i) (h + i) nr nk ns 1 ≤ 0 then -1 else nI (h + i)) (by rw [hg0]) ?_
          refine x_istore_n (n' := 47) dX9_fails_46 rfl (Nat.le_of_ble_eq_true rfl) rfl (by dsimp only [List.set] <;> rfl) rfl ?_
          refine x_iinc (n' := 50) dX9_fails_47 rfl (by first | exact nI_inc _ | exact nI_decp (by omega) | exact i_inc _ | rfl) (Nat.le_of_ble_eq_true rfl) rfl (by dsimp only [List.set] <;> rfl) rfl ?_
          refine x_goto (tgt := 15) dX9_fails_50 (by decide) ?_
          exact x_drop (ih (i + 1) _ sf2 (by omega) (by omega) (falI_s h3 (by omega) C23 (by omega))) ⟨rfl, ⟨rfl, ⟨rfl, trivial⟩⟩⟩
  refine x_aload_n (n' := 1) dX9_fails_0 rfl rfl rfl ?_
  refine x_getRs (n' := 4) (b := (ad 0)) dX9_fails_1 (by repeat' (first | with_reducible exact km | with_reducible apply mK_A | with_reducible apply mK_I | with_reducible apply mK_L | with_reducible apply mK_R | with_reducible apply mK_O | with_reducible apply mK_S)) ffX9_9_9 rfl (by repeat' (first | with_reducible exact hr_g | with_reducible apply mR_A | with_reducible apply mR_I | with_reducible apply mR_L | with_reducible apply mR_S)) rfl ?_
  refine x_aload_n (n' := 5) dX9_fails_4 rfl rfl rfl ?_
  refine x_getRs (n' := 8) (b := (ad 1)) dX9_fails_5 (by repeat' (first | with_reducible exact km | with_reducible apply mK_A | with_reducible apply mK_I | with_reducible apply mK_L | with_reducible apply mK_R | with_reducible apply mK_O | with_reducible apply mK_S)) ffX9_13_9 rfl (by repeat' (first | with_reducible exact hr_was | with_reducible apply mR_A | with_reducible apply mR_I | with_reducible apply mR_L | with_reducible apply mR_S)) rfl ?_
  refine x_callS (n' := 11) (n := 2) (c_X9_copies l G _ (ad 0) (ad 1) (by repeat' (first | with_reducible exact kk_g | with_reducible apply mK_A | with_reducible apply mK_I | with_reducible apply mK_L | with_reducible apply mK_S)) (by repeat' (first | with_reducible exact kk_was | with_reducible apply mK_A | with_reducible apply mK_I | with_reducible apply mK_L | with_reducible apply mK_S)) ne_g_was (by repeat' (first | with_reducible exact hn_g | with_reducible apply mN_A | with_reducible apply mN_I | with_reducible apply mN_L | with_reducible apply mN_S)) (by repeat' (first | with_reducible exact hn_was | with_reducible apply mN_A | with_reducible apply mN_I | with_reducible apply mN_L | with_reducible apply mN_S))) dX9_fails_8 (lw_S q3526 q3527 q109 q3528) (by decide +kernel) ⟨(Nat.le_of_ble_eq_true rfl), (Nat.le_of_ble_eq_true rfl)⟩ rfl rfl (Nat.le_of_ble_eq_true rfl) (by first | exact Nat.le_of_ble_eq_true rfl | omega) (by first | exact Nat.le_of_ble_eq_true rfl | omega) rfl (fun v_15 M_16 h_18 hE_17 => ?_)
  obtain ⟨rfl, hMs⟩ := h_18
  have hMs : M_16 = SC M m ad g (va_up sa 1 (cpy g (sa 1) 2509)) sf := hMs.trans (by rw [mA_SC0, mA_SC1 hS, SC_A1 hS])
  have hMs := hMs.symm
  subst hMs
  refine x_iconst (n' := 12) (v := -1) dX9_fails_11 (by decide) rfl ?_
  refine x_istore_n (n' := 13) dX9_fails_12 rfl (Nat.le_of_ble_eq_true rfl) rfl (by dsimp only [List.set] <;> rfl) rfl ?_
  refine x_iconst (n' := 14) (v := 0) dX9_fails_13 (by decide) rfl ?_
  refine x_istore_n (n' := 15) dX9_fails_14 rfl (Nat.le_of_ble_eq_true rfl) rfl (by dsimp only [List.set] <;> rfl) rfl ?_
  exact x_drop (cut15 201 0 _ sf (by omega) (by omega) (falI_0 _ _ _ _ _)) ⟨rfl, ⟨rfl, ⟨rfl, trivial⟩⟩⟩
