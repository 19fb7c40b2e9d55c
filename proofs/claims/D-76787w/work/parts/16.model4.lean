set_option maxHeartbeats 4000000 in
set_option maxRecDepth 100000 in
theorem c_X9_passes (l : Launch) (G : kG) (M : kM) (m : Nat) (ad : Nat → Nat) (hS : MS M m ad) (g : gT) (sa : Nat → gT) (sf : Nat → Int32) (h nr nk ns n : Nat) (hw : WF g h nr nk ns) (hb : h + n < 2147483648) : Kt l G yX9_passes cX9_passes 4 (some .int) 4 106 [.ref m, .int (nI n)] (SC M m ad g sa sf) (0) (0) (fun v M2 => v = some (.int (unlG g h nr nk ns n)) ∧ ∃ sf2, M2 = SC M m ad (hrsG g h nr nk ns n) sa sf2) := by
  refine Kt.of (own := "KeptLightModel") (L := [some (.ref m), some (.int (nI n)), none, none]) (by decide +kernel) rfl (Nat.le_of_ble_eq_true rfl) rfl ?_
  intro pp ee ss mm args below meth cd hmn hret
  have km := hS.1
  obtain ⟨hr_g, kk_g, hn_g⟩ := hS.2.1 0 (by decide)
  have hr_g : mR M (fc 9 0) m = some (ad 0) := hr_g
  have hn_g : mN M (ad 0) = 2509 := hn_g
  have kk_g : mK M (ad 0) = some 120 := kk_g
  have cut10 : ∀ (fuel : Nat) (i : Nat) (sf1 : Nat → Int32) (h1 : n - i < fuel) (h2 : i ≤ n), Wx pp l ee { frames := 4, cells := 0, slots := 0, locals := 106 } ss mm args below meth cd "KeptLightModel" cX9_passes 4 G (MQ below (KQ G (SC M m ad g sa sf) (fun v M2 => v = some (.int (unlG g h nr nk ns n)) ∧ ∃ sf2, M2 = SC M m ad (hrsG g h nr nk ns n) sa sf2)) args ss (0) (0) (kA G)) 10 [some (.ref m), some (.int (nI n)), some (.int (g 16)), some (.int (nI i))] [] (SC M m ad (hrsG g h nr nk ns i) sa sf1) (0) (0) := by
    intro fuel
    induction fuel with
    | zero => intro i sf1 h1 h2; omega
    | succ fuel ih =>
      intro i sf1 h1 h2
      refine x_iload_n (n' := 11) dX9_passes_10 rfl rfl rfl ?_
      refine x_iload_n (n' := 12) dX9_passes_11 rfl rfl rfl ?_
      refine x_icmp_ge (n' := 15) (tgt := 25) dX9_passes_12 (by decide) rfl (fun c12_1 => ?_) (fun c12_1 => ?_)
      · have n_c12_1 := (cv_le (by repeat' (first | with_reducible exact nl_0 | with_reducible exact nl_16 | with_reducible exact rfl | apply i_add | apply i_mul)) (by repeat' (first | with_reducible exact nl_0 | with_reducible exact nl_16 | with_reducible exact rfl | apply i_add | apply i_mul)) (by omega) (by omega)).mp c12_1
        refine x_aload_n (n' := 26) dX9_passes_25 rfl rfl rfl ?_
        refine x_getRs (n' := 29) (b := (ad 0)) dX9_passes_26 (by repeat' (first | with_reducible exact km | with_reducible apply mK_A | with_reducible apply mK_I | with_reducible apply mK_L | with_reducible apply mK_R | with_reducible apply mK_O | with_reducible apply mK_S)) ffX9_9_9 rfl (by repeat' (first | with_reducible exact hr_g | with_reducible apply mR_A | with_reducible apply mR_I | with_reducible apply mR_L | with_reducible apply mR_S)) rfl ?_
        refine x_bipush (n' := 31) (v := 16) dX9_passes_29 (by decide) rfl ?_
        refine x_ildk (n' := 32) (N := 2509) dX9_passes_31 (by repeat' (first | with_reducible exact kk_g | with_reducible apply mK_A | with_reducible apply mK_I | with_reducible apply mK_L | with_reducible apply mK_R | with_reducible apply mK_O | with_reducible apply mK_S)) (by repeat' (first | with_reducible exact hn_g | with_reducible apply mN_A | with_reducible apply mN_I | with_reducible apply mN_L | with_reducible apply mN_R | with_reducible apply mN_O | with_reducible apply mN_S)) (by repeat' (first | with_reducible exact nl_0 | with_reducible exact nl_16 | with_reducible exact rfl | apply i_add | apply i_mul)) (by omega) (by decide) (by first | (simp (disch := omega) only [mA_sA, mA_sI, mA_SC0, mA_SC1 hS, mA_SC5 hS, mA_SC6 hS, mA_SC10 hS, mA_SC11 hS, mA_SC12 hS, up_s, up_n, if_false] <;> rfl) | rfl) rfl ?_
        refine x_iload_n (n' := 33) dX9_passes_32 rfl rfl rfl ?_
        refine x_isub (n' := 34) dX9_passes_33 rfl ?_
        exact x_iret dX9_passes_34 hret (by repeat' (first | with_reducible exact kE.rf | with_reducible exact kE_SS | with_reducible apply kE_A | with_reducible apply kE_I | with_reducible apply kE_L | with_reducible apply kE_R | with_reducible apply kE_O | with_reducible apply kE_S)) (by rw [show i = n by omega]; exact ⟨rfl, sf1, rfl⟩)
      · have n_c12_1 := (not_congr (cv_le (by repeat' (first | with_reducible exact nl_0 | with_reducible exact nl_16 | with_reducible exact rfl | apply i_add | apply i_mul)) (by repeat' (first | with_reducible exact nl_0 | with_reducible exact nl_16 | with_reducible exact rfl | apply i_add | apply i_mul)) (by omega) (by omega))).mp c12_1
        refine x_aload_n (n' := 16) dX9_passes_15 rfl rfl rfl ?_
        refine x_callV (n' := 19) (n := 0) (K := 9) (c_X9_hourPasses l G _ m ad (by repeat' (first | with_reducible exact hS | with_reducible apply MS.sA | with_reducible apply MS.sI | with_reducible apply MS.sL | with_reducible apply MS.sc)) (h + i) nr nk ns (by rw [mA_SC0]; exact hrs_WF hw i) (by omega)) dX9_passes_16 (by repeat' (first | with_reducible exact km | with_reducible apply mK_A | with_reducible apply mK_I | with_reducible apply mK_L | with_reducible apply mK_R | with_reducible apply mK_O | with_reducible apply mK_S)) rfl (lw_V q3409 q3411 qs56 q109 q3412) (by decide +kernel) ⟨(Nat.le_of_ble_eq_true rfl), (Nat.le_of_ble_eq_true rfl)⟩ rfl rfl (Nat.le_of_ble_eq_true rfl) (by first | exact Nat.le_of_ble_eq_true rfl | omega) (by first | exact Nat.le_of_ble_eq_true rfl | omega) rfl (fun v_2 M_3 h_5 hE_4 => ?_)
        obtain ⟨rfl, hMs⟩ := h_5
        obtain ⟨sf2, hMs⟩ : ∃ sf2, M_3 = SC M m ad (hrsG g h nr nk ns (i + 1)) sa sf2 := ⟨_, hMs.trans (by rw [mA_SC0, SC_hrM]; rfl)⟩
        have hMs := hMs.symm
        subst hMs
        refine x_iinc (n' := 22) dX9_passes_19 rfl (by first | exact nI_inc _ | exact nI_decp (by omega) | exact i_inc _ | rfl) (Nat.le_of_ble_eq_true rfl) rfl (by dsimp only [List.set] <;> rfl) rfl ?_
        refine x_goto (tgt := 10) dX9_passes_22 (by decide) ?_
        exact x_drop (ih (i + 1) sf2 (by omega) (by omega)) ⟨rfl, ⟨rfl, ⟨rfl, ⟨rfl, trivial⟩⟩⟩⟩
  refine x_aload_n (n' := 1) dX9_passes_0 rfl rfl rfl ?_
  refine x_getRs (n' := 4) (b := (ad 0)) dX9_passes_1 (by repeat' (first | with_reducible exact km | with_reducible apply mK_A | with_reducible apply mK_I | with_reducible apply mK_L | with_reducible apply mK_R | with_reducible apply mK_O | with_reducible apply mK_S)) ffX9_9_9 rfl (by repeat' (first | with_reducible exact hr_g | with_reducible apply mR_A | with_reducible apply mR_I | with_reducible apply mR_L | with_reducible apply mR_S)) rfl ?_
  refine x_bipush (n' := 6) (v := 16) dX9_passes_4 (by decide) rfl ?_
  refine x_ildk (n' := 7) (N := 2509) dX9_passes_6 (by repeat' (first | with_reducible exact kk_g | with_reducible apply mK_A | with_reducible apply mK_I | with_reducible apply mK_L | with_reducible apply mK_R | with_reducible apply mK_O | with_reducible apply mK_S)) (by repeat' (first | with_reducible exact hn_g | with_reducible apply mN_A | with_reducible apply mN_I | with_reducible apply mN_L | with_reducible apply mN_R | with_reducible apply mN_O | with_reducible apply mN_S)) (by repeat' (first | with_reducible exact nl_0 | with_reducible exact nl_16 | with_reducible exact rfl | apply i_add | apply i_mul)) (by omega) (by decide) (by first | (simp (disch := omega) only [mA_sA, mA_sI, mA_SC0, mA_SC1 hS, mA_SC5 hS, mA_SC6 hS, mA_SC10 hS, mA_SC11 hS, mA_SC12 hS, up_s, up_n, if_false] <;> rfl) | rfl) rfl ?_
  refine x_istore_n (n' := 8) dX9_passes_7 rfl (Nat.le_of_ble_eq_true rfl) rfl (by dsimp only [List.set] <;> rfl) rfl ?_
  refine x_iconst (n' := 9) (v := 0) dX9_passes_8 (by decide) rfl ?_
  refine x_istore_n (n' := 10) dX9_passes_9 rfl (Nat.le_of_ble_eq_true rfl) rfl (by dsimp only [List.set] <;> rfl) rfl ?_
  exact x_drop (cut10 (n + 1) 0 sf (by omega) (by omega)) ⟨rfl, ⟨rfl, ⟨rfl, ⟨rfl, trivial⟩⟩⟩⟩

theorem ffX9_13_9 : FF "KeptLightModel" 13 9 1 "KeptLightModel" := ⟨by decide, by decide, q3253, Or.inl rfl⟩
set_option maxHeartbeats 4000000 in
set_option maxRecDepth 100000 in
theorem c_X9_unlitOf (l : Launch) (G : kG) (M : kM) (m : Nat) (ad : Nat → Nat) (hS : MS M m ad) (g : gT) (sa : Nat → gT) (sf : Nat → Int32) (h nr nk ns n : Nat) (hw : WF g h nr nk ns) (hb : h + n < 2147483648) : Kt l G yX9_unlitOf cX9_unlitOf 3 (some .int) 5 129 [.ref m, .int (nI n)] (SC M m ad g sa sf) (0) (0) (fun v M2 => v = some (.int (unlG g h nr nk ns n)) ∧ ∃ X sf2, M2 = SC M m ad g (va_up sa 1 X) sf2) := by
  refine Kt.of (own := "KeptLightModel") (L := [some (.ref m), some (.int (nI n)), none]) (by decide +kernel) rfl (Nat.le_of_ble_eq_true rfl) rfl ?_
  intro pp ee ss mm args below meth cd hmn hret
  have km := hS.1
  obtain ⟨hr_g, kk_g, hn_g⟩ := hS.2.1 0 (by decide)
  have hr_g : mR M (fc 9 0) m = some (ad 0) := hr_g
  have hn_g : mN M (ad 0) = 2509 := hn_g
  have kk_g : mK M (ad 0) = some 120 := kk_g
  obtain ⟨hr_was, kk_was, hn_was⟩ := hS.2.1 1 (by decide)
  have hr_was : mR M (fc 9 1) m = some (ad 1) := hr_was
  have hn_was : mN M (ad 1) = 2509 := hn_was
  have kk_was : mK M (ad 1) = some 120 := kk_was
  have ne_g_was := hS.eqf 0 1 (by decide) (by decide) (by decide)
  have ne_was_g := hS.eqf 1 0 (by decide) (by decide) (by decide)
  refine x_aload_n (n' := 1) dX9_unlitOf_0 rfl rfl rfl ?_
  refine x_getRs (n' := 4) (b := (ad 0)) dX9_unlitOf_1 (by repeat' (first | with_reducible exact km | with_reducible apply mK_A | with_reducible apply mK_I | with_reducible apply mK_L | with_reducible apply mK_R | with_reducible apply mK_O | with_reducible apply mK_S)) ffX9_9_9 rfl (by repeat' (first | with_reducible exact hr_g | with_reducible apply mR_A | with_reducible apply mR_I | with_reducible apply mR_L | with_reducible apply mR_S)) rfl ?_
  refine x_aload_n (n' := 5) dX9_unlitOf_4 rfl rfl rfl ?_
  refine x_getRs (n' := 8) (b := (ad 1)) dX9_unlitOf_5 (by repeat' (first | with_reducible exact km | with_reducible apply mK_A | with_reducible apply mK_I | with_reducible apply mK_L | with_reducible apply mK_R | with_reducible apply mK_O | with_reducible apply mK_S)) ffX9_13_9 rfl (by repeat' (first | with_reducible exact hr_was | with_reducible apply mR_A | with_reducible apply mR_I | with_reducible apply mR_L | with_reducible apply mR_S)) rfl ?_
  refine x_callS (n' := 11) (n := 2) (c_X9_copies l G _ (ad 0) (ad 1) (by repeat' (first | with_reducible exact kk_g | with_reducible apply mK_A | with_reducible apply mK_I | with_reducible apply mK_L | with_reducible apply mK_S)) (by repeat' (first | with_reducible exact kk_was | with_reducible apply mK_A | with_reducible apply mK_I | with_reducible apply mK_L | with_reducible apply mK_S)) ne_g_was (by repeat' (first | with_reducible exact hn_g | with_reducible apply mN_A | with_reducible apply mN_I | with_reducible apply mN_L | with_reducible apply mN_S)) (by repeat' (first | with_reducible exact hn_was | with_reducible apply mN_A | with_reducible apply mN_I | with_reducible apply mN_L | with_reducible apply mN_S))) dX9_unlitOf_8 (lw_S q3526 q3527 q109 q3528) (by decide +kernel) ⟨(Nat.le_of_ble_eq_true rfl), (Nat.le_of_ble_eq_true rfl)⟩ rfl rfl (Nat.le_of_ble_eq_true rfl) (by first | exact Nat.le_of_ble_eq_true rfl | omega) (by first | exact Nat.le_of_ble_eq_true rfl | omega) rfl (fun v_1 M_2 h_4 hE_3 => ?_)
  obtain ⟨rfl, hMs⟩ := h_4
  have hMs : M_2 = SC M m ad g (va_up sa 1 (cpy g (sa 1) 2509)) sf := hMs.trans (by rw [mA_SC0, mA_SC1 hS, SC_A1 hS])
  have hMs := hMs.symm
  subst hMs
  refine x_aload_n (n' := 12) dX9_unlitOf_11 rfl rfl rfl ?_
  refine x_iload_n (n' := 13) dX9_unlitOf_12 rfl rfl rfl ?_
  refine x_callV (n' := 16) (n := 1) (K := 9) (c_X9_passes l G M m ad hS g _ sf h nr nk ns n hw hb) dX9_unlitOf_13 (by repeat' (first | with_reducible exact km | with_reducible apply mK_A | with_reducible apply mK_I | with_reducible apply mK_L | with_reducible apply mK_R | with_reducible apply mK_O | with_reducible apply mK_S)) rfl (lw_V q3405 q3407 qs55 q109 q3408) (by decide +kernel) ⟨(Nat.le_of_ble_eq_true rfl), (Nat.le_of_ble_eq_true rfl)⟩ rfl rfl (Nat.le_of_ble_eq_true rfl) (by first | exact Nat.le_of_ble_eq_true rfl | omega) (by first | exact Nat.le_of_ble_eq_true rfl | omega) rfl (fun v_5 M_6 h_8 hE_7 => ?_)
  obtain ⟨rfl, sf2, hMs⟩ := h_8
  have hMs := hMs.symm
  subst hMs
  refine x_istore_n (n' := 17) dX9_unlitOf_16 rfl (Nat.le_of_ble_eq_true rfl) rfl (by dsimp only [List.set] <;> rfl) rfl ?_
  refine x_aload_n (n' := 18) dX9_unlitOf_17 rfl rfl rfl ?_
  refine x_getRs (n' := 21) (b := (ad 1)) dX9_unlitOf_18 (by repeat' (first | with_reducible exact km | with_reducible apply mK_A | with_reducible apply mK_I | with_reducible apply mK_L | with_reducible apply mK_R | with_reducible apply mK_O | with_reducible apply mK_S)) ffX9_13_9 rfl (by repeat' (first | with_reducible exact hr_was | with_reducible apply mR_A | with_reducible apply mR_I | with_reducible apply mR_L | with_reducible apply mR_S)) rfl ?_
  refine x_aload_n (n' := 22) dX9_unlitOf_21 rfl rfl rfl ?_
  refine x_getRs (n' := 25) (b := (ad 0)) dX9_unlitOf_22 (by repeat' (first | with_reducible exact km | with_reducible apply mK_A | with_reducible apply mK_I | with_reducible apply mK_L | with_reducible apply mK_R | with_reducible apply mK_O | with_reducible apply mK_S)) ffX9_9_9 rfl (by repeat' (first | with_reducible exact hr_g | with_reducible apply mR_A | with_reducible apply mR_I | with_reducible apply mR_L | with_reducible apply mR_S)) rfl ?_
  refine x_callS (n' := 28) (n := 2) (c_X9_copies l G _ (ad 1) (ad 0) (by repeat' (first | with_reducible exact kk_was | with_reducible apply mK_A | with_reducible apply mK_I | with_reducible apply mK_L | with_reducible apply mK_S)) (by repeat' (first | with_reducible exact kk_g | with_reducible apply mK_A | with_reducible apply mK_I | with_reducible apply mK_L | with_reducible apply mK_S)) ne_was_g (by repeat' (first | with_reducible exact hn_was | with_reducible apply mN_A | with_reducible apply mN_I | with_reducible apply mN_L | with_reducible apply mN_S)) (by repeat' (first | with_reducible exact hn_g | with_reducible apply mN_A | with_reducible apply mN_I | with_reducible apply mN_L | with_reducible apply mN_S))) dX9_unlitOf_25 (lw_S q3526 q3527 q109 q3528) (by decide +kernel) ⟨(Nat.le_of_ble_eq_true rfl), (Nat.le_of_ble_eq_true rfl)⟩ rfl rfl (Nat.le_of_ble_eq_true rfl) (by first | exact Nat.le_of_ble_eq_true rfl | omega) (by first | exact Nat.le_of_ble_eq_true rfl | omega) rfl (fun v_9 M_10 h_12 hE_11 => ?_)
  obtain ⟨rfl, hMs⟩ := h_12
  have hMs : M_10 = SC M m ad g (va_up sa 1 (cpy g (sa 1) 2509)) sf2 := hMs.trans (by rw [mA_SC0, mA_SC1 hS, SC_A0, va_up_self, hrs_back hw n])
  have hMs := hMs.symm
  subst hMs
  refine x_iload_n (n' := 29) dX9_unlitOf_28 rfl rfl rfl ?_
  exact x_iret dX9_unlitOf_29 hret (by repeat' (first | with_reducible exact kE.rf | with_reducible exact kE_SS | with_reducible apply kE_A | with_reducible apply kE_I | with_reducible apply kE_L | with_reducible apply kE_R | with_reducible apply kE_O | with_reducible apply kE_S)) (⟨rfl, _, sf2, rfl⟩)
