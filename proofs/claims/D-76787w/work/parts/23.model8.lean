set_option maxHeartbeats 4000000 in
set_option maxRecDepth 100000 in
theorem c_X9_oil (l : Launch) (G : kG) (M : kM) (m : Nat) (ad : Nat → Nat) (hS : MS M m ad) (g : gT) (sa : Nat → gT) (sf : Nat → Int32) (a : Int32) (h nr nk ns : Nat) (hw : WF g h nr nk ns) (hb : h + 200 < 2147483648) : Kt l G yX9_oil cX9_oil 4 (some .int) 4 106 [.ref m, .int a] (SC M m ad g sa sf) (0) (0) (fun v M2 => (0 ≤ a ∧ a ≤ 200 → v = some (.int (oilG g h nr nk ns (nn a))) ∧ ∃ sa2 sf2, M2 = SC M m ad g sa2 sf2) ∧ (¬ (0 ≤ a ∧ a ≤ 200) → v = some (.int (-(nI 102))) ∧ M2 = rfM (SC M m ad g sa sf) ad 0)) := by
  refine Kt.of (own := "KeptLightModel") (L := [some (.ref m), some (.int a), none, none]) (by decide +kernel) rfl (Nat.le_of_ble_eq_true rfl) rfl ?_
  intro pp ee ss mm args below meth cd hmn hret
  have km := hS.1
  obtain ⟨hr_g, kk_g, hn_g⟩ := hS.2.1 0 (by decide)
  have hr_g : mR M (fc 9 0) m = some (ad 0) := hr_g
  have hn_g : mN M (ad 0) = 2509 := hn_g
  have kk_g : mK M (ad 0) = some 120 := kk_g
  obtain ⟨hr_was, kk_was, hn_was⟩ := hS.2.1 1 (by decide)
  have hr_was : mR M (fc 9 1) m = some (ad 1) := hr_was
  have hn_was : mN M (ad 1) = 2509 := hn_was
  have kk_was : mK M (ad 1) = some 120 := kk_was
  obtain ⟨hr_darkAt, kk_darkAt, hn_darkAt⟩ := hS.2.1 10 (by decide)
  have hr_darkAt : mR M (fc 9 13) m = some (ad 10) := hr_darkAt
  have hn_darkAt : mN M (ad 10) = 200 := hn_darkAt
  have kk_darkAt : mK M (ad 10) = some 123 := kk_darkAt
  obtain ⟨hr_tendedAt, kk_tendedAt, hn_tendedAt⟩ := hS.2.1 11 (by decide)
  have hr_tendedAt : mR M (fc 9 14) m = some (ad 11) := hr_tendedAt
  have hn_tendedAt : mN M (ad 11) = 200 := hn_tendedAt
  have kk_tendedAt : mK M (ad 11) = some 123 := kk_tendedAt
  obtain ⟨hr_boatAt, kk_boatAt, hn_boatAt⟩ := hS.2.1 12 (by decide)
  have hr_boatAt : mR M (fc 9 15) m = some (ad 12) := hr_boatAt
  have hn_boatAt : mN M (ad 12) = 200 := hn_boatAt
  have kk_boatAt : mK M (ad 12) = some 123 := kk_boatAt
  have ne_g_was := hS.eqf 0 1 (by decide) (by decide) (by decide)
  have ne_g_darkAt := hS.eqf 0 10 (by decide) (by decide) (by decide)
  have ne_g_tendedAt := hS.eqf 0 11 (by decide) (by decide) (by decide)
  have ne_g_boatAt := hS.eqf 0 12 (by decide) (by decide) (by decide)
  have ne_was_g := hS.eqf 1 0 (by decide) (by decide) (by decide)
  have ne_was_darkAt := hS.eqf 1 10 (by decide) (by decide) (by decide)
  have ne_was_tendedAt := hS.eqf 1 11 (by decide) (by decide) (by decide)
  have ne_was_boatAt := hS.eqf 1 12 (by decide) (by decide) (by decide)
  have ne_darkAt_g := hS.eqf 10 0 (by decide) (by decide) (by decide)
  have ne_darkAt_was := hS.eqf 10 1 (by decide) (by decide) (by decide)
  have ne_darkAt_tendedAt := hS.eqf 10 11 (by decide) (by decide) (by decide)
  have ne_darkAt_boatAt := hS.eqf 10 12 (by decide) (by decide) (by decide)
  have ne_tendedAt_g := hS.eqf 11 0 (by decide) (by decide) (by decide)
  have ne_tendedAt_was := hS.eqf 11 1 (by decide) (by decide) (by decide)
  have ne_tendedAt_darkAt := hS.eqf 11 10 (by decide) (by decide) (by decide)
  have ne_tendedAt_boatAt := hS.eqf 11 12 (by decide) (by decide) (by decide)
  have ne_boatAt_g := hS.eqf 12 0 (by decide) (by decide) (by decide)
  have ne_boatAt_was := hS.eqf 12 1 (by decide) (by decide) (by decide)
  have ne_boatAt_darkAt := hS.eqf 12 10 (by decide) (by decide) (by decide)
  have ne_boatAt_tendedAt := hS.eqf 12 11 (by decide) (by decide) (by decide)
  have cut99 : ∀ (fuel : Nat) (i : Nat) (sf1 : Nat → Int32) (h1 : 9999 - i < fuel) (h2 : i ≤ 9999) (h3 : oilF (fun o => ublG g h nr nk ns (nn a) (nI o)) (ublG g h nr nk ns (nn a) 9999) (9999 - i) i = oilG g h nr nk ns (nn a)) (hok : 0 ≤ a ∧ a ≤ 200), Wx pp l ee { frames := 4, cells := 0, slots := 0, locals := 106 } ss mm args below meth cd "KeptLightModel" cX9_oil 4 G (MQ below (KQ G (SC M m ad g sa sf) (fun v M2 => (0 ≤ a ∧ a ≤ 200 → v = some (.int (oilG g h nr nk ns (nn a))) ∧ ∃ sa2 sf2, M2 = SC M m ad g sa2 sf2) ∧ (¬ (0 ≤ a ∧ a ≤ 200) → v = some (.int (-(nI 102))) ∧ M2 = rfM (SC M m ad g sa sf) ad 0))) args ss (0) (0) (kA G)) 99 [some (.ref m), some (.int (nI (nn a))), some (.int (ublG g h nr nk ns (nn a) 9999)), some (.int (nI i))] [] (SC M m ad g (sa3 (va_up sa 1 (cpy g (sa 1) 2509)) (arrN (dF g h nr nk ns) (sa 10) (nn a)) (arrN (tF g h nr nk ns) (sa 11) (nn a)) (arrN (bF g h nr nk ns) (sa 12) (nn a))) sf1) (0) (0) := by
    intro fuel
    induction fuel with
    | zero => intro i sf1 h1 h2 h3 hok; omega
    | succ fuel ih =>
      intro i sf1 h1 h2 h3 hok
      have hn9 := nn_le (n := 200) hok.1 hok.2 (by decide)
      refine x_aload_n (n' := 100) dX9_oil_99 rfl rfl rfl ?_
      refine x_iload_n (n' := 101) dX9_oil_100 rfl rfl rfl ?_
      refine x_iload_n (n' := 102) dX9_oil_101 rfl rfl rfl ?_
      refine x_callV (n' := 105) (n := 2) (K := 9) (c_X9_unlitBy l G M m ad hS g (sa3 (va_up sa 1 (cpy g (sa 1) 2509)) (arrN (dF g h nr nk ns) (sa 10) (nn a)) (arrN (tF g h nr nk ns) (sa 11) (nn a)) (arrN (bF g h nr nk ns) (sa 12) (nn a))) sf1 (nI i) (nn a) (by omega)) dX9_oil_102 (by repeat' (first | with_reducible exact km | with_reducible apply mK_A | with_reducible apply mK_I | with_reducible apply mK_L | with_reducible apply mK_R | with_reducible apply mK_O | with_reducible apply mK_S)) rfl (lw_V q3545 q3547 qs71 q109 q3548) (by decide +kernel) ⟨(Nat.le_of_ble_eq_true rfl), (Nat.le_of_ble_eq_true rfl)⟩ rfl rfl (Nat.le_of_ble_eq_true rfl) (by first | exact Nat.le_of_ble_eq_true rfl | omega) (by first | exact Nat.le_of_ble_eq_true rfl | omega) rfl (fun v_1 M_2 h_4 hE_3 => ?_)
      obtain ⟨rfl, hMs⟩ := h_4
      have hMs := hMs.symm
      subst hMs
      rw [sa3_10, sa3_11, sa3_12, ublG_eq]
      refine x_iload_n (n' := 106) dX9_oil_105 rfl rfl rfl ?_
      refine x_icmp_le (n' := 109) (tgt := 115) dX9_oil_106 (by decide) rfl (fun c106_5 => ?_) (fun c106_5 => ?_)
      · have C106 := c106_5
        refine x_iload_n (n' := 116) dX9_oil_115 rfl rfl rfl ?_
        exact x_iret dX9_oil_116 hret (by repeat' (first | with_reducible exact kE.rf | with_reducible exact kE_SS | with_reducible apply kE_A | with_reducible apply kE_I | with_reducible apply kE_L | with_reducible apply kE_R | with_reducible apply kE_O | with_reducible apply kE_S)) (⟨fun _ => ⟨congrArg (fun z => some (Value.int z)) (oilF_e h3 C106), _, _, rfl⟩, fun q => absurd hok q⟩)
      · have C106 := c106_5
        refine x_iinc (n' := 112) dX9_oil_109 rfl (by first | exact nI_inc _ | exact nI_decp (by omega) | exact i_inc _ | rfl) (Nat.le_of_ble_eq_true rfl) rfl (by dsimp only [List.set] <;> rfl) rfl ?_
        refine x_goto (tgt := 99) dX9_oil_112 (by decide) ?_
        have h8 := oilF_s h3 h2 C106 (Int32.le_refl _)
        exact x_drop (ih (i + 1) sf1 (by omega) (by omega) h8.2 hok) ⟨rfl, ⟨rfl, ⟨rfl, ⟨rfl, trivial⟩⟩⟩⟩
  have cut32 : ∀ (fuel : Nat) (i : Nat) (sf1 : Nat → Int32) (h1 : nn a - i < fuel) (h2 : i ≤ nn a) (hok : 0 ≤ a ∧ a ≤ 200), Wx pp l ee { frames := 4, cells := 0, slots := 0, locals := 106 } ss mm args below meth cd "KeptLightModel" cX9_oil 4 G (MQ below (KQ G (SC M m ad g sa sf) (fun v M2 => (0 ≤ a ∧ a ≤ 200 → v = some (.int (oilG g h nr nk ns (nn a))) ∧ ∃ sa2 sf2, M2 = SC M m ad g sa2 sf2) ∧ (¬ (0 ≤ a ∧ a ≤ 200) → v = some (.int (-(nI 102))) ∧ M2 = rfM (SC M m ad g sa sf) ad 0))) args ss (0) (0) (kA G)) 32 [some (.ref m), some (.int (nI (nn a))), some (.int (nI i)), none] [] (SC M m ad (hrsG g h nr nk ns i) (sa3 (va_up sa 1 (cpy g (sa 1) 2509)) (arrN (dF g h nr nk ns) (sa 10) i) (arrN (tF g h nr nk ns) (sa 11) i) (arrN (bF g h nr nk ns) (sa 12) i)) sf1) (0) (0) := by
    intro fuel
    induction fuel with
    | zero => intro i sf1 h1 h2 hok; omega
    | succ fuel ih =>
      intro i sf1 h1 h2 hok
      have hn9 := nn_le (n := 200) hok.1 hok.2 (by decide)
      refine x_iload_n (n' := 33) dX9_oil_32 rfl rfl rfl ?_
      refine x_iload_n (n' := 34) dX9_oil_33 rfl rfl rfl ?_
      refine x_icmp_ge (n' := 37) (tgt := 77) dX9_oil_34 (by decide) rfl (fun c34_6 => ?_) (fun c34_6 => ?_)
      · have C34 := c34_6
        have N34 := (cv_le (by repeat' (first | with_reducible exact nl_0 | with_reducible exact nl_9999 | with_reducible exact rfl | apply i_add | apply i_mul)) (by repeat' (first | with_reducible exact nl_0 | with_reducible exact nl_9999 | with_reducible exact rfl | apply i_add | apply i_mul)) (by omega) (by omega)).mp c34_6
        have e9 : i = nn a := by omega
        subst e9
        refine x_aload_n (n' := 78) dX9_oil_77 rfl rfl rfl ?_
        refine x_getRs (n' := 81) (b := (ad 1)) dX9_oil_78 (by repeat' (first | with_reducible exact km | with_reducible apply mK_A | with_reducible apply mK_I | with_reducible apply mK_L | with_reducible apply mK_R | with_reducible apply mK_O | with_reducible apply mK_S)) ffX9_13_9 rfl (by repeat' (first | with_reducible exact hr_was | with_reducible apply mR_A | with_reducible apply mR_I | with_reducible apply mR_L | with_reducible apply mR_S)) rfl ?_
        refine x_aload_n (n' := 82) dX9_oil_81 rfl rfl rfl ?_
        refine x_getRs (n' := 85) (b := (ad 0)) dX9_oil_82 (by repeat' (first | with_reducible exact km | with_reducible apply mK_A | with_reducible apply mK_I | with_reducible apply mK_L | with_reducible apply mK_R | with_reducible apply mK_O | with_reducible apply mK_S)) ffX9_9_9 rfl (by repeat' (first | with_reducible exact hr_g | with_reducible apply mR_A | with_reducible apply mR_I | with_reducible apply mR_L | with_reducible apply mR_S)) rfl ?_
        refine x_callS (n' := 88) (n := 2) (c_X9_copies l G _ (ad 1) (ad 0) (by repeat' (first | with_reducible exact kk_was | with_reducible apply mK_A | with_reducible apply mK_I | with_reducible apply mK_L | with_reducible apply mK_S)) (by repeat' (first | with_reducible exact kk_g | with_reducible apply mK_A | with_reducible apply mK_I | with_reducible apply mK_L | with_reducible apply mK_S)) ne_was_g (by repeat' (first | with_reducible exact hn_was | with_reducible apply mN_A | with_reducible apply mN_I | with_reducible apply mN_L | with_reducible apply mN_S)) (by repeat' (first | with_reducible exact hn_g | with_reducible apply mN_A | with_reducible apply mN_I | with_reducible apply mN_L | with_reducible apply mN_S))) dX9_oil_85 (lw_S q3526 q3527 q109 q3528) (by decide +kernel) ⟨(Nat.le_of_ble_eq_true rfl), (Nat.le_of_ble_eq_true rfl)⟩ rfl rfl (Nat.le_of_ble_eq_true rfl) (by first | exact Nat.le_of_ble_eq_true rfl | omega) (by first | exact Nat.le_of_ble_eq_true rfl | omega) rfl (fun v_7 M_8 h_10 hE_9 => ?_)
        obtain ⟨rfl, hMs⟩ := h_10
        have hMs : M_8 = SC M m ad g (sa3 (va_up sa 1 (cpy g (sa 1) 2509)) (arrN (dF g h nr nk ns) (sa 10) (nn a)) (arrN (tF g h nr nk ns) (sa 11) (nn a)) (arrN (bF g h nr nk ns) (sa 12) (nn a))) sf1 := hMs.trans (by rw [mA_SC1 hS, mA_SC0, SC_A0, sa3_1, va_up_self, hrs_back hw (nn a)])
        have hMs := hMs.symm
        subst hMs
        refine x_aload_n (n' := 89) dX9_oil_88 rfl rfl rfl ?_
        refine x_sipush (n' := 92) (v := 9999) dX9_oil_89 (by decide) rfl ?_
        refine x_iload_n (n' := 93) dX9_oil_92 rfl rfl rfl ?_
        refine x_callV (n' := 96) (n := 2) (K := 9) (c_X9_unlitBy l G M m ad hS g (sa3 (va_up sa 1 (cpy g (sa 1) 2509)) (arrN (dF g h nr nk ns) (sa 10) (nn a)) (arrN (tF g h nr nk ns) (sa 11) (nn a)) (arrN (bF g h nr nk ns) (sa 12) (nn a))) sf1 9999 (nn a) (by omega)) dX9_oil_93 (by repeat' (first | with_reducible exact km | with_reducible apply mK_A | with_reducible apply mK_I | with_reducible apply mK_L | with_reducible apply mK_R | with_reducible apply mK_O | with_reducible apply mK_S)) rfl (lw_V q3545 q3547 qs71 q109 q3548) (by decide +kernel) ⟨(Nat.le_of_ble_eq_true rfl), (Nat.le_of_ble_eq_true rfl)⟩ rfl rfl (Nat.le_of_ble_eq_true rfl) (by first | exact Nat.le_of_ble_eq_true rfl | omega) (by first | exact Nat.le_of_ble_eq_true rfl | omega) rfl (fun v_11 M_12 h_14 hE_13 => ?_)
        obtain ⟨rfl, hMs⟩ := h_14
        have hMs := hMs.symm
        subst hMs
        rw [sa3_10, sa3_11, sa3_12, ublG_eq]
        refine x_istore_n (n' := 97) dX9_oil_96 rfl (Nat.le_of_ble_eq_true rfl) rfl (by dsimp only [List.set] <;> rfl) rfl ?_
        refine x_iconst (n' := 98) (v := 0) dX9_oil_97 (by decide) rfl ?_
        refine x_istore_n (n' := 99) dX9_oil_98 rfl (Nat.le_of_ble_eq_true rfl) rfl (by dsimp only [List.set] <;> rfl) rfl ?_
        exact x_drop (cut99 10000 0 sf1 (by omega) (by omega) rfl hok) ⟨rfl, ⟨rfl, ⟨rfl, ⟨rfl, trivial⟩⟩⟩⟩
      · have C34 := c34_6
        have N34 := (not_congr (cv_le (by repeat' (first | with_reducible exact nl_0 | with_reducible exact nl_9999 | with_reducible exact rfl | apply i_add | apply i_mul)) (by repeat' (first | with_reducible exact nl_0 | with_reducible exact nl_9999 | with_reducible exact rfl | apply i_add | apply i_mul)) (by omega) (by omega))).mp c34_6
        refine x_aload_n (n' := 38) dX9_oil_37 rfl rfl rfl ?_
        refine x_callV (n' := 41) (n := 0) (K := 9) (c_X9_hourPasses l G _ m ad (by repeat' (first | with_reducible exact hS | with_reducible apply MS.sA | with_reducible apply MS.sI | with_reducible apply MS.sL | with_reducible apply MS.sc)) (h + i) nr nk ns (by rw [mA_SC0]; exact hrs_WF hw i) (by omega)) dX9_oil_38 (by repeat' (first | with_reducible exact km | with_reducible apply mK_A | with_reducible apply mK_I | with_reducible apply mK_L | with_reducible apply mK_R | with_reducible apply mK_O | with_reducible apply mK_S)) rfl (lw_V q3409 q3411 qs56 q109 q3412) (by decide +kernel) ⟨(Nat.le_of_ble_eq_true rfl), (Nat.le_of_ble_eq_true rfl)⟩ rfl rfl (Nat.le_of_ble_eq_true rfl) (by first | exact Nat.le_of_ble_eq_true rfl | omega) (by first | exact Nat.le_of_ble_eq_true rfl | omega) rfl (fun v_15 M9 h_17 hE_16 => ?_)
        obtain ⟨rfl, hM8⟩ := h_17
        obtain ⟨sf2, hb7, hb5, hb6, hMs⟩ : ∃ sf2 : Nat → Int32, sf2 (fc 9 7) = bF g h nr nk ns i ∧ sf2 (fc 9 5) = dF g h nr nk ns i ∧ sf2 (fc 9 6) = tF g h nr nk ns i ∧ M9 = SC M m ad (hrsG g h nr nk ns (i + 1)) (sa3 (va_up sa 1 (cpy g (sa 1) 2509)) (arrN (dF g h nr nk ns) (sa 10) i) (arrN (tF g h nr nk ns) (sa 11) i) (arrN (bF g h nr nk ns) (sa 12) i)) sf2 := ⟨_, sf_7 _ _ _ _, sf_5 _ _ _ _, sf_6 _ _ _ _, hM8.trans (by rw [mA_SC0, SC_hrM]; rfl)⟩
        have hMs := hMs.symm
        subst hMs
        refine x_aload_n (n' := 42) dX9_oil_41 rfl rfl rfl ?_
        refine x_getRs (n' := 45) (b := (ad 10)) dX9_oil_42 (by repeat' (first | with_reducible exact km | with_reducible apply mK_A | with_reducible apply mK_I | with_reducible apply mK_L | with_reducible apply mK_R | with_reducible apply mK_O | with_reducible apply mK_S)) ffX9_28_9 rfl (by repeat' (first | with_reducible exact hr_darkAt | with_reducible apply mR_A | with_reducible apply mR_I | with_reducible apply mR_L | with_reducible apply mR_S)) rfl ?_
        refine x_iload_n (n' := 46) dX9_oil_45 rfl rfl rfl ?_
        refine x_aload_n (n' := 47) dX9_oil_46 rfl rfl rfl ?_
        refine x_getI (n' := 50) dX9_oil_47 (by repeat' (first | with_reducible exact km | with_reducible apply mK_A | with_reducible apply mK_I | with_reducible apply mK_L | with_reducible apply mK_R | with_reducible apply mK_O | with_reducible apply mK_S)) ffX9_114_9 rfl rfl ?_
        refine x_topv (mI_SC_5.trans hb5) ?_
        refine x_zastk (n' := 51) (N := 200) dX9_oil_50 (by repeat' (first | with_reducible exact kk_darkAt | with_reducible apply mK_A | with_reducible apply mK_I | with_reducible apply mK_L | with_reducible apply mK_R | with_reducible apply mK_O | with_reducible apply mK_S)) (by repeat' (first | with_reducible exact hn_darkAt | with_reducible apply mN_A | with_reducible apply mN_I | with_reducible apply mN_L | with_reducible apply mN_R | with_reducible apply mN_O | with_reducible apply mN_S)) (by repeat' (first | with_reducible exact nl_0 | with_reducible exact nl_9999 | with_reducible exact rfl | apply i_add | apply i_mul)) (by omega) (by decide) (vp_nz (bi_01 _)) (by first | with_reducible exact mA_sA | with_reducible exact mA_SC0 | with_reducible exact mA_SC1 hS | with_reducible exact mA_SC5 hS | with_reducible exact mA_SC6 hS | with_reducible exact mA_SC10 hS | with_reducible exact mA_SC11 hS | with_reducible exact mA_SC12 hS | rfl) (by first | with_reducible exact SC_A0 | with_reducible exact SC_A1 hS | with_reducible exact SC_A5 hS | with_reducible exact SC_A6 hS | with_reducible exact SC_A10 hS | with_reducible exact SC_A11 hS | with_reducible exact SC_A12 hS | with_reducible exact sA_sA | rfl) rfl ?_
        refine x_aload_n (n' := 52) dX9_oil_51 rfl rfl rfl ?_
        refine x_getRs (n' := 55) (b := (ad 11)) dX9_oil_52 (by repeat' (first | with_reducible exact km | with_reducible apply mK_A | with_reducible apply mK_I | with_reducible apply mK_L | with_reducible apply mK_R | with_reducible apply mK_O | with_reducible apply mK_S)) ffX9_32_9 rfl (by repeat' (first | with_reducible exact hr_tendedAt | with_reducible apply mR_A | with_reducible apply mR_I | with_reducible apply mR_L | with_reducible apply mR_S)) rfl ?_
        refine x_iload_n (n' := 56) dX9_oil_55 rfl rfl rfl ?_
        refine x_aload_n (n' := 57) dX9_oil_56 rfl rfl rfl ?_
        refine x_getI (n' := 60) dX9_oil_57 (by repeat' (first | with_reducible exact km | with_reducible apply mK_A | with_reducible apply mK_I | with_reducible apply mK_L | with_reducible apply mK_R | with_reducible apply mK_O | with_reducible apply mK_S)) ffX9_117_9 rfl rfl ?_
        refine x_topv (mI_SC_6.trans hb6) ?_
        refine x_zastk (n' := 61) (N := 200) dX9_oil_60 (by repeat' (first | with_reducible exact kk_tendedAt | with_reducible apply mK_A | with_reducible apply mK_I | with_reducible apply mK_L | with_reducible apply mK_R | with_reducible apply mK_O | with_reducible apply mK_S)) (by repeat' (first | with_reducible exact hn_tendedAt | with_reducible apply mN_A | with_reducible apply mN_I | with_reducible apply mN_L | with_reducible apply mN_R | with_reducible apply mN_O | with_reducible apply mN_S)) (by repeat' (first | with_reducible exact nl_0 | with_reducible exact nl_9999 | with_reducible exact rfl | apply i_add | apply i_mul)) (by omega) (by decide) (vp_nz (bi_01 _)) (by first | with_reducible exact mA_sA | with_reducible exact mA_SC0 | with_reducible exact mA_SC1 hS | with_reducible exact mA_SC5 hS | with_reducible exact mA_SC6 hS | with_reducible exact mA_SC10 hS | with_reducible exact mA_SC11 hS | with_reducible exact mA_SC12 hS | rfl) (by first | with_reducible exact SC_A0 | with_reducible exact SC_A1 hS | with_reducible exact SC_A5 hS | with_reducible exact SC_A6 hS | with_reducible exact SC_A10 hS | with_reducible exact SC_A11 hS | with_reducible exact SC_A12 hS | with_reducible exact sA_sA | rfl) rfl ?_
        refine x_aload_n (n' := 62) dX9_oil_61 rfl rfl rfl ?_
        refine x_getRs (n' := 65) (b := (ad 12)) dX9_oil_62 (by repeat' (first | with_reducible exact km | with_reducible apply mK_A | with_reducible apply mK_I | with_reducible apply mK_L | with_reducible apply mK_R | with_reducible apply mK_O | with_reducible apply mK_S)) ffX9_35_9 rfl (by repeat' (first | with_reducible exact hr_boatAt | with_reducible apply mR_A | with_reducible apply mR_I | with_reducible apply mR_L | with_reducible apply mR_S)) rfl ?_
        refine x_iload_n (n' := 66) dX9_oil_65 rfl rfl rfl ?_
        refine x_aload_n (n' := 67) dX9_oil_66 rfl rfl rfl ?_
        refine x_getI (n' := 70) dX9_oil_67 (by repeat' (first | with_reducible exact km | with_reducible apply mK_A | with_reducible apply mK_I | with_reducible apply mK_L | with_reducible apply mK_R | with_reducible apply mK_O | with_reducible apply mK_S)) ffX9_107_9 rfl rfl ?_
        refine x_topv (mI_SC_7.trans hb7) ?_
        refine x_zastk (n' := 71) (N := 200) dX9_oil_70 (by repeat' (first | with_reducible exact kk_boatAt | with_reducible apply mK_A | with_reducible apply mK_I | with_reducible apply mK_L | with_reducible apply mK_R | with_reducible apply mK_O | with_reducible apply mK_S)) (by repeat' (first | with_reducible exact hn_boatAt | with_reducible apply mN_A | with_reducible apply mN_I | with_reducible apply mN_L | with_reducible apply mN_R | with_reducible apply mN_O | with_reducible apply mN_S)) (by repeat' (first | with_reducible exact nl_0 | with_reducible exact nl_9999 | with_reducible exact rfl | apply i_add | apply i_mul)) (by omega) (by decide) (vp_nz (bi_01 _)) (by first | with_reducible exact mA_sA | with_reducible exact mA_SC0 | with_reducible exact mA_SC1 hS | with_reducible exact mA_SC5 hS | with_reducible exact mA_SC6 hS | with_reducible exact mA_SC10 hS | with_reducible exact mA_SC11 hS | with_reducible exact mA_SC12 hS | rfl) (by first | with_reducible exact SC_A0 | with_reducible exact SC_A1 hS | with_reducible exact SC_A5 hS | with_reducible exact SC_A6 hS | with_reducible exact SC_A10 hS | with_reducible exact SC_A11 hS | with_reducible exact SC_A12 hS | with_reducible exact sA_sA | rfl) rfl ?_
        refine x_iinc (n' := 74) dX9_oil_71 rfl (by first | exact nI_inc _ | exact nI_decp (by omega) | exact i_inc _ | rfl) (Nat.le_of_ble_eq_true rfl) rfl (by dsimp only [List.set] <;> rfl) rfl ?_
        refine x_goto (tgt := 32) dX9_oil_74 (by decide) ?_
        rw [sa3_10, sa3_u10, sa3_11, sa3_u11, sa3_12, sa3_u12, arrN_s, arrN_s, arrN_s]
        exact x_drop (ih (i + 1) sf2 (by omega) (by omega) hok) ⟨rfl, ⟨rfl, ⟨rfl, trivial⟩⟩⟩
  refine x_iload_n (n' := 1) dX9_oil_0 rfl rfl rfl ?_
  refine x_i2l (n' := 2) dX9_oil_1 rfl rfl ?_
  refine x_lconst (n' := 3) (v := 0) dX9_oil_2 (by decide) rfl ?_
  refine x_ldc2 (n' := 6) q3404 dX9_oil_3 rfl ?_
  refine x_callS (n' := 9) (n := 3) (c_X9_in l G _ _ _ _) dX9_oil_6 (lw_S q3321 q3322 q109 q3323) (by decide +kernel) ⟨(Nat.le_of_ble_eq_true rfl), (Nat.le_of_ble_eq_true rfl)⟩ rfl rfl (Nat.le_of_ble_eq_true rfl) (by first | exact Nat.le_of_ble_eq_true rfl | omega) (by first | exact Nat.le_of_ble_eq_true rfl | omega) rfl (fun v_18 M_19 h_21 hE_20 => ?_)
  obtain ⟨rfl, hMs⟩ := h_21
  have hMs := hMs.symm
  subst hMs
  rw [k_in3 (x := 0) (y := 200) (by decide) (by decide)]
  refine x_if_ne (n' := 12) (tgt := 19) dX9_oil_9 (by decide) rfl (fun c9_22 => ?_) (fun c9_22 => ?_)
  · have C9 := c9_22
    have hok : 0 ≤ a ∧ a ≤ 200 := bi_n0 C9
    have hn9 := nn_le (n := 200) hok.1 hok.2 (by decide)
    refine x_aload_n (n' := 20) dX9_oil_19 rfl rfl rfl ?_
    refine x_getRs (n' := 23) (b := (ad 0)) dX9_oil_20 (by repeat' (first | with_reducible exact km | with_reducible apply mK_A | with_reducible apply mK_I | with_reducible apply mK_L | with_reducible apply mK_R | with_reducible apply mK_O | with_reducible apply mK_S)) ffX9_9_9 rfl (by repeat' (first | with_reducible exact hr_g | with_reducible apply mR_A | with_reducible apply mR_I | with_reducible apply mR_L | with_reducible apply mR_S)) rfl ?_
    refine x_aload_n (n' := 24) dX9_oil_23 rfl rfl rfl ?_
    refine x_getRs (n' := 27) (b := (ad 1)) dX9_oil_24 (by repeat' (first | with_reducible exact km | with_reducible apply mK_A | with_reducible apply mK_I | with_reducible apply mK_L | with_reducible apply mK_R | with_reducible apply mK_O | with_reducible apply mK_S)) ffX9_13_9 rfl (by repeat' (first | with_reducible exact hr_was | with_reducible apply mR_A | with_reducible apply mR_I | with_reducible apply mR_L | with_reducible apply mR_S)) rfl ?_
    refine x_callS (n' := 30) (n := 2) (c_X9_copies l G _ (ad 0) (ad 1) (by repeat' (first | with_reducible exact kk_g | with_reducible apply mK_A | with_reducible apply mK_I | with_reducible apply mK_L | with_reducible apply mK_S)) (by repeat' (first | with_reducible exact kk_was | with_reducible apply mK_A | with_reducible apply mK_I | with_reducible apply mK_L | with_reducible apply mK_S)) ne_g_was (by repeat' (first | with_reducible exact hn_g | with_reducible apply mN_A | with_reducible apply mN_I | with_reducible apply mN_L | with_reducible apply mN_S)) (by repeat' (first | with_reducible exact hn_was | with_reducible apply mN_A | with_reducible apply mN_I | with_reducible apply mN_L | with_reducible apply mN_S))) dX9_oil_27 (lw_S q3526 q3527 q109 q3528) (by decide +kernel) ⟨(Nat.le_of_ble_eq_true rfl), (Nat.le_of_ble_eq_true rfl)⟩ rfl rfl (Nat.le_of_ble_eq_true rfl) (by first | exact Nat.le_of_ble_eq_true rfl | omega) (by first | exact Nat.le_of_ble_eq_true rfl | omega) rfl (fun v_23 M_24 h_26 hE_25 => ?_)
    obtain ⟨rfl, hMs⟩ := h_26
    have hMs : M_24 = SC M m ad g (va_up sa 1 (cpy g (sa 1) 2509)) sf := hMs.trans (by rw [mA_SC0, mA_SC1 hS, SC_A1 hS])
    have hMs := hMs.symm
    subst hMs
    refine x_iconst (n' := 31) (v := 0) dX9_oil_30 (by decide) rfl ?_
    refine x_istore_n (n' := 32) dX9_oil_31 rfl (Nat.le_of_ble_eq_true rfl) rfl (by dsimp only [List.set] <;> rfl) rfl ?_
    refine x_mem (M2 := SC M m ad (hrsG g h nr nk ns 0) (sa3 (va_up sa 1 (cpy g (sa 1) 2509)) (arrN (dF g h nr nk ns) (sa 10) 0) (arrN (tF g h nr nk ns) (sa 11) 0) (arrN (bF g h nr nk ns) (sa 12) 0)) sf) (by rw [arrN_0, arrN_0, arrN_0]; exact congrArg (fun z => SC M m ad g z sf) (sa3_eta (va_up sa 1 (cpy g (sa 1) 2509))).symm) ?_
    rw [show (Value.int a) = Value.int (nI (nn a)) from congrArg Value.int (nn_of hok.1)]
    exact x_drop (cut32 201 0 sf (by omega) (by omega) hok) ⟨rfl, ⟨rfl, ⟨rfl, trivial⟩⟩⟩
  · have C9 := c9_22
    refine x_aload_n (n' := 13) dX9_oil_12 rfl rfl rfl ?_
    refine x_bipush (n' := 15) (v := -102) dX9_oil_13 (by decide) rfl ?_
    refine x_topv (y := -(nI (102 + 0))) (by decide) ?_
    refine x_callV (n' := 18) (n := 1) (K := 9) (c_X9_refused l G _ m ad (by repeat' (first | with_reducible exact hS | with_reducible apply MS.sA | with_reducible apply MS.sI | with_reducible apply MS.sL | with_reducible apply MS.sc)) 0 (by decide)) dX9_oil_15 (by repeat' (first | with_reducible exact km | with_reducible apply mK_A | with_reducible apply mK_I | with_reducible apply mK_L | with_reducible apply mK_R | with_reducible apply mK_O | with_reducible apply mK_S)) rfl (lw_V q3324 q3326 qs48 q109 q3327) (by decide +kernel) ⟨(Nat.le_of_ble_eq_true rfl), (Nat.le_of_ble_eq_true rfl)⟩ rfl rfl (Nat.le_of_ble_eq_true rfl) (by first | exact Nat.le_of_ble_eq_true rfl | omega) (by first | exact Nat.le_of_ble_eq_true rfl | omega) rfl (fun v_27 M_28 h_30 hE_29 => ?_)
    obtain ⟨rfl, hMs⟩ := h_30
    have hMs := hMs.symm
    subst hMs
    exact x_iret dX9_oil_18 hret (by repeat' (first | with_reducible exact kE.rf | with_reducible exact kE_SS | with_reducible apply kE_A | with_reducible apply kE_I | with_reducible apply kE_L | with_reducible apply kE_R | with_reducible apply kE_O | with_reducible apply kE_S)) (⟨fun q => absurd q (by exact fun q => bi_0.mp C9 q), fun _ => ⟨rfl, rfl⟩⟩)
