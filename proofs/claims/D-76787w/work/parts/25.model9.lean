set_option maxHeartbeats 4000000 in
set_option maxRecDepth 100000 in
theorem c_X9_unlitOf__i (l : Launch) (G : kG) (M : kM) (m : Nat) (ad : Nat → Nat) (hS : MS M m ad) (g : gT) (sa : Nat → gT) (sf : Nat → Int32) (a : Int32) (h nr nk ns : Nat) (hw : WF g h nr nk ns) (h0 : 0 ≤ a) (hb : h + nn a < 2147483648) : Kt l G yX9_unlitOf cX9_unlitOf 3 (some .int) 5 129 [.ref m, .int a] (SC M m ad g sa sf) (0) (0) (fun v M2 => v = some (.int (unlG g h nr nk ns (nn a))) ∧ ∃ X sf2, M2 = SC M m ad g (va_up sa 1 X) sf2) := by
  refine Kt.of (own := "KeptLightModel") (L := [some (.ref m), some (.int a), none]) (by decide +kernel) rfl (Nat.le_of_ble_eq_true rfl) rfl ?_
  intro pp ee ss mm args below meth cd hmn hret
  have km := hS.1
  obtain ⟨hr_g, kk_g, hn_g⟩ := hS.2.1 0 (by decide)
  have hr_g : mR M (fc 9 0) m = some (ad 0) := hr_g
  have hn_g : mN M (ad 0) = 2509 := hn_g
  have kk_g : mK M (ad 0) = some 120 := kk_g
  obtain ⟨hr_was, kk_was, hn_was⟩ := hS.2.1 1 (by decide)
  have hr_was : mR M (fc 9 1) m = some (ad 1) := hr_was
  have hn_was : mN M (ad 1) = 2509 := hn_was
  have kk_was : mK M (ad 1) = some 120 := kk_was
  have ne_g_was := hS.eqf 0 1 (by decide) (by decide) (by decide)
  have ne_was_g := hS.eqf 1 0 (by decide) (by decide) (by decide)
  refine x_aload_n (n' := 1) dX9_unlitOf_0 rfl rfl rfl ?_
  refine x_getRs (n' := 4) (b := (ad 0)) dX9_unlitOf_1 (by repeat' (first | with_reducible exact km | with_reducible apply mK_A | with_reducible apply mK_I | with_reducible apply mK_L | with_reducible apply mK_R | with_reducible apply mK_O | with_reducible apply mK_S)) ffX9_9_9 rfl (by repeat' (first | with_reducible exact hr_g | with_reducible apply mR_A | with_reducible apply mR_I | with_reducible apply mR_L | with_reducible apply mR_S)) rfl ?_
  refine x_aload_n (n' := 5) dX9_unlitOf_4 rfl rfl rfl ?_
  refine x_getRs (n' := 8) (b := (ad 1)) dX9_unlitOf_5 (by repeat' (first | with_reducible exact km | with_reducible apply mK_A | with_reducible apply mK_I | with_reducible apply mK_L | with_reducible apply mK_R | with_reducible apply mK_O | with_reducible apply mK_S)) ffX9_13_9 rfl (by repeat' (first | with_reducible exact hr_was | with_reducible apply mR_A | with_reducible apply mR_I | with_reducible apply mR_L | with_reducible apply mR_S)) rfl ?_
  refine x_callS (n' := 11) (n := 2) (c_X9_copies l G _ (ad 0) (ad 1) (by repeat' (first | with_reducible exact kk_g | with_reducible apply mK_A | with_reducible apply mK_I | with_reducible apply mK_L | with_reducible apply mK_S)) (by repeat' (first | with_reducible exact kk_was | with_reducible apply mK_A | with_reducible apply mK_I | with_reducible apply mK_L | with_reducible apply mK_S)) ne_g_was (by repeat' (first | with_reducible exact hn_g | with_reducible apply mN_A | with_reducible apply mN_I | with_reducible apply mN_L | with_reducible apply mN_S)) (by repeat' (first | with_reducible exact hn_was | with_reducible apply mN_A | with_reducible apply mN_I | with_reducible apply mN_L | with_reducible apply mN_S))) dX9_unlitOf_8 (lw_S q3526 q3527 q109 q3528) (by decide +kernel) ⟨(Nat.le_of_ble_eq_true rfl), (Nat.le_of_ble_eq_true rfl)⟩ rfl rfl (Nat.le_of_ble_eq_true rfl) (by first | exact Nat.le_of_ble_eq_true rfl | omega) (by first | exact Nat.le_of_ble_eq_true rfl | omega) rfl (fun v_1 M_2 h_4 hE_3 => ?_)
  obtain ⟨rfl, hMs⟩ := h_4
  have hMs : M_2 = SC M m ad g (va_up sa 1 (cpy g (sa 1) 2509)) sf := hMs.trans (by rw [mA_SC0, mA_SC1 hS, SC_A1 hS])
  have hMs := hMs.symm
  subst hMs
  refine x_aload_n (n' := 12) dX9_unlitOf_11 rfl rfl rfl ?_
  refine x_iload_n (n' := 13) dX9_unlitOf_12 rfl rfl rfl ?_
  refine x_topv (nn_of h0) ?_
  refine x_callV (n' := 16) (n := 1) (K := 9) (c_X9_passes l G M m ad hS g _ sf h nr nk ns (nn a) hw hb) dX9_unlitOf_13 (by repeat' (first | with_reducible exact km | with_reducible apply mK_A | with_reducible apply mK_I | with_reducible apply mK_L | with_reducible apply mK_R | with_reducible apply mK_O | with_reducible apply mK_S)) rfl (lw_V q3405 q3407 qs55 q109 q3408) (by decide +kernel) ⟨(Nat.le_of_ble_eq_true rfl), (Nat.le_of_ble_eq_true rfl)⟩ rfl rfl (Nat.le_of_ble_eq_true rfl) (by first | exact Nat.le_of_ble_eq_true rfl | omega) (by first | exact Nat.le_of_ble_eq_true rfl | omega) rfl (fun v_5 M_6 h_8 hE_7 => ?_)
  obtain ⟨rfl, sf2, hMs⟩ := h_8
  have hMs := hMs.symm
  subst hMs
  refine x_istore_n (n' := 17) dX9_unlitOf_16 rfl (Nat.le_of_ble_eq_true rfl) rfl (by dsimp only [List.set] <;> rfl) rfl ?_
  refine x_aload_n (n' := 18) dX9_unlitOf_17 rfl rfl rfl ?_
  refine x_getRs (n' := 21) (b := (ad 1)) dX9_unlitOf_18 (by repeat' (first | with_reducible exact km | with_reducible apply mK_A | with_reducible apply mK_I | with_reducible apply mK_L | with_reducible apply mK_R | with_reducible apply mK_O | with_reducible apply mK_S)) ffX9_13_9 rfl (by repeat' (first | with_reducible exact hr_was | with_reducible apply mR_A | with_reducible apply mR_I | with_reducible apply mR_L | with_reducible apply mR_S)) rfl ?_
  refine x_aload_n (n' := 22) dX9_unlitOf_21 rfl rfl rfl ?_
  refine x_getRs (n' := 25) (b := (ad 0)) dX9_unlitOf_22 (by repeat' (first | with_reducible exact km | with_reducible apply mK_A | with_reducible apply mK_I | with_reducible apply mK_L | with_reducible apply mK_R | with_reducible apply mK_O | with_reducible apply mK_S)) ffX9_9_9 rfl (by repeat' (first | with_reducible exact hr_g | with_reducible apply mR_A | with_reducible apply mR_I | with_reducible apply mR_L | with_reducible apply mR_S)) rfl ?_
  refine x_callS (n' := 28) (n := 2) (c_X9_copies l G _ (ad 1) (ad 0) (by repeat' (first | with_reducible exact kk_was | with_reducible apply mK_A | with_reducible apply mK_I | with_reducible apply mK_L | with_reducible apply mK_S)) (by repeat' (first | with_reducible exact kk_g | with_reducible apply mK_A | with_reducible apply mK_I | with_reducible apply mK_L | with_reducible apply mK_S)) ne_was_g (by repeat' (first | with_reducible exact hn_was | with_reducible apply mN_A | with_reducible apply mN_I | with_reducible apply mN_L | with_reducible apply mN_S)) (by repeat' (first | with_reducible exact hn_g | with_reducible apply mN_A | with_reducible apply mN_I | with_reducible apply mN_L | with_reducible apply mN_S))) dX9_unlitOf_25 (lw_S q3526 q3527 q109 q3528) (by decide +kernel) ⟨(Nat.le_of_ble_eq_true rfl), (Nat.le_of_ble_eq_true rfl)⟩ rfl rfl (Nat.le_of_ble_eq_true rfl) (by first | exact Nat.le_of_ble_eq_true rfl | omega) (by first | exact Nat.le_of_ble_eq_true rfl | omega) rfl (fun v_9 M_10 h_12 hE_11 => ?_)
  obtain ⟨rfl, hMs⟩ := h_12
  have hMs : M_10 = SC M m ad g (va_up sa 1 (cpy g (sa 1) 2509)) sf2 := hMs.trans (by rw [mA_SC0, mA_SC1 hS, SC_A0, va_up_self, hrs_back hw (nn a)])
  have hMs := hMs.symm
  subst hMs
  refine x_iload_n (n' := 29) dX9_unlitOf_28 rfl rfl rfl ?_
  exact x_iret dX9_unlitOf_29 hret (by repeat' (first | with_reducible exact kE.rf | with_reducible exact kE_SS | with_reducible apply kE_A | with_reducible apply kE_I | with_reducible apply kE_L | with_reducible apply kE_R | with_reducible apply kE_O | with_reducible apply kE_S)) (⟨rfl, _, sf2, rfl⟩)

set_option maxHeartbeats 600000 in
set_option maxRecDepth 100000 in
theorem c_X9_idle (l : Launch) (G : kG) (M : kM) (m : Nat) (ad : Nat → Nat) (hS : MS M m ad) (g : gT) (sa : Nat → gT) (sf : Nat → Int32) (a : Int32) (h nr nk ns : Nat) (hw : WF g h nr nk ns) (hb : h + 200 < 2147483648) : Kt l G yX9_idle cX9_idle 6 (some .int) 6 151 [.ref m, .int a] (SC M m ad g sa sf) (0) (0) (fun v M2 => (0 ≤ a ∧ a ≤ 200 → v = some (.int (idS g h nr nk ns (nn a) nk)) ∧ ∃ sa2 sf2, M2 = SC M m ad g sa2 sf2) ∧ (¬ (0 ≤ a ∧ a ≤ 200) → v = some (.int (-(nI 102))) ∧ M2 = rfM (SC M m ad g sa sf) ad 0)) := by
  refine Kt.of (own := "KeptLightModel") (L := [some (.ref m), some (.int a), none, none, none, none]) (by decide +kernel) rfl (Nat.le_of_ble_eq_true rfl) rfl ?_
  intro pp ee ss mm args below meth cd hmn hret
  have km := hS.1
  obtain ⟨hr_g, kk_g, hn_g⟩ := hS.2.1 0 (by decide)
  have hr_g : mR M (fc 9 0) m = some (ad 0) := hr_g
  have hn_g : mN M (ad 0) = 2509 := hn_g
  have kk_g : mK M (ad 0) = some 120 := kk_g
  have cut50 : ∀ (fuel : Nat) (i j : Nat) (sa1 : Nat → gT) (sf1 : Nat → Int32) (h1 : 24 - j < fuel) (h2 : j ≤ 24) (h3 : i < nk) (hok : 0 ≤ a ∧ a ≤ 200) (hK : ∀ (sa2 : Nat → gT) (sf2 : Nat → Int32), Wx pp l ee { frames := 6, cells := 0, slots := 0, locals := 151 } ss mm args below meth cd "KeptLightModel" cX9_idle 6 G (MQ below (KQ G (SC M m ad g sa sf) (fun v M2 => (0 ≤ a ∧ a ≤ 200 → v = some (.int (idS g h nr nk ns (nn a) nk)) ∧ ∃ sa2 sf2, M2 = SC M m ad g sa2 sf2) ∧ (¬ (0 ≤ a ∧ a ≤ 200) → v = some (.int (-(nI 102))) ∧ M2 = rfM (SC M m ad g sa sf) ad 0))) args ss (0) (0) (kA G)) 30 [some (.ref m), some (.int a), some (.int (unlG g h nr nk ns (nn a))), some (.int (idS g h nr nk ns (nn a) (i + 1))), some (.int (nI (i + 1))), none] [] (SC M m ad g sa2 sf2) (0) (0)), Wx pp l ee { frames := 6, cells := 0, slots := 0, locals := 151 } ss mm args below meth cd "KeptLightModel" cX9_idle 6 G (MQ below (KQ G (SC M m ad g sa sf) (fun v M2 => (0 ≤ a ∧ a ≤ 200 → v = some (.int (idS g h nr nk ns (nn a) nk)) ∧ ∃ sa2 sf2, M2 = SC M m ad g sa2 sf2) ∧ (¬ (0 ≤ a ∧ a ≤ 200) → v = some (.int (-(nI 102))) ∧ M2 = rfM (SC M m ad g sa sf) ad 0))) args ss (0) (0) (kA G)) 50 [some (.ref m), some (.int a), some (.int (unlG g h nr nk ns (nn a))), some (.int (idS g h nr nk ns (nn a) i)), some (.int (nI i)), some (.int (nI j))] [] (SC M m ad (noN g (nI i) j) (va_up sa1 6 (plS (sa1 6) g 24)) sf1) (0) (0) := by
    intro fuel
    induction fuel with
    | zero => intro i j sa1 sf1 h1 h2 h3 hok hK; omega
    | succ fuel ih =>
      intro i j sa1 sf1 h1 h2 h3 hok hK
      have hn9 := nn_le (n := 200) hok.1 hok.2 (by decide)
      have hk6 := hw.k6
      refine x_iload (n' := 52) dX9_idle_50 rfl rfl ?_
      refine x_bipush (n' := 54) (v := 24) dX9_idle_52 (by decide) rfl ?_
      refine x_icmp_ge (n' := 57) (tgt := 102) dX9_idle_54 (by decide) rfl (fun c54_1 => ?_) (fun c54_1 => ?_)
      · have C54 := c54_1
        have N54 := (cv_le (by repeat' (first | with_reducible exact nl_0 | with_reducible exact nl_1 | with_reducible exact nl_13 | with_reducible exact nl_24 | with_reducible exact nl_85 | with_reducible exact rfl | apply i_add | apply i_mul)) (by repeat' (first | with_reducible exact nl_0 | with_reducible exact nl_1 | with_reducible exact nl_13 | with_reducible exact nl_24 | with_reducible exact nl_85 | with_reducible exact rfl | apply i_add | apply i_mul)) (by omega) (by omega)).mp c54_1
        have e9 : j = 24 := by omega
        subst e9
        refine x_iload_n (n' := 103) dX9_idle_102 rfl rfl rfl ?_
        refine x_aload_n (n' := 104) dX9_idle_103 rfl rfl rfl ?_
        refine x_iload_n (n' := 105) dX9_idle_104 rfl rfl rfl ?_
        refine x_callV (n' := 108) (n := 1) (K := 9) (c_X9_unlitOf__i l G M m ad hS (noN g (nI i) 24) (va_up sa1 6 (plS (sa1 6) g 24)) sf1 a h nr nk ns (noN_WF hw _) hok.1 (by omega)) dX9_idle_105 (by repeat' (first | with_reducible exact km | with_reducible apply mK_A | with_reducible apply mK_I | with_reducible apply mK_L | with_reducible apply mK_R | with_reducible apply mK_O | with_reducible apply mK_S)) rfl (lw_V q3553 q3555 qs72 q109 q3556) (by decide +kernel) ⟨(Nat.le_of_ble_eq_true rfl), (Nat.le_of_ble_eq_true rfl)⟩ rfl rfl (Nat.le_of_ble_eq_true rfl) (by first | exact Nat.le_of_ble_eq_true rfl | omega) (by first | exact Nat.le_of_ble_eq_true rfl | omega) rfl (fun v_2 M_3 h_5 hE_4 => ?_)
        obtain ⟨rfl, X9, sf9, hMs⟩ := h_5
        have hMs := hMs.symm
        subst hMs
        refine x_iload_n (n' := 109) dX9_idle_108 rfl rfl rfl ?_
        refine x_fork (J := 120) (x_icmp_gt (n' := 112) (tgt := 119) dX9_idle_109 (by decide) rfl) (v1 := ?v1_f109_6) (v2 := ?v2_f109_6) (fun c_f109_6 j_f109_6 => ?b1_f109_6) (fun c_f109_6 j_f109_6 => ?b2_f109_6) ?k_f109_6
        case b1_f109_6 =>
          refine x_iconst (n' := 120) (v := 0) dX9_idle_119 (by decide) rfl ?_
          exact j_f109_6
        case b2_f109_6 =>
          refine x_iconst (n' := 113) (v := 1) dX9_idle_112 (by decide) rfl ?_
          refine x_iload (n' := 115) dX9_idle_113 rfl rfl ?_
          refine x_ishl (n' := 116) dX9_idle_115 rfl ?_
          refine x_goto (tgt := 120) dX9_idle_116 (by decide) ?_
          exact j_f109_6
        refine x_ior (n' := 121) dX9_idle_120 rfl ?_
        refine x_istore_n (n' := 122) dX9_idle_121 rfl (Nat.le_of_ble_eq_true rfl) rfl (by dsimp only [List.set] <;> rfl) rfl ?_
        refine x_aload_n (n' := 123) dX9_idle_122 rfl rfl rfl ?_
        refine x_iconst (n' := 124) (v := 1) dX9_idle_123 (by decide) rfl ?_
        refine x_callV (n' := 127) (n := 1) (K := 9) (c_X9_keepsPlan__back l G M m ad hS (noN g (nI i) 24) _ _) dX9_idle_124 (by repeat' (first | with_reducible exact km | with_reducible apply mK_A | with_reducible apply mK_I | with_reducible apply mK_L | with_reducible apply mK_R | with_reducible apply mK_O | with_reducible apply mK_S)) rfl (lw_V q3561 q3563 qs73 q109 q3564) (by decide +kernel) ⟨(Nat.le_of_ble_eq_true rfl), (Nat.le_of_ble_eq_true rfl)⟩ rfl rfl (Nat.le_of_ble_eq_true rfl) (by first | exact Nat.le_of_ble_eq_true rfl | omega) (by first | exact Nat.le_of_ble_eq_true rfl | omega) rfl (fun v_7 M_8 h_10 hE_9 => ?_)
        obtain ⟨rfl, hMs⟩ := h_10
        have hMs : M_8 = SC M m ad g (va_up (va_up sa1 6 (plS (sa1 6) g 24)) 1 X9) sf9 := hMs.trans (by rw [va_up_ne _ _ (by decide), va_up_self, noN_back])
        have hMs := hMs.symm
        subst hMs
        refine x_iinc (n' := 130) dX9_idle_127 rfl (by first | exact nI_inc _ | exact nI_decp (by omega) | exact i_inc _ | rfl) (Nat.le_of_ble_eq_true rfl) rfl (by dsimp only [List.set] <;> rfl) rfl ?_
        refine x_goto (tgt := 30) dX9_idle_130 (by decide) ?_
        exact x_drop (hK _ _) ⟨rfl, ⟨rfl, ⟨rfl, ⟨rfl, ⟨rfl, trivial⟩⟩⟩⟩⟩
      · have C54 := c54_1
        have N54 := (not_congr (cv_le (by repeat' (first | with_reducible exact nl_0 | with_reducible exact nl_1 | with_reducible exact nl_13 | with_reducible exact nl_24 | with_reducible exact nl_85 | with_reducible exact rfl | apply i_add | apply i_mul)) (by repeat' (first | with_reducible exact nl_0 | with_reducible exact nl_1 | with_reducible exact nl_13 | with_reducible exact nl_24 | with_reducible exact nl_85 | with_reducible exact rfl | apply i_add | apply i_mul)) (by omega) (by omega))).mp c54_1
        refine x_aload_n (n' := 58) dX9_idle_57 rfl rfl rfl ?_
        refine x_getRs (n' := 61) (b := (ad 0)) dX9_idle_58 (by repeat' (first | with_reducible exact km | with_reducible apply mK_A | with_reducible apply mK_I | with_reducible apply mK_L | with_reducible apply mK_R | with_reducible apply mK_O | with_reducible apply mK_S)) ffX9_9_9 rfl (by repeat' (first | with_reducible exact hr_g | with_reducible apply mR_A | with_reducible apply mR_I | with_reducible apply mR_L | with_reducible apply mR_S)) rfl ?_
        refine x_bipush (n' := 63) (v := 85) dX9_idle_61 (by decide) rfl ?_
        refine x_iload (n' := 65) dX9_idle_63 rfl rfl ?_
        refine x_iadd (n' := 66) dX9_idle_65 rfl ?_
        refine x_aload_n (n' := 67) dX9_idle_66 rfl rfl rfl ?_
        refine x_getRs (n' := 70) (b := (ad 0)) dX9_idle_67 (by repeat' (first | with_reducible exact km | with_reducible apply mK_A | with_reducible apply mK_I | with_reducible apply mK_L | with_reducible apply mK_R | with_reducible apply mK_O | with_reducible apply mK_S)) ffX9_9_9 rfl (by repeat' (first | with_reducible exact hr_g | with_reducible apply mR_A | with_reducible apply mR_I | with_reducible apply mR_L | with_reducible apply mR_S)) rfl ?_
        refine x_bipush (n' := 72) (v := 85) dX9_idle_70 (by decide) rfl ?_
        refine x_iload (n' := 74) dX9_idle_72 rfl rfl ?_
        refine x_iadd (n' := 75) dX9_idle_74 rfl ?_
        refine x_ildk (n' := 76) (N := 2509) dX9_idle_75 (by repeat' (first | with_reducible exact kk_g | with_reducible apply mK_A | with_reducible apply mK_I | with_reducible apply mK_L | with_reducible apply mK_R | with_reducible apply mK_O | with_reducible apply mK_S)) (by repeat' (first | with_reducible exact hn_g | with_reducible apply mN_A | with_reducible apply mN_I | with_reducible apply mN_L | with_reducible apply mN_R | with_reducible apply mN_O | with_reducible apply mN_S)) (by repeat' (first | with_reducible exact nl_0 | with_reducible exact nl_1 | with_reducible exact nl_13 | with_reducible exact nl_24 | with_reducible exact nl_85 | with_reducible exact rfl | apply i_add | apply i_mul)) (by omega) (by decide) (by first | (simp (disch := omega) only [mA_sA, mA_sI, mA_SC0, mA_SC1 hS, mA_SC5 hS, mA_SC6 hS, mA_SC10 hS, mA_SC11 hS, mA_SC12 hS, up_s, up_n, if_false] <;> rfl) | rfl) rfl ?_
        refine x_iload (n' := 78) dX9_idle_76 rfl rfl ?_
        refine x_forkN (J := 95) (x_icmp_ne (n' := 81) (tgt := 85) dX9_idle_78 (by decide) rfl) (v1 := ?v1_f78_11) (v2 := ?v2_f78_11) (fun c_f78_11 j_f78_11 => ?b1_f78_11) (fun c_f78_11 j_f78_11 => ?b2_f78_11) ?k_f78_11
        case b1_f78_11 =>
          refine x_aload_n (n' := 86) dX9_idle_85 rfl rfl rfl ?_
          refine x_getRs (n' := 89) (b := (ad 0)) dX9_idle_86 (by repeat' (first | with_reducible exact km | with_reducible apply mK_A | with_reducible apply mK_I | with_reducible apply mK_L | with_reducible apply mK_R | with_reducible apply mK_O | with_reducible apply mK_S)) ffX9_9_9 rfl (by repeat' (first | with_reducible exact hr_g | with_reducible apply mR_A | with_reducible apply mR_I | with_reducible apply mR_L | with_reducible apply mR_S)) rfl ?_
          refine x_bipush (n' := 91) (v := 85) dX9_idle_89 (by decide) rfl ?_
          refine x_iload (n' := 93) dX9_idle_91 rfl rfl ?_
          refine x_iadd (n' := 94) dX9_idle_93 rfl ?_
          refine x_ildk (n' := 95) (N := 2509) dX9_idle_94 (by repeat' (first | with_reducible exact kk_g | with_reducible apply mK_A | with_reducible apply mK_I | with_reducible apply mK_L | with_reducible apply mK_R | with_reducible apply mK_O | with_reducible apply mK_S)) (by repeat' (first | with_reducible exact hn_g | with_reducible apply mN_A | with_reducible apply mN_I | with_reducible apply mN_L | with_reducible apply mN_R | with_reducible apply mN_O | with_reducible apply mN_S)) (by repeat' (first | with_reducible exact nl_0 | with_reducible exact nl_1 | with_reducible exact nl_13 | with_reducible exact nl_24 | with_reducible exact nl_85 | with_reducible exact rfl | apply i_add | apply i_mul)) (by omega) (by decide) (by first | (simp (disch := omega) only [mA_sA, mA_sI, mA_SC0, mA_SC1 hS, mA_SC5 hS, mA_SC6 hS, mA_SC10 hS, mA_SC11 hS, mA_SC12 hS, up_s, up_n, if_false] <;> rfl) | rfl) rfl ?_
          exact j_f78_11
        case b2_f78_11 =>
          refine x_iconst (n' := 82) (v := -1) dX9_idle_81 (by decide) rfl ?_
          refine x_goto (tgt := 95) dX9_idle_82 (by decide) ?_
          exact j_f78_11
        refine x_topv (y := if g (85 + j) = nI i then -1 else g (85 + j)) (by rw [noN_at]) ?_
        refine x_iastk (n' := 96) (N := 2509) dX9_idle_95 (by repeat' (first | with_reducible exact kk_g | with_reducible apply mK_A | with_reducible apply mK_I | with_reducible apply mK_L | with_reducible apply mK_R | with_reducible apply mK_O | with_reducible apply mK_S)) (by repeat' (first | with_reducible exact hn_g | with_reducible apply mN_A | with_reducible apply mN_I | with_reducible apply mN_L | with_reducible apply mN_R | with_reducible apply mN_O | with_reducible apply mN_S)) (by repeat' (first | with_reducible exact nl_0 | with_reducible exact nl_1 | with_reducible exact nl_13 | with_reducible exact nl_24 | with_reducible exact nl_85 | with_reducible exact rfl | apply i_add | apply i_mul)) (by omega) (by decide) (by first | with_reducible exact mA_sA | with_reducible exact mA_SC0 | with_reducible exact mA_SC1 hS | with_reducible exact mA_SC5 hS | with_reducible exact mA_SC6 hS | with_reducible exact mA_SC10 hS | with_reducible exact mA_SC11 hS | with_reducible exact mA_SC12 hS | with_reducible exact mA_sI_sA | with_reducible exact mA_sI3_sA | rfl) (by first | with_reducible exact SC_A0 | with_reducible exact SC_A1 hS | with_reducible exact SC_A5 hS | with_reducible exact SC_A6 hS | with_reducible exact SC_A10 hS | with_reducible exact SC_A11 hS | with_reducible exact SC_A12 hS | with_reducible exact sA_sA | with_reducible exact sA_sI_sA | with_reducible exact sA_sI3_sA | rfl) rfl ?_
        refine x_iinc (n' := 99) dX9_idle_96 rfl (by first | exact nI_inc _ | exact nI_decp (by omega) | exact i_inc _ | rfl) (Nat.le_of_ble_eq_true rfl) rfl (by dsimp only [List.set] <;> rfl) rfl ?_
        refine x_goto (tgt := 50) dX9_idle_99 (by decide) ?_
        rw [noN_s]
        exact x_drop (ih i (j + 1) sa1 sf1 (by omega) (by omega) h3 hok hK) ⟨rfl, ⟨rfl, ⟨rfl, ⟨rfl, ⟨rfl, ⟨rfl, trivial⟩⟩⟩⟩⟩⟩
  have cut30 : ∀ (fuel : Nat) (i : Nat) (sa1 : Nat → gT) (sf1 : Nat → Int32) (h1 : nk - i < fuel) (h2 : i ≤ nk) (hok : 0 ≤ a ∧ a ≤ 200), Wx pp l ee { frames := 6, cells := 0, slots := 0, locals := 151 } ss mm args below meth cd "KeptLightModel" cX9_idle 6 G (MQ below (KQ G (SC M m ad g sa sf) (fun v M2 => (0 ≤ a ∧ a ≤ 200 → v = some (.int (idS g h nr nk ns (nn a) nk)) ∧ ∃ sa2 sf2, M2 = SC M m ad g sa2 sf2) ∧ (¬ (0 ≤ a ∧ a ≤ 200) → v = some (.int (-(nI 102))) ∧ M2 = rfM (SC M m ad g sa sf) ad 0))) args ss (0) (0) (kA G)) 30 [some (.ref m), some (.int a), some (.int (unlG g h nr nk ns (nn a))), some (.int (idS g h nr nk ns (nn a) i)), some (.int (nI i)), none] [] (SC M m ad g sa1 sf1) (0) (0) := by
    intro fuel
    induction fuel with
    | zero => intro i sa1 sf1 h1 h2 hok; omega
    | succ fuel ih =>
      intro i sa1 sf1 h1 h2 hok
      have hn9 := nn_le (n := 200) hok.1 hok.2 (by decide)
      have hk6 := hw.k6
      refine x_iload (n' := 32) dX9_idle_30 rfl rfl ?_
      refine x_aload_n (n' := 33) dX9_idle_32 rfl rfl rfl ?_
      refine x_getRs (n' := 36) (b := (ad 0)) dX9_idle_33 (by repeat' (first | with_reducible exact km | with_reducible apply mK_A | with_reducible apply mK_I | with_reducible apply mK_L | with_reducible apply mK_R | with_reducible apply mK_O | with_reducible apply mK_S)) ffX9_9_9 rfl (by repeat' (first | with_reducible exact hr_g | with_reducible apply mR_A | with_reducible apply mR_I | with_reducible apply mR_L | with_reducible apply mR_S)) rfl ?_
      refine x_bipush (n' := 38) (v := 13) dX9_idle_36 (by decide) rfl ?_
      refine x_ildk (n' := 39) (N := 2509) dX9_idle_38 (by repeat' (first | with_reducible exact kk_g | with_reducible apply mK_A | with_reducible apply mK_I | with_reducible apply mK_L | with_reducible apply mK_R | with_reducible apply mK_O | with_reducible apply mK_S)) (by repeat' (first | with_reducible exact hn_g | with_reducible apply mN_A | with_reducible apply mN_I | with_reducible apply mN_L | with_reducible apply mN_R | with_reducible apply mN_O | with_reducible apply mN_S)) (by repeat' (first | with_reducible exact nl_0 | with_reducible exact nl_1 | with_reducible exact nl_13 | with_reducible exact nl_24 | with_reducible exact nl_85 | with_reducible exact rfl | apply i_add | apply i_mul)) (by omega) (by decide) ((congrFun mA_SC0 13).trans hw.kk) rfl ?_
      refine x_icmp_ge (n' := 42) (tgt := 133) dX9_idle_39 (by decide) rfl (fun c39_12 => ?_) (fun c39_12 => ?_)
      · have C39 := c39_12
        have N39 := (cv_le (by repeat' (first | with_reducible exact nl_0 | with_reducible exact nl_1 | with_reducible exact nl_13 | with_reducible exact nl_24 | with_reducible exact nl_85 | with_reducible exact rfl | apply i_add | apply i_mul)) (by repeat' (first | with_reducible exact nl_0 | with_reducible exact nl_1 | with_reducible exact nl_13 | with_reducible exact nl_24 | with_reducible exact nl_85 | with_reducible exact rfl | apply i_add | apply i_mul)) (by omega) (by omega)).mp c39_12
        refine x_iload_n (n' := 134) dX9_idle_133 rfl rfl rfl ?_
        exact x_iret dX9_idle_134 hret (by repeat' (first | with_reducible exact kE.rf | with_reducible exact kE_SS | with_reducible apply kE_A | with_reducible apply kE_I | with_reducible apply kE_L | with_reducible apply kE_R | with_reducible apply kE_O | with_reducible apply kE_S)) (⟨fun _ => ⟨by rw [show i = nk by omega], _, _, rfl⟩, fun q => absurd hok q⟩)
      · have C39 := c39_12
        have N39 := (not_congr (cv_le (by repeat' (first | with_reducible exact nl_0 | with_reducible exact nl_1 | with_reducible exact nl_13 | with_reducible exact nl_24 | with_reducible exact nl_85 | with_reducible exact rfl | apply i_add | apply i_mul)) (by repeat' (first | with_reducible exact nl_0 | with_reducible exact nl_1 | with_reducible exact nl_13 | with_reducible exact nl_24 | with_reducible exact nl_85 | with_reducible exact rfl | apply i_add | apply i_mul)) (by omega) (by omega))).mp c39_12
        refine x_aload_n (n' := 43) dX9_idle_42 rfl rfl rfl ?_
        refine x_iconst (n' := 44) (v := 0) dX9_idle_43 (by decide) rfl ?_
        refine x_callV (n' := 47) (n := 1) (K := 9) (c_X9_keepsPlan__save l G M m ad hS g sa1 sf1) dX9_idle_44 (by repeat' (first | with_reducible exact km | with_reducible apply mK_A | with_reducible apply mK_I | with_reducible apply mK_L | with_reducible apply mK_R | with_reducible apply mK_O | with_reducible apply mK_S)) rfl (lw_V q3561 q3563 qs73 q109 q3564) (by decide +kernel) ⟨(Nat.le_of_ble_eq_true rfl), (Nat.le_of_ble_eq_true rfl)⟩ rfl rfl (Nat.le_of_ble_eq_true rfl) (by first | exact Nat.le_of_ble_eq_true rfl | omega) (by first | exact Nat.le_of_ble_eq_true rfl | omega) rfl (fun v_13 M_14 h_16 hE_15 => ?_)
        obtain ⟨rfl, hMs⟩ := h_16
        have hMs := hMs.symm
        subst hMs
        refine x_iconst (n' := 48) (v := 0) dX9_idle_47 (by decide) rfl ?_
        refine x_istore (n' := 50) dX9_idle_48 (Nat.le_of_ble_eq_true rfl) rfl (by dsimp only [List.set] <;> rfl) rfl ?_
        refine x_mem (M2 := SC M m ad (noN g (nI i) 0) (va_up sa1 6 (plS (sa1 6) g 24)) sf1) (by rw [noN_0]) ?_
        exact x_drop (cut50 25 i 0 sa1 sf1 (by omega) (by omega) (by omega) hok (fun sa2 sf2 => ih (i + 1) sa2 sf2 (by omega) (by omega) hok)) ⟨rfl, ⟨rfl, ⟨rfl, ⟨rfl, ⟨rfl, ⟨rfl, trivial⟩⟩⟩⟩⟩⟩
  refine x_iload_n (n' := 1) dX9_idle_0 rfl rfl rfl ?_
  refine x_i2l (n' := 2) dX9_idle_1 rfl rfl ?_
  refine x_lconst (n' := 3) (v := 0) dX9_idle_2 (by decide) rfl ?_
  refine x_ldc2 (n' := 6) q3404 dX9_idle_3 rfl ?_
  refine x_callS (n' := 9) (n := 3) (c_X9_in l G _ _ _ _) dX9_idle_6 (lw_S q3321 q3322 q109 q3323) (by decide +kernel) ⟨(Nat.le_of_ble_eq_true rfl), (Nat.le_of_ble_eq_true rfl)⟩ rfl rfl (Nat.le_of_ble_eq_true rfl) (by first | exact Nat.le_of_ble_eq_true rfl | omega) (by first | exact Nat.le_of_ble_eq_true rfl | omega) rfl (fun v_17 M_18 h_20 hE_19 => ?_)
  obtain ⟨rfl, hMs⟩ := h_20
  have hMs := hMs.symm
  subst hMs
  rw [k_in3 (x := 0) (y := 200) (by decide) (by decide)]
  refine x_if_ne (n' := 12) (tgt := 19) dX9_idle_9 (by decide) rfl (fun c9_21 => ?_) (fun c9_21 => ?_)
  · have C9 := c9_21
    have hok : 0 ≤ a ∧ a ≤ 200 := bi_n0 C9
    have hn9 := nn_le (n := 200) hok.1 hok.2 (by decide)
    refine x_aload_n (n' := 20) dX9_idle_19 rfl rfl rfl ?_
    refine x_iload_n (n' := 21) dX9_idle_20 rfl rfl rfl ?_
    refine x_callV (n' := 24) (n := 1) (K := 9) (c_X9_unlitOf__i l G M m ad hS g sa sf a h nr nk ns hw hok.1 (by omega)) dX9_idle_21 (by repeat' (first | with_reducible exact km | with_reducible apply mK_A | with_reducible apply mK_I | with_reducible apply mK_L | with_reducible apply mK_R | with_reducible apply mK_O | with_reducible apply mK_S)) rfl (lw_V q3553 q3555 qs72 q109 q3556) (by decide +kernel) ⟨(Nat.le_of_ble_eq_true rfl), (Nat.le_of_ble_eq_true rfl)⟩ rfl rfl (Nat.le_of_ble_eq_true rfl) (by first | exact Nat.le_of_ble_eq_true rfl | omega) (by first | exact Nat.le_of_ble_eq_true rfl | omega) rfl (fun v_22 M_23 h_25 hE_24 => ?_)
    obtain ⟨rfl, X9, sf9, hMs⟩ := h_25
    have hMs := hMs.symm
    subst hMs
    refine x_istore_n (n' := 25) dX9_idle_24 rfl (Nat.le_of_ble_eq_true rfl) rfl (by dsimp only [List.set] <;> rfl) rfl ?_
    refine x_iconst (n' := 26) (v := 0) dX9_idle_25 (by decide) rfl ?_
    refine x_istore_n (n' := 27) dX9_idle_26 rfl (Nat.le_of_ble_eq_true rfl) rfl (by dsimp only [List.set] <;> rfl) rfl ?_
    refine x_iconst (n' := 28) (v := 0) dX9_idle_27 (by decide) rfl ?_
    refine x_istore (n' := 30) dX9_idle_28 (Nat.le_of_ble_eq_true rfl) rfl (by dsimp only [List.set] <;> rfl) rfl ?_
    exact x_drop (cut30 (nk + 1) 0 _ _ (by omega) (by omega) hok) ⟨rfl, ⟨rfl, ⟨rfl, ⟨rfl, ⟨rfl, trivial⟩⟩⟩⟩⟩
  · have C9 := c9_21
    refine x_aload_n (n' := 13) dX9_idle_12 rfl rfl rfl ?_
    refine x_bipush (n' := 15) (v := -102) dX9_idle_13 (by decide) rfl ?_
    refine x_topv (y := -(nI (102 + 0))) (by decide) ?_
    refine x_callV (n' := 18) (n := 1) (K := 9) (c_X9_refused l G _ m ad (by repeat' (first | with_reducible exact hS | with_reducible apply MS.sA | with_reducible apply MS.sI | with_reducible apply MS.sL | with_reducible apply MS.sc)) 0 (by decide)) dX9_idle_15 (by repeat' (first | with_reducible exact km | with_reducible apply mK_A | with_reducible apply mK_I | with_reducible apply mK_L | with_reducible apply mK_R | with_reducible apply mK_O | with_reducible apply mK_S)) rfl (lw_V q3324 q3326 qs48 q109 q3327) (by decide +kernel) ⟨(Nat.le_of_ble_eq_true rfl), (Nat.le_of_ble_eq_true rfl)⟩ rfl rfl (Nat.le_of_ble_eq_true rfl) (by first | exact Nat.le_of_ble_eq_true rfl | omega) (by first | exact Nat.le_of_ble_eq_true rfl | omega) rfl (fun v_26 M_27 h_29 hE_28 => ?_)
    obtain ⟨rfl, hMs⟩ := h_29
    have hMs := hMs.symm
    subst hMs
    exact x_iret dX9_idle_18 hret (by repeat' (first | with_reducible exact kE.rf | with_reducible exact kE_SS | with_reducible apply kE_A | with_reducible apply kE_I | with_reducible apply kE_L | with_reducible apply kE_R | with_reducible apply kE_O | with_reducible apply kE_S)) (⟨fun q => absurd q (by exact fun q => bi_0.mp C9 q), fun _ => ⟨rfl, rfl⟩⟩)

set_option maxHeartbeats 600000 in
set_option maxRecDepth 100000 in
theorem c_X9_better (l : Launch) (G : kG) (M : kM) (m : Nat) (ad : Nat → Nat) (hS : MS M m ad) (g : gT) (sa : Nat → gT) (sf : Nat → Int32) (b a : Int32) (h nr nk ns : Nat) (hw : WF g h nr nk ns) (hb : h + 200 < 2147483648) : Kt l G yX9_better cX9_better 8 (some .int) 6 151 [.ref m, .int b, .int a] (SC M m ad g sa sf) (0) (0) (fun v M2 => ((0 ≤ b ∧ b ≤ 23) ∧ (0 ≤ a ∧ a ≤ 200) → 0 < nk → v = some (.int (btS g h nr nk ns (nn a) (nn b) nk).2) ∧ ∃ sa2 sf2, M2 = SC M m ad g sa2 sf2) ∧ ((0 ≤ b ∧ b ≤ 23) ∧ (0 ≤ a ∧ a ≤ 200) → nk = 0 → v = some (.int (-(nI 105))) ∧ M2 = rfM (SC M m ad g sa sf) ad 3) ∧ (¬ ((0 ≤ b ∧ b ≤ 23) ∧ (0 ≤ a ∧ a ≤ 200)) → v = some (.int (-(nI 102))) ∧ M2 = rfM (SC M m ad g sa sf) ad 0)) := by
  refine Kt.of (own := "KeptLightModel") (L := [some (.ref m), some (.int b), some (.int a), none, none, none, none, none]) (by decide +kernel) rfl (Nat.le_of_ble_eq_true rfl) rfl ?_
  intro pp ee ss mm args below meth cd hmn hret
  have km := hS.1
  obtain ⟨hr_g, kk_g, hn_g⟩ := hS.2.1 0 (by decide)
  have hr_g : mR M (fc 9 0) m = some (ad 0) := hr_g
  have hn_g : mN M (ad 0) = 2509 := hn_g
  have kk_g : mK M (ad 0) = some 120 := kk_g
  have hk6 := hw.k6
  have cut71 : ∀ (fuel : Nat) (i : Nat) (x : Int32) (sa1 : Nat → gT) (sf1 : Nat → Int32) (h1 : nk - i < fuel) (h2 : i ≤ nk) (h3 : 0 < nk) (hok : (0 ≤ b ∧ b ≤ 23) ∧ (0 ≤ a ∧ a ≤ 200)), Wx pp l ee { frames := 6, cells := 0, slots := 0, locals := 151 } ss mm args below meth cd "KeptLightModel" cX9_better 8 G (MQ below (KQ G (SC M m ad g sa sf) (fun v M2 => ((0 ≤ b ∧ b ≤ 23) ∧ (0 ≤ a ∧ a ≤ 200) → 0 < nk → v = some (.int (btS g h nr nk ns (nn a) (nn b) nk).2) ∧ ∃ sa2 sf2, M2 = SC M m ad g sa2 sf2) ∧ ((0 ≤ b ∧ b ≤ 23) ∧ (0 ≤ a ∧ a ≤ 200) → nk = 0 → v = some (.int (-(nI 105))) ∧ M2 = rfM (SC M m ad g sa sf) ad 3) ∧ (¬ ((0 ≤ b ∧ b ≤ 23) ∧ (0 ≤ a ∧ a ≤ 200)) → v = some (.int (-(nI 102))) ∧ M2 = rfM (SC M m ad g sa sf) ad 0))) args ss (0) (0) (kA G)) 71 [some (.ref m), some (.int b), some (.int a), some (.int (g (85 + nn b))), some (.int (btS g h nr nk ns (nn a) (nn b) i).1), some (.int (btS g h nr nk ns (nn a) (nn b) i).2), some (.int (nI i)), none] [] (SC M m ad (va_up g (85 + nn b) x) sa1 sf1) (0) (0) := by
    intro fuel
    induction fuel with
    | zero => intro i x sa1 sf1 h1 h2 h3 hok; omega
    | succ fuel ih =>
      intro i x sa1 sf1 h1 h2 h3 hok
      have hn9 := nn_le (n := 200) hok.2.1 hok.2.2 (by decide)
      have hn8 := nn_le (n := 23) hok.1.1 hok.1.2 (by decide)
      have hk6 := hw.k6
      refine x_iload (n' := 73) dX9_better_71 rfl rfl ?_
      refine x_aload_n (n' := 74) dX9_better_73 rfl rfl rfl ?_
      refine x_getRs (n' := 77) (b := (ad 0)) dX9_better_74 (by repeat' (first | with_reducible exact km | with_reducible apply mK_A | with_reducible apply mK_I | with_reducible apply mK_L | with_reducible apply mK_R | with_reducible apply mK_O | with_reducible apply mK_S)) ffX9_9_9 rfl (by repeat' (first | with_reducible exact hr_g | with_reducible apply mR_A | with_reducible apply mR_I | with_reducible apply mR_L | with_reducible apply mR_S)) rfl ?_
      refine x_bipush (n' := 79) (v := 13) dX9_better_77 (by decide) rfl ?_
      refine x_ildk (n' := 80) (N := 2509) dX9_better_79 (by repeat' (first | with_reducible exact kk_g | with_reducible apply mK_A | with_reducible apply mK_I | with_reducible apply mK_L | with_reducible apply mK_R | with_reducible apply mK_O | with_reducible apply mK_S)) (by repeat' (first | with_reducible exact hn_g | with_reducible apply mN_A | with_reducible apply mN_I | with_reducible apply mN_L | with_reducible apply mN_R | with_reducible apply mN_O | with_reducible apply mN_S)) (by repeat' (first | with_reducible exact nl_0 | with_reducible exact nl_13 | with_reducible exact nl_85 | with_reducible exact rfl | apply i_add | apply i_mul)) (by omega) (by decide) ((congrFun mA_SC0 13).trans ((va_up_ne _ _ (by omega)).trans hw.kk)) rfl ?_
      refine x_icmp_ge (n' := 83) (tgt := 122) dX9_better_80 (by decide) rfl (fun c80_1 => ?_) (fun c80_1 => ?_)
      · have C80 := c80_1
        have N80 := (cv_le (by repeat' (first | with_reducible exact nl_0 | with_reducible exact nl_13 | with_reducible exact nl_85 | with_reducible exact rfl | apply i_add | apply i_mul)) (by repeat' (first | with_reducible exact nl_0 | with_reducible exact nl_13 | with_reducible exact nl_85 | with_reducible exact rfl | apply i_add | apply i_mul)) (by omega) (by omega)).mp c80_1
        refine x_aload_n (n' := 123) dX9_better_122 rfl rfl rfl ?_
        refine x_getRs (n' := 126) (b := (ad 0)) dX9_better_123 (by repeat' (first | with_reducible exact km | with_reducible apply mK_A | with_reducible apply mK_I | with_reducible apply mK_L | with_reducible apply mK_R | with_reducible apply mK_O | with_reducible apply mK_S)) ffX9_9_9 rfl (by repeat' (first | with_reducible exact hr_g | with_reducible apply mR_A | with_reducible apply mR_I | with_reducible apply mR_L | with_reducible apply mR_S)) rfl ?_
        refine x_bipush (n' := 128) (v := 85) dX9_better_126 (by decide) rfl ?_
        refine x_iload_n (n' := 129) dX9_better_128 rfl rfl rfl ?_
        refine x_topv (nn_of hok.1.1) ?_
        refine x_iadd (n' := 130) dX9_better_129 rfl ?_
        refine x_iload_n (n' := 131) dX9_better_130 rfl rfl rfl ?_
        refine x_iastk (n' := 132) (N := 2509) dX9_better_131 (by repeat' (first | with_reducible exact kk_g | with_reducible apply mK_A | with_reducible apply mK_I | with_reducible apply mK_L | with_reducible apply mK_R | with_reducible apply mK_O | with_reducible apply mK_S)) (by repeat' (first | with_reducible exact hn_g | with_reducible apply mN_A | with_reducible apply mN_I | with_reducible apply mN_L | with_reducible apply mN_R | with_reducible apply mN_O | with_reducible apply mN_S)) (by repeat' (first | with_reducible exact nl_0 | with_reducible exact nl_13 | with_reducible exact nl_85 | with_reducible exact rfl | apply i_add | apply i_mul)) (by omega) (by decide) (by first | with_reducible exact mA_sA | with_reducible exact mA_SC0 | with_reducible exact mA_SC1 hS | with_reducible exact mA_SC5 hS | with_reducible exact mA_SC6 hS | with_reducible exact mA_SC10 hS | with_reducible exact mA_SC11 hS | with_reducible exact mA_SC12 hS | with_reducible exact mA_sI_sA | with_reducible exact mA_sI3_sA | rfl) (by first | with_reducible exact SC_A0 | with_reducible exact SC_A1 hS | with_reducible exact SC_A5 hS | with_reducible exact SC_A6 hS | with_reducible exact SC_A10 hS | with_reducible exact SC_A11 hS | with_reducible exact SC_A12 hS | with_reducible exact sA_sA | with_reducible exact sA_sI_sA | with_reducible exact sA_sI3_sA | rfl) rfl ?_
        refine x_iload (n' := 134) dX9_better_132 rfl rfl ?_
        exact x_iret dX9_better_134 hret (by repeat' (first | with_reducible exact kE.rf | with_reducible exact kE_SS | with_reducible apply kE_A | with_reducible apply kE_I | with_reducible apply kE_L | with_reducible apply kE_R | with_reducible apply kE_O | with_reducible apply kE_S)) (⟨fun _ _ => ⟨by rw [show i = nk by omega], sa1, sf1, by rw [up_up, up_eta]⟩, fun _ q => absurd q (by omega), fun q => absurd hok q⟩)
      · have C80 := c80_1
        have N80 := (not_congr (cv_le (by repeat' (first | with_reducible exact nl_0 | with_reducible exact nl_13 | with_reducible exact nl_85 | with_reducible exact rfl | apply i_add | apply i_mul)) (by repeat' (first | with_reducible exact nl_0 | with_reducible exact nl_13 | with_reducible exact nl_85 | with_reducible exact rfl | apply i_add | apply i_mul)) (by omega) (by omega))).mp c80_1
        refine x_aload_n (n' := 84) dX9_better_83 rfl rfl rfl ?_
        refine x_getRs (n' := 87) (b := (ad 0)) dX9_better_84 (by repeat' (first | with_reducible exact km | with_reducible apply mK_A | with_reducible apply mK_I | with_reducible apply mK_L | with_reducible apply mK_R | with_reducible apply mK_O | with_reducible apply mK_S)) ffX9_9_9 rfl (by repeat' (first | with_reducible exact hr_g | with_reducible apply mR_A | with_reducible apply mR_I | with_reducible apply mR_L | with_reducible apply mR_S)) rfl ?_
        refine x_bipush (n' := 89) (v := 85) dX9_better_87 (by decide) rfl ?_
        refine x_iload_n (n' := 90) dX9_better_89 rfl rfl rfl ?_
        refine x_topv (nn_of hok.1.1) ?_
        refine x_iadd (n' := 91) dX9_better_90 rfl ?_
        refine x_iload (n' := 93) dX9_better_91 rfl rfl ?_
        refine x_iastk (n' := 94) (N := 2509) dX9_better_93 (by repeat' (first | with_reducible exact kk_g | with_reducible apply mK_A | with_reducible apply mK_I | with_reducible apply mK_L | with_reducible apply mK_R | with_reducible apply mK_O | with_reducible apply mK_S)) (by repeat' (first | with_reducible exact hn_g | with_reducible apply mN_A | with_reducible apply mN_I | with_reducible apply mN_L | with_reducible apply mN_R | with_reducible apply mN_O | with_reducible apply mN_S)) (by repeat' (first | with_reducible exact nl_0 | with_reducible exact nl_13 | with_reducible exact nl_85 | with_reducible exact rfl | apply i_add | apply i_mul)) (by omega) (by decide) (by first | with_reducible exact mA_sA | with_reducible exact mA_SC0 | with_reducible exact mA_SC1 hS | with_reducible exact mA_SC5 hS | with_reducible exact mA_SC6 hS | with_reducible exact mA_SC10 hS | with_reducible exact mA_SC11 hS | with_reducible exact mA_SC12 hS | with_reducible exact mA_sI_sA | with_reducible exact mA_sI3_sA | rfl) (by first | with_reducible exact SC_A0 | with_reducible exact SC_A1 hS | with_reducible exact SC_A5 hS | with_reducible exact SC_A6 hS | with_reducible exact SC_A10 hS | with_reducible exact SC_A11 hS | with_reducible exact SC_A12 hS | with_reducible exact sA_sA | with_reducible exact sA_sI_sA | with_reducible exact sA_sI3_sA | rfl) rfl ?_
        refine x_aload_n (n' := 95) dX9_better_94 rfl rfl rfl ?_
        refine x_iload_n (n' := 96) dX9_better_95 rfl rfl rfl ?_
        rw [up_up]
        refine x_callV (n' := 99) (n := 1) (K := 9) (c_X9_unlitOf__i l G M m ad hS (va_up g (85 + nn b) (nI i)) sa1 sf1 a h nr nk ns (hw.plan1 (by omega) (fun _ => by rw [nn_nI (by omega)]; omega)) hok.2.1 (by omega)) dX9_better_96 (by repeat' (first | with_reducible exact km | with_reducible apply mK_A | with_reducible apply mK_I | with_reducible apply mK_L | with_reducible apply mK_R | with_reducible apply mK_O | with_reducible apply mK_S)) rfl (lw_V q3553 q3555 qs72 q109 q3556) (by decide +kernel) ⟨(Nat.le_of_ble_eq_true rfl), (Nat.le_of_ble_eq_true rfl)⟩ rfl rfl (Nat.le_of_ble_eq_true rfl) (by first | exact Nat.le_of_ble_eq_true rfl | omega) (by first | exact Nat.le_of_ble_eq_true rfl | omega) rfl (fun v_2 M_3 h_5 hE_4 => ?_)
        obtain ⟨rfl, X9, sf9, hMs⟩ := h_5
        have hMs := hMs.symm
        subst hMs
        refine x_istore (n' := 101) dX9_better_99 (Nat.le_of_ble_eq_true rfl) rfl (by dsimp only [List.set] <;> rfl) rfl ?_
        refine x_iload (n' := 103) dX9_better_101 rfl rfl ?_
        refine x_iload (n' := 105) dX9_better_103 rfl rfl ?_
        refine x_icmp_ge (n' := 108) (tgt := 116) dX9_better_105 (by decide) rfl (fun c105_6 => ?_) (fun c105_6 => ?_)
        · have C105 := c105_6
          refine x_iinc (n' := 119) dX9_better_116 rfl (by first | exact nI_inc _ | exact nI_decp (by omega) | exact i_inc _ | rfl) (Nat.le_of_ble_eq_true rfl) rfl (by dsimp only [List.set] <;> rfl) rfl ?_
          refine x_goto (tgt := 71) dX9_better_119 (by decide) ?_
          first | rw [← btS_a1 C105] | rw [← btS_b1 C105]
          first | rw [← btS_a2 C105] | rw [← btS_b2 C105]
          exact x_drop (ih (i + 1) _ _ _ (by omega) (by omega) h3 hok) ⟨rfl, ⟨rfl, ⟨rfl, ⟨rfl, ⟨rfl, ⟨rfl, ⟨rfl, trivial⟩⟩⟩⟩⟩⟩⟩
        · have C105 := c105_6
          refine x_iload (n' := 110) dX9_better_108 rfl rfl ?_
          refine x_istore (n' := 112) dX9_better_110 (Nat.le_of_ble_eq_true rfl) rfl (by dsimp only [List.set] <;> rfl) rfl ?_
          refine x_iload (n' := 114) dX9_better_112 rfl rfl ?_
          refine x_istore (n' := 116) dX9_better_114 (Nat.le_of_ble_eq_true rfl) rfl (by dsimp only [List.set] <;> rfl) rfl ?_
          refine x_iinc (n' := 119) dX9_better_116 rfl (by first | exact nI_inc _ | exact nI_decp (by omega) | exact i_inc _ | rfl) (Nat.le_of_ble_eq_true rfl) rfl (by dsimp only [List.set] <;> rfl) rfl ?_
          refine x_goto (tgt := 71) dX9_better_119 (by decide) ?_
          first | rw [← btS_a1 C105] | rw [← btS_b1 C105]
          first | rw [← btS_a2 C105] | rw [← btS_b2 C105]
          exact x_drop (ih (i + 1) _ _ _ (by omega) (by omega) h3 hok) ⟨rfl, ⟨rfl, ⟨rfl, ⟨rfl, ⟨rfl, ⟨rfl, ⟨rfl, trivial⟩⟩⟩⟩⟩⟩⟩
  refine x_iload_n (n' := 1) dX9_better_0 rfl rfl rfl ?_
  refine x_i2l (n' := 2) dX9_better_1 rfl rfl ?_
  refine x_lconst (n' := 3) (v := 0) dX9_better_2 (by decide) rfl ?_
  refine x_ldc2 (n' := 6) q3355 dX9_better_3 rfl ?_
  refine x_callS (n' := 9) (n := 3) (c_X9_in l G _ _ _ _) dX9_better_6 (lw_S q3321 q3322 q109 q3323) (by decide +kernel) ⟨(Nat.le_of_ble_eq_true rfl), (Nat.le_of_ble_eq_true rfl)⟩ rfl rfl (Nat.le_of_ble_eq_true rfl) (by first | exact Nat.le_of_ble_eq_true rfl | omega) (by first | exact Nat.le_of_ble_eq_true rfl | omega) rfl (fun v_7 M_8 h_10 hE_9 => ?_)
  obtain ⟨rfl, hMs⟩ := h_10
  have hMs := hMs.symm
  subst hMs
  rw [k_in3 (x := 0) (y := 23) (by decide) (by decide)]
  refine x_if_eq (n' := 12) (tgt := 24) dX9_better_9 (by decide) rfl (fun c9_11 => ?_) (fun c9_11 => ?_)
  · have C9 := c9_11
    refine x_aload_n (n' := 25) dX9_better_24 rfl rfl rfl ?_
    refine x_bipush (n' := 27) (v := -102) dX9_better_25 (by decide) rfl ?_
    refine x_topv (y := -(nI (102 + 0))) (by decide) ?_
    refine x_callV (n' := 30) (n := 1) (K := 9) (c_X9_refused l G _ m ad (by repeat' (first | with_reducible exact hS | with_reducible apply MS.sA | with_reducible apply MS.sI | with_reducible apply MS.sL | with_reducible apply MS.sc)) 0 (by decide)) dX9_better_27 (by repeat' (first | with_reducible exact km | with_reducible apply mK_A | with_reducible apply mK_I | with_reducible apply mK_L | with_reducible apply mK_R | with_reducible apply mK_O | with_reducible apply mK_S)) rfl (lw_V q3324 q3326 qs48 q109 q3327) (by decide +kernel) ⟨(Nat.le_of_ble_eq_true rfl), (Nat.le_of_ble_eq_true rfl)⟩ rfl rfl (Nat.le_of_ble_eq_true rfl) (by first | exact Nat.le_of_ble_eq_true rfl | omega) (by first | exact Nat.le_of_ble_eq_true rfl | omega) rfl (fun v_12 M_13 h_15 hE_14 => ?_)
    obtain ⟨rfl, hMs⟩ := h_15
    have hMs := hMs.symm
    subst hMs
    exact x_iret dX9_better_30 hret (by repeat' (first | with_reducible exact kE.rf | with_reducible exact kE_SS | with_reducible apply kE_A | with_reducible apply kE_I | with_reducible apply kE_L | with_reducible apply kE_R | with_reducible apply kE_O | with_reducible apply kE_S)) (⟨fun q => absurd q (by first | exact fun q => bi_0.mp C9 q.1 | exact fun q => bi_0.mp C21 q.2), fun q => absurd q (by first | exact fun q => bi_0.mp C9 q.1 | exact fun q => bi_0.mp C21 q.2), fun _ => ⟨rfl, rfl⟩⟩)
  · have C9 := c9_11
    refine x_iload_n (n' := 13) dX9_better_12 rfl rfl rfl ?_
    refine x_i2l (n' := 14) dX9_better_13 rfl rfl ?_
    refine x_lconst (n' := 15) (v := 0) dX9_better_14 (by decide) rfl ?_
    refine x_ldc2 (n' := 18) q3404 dX9_better_15 rfl ?_
    refine x_callS (n' := 21) (n := 3) (c_X9_in l G _ _ _ _) dX9_better_18 (lw_S q3321 q3322 q109 q3323) (by decide +kernel) ⟨(Nat.le_of_ble_eq_true rfl), (Nat.le_of_ble_eq_true rfl)⟩ rfl rfl (Nat.le_of_ble_eq_true rfl) (by first | exact Nat.le_of_ble_eq_true rfl | omega) (by first | exact Nat.le_of_ble_eq_true rfl | omega) rfl (fun v_16 M_17 h_19 hE_18 => ?_)
    obtain ⟨rfl, hMs⟩ := h_19
    have hMs := hMs.symm
    subst hMs
    rw [k_in3 (x := 0) (y := 200) (by decide) (by decide)]
    refine x_if_ne (n' := 24) (tgt := 31) dX9_better_21 (by decide) rfl (fun c21_20 => ?_) (fun c21_20 => ?_)
    · have C21 := c21_20
      have hok : (0 ≤ b ∧ b ≤ 23) ∧ (0 ≤ a ∧ a ≤ 200) := ⟨bi_n0 C9, bi_n0 C21⟩
      have hn9 := nn_le (n := 200) hok.2.1 hok.2.2 (by decide)
      have hn8 := nn_le (n := 23) hok.1.1 hok.1.2 (by decide)
      refine x_aload_n (n' := 32) dX9_better_31 rfl rfl rfl ?_
      refine x_getRs (n' := 35) (b := (ad 0)) dX9_better_32 (by repeat' (first | with_reducible exact km | with_reducible apply mK_A | with_reducible apply mK_I | with_reducible apply mK_L | with_reducible apply mK_R | with_reducible apply mK_O | with_reducible apply mK_S)) ffX9_9_9 rfl (by repeat' (first | with_reducible exact hr_g | with_reducible apply mR_A | with_reducible apply mR_I | with_reducible apply mR_L | with_reducible apply mR_S)) rfl ?_
      refine x_bipush (n' := 37) (v := 13) dX9_better_35 (by decide) rfl ?_
      refine x_ildk (n' := 38) (N := 2509) dX9_better_37 (by repeat' (first | with_reducible exact kk_g | with_reducible apply mK_A | with_reducible apply mK_I | with_reducible apply mK_L | with_reducible apply mK_R | with_reducible apply mK_O | with_reducible apply mK_S)) (by repeat' (first | with_reducible exact hn_g | with_reducible apply mN_A | with_reducible apply mN_I | with_reducible apply mN_L | with_reducible apply mN_R | with_reducible apply mN_O | with_reducible apply mN_S)) (by repeat' (first | with_reducible exact nl_0 | with_reducible exact nl_13 | with_reducible exact nl_85 | with_reducible exact rfl | apply i_add | apply i_mul)) (by omega) (by decide) ((congrFun mA_SC0 13).trans hw.kk) rfl ?_
      refine x_if_ne (n' := 41) (tgt := 48) dX9_better_38 (by decide) rfl (fun c38_21 => ?_) (fun c38_21 => ?_)
      · have C38 := c38_21
        have N38 := (not_congr (cv_eq (by repeat' (first | with_reducible exact nl_0 | with_reducible exact nl_13 | with_reducible exact nl_85 | with_reducible exact rfl | apply i_add | apply i_mul)) (by repeat' (first | with_reducible exact nl_0 | with_reducible exact nl_13 | with_reducible exact nl_85 | with_reducible exact rfl | apply i_add | apply i_mul)) (by omega) (by omega))).mp c38_21
        refine x_aload_n (n' := 49) dX9_better_48 rfl rfl rfl ?_
        refine x_getRs (n' := 52) (b := (ad 0)) dX9_better_49 (by repeat' (first | with_reducible exact km | with_reducible apply mK_A | with_reducible apply mK_I | with_reducible apply mK_L | with_reducible apply mK_R | with_reducible apply mK_O | with_reducible apply mK_S)) ffX9_9_9 rfl (by repeat' (first | with_reducible exact hr_g | with_reducible apply mR_A | with_reducible apply mR_I | with_reducible apply mR_L | with_reducible apply mR_S)) rfl ?_
        refine x_bipush (n' := 54) (v := 85) dX9_better_52 (by decide) rfl ?_
        refine x_iload_n (n' := 55) dX9_better_54 rfl rfl rfl ?_
        refine x_topv (nn_of hok.1.1) ?_
        refine x_iadd (n' := 56) dX9_better_55 rfl ?_
        refine x_ildk (n' := 57) (N := 2509) dX9_better_56 (by repeat' (first | with_reducible exact kk_g | with_reducible apply mK_A | with_reducible apply mK_I | with_reducible apply mK_L | with_reducible apply mK_R | with_reducible apply mK_O | with_reducible apply mK_S)) (by repeat' (first | with_reducible exact hn_g | with_reducible apply mN_A | with_reducible apply mN_I | with_reducible apply mN_L | with_reducible apply mN_R | with_reducible apply mN_O | with_reducible apply mN_S)) (by repeat' (first | with_reducible exact nl_0 | with_reducible exact nl_13 | with_reducible exact nl_85 | with_reducible exact rfl | apply i_add | apply i_mul)) (by omega) (by decide) (by first | (simp (disch := omega) only [mA_sA, mA_sI, mA_SC0, mA_SC1 hS, mA_SC5 hS, mA_SC6 hS, mA_SC10 hS, mA_SC11 hS, mA_SC12 hS, up_s, up_n, if_false] <;> rfl) | rfl) rfl ?_
        refine x_istore_n (n' := 58) dX9_better_57 rfl (Nat.le_of_ble_eq_true rfl) rfl (by dsimp only [List.set] <;> rfl) rfl ?_
        refine x_aload_n (n' := 59) dX9_better_58 rfl rfl rfl ?_
        refine x_iload_n (n' := 60) dX9_better_59 rfl rfl rfl ?_
        refine x_callV (n' := 63) (n := 1) (K := 9) (c_X9_unlitOf__i l G M m ad hS g sa sf a h nr nk ns hw hok.2.1 (by omega)) dX9_better_60 (by repeat' (first | with_reducible exact km | with_reducible apply mK_A | with_reducible apply mK_I | with_reducible apply mK_L | with_reducible apply mK_R | with_reducible apply mK_O | with_reducible apply mK_S)) rfl (lw_V q3553 q3555 qs72 q109 q3556) (by decide +kernel) ⟨(Nat.le_of_ble_eq_true rfl), (Nat.le_of_ble_eq_true rfl)⟩ rfl rfl (Nat.le_of_ble_eq_true rfl) (by first | exact Nat.le_of_ble_eq_true rfl | omega) (by first | exact Nat.le_of_ble_eq_true rfl | omega) rfl (fun v_22 M_23 h_25 hE_24 => ?_)
        obtain ⟨rfl, X9, sf9, hMs⟩ := h_25
        have hMs := hMs.symm
        subst hMs
        refine x_istore (n' := 65) dX9_better_63 (Nat.le_of_ble_eq_true rfl) rfl (by dsimp only [List.set] <;> rfl) rfl ?_
        refine x_iconst (n' := 66) (v := -1) dX9_better_65 (by decide) rfl ?_
        refine x_istore (n' := 68) dX9_better_66 (Nat.le_of_ble_eq_true rfl) rfl (by dsimp only [List.set] <;> rfl) rfl ?_
        refine x_iconst (n' := 69) (v := 0) dX9_better_68 (by decide) rfl ?_
        refine x_istore (n' := 71) dX9_better_69 (Nat.le_of_ble_eq_true rfl) rfl (by dsimp only [List.set] <;> rfl) rfl ?_
        refine x_mem (M2 := SC M m ad (va_up g (85 + nn b) (g (85 + nn b))) (va_up sa 1 X9) sf9) (by rw [up_eta]) ?_
        exact x_drop (cut71 (nk + 1) 0 _ _ _ (by omega) (by omega) (by omega) hok) ⟨rfl, ⟨rfl, ⟨rfl, ⟨rfl, ⟨rfl, ⟨rfl, ⟨rfl, trivial⟩⟩⟩⟩⟩⟩⟩
      · have C38 := c38_21
        have N38 := (cv_eq (by repeat' (first | with_reducible exact nl_0 | with_reducible exact nl_13 | with_reducible exact nl_85 | with_reducible exact rfl | apply i_add | apply i_mul)) (by repeat' (first | with_reducible exact nl_0 | with_reducible exact nl_13 | with_reducible exact nl_85 | with_reducible exact rfl | apply i_add | apply i_mul)) (by omega) (by omega)).mp c38_21
        refine x_aload_n (n' := 42) dX9_better_41 rfl rfl rfl ?_
        refine x_bipush (n' := 44) (v := -105) dX9_better_42 (by decide) rfl ?_
        refine x_topv (y := -(nI (102 + 3))) (by decide) ?_
        refine x_callV (n' := 47) (n := 1) (K := 9) (c_X9_refused l G _ m ad (by repeat' (first | with_reducible exact hS | with_reducible apply MS.sA | with_reducible apply MS.sI | with_reducible apply MS.sL | with_reducible apply MS.sc)) 3 (by decide)) dX9_better_44 (by repeat' (first | with_reducible exact km | with_reducible apply mK_A | with_reducible apply mK_I | with_reducible apply mK_L | with_reducible apply mK_R | with_reducible apply mK_O | with_reducible apply mK_S)) rfl (lw_V q3324 q3326 qs48 q109 q3327) (by decide +kernel) ⟨(Nat.le_of_ble_eq_true rfl), (Nat.le_of_ble_eq_true rfl)⟩ rfl rfl (Nat.le_of_ble_eq_true rfl) (by first | exact Nat.le_of_ble_eq_true rfl | omega) (by first | exact Nat.le_of_ble_eq_true rfl | omega) rfl (fun v_26 M_27 h_29 hE_28 => ?_)
        obtain ⟨rfl, hMs⟩ := h_29
        have hMs := hMs.symm
        subst hMs
        exact x_iret dX9_better_47 hret (by repeat' (first | with_reducible exact kE.rf | with_reducible exact kE_SS | with_reducible apply kE_A | with_reducible apply kE_I | with_reducible apply kE_L | with_reducible apply kE_R | with_reducible apply kE_O | with_reducible apply kE_S)) (⟨fun _ q => absurd q (by omega), fun _ _ => ⟨rfl, rfl⟩, fun q => absurd hok q⟩)
    · have C21 := c21_20
      refine x_aload_n (n' := 25) dX9_better_24 rfl rfl rfl ?_
      refine x_bipush (n' := 27) (v := -102) dX9_better_25 (by decide) rfl ?_
      refine x_topv (y := -(nI (102 + 0))) (by decide) ?_
      refine x_callV (n' := 30) (n := 1) (K := 9) (c_X9_refused l G _ m ad (by repeat' (first | with_reducible exact hS | with_reducible apply MS.sA | with_reducible apply MS.sI | with_reducible apply MS.sL | with_reducible apply MS.sc)) 0 (by decide)) dX9_better_27 (by repeat' (first | with_reducible exact km | with_reducible apply mK_A | with_reducible apply mK_I | with_reducible apply mK_L | with_reducible apply mK_R | with_reducible apply mK_O | with_reducible apply mK_S)) rfl (lw_V q3324 q3326 qs48 q109 q3327) (by decide +kernel) ⟨(Nat.le_of_ble_eq_true rfl), (Nat.le_of_ble_eq_true rfl)⟩ rfl rfl (Nat.le_of_ble_eq_true rfl) (by first | exact Nat.le_of_ble_eq_true rfl | omega) (by first | exact Nat.le_of_ble_eq_true rfl | omega) rfl (fun v_30 M_31 h_33 hE_32 => ?_)
      obtain ⟨rfl, hMs⟩ := h_33
      have hMs := hMs.symm
      subst hMs
      exact x_iret dX9_better_30 hret (by repeat' (first | with_reducible exact kE.rf | with_reducible exact kE_SS | with_reducible apply kE_A | with_reducible apply kE_I | with_reducible apply kE_L | with_reducible apply kE_R | with_reducible apply kE_O | with_reducible apply kE_S)) (⟨fun q => absurd q (by first | exact fun q => bi_0.mp C9 q.1 | exact fun q => bi_0.mp C21 q.2), fun q => absurd q (by first | exact fun q => bi_0.mp C9 q.1 | exact fun q => bi_0.mp C21 q.2), fun _ => ⟨rfl, rfl⟩⟩)
