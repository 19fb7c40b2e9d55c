theorem may_eq {g : gT} {d t : Prop} [Decidable d] [Decidable t] (h : g 6 = 0 ∨ g 6 = 1) : (if bi d = 0 then (0 : Int32) else if bi t = 0 then (if g 6 = 0 then 0 else if g 7 = 0 then 1 else 0) else 1) = bi (d ∧ (t ∨ (g 6 = 1 ∧ g 7 = 0))) := by
  unfold bi
  by_cases h1 : d <;> by_cases h2 : t <;> by_cases h3 : g 7 = 0 <;> rcases h with h | h <;> simp [h1, h2, h3, h]
theorem lam_eq {g : gT} {d t : Prop} [Decidable d] [Decidable t] : (if bi (d ∧ (t ∨ (g 6 = 1 ∧ g 7 = 0))) = 0 then (0 : Int32) else if g 4 < g 3 then 0 else 1) = bi (lampP g (bi d) (bi t)) := by
  unfold bi lampP
  by_cases h1 : d <;> by_cases h2 : t <;> by_cases h4 : g 4 < g 3 <;> by_cases h3 : g 6 = 1 ∧ g 7 = 0 <;> simp [h1, h2, h3, h4, Int32.not_lt.symm]
  all_goals (try (intro q; exact absurd (Int32.not_lt.mpr q) (by simp [h4])))
theorem ffX1_131_1 : FF "KeptLight$World" 131 1 12 "KeptLight$World" := ⟨by decide, by decide, q711, Or.inl rfl⟩
theorem ffX1_134_1 : FF "KeptLight$World" 134 1 13 "KeptLight$World" := ⟨by decide, by decide, q713, Or.inl rfl⟩
theorem ffX1_137_1 : FF "KeptLight$World" 137 1 14 "KeptLight$World" := ⟨by decide, by decide, q715, Or.inl rfl⟩
theorem ffX1_53_1 : FF "KeptLight$World" 53 1 8 "KeptLight$World" := ⟨by decide, by decide, q703, Or.inl rfl⟩
theorem ffX1_128_1 : FF "KeptLight$World" 128 1 9 "KeptLight$World" := ⟨by decide, by decide, q705, Or.inl rfl⟩
set_option maxHeartbeats 4000000 in
set_option maxRecDepth 100000 in
theorem c_X1_burns (l : Launch) (G : kG) (M : kM) (w : Nat) (a : Nat → Nat) (kf sf : Nat → Nat) (g : gT) (nk nr : Nat) (d t : Prop) [Decidable d] [Decidable t] (h : Nat) (hW : WC G M w a kf sf g nk nr) (h6 : nk ≤ 6) (h20 : nr ≤ 20) (hh : g 0 = nI h) (hb : h < 2147483648) : Kt l G yX1_burns cX1_burns 4 none 3 66 [.ref w, .int (bi d), .int (bi t)] M (0) (0) (fun v M2 => v = none ∧ WC G M2 w a kf sf (lampG g (bi d) (bi t) h) nk nr ∧ FX w M M2) := by
  refine Kt.of (own := "KeptLight$World") (L := [some (.ref w), some (.int (bi d)), some (.int (bi t)), none]) (by decide +kernel) rfl (Nat.le_of_ble_eq_true rfl) rfl ?_
  intro pp ee ss mm args below meth cd hmn hret
  have hF : FX w M M := FX.rf
  have hlt := hW.lit
  refine x_iload_n (n' := 1) dX1_burns_0 rfl rfl rfl ?_
  refine x_fork (J := 27) (x_if_eq (n' := 4) (tgt := 26) dX1_burns_1 (by decide) rfl) (v1 := ?v1_f1_1) (v2 := ?v2_f1_1) (fun c_f1_1 j_f1_1 => ?b1_f1_1) (fun c_f1_1 j_f1_1 => ?b2_f1_1) ?k_f1_1
  case b1_f1_1 =>
    refine x_iconst (n' := 27) (v := 0) dX1_burns_26 (by decide) rfl ?_
    exact j_f1_1
  case b2_f1_1 =>
    refine x_iload_n (n' := 5) dX1_burns_4 rfl rfl rfl ?_
    refine x_forkN (J := 27) (x_if_ne (n' := 8) (tgt := 22) dX1_burns_5 (by decide) rfl) (v1 := ?v1_f5_2) (v2 := ?v2_f5_2) (fun c_f5_2 j_f5_2 => ?b1_f5_2) (fun c_f5_2 j_f5_2 => ?b2_f5_2) ?k_f5_2
    case b1_f5_2 =>
      refine x_iconst (n' := 23) (v := 1) dX1_burns_22 (by decide) rfl ?_
      refine x_goto (tgt := 27) dX1_burns_23 (by decide) ?_
      exact j_f5_2
    case b2_f5_2 =>
      refine x_aload_n (n' := 9) dX1_burns_8 rfl rfl rfl ?_
      refine x_getI (n' := 12) dX1_burns_9 (hW.s.k) ffX1_131_1 rfl rfl ?_
      refine x_topv (show _ = g 6 from hW.i 12 (by decide)) ?_
      refine x_fork (J := 27) (x_if_eq (n' := 15) (tgt := 26) dX1_burns_12 (by decide) rfl) (v1 := ?v1_f12_3) (v2 := ?v2_f12_3) (fun c_f12_3 j_f12_3 => ?b1_f12_3) (fun c_f12_3 j_f12_3 => ?b2_f12_3) ?k_f12_3
      case b1_f12_3 =>
        refine x_iconst (n' := 27) (v := 0) dX1_burns_26 (by decide) rfl ?_
        exact j_f12_3
      case b2_f12_3 =>
        refine x_aload_n (n' := 16) dX1_burns_15 rfl rfl rfl ?_
        refine x_getI (n' := 19) dX1_burns_16 (hW.s.k) ffX1_134_1 rfl rfl ?_
        refine x_topv (show _ = g 7 from hW.i 13 (by decide)) ?_
        refine x_forkN (J := 27) (x_if_ne (n' := 22) (tgt := 26) dX1_burns_19 (by decide) rfl) (v1 := ?v1_f19_4) (v2 := ?v2_f19_4) (fun c_f19_4 j_f19_4 => ?b1_f19_4) (fun c_f19_4 j_f19_4 => ?b2_f19_4) ?k_f19_4
        case b1_f19_4 =>
          refine x_iconst (n' := 27) (v := 0) dX1_burns_26 (by decide) rfl ?_
          exact j_f19_4
        case b2_f19_4 =>
          refine x_iconst (n' := 23) (v := 1) dX1_burns_22 (by decide) rfl ?_
          refine x_goto (tgt := 27) dX1_burns_23 (by decide) ?_
          exact j_f19_4
        exact j_f12_3
      exact j_f5_2
    exact j_f1_1
  refine x_topv (may_eq hlt) ?_
  refine x_istore_n (n' := 28) dX1_burns_27 rfl (Nat.le_of_ble_eq_true rfl) rfl (by dsimp only [List.set] <;> rfl) rfl ?_
  refine x_aload_n (n' := 29) dX1_burns_28 rfl rfl rfl ?_
  refine x_iload_n (n' := 30) dX1_burns_29 rfl rfl rfl ?_
  refine x_fork (J := 53) (x_if_eq (n' := 33) (tgt := 52) dX1_burns_30 (by decide) rfl) (v1 := ?v1_f30_5) (v2 := ?v2_f30_5) (fun c_f30_5 j_f30_5 => ?b1_f30_5) (fun c_f30_5 j_f30_5 => ?b2_f30_5) ?k_f30_5
  case b1_f30_5 =>
    refine x_iconst (n' := 53) (v := 0) dX1_burns_52 (by decide) rfl ?_
    exact j_f30_5
  case b2_f30_5 =>
    refine x_aload_n (n' := 34) dX1_burns_33 rfl rfl rfl ?_
    refine x_getRs (n' := 37) (b := (a 10)) dX1_burns_34 (hW.s.k) ffX1_57_1 rfl (hW.s.r 10 (by decide)) rfl ?_
    refine x_iconst (n' := 38) (v := 3) dX1_burns_37 (by decide) rfl ?_
    refine x_ildk (n' := 39) (N := 5) dX1_burns_38 (hW.s.ak 10 (by decide)) (hW.s.an 10 (by decide)) (by repeat' (first | with_reducible exact nl_0 | with_reducible exact nl_1 | with_reducible exact nl_2 | with_reducible exact nl_3 | with_reducible exact nl_24 | with_reducible exact rfl | apply i_add | apply i_mul)) (by omega) (by decide) (show mA _ (a 10) 3 = g 4 from hW.told 3 (by decide)) rfl ?_
    refine x_aload_n (n' := 40) dX1_burns_39 rfl rfl rfl ?_
    refine x_getRs (n' := 43) (b := (a 10)) dX1_burns_40 (hW.s.k) ffX1_57_1 rfl (hW.s.r 10 (by decide)) rfl ?_
    refine x_iconst (n' := 44) (v := 2) dX1_burns_43 (by decide) rfl ?_
    refine x_ildk (n' := 45) (N := 5) dX1_burns_44 (hW.s.ak 10 (by decide)) (hW.s.an 10 (by decide)) (by repeat' (first | with_reducible exact nl_0 | with_reducible exact nl_1 | with_reducible exact nl_2 | with_reducible exact nl_3 | with_reducible exact nl_24 | with_reducible exact rfl | apply i_add | apply i_mul)) (by omega) (by decide) (show mA _ (a 10) 2 = g 3 from hW.told 2 (by decide)) rfl ?_
    refine x_fork (J := 53) (x_icmp_lt (n' := 48) (tgt := 52) dX1_burns_45 (by decide) rfl) (v1 := ?v1_f45_6) (v2 := ?v2_f45_6) (fun c_f45_6 j_f45_6 => ?b1_f45_6) (fun c_f45_6 j_f45_6 => ?b2_f45_6) ?k_f45_6
    case b1_f45_6 =>
      refine x_iconst (n' := 53) (v := 0) dX1_burns_52 (by decide) rfl ?_
      exact j_f45_6
    case b2_f45_6 =>
      refine x_iconst (n' := 49) (v := 1) dX1_burns_48 (by decide) rfl ?_
      refine x_goto (tgt := 53) dX1_burns_49 (by decide) ?_
      exact j_f45_6
    exact j_f30_5
  refine x_topv lam_eq ?_
  refine x_putI (n' := 56) dX1_burns_53 (hW.s.k) ffX1_131_1 rfl (k_bool (bi_01 _)) rfl rfl ?_
  refine x_gen (X := fun M9 => WC G M9 w a kf sf (va_up g 6 (bi (lampP g (bi d) (bi t)))) nk nr ∧ FX w M M9) ⟨hW.setI h6 h20 12 (by decide) (fun _ => bi_01 _), hF.tr (hW.setIF 12)⟩ (fun M_7 hM9 => ?_)
  obtain ⟨hW, hF⟩ := hM9
  refine x_aload_n (n' := 57) dX1_burns_56 rfl rfl rfl ?_
  refine x_aload_n (n' := 58) dX1_burns_57 rfl rfl rfl ?_
  refine x_getI (n' := 61) dX1_burns_58 (hW.s.k) ffX1_131_1 rfl rfl ?_
  refine x_topv ((hW.i 12 (by decide)).trans (va_up_self _ _ _)) ?_
  refine x_fork (J := 73) (x_if_eq (n' := 64) (tgt := 72) dX1_burns_61 (by decide) rfl) (v1 := ?v1_f61_8) (v2 := ?v2_f61_8) (fun c_f61_8 j_f61_8 => ?b1_f61_8) (fun c_f61_8 j_f61_8 => ?b2_f61_8) ?k_f61_8
  case b1_f61_8 =>
    refine x_iconst (n' := 73) (v := 0) dX1_burns_72 (by decide) rfl ?_
    exact j_f61_8
  case b2_f61_8 =>
    refine x_iload_n (n' := 65) dX1_burns_64 rfl rfl rfl ?_
    refine x_forkN (J := 73) (x_if_ne (n' := 68) (tgt := 72) dX1_burns_65 (by decide) rfl) (v1 := ?v1_f65_9) (v2 := ?v2_f65_9) (fun c_f65_9 j_f65_9 => ?b1_f65_9) (fun c_f65_9 j_f65_9 => ?b2_f65_9) ?k_f65_9
    case b1_f65_9 =>
      refine x_iconst (n' := 73) (v := 0) dX1_burns_72 (by decide) rfl ?_
      exact j_f65_9
    case b2_f65_9 =>
      refine x_iconst (n' := 69) (v := 1) dX1_burns_68 (by decide) rfl ?_
      refine x_goto (tgt := 73) dX1_burns_69 (by decide) ?_
      exact j_f65_9
    exact j_f61_8
  refine x_topv bi_an ?_
  refine x_putI (n' := 76) dX1_burns_73 (hW.s.k) ffX1_134_1 rfl (⟨rfl, rfl⟩) rfl rfl ?_
  refine x_gen (X := fun M9 => WC G M9 w a kf sf (va_up (va_up g 6 (bi (lampP g (bi d) (bi t)))) 7 (bi ((lampP g (bi d) (bi t)) ∧ bi t = 0))) nk nr ∧ FX w M M9) ⟨hW.setI h6 h20 13 (by decide) (fun e => by cases e), hF.tr (hW.setIF 13)⟩ (fun M_10 hM9 => ?_)
  obtain ⟨hW, hF⟩ := hM9
  refine x_aload_n (n' := 77) dX1_burns_76 rfl rfl rfl ?_
  refine x_getRs (n' := 80) (b := (a 10)) dX1_burns_77 (hW.s.k) ffX1_57_1 rfl (hW.s.r 10 (by decide)) rfl ?_
  refine x_iconst (n' := 81) (v := 3) dX1_burns_80 (by decide) rfl ?_
  refine x_dup2_11 (n' := 82) dX1_burns_81 rfl rfl rfl ?_
  refine x_ildk (n' := 83) (N := 5) dX1_burns_82 (hW.s.ak 10 (by decide)) (hW.s.an 10 (by decide)) (by repeat' (first | with_reducible exact nl_0 | with_reducible exact nl_1 | with_reducible exact nl_2 | with_reducible exact nl_3 | with_reducible exact nl_24 | with_reducible exact rfl | apply i_add | apply i_mul)) (by omega) (by decide) ((hW.told 3 (by decide)).trans ((va_up_ne _ _ (by decide)).trans ((va_up_ne _ _ (by decide)).trans (rfl)))) rfl ?_
  refine x_aload_n (n' := 84) dX1_burns_83 rfl rfl rfl ?_
  refine x_getI (n' := 87) dX1_burns_84 (hW.s.k) ffX1_131_1 rfl rfl ?_
  refine x_topv ((hW.i 12 (by decide)).trans ((va_up_ne _ _ (by decide)).trans (va_up_self _ _ _))) ?_
  refine x_fork (J := 100) (x_if_eq (n' := 90) (tgt := 99) dX1_burns_87 (by decide) rfl) (v1 := ?v1_f87_11) (v2 := ?v2_f87_11) (fun c_f87_11 j_f87_11 => ?b1_f87_11) (fun c_f87_11 j_f87_11 => ?b2_f87_11) ?k_f87_11
  case b1_f87_11 =>
    refine x_iconst (n' := 100) (v := 0) dX1_burns_99 (by decide) rfl ?_
    exact j_f87_11
  case b2_f87_11 =>
    refine x_aload_n (n' := 91) dX1_burns_90 rfl rfl rfl ?_
    refine x_getRs (n' := 94) (b := (a 10)) dX1_burns_91 (hW.s.k) ffX1_57_1 rfl (hW.s.r 10 (by decide)) rfl ?_
    refine x_iconst (n' := 95) (v := 2) dX1_burns_94 (by decide) rfl ?_
    refine x_ildk (n' := 96) (N := 5) dX1_burns_95 (hW.s.ak 10 (by decide)) (hW.s.an 10 (by decide)) (by repeat' (first | with_reducible exact nl_0 | with_reducible exact nl_1 | with_reducible exact nl_2 | with_reducible exact nl_3 | with_reducible exact nl_24 | with_reducible exact rfl | apply i_add | apply i_mul)) (by omega) (by decide) ((hW.told 2 (by decide)).trans ((va_up_ne _ _ (by decide)).trans ((va_up_ne _ _ (by decide)).trans (rfl)))) rfl ?_
    refine x_goto (tgt := 100) dX1_burns_96 (by decide) ?_
    exact j_f87_11
  refine x_topv bi_ite ?_
  refine x_isub (n' := 101) dX1_burns_100 rfl ?_
  refine x_iastk (n' := 102) (N := 5) dX1_burns_101 (hW.s.ak 10 (by decide)) (hW.s.an 10 (by decide)) (by repeat' (first | with_reducible exact nl_0 | with_reducible exact nl_1 | with_reducible exact nl_2 | with_reducible exact nl_3 | with_reducible exact nl_24 | with_reducible exact rfl | apply i_add | apply i_mul)) (by omega) (by decide) (by first | with_reducible exact mA_sA | with_reducible exact mA_SC0 | with_reducible exact mA_SC1 hS | with_reducible exact mA_SC5 hS | with_reducible exact mA_SC6 hS | with_reducible exact mA_SC10 hS | with_reducible exact mA_SC11 hS | with_reducible exact mA_SC12 hS | with_reducible exact mA_sI_sA | with_reducible exact mA_sI3_sA | rfl) (by first | with_reducible exact SC_A0 | with_reducible exact SC_A1 hS | with_reducible exact SC_A5 hS | with_reducible exact SC_A6 hS | with_reducible exact SC_A10 hS | with_reducible exact SC_A11 hS | with_reducible exact SC_A12 hS | with_reducible exact sA_sA | with_reducible exact sA_sI_sA | with_reducible exact sA_sI3_sA | rfl) rfl ?_
  refine x_gen (X := fun M9 => WC G M9 w a kf sf (lamp3 g (bi d) (bi t)) nk nr ∧ FX w M M9) ⟨(by have z := hW.setTold h6 h20 (i := 3) (v := g 4 - (if (lampP g (bi d) (bi t)) then g 3 else 0)) (by decide); rw [show va_up (va_up (va_up g 6 (bi (lampP g (bi d) (bi t)))) 7 (bi ((lampP g (bi d) (bi t)) ∧ bi t = 0))) (1 + 3) _ = (lamp3 g (bi d) (bi t)) from up_cm _ (by decide) _ _] at z; exact z), hF.tr (hW.setA 10 (by decide))⟩ (fun M_12 hM9 => ?_)
  obtain ⟨hW, hF⟩ := hM9
  refine x_iload_n (n' := 103) dX1_burns_102 rfl rfl rfl ?_
  refine x_if_eq (n' := 106) (tgt := 137) dX1_burns_103 (by decide) rfl (fun c103_13 => ?_) (fun c103_13 => ?_)
  · have C103 := c103_13
    exact x_vret dX1_burns_137 hret hF.kE (⟨rfl, (by first | (rw [lamp_a C103]; exact hW) | (rw [lamp_b C110]; exact hW) | (rw [lamp_c C103 C110]; exact hW)), hF⟩)
  · have C103 := c103_13
    refine x_aload_n (n' := 107) dX1_burns_106 rfl rfl rfl ?_
    refine x_getI (n' := 110) dX1_burns_107 (hW.s.k) ffX1_131_1 rfl rfl ?_
    refine x_topv ((hW.i 12 (by decide)).trans ((va_up_ne _ _ (by decide)).trans ((va_up_ne _ _ (by decide)).trans (va_up_self _ _ _)))) ?_
    refine x_if_ne (n' := 113) (tgt := 137) dX1_burns_110 (by decide) rfl (fun c110_14 => ?_) (fun c110_14 => ?_)
    · have C110 := c110_14
      exact x_vret dX1_burns_137 hret hF.kE (⟨rfl, (by first | (rw [lamp_a C103]; exact hW) | (rw [lamp_b C110]; exact hW) | (rw [lamp_c C103 C110]; exact hW)), hF⟩)
    · have C110 := c110_14
      refine x_aload_n (n' := 114) dX1_burns_113 rfl rfl rfl ?_
      refine x_dup (n' := 115) dX1_burns_114 rfl rfl ?_
      refine x_getI (n' := 118) dX1_burns_115 (hW.s.k) ffX1_137_1 rfl rfl ?_
      refine x_topv ((hW.i 14 (by decide)).trans ((va_up_ne _ _ (by decide)).trans ((va_up_ne _ _ (by decide)).trans ((va_up_ne _ _ (by decide)).trans (rfl))))) ?_
      refine x_iconst (n' := 119) (v := 1) dX1_burns_118 (by decide) rfl ?_
      refine x_iadd (n' := 120) dX1_burns_119 rfl ?_
      refine x_putI (n' := 123) dX1_burns_120 (hW.s.k) ffX1_137_1 rfl (⟨rfl, rfl⟩) rfl rfl ?_
      refine x_gen (X := fun M9 => WC G M9 w a kf sf (va_up (lamp3 g (bi d) (bi t)) 16 (g 16 + 1)) nk nr ∧ FX w M M9) ⟨hW.setI h6 h20 14 (by decide) (fun e => by cases e), hF.tr (hW.setIF 14)⟩ (fun M_15 hM9 => ?_)
      obtain ⟨hW, hF⟩ := hM9
      refine x_aload_n (n' := 124) dX1_burns_123 rfl rfl rfl ?_
      refine x_getRs (n' := 127) (b := (a 8)) dX1_burns_124 (hW.s.k) ffX1_53_1 rfl (hW.s.r 8 (by decide)) rfl ?_
      refine x_aload_n (n' := 128) dX1_burns_127 rfl rfl rfl ?_
      refine x_getI (n' := 131) dX1_burns_128 (hW.s.k) ffX1_128_1 rfl rfl ?_
      refine x_topv ((hW.i 9 (by decide)).trans (((va_up_ne _ _ (by decide)).trans ((va_up_ne _ _ (by decide)).trans ((va_up_ne _ _ (by decide)).trans ((va_up_ne _ _ (by decide)).trans (rfl))))).trans hh)) ?_
      refine x_bipush (n' := 133) (v := 24) dX1_burns_131 (by decide) rfl ?_
      refine x_irem (n' := 134) dX1_burns_133 (by decide) rfl ?_
      refine x_topv (rem24 hb) ?_
      refine x_callV (n' := 137) (n := 1) (K := 46) (c_J6_set l G _ (a 8) (a 30) (w + 1) _ (h % 24) hW.bt (Nat.mod_lt _ (by decide))) dX1_burns_134 (hW.bt.1) rfl (lw_V q2605 q2606 q2607 q91 q2608) (by decide +kernel) ⟨(Nat.le_of_ble_eq_true rfl), (Nat.le_of_ble_eq_true rfl)⟩ rfl rfl (Nat.le_of_ble_eq_true rfl) (by first | exact Nat.le_of_ble_eq_true rfl | omega) (by first | exact Nat.le_of_ble_eq_true rfl | omega) rfl (fun v_16 M_17 h_19 hE_18 => ?_)
      obtain ⟨rfl, hMs⟩ := h_19
      have hMs := hMs.symm
      subst hMs
      have hF8 := hW.setBF (v := (va_up (lamp3 g (bi d) (bi t)) 16 (g 16 + 1)) 17 ||| (1 : Int32) <<< (nI (h % 24) &&& 31))
      have hW8 := hW.setBits h6 h20 (v := (va_up (lamp3 g (bi d) (bi t)) 16 (g 16 + 1)) 17 ||| (1 : Int32) <<< (nI (h % 24) &&& 31))
      have hW := hW8
      have hF := hF.tr hF8
      exact x_vret dX1_burns_137 hret hF.kE (⟨rfl, (by first | (rw [lamp_a C103]; exact hW) | (rw [lamp_b C110]; exact hW) | (rw [lamp_c C103 C110]; exact hW)), hF⟩)
