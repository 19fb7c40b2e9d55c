theorem bot_eq {g : gT} {h wt : Nat} {d : Int32} (hw : wt < 3) : (if g 8 = -1 then (0 : Int32) else if nI h < g 8 then 0 else if bi (wt = 2) = 0 then (if d = 0 then 1 else 0) else 0) = bi (boatP g h (nI wt) d) := by
  have e : (wt = 2) = (nI wt = 2) := propext (nI_eq (b := 2) (by omega) (by decide)).symm
  unfold bi
  by_cases h1 : g 8 = -1
  · rw [if_pos h1, if_neg (fun q => q.1 h1)]
  · rw [if_neg h1]
    by_cases h2 : nI h < g 8
    · rw [if_pos h2, if_neg (fun q => absurd h2 (Int32.not_lt.mpr q.2.1))]
    · rw [if_neg h2]
      by_cases h3 : wt = 2
      · rw [if_pos h3, if_neg (by decide), if_neg (fun q => q.2.2.1 (e ▸ h3))]
      · rw [if_neg h3, if_pos rfl]
        by_cases h4 : d = 0
        · rw [if_pos h4, if_pos ⟨h1, Int32.not_lt.mp h2, fun q => h3 (e ▸ q), h4⟩]
        · rw [if_neg h4, if_neg (fun q => h4 q.2.2.2)]
theorem sup_e {g : gT} {h : Nat} : va_up (va_up (va_up (va_up g 18 (g 18 + 1)) (1 + 3) (mnI 9999 (g 4 + g 10))) (1 + 4) (mnI 9999 (g 5 + g 11))) (8 + 0) (nI h + g 9) = supG g h := by
  unfold supG
  rw [show 1 + 3 = 4 from rfl, show 1 + 4 = 5 from rfl, show 8 + 0 = 8 from rfl, up_cm g (i := 18) (j := 4) (by decide), up_cm (va_up g 4 _) (i := 18) (j := 5) (by decide), up_cm (va_up (va_up g 4 _) 5 _) (i := 18) (j := 8) (by decide)]
theorem ffX1_60_1 : FF "KeptLight$World" 60 1 11 "KeptLight$World" := ⟨by decide, by decide, q709, Or.inl rfl⟩
theorem ffX1_263_7 : FF "KeptLight$World" 263 7 0 "KeptLight$Sight" := ⟨by decide, by decide, q267, Or.inl rfl⟩
theorem ffX1_218_7 : FF "KeptLight$World" 218 7 1 "KeptLight$Sight" := ⟨by decide, by decide, q271, Or.inl rfl⟩
theorem ffX1_140_1 : FF "KeptLight$World" 140 1 15 "KeptLight$World" := ⟨by decide, by decide, q717, Or.inl rfl⟩
set_option maxHeartbeats 4000000 in
set_option maxRecDepth 100000 in
theorem c_X1_lands (l : Launch) (G : kG) (M : kM) (w : Nat) (a : Nat → Nat) (kf sf : Nat → Nat) (g : gT) (nk nr : Nat) (sg wt h : Nat) (d lt sn : Int32) (hW : WC G M w a kf sf g nk nr) (h6 : nk ≤ 6) (h20 : nr ≤ 20) (hs : SGP G M sg wt d lt sn) (hh : g 0 = nI h) : Kt l G yX1_lands cX1_lands 4 none 3 64 [.ref w, .ref sg] M (0) (0) (fun v M2 => v = none ∧ WC G M2 w a kf sf (hg9 g h nk (bi (boatP g h (nI wt) d))) nk nr ∧ FX w M M2) := by
  refine Kt.of (own := "KeptLight$World") (L := [some (.ref w), some (.ref sg), none, none]) (by decide +kernel) rfl (Nat.le_of_ble_eq_true rfl) rfl ?_
  intro pp ee ss mm args below meth cd hmn hret
  have hF : FX w M M := FX.rf
  have hwt := hs.2.2.2.2.2.1
  have cut130 : ∀ (fuel : Nat) (k : Nat) (M1 : kM) (h1 : nk - k < fuel) (h2 : k ≤ nk) (hb9 : ¬ bi (boatP g h (nI wt) d) = 0) (hW : WC G M1 w a kf sf (rstG (supG g h) k) nk nr) (hF : FX w M M1), Wx pp l ee { frames := 3, cells := 0, slots := 0, locals := 64 } ss mm args below meth cd "KeptLight$World" cX1_lands 4 G (MQ below (KQ G M (fun v M2 => v = none ∧ WC G M2 w a kf sf (hg9 g h nk (bi (boatP g h (nI wt) d))) nk nr ∧ FX w M M2)) args ss (0) (0) (kA G)) 130 [some (.ref w), some (.ref sg), none, some (.int (nI k))] [] (M1) (0) (0) := by
    intro fuel
    induction fuel with
    | zero => intro k M1 h1 h2 hb9 hW hF; omega
    | succ fuel ih =>
      intro k M1 h1 h2 hb9 hW hF
      refine x_iload_n (n' := 131) dX1_lands_130 rfl rfl rfl ?_
      refine x_aload_n (n' := 132) dX1_lands_131 rfl rfl rfl ?_
      refine x_getRs (n' := 135) (b := (a 0)) dX1_lands_132 (hW.s.k) ffX1_31_1 rfl (hW.s.r 0 (by decide)) rfl ?_
      refine x_callV (n' := 138) (n := 0) (K := 45) (c_J5_size l G _ (a 0) nk (a 40) kf hW.kl) dX1_lands_135 (hW.kl.kk) rfl (lw_V q2653 q959 q960 q90 q961) (by decide +kernel) ⟨(Nat.le_of_ble_eq_true rfl), (Nat.le_of_ble_eq_true rfl)⟩ rfl rfl (Nat.le_of_ble_eq_true rfl) (by first | exact Nat.le_of_ble_eq_true rfl | omega) (by first | exact Nat.le_of_ble_eq_true rfl | omega) rfl (fun v_1 M_2 h_4 hE_3 => ?_)
      obtain ⟨rfl, hMs⟩ := h_4
      have hMs := hMs.symm
      subst hMs
      refine x_icmp_ge (n' := 141) (tgt := 162) dX1_lands_138 (by decide) rfl (fun c138_5 => ?_) (fun c138_5 => ?_)
      · have n_c138_5 := (cv_le (by repeat' (first | with_reducible exact nl_0 | with_reducible exact nl_1 | with_reducible exact nl_2 | with_reducible exact nl_3 | with_reducible exact nl_4 | with_reducible exact nl_9999 | with_reducible exact rfl | apply i_add | apply i_mul)) (by repeat' (first | with_reducible exact nl_0 | with_reducible exact nl_1 | with_reducible exact nl_2 | with_reducible exact nl_3 | with_reducible exact nl_4 | with_reducible exact nl_9999 | with_reducible exact rfl | apply i_add | apply i_mul)) (by omega) (by omega)).mp c138_5
        exact x_vret dX1_lands_162 hret hF.kE (⟨rfl, (by have e9 : k = nk := (by omega); rw [hg9_b hb9]; rw [e9] at hW; exact hW), hF⟩)
      · have n_c138_5 := (not_congr (cv_le (by repeat' (first | with_reducible exact nl_0 | with_reducible exact nl_1 | with_reducible exact nl_2 | with_reducible exact nl_3 | with_reducible exact nl_4 | with_reducible exact nl_9999 | with_reducible exact rfl | apply i_add | apply i_mul)) (by repeat' (first | with_reducible exact nl_0 | with_reducible exact nl_1 | with_reducible exact nl_2 | with_reducible exact nl_3 | with_reducible exact nl_4 | with_reducible exact nl_9999 | with_reducible exact rfl | apply i_add | apply i_mul)) (by omega) (by omega))).mp c138_5
        refine x_aload_n (n' := 142) dX1_lands_141 rfl rfl rfl ?_
        refine x_getRs (n' := 145) (b := (a 0)) dX1_lands_142 (hW.s.k) ffX1_31_1 rfl (hW.s.r 0 (by decide)) rfl ?_
        refine x_iload_n (n' := 146) dX1_lands_145 rfl rfl rfl ?_
        refine x_callV (n' := 149) (n := 1) (K := 45) (c_J5_get l G _ (a 0) nk (a 40) kf k hW.kl (by omega)) dX1_lands_146 (hW.kl.kk) rfl (lw_V q2579 q963 q964 q90 q965) (by decide +kernel) ⟨(Nat.le_of_ble_eq_true rfl), (Nat.le_of_ble_eq_true rfl)⟩ rfl rfl (Nat.le_of_ble_eq_true rfl) (by first | exact Nat.le_of_ble_eq_true rfl | omega) (by first | exact Nat.le_of_ble_eq_true rfl | omega) rfl (fun v_6 M_7 h_9 hE_8 => ?_)
        obtain ⟨rfl, hMs⟩ := h_9
        have hMs := hMs.symm
        subst hMs
        refine x_castE (n' := 152) dX1_lands_149 ((hW.kp (by omega : k < nk)).1) rfl q2584 rfl ?_
        refine x_iconst (n' := 153) (v := 0) dX1_lands_152 (by decide) rfl ?_
        refine x_putI (n' := 156) dX1_lands_153 ((hW.kp (by omega : k < nk)).1) ffX1_251_15 rfl (⟨rfl, rfl⟩) rfl rfl ?_
        refine x_gen (X := fun M9 => WC G M9 w a kf sf (rstG (supG g h) (k + 1)) nk nr ∧ FX w M M9) ⟨(by have z := hW.setK h6 h20 (v := 0) 2 (by omega : k < nk) (Or.inl rfl); rw [show 61 + 4 * k + (2 - 1) = 61 + 4 * k + 1 from rfl, rst_s] at z; exact z), hF.tr (hW.setKF (by omega))⟩ (fun M_10 hM9 => ?_)
        obtain ⟨hW, hF⟩ := hM9
        refine x_iinc (n' := 159) dX1_lands_156 rfl (by first | exact nI_inc _ | exact nI_decp (by omega) | exact i_inc _ | rfl) (Nat.le_of_ble_eq_true rfl) rfl (by dsimp only [List.set] <;> rfl) rfl ?_
        refine x_goto (tgt := 130) dX1_lands_159 (by decide) ?_
        exact x_drop (ih (k + 1) _ (by omega) (by omega) hb9 hW hF) ⟨rfl, ⟨rfl, ⟨rfl, trivial⟩⟩⟩
  refine x_aload_n (n' := 1) dX1_lands_0 rfl rfl rfl ?_
  refine x_getRs (n' := 4) (b := (a 11)) dX1_lands_1 (hW.s.k) ffX1_60_1 rfl (hW.s.r 11 (by decide)) rfl ?_
  refine x_iconst (n' := 5) (v := 0) dX1_lands_4 (by decide) rfl ?_
  refine x_ildk (n' := 6) (N := 4) dX1_lands_5 (hW.s.ak 11 (by decide)) (hW.s.an 11 (by decide)) (by repeat' (first | with_reducible exact nl_0 | with_reducible exact nl_1 | with_reducible exact nl_2 | with_reducible exact nl_3 | with_reducible exact nl_4 | with_reducible exact nl_9999 | with_reducible exact rfl | apply i_add | apply i_mul)) (by omega) (by decide) (show mA _ (a 11) 0 = g 8 from hW.boat 0 (by decide)) rfl ?_
  refine x_iconst (n' := 7) (v := -1) dX1_lands_6 (by decide) rfl ?_
  refine x_fork (J := 45) (x_icmp_eq (n' := 10) (tgt := 44) dX1_lands_7 (by decide) rfl) (v1 := ?v1_f7_11) (v2 := ?v2_f7_11) (fun c_f7_11 j_f7_11 => ?b1_f7_11) (fun c_f7_11 j_f7_11 => ?b2_f7_11) ?k_f7_11
  case b1_f7_11 =>
    refine x_iconst (n' := 45) (v := 0) dX1_lands_44 (by decide) rfl ?_
    exact j_f7_11
  case b2_f7_11 =>
    refine x_aload_n (n' := 11) dX1_lands_10 rfl rfl rfl ?_
    refine x_getI (n' := 14) dX1_lands_11 (hW.s.k) ffX1_128_1 rfl rfl ?_
    refine x_topv ((hW.i 9 (by decide)).trans hh) ?_
    refine x_aload_n (n' := 15) dX1_lands_14 rfl rfl rfl ?_
    refine x_getRs (n' := 18) (b := (a 11)) dX1_lands_15 (hW.s.k) ffX1_60_1 rfl (hW.s.r 11 (by decide)) rfl ?_
    refine x_iconst (n' := 19) (v := 0) dX1_lands_18 (by decide) rfl ?_
    refine x_ildk (n' := 20) (N := 4) dX1_lands_19 (hW.s.ak 11 (by decide)) (hW.s.an 11 (by decide)) (by repeat' (first | with_reducible exact nl_0 | with_reducible exact nl_1 | with_reducible exact nl_2 | with_reducible exact nl_3 | with_reducible exact nl_4 | with_reducible exact nl_9999 | with_reducible exact rfl | apply i_add | apply i_mul)) (by omega) (by decide) (show mA _ (a 11) 0 = g 8 from hW.boat 0 (by decide)) rfl ?_
    refine x_fork (J := 45) (x_icmp_lt (n' := 23) (tgt := 44) dX1_lands_20 (by decide) rfl) (v1 := ?v1_f20_12) (v2 := ?v2_f20_12) (fun c_f20_12 j_f20_12 => ?b1_f20_12) (fun c_f20_12 j_f20_12 => ?b2_f20_12) ?k_f20_12
    case b1_f20_12 =>
      refine x_iconst (n' := 45) (v := 0) dX1_lands_44 (by decide) rfl ?_
      exact j_f20_12
    case b2_f20_12 =>
      refine x_aload_n (n' := 24) dX1_lands_23 rfl rfl rfl ?_
      refine x_getRs (n' := 27) (b := (G.2.2.2 wt)) dX1_lands_24 (hs.1) ffX1_263_7 rfl (hs.2.1) rfl ?_
      refine x_disp3k (hs.2.2.2.2.2.2) (wi_k hwt) (fun e8 hk8 k8 => x_callK (n' := 30) (K := 200) (v := 0) (x := ⟨"KeptLight$Weather", "isWild", "()Z"⟩) (y := yX6_isWild) (owner := "KeptLight$Weather") dX1_lands_27 hk8 rfl q2760 q1035 (Or.inr ⟨q1034, _, _, _, q1041⟩) (by decide) q1036 q1034 q1041 (by decide +kernel) (by decide +kernel) (Or.inl ⟨_, dX6_isWild_0, rfl, dX6_isWild_1⟩) (by decide +kernel) ⟨(Nat.le_of_ble_eq_true rfl), (Nat.le_of_ble_eq_true rfl)⟩ (Nat.le_of_ble_eq_true rfl) rfl (x_topv (wi_w (w := wt) (i := 0) (by decide) e8 rfl) k8)) (fun e8 hk8 k8 => x_callK (n' := 30) (K := 201) (v := 0) (x := ⟨"KeptLight$Weather", "isWild", "()Z"⟩) (y := yX6_isWild) (owner := "KeptLight$Weather") dX1_lands_27 hk8 rfl q2760 q1035 (Or.inr ⟨q1034, _, _, _, q1041⟩) (by decide) q1037 q1034 q1041 (by decide +kernel) (by decide +kernel) (Or.inl ⟨_, dX6_isWild_0, rfl, dX6_isWild_1⟩) (by decide +kernel) ⟨(Nat.le_of_ble_eq_true rfl), (Nat.le_of_ble_eq_true rfl)⟩ (Nat.le_of_ble_eq_true rfl) rfl (x_topv (wi_w (w := wt) (i := 1) (by decide) e8 rfl) k8)) (fun e8 hk8 k8 => x_callK (n' := 30) (K := 202) (v := 1) (x := ⟨"KeptLight$Weather", "isWild", "()Z"⟩) (y := yX29_isWild) (owner := "KeptLight$Weather") dX1_lands_27 hk8 rfl q2760 q1035 (Or.inr ⟨q1034, _, _, _, q1041⟩) (by decide) q1038 q1039 q1040 (by decide +kernel) (by decide +kernel) (Or.inl ⟨_, dX29_isWild_0, rfl, dX29_isWild_1⟩) (by decide +kernel) ⟨(Nat.le_of_ble_eq_true rfl), (Nat.le_of_ble_eq_true rfl)⟩ (Nat.le_of_ble_eq_true rfl) rfl (x_topv (wi_w (w := wt) (i := 2) (by decide) e8 rfl) k8)) ?_
      refine x_forkN (J := 45) (x_if_ne (n' := 33) (tgt := 44) dX1_lands_30 (by decide) rfl) (v1 := ?v1_f30_13) (v2 := ?v2_f30_13) (fun c_f30_13 j_f30_13 => ?b1_f30_13) (fun c_f30_13 j_f30_13 => ?b2_f30_13) ?k_f30_13
      case b1_f30_13 =>
        refine x_iconst (n' := 45) (v := 0) dX1_lands_44 (by decide) rfl ?_
        exact j_f30_13
      case b2_f30_13 =>
        refine x_aload_n (n' := 34) dX1_lands_33 rfl rfl rfl ?_
        refine x_getI (n' := 37) dX1_lands_34 (hs.1) ffX1_218_7 rfl rfl ?_
        refine x_topv hs.2.2.1 ?_
        refine x_forkN (J := 45) (x_if_ne (n' := 40) (tgt := 44) dX1_lands_37 (by decide) rfl) (v1 := ?v1_f37_14) (v2 := ?v2_f37_14) (fun c_f37_14 j_f37_14 => ?b1_f37_14) (fun c_f37_14 j_f37_14 => ?b2_f37_14) ?k_f37_14
        case b1_f37_14 =>
          refine x_iconst (n' := 45) (v := 0) dX1_lands_44 (by decide) rfl ?_
          exact j_f37_14
        case b2_f37_14 =>
          refine x_iconst (n' := 41) (v := 1) dX1_lands_40 (by decide) rfl ?_
          refine x_goto (tgt := 45) dX1_lands_41 (by decide) ?_
          exact j_f37_14
        exact j_f30_13
      exact j_f20_12
    exact j_f7_11
  refine x_topv (bot_eq hwt) ?_
  refine x_istore_n (n' := 46) dX1_lands_45 rfl (Nat.le_of_ble_eq_true rfl) rfl (by dsimp only [List.set] <;> rfl) rfl ?_
  refine x_iload_n (n' := 47) dX1_lands_46 rfl rfl rfl ?_
  refine x_if_ne (n' := 50) (tgt := 51) dX1_lands_47 (by decide) rfl (fun c47_15 => ?_) (fun c47_15 => ?_)
  · have C47 := c47_15
    refine x_aload_n (n' := 52) dX1_lands_51 rfl rfl rfl ?_
    refine x_dup (n' := 53) dX1_lands_52 rfl rfl ?_
    refine x_getI (n' := 56) dX1_lands_53 (hW.s.k) ffX1_140_1 rfl rfl ?_
    refine x_topv (show _ = g 18 from hW.i 15 (by decide)) ?_
    refine x_iconst (n' := 57) (v := 1) dX1_lands_56 (by decide) rfl ?_
    refine x_iadd (n' := 58) dX1_lands_57 rfl ?_
    refine x_putI (n' := 61) dX1_lands_58 (hW.s.k) ffX1_140_1 rfl (⟨rfl, rfl⟩) rfl rfl ?_
    refine x_gen (X := fun M9 => WC G M9 w a kf sf (va_up g 18 (g 18 + 1)) nk nr ∧ FX w M M9) ⟨hW.setI h6 h20 15 (by decide) (fun e => by cases e), hF.tr (hW.setIF 15)⟩ (fun M_16 hM9 => ?_)
    obtain ⟨hW, hF⟩ := hM9
    refine x_aload_n (n' := 62) dX1_lands_61 rfl rfl rfl ?_
    refine x_getRs (n' := 65) (b := (a 10)) dX1_lands_62 (hW.s.k) ffX1_57_1 rfl (hW.s.r 10 (by decide)) rfl ?_
    refine x_iconst (n' := 66) (v := 3) dX1_lands_65 (by decide) rfl ?_
    refine x_sipush (n' := 69) (v := 9999) dX1_lands_66 (by decide) rfl ?_
    refine x_aload_n (n' := 70) dX1_lands_69 rfl rfl rfl ?_
    refine x_getRs (n' := 73) (b := (a 10)) dX1_lands_70 (hW.s.k) ffX1_57_1 rfl (hW.s.r 10 (by decide)) rfl ?_
    refine x_iconst (n' := 74) (v := 3) dX1_lands_73 (by decide) rfl ?_
    refine x_ildk (n' := 75) (N := 5) dX1_lands_74 (hW.s.ak 10 (by decide)) (hW.s.an 10 (by decide)) (by repeat' (first | with_reducible exact nl_0 | with_reducible exact nl_1 | with_reducible exact nl_2 | with_reducible exact nl_3 | with_reducible exact nl_4 | with_reducible exact nl_9999 | with_reducible exact rfl | apply i_add | apply i_mul)) (by omega) (by decide) ((hW.told 3 (by decide)).trans ((va_up_ne _ _ (by decide)).trans (rfl))) rfl ?_
    refine x_aload_n (n' := 76) dX1_lands_75 rfl rfl rfl ?_
    refine x_getRs (n' := 79) (b := (a 11)) dX1_lands_76 (hW.s.k) ffX1_60_1 rfl (hW.s.r 11 (by decide)) rfl ?_
    refine x_iconst (n' := 80) (v := 2) dX1_lands_79 (by decide) rfl ?_
    refine x_ildk (n' := 81) (N := 4) dX1_lands_80 (hW.s.ak 11 (by decide)) (hW.s.an 11 (by decide)) (by repeat' (first | with_reducible exact nl_0 | with_reducible exact nl_1 | with_reducible exact nl_2 | with_reducible exact nl_3 | with_reducible exact nl_4 | with_reducible exact nl_9999 | with_reducible exact rfl | apply i_add | apply i_mul)) (by omega) (by decide) ((hW.boat 2 (by decide)).trans ((va_up_ne _ _ (by decide)).trans (rfl))) rfl ?_
    refine x_iadd (n' := 82) dX1_lands_81 rfl ?_
    refine x_mmin (n' := 85) dX1_lands_82 q2761 q496 q101 q497 ⟨(Nat.le_of_ble_eq_true rfl), (Nat.le_of_ble_eq_true rfl)⟩ (Nat.le_of_ble_eq_true rfl) rfl ?_
    refine x_topv (y := mnI 9999 (g 4 + g 10)) rfl ?_
    refine x_iastk (n' := 86) (N := 5) dX1_lands_85 (hW.s.ak 10 (by decide)) (hW.s.an 10 (by decide)) (by repeat' (first | with_reducible exact nl_0 | with_reducible exact nl_1 | with_reducible exact nl_2 | with_reducible exact nl_3 | with_reducible exact nl_4 | with_reducible exact nl_9999 | with_reducible exact rfl | apply i_add | apply i_mul)) (by omega) (by decide) (by first | with_reducible exact mA_sA | with_reducible exact mA_SC0 | with_reducible exact mA_SC1 hS | with_reducible exact mA_SC5 hS | with_reducible exact mA_SC6 hS | with_reducible exact mA_SC10 hS | with_reducible exact mA_SC11 hS | with_reducible exact mA_SC12 hS | with_reducible exact mA_sI_sA | with_reducible exact mA_sI3_sA | rfl) (by first | with_reducible exact SC_A0 | with_reducible exact SC_A1 hS | with_reducible exact SC_A5 hS | with_reducible exact SC_A6 hS | with_reducible exact SC_A10 hS | with_reducible exact SC_A11 hS | with_reducible exact SC_A12 hS | with_reducible exact sA_sA | with_reducible exact sA_sI_sA | with_reducible exact sA_sI3_sA | rfl) rfl ?_
    refine x_gen (X := fun M9 => WC G M9 w a kf sf (va_up (va_up g 18 (g 18 + 1)) (1 + 3) (mnI 9999 (g 4 + g 10))) nk nr ∧ FX w M M9) ⟨hW.setTold h6 h20 (i := 3) (by decide), hF.tr (hW.setA 10 (by decide))⟩ (fun M_17 hM9 => ?_)
    obtain ⟨hW, hF⟩ := hM9
    refine x_aload_n (n' := 87) dX1_lands_86 rfl rfl rfl ?_
    refine x_getRs (n' := 90) (b := (a 10)) dX1_lands_87 (hW.s.k) ffX1_57_1 rfl (hW.s.r 10 (by decide)) rfl ?_
    refine x_iconst (n' := 91) (v := 4) dX1_lands_90 (by decide) rfl ?_
    refine x_sipush (n' := 94) (v := 9999) dX1_lands_91 (by decide) rfl ?_
    refine x_aload_n (n' := 95) dX1_lands_94 rfl rfl rfl ?_
    refine x_getRs (n' := 98) (b := (a 10)) dX1_lands_95 (hW.s.k) ffX1_57_1 rfl (hW.s.r 10 (by decide)) rfl ?_
    refine x_iconst (n' := 99) (v := 4) dX1_lands_98 (by decide) rfl ?_
    refine x_ildk (n' := 100) (N := 5) dX1_lands_99 (hW.s.ak 10 (by decide)) (hW.s.an 10 (by decide)) (by repeat' (first | with_reducible exact nl_0 | with_reducible exact nl_1 | with_reducible exact nl_2 | with_reducible exact nl_3 | with_reducible exact nl_4 | with_reducible exact nl_9999 | with_reducible exact rfl | apply i_add | apply i_mul)) (by omega) (by decide) ((hW.told 4 (by decide)).trans ((va_up_ne _ _ (by decide)).trans ((va_up_ne _ _ (by decide)).trans (rfl)))) rfl ?_
    refine x_aload_n (n' := 101) dX1_lands_100 rfl rfl rfl ?_
    refine x_getRs (n' := 104) (b := (a 11)) dX1_lands_101 (hW.s.k) ffX1_60_1 rfl (hW.s.r 11 (by decide)) rfl ?_
    refine x_iconst (n' := 105) (v := 3) dX1_lands_104 (by decide) rfl ?_
    refine x_ildk (n' := 106) (N := 4) dX1_lands_105 (hW.s.ak 11 (by decide)) (hW.s.an 11 (by decide)) (by repeat' (first | with_reducible exact nl_0 | with_reducible exact nl_1 | with_reducible exact nl_2 | with_reducible exact nl_3 | with_reducible exact nl_4 | with_reducible exact nl_9999 | with_reducible exact rfl | apply i_add | apply i_mul)) (by omega) (by decide) ((hW.boat 3 (by decide)).trans ((va_up_ne _ _ (by decide)).trans ((va_up_ne _ _ (by decide)).trans (rfl)))) rfl ?_
    refine x_iadd (n' := 107) dX1_lands_106 rfl ?_
    refine x_mmin (n' := 110) dX1_lands_107 q2761 q496 q101 q497 ⟨(Nat.le_of_ble_eq_true rfl), (Nat.le_of_ble_eq_true rfl)⟩ (Nat.le_of_ble_eq_true rfl) rfl ?_
    refine x_topv (y := mnI 9999 (g 5 + g 11)) rfl ?_
    refine x_iastk (n' := 111) (N := 5) dX1_lands_110 (hW.s.ak 10 (by decide)) (hW.s.an 10 (by decide)) (by repeat' (first | with_reducible exact nl_0 | with_reducible exact nl_1 | with_reducible exact nl_2 | with_reducible exact nl_3 | with_reducible exact nl_4 | with_reducible exact nl_9999 | with_reducible exact rfl | apply i_add | apply i_mul)) (by omega) (by decide) (by first | with_reducible exact mA_sA | with_reducible exact mA_SC0 | with_reducible exact mA_SC1 hS | with_reducible exact mA_SC5 hS | with_reducible exact mA_SC6 hS | with_reducible exact mA_SC10 hS | with_reducible exact mA_SC11 hS | with_reducible exact mA_SC12 hS | with_reducible exact mA_sI_sA | with_reducible exact mA_sI3_sA | rfl) (by first | with_reducible exact SC_A0 | with_reducible exact SC_A1 hS | with_reducible exact SC_A5 hS | with_reducible exact SC_A6 hS | with_reducible exact SC_A10 hS | with_reducible exact SC_A11 hS | with_reducible exact SC_A12 hS | with_reducible exact sA_sA | with_reducible exact sA_sI_sA | with_reducible exact sA_sI3_sA | rfl) rfl ?_
    refine x_gen (X := fun M9 => WC G M9 w a kf sf (va_up (va_up (va_up g 18 (g 18 + 1)) (1 + 3) (mnI 9999 (g 4 + g 10))) (1 + 4) (mnI 9999 (g 5 + g 11))) nk nr ∧ FX w M M9) ⟨hW.setTold h6 h20 (i := 4) (by decide), hF.tr (hW.setA 10 (by decide))⟩ (fun M_18 hM9 => ?_)
    obtain ⟨hW, hF⟩ := hM9
    refine x_aload_n (n' := 112) dX1_lands_111 rfl rfl rfl ?_
    refine x_getRs (n' := 115) (b := (a 11)) dX1_lands_112 (hW.s.k) ffX1_60_1 rfl (hW.s.r 11 (by decide)) rfl ?_
    refine x_iconst (n' := 116) (v := 0) dX1_lands_115 (by decide) rfl ?_
    refine x_aload_n (n' := 117) dX1_lands_116 rfl rfl rfl ?_
    refine x_getI (n' := 120) dX1_lands_117 (hW.s.k) ffX1_128_1 rfl rfl ?_
    refine x_topv ((hW.i 9 (by decide)).trans (((va_up_ne _ _ (by decide)).trans ((va_up_ne _ _ (by decide)).trans ((va_up_ne _ _ (by decide)).trans (rfl)))).trans hh)) ?_
    refine x_aload_n (n' := 121) dX1_lands_120 rfl rfl rfl ?_
    refine x_getRs (n' := 124) (b := (a 11)) dX1_lands_121 (hW.s.k) ffX1_60_1 rfl (hW.s.r 11 (by decide)) rfl ?_
    refine x_iconst (n' := 125) (v := 1) dX1_lands_124 (by decide) rfl ?_
    refine x_ildk (n' := 126) (N := 4) dX1_lands_125 (hW.s.ak 11 (by decide)) (hW.s.an 11 (by decide)) (by repeat' (first | with_reducible exact nl_0 | with_reducible exact nl_1 | with_reducible exact nl_2 | with_reducible exact nl_3 | with_reducible exact nl_4 | with_reducible exact nl_9999 | with_reducible exact rfl | apply i_add | apply i_mul)) (by omega) (by decide) ((hW.boat 1 (by decide)).trans ((va_up_ne _ _ (by decide)).trans ((va_up_ne _ _ (by decide)).trans ((va_up_ne _ _ (by decide)).trans (rfl))))) rfl ?_
    refine x_iadd (n' := 127) dX1_lands_126 rfl ?_
    refine x_iastk (n' := 128) (N := 4) dX1_lands_127 (hW.s.ak 11 (by decide)) (hW.s.an 11 (by decide)) (by repeat' (first | with_reducible exact nl_0 | with_reducible exact nl_1 | with_reducible exact nl_2 | with_reducible exact nl_3 | with_reducible exact nl_4 | with_reducible exact nl_9999 | with_reducible exact rfl | apply i_add | apply i_mul)) (by omega) (by decide) (by first | with_reducible exact mA_sA | with_reducible exact mA_SC0 | with_reducible exact mA_SC1 hS | with_reducible exact mA_SC5 hS | with_reducible exact mA_SC6 hS | with_reducible exact mA_SC10 hS | with_reducible exact mA_SC11 hS | with_reducible exact mA_SC12 hS | with_reducible exact mA_sI_sA | with_reducible exact mA_sI3_sA | rfl) (by first | with_reducible exact SC_A0 | with_reducible exact SC_A1 hS | with_reducible exact SC_A5 hS | with_reducible exact SC_A6 hS | with_reducible exact SC_A10 hS | with_reducible exact SC_A11 hS | with_reducible exact SC_A12 hS | with_reducible exact sA_sA | with_reducible exact sA_sI_sA | with_reducible exact sA_sI3_sA | rfl) rfl ?_
    refine x_gen (X := fun M9 => WC G M9 w a kf sf (supG g h) nk nr ∧ FX w M M9) ⟨(by have z := hW.setBoat h6 h20 (i := 0) (v := nI h + g 9) (by decide); rw [sup_e] at z; exact z), hF.tr (hW.setA 11 (by decide))⟩ (fun M_19 hM9 => ?_)
    obtain ⟨hW, hF⟩ := hM9
    refine x_iconst (n' := 129) (v := 0) dX1_lands_128 (by decide) rfl ?_
    refine x_istore_n (n' := 130) dX1_lands_129 rfl (Nat.le_of_ble_eq_true rfl) rfl (by dsimp only [List.set] <;> rfl) rfl ?_
    exact x_drop (cut130 (nk + 1) 0 _ (by omega) (by omega) C47 (by rw [rst_0]; exact hW) hF) ⟨rfl, ⟨rfl, ⟨rfl, trivial⟩⟩⟩
  · have C47 := c47_15
    exact x_vret dX1_lands_50 hret hF.kE (⟨rfl, (by rw [hg9_a C47]; exact hW), hF⟩)

theorem ffX1_35_1 : FF "KeptLight$World" 35 1 1 "KeptLight$World" := ⟨by decide, by decide, q692, Or.inl rfl⟩
set_option maxHeartbeats 800000 in
set_option maxRecDepth 100000 in
theorem c_X1_without (l : Launch) (G : kG) (M : kM) (w : Nat) (a : Nat → Nat) (kf sf : Nat → Nat) (g : gT) (nk nr : Nat) (v : Int32) (hW : WC G M w a kf sf g nk nr) (h6 : nk ≤ 6) (h20 : nr ≤ 20) : Kt l G yX1_without cX1_without 3 (some (.object "KeptLight$World")) 0 0 [.ref w, .int v] M (0) (0) (fun v9 M2 => v9 = some (.ref w) ∧ WC G M2 w a kf sf (noN g v 24) nk nr ∧ FX w M M2) := by
  refine Kt.of (own := "KeptLight$World") (L := [some (.ref w), some (.int v), none]) (by decide +kernel) rfl (Nat.le_of_ble_eq_true rfl) rfl ?_
  intro pp ee ss mm args below meth cd hmn hret
  have hF0 : FX w M M := FX.rf
  have cut2 : ∀ (fuel : Nat) (i : Nat) (M1 : kM) (h1 : 24 - i < fuel) (h2 : i ≤ 24) (hW : WC G M1 w a kf sf (noN g v i) nk nr) (hF : FX w M M1), Wx pp l ee { frames := 0, cells := 0, slots := 0, locals := 0 } ss mm args below meth cd "KeptLight$World" cX1_without 3 G (MQ below (KQ G M (fun v9 M2 => v9 = some (.ref w) ∧ WC G M2 w a kf sf (noN g v 24) nk nr ∧ FX w M M2)) args ss (0) (0) (kA G)) 2 [some (.ref w), some (.int v), some (.int (nI i))] [] (M1) (0) (0) := by
    intro fuel
    induction fuel with
    | zero => intro i M1 h1 h2 hW hF; omega
    | succ fuel ih =>
      intro i M1 h1 h2 hW hF
      refine x_iload_n (n' := 3) dX1_without_2 rfl rfl rfl ?_
      refine x_bipush (n' := 5) (v := 24) dX1_without_3 (by decide) rfl ?_
      refine x_icmp_ge (n' := 8) (tgt := 40) dX1_without_5 (by decide) rfl (fun c5_1 => ?_) (fun c5_1 => ?_)
      · have n_c5_1 := (cv_le (by repeat' (first | with_reducible exact nl_0 | with_reducible exact nl_24 | with_reducible exact rfl | apply i_add | apply i_mul)) (by repeat' (first | with_reducible exact nl_0 | with_reducible exact nl_24 | with_reducible exact rfl | apply i_add | apply i_mul)) (by omega) (by omega)).mp c5_1
        refine x_aload_n (n' := 41) dX1_without_40 rfl rfl rfl ?_
        exact x_aret dX1_without_41 hret (Or.inl ⟨_, rfl⟩) hF.kE (⟨rfl, (by have e9 : i = 24 := (by omega); rw [e9] at hW; exact hW), hF⟩)
      · have n_c5_1 := (not_congr (cv_le (by repeat' (first | with_reducible exact nl_0 | with_reducible exact nl_24 | with_reducible exact rfl | apply i_add | apply i_mul)) (by repeat' (first | with_reducible exact nl_0 | with_reducible exact nl_24 | with_reducible exact rfl | apply i_add | apply i_mul)) (by omega) (by omega))).mp c5_1
        refine x_aload_n (n' := 9) dX1_without_8 rfl rfl rfl ?_
        refine x_getRs (n' := 12) (b := (a 1)) dX1_without_9 (hW.s.k) ffX1_35_1 rfl (hW.s.r 1 (by decide)) rfl ?_
        refine x_iload_n (n' := 13) dX1_without_12 rfl rfl rfl ?_
        refine x_aload_n (n' := 14) dX1_without_13 rfl rfl rfl ?_
        refine x_getRs (n' := 17) (b := (a 1)) dX1_without_14 (hW.s.k) ffX1_35_1 rfl (hW.s.r 1 (by decide)) rfl ?_
        refine x_iload_n (n' := 18) dX1_without_17 rfl rfl rfl ?_
        refine x_ildk (n' := 19) (N := 24) dX1_without_18 (hW.s.ak 1 (by decide)) (hW.s.an 1 (by decide)) (by repeat' (first | with_reducible exact nl_0 | with_reducible exact nl_24 | with_reducible exact rfl | apply i_add | apply i_mul)) (by omega) (by decide) ((hW.plan i (by omega)).trans (noN_at g v i)) rfl ?_
        refine x_iload_n (n' := 20) dX1_without_19 rfl rfl rfl ?_
        refine x_forkN (J := 33) (x_icmp_ne (n' := 23) (tgt := 27) dX1_without_20 (by decide) rfl) (v1 := ?v1_f20_2) (v2 := ?v2_f20_2) (fun c_f20_2 j_f20_2 => ?b1_f20_2) (fun c_f20_2 j_f20_2 => ?b2_f20_2) ?k_f20_2
        case b1_f20_2 =>
          refine x_aload_n (n' := 28) dX1_without_27 rfl rfl rfl ?_
          refine x_getRs (n' := 31) (b := (a 1)) dX1_without_28 (hW.s.k) ffX1_35_1 rfl (hW.s.r 1 (by decide)) rfl ?_
          refine x_iload_n (n' := 32) dX1_without_31 rfl rfl rfl ?_
          refine x_ildk (n' := 33) (N := 24) dX1_without_32 (hW.s.ak 1 (by decide)) (hW.s.an 1 (by decide)) (by repeat' (first | with_reducible exact nl_0 | with_reducible exact nl_24 | with_reducible exact rfl | apply i_add | apply i_mul)) (by omega) (by decide) ((hW.plan i (by omega)).trans (noN_at g v i)) rfl ?_
          exact j_f20_2
        case b2_f20_2 =>
          refine x_iconst (n' := 24) (v := -1) dX1_without_23 (by decide) rfl ?_
          refine x_goto (tgt := 33) dX1_without_24 (by decide) ?_
          exact j_f20_2
        refine x_topv (y := if g (85 + i) = v then -1 else g (85 + i)) (by grind) ?_
        refine x_iastk (n' := 34) (N := 24) dX1_without_33 (hW.s.ak 1 (by decide)) (hW.s.an 1 (by decide)) (by repeat' (first | with_reducible exact nl_0 | with_reducible exact nl_24 | with_reducible exact rfl | apply i_add | apply i_mul)) (by omega) (by decide) (by first | with_reducible exact mA_sA | with_reducible exact mA_SC0 | with_reducible exact mA_SC1 hS | with_reducible exact mA_SC5 hS | with_reducible exact mA_SC6 hS | with_reducible exact mA_SC10 hS | with_reducible exact mA_SC11 hS | with_reducible exact mA_SC12 hS | with_reducible exact mA_sI_sA | with_reducible exact mA_sI3_sA | rfl) (by first | with_reducible exact SC_A0 | with_reducible exact SC_A1 hS | with_reducible exact SC_A5 hS | with_reducible exact SC_A6 hS | with_reducible exact SC_A10 hS | with_reducible exact SC_A11 hS | with_reducible exact SC_A12 hS | with_reducible exact sA_sA | with_reducible exact sA_sI_sA | with_reducible exact sA_sI3_sA | rfl) rfl ?_
        refine x_gen (X := fun M9 => WC G M9 w a kf sf (noN g v (i + 1)) nk nr ∧ FX w M M9) ⟨(by have z := hW.setPlan h6 h20 (i := i) (v := if g (85 + i) = v then -1 else g (85 + i)) (by omega); rw [noN_s] at z; exact z), hF.tr (hW.setA 1 (by decide))⟩ (fun M_3 hM9 => ?_)
        obtain ⟨hW, hF⟩ := hM9
        refine x_iinc (n' := 37) dX1_without_34 rfl (by first | exact nI_inc _ | exact nI_decp (by omega) | exact i_inc _ | rfl) (Nat.le_of_ble_eq_true rfl) rfl (by dsimp only [List.set] <;> rfl) rfl ?_
        refine x_goto (tgt := 2) dX1_without_37 (by decide) ?_
        exact x_drop (ih (i + 1) _ (by omega) (by omega) hW hF) ⟨rfl, ⟨rfl, ⟨rfl, trivial⟩⟩⟩
  refine x_iconst (n' := 1) (v := 0) dX1_without_0 (by decide) rfl ?_
  refine x_istore_n (n' := 2) dX1_without_1 rfl (Nat.le_of_ble_eq_true rfl) rfl (by dsimp only [List.set] <;> rfl) rfl ?_
  exact x_drop (cut2 25 0 _ (by omega) (by omega) (by rw [noN_0]; exact hW) hF0) ⟨rfl, ⟨rfl, ⟨rfl, trivial⟩⟩⟩

theorem ffX1_63_1 : FF "KeptLight$World" 63 1 16 "KeptLight$World" := ⟨by decide, by decide, q719, Or.inl rfl⟩
set_option maxHeartbeats 800000 in
set_option maxRecDepth 100000 in
theorem c_X1_draw (l : Launch) (G : kG) (M : kM) (w : Nat) (a : Nat → Nat) (kf sf : Nat → Nat) (g : gT) (nk nr : Nat) (n : Int32) (hW : WC G M w a kf sf g nk nr) (h6 : nk ≤ 6) (h20 : nr ≤ 20) (h0 : ¬ n = 0) : Kt l G yX1_draw cX1_draw 2 (some .int) 0 0 [.ref w, .int n] M (0) (0) (fun v9 M2 => v9 = some (.int (drwG g n)) ∧ WC G M2 w a kf sf (va_up g 19 (rndG g)) nk nr ∧ FX w M M2) := by
  refine Kt.of (own := "KeptLight$World") (L := [some (.ref w), some (.int n)]) (by decide +kernel) rfl (Nat.le_of_ble_eq_true rfl) rfl ?_
  intro pp ee ss mm args below meth cd hmn hret
  have hF : FX w M M := FX.rf
  refine x_aload_n (n' := 1) dX1_draw_0 rfl rfl rfl ?_
  refine x_aload_n (n' := 2) dX1_draw_1 rfl rfl rfl ?_
  refine x_getI (n' := 5) dX1_draw_2 (hW.s.k) ffX1_63_1 rfl rfl ?_
  refine x_topv (show _ = g 19 from hW.i 16 (by decide)) ?_
  refine x_ldcw (n' := 8) q3100 dX1_draw_5 rfl ?_
  refine x_imul (n' := 9) dX1_draw_8 rfl ?_
  refine x_sipush (n' := 12) (v := 12345) dX1_draw_9 (by decide) rfl ?_
  refine x_iadd (n' := 13) dX1_draw_12 rfl ?_
  refine x_topv (y := rndG g) rfl ?_
  refine x_putI (n' := 16) dX1_draw_13 (hW.s.k) ffX1_63_1 rfl (⟨rfl, rfl⟩) rfl rfl ?_
  refine x_gen (X := fun M9 => WC G M9 w a kf sf (va_up g 19 (rndG g)) nk nr ∧ FX w M M9) ⟨hW.setI h6 h20 16 (by decide) (fun e => by cases e), hF.tr (hW.setIF 16)⟩ (fun M_1 hM9 => ?_)
  obtain ⟨hW, hF⟩ := hM9
  refine x_aload_n (n' := 17) dX1_draw_16 rfl rfl rfl ?_
  refine x_getI (n' := 20) dX1_draw_17 (hW.s.k) ffX1_63_1 rfl rfl ?_
  refine x_topv ((hW.i 16 (by decide)).trans (va_up_self _ _ _)) ?_
  refine x_bipush (n' := 22) (v := 16) dX1_draw_20 (by decide) rfl ?_
  refine x_iushr (n' := 23) dX1_draw_22 rfl rfl ?_
  refine x_iload_n (n' := 24) dX1_draw_23 rfl rfl rfl ?_
  refine x_irem (n' := 25) dX1_draw_24 h0 rfl ?_
  exact x_iret dX1_draw_25 hret hF.kE (⟨rfl, hW, hF⟩)

theorem ffX1_17_1 : FF "KeptLight$World" 17 1 3 "KeptLight$World" := ⟨by decide, by decide, q696, Or.inl rfl⟩
set_option maxHeartbeats 800000 in
set_option maxRecDepth 100000 in
theorem c_X1_manyAt (l : Launch) (G : kG) (M : kM) (w : Nat) (a : Nat → Nat) (kf sf : Nat → Nat) (g : gT) (nk nr : Nat) (t q : Nat) (T : kT) (sa : Nat → Nat) (rl : Nat → List Nat) (ex : Nat → Prop) (z : Nat) (hW : WC G M w a kf sf g nk nr) (hC : CM G M (a 3) t q T sa rl ex) (hz : z < BB) : Kt l G yX1_manyAt cX1_manyAt 3 (some .int) 5 109 [.ref w, .int (nI z)] M (0) (0) (fun v M2 => v = some (.int (nI (rl z).length)) ∧ M2 = sI M (fc 4 0) q (nI z)) := by
  refine Kt.of (own := "KeptLight$World") (L := [some (.ref w), some (.int (nI z)), none]) (by decide +kernel) rfl (Nat.le_of_ble_eq_true rfl) rfl ?_
  intro pp ee ss mm args below meth cd hmn hret
  refine x_aload_n (n' := 1) dX1_manyAt_0 rfl rfl rfl ?_
  refine x_getRs (n' := 4) (b := (a 3)) dX1_manyAt_1 (hW.s.k) ffX1_17_1 rfl (hW.s.r 3 (by decide)) rfl ?_
  refine x_iload_n (n' := 5) dX1_manyAt_4 rfl rfl rfl ?_
  refine x_callV (n' := 8) (n := 1) (K := 2) (c_X2_at l G _ (a 3) t q T sa rl ex z hC hz) dX1_manyAt_5 (hC.1.1) rfl (lw_V q2652 q2152 q2153 q79 q2154) (by decide +kernel) ⟨(Nat.le_of_ble_eq_true rfl), (Nat.le_of_ble_eq_true rfl)⟩ rfl rfl (Nat.le_of_ble_eq_true rfl) (by first | exact Nat.le_of_ble_eq_true rfl | omega) (by first | exact Nat.le_of_ble_eq_true rfl | omega) rfl (fun v_1 M_2 h_4 hE_3 => ?_)
  obtain ⟨rfl, hMs⟩ := h_4
  have hMs := hMs.symm
  subst hMs
  refine x_topq (fun hl9 => ?_) (fun l9 hl9 => ?_)
  · refine x_astore_nN (n' := 9) dX1_manyAt_8 rfl (Nat.le_of_ble_eq_true rfl) rfl (by dsimp only [List.set] <;> rfl) rfl ?_
    refine x_aload_nN (n' := 10) dX1_manyAt_9 rfl rfl rfl ?_
    refine x_ifnonnullN (n' := 13) dX1_manyAt_10 rfl ?_
    refine x_iconst (n' := 14) (v := 0) dX1_manyAt_13 (by decide) rfl ?_
    refine x_goto (tgt := 21) dX1_manyAt_14 (by decide) ?_
    exact x_iret dX1_manyAt_21 hret (by repeat' (first | with_reducible exact kE.rf | with_reducible exact hE_3 | with_reducible apply kE_A | with_reducible apply kE_I | with_reducible apply kE_L | with_reducible apply kE_R | with_reducible apply kE_O | with_reducible apply kE_G | with_reducible refine kE.tr ?_ hE_3)) (⟨by rw [show rl z = [] from hC.2.2.2.1 z hz hl9]; rfl, rfl⟩)
  · refine x_astore_n (n' := 9) dX1_manyAt_8 rfl (Nat.le_of_ble_eq_true rfl) rfl (by dsimp only [List.set] <;> rfl) rfl ?_
    refine x_aload_n (n' := 10) dX1_manyAt_9 rfl rfl rfl ?_
    refine x_ifnonnull (tgt := 17) dX1_manyAt_10 (by decide) ?_
    obtain ⟨cp, hA⟩ := (hC.asked (v := nI z).2.2.2.2.1 z l9 hl9).1
    refine x_aload_n (n' := 18) dX1_manyAt_17 rfl rfl rfl ?_
    refine x_callV (n' := 21) (n := 0) (K := 45) (c_J5_size l G _ l9 _ cp _ hA) dX1_manyAt_18 (hC.asked.lk hl9) rfl (lw_V q2653 q959 q960 q90 q961) (by decide +kernel) ⟨(Nat.le_of_ble_eq_true rfl), (Nat.le_of_ble_eq_true rfl)⟩ rfl rfl (Nat.le_of_ble_eq_true rfl) (by first | exact Nat.le_of_ble_eq_true rfl | omega) (by first | exact Nat.le_of_ble_eq_true rfl | omega) rfl (fun v_5 M_6 h_8 hE_7 => ?_)
    obtain ⟨rfl, hMs⟩ := h_8
    have hMs := hMs.symm
    subst hMs
    exact x_iret dX1_manyAt_21 hret (by repeat' (first | with_reducible exact kE.rf | with_reducible exact hE_3 | with_reducible exact hE_7 | with_reducible apply kE_A | with_reducible apply kE_I | with_reducible apply kE_L | with_reducible apply kE_R | with_reducible apply kE_O | with_reducible apply kE_G | with_reducible refine kE.tr ?_ hE_3 | with_reducible refine kE.tr ?_ hE_7)) (⟨rfl, rfl⟩)

set_option maxHeartbeats 800000 in
set_option maxRecDepth 100000 in
theorem c_X1_shipAt (l : Launch) (G : kG) (M : kM) (w : Nat) (a : Nat → Nat) (kf sf : Nat → Nat) (g : gT) (nk nr : Nat) (t q : Nat) (T : kT) (sa : Nat → Nat) (rl : Nat → List Nat) (ex : Nat → Prop) (z i : Nat) (kd : Nat → Int32) (hW : WC G M w a kf sf g nk nr) (hC : CM G M (a 3) t q T sa rl ex) (hz : z < BB) (hi : i < (rl z).length) (hN : ∀ s ∈ rl z, NM M (a 3) (sa s) s (kd s)) : Kt l G yX1_shipAt cX1_shipAt 3 (some (.object "KeptLight$Ship")) 5 109 [.ref w, .int (nI z), .int (nI i)] M (0) (0) (fun v M2 => v = some (.ref (sa ((rl z).getD i 0))) ∧ M2 = sI M (fc 4 0) q (nI z)) := by
  refine Kt.of (own := "KeptLight$World") (L := [some (.ref w), some (.int (nI z)), some (.int (nI i))]) (by decide +kernel) rfl (Nat.le_of_ble_eq_true rfl) rfl ?_
  intro pp ee ss mm args below meth cd hmn hret
  refine x_aload_n (n' := 1) dX1_shipAt_0 rfl rfl rfl ?_
  refine x_getRs (n' := 4) (b := (a 3)) dX1_shipAt_1 (hW.s.k) ffX1_17_1 rfl (hW.s.r 3 (by decide)) rfl ?_
  refine x_iload_n (n' := 5) dX1_shipAt_4 rfl rfl rfl ?_
  refine x_callV (n' := 8) (n := 1) (K := 2) (c_X2_at l G _ (a 3) t q T sa rl ex z hC hz) dX1_shipAt_5 (hC.1.1) rfl (lw_V q2652 q2152 q2153 q79 q2154) (by decide +kernel) ⟨(Nat.le_of_ble_eq_true rfl), (Nat.le_of_ble_eq_true rfl)⟩ rfl rfl (Nat.le_of_ble_eq_true rfl) (by first | exact Nat.le_of_ble_eq_true rfl | omega) (by first | exact Nat.le_of_ble_eq_true rfl | omega) rfl (fun v_1 M_2 h_4 hE_3 => ?_)
  obtain ⟨rfl, hMs⟩ := h_4
  have hMs := hMs.symm
  subst hMs
  obtain ⟨l9, hl9⟩ : ∃ l9, mT T z = some l9 := by cases e9 : mT T z with | some l => exact ⟨l, rfl⟩ | none => (have a9 := hC.2.2.2.1 z hz e9; rw [a9] at hi; exact absurd hi (Nat.not_lt_zero _))
  refine x_topr hl9 ?_
  obtain ⟨cp, hA⟩ := (hC.asked (v := nI z).2.2.2.2.1 z l9 hl9).1
  obtain ⟨Ke, hKe, hCe, -⟩ := hN _ (gD_mem hi)
  refine x_iload_n (n' := 9) dX1_shipAt_8 rfl rfl rfl ?_
  refine x_callV (n' := 12) (n := 1) (K := 45) (c_J5_get l G _ l9 _ cp _ i hA hi) dX1_shipAt_9 (hA.kk) rfl (lw_V q2579 q963 q964 q90 q965) (by decide +kernel) ⟨(Nat.le_of_ble_eq_true rfl), (Nat.le_of_ble_eq_true rfl)⟩ rfl rfl (Nat.le_of_ble_eq_true rfl) (by first | exact Nat.le_of_ble_eq_true rfl | omega) (by first | exact Nat.le_of_ble_eq_true rfl | omega) rfl (fun v_5 M_6 h_8 hE_7 => ?_)
  obtain ⟨rfl, hMs⟩ := h_8
  have hMs := hMs.symm
  subst hMs
  refine x_castY (n' := 15) (K := Ke) dX1_shipAt_12 (by repeat' (first | with_reducible exact hKe | with_reducible apply mK_A | with_reducible apply mK_I | with_reducible apply mK_L | with_reducible apply mK_R | with_reducible apply mK_O | with_reducible apply mK_G | with_reducible refine mK_NA ?_ (by assumption) | with_reducible refine mK_NO ?_ (by assumption) | with_reducible refine kE.ap hE_3 ?_ | with_reducible refine kE.ap hE_7 ?_)) q2658 (ship_cast hCe) rfl ?_
  exact x_aret dX1_shipAt_15 hret (Or.inl ⟨_, rfl⟩) (by repeat' (first | with_reducible exact kE.rf | with_reducible exact hE_3 | with_reducible exact hE_7 | with_reducible apply kE_A | with_reducible apply kE_I | with_reducible apply kE_L | with_reducible apply kE_R | with_reducible apply kE_O | with_reducible apply kE_G | with_reducible refine kE.tr ?_ hE_3 | with_reducible refine kE.tr ?_ hE_7)) (⟨rfl, rfl⟩)
