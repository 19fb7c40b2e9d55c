set_option maxHeartbeats 4000000 in
set_option maxRecDepth 100000 in
theorem c_X9_passesShips (l : Launch) (G : kG) (M : kM) (m : Nat) (ad : Nat → Nat) (hS : MS M m ad) (d t w who : Int32) (ns : Nat) (hs : mA M (ad 0) 14 = nI ns) (hb : ns ≤ 200) (hL : LK (mA M (ad 0))) : Kt l G yX9_passesShips cX9_passesShips 11 none 2 47 [.ref m, .int d, .int t, .int w, .int who] M (0) (0) (fun v M2 => v = none ∧ M2 = sA M (ad 0) (shAll (mA M (ad 0)) ((mA M (ad 0)) 0) ns d t w who)) := by
  refine Kt.of (own := "KeptLightModel") (L := [some (.ref m), some (.int d), some (.int t), some (.int w), some (.int who), none, none, none, none, none, none]) (by decide +kernel) rfl (Nat.le_of_ble_eq_true rfl) rfl ?_
  intro pp ee ss mm args below meth cd hmn hret
  have hE0 : kE M M := kE.rf
  have km := hS.1
  obtain ⟨hr_g, kk_g, hn_g⟩ := hS.2.1 0 (by decide)
  have hn_g : mN M (ad 0) = 2509 := hn_g
  have kk_g : mK M (ad 0) = some 120 := kk_g
  have cut11 : ∀ (fuel : Nat) (i : Nat) (h1 : 1001 - i < fuel) (h2 : i ≤ 1000), Wx pp l ee { frames := 2, cells := 0, slots := 0, locals := 47 } ss mm args below meth cd "KeptLightModel" cX9_passesShips 11 G (MQ below (KQ G M (fun v M2 => v = none ∧ M2 = sA M (ad 0) (shAll (mA M (ad 0)) ((mA M (ad 0)) 0) ns d t w who))) args ss (0) (0) (kA G)) 11 [some (.ref m), some (.int d), some (.int t), some (.int w), some (.int who), some (.int ((mA M (ad 0)) 0)), some (.int (nI i)), none, none, none, none] [] (sA M (ad 0) (shN (mA M (ad 0)) ((mA M (ad 0)) 0) ns d t w who i)) (0) (0) := by
    intro fuel
    induction fuel with
    | zero => intro i h1 h2; omega
    | succ fuel ih =>
      intro i h1 h2
      have hsg : Sg (mA M (ad 0)) (shN (mA M (ad 0)) ((mA M (ad 0)) 0) ns d t w who i) := shN_Sg hb
      have e14 : (shN (mA M (ad 0)) ((mA M (ad 0)) 0) ns d t w who i) 14 = nI ns := (hsg.1 14 (Or.inr (by unfold kpI; omega))).trans hs
      refine x_aload_n (n' := 12) dX9_passesShips_11 rfl rfl rfl ?_
      refine x_iload (n' := 14) dX9_passesShips_12 rfl rfl ?_
      refine x_iload (n' := 16) dX9_passesShips_14 rfl rfl ?_
      refine x_callV (n' := 19) (n := 2) (c_X9_rankedAt l G _ m ad hS.sA _ i ns (by rw [mA_sA]; exact e14) hb (by omega)) dX9_passesShips_16 km rfl (lw_V q3441 q3443 qs64 q109 q3444) (by decide +kernel) ⟨(Nat.le_of_ble_eq_true rfl), (Nat.le_of_ble_eq_true rfl)⟩ rfl rfl (Nat.le_of_ble_eq_true rfl) (by first | exact Nat.le_of_ble_eq_true rfl | omega) (by first | exact Nat.le_of_ble_eq_true rfl | omega) rfl (fun v_1 M_2 h_4 hE_3 => ?_)
      have kk_g := hE_3 _ _ kk_g
      have km := hE_3 _ _ km
      have hE0 : kE M _ := fun a K q9 => hE_3 a K (hE0 a K q9)
      obtain ⟨rfl, hMs⟩ := h_4
      have hMs := hMs.symm
      subst hMs
      rw [mA_sA, rkA_cg (hsg.ship hb)]
      refine x_if_lt (n' := 22) (tgt := 172) dX9_passesShips_19 (by decide) rfl (fun c19_5 => ?_) (fun c19_5 => ?_)
      · have C19 := c19_5
        exact x_vret dX9_passesShips_172 hret hE0 (⟨rfl, congrArg (sA M (ad 0)) (shN_all (rkA_neg hb C19))⟩)
      · have C19 := c19_5
        obtain ⟨s, hs9, hR, eR⟩ := rkA_pos hb C19
        refine x_aload_n (n' := 23) dX9_passesShips_22 rfl rfl rfl ?_
        refine x_iload (n' := 25) dX9_passesShips_23 rfl rfl ?_
        refine x_iload (n' := 27) dX9_passesShips_25 rfl rfl ?_
        refine x_callV (n' := 30) (n := 2) (c_X9_rankedAt l G _ m ad hS.sA _ i ns (by rw [mA_sA]; exact e14) hb (by omega)) dX9_passesShips_27 km rfl (lw_V q3441 q3443 qs64 q109 q3444) (by decide +kernel) ⟨(Nat.le_of_ble_eq_true rfl), (Nat.le_of_ble_eq_true rfl)⟩ rfl rfl (Nat.le_of_ble_eq_true rfl) (by first | exact Nat.le_of_ble_eq_true rfl | omega) (by first | exact Nat.le_of_ble_eq_true rfl | omega) rfl (fun v_6 M_7 h_9 hE_8 => ?_)
        have kk_g := hE_8 _ _ kk_g
        have km := hE_8 _ _ km
        have hE0 : kE M _ := fun a K q9 => hE_8 a K (hE0 a K q9)
        obtain ⟨rfl, hMs⟩ := h_9
        have hMs := hMs.symm
        subst hMs
        rw [mA_sA, rkA_cg (hsg.ship hb), eR]
        refine x_istore (n' := 32) dX9_passesShips_30 (Nat.le_of_ble_eq_true rfl) rfl (by dsimp only [List.set] <;> rfl) rfl ?_
        refine x_aload_n (n' := 33) dX9_passesShips_32 rfl rfl rfl ?_
        refine x_iload (n' := 35) dX9_passesShips_33 rfl rfl ?_
        refine x_iconst (n' := 36) (v := 0) dX9_passesShips_35 (by decide) rfl ?_
        refine x_callV (n' := 39) (n := 2) (c_X9_ofShip l G _ m ad hS.sA s 0 (by omega)) dX9_passesShips_36 km rfl (lw_V q3445 q3447 qs65 q109 q3448) (by decide +kernel) ⟨(Nat.le_of_ble_eq_true rfl), (Nat.le_of_ble_eq_true rfl)⟩ rfl rfl (Nat.le_of_ble_eq_true rfl) (by first | exact Nat.le_of_ble_eq_true rfl | omega) (by first | exact Nat.le_of_ble_eq_true rfl | omega) rfl (fun v_10 M_11 h_13 hE_12 => ?_)
        have kk_g := hE_12 _ _ kk_g
        have km := hE_12 _ _ km
        have hE0 : kE M _ := fun a K q9 => hE_12 a K (hE0 a K q9)
        obtain ⟨rfl, hMs⟩ := h_13
        have hMs := hMs.symm
        subst hMs
        rw [mA_sA]
        refine x_istore (n' := 41) dX9_passesShips_39 (Nat.le_of_ble_eq_true rfl) rfl (by dsimp only [List.set] <;> rfl) rfl ?_
        refine x_iload (n' := 43) dX9_passesShips_41 rfl rfl ?_
        refine x_iload_n (n' := 44) dX9_passesShips_43 rfl rfl rfl ?_
        refine x_aload_n (n' := 45) dX9_passesShips_44 rfl rfl rfl ?_
        refine x_getRs (n' := 48) (b := (ad 0)) dX9_passesShips_45 km ffX9_9_9 rfl hr_g rfl ?_
        refine x_bipush (n' := 50) (v := 6) dX9_passesShips_48 (by decide) rfl ?_
        refine x_ildk (n' := 51) dX9_passesShips_50 kk_g hn_g (by repeat' (first | with_reducible exact nl_0 | with_reducible exact nl_1 | with_reducible exact nl_2 | with_reducible exact nl_3 | with_reducible exact nl_4 | with_reducible exact nl_6 | with_reducible exact nl_109 | with_reducible exact rfl | apply i_add | apply i_mul)) (by omega) (by decide) (by first | (simp (disch := omega) only [mA_sA, mA_sI, up_s, up_n, if_false] <;> rfl) | rfl) rfl ?_
        refine x_iconst (n' := 52) (v := 1) dX9_passesShips_51 (by decide) rfl ?_
        refine x_forkN (J := 60) (x_icmp_ne (n' := 55) (tgt := 59) dX9_passesShips_52 (by decide) rfl) (v1 := ?v1_f52_14) (v2 := ?v2_f52_14) (fun c_f52_14 j_f52_14 => ?b1_f52_14) (fun c_f52_14 j_f52_14 => ?b2_f52_14) ?k_f52_14
        case b1_f52_14 =>
          refine x_iconst (n' := 60) (v := 0) dX9_passesShips_59 (by decide) rfl ?_
          exact j_f52_14
        case b2_f52_14 =>
          refine x_iconst (n' := 56) (v := 1) dX9_passesShips_55 (by decide) rfl ?_
          refine x_goto (tgt := 60) dX9_passesShips_56 (by decide) ?_
          exact j_f52_14
        refine x_topv (y := bi ((shN (mA M (ad 0)) ((mA M (ad 0)) 0) ns d t w who i) 6 = 1)) (by unfold bi; grind) ?_
        refine x_iload_n (n' := 61) dX9_passesShips_60 rfl rfl rfl ?_
        refine x_iload_n (n' := 62) dX9_passesShips_61 rfl rfl rfl ?_
        refine x_callS (n' := 65) (n := 5) (c_X9_lacks l G _ _ _ _ _ _) dX9_passesShips_62 (lw_S q3449 q3450 q109 q3451) (by decide +kernel) ⟨(Nat.le_of_ble_eq_true rfl), (Nat.le_of_ble_eq_true rfl)⟩ rfl rfl (Nat.le_of_ble_eq_true rfl) (by first | exact Nat.le_of_ble_eq_true rfl | omega) (by first | exact Nat.le_of_ble_eq_true rfl | omega) rfl (fun v_15 M_16 h_18 hE_17 => ?_)
        have kk_g := hE_17 _ _ kk_g
        have km := hE_17 _ _ km
        have hE0 : kE M _ := fun a K q9 => hE_17 a K (hE0 a K q9)
        obtain ⟨rfl, hMs⟩ := h_18
        have hMs := hMs.symm
        subst hMs
        refine x_istore (n' := 67) dX9_passesShips_65 (Nat.le_of_ble_eq_true rfl) rfl (by dsimp only [List.set] <;> rfl) rfl ?_
        refine x_iload (n' := 69) dX9_passesShips_67 rfl rfl ?_
        refine x_forkN (J := 100) (x_if_ne (n' := 72) (tgt := 76) dX9_passesShips_69 (by decide) rfl) (v1 := ?v1_f69_19) (v2 := ?v2_f69_19) (fun c_f69_19 j_f69_19 => ?b1_f69_19) (fun c_f69_19 j_f69_19 => ?b2_f69_19) ?k_f69_19
        case b1_f69_19 =>
          refine x_iload (n' := 78) dX9_passesShips_76 rfl rfl ?_
          refine x_iconst (n' := 79) (v := 1) dX9_passesShips_78 (by decide) rfl ?_
          refine x_forkN (J := 100) (x_icmp_ne (n' := 82) (tgt := 99) dX9_passesShips_79 (by decide) rfl) (v1 := ?v1_f79_20) (v2 := ?v2_f79_20) (fun c_f79_20 j_f79_20 => ?b1_f79_20) (fun c_f79_20 j_f79_20 => ?b2_f79_20) ?k_f79_20
          case b1_f79_20 =>
            refine x_iconst (n' := 100) (v := 2) dX9_passesShips_99 (by decide) rfl ?_
            exact j_f79_20
          case b2_f79_20 =>
            refine x_iload (n' := 84) dX9_passesShips_82 rfl rfl ?_
            refine x_callS (n' := 87) (n := 1) (c_X9_isSmall l G _ _) dX9_passesShips_84 (lw_S q3452 q3453 q109 q3454) (by decide +kernel) ⟨(Nat.le_of_ble_eq_true rfl), (Nat.le_of_ble_eq_true rfl)⟩ rfl rfl (Nat.le_of_ble_eq_true rfl) (by first | exact Nat.le_of_ble_eq_true rfl | omega) (by first | exact Nat.le_of_ble_eq_true rfl | omega) rfl (fun v_21 M_22 h_24 hE_23 => ?_)
            have kk_g := hE_23 _ _ kk_g
            have km := hE_23 _ _ km
            have hE0 : kE M _ := fun a K q9 => hE_23 a K (hE0 a K q9)
            obtain ⟨rfl, hMs⟩ := h_24
            have hMs := hMs.symm
            subst hMs
            refine x_forkN (J := 100) (x_if_ne (n' := 90) (tgt := 95) dX9_passesShips_87 (by decide) rfl) (v1 := ?v1_f87_25) (v2 := ?v2_f87_25) (fun c_f87_25 j_f87_25 => ?b1_f87_25) (fun c_f87_25 j_f87_25 => ?b2_f87_25) ?k_f87_25
            case b1_f87_25 =>
              refine x_iconst (n' := 96) (v := 1) dX9_passesShips_95 (by decide) rfl ?_
              refine x_goto (tgt := 100) dX9_passesShips_96 (by decide) ?_
              exact j_f87_25
            case b2_f87_25 =>
              refine x_iload_n (n' := 91) dX9_passesShips_90 rfl rfl rfl ?_
              refine x_iconst (n' := 92) (v := 2) dX9_passesShips_91 (by decide) rfl ?_
              refine x_fork (J := 100) (x_icmp_eq (n' := 95) (tgt := 99) dX9_passesShips_92 (by decide) rfl) (v1 := ?v1_f92_26) (v2 := ?v2_f92_26) (fun c_f92_26 j_f92_26 => ?b1_f92_26) (fun c_f92_26 j_f92_26 => ?b2_f92_26) ?k_f92_26
              case b1_f92_26 =>
                refine x_iconst (n' := 100) (v := 2) dX9_passesShips_99 (by decide) rfl ?_
                exact j_f92_26
              case b2_f92_26 =>
                refine x_iconst (n' := 96) (v := 1) dX9_passesShips_95 (by decide) rfl ?_
                refine x_goto (tgt := 100) dX9_passesShips_96 (by decide) ?_
                exact j_f92_26
              exact j_f87_25
            exact j_f79_20
          exact j_f69_19
        case b2_f69_19 =>
          refine x_iconst (n' := 73) (v := 0) dX9_passesShips_72 (by decide) rfl ?_
          refine x_goto (tgt := 100) dX9_passesShips_73 (by decide) ?_
          exact j_f69_19
        refine x_topv (y := shF d t w (shN (mA M (ad 0)) ((mA M (ad 0)) 0) ns d t w who i) s) (by unfold shF fateP bi; grind) ?_
        refine x_istore (n' := 102) dX9_passesShips_100 (Nat.le_of_ble_eq_true rfl) rfl (by dsimp only [List.set] <;> rfl) rfl ?_
        refine x_aload_n (n' := 103) dX9_passesShips_102 rfl rfl rfl ?_
        refine x_getRs (n' := 106) (b := (ad 0)) dX9_passesShips_103 km ffX9_9_9 rfl hr_g rfl ?_
        refine x_bipush (n' := 108) (v := 109) dX9_passesShips_106 (by decide) rfl ?_
        refine x_iconst (n' := 109) (v := 4) dX9_passesShips_108 (by decide) rfl ?_
        refine x_iload (n' := 111) dX9_passesShips_109 rfl rfl ?_
        refine x_imul (n' := 112) dX9_passesShips_111 rfl ?_
        refine x_iadd (n' := 113) dX9_passesShips_112 rfl ?_
        refine x_iconst (n' := 114) (v := 2) dX9_passesShips_113 (by decide) rfl ?_
        refine x_iadd (n' := 115) dX9_passesShips_114 rfl ?_
        refine x_iload (n' := 117) dX9_passesShips_115 rfl rfl ?_
        refine x_iastk (n' := 118) dX9_passesShips_117 kk_g hn_g (by repeat' (first | with_reducible exact nl_0 | with_reducible exact nl_1 | with_reducible exact nl_2 | with_reducible exact nl_3 | with_reducible exact nl_4 | with_reducible exact nl_6 | with_reducible exact nl_109 | with_reducible exact rfl | apply i_add | apply i_mul)) (by omega) (by decide) (by first | with_reducible exact mA_sA | with_reducible exact mA_sI_sA | with_reducible exact mA_sI3_sA | rfl) (by first | with_reducible exact sA_sA | with_reducible exact sA_sI_sA | with_reducible exact sA_sI3_sA | rfl) rfl ?_
        refine x_aload_n (n' := 119) dX9_passesShips_118 rfl rfl rfl ?_
        refine x_getRs (n' := 122) (b := (ad 0)) dX9_passesShips_119 km ffX9_9_9 rfl hr_g rfl ?_
        refine x_bipush (n' := 124) (v := 109) dX9_passesShips_122 (by decide) rfl ?_
        refine x_iconst (n' := 125) (v := 4) dX9_passesShips_124 (by decide) rfl ?_
        refine x_iload (n' := 127) dX9_passesShips_125 rfl rfl ?_
        refine x_imul (n' := 128) dX9_passesShips_127 rfl ?_
        refine x_iadd (n' := 129) dX9_passesShips_128 rfl ?_
        refine x_iconst (n' := 130) (v := 3) dX9_passesShips_129 (by decide) rfl ?_
        refine x_iadd (n' := 131) dX9_passesShips_130 rfl ?_
        refine x_aload_n (n' := 132) dX9_passesShips_131 rfl rfl rfl ?_
        refine x_getRs (n' := 135) (b := (ad 0)) dX9_passesShips_132 km ffX9_9_9 rfl hr_g rfl ?_
        refine x_bipush (n' := 137) (v := 6) dX9_passesShips_135 (by decide) rfl ?_
        refine x_ildk (n' := 138) dX9_passesShips_137 kk_g hn_g (by repeat' (first | with_reducible exact nl_0 | with_reducible exact nl_1 | with_reducible exact nl_2 | with_reducible exact nl_3 | with_reducible exact nl_4 | with_reducible exact nl_6 | with_reducible exact nl_109 | with_reducible exact rfl | apply i_add | apply i_mul)) (by omega) (by decide) (by first | (simp (disch := omega) only [mA_sA, mA_sI, up_s, up_n, if_false] <;> rfl) | rfl) rfl ?_
        refine x_iload_n (n' := 139) dX9_passesShips_138 rfl rfl rfl ?_
        refine x_fork (J := 147) (x_if_eq (n' := 142) (tgt := 146) dX9_passesShips_139 (by decide) rfl) (v1 := ?v1_f139_27) (v2 := ?v2_f139_27) (fun c_f139_27 j_f139_27 => ?b1_f139_27) (fun c_f139_27 j_f139_27 => ?b2_f139_27) ?k_f139_27
        case b1_f139_27 =>
          refine x_iconst (n' := 147) (v := 0) dX9_passesShips_146 (by decide) rfl ?_
          exact j_f139_27
        case b2_f139_27 =>
          refine x_iconst (n' := 143) (v := 2) dX9_passesShips_142 (by decide) rfl ?_
          refine x_goto (tgt := 147) dX9_passesShips_143 (by decide) ?_
          exact j_f139_27
        refine x_topv (y := if t = 0 then 0 else 2) (by grind) ?_
        refine x_iadd (n' := 148) dX9_passesShips_147 rfl ?_
        refine x_iastk (n' := 149) dX9_passesShips_148 kk_g hn_g (by repeat' (first | with_reducible exact nl_0 | with_reducible exact nl_1 | with_reducible exact nl_2 | with_reducible exact nl_3 | with_reducible exact nl_4 | with_reducible exact nl_6 | with_reducible exact nl_109 | with_reducible exact rfl | apply i_add | apply i_mul)) (by omega) (by decide) (by first | with_reducible exact mA_sA | with_reducible exact mA_sI_sA | with_reducible exact mA_sI3_sA | rfl) (by first | with_reducible exact sA_sA | with_reducible exact sA_sI_sA | with_reducible exact sA_sI3_sA | rfl) rfl ?_
        refine x_iload (n' := 151) dX9_passesShips_149 rfl rfl ?_
        refine x_if_lt (n' := 154) (tgt := 166) dX9_passesShips_151 (by decide) rfl (fun c151_28 => ?_) (fun c151_28 => ?_)
        · have C151 := c151_28
          refine x_iinc (n' := 169) dX9_passesShips_166 rfl (by first | exact nI_inc _ | exact nI_decp (by omega) | exact i_inc _ | rfl) (Nat.le_of_ble_eq_true rfl) rfl (by dsimp only [List.set] <;> rfl) rfl ?_
          refine x_goto (tgt := 11) dX9_passesShips_169 (by decide) ?_
          have hi9 := rk_lt hb hR
          refine x_mem (M2 := sA M (ad 0) (shN (mA M (ad 0)) ((mA M (ad 0)) 0) ns d t w who (i + 1))) (by first | (rw [shN_s hR]; unfold shS; rw [if_pos C151]; rfl) | (rw [shN_s hR]; unfold shS; rw [if_neg C151]; rfl)) ?_
          exact x_drop (ih (i + 1) (by omega) (by omega)) ⟨rfl, ⟨rfl, ⟨rfl, ⟨rfl, ⟨rfl, ⟨rfl, ⟨rfl, trivial⟩⟩⟩⟩⟩⟩⟩
        · have C151 := c151_28
          refine x_aload_n (n' := 155) dX9_passesShips_154 rfl rfl rfl ?_
          refine x_iconst (n' := 156) (v := 4) dX9_passesShips_155 (by decide) rfl ?_
          refine x_iload (n' := 158) dX9_passesShips_156 rfl rfl ?_
          refine x_iadd (n' := 159) dX9_passesShips_158 rfl ?_
          refine x_iload (n' := 161) dX9_passesShips_159 rfl rfl ?_
          refine x_iload (n' := 163) dX9_passesShips_161 rfl rfl ?_
          refine x_callV (n' := 166) (n := 3) (c_X9_logs l G _ m ad hS.sA _ _ _ (by rw [mA_sA]; exact (hsg.tr (shU_Sg (by omega))).2 hL)) dX9_passesShips_163 km rfl (lw_V q3433 q3435 qs62 q109 q3436) (by decide +kernel) ⟨(Nat.le_of_ble_eq_true rfl), (Nat.le_of_ble_eq_true rfl)⟩ rfl rfl (Nat.le_of_ble_eq_true rfl) (by first | exact Nat.le_of_ble_eq_true rfl | omega) (by first | exact Nat.le_of_ble_eq_true rfl | omega) rfl (fun v_29 M_30 h_32 hE_31 => ?_)
          have kk_g := hE_31 _ _ kk_g
          have km := hE_31 _ _ km
          have hE0 : kE M _ := fun a K q9 => hE_31 a K (hE0 a K q9)
          obtain ⟨rfl, hMs⟩ := h_32
          have hMs := hMs.symm
          subst hMs
          rw [mA_sA, sA_sA]
          refine x_iinc (n' := 169) dX9_passesShips_166 rfl (by first | exact nI_inc _ | exact nI_decp (by omega) | exact i_inc _ | rfl) (Nat.le_of_ble_eq_true rfl) rfl (by dsimp only [List.set] <;> rfl) rfl ?_
          refine x_goto (tgt := 11) dX9_passesShips_169 (by decide) ?_
          have hi9 := rk_lt hb hR
          refine x_mem (M2 := sA M (ad 0) (shN (mA M (ad 0)) ((mA M (ad 0)) 0) ns d t w who (i + 1))) (by first | (rw [shN_s hR]; unfold shS; rw [if_pos C151]; rfl) | (rw [shN_s hR]; unfold shS; rw [if_neg C151]; rfl)) ?_
          exact x_drop (ih (i + 1) (by omega) (by omega)) ⟨rfl, ⟨rfl, ⟨rfl, ⟨rfl, ⟨rfl, ⟨rfl, ⟨rfl, trivial⟩⟩⟩⟩⟩⟩⟩
  refine x_aload_n (n' := 1) dX9_passesShips_0 rfl rfl rfl ?_
  refine x_getRs (n' := 4) (b := (ad 0)) dX9_passesShips_1 km ffX9_9_9 rfl hr_g rfl ?_
  refine x_iconst (n' := 5) (v := 0) dX9_passesShips_4 (by decide) rfl ?_
  refine x_ildk (n' := 6) dX9_passesShips_5 kk_g hn_g (by repeat' (first | with_reducible exact nl_0 | with_reducible exact nl_1 | with_reducible exact nl_2 | with_reducible exact nl_3 | with_reducible exact nl_4 | with_reducible exact nl_6 | with_reducible exact nl_109 | with_reducible exact rfl | apply i_add | apply i_mul)) (by omega) (by decide) (by first | (simp (disch := omega) only [mA_sA, mA_sI, up_s, up_n, if_false] <;> rfl) | rfl) rfl ?_
  refine x_istore (n' := 8) dX9_passesShips_6 (Nat.le_of_ble_eq_true rfl) rfl (by dsimp only [List.set] <;> rfl) rfl ?_
  refine x_iconst (n' := 9) (v := 0) dX9_passesShips_8 (by decide) rfl ?_
  refine x_istore (n' := 11) dX9_passesShips_9 (Nat.le_of_ble_eq_true rfl) rfl (by dsimp only [List.set] <;> rfl) rfl ?_
  refine x_mem (M2 := sA M (ad 0) (shN (mA M (ad 0)) ((mA M (ad 0)) 0) ns d t w who 0)) (by rw [shN_0, sA_eta]) ?_
  exact x_drop (cut11 1002 0 (by omega) (by omega)) ⟨rfl, ⟨rfl, ⟨rfl, ⟨rfl, ⟨rfl, ⟨rfl, ⟨rfl, trivial⟩⟩⟩⟩⟩⟩⟩

theorem ffX9_114_9 : FF "KeptLightModel" 114 9 5 "KeptLightModel" := ⟨by decide, by decide, q3257, Or.inl rfl⟩
theorem ffX9_117_9 : FF "KeptLightModel" 117 9 6 "KeptLightModel" := ⟨by decide, by decide, q3258, Or.inl rfl⟩
theorem ffX9_107_9 : FF "KeptLightModel" 107 9 7 "KeptLightModel" := ⟨by decide, by decide, q3259, Or.inl rfl⟩
set_option maxHeartbeats 4000000 in
set_option maxRecDepth 100000 in
theorem k448_c_X9_hourPasses (l : Launch) (G : kG) (M : kM) (m : Nat) (ad : Nat → Nat) (hS : MS M m ad) (h nr nk ns : Nat) (hw : WF (mA M (ad 0)) h nr nk ns) (hb : h + 1 < 2147483648) (pp : Program) (ee : Env) (ss : State) (mm : MethodId) (args : Array Value) (below : List Frame) (meth : Method) (cd : Code) (hmn : meth.name = yX9_hourPasses.name) (hret : meth.sig.returnType = none) : ∀ (_ : True), Wx pp l ee { frames := 3, cells := 0, slots := 0, locals := 77 } ss mm args below meth cd "KeptLightModel" cX9_hourPasses 10 G (MQ below (KQ G M (fun v M2 => v = none ∧ M2 = hrM M m (ad 0) (hourG (mA M (ad 0)) h nr nk ns) (boV (mA M (ad 0)) h nr nk ns) (dav (mA M (ad 0)) h) (tev (mA M (ad 0)) h))) args ss (0) (0) (kA G)) 448 [some (.ref m), some (.int (nI h)), some (.int (weaG (mA M (ad 0)) nr h)), some (.int (dav (mA M (ad 0)) h)), some (.int (plV (mA M (ad 0)) h)), some (.int (fav (mA M (ad 0)) h)), some (.int (tev (mA M (ad 0)) h)), some (.int (coV (mA M (ad 0)) h nr)), some (.int (wh (mA M (ad 0)) h)), none] [] (sI (sA M (ad 0) (s9 (mA M (ad 0)) h nr nk ns)) (fc 9 7) m (boV (mA M (ad 0)) h nr nk ns)) (0) (0) := by
  have km := hS.1
  obtain ⟨hr_g, kk_g, hn_g⟩ := hS.2.1 0 (by decide)
  have hr_g : mR M (fc 9 0) m = some (ad 0) := hr_g
  have hn_g : mN M (ad 0) = 2509 := hn_g
  have kk_g : mK M (ad 0) = some 120 := kk_g
  have hm24 : h % 24 < 24 := Nat.mod_lt _ (by decide)
  have hp6 := hw.pl (h % 24) hm24
  have hk6 := hw.k6
  have hfN := fN_le (fallP (mA M (ad 0)) (plV (mA M (ad 0)) h))
  intro _
  refine x_aload_n (n' := 449) dX9_hourPasses_448 rfl rfl rfl ?_
  refine x_iload_n (n' := 450) dX9_hourPasses_449 rfl rfl rfl ?_
  refine x_putI (n' := 453) dX9_hourPasses_450 (by repeat' (first | with_reducible exact km | with_reducible apply mK_A | with_reducible apply mK_I | with_reducible apply mK_L | with_reducible apply mK_R | with_reducible apply mK_O)) ffX9_114_9 rfl (k_bool (bi_01 _)) rfl rfl ?_
  refine x_aload_n (n' := 454) dX9_hourPasses_453 rfl rfl rfl ?_
  refine x_iload (n' := 456) dX9_hourPasses_454 rfl rfl ?_
  refine x_putI (n' := 459) dX9_hourPasses_456 (by repeat' (first | with_reducible exact km | with_reducible apply mK_A | with_reducible apply mK_I | with_reducible apply mK_L | with_reducible apply mK_R | with_reducible apply mK_O)) ffX9_117_9 rfl (k_bool (bi_01 _)) rfl rfl ?_
  refine x_aload_n (n' := 460) dX9_hourPasses_459 rfl rfl rfl ?_
  refine x_getRs (n' := 463) (b := (ad 0)) dX9_hourPasses_460 (by repeat' (first | with_reducible exact km | with_reducible apply mK_A | with_reducible apply mK_I | with_reducible apply mK_L | with_reducible apply mK_R | with_reducible apply mK_O)) ffX9_9_9 rfl (by repeat' (first | with_reducible exact hr_g | with_reducible apply mR_A | with_reducible apply mR_I | with_reducible apply mR_L)) rfl ?_
  refine x_iconst (n' := 464) (v := 0) dX9_hourPasses_463 (by decide) rfl ?_
  refine x_iload_n (n' := 465) dX9_hourPasses_464 rfl rfl rfl ?_
  refine x_iconst (n' := 466) (v := 1) dX9_hourPasses_465 (by decide) rfl ?_
  refine x_iadd (n' := 467) dX9_hourPasses_466 rfl ?_
  refine x_iastk (n' := 468) (N := 2509) dX9_hourPasses_467 (by repeat' (first | with_reducible exact kk_g | with_reducible apply mK_A | with_reducible apply mK_I | with_reducible apply mK_L | with_reducible apply mK_R | with_reducible apply mK_O)) (by repeat' (first | with_reducible exact hn_g | with_reducible apply mN_A | with_reducible apply mN_I | with_reducible apply mN_L | with_reducible apply mN_R | with_reducible apply mN_O)) (by repeat' (first | with_reducible exact nl_0 | with_reducible exact nl_1 | with_reducible exact nl_2 | with_reducible exact nl_3 | with_reducible exact nl_4 | with_reducible exact nl_5 | with_reducible exact nl_6 | with_reducible exact nl_8 | with_reducible exact nl_9 | with_reducible exact nl_10 | with_reducible exact nl_11 | with_reducible exact nl_13 | with_reducible exact nl_18 | with_reducible exact nl_20 | with_reducible exact nl_24 | with_reducible exact nl_61 | with_reducible exact nl_85 | with_reducible exact nl_9999 | with_reducible exact rfl | apply i_add | apply i_mul)) (by omega) (by decide) (by first | with_reducible exact mA_sA | with_reducible exact mA_sI_sA | with_reducible exact mA_sI3_sA | rfl) (by first | with_reducible exact sA_sA | with_reducible exact sA_sI_sA | with_reducible exact sA_sI3_sA | rfl) rfl ?_
  exact x_vret dX9_hourPasses_468 hret (by repeat' (first | with_reducible exact kE.rf | with_reducible apply kE_A | with_reducible apply kE_I | with_reducible apply kE_L | with_reducible apply kE_R | with_reducible apply kE_O)) (⟨rfl, by unfold hrM hourG; rw [← nI_1]⟩)
set_option maxHeartbeats 4000000 in
set_option maxRecDepth 100000 in
theorem k415_c_X9_hourPasses (l : Launch) (G : kG) (M : kM) (m : Nat) (ad : Nat → Nat) (hS : MS M m ad) (h nr nk ns : Nat) (hw : WF (mA M (ad 0)) h nr nk ns) (hb : h + 1 < 2147483648) (pp : Program) (ee : Env) (ss : State) (mm : MethodId) (args : Array Value) (below : List Frame) (meth : Method) (cd : Code) (hmn : meth.name = yX9_hourPasses.name) (hret : meth.sig.returnType = none) : ∀ (fuel : Nat) (i : Nat) (h1 : nk - i < fuel) (h2 : i ≤ nk) (C330 : ¬ (boV (mA M (ad 0)) h nr nk ns) = 0), Wx pp l ee { frames := 3, cells := 0, slots := 0, locals := 77 } ss mm args below meth cd "KeptLightModel" cX9_hourPasses 10 G (MQ below (KQ G M (fun v M2 => v = none ∧ M2 = hrM M m (ad 0) (hourG (mA M (ad 0)) h nr nk ns) (boV (mA M (ad 0)) h nr nk ns) (dav (mA M (ad 0)) h) (tev (mA M (ad 0)) h))) args ss (0) (0) (kA G)) 415 [some (.ref m), some (.int (nI h)), some (.int (weaG (mA M (ad 0)) nr h)), some (.int (dav (mA M (ad 0)) h)), some (.int (plV (mA M (ad 0)) h)), some (.int (fav (mA M (ad 0)) h)), some (.int (tev (mA M (ad 0)) h)), some (.int (coV (mA M (ad 0)) h nr)), some (.int (wh (mA M (ad 0)) h)), some (.int (nI i))] [] (sI (sA M (ad 0) (rstG (supG (s8 (mA M (ad 0)) h nr nk ns) h) i)) (fc 9 7) m (boV (mA M (ad 0)) h nr nk ns)) (0) (0) := by
  have km := hS.1
  obtain ⟨hr_g, kk_g, hn_g⟩ := hS.2.1 0 (by decide)
  have hr_g : mR M (fc 9 0) m = some (ad 0) := hr_g
  have hn_g : mN M (ad 0) = 2509 := hn_g
  have kk_g : mK M (ad 0) = some 120 := kk_g
  have hm24 : h % 24 < 24 := Nat.mod_lt _ (by decide)
  have hp6 := hw.pl (h % 24) hm24
  have hk6 := hw.k6
  have hfN := fN_le (fallP (mA M (ad 0)) (plV (mA M (ad 0)) h))
  have cut448 := k448_c_X9_hourPasses l G M m ad hS h nr nk ns hw hb pp ee ss mm args below meth cd hmn hret
  intro fuel
  induction fuel with
  | zero => intro i h1 h2 C330; omega
  | succ fuel ih =>
    intro i h1 h2 C330
    have e13 : rstG (supG (s8 (mA M (ad 0)) h nr nk ns) h) i 13 = nI nk := ((((s8_Sg hw).tr supG_Sg).tr (rstG_Sg (by omega))).1 13 (Or.inr (by unfold kpI; omega))).trans hw.kk
    refine x_iload (n' := 417) dX9_hourPasses_415 rfl rfl ?_
    refine x_aload_n (n' := 418) dX9_hourPasses_417 rfl rfl rfl ?_
    refine x_getRs (n' := 421) (b := (ad 0)) dX9_hourPasses_418 (by repeat' (first | with_reducible exact km | with_reducible apply mK_A | with_reducible apply mK_I | with_reducible apply mK_L | with_reducible apply mK_R | with_reducible apply mK_O)) ffX9_9_9 rfl (by repeat' (first | with_reducible exact hr_g | with_reducible apply mR_A | with_reducible apply mR_I | with_reducible apply mR_L)) rfl ?_
    refine x_bipush (n' := 423) (v := 13) dX9_hourPasses_421 (by decide) rfl ?_
    refine x_ildk (n' := 424) (N := 2509) dX9_hourPasses_423 (by repeat' (first | with_reducible exact kk_g | with_reducible apply mK_A | with_reducible apply mK_I | with_reducible apply mK_L | with_reducible apply mK_R | with_reducible apply mK_O)) (by repeat' (first | with_reducible exact hn_g | with_reducible apply mN_A | with_reducible apply mN_I | with_reducible apply mN_L | with_reducible apply mN_R | with_reducible apply mN_O)) (by repeat' (first | with_reducible exact nl_0 | with_reducible exact nl_1 | with_reducible exact nl_2 | with_reducible exact nl_3 | with_reducible exact nl_4 | with_reducible exact nl_5 | with_reducible exact nl_6 | with_reducible exact nl_8 | with_reducible exact nl_9 | with_reducible exact nl_10 | with_reducible exact nl_11 | with_reducible exact nl_13 | with_reducible exact nl_18 | with_reducible exact nl_20 | with_reducible exact nl_24 | with_reducible exact nl_61 | with_reducible exact nl_85 | with_reducible exact nl_9999 | with_reducible exact rfl | apply i_add | apply i_mul)) (by omega) (by decide) ((congrFun mA_sI_sA 13).trans e13) rfl ?_
    refine x_icmp_ge (n' := 427) (tgt := 448) dX9_hourPasses_424 (by decide) rfl (fun c424_1 => ?_) (fun c424_1 => ?_)
    · have C424 := c424_1
      have N424 := (cv_le (by repeat' (first | with_reducible exact nl_0 | with_reducible exact nl_1 | with_reducible exact nl_2 | with_reducible exact nl_3 | with_reducible exact nl_4 | with_reducible exact nl_5 | with_reducible exact nl_6 | with_reducible exact nl_8 | with_reducible exact nl_9 | with_reducible exact nl_10 | with_reducible exact nl_11 | with_reducible exact nl_13 | with_reducible exact nl_18 | with_reducible exact nl_20 | with_reducible exact nl_24 | with_reducible exact nl_61 | with_reducible exact nl_85 | with_reducible exact nl_9999 | with_reducible exact rfl | apply i_add | apply i_mul)) (by repeat' (first | with_reducible exact nl_0 | with_reducible exact nl_1 | with_reducible exact nl_2 | with_reducible exact nl_3 | with_reducible exact nl_4 | with_reducible exact nl_5 | with_reducible exact nl_6 | with_reducible exact nl_8 | with_reducible exact nl_9 | with_reducible exact nl_10 | with_reducible exact nl_11 | with_reducible exact nl_13 | with_reducible exact nl_18 | with_reducible exact nl_20 | with_reducible exact nl_24 | with_reducible exact nl_61 | with_reducible exact nl_85 | with_reducible exact nl_9999 | with_reducible exact rfl | apply i_add | apply i_mul)) (by omega) (by omega)).mp c424_1
      refine x_mem (M2 := sI (sA M (ad 0) (s9 (mA M (ad 0)) h nr nk ns)) (fc 9 7) m (boV (mA M (ad 0)) h nr nk ns)) (by unfold s9; first | (rw [hg9_a C330]; try rfl) | (rw [hg9_b C330, show i = nk by omega]; try rfl)) ?_
      exact x_drop (cut448 trivial) ⟨rfl, ⟨rfl, ⟨rfl, ⟨rfl, ⟨rfl, ⟨rfl, ⟨rfl, ⟨rfl, ⟨rfl, trivial⟩⟩⟩⟩⟩⟩⟩⟩⟩
    · have C424 := c424_1
      have N424 := (not_congr (cv_le (by repeat' (first | with_reducible exact nl_0 | with_reducible exact nl_1 | with_reducible exact nl_2 | with_reducible exact nl_3 | with_reducible exact nl_4 | with_reducible exact nl_5 | with_reducible exact nl_6 | with_reducible exact nl_8 | with_reducible exact nl_9 | with_reducible exact nl_10 | with_reducible exact nl_11 | with_reducible exact nl_13 | with_reducible exact nl_18 | with_reducible exact nl_20 | with_reducible exact nl_24 | with_reducible exact nl_61 | with_reducible exact nl_85 | with_reducible exact nl_9999 | with_reducible exact rfl | apply i_add | apply i_mul)) (by repeat' (first | with_reducible exact nl_0 | with_reducible exact nl_1 | with_reducible exact nl_2 | with_reducible exact nl_3 | with_reducible exact nl_4 | with_reducible exact nl_5 | with_reducible exact nl_6 | with_reducible exact nl_8 | with_reducible exact nl_9 | with_reducible exact nl_10 | with_reducible exact nl_11 | with_reducible exact nl_13 | with_reducible exact nl_18 | with_reducible exact nl_20 | with_reducible exact nl_24 | with_reducible exact nl_61 | with_reducible exact nl_85 | with_reducible exact nl_9999 | with_reducible exact rfl | apply i_add | apply i_mul)) (by omega) (by omega))).mp c424_1
      refine x_aload_n (n' := 428) dX9_hourPasses_427 rfl rfl rfl ?_
      refine x_getRs (n' := 431) (b := (ad 0)) dX9_hourPasses_428 (by repeat' (first | with_reducible exact km | with_reducible apply mK_A | with_reducible apply mK_I | with_reducible apply mK_L | with_reducible apply mK_R | with_reducible apply mK_O)) ffX9_9_9 rfl (by repeat' (first | with_reducible exact hr_g | with_reducible apply mR_A | with_reducible apply mR_I | with_reducible apply mR_L)) rfl ?_
      refine x_bipush (n' := 433) (v := 61) dX9_hourPasses_431 (by decide) rfl ?_
      refine x_iconst (n' := 434) (v := 4) dX9_hourPasses_433 (by decide) rfl ?_
      refine x_iload (n' := 436) dX9_hourPasses_434 rfl rfl ?_
      refine x_imul (n' := 437) dX9_hourPasses_436 rfl ?_
      refine x_iadd (n' := 438) dX9_hourPasses_437 rfl ?_
      refine x_iconst (n' := 439) (v := 1) dX9_hourPasses_438 (by decide) rfl ?_
      refine x_iadd (n' := 440) dX9_hourPasses_439 rfl ?_
      refine x_iconst (n' := 441) (v := 0) dX9_hourPasses_440 (by decide) rfl ?_
      refine x_iastk (n' := 442) (N := 2509) dX9_hourPasses_441 (by repeat' (first | with_reducible exact kk_g | with_reducible apply mK_A | with_reducible apply mK_I | with_reducible apply mK_L | with_reducible apply mK_R | with_reducible apply mK_O)) (by repeat' (first | with_reducible exact hn_g | with_reducible apply mN_A | with_reducible apply mN_I | with_reducible apply mN_L | with_reducible apply mN_R | with_reducible apply mN_O)) (by repeat' (first | with_reducible exact nl_0 | with_reducible exact nl_1 | with_reducible exact nl_2 | with_reducible exact nl_3 | with_reducible exact nl_4 | with_reducible exact nl_5 | with_reducible exact nl_6 | with_reducible exact nl_8 | with_reducible exact nl_9 | with_reducible exact nl_10 | with_reducible exact nl_11 | with_reducible exact nl_13 | with_reducible exact nl_18 | with_reducible exact nl_20 | with_reducible exact nl_24 | with_reducible exact nl_61 | with_reducible exact nl_85 | with_reducible exact nl_9999 | with_reducible exact rfl | apply i_add | apply i_mul)) (by omega) (by decide) (by first | with_reducible exact mA_sA | with_reducible exact mA_sI_sA | with_reducible exact mA_sI3_sA | rfl) (by first | with_reducible exact sA_sA | with_reducible exact sA_sI_sA | with_reducible exact sA_sI3_sA | rfl) rfl ?_
      refine x_iinc (n' := 445) dX9_hourPasses_442 rfl (by first | exact nI_inc _ | exact nI_decp (by omega) | exact i_inc _ | rfl) (Nat.le_of_ble_eq_true rfl) rfl (by dsimp only [List.set] <;> rfl) rfl ?_
      refine x_goto (tgt := 415) dX9_hourPasses_445 (by decide) ?_
      rw [rst_s]
      exact x_drop (ih (i + 1) (by omega) (by omega) C330) ⟨rfl, ⟨rfl, ⟨rfl, ⟨rfl, ⟨rfl, ⟨rfl, ⟨rfl, ⟨rfl, ⟨rfl, ⟨rfl, trivial⟩⟩⟩⟩⟩⟩⟩⟩⟩⟩
set_option maxHeartbeats 4000000 in
set_option maxRecDepth 100000 in
theorem k269_c_X9_hourPasses (l : Launch) (G : kG) (M : kM) (m : Nat) (ad : Nat → Nat) (hS : MS M m ad) (h nr nk ns : Nat) (hw : WF (mA M (ad 0)) h nr nk ns) (hb : h + 1 < 2147483648) (pp : Program) (ee : Env) (ss : State) (mm : MethodId) (args : Array Value) (below : List Frame) (meth : Method) (cd : Code) (hmn : meth.name = yX9_hourPasses.name) (hret : meth.sig.returnType = none) : ∀ (_ : True), Wx pp l ee { frames := 3, cells := 0, slots := 0, locals := 77 } ss mm args below meth cd "KeptLightModel" cX9_hourPasses 10 G (MQ below (KQ G M (fun v M2 => v = none ∧ M2 = hrM M m (ad 0) (hourG (mA M (ad 0)) h nr nk ns) (boV (mA M (ad 0)) h nr nk ns) (dav (mA M (ad 0)) h) (tev (mA M (ad 0)) h))) args ss (0) (0) (kA G)) 269 [some (.ref m), some (.int (nI h)), some (.int (weaG (mA M (ad 0)) nr h)), some (.int (dav (mA M (ad 0)) h)), some (.int (plV (mA M (ad 0)) h)), some (.int (fav (mA M (ad 0)) h)), some (.int (tev (mA M (ad 0)) h)), some (.int (coV (mA M (ad 0)) h nr)), some (.int (wh (mA M (ad 0)) h)), none] [] (sA M (ad 0) (s6 (mA M (ad 0)) h nr)) (0) (0) := by
  have km := hS.1
  obtain ⟨hr_g, kk_g, hn_g⟩ := hS.2.1 0 (by decide)
  have hr_g : mR M (fc 9 0) m = some (ad 0) := hr_g
  have hn_g : mN M (ad 0) = 2509 := hn_g
  have kk_g : mK M (ad 0) = some 120 := kk_g
  have hm24 : h % 24 < 24 := Nat.mod_lt _ (by decide)
  have hp6 := hw.pl (h % 24) hm24
  have hk6 := hw.k6
  have hfN := fN_le (fallP (mA M (ad 0)) (plV (mA M (ad 0)) h))
  have cut448 := k448_c_X9_hourPasses l G M m ad hS h nr nk ns hw hb pp ee ss mm args below meth cd hmn hret
  have cut415 := k415_c_X9_hourPasses l G M m ad hS h nr nk ns hw hb pp ee ss mm args below meth cd hmn hret
  intro _
  refine x_aload_n (n' := 270) dX9_hourPasses_269 rfl rfl rfl ?_
  refine x_iload_n (n' := 271) dX9_hourPasses_270 rfl rfl rfl ?_
  refine x_iload (n' := 273) dX9_hourPasses_271 rfl rfl ?_
  refine x_iload_n (n' := 274) dX9_hourPasses_273 rfl rfl rfl ?_
  refine x_iload (n' := 276) dX9_hourPasses_274 rfl rfl ?_
  refine x_callV (n' := 279) (n := 4) (K := 9) (c_X9_passesShips l G _ m ad (by repeat' (first | with_reducible exact hS | with_reducible apply MS.sA | with_reducible apply MS.sI | with_reducible apply MS.sL)) _ _ _ _ ns (by rw [mA_sA]; exact ((s6_Sg hw).1 14 (Or.inr (by unfold kpI; omega))).trans hw.ss) hw.s2 (by rw [mA_sA]; exact (s6_Sg hw).2 hw.lk)) dX9_hourPasses_276 (by repeat' (first | with_reducible exact km | with_reducible apply mK_A | with_reducible apply mK_I | with_reducible apply mK_L | with_reducible apply mK_R | with_reducible apply mK_O)) rfl (lw_V q3437 q3439 qs63 q109 q3440) (by decide +kernel) ⟨(Nat.le_of_ble_eq_true rfl), (Nat.le_of_ble_eq_true rfl)⟩ rfl rfl (Nat.le_of_ble_eq_true rfl) (by first | exact Nat.le_of_ble_eq_true rfl | omega) (by first | exact Nat.le_of_ble_eq_true rfl | omega) rfl (fun v_2 M_3 h_5 hE_4 => ?_)
  obtain ⟨rfl, hMs⟩ := h_5
  have hMs : M_3 = sA M (ad 0) (s7 (mA M (ad 0)) h nr ns) := hMs.trans (by rw [mA_sA, sA_sA, show (s6 (mA M (ad 0)) h nr) 0 = nI h from ((s6_Sg hw).1 0 (Or.inl rfl)).trans hw.hh]; rfl)
  have hMs := hMs.symm
  subst hMs
  refine x_aload_n (n' := 280) dX9_hourPasses_279 rfl rfl rfl ?_
  refine x_iload (n' := 282) dX9_hourPasses_280 rfl rfl ?_
  refine x_iload_n (n' := 283) dX9_hourPasses_282 rfl rfl rfl ?_
  refine x_callV (n' := 286) (n := 2) (K := 9) (c_X9_tires l G _ m ad (by repeat' (first | with_reducible exact hS | with_reducible apply MS.sA | with_reducible apply MS.sI | with_reducible apply MS.sL)) _ _ nk (by rw [mA_sA]; exact ((s7_Sg hw).1 13 (Or.inr (by unfold kpI; omega))).trans hw.kk) hw.k6) dX9_hourPasses_283 (by repeat' (first | with_reducible exact km | with_reducible apply mK_A | with_reducible apply mK_I | with_reducible apply mK_L | with_reducible apply mK_R | with_reducible apply mK_O)) rfl (lw_V q3455 q3457 qs66 q109 q3458) (by decide +kernel) ⟨(Nat.le_of_ble_eq_true rfl), (Nat.le_of_ble_eq_true rfl)⟩ rfl rfl (Nat.le_of_ble_eq_true rfl) (by first | exact Nat.le_of_ble_eq_true rfl | omega) (by first | exact Nat.le_of_ble_eq_true rfl | omega) rfl (fun v_6 M_7 h_9 hE_8 => ?_)
  obtain ⟨rfl, hMs⟩ := h_9
  have hMs : M_7 = sA M (ad 0) (s8 (mA M (ad 0)) h nr nk ns) := hMs.trans (by rw [mA_sA, sA_sA]; rfl)
  have hMs := hMs.symm
  subst hMs
  refine x_aload_n (n' := 287) dX9_hourPasses_286 rfl rfl rfl ?_
  refine x_aload_n (n' := 288) dX9_hourPasses_287 rfl rfl rfl ?_
  refine x_getRs (n' := 291) (b := (ad 0)) dX9_hourPasses_288 (by repeat' (first | with_reducible exact km | with_reducible apply mK_A | with_reducible apply mK_I | with_reducible apply mK_L | with_reducible apply mK_R | with_reducible apply mK_O)) ffX9_9_9 rfl (by repeat' (first | with_reducible exact hr_g | with_reducible apply mR_A | with_reducible apply mR_I | with_reducible apply mR_L)) rfl ?_
  refine x_bipush (n' := 293) (v := 8) dX9_hourPasses_291 (by decide) rfl ?_
  refine x_ildk (n' := 294) (N := 2509) dX9_hourPasses_293 (by repeat' (first | with_reducible exact kk_g | with_reducible apply mK_A | with_reducible apply mK_I | with_reducible apply mK_L | with_reducible apply mK_R | with_reducible apply mK_O)) (by repeat' (first | with_reducible exact hn_g | with_reducible apply mN_A | with_reducible apply mN_I | with_reducible apply mN_L | with_reducible apply mN_R | with_reducible apply mN_O)) (by repeat' (first | with_reducible exact nl_0 | with_reducible exact nl_1 | with_reducible exact nl_2 | with_reducible exact nl_3 | with_reducible exact nl_4 | with_reducible exact nl_5 | with_reducible exact nl_6 | with_reducible exact nl_8 | with_reducible exact nl_9 | with_reducible exact nl_10 | with_reducible exact nl_11 | with_reducible exact nl_13 | with_reducible exact nl_18 | with_reducible exact nl_20 | with_reducible exact nl_24 | with_reducible exact nl_61 | with_reducible exact nl_85 | with_reducible exact nl_9999 | with_reducible exact rfl | apply i_add | apply i_mul)) (by omega) (by decide) (by first | with_reducible exact hw.hh | (simp (disch := omega) only [mA_sA, mA_sI, up_s, up_n, hw.hh, if_false] <;> rfl) | rfl) rfl ?_
  refine x_iconst (n' := 295) (v := -1) dX9_hourPasses_294 (by decide) rfl ?_
  refine x_fork (J := 323) (x_icmp_eq (n' := 298) (tgt := 322) dX9_hourPasses_295 (by decide) rfl) (v1 := ?v1_f295_10) (v2 := ?v2_f295_10) (fun c_f295_10 j_f295_10 => ?b1_f295_10) (fun c_f295_10 j_f295_10 => ?b2_f295_10) ?k_f295_10
  case b1_f295_10 =>
    refine x_iconst (n' := 323) (v := 0) dX9_hourPasses_322 (by decide) rfl ?_
    exact j_f295_10
  case b2_f295_10 =>
    refine x_iload_n (n' := 299) dX9_hourPasses_298 rfl rfl rfl ?_
    refine x_aload_n (n' := 300) dX9_hourPasses_299 rfl rfl rfl ?_
    refine x_getRs (n' := 303) (b := (ad 0)) dX9_hourPasses_300 (by repeat' (first | with_reducible exact km | with_reducible apply mK_A | with_reducible apply mK_I | with_reducible apply mK_L | with_reducible apply mK_R | with_reducible apply mK_O)) ffX9_9_9 rfl (by repeat' (first | with_reducible exact hr_g | with_reducible apply mR_A | with_reducible apply mR_I | with_reducible apply mR_L)) rfl ?_
    refine x_bipush (n' := 305) (v := 8) dX9_hourPasses_303 (by decide) rfl ?_
    refine x_ildk (n' := 306) (N := 2509) dX9_hourPasses_305 (by repeat' (first | with_reducible exact kk_g | with_reducible apply mK_A | with_reducible apply mK_I | with_reducible apply mK_L | with_reducible apply mK_R | with_reducible apply mK_O)) (by repeat' (first | with_reducible exact hn_g | with_reducible apply mN_A | with_reducible apply mN_I | with_reducible apply mN_L | with_reducible apply mN_R | with_reducible apply mN_O)) (by repeat' (first | with_reducible exact nl_0 | with_reducible exact nl_1 | with_reducible exact nl_2 | with_reducible exact nl_3 | with_reducible exact nl_4 | with_reducible exact nl_5 | with_reducible exact nl_6 | with_reducible exact nl_8 | with_reducible exact nl_9 | with_reducible exact nl_10 | with_reducible exact nl_11 | with_reducible exact nl_13 | with_reducible exact nl_18 | with_reducible exact nl_20 | with_reducible exact nl_24 | with_reducible exact nl_61 | with_reducible exact nl_85 | with_reducible exact nl_9999 | with_reducible exact rfl | apply i_add | apply i_mul)) (by omega) (by decide) (by first | with_reducible exact hw.hh | (simp (disch := omega) only [mA_sA, mA_sI, up_s, up_n, hw.hh, if_false] <;> rfl) | rfl) rfl ?_
    refine x_fork (J := 323) (x_icmp_lt (n' := 309) (tgt := 322) dX9_hourPasses_306 (by decide) rfl) (v1 := ?v1_f306_11) (v2 := ?v2_f306_11) (fun c_f306_11 j_f306_11 => ?b1_f306_11) (fun c_f306_11 j_f306_11 => ?b2_f306_11) ?k_f306_11
    case b1_f306_11 =>
      refine x_iconst (n' := 323) (v := 0) dX9_hourPasses_322 (by decide) rfl ?_
      exact j_f306_11
    case b2_f306_11 =>
      refine x_iload_n (n' := 310) dX9_hourPasses_309 rfl rfl rfl ?_
      refine x_iconst (n' := 311) (v := 2) dX9_hourPasses_310 (by decide) rfl ?_
      refine x_fork (J := 323) (x_icmp_eq (n' := 314) (tgt := 322) dX9_hourPasses_311 (by decide) rfl) (v1 := ?v1_f311_12) (v2 := ?v2_f311_12) (fun c_f311_12 j_f311_12 => ?b1_f311_12) (fun c_f311_12 j_f311_12 => ?b2_f311_12) ?k_f311_12
      case b1_f311_12 =>
        refine x_iconst (n' := 323) (v := 0) dX9_hourPasses_322 (by decide) rfl ?_
        exact j_f311_12
      case b2_f311_12 =>
        refine x_iload_n (n' := 315) dX9_hourPasses_314 rfl rfl rfl ?_
        refine x_forkN (J := 323) (x_if_ne (n' := 318) (tgt := 322) dX9_hourPasses_315 (by decide) rfl) (v1 := ?v1_f315_13) (v2 := ?v2_f315_13) (fun c_f315_13 j_f315_13 => ?b1_f315_13) (fun c_f315_13 j_f315_13 => ?b2_f315_13) ?k_f315_13
        case b1_f315_13 =>
          refine x_iconst (n' := 323) (v := 0) dX9_hourPasses_322 (by decide) rfl ?_
          exact j_f315_13
        case b2_f315_13 =>
          refine x_iconst (n' := 319) (v := 1) dX9_hourPasses_318 (by decide) rfl ?_
          refine x_goto (tgt := 323) dX9_hourPasses_319 (by decide) ?_
          exact j_f315_13
        exact j_f311_12
      exact j_f306_11
    exact j_f295_10
  refine x_topv (y := (boV (mA M (ad 0)) h nr nk ns)) (by exact boat_eq) ?_
  refine x_putI (n' := 326) dX9_hourPasses_323 (by repeat' (first | with_reducible exact km | with_reducible apply mK_A | with_reducible apply mK_I | with_reducible apply mK_L | with_reducible apply mK_R | with_reducible apply mK_O)) ffX9_107_9 rfl (k_bool (bi_01 _)) rfl rfl ?_
  refine x_aload_n (n' := 327) dX9_hourPasses_326 rfl rfl rfl ?_
  refine x_getI (n' := 330) dX9_hourPasses_327 (by repeat' (first | with_reducible exact km | with_reducible apply mK_A | with_reducible apply mK_I | with_reducible apply mK_L | with_reducible apply mK_R | with_reducible apply mK_O)) ffX9_107_9 rfl rfl ?_
  refine x_topv mI_sI ?_
  refine x_if_eq (n' := 333) (tgt := 448) dX9_hourPasses_330 (by decide) rfl (fun c330_14 => ?_) (fun c330_14 => ?_)
  · have C330 := c330_14
    refine x_mem (M2 := sI (sA M (ad 0) (s9 (mA M (ad 0)) h nr nk ns)) (fc 9 7) m (boV (mA M (ad 0)) h nr nk ns)) (by unfold s9; first | (rw [hg9_a C330]; try rfl) | (rw [hg9_b C330, show i = nk by omega]; try rfl)) ?_
    exact x_drop (cut448 trivial) ⟨rfl, ⟨rfl, ⟨rfl, ⟨rfl, ⟨rfl, ⟨rfl, ⟨rfl, ⟨rfl, ⟨rfl, trivial⟩⟩⟩⟩⟩⟩⟩⟩⟩
  · have C330 := c330_14
    refine x_aload_n (n' := 334) dX9_hourPasses_333 rfl rfl rfl ?_
    refine x_getRs (n' := 337) (b := (ad 0)) dX9_hourPasses_334 (by repeat' (first | with_reducible exact km | with_reducible apply mK_A | with_reducible apply mK_I | with_reducible apply mK_L | with_reducible apply mK_R | with_reducible apply mK_O)) ffX9_9_9 rfl (by repeat' (first | with_reducible exact hr_g | with_reducible apply mR_A | with_reducible apply mR_I | with_reducible apply mR_L)) rfl ?_
    refine x_iconst (n' := 338) (v := 4) dX9_hourPasses_337 (by decide) rfl ?_
    refine x_sipush (n' := 341) (v := 9999) dX9_hourPasses_338 (by decide) rfl ?_
    refine x_aload_n (n' := 342) dX9_hourPasses_341 rfl rfl rfl ?_
    refine x_getRs (n' := 345) (b := (ad 0)) dX9_hourPasses_342 (by repeat' (first | with_reducible exact km | with_reducible apply mK_A | with_reducible apply mK_I | with_reducible apply mK_L | with_reducible apply mK_R | with_reducible apply mK_O)) ffX9_9_9 rfl (by repeat' (first | with_reducible exact hr_g | with_reducible apply mR_A | with_reducible apply mR_I | with_reducible apply mR_L)) rfl ?_
    refine x_iconst (n' := 346) (v := 4) dX9_hourPasses_345 (by decide) rfl ?_
    refine x_ildk (n' := 347) (N := 2509) dX9_hourPasses_346 (by repeat' (first | with_reducible exact kk_g | with_reducible apply mK_A | with_reducible apply mK_I | with_reducible apply mK_L | with_reducible apply mK_R | with_reducible apply mK_O)) (by repeat' (first | with_reducible exact hn_g | with_reducible apply mN_A | with_reducible apply mN_I | with_reducible apply mN_L | with_reducible apply mN_R | with_reducible apply mN_O)) (by repeat' (first | with_reducible exact nl_0 | with_reducible exact nl_1 | with_reducible exact nl_2 | with_reducible exact nl_3 | with_reducible exact nl_4 | with_reducible exact nl_5 | with_reducible exact nl_6 | with_reducible exact nl_8 | with_reducible exact nl_9 | with_reducible exact nl_10 | with_reducible exact nl_11 | with_reducible exact nl_13 | with_reducible exact nl_18 | with_reducible exact nl_20 | with_reducible exact nl_24 | with_reducible exact nl_61 | with_reducible exact nl_85 | with_reducible exact nl_9999 | with_reducible exact rfl | apply i_add | apply i_mul)) (by omega) (by decide) (by first | with_reducible exact hw.hh | (simp (disch := omega) only [mA_sA, mA_sI, up_s, up_n, hw.hh, if_false] <;> rfl) | rfl) rfl ?_
    refine x_aload_n (n' := 348) dX9_hourPasses_347 rfl rfl rfl ?_
    refine x_getRs (n' := 351) (b := (ad 0)) dX9_hourPasses_348 (by repeat' (first | with_reducible exact km | with_reducible apply mK_A | with_reducible apply mK_I | with_reducible apply mK_L | with_reducible apply mK_R | with_reducible apply mK_O)) ffX9_9_9 rfl (by repeat' (first | with_reducible exact hr_g | with_reducible apply mR_A | with_reducible apply mR_I | with_reducible apply mR_L)) rfl ?_
    refine x_bipush (n' := 353) (v := 10) dX9_hourPasses_351 (by decide) rfl ?_
    refine x_ildk (n' := 354) (N := 2509) dX9_hourPasses_353 (by repeat' (first | with_reducible exact kk_g | with_reducible apply mK_A | with_reducible apply mK_I | with_reducible apply mK_L | with_reducible apply mK_R | with_reducible apply mK_O)) (by repeat' (first | with_reducible exact hn_g | with_reducible apply mN_A | with_reducible apply mN_I | with_reducible apply mN_L | with_reducible apply mN_R | with_reducible apply mN_O)) (by repeat' (first | with_reducible exact nl_0 | with_reducible exact nl_1 | with_reducible exact nl_2 | with_reducible exact nl_3 | with_reducible exact nl_4 | with_reducible exact nl_5 | with_reducible exact nl_6 | with_reducible exact nl_8 | with_reducible exact nl_9 | with_reducible exact nl_10 | with_reducible exact nl_11 | with_reducible exact nl_13 | with_reducible exact nl_18 | with_reducible exact nl_20 | with_reducible exact nl_24 | with_reducible exact nl_61 | with_reducible exact nl_85 | with_reducible exact nl_9999 | with_reducible exact rfl | apply i_add | apply i_mul)) (by omega) (by decide) (by first | with_reducible exact hw.hh | (simp (disch := omega) only [mA_sA, mA_sI, up_s, up_n, hw.hh, if_false] <;> rfl) | rfl) rfl ?_
    refine x_iadd (n' := 355) dX9_hourPasses_354 rfl ?_
    refine x_mmin (n' := 358) dX9_hourPasses_355 q3460 q496 q101 q497 ⟨(Nat.le_of_ble_eq_true rfl), (Nat.le_of_ble_eq_true rfl)⟩ (Nat.le_of_ble_eq_true rfl) rfl ?_
    refine x_iastk (n' := 359) (N := 2509) dX9_hourPasses_358 (by repeat' (first | with_reducible exact kk_g | with_reducible apply mK_A | with_reducible apply mK_I | with_reducible apply mK_L | with_reducible apply mK_R | with_reducible apply mK_O)) (by repeat' (first | with_reducible exact hn_g | with_reducible apply mN_A | with_reducible apply mN_I | with_reducible apply mN_L | with_reducible apply mN_R | with_reducible apply mN_O)) (by repeat' (first | with_reducible exact nl_0 | with_reducible exact nl_1 | with_reducible exact nl_2 | with_reducible exact nl_3 | with_reducible exact nl_4 | with_reducible exact nl_5 | with_reducible exact nl_6 | with_reducible exact nl_8 | with_reducible exact nl_9 | with_reducible exact nl_10 | with_reducible exact nl_11 | with_reducible exact nl_13 | with_reducible exact nl_18 | with_reducible exact nl_20 | with_reducible exact nl_24 | with_reducible exact nl_61 | with_reducible exact nl_85 | with_reducible exact nl_9999 | with_reducible exact rfl | apply i_add | apply i_mul)) (by omega) (by decide) (by first | with_reducible exact mA_sA | with_reducible exact mA_sI_sA | with_reducible exact mA_sI3_sA | rfl) (by first | with_reducible exact sA_sA | with_reducible exact sA_sI_sA | with_reducible exact sA_sI3_sA | rfl) rfl ?_
    refine x_aload_n (n' := 360) dX9_hourPasses_359 rfl rfl rfl ?_
    refine x_getRs (n' := 363) (b := (ad 0)) dX9_hourPasses_360 (by repeat' (first | with_reducible exact km | with_reducible apply mK_A | with_reducible apply mK_I | with_reducible apply mK_L | with_reducible apply mK_R | with_reducible apply mK_O)) ffX9_9_9 rfl (by repeat' (first | with_reducible exact hr_g | with_reducible apply mR_A | with_reducible apply mR_I | with_reducible apply mR_L)) rfl ?_
    refine x_iconst (n' := 364) (v := 5) dX9_hourPasses_363 (by decide) rfl ?_
    refine x_sipush (n' := 367) (v := 9999) dX9_hourPasses_364 (by decide) rfl ?_
    refine x_aload_n (n' := 368) dX9_hourPasses_367 rfl rfl rfl ?_
    refine x_getRs (n' := 371) (b := (ad 0)) dX9_hourPasses_368 (by repeat' (first | with_reducible exact km | with_reducible apply mK_A | with_reducible apply mK_I | with_reducible apply mK_L | with_reducible apply mK_R | with_reducible apply mK_O)) ffX9_9_9 rfl (by repeat' (first | with_reducible exact hr_g | with_reducible apply mR_A | with_reducible apply mR_I | with_reducible apply mR_L)) rfl ?_
    refine x_iconst (n' := 372) (v := 5) dX9_hourPasses_371 (by decide) rfl ?_
    refine x_ildk (n' := 373) (N := 2509) dX9_hourPasses_372 (by repeat' (first | with_reducible exact kk_g | with_reducible apply mK_A | with_reducible apply mK_I | with_reducible apply mK_L | with_reducible apply mK_R | with_reducible apply mK_O)) (by repeat' (first | with_reducible exact hn_g | with_reducible apply mN_A | with_reducible apply mN_I | with_reducible apply mN_L | with_reducible apply mN_R | with_reducible apply mN_O)) (by repeat' (first | with_reducible exact nl_0 | with_reducible exact nl_1 | with_reducible exact nl_2 | with_reducible exact nl_3 | with_reducible exact nl_4 | with_reducible exact nl_5 | with_reducible exact nl_6 | with_reducible exact nl_8 | with_reducible exact nl_9 | with_reducible exact nl_10 | with_reducible exact nl_11 | with_reducible exact nl_13 | with_reducible exact nl_18 | with_reducible exact nl_20 | with_reducible exact nl_24 | with_reducible exact nl_61 | with_reducible exact nl_85 | with_reducible exact nl_9999 | with_reducible exact rfl | apply i_add | apply i_mul)) (by omega) (by decide) (by first | with_reducible exact hw.hh | (simp (disch := omega) only [mA_sA, mA_sI, up_s, up_n, hw.hh, if_false] <;> rfl) | rfl) rfl ?_
    refine x_aload_n (n' := 374) dX9_hourPasses_373 rfl rfl rfl ?_
    refine x_getRs (n' := 377) (b := (ad 0)) dX9_hourPasses_374 (by repeat' (first | with_reducible exact km | with_reducible apply mK_A | with_reducible apply mK_I | with_reducible apply mK_L | with_reducible apply mK_R | with_reducible apply mK_O)) ffX9_9_9 rfl (by repeat' (first | with_reducible exact hr_g | with_reducible apply mR_A | with_reducible apply mR_I | with_reducible apply mR_L)) rfl ?_
    refine x_bipush (n' := 379) (v := 11) dX9_hourPasses_377 (by decide) rfl ?_
    refine x_ildk (n' := 380) (N := 2509) dX9_hourPasses_379 (by repeat' (first | with_reducible exact kk_g | with_reducible apply mK_A | with_reducible apply mK_I | with_reducible apply mK_L | with_reducible apply mK_R | with_reducible apply mK_O)) (by repeat' (first | with_reducible exact hn_g | with_reducible apply mN_A | with_reducible apply mN_I | with_reducible apply mN_L | with_reducible apply mN_R | with_reducible apply mN_O)) (by repeat' (first | with_reducible exact nl_0 | with_reducible exact nl_1 | with_reducible exact nl_2 | with_reducible exact nl_3 | with_reducible exact nl_4 | with_reducible exact nl_5 | with_reducible exact nl_6 | with_reducible exact nl_8 | with_reducible exact nl_9 | with_reducible exact nl_10 | with_reducible exact nl_11 | with_reducible exact nl_13 | with_reducible exact nl_18 | with_reducible exact nl_20 | with_reducible exact nl_24 | with_reducible exact nl_61 | with_reducible exact nl_85 | with_reducible exact nl_9999 | with_reducible exact rfl | apply i_add | apply i_mul)) (by omega) (by decide) (by first | with_reducible exact hw.hh | (simp (disch := omega) only [mA_sA, mA_sI, up_s, up_n, hw.hh, if_false] <;> rfl) | rfl) rfl ?_
    refine x_iadd (n' := 381) dX9_hourPasses_380 rfl ?_
    refine x_mmin (n' := 384) dX9_hourPasses_381 q3460 q496 q101 q497 ⟨(Nat.le_of_ble_eq_true rfl), (Nat.le_of_ble_eq_true rfl)⟩ (Nat.le_of_ble_eq_true rfl) rfl ?_
    refine x_iastk (n' := 385) (N := 2509) dX9_hourPasses_384 (by repeat' (first | with_reducible exact kk_g | with_reducible apply mK_A | with_reducible apply mK_I | with_reducible apply mK_L | with_reducible apply mK_R | with_reducible apply mK_O)) (by repeat' (first | with_reducible exact hn_g | with_reducible apply mN_A | with_reducible apply mN_I | with_reducible apply mN_L | with_reducible apply mN_R | with_reducible apply mN_O)) (by repeat' (first | with_reducible exact nl_0 | with_reducible exact nl_1 | with_reducible exact nl_2 | with_reducible exact nl_3 | with_reducible exact nl_4 | with_reducible exact nl_5 | with_reducible exact nl_6 | with_reducible exact nl_8 | with_reducible exact nl_9 | with_reducible exact nl_10 | with_reducible exact nl_11 | with_reducible exact nl_13 | with_reducible exact nl_18 | with_reducible exact nl_20 | with_reducible exact nl_24 | with_reducible exact nl_61 | with_reducible exact nl_85 | with_reducible exact nl_9999 | with_reducible exact rfl | apply i_add | apply i_mul)) (by omega) (by decide) (by first | with_reducible exact mA_sA | with_reducible exact mA_sI_sA | with_reducible exact mA_sI3_sA | rfl) (by first | with_reducible exact sA_sA | with_reducible exact sA_sI_sA | with_reducible exact sA_sI3_sA | rfl) rfl ?_
    refine x_aload_n (n' := 386) dX9_hourPasses_385 rfl rfl rfl ?_
    refine x_getRs (n' := 389) (b := (ad 0)) dX9_hourPasses_386 (by repeat' (first | with_reducible exact km | with_reducible apply mK_A | with_reducible apply mK_I | with_reducible apply mK_L | with_reducible apply mK_R | with_reducible apply mK_O)) ffX9_9_9 rfl (by repeat' (first | with_reducible exact hr_g | with_reducible apply mR_A | with_reducible apply mR_I | with_reducible apply mR_L)) rfl ?_
    refine x_bipush (n' := 391) (v := 8) dX9_hourPasses_389 (by decide) rfl ?_
    refine x_iload_n (n' := 392) dX9_hourPasses_391 rfl rfl rfl ?_
    refine x_aload_n (n' := 393) dX9_hourPasses_392 rfl rfl rfl ?_
    refine x_getRs (n' := 396) (b := (ad 0)) dX9_hourPasses_393 (by repeat' (first | with_reducible exact km | with_reducible apply mK_A | with_reducible apply mK_I | with_reducible apply mK_L | with_reducible apply mK_R | with_reducible apply mK_O)) ffX9_9_9 rfl (by repeat' (first | with_reducible exact hr_g | with_reducible apply mR_A | with_reducible apply mR_I | with_reducible apply mR_L)) rfl ?_
    refine x_bipush (n' := 398) (v := 9) dX9_hourPasses_396 (by decide) rfl ?_
    refine x_ildk (n' := 399) (N := 2509) dX9_hourPasses_398 (by repeat' (first | with_reducible exact kk_g | with_reducible apply mK_A | with_reducible apply mK_I | with_reducible apply mK_L | with_reducible apply mK_R | with_reducible apply mK_O)) (by repeat' (first | with_reducible exact hn_g | with_reducible apply mN_A | with_reducible apply mN_I | with_reducible apply mN_L | with_reducible apply mN_R | with_reducible apply mN_O)) (by repeat' (first | with_reducible exact nl_0 | with_reducible exact nl_1 | with_reducible exact nl_2 | with_reducible exact nl_3 | with_reducible exact nl_4 | with_reducible exact nl_5 | with_reducible exact nl_6 | with_reducible exact nl_8 | with_reducible exact nl_9 | with_reducible exact nl_10 | with_reducible exact nl_11 | with_reducible exact nl_13 | with_reducible exact nl_18 | with_reducible exact nl_20 | with_reducible exact nl_24 | with_reducible exact nl_61 | with_reducible exact nl_85 | with_reducible exact nl_9999 | with_reducible exact rfl | apply i_add | apply i_mul)) (by omega) (by decide) (by first | with_reducible exact hw.hh | (simp (disch := omega) only [mA_sA, mA_sI, up_s, up_n, hw.hh, if_false] <;> rfl) | rfl) rfl ?_
    refine x_iadd (n' := 400) dX9_hourPasses_399 rfl ?_
    refine x_iastk (n' := 401) (N := 2509) dX9_hourPasses_400 (by repeat' (first | with_reducible exact kk_g | with_reducible apply mK_A | with_reducible apply mK_I | with_reducible apply mK_L | with_reducible apply mK_R | with_reducible apply mK_O)) (by repeat' (first | with_reducible exact hn_g | with_reducible apply mN_A | with_reducible apply mN_I | with_reducible apply mN_L | with_reducible apply mN_R | with_reducible apply mN_O)) (by repeat' (first | with_reducible exact nl_0 | with_reducible exact nl_1 | with_reducible exact nl_2 | with_reducible exact nl_3 | with_reducible exact nl_4 | with_reducible exact nl_5 | with_reducible exact nl_6 | with_reducible exact nl_8 | with_reducible exact nl_9 | with_reducible exact nl_10 | with_reducible exact nl_11 | with_reducible exact nl_13 | with_reducible exact nl_18 | with_reducible exact nl_20 | with_reducible exact nl_24 | with_reducible exact nl_61 | with_reducible exact nl_85 | with_reducible exact nl_9999 | with_reducible exact rfl | apply i_add | apply i_mul)) (by omega) (by decide) (by first | with_reducible exact mA_sA | with_reducible exact mA_sI_sA | with_reducible exact mA_sI3_sA | rfl) (by first | with_reducible exact sA_sA | with_reducible exact sA_sI_sA | with_reducible exact sA_sI3_sA | rfl) rfl ?_
    refine x_aload_n (n' := 402) dX9_hourPasses_401 rfl rfl rfl ?_
    refine x_getRs (n' := 405) (b := (ad 0)) dX9_hourPasses_402 (by repeat' (first | with_reducible exact km | with_reducible apply mK_A | with_reducible apply mK_I | with_reducible apply mK_L | with_reducible apply mK_R | with_reducible apply mK_O)) ffX9_9_9 rfl (by repeat' (first | with_reducible exact hr_g | with_reducible apply mR_A | with_reducible apply mR_I | with_reducible apply mR_L)) rfl ?_
    refine x_bipush (n' := 407) (v := 18) dX9_hourPasses_405 (by decide) rfl ?_
    refine x_dup2_11 (n' := 408) dX9_hourPasses_407 rfl rfl rfl ?_
    refine x_ildk (n' := 409) (N := 2509) dX9_hourPasses_408 (by repeat' (first | with_reducible exact kk_g | with_reducible apply mK_A | with_reducible apply mK_I | with_reducible apply mK_L | with_reducible apply mK_R | with_reducible apply mK_O)) (by repeat' (first | with_reducible exact hn_g | with_reducible apply mN_A | with_reducible apply mN_I | with_reducible apply mN_L | with_reducible apply mN_R | with_reducible apply mN_O)) (by repeat' (first | with_reducible exact nl_0 | with_reducible exact nl_1 | with_reducible exact nl_2 | with_reducible exact nl_3 | with_reducible exact nl_4 | with_reducible exact nl_5 | with_reducible exact nl_6 | with_reducible exact nl_8 | with_reducible exact nl_9 | with_reducible exact nl_10 | with_reducible exact nl_11 | with_reducible exact nl_13 | with_reducible exact nl_18 | with_reducible exact nl_20 | with_reducible exact nl_24 | with_reducible exact nl_61 | with_reducible exact nl_85 | with_reducible exact nl_9999 | with_reducible exact rfl | apply i_add | apply i_mul)) (by omega) (by decide) (by first | with_reducible exact hw.hh | (simp (disch := omega) only [mA_sA, mA_sI, up_s, up_n, hw.hh, if_false] <;> rfl) | rfl) rfl ?_
    refine x_iconst (n' := 410) (v := 1) dX9_hourPasses_409 (by decide) rfl ?_
    refine x_iadd (n' := 411) dX9_hourPasses_410 rfl ?_
    refine x_iastk (n' := 412) (N := 2509) dX9_hourPasses_411 (by repeat' (first | with_reducible exact kk_g | with_reducible apply mK_A | with_reducible apply mK_I | with_reducible apply mK_L | with_reducible apply mK_R | with_reducible apply mK_O)) (by repeat' (first | with_reducible exact hn_g | with_reducible apply mN_A | with_reducible apply mN_I | with_reducible apply mN_L | with_reducible apply mN_R | with_reducible apply mN_O)) (by repeat' (first | with_reducible exact nl_0 | with_reducible exact nl_1 | with_reducible exact nl_2 | with_reducible exact nl_3 | with_reducible exact nl_4 | with_reducible exact nl_5 | with_reducible exact nl_6 | with_reducible exact nl_8 | with_reducible exact nl_9 | with_reducible exact nl_10 | with_reducible exact nl_11 | with_reducible exact nl_13 | with_reducible exact nl_18 | with_reducible exact nl_20 | with_reducible exact nl_24 | with_reducible exact nl_61 | with_reducible exact nl_85 | with_reducible exact nl_9999 | with_reducible exact rfl | apply i_add | apply i_mul)) (by omega) (by decide) (by first | with_reducible exact mA_sA | with_reducible exact mA_sI_sA | with_reducible exact mA_sI3_sA | rfl) (by first | with_reducible exact sA_sA | with_reducible exact sA_sI_sA | with_reducible exact sA_sI3_sA | rfl) rfl ?_
    refine x_iconst (n' := 413) (v := 0) dX9_hourPasses_412 (by decide) rfl ?_
    refine x_istore (n' := 415) dX9_hourPasses_413 (Nat.le_of_ble_eq_true rfl) rfl (by dsimp only [List.set] <;> rfl) rfl ?_
    refine x_mem (M2 := sI (sA M (ad 0) (rstG (supG (s8 (mA M (ad 0)) h nr nk ns) h) 0)) (fc 9 7) m (boV (mA M (ad 0)) h nr nk ns)) (by rw [rst_0]; rfl) ?_
    exact x_drop (cut415 (nk + 1) 0 (by omega) (by omega) C330) ⟨rfl, ⟨rfl, ⟨rfl, ⟨rfl, ⟨rfl, ⟨rfl, ⟨rfl, ⟨rfl, ⟨rfl, ⟨rfl, trivial⟩⟩⟩⟩⟩⟩⟩⟩⟩⟩
set_option maxHeartbeats 4000000 in
set_option maxRecDepth 100000 in
theorem k241_c_X9_hourPasses (l : Launch) (G : kG) (M : kM) (m : Nat) (ad : Nat → Nat) (hS : MS M m ad) (h nr nk ns : Nat) (hw : WF (mA M (ad 0)) h nr nk ns) (hb : h + 1 < 2147483648) (pp : Program) (ee : Env) (ss : State) (mm : MethodId) (args : Array Value) (below : List Frame) (meth : Method) (cd : Code) (hmn : meth.name = yX9_hourPasses.name) (hret : meth.sig.returnType = none) : ∀ (_ : True), Wx pp l ee { frames := 3, cells := 0, slots := 0, locals := 77 } ss mm args below meth cd "KeptLightModel" cX9_hourPasses 10 G (MQ below (KQ G M (fun v M2 => v = none ∧ M2 = hrM M m (ad 0) (hourG (mA M (ad 0)) h nr nk ns) (boV (mA M (ad 0)) h nr nk ns) (dav (mA M (ad 0)) h) (tev (mA M (ad 0)) h))) args ss (0) (0) (kA G)) 241 [some (.ref m), some (.int (nI h)), some (.int (weaG (mA M (ad 0)) nr h)), some (.int (dav (mA M (ad 0)) h)), some (.int (plV (mA M (ad 0)) h)), some (.int (fav (mA M (ad 0)) h)), some (.int (tev (mA M (ad 0)) h)), some (.int (coV (mA M (ad 0)) h nr)), some (.int (wh (mA M (ad 0)) h)), none] [] (sA M (ad 0) (s5 (mA M (ad 0)) h nr)) (0) (0) := by
  have km := hS.1
  obtain ⟨hr_g, kk_g, hn_g⟩ := hS.2.1 0 (by decide)
  have hr_g : mR M (fc 9 0) m = some (ad 0) := hr_g
  have hn_g : mN M (ad 0) = 2509 := hn_g
  have kk_g : mK M (ad 0) = some 120 := kk_g
  have hm24 : h % 24 < 24 := Nat.mod_lt _ (by decide)
  have hp6 := hw.pl (h % 24) hm24
  have hk6 := hw.k6
  have hfN := fN_le (fallP (mA M (ad 0)) (plV (mA M (ad 0)) h))
  have cut448 := k448_c_X9_hourPasses l G M m ad hS h nr nk ns hw hb pp ee ss mm args below meth cd hmn hret
  have cut415 := k415_c_X9_hourPasses l G M m ad hS h nr nk ns hw hb pp ee ss mm args below meth cd hmn hret
  have cut269 := k269_c_X9_hourPasses l G M m ad hS h nr nk ns hw hb pp ee ss mm args below meth cd hmn hret
  intro _
  refine x_iload (n' := 243) dX9_hourPasses_241 rfl rfl ?_
  refine x_if_eq (n' := 246) (tgt := 269) dX9_hourPasses_243 (by decide) rfl (fun c243_15 => ?_) (fun c243_15 => ?_)
  · have C243 := c243_15
    refine x_mem (M2 := sA M (ad 0) (s6 (mA M (ad 0)) h nr)) (by unfold s6; first | (rw [hg6_a C243]; try rfl) | (rw [hg6_b C254]; try rfl) | (rw [hg6_c C258]; try rfl) | (rw [hg6_d C243 C254 C258]; try rfl)) ?_
    exact x_drop (cut269 trivial) ⟨rfl, ⟨rfl, ⟨rfl, ⟨rfl, ⟨rfl, ⟨rfl, ⟨rfl, ⟨rfl, ⟨rfl, trivial⟩⟩⟩⟩⟩⟩⟩⟩⟩
  · have C243 := c243_15
    refine x_aload_n (n' := 247) dX9_hourPasses_246 rfl rfl rfl ?_
    refine x_iload (n' := 249) dX9_hourPasses_247 rfl rfl ?_
    refine x_topv (nn_of (bi_n0 C243).1) ?_
    refine x_iconst (n' := 250) (v := 0) dX9_hourPasses_249 (by decide) rfl ?_
    refine x_callV (n' := 253) (n := 2) (K := 9) (c_X9_ofKeeper l G _ m ad (by repeat' (first | with_reducible exact hS | with_reducible apply MS.sA | with_reducible apply MS.sI | with_reducible apply MS.sL)) (nn (plV (mA M (ad 0)) h)) 0 (by have := hp6 (bi_n0 C243).1; simp only [plV]; omega)) dX9_hourPasses_250 (by repeat' (first | with_reducible exact km | with_reducible apply mK_A | with_reducible apply mK_I | with_reducible apply mK_L | with_reducible apply mK_R | with_reducible apply mK_O)) rfl (lw_V q3421 q3423 qs59 q109 q3424) (by decide +kernel) ⟨(Nat.le_of_ble_eq_true rfl), (Nat.le_of_ble_eq_true rfl)⟩ rfl rfl (Nat.le_of_ble_eq_true rfl) (by first | exact Nat.le_of_ble_eq_true rfl | omega) (by first | exact Nat.le_of_ble_eq_true rfl | omega) rfl (fun v_16 M_17 h_19 hE_18 => ?_)
    obtain ⟨rfl, hMs⟩ := h_19
    have hMs := hMs.symm
    subst hMs
    rw [mA_sA]
    refine x_iconst (n' := 254) (v := 2) dX9_hourPasses_253 (by decide) rfl ?_
    refine x_icmp_ne (n' := 257) (tgt := 269) dX9_hourPasses_254 (by decide) rfl (fun c254_20 => ?_) (fun c254_20 => ?_)
    · have C254 := c254_20
      refine x_mem (M2 := sA M (ad 0) (s6 (mA M (ad 0)) h nr)) (by unfold s6; first | (rw [hg6_a C243]; try rfl) | (rw [hg6_b C254]; try rfl) | (rw [hg6_c C258]; try rfl) | (rw [hg6_d C243 C254 C258]; try rfl)) ?_
      exact x_drop (cut269 trivial) ⟨rfl, ⟨rfl, ⟨rfl, ⟨rfl, ⟨rfl, ⟨rfl, ⟨rfl, ⟨rfl, ⟨rfl, trivial⟩⟩⟩⟩⟩⟩⟩⟩⟩
    · have C254 := c254_20
      refine x_iload_n (n' := 258) dX9_hourPasses_257 rfl rfl rfl ?_
      refine x_if_eq (n' := 261) (tgt := 269) dX9_hourPasses_258 (by decide) rfl (fun c258_21 => ?_) (fun c258_21 => ?_)
      · have C258 := c258_21
        refine x_mem (M2 := sA M (ad 0) (s6 (mA M (ad 0)) h nr)) (by unfold s6; first | (rw [hg6_a C243]; try rfl) | (rw [hg6_b C254]; try rfl) | (rw [hg6_c C258]; try rfl) | (rw [hg6_d C243 C254 C258]; try rfl)) ?_
        exact x_drop (cut269 trivial) ⟨rfl, ⟨rfl, ⟨rfl, ⟨rfl, ⟨rfl, ⟨rfl, ⟨rfl, ⟨rfl, ⟨rfl, trivial⟩⟩⟩⟩⟩⟩⟩⟩⟩
      · have C258 := c258_21
        refine x_aload_n (n' := 262) dX9_hourPasses_261 rfl rfl rfl ?_
        refine x_iconst (n' := 263) (v := 1) dX9_hourPasses_262 (by decide) rfl ?_
        refine x_iconst (n' := 264) (v := -1) dX9_hourPasses_263 (by decide) rfl ?_
        refine x_iload (n' := 266) dX9_hourPasses_264 rfl rfl ?_
        refine x_callV (n' := 269) (n := 3) (K := 9) (c_X9_logs l G _ m ad (by repeat' (first | with_reducible exact hS | with_reducible apply MS.sA | with_reducible apply MS.sI | with_reducible apply MS.sL)) _ _ _ (by rw [mA_sA]; exact (s5_Sg hw).2 hw.lk)) dX9_hourPasses_266 (by repeat' (first | with_reducible exact km | with_reducible apply mK_A | with_reducible apply mK_I | with_reducible apply mK_L | with_reducible apply mK_R | with_reducible apply mK_O)) rfl (lw_V q3433 q3435 qs62 q109 q3436) (by decide +kernel) ⟨(Nat.le_of_ble_eq_true rfl), (Nat.le_of_ble_eq_true rfl)⟩ rfl rfl (Nat.le_of_ble_eq_true rfl) (by first | exact Nat.le_of_ble_eq_true rfl | omega) (by first | exact Nat.le_of_ble_eq_true rfl | omega) rfl (fun v_22 M_23 h_25 hE_24 => ?_)
        obtain ⟨rfl, hMs⟩ := h_25
        have hMs := hMs.symm
        subst hMs
        rw [mA_sA, sA_sA]
        refine x_mem (M2 := sA M (ad 0) (s6 (mA M (ad 0)) h nr)) (by unfold s6; first | (rw [hg6_a C243]; try rfl) | (rw [hg6_b C254]; try rfl) | (rw [hg6_c C258]; try rfl) | (rw [hg6_d C243 C254 C258]; try rfl)) ?_
        exact x_drop (cut269 trivial) ⟨rfl, ⟨rfl, ⟨rfl, ⟨rfl, ⟨rfl, ⟨rfl, ⟨rfl, ⟨rfl, ⟨rfl, trivial⟩⟩⟩⟩⟩⟩⟩⟩⟩
set_option maxHeartbeats 4000000 in
set_option maxRecDepth 100000 in
theorem k228_c_X9_hourPasses (l : Launch) (G : kG) (M : kM) (m : Nat) (ad : Nat → Nat) (hS : MS M m ad) (h nr nk ns : Nat) (hw : WF (mA M (ad 0)) h nr nk ns) (hb : h + 1 < 2147483648) (pp : Program) (ee : Env) (ss : State) (mm : MethodId) (args : Array Value) (below : List Frame) (meth : Method) (cd : Code) (hmn : meth.name = yX9_hourPasses.name) (hret : meth.sig.returnType = none) : ∀ (_ : True), Wx pp l ee { frames := 3, cells := 0, slots := 0, locals := 77 } ss mm args below meth cd "KeptLightModel" cX9_hourPasses 10 G (MQ below (KQ G M (fun v M2 => v = none ∧ M2 = hrM M m (ad 0) (hourG (mA M (ad 0)) h nr nk ns) (boV (mA M (ad 0)) h nr nk ns) (dav (mA M (ad 0)) h) (tev (mA M (ad 0)) h))) args ss (0) (0) (kA G)) 228 [some (.ref m), some (.int (nI h)), some (.int (weaG (mA M (ad 0)) nr h)), some (.int (dav (mA M (ad 0)) h)), some (.int (plV (mA M (ad 0)) h)), some (.int (fav (mA M (ad 0)) h)), some (.int (tev (mA M (ad 0)) h)), some (.int (coV (mA M (ad 0)) h nr)), some (.int (wh (mA M (ad 0)) h)), none] [] (sA M (ad 0) (s4 (mA M (ad 0)) h nr)) (0) (0) := by
  have km := hS.1
  obtain ⟨hr_g, kk_g, hn_g⟩ := hS.2.1 0 (by decide)
  have hr_g : mR M (fc 9 0) m = some (ad 0) := hr_g
  have hn_g : mN M (ad 0) = 2509 := hn_g
  have kk_g : mK M (ad 0) = some 120 := kk_g
  have hm24 : h % 24 < 24 := Nat.mod_lt _ (by decide)
  have hp6 := hw.pl (h % 24) hm24
  have hk6 := hw.k6
  have hfN := fN_le (fallP (mA M (ad 0)) (plV (mA M (ad 0)) h))
  have cut448 := k448_c_X9_hourPasses l G M m ad hS h nr nk ns hw hb pp ee ss mm args below meth cd hmn hret
  have cut415 := k415_c_X9_hourPasses l G M m ad hS h nr nk ns hw hb pp ee ss mm args below meth cd hmn hret
  have cut269 := k269_c_X9_hourPasses l G M m ad hS h nr nk ns hw hb pp ee ss mm args below meth cd hmn hret
  have cut241 := k241_c_X9_hourPasses l G M m ad hS h nr nk ns hw hb pp ee ss mm args below meth cd hmn hret
  intro _
  refine x_iload (n' := 230) dX9_hourPasses_228 rfl rfl ?_
  refine x_if_eq (n' := 233) (tgt := 241) dX9_hourPasses_230 (by decide) rfl (fun c230_26 => ?_) (fun c230_26 => ?_)
  · have C230 := c230_26
    refine x_mem (M2 := sA M (ad 0) (s5 (mA M (ad 0)) h nr)) (by unfold s5; first | (rw [hg5_a C230]; try rfl) | (rw [hg5_b C230]; try rfl)) ?_
    exact x_drop (cut241 trivial) ⟨rfl, ⟨rfl, ⟨rfl, ⟨rfl, ⟨rfl, ⟨rfl, ⟨rfl, ⟨rfl, ⟨rfl, trivial⟩⟩⟩⟩⟩⟩⟩⟩⟩
  · have C230 := c230_26
    refine x_aload_n (n' := 234) dX9_hourPasses_233 rfl rfl rfl ?_
    refine x_iconst (n' := 235) (v := 3) dX9_hourPasses_234 (by decide) rfl ?_
    refine x_iconst (n' := 236) (v := -1) dX9_hourPasses_235 (by decide) rfl ?_
    refine x_iload (n' := 238) dX9_hourPasses_236 rfl rfl ?_
    refine x_callV (n' := 241) (n := 3) (K := 9) (c_X9_logs l G _ m ad (by repeat' (first | with_reducible exact hS | with_reducible apply MS.sA | with_reducible apply MS.sI | with_reducible apply MS.sL)) _ _ _ (by rw [mA_sA]; exact (s4_Sg hw).2 hw.lk)) dX9_hourPasses_238 (by repeat' (first | with_reducible exact km | with_reducible apply mK_A | with_reducible apply mK_I | with_reducible apply mK_L | with_reducible apply mK_R | with_reducible apply mK_O)) rfl (lw_V q3433 q3435 qs62 q109 q3436) (by decide +kernel) ⟨(Nat.le_of_ble_eq_true rfl), (Nat.le_of_ble_eq_true rfl)⟩ rfl rfl (Nat.le_of_ble_eq_true rfl) (by first | exact Nat.le_of_ble_eq_true rfl | omega) (by first | exact Nat.le_of_ble_eq_true rfl | omega) rfl (fun v_27 M_28 h_30 hE_29 => ?_)
    obtain ⟨rfl, hMs⟩ := h_30
    have hMs := hMs.symm
    subst hMs
    rw [mA_sA, sA_sA]
    refine x_mem (M2 := sA M (ad 0) (s5 (mA M (ad 0)) h nr)) (by unfold s5; first | (rw [hg5_a C230]; try rfl) | (rw [hg5_b C230]; try rfl)) ?_
    exact x_drop (cut241 trivial) ⟨rfl, ⟨rfl, ⟨rfl, ⟨rfl, ⟨rfl, ⟨rfl, ⟨rfl, ⟨rfl, ⟨rfl, trivial⟩⟩⟩⟩⟩⟩⟩⟩⟩
set_option maxHeartbeats 4000000 in
set_option maxRecDepth 100000 in
theorem k130_c_X9_hourPasses (l : Launch) (G : kG) (M : kM) (m : Nat) (ad : Nat → Nat) (hS : MS M m ad) (h nr nk ns : Nat) (hw : WF (mA M (ad 0)) h nr nk ns) (hb : h + 1 < 2147483648) (pp : Program) (ee : Env) (ss : State) (mm : MethodId) (args : Array Value) (below : List Frame) (meth : Method) (cd : Code) (hmn : meth.name = yX9_hourPasses.name) (hret : meth.sig.returnType = none) : ∀ (_ : True), Wx pp l ee { frames := 3, cells := 0, slots := 0, locals := 77 } ss mm args below meth cd "KeptLightModel" cX9_hourPasses 10 G (MQ below (KQ G M (fun v M2 => v = none ∧ M2 = hrM M m (ad 0) (hourG (mA M (ad 0)) h nr nk ns) (boV (mA M (ad 0)) h nr nk ns) (dav (mA M (ad 0)) h) (tev (mA M (ad 0)) h))) args ss (0) (0) (kA G)) 130 [some (.ref m), some (.int (nI h)), some (.int (weaG (mA M (ad 0)) nr h)), some (.int (dav (mA M (ad 0)) h)), some (.int (plV (mA M (ad 0)) h)), some (.int (fav (mA M (ad 0)) h)), some (.int (tev (mA M (ad 0)) h)), none, none, none] [] (sA M (ad 0) (hg1 (mA M (ad 0)) (plV (mA M (ad 0)) h))) (0) (0) := by
  have km := hS.1
  obtain ⟨hr_g, kk_g, hn_g⟩ := hS.2.1 0 (by decide)
  have hr_g : mR M (fc 9 0) m = some (ad 0) := hr_g
  have hn_g : mN M (ad 0) = 2509 := hn_g
  have kk_g : mK M (ad 0) = some 120 := kk_g
  have hm24 : h % 24 < 24 := Nat.mod_lt _ (by decide)
  have hp6 := hw.pl (h % 24) hm24
  have hk6 := hw.k6
  have hfN := fN_le (fallP (mA M (ad 0)) (plV (mA M (ad 0)) h))
  have cut448 := k448_c_X9_hourPasses l G M m ad hS h nr nk ns hw hb pp ee ss mm args below meth cd hmn hret
  have cut415 := k415_c_X9_hourPasses l G M m ad hS h nr nk ns hw hb pp ee ss mm args below meth cd hmn hret
  have cut269 := k269_c_X9_hourPasses l G M m ad hS h nr nk ns hw hb pp ee ss mm args below meth cd hmn hret
  have cut241 := k241_c_X9_hourPasses l G M m ad hS h nr nk ns hw hb pp ee ss mm args below meth cd hmn hret
  have cut228 := k228_c_X9_hourPasses l G M m ad hS h nr nk ns hw hb pp ee ss mm args below meth cd hmn hret
  intro _
  refine x_aload_n (n' := 131) dX9_hourPasses_130 rfl rfl rfl ?_
  refine x_iload_n (n' := 132) dX9_hourPasses_131 rfl rfl rfl ?_
  refine x_iload (n' := 134) dX9_hourPasses_132 rfl rfl ?_
  refine x_callV (n' := 137) (n := 2) (K := 9) (c_X9_passesLamp l G _ m ad (by repeat' (first | with_reducible exact hS | with_reducible apply MS.sA | with_reducible apply MS.sI | with_reducible apply MS.sL)) _ _ h (by rw [mA_sA]; exact ((hg1_Sg hw).1 0 (Or.inl rfl)).trans hw.hh) (by omega)) dX9_hourPasses_134 (by repeat' (first | with_reducible exact km | with_reducible apply mK_A | with_reducible apply mK_I | with_reducible apply mK_L | with_reducible apply mK_R | with_reducible apply mK_O)) rfl (lw_V q3429 q3431 qs61 q109 q3432) (by decide +kernel) ⟨(Nat.le_of_ble_eq_true rfl), (Nat.le_of_ble_eq_true rfl)⟩ rfl rfl (Nat.le_of_ble_eq_true rfl) (by first | exact Nat.le_of_ble_eq_true rfl | omega) (by first | exact Nat.le_of_ble_eq_true rfl | omega) rfl (fun v_31 M_32 h_34 hE_33 => ?_)
  obtain ⟨rfl, hMs⟩ := h_34
  have hMs : M_32 = sA M (ad 0) (s2 (mA M (ad 0)) h) := hMs.trans (by rw [mA_sA, sA_sA]; rfl)
  have hMs := hMs.symm
  subst hMs
  refine x_iload_n (n' := 138) dX9_hourPasses_137 rfl rfl rfl ?_
  refine x_iconst (n' := 139) (v := 1) dX9_hourPasses_138 (by decide) rfl ?_
  refine x_forkN (J := 162) (x_icmp_ne (n' := 142) (tgt := 161) dX9_hourPasses_139 (by decide) rfl) (v1 := ?v1_f139_35) (v2 := ?v2_f139_35) (fun c_f139_35 j_f139_35 => ?b1_f139_35) (fun c_f139_35 j_f139_35 => ?b2_f139_35) ?k_f139_35
  case b1_f139_35 =>
    refine x_iconst (n' := 162) (v := 0) dX9_hourPasses_161 (by decide) rfl ?_
    exact j_f139_35
  case b2_f139_35 =>
    refine x_iload (n' := 144) dX9_hourPasses_142 rfl rfl ?_
    refine x_fork (J := 162) (x_if_eq (n' := 147) (tgt := 161) dX9_hourPasses_144 (by decide) rfl) (v1 := ?v1_f144_36) (v2 := ?v2_f144_36) (fun c_f144_36 j_f144_36 => ?b1_f144_36) (fun c_f144_36 j_f144_36 => ?b2_f144_36) ?k_f144_36
    case b1_f144_36 =>
      refine x_iconst (n' := 162) (v := 0) dX9_hourPasses_161 (by decide) rfl ?_
      exact j_f144_36
    case b2_f144_36 =>
      refine x_aload_n (n' := 148) dX9_hourPasses_147 rfl rfl rfl ?_
      refine x_getRs (n' := 151) (b := (ad 0)) dX9_hourPasses_148 (by repeat' (first | with_reducible exact km | with_reducible apply mK_A | with_reducible apply mK_I | with_reducible apply mK_L | with_reducible apply mK_R | with_reducible apply mK_O)) ffX9_9_9 rfl (by repeat' (first | with_reducible exact hr_g | with_reducible apply mR_A | with_reducible apply mR_I | with_reducible apply mR_L)) rfl ?_
      refine x_iconst (n' := 152) (v := 5) dX9_hourPasses_151 (by decide) rfl ?_
      refine x_ildk (n' := 153) (N := 2509) dX9_hourPasses_152 (by repeat' (first | with_reducible exact kk_g | with_reducible apply mK_A | with_reducible apply mK_I | with_reducible apply mK_L | with_reducible apply mK_R | with_reducible apply mK_O)) (by repeat' (first | with_reducible exact hn_g | with_reducible apply mN_A | with_reducible apply mN_I | with_reducible apply mN_L | with_reducible apply mN_R | with_reducible apply mN_O)) (by repeat' (first | with_reducible exact nl_0 | with_reducible exact nl_1 | with_reducible exact nl_2 | with_reducible exact nl_3 | with_reducible exact nl_4 | with_reducible exact nl_5 | with_reducible exact nl_6 | with_reducible exact nl_8 | with_reducible exact nl_9 | with_reducible exact nl_10 | with_reducible exact nl_11 | with_reducible exact nl_13 | with_reducible exact nl_18 | with_reducible exact nl_20 | with_reducible exact nl_24 | with_reducible exact nl_61 | with_reducible exact nl_85 | with_reducible exact nl_9999 | with_reducible exact rfl | apply i_add | apply i_mul)) (by omega) (by decide) (congrFun mA_sA 5) rfl ?_
      refine x_iconst (n' := 154) (v := 1) dX9_hourPasses_153 (by decide) rfl ?_
      refine x_fork (J := 162) (x_icmp_lt (n' := 157) (tgt := 161) dX9_hourPasses_154 (by decide) rfl) (v1 := ?v1_f154_37) (v2 := ?v2_f154_37) (fun c_f154_37 j_f154_37 => ?b1_f154_37) (fun c_f154_37 j_f154_37 => ?b2_f154_37) ?k_f154_37
      case b1_f154_37 =>
        refine x_iconst (n' := 162) (v := 0) dX9_hourPasses_161 (by decide) rfl ?_
        exact j_f154_37
      case b2_f154_37 =>
        refine x_iconst (n' := 158) (v := 1) dX9_hourPasses_157 (by decide) rfl ?_
        refine x_goto (tgt := 162) dX9_hourPasses_158 (by decide) ?_
        exact j_f154_37
      exact j_f144_36
    exact j_f139_35
  refine x_topv (y := (coV (mA M (ad 0)) h nr)) (by exact coal_eq) ?_
  refine x_istore (n' := 164) dX9_hourPasses_162 (Nat.le_of_ble_eq_true rfl) rfl (by dsimp only [List.set] <;> rfl) rfl ?_
  refine x_aload_n (n' := 165) dX9_hourPasses_164 rfl rfl rfl ?_
  refine x_getRs (n' := 168) (b := (ad 0)) dX9_hourPasses_165 (by repeat' (first | with_reducible exact km | with_reducible apply mK_A | with_reducible apply mK_I | with_reducible apply mK_L | with_reducible apply mK_R | with_reducible apply mK_O)) ffX9_9_9 rfl (by repeat' (first | with_reducible exact hr_g | with_reducible apply mR_A | with_reducible apply mR_I | with_reducible apply mR_L)) rfl ?_
  refine x_iconst (n' := 169) (v := 5) dX9_hourPasses_168 (by decide) rfl ?_
  refine x_dup2_11 (n' := 170) dX9_hourPasses_169 rfl rfl rfl ?_
  refine x_ildk (n' := 171) (N := 2509) dX9_hourPasses_170 (by repeat' (first | with_reducible exact kk_g | with_reducible apply mK_A | with_reducible apply mK_I | with_reducible apply mK_L | with_reducible apply mK_R | with_reducible apply mK_O)) (by repeat' (first | with_reducible exact hn_g | with_reducible apply mN_A | with_reducible apply mN_I | with_reducible apply mN_L | with_reducible apply mN_R | with_reducible apply mN_O)) (by repeat' (first | with_reducible exact nl_0 | with_reducible exact nl_1 | with_reducible exact nl_2 | with_reducible exact nl_3 | with_reducible exact nl_4 | with_reducible exact nl_5 | with_reducible exact nl_6 | with_reducible exact nl_8 | with_reducible exact nl_9 | with_reducible exact nl_10 | with_reducible exact nl_11 | with_reducible exact nl_13 | with_reducible exact nl_18 | with_reducible exact nl_20 | with_reducible exact nl_24 | with_reducible exact nl_61 | with_reducible exact nl_85 | with_reducible exact nl_9999 | with_reducible exact rfl | apply i_add | apply i_mul)) (by omega) (by decide) (congrFun mA_sA 5) rfl ?_
  refine x_iload (n' := 173) dX9_hourPasses_171 rfl rfl ?_
  refine x_fork (J := 181) (x_if_eq (n' := 176) (tgt := 180) dX9_hourPasses_173 (by decide) rfl) (v1 := ?v1_f173_38) (v2 := ?v2_f173_38) (fun c_f173_38 j_f173_38 => ?b1_f173_38) (fun c_f173_38 j_f173_38 => ?b2_f173_38) ?k_f173_38
  case b1_f173_38 =>
    refine x_iconst (n' := 181) (v := 0) dX9_hourPasses_180 (by decide) rfl ?_
    exact j_f173_38
  case b2_f173_38 =>
    refine x_iconst (n' := 177) (v := 1) dX9_hourPasses_176 (by decide) rfl ?_
    refine x_goto (tgt := 181) dX9_hourPasses_177 (by decide) ?_
    exact j_f173_38
  refine x_topv bi_if ?_
  refine x_isub (n' := 182) dX9_hourPasses_181 rfl ?_
  refine x_iastk (n' := 183) (N := 2509) dX9_hourPasses_182 (by repeat' (first | with_reducible exact kk_g | with_reducible apply mK_A | with_reducible apply mK_I | with_reducible apply mK_L | with_reducible apply mK_R | with_reducible apply mK_O)) (by repeat' (first | with_reducible exact hn_g | with_reducible apply mN_A | with_reducible apply mN_I | with_reducible apply mN_L | with_reducible apply mN_R | with_reducible apply mN_O)) (by repeat' (first | with_reducible exact nl_0 | with_reducible exact nl_1 | with_reducible exact nl_2 | with_reducible exact nl_3 | with_reducible exact nl_4 | with_reducible exact nl_5 | with_reducible exact nl_6 | with_reducible exact nl_8 | with_reducible exact nl_9 | with_reducible exact nl_10 | with_reducible exact nl_11 | with_reducible exact nl_13 | with_reducible exact nl_18 | with_reducible exact nl_20 | with_reducible exact nl_24 | with_reducible exact nl_61 | with_reducible exact nl_85 | with_reducible exact nl_9999 | with_reducible exact rfl | apply i_add | apply i_mul)) (by omega) (by decide) (by first | with_reducible exact mA_sA | with_reducible exact mA_sI_sA | with_reducible exact mA_sI3_sA | rfl) (by first | with_reducible exact sA_sA | with_reducible exact sA_sI_sA | with_reducible exact sA_sI3_sA | rfl) rfl ?_
  refine x_iload (n' := 185) dX9_hourPasses_183 rfl rfl ?_
  refine x_fork (J := 194) (x_if_eq (n' := 188) (tgt := 193) dX9_hourPasses_185 (by decide) rfl) (v1 := ?v1_f185_39) (v2 := ?v2_f185_39) (fun c_f185_39 j_f185_39 => ?b1_f185_39) (fun c_f185_39 j_f185_39 => ?b2_f185_39) ?k_f185_39
  case b1_f185_39 =>
    refine x_iconst (n' := 194) (v := -1) dX9_hourPasses_193 (by decide) rfl ?_
    exact j_f185_39
  case b2_f185_39 =>
    refine x_iload (n' := 190) dX9_hourPasses_188 rfl rfl ?_
    refine x_goto (tgt := 194) dX9_hourPasses_190 (by decide) ?_
    exact j_f185_39
  refine x_topv (y := (wh (mA M (ad 0)) h)) (by simp only [wh, whoV]) ?_
  refine x_istore (n' := 196) dX9_hourPasses_194 (Nat.le_of_ble_eq_true rfl) rfl (by dsimp only [List.set] <;> rfl) rfl ?_
  refine x_iload (n' := 198) dX9_hourPasses_196 rfl rfl ?_
  refine x_if_eq (n' := 201) (tgt := 228) dX9_hourPasses_198 (by decide) rfl (fun c198_40 => ?_) (fun c198_40 => ?_)
  · have C198 := c198_40
    refine x_mem (M2 := sA M (ad 0) (s4 (mA M (ad 0)) h nr)) (by unfold s4; first | (rw [hg4_a C198]; try rfl) | (rw [hg4_b C202]; try rfl) | (rw [hg4_c C198 C202]; try rfl)) ?_
    exact x_drop (cut228 trivial) ⟨rfl, ⟨rfl, ⟨rfl, ⟨rfl, ⟨rfl, ⟨rfl, ⟨rfl, ⟨rfl, ⟨rfl, trivial⟩⟩⟩⟩⟩⟩⟩⟩⟩
  · have C198 := c198_40
    refine x_iload_n (n' := 202) dX9_hourPasses_201 rfl rfl rfl ?_
    refine x_if_eq (n' := 205) (tgt := 228) dX9_hourPasses_202 (by decide) rfl (fun c202_41 => ?_) (fun c202_41 => ?_)
    · have C202 := c202_41
      refine x_mem (M2 := sA M (ad 0) (s4 (mA M (ad 0)) h nr)) (by unfold s4; first | (rw [hg4_a C198]; try rfl) | (rw [hg4_b C202]; try rfl) | (rw [hg4_c C198 C202]; try rfl)) ?_
      exact x_drop (cut228 trivial) ⟨rfl, ⟨rfl, ⟨rfl, ⟨rfl, ⟨rfl, ⟨rfl, ⟨rfl, ⟨rfl, ⟨rfl, trivial⟩⟩⟩⟩⟩⟩⟩⟩⟩
    · have C202 := c202_41
      refine x_aload_n (n' := 206) dX9_hourPasses_205 rfl rfl rfl ?_
      refine x_aload_n (n' := 207) dX9_hourPasses_206 rfl rfl rfl ?_
      refine x_getRs (n' := 210) (b := (ad 0)) dX9_hourPasses_207 (by repeat' (first | with_reducible exact km | with_reducible apply mK_A | with_reducible apply mK_I | with_reducible apply mK_L | with_reducible apply mK_R | with_reducible apply mK_O)) ffX9_9_9 rfl (by repeat' (first | with_reducible exact hr_g | with_reducible apply mR_A | with_reducible apply mR_I | with_reducible apply mR_L)) rfl ?_
      refine x_bipush (n' := 212) (v := 6) dX9_hourPasses_210 (by decide) rfl ?_
      refine x_ildk (n' := 213) (N := 2509) dX9_hourPasses_212 (by repeat' (first | with_reducible exact kk_g | with_reducible apply mK_A | with_reducible apply mK_I | with_reducible apply mK_L | with_reducible apply mK_R | with_reducible apply mK_O)) (by repeat' (first | with_reducible exact hn_g | with_reducible apply mN_A | with_reducible apply mN_I | with_reducible apply mN_L | with_reducible apply mN_R | with_reducible apply mN_O)) (by repeat' (first | with_reducible exact nl_0 | with_reducible exact nl_1 | with_reducible exact nl_2 | with_reducible exact nl_3 | with_reducible exact nl_4 | with_reducible exact nl_5 | with_reducible exact nl_6 | with_reducible exact nl_8 | with_reducible exact nl_9 | with_reducible exact nl_10 | with_reducible exact nl_11 | with_reducible exact nl_13 | with_reducible exact nl_18 | with_reducible exact nl_20 | with_reducible exact nl_24 | with_reducible exact nl_61 | with_reducible exact nl_85 | with_reducible exact nl_9999 | with_reducible exact rfl | apply i_add | apply i_mul)) (by omega) (by decide) (by first | with_reducible exact hw.hh | (simp (disch := omega) only [mA_sA, mA_sI, up_s, up_n, hw.hh, if_false] <;> rfl) | rfl) rfl ?_
      refine x_iconst (n' := 214) (v := 1) dX9_hourPasses_213 (by decide) rfl ?_
      refine x_forkN (J := 222) (x_icmp_ne (n' := 217) (tgt := 221) dX9_hourPasses_214 (by decide) rfl) (v1 := ?v1_f214_42) (v2 := ?v2_f214_42) (fun c_f214_42 j_f214_42 => ?b1_f214_42) (fun c_f214_42 j_f214_42 => ?b2_f214_42) ?k_f214_42
      case b1_f214_42 =>
        refine x_iconst (n' := 222) (v := 2) dX9_hourPasses_221 (by decide) rfl ?_
        exact j_f214_42
      case b2_f214_42 =>
        refine x_iconst (n' := 218) (v := 1) dX9_hourPasses_217 (by decide) rfl ?_
        refine x_goto (tgt := 222) dX9_hourPasses_218 (by decide) ?_
        exact j_f214_42
      refine x_topv (y := if (s3 (mA M (ad 0)) h nr) 6 = 1 then 1 else 2) (by exact rfl) ?_
      refine x_iconst (n' := 223) (v := -1) dX9_hourPasses_222 (by decide) rfl ?_
      refine x_iload (n' := 225) dX9_hourPasses_223 rfl rfl ?_
      refine x_callV (n' := 228) (n := 3) (K := 9) (c_X9_logs l G _ m ad (by repeat' (first | with_reducible exact hS | with_reducible apply MS.sA | with_reducible apply MS.sI | with_reducible apply MS.sL)) _ _ _ (by rw [mA_sA]; exact (s3_Sg hw).2 hw.lk)) dX9_hourPasses_225 (by repeat' (first | with_reducible exact km | with_reducible apply mK_A | with_reducible apply mK_I | with_reducible apply mK_L | with_reducible apply mK_R | with_reducible apply mK_O)) rfl (lw_V q3433 q3435 qs62 q109 q3436) (by decide +kernel) ⟨(Nat.le_of_ble_eq_true rfl), (Nat.le_of_ble_eq_true rfl)⟩ rfl rfl (Nat.le_of_ble_eq_true rfl) (by first | exact Nat.le_of_ble_eq_true rfl | omega) (by first | exact Nat.le_of_ble_eq_true rfl | omega) rfl (fun v_43 M_44 h_46 hE_45 => ?_)
      obtain ⟨rfl, hMs⟩ := h_46
      have hMs := hMs.symm
      subst hMs
      rw [mA_sA, sA_sA]
      refine x_mem (M2 := sA M (ad 0) (s4 (mA M (ad 0)) h nr)) (by unfold s4; first | (rw [hg4_a C198]; try rfl) | (rw [hg4_b C202]; try rfl) | (rw [hg4_c C198 C202]; try rfl)) ?_
      exact x_drop (cut228 trivial) ⟨rfl, ⟨rfl, ⟨rfl, ⟨rfl, ⟨rfl, ⟨rfl, ⟨rfl, ⟨rfl, ⟨rfl, trivial⟩⟩⟩⟩⟩⟩⟩⟩⟩
set_option maxHeartbeats 4000000 in
set_option maxRecDepth 100000 in
theorem c_X9_hourPasses (l : Launch) (G : kG) (M : kM) (m : Nat) (ad : Nat → Nat) (hS : MS M m ad) (h nr nk ns : Nat) (hw : WF (mA M (ad 0)) h nr nk ns) (hb : h + 1 < 2147483648) : Kt l G yX9_hourPasses cX9_hourPasses 10 none 3 77 [.ref m] M (0) (0) (fun v M2 => v = none ∧ M2 = hrM M m (ad 0) (hourG (mA M (ad 0)) h nr nk ns) (boV (mA M (ad 0)) h nr nk ns) (dav (mA M (ad 0)) h) (tev (mA M (ad 0)) h)) := by
  refine Kt.of (own := "KeptLightModel") (L := [some (.ref m), none, none, none, none, none, none, none, none, none]) (by decide +kernel) rfl (Nat.le_of_ble_eq_true rfl) rfl ?_
  intro pp ee ss mm args below meth cd hmn hret
  have km := hS.1
  obtain ⟨hr_g, kk_g, hn_g⟩ := hS.2.1 0 (by decide)
  have hr_g : mR M (fc 9 0) m = some (ad 0) := hr_g
  have hn_g : mN M (ad 0) = 2509 := hn_g
  have kk_g : mK M (ad 0) = some 120 := kk_g
  have hm24 : h % 24 < 24 := Nat.mod_lt _ (by decide)
  have hp6 := hw.pl (h % 24) hm24
  have hk6 := hw.k6
  have hfN := fN_le (fallP (mA M (ad 0)) (plV (mA M (ad 0)) h))
  have cut448 := k448_c_X9_hourPasses l G M m ad hS h nr nk ns hw hb pp ee ss mm args below meth cd hmn hret
  have cut415 := k415_c_X9_hourPasses l G M m ad hS h nr nk ns hw hb pp ee ss mm args below meth cd hmn hret
  have cut269 := k269_c_X9_hourPasses l G M m ad hS h nr nk ns hw hb pp ee ss mm args below meth cd hmn hret
  have cut241 := k241_c_X9_hourPasses l G M m ad hS h nr nk ns hw hb pp ee ss mm args below meth cd hmn hret
  have cut228 := k228_c_X9_hourPasses l G M m ad hS h nr nk ns hw hb pp ee ss mm args below meth cd hmn hret
  have cut130 := k130_c_X9_hourPasses l G M m ad hS h nr nk ns hw hb pp ee ss mm args below meth cd hmn hret
  refine x_aload_n (n' := 1) dX9_hourPasses_0 rfl rfl rfl ?_
  refine x_getRs (n' := 4) (b := (ad 0)) dX9_hourPasses_1 (by repeat' (first | with_reducible exact km | with_reducible apply mK_A | with_reducible apply mK_I | with_reducible apply mK_L | with_reducible apply mK_R | with_reducible apply mK_O)) ffX9_9_9 rfl (by repeat' (first | with_reducible exact hr_g | with_reducible apply mR_A | with_reducible apply mR_I | with_reducible apply mR_L)) rfl ?_
  refine x_iconst (n' := 5) (v := 0) dX9_hourPasses_4 (by decide) rfl ?_
  refine x_ildk (n' := 6) (N := 2509) dX9_hourPasses_5 (by repeat' (first | with_reducible exact kk_g | with_reducible apply mK_A | with_reducible apply mK_I | with_reducible apply mK_L | with_reducible apply mK_R | with_reducible apply mK_O)) (by repeat' (first | with_reducible exact hn_g | with_reducible apply mN_A | with_reducible apply mN_I | with_reducible apply mN_L | with_reducible apply mN_R | with_reducible apply mN_O)) (by repeat' (first | with_reducible exact nl_0 | with_reducible exact nl_1 | with_reducible exact nl_2 | with_reducible exact nl_3 | with_reducible exact nl_4 | with_reducible exact nl_5 | with_reducible exact nl_6 | with_reducible exact nl_8 | with_reducible exact nl_9 | with_reducible exact nl_10 | with_reducible exact nl_11 | with_reducible exact nl_13 | with_reducible exact nl_18 | with_reducible exact nl_20 | with_reducible exact nl_24 | with_reducible exact nl_61 | with_reducible exact nl_85 | with_reducible exact nl_9999 | with_reducible exact rfl | apply i_add | apply i_mul)) (by omega) (by decide) (by first | with_reducible exact hw.hh | (simp (disch := omega) only [mA_sA, mA_sI, up_s, up_n, hw.hh, if_false] <;> rfl) | rfl) rfl ?_
  refine x_istore_n (n' := 7) dX9_hourPasses_6 rfl (Nat.le_of_ble_eq_true rfl) rfl (by dsimp only [List.set] <;> rfl) rfl ?_
  refine x_aload_n (n' := 8) dX9_hourPasses_7 rfl rfl rfl ?_
  refine x_iload_n (n' := 9) dX9_hourPasses_8 rfl rfl rfl ?_
  refine x_callV (n' := 12) (n := 1) (K := 9) (c_X9_weatherOf l G _ m ad hS h nr hw.rn (by omega)) dX9_hourPasses_9 (by repeat' (first | with_reducible exact km | with_reducible apply mK_A | with_reducible apply mK_I | with_reducible apply mK_L | with_reducible apply mK_R | with_reducible apply mK_O)) rfl (lw_V q3413 q3415 qs57 q109 q3416) (by decide +kernel) ⟨(Nat.le_of_ble_eq_true rfl), (Nat.le_of_ble_eq_true rfl)⟩ rfl rfl (Nat.le_of_ble_eq_true rfl) (by first | exact Nat.le_of_ble_eq_true rfl | omega) (by first | exact Nat.le_of_ble_eq_true rfl | omega) rfl (fun v_47 M_48 h_50 hE_49 => ?_)
  obtain ⟨rfl, hMs⟩ := h_50
  have hMs := hMs.symm
  subst hMs
  refine x_istore_n (n' := 13) dX9_hourPasses_12 rfl (Nat.le_of_ble_eq_true rfl) rfl (by dsimp only [List.set] <;> rfl) rfl ?_
  refine x_aload_n (n' := 14) dX9_hourPasses_13 rfl rfl rfl ?_
  refine x_iload_n (n' := 15) dX9_hourPasses_14 rfl rfl rfl ?_
  refine x_callV (n' := 18) (n := 1) (K := 9) (c_X9_isDark l G _ m ad hS h (by omega)) dX9_hourPasses_15 (by repeat' (first | with_reducible exact km | with_reducible apply mK_A | with_reducible apply mK_I | with_reducible apply mK_L | with_reducible apply mK_R | with_reducible apply mK_O)) rfl (lw_V q3417 q3419 qs58 q109 q3420) (by decide +kernel) ⟨(Nat.le_of_ble_eq_true rfl), (Nat.le_of_ble_eq_true rfl)⟩ rfl rfl (Nat.le_of_ble_eq_true rfl) (by first | exact Nat.le_of_ble_eq_true rfl | omega) (by first | exact Nat.le_of_ble_eq_true rfl | omega) rfl (fun v_51 M_52 h_54 hE_53 => ?_)
  obtain ⟨rfl, hMs⟩ := h_54
  have hMs := hMs.symm
  subst hMs
  refine x_istore_n (n' := 19) dX9_hourPasses_18 rfl (Nat.le_of_ble_eq_true rfl) rfl (by dsimp only [List.set] <;> rfl) rfl ?_
  refine x_aload_n (n' := 20) dX9_hourPasses_19 rfl rfl rfl ?_
  refine x_getRs (n' := 23) (b := (ad 0)) dX9_hourPasses_20 (by repeat' (first | with_reducible exact km | with_reducible apply mK_A | with_reducible apply mK_I | with_reducible apply mK_L | with_reducible apply mK_R | with_reducible apply mK_O)) ffX9_9_9 rfl (by repeat' (first | with_reducible exact hr_g | with_reducible apply mR_A | with_reducible apply mR_I | with_reducible apply mR_L)) rfl ?_
  refine x_bipush (n' := 25) (v := 85) dX9_hourPasses_23 (by decide) rfl ?_
  refine x_iload_n (n' := 26) dX9_hourPasses_25 rfl rfl rfl ?_
  refine x_bipush (n' := 28) (v := 24) dX9_hourPasses_26 (by decide) rfl ?_
  
  refine x_irem (n' := 29) dX9_hourPasses_28 (by decide) rfl ?_
  refine x_topv (y := nI (h % 24)) (pk_rem (d := 24) (by omega) (by decide) (by decide)) ?_
  refine x_iadd (n' := 30) dX9_hourPasses_29 rfl ?_
  refine x_ildk (n' := 31) (N := 2509) dX9_hourPasses_30 (by repeat' (first | with_reducible exact kk_g | with_reducible apply mK_A | with_reducible apply mK_I | with_reducible apply mK_L | with_reducible apply mK_R | with_reducible apply mK_O)) (by repeat' (first | with_reducible exact hn_g | with_reducible apply mN_A | with_reducible apply mN_I | with_reducible apply mN_L | with_reducible apply mN_R | with_reducible apply mN_O)) (by repeat' (first | with_reducible exact nl_0 | with_reducible exact nl_1 | with_reducible exact nl_2 | with_reducible exact nl_3 | with_reducible exact nl_4 | with_reducible exact nl_5 | with_reducible exact nl_6 | with_reducible exact nl_8 | with_reducible exact nl_9 | with_reducible exact nl_10 | with_reducible exact nl_11 | with_reducible exact nl_13 | with_reducible exact nl_18 | with_reducible exact nl_20 | with_reducible exact nl_24 | with_reducible exact nl_61 | with_reducible exact nl_85 | with_reducible exact nl_9999 | with_reducible exact rfl | apply i_add | apply i_mul)) (by omega) (by decide) (by first | with_reducible exact hw.hh | (simp (disch := omega) only [mA_sA, mA_sI, up_s, up_n, hw.hh, if_false] <;> rfl) | rfl) rfl ?_
  refine x_istore (n' := 33) dX9_hourPasses_31 (Nat.le_of_ble_eq_true rfl) rfl (by dsimp only [List.set] <;> rfl) rfl ?_
  refine x_iload (n' := 35) dX9_hourPasses_33 rfl rfl ?_
  refine x_fork (J := 59) (x_if_lt (n' := 38) (tgt := 58) dX9_hourPasses_35 (by decide) rfl) (v1 := ?v1_f35_55) (v2 := ?v2_f35_55) (fun c_f35_55 j_f35_55 => ?b1_f35_55) (fun c_f35_55 j_f35_55 => ?b2_f35_55) ?k_f35_55
  case b1_f35_55 =>
    refine x_iconst (n' := 59) (v := 0) dX9_hourPasses_58 (by decide) rfl ?_
    exact j_f35_55
  case b2_f35_55 =>
    refine x_aload_n (n' := 39) dX9_hourPasses_38 rfl rfl rfl ?_
    refine x_iload (n' := 41) dX9_hourPasses_39 rfl rfl ?_
    refine x_topv (nn_of (Int32.not_lt.mp (by assumption))) ?_
    refine x_iconst (n' := 42) (v := 1) dX9_hourPasses_41 (by decide) rfl ?_
    refine x_callV (n' := 45) (n := 2) (K := 9) (c_X9_ofKeeper l G _ m ad hS (nn (plV (mA M (ad 0)) h)) 1 (by have := hp6 (Int32.not_lt.mp (by assumption)); simp only [plV]; omega)) dX9_hourPasses_42 (by repeat' (first | with_reducible exact km | with_reducible apply mK_A | with_reducible apply mK_I | with_reducible apply mK_L | with_reducible apply mK_R | with_reducible apply mK_O)) rfl (lw_V q3421 q3423 qs59 q109 q3424) (by decide +kernel) ⟨(Nat.le_of_ble_eq_true rfl), (Nat.le_of_ble_eq_true rfl)⟩ rfl rfl (Nat.le_of_ble_eq_true rfl) (by first | exact Nat.le_of_ble_eq_true rfl | omega) (by first | exact Nat.le_of_ble_eq_true rfl | omega) rfl (fun v_56 M_57 h_59 hE_58 => ?_)
    obtain ⟨rfl, hMs⟩ := h_59
    have hMs := hMs.symm
    subst hMs
    refine x_aload_n (n' := 46) dX9_hourPasses_45 rfl rfl rfl ?_
    refine x_iload (n' := 48) dX9_hourPasses_46 rfl rfl ?_
    refine x_topv (nn_of (Int32.not_lt.mp (by assumption))) ?_
    refine x_callV (n' := 51) (n := 1) (K := 9) (c_X9_lasts l G _ m ad hS (nn (plV (mA M (ad 0)) h)) (hp6 (Int32.not_lt.mp (by assumption)))) dX9_hourPasses_48 (by repeat' (first | with_reducible exact km | with_reducible apply mK_A | with_reducible apply mK_I | with_reducible apply mK_L | with_reducible apply mK_R | with_reducible apply mK_O)) rfl (lw_V q3425 q3427 qs60 q109 q3428) (by decide +kernel) ⟨(Nat.le_of_ble_eq_true rfl), (Nat.le_of_ble_eq_true rfl)⟩ rfl rfl (Nat.le_of_ble_eq_true rfl) (by first | exact Nat.le_of_ble_eq_true rfl | omega) (by first | exact Nat.le_of_ble_eq_true rfl | omega) rfl (fun v_60 M_61 h_63 hE_62 => ?_)
    obtain ⟨rfl, hMs⟩ := h_63
    have hMs := hMs.symm
    subst hMs
    refine x_fork (J := 59) (x_icmp_lt (n' := 54) (tgt := 58) dX9_hourPasses_51 (by decide) rfl) (v1 := ?v1_f51_64) (v2 := ?v2_f51_64) (fun c_f51_64 j_f51_64 => ?b1_f51_64) (fun c_f51_64 j_f51_64 => ?b2_f51_64) ?k_f51_64
    case b1_f51_64 =>
      refine x_iconst (n' := 59) (v := 0) dX9_hourPasses_58 (by decide) rfl ?_
      exact j_f51_64
    case b2_f51_64 =>
      refine x_iconst (n' := 55) (v := 1) dX9_hourPasses_54 (by decide) rfl ?_
      refine x_goto (tgt := 59) dX9_hourPasses_55 (by decide) ?_
      exact j_f51_64
    exact j_f35_55
  refine x_topv (y := (fav (mA M (ad 0)) h)) (by exact fall_eq) ?_
  refine x_istore (n' := 61) dX9_hourPasses_59 (Nat.le_of_ble_eq_true rfl) rfl (by dsimp only [List.set] <;> rfl) rfl ?_
  refine x_iload (n' := 63) dX9_hourPasses_61 rfl rfl ?_
  refine x_fork (J := 76) (x_if_lt (n' := 66) (tgt := 75) dX9_hourPasses_63 (by decide) rfl) (v1 := ?v1_f63_65) (v2 := ?v2_f63_65) (fun c_f63_65 j_f63_65 => ?b1_f63_65) (fun c_f63_65 j_f63_65 => ?b2_f63_65) ?k_f63_65
  case b1_f63_65 =>
    refine x_iconst (n' := 76) (v := 0) dX9_hourPasses_75 (by decide) rfl ?_
    exact j_f63_65
  case b2_f63_65 =>
    refine x_iload (n' := 68) dX9_hourPasses_66 rfl rfl ?_
    refine x_forkN (J := 76) (x_if_ne (n' := 71) (tgt := 75) dX9_hourPasses_68 (by decide) rfl) (v1 := ?v1_f68_66) (v2 := ?v2_f68_66) (fun c_f68_66 j_f68_66 => ?b1_f68_66) (fun c_f68_66 j_f68_66 => ?b2_f68_66) ?k_f68_66
    case b1_f68_66 =>
      refine x_iconst (n' := 76) (v := 0) dX9_hourPasses_75 (by decide) rfl ?_
      exact j_f68_66
    case b2_f68_66 =>
      refine x_iconst (n' := 72) (v := 1) dX9_hourPasses_71 (by decide) rfl ?_
      refine x_goto (tgt := 76) dX9_hourPasses_72 (by decide) ?_
      exact j_f68_66
    exact j_f63_65
  refine x_topv (y := (tev (mA M (ad 0)) h)) (by exact tend_eq) ?_
  refine x_istore (n' := 78) dX9_hourPasses_76 (Nat.le_of_ble_eq_true rfl) rfl (by dsimp only [List.set] <;> rfl) rfl ?_
  refine x_iload (n' := 80) dX9_hourPasses_78 rfl rfl ?_
  refine x_if_lt (n' := 83) (tgt := 130) dX9_hourPasses_80 (by decide) rfl (fun c80_67 => ?_) (fun c80_67 => ?_)
  · have C80 := c80_67
    refine x_mem (M2 := sA M (ad 0) (hg1 (mA M (ad 0)) (plV (mA M (ad 0)) h))) (by first | (rw [hg1_a C80, sA_eta]) | (rw [hg1_b C80]; try rfl)) ?_
    exact x_drop (cut130 trivial) ⟨rfl, ⟨rfl, ⟨rfl, ⟨rfl, ⟨rfl, ⟨rfl, ⟨rfl, trivial⟩⟩⟩⟩⟩⟩⟩
  · have C80 := c80_67
    refine x_aload_n (n' := 84) dX9_hourPasses_83 rfl rfl rfl ?_
    refine x_getRs (n' := 87) (b := (ad 0)) dX9_hourPasses_84 (by repeat' (first | with_reducible exact km | with_reducible apply mK_A | with_reducible apply mK_I | with_reducible apply mK_L | with_reducible apply mK_R | with_reducible apply mK_O)) ffX9_9_9 rfl (by repeat' (first | with_reducible exact hr_g | with_reducible apply mR_A | with_reducible apply mR_I | with_reducible apply mR_L)) rfl ?_
    refine x_bipush (n' := 89) (v := 61) dX9_hourPasses_87 (by decide) rfl ?_
    refine x_iconst (n' := 90) (v := 4) dX9_hourPasses_89 (by decide) rfl ?_
    refine x_iload (n' := 92) dX9_hourPasses_90 rfl rfl ?_
    have hq6 := hp6 (Int32.not_lt.mp C80)
    refine x_topv (nn_of (Int32.not_lt.mp C80)) ?_
    refine x_imul (n' := 93) dX9_hourPasses_92 rfl ?_
    refine x_iadd (n' := 94) dX9_hourPasses_93 rfl ?_
    refine x_iload (n' := 96) dX9_hourPasses_94 rfl rfl ?_
    refine x_fork (J := 104) (x_if_eq (n' := 99) (tgt := 103) dX9_hourPasses_96 (by decide) rfl) (v1 := ?v1_f96_68) (v2 := ?v2_f96_68) (fun c_f96_68 j_f96_68 => ?b1_f96_68) (fun c_f96_68 j_f96_68 => ?b2_f96_68) ?k_f96_68
    case b1_f96_68 =>
      refine x_iconst (n' := 104) (v := 2) dX9_hourPasses_103 (by decide) rfl ?_
      exact j_f96_68
    case b2_f96_68 =>
      refine x_iconst (n' := 100) (v := 3) dX9_hourPasses_99 (by decide) rfl ?_
      refine x_goto (tgt := 104) dX9_hourPasses_100 (by decide) ?_
      exact j_f96_68
    refine x_topv (y := nI (fN (fallP (mA M (ad 0)) (plV (mA M (ad 0)) h)))) (by exact fN_eq) ?_
    refine x_iadd (n' := 105) dX9_hourPasses_104 rfl ?_
    refine x_dup2_11 (n' := 106) dX9_hourPasses_105 rfl rfl rfl ?_
    refine x_ildk (n' := 107) (N := 2509) dX9_hourPasses_106 (by repeat' (first | with_reducible exact kk_g | with_reducible apply mK_A | with_reducible apply mK_I | with_reducible apply mK_L | with_reducible apply mK_R | with_reducible apply mK_O)) (by repeat' (first | with_reducible exact hn_g | with_reducible apply mN_A | with_reducible apply mN_I | with_reducible apply mN_L | with_reducible apply mN_R | with_reducible apply mN_O)) (by repeat' (first | with_reducible exact nl_0 | with_reducible exact nl_1 | with_reducible exact nl_2 | with_reducible exact nl_3 | with_reducible exact nl_4 | with_reducible exact nl_5 | with_reducible exact nl_6 | with_reducible exact nl_8 | with_reducible exact nl_9 | with_reducible exact nl_10 | with_reducible exact nl_11 | with_reducible exact nl_13 | with_reducible exact nl_18 | with_reducible exact nl_20 | with_reducible exact nl_24 | with_reducible exact nl_61 | with_reducible exact nl_85 | with_reducible exact nl_9999 | with_reducible exact rfl | apply i_add | apply i_mul)) (by omega) (by decide) (by first | with_reducible exact hw.hh | (simp (disch := omega) only [mA_sA, mA_sI, up_s, up_n, hw.hh, if_false] <;> rfl) | rfl) rfl ?_
    refine x_iconst (n' := 108) (v := 1) dX9_hourPasses_107 (by decide) rfl ?_
    refine x_iadd (n' := 109) dX9_hourPasses_108 rfl ?_
    refine x_iastk (n' := 110) (N := 2509) dX9_hourPasses_109 (by repeat' (first | with_reducible exact kk_g | with_reducible apply mK_A | with_reducible apply mK_I | with_reducible apply mK_L | with_reducible apply mK_R | with_reducible apply mK_O)) (by repeat' (first | with_reducible exact hn_g | with_reducible apply mN_A | with_reducible apply mN_I | with_reducible apply mN_L | with_reducible apply mN_R | with_reducible apply mN_O)) (by repeat' (first | with_reducible exact nl_0 | with_reducible exact nl_1 | with_reducible exact nl_2 | with_reducible exact nl_3 | with_reducible exact nl_4 | with_reducible exact nl_5 | with_reducible exact nl_6 | with_reducible exact nl_8 | with_reducible exact nl_9 | with_reducible exact nl_10 | with_reducible exact nl_11 | with_reducible exact nl_13 | with_reducible exact nl_18 | with_reducible exact nl_20 | with_reducible exact nl_24 | with_reducible exact nl_61 | with_reducible exact nl_85 | with_reducible exact nl_9999 | with_reducible exact rfl | apply i_add | apply i_mul)) (by omega) (by decide) (by first | with_reducible exact mA_sA | with_reducible exact mA_sI_sA | with_reducible exact mA_sI3_sA | rfl) (by first | with_reducible exact sA_sA | with_reducible exact sA_sI_sA | with_reducible exact sA_sI3_sA | rfl) rfl ?_
    refine x_aload_n (n' := 111) dX9_hourPasses_110 rfl rfl rfl ?_
    refine x_getRs (n' := 114) (b := (ad 0)) dX9_hourPasses_111 (by repeat' (first | with_reducible exact km | with_reducible apply mK_A | with_reducible apply mK_I | with_reducible apply mK_L | with_reducible apply mK_R | with_reducible apply mK_O)) ffX9_9_9 rfl (by repeat' (first | with_reducible exact hr_g | with_reducible apply mR_A | with_reducible apply mR_I | with_reducible apply mR_L)) rfl ?_
    refine x_bipush (n' := 116) (v := 20) dX9_hourPasses_114 (by decide) rfl ?_
    refine x_dup2_11 (n' := 117) dX9_hourPasses_116 rfl rfl rfl ?_
    refine x_ildk (n' := 118) (N := 2509) dX9_hourPasses_117 (by repeat' (first | with_reducible exact kk_g | with_reducible apply mK_A | with_reducible apply mK_I | with_reducible apply mK_L | with_reducible apply mK_R | with_reducible apply mK_O)) (by repeat' (first | with_reducible exact hn_g | with_reducible apply mN_A | with_reducible apply mN_I | with_reducible apply mN_L | with_reducible apply mN_R | with_reducible apply mN_O)) (by repeat' (first | with_reducible exact nl_0 | with_reducible exact nl_1 | with_reducible exact nl_2 | with_reducible exact nl_3 | with_reducible exact nl_4 | with_reducible exact nl_5 | with_reducible exact nl_6 | with_reducible exact nl_8 | with_reducible exact nl_9 | with_reducible exact nl_10 | with_reducible exact nl_11 | with_reducible exact nl_13 | with_reducible exact nl_18 | with_reducible exact nl_20 | with_reducible exact nl_24 | with_reducible exact nl_61 | with_reducible exact nl_85 | with_reducible exact nl_9999 | with_reducible exact rfl | apply i_add | apply i_mul)) (by omega) (by decide) (by first | with_reducible exact hw.hh | (simp (disch := omega) only [mA_sA, mA_sI, up_s, up_n, hw.hh, if_false] <;> rfl) | rfl) rfl ?_
    refine x_iload (n' := 120) dX9_hourPasses_118 rfl rfl ?_
    refine x_fork (J := 128) (x_if_eq (n' := 123) (tgt := 127) dX9_hourPasses_120 (by decide) rfl) (v1 := ?v1_f120_69) (v2 := ?v2_f120_69) (fun c_f120_69 j_f120_69 => ?b1_f120_69) (fun c_f120_69 j_f120_69 => ?b2_f120_69) ?k_f120_69
    case b1_f120_69 =>
      refine x_iconst (n' := 128) (v := 0) dX9_hourPasses_127 (by decide) rfl ?_
      exact j_f120_69
    case b2_f120_69 =>
      refine x_iconst (n' := 124) (v := 1) dX9_hourPasses_123 (by decide) rfl ?_
      refine x_goto (tgt := 128) dX9_hourPasses_124 (by decide) ?_
      exact j_f120_69
    refine x_topv bi_if ?_
    refine x_iadd (n' := 129) dX9_hourPasses_128 rfl ?_
    refine x_iastk (n' := 130) (N := 2509) dX9_hourPasses_129 (by repeat' (first | with_reducible exact kk_g | with_reducible apply mK_A | with_reducible apply mK_I | with_reducible apply mK_L | with_reducible apply mK_R | with_reducible apply mK_O)) (by repeat' (first | with_reducible exact hn_g | with_reducible apply mN_A | with_reducible apply mN_I | with_reducible apply mN_L | with_reducible apply mN_R | with_reducible apply mN_O)) (by repeat' (first | with_reducible exact nl_0 | with_reducible exact nl_1 | with_reducible exact nl_2 | with_reducible exact nl_3 | with_reducible exact nl_4 | with_reducible exact nl_5 | with_reducible exact nl_6 | with_reducible exact nl_8 | with_reducible exact nl_9 | with_reducible exact nl_10 | with_reducible exact nl_11 | with_reducible exact nl_13 | with_reducible exact nl_18 | with_reducible exact nl_20 | with_reducible exact nl_24 | with_reducible exact nl_61 | with_reducible exact nl_85 | with_reducible exact nl_9999 | with_reducible exact rfl | apply i_add | apply i_mul)) (by omega) (by decide) (by first | with_reducible exact mA_sA | with_reducible exact mA_sI_sA | with_reducible exact mA_sI3_sA | rfl) (by first | with_reducible exact sA_sA | with_reducible exact sA_sI_sA | with_reducible exact sA_sI3_sA | rfl) rfl ?_
    refine x_mem (M2 := sA M (ad 0) (hg1 (mA M (ad 0)) (plV (mA M (ad 0)) h))) (by first | (rw [hg1_a C80, sA_eta]) | (rw [hg1_b C80]; try rfl)) ?_
    exact x_drop (cut130 trivial) ⟨rfl, ⟨rfl, ⟨rfl, ⟨rfl, ⟨rfl, ⟨rfl, ⟨rfl, trivial⟩⟩⟩⟩⟩⟩⟩
