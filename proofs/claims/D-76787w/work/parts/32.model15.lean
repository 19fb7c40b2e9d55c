theorem sA_eta2 {M : kM} {a b : Nat} {f : gT} (h : b ≠ a) : sA (sA M a f) b (mA M b) = sA M a f := by
  have e : mA (sA M a f) b = mA M b := mA_sA_n h
  rw [← e]; exact sA_eta
theorem unl_1 {g : gT} {h nr nk ns : Nat} : unlG g h nr nk ns 1 = hourG g h nr nk ns 16 - g 16 := rfl
theorem day_un {nr nk : Nat} {g : gT} {h ns i : Nat} : (dayS nr nk g h ns i).1 16 - g 16 + unlG (dyG (dayS nr nk g h ns i).1 (h + i) (dayS nr nk g h ns i).2) (h + i) nr nk (dyN (dayS nr nk g h ns i).1 (dayS nr nk g h ns i).2) 1 = (dayS nr nk g h ns (i + 1)).1 16 - g 16 := by
  have e1 : (dayS nr nk g h ns (i + 1)).1 = hourG (dyG (dayS nr nk g h ns i).1 (h + i) (dayS nr nk g h ns i).2) (h + i) nr nk (dyN (dayS nr nk g h ns i).1 (dayS nr nk g h ns i).2) := rfl
  rw [unl_1, dyG_16, e1]
  exact day_so
theorem bk_eq {x : Int32} {ns : Nat} : (if x < 10 + nI ns then x else -1) = if nI (10 + ns) ≤ x then -1 else x := by
  rw [nl_10, nI_add]
  by_cases h : x < nI (10 + ns)
  · rw [if_pos h, if_neg (Int32.not_le.mpr h)]
  · rw [if_neg h, if_pos (Int32.not_lt.mp h)]
set_option maxHeartbeats 4000000 in
set_option maxRecDepth 100000 in
theorem c_X9_days (l : Launch) (G : kG) (M : kM) (m : Nat) (ad : Nat → Nat) (hS : MS M m ad) (g : gT) (sa : Nat → gT) (sf : Nat → Int32) (a : Int32) (h nr nk ns : Nat) (hw : WF g h nr nk ns) (hb : h + 60 < 2147483648) : Kt l G yX9_days cX9_days 6 (some .int) 5 129 [.ref m, .int a] (SC M m ad g sa sf) (0) (0) (fun v M2 => (1 ≤ a ∧ a ≤ 60 → v = some (.int ((dayS nr nk g h ns (nn a)).1 16 - g 16)) ∧ ∃ sf2, M2 = SC M m ad (dayS nr nk g h ns (nn a)).1 sa sf2) ∧ (¬ (1 ≤ a ∧ a ≤ 60) → v = some (.int (-(nI 102))) ∧ M2 = rfM (SC M m ad g sa sf) ad 0)) := by
  refine Kt.of (own := "KeptLightModel") (L := [some (.ref m), some (.int a), none, none, none, none]) (by decide +kernel) rfl (Nat.le_of_ble_eq_true rfl) rfl ?_
  intro pp ee ss mm args below meth cd hmn hret
  have km := hS.1
  obtain ⟨hr_g, kk_g, hn_g⟩ := hS.2.1 0 (by decide)
  have hr_g : mR M (fc 9 0) m = some (ad 0) := hr_g
  have hn_g : mN M (ad 0) = 2509 := hn_g
  have kk_g : mK M (ad 0) = some 120 := kk_g
  have cut23 : ∀ (fuel : Nat) (i : Nat) (sf1 : Nat → Int32) (h1 : nn a - i < fuel) (h2 : i ≤ nn a) (hok : 1 ≤ a ∧ a ≤ 60), Wx pp l ee { frames := 5, cells := 0, slots := 0, locals := 129 } ss mm args below meth cd "KeptLightModel" cX9_days 6 G (MQ below (KQ G (SC M m ad g sa sf) (fun v M2 => (1 ≤ a ∧ a ≤ 60 → v = some (.int ((dayS nr nk g h ns (nn a)).1 16 - g 16)) ∧ ∃ sf2, M2 = SC M m ad (dayS nr nk g h ns (nn a)).1 sa sf2) ∧ (¬ (1 ≤ a ∧ a ≤ 60) → v = some (.int (-(nI 102))) ∧ M2 = rfM (SC M m ad g sa sf) ad 0))) args ss (0) (0) (kA G)) 23 [some (.ref m), some (.int (nI (nn a))), some (.int ((dayS nr nk g h ns i).1 16 - g 16)), some (.int (nI i)), none, none] [] (SC M m ad (dayS nr nk g h ns i).1 sa sf1) (0) (0) := by
    intro fuel
    induction fuel with
    | zero => intro i sf1 h1 h2 hok; omega
    | succ fuel ih =>
      intro i sf1 h1 h2 hok
      have hn9 := nn_le (n := 60) (Int32.le_trans (by decide) hok.1) hok.2 (by decide)
      have hwd := dayS_WF hw i
      have hs20 := hwd.s2
      refine x_iload_n (n' := 24) dX9_days_23 rfl rfl rfl ?_
      refine x_iload_n (n' := 25) dX9_days_24 rfl rfl rfl ?_
      refine x_icmp_ge (n' := 28) (tgt := 93) dX9_days_25 (by decide) rfl (fun c25_1 => ?_) (fun c25_1 => ?_)
      · have n_c25_1 := (cv_le (by repeat' (first | with_reducible exact nl_0 | with_reducible exact nl_1 | with_reducible exact nl_3 | with_reducible exact nl_5 | with_reducible exact nl_14 | with_reducible exact nl_24 | with_reducible exact nl_200 | with_reducible exact rfl | apply i_add | apply i_mul)) (by repeat' (first | with_reducible exact nl_0 | with_reducible exact nl_1 | with_reducible exact nl_3 | with_reducible exact nl_5 | with_reducible exact nl_14 | with_reducible exact nl_24 | with_reducible exact nl_200 | with_reducible exact rfl | apply i_add | apply i_mul)) (by omega) (by omega)).mp c25_1
        refine x_iload_n (n' := 94) dX9_days_93 rfl rfl rfl ?_
        exact x_iret dX9_days_94 hret (by repeat' (first | with_reducible exact kE.rf | with_reducible exact kE_SS | with_reducible apply kE_A | with_reducible apply kE_I | with_reducible apply kE_L | with_reducible apply kE_R | with_reducible apply kE_O | with_reducible apply kE_S)) (⟨fun _ => by rw [show i = nn a by omega]; exact ⟨rfl, sf1, rfl⟩, fun q => absurd hok q⟩)
      · have n_c25_1 := (not_congr (cv_le (by repeat' (first | with_reducible exact nl_0 | with_reducible exact nl_1 | with_reducible exact nl_3 | with_reducible exact nl_5 | with_reducible exact nl_14 | with_reducible exact nl_24 | with_reducible exact nl_200 | with_reducible exact rfl | apply i_add | apply i_mul)) (by repeat' (first | with_reducible exact nl_0 | with_reducible exact nl_1 | with_reducible exact nl_3 | with_reducible exact nl_5 | with_reducible exact nl_14 | with_reducible exact nl_24 | with_reducible exact nl_200 | with_reducible exact rfl | apply i_add | apply i_mul)) (by omega) (by omega))).mp c25_1
        refine x_aload_n (n' := 29) dX9_days_28 rfl rfl rfl ?_
        refine x_iconst (n' := 30) (v := 3) dX9_days_29 (by decide) rfl ?_
        refine x_callV (n' := 33) (n := 1) (K := 9) (c_X9_draw l G _ m ad (by repeat' (first | with_reducible exact hS | with_reducible apply MS.sA | with_reducible apply MS.sI | with_reducible apply MS.sL | with_reducible apply MS.sc)) 3 (by decide)) dX9_days_30 (by repeat' (first | with_reducible exact km | with_reducible apply mK_A | with_reducible apply mK_I | with_reducible apply mK_L | with_reducible apply mK_R | with_reducible apply mK_O | with_reducible apply mK_S)) rfl (lw_V q3611 q3613 qs74 q109 q3614) (by decide +kernel) ⟨(Nat.le_of_ble_eq_true rfl), (Nat.le_of_ble_eq_true rfl)⟩ rfl rfl (Nat.le_of_ble_eq_true rfl) (by first | exact Nat.le_of_ble_eq_true rfl | omega) (by first | exact Nat.le_of_ble_eq_true rfl | omega) rfl (fun v_2 M_3 h_5 hE_4 => ?_)
        obtain ⟨rfl, hMs⟩ := h_5
        have hMs : M_3 = SC M m ad (dyD (dayS nr nk g h ns i).1) sa sf1 := hMs.trans (by rw [mA_SC0, SC_A0]; rfl)
        have hMs := hMs.symm
        subst hMs
        rw [mA_SC0]
        refine x_if_ne (n' := 36) (tgt := 79) dX9_days_33 (by decide) rfl (fun c33_6 => ?_) (fun c33_6 => ?_)
        · have C33 := c33_6
          refine x_mem (M2 := SC M m ad (dyG (dayS nr nk g h ns i).1 (h + i) (dayS nr nk g h ns i).2) sa sf1) (by first | rw [dy_a C33] | rw [dy_b N46] | rw [dy_c C33 (by omega)]) ?_
          refine x_iload_n (n' := 80) dX9_days_79 rfl rfl rfl ?_
          refine x_aload_n (n' := 81) dX9_days_80 rfl rfl rfl ?_
          refine x_iconst (n' := 82) (v := 1) dX9_days_81 (by decide) rfl ?_
          refine x_callV (n' := 85) (n := 1) (K := 9) (c_X9_passes l G M m ad hS (dyG (dayS nr nk g h ns i).1 (h + i) (dayS nr nk g h ns i).2) sa sf1 (h + i) nr nk (dyN (dayS nr nk g h ns i).1 (dayS nr nk g h ns i).2) 1 hwd.ofG (by omega)) dX9_days_82 (by repeat' (first | with_reducible exact km | with_reducible apply mK_A | with_reducible apply mK_I | with_reducible apply mK_L | with_reducible apply mK_R | with_reducible apply mK_O | with_reducible apply mK_S)) rfl (lw_V q3405 q3407 qs55 q109 q3408) (by decide +kernel) ⟨(Nat.le_of_ble_eq_true rfl), (Nat.le_of_ble_eq_true rfl)⟩ rfl rfl (Nat.le_of_ble_eq_true rfl) (by first | exact Nat.le_of_ble_eq_true rfl | omega) (by first | exact Nat.le_of_ble_eq_true rfl | omega) rfl (fun v_7 M9 h_9 hE_8 => ?_)
          obtain ⟨rfl, sf2, hM8⟩ := h_9
          have hMs : SC M m ad (dayS nr nk g h ns (i + 1)).1 sa sf2 = M9 := hM8.symm
          subst hMs
          refine x_iadd (n' := 86) dX9_days_85 rfl ?_
          rw [show (dayS nr nk g h ns i).1 16 - g 16 + unlG (dyG (dayS nr nk g h ns i).1 (h + i) (dayS nr nk g h ns i).2) (h + i) nr nk (dyN (dayS nr nk g h ns i).1 (dayS nr nk g h ns i).2) 1 = (dayS nr nk g h ns (i + 1)).1 16 - g 16 from day_un]
          refine x_istore_n (n' := 87) dX9_days_86 rfl (Nat.le_of_ble_eq_true rfl) rfl (by dsimp only [List.set] <;> rfl) rfl ?_
          refine x_iinc (n' := 90) dX9_days_87 rfl (by first | exact nI_inc _ | exact nI_decp (by omega) | exact i_inc _ | rfl) (Nat.le_of_ble_eq_true rfl) rfl (by dsimp only [List.set] <;> rfl) rfl ?_
          refine x_goto (tgt := 23) dX9_days_90 (by decide) ?_
          exact x_drop (ih (i + 1) sf2 (by omega) (by omega) hok) ⟨rfl, ⟨rfl, ⟨rfl, ⟨rfl, trivial⟩⟩⟩⟩
        · have C33 := c33_6
          refine x_aload_n (n' := 37) dX9_days_36 rfl rfl rfl ?_
          refine x_getRs (n' := 40) (b := (ad 0)) dX9_days_37 (by repeat' (first | with_reducible exact km | with_reducible apply mK_A | with_reducible apply mK_I | with_reducible apply mK_L | with_reducible apply mK_R | with_reducible apply mK_O | with_reducible apply mK_S)) ffX9_9_9 rfl (by repeat' (first | with_reducible exact hr_g | with_reducible apply mR_A | with_reducible apply mR_I | with_reducible apply mR_L | with_reducible apply mR_S)) rfl ?_
          refine x_bipush (n' := 42) (v := 14) dX9_days_40 (by decide) rfl ?_
          refine x_ildk (n' := 43) (N := 2509) dX9_days_42 (by repeat' (first | with_reducible exact kk_g | with_reducible apply mK_A | with_reducible apply mK_I | with_reducible apply mK_L | with_reducible apply mK_R | with_reducible apply mK_O | with_reducible apply mK_S)) (by repeat' (first | with_reducible exact hn_g | with_reducible apply mN_A | with_reducible apply mN_I | with_reducible apply mN_L | with_reducible apply mN_R | with_reducible apply mN_O | with_reducible apply mN_S)) (by repeat' (first | with_reducible exact nl_0 | with_reducible exact nl_1 | with_reducible exact nl_3 | with_reducible exact nl_5 | with_reducible exact nl_14 | with_reducible exact nl_24 | with_reducible exact nl_200 | with_reducible exact rfl | apply i_add | apply i_mul)) (by omega) (by decide) ((congrFun mA_SC0 14).trans hwd.ofD.ss) rfl ?_
          refine x_sipush (n' := 46) (v := 200) dX9_days_43 (by decide) rfl ?_
          refine x_icmp_ge (n' := 49) (tgt := 79) dX9_days_46 (by decide) rfl (fun c46_10 => ?_) (fun c46_10 => ?_)
          · have C46 := c46_10
            have N46 := (cv_le (by repeat' (first | with_reducible exact nl_0 | with_reducible exact nl_1 | with_reducible exact nl_3 | with_reducible exact nl_5 | with_reducible exact nl_14 | with_reducible exact nl_24 | with_reducible exact nl_200 | with_reducible exact rfl | apply i_add | apply i_mul)) (by repeat' (first | with_reducible exact nl_0 | with_reducible exact nl_1 | with_reducible exact nl_3 | with_reducible exact nl_5 | with_reducible exact nl_14 | with_reducible exact nl_24 | with_reducible exact nl_200 | with_reducible exact rfl | apply i_add | apply i_mul)) (by omega) (by omega)).mp c46_10
            refine x_mem (M2 := SC M m ad (dyG (dayS nr nk g h ns i).1 (h + i) (dayS nr nk g h ns i).2) sa sf1) (by first | rw [dy_a C33] | rw [dy_b N46] | rw [dy_c C33 (by omega)]) ?_
            refine x_iload_n (n' := 80) dX9_days_79 rfl rfl rfl ?_
            refine x_aload_n (n' := 81) dX9_days_80 rfl rfl rfl ?_
            refine x_iconst (n' := 82) (v := 1) dX9_days_81 (by decide) rfl ?_
            refine x_callV (n' := 85) (n := 1) (K := 9) (c_X9_passes l G M m ad hS (dyG (dayS nr nk g h ns i).1 (h + i) (dayS nr nk g h ns i).2) sa sf1 (h + i) nr nk (dyN (dayS nr nk g h ns i).1 (dayS nr nk g h ns i).2) 1 hwd.ofG (by omega)) dX9_days_82 (by repeat' (first | with_reducible exact km | with_reducible apply mK_A | with_reducible apply mK_I | with_reducible apply mK_L | with_reducible apply mK_R | with_reducible apply mK_O | with_reducible apply mK_S)) rfl (lw_V q3405 q3407 qs55 q109 q3408) (by decide +kernel) ⟨(Nat.le_of_ble_eq_true rfl), (Nat.le_of_ble_eq_true rfl)⟩ rfl rfl (Nat.le_of_ble_eq_true rfl) (by first | exact Nat.le_of_ble_eq_true rfl | omega) (by first | exact Nat.le_of_ble_eq_true rfl | omega) rfl (fun v_11 M9 h_13 hE_12 => ?_)
            obtain ⟨rfl, sf2, hM8⟩ := h_13
            have hMs : SC M m ad (dayS nr nk g h ns (i + 1)).1 sa sf2 = M9 := hM8.symm
            subst hMs
            refine x_iadd (n' := 86) dX9_days_85 rfl ?_
            rw [show (dayS nr nk g h ns i).1 16 - g 16 + unlG (dyG (dayS nr nk g h ns i).1 (h + i) (dayS nr nk g h ns i).2) (h + i) nr nk (dyN (dayS nr nk g h ns i).1 (dayS nr nk g h ns i).2) 1 = (dayS nr nk g h ns (i + 1)).1 16 - g 16 from day_un]
            refine x_istore_n (n' := 87) dX9_days_86 rfl (Nat.le_of_ble_eq_true rfl) rfl (by dsimp only [List.set] <;> rfl) rfl ?_
            refine x_iinc (n' := 90) dX9_days_87 rfl (by first | exact nI_inc _ | exact nI_decp (by omega) | exact i_inc _ | rfl) (Nat.le_of_ble_eq_true rfl) rfl (by dsimp only [List.set] <;> rfl) rfl ?_
            refine x_goto (tgt := 23) dX9_days_90 (by decide) ?_
            exact x_drop (ih (i + 1) sf2 (by omega) (by omega) hok) ⟨rfl, ⟨rfl, ⟨rfl, ⟨rfl, trivial⟩⟩⟩⟩
          · have C46 := c46_10
            have N46 := (not_congr (cv_le (by repeat' (first | with_reducible exact nl_0 | with_reducible exact nl_1 | with_reducible exact nl_3 | with_reducible exact nl_5 | with_reducible exact nl_14 | with_reducible exact nl_24 | with_reducible exact nl_200 | with_reducible exact rfl | apply i_add | apply i_mul)) (by repeat' (first | with_reducible exact nl_0 | with_reducible exact nl_1 | with_reducible exact nl_3 | with_reducible exact nl_5 | with_reducible exact nl_14 | with_reducible exact nl_24 | with_reducible exact nl_200 | with_reducible exact rfl | apply i_add | apply i_mul)) (by omega) (by omega))).mp c46_10
            refine x_iconst (n' := 50) (v := 3) dX9_days_49 (by decide) rfl ?_
            refine x_aload_n (n' := 51) dX9_days_50 rfl rfl rfl ?_
            refine x_iconst (n' := 52) (v := 5) dX9_days_51 (by decide) rfl ?_
            refine x_callV (n' := 55) (n := 1) (K := 9) (c_X9_draw l G _ m ad (by repeat' (first | with_reducible exact hS | with_reducible apply MS.sA | with_reducible apply MS.sI | with_reducible apply MS.sL | with_reducible apply MS.sc)) 5 (by decide)) dX9_days_52 (by repeat' (first | with_reducible exact km | with_reducible apply mK_A | with_reducible apply mK_I | with_reducible apply mK_L | with_reducible apply mK_R | with_reducible apply mK_O | with_reducible apply mK_S)) rfl (lw_V q3611 q3613 qs74 q109 q3614) (by decide +kernel) ⟨(Nat.le_of_ble_eq_true rfl), (Nat.le_of_ble_eq_true rfl)⟩ rfl rfl (Nat.le_of_ble_eq_true rfl) (by first | exact Nat.le_of_ble_eq_true rfl | omega) (by first | exact Nat.le_of_ble_eq_true rfl | omega) rfl (fun v_14 M_15 h_17 hE_16 => ?_)
            obtain ⟨rfl, hMs⟩ := h_17
            have hMs : M_15 = SC M m ad (dyD (dyD (dayS nr nk g h ns i).1)) sa sf1 := hMs.trans (by rw [mA_SC0, SC_A0]; rfl)
            have hMs := hMs.symm
            subst hMs
            rw [mA_SC0]
            refine x_iadd (n' := 56) dX9_days_55 rfl ?_
            refine x_istore (n' := 58) dX9_days_56 (Nat.le_of_ble_eq_true rfl) rfl (by dsimp only [List.set] <;> rfl) rfl ?_
            refine x_aload_n (n' := 59) dX9_days_58 rfl rfl rfl ?_
            refine x_iload (n' := 61) dX9_days_59 rfl rfl ?_
            refine x_aload_n (n' := 62) dX9_days_61 rfl rfl rfl ?_
            refine x_getRs (n' := 65) (b := (ad 0)) dX9_days_62 (by repeat' (first | with_reducible exact km | with_reducible apply mK_A | with_reducible apply mK_I | with_reducible apply mK_L | with_reducible apply mK_R | with_reducible apply mK_O | with_reducible apply mK_S)) ffX9_9_9 rfl (by repeat' (first | with_reducible exact hr_g | with_reducible apply mR_A | with_reducible apply mR_I | with_reducible apply mR_L | with_reducible apply mR_S)) rfl ?_
            refine x_iconst (n' := 66) (v := 0) dX9_days_65 (by decide) rfl ?_
            refine x_ildk (n' := 67) (N := 2509) dX9_days_66 (by repeat' (first | with_reducible exact kk_g | with_reducible apply mK_A | with_reducible apply mK_I | with_reducible apply mK_L | with_reducible apply mK_R | with_reducible apply mK_O | with_reducible apply mK_S)) (by repeat' (first | with_reducible exact hn_g | with_reducible apply mN_A | with_reducible apply mN_I | with_reducible apply mN_L | with_reducible apply mN_R | with_reducible apply mN_O | with_reducible apply mN_S)) (by repeat' (first | with_reducible exact nl_0 | with_reducible exact nl_1 | with_reducible exact nl_3 | with_reducible exact nl_5 | with_reducible exact nl_14 | with_reducible exact nl_24 | with_reducible exact nl_200 | with_reducible exact rfl | apply i_add | apply i_mul)) (by omega) (by decide) ((congrFun mA_SC0 0).trans hwd.ofD.ofD.hh) rfl ?_
            refine x_aload_n (n' := 68) dX9_days_67 rfl rfl rfl ?_
            refine x_bipush (n' := 70) (v := 24) dX9_days_68 (by decide) rfl ?_
            refine x_callV (n' := 73) (n := 1) (K := 9) (c_X9_draw l G _ m ad (by repeat' (first | with_reducible exact hS | with_reducible apply MS.sA | with_reducible apply MS.sI | with_reducible apply MS.sL | with_reducible apply MS.sc)) 24 (by decide)) dX9_days_70 (by repeat' (first | with_reducible exact km | with_reducible apply mK_A | with_reducible apply mK_I | with_reducible apply mK_L | with_reducible apply mK_R | with_reducible apply mK_O | with_reducible apply mK_S)) rfl (lw_V q3611 q3613 qs74 q109 q3614) (by decide +kernel) ⟨(Nat.le_of_ble_eq_true rfl), (Nat.le_of_ble_eq_true rfl)⟩ rfl rfl (Nat.le_of_ble_eq_true rfl) (by first | exact Nat.le_of_ble_eq_true rfl | omega) (by first | exact Nat.le_of_ble_eq_true rfl | omega) rfl (fun v_18 M_19 h_21 hE_20 => ?_)
            obtain ⟨rfl, hMs⟩ := h_21
            have hMs : M_19 = SC M m ad (dyD (dyD (dyD (dayS nr nk g h ns i).1))) sa sf1 := hMs.trans (by rw [mA_SC0, SC_A0]; rfl)
            have hMs := hMs.symm
            subst hMs
            rw [mA_SC0]
            refine x_iadd (n' := 74) dX9_days_73 rfl ?_
            refine x_callV (n' := 77) (n := 2) (K := 9) (c_X9_comesShip l G _ m ad (by repeat' (first | with_reducible exact hS | with_reducible apply MS.sA | with_reducible apply MS.sI | with_reducible apply MS.sL | with_reducible apply MS.sc)) _ _ (dayS nr nk g h ns i).2 (by rw [mA_SC0]; exact hwd.ofD.ofD.ofD.ss) (by omega)) dX9_days_74 (by repeat' (first | with_reducible exact km | with_reducible apply mK_A | with_reducible apply mK_I | with_reducible apply mK_L | with_reducible apply mK_R | with_reducible apply mK_O | with_reducible apply mK_S)) rfl (lw_V q3396 q3398 qs54 q109 q3399) (by decide +kernel) ⟨(Nat.le_of_ble_eq_true rfl), (Nat.le_of_ble_eq_true rfl)⟩ rfl rfl (Nat.le_of_ble_eq_true rfl) (by first | exact Nat.le_of_ble_eq_true rfl | omega) (by first | exact Nat.le_of_ble_eq_true rfl | omega) rfl (fun v_22 M_23 h_25 hE_24 => ?_)
            obtain ⟨rfl, hMs⟩ := h_25
            have hMs : M_23 = SC M m ad (cmG (dyD (dyD (dyD (dayS nr nk g h ns i).1))) (dyK (dayS nr nk g h ns i).1) (dyH (dayS nr nk g h ns i).1 (h + i)) (dayS nr nk g h ns i).2) sa sf1 := hMs.trans (by rw [mA_SC0, SC_A0]; rfl)
            have hMs := hMs.symm
            subst hMs
            refine x_istore (n' := 79) dX9_days_77 (Nat.le_of_ble_eq_true rfl) rfl (by dsimp only [List.set] <;> rfl) rfl ?_
            refine x_mem (M2 := SC M m ad (dyG (dayS nr nk g h ns i).1 (h + i) (dayS nr nk g h ns i).2) sa sf1) (by first | rw [dy_a C33] | rw [dy_b N46] | rw [dy_c C33 (by omega)]) ?_
            refine x_iload_n (n' := 80) dX9_days_79 rfl rfl rfl ?_
            refine x_aload_n (n' := 81) dX9_days_80 rfl rfl rfl ?_
            refine x_iconst (n' := 82) (v := 1) dX9_days_81 (by decide) rfl ?_
            refine x_callV (n' := 85) (n := 1) (K := 9) (c_X9_passes l G M m ad hS (dyG (dayS nr nk g h ns i).1 (h + i) (dayS nr nk g h ns i).2) sa sf1 (h + i) nr nk (dyN (dayS nr nk g h ns i).1 (dayS nr nk g h ns i).2) 1 hwd.ofG (by omega)) dX9_days_82 (by repeat' (first | with_reducible exact km | with_reducible apply mK_A | with_reducible apply mK_I | with_reducible apply mK_L | with_reducible apply mK_R | with_reducible apply mK_O | with_reducible apply mK_S)) rfl (lw_V q3405 q3407 qs55 q109 q3408) (by decide +kernel) ⟨(Nat.le_of_ble_eq_true rfl), (Nat.le_of_ble_eq_true rfl)⟩ rfl rfl (Nat.le_of_ble_eq_true rfl) (by first | exact Nat.le_of_ble_eq_true rfl | omega) (by first | exact Nat.le_of_ble_eq_true rfl | omega) rfl (fun v_26 M9 h_28 hE_27 => ?_)
            obtain ⟨rfl, sf2, hM8⟩ := h_28
            have hMs : SC M m ad (dayS nr nk g h ns (i + 1)).1 sa sf2 = M9 := hM8.symm
            subst hMs
            refine x_iadd (n' := 86) dX9_days_85 rfl ?_
            rw [show (dayS nr nk g h ns i).1 16 - g 16 + unlG (dyG (dayS nr nk g h ns i).1 (h + i) (dayS nr nk g h ns i).2) (h + i) nr nk (dyN (dayS nr nk g h ns i).1 (dayS nr nk g h ns i).2) 1 = (dayS nr nk g h ns (i + 1)).1 16 - g 16 from day_un]
            refine x_istore_n (n' := 87) dX9_days_86 rfl (Nat.le_of_ble_eq_true rfl) rfl (by dsimp only [List.set] <;> rfl) rfl ?_
            refine x_iinc (n' := 90) dX9_days_87 rfl (by first | exact nI_inc _ | exact nI_decp (by omega) | exact i_inc _ | rfl) (Nat.le_of_ble_eq_true rfl) rfl (by dsimp only [List.set] <;> rfl) rfl ?_
            refine x_goto (tgt := 23) dX9_days_90 (by decide) ?_
            exact x_drop (ih (i + 1) sf2 (by omega) (by omega) hok) ⟨rfl, ⟨rfl, ⟨rfl, ⟨rfl, trivial⟩⟩⟩⟩
  refine x_iload_n (n' := 1) dX9_days_0 rfl rfl rfl ?_
  refine x_i2l (n' := 2) dX9_days_1 rfl rfl ?_
  refine x_lconst (n' := 3) (v := 1) dX9_days_2 (by decide) rfl ?_
  refine x_ldc2 (n' := 6) q3610 dX9_days_3 rfl ?_
  refine x_callS (n' := 9) (n := 3) (c_X9_in l G _ _ _ _) dX9_days_6 (lw_S q3321 q3322 q109 q3323) (by decide +kernel) ⟨(Nat.le_of_ble_eq_true rfl), (Nat.le_of_ble_eq_true rfl)⟩ rfl rfl (Nat.le_of_ble_eq_true rfl) (by first | exact Nat.le_of_ble_eq_true rfl | omega) (by first | exact Nat.le_of_ble_eq_true rfl | omega) rfl (fun v_29 M_30 h_32 hE_31 => ?_)
  obtain ⟨rfl, hMs⟩ := h_32
  have hMs := hMs.symm
  subst hMs
  rw [k_in3 (x := 1) (y := 60) (by decide) (by decide)]
  refine x_if_ne (n' := 12) (tgt := 19) dX9_days_9 (by decide) rfl (fun c9_33 => ?_) (fun c9_33 => ?_)
  · have C9 := c9_33
    have hok : 1 ≤ a ∧ a ≤ 60 := bi_n0 C9
    have hn9 := nn_le (n := 60) (Int32.le_trans (by decide) hok.1) hok.2 (by decide)
    refine x_loc (i := 1) rfl (nn_of (Int32.le_trans (by decide) hok.1)) (by dsimp only [List.set] <;> rfl) ?_
    refine x_iconst (n' := 20) (v := 0) dX9_days_19 (by decide) rfl ?_
    refine x_istore_n (n' := 21) dX9_days_20 rfl (Nat.le_of_ble_eq_true rfl) rfl (by dsimp only [List.set] <;> rfl) rfl ?_
    refine x_iconst (n' := 22) (v := 0) dX9_days_21 (by decide) rfl ?_
    refine x_istore_n (n' := 23) dX9_days_22 rfl (Nat.le_of_ble_eq_true rfl) rfl (by dsimp only [List.set] <;> rfl) rfl ?_
    refine x_loc (i := 2) rfl (show (0 : Int32) = (dayS nr nk g h ns 0).1 16 - g 16 from (Int32.sub_self _).symm) (by dsimp only [List.set] <;> rfl) ?_
    exact x_drop (cut23 (nn a + 1) 0 sf (by omega) (by omega) hok) ⟨rfl, ⟨rfl, ⟨rfl, ⟨rfl, trivial⟩⟩⟩⟩
  · have C9 := c9_33
    refine x_aload_n (n' := 13) dX9_days_12 rfl rfl rfl ?_
    refine x_bipush (n' := 15) (v := -102) dX9_days_13 (by decide) rfl ?_
    refine x_topv (y := -(nI (102 + 0))) (by decide) ?_
    refine x_callV (n' := 18) (n := 1) (K := 9) (c_X9_refused l G _ m ad (by repeat' (first | with_reducible exact hS | with_reducible apply MS.sA | with_reducible apply MS.sI | with_reducible apply MS.sL | with_reducible apply MS.sc)) 0 (by decide)) dX9_days_15 (by repeat' (first | with_reducible exact km | with_reducible apply mK_A | with_reducible apply mK_I | with_reducible apply mK_L | with_reducible apply mK_R | with_reducible apply mK_O | with_reducible apply mK_S)) rfl (lw_V q3324 q3326 qs48 q109 q3327) (by decide +kernel) ⟨(Nat.le_of_ble_eq_true rfl), (Nat.le_of_ble_eq_true rfl)⟩ rfl rfl (Nat.le_of_ble_eq_true rfl) (by first | exact Nat.le_of_ble_eq_true rfl | omega) (by first | exact Nat.le_of_ble_eq_true rfl | omega) rfl (fun v_34 M_35 h_37 hE_36 => ?_)
    obtain ⟨rfl, hMs⟩ := h_37
    have hMs := hMs.symm
    subst hMs
    exact x_iret dX9_days_18 hret (by repeat' (first | with_reducible exact kE.rf | with_reducible exact kE_SS | with_reducible apply kE_A | with_reducible apply kE_I | with_reducible apply kE_L | with_reducible apply kE_R | with_reducible apply kE_O | with_reducible apply kE_S)) (⟨fun q => absurd q (by exact fun q => bi_0.mp C9 q), fun _ => ⟨rfl, rfl⟩⟩)

theorem ffX9_16_9 : FF "KeptLightModel" 16 9 2 "KeptLightModel" := ⟨by decide, by decide, q3254, Or.inl rfl⟩
theorem ffX9_240_9 : FF "KeptLightModel" 240 9 3 "KeptLightModel" := ⟨by decide, by decide, q3255, Or.inl rfl⟩
set_option maxHeartbeats 4000000 in
set_option maxRecDepth 100000 in
theorem c_X9_image (l : Launch) (G : kG) (M : kM) (m : Nat) (ad : Nat → Nat) (hS : MS M m ad)   : Kt l G yX9_image cX9_image 1 (some .int) 1 22 [.ref m] M (0) (0) (fun v M2 => v = some (.int 1) ∧ M2 = sI (sA M (ad 2) (cpy (mA M (ad 0)) (mA M (ad 2)) 2509)) (fc 9 3) m 1) := by
  refine Kt.of (own := "KeptLightModel") (L := [some (.ref m)]) (by decide +kernel) rfl (Nat.le_of_ble_eq_true rfl) rfl ?_
  intro pp ee ss mm args below meth cd hmn hret
  have km := hS.1
  obtain ⟨hr_g, kk_g, hn_g⟩ := hS.2.1 0 (by decide)
  have hr_g : mR M (fc 9 0) m = some (ad 0) := hr_g
  have hn_g : mN M (ad 0) = 2509 := hn_g
  have kk_g : mK M (ad 0) = some 120 := kk_g
  obtain ⟨hr_kept, kk_kept, hn_kept⟩ := hS.2.1 2 (by decide)
  have hr_kept : mR M (fc 9 2) m = some (ad 2) := hr_kept
  have hn_kept : mN M (ad 2) = 2509 := hn_kept
  have kk_kept : mK M (ad 2) = some 120 := kk_kept
  have ne_g_kept := hS.eqf 0 2 (by decide) (by decide) (by decide)
  have ne_kept_g := hS.eqf 2 0 (by decide) (by decide) (by decide)
  refine x_aload_n (n' := 1) dX9_image_0 rfl rfl rfl ?_
  refine x_getRs (n' := 4) (b := (ad 0)) dX9_image_1 (by repeat' (first | with_reducible exact km | with_reducible apply mK_A | with_reducible apply mK_I | with_reducible apply mK_L | with_reducible apply mK_R | with_reducible apply mK_O | with_reducible apply mK_S)) ffX9_9_9 rfl (by repeat' (first | with_reducible exact hr_g | with_reducible apply mR_A | with_reducible apply mR_I | with_reducible apply mR_L | with_reducible apply mR_S)) rfl ?_
  refine x_aload_n (n' := 5) dX9_image_4 rfl rfl rfl ?_
  refine x_getRs (n' := 8) (b := (ad 2)) dX9_image_5 (by repeat' (first | with_reducible exact km | with_reducible apply mK_A | with_reducible apply mK_I | with_reducible apply mK_L | with_reducible apply mK_R | with_reducible apply mK_O | with_reducible apply mK_S)) ffX9_16_9 rfl (by repeat' (first | with_reducible exact hr_kept | with_reducible apply mR_A | with_reducible apply mR_I | with_reducible apply mR_L | with_reducible apply mR_S)) rfl ?_
  refine x_callS (n' := 11) (n := 2) (c_X9_copies l G _ (ad 0) (ad 2) (by repeat' (first | with_reducible exact kk_g | with_reducible apply mK_A | with_reducible apply mK_I | with_reducible apply mK_L | with_reducible apply mK_S)) (by repeat' (first | with_reducible exact kk_kept | with_reducible apply mK_A | with_reducible apply mK_I | with_reducible apply mK_L | with_reducible apply mK_S)) ne_g_kept (by repeat' (first | with_reducible exact hn_g | with_reducible apply mN_A | with_reducible apply mN_I | with_reducible apply mN_L | with_reducible apply mN_S)) (by repeat' (first | with_reducible exact hn_kept | with_reducible apply mN_A | with_reducible apply mN_I | with_reducible apply mN_L | with_reducible apply mN_S))) dX9_image_8 (lw_S q3526 q3527 q109 q3528) (by decide +kernel) ⟨(Nat.le_of_ble_eq_true rfl), (Nat.le_of_ble_eq_true rfl)⟩ rfl rfl (Nat.le_of_ble_eq_true rfl) (by first | exact Nat.le_of_ble_eq_true rfl | omega) (by first | exact Nat.le_of_ble_eq_true rfl | omega) rfl (fun v_1 M_2 h_4 hE_3 => ?_)
  obtain ⟨rfl, hMs⟩ := h_4
  have hMs := hMs.symm
  subst hMs
  refine x_aload_n (n' := 12) dX9_image_11 rfl rfl rfl ?_
  refine x_iconst (n' := 13) (v := 1) dX9_image_12 (by decide) rfl ?_
  refine x_putI (n' := 16) dX9_image_13 (by repeat' (first | with_reducible exact km | with_reducible apply mK_A | with_reducible apply mK_I | with_reducible apply mK_L | with_reducible apply mK_R | with_reducible apply mK_O | with_reducible apply mK_S)) ffX9_240_9 rfl (k_bool (by first | exact Or.inl rfl | exact Or.inr rfl | assumption)) rfl rfl ?_
  refine x_iconst (n' := 17) (v := 1) dX9_image_16 (by decide) rfl ?_
  exact x_iret dX9_image_17 hret (by repeat' (first | with_reducible exact kE.rf | with_reducible exact kE_SS | with_reducible apply kE_A | with_reducible apply kE_I | with_reducible apply kE_L | with_reducible apply kE_R | with_reducible apply kE_O | with_reducible apply kE_S)) (⟨rfl, rfl⟩)

set_option maxHeartbeats 4000000 in
set_option maxRecDepth 100000 in
theorem c_X9_back (l : Launch) (G : kG) (M : kM) (m : Nat) (ad : Nat → Nat) (hS : MS M m ad) (hi : Int32) (ns : Nat) (hh : mI M (fc 9 3) m = hi) (hk : mA M (ad 2) 14 = nI ns) (hn : ns ≤ 200) : Kt l G yX9_back cX9_back 2 (some .int) 1 22 [.ref m] M (0) (0) (fun v M2 => (hi ≠ 0 → v = some (.int 1) ∧ M2 = sA (sA M (ad 0) (cpy (mA M (ad 2)) (mA M (ad 0)) 2509)) (ad 7) (bkS (mA M (ad 7)) ns 8)) ∧ (hi = 0 → v = some (.int (-(nI 105))) ∧ M2 = rfM M ad 3)) := by
  refine Kt.of (own := "KeptLightModel") (L := [some (.ref m), none]) (by decide +kernel) rfl (Nat.le_of_ble_eq_true rfl) rfl ?_
  intro pp ee ss mm args below meth cd hmn hret
  have km := hS.1
  obtain ⟨hr_g, kk_g, hn_g⟩ := hS.2.1 0 (by decide)
  have hr_g : mR M (fc 9 0) m = some (ad 0) := hr_g
  have hn_g : mN M (ad 0) = 2509 := hn_g
  have kk_g : mK M (ad 0) = some 120 := kk_g
  obtain ⟨hr_kept, kk_kept, hn_kept⟩ := hS.2.1 2 (by decide)
  have hr_kept : mR M (fc 9 2) m = some (ad 2) := hr_kept
  have hn_kept : mN M (ad 2) = 2509 := hn_kept
  have kk_kept : mK M (ad 2) = some 120 := kk_kept
  obtain ⟨hr_sorts, kk_sorts, hn_sorts⟩ := hS.2.1 7 (by decide)
  have hr_sorts : mR M (fc 9 17) m = some (ad 7) := hr_sorts
  have hn_sorts : mN M (ad 7) = 8 := hn_sorts
  have kk_sorts : mK M (ad 7) = some 120 := kk_sorts
  have ne_g_kept := hS.eqf 0 2 (by decide) (by decide) (by decide)
  have ne_g_sorts := hS.eqf 0 7 (by decide) (by decide) (by decide)
  have ne_kept_g := hS.eqf 2 0 (by decide) (by decide) (by decide)
  have ne_kept_sorts := hS.eqf 2 7 (by decide) (by decide) (by decide)
  have ne_sorts_g := hS.eqf 7 0 (by decide) (by decide) (by decide)
  have ne_sorts_kept := hS.eqf 7 2 (by decide) (by decide) (by decide)
  have cut27 : ∀ (fuel : Nat) (i : Nat) (h1 : 8 - i < fuel) (h2 : i ≤ 8) (h3 : ¬ hi = 0), Wx pp l ee { frames := 1, cells := 0, slots := 0, locals := 22 } ss mm args below meth cd "KeptLightModel" cX9_back 2 G (MQ below (KQ G M (fun v M2 => (hi ≠ 0 → v = some (.int 1) ∧ M2 = sA (sA M (ad 0) (cpy (mA M (ad 2)) (mA M (ad 0)) 2509)) (ad 7) (bkS (mA M (ad 7)) ns 8)) ∧ (hi = 0 → v = some (.int (-(nI 105))) ∧ M2 = rfM M ad 3))) args ss (0) (0) (kA G)) 27 [some (.ref m), some (.int (nI i))] [] (sA (sA M (ad 0) (cpy (mA M (ad 2)) (mA M (ad 0)) 2509)) (ad 7) (bkS (mA M (ad 7)) ns i)) (0) (0) := by
    intro fuel
    induction fuel with
    | zero => intro i h1 h2 h3; omega
    | succ fuel ih =>
      intro i h1 h2 h3
      refine x_iload_n (n' := 28) dX9_back_27 rfl rfl rfl ?_
      refine x_bipush (n' := 30) (v := 8) dX9_back_28 (by decide) rfl ?_
      refine x_icmp_ge (n' := 33) (tgt := 74) dX9_back_30 (by decide) rfl (fun c30_1 => ?_) (fun c30_1 => ?_)
      · have n_c30_1 := (cv_le (by repeat' (first | with_reducible exact nl_0 | with_reducible exact nl_1 | with_reducible exact nl_8 | with_reducible exact nl_10 | with_reducible exact nl_14 | with_reducible exact rfl | apply i_add | apply i_mul)) (by repeat' (first | with_reducible exact nl_0 | with_reducible exact nl_1 | with_reducible exact nl_8 | with_reducible exact nl_10 | with_reducible exact nl_14 | with_reducible exact rfl | apply i_add | apply i_mul)) (by omega) (by omega)).mp c30_1
        refine x_iconst (n' := 75) (v := 1) dX9_back_74 (by decide) rfl ?_
        exact x_iret dX9_back_75 hret (by repeat' (first | with_reducible exact kE.rf | with_reducible exact kE_SS | with_reducible apply kE_A | with_reducible apply kE_I | with_reducible apply kE_L | with_reducible apply kE_R | with_reducible apply kE_O | with_reducible apply kE_S)) (⟨fun _ => by rw [show i = 8 by omega]; exact ⟨rfl, rfl⟩, fun q => absurd q h3⟩)
      · have n_c30_1 := (not_congr (cv_le (by repeat' (first | with_reducible exact nl_0 | with_reducible exact nl_1 | with_reducible exact nl_8 | with_reducible exact nl_10 | with_reducible exact nl_14 | with_reducible exact rfl | apply i_add | apply i_mul)) (by repeat' (first | with_reducible exact nl_0 | with_reducible exact nl_1 | with_reducible exact nl_8 | with_reducible exact nl_10 | with_reducible exact nl_14 | with_reducible exact rfl | apply i_add | apply i_mul)) (by omega) (by omega))).mp c30_1
        refine x_aload_n (n' := 34) dX9_back_33 rfl rfl rfl ?_
        refine x_getRs (n' := 37) (b := (ad 7)) dX9_back_34 (by repeat' (first | with_reducible exact km | with_reducible apply mK_A | with_reducible apply mK_I | with_reducible apply mK_L | with_reducible apply mK_R | with_reducible apply mK_O | with_reducible apply mK_S)) ffX9_41_9 rfl (by repeat' (first | with_reducible exact hr_sorts | with_reducible apply mR_A | with_reducible apply mR_I | with_reducible apply mR_L | with_reducible apply mR_S)) rfl ?_
        refine x_iload_n (n' := 38) dX9_back_37 rfl rfl rfl ?_
        refine x_aload_n (n' := 39) dX9_back_38 rfl rfl rfl ?_
        refine x_getRs (n' := 42) (b := (ad 7)) dX9_back_39 (by repeat' (first | with_reducible exact km | with_reducible apply mK_A | with_reducible apply mK_I | with_reducible apply mK_L | with_reducible apply mK_R | with_reducible apply mK_O | with_reducible apply mK_S)) ffX9_41_9 rfl (by repeat' (first | with_reducible exact hr_sorts | with_reducible apply mR_A | with_reducible apply mR_I | with_reducible apply mR_L | with_reducible apply mR_S)) rfl ?_
        refine x_iload_n (n' := 43) dX9_back_42 rfl rfl rfl ?_
        refine x_ildk (n' := 44) (N := 8) dX9_back_43 (by repeat' (first | with_reducible exact kk_sorts | with_reducible apply mK_A | with_reducible apply mK_I | with_reducible apply mK_L | with_reducible apply mK_R | with_reducible apply mK_O | with_reducible apply mK_S)) (by repeat' (first | with_reducible exact hn_sorts | with_reducible apply mN_A | with_reducible apply mN_I | with_reducible apply mN_L | with_reducible apply mN_R | with_reducible apply mN_O | with_reducible apply mN_S)) (by repeat' (first | with_reducible exact nl_0 | with_reducible exact nl_1 | with_reducible exact nl_8 | with_reducible exact nl_10 | with_reducible exact nl_14 | with_reducible exact rfl | apply i_add | apply i_mul)) (by omega) (by decide) ((congrFun mA_sA i).trans (bkS_at _ _ _)) rfl ?_
        refine x_bipush (n' := 46) (v := 10) dX9_back_44 (by decide) rfl ?_
        refine x_aload_n (n' := 47) dX9_back_46 rfl rfl rfl ?_
        refine x_getRs (n' := 50) (b := (ad 0)) dX9_back_47 (by repeat' (first | with_reducible exact km | with_reducible apply mK_A | with_reducible apply mK_I | with_reducible apply mK_L | with_reducible apply mK_R | with_reducible apply mK_O | with_reducible apply mK_S)) ffX9_9_9 rfl (by repeat' (first | with_reducible exact hr_g | with_reducible apply mR_A | with_reducible apply mR_I | with_reducible apply mR_L | with_reducible apply mR_S)) rfl ?_
        refine x_bipush (n' := 52) (v := 14) dX9_back_50 (by decide) rfl ?_
        refine x_ildk (n' := 53) (N := 2509) dX9_back_52 (by repeat' (first | with_reducible exact kk_g | with_reducible apply mK_A | with_reducible apply mK_I | with_reducible apply mK_L | with_reducible apply mK_R | with_reducible apply mK_O | with_reducible apply mK_S)) (by repeat' (first | with_reducible exact hn_g | with_reducible apply mN_A | with_reducible apply mN_I | with_reducible apply mN_L | with_reducible apply mN_R | with_reducible apply mN_O | with_reducible apply mN_S)) (by repeat' (first | with_reducible exact nl_0 | with_reducible exact nl_1 | with_reducible exact nl_8 | with_reducible exact nl_10 | with_reducible exact nl_14 | with_reducible exact rfl | apply i_add | apply i_mul)) (by omega) (by decide) ((congrFun ((mA_sA_n (fun q => by rw [q] at ne_g_sorts; simp at ne_g_sorts)).trans mA_sA) 14).trans ((if_pos (by decide)).trans hk)) rfl ?_
        refine x_iadd (n' := 54) dX9_back_53 rfl ?_
        
        refine x_fork (J := 67) (x_icmp_lt (n' := 57) (tgt := 61) dX9_back_54 (by decide) rfl) (v1 := ?v1_f54_2) (v2 := ?v2_f54_2) (fun c_f54_2 j_f54_2 => ?b1_f54_2) (fun c_f54_2 j_f54_2 => ?b2_f54_2) ?k_f54_2
        case b1_f54_2 =>
          refine x_aload_n (n' := 62) dX9_back_61 rfl rfl rfl ?_
          refine x_getRs (n' := 65) (b := (ad 7)) dX9_back_62 (by repeat' (first | with_reducible exact km | with_reducible apply mK_A | with_reducible apply mK_I | with_reducible apply mK_L | with_reducible apply mK_R | with_reducible apply mK_O | with_reducible apply mK_S)) ffX9_41_9 rfl (by repeat' (first | with_reducible exact hr_sorts | with_reducible apply mR_A | with_reducible apply mR_I | with_reducible apply mR_L | with_reducible apply mR_S)) rfl ?_
          refine x_iload_n (n' := 66) dX9_back_65 rfl rfl rfl ?_
          refine x_ildk (n' := 67) (N := 8) dX9_back_66 (by repeat' (first | with_reducible exact kk_sorts | with_reducible apply mK_A | with_reducible apply mK_I | with_reducible apply mK_L | with_reducible apply mK_R | with_reducible apply mK_O | with_reducible apply mK_S)) (by repeat' (first | with_reducible exact hn_sorts | with_reducible apply mN_A | with_reducible apply mN_I | with_reducible apply mN_L | with_reducible apply mN_R | with_reducible apply mN_O | with_reducible apply mN_S)) (by repeat' (first | with_reducible exact nl_0 | with_reducible exact nl_1 | with_reducible exact nl_8 | with_reducible exact nl_10 | with_reducible exact nl_14 | with_reducible exact rfl | apply i_add | apply i_mul)) (by omega) (by decide) ((congrFun mA_sA i).trans (bkS_at _ _ _)) rfl ?_
          exact j_f54_2
        case b2_f54_2 =>
          refine x_iconst (n' := 58) (v := -1) dX9_back_57 (by decide) rfl ?_
          refine x_goto (tgt := 67) dX9_back_58 (by decide) ?_
          exact j_f54_2
        refine x_topv (y := if nI (10 + ns) ≤ mA M (ad 7) i then -1 else mA M (ad 7) i) (by exact bk_eq) ?_
        refine x_iastk (n' := 68) (N := 8) dX9_back_67 (by repeat' (first | with_reducible exact kk_sorts | with_reducible apply mK_A | with_reducible apply mK_I | with_reducible apply mK_L | with_reducible apply mK_R | with_reducible apply mK_O | with_reducible apply mK_S)) (by repeat' (first | with_reducible exact hn_sorts | with_reducible apply mN_A | with_reducible apply mN_I | with_reducible apply mN_L | with_reducible apply mN_R | with_reducible apply mN_O | with_reducible apply mN_S)) (by repeat' (first | with_reducible exact nl_0 | with_reducible exact nl_1 | with_reducible exact nl_8 | with_reducible exact nl_10 | with_reducible exact nl_14 | with_reducible exact rfl | apply i_add | apply i_mul)) (by omega) (by decide) (by first | with_reducible exact mA_sA | with_reducible exact mA_SC0 | with_reducible exact mA_SC1 hS | with_reducible exact mA_SC5 hS | with_reducible exact mA_SC6 hS | with_reducible exact mA_SC10 hS | with_reducible exact mA_SC11 hS | with_reducible exact mA_SC12 hS | with_reducible exact mA_sI_sA | with_reducible exact mA_sI3_sA | rfl) (by first | with_reducible exact SC_A0 | with_reducible exact SC_A1 hS | with_reducible exact SC_A5 hS | with_reducible exact SC_A6 hS | with_reducible exact SC_A10 hS | with_reducible exact SC_A11 hS | with_reducible exact SC_A12 hS | with_reducible exact sA_sA | with_reducible exact sA_sI_sA | with_reducible exact sA_sI3_sA | rfl) rfl ?_
        refine x_iinc (n' := 71) dX9_back_68 rfl (by first | exact nI_inc _ | exact nI_decp (by omega) | exact i_inc _ | rfl) (Nat.le_of_ble_eq_true rfl) rfl (by dsimp only [List.set] <;> rfl) rfl ?_
        refine x_goto (tgt := 27) dX9_back_71 (by decide) ?_
        rw [bkS_s]
        exact x_drop (ih (i + 1) (by omega) (by omega) h3) ⟨rfl, ⟨rfl, trivial⟩⟩
  refine x_aload_n (n' := 1) dX9_back_0 rfl rfl rfl ?_
  refine x_getI (n' := 4) dX9_back_1 (by repeat' (first | with_reducible exact km | with_reducible apply mK_A | with_reducible apply mK_I | with_reducible apply mK_L | with_reducible apply mK_R | with_reducible apply mK_O | with_reducible apply mK_S)) ffX9_240_9 rfl rfl ?_
  refine x_topv hh ?_
  refine x_if_ne (n' := 7) (tgt := 14) dX9_back_4 (by decide) rfl (fun c4_3 => ?_) (fun c4_3 => ?_)
  · have C4 := c4_3
    refine x_aload_n (n' := 15) dX9_back_14 rfl rfl rfl ?_
    refine x_getRs (n' := 18) (b := (ad 2)) dX9_back_15 (by repeat' (first | with_reducible exact km | with_reducible apply mK_A | with_reducible apply mK_I | with_reducible apply mK_L | with_reducible apply mK_R | with_reducible apply mK_O | with_reducible apply mK_S)) ffX9_16_9 rfl (by repeat' (first | with_reducible exact hr_kept | with_reducible apply mR_A | with_reducible apply mR_I | with_reducible apply mR_L | with_reducible apply mR_S)) rfl ?_
    refine x_aload_n (n' := 19) dX9_back_18 rfl rfl rfl ?_
    refine x_getRs (n' := 22) (b := (ad 0)) dX9_back_19 (by repeat' (first | with_reducible exact km | with_reducible apply mK_A | with_reducible apply mK_I | with_reducible apply mK_L | with_reducible apply mK_R | with_reducible apply mK_O | with_reducible apply mK_S)) ffX9_9_9 rfl (by repeat' (first | with_reducible exact hr_g | with_reducible apply mR_A | with_reducible apply mR_I | with_reducible apply mR_L | with_reducible apply mR_S)) rfl ?_
    refine x_callS (n' := 25) (n := 2) (c_X9_copies l G _ (ad 2) (ad 0) (by repeat' (first | with_reducible exact kk_kept | with_reducible apply mK_A | with_reducible apply mK_I | with_reducible apply mK_L | with_reducible apply mK_S)) (by repeat' (first | with_reducible exact kk_g | with_reducible apply mK_A | with_reducible apply mK_I | with_reducible apply mK_L | with_reducible apply mK_S)) ne_kept_g (by repeat' (first | with_reducible exact hn_kept | with_reducible apply mN_A | with_reducible apply mN_I | with_reducible apply mN_L | with_reducible apply mN_S)) (by repeat' (first | with_reducible exact hn_g | with_reducible apply mN_A | with_reducible apply mN_I | with_reducible apply mN_L | with_reducible apply mN_S))) dX9_back_22 (lw_S q3526 q3527 q109 q3528) (by decide +kernel) ⟨(Nat.le_of_ble_eq_true rfl), (Nat.le_of_ble_eq_true rfl)⟩ rfl rfl (Nat.le_of_ble_eq_true rfl) (by first | exact Nat.le_of_ble_eq_true rfl | omega) (by first | exact Nat.le_of_ble_eq_true rfl | omega) rfl (fun v_4 M_5 h_7 hE_6 => ?_)
    obtain ⟨rfl, hMs⟩ := h_7
    have hMs := hMs.symm
    subst hMs
    refine x_iconst (n' := 26) (v := 0) dX9_back_25 (by decide) rfl ?_
    refine x_istore_n (n' := 27) dX9_back_26 rfl (Nat.le_of_ble_eq_true rfl) rfl (by dsimp only [List.set] <;> rfl) rfl ?_
    refine x_mem (M2 := sA (sA M (ad 0) (cpy (mA M (ad 2)) (mA M (ad 0)) 2509)) (ad 7) (bkS (mA M (ad 7)) ns 0)) (by rw [bkS_0]; exact (sA_eta2 (fun q => by rw [q] at ne_g_sorts; simp at ne_g_sorts)).symm) ?_
    exact x_drop (cut27 9 0 (by omega) (by omega) C4) ⟨rfl, ⟨rfl, trivial⟩⟩
  · have C4 := c4_3
    refine x_aload_n (n' := 8) dX9_back_7 rfl rfl rfl ?_
    refine x_bipush (n' := 10) (v := -105) dX9_back_8 (by decide) rfl ?_
    refine x_topv (y := -(nI (102 + 3))) (by decide) ?_
    refine x_callV (n' := 13) (n := 1) (K := 9) (c_X9_refused l G _ m ad (by repeat' (first | with_reducible exact hS | with_reducible apply MS.sA | with_reducible apply MS.sI | with_reducible apply MS.sL | with_reducible apply MS.sc)) 3 (by decide)) dX9_back_10 (by repeat' (first | with_reducible exact km | with_reducible apply mK_A | with_reducible apply mK_I | with_reducible apply mK_L | with_reducible apply mK_R | with_reducible apply mK_O | with_reducible apply mK_S)) rfl (lw_V q3324 q3326 qs48 q109 q3327) (by decide +kernel) ⟨(Nat.le_of_ble_eq_true rfl), (Nat.le_of_ble_eq_true rfl)⟩ rfl rfl (Nat.le_of_ble_eq_true rfl) (by first | exact Nat.le_of_ble_eq_true rfl | omega) (by first | exact Nat.le_of_ble_eq_true rfl | omega) rfl (fun v_8 M_9 h_11 hE_10 => ?_)
    obtain ⟨rfl, hMs⟩ := h_11
    have hMs := hMs.symm
    subst hMs
    exact x_iret dX9_back_13 hret (by repeat' (first | with_reducible exact kE.rf | with_reducible exact kE_SS | with_reducible apply kE_A | with_reducible apply kE_I | with_reducible apply kE_L | with_reducible apply kE_R | with_reducible apply kE_O | with_reducible apply kE_S)) (⟨fun q => absurd C4 q, fun _ => ⟨rfl, rfl⟩⟩)

theorem ffX9_51_9 : FF "KeptLightModel" 51 9 20 "KeptLightModel" := ⟨by decide, by decide, q3272, Or.inl rfl⟩
set_option maxHeartbeats 4000000 in
set_option maxRecDepth 100000 in
theorem c_X9_status (l : Launch) (G : kG) (M : kM) (m : Nat) (ad : Nat → Nat) (hS : MS M m ad) (w : Int32) (ht : TD (mA M (ad 9))) : Kt l G yX9_status cX9_status 2 (some .int) 1 25 [.ref m, .int w] M (0) (0) (fun v M2 => v = some (.int (staG (mA M (ad 0)) (mA M (ad 7)) (mA M (ad 3)) (mI M (fc 9 9) m) w)) ∧ M2 = M) := by
  refine Kt.of (own := "KeptLightModel") (L := [some (.ref m), some (.int w)]) (by decide +kernel) rfl (Nat.le_of_ble_eq_true rfl) rfl ?_
  intro pp ee ss mm args below meth cd hmn hret
  have km := hS.1
  obtain ⟨hr_g, kk_g, hn_g⟩ := hS.2.1 0 (by decide)
  have hr_g : mR M (fc 9 0) m = some (ad 0) := hr_g
  have hn_g : mN M (ad 0) = 2509 := hn_g
  have kk_g : mK M (ad 0) = some 120 := kk_g
  obtain ⟨hr_refusals, kk_refusals, hn_refusals⟩ := hS.2.1 3 (by decide)
  have hr_refusals : mR M (fc 9 4) m = some (ad 3) := hr_refusals
  have hn_refusals : mN M (ad 3) = 5 := hn_refusals
  have kk_refusals : mK M (ad 3) = some 120 := kk_refusals
  obtain ⟨hr_told, kk_told, hn_told⟩ := hS.2.1 9 (by decide)
  have hr_told : mR M (fc 9 20) m = some (ad 9) := hr_told
  have hn_told : mN M (ad 9) = 12 := hn_told
  have kk_told : mK M (ad 9) = some 120 := kk_told
  have ne_g_refusals := hS.eqf 0 3 (by decide) (by decide) (by decide)
  have ne_g_told := hS.eqf 0 9 (by decide) (by decide) (by decide)
  have ne_refusals_g := hS.eqf 3 0 (by decide) (by decide) (by decide)
  have ne_refusals_told := hS.eqf 3 9 (by decide) (by decide) (by decide)
  have ne_told_g := hS.eqf 9 0 (by decide) (by decide) (by decide)
  have ne_told_refusals := hS.eqf 9 3 (by decide) (by decide) (by decide)
  refine x_iload_n (n' := 1) dX9_status_0 rfl rfl rfl ?_
  refine x_i2l (n' := 2) dX9_status_1 rfl rfl ?_
  refine x_lconst (n' := 3) (v := 0) dX9_status_2 (by decide) rfl ?_
  refine x_ldc2 (n' := 6) q3632 dX9_status_3 rfl ?_
  refine x_callS (n' := 9) (n := 3) (c_X9_in l G _ _ _ _) dX9_status_6 (lw_S q3321 q3322 q109 q3323) (by decide +kernel) ⟨(Nat.le_of_ble_eq_true rfl), (Nat.le_of_ble_eq_true rfl)⟩ rfl rfl (Nat.le_of_ble_eq_true rfl) (by first | exact Nat.le_of_ble_eq_true rfl | omega) (by first | exact Nat.le_of_ble_eq_true rfl | omega) rfl (fun v_1 M_2 h_4 hE_3 => ?_)
  obtain ⟨rfl, hMs⟩ := h_4
  have hMs := hMs.symm
  subst hMs
  rw [k_in3 (x := 0) (y := 11) (by decide) (by decide)]
  refine x_if_eq (n' := 12) (tgt := 24) dX9_status_9 (by decide) rfl (fun c9_5 => ?_) (fun c9_5 => ?_)
  · have C9 := c9_5
    refine x_iload_n (n' := 25) dX9_status_24 rfl rfl rfl ?_
    refine x_i2l (n' := 26) dX9_status_25 rfl rfl ?_
    refine x_ldc2 (n' := 29) q3381 dX9_status_26 rfl ?_
    refine x_ldc2 (n' := 32) q3633 dX9_status_29 rfl ?_
    refine x_callS (n' := 35) (n := 3) (c_X9_in l G _ _ _ _) dX9_status_32 (lw_S q3321 q3322 q109 q3323) (by decide +kernel) ⟨(Nat.le_of_ble_eq_true rfl), (Nat.le_of_ble_eq_true rfl)⟩ rfl rfl (Nat.le_of_ble_eq_true rfl) (by first | exact Nat.le_of_ble_eq_true rfl | omega) (by first | exact Nat.le_of_ble_eq_true rfl | omega) rfl (fun v_6 M_7 h_9 hE_8 => ?_)
    obtain ⟨rfl, hMs⟩ := h_9
    have hMs := hMs.symm
    subst hMs
    rw [k_in3 (x := 12) (y := 16) (by decide) (by decide)]
    refine x_if_eq (n' := 38) (tgt := 48) dX9_status_35 (by decide) rfl (fun c35_10 => ?_) (fun c35_10 => ?_)
    · have C35 := c35_10
      refine x_iload_n (n' := 49) dX9_status_48 rfl rfl rfl ?_
      refine x_bipush (n' := 51) (v := 17) dX9_status_49 (by decide) rfl ?_
      refine x_icmp_ne (n' := 54) (tgt := 61) dX9_status_51 (by decide) rfl (fun c51_11 => ?_) (fun c51_11 => ?_)
      · have C51 := c51_11
        refine x_iload_n (n' := 62) dX9_status_61 rfl rfl rfl ?_
        refine x_bipush (n' := 64) (v := 18) dX9_status_62 (by decide) rfl ?_
        refine x_icmp_ne (n' := 67) (tgt := 77) dX9_status_64 (by decide) rfl (fun c64_12 => ?_) (fun c64_12 => ?_)
        · have C64 := c64_12
          refine x_iload_n (n' := 78) dX9_status_77 rfl rfl rfl ?_
          refine x_bipush (n' := 80) (v := 19) dX9_status_78 (by decide) rfl ?_
          refine x_icmp_ne (n' := 83) (tgt := 90) dX9_status_80 (by decide) rfl (fun c80_13 => ?_) (fun c80_13 => ?_)
          · have C80 := c80_13
            refine x_iconst (n' := 91) (v := -1) dX9_status_90 (by decide) rfl ?_
            exact x_iret dX9_status_91 hret (by repeat' (first | with_reducible exact kE.rf | with_reducible exact kE_SS | with_reducible apply kE_A | with_reducible apply kE_I | with_reducible apply kE_L | with_reducible apply kE_R | with_reducible apply kE_O | with_reducible apply kE_S)) (by first | exact ⟨congrArg (fun z => some (Value.int z)) (sta_c (bi_0.mp C9) (bi_0.mp C35) C51), rfl⟩ | exact ⟨congrArg (fun z => some (Value.int z)) (sta_d (bi_0.mp C9) (bi_0.mp C35) C51 C64), rfl⟩ | exact ⟨congrArg (fun z => some (Value.int z)) (sta_e (bi_0.mp C9) (bi_0.mp C35) C51 C64 C80), rfl⟩ | exact ⟨congrArg (fun z => some (Value.int z)) (sta_f (bi_0.mp C9) (bi_0.mp C35) C51 C64 C80), rfl⟩)
          · have C80 := c80_13
            refine x_aload_n (n' := 84) dX9_status_83 rfl rfl rfl ?_
            refine x_callV (n' := 87) (n := 0) (K := 9) (c_X9_held l G _ m ad hS) dX9_status_84 (by repeat' (first | with_reducible exact km | with_reducible apply mK_A | with_reducible apply mK_I | with_reducible apply mK_L | with_reducible apply mK_R | with_reducible apply mK_O | with_reducible apply mK_S)) rfl (lw_V q3634 q3636 qs75 q109 q3637) (by decide +kernel) ⟨(Nat.le_of_ble_eq_true rfl), (Nat.le_of_ble_eq_true rfl)⟩ rfl rfl (Nat.le_of_ble_eq_true rfl) (by first | exact Nat.le_of_ble_eq_true rfl | omega) (by first | exact Nat.le_of_ble_eq_true rfl | omega) rfl (fun v_14 M_15 h_17 hE_16 => ?_)
            obtain ⟨rfl, hMs⟩ := h_17
            have hMs := hMs.symm
            subst hMs
            refine x_goto (tgt := 91) dX9_status_87 (by decide) ?_
            exact x_iret dX9_status_91 hret (by repeat' (first | with_reducible exact kE.rf | with_reducible exact kE_SS | with_reducible apply kE_A | with_reducible apply kE_I | with_reducible apply kE_L | with_reducible apply kE_R | with_reducible apply kE_O | with_reducible apply kE_S)) (by first | exact ⟨congrArg (fun z => some (Value.int z)) (sta_c (bi_0.mp C9) (bi_0.mp C35) C51), rfl⟩ | exact ⟨congrArg (fun z => some (Value.int z)) (sta_d (bi_0.mp C9) (bi_0.mp C35) C51 C64), rfl⟩ | exact ⟨congrArg (fun z => some (Value.int z)) (sta_e (bi_0.mp C9) (bi_0.mp C35) C51 C64 C80), rfl⟩ | exact ⟨congrArg (fun z => some (Value.int z)) (sta_f (bi_0.mp C9) (bi_0.mp C35) C51 C64 C80), rfl⟩)
        · have C64 := c64_12
          refine x_aload_n (n' := 68) dX9_status_67 rfl rfl rfl ?_
          refine x_getRs (n' := 71) (b := (ad 0)) dX9_status_68 (by repeat' (first | with_reducible exact km | with_reducible apply mK_A | with_reducible apply mK_I | with_reducible apply mK_L | with_reducible apply mK_R | with_reducible apply mK_O | with_reducible apply mK_S)) ffX9_9_9 rfl (by repeat' (first | with_reducible exact hr_g | with_reducible apply mR_A | with_reducible apply mR_I | with_reducible apply mR_L | with_reducible apply mR_S)) rfl ?_
          refine x_bipush (n' := 73) (v := 19) dX9_status_71 (by decide) rfl ?_
          refine x_ildk (n' := 74) (N := 2509) dX9_status_73 (by repeat' (first | with_reducible exact kk_g | with_reducible apply mK_A | with_reducible apply mK_I | with_reducible apply mK_L | with_reducible apply mK_R | with_reducible apply mK_O | with_reducible apply mK_S)) (by repeat' (first | with_reducible exact hn_g | with_reducible apply mN_A | with_reducible apply mN_I | with_reducible apply mN_L | with_reducible apply mN_R | with_reducible apply mN_O | with_reducible apply mN_S)) (by repeat' (first | with_reducible exact nl_0 | with_reducible exact nl_12 | with_reducible exact nl_17 | with_reducible exact nl_18 | with_reducible exact nl_19 | with_reducible exact rfl | apply i_add | apply i_mul)) (by omega) (by decide) (by first | (simp (disch := omega) only [mA_sA, mA_sI, mA_SC0, mA_SC1 hS, mA_SC5 hS, mA_SC6 hS, mA_SC10 hS, mA_SC11 hS, mA_SC12 hS, up_s, up_n, if_false, ne_g_refusals, ne_g_told, ne_refusals_g, ne_refusals_told, ne_told_g, ne_told_refusals] <;> rfl) | rfl) rfl ?_
          refine x_goto (tgt := 91) dX9_status_74 (by decide) ?_
          exact x_iret dX9_status_91 hret (by repeat' (first | with_reducible exact kE.rf | with_reducible exact kE_SS | with_reducible apply kE_A | with_reducible apply kE_I | with_reducible apply kE_L | with_reducible apply kE_R | with_reducible apply kE_O | with_reducible apply kE_S)) (by first | exact ⟨congrArg (fun z => some (Value.int z)) (sta_c (bi_0.mp C9) (bi_0.mp C35) C51), rfl⟩ | exact ⟨congrArg (fun z => some (Value.int z)) (sta_d (bi_0.mp C9) (bi_0.mp C35) C51 C64), rfl⟩ | exact ⟨congrArg (fun z => some (Value.int z)) (sta_e (bi_0.mp C9) (bi_0.mp C35) C51 C64 C80), rfl⟩ | exact ⟨congrArg (fun z => some (Value.int z)) (sta_f (bi_0.mp C9) (bi_0.mp C35) C51 C64 C80), rfl⟩)
      · have C51 := c51_11
        refine x_aload_n (n' := 55) dX9_status_54 rfl rfl rfl ?_
        refine x_getI (n' := 58) dX9_status_55 (by repeat' (first | with_reducible exact km | with_reducible apply mK_A | with_reducible apply mK_I | with_reducible apply mK_L | with_reducible apply mK_R | with_reducible apply mK_O | with_reducible apply mK_S)) ffX9_135_9 rfl rfl ?_
        refine x_goto (tgt := 91) dX9_status_58 (by decide) ?_
        exact x_iret dX9_status_91 hret (by repeat' (first | with_reducible exact kE.rf | with_reducible exact kE_SS | with_reducible apply kE_A | with_reducible apply kE_I | with_reducible apply kE_L | with_reducible apply kE_R | with_reducible apply kE_O | with_reducible apply kE_S)) (by first | exact ⟨congrArg (fun z => some (Value.int z)) (sta_c (bi_0.mp C9) (bi_0.mp C35) C51), rfl⟩ | exact ⟨congrArg (fun z => some (Value.int z)) (sta_d (bi_0.mp C9) (bi_0.mp C35) C51 C64), rfl⟩ | exact ⟨congrArg (fun z => some (Value.int z)) (sta_e (bi_0.mp C9) (bi_0.mp C35) C51 C64 C80), rfl⟩ | exact ⟨congrArg (fun z => some (Value.int z)) (sta_f (bi_0.mp C9) (bi_0.mp C35) C51 C64 C80), rfl⟩)
    · have C35 := c35_10
      have h16 := sta_12 (bi_n0 C35)
      refine x_aload_n (n' := 39) dX9_status_38 rfl rfl rfl ?_
      refine x_getRs (n' := 42) (b := (ad 3)) dX9_status_39 (by repeat' (first | with_reducible exact km | with_reducible apply mK_A | with_reducible apply mK_I | with_reducible apply mK_L | with_reducible apply mK_R | with_reducible apply mK_O | with_reducible apply mK_S)) ffX9_19_9 rfl (by repeat' (first | with_reducible exact hr_refusals | with_reducible apply mR_A | with_reducible apply mR_I | with_reducible apply mR_L | with_reducible apply mR_S)) rfl ?_
      refine x_iload_n (n' := 43) dX9_status_42 rfl rfl rfl ?_
      refine x_bipush (n' := 45) (v := 12) dX9_status_43 (by decide) rfl ?_
      refine x_isub (n' := 46) dX9_status_45 rfl ?_
      refine x_topv h16.1 ?_
      refine x_ildk (n' := 47) (N := 5) dX9_status_46 (by repeat' (first | with_reducible exact kk_refusals | with_reducible apply mK_A | with_reducible apply mK_I | with_reducible apply mK_L | with_reducible apply mK_R | with_reducible apply mK_O | with_reducible apply mK_S)) (by repeat' (first | with_reducible exact hn_refusals | with_reducible apply mN_A | with_reducible apply mN_I | with_reducible apply mN_L | with_reducible apply mN_R | with_reducible apply mN_O | with_reducible apply mN_S)) (by repeat' (first | with_reducible exact nl_0 | with_reducible exact nl_12 | with_reducible exact nl_17 | with_reducible exact nl_18 | with_reducible exact nl_19 | with_reducible exact rfl | apply i_add | apply i_mul)) (by omega) (by decide) (by first | (simp (disch := omega) only [mA_sA, mA_sI, mA_SC0, mA_SC1 hS, mA_SC5 hS, mA_SC6 hS, mA_SC10 hS, mA_SC11 hS, mA_SC12 hS, up_s, up_n, if_false, ne_g_refusals, ne_g_told, ne_refusals_g, ne_refusals_told, ne_told_g, ne_told_refusals] <;> rfl) | rfl) rfl ?_
      exact x_iret dX9_status_47 hret (by repeat' (first | with_reducible exact kE.rf | with_reducible exact kE_SS | with_reducible apply kE_A | with_reducible apply kE_I | with_reducible apply kE_L | with_reducible apply kE_R | with_reducible apply kE_O | with_reducible apply kE_S)) (⟨congrArg (fun z => some (Value.int z)) (sta_b (bi_0.mp C9) (bi_n0 C35)), rfl⟩)
  · have C9 := c9_5
    have h11 : 0 ≤ w ∧ w ≤ 11 := bi_n0 C9
    have hn8 := nn_le (n := 11) h11.1 h11.2 (by decide)
    have htd := tdI_le (k := nn w) (by omega)
    refine x_loc (i := 1) rfl (nn_of h11.1) (by dsimp only [List.set] <;> rfl) ?_
    refine x_aload_n (n' := 13) dX9_status_12 rfl rfl rfl ?_
    refine x_getRs (n' := 16) (b := (ad 0)) dX9_status_13 (by repeat' (first | with_reducible exact km | with_reducible apply mK_A | with_reducible apply mK_I | with_reducible apply mK_L | with_reducible apply mK_R | with_reducible apply mK_O | with_reducible apply mK_S)) ffX9_9_9 rfl (by repeat' (first | with_reducible exact hr_g | with_reducible apply mR_A | with_reducible apply mR_I | with_reducible apply mR_L | with_reducible apply mR_S)) rfl ?_
    refine x_aload_n (n' := 17) dX9_status_16 rfl rfl rfl ?_
    refine x_getRs (n' := 20) (b := (ad 9)) dX9_status_17 (by repeat' (first | with_reducible exact km | with_reducible apply mK_A | with_reducible apply mK_I | with_reducible apply mK_L | with_reducible apply mK_R | with_reducible apply mK_O | with_reducible apply mK_S)) ffX9_51_9 rfl (by repeat' (first | with_reducible exact hr_told | with_reducible apply mR_A | with_reducible apply mR_I | with_reducible apply mR_L | with_reducible apply mR_S)) rfl ?_
    refine x_iload_n (n' := 21) dX9_status_20 rfl rfl rfl ?_
    refine x_ildk (n' := 22) (N := 12) dX9_status_21 (by repeat' (first | with_reducible exact kk_told | with_reducible apply mK_A | with_reducible apply mK_I | with_reducible apply mK_L | with_reducible apply mK_R | with_reducible apply mK_O | with_reducible apply mK_S)) (by repeat' (first | with_reducible exact hn_told | with_reducible apply mN_A | with_reducible apply mN_I | with_reducible apply mN_L | with_reducible apply mN_R | with_reducible apply mN_O | with_reducible apply mN_S)) (by repeat' (first | with_reducible exact nl_0 | with_reducible exact nl_12 | with_reducible exact nl_17 | with_reducible exact nl_18 | with_reducible exact nl_19 | with_reducible exact rfl | apply i_add | apply i_mul)) (by omega) (by decide) (ht (nn w) (by omega)) rfl ?_
    refine x_ildk (n' := 23) (N := 2509) dX9_status_22 (by repeat' (first | with_reducible exact kk_g | with_reducible apply mK_A | with_reducible apply mK_I | with_reducible apply mK_L | with_reducible apply mK_R | with_reducible apply mK_O | with_reducible apply mK_S)) (by repeat' (first | with_reducible exact hn_g | with_reducible apply mN_A | with_reducible apply mN_I | with_reducible apply mN_L | with_reducible apply mN_R | with_reducible apply mN_O | with_reducible apply mN_S)) (by repeat' (first | with_reducible exact nl_0 | with_reducible exact nl_12 | with_reducible exact nl_17 | with_reducible exact nl_18 | with_reducible exact nl_19 | with_reducible exact rfl | apply i_add | apply i_mul)) (by omega) (by decide) (by first | (simp (disch := omega) only [mA_sA, mA_sI, mA_SC0, mA_SC1 hS, mA_SC5 hS, mA_SC6 hS, mA_SC10 hS, mA_SC11 hS, mA_SC12 hS, up_s, up_n, if_false, ne_g_refusals, ne_g_told, ne_refusals_g, ne_refusals_told, ne_told_g, ne_told_refusals] <;> rfl) | rfl) rfl ?_
    exact x_iret dX9_status_23 hret (by repeat' (first | with_reducible exact kE.rf | with_reducible exact kE_SS | with_reducible apply kE_A | with_reducible apply kE_I | with_reducible apply kE_L | with_reducible apply kE_R | with_reducible apply kE_O | with_reducible apply kE_S)) (⟨congrArg (fun z => some (Value.int z)) (sta_a h11), rfl⟩)

theorem ffX9_22_9 : FF "KeptLightModel" 22 9 8 "KeptLightModel" := ⟨by decide, by decide, q3260, Or.inl rfl⟩
set_option maxHeartbeats 4000000 in
set_option maxRecDepth 100000 in
theorem c_X9_feed (l : Launch) (G : kG) (M : kM) (m : Nat) (ad : Nat → Nat) (hS : MS M m ad) (b : Int32) (t : Nat) (ht : mI M (fc 9 9) m = nI t) (hb : t ≤ 250) : Kt l G yX9_feed cX9_feed 2 (some .int) 1 25 [.ref m, .int b] M (0) (0) (fun v M2 => (0 ≤ b ∧ b ≤ 255 → t < 250 → v = some (.int (nI (t + 1))) ∧ M2 = sI (sA M (ad 4) (va_up (mA M (ad 4)) t b)) (fc 9 9) m (nI (t + 1))) ∧ (0 ≤ b ∧ b ≤ 255 → t = 250 → v = some (.int (-(nI 106))) ∧ M2 = rfM M ad 4) ∧ (¬ (0 ≤ b ∧ b ≤ 255) → v = some (.int (-(nI 102))) ∧ M2 = rfM M ad 0)) := by
  refine Kt.of (own := "KeptLightModel") (L := [some (.ref m), some (.int b)]) (by decide +kernel) rfl (Nat.le_of_ble_eq_true rfl) rfl ?_
  intro pp ee ss mm args below meth cd hmn hret
  have km := hS.1
  obtain ⟨hr_tape, kk_tape, hn_tape⟩ := hS.2.1 4 (by decide)
  have hr_tape : mR M (fc 9 8) m = some (ad 4) := hr_tape
  have hn_tape : mN M (ad 4) = 250 := hn_tape
  have kk_tape : mK M (ad 4) = some 120 := kk_tape
  refine x_iload_n (n' := 1) dX9_feed_0 rfl rfl rfl ?_
  refine x_i2l (n' := 2) dX9_feed_1 rfl rfl ?_
  refine x_lconst (n' := 3) (v := 0) dX9_feed_2 (by decide) rfl ?_
  refine x_ldc2 (n' := 6) q3320 dX9_feed_3 rfl ?_
  refine x_callS (n' := 9) (n := 3) (c_X9_in l G _ _ _ _) dX9_feed_6 (lw_S q3321 q3322 q109 q3323) (by decide +kernel) ⟨(Nat.le_of_ble_eq_true rfl), (Nat.le_of_ble_eq_true rfl)⟩ rfl rfl (Nat.le_of_ble_eq_true rfl) (by first | exact Nat.le_of_ble_eq_true rfl | omega) (by first | exact Nat.le_of_ble_eq_true rfl | omega) rfl (fun v_1 M_2 h_4 hE_3 => ?_)
  obtain ⟨rfl, hMs⟩ := h_4
  have hMs := hMs.symm
  subst hMs
  rw [k_in3 (x := 0) (y := 255) (by decide) (by decide)]
  refine x_if_ne (n' := 12) (tgt := 19) dX9_feed_9 (by decide) rfl (fun c9_5 => ?_) (fun c9_5 => ?_)
  · have C9 := c9_5
    refine x_aload_n (n' := 20) dX9_feed_19 rfl rfl rfl ?_
    refine x_getI (n' := 23) dX9_feed_20 (by repeat' (first | with_reducible exact km | with_reducible apply mK_A | with_reducible apply mK_I | with_reducible apply mK_L | with_reducible apply mK_R | with_reducible apply mK_O | with_reducible apply mK_S)) ffX9_135_9 rfl rfl ?_
    refine x_topv ht ?_
    refine x_sipush (n' := 26) (v := 250) dX9_feed_23 (by decide) rfl ?_
    refine x_icmp_ne (n' := 29) (tgt := 36) dX9_feed_26 (by decide) rfl (fun c26_6 => ?_) (fun c26_6 => ?_)
    · have C26 := c26_6
      have N26 := (not_congr (cv_eq (by repeat' (first | with_reducible exact nl_0 | with_reducible exact nl_1 | with_reducible exact nl_250 | with_reducible exact rfl | apply i_add | apply i_mul)) (by repeat' (first | with_reducible exact nl_0 | with_reducible exact nl_1 | with_reducible exact nl_250 | with_reducible exact rfl | apply i_add | apply i_mul)) (by omega) (by omega))).mp c26_6
      refine x_aload_n (n' := 37) dX9_feed_36 rfl rfl rfl ?_
      refine x_getRs (n' := 40) (b := (ad 4)) dX9_feed_37 (by repeat' (first | with_reducible exact km | with_reducible apply mK_A | with_reducible apply mK_I | with_reducible apply mK_L | with_reducible apply mK_R | with_reducible apply mK_O | with_reducible apply mK_S)) ffX9_22_9 rfl (by repeat' (first | with_reducible exact hr_tape | with_reducible apply mR_A | with_reducible apply mR_I | with_reducible apply mR_L | with_reducible apply mR_S)) rfl ?_
      refine x_aload_n (n' := 41) dX9_feed_40 rfl rfl rfl ?_
      refine x_getI (n' := 44) dX9_feed_41 (by repeat' (first | with_reducible exact km | with_reducible apply mK_A | with_reducible apply mK_I | with_reducible apply mK_L | with_reducible apply mK_R | with_reducible apply mK_O | with_reducible apply mK_S)) ffX9_135_9 rfl rfl ?_
      refine x_topv ht ?_
      refine x_iload_n (n' := 45) dX9_feed_44 rfl rfl rfl ?_
      refine x_iastk (n' := 46) (N := 250) dX9_feed_45 (by repeat' (first | with_reducible exact kk_tape | with_reducible apply mK_A | with_reducible apply mK_I | with_reducible apply mK_L | with_reducible apply mK_R | with_reducible apply mK_O | with_reducible apply mK_S)) (by repeat' (first | with_reducible exact hn_tape | with_reducible apply mN_A | with_reducible apply mN_I | with_reducible apply mN_L | with_reducible apply mN_R | with_reducible apply mN_O | with_reducible apply mN_S)) (by repeat' (first | with_reducible exact nl_0 | with_reducible exact nl_1 | with_reducible exact nl_250 | with_reducible exact rfl | apply i_add | apply i_mul)) (by omega) (by decide) (by first | with_reducible exact mA_sA | with_reducible exact mA_SC0 | with_reducible exact mA_SC1 hS | with_reducible exact mA_SC5 hS | with_reducible exact mA_SC6 hS | with_reducible exact mA_SC10 hS | with_reducible exact mA_SC11 hS | with_reducible exact mA_SC12 hS | with_reducible exact mA_sI_sA | with_reducible exact mA_sI3_sA | rfl) (by first | with_reducible exact SC_A0 | with_reducible exact SC_A1 hS | with_reducible exact SC_A5 hS | with_reducible exact SC_A6 hS | with_reducible exact SC_A10 hS | with_reducible exact SC_A11 hS | with_reducible exact SC_A12 hS | with_reducible exact sA_sA | with_reducible exact sA_sI_sA | with_reducible exact sA_sI3_sA | rfl) rfl ?_
      refine x_aload_n (n' := 47) dX9_feed_46 rfl rfl rfl ?_
      refine x_dup (n' := 48) dX9_feed_47 rfl rfl ?_
      refine x_getI (n' := 51) dX9_feed_48 (by repeat' (first | with_reducible exact km | with_reducible apply mK_A | with_reducible apply mK_I | with_reducible apply mK_L | with_reducible apply mK_R | with_reducible apply mK_O | with_reducible apply mK_S)) ffX9_135_9 rfl rfl ?_
      refine x_topv ((congrFun (congrFun mI_sA _) _).trans ht) ?_
      refine x_iconst (n' := 52) (v := 1) dX9_feed_51 (by decide) rfl ?_
      refine x_iadd (n' := 53) dX9_feed_52 rfl ?_
      rw [nI_1]
      refine x_putI (n' := 56) dX9_feed_53 (by repeat' (first | with_reducible exact km | with_reducible apply mK_A | with_reducible apply mK_I | with_reducible apply mK_L | with_reducible apply mK_R | with_reducible apply mK_O | with_reducible apply mK_S)) ffX9_135_9 rfl (⟨rfl, rfl⟩) rfl rfl ?_
      refine x_aload_n (n' := 57) dX9_feed_56 rfl rfl rfl ?_
      refine x_getI (n' := 60) dX9_feed_57 (by repeat' (first | with_reducible exact km | with_reducible apply mK_A | with_reducible apply mK_I | with_reducible apply mK_L | with_reducible apply mK_R | with_reducible apply mK_O | with_reducible apply mK_S)) ffX9_135_9 rfl rfl ?_
      refine x_topv mI_sI ?_
      exact x_iret dX9_feed_60 hret (by repeat' (first | with_reducible exact kE.rf | with_reducible exact kE_SS | with_reducible apply kE_A | with_reducible apply kE_I | with_reducible apply kE_L | with_reducible apply kE_R | with_reducible apply kE_O | with_reducible apply kE_S)) (⟨fun _ _ => ⟨rfl, rfl⟩, fun _ q => absurd q (by omega), fun q => absurd (bi_n0 C9) q⟩)
    · have C26 := c26_6
      have N26 := (cv_eq (by repeat' (first | with_reducible exact nl_0 | with_reducible exact nl_1 | with_reducible exact nl_250 | with_reducible exact rfl | apply i_add | apply i_mul)) (by repeat' (first | with_reducible exact nl_0 | with_reducible exact nl_1 | with_reducible exact nl_250 | with_reducible exact rfl | apply i_add | apply i_mul)) (by omega) (by omega)).mp c26_6
      refine x_aload_n (n' := 30) dX9_feed_29 rfl rfl rfl ?_
      refine x_bipush (n' := 32) (v := -106) dX9_feed_30 (by decide) rfl ?_
      refine x_topv (y := -(nI (102 + 4))) (by decide) ?_
      refine x_callV (n' := 35) (n := 1) (K := 9) (c_X9_refused l G _ m ad (by repeat' (first | with_reducible exact hS | with_reducible apply MS.sA | with_reducible apply MS.sI | with_reducible apply MS.sL | with_reducible apply MS.sc)) 4 (by decide)) dX9_feed_32 (by repeat' (first | with_reducible exact km | with_reducible apply mK_A | with_reducible apply mK_I | with_reducible apply mK_L | with_reducible apply mK_R | with_reducible apply mK_O | with_reducible apply mK_S)) rfl (lw_V q3324 q3326 qs48 q109 q3327) (by decide +kernel) ⟨(Nat.le_of_ble_eq_true rfl), (Nat.le_of_ble_eq_true rfl)⟩ rfl rfl (Nat.le_of_ble_eq_true rfl) (by first | exact Nat.le_of_ble_eq_true rfl | omega) (by first | exact Nat.le_of_ble_eq_true rfl | omega) rfl (fun v_7 M_8 h_10 hE_9 => ?_)
      obtain ⟨rfl, hMs⟩ := h_10
      have hMs := hMs.symm
      subst hMs
      exact x_iret dX9_feed_35 hret (by repeat' (first | with_reducible exact kE.rf | with_reducible exact kE_SS | with_reducible apply kE_A | with_reducible apply kE_I | with_reducible apply kE_L | with_reducible apply kE_R | with_reducible apply kE_O | with_reducible apply kE_S)) (⟨fun _ q => absurd q (by omega), fun _ _ => ⟨rfl, rfl⟩, fun q => absurd (bi_n0 C9) q⟩)
  · have C9 := c9_5
    refine x_aload_n (n' := 13) dX9_feed_12 rfl rfl rfl ?_
    refine x_bipush (n' := 15) (v := -102) dX9_feed_13 (by decide) rfl ?_
    refine x_topv (y := -(nI (102 + 0))) (by decide) ?_
    refine x_callV (n' := 18) (n := 1) (K := 9) (c_X9_refused l G _ m ad (by repeat' (first | with_reducible exact hS | with_reducible apply MS.sA | with_reducible apply MS.sI | with_reducible apply MS.sL | with_reducible apply MS.sc)) 0 (by decide)) dX9_feed_15 (by repeat' (first | with_reducible exact km | with_reducible apply mK_A | with_reducible apply mK_I | with_reducible apply mK_L | with_reducible apply mK_R | with_reducible apply mK_O | with_reducible apply mK_S)) rfl (lw_V q3324 q3326 qs48 q109 q3327) (by decide +kernel) ⟨(Nat.le_of_ble_eq_true rfl), (Nat.le_of_ble_eq_true rfl)⟩ rfl rfl (Nat.le_of_ble_eq_true rfl) (by first | exact Nat.le_of_ble_eq_true rfl | omega) (by first | exact Nat.le_of_ble_eq_true rfl | omega) rfl (fun v_11 M_12 h_14 hE_13 => ?_)
    obtain ⟨rfl, hMs⟩ := h_14
    have hMs := hMs.symm
    subst hMs
    exact x_iret dX9_feed_18 hret (by repeat' (first | with_reducible exact kE.rf | with_reducible exact kE_SS | with_reducible apply kE_A | with_reducible apply kE_I | with_reducible apply kE_L | with_reducible apply kE_R | with_reducible apply kE_O | with_reducible apply kE_S)) (⟨fun q => absurd q (bi_0.mp C9), fun q => absurd q (bi_0.mp C9), fun _ => ⟨rfl, rfl⟩⟩)
