theorem dk_eq {g : gT} {n : Nat} : (if nI (n % 24) < g 1 then (1 : Int32) else if nI (n % 24) < g 2 then 0 else 1) = bi (dkG g n) := by
  unfold bi dkG
  by_cases h1 : nI (n % 24) < g 1 <;> by_cases h2 : nI (n % 24) < g 2
  · simp [h1]
  · simp [h1]
  · have : ¬ g 2 ≤ nI (n % 24) := Int32.not_le.mpr h2
    simp [h1, h2, this]
  · have : g 2 ≤ nI (n % 24) := Int32.not_lt.mp h2
    simp [h1, h2, this]
/-- slept, all together -/
def slG (g : gT) : Nat → Int32
  | 0 => 0
  | n + 1 => slG g n + g (61 + 4 * n + 3)
theorem rem24 {n : Nat} (h : n < 2147483648) : nI n - nI n / 24 * 24 = nI (n % 24) := pk_rem (d := 24) (by omega) (by decide) (by decide)
theorem ffX1_57_1 : FF "KeptLight$World" 57 1 10 "KeptLight$World" := ⟨by decide, by decide, q707, Or.inl rfl⟩
set_option maxHeartbeats 800000 in
set_option maxRecDepth 100000 in
theorem c_X1_isDark (l : Launch) (G : kG) (M : kM) (w : Nat) (a : Nat → Nat) (kf sf : Nat → Nat) (g : gT) (nk nr : Nat) (n : Nat) (hW : WC G M w a kf sf g nk nr) (hn : n < 2147483648) : Kt l G yX1_isDark cX1_isDark 2 (some .boolean) 0 0 [.ref w, .int (nI n)] M (0) (0) (fun v M2 => v = some (.int (bi (dkG g n))) ∧ M2 = M) := by
  refine Kt.of (own := "KeptLight$World") (L := [some (.ref w), some (.int (nI n))]) (by decide +kernel) rfl (Nat.le_of_ble_eq_true rfl) rfl ?_
  intro pp ee ss mm args below meth cd hmn hret
  have hrem := rem24 hn
  refine x_iload_n (n' := 1) dX1_isDark_0 rfl rfl rfl ?_
  refine x_bipush (n' := 3) (v := 24) dX1_isDark_1 (by decide) rfl ?_
  refine x_irem (n' := 4) dX1_isDark_3 (by decide) rfl ?_
  refine x_topv hrem ?_
  refine x_aload_n (n' := 5) dX1_isDark_4 rfl rfl rfl ?_
  refine x_getRs (n' := 8) (b := (a 10)) dX1_isDark_5 (hW.s.k) ffX1_57_1 rfl (hW.s.r 10 (by decide)) rfl ?_
  refine x_iconst (n' := 9) (v := 0) dX1_isDark_8 (by decide) rfl ?_
  refine x_ildk (n' := 10) (N := 5) dX1_isDark_9 (hW.s.ak 10 (by decide)) (hW.s.an 10 (by decide)) (by repeat' (first | with_reducible exact nl_0 | with_reducible exact nl_1 | with_reducible exact nl_24 | with_reducible exact rfl | apply i_add | apply i_mul)) (by omega) (by decide) (show mA _ (a 10) 0 = g 1 from hW.told 0 (by decide)) rfl ?_
  refine x_fork (J := 31) (x_icmp_lt (n' := 13) (tgt := 26) dX1_isDark_10 (by decide) rfl) (v1 := ?v1_f10_1) (v2 := ?v2_f10_1) (fun c_f10_1 j_f10_1 => ?b1_f10_1) (fun c_f10_1 j_f10_1 => ?b2_f10_1) ?k_f10_1
  case b1_f10_1 =>
    refine x_iconst (n' := 27) (v := 1) dX1_isDark_26 (by decide) rfl ?_
    refine x_goto (tgt := 31) dX1_isDark_27 (by decide) ?_
    exact j_f10_1
  case b2_f10_1 =>
    refine x_iload_n (n' := 14) dX1_isDark_13 rfl rfl rfl ?_
    refine x_bipush (n' := 16) (v := 24) dX1_isDark_14 (by decide) rfl ?_
    refine x_irem (n' := 17) dX1_isDark_16 (by decide) rfl ?_
    refine x_topv hrem ?_
    refine x_aload_n (n' := 18) dX1_isDark_17 rfl rfl rfl ?_
    refine x_getRs (n' := 21) (b := (a 10)) dX1_isDark_18 (hW.s.k) ffX1_57_1 rfl (hW.s.r 10 (by decide)) rfl ?_
    refine x_iconst (n' := 22) (v := 1) dX1_isDark_21 (by decide) rfl ?_
    refine x_ildk (n' := 23) (N := 5) dX1_isDark_22 (hW.s.ak 10 (by decide)) (hW.s.an 10 (by decide)) (by repeat' (first | with_reducible exact nl_0 | with_reducible exact nl_1 | with_reducible exact nl_24 | with_reducible exact rfl | apply i_add | apply i_mul)) (by omega) (by decide) (show mA _ (a 10) 1 = g 2 from hW.told 1 (by decide)) rfl ?_
    refine x_fork (J := 31) (x_icmp_lt (n' := 26) (tgt := 30) dX1_isDark_23 (by decide) rfl) (v1 := ?v1_f23_2) (v2 := ?v2_f23_2) (fun c_f23_2 j_f23_2 => ?b1_f23_2) (fun c_f23_2 j_f23_2 => ?b2_f23_2) ?k_f23_2
    case b1_f23_2 =>
      refine x_iconst (n' := 31) (v := 0) dX1_isDark_30 (by decide) rfl ?_
      exact j_f23_2
    case b2_f23_2 =>
      refine x_iconst (n' := 27) (v := 1) dX1_isDark_26 (by decide) rfl ?_
      refine x_goto (tgt := 31) dX1_isDark_27 (by decide) ?_
      exact j_f23_2
    exact j_f10_1
  exact x_zret dX1_isDark_31 hret (by rw [dk_eq]; exact k_zn (bi_01 _)) (by repeat' (first | with_reducible exact kE.rf | with_reducible apply kE_A | with_reducible apply kE_I | with_reducible apply kE_L | with_reducible apply kE_R | with_reducible apply kE_O | with_reducible apply kE_G)) (by rw [dk_eq]; exact ⟨rfl, rfl⟩)

theorem hr_pos2 {g : gT} {nr : Nat} (hr : RunsOK g nr) (h0 : ¬ nr = 0) (e : nI (sumN (duG g) nr) = 0) : False := by
  have h1 := sumN_pos nr (Nat.pos_of_ne_zero h0) (fun r q => (hr.du q).2.1)
  have h2 := sumN_le (f := duG g) nr (fun j hj => (hr.du hj).2.2)
  have h3 := hr.2.1
  exact absurd ((nI_eq (b := 0) (by omega) (by decide)).mp e) (by omega)
theorem ffX1_45_1 : FF "KeptLight$World" 45 1 6 "KeptLight$World" := ⟨by decide, by decide, q700, Or.inl rfl⟩
theorem ffX1_186_14 : FF "KeptLight$World" 186 14 1 "KeptLight$Spell" := ⟨by decide, by decide, q1469, Or.inl rfl⟩
theorem ffX1_198_14 : FF "KeptLight$World" 198 14 0 "KeptLight$Spell" := ⟨by decide, by decide, q1467, Or.inl rfl⟩
theorem ffX1_120_1 : FF "KeptLight$World" 120 1 7 "KeptLight$World" := ⟨by decide, by decide, q702, Or.inl rfl⟩
set_option maxHeartbeats 800000 in
set_option maxRecDepth 100000 in
theorem c_X1_weather (l : Launch) (G : kG) (M : kM) (w : Nat) (a : Nat → Nat) (kf sf : Nat → Nat) (g : gT) (nk nr : Nat) (n : Nat) (hW : WC G M w a kf sf g nk nr) (hr : RunsOK g nr) (hn : n < 2147483648) : Kt l G yX1_weather cX1_weather 4 (some (.object "KeptLight$Weather")) 3 64 [.ref w, .int (nI n)] M (0) (0) (fun v M2 => v = some (.ref (G.2.2.2 (nn (weaG g nr n)))) ∧ M2 = M) := by
  refine Kt.of (own := "KeptLight$World") (L := [some (.ref w), some (.int (nI n)), none, none]) (by decide +kernel) rfl (Nat.le_of_ble_eq_true rfl) rfl ?_
  intro pp ee ss mm args below meth cd hmn hret
  have hr20 := hr.2.1
  have hsl : ∀ r, r ≤ nr → sumN (duG g) r ≤ 99 * r := fun r q => sumN_le r (fun j hj => (hr.du (by omega)).2.2)
  have hS1 := hsl nr (Nat.le_refl _)
  have hS2 : 0 < nr → 1 ≤ sumN (duG g) nr := fun q => sumN_pos nr q (fun r q => (hr.du q).2.1)
  have cut23 : ∀ (fuel : Nat) (r i : Nat) (h1 : nr - r < fuel) (h2 : r < nr) (h3 : sumN (duG g) r + i < sumN (duG g) nr) (h4 : wIx (duG g) (nr - r) r i = wIx (duG g) nr 0 (n % sumN (duG g) nr)), Wx pp l ee { frames := 3, cells := 0, slots := 0, locals := 64 } ss mm args below meth cd "KeptLight$World" cX1_weather 4 G (MQ below (KQ G M (fun v M2 => v = some (.ref (G.2.2.2 (nn (weaG g nr n)))) ∧ M2 = M)) args ss (0) (0) (kA G)) 23 [some (.ref w), some (.int (nI n)), some (.int (nI i)), some (.int (nI r))] [] (M) (0) (0) := by
    intro fuel
    induction fuel with
    | zero => intro r i h1 h2 h3 h4; omega
    | succ fuel ih =>
      intro r i h1 h2 h3 h4
      have q2 := hr.du h2
      have q3 := q2.2
      have q5 := hsl r (by omega)
      have q4 : sumN (duG g) (r + 1) = sumN (duG g) r + duG g r := rfl
      refine x_iload_n (n' := 24) dX1_weather_23 rfl rfl rfl ?_
      refine x_aload_n (n' := 25) dX1_weather_24 rfl rfl rfl ?_
      refine x_getRs (n' := 28) (b := (a 6)) dX1_weather_25 (hW.s.k) ffX1_45_1 rfl (hW.s.r 6 (by decide)) rfl ?_
      refine x_iload_n (n' := 29) dX1_weather_28 rfl rfl rfl ?_
      refine x_callV (n' := 32) (n := 1) (K := 45) (c_J5_get l G _ (a 6) nr (a 41) sf r hW.sl h2) dX1_weather_29 (hW.sl.kk) rfl (lw_V q2579 q963 q964 q90 q965) (by decide +kernel) ⟨(Nat.le_of_ble_eq_true rfl), (Nat.le_of_ble_eq_true rfl)⟩ rfl rfl (Nat.le_of_ble_eq_true rfl) (by first | exact Nat.le_of_ble_eq_true rfl | omega) (by first | exact Nat.le_of_ble_eq_true rfl | omega) rfl (fun v_1 M_2 h_4 hE_3 => ?_)
      obtain ⟨rfl, hMs⟩ := h_4
      have hMs := hMs.symm
      subst hMs
      refine x_castE (n' := 35) dX1_weather_32 ((hW.sp h2).1) rfl q1942 rfl ?_
      refine x_getI (n' := 38) dX1_weather_35 ((hW.sp h2).1) ffX1_186_14 rfl rfl ?_
      refine x_topv ((hW.sp h2).2.2.2.2.2.trans (hr.du h2).1) ?_
      refine x_icmp_lt (n' := 41) (tgt := 64) dX1_weather_38 (by decide) rfl (fun c38_5 => ?_) (fun c38_5 => ?_)
      · have C38 := c38_5
        have N38 := (cv_lt (by repeat' (first | with_reducible exact nl_0 | with_reducible exact rfl | apply i_add | apply i_mul)) (by repeat' (first | with_reducible exact nl_0 | with_reducible exact rfl | apply i_add | apply i_mul)) (by omega) (by omega)).mp c38_5
        refine x_aload_n (n' := 65) dX1_weather_64 rfl rfl rfl ?_
        refine x_getRs (n' := 68) (b := (a 6)) dX1_weather_65 (hW.s.k) ffX1_45_1 rfl (hW.s.r 6 (by decide)) rfl ?_
        refine x_iload_n (n' := 69) dX1_weather_68 rfl rfl rfl ?_
        refine x_callV (n' := 72) (n := 1) (K := 45) (c_J5_get l G _ (a 6) nr (a 41) sf r hW.sl h2) dX1_weather_69 (hW.sl.kk) rfl (lw_V q2579 q963 q964 q90 q965) (by decide +kernel) ⟨(Nat.le_of_ble_eq_true rfl), (Nat.le_of_ble_eq_true rfl)⟩ rfl rfl (Nat.le_of_ble_eq_true rfl) (by first | exact Nat.le_of_ble_eq_true rfl | omega) (by first | exact Nat.le_of_ble_eq_true rfl | omega) rfl (fun v_6 M_7 h_9 hE_8 => ?_)
        obtain ⟨rfl, hMs⟩ := h_9
        have hMs := hMs.symm
        subst hMs
        refine x_castE (n' := 75) dX1_weather_72 ((hW.sp h2).1) rfl q1942 rfl ?_
        refine x_getRs (n' := 78) (b := (G.2.2.2 (nn (g (21 + 2 * r))))) dX1_weather_75 ((hW.sp h2).1) ffX1_198_14 rfl ((hW.sp h2).2.2.1) rfl ?_
        exact x_aret dX1_weather_78 hret (Or.inl ⟨_, rfl⟩) (by repeat' (first | with_reducible exact kE.rf | with_reducible exact hE_3 | with_reducible exact hE_8 | with_reducible apply kE_A | with_reducible apply kE_I | with_reducible apply kE_L | with_reducible apply kE_R | with_reducible apply kE_O | with_reducible apply kE_G | with_reducible refine kE.tr ?_ hE_3 | with_reducible refine kE.tr ?_ hE_8)) (⟨congrArg (fun z => some (Value.ref (G.2.2.2 (nn z)))) (weaG_1 h4 h2 N38), rfl⟩)
      · have C38 := c38_5
        have N38 := (not_congr (cv_lt (by repeat' (first | with_reducible exact nl_0 | with_reducible exact rfl | apply i_add | apply i_mul)) (by repeat' (first | with_reducible exact nl_0 | with_reducible exact rfl | apply i_add | apply i_mul)) (by omega) (by omega))).mp c38_5
        refine x_iload_n (n' := 42) dX1_weather_41 rfl rfl rfl ?_
        refine x_aload_n (n' := 43) dX1_weather_42 rfl rfl rfl ?_
        refine x_getRs (n' := 46) (b := (a 6)) dX1_weather_43 (hW.s.k) ffX1_45_1 rfl (hW.s.r 6 (by decide)) rfl ?_
        refine x_iload_n (n' := 47) dX1_weather_46 rfl rfl rfl ?_
        refine x_callV (n' := 50) (n := 1) (K := 45) (c_J5_get l G _ (a 6) nr (a 41) sf r hW.sl h2) dX1_weather_47 (hW.sl.kk) rfl (lw_V q2579 q963 q964 q90 q965) (by decide +kernel) ⟨(Nat.le_of_ble_eq_true rfl), (Nat.le_of_ble_eq_true rfl)⟩ rfl rfl (Nat.le_of_ble_eq_true rfl) (by first | exact Nat.le_of_ble_eq_true rfl | omega) (by first | exact Nat.le_of_ble_eq_true rfl | omega) rfl (fun v_10 M_11 h_13 hE_12 => ?_)
        obtain ⟨rfl, hMs⟩ := h_13
        have hMs := hMs.symm
        subst hMs
        refine x_castE (n' := 53) dX1_weather_50 ((hW.sp h2).1) rfl q1942 rfl ?_
        refine x_getI (n' := 56) dX1_weather_53 ((hW.sp h2).1) ffX1_186_14 rfl rfl ?_
        refine x_topv ((hW.sp h2).2.2.2.2.2.trans (hr.du h2).1) ?_
        refine x_isub (n' := 57) dX1_weather_56 rfl ?_
        refine x_topv (pk_sub (Nat.not_lt.mp N38)) ?_
        refine x_istore_n (n' := 58) dX1_weather_57 rfl (Nat.le_of_ble_eq_true rfl) rfl (by dsimp only [List.set] <;> rfl) rfl ?_
        refine x_iinc (n' := 61) dX1_weather_58 rfl (by first | exact nI_inc _ | exact nI_decp (by omega) | exact i_inc _ | rfl) (Nat.le_of_ble_eq_true rfl) rfl (by dsimp only [List.set] <;> rfl) rfl ?_
        refine x_goto (tgt := 23) dX1_weather_61 (by decide) ?_
        exact x_drop (ih (r + 1) _ (by omega) (wRun_next h3 h2 N38) (by rw [q4]; omega) (wIx_next h4 h2 N38)) ⟨rfl, ⟨rfl, ⟨rfl, ⟨rfl, trivial⟩⟩⟩⟩
  refine x_aload_n (n' := 1) dX1_weather_0 rfl rfl rfl ?_
  refine x_getRs (n' := 4) (b := (a 6)) dX1_weather_1 (hW.s.k) ffX1_45_1 rfl (hW.s.r 6 (by decide)) rfl ?_
  refine x_callV (n' := 7) (n := 0) (K := 45) (c_J5_isEmpty l G _ (a 6) nr (a 41) sf hW.sl) dX1_weather_4 (hW.sl.kk) rfl (lw_V q2574 q2575 q2576 q90 q2577) (by decide +kernel) ⟨(Nat.le_of_ble_eq_true rfl), (Nat.le_of_ble_eq_true rfl)⟩ rfl rfl (Nat.le_of_ble_eq_true rfl) (by first | exact Nat.le_of_ble_eq_true rfl | omega) (by first | exact Nat.le_of_ble_eq_true rfl | omega) rfl (fun v_14 M_15 h_17 hE_16 => ?_)
  obtain ⟨rfl, hMs⟩ := h_17
  have hMs := hMs.symm
  subst hMs
  refine x_if_eq (n' := 10) (tgt := 14) dX1_weather_7 (by decide) rfl (fun c7_18 => ?_) (fun c7_18 => ?_)
  · have hn0 : ¬ nr = 0 := bi_0.mp (by assumption)
    refine x_iload_n (n' := 15) dX1_weather_14 rfl rfl rfl ?_
    refine x_aload_n (n' := 16) dX1_weather_15 rfl rfl rfl ?_
    refine x_getI (n' := 19) dX1_weather_16 (hW.s.k) ffX1_120_1 rfl rfl ?_
    refine x_topv hW.rd ?_
    refine x_irem (n' := 20) dX1_weather_19 (fun e => absurd (hr_pos2 hr hn0 e) id) rfl ?_
    refine x_topv (pk_rem hn (by have := hS2 (Nat.pos_of_ne_zero hn0); omega) (by omega)) ?_
    refine x_istore_n (n' := 21) dX1_weather_20 rfl (Nat.le_of_ble_eq_true rfl) rfl (by dsimp only [List.set] <;> rfl) rfl ?_
    refine x_iconst (n' := 22) (v := 0) dX1_weather_21 (by decide) rfl ?_
    refine x_istore_n (n' := 23) dX1_weather_22 rfl (Nat.le_of_ble_eq_true rfl) rfl (by dsimp only [List.set] <;> rfl) rfl ?_
    exact x_drop (cut23 (nr + 1) 0 _ (by omega) (Nat.pos_of_ne_zero hn0) (by have := Nat.mod_lt n (hS2 (Nat.pos_of_ne_zero hn0)); show 0 + _ < _; omega) rfl) ⟨rfl, ⟨rfl, ⟨rfl, ⟨rfl, trivial⟩⟩⟩⟩
  · have hz : nr = 0 := bi_n0 (by assumption)
    refine x_gets (n' := 13) dX1_weather_10 (List.mem_of_getElem? (i := 0) rfl) q2578 rfl ?_
    exact x_aret dX1_weather_13 hret (Or.inl ⟨_, rfl⟩) (by repeat' (first | with_reducible exact kE.rf | with_reducible exact hE_16 | with_reducible apply kE_A | with_reducible apply kE_I | with_reducible apply kE_L | with_reducible apply kE_R | with_reducible apply kE_O | with_reducible apply kE_G | with_reducible refine kE.tr ?_ hE_16)) (⟨congrArg (fun z => some (Value.ref (G.2.2.2 (nn z)))) (weaG_0 (n := n) hr (by rw [hz]; rfl)), rfl⟩)

theorem ffX1_31_1 : FF "KeptLight$World" 31 1 0 "KeptLight$World" := ⟨by decide, by decide, q690, Or.inl rfl⟩
theorem ffX1_293_15 : FF "KeptLight$World" 293 15 4 "KeptLight$Keeper" := ⟨by decide, by decide, q1979, Or.inl rfl⟩
set_option maxHeartbeats 800000 in
set_option maxRecDepth 100000 in
theorem c_X1_slept (l : Launch) (G : kG) (M : kM) (w : Nat) (a : Nat → Nat) (kf sf : Nat → Nat) (g : gT) (nk nr : Nat) (hW : WC G M w a kf sf g nk nr) (h6 : nk ≤ 6) : Kt l G yX1_slept cX1_slept 3 (some .int) 3 64 [.ref w] M (0) (0) (fun v M2 => v = some (.int (slG g nk)) ∧ M2 = M) := by
  refine Kt.of (own := "KeptLight$World") (L := [some (.ref w), none, none]) (by decide +kernel) rfl (Nat.le_of_ble_eq_true rfl) rfl ?_
  intro pp ee ss mm args below meth cd hmn hret
  have cut4 : ∀ (fuel : Nat) (k : Nat) (h1 : nk - k < fuel) (h2 : k ≤ nk), Wx pp l ee { frames := 3, cells := 0, slots := 0, locals := 64 } ss mm args below meth cd "KeptLight$World" cX1_slept 3 G (MQ below (KQ G M (fun v M2 => v = some (.int (slG g nk)) ∧ M2 = M)) args ss (0) (0) (kA G)) 4 [some (.ref w), some (.int (slG g k)), some (.int (nI k))] [] (M) (0) (0) := by
    intro fuel
    induction fuel with
    | zero => intro k h1 h2; omega
    | succ fuel ih =>
      intro k h1 h2
      refine x_iload_n (n' := 5) dX1_slept_4 rfl rfl rfl ?_
      refine x_aload_n (n' := 6) dX1_slept_5 rfl rfl rfl ?_
      refine x_getRs (n' := 9) (b := (a 0)) dX1_slept_6 (hW.s.k) ffX1_31_1 rfl (hW.s.r 0 (by decide)) rfl ?_
      refine x_callV (n' := 12) (n := 0) (K := 45) (c_J5_size l G _ (a 0) nk (a 40) kf hW.kl) dX1_slept_9 (hW.kl.kk) rfl (lw_V q2653 q959 q960 q90 q961) (by decide +kernel) ⟨(Nat.le_of_ble_eq_true rfl), (Nat.le_of_ble_eq_true rfl)⟩ rfl rfl (Nat.le_of_ble_eq_true rfl) (by first | exact Nat.le_of_ble_eq_true rfl | omega) (by first | exact Nat.le_of_ble_eq_true rfl | omega) rfl (fun v_1 M_2 h_4 hE_3 => ?_)
      obtain ⟨rfl, hMs⟩ := h_4
      have hMs := hMs.symm
      subst hMs
      refine x_icmp_ge (n' := 15) (tgt := 38) dX1_slept_12 (by decide) rfl (fun c12_5 => ?_) (fun c12_5 => ?_)
      · have n_c12_5 := (cv_le (by repeat' (first | with_reducible exact nl_0 | with_reducible exact rfl | apply i_add | apply i_mul)) (by repeat' (first | with_reducible exact nl_0 | with_reducible exact rfl | apply i_add | apply i_mul)) (by omega) (by omega)).mp c12_5
        refine x_iload_n (n' := 39) dX1_slept_38 rfl rfl rfl ?_
        exact x_iret dX1_slept_39 hret (by repeat' (first | with_reducible exact kE.rf | with_reducible exact hE_3 | with_reducible apply kE_A | with_reducible apply kE_I | with_reducible apply kE_L | with_reducible apply kE_R | with_reducible apply kE_O | with_reducible apply kE_G | with_reducible refine kE.tr ?_ hE_3)) (by rw [show k = nk by omega]; exact ⟨rfl, rfl⟩)
      · have n_c12_5 := (not_congr (cv_le (by repeat' (first | with_reducible exact nl_0 | with_reducible exact rfl | apply i_add | apply i_mul)) (by repeat' (first | with_reducible exact nl_0 | with_reducible exact rfl | apply i_add | apply i_mul)) (by omega) (by omega))).mp c12_5
        refine x_iload_n (n' := 16) dX1_slept_15 rfl rfl rfl ?_
        refine x_aload_n (n' := 17) dX1_slept_16 rfl rfl rfl ?_
        refine x_getRs (n' := 20) (b := (a 0)) dX1_slept_17 (hW.s.k) ffX1_31_1 rfl (hW.s.r 0 (by decide)) rfl ?_
        refine x_iload_n (n' := 21) dX1_slept_20 rfl rfl rfl ?_
        refine x_callV (n' := 24) (n := 1) (K := 45) (c_J5_get l G _ (a 0) nk (a 40) kf k hW.kl (by omega)) dX1_slept_21 (hW.kl.kk) rfl (lw_V q2579 q963 q964 q90 q965) (by decide +kernel) ⟨(Nat.le_of_ble_eq_true rfl), (Nat.le_of_ble_eq_true rfl)⟩ rfl rfl (Nat.le_of_ble_eq_true rfl) (by first | exact Nat.le_of_ble_eq_true rfl | omega) (by first | exact Nat.le_of_ble_eq_true rfl | omega) rfl (fun v_6 M_7 h_9 hE_8 => ?_)
        obtain ⟨rfl, hMs⟩ := h_9
        have hMs := hMs.symm
        subst hMs
        refine x_castE (n' := 27) dX1_slept_24 ((hW.kp (by omega : k < nk)).1) rfl q2584 rfl ?_
        refine x_getI (n' := 30) dX1_slept_27 ((hW.kp (by omega : k < nk)).1) ffX1_293_15 rfl rfl ?_
        refine x_topv (hW.kp (by omega : k < nk)).2.2.2.2.2.2.2.2 ?_
        refine x_iadd (n' := 31) dX1_slept_30 rfl ?_
        refine x_istore_n (n' := 32) dX1_slept_31 rfl (Nat.le_of_ble_eq_true rfl) rfl (by dsimp only [List.set] <;> rfl) rfl ?_
        refine x_iinc (n' := 35) dX1_slept_32 rfl (by first | exact nI_inc _ | exact nI_decp (by omega) | exact i_inc _ | rfl) (Nat.le_of_ble_eq_true rfl) rfl (by dsimp only [List.set] <;> rfl) rfl ?_
        refine x_goto (tgt := 4) dX1_slept_35 (by decide) ?_
        exact x_drop (ih (k + 1) (by omega) (by omega)) ⟨rfl, ⟨rfl, ⟨rfl, trivial⟩⟩⟩
  refine x_iconst (n' := 1) (v := 0) dX1_slept_0 (by decide) rfl ?_
  refine x_istore_n (n' := 2) dX1_slept_1 rfl (Nat.le_of_ble_eq_true rfl) rfl (by dsimp only [List.set] <;> rfl) rfl ?_
  refine x_iconst (n' := 3) (v := 0) dX1_slept_2 (by decide) rfl ?_
  refine x_istore_n (n' := 4) dX1_slept_3 rfl (Nat.le_of_ble_eq_true rfl) rfl (by dsimp only [List.set] <;> rfl) rfl ?_
  exact x_drop (cut4 (nk + 1) 0 (by omega) (by omega)) ⟨rfl, ⟨rfl, ⟨rfl, trivial⟩⟩⟩
