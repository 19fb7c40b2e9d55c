theorem tire_e {g : gT} {who w : Int32} {n k j : Nat} (hk : n ≤ k) (hj : 1 ≤ j) (hj2 : j ≤ 3) (h : n ≤ 6) : tireG g who w n (61 + 4 * k + j) = g (61 + 4 * k + j) := by
  simp only [tireG]
  exact if_neg (fun q => by omega)
theorem mx_eq {x : Int32} : (if (0 : Int32) < x then x else 0) = mxI 0 x := rfl
theorem wt_t {wt : Nat} (h : wt < 3) {x : Int32} : x + (if wt = 2 then 2 else 1) = x + (if nI wt = 2 then 2 else 1) := by
  have e : (wt = 2) = (nI wt = 2) := propext (nI_eq (b := 2) (by omega) (by decide)).symm
  simp only [e]
theorem ffX1_251_15 : FF "KeptLight$World" 251 15 2 "KeptLight$Keeper" := ⟨by decide, by decide, q1973, Or.inl rfl⟩
set_option maxHeartbeats 2000000 in
set_option maxRecDepth 100000 in
theorem c_X1_rests__n (l : Launch) (G : kG) (M : kM) (w : Nat) (a : Nat → Nat) (kf sf : Nat → Nat) (g : gT) (nk nr : Nat) (wt : Nat) (hW : WC G M w a kf sf g nk nr) (h6 : nk ≤ 6) (h20 : nr ≤ 20) (hwt : wt < 3) (hcn : CN G M) : Kt l G yX1_rests cX1_rests 5 none 3 64 [.ref w, .null, .ref (G.2.2.2 wt)] M (0) (0) (fun v M2 => v = none ∧ WC G M2 w a kf sf (tireG g (-1) (nI wt) nk) nk nr ∧ FX w M M2) := by
  refine Kt.of (own := "KeptLight$World") (L := [some (.ref w), some (.null), some (.ref (G.2.2.2 wt)), none, none]) (by decide +kernel) rfl (Nat.le_of_ble_eq_true rfl) rfl ?_
  intro pp ee ss mm args below meth cd hmn hret
  have hF0 : FX w M M := FX.rf
  have wno : ∀ k, k < 6 → ¬ nI k = -1 := fun k hk => (by decide : ∀ k, k < 6 → ¬ nI k = -1) k hk
  have cut2 : ∀ (fuel : Nat) (k : Nat) (M1 : kM) (h1 : nk - k < fuel) (h2 : k ≤ nk) (hW : WC G M1 w a kf sf (tireG g (-1) (nI wt) k) nk nr) (hF : FX w M M1), Wx pp l ee { frames := 3, cells := 0, slots := 0, locals := 64 } ss mm args below meth cd "KeptLight$World" cX1_rests 5 G (MQ below (KQ G M (fun v M2 => v = none ∧ WC G M2 w a kf sf (tireG g (-1) (nI wt) nk) nk nr ∧ FX w M M2)) args ss (0) (0) (kA G)) 2 [some (.ref w), some (.null), some (.ref (G.2.2.2 wt)), some (.int (nI k)), none] [] (M1) (0) (0) := by
    intro fuel
    induction fuel with
    | zero => intro k M1 h1 h2 hW hF; omega
    | succ fuel ih =>
      intro k M1 h1 h2 hW hF
      refine x_iload_n (n' := 3) dX1_rests_2 rfl rfl rfl ?_
      refine x_aload_n (n' := 4) dX1_rests_3 rfl rfl rfl ?_
      refine x_getRs (n' := 7) (b := (a 0)) dX1_rests_4 (hW.s.k) ffX1_31_1 rfl (hW.s.r 0 (by decide)) rfl ?_
      refine x_callV (n' := 10) (n := 0) (K := 45) (c_J5_size l G _ (a 0) nk (a 40) kf hW.kl) dX1_rests_7 (hW.kl.kk) rfl (lw_V q2653 q959 q960 q90 q961) (by decide +kernel) ⟨(Nat.le_of_ble_eq_true rfl), (Nat.le_of_ble_eq_true rfl)⟩ rfl rfl (Nat.le_of_ble_eq_true rfl) (by first | exact Nat.le_of_ble_eq_true rfl | omega) (by first | exact Nat.le_of_ble_eq_true rfl | omega) rfl (fun v_1 M_2 h_4 hE_3 => ?_)
      obtain ⟨rfl, hMs⟩ := h_4
      have hMs := hMs.symm
      subst hMs
      refine x_icmp_ge (n' := 13) (tgt := 67) dX1_rests_10 (by decide) rfl (fun c10_5 => ?_) (fun c10_5 => ?_)
      · have n_c10_5 := (cv_le (by repeat' (first | with_reducible exact nl_0 | with_reducible exact nl_2 | with_reducible exact rfl | apply i_add | apply i_mul)) (by repeat' (first | with_reducible exact nl_0 | with_reducible exact nl_2 | with_reducible exact rfl | apply i_add | apply i_mul)) (by omega) (by omega)).mp c10_5
        exact x_vret dX1_rests_67 hret hF.kE (⟨rfl, by rw [show nk = k by omega]; rw [show k = nk by omega] at hW ⊢; exact hW, hF⟩)
      · have n_c10_5 := (not_congr (cv_le (by repeat' (first | with_reducible exact nl_0 | with_reducible exact nl_2 | with_reducible exact rfl | apply i_add | apply i_mul)) (by repeat' (first | with_reducible exact nl_0 | with_reducible exact nl_2 | with_reducible exact rfl | apply i_add | apply i_mul)) (by omega) (by omega))).mp c10_5
        refine x_aload_n (n' := 14) dX1_rests_13 rfl rfl rfl ?_
        refine x_getRs (n' := 17) (b := (a 0)) dX1_rests_14 (hW.s.k) ffX1_31_1 rfl (hW.s.r 0 (by decide)) rfl ?_
        refine x_iload_n (n' := 18) dX1_rests_17 rfl rfl rfl ?_
        refine x_callV (n' := 21) (n := 1) (K := 45) (c_J5_get l G _ (a 0) nk (a 40) kf k hW.kl (by omega)) dX1_rests_18 (hW.kl.kk) rfl (lw_V q2579 q963 q964 q90 q965) (by decide +kernel) ⟨(Nat.le_of_ble_eq_true rfl), (Nat.le_of_ble_eq_true rfl)⟩ rfl rfl (Nat.le_of_ble_eq_true rfl) (by first | exact Nat.le_of_ble_eq_true rfl | omega) (by first | exact Nat.le_of_ble_eq_true rfl | omega) rfl (fun v_6 M_7 h_9 hE_8 => ?_)
        obtain ⟨rfl, hMs⟩ := h_9
        have hMs := hMs.symm
        subst hMs
        refine x_castE (n' := 24) dX1_rests_21 ((hW.kp (by omega : k < nk)).1) rfl q2584 rfl ?_
        refine x_astore (n' := 26) dX1_rests_24 (Nat.le_of_ble_eq_true rfl) rfl (by dsimp only [List.set] <;> rfl) rfl ?_
        refine x_aload (n' := 28) dX1_rests_26 rfl rfl ?_
        refine x_aload (n' := 30) dX1_rests_28 rfl rfl ?_
        refine x_aload_nN (n' := 31) dX1_rests_30 rfl rfl rfl ?_
        refine x_acmp_ne (n' := 34) (rx := some ((kf k))) (ry := none) (tgt := 47) dX1_rests_31 (by decide) rfl (fun c31_10 => ?_) (fun c31_10 => by cases c31_10)
        refine x_iconst (n' := 48) (v := 0) dX1_rests_47 (by decide) rfl ?_
        refine x_aload (n' := 50) dX1_rests_48 rfl rfl ?_
        refine x_getI (n' := 53) dX1_rests_50 ((hW.kp (by omega : k < nk)).1) ffX1_251_15 rfl rfl ?_
        refine x_topv ((hW.kp (by omega : k < nk)).2.2.2.2.2.2.1.trans (tire_at _ _ _ _ _ (Nat.le_refl _))) ?_
        refine x_iconst (n' := 54) (v := 2) dX1_rests_53 (by decide) rfl ?_
        refine x_isub (n' := 55) dX1_rests_54 rfl ?_
        refine x_mmax (n' := 58) dX1_rests_55 q2755 q478 q101 q479 ⟨(Nat.le_of_ble_eq_true rfl), (Nat.le_of_ble_eq_true rfl)⟩ (Nat.le_of_ble_eq_true rfl) rfl ?_
        refine x_topv (y := tireV g (-1) (nI wt) k) (by unfold tireV; rw [if_neg (wno k (by omega))]; rfl) ?_
        refine x_putI (n' := 61) dX1_rests_58 ((hW.kp (by omega : k < nk)).1) ffX1_251_15 rfl (⟨rfl, rfl⟩) rfl rfl ?_
        refine x_gen (X := fun M9 => WC G M9 w a kf sf (tireG g (-1) (nI wt) (k + 1)) nk nr ∧ FX w M M9) ⟨(by have z := hW.setK h6 h20 (v := tireV g (-1) (nI wt) k) 2 (by omega : k < nk) (Or.inl rfl); rw [show 61 + 4 * k + (2 - 1) = 61 + 4 * k + 1 from rfl, tire_s] at z; exact z), hF.tr (hW.setKF (by omega))⟩ (fun M_11 hM9 => ?_)
        obtain ⟨hW, hF⟩ := hM9
        refine x_iinc (n' := 64) dX1_rests_61 rfl (by first | exact nI_inc _ | exact nI_decp (by omega) | exact i_inc _ | rfl) (Nat.le_of_ble_eq_true rfl) rfl (by dsimp only [List.set] <;> rfl) rfl ?_
        refine x_goto (tgt := 2) dX1_rests_64 (by decide) ?_
        exact x_drop (ih (k + 1) _ (by omega) (by omega) hW hF) ⟨rfl, ⟨rfl, ⟨rfl, ⟨rfl, trivial⟩⟩⟩⟩
  refine x_iconst (n' := 1) (v := 0) dX1_rests_0 (by decide) rfl ?_
  refine x_istore_n (n' := 2) dX1_rests_1 rfl (Nat.le_of_ble_eq_true rfl) rfl (by dsimp only [List.set] <;> rfl) rfl ?_
  exact x_drop (cut2 (nk + 1) 0 _ (by omega) (by omega) (by rw [tire_0]; exact hW) hF0) ⟨rfl, ⟨rfl, ⟨rfl, ⟨rfl, trivial⟩⟩⟩⟩

set_option maxHeartbeats 2000000 in
set_option maxRecDepth 100000 in
theorem c_X1_rests__s (l : Launch) (G : kG) (M : kM) (w : Nat) (a : Nat → Nat) (kf sf : Nat → Nat) (g : gT) (nk nr : Nat) (wt : Nat) (k0 : Nat) (hW : WC G M w a kf sf g nk nr) (h6 : nk ≤ 6) (h20 : nr ≤ 20) (hwt : wt < 3) (hcn : CN G M) (hk0 : k0 < nk) : Kt l G yX1_rests cX1_rests 5 none 3 64 [.ref w, .ref (kf k0), .ref (G.2.2.2 wt)] M (0) (0) (fun v M2 => v = none ∧ WC G M2 w a kf sf (tireG g (nI k0) (nI wt) nk) nk nr ∧ FX w M M2) := by
  refine Kt.of (own := "KeptLight$World") (L := [some (.ref w), some (.ref (kf k0)), some (.ref (G.2.2.2 wt)), none, none]) (by decide +kernel) rfl (Nat.le_of_ble_eq_true rfl) rfl ?_
  intro pp ee ss mm args below meth cd hmn hret
  have hF0 : FX w M M := FX.rf
  have cut2 : ∀ (fuel : Nat) (k : Nat) (M1 : kM) (h1 : nk - k < fuel) (h2 : k ≤ nk) (hW : WC G M1 w a kf sf (tireG g (nI k0) (nI wt) k) nk nr) (hF : FX w M M1), Wx pp l ee { frames := 3, cells := 0, slots := 0, locals := 64 } ss mm args below meth cd "KeptLight$World" cX1_rests 5 G (MQ below (KQ G M (fun v M2 => v = none ∧ WC G M2 w a kf sf (tireG g (nI k0) (nI wt) nk) nk nr ∧ FX w M M2)) args ss (0) (0) (kA G)) 2 [some (.ref w), some (.ref (kf k0)), some (.ref (G.2.2.2 wt)), some (.int (nI k)), none] [] (M1) (0) (0) := by
    intro fuel
    induction fuel with
    | zero => intro k M1 h1 h2 hW hF; omega
    | succ fuel ih =>
      intro k M1 h1 h2 hW hF
      refine x_iload_n (n' := 3) dX1_rests_2 rfl rfl rfl ?_
      refine x_aload_n (n' := 4) dX1_rests_3 rfl rfl rfl ?_
      refine x_getRs (n' := 7) (b := (a 0)) dX1_rests_4 (hW.s.k) ffX1_31_1 rfl (hW.s.r 0 (by decide)) rfl ?_
      refine x_callV (n' := 10) (n := 0) (K := 45) (c_J5_size l G _ (a 0) nk (a 40) kf hW.kl) dX1_rests_7 (hW.kl.kk) rfl (lw_V q2653 q959 q960 q90 q961) (by decide +kernel) ⟨(Nat.le_of_ble_eq_true rfl), (Nat.le_of_ble_eq_true rfl)⟩ rfl rfl (Nat.le_of_ble_eq_true rfl) (by first | exact Nat.le_of_ble_eq_true rfl | omega) (by first | exact Nat.le_of_ble_eq_true rfl | omega) rfl (fun v_1 M_2 h_4 hE_3 => ?_)
      obtain ⟨rfl, hMs⟩ := h_4
      have hMs := hMs.symm
      subst hMs
      refine x_icmp_ge (n' := 13) (tgt := 67) dX1_rests_10 (by decide) rfl (fun c10_5 => ?_) (fun c10_5 => ?_)
      · have n_c10_5 := (cv_le (by repeat' (first | with_reducible exact nl_0 | with_reducible exact nl_2 | with_reducible exact rfl | apply i_add | apply i_mul)) (by repeat' (first | with_reducible exact nl_0 | with_reducible exact nl_2 | with_reducible exact rfl | apply i_add | apply i_mul)) (by omega) (by omega)).mp c10_5
        exact x_vret dX1_rests_67 hret hF.kE (⟨rfl, by rw [show nk = k by omega]; rw [show k = nk by omega] at hW ⊢; exact hW, hF⟩)
      · have n_c10_5 := (not_congr (cv_le (by repeat' (first | with_reducible exact nl_0 | with_reducible exact nl_2 | with_reducible exact rfl | apply i_add | apply i_mul)) (by repeat' (first | with_reducible exact nl_0 | with_reducible exact nl_2 | with_reducible exact rfl | apply i_add | apply i_mul)) (by omega) (by omega))).mp c10_5
        refine x_aload_n (n' := 14) dX1_rests_13 rfl rfl rfl ?_
        refine x_getRs (n' := 17) (b := (a 0)) dX1_rests_14 (hW.s.k) ffX1_31_1 rfl (hW.s.r 0 (by decide)) rfl ?_
        refine x_iload_n (n' := 18) dX1_rests_17 rfl rfl rfl ?_
        refine x_callV (n' := 21) (n := 1) (K := 45) (c_J5_get l G _ (a 0) nk (a 40) kf k hW.kl (by omega)) dX1_rests_18 (hW.kl.kk) rfl (lw_V q2579 q963 q964 q90 q965) (by decide +kernel) ⟨(Nat.le_of_ble_eq_true rfl), (Nat.le_of_ble_eq_true rfl)⟩ rfl rfl (Nat.le_of_ble_eq_true rfl) (by first | exact Nat.le_of_ble_eq_true rfl | omega) (by first | exact Nat.le_of_ble_eq_true rfl | omega) rfl (fun v_6 M_7 h_9 hE_8 => ?_)
        obtain ⟨rfl, hMs⟩ := h_9
        have hMs := hMs.symm
        subst hMs
        refine x_castE (n' := 24) dX1_rests_21 ((hW.kp (by omega : k < nk)).1) rfl q2584 rfl ?_
        refine x_astore (n' := 26) dX1_rests_24 (Nat.le_of_ble_eq_true rfl) rfl (by dsimp only [List.set] <;> rfl) rfl ?_
        refine x_aload (n' := 28) dX1_rests_26 rfl rfl ?_
        refine x_aload (n' := 30) dX1_rests_28 rfl rfl ?_
        refine x_aload_n (n' := 31) dX1_rests_30 rfl rfl rfl ?_
        refine x_acmp_ne (n' := 34) (rx := some ((kf k))) (ry := some ((kf k0))) (tgt := 47) dX1_rests_31 (by decide) rfl (fun c31_10 => ?_) (fun c31_10 => ?_)
        · have hkk : ¬ nI k = nI k0 := fun e9 => c31_10 (by rw [(nI_eq (by omega) (by omega)).mp e9])
          refine x_iconst (n' := 48) (v := 0) dX1_rests_47 (by decide) rfl ?_
          refine x_aload (n' := 50) dX1_rests_48 rfl rfl ?_
          refine x_getI (n' := 53) dX1_rests_50 ((hW.kp (by omega : k < nk)).1) ffX1_251_15 rfl rfl ?_
          refine x_topv ((hW.kp (by omega : k < nk)).2.2.2.2.2.2.1.trans (tire_at _ _ _ _ _ (Nat.le_refl _))) ?_
          refine x_iconst (n' := 54) (v := 2) dX1_rests_53 (by decide) rfl ?_
          refine x_isub (n' := 55) dX1_rests_54 rfl ?_
          refine x_mmax (n' := 58) dX1_rests_55 q2755 q478 q101 q479 ⟨(Nat.le_of_ble_eq_true rfl), (Nat.le_of_ble_eq_true rfl)⟩ (Nat.le_of_ble_eq_true rfl) rfl ?_
          refine x_topv (y := tireV g (nI k0) (nI wt) k) (by unfold tireV; rw [if_neg hkk]; rfl) ?_
          refine x_putI (n' := 61) dX1_rests_58 ((hW.kp (by omega : k < nk)).1) ffX1_251_15 rfl (⟨rfl, rfl⟩) rfl rfl ?_
          refine x_gen (X := fun M9 => WC G M9 w a kf sf (tireG g (nI k0) (nI wt) (k + 1)) nk nr ∧ FX w M M9) ⟨(by have z := hW.setK h6 h20 (v := tireV g (nI k0) (nI wt) k) 2 (by omega : k < nk) (Or.inl rfl); rw [show 61 + 4 * k + (2 - 1) = 61 + 4 * k + 1 from rfl, tire_s] at z; exact z), hF.tr (hW.setKF (by omega))⟩ (fun M_11 hM9 => ?_)
          obtain ⟨hW, hF⟩ := hM9
          refine x_iinc (n' := 64) dX1_rests_61 rfl (by first | exact nI_inc _ | exact nI_decp (by omega) | exact i_inc _ | rfl) (Nat.le_of_ble_eq_true rfl) rfl (by dsimp only [List.set] <;> rfl) rfl ?_
          refine x_goto (tgt := 2) dX1_rests_64 (by decide) ?_
          exact x_drop (ih (k + 1) _ (by omega) (by omega) hW hF) ⟨rfl, ⟨rfl, ⟨rfl, ⟨rfl, trivial⟩⟩⟩⟩
        · have hkk : k = k0 := hW.kinj (by omega) hk0 (Option.some.inj c31_10)
          refine x_aload (n' := 36) dX1_rests_34 rfl rfl ?_
          refine x_getI (n' := 39) dX1_rests_36 ((hW.kp (by omega : k < nk)).1) ffX1_251_15 rfl rfl ?_
          refine x_topv ((hW.kp (by omega : k < nk)).2.2.2.2.2.2.1.trans (tire_at _ _ _ _ _ (Nat.le_refl _))) ?_
          refine x_aload_n (n' := 40) dX1_rests_39 rfl rfl rfl ?_
          refine x_disp3k ((hcn.kE hF.kE) wt (by omega)) (wi_k hwt) (fun e8 hk8 k8 => x_callK (n' := 43) (K := 200) (v := 1) (x := ⟨"KeptLight$Weather", "tires", "()I"⟩) (y := yX27_tires) (owner := "KeptLight$Weather") dX1_rests_40 hk8 rfl q2743 q2745 (Or.inl q2744) (by decide) q2746 q2747 q2748 (by decide +kernel) (by decide +kernel) (Or.inl ⟨_, dX27_tires_0, rfl, dX27_tires_1⟩) (by decide +kernel) ⟨(Nat.le_of_ble_eq_true rfl), (Nat.le_of_ble_eq_true rfl)⟩ (Nat.le_of_ble_eq_true rfl) rfl (x_topv (wi_t (w := wt) (i := 0) (by decide) e8 rfl) k8)) (fun e8 hk8 k8 => x_callK (n' := 43) (K := 201) (v := 1) (x := ⟨"KeptLight$Weather", "tires", "()I"⟩) (y := yX28_tires) (owner := "KeptLight$Weather") dX1_rests_40 hk8 rfl q2743 q2745 (Or.inl q2744) (by decide) q2749 q2750 q2751 (by decide +kernel) (by decide +kernel) (Or.inl ⟨_, dX28_tires_0, rfl, dX28_tires_1⟩) (by decide +kernel) ⟨(Nat.le_of_ble_eq_true rfl), (Nat.le_of_ble_eq_true rfl)⟩ (Nat.le_of_ble_eq_true rfl) rfl (x_topv (wi_t (w := wt) (i := 1) (by decide) e8 rfl) k8)) (fun e8 hk8 k8 => x_callK (n' := 43) (K := 202) (v := 2) (x := ⟨"KeptLight$Weather", "tires", "()I"⟩) (y := yX29_tires) (owner := "KeptLight$Weather") dX1_rests_40 hk8 rfl q2743 q2745 (Or.inl q2744) (by decide) q2752 q2753 q2754 (by decide +kernel) (by decide +kernel) (Or.inl ⟨_, dX29_tires_0, rfl, dX29_tires_1⟩) (by decide +kernel) ⟨(Nat.le_of_ble_eq_true rfl), (Nat.le_of_ble_eq_true rfl)⟩ (Nat.le_of_ble_eq_true rfl) rfl (x_topv (wi_t (w := wt) (i := 2) (by decide) e8 rfl) k8)) ?_
          refine x_iadd (n' := 44) dX1_rests_43 rfl ?_
          refine x_goto (tgt := 58) dX1_rests_44 (by decide) ?_
          refine x_topv (y := tireV g (nI k0) (nI wt) k) (by unfold tireV; rw [if_pos (congrArg nI hkk)]; exact wt_t hwt) ?_
          refine x_putI (n' := 61) dX1_rests_58 ((hW.kp (by omega : k < nk)).1) ffX1_251_15 rfl (⟨rfl, rfl⟩) rfl rfl ?_
          refine x_gen (X := fun M9 => WC G M9 w a kf sf (tireG g (nI k0) (nI wt) (k + 1)) nk nr ∧ FX w M M9) ⟨(by have z := hW.setK h6 h20 (v := tireV g (nI k0) (nI wt) k) 2 (by omega : k < nk) (Or.inl rfl); rw [show 61 + 4 * k + (2 - 1) = 61 + 4 * k + 1 from rfl, tire_s] at z; exact z), hF.tr (hW.setKF (by omega))⟩ (fun M_12 hM9 => ?_)
          obtain ⟨hW, hF⟩ := hM9
          refine x_iinc (n' := 64) dX1_rests_61 rfl (by first | exact nI_inc _ | exact nI_decp (by omega) | exact i_inc _ | rfl) (Nat.le_of_ble_eq_true rfl) rfl (by dsimp only [List.set] <;> rfl) rfl ?_
          refine x_goto (tgt := 2) dX1_rests_64 (by decide) ?_
          exact x_drop (ih (k + 1) _ (by omega) (by omega) hW hF) ⟨rfl, ⟨rfl, ⟨rfl, ⟨rfl, trivial⟩⟩⟩⟩
  refine x_iconst (n' := 1) (v := 0) dX1_rests_0 (by decide) rfl ?_
  refine x_istore_n (n' := 2) dX1_rests_1 rfl (Nat.le_of_ble_eq_true rfl) rfl (by dsimp only [List.set] <;> rfl) rfl ?_
  exact x_drop (cut2 (nk + 1) 0 _ (by omega) (by omega) (by rw [tire_0]; exact hW) hF0) ⟨rfl, ⟨rfl, ⟨rfl, ⟨rfl, trivial⟩⟩⟩⟩
