theorem LB.add {G : kG} {M Mp M2 : kM} {a ef : Nat → Nat} {g : gT} {nl e9 : Nat} {so sh who : Int32} (h : LB G M a ef g nl) (hn : nl < 400) (hF1 : Fr (fun _ => False) M Mp) (he : ENP Mp e9 (g 0) so sh who) (hF2 : Fr (ow (a 5)) Mp M2) (hA : AL G M2 (a 5) (nl + 1) (if nl < lcp (a 43) nl then lcp (a 43) nl else nc (lcp (a 43) nl)) (va_up ef nl e9)) : LB G M2 a (va_up ef nl e9) (logG g so sh who nl) (nl + 1) := by
  have g9 : ∀ j, (j < 909 + 4 * nl ∨ 909 + 4 * nl + 3 < j) → j ≠ 15 → logG g so sh who nl j = g j := fun j h1 h2 => by
    unfold logG
    rw [va_up_ne _ _ h2, va_up_ne _ _ (by omega), va_up_ne _ _ (by omega), va_up_ne _ _ (by omega), va_up_ne _ _ (by omega)]
  refine ⟨hA, h.2.1, fun i hi => ?_, va_up_self _ _ _, hn⟩
  by_cases e : i = nl
  · subst e
    rw [va_up_self]
    unfold logG
    rw [va_up_ne _ _ (show 909 + 4 * i ≠ 15 by omega), va_up_ne _ _ (show 909 + 4 * i ≠ 909 + 4 * i + 3 by omega), va_up_ne _ _ (show 909 + 4 * i ≠ 909 + 4 * i + 2 by omega), va_up_ne _ _ (show 909 + 4 * i ≠ 909 + 4 * i + 1 by omega), va_up_self,
      va_up_ne _ _ (show 909 + 4 * i + 1 ≠ 15 by omega), va_up_ne _ _ (show 909 + 4 * i + 1 ≠ 909 + 4 * i + 3 by omega), va_up_ne _ _ (show 909 + 4 * i + 1 ≠ 909 + 4 * i + 2 by omega), va_up_self,
      va_up_ne _ _ (show 909 + 4 * i + 2 ≠ 15 by omega), va_up_ne _ _ (show 909 + 4 * i + 2 ≠ 909 + 4 * i + 3 by omega), va_up_self, va_up_ne _ _ (show 909 + 4 * i + 3 ≠ 15 by omega), va_up_self]
    exact he.fr hF2 (fun e => by cases e)
  · rw [va_up_ne _ _ e, g9 _ (by omega) (by omega), g9 _ (by omega) (by omega), g9 _ (by omega) (by omega), g9 _ (by omega) (by omega)]
    exact ((h.2.2.1 i (by omega)).fr hF1 id).fr hF2 (fun e => by cases e)
theorem en_q {M : kM} {b : Nat} {h s x k : Int32} (hk : mK M b = some 25) (hg : mG M b = 0) : ENP (sI (sI (sI (sI M (fc 25 0) b h) (fc 25 1) b s) (fc 25 2) b x) (fc 25 3) b k) b h s x k :=
  ⟨hk, hg, by rw [mI_sI_c (by decide), mI_sI_c (by decide), mI_sI_c (by decide), mI_sI], by rw [mI_sI_c (by decide), mI_sI_c (by decide), mI_sI], by rw [mI_sI_c (by decide), mI_sI], by rw [mI_sI]⟩
theorem lgc_s {c0 n : Nat} (h : n < 400) : lgc c0 (lnx n) - lgc c0 n = 1 + (if n < lcp c0 n then 0 else 1) := by
  unfold lnx; rw [if_pos h]; show lgc c0 n + _ - _ = _; omega
theorem lgs_s {c0 n : Nat} (h : n < 400) : lgs c0 (lnx n) - lgs c0 n = 4 + (if n < lcp c0 n then 0 else nc (lcp c0 n)) := by
  unfold lnx; rw [if_pos h]; show lgs c0 n + _ - _ = _; omega
theorem logG_low {g : gT} {so sh who : Int32} {nl j : Nat} (hj : j < 909 ∧ j ≠ 15) : logG g so sh who nl j = g j := by
  unfold logG
  rw [va_up_ne _ _ hj.2, va_up_ne _ _ (by omega), va_up_ne _ _ (by omega), va_up_ne _ _ (by omega), va_up_ne _ _ (by omega)]
theorem ffX1_42_1 : FF "KeptLight$World" 42 1 5 "KeptLight$World" := ⟨by decide, by decide, q698, Or.inl rfl⟩
theorem ffX1_209_15 : FF "KeptLight$World" 209 15 0 "KeptLight$Keeper" := ⟨by decide, by decide, q1967, Or.inl rfl⟩
set_option maxHeartbeats 800000 in
set_option maxRecDepth 100000 in
theorem c_X1_writes (l : Launch) (G : kG) (M : kM) (w : Nat) (a kf sf sa ef : Nat → Nat) (T : kT) (ex : Nat → Prop) (g : gT) (nk nr ns nl : Nat) (k : Nat) (so sh : Int32) (hB : NB G M w a kf sf sa ef T ex g nk nr ns nl) (hk : k < nk) : Kt l G yX1_writes cX1_writes 4 none 7 181 [.ref w, .int so, .int sh, .ref (kf k)] M (lgc (a 43) (lnx nl) - lgc (a 43) nl) (lgs (a 43) (lnx nl) - lgs (a 43) nl) (fun v M2 => v = none ∧ ∃ ef2, NB G M2 w a kf sf sa ef2 T ex (logP g so sh (nI k)) nk nr ns (lnx nl) ∧ Fr (ow (a 5)) M M2) := by
  refine Kt.of (own := "KeptLight$World") (L := [some (.ref w), some (.int so), some (.int sh), some (.ref (kf k))]) (by decide +kernel) rfl (Nat.le_of_ble_eq_true rfl) rfl ?_
  intro pp ee ss mm args below meth cd hmn hret
  have hl4 := hB.l.2.2.2.2
  have hn15 := hB.l.2.2.2.1
  refine x_aload_n (n' := 1) dX1_writes_0 rfl rfl rfl ?_
  refine x_getRs (n' := 4) (b := (a 5)) dX1_writes_1 (hB.wc.s.k) ffX1_42_1 rfl (hB.wc.s.r 5 (by decide)) rfl ?_
  refine x_callV (n' := 7) (n := 0) (K := 45) (c_J5_size l G _ (a 5) nl _ ef hB.l.1) dX1_writes_4 (hB.l.1.kk) rfl (lw_V q2653 q959 q960 q90 q961) (by decide +kernel) ⟨(Nat.le_of_ble_eq_true rfl), (Nat.le_of_ble_eq_true rfl)⟩ rfl rfl (Nat.le_of_ble_eq_true rfl) (by first | exact Nat.le_of_ble_eq_true rfl | omega) (by first | exact Nat.le_of_ble_eq_true rfl | omega) rfl (fun v_1 M_2 h_4 hE_3 => ?_)
  obtain ⟨rfl, hMs⟩ := h_4
  have hMs := hMs.symm
  subst hMs
  refine x_sipush (n' := 10) (v := 400) dX1_writes_7 (by decide) rfl ?_
  refine x_icmp_ge (n' := 13) (tgt := 38) dX1_writes_10 (by decide) rfl (fun c10_5 => ?_) (fun c10_5 => ?_)
  · have n_c10_5 := (cv_le (by repeat' (first | with_reducible exact nl_0 | with_reducible exact nl_400 | with_reducible exact rfl | apply i_add | apply i_mul)) (by repeat' (first | with_reducible exact nl_0 | with_reducible exact nl_400 | with_reducible exact rfl | apply i_add | apply i_mul)) (by omega) (by omega)).mp c10_5
    have hFz : Fr (ow (a 5)) M M := Fr.rf
    exact x_vret dX1_writes_38 hret hFz.kE (⟨rfl, ef, by rw [logP_b hn15 hl4 (by omega), show lnx nl = nl from if_neg (by omega)]; exact hB, hFz⟩)
  · have n_c10_5 := (not_congr (cv_le (by repeat' (first | with_reducible exact nl_0 | with_reducible exact nl_400 | with_reducible exact rfl | apply i_add | apply i_mul)) (by repeat' (first | with_reducible exact nl_0 | with_reducible exact nl_400 | with_reducible exact rfl | apply i_add | apply i_mul)) (by omega) (by omega))).mp c10_5
    have hn : nl < 400 := by omega
    refine x_room (cb2 := 1 + (if nl < lcp (a 43) nl then 0 else 1)) (sb2 := 4 + (if nl < lcp (a 43) nl then 0 else nc (lcp (a 43) nl))) (by rw [lgc_s hn]; omega) (by rw [lgs_s hn]; omega) ?_
    refine x_aload_n (n' := 14) dX1_writes_13 rfl rfl rfl ?_
    refine x_getRs (n' := 17) (b := (a 5)) dX1_writes_14 (hB.wc.s.k) ffX1_42_1 rfl (hB.wc.s.r 5 (by decide)) rfl ?_
    refine x_new (n' := 20) (K := 25) dX1_writes_17 (by decide) q2690 q2691 q154 (by first | exact Nat.le_of_ble_eq_true rfl | omega) (by first | exact Nat.le_of_ble_eq_true rfl | omega | (show 4 ≤ _; omega)) rfl (fun e9 hq_e9 hB_e9 => ?_)
    have hE_6 := kE_nO (K := 25) hq_e9
    have k_e9 := mK_nO_of hE_6
    refine x_ghost e9 0 ?_
    have hF0 : Fr (fun _ => False) M (sG (nO M e9 25) e9 0) := Fr.rf.obj hq_e9 (Or.inl rfl)
    refine x_gen (X := fun M9 => NB G M9 w a kf sf sa ef T ex g nk nr ns nl ∧ mK M9 e9 = some 25 ∧ mG M9 e9 = 0 ∧ Fr (fun _ => False) M M9) ⟨hB.nil hF0, mK_nO (M := M), mG_sG (M := nO M e9 25), hF0⟩ (fun M_7 hM7 => ?_)
    have hB0 := hB
    obtain ⟨hB, hk9, hg9, hF7⟩ := hM7
    refine x_dup (n' := 21) dX1_writes_20 rfl rfl ?_
    refine x_aload_n (n' := 22) dX1_writes_21 rfl rfl rfl ?_
    refine x_getI (n' := 25) dX1_writes_22 (hB.wc.s.k) ffX1_128_1 rfl rfl ?_
    refine x_topv (show _ = g 0 from hB.wc.i 9 (by decide)) ?_
    refine x_iload_n (n' := 26) dX1_writes_25 rfl rfl rfl ?_
    refine x_iload_n (n' := 27) dX1_writes_26 rfl rfl rfl ?_
    refine x_aload_n (n' := 28) dX1_writes_27 rfl rfl rfl ?_
    refine x_getI (n' := 31) dX1_writes_28 ((hB.wc.kp hk).1) ffX1_209_15 rfl rfl ?_
    refine x_topv ((hB.wc.kp hk).2.2.1) ?_
    refine x_callI (n' := 34) (ret := none) (n := 4) (c_X25_init l G _ e9 (g 0) so sh (nI k) hk9) dX1_writes_31 (lw_meth q2694) q154 q2692 q2693 rfl (by decide +kernel) ⟨(Nat.le_of_ble_eq_true rfl), (Nat.le_of_ble_eq_true rfl)⟩ rfl rfl (Nat.le_of_ble_eq_true rfl) (by first | exact Nat.le_of_ble_eq_true rfl | omega) (by first | exact Nat.le_of_ble_eq_true rfl | omega) rfl (fun v_7 M_8 h_10 hE_9 => ?_)
    obtain ⟨rfl, hMs⟩ := h_10
    have hMs := hMs.symm
    subst hMs
    have hFI : Fr (fun _ => False) M (sI (sI (sI (sI M_7 (fc 25 0) e9 (g 0)) (fc 25 1) e9 so) (fc 25 2) e9 sh) (fc 25 3) e9 (nI k)) := (((hF7.I (Or.inl hq_e9)).I (Or.inl hq_e9)).I (Or.inl hq_e9)).I (Or.inl hq_e9)
    refine x_gen (X := fun M9 => ENP M9 e9 (g 0) so sh (nI k) ∧ Fr (fun _ => False) M M9) ⟨en_q hk9 hg9, hFI⟩ (fun M_9 hM9 => ?_)
    obtain ⟨hE9, hF9⟩ := hM9
    have hA9 := hB0.l.1.fr hF9 id
    refine x_callV (n' := 37) (n := 1) (K := 45) (c_J5_add l G _ (a 5) nl _ ef 25 e9 hA9 (by omega) hE9.1 q3735) dX1_writes_34 (hA9.kk) rfl (lw_V q2146 q1993 q1994 q90 q1995) (by decide +kernel) ⟨(Nat.le_of_ble_eq_true rfl), (Nat.le_of_ble_eq_true rfl)⟩ rfl rfl (Nat.le_of_ble_eq_true rfl) (by omega) (by have : cN 25 = 4 := rfl; omega) rfl (fun v_11 M_8 h_13 hE_12 => ?_)
    obtain ⟨rfl, hA2, hF2⟩ := h_13
    have hFz := (hF9.mono (fun _ q9 => q9.elim)).tr hF2
    refine x_pop (n' := 38) dX1_writes_37 rfl rfl ?_
    exact x_vret dX1_writes_38 hret hFz.kE (⟨rfl, va_up ef nl e9, by rw [logP_a hn15 hn]; exact hB0.wr hFz (by unfold lnx; rw [if_pos hn]; exact hB0.l.add hn hF9 hE9 hF2 hA2) (fun j hj => (logG_low hj)), hFz⟩)
