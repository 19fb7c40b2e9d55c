theorem ffX2_28_2 : FF "KeptLight$Coming" 28 2 2 "KeptLight$Coming" := ⟨by decide, by decide, q235, Or.inl rfl⟩
theorem ffX2_32_4 : FF "KeptLight$Coming" 32 4 0 "KeptLight$Hour" := ⟨by decide, by decide, q229, Or.inl rfl⟩
theorem ffX2_10_2 : FF "KeptLight$Coming" 10 2 0 "KeptLight$Coming" := ⟨by decide, by decide, q233, Or.inl rfl⟩
set_option maxHeartbeats 800000 in
set_option maxRecDepth 100000 in
theorem c_X2_at (l : Launch) (G : kG) (M : kM) (c t q : Nat) (T : kT) (sa : Nat → Nat) (rl : Nat → List Nat) (ex : Nat → Prop) (z : Nat) (hC : CM G M c t q T sa rl ex) (hz : z < BB) : Kt l G yX2_at cX2_at 2 (some (.object "java/util/ArrayList")) 4 88 [.ref c, .int (nI z)] M (0) (0) (fun v M2 => v = some (va_rf (mT T z)) ∧ M2 = sI M (fc 4 0) q (nI z)) := by
  refine Kt.of (own := "KeptLight$Coming") (L := [some (.ref c), some (.int (nI z))]) (by decide +kernel) rfl (Nat.le_of_ble_eq_true rfl) rfl ?_
  intro pp ee ss mm args below meth cd hmn hret
  refine x_aload_n (n' := 1) dX2_at_0 rfl rfl rfl ?_
  refine x_getRs (n' := 4) (b := q) dX2_at_1 (hC.1.1) ffX2_28_2 rfl (hC.1.2.2.2.2.1) rfl ?_
  refine x_iload_n (n' := 5) dX2_at_4 rfl rfl rfl ?_
  refine x_putI (n' := 8) dX2_at_5 (hC.1.2.2.2.2.2.1) ffX2_32_4 rfl (⟨rfl, rfl⟩) rfl rfl ?_
  refine x_aload_n (n' := 9) dX2_at_8 rfl rfl rfl ?_
  refine x_getRs (n' := 12) (b := t) dX2_at_9 (hC.1.1) ffX2_10_2 rfl (hC.1.2.2.1) rfl ?_
  refine x_aload_n (n' := 13) dX2_at_12 rfl rfl rfl ?_
  refine x_getRs (n' := 16) (b := q) dX2_at_13 (hC.1.1) ffX2_28_2 rfl (hC.1.2.2.2.2.1) rfl ?_
  refine x_callV (n' := 19) (n := 1) (K := 41) (c_J1_get l G _ (t + 1) t q T q z hC.2.1.wq hC.1.2.2.2.2.2.1 mI_sI hz) dX2_at_16 (hC.2.1.1.k) rfl (lw_V q2155 q2156 q2157 q81 q2158) (by decide +kernel) ⟨(Nat.le_of_ble_eq_true rfl), (Nat.le_of_ble_eq_true rfl)⟩ rfl rfl (Nat.le_of_ble_eq_true rfl) (by first | exact Nat.le_of_ble_eq_true rfl | omega) (by first | exact Nat.le_of_ble_eq_true rfl | omega) rfl (fun v_1 M_2 h_4 hE_3 => ?_)
  obtain ⟨rfl, hMs⟩ := h_4
  have hMs := hMs.symm
  subst hMs
  refine x_topq (fun hl9 => ?_) (fun l9 hl9 => ?_)
  · refine x_castN (n' := 22) dX2_at_19 rfl ?_
    exact x_aretN dX2_at_22 hret (Or.inl ⟨_, rfl⟩) (by repeat' (first | with_reducible exact kE.rf | with_reducible exact hE_3 | with_reducible apply kE_A | with_reducible apply kE_I | with_reducible apply kE_L | with_reducible apply kE_R | with_reducible apply kE_O | with_reducible apply kE_G | with_reducible refine kE.tr ?_ hE_3)) (⟨congrArg (fun y9 => some (va_rf y9)) (show _ = mT T z from hl9.symm), rfl⟩)
  · refine x_castE (n' := 22) dX2_at_19 (hC.lk hl9) rfl q2466 rfl ?_
    exact x_aret dX2_at_22 hret (Or.inl ⟨_, rfl⟩) (by repeat' (first | with_reducible exact kE.rf | with_reducible exact hE_3 | with_reducible apply kE_A | with_reducible apply kE_I | with_reducible apply kE_L | with_reducible apply kE_R | with_reducible apply kE_O | with_reducible apply kE_G | with_reducible refine kE.tr ?_ hE_3)) (⟨congrArg (fun y9 => some (va_rf y9)) (show _ = mT T z from hl9.symm), rfl⟩)

theorem nc_le {n c : Nat} (h : n ≤ c) (h2 : n < 200) : (if n < c then 0 else nc c) ≤ 310 := by
  split
  · omega
  · unfold nc; split <;> omega
theorem l9_al {G : kG} {M : kM} {l : Nat} : AL G (sR (sI (sG (nO M l 45) l (l + 1)) (fc 45 0) l 0) (fc 45 1) l (some (G.2.2.2 6))) l 0 0 (fun _ => 0) := AL_new (mK_nO (M := M)) (mG_sG (M := nO M l 45)) (show mI (sI (sG (nO M l 45) l (l + 1)) (fc 45 0) l 0) (fc 45 2) l = 0 from (mI_sI_c (by decide)).trans (mI_NO0 (M := M) (K := 45))) mR_sR
theorem l9_fr {G : kG} {M : kM} {l : Nat} (hq : mK M l = none) : Fr (fun _ => False) M (sR (sI (sG (nO M l 45) l (l + 1)) (fc 45 0) l 0) (fc 45 1) l (some (G.2.2.2 6))) := ((Fr.rf.obj hq (Or.inr (Or.inl rfl))).I (Or.inl hq)).R (Or.inl hq)
theorem ffX2_19_2 : FF "KeptLight$Coming" 19 2 1 "KeptLight$Coming" := ⟨by decide, by decide, q234, Or.inl rfl⟩
theorem fsX2_42 (K : Nat) (h : shC K) : FF "KeptLight$Coming" 42 K 1 "KeptLight$Ship" := by
  rcases h with rfl | rfl | rfl | rfl | rfl
  · exact ⟨by decide, by decide, q2074, Or.inl rfl⟩
  · exact ⟨by decide, by decide, q2074, Or.inl rfl⟩
  · exact ⟨by decide, by decide, q2074, Or.inl rfl⟩
  · exact ⟨by decide, by decide, q2074, Or.inl rfl⟩
  · exact ⟨by decide, by decide, q2074, Or.inl rfl⟩
set_option maxHeartbeats 4000000 in
set_option maxRecDepth 100000 in
theorem k43_c_X2_adds (l : Launch) (G : kG) (M : kM) (c t q : Nat) (T : kT) (sa : Nat → Nat) (rl : Nat → List Nat) (ex : Nat → Prop) (kd : Nat → Int32) (b n : Nat) (kb : Int32) (z : Nat) (hAB : AB G M c t q T sa rl ex kd b n kb z) (hz : z < BB) (hlen : (rl z).length < 200) (hex : ∀ x, ex x → mK M x ≠ none) (hec : ex c) (hsn : sa n = b) (pp : Program) (ee : Env) (ss : State) (mm : MethodId) (args : Array Value) (below : List Frame) (meth : Method) (cd : Code) (hmn : meth.name = yX2_adds.name) (hret : meth.sig.returnType = none) : ∀ (fuel : Nat) (k l9 : Nat) (T : kT) (M1 : kM) (h9 : (rl z).length - k < fuel) (hAB : AB G M1 c t q T sa rl ex kd b n kb z) (hl : mT T z = some l9) (hF : Fr (EX ex) M M1) (hk1 : k ≤ (rl z).length) (hk2 : ∀ i, i < k → crG kd kb n ((rl z).getD i 0) < 0), Wx pp l ee { frames := 6, cells := 4, slots := 325, locals := 161 } ss mm args below meth cd "KeptLight$Coming" cX2_adds 4 G (MQ below (KQ G M (fun v M2 => v = none ∧ ∃ k T2, k ≤ (rl z).length ∧ (∀ i, i < k → crG kd kb n ((rl z).getD i 0) < 0) ∧ (k = (rl z).length ∨ ¬ crG kd kb n ((rl z).getD k 0) < 0) ∧ CM G M2 c t q T2 sa (va_up rl z ((rl z).insertIdx k n)) ex ∧ Fr (EX ex) M M2)) args ss (4) (325) (kA G)) 43 [some (.ref c), some (.ref b), some (.ref l9), some (.int (nI k))] [] (M1) (1) (310) := by
  have hC := hAB.1
  obtain ⟨Kb, hb, hKb, hbg, hbn, hkb⟩ := hAB.2.2.1
  intro fuel
  induction fuel with
  | zero => intro k l9 T M1 h9 hAB hl hF hk1 hk2; omega
  | succ fuel ih =>
    intro k l9 T M1 h9 hAB hl hF hk1 hk2
    obtain ⟨cp1, hA1⟩ := (hAB.1.2.2.2.2.1 z l9 hl).1
    obtain ⟨b3, hb3⟩ := hAB.1.1.2.2.2.1
    obtain ⟨Kb, hb, hKb, hbg, hbn, hkb⟩ := hAB.2.2.1
    refine x_iload_n (n' := 44) dX2_adds_43 rfl rfl rfl ?_
    refine x_aload_n (n' := 45) dX2_adds_44 rfl rfl rfl ?_
    refine x_callV (n' := 48) (n := 0) (K := 45) (c_J5_size l G _ l9 _ cp1 _ hA1) dX2_adds_45 (hA1.kk) rfl (lw_V q2547 q959 q960 q90 q961) (by decide +kernel) ⟨(Nat.le_of_ble_eq_true rfl), (Nat.le_of_ble_eq_true rfl)⟩ rfl rfl (Nat.le_of_ble_eq_true rfl) (by first | exact Nat.le_of_ble_eq_true rfl | omega) (by first | exact Nat.le_of_ble_eq_true rfl | omega) rfl (fun v_1 M_2 h_4 hE_3 => ?_)
    obtain ⟨rfl, hMs⟩ := h_4
    have hMs := hMs.symm
    subst hMs
    refine x_icmp_ge (n' := 51) (tgt := 76) dX2_adds_48 (by decide) rfl (fun c48_5 => ?_) (fun c48_5 => ?_)
    · have n_c48_5 := (cv_le (by repeat' (first | with_reducible exact nl_0 | with_reducible exact rfl | apply i_add | apply i_mul)) (by repeat' (first | with_reducible exact nl_0 | with_reducible exact rfl | apply i_add | apply i_mul)) (by omega) (by omega)).mp c48_5
      have hfin : k = (rl z).length ∨ ¬ crG kd kb n ((rl z).getD k 0) < 0 := by first | exact Or.inl (by omega) | exact Or.inr (Int32.not_lt.mpr (by assumption))
      refine x_aload_n (n' := 77) dX2_adds_76 rfl rfl rfl ?_
      refine x_iload_n (n' := 78) dX2_adds_77 rfl rfl rfl ?_
      refine x_aload_n (n' := 79) dX2_adds_78 rfl rfl rfl ?_
      refine x_callV (n' := 82) (n := 2) (K := 45) (c_J5_add_3 l G _ l9 _ cp1 k _ Kb b hA1 (by omega) hk1 hb (ship_obj hKb)) dX2_adds_79 (hA1.kk) rfl (lw_V q2551 q2552 q2553 q90 q2554) (by decide +kernel) ⟨(Nat.le_of_ble_eq_true rfl), (Nat.le_of_ble_eq_true rfl)⟩ rfl rfl (Nat.le_of_ble_eq_true rfl) (by split <;> omega) (Nat.le_trans (nc_le hA1.lec hlen) (by omega)) rfl (fun v_6 M_9 h_8 hE_7 => ?_)
      obtain ⟨rfl, hA2, hF2⟩ := h_8
      subst hsn
      have hFz := hF.tr (hF2.mono (hAB.1.repF hl))
      exact x_vret dX2_adds_82 hret hFz.kE (⟨rfl, k, T, hk1, hk2, hfin, hAB.1.rep hl hF2 (LSS.ins hk1 hA2), hFz⟩)
    · have n_c48_5 := (not_congr (cv_le (by repeat' (first | with_reducible exact nl_0 | with_reducible exact rfl | apply i_add | apply i_mul)) (by repeat' (first | with_reducible exact nl_0 | with_reducible exact rfl | apply i_add | apply i_mul)) (by omega) (by omega))).mp c48_5
      refine x_aload_n (n' := 52) dX2_adds_51 rfl rfl rfl ?_
      refine x_getRs (n' := 55) (b := b3) dX2_adds_52 (hAB.1.1.1) ffX2_19_2 rfl (hb3.1) rfl ?_
      refine x_aload_n (n' := 56) dX2_adds_55 rfl rfl rfl ?_
      refine x_iload_n (n' := 57) dX2_adds_56 rfl rfl rfl ?_
      refine x_callV (n' := 60) (n := 1) (K := 45) (c_J5_get l G _ l9 _ cp1 _ k hA1 (by omega)) dX2_adds_57 (hA1.kk) rfl (lw_V q2548 q963 q964 q90 q965) (by decide +kernel) ⟨(Nat.le_of_ble_eq_true rfl), (Nat.le_of_ble_eq_true rfl)⟩ rfl rfl (Nat.le_of_ble_eq_true rfl) (by first | exact Nat.le_of_ble_eq_true rfl | omega) (by first | exact Nat.le_of_ble_eq_true rfl | omega) rfl (fun v_9 M_10 h_12 hE_11 => ?_)
      obtain ⟨rfl, hMs⟩ := h_12
      have hMs := hMs.symm
      subst hMs
      obtain ⟨Ke, hKe, hCe, hGe, hNe, hke⟩ := hAB.2.1 z _ (gD_mem (k := k) (by omega))
      refine x_castY (n' := 63) (K := Ke) dX2_adds_60 (by repeat' (first | with_reducible exact hKe | with_reducible apply mK_A | with_reducible apply mK_I | with_reducible apply mK_L | with_reducible apply mK_R | with_reducible apply mK_O | with_reducible apply mK_G | with_reducible refine mK_NA ?_ (by assumption) | with_reducible refine mK_NO ?_ (by assumption) | with_reducible refine kE.ap hE_3 ?_ | with_reducible refine kE.ap hE_11 ?_)) q2549 (ship_cast hCe) rfl ?_
      refine x_aload_n (n' := 64) dX2_adds_63 rfl rfl rfl ?_
      refine x_callV (n' := 67) (n := 2) (K := 3) (c_X3_compare_2 l G _ b3 (sa ((rl z).getD k 0)) b Ke Kb hKe hCe hb hKb) dX2_adds_64 (hb3.2) rfl (lw_V q2550 q2179 q2180 q82 q2181) (by decide +kernel) ⟨(Nat.le_of_ble_eq_true rfl), (Nat.le_of_ble_eq_true rfl)⟩ rfl rfl (Nat.le_of_ble_eq_true rfl) (by first | exact Nat.le_of_ble_eq_true rfl | omega) (by first | exact Nat.le_of_ble_eq_true rfl | omega) rfl (fun v_13 M_14 h_16 hE_15 => ?_)
      obtain ⟨rfl, hMs⟩ := h_16
      have hMs := hMs.symm
      subst hMs
      refine x_topv (y := crG kd kb n ((rl z).getD k 0)) (by unfold crG; rw [hNe, hbn, hke, hkb]) ?_
      refine x_if_ge (n' := 70) (tgt := 76) dX2_adds_67 (by decide) rfl (fun c67_17 => ?_) (fun c67_17 => ?_)
      · have hfin : k = (rl z).length ∨ ¬ crG kd kb n ((rl z).getD k 0) < 0 := by first | exact Or.inl (by omega) | exact Or.inr (Int32.not_lt.mpr (by assumption))
        refine x_aload_n (n' := 77) dX2_adds_76 rfl rfl rfl ?_
        refine x_iload_n (n' := 78) dX2_adds_77 rfl rfl rfl ?_
        refine x_aload_n (n' := 79) dX2_adds_78 rfl rfl rfl ?_
        refine x_callV (n' := 82) (n := 2) (K := 45) (c_J5_add_3 l G _ l9 _ cp1 k _ Kb b hA1 (by omega) hk1 hb (ship_obj hKb)) dX2_adds_79 (hA1.kk) rfl (lw_V q2551 q2552 q2553 q90 q2554) (by decide +kernel) ⟨(Nat.le_of_ble_eq_true rfl), (Nat.le_of_ble_eq_true rfl)⟩ rfl rfl (Nat.le_of_ble_eq_true rfl) (by split <;> omega) (Nat.le_trans (nc_le hA1.lec hlen) (by omega)) rfl (fun v_18 M_9 h_20 hE_19 => ?_)
        obtain ⟨rfl, hA2, hF2⟩ := h_20
        subst hsn
        have hFz := hF.tr (hF2.mono (hAB.1.repF hl))
        exact x_vret dX2_adds_82 hret hFz.kE (⟨rfl, k, T, hk1, hk2, hfin, hAB.1.rep hl hF2 (LSS.ins hk1 hA2), hFz⟩)
      · refine x_iinc (n' := 73) dX2_adds_70 rfl (by first | exact nI_inc _ | exact nI_decp (by omega) | exact i_inc _ | rfl) (Nat.le_of_ble_eq_true rfl) rfl (by dsimp only [List.set] <;> rfl) rfl ?_
        refine x_goto (tgt := 43) dX2_adds_73 (by decide) ?_
        exact x_drop (ih (k + 1) l9 T _ (by omega) hAB hl hF (by omega) (fun i hi => by by_cases e9 : i = k; rw [e9]; exact Int32.not_le.mp (by assumption); exact hk2 i (by omega))) ⟨rfl, ⟨rfl, ⟨rfl, ⟨rfl, trivial⟩⟩⟩⟩
set_option maxHeartbeats 4000000 in
set_option maxRecDepth 100000 in
theorem c_X2_adds (l : Launch) (G : kG) (M : kM) (c t q : Nat) (T : kT) (sa : Nat → Nat) (rl : Nat → List Nat) (ex : Nat → Prop) (kd : Nat → Int32) (b n : Nat) (kb : Int32) (z : Nat) (hAB : AB G M c t q T sa rl ex kd b n kb z) (hz : z < BB) (hlen : (rl z).length < 200) (hex : ∀ x, ex x → mK M x ≠ none) (hec : ex c) (hsn : sa n = b) : Kt l G yX2_adds cX2_adds 4 none 6 161 [.ref c, .ref b] M (4) (325) (fun v M2 => v = none ∧ ∃ k T2, k ≤ (rl z).length ∧ (∀ i, i < k → crG kd kb n ((rl z).getD i 0) < 0) ∧ (k = (rl z).length ∨ ¬ crG kd kb n ((rl z).getD k 0) < 0) ∧ CM G M2 c t q T2 sa (va_up rl z ((rl z).insertIdx k n)) ex ∧ Fr (EX ex) M M2) := by
  refine Kt.of (own := "KeptLight$Coming") (L := [some (.ref c), some (.ref b), none, none]) (by decide +kernel) rfl (Nat.le_of_ble_eq_true rfl) rfl ?_
  intro pp ee ss mm args below meth cd hmn hret
  have hC := hAB.1
  obtain ⟨Kb, hb, hKb, hbg, hbn, hkb⟩ := hAB.2.2.1
  have cut43 := k43_c_X2_adds l G M c t q T sa rl ex kd b n kb z hAB hz hlen hex hec hsn pp ee ss mm args below meth cd hmn hret
  refine x_aload_n (n' := 1) dX2_adds_0 rfl rfl rfl ?_
  refine x_aload_n (n' := 2) dX2_adds_1 rfl rfl rfl ?_
  refine x_getIS (n' := 5) (K := Kb) (k := 1) dX2_adds_2 (by repeat' (first | with_reducible exact hb | with_reducible apply mK_A | with_reducible apply mK_I | with_reducible apply mK_L | with_reducible apply mK_R | with_reducible apply mK_O | with_reducible apply mK_G | with_reducible refine mK_NA ?_ (by assumption) | with_reducible refine mK_NO ?_ (by assumption))) hKb fsX2_42 (by decide) rfl ?_
  refine x_topv hAB.2.2.2 ?_
  refine x_callV (n' := 8) (n := 1) (K := 2) (c_X2_at l G _ c t q T sa rl ex z hC hz) dX2_adds_5 (hC.1.1) rfl (lw_V q2151 q2152 q2153 q79 q2154) (by decide +kernel) ⟨(Nat.le_of_ble_eq_true rfl), (Nat.le_of_ble_eq_true rfl)⟩ rfl rfl (Nat.le_of_ble_eq_true rfl) (by first | exact Nat.le_of_ble_eq_true rfl | omega) (by first | exact Nat.le_of_ble_eq_true rfl | omega) rfl (fun v_21 M_22 h_24 hE_23 => ?_)
  obtain ⟨rfl, hMs⟩ := h_24
  have hMs := hMs.symm
  subst hMs
  refine x_gen (X := fun M9 => AB G M9 c t q T sa rl ex kd b n kb z ∧ Fr (EX ex) M M9) ⟨hAB.to hC.asked hC.askF (EX.c hec), hC.askF⟩ (fun M_9 hM9 => ?_)
  obtain ⟨hAB9, hF9⟩ := hM9
  have hb9 := hF9.kE _ _ hb
  refine x_topq (fun hl9 => ?_) (fun l9 hl9 => ?_)
  · refine x_astore_nN (n' := 9) dX2_adds_8 rfl (Nat.le_of_ble_eq_true rfl) rfl (by dsimp only [List.set] <;> rfl) rfl ?_
    refine x_aload_nN (n' := 10) dX2_adds_9 rfl rfl rfl ?_
    refine x_ifnonnullN (n' := 13) dX2_adds_10 rfl ?_
    refine x_new (n' := 16) (K := 45) dX2_adds_13 (by decide) q2466 q296 q90 (by first | exact Nat.le_of_ble_eq_true rfl | omega) (by first | exact Nat.le_of_ble_eq_true rfl | omega | (show 3 ≤ _; omega)) rfl (fun l9 hq_l9 hB_l9 => ?_)
    have hE_25 := kE_nO (K := 45) hq_l9
    have k_l9 := mK_nO_of hE_25
    refine x_ghost l9 (l9 + 1) ?_
    refine x_dup (n' := 17) dX2_adds_16 rfl rfl ?_
    refine x_callI (n' := 20) (ret := none) (n := 0) (c_J5_init l G _ l9 (by repeat' (first | with_reducible exact k_l9 | with_reducible apply mK_A | with_reducible apply mK_I | with_reducible apply mK_L | with_reducible apply mK_R | with_reducible apply mK_O | with_reducible apply mK_G | with_reducible refine mK_NA ?_ (by assumption) | with_reducible refine mK_NO ?_ (by assumption) | with_reducible refine kE.ap hE_23 ?_ | with_reducible refine kE.ap hE_25 ?_))) dX2_adds_17 (lw_meth q299) q90 q2467 q298 rfl (by decide +kernel) ⟨(Nat.le_of_ble_eq_true rfl), (Nat.le_of_ble_eq_true rfl)⟩ rfl rfl (Nat.le_of_ble_eq_true rfl) (by first | exact Nat.le_of_ble_eq_true rfl | omega) (by first | exact Nat.le_of_ble_eq_true rfl | omega) rfl (fun v_26 M_27 h_29 hE_28 => ?_)
    obtain ⟨rfl, hMs⟩ := h_29
    have hMs := hMs.symm
    subst hMs
    refine x_gen (X := fun M9 => AL G M9 l9 0 0 (fun _ => 0) ∧ Fr (fun _ => False) M_9 M9) ⟨l9_al, l9_fr hq_l9⟩ (fun M_5 hM5 => ?_)
    obtain ⟨hA5, hF5⟩ := hM5
    have hAB5 := hAB9.fr hF5
    have hb5 := hF5.kE _ _ hb9
    refine x_astore_n (n' := 21) dX2_adds_20 rfl (Nat.le_of_ble_eq_true rfl) rfl (by dsimp only [List.set] <;> rfl) rfl ?_
    refine x_aload_n (n' := 22) dX2_adds_21 rfl rfl rfl ?_
    refine x_getRs (n' := 25) (b := t) dX2_adds_22 (hAB5.1.1.1) ffX2_10_2 rfl (hAB5.1.1.2.2.1) rfl ?_
    refine x_new (n' := 28) (K := 4) dX2_adds_25 (by decide) q222 q223 q83 (by first | exact Nat.le_of_ble_eq_true rfl | omega) (by first | exact Nat.le_of_ble_eq_true rfl | omega | (show 1 ≤ _; omega)) rfl (fun h9 hq_h9 hB_h9 => ?_)
    have hE_30 := kE_nO (K := 4) hq_h9
    have k_h9 := mK_nO_of hE_30
    refine x_ghost h9 (t + 1) ?_
    refine x_gen (X := fun M9 => mK M9 h9 = some 4 ∧ mG M9 h9 = t + 1 ∧ AL G M9 l9 0 0 (fun _ => 0) ∧ Fr (fun _ => False) M_9 M9) ⟨mK_nO (M := M_5), mG_sG (M := nO M_5 h9 4), hA5.fr (S := fun _ => False) (Fr.rf.obj hq_h9 (Or.inr (Or.inr (by rw [show t + 1 - 1 = t from rfl, hAB5.1.2.1.1.k]; exact fun e => by cases e)))) id, hF5.tr (Fr.rf.obj hq_h9 (Or.inr (Or.inr (by rw [show t + 1 - 1 = t from rfl, hAB5.1.2.1.1.k]; exact fun e => by cases e))))⟩ (fun M_6 hM6 => ?_)
    obtain ⟨kh6, gh6, hA6, hF6⟩ := hM6
    have hAB6 := hAB9.fr hF6
    have hb6 := hF6.kE _ _ hb9
    refine x_dup (n' := 29) dX2_adds_28 rfl rfl ?_
    refine x_aload_n (n' := 30) dX2_adds_29 rfl rfl rfl ?_
    refine x_getIS (n' := 33) (K := Kb) (k := 1) dX2_adds_30 (by repeat' (first | with_reducible exact hb6 | with_reducible apply mK_A | with_reducible apply mK_I | with_reducible apply mK_L | with_reducible apply mK_R | with_reducible apply mK_O | with_reducible apply mK_G | with_reducible refine mK_NA ?_ (by assumption) | with_reducible refine mK_NO ?_ (by assumption) | with_reducible refine kE.ap hE_23 ?_ | with_reducible refine kE.ap hE_25 ?_ | with_reducible refine kE.ap hE_28 ?_ | with_reducible refine kE.ap hE_30 ?_)) hKb fsX2_42 (by decide) rfl ?_
    refine x_topv hAB6.2.2.2 ?_
    refine x_callI (n' := 36) (ret := none) (n := 1) (c_X4_init l G _ h9 (nI z) kh6) dX2_adds_33 (lw_meth q226) q83 q224 q225 rfl (by decide +kernel) ⟨(Nat.le_of_ble_eq_true rfl), (Nat.le_of_ble_eq_true rfl)⟩ rfl rfl (Nat.le_of_ble_eq_true rfl) (by first | exact Nat.le_of_ble_eq_true rfl | omega) (by first | exact Nat.le_of_ble_eq_true rfl | omega) rfl (fun v_31 M_32 h_34 hE_33 => ?_)
    obtain ⟨rfl, hMs⟩ := h_34
    have hMs := hMs.symm
    subst hMs
    have h9n : mK M_9 h9 = none := by cases e9 : mK M_9 h9 with | none => rfl | some K9 => (have a9 := hF5.kE _ _ e9; rw [hq_h9] at a9; cases a9)
    refine x_gen (X := fun M9 => mK M9 h9 = some 4 ∧ mG M9 h9 = t + 1 ∧ mI M9 (fc 4 0) h9 = nI z ∧ AL G M9 l9 0 0 (fun _ => 0) ∧ Fr (fun _ => False) M_9 M9) ⟨kh6, gh6, mI_sI, hA6.fr (S := fun o => o = t + 1) (Fr.rf.I (Or.inr gh6)) (fun e => by have a9 := hAB6.1.2.1.1.k; rw [← Nat.succ.inj e, hA6.kk] at a9; cases a9), hF6.I (Or.inl h9n)⟩ (fun M_7 hM7 => ?_)
    obtain ⟨kh7, gh7, ih7, hA7, hF7⟩ := hM7
    have hAB7 := hAB9.fr hF7
    refine x_aload_n (n' := 37) dX2_adds_36 rfl rfl rfl ?_
    refine x_callV (n' := 40) (n := 2) (K := 41) (c_J1_put l G _ (t + 1) t q T z h9 l9 hAB7.1.2.1 (mT_n.mp hl9) ⟨kh7, gh7, fun e2 => kne hAB9.1.1.2.2.2.2.2.1 h9n e2.symm⟩ hz ih7 hA7.kk (Or.inr (by rw [show t + 1 - 1 = t from rfl, hAB7.1.2.1.1.k]; exact fun e => by cases e))) dX2_adds_37 (hAB7.1.2.1.1.k) rfl (lw_V q2468 q2469 q2470 q81 q2471) (by decide +kernel) ⟨(Nat.le_of_ble_eq_true rfl), (Nat.le_of_ble_eq_true rfl)⟩ rfl rfl (Nat.le_of_ble_eq_true rfl) (by first | exact Nat.le_of_ble_eq_true rfl | omega) (by first | exact Nat.le_of_ble_eq_true rfl | omega) rfl (fun v_35 M_8 h_37 hE_36 => ?_)
    obtain ⟨rfl, e9, T8, hT8, hN8, -, hV8, hF8⟩ := h_37
    have nl9 : mK M_9 l9 = none := hq_l9
    have hG := hAB9.1.grow hF7 nl9 hA7 (fun e9 => by have a9 := hex l9 e9; cases e8 : mK M l9 with | none => exact a9 e8 | some K9 => (have b9 := hF9.kE _ _ e8; rw [nl9] at b9; cases b9)) hz hl9 hT8 hN8 hV8 hF8
    have hAB8 := hAB9.to hG.1 hG.2.2 (EX.c hec)
    refine x_pop (n' := 41) dX2_adds_40 rfl rfl ?_
    refine x_iconst (n' := 42) (v := 0) dX2_adds_41 (by decide) rfl ?_
    refine x_istore_n (n' := 43) dX2_adds_42 rfl (Nat.le_of_ble_eq_true rfl) rfl (by dsimp only [List.set] <;> rfl) rfl ?_
    refine x_room (cb2 := 1) (sb2 := 310) (by first | exact Nat.le_of_ble_eq_true rfl | omega) (by first | exact Nat.le_of_ble_eq_true rfl | omega) ?_
    exact x_drop (cut43 ((rl z).length + 1) 0 l9 T8 _ (by omega) hAB8 hG.2.1 (hF9.tr hG.2.2) (Nat.zero_le _) (fun i hi => absurd hi (Nat.not_lt_zero i))) ⟨rfl, ⟨rfl, ⟨rfl, ⟨rfl, trivial⟩⟩⟩⟩
  · refine x_astore_n (n' := 9) dX2_adds_8 rfl (Nat.le_of_ble_eq_true rfl) rfl (by dsimp only [List.set] <;> rfl) rfl ?_
    refine x_aload_n (n' := 10) dX2_adds_9 rfl rfl rfl ?_
    refine x_ifnonnull (tgt := 41) dX2_adds_10 (by decide) ?_
    refine x_iconst (n' := 42) (v := 0) dX2_adds_41 (by decide) rfl ?_
    refine x_istore_n (n' := 43) dX2_adds_42 rfl (Nat.le_of_ble_eq_true rfl) rfl (by dsimp only [List.set] <;> rfl) rfl ?_
    refine x_room (cb2 := 1) (sb2 := 310) (by first | exact Nat.le_of_ble_eq_true rfl | omega) (by first | exact Nat.le_of_ble_eq_true rfl | omega) ?_
    exact x_drop (cut43 ((rl z).length + 1) 0 l9 T _ (by omega) hAB9 hl9 hF9 (Nat.zero_le _) (fun i hi => absurd hi (Nat.not_lt_zero i))) ⟨rfl, ⟨rfl, ⟨rfl, ⟨rfl, trivial⟩⟩⟩⟩

def T0 : kT := (fun _ => none, fun _ => 0, fun _ => 0, fun _ => none, fun _ => none, fun _ => none, fun _ => 0, none)
def tmM (M : kM) (t : Nat) : kM := sR (sI (sI (sG (nO M t 41) t (t + 1)) (fc 41 4) t 0) (fc 41 5) t 0) (fc 41 2) t none
theorem TM_new {M : kM} {t : Nat} (asd : Nat) : TM (tmM M t) (t + 1) t asd T0 := by
  have r : ∀ k, k ≠ 2 → mR (tmM M t) (fc 41 k) t = none := fun k hk => (mR_sR_c (k_fc hk)).trans (mR_NO0 (M := M) (K := 41))
  refine ⟨⟨mK_nO (M := M), mG_sG (M := nO M t 41), ⟨mR_sR, fun vs e => ?_⟩, r 3 (by decide), fun _ _ _ h => (by cases h), fun _ _ h => (by cases h)⟩, fun _ _ h => (by cases h), fun _ => 0, fun _ => 0, ?_⟩
  · rw [r 1 (by decide)] at e; cases e
  · exact ⟨fun _ h => absurd rfl h, fun _ h => absurd rfl h, fun _ _ h => absurd rfl h, fun _ h => absurd rfl h, fun _ _ h => absurd rfl h, fun _ h => absurd rfl h, fun _ _ h => absurd rfl h, fun _ _ h => absurd rfl h, fun _ h => (by cases h), fun _ _ h => absurd rfl h⟩
theorem tm_fr {M : kM} {t : Nat} {S : Nat → Prop} (hq : mK M t = none) : Fr S M (tmM M t) := (((Fr.rf.obj hq (Or.inr (Or.inl rfl))).I (Or.inl hq)).I (Or.inl hq)).R (Or.inl hq)
/-- the ships to come, just made -/
def CMi (M : kM) (c t q : Nat) (M2 : kM) : Prop := mK M2 c = some 2 ∧ mG M2 c = c + 1 ∧ mR M2 (fc 2 0) c = some t ∧ (∃ b, mR M2 (fc 2 1) c = some b ∧ mK M2 b = some 3) ∧ mR M2 (fc 2 2) c = some q ∧ mK M2 q = some 4 ∧ mG M2 q = q + 1 ∧ TM M2 (t + 1) t q T0 ∧ mK M t = none ∧ mK M q = none ∧ Fr (ow c) M M2
theorem CMi.cm {G : kG} {M M2 : kM} {c t q : Nat} {sa : Nat → Nat} {ex : Nat → Prop} (h : CMi M c t q M2) (hex : ∀ x, ex x → mK M x ≠ none) : CM G (sG M2 c 0) c t q T0 sa (fun _ => []) ex := by
  obtain ⟨h1, h2, h3, h4, h5, h6, h7, h8, h9, h10, h11⟩ := h
  have hcq : q ≠ c := fun e => by rw [e, h1] at h6; exact absurd h6 (by decide)
  have hct : t ≠ c := fun e => by have a := h8.1.k; rw [e, h1] at a; exact absurd a (by decide)
  have g : ∀ x, x ≠ c → mG (sG M2 c 0) x = mG M2 x := fun x hx => va_up_ne _ _ hx
  refine ⟨⟨h1, mG_sG, h3, h4, h5, h6, (g q hcq).trans h7⟩, ⟨⟨h8.1.k, (g t hct).trans h8.1.g, ⟨h8.1.c, fun vs e => ?_⟩, h8.1.r, fun _ _ _ h => (by cases h), fun _ _ h => (by cases h)⟩, h8.2.1, h8.2.2⟩, ⟨fun e => hex t e h9, fun e => hex q e h10⟩, fun _ _ _ => rfl, fun z l e => ?_, fun z z2 l e _ => ?_⟩
  · have b := h8.1.vc.2 vs e
    exact ⟨b.1, (g vs (fun w => by rw [w, h1] at b; exact absurd b.1 (by decide))).trans b.2.1, b.2.2⟩
  · obtain ⟨a, e1, -⟩ := mT_s e; cases e1
  · obtain ⟨a, e1, -⟩ := mT_s e; cases e1
theorem kct {M : kM} {c t : Nat} (h : mK M c = some 2) (h2 : mK M t = some 41) (e : c = t) : False := by rw [e, h2] at h; exact absurd h (by decide)
theorem nk_back {M M2 : kM} {q : Nat} (h : kE M M2) (hq : mK M2 q = none) : mK M q = none := by
  cases e : mK M q with
  | none => rfl
  | some K => (have a := h _ _ e; rw [hq] at a; cases a)
set_option maxHeartbeats 800000 in
set_option maxRecDepth 100000 in
theorem c_X2_init (l : Launch) (G : kG) (M : kM) (c : Nat) (hk : mK M c = some 2) (hg : mG M c = c + 1) : Kt l G yX2_init cX2_init 1 none 3 60 [.ref c] M (3) (10) (fun v M2 => v = none ∧ ∃ t q, CMi M c t q M2) := by
  refine Kt.of (own := "KeptLight$Coming") (L := [some (.ref c)]) (by decide +kernel) rfl (Nat.le_of_ble_eq_true rfl) rfl ?_
  intro pp ee ss mm args below meth cd hmn hret
  refine x_aload_n (n' := 1) dX2_init_0 rfl rfl rfl ?_
  refine x_objInit (n' := 4) dX2_init_1 q179 ⟨(Nat.le_of_ble_eq_true rfl), (Nat.le_of_ble_eq_true rfl)⟩ (Nat.le_of_ble_eq_true rfl) rfl ?_
  refine x_aload_n (n' := 5) dX2_init_4 rfl rfl rfl ?_
  refine x_new (n' := 8) (K := 41) dX2_init_5 (by decide) q180 q181 q81 (by first | exact Nat.le_of_ble_eq_true rfl | omega) (by first | exact Nat.le_of_ble_eq_true rfl | omega | (show 9 ≤ _; omega)) rfl (fun t hq_t hB_t => ?_)
  have hE_1 := kE_nO (K := 41) hq_t
  have k_t := mK_nO_of hE_1
  refine x_ghost t (t + 1) ?_
  refine x_dup (n' := 9) dX2_init_8 rfl rfl ?_
  refine x_callI (n' := 12) (ret := none) (n := 0) (c_J1_init l G _ t (by repeat' (first | with_reducible exact k_t | with_reducible apply mK_A | with_reducible apply mK_I | with_reducible apply mK_L | with_reducible apply mK_R | with_reducible apply mK_O | with_reducible apply mK_G | with_reducible refine mK_NA ?_ (by assumption) | with_reducible refine mK_NO ?_ (by assumption) | with_reducible refine kE.ap hE_1 ?_))) dX2_init_9 (lw_meth q184) q81 q182 q183 rfl (by decide +kernel) ⟨(Nat.le_of_ble_eq_true rfl), (Nat.le_of_ble_eq_true rfl)⟩ rfl rfl (Nat.le_of_ble_eq_true rfl) (by first | exact Nat.le_of_ble_eq_true rfl | omega) (by first | exact Nat.le_of_ble_eq_true rfl | omega) rfl (fun v_2 M_3 h_5 hE_4 => ?_)
  obtain ⟨rfl, hMs⟩ := h_5
  have hMs := hMs.symm
  subst hMs
  refine x_mem (M2 := tmM M t) rfl ?_
  have gct : mG (tmM M t) c = c + 1 := (va_up_ne _ _ (kne hk hq_t)).trans hg
  refine x_putRF (n' := 15) (v := some (t)) dX2_init_12 (by repeat' (first | with_reducible exact hk | with_reducible apply mK_A | with_reducible apply mK_I | with_reducible apply mK_L | with_reducible apply mK_R | with_reducible apply mK_O | with_reducible apply mK_G | with_reducible refine mK_NA ?_ (by assumption) | with_reducible refine mK_NO ?_ (by assumption) | with_reducible refine kE.ap hE_1 ?_ | with_reducible refine kE.ap hE_4 ?_)) ffX2_10_2 rfl rfl hmn rfl rfl ?_
  refine x_gen (X := fun M9 => (∀ asd, TM M9 (t + 1) t asd T0) ∧ mR M9 (fc 2 0) c = some t ∧ mK M9 c = some 2 ∧ mG M9 c = c + 1 ∧ Fr (ow c) M M9) ⟨fun asd => (TM_new (M := M) asd).fr (S := ow c) (Fr.rf.R (Or.inr gct)) (fun e => kne hk hq_t (Nat.succ.inj e).symm), mR_sR, (tm_fr hq_t : Fr (fun _ => False) M _).kE _ _ hk, gct, (tm_fr hq_t).R (Or.inr hg)⟩ (fun M_1 hM1 => ?_)
  obtain ⟨hT1, r1, hk1, hg1, hF1⟩ := hM1
  refine x_aload_n (n' := 16) dX2_init_15 rfl rfl rfl ?_
  refine x_new (n' := 19) (K := 3) dX2_init_16 (by decide) q215 q216 q82 (by first | exact Nat.le_of_ble_eq_true rfl | omega) (by first | exact Nat.le_of_ble_eq_true rfl | omega | (show 0 ≤ _; omega)) rfl (fun b hq_b hB_b => ?_)
  have hE_6 := kE_nO (K := 3) hq_b
  have k_b := mK_nO_of hE_6
  refine x_ghost b 0 ?_
  refine x_dup (n' := 20) dX2_init_19 rfl rfl ?_
  refine x_callIN (n' := 23) (ret := none) (n := 0) (c_X3_init l G _ b) dX2_init_20 (lw_meth q219) q217 q82 q218 rfl (by decide +kernel) ⟨(Nat.le_of_ble_eq_true rfl), (Nat.le_of_ble_eq_true rfl)⟩ rfl rfl (Nat.le_of_ble_eq_true rfl) (by first | exact Nat.le_of_ble_eq_true rfl | omega) (by first | exact Nat.le_of_ble_eq_true rfl | omega) rfl (fun v_7 M_8 h_10 hE_9 => ?_)
  obtain ⟨rfl, hMs⟩ := h_10
  have hMs := hMs.symm
  subst hMs
  have fb : Fr (fun _ => False) M_1 (sG (nO M_1 b 3) b 0) := Fr.rf.obj hq_b (Or.inl rfl)
  have gcb : mG (sG (nO M_1 b 3) b 0) c = c + 1 := (va_up_ne _ _ (kne hk1 hq_b)).trans hg1
  refine x_putRF (n' := 26) (v := some (b)) dX2_init_23 (by repeat' (first | with_reducible exact hk1 | with_reducible apply mK_A | with_reducible apply mK_I | with_reducible apply mK_L | with_reducible apply mK_R | with_reducible apply mK_O | with_reducible apply mK_G | with_reducible refine mK_NA ?_ (by assumption) | with_reducible refine mK_NO ?_ (by assumption) | with_reducible refine kE.ap hE_1 ?_ | with_reducible refine kE.ap hE_4 ?_ | with_reducible refine kE.ap hE_6 ?_ | with_reducible refine kE.ap hE_9 ?_)) ffX2_19_2 rfl rfl hmn rfl rfl ?_
  refine x_gen (X := fun M9 => (∀ asd, TM M9 (t + 1) t asd T0) ∧ mR M9 (fc 2 0) c = some t ∧ (∃ b, mR M9 (fc 2 1) c = some b ∧ mK M9 b = some 3) ∧ mK M9 c = some 2 ∧ mG M9 c = c + 1 ∧ Fr (ow c) M M9) ⟨fun asd => ((hT1 asd).fr fb id).fr (S := ow c) (Fr.rf.R (Or.inr gcb)) (fun e => kct hk1 (hT1 0).1.k (Nat.succ.inj e).symm), (mR_sR_c (by decide)).trans (mR_NO (K := 3) r1 (kne hk1 hq_b)), ⟨b, mR_sR, mK_nO (M := M_1)⟩, fb.kE _ _ hk1, gcb, hF1.tr ((fb.mono (fun _ q9 => q9.elim)).R (Or.inr hg1))⟩ (fun M_2 hM2 => ?_)
  obtain ⟨hT2, r2, rb2, hk2, hg2, hF2⟩ := hM2
  refine x_aload_n (n' := 27) dX2_init_26 rfl rfl rfl ?_
  refine x_new (n' := 30) (K := 4) dX2_init_27 (by decide) q222 q223 q83 (by first | exact Nat.le_of_ble_eq_true rfl | omega) (by first | exact Nat.le_of_ble_eq_true rfl | omega | (show 1 ≤ _; omega)) rfl (fun q hq_q hB_q => ?_)
  have hE_11 := kE_nO (K := 4) hq_q
  have k_q := mK_nO_of hE_11
  refine x_ghost q (q + 1) ?_
  refine x_dup (n' := 31) dX2_init_30 rfl rfl ?_
  refine x_iconst (n' := 32) (v := 0) dX2_init_31 (by decide) rfl ?_
  refine x_callI (n' := 35) (ret := none) (n := 1) (c_X4_init l G _ q 0 (by repeat' (first | with_reducible exact k_q | with_reducible apply mK_A | with_reducible apply mK_I | with_reducible apply mK_L | with_reducible apply mK_R | with_reducible apply mK_O | with_reducible apply mK_G | with_reducible refine mK_NA ?_ (by assumption) | with_reducible refine mK_NO ?_ (by assumption) | with_reducible refine kE.ap hE_1 ?_ | with_reducible refine kE.ap hE_4 ?_ | with_reducible refine kE.ap hE_6 ?_ | with_reducible refine kE.ap hE_9 ?_ | with_reducible refine kE.ap hE_11 ?_))) dX2_init_32 (lw_meth q226) q83 q224 q225 rfl (by decide +kernel) ⟨(Nat.le_of_ble_eq_true rfl), (Nat.le_of_ble_eq_true rfl)⟩ rfl rfl (Nat.le_of_ble_eq_true rfl) (by first | exact Nat.le_of_ble_eq_true rfl | omega) (by first | exact Nat.le_of_ble_eq_true rfl | omega) rfl (fun v_12 M_13 h_15 hE_14 => ?_)
  obtain ⟨rfl, hMs⟩ := h_15
  have hMs := hMs.symm
  subst hMs
  have fq : Fr (fun _ => False) M_2 (sI (sG (nO M_2 q 4) q (q + 1)) (fc 4 0) q 0) := (Fr.rf.obj hq_q (Or.inr (Or.inl rfl))).I (Or.inl hq_q)
  have gcq : mG (sI (sG (nO M_2 q 4) q (q + 1)) (fc 4 0) q 0) c = c + 1 := (va_up_ne _ _ (kne hk2 hq_q)).trans hg2
  refine x_putRF (n' := 38) (v := some (q)) dX2_init_35 (by repeat' (first | with_reducible exact hk2 | with_reducible apply mK_A | with_reducible apply mK_I | with_reducible apply mK_L | with_reducible apply mK_R | with_reducible apply mK_O | with_reducible apply mK_G | with_reducible refine mK_NA ?_ (by assumption) | with_reducible refine mK_NO ?_ (by assumption) | with_reducible refine kE.ap hE_1 ?_ | with_reducible refine kE.ap hE_4 ?_ | with_reducible refine kE.ap hE_6 ?_ | with_reducible refine kE.ap hE_9 ?_ | with_reducible refine kE.ap hE_11 ?_ | with_reducible refine kE.ap hE_14 ?_)) ffX2_28_2 rfl rfl hmn rfl rfl ?_
  have hFz : Fr (ow c) M (sR (sI (sG (nO M_2 q 4) q (q + 1)) (fc 4 0) q 0) (fc 2 2) c (some q)) := hF2.tr ((fq.mono (fun _ q9 => q9.elim)).R (Or.inr hg2))
  obtain ⟨b2, hb2, hb3⟩ := rb2
  exact x_vret dX2_init_38 hret hFz.kE (⟨rfl, t, q, fq.kE _ _ hk2, gcq, (mR_sR_c (by decide)).trans (mR_NO (K := 4) r2 (kne hk2 hq_q)), ⟨b2, (mR_sR_c (by decide)).trans (mR_NO (K := 4) hb2 (kne hk2 hq_q)), fq.kE _ _ hb3⟩, mR_sR, mK_nO (M := M_2), mG_sG (M := nO M_2 q 4), ((hT2 q).fr fq id).fr (S := ow c) (Fr.rf.R (Or.inr gcq)) (fun e => kct hk2 (hT2 q).1.k (Nat.succ.inj e).symm), hq_t, nk_back hF2.kE hq_q, hFz⟩)
