theorem SGP.I {G : kG} {M : kM} {sg w c b : Nat} {d lt sn v : Int32} (h : SGP G M sg w d lt sn) (h1 : fc 7 1 ≠ c) (h2 : fc 7 2 ≠ c) (h3 : fc 7 3 ≠ c) : SGP G (sI M c b v) sg w d lt sn :=
  ⟨h.1, h.2.1, (mI_sI_c h1).trans h.2.2.1, (mI_sI_c h2).trans h.2.2.2.1, (mI_sI_c h3).trans h.2.2.2.2.1, h.2.2.2.2.2⟩
theorem SGP.fr {G : kG} {M M' : kM} {sg w : Nat} {d lt sn : Int32} {S : Nat → Prop} (h : SGP G M sg w d lt sn) (hF : Fr S M M') (hS : ¬ S (mG M sg)) : SGP G M' sg w d lt sn := by
  have a := hF.1 sg (by rw [h.1]; exact fun e => by cases e)
  have b := a.2.2 hS
  exact ⟨by rw [a.1]; exact h.1, by rw [b.2.1]; exact h.2.1, by rw [b.1]; exact h.2.2.1, by rw [b.1]; exact h.2.2.2.1, by rw [b.1]; exact h.2.2.2.2.1, h.2.2.2.2.2.1, hF.kE _ _ h.2.2.2.2.2.2⟩
/-- the kind of a ship's class -/
def skd (K : Nat) : Nat := if K = 19 then 3 else if K = 20 then 4 else K - 17
def shC (K : Nat) : Prop := K = 19 ∨ K = 20 ∨ K = 22 ∨ K = 23 ∨ K = 24
theorem Kt.im {l : Launch} {G : kG} {y : MethodName} {cb : ByteArray} {nL : Nat} {ret : Option FieldType} {fr lo : Nat} {av : List Value} {M : kM} {mc ms : Nat} {Q Q' : Option Value → kM → Prop} (h : Kt l G y cb nL ret fr lo av M mc ms Q) (e_1 : ∀ v M2, Q v M2 → Q' v M2) : Kt l G y cb nL ret fr lo av M mc ms Q' := by
  intro p e ha hc hk s m args below h1 h2 h3 h4
  obtain ⟨n, o, a1, a2, a3, ⟨⟨⟨v, M', b1, b2, b3⟩, b4⟩, a5⟩⟩ := h p e ha hc hk s m args below h1 h2 h3 h4
  exact ⟨n, o, a1, a2, a3, ⟨⟨⟨v, M', b1, e_1 v M' b2, b3⟩, b4⟩, a5⟩⟩
/-- a ship: class K, number, hour, fate, met; whose -/
def SHP (M : kM) (b K : Nat) (n h f m : Int32) (o : Nat) : Prop := mK M b = some K ∧ shC K ∧ mG M b = o ∧ mI M (fc 19 0) b = n ∧ mI M (fc 19 1) b = h ∧ mI M (fc 19 2) b = f ∧ mI M (fc 19 3) b = m
def shI (M : kM) (b : Nat) (n h : Int32) : kM := sI (sI (sI (sI M (fc 19 2) b (-1)) (fc 19 3) b (-1)) (fc 19 0) b n) (fc 19 1) b h
theorem ship_out {k : Int32} (hk : 3 ≤ k ∧ k ≤ 7) (h3 : ¬ k = 3) (h4 : ¬ k = 4) (h5 : ¬ k = 5) (h6 : ¬ k = 6) : (6 : Int) < k.toInt := by
  have a := Int32.le_iff_toInt_le.mp hk.1
  have b3 : k.toInt ≠ 3 := fun q => h3 (Int32.toInt_inj.mp q)
  have b4 : k.toInt ≠ 4 := fun q => h4 (Int32.toInt_inj.mp q)
  have b5 : k.toInt ≠ 5 := fun q => h5 (Int32.toInt_inj.mp q)
  have b6 : k.toInt ≠ 6 := fun q => h6 (Int32.toInt_inj.mp q)
  have c : (3 : Int32).toInt = 3 := rfl
  omega
theorem ship_k7 {k : Int32} (hk : 3 ≤ k ∧ k ≤ 7) (h3 : ¬ k = 3) (h4 : ¬ k = 4) (h5 : ¬ k = 5) (h6 : ¬ k = 6) : k = 7 := by
  have a := ship_out hk h3 h4 h5 h6
  have b := Int32.le_iff_toInt_le.mp hk.2
  have c : (7 : Int32).toInt = 7 := rfl
  exact Int32.toInt_inj.mp (by omega)
theorem SHP_new {M : kM} {b K o : Nat} {n h : Int32} (hC : shC K) : SHP (shI (sG (nO M b K) b o) b n h) b K n h (-1) (-1) o :=
  ⟨mK_nO (M := M), hC, mG_sG (M := nO M b K), by unfold shI; rw [mI_sI_c (by decide), mI_sI], by unfold shI; rw [mI_sI], by unfold shI; rw [mI_sI_c (by decide), mI_sI_c (by decide), mI_sI_c (by decide), mI_sI], by unfold shI; rw [mI_sI_c (by decide), mI_sI_c (by decide), mI_sI]⟩
theorem shI_fr {S : Nat → Prop} {M : kM} {b K o : Nat} {n h : Int32} (hq : mK M b = none) (ho : o = 0 ∨ o = b + 1 ∨ mK M (o - 1) ≠ none) : Fr S M (shI (sG (nO M b K) b o) b n h) := ((((Fr.rf.obj hq ho).I (Or.inl hq)).I (Or.inl hq)).I (Or.inl hq)).I (Or.inl hq)
theorem ffX7_17_7 : FF "KeptLight$Sight" 17 7 2 "KeptLight$Sight" := ⟨by decide, by decide, q272, Or.inl rfl⟩
theorem ffX7_20_7 : FF "KeptLight$Sight" 20 7 3 "KeptLight$Sight" := ⟨by decide, by decide, q275, Or.inl rfl⟩
set_option maxHeartbeats 800000 in
set_option maxRecDepth 100000 in
theorem c_X7_met (l : Launch) (G : kG) (M : kM) (sg w : Nat) (d lt sn : Int32) (hs : SGP G M sg w d lt sn) : Kt l G yX7_met cX7_met 1 (some .int) 0 0 [.ref sg] M (0) (0) (fun v M2 => v = some (.int ((if lt = 0 then 0 else 1) + (if sn = 0 then 0 else 2))) ∧ M2 = M) := by
  refine Kt.of (own := "KeptLight$Sight") (L := [some (.ref sg)]) (by decide +kernel) rfl (Nat.le_of_ble_eq_true rfl) rfl ?_
  intro pp ee ss mm args below meth cd hmn hret
  have hsk : mK M sg = some 7 := hs.1
  have hw := hs.2.2.2.2.2.1
  have hkw : mK M (G.2.2.2 w) = some (200 + w) := hs.2.2.2.2.2.2
  have hrw : mR M (fc 7 0) sg = some (G.2.2.2 w) := hs.2.1
  have hd : mI M (fc 7 1) sg = d := hs.2.2.1
  have hl9 : mI M (fc 7 2) sg = lt := hs.2.2.2.1
  have hsn : mI M (fc 7 3) sg = sn := hs.2.2.2.2.1
  refine x_aload_n (n' := 1) dX7_met_0 rfl rfl rfl ?_
  refine x_getI (n' := 4) dX7_met_1 (by repeat' (first | with_reducible exact hsk | with_reducible apply mK_A | with_reducible apply mK_I | with_reducible apply mK_L | with_reducible apply mK_R | with_reducible apply mK_O | with_reducible apply mK_G | with_reducible refine mK_NA ?_ (by assumption) | with_reducible refine mK_NO ?_ (by assumption))) ffX7_17_7 rfl rfl ?_
  refine x_topv hl9 ?_
  refine x_fork (J := 12) (x_if_eq (n' := 7) (tgt := 11) dX7_met_4 (by decide) rfl) (v1 := ?v1_f4_1) (v2 := ?v2_f4_1) (fun c_f4_1 j_f4_1 => ?b1_f4_1) (fun c_f4_1 j_f4_1 => ?b2_f4_1) ?k_f4_1
  case b1_f4_1 =>
    refine x_iconst (n' := 12) (v := 0) dX7_met_11 (by decide) rfl ?_
    exact j_f4_1
  case b2_f4_1 =>
    refine x_iconst (n' := 8) (v := 1) dX7_met_7 (by decide) rfl ?_
    refine x_goto (tgt := 12) dX7_met_8 (by decide) ?_
    exact j_f4_1
  refine x_aload_n (n' := 13) dX7_met_12 rfl rfl rfl ?_
  refine x_getI (n' := 16) dX7_met_13 (by repeat' (first | with_reducible exact hsk | with_reducible apply mK_A | with_reducible apply mK_I | with_reducible apply mK_L | with_reducible apply mK_R | with_reducible apply mK_O | with_reducible apply mK_G | with_reducible refine mK_NA ?_ (by assumption) | with_reducible refine mK_NO ?_ (by assumption))) ffX7_20_7 rfl rfl ?_
  refine x_topv hsn ?_
  refine x_fork (J := 24) (x_if_eq (n' := 19) (tgt := 23) dX7_met_16 (by decide) rfl) (v1 := ?v1_f16_2) (v2 := ?v2_f16_2) (fun c_f16_2 j_f16_2 => ?b1_f16_2) (fun c_f16_2 j_f16_2 => ?b2_f16_2) ?k_f16_2
  case b1_f16_2 =>
    refine x_iconst (n' := 24) (v := 0) dX7_met_23 (by decide) rfl ?_
    exact j_f16_2
  case b2_f16_2 =>
    refine x_iconst (n' := 20) (v := 2) dX7_met_19 (by decide) rfl ?_
    refine x_goto (tgt := 24) dX7_met_20 (by decide) ?_
    exact j_f16_2
  refine x_iadd (n' := 25) dX7_met_24 rfl ?_
  exact x_iret dX7_met_25 hret (by repeat' (first | with_reducible exact kE.rf | with_reducible apply kE_A | with_reducible apply kE_I | with_reducible apply kE_L | with_reducible apply kE_R | with_reducible apply kE_O | with_reducible apply kE_G)) (⟨rfl, rfl⟩)

theorem ffX17_9_19 : FF "KeptLight$Ship" 9 19 2 "KeptLight$Ship" := ⟨by decide, by decide, q2076, Or.inl rfl⟩
theorem ffX17_15_19 : FF "KeptLight$Ship" 15 19 3 "KeptLight$Ship" := ⟨by decide, by decide, q2087, Or.inl rfl⟩
set_option maxHeartbeats 800000 in
set_option maxRecDepth 100000 in
theorem c_X17_passes__19 (l : Launch) (G : kG) (M : kM) (b sg w : Nat) (d lt sn : Int32) (hs : SGP G M sg w d lt sn) (hb : mK M b = some 19) : Kt l G yX17_passes cX17_passes 2 none 5 105 [.ref b, .ref sg] M (0) (0) (fun v M2 => v = none ∧ M2 = sI (sI M (fc 19 2) b (fateP 3 (lacksG 3 d lt sn (nI w)) (nI w))) (fc 19 3) b ((if lt = 0 then 0 else 1) + (if sn = 0 then 0 else 2))) := by
  refine Kt.of (own := "KeptLight$Ship") (L := [some (.ref b), some (.ref sg)]) (by decide +kernel) rfl (Nat.le_of_ble_eq_true rfl) rfl ?_
  intro pp ee ss mm args below meth cd hmn hret
  have hsk : mK M sg = some 7 := hs.1
  have hw := hs.2.2.2.2.2.1
  have hkw : mK M (G.2.2.2 w) = some (200 + w) := hs.2.2.2.2.2.2
  have hrw : mR M (fc 7 0) sg = some (G.2.2.2 w) := hs.2.1
  have hd : mI M (fc 7 1) sg = d := hs.2.2.1
  have hl9 : mI M (fc 7 2) sg = lt := hs.2.2.2.1
  have hsn : mI M (fc 7 3) sg = sn := hs.2.2.2.2.1
  refine x_aload_n (n' := 1) dX17_passes_0 rfl rfl rfl ?_
  refine x_aload_n (n' := 2) dX17_passes_1 rfl rfl rfl ?_
  refine x_aload_n (n' := 3) dX17_passes_2 rfl rfl rfl ?_
  refine x_callU (n' := 6) (n := 1) (K := 19) (x := ⟨"KeptLight$Ship", "becomes", "(LKeptLight$Sight;)I"⟩) (owner := "KeptLight$Ship") (c_X17_becomes__19 l G _ b sg w d lt sn hs hb) dX17_passes_3 (by repeat' (first | with_reducible exact hb | with_reducible apply mK_A | with_reducible apply mK_I | with_reducible apply mK_L | with_reducible apply mK_R | with_reducible apply mK_O | with_reducible apply mK_G | with_reducible refine mK_NA ?_ (by assumption) | with_reducible refine mK_NO ?_ (by assumption))) rfl (lw_U5 q2725 q2661 q2663 q2660 q142 q2667) rfl (by decide +kernel) ⟨(Nat.le_of_ble_eq_true rfl), (Nat.le_of_ble_eq_true rfl)⟩ rfl rfl (Nat.le_of_ble_eq_true rfl) (by first | exact Nat.le_of_ble_eq_true rfl | omega) (by first | exact Nat.le_of_ble_eq_true rfl | omega) rfl (fun v_1 M_2 h_4 hE_3 => ?_)
  obtain ⟨rfl, hMs⟩ := h_4
  have hMs := hMs.symm
  subst hMs
  refine x_putI (n' := 9) dX17_passes_6 (by repeat' (first | with_reducible exact hb | with_reducible apply mK_A | with_reducible apply mK_I | with_reducible apply mK_L | with_reducible apply mK_R | with_reducible apply mK_O | with_reducible apply mK_G | with_reducible refine mK_NA ?_ (by assumption) | with_reducible refine mK_NO ?_ (by assumption) | with_reducible refine kE.ap hE_3 ?_)) ffX17_9_19 rfl (⟨rfl, rfl⟩) rfl rfl ?_
  refine x_aload_n (n' := 10) dX17_passes_9 rfl rfl rfl ?_
  refine x_aload_n (n' := 11) dX17_passes_10 rfl rfl rfl ?_
  refine x_callV (n' := 14) (n := 0) (K := 7) (c_X7_met l G _ sg w d lt sn (hs.I (by decide) (by decide) (by decide))) dX17_passes_11 (by repeat' (first | with_reducible exact hsk | with_reducible apply mK_A | with_reducible apply mK_I | with_reducible apply mK_L | with_reducible apply mK_R | with_reducible apply mK_O | with_reducible apply mK_G | with_reducible refine mK_NA ?_ (by assumption) | with_reducible refine mK_NO ?_ (by assumption) | with_reducible refine kE.ap hE_3 ?_)) rfl (lw_V q2726 q2727 q2728 q87 q2729) (by decide +kernel) ⟨(Nat.le_of_ble_eq_true rfl), (Nat.le_of_ble_eq_true rfl)⟩ rfl rfl (Nat.le_of_ble_eq_true rfl) (by first | exact Nat.le_of_ble_eq_true rfl | omega) (by first | exact Nat.le_of_ble_eq_true rfl | omega) rfl (fun v_5 M_6 h_8 hE_7 => ?_)
  obtain ⟨rfl, hMs⟩ := h_8
  have hMs := hMs.symm
  subst hMs
  refine x_putI (n' := 17) dX17_passes_14 (by repeat' (first | with_reducible exact hb | with_reducible apply mK_A | with_reducible apply mK_I | with_reducible apply mK_L | with_reducible apply mK_R | with_reducible apply mK_O | with_reducible apply mK_G | with_reducible refine mK_NA ?_ (by assumption) | with_reducible refine mK_NO ?_ (by assumption) | with_reducible refine kE.ap hE_3 ?_ | with_reducible refine kE.ap hE_7 ?_)) ffX17_15_19 rfl (⟨rfl, rfl⟩) rfl rfl ?_
  exact x_vret dX17_passes_17 hret (by repeat' (first | with_reducible exact kE.rf | with_reducible exact hE_3 | with_reducible exact hE_7 | with_reducible apply kE_A | with_reducible apply kE_I | with_reducible apply kE_L | with_reducible apply kE_R | with_reducible apply kE_O | with_reducible apply kE_G | with_reducible refine kE.tr ?_ hE_3 | with_reducible refine kE.tr ?_ hE_7)) (⟨rfl, rfl⟩)

theorem ffX17_9_20 : FF "KeptLight$Ship" 9 20 2 "KeptLight$Ship" := ⟨by decide, by decide, q2076, Or.inl rfl⟩
theorem ffX17_15_20 : FF "KeptLight$Ship" 15 20 3 "KeptLight$Ship" := ⟨by decide, by decide, q2087, Or.inl rfl⟩
set_option maxHeartbeats 800000 in
set_option maxRecDepth 100000 in
theorem c_X17_passes__20 (l : Launch) (G : kG) (M : kM) (b sg w : Nat) (d lt sn : Int32) (hs : SGP G M sg w d lt sn) (hb : mK M b = some 20) : Kt l G yX17_passes cX17_passes 2 none 5 105 [.ref b, .ref sg] M (0) (0) (fun v M2 => v = none ∧ M2 = sI (sI M (fc 19 2) b (fateP 4 (lacksG 4 d lt sn (nI w)) (nI w))) (fc 19 3) b ((if lt = 0 then 0 else 1) + (if sn = 0 then 0 else 2))) := by
  refine Kt.of (own := "KeptLight$Ship") (L := [some (.ref b), some (.ref sg)]) (by decide +kernel) rfl (Nat.le_of_ble_eq_true rfl) rfl ?_
  intro pp ee ss mm args below meth cd hmn hret
  have hsk : mK M sg = some 7 := hs.1
  have hw := hs.2.2.2.2.2.1
  have hkw : mK M (G.2.2.2 w) = some (200 + w) := hs.2.2.2.2.2.2
  have hrw : mR M (fc 7 0) sg = some (G.2.2.2 w) := hs.2.1
  have hd : mI M (fc 7 1) sg = d := hs.2.2.1
  have hl9 : mI M (fc 7 2) sg = lt := hs.2.2.2.1
  have hsn : mI M (fc 7 3) sg = sn := hs.2.2.2.2.1
  refine x_aload_n (n' := 1) dX17_passes_0 rfl rfl rfl ?_
  refine x_aload_n (n' := 2) dX17_passes_1 rfl rfl rfl ?_
  refine x_aload_n (n' := 3) dX17_passes_2 rfl rfl rfl ?_
  refine x_callU (n' := 6) (n := 1) (K := 20) (x := ⟨"KeptLight$Ship", "becomes", "(LKeptLight$Sight;)I"⟩) (owner := "KeptLight$Ship") (c_X17_becomes__20 l G _ b sg w d lt sn hs hb) dX17_passes_3 (by repeat' (first | with_reducible exact hb | with_reducible apply mK_A | with_reducible apply mK_I | with_reducible apply mK_L | with_reducible apply mK_R | with_reducible apply mK_O | with_reducible apply mK_G | with_reducible refine mK_NA ?_ (by assumption) | with_reducible refine mK_NO ?_ (by assumption))) rfl (lw_U5 q2725 q2661 q2666 q2660 q142 q2667) rfl (by decide +kernel) ⟨(Nat.le_of_ble_eq_true rfl), (Nat.le_of_ble_eq_true rfl)⟩ rfl rfl (Nat.le_of_ble_eq_true rfl) (by first | exact Nat.le_of_ble_eq_true rfl | omega) (by first | exact Nat.le_of_ble_eq_true rfl | omega) rfl (fun v_1 M_2 h_4 hE_3 => ?_)
  obtain ⟨rfl, hMs⟩ := h_4
  have hMs := hMs.symm
  subst hMs
  refine x_putI (n' := 9) dX17_passes_6 (by repeat' (first | with_reducible exact hb | with_reducible apply mK_A | with_reducible apply mK_I | with_reducible apply mK_L | with_reducible apply mK_R | with_reducible apply mK_O | with_reducible apply mK_G | with_reducible refine mK_NA ?_ (by assumption) | with_reducible refine mK_NO ?_ (by assumption) | with_reducible refine kE.ap hE_3 ?_)) ffX17_9_20 rfl (⟨rfl, rfl⟩) rfl rfl ?_
  refine x_aload_n (n' := 10) dX17_passes_9 rfl rfl rfl ?_
  refine x_aload_n (n' := 11) dX17_passes_10 rfl rfl rfl ?_
  refine x_callV (n' := 14) (n := 0) (K := 7) (c_X7_met l G _ sg w d lt sn (hs.I (by decide) (by decide) (by decide))) dX17_passes_11 (by repeat' (first | with_reducible exact hsk | with_reducible apply mK_A | with_reducible apply mK_I | with_reducible apply mK_L | with_reducible apply mK_R | with_reducible apply mK_O | with_reducible apply mK_G | with_reducible refine mK_NA ?_ (by assumption) | with_reducible refine mK_NO ?_ (by assumption) | with_reducible refine kE.ap hE_3 ?_)) rfl (lw_V q2726 q2727 q2728 q87 q2729) (by decide +kernel) ⟨(Nat.le_of_ble_eq_true rfl), (Nat.le_of_ble_eq_true rfl)⟩ rfl rfl (Nat.le_of_ble_eq_true rfl) (by first | exact Nat.le_of_ble_eq_true rfl | omega) (by first | exact Nat.le_of_ble_eq_true rfl | omega) rfl (fun v_5 M_6 h_8 hE_7 => ?_)
  obtain ⟨rfl, hMs⟩ := h_8
  have hMs := hMs.symm
  subst hMs
  refine x_putI (n' := 17) dX17_passes_14 (by repeat' (first | with_reducible exact hb | with_reducible apply mK_A | with_reducible apply mK_I | with_reducible apply mK_L | with_reducible apply mK_R | with_reducible apply mK_O | with_reducible apply mK_G | with_reducible refine mK_NA ?_ (by assumption) | with_reducible refine mK_NO ?_ (by assumption) | with_reducible refine kE.ap hE_3 ?_ | with_reducible refine kE.ap hE_7 ?_)) ffX17_15_20 rfl (⟨rfl, rfl⟩) rfl rfl ?_
  exact x_vret dX17_passes_17 hret (by repeat' (first | with_reducible exact kE.rf | with_reducible exact hE_3 | with_reducible exact hE_7 | with_reducible apply kE_A | with_reducible apply kE_I | with_reducible apply kE_L | with_reducible apply kE_R | with_reducible apply kE_O | with_reducible apply kE_G | with_reducible refine kE.tr ?_ hE_3 | with_reducible refine kE.tr ?_ hE_7)) (⟨rfl, rfl⟩)

theorem ffX17_9_22 : FF "KeptLight$Ship" 9 22 2 "KeptLight$Ship" := ⟨by decide, by decide, q2076, Or.inl rfl⟩
theorem ffX17_15_22 : FF "KeptLight$Ship" 15 22 3 "KeptLight$Ship" := ⟨by decide, by decide, q2087, Or.inl rfl⟩
set_option maxHeartbeats 800000 in
set_option maxRecDepth 100000 in
theorem c_X17_passes__22 (l : Launch) (G : kG) (M : kM) (b sg w : Nat) (d lt sn : Int32) (hs : SGP G M sg w d lt sn) (hb : mK M b = some 22) : Kt l G yX17_passes cX17_passes 2 none 4 84 [.ref b, .ref sg] M (0) (0) (fun v M2 => v = none ∧ M2 = sI (sI M (fc 19 2) b (fateP 5 (lacksG 5 d lt sn (nI w)) (nI w))) (fc 19 3) b ((if lt = 0 then 0 else 1) + (if sn = 0 then 0 else 2))) := by
  refine Kt.of (own := "KeptLight$Ship") (L := [some (.ref b), some (.ref sg)]) (by decide +kernel) rfl (Nat.le_of_ble_eq_true rfl) rfl ?_
  intro pp ee ss mm args below meth cd hmn hret
  have hsk : mK M sg = some 7 := hs.1
  have hw := hs.2.2.2.2.2.1
  have hkw : mK M (G.2.2.2 w) = some (200 + w) := hs.2.2.2.2.2.2
  have hrw : mR M (fc 7 0) sg = some (G.2.2.2 w) := hs.2.1
  have hd : mI M (fc 7 1) sg = d := hs.2.2.1
  have hl9 : mI M (fc 7 2) sg = lt := hs.2.2.2.1
  have hsn : mI M (fc 7 3) sg = sn := hs.2.2.2.2.1
  refine x_aload_n (n' := 1) dX17_passes_0 rfl rfl rfl ?_
  refine x_aload_n (n' := 2) dX17_passes_1 rfl rfl rfl ?_
  refine x_aload_n (n' := 3) dX17_passes_2 rfl rfl rfl ?_
  refine x_callU (n' := 6) (n := 1) (K := 22) (x := ⟨"KeptLight$Ship", "becomes", "(LKeptLight$Sight;)I"⟩) (owner := "KeptLight$Ship") (c_X17_becomes__22 l G _ b sg w d lt sn hs hb) dX17_passes_3 (by repeat' (first | with_reducible exact hb | with_reducible apply mK_A | with_reducible apply mK_I | with_reducible apply mK_L | with_reducible apply mK_R | with_reducible apply mK_O | with_reducible apply mK_G | with_reducible refine mK_NA ?_ (by assumption) | with_reducible refine mK_NO ?_ (by assumption))) rfl (lw_U5 q2725 q2661 q2662 q2660 q142 q2667) rfl (by decide +kernel) ⟨(Nat.le_of_ble_eq_true rfl), (Nat.le_of_ble_eq_true rfl)⟩ rfl rfl (Nat.le_of_ble_eq_true rfl) (by first | exact Nat.le_of_ble_eq_true rfl | omega) (by first | exact Nat.le_of_ble_eq_true rfl | omega) rfl (fun v_1 M_2 h_4 hE_3 => ?_)
  obtain ⟨rfl, hMs⟩ := h_4
  have hMs := hMs.symm
  subst hMs
  refine x_putI (n' := 9) dX17_passes_6 (by repeat' (first | with_reducible exact hb | with_reducible apply mK_A | with_reducible apply mK_I | with_reducible apply mK_L | with_reducible apply mK_R | with_reducible apply mK_O | with_reducible apply mK_G | with_reducible refine mK_NA ?_ (by assumption) | with_reducible refine mK_NO ?_ (by assumption) | with_reducible refine kE.ap hE_3 ?_)) ffX17_9_22 rfl (⟨rfl, rfl⟩) rfl rfl ?_
  refine x_aload_n (n' := 10) dX17_passes_9 rfl rfl rfl ?_
  refine x_aload_n (n' := 11) dX17_passes_10 rfl rfl rfl ?_
  refine x_callV (n' := 14) (n := 0) (K := 7) (c_X7_met l G _ sg w d lt sn (hs.I (by decide) (by decide) (by decide))) dX17_passes_11 (by repeat' (first | with_reducible exact hsk | with_reducible apply mK_A | with_reducible apply mK_I | with_reducible apply mK_L | with_reducible apply mK_R | with_reducible apply mK_O | with_reducible apply mK_G | with_reducible refine mK_NA ?_ (by assumption) | with_reducible refine mK_NO ?_ (by assumption) | with_reducible refine kE.ap hE_3 ?_)) rfl (lw_V q2726 q2727 q2728 q87 q2729) (by decide +kernel) ⟨(Nat.le_of_ble_eq_true rfl), (Nat.le_of_ble_eq_true rfl)⟩ rfl rfl (Nat.le_of_ble_eq_true rfl) (by first | exact Nat.le_of_ble_eq_true rfl | omega) (by first | exact Nat.le_of_ble_eq_true rfl | omega) rfl (fun v_5 M_6 h_8 hE_7 => ?_)
  obtain ⟨rfl, hMs⟩ := h_8
  have hMs := hMs.symm
  subst hMs
  refine x_putI (n' := 17) dX17_passes_14 (by repeat' (first | with_reducible exact hb | with_reducible apply mK_A | with_reducible apply mK_I | with_reducible apply mK_L | with_reducible apply mK_R | with_reducible apply mK_O | with_reducible apply mK_G | with_reducible refine mK_NA ?_ (by assumption) | with_reducible refine mK_NO ?_ (by assumption) | with_reducible refine kE.ap hE_3 ?_ | with_reducible refine kE.ap hE_7 ?_)) ffX17_15_22 rfl (⟨rfl, rfl⟩) rfl rfl ?_
  exact x_vret dX17_passes_17 hret (by repeat' (first | with_reducible exact kE.rf | with_reducible exact hE_3 | with_reducible exact hE_7 | with_reducible apply kE_A | with_reducible apply kE_I | with_reducible apply kE_L | with_reducible apply kE_R | with_reducible apply kE_O | with_reducible apply kE_G | with_reducible refine kE.tr ?_ hE_3 | with_reducible refine kE.tr ?_ hE_7)) (⟨rfl, rfl⟩)

theorem ffX17_9_23 : FF "KeptLight$Ship" 9 23 2 "KeptLight$Ship" := ⟨by decide, by decide, q2076, Or.inl rfl⟩
theorem ffX17_15_23 : FF "KeptLight$Ship" 15 23 3 "KeptLight$Ship" := ⟨by decide, by decide, q2087, Or.inl rfl⟩
set_option maxHeartbeats 800000 in
set_option maxRecDepth 100000 in
theorem c_X17_passes__23 (l : Launch) (G : kG) (M : kM) (b sg w : Nat) (d lt sn : Int32) (hs : SGP G M sg w d lt sn) (hb : mK M b = some 23) : Kt l G yX17_passes cX17_passes 2 none 4 84 [.ref b, .ref sg] M (0) (0) (fun v M2 => v = none ∧ M2 = sI (sI M (fc 19 2) b (fateP 6 (lacksG 6 d lt sn (nI w)) (nI w))) (fc 19 3) b ((if lt = 0 then 0 else 1) + (if sn = 0 then 0 else 2))) := by
  refine Kt.of (own := "KeptLight$Ship") (L := [some (.ref b), some (.ref sg)]) (by decide +kernel) rfl (Nat.le_of_ble_eq_true rfl) rfl ?_
  intro pp ee ss mm args below meth cd hmn hret
  have hsk : mK M sg = some 7 := hs.1
  have hw := hs.2.2.2.2.2.1
  have hkw : mK M (G.2.2.2 w) = some (200 + w) := hs.2.2.2.2.2.2
  have hrw : mR M (fc 7 0) sg = some (G.2.2.2 w) := hs.2.1
  have hd : mI M (fc 7 1) sg = d := hs.2.2.1
  have hl9 : mI M (fc 7 2) sg = lt := hs.2.2.2.1
  have hsn : mI M (fc 7 3) sg = sn := hs.2.2.2.2.1
  refine x_aload_n (n' := 1) dX17_passes_0 rfl rfl rfl ?_
  refine x_aload_n (n' := 2) dX17_passes_1 rfl rfl rfl ?_
  refine x_aload_n (n' := 3) dX17_passes_2 rfl rfl rfl ?_
  refine x_callU (n' := 6) (n := 1) (K := 23) (x := ⟨"KeptLight$Ship", "becomes", "(LKeptLight$Sight;)I"⟩) (owner := "KeptLight$Ship") (c_X17_becomes__23 l G _ b sg w d lt sn hs hb) dX17_passes_3 (by repeat' (first | with_reducible exact hb | with_reducible apply mK_A | with_reducible apply mK_I | with_reducible apply mK_L | with_reducible apply mK_R | with_reducible apply mK_O | with_reducible apply mK_G | with_reducible refine mK_NA ?_ (by assumption) | with_reducible refine mK_NO ?_ (by assumption))) rfl (lw_U5 q2725 q2661 q2664 q2660 q142 q2667) rfl (by decide +kernel) ⟨(Nat.le_of_ble_eq_true rfl), (Nat.le_of_ble_eq_true rfl)⟩ rfl rfl (Nat.le_of_ble_eq_true rfl) (by first | exact Nat.le_of_ble_eq_true rfl | omega) (by first | exact Nat.le_of_ble_eq_true rfl | omega) rfl (fun v_1 M_2 h_4 hE_3 => ?_)
  obtain ⟨rfl, hMs⟩ := h_4
  have hMs := hMs.symm
  subst hMs
  refine x_putI (n' := 9) dX17_passes_6 (by repeat' (first | with_reducible exact hb | with_reducible apply mK_A | with_reducible apply mK_I | with_reducible apply mK_L | with_reducible apply mK_R | with_reducible apply mK_O | with_reducible apply mK_G | with_reducible refine mK_NA ?_ (by assumption) | with_reducible refine mK_NO ?_ (by assumption) | with_reducible refine kE.ap hE_3 ?_)) ffX17_9_23 rfl (⟨rfl, rfl⟩) rfl rfl ?_
  refine x_aload_n (n' := 10) dX17_passes_9 rfl rfl rfl ?_
  refine x_aload_n (n' := 11) dX17_passes_10 rfl rfl rfl ?_
  refine x_callV (n' := 14) (n := 0) (K := 7) (c_X7_met l G _ sg w d lt sn (hs.I (by decide) (by decide) (by decide))) dX17_passes_11 (by repeat' (first | with_reducible exact hsk | with_reducible apply mK_A | with_reducible apply mK_I | with_reducible apply mK_L | with_reducible apply mK_R | with_reducible apply mK_O | with_reducible apply mK_G | with_reducible refine mK_NA ?_ (by assumption) | with_reducible refine mK_NO ?_ (by assumption) | with_reducible refine kE.ap hE_3 ?_)) rfl (lw_V q2726 q2727 q2728 q87 q2729) (by decide +kernel) ⟨(Nat.le_of_ble_eq_true rfl), (Nat.le_of_ble_eq_true rfl)⟩ rfl rfl (Nat.le_of_ble_eq_true rfl) (by first | exact Nat.le_of_ble_eq_true rfl | omega) (by first | exact Nat.le_of_ble_eq_true rfl | omega) rfl (fun v_5 M_6 h_8 hE_7 => ?_)
  obtain ⟨rfl, hMs⟩ := h_8
  have hMs := hMs.symm
  subst hMs
  refine x_putI (n' := 17) dX17_passes_14 (by repeat' (first | with_reducible exact hb | with_reducible apply mK_A | with_reducible apply mK_I | with_reducible apply mK_L | with_reducible apply mK_R | with_reducible apply mK_O | with_reducible apply mK_G | with_reducible refine mK_NA ?_ (by assumption) | with_reducible refine mK_NO ?_ (by assumption) | with_reducible refine kE.ap hE_3 ?_ | with_reducible refine kE.ap hE_7 ?_)) ffX17_15_23 rfl (⟨rfl, rfl⟩) rfl rfl ?_
  exact x_vret dX17_passes_17 hret (by repeat' (first | with_reducible exact kE.rf | with_reducible exact hE_3 | with_reducible exact hE_7 | with_reducible apply kE_A | with_reducible apply kE_I | with_reducible apply kE_L | with_reducible apply kE_R | with_reducible apply kE_O | with_reducible apply kE_G | with_reducible refine kE.tr ?_ hE_3 | with_reducible refine kE.tr ?_ hE_7)) (⟨rfl, rfl⟩)

theorem ffX17_9_24 : FF "KeptLight$Ship" 9 24 2 "KeptLight$Ship" := ⟨by decide, by decide, q2076, Or.inl rfl⟩
theorem ffX17_15_24 : FF "KeptLight$Ship" 15 24 3 "KeptLight$Ship" := ⟨by decide, by decide, q2087, Or.inl rfl⟩
set_option maxHeartbeats 800000 in
set_option maxRecDepth 100000 in
theorem c_X17_passes__24 (l : Launch) (G : kG) (M : kM) (b sg w : Nat) (d lt sn : Int32) (hs : SGP G M sg w d lt sn) (hb : mK M b = some 24) : Kt l G yX17_passes cX17_passes 2 none 5 105 [.ref b, .ref sg] M (0) (0) (fun v M2 => v = none ∧ M2 = sI (sI M (fc 19 2) b (fateP 7 (lacksG 7 d lt sn (nI w)) (nI w))) (fc 19 3) b ((if lt = 0 then 0 else 1) + (if sn = 0 then 0 else 2))) := by
  refine Kt.of (own := "KeptLight$Ship") (L := [some (.ref b), some (.ref sg)]) (by decide +kernel) rfl (Nat.le_of_ble_eq_true rfl) rfl ?_
  intro pp ee ss mm args below meth cd hmn hret
  have hsk : mK M sg = some 7 := hs.1
  have hw := hs.2.2.2.2.2.1
  have hkw : mK M (G.2.2.2 w) = some (200 + w) := hs.2.2.2.2.2.2
  have hrw : mR M (fc 7 0) sg = some (G.2.2.2 w) := hs.2.1
  have hd : mI M (fc 7 1) sg = d := hs.2.2.1
  have hl9 : mI M (fc 7 2) sg = lt := hs.2.2.2.1
  have hsn : mI M (fc 7 3) sg = sn := hs.2.2.2.2.1
  refine x_aload_n (n' := 1) dX17_passes_0 rfl rfl rfl ?_
  refine x_aload_n (n' := 2) dX17_passes_1 rfl rfl rfl ?_
  refine x_aload_n (n' := 3) dX17_passes_2 rfl rfl rfl ?_
  refine x_callU (n' := 6) (n := 1) (K := 24) (x := ⟨"KeptLight$Ship", "becomes", "(LKeptLight$Sight;)I"⟩) (owner := "KeptLight$Ship") (c_X17_becomes__24 l G _ b sg w d lt sn hs hb) dX17_passes_3 (by repeat' (first | with_reducible exact hb | with_reducible apply mK_A | with_reducible apply mK_I | with_reducible apply mK_L | with_reducible apply mK_R | with_reducible apply mK_O | with_reducible apply mK_G | with_reducible refine mK_NA ?_ (by assumption) | with_reducible refine mK_NO ?_ (by assumption))) rfl (lw_U5 q2725 q2661 q2665 q2660 q142 q2667) rfl (by decide +kernel) ⟨(Nat.le_of_ble_eq_true rfl), (Nat.le_of_ble_eq_true rfl)⟩ rfl rfl (Nat.le_of_ble_eq_true rfl) (by first | exact Nat.le_of_ble_eq_true rfl | omega) (by first | exact Nat.le_of_ble_eq_true rfl | omega) rfl (fun v_1 M_2 h_4 hE_3 => ?_)
  obtain ⟨rfl, hMs⟩ := h_4
  have hMs := hMs.symm
  subst hMs
  refine x_putI (n' := 9) dX17_passes_6 (by repeat' (first | with_reducible exact hb | with_reducible apply mK_A | with_reducible apply mK_I | with_reducible apply mK_L | with_reducible apply mK_R | with_reducible apply mK_O | with_reducible apply mK_G | with_reducible refine mK_NA ?_ (by assumption) | with_reducible refine mK_NO ?_ (by assumption) | with_reducible refine kE.ap hE_3 ?_)) ffX17_9_24 rfl (⟨rfl, rfl⟩) rfl rfl ?_
  refine x_aload_n (n' := 10) dX17_passes_9 rfl rfl rfl ?_
  refine x_aload_n (n' := 11) dX17_passes_10 rfl rfl rfl ?_
  refine x_callV (n' := 14) (n := 0) (K := 7) (c_X7_met l G _ sg w d lt sn (hs.I (by decide) (by decide) (by decide))) dX17_passes_11 (by repeat' (first | with_reducible exact hsk | with_reducible apply mK_A | with_reducible apply mK_I | with_reducible apply mK_L | with_reducible apply mK_R | with_reducible apply mK_O | with_reducible apply mK_G | with_reducible refine mK_NA ?_ (by assumption) | with_reducible refine mK_NO ?_ (by assumption) | with_reducible refine kE.ap hE_3 ?_)) rfl (lw_V q2726 q2727 q2728 q87 q2729) (by decide +kernel) ⟨(Nat.le_of_ble_eq_true rfl), (Nat.le_of_ble_eq_true rfl)⟩ rfl rfl (Nat.le_of_ble_eq_true rfl) (by first | exact Nat.le_of_ble_eq_true rfl | omega) (by first | exact Nat.le_of_ble_eq_true rfl | omega) rfl (fun v_5 M_6 h_8 hE_7 => ?_)
  obtain ⟨rfl, hMs⟩ := h_8
  have hMs := hMs.symm
  subst hMs
  refine x_putI (n' := 17) dX17_passes_14 (by repeat' (first | with_reducible exact hb | with_reducible apply mK_A | with_reducible apply mK_I | with_reducible apply mK_L | with_reducible apply mK_R | with_reducible apply mK_O | with_reducible apply mK_G | with_reducible refine mK_NA ?_ (by assumption) | with_reducible refine mK_NO ?_ (by assumption) | with_reducible refine kE.ap hE_3 ?_ | with_reducible refine kE.ap hE_7 ?_)) ffX17_15_24 rfl (⟨rfl, rfl⟩) rfl rfl ?_
  exact x_vret dX17_passes_17 hret (by repeat' (first | with_reducible exact kE.rf | with_reducible exact hE_3 | with_reducible exact hE_7 | with_reducible apply kE_A | with_reducible apply kE_I | with_reducible apply kE_L | with_reducible apply kE_R | with_reducible apply kE_O | with_reducible apply kE_G | with_reducible refine kE.tr ?_ hE_3 | with_reducible refine kE.tr ?_ hE_7)) (⟨rfl, rfl⟩)

set_option maxHeartbeats 800000 in
set_option maxRecDepth 100000 in
theorem c_X18_kind (l : Launch) (G : kG) (M : kM) (b : Nat) : Kt l G yX18_kind cX18_kind 1 (some .int) 0 0 [.ref b] M (0) (0) (fun v M2 => v = some (.int 1) ∧ M2 = M) := by
  refine Kt.of (own := "KeptLight$Small") (L := [some (.ref b)]) (by decide +kernel) rfl (Nat.le_of_ble_eq_true rfl) rfl ?_
  intro pp ee ss mm args below meth cd hmn hret
  refine x_iconst (n' := 1) (v := 1) dX18_kind_0 (by decide) rfl ?_
  exact x_iret dX18_kind_1 hret (by repeat' (first | with_reducible exact kE.rf | with_reducible apply kE_A | with_reducible apply kE_I | with_reducible apply kE_L | with_reducible apply kE_R | with_reducible apply kE_O | with_reducible apply kE_G)) (⟨rfl, rfl⟩)

set_option maxHeartbeats 800000 in
set_option maxRecDepth 100000 in
theorem c_X21_kind (l : Launch) (G : kG) (M : kM) (b : Nat) : Kt l G yX21_kind cX21_kind 1 (some .int) 0 0 [.ref b] M (0) (0) (fun v M2 => v = some (.int 2) ∧ M2 = M) := by
  refine Kt.of (own := "KeptLight$Great") (L := [some (.ref b)]) (by decide +kernel) rfl (Nat.le_of_ble_eq_true rfl) rfl ?_
  intro pp ee ss mm args below meth cd hmn hret
  refine x_iconst (n' := 1) (v := 2) dX21_kind_0 (by decide) rfl ?_
  exact x_iret dX21_kind_1 hret (by repeat' (first | with_reducible exact kE.rf | with_reducible apply kE_A | with_reducible apply kE_I | with_reducible apply kE_L | with_reducible apply kE_R | with_reducible apply kE_O | with_reducible apply kE_G)) (⟨rfl, rfl⟩)

set_option maxHeartbeats 800000 in
set_option maxRecDepth 100000 in
theorem c_X19_kind__19 (l : Launch) (G : kG) (M : kM) (b : Nat) (hb : mK M b = some 19) : Kt l G yX19_kind cX19_kind 1 (some .int) 1 20 [.ref b] M (0) (0) (fun v M2 => v = some (.int 3) ∧ M2 = M) := by
  refine Kt.of (own := "KeptLight$Fisher") (L := [some (.ref b)]) (by decide +kernel) rfl (Nat.le_of_ble_eq_true rfl) rfl ?_
  intro pp ee ss mm args below meth cd hmn hret
  refine x_aload_n (n' := 1) dX19_kind_0 rfl rfl rfl ?_
  refine x_callSU (n' := 4) (n := 0) (K := 19) (c_X18_kind l G _ b) dX19_kind_1 (by repeat' (first | with_reducible exact hb | with_reducible apply mK_A | with_reducible apply mK_I | with_reducible apply mK_L | with_reducible apply mK_R | with_reducible apply mK_O | with_reducible apply mK_G | with_reducible refine mK_NA ?_ (by assumption) | with_reducible refine mK_NO ?_ (by assumption))) (by decide) (lw_SU5 q2194 q3657 q2100 q2195 q143 q2196) (by decide +kernel) ⟨(Nat.le_of_ble_eq_true rfl), (Nat.le_of_ble_eq_true rfl)⟩ rfl rfl (Nat.le_of_ble_eq_true rfl) (by first | exact Nat.le_of_ble_eq_true rfl | omega) (by first | exact Nat.le_of_ble_eq_true rfl | omega) rfl (fun v_1 M_2 h_4 hE_3 => ?_)
  obtain ⟨rfl, hMs⟩ := h_4
  have hMs := hMs.symm
  subst hMs
  refine x_iconst (n' := 5) (v := 2) dX19_kind_4 (by decide) rfl ?_
  refine x_iadd (n' := 6) dX19_kind_5 rfl ?_
  exact x_iret dX19_kind_6 hret (by repeat' (first | with_reducible exact kE.rf | with_reducible exact hE_3 | with_reducible apply kE_A | with_reducible apply kE_I | with_reducible apply kE_L | with_reducible apply kE_R | with_reducible apply kE_O | with_reducible apply kE_G | with_reducible refine kE.tr ?_ hE_3)) (⟨rfl, rfl⟩)

set_option maxHeartbeats 800000 in
set_option maxRecDepth 100000 in
theorem c_X20_kind__20 (l : Launch) (G : kG) (M : kM) (b : Nat) (hb : mK M b = some 20) : Kt l G yX20_kind cX20_kind 1 (some .int) 1 20 [.ref b] M (0) (0) (fun v M2 => v = some (.int 4) ∧ M2 = M) := by
  refine Kt.of (own := "KeptLight$Pilot") (L := [some (.ref b)]) (by decide +kernel) rfl (Nat.le_of_ble_eq_true rfl) rfl ?_
  intro pp ee ss mm args below meth cd hmn hret
  refine x_aload_n (n' := 1) dX20_kind_0 rfl rfl rfl ?_
  refine x_callSU (n' := 4) (n := 0) (K := 20) (c_X18_kind l G _ b) dX20_kind_1 (by repeat' (first | with_reducible exact hb | with_reducible apply mK_A | with_reducible apply mK_I | with_reducible apply mK_L | with_reducible apply mK_R | with_reducible apply mK_O | with_reducible apply mK_G | with_reducible refine mK_NA ?_ (by assumption) | with_reducible refine mK_NO ?_ (by assumption))) (by decide) (lw_SU5 q2208 q3657 q2110 q2195 q143 q2196) (by decide +kernel) ⟨(Nat.le_of_ble_eq_true rfl), (Nat.le_of_ble_eq_true rfl)⟩ rfl rfl (Nat.le_of_ble_eq_true rfl) (by first | exact Nat.le_of_ble_eq_true rfl | omega) (by first | exact Nat.le_of_ble_eq_true rfl | omega) rfl (fun v_1 M_2 h_4 hE_3 => ?_)
  obtain ⟨rfl, hMs⟩ := h_4
  have hMs := hMs.symm
  subst hMs
  refine x_iconst (n' := 5) (v := 3) dX20_kind_4 (by decide) rfl ?_
  refine x_iadd (n' := 6) dX20_kind_5 rfl ?_
  exact x_iret dX20_kind_6 hret (by repeat' (first | with_reducible exact kE.rf | with_reducible exact hE_3 | with_reducible apply kE_A | with_reducible apply kE_I | with_reducible apply kE_L | with_reducible apply kE_R | with_reducible apply kE_O | with_reducible apply kE_G | with_reducible refine kE.tr ?_ hE_3)) (⟨rfl, rfl⟩)

set_option maxHeartbeats 800000 in
set_option maxRecDepth 100000 in
theorem c_X22_kind__22 (l : Launch) (G : kG) (M : kM) (b : Nat) (hb : mK M b = some 22) : Kt l G yX22_kind cX22_kind 1 (some .int) 1 20 [.ref b] M (0) (0) (fun v M2 => v = some (.int 5) ∧ M2 = M) := by
  refine Kt.of (own := "KeptLight$Coaster") (L := [some (.ref b)]) (by decide +kernel) rfl (Nat.le_of_ble_eq_true rfl) rfl ?_
  intro pp ee ss mm args below meth cd hmn hret
  refine x_aload_n (n' := 1) dX22_kind_0 rfl rfl rfl ?_
  refine x_callSU (n' := 4) (n := 0) (K := 22) (c_X21_kind l G _ b) dX22_kind_1 (by repeat' (first | with_reducible exact hb | with_reducible apply mK_A | with_reducible apply mK_I | with_reducible apply mK_L | with_reducible apply mK_R | with_reducible apply mK_O | with_reducible apply mK_G | with_reducible refine mK_NA ?_ (by assumption) | with_reducible refine mK_NO ?_ (by assumption))) (by decide) (lw_SU5 q2188 q3656 q2123 q2189 q146 q2190) (by decide +kernel) ⟨(Nat.le_of_ble_eq_true rfl), (Nat.le_of_ble_eq_true rfl)⟩ rfl rfl (Nat.le_of_ble_eq_true rfl) (by first | exact Nat.le_of_ble_eq_true rfl | omega) (by first | exact Nat.le_of_ble_eq_true rfl | omega) rfl (fun v_1 M_2 h_4 hE_3 => ?_)
  obtain ⟨rfl, hMs⟩ := h_4
  have hMs := hMs.symm
  subst hMs
  refine x_iconst (n' := 5) (v := 3) dX22_kind_4 (by decide) rfl ?_
  refine x_iadd (n' := 6) dX22_kind_5 rfl ?_
  exact x_iret dX22_kind_6 hret (by repeat' (first | with_reducible exact kE.rf | with_reducible exact hE_3 | with_reducible apply kE_A | with_reducible apply kE_I | with_reducible apply kE_L | with_reducible apply kE_R | with_reducible apply kE_O | with_reducible apply kE_G | with_reducible refine kE.tr ?_ hE_3)) (⟨rfl, rfl⟩)

set_option maxHeartbeats 800000 in
set_option maxRecDepth 100000 in
theorem c_X23_kind__23 (l : Launch) (G : kG) (M : kM) (b : Nat) (hb : mK M b = some 23) : Kt l G yX23_kind cX23_kind 1 (some .int) 1 20 [.ref b] M (0) (0) (fun v M2 => v = some (.int 6) ∧ M2 = M) := by
  refine Kt.of (own := "KeptLight$Liner") (L := [some (.ref b)]) (by decide +kernel) rfl (Nat.le_of_ble_eq_true rfl) rfl ?_
  intro pp ee ss mm args below meth cd hmn hret
  refine x_aload_n (n' := 1) dX23_kind_0 rfl rfl rfl ?_
  refine x_callSU (n' := 4) (n := 0) (K := 23) (c_X21_kind l G _ b) dX23_kind_1 (by repeat' (first | with_reducible exact hb | with_reducible apply mK_A | with_reducible apply mK_I | with_reducible apply mK_L | with_reducible apply mK_R | with_reducible apply mK_O | with_reducible apply mK_G | with_reducible refine mK_NA ?_ (by assumption) | with_reducible refine mK_NO ?_ (by assumption))) (by decide) (lw_SU5 q2200 q3656 q1027 q2189 q146 q2190) (by decide +kernel) ⟨(Nat.le_of_ble_eq_true rfl), (Nat.le_of_ble_eq_true rfl)⟩ rfl rfl (Nat.le_of_ble_eq_true rfl) (by first | exact Nat.le_of_ble_eq_true rfl | omega) (by first | exact Nat.le_of_ble_eq_true rfl | omega) rfl (fun v_1 M_2 h_4 hE_3 => ?_)
  obtain ⟨rfl, hMs⟩ := h_4
  have hMs := hMs.symm
  subst hMs
  refine x_iconst (n' := 5) (v := 4) dX23_kind_4 (by decide) rfl ?_
  refine x_iadd (n' := 6) dX23_kind_5 rfl ?_
  exact x_iret dX23_kind_6 hret (by repeat' (first | with_reducible exact kE.rf | with_reducible exact hE_3 | with_reducible apply kE_A | with_reducible apply kE_I | with_reducible apply kE_L | with_reducible apply kE_R | with_reducible apply kE_O | with_reducible apply kE_G | with_reducible refine kE.tr ?_ hE_3)) (⟨rfl, rfl⟩)

set_option maxHeartbeats 800000 in
set_option maxRecDepth 100000 in
theorem c_X23_kind__24 (l : Launch) (G : kG) (M : kM) (b : Nat) (hb : mK M b = some 24) : Kt l G yX23_kind cX23_kind 1 (some .int) 1 20 [.ref b] M (0) (0) (fun v M2 => v = some (.int 6) ∧ M2 = M) := by
  refine Kt.of (own := "KeptLight$Liner") (L := [some (.ref b)]) (by decide +kernel) rfl (Nat.le_of_ble_eq_true rfl) rfl ?_
  intro pp ee ss mm args below meth cd hmn hret
  refine x_aload_n (n' := 1) dX23_kind_0 rfl rfl rfl ?_
  refine x_callSU (n' := 4) (n := 0) (K := 24) (c_X21_kind l G _ b) dX23_kind_1 (by repeat' (first | with_reducible exact hb | with_reducible apply mK_A | with_reducible apply mK_I | with_reducible apply mK_L | with_reducible apply mK_R | with_reducible apply mK_O | with_reducible apply mK_G | with_reducible refine mK_NA ?_ (by assumption) | with_reducible refine mK_NO ?_ (by assumption))) (by decide) (lw_SU5 q2200 q3656 q1027 q2189 q146 q2190) (by decide +kernel) ⟨(Nat.le_of_ble_eq_true rfl), (Nat.le_of_ble_eq_true rfl)⟩ rfl rfl (Nat.le_of_ble_eq_true rfl) (by first | exact Nat.le_of_ble_eq_true rfl | omega) (by first | exact Nat.le_of_ble_eq_true rfl | omega) rfl (fun v_1 M_2 h_4 hE_3 => ?_)
  obtain ⟨rfl, hMs⟩ := h_4
  have hMs := hMs.symm
  subst hMs
  refine x_iconst (n' := 5) (v := 4) dX23_kind_4 (by decide) rfl ?_
  refine x_iadd (n' := 6) dX23_kind_5 rfl ?_
  exact x_iret dX23_kind_6 hret (by repeat' (first | with_reducible exact kE.rf | with_reducible exact hE_3 | with_reducible apply kE_A | with_reducible apply kE_I | with_reducible apply kE_L | with_reducible apply kE_R | with_reducible apply kE_O | with_reducible apply kE_G | with_reducible refine kE.tr ?_ hE_3)) (⟨rfl, rfl⟩)

set_option maxHeartbeats 800000 in
set_option maxRecDepth 100000 in
theorem c_X24_kind__24 (l : Launch) (G : kG) (M : kM) (b : Nat) (hb : mK M b = some 24) : Kt l G yX24_kind cX24_kind 1 (some .int) 2 40 [.ref b] M (0) (0) (fun v M2 => v = some (.int 7) ∧ M2 = M) := by
  refine Kt.of (own := "KeptLight$Mail") (L := [some (.ref b)]) (by decide +kernel) rfl (Nat.le_of_ble_eq_true rfl) rfl ?_
  intro pp ee ss mm args below meth cd hmn hret
  refine x_aload_n (n' := 1) dX24_kind_0 rfl rfl rfl ?_
  refine x_callSU (n' := 4) (n := 0) (K := 24) (c_X23_kind__24 l G _ b hb) dX24_kind_1 (by repeat' (first | with_reducible exact hb | with_reducible apply mK_A | with_reducible apply mK_I | with_reducible apply mK_L | with_reducible apply mK_R | with_reducible apply mK_O | with_reducible apply mK_G | with_reducible refine mK_NA ?_ (by assumption) | with_reducible refine mK_NO ?_ (by assumption))) (by decide) (lw_SU5 q2204 q3658 q1026 q2198 q148 q2199) (by decide +kernel) ⟨(Nat.le_of_ble_eq_true rfl), (Nat.le_of_ble_eq_true rfl)⟩ rfl rfl (Nat.le_of_ble_eq_true rfl) (by first | exact Nat.le_of_ble_eq_true rfl | omega) (by first | exact Nat.le_of_ble_eq_true rfl | omega) rfl (fun v_1 M_2 h_4 hE_3 => ?_)
  obtain ⟨rfl, hMs⟩ := h_4
  have hMs := hMs.symm
  subst hMs
  refine x_iconst (n' := 5) (v := 1) dX24_kind_4 (by decide) rfl ?_
  refine x_iadd (n' := 6) dX24_kind_5 rfl ?_
  exact x_iret dX24_kind_6 hret (by repeat' (first | with_reducible exact kE.rf | with_reducible exact hE_3 | with_reducible apply kE_A | with_reducible apply kE_I | with_reducible apply kE_L | with_reducible apply kE_R | with_reducible apply kE_O | with_reducible apply kE_G | with_reducible refine kE.tr ?_ hE_3)) (⟨rfl, rfl⟩)

set_option maxHeartbeats 800000 in
set_option maxRecDepth 100000 in
theorem c_X17_isUnder__19 (l : Launch) (G : kG) (M : kM) (b : Nat) (z : Int32) (hb : mK M b = some 19) : Kt l G yX17_isUnder cX17_isUnder 2 (some .boolean) 2 40 [.ref b, .int z] M (0) (0) (fun v M2 => v = some (.int (bi (z = 0 ∨ z = 3))) ∧ M2 = M) := by
  refine Kt.of (own := "KeptLight$Ship") (L := [some (.ref b), some (.int z)]) (by decide +kernel) rfl (Nat.le_of_ble_eq_true rfl) rfl ?_
  intro pp ee ss mm args below meth cd hmn hret
  refine x_iload_n (n' := 1) dX17_isUnder_0 rfl rfl rfl ?_
  refine x_fork (J := 17) (x_if_eq (n' := 4) (tgt := 12) dX17_isUnder_1 (by decide) rfl) (v1 := ?v1_f1_1) (v2 := ?v2_f1_1) (fun c_f1_1 j_f1_1 => ?b1_f1_1) (fun c_f1_1 j_f1_1 => ?b2_f1_1) ?k_f1_1
  case b1_f1_1 =>
    refine x_iconst (n' := 13) (v := 1) dX17_isUnder_12 (by decide) rfl ?_
    refine x_goto (tgt := 17) dX17_isUnder_13 (by decide) ?_
    exact j_f1_1
  case b2_f1_1 =>
    refine x_iload_n (n' := 5) dX17_isUnder_4 rfl rfl rfl ?_
    refine x_aload_n (n' := 6) dX17_isUnder_5 rfl rfl rfl ?_
    refine x_callO (n' := 9) (n := 0) (K := 19) (x := ⟨"KeptLight$Ship", "kind", "()I"⟩) (owner := "KeptLight$Ship") (c_X19_kind__19 l G _ b hb) dX17_isUnder_6 (by repeat' (first | with_reducible exact hb | with_reducible apply mK_A | with_reducible apply mK_I | with_reducible apply mK_L | with_reducible apply mK_R | with_reducible apply mK_O | with_reducible apply mK_G | with_reducible refine mK_NA ?_ (by assumption) | with_reducible refine mK_NO ?_ (by assumption))) rfl (lw_O6 q2813 q2184 q2183 q2191 q2192 q144 q2193) q2209 (by decide +kernel) ⟨(Nat.le_of_ble_eq_true rfl), (Nat.le_of_ble_eq_true rfl)⟩ rfl rfl (Nat.le_of_ble_eq_true rfl) (by first | exact Nat.le_of_ble_eq_true rfl | omega) (by first | exact Nat.le_of_ble_eq_true rfl | omega) rfl (fun v_2 M_3 h_5 hE_4 => ?_)
    obtain ⟨rfl, hMs⟩ := h_5
    have hMs := hMs.symm
    subst hMs
    refine x_forkN (J := 17) (x_icmp_ne (n' := 12) (tgt := 16) dX17_isUnder_9 (by decide) rfl) (v1 := ?v1_f9_6) (v2 := ?v2_f9_6) (fun c_f9_6 j_f9_6 => ?b1_f9_6) (fun c_f9_6 j_f9_6 => ?b2_f9_6) ?k_f9_6
    case b1_f9_6 =>
      refine x_iconst (n' := 17) (v := 0) dX17_isUnder_16 (by decide) rfl ?_
      exact j_f9_6
    case b2_f9_6 =>
      refine x_iconst (n' := 13) (v := 1) dX17_isUnder_12 (by decide) rfl ?_
      refine x_goto (tgt := 17) dX17_isUnder_13 (by decide) ?_
      exact j_f9_6
    exact j_f1_1
  refine x_topv (y := bi (z = 0 ∨ z = 3)) (by unfold bi; grind) ?_
  exact x_zret dX17_isUnder_17 hret (k_zn (bi_01 _)) (by repeat' (first | with_reducible exact kE.rf | with_reducible apply kE_A | with_reducible apply kE_I | with_reducible apply kE_L | with_reducible apply kE_R | with_reducible apply kE_O | with_reducible apply kE_G)) (⟨rfl, rfl⟩)

set_option maxHeartbeats 800000 in
set_option maxRecDepth 100000 in
theorem c_X18_isUnder__19 (l : Launch) (G : kG) (M : kM) (b : Nat) (z : Int32) (hb : mK M b = some 19) : Kt l G yX18_isUnder cX18_isUnder 2 (some .boolean) 3 61 [.ref b, .int z] M (0) (0) (fun v M2 => v = some (.int (bi (underP 3 z))) ∧ M2 = M) := by
  refine Kt.of (own := "KeptLight$Small") (L := [some (.ref b), some (.int z)]) (by decide +kernel) rfl (Nat.le_of_ble_eq_true rfl) rfl ?_
  intro pp ee ss mm args below meth cd hmn hret
  refine x_aload_n (n' := 1) dX18_isUnder_0 rfl rfl rfl ?_
  refine x_iload_n (n' := 2) dX18_isUnder_1 rfl rfl rfl ?_
  refine x_callSU (n' := 5) (n := 1) (K := 19) (c_X17_isUnder__19 l G _ b z hb) dX18_isUnder_2 (by repeat' (first | with_reducible exact hb | with_reducible apply mK_A | with_reducible apply mK_I | with_reducible apply mK_L | with_reducible apply mK_R | with_reducible apply mK_O | with_reducible apply mK_G | with_reducible refine mK_NA ?_ (by assumption) | with_reducible refine mK_NO ?_ (by assumption))) (by decide) (lw_SU5 q2817 q2807 q1011 q2806 q142 q2812) (by decide +kernel) ⟨(Nat.le_of_ble_eq_true rfl), (Nat.le_of_ble_eq_true rfl)⟩ rfl rfl (Nat.le_of_ble_eq_true rfl) (by first | exact Nat.le_of_ble_eq_true rfl | omega) (by first | exact Nat.le_of_ble_eq_true rfl | omega) rfl (fun v_1 M_2 h_4 hE_3 => ?_)
  obtain ⟨rfl, hMs⟩ := h_4
  have hMs := hMs.symm
  subst hMs
  refine x_forkN (J := 18) (x_if_ne (n' := 8) (tgt := 13) dX18_isUnder_5 (by decide) rfl) (v1 := ?v1_f5_5) (v2 := ?v2_f5_5) (fun c_f5_5 j_f5_5 => ?b1_f5_5) (fun c_f5_5 j_f5_5 => ?b2_f5_5) ?k_f5_5
  case b1_f5_5 =>
    refine x_iconst (n' := 14) (v := 1) dX18_isUnder_13 (by decide) rfl ?_
    refine x_goto (tgt := 18) dX18_isUnder_14 (by decide) ?_
    exact j_f5_5
  case b2_f5_5 =>
    refine x_iload_n (n' := 9) dX18_isUnder_8 rfl rfl rfl ?_
    refine x_iconst (n' := 10) (v := 1) dX18_isUnder_9 (by decide) rfl ?_
    refine x_forkN (J := 18) (x_icmp_ne (n' := 13) (tgt := 17) dX18_isUnder_10 (by decide) rfl) (v1 := ?v1_f10_6) (v2 := ?v2_f10_6) (fun c_f10_6 j_f10_6 => ?b1_f10_6) (fun c_f10_6 j_f10_6 => ?b2_f10_6) ?k_f10_6
    case b1_f10_6 =>
      refine x_iconst (n' := 18) (v := 0) dX18_isUnder_17 (by decide) rfl ?_
      exact j_f10_6
    case b2_f10_6 =>
      refine x_iconst (n' := 14) (v := 1) dX18_isUnder_13 (by decide) rfl ?_
      refine x_goto (tgt := 18) dX18_isUnder_14 (by decide) ?_
      exact j_f10_6
    exact j_f5_5
  refine x_topv (y := bi (underP 3 z)) (by have e1 : ¬ (5 : Int32) ≤ 3 := (by decide); have e2 : ¬ (5 : Int32) ≤ 4 := (by decide); have e3 : (5 : Int32) ≤ 5 ∧ (5 : Int32) ≤ 6 := (by decide); first | (unfold underP bi; grind) | (unfold bi; grind)) ?_
  exact x_zret dX18_isUnder_18 hret (k_zn (bi_01 _)) (by repeat' (first | with_reducible exact kE.rf | with_reducible exact hE_3 | with_reducible apply kE_A | with_reducible apply kE_I | with_reducible apply kE_L | with_reducible apply kE_R | with_reducible apply kE_O | with_reducible apply kE_G | with_reducible refine kE.tr ?_ hE_3)) (⟨rfl, rfl⟩)

set_option maxHeartbeats 800000 in
set_option maxRecDepth 100000 in
theorem c_X17_isUnder__20 (l : Launch) (G : kG) (M : kM) (b : Nat) (z : Int32) (hb : mK M b = some 20) : Kt l G yX17_isUnder cX17_isUnder 2 (some .boolean) 2 40 [.ref b, .int z] M (0) (0) (fun v M2 => v = some (.int (bi (z = 0 ∨ z = 4))) ∧ M2 = M) := by
  refine Kt.of (own := "KeptLight$Ship") (L := [some (.ref b), some (.int z)]) (by decide +kernel) rfl (Nat.le_of_ble_eq_true rfl) rfl ?_
  intro pp ee ss mm args below meth cd hmn hret
  refine x_iload_n (n' := 1) dX17_isUnder_0 rfl rfl rfl ?_
  refine x_fork (J := 17) (x_if_eq (n' := 4) (tgt := 12) dX17_isUnder_1 (by decide) rfl) (v1 := ?v1_f1_1) (v2 := ?v2_f1_1) (fun c_f1_1 j_f1_1 => ?b1_f1_1) (fun c_f1_1 j_f1_1 => ?b2_f1_1) ?k_f1_1
  case b1_f1_1 =>
    refine x_iconst (n' := 13) (v := 1) dX17_isUnder_12 (by decide) rfl ?_
    refine x_goto (tgt := 17) dX17_isUnder_13 (by decide) ?_
    exact j_f1_1
  case b2_f1_1 =>
    refine x_iload_n (n' := 5) dX17_isUnder_4 rfl rfl rfl ?_
    refine x_aload_n (n' := 6) dX17_isUnder_5 rfl rfl rfl ?_
    refine x_callO (n' := 9) (n := 0) (K := 20) (x := ⟨"KeptLight$Ship", "kind", "()I"⟩) (owner := "KeptLight$Ship") (c_X20_kind__20 l G _ b hb) dX17_isUnder_6 (by repeat' (first | with_reducible exact hb | with_reducible apply mK_A | with_reducible apply mK_I | with_reducible apply mK_L | with_reducible apply mK_R | with_reducible apply mK_O | with_reducible apply mK_G | with_reducible refine mK_NA ?_ (by assumption) | with_reducible refine mK_NO ?_ (by assumption))) rfl (lw_O6 q2813 q2184 q2183 q2205 q2206 q145 q2207) q2209 (by decide +kernel) ⟨(Nat.le_of_ble_eq_true rfl), (Nat.le_of_ble_eq_true rfl)⟩ rfl rfl (Nat.le_of_ble_eq_true rfl) (by first | exact Nat.le_of_ble_eq_true rfl | omega) (by first | exact Nat.le_of_ble_eq_true rfl | omega) rfl (fun v_2 M_3 h_5 hE_4 => ?_)
    obtain ⟨rfl, hMs⟩ := h_5
    have hMs := hMs.symm
    subst hMs
    refine x_forkN (J := 17) (x_icmp_ne (n' := 12) (tgt := 16) dX17_isUnder_9 (by decide) rfl) (v1 := ?v1_f9_6) (v2 := ?v2_f9_6) (fun c_f9_6 j_f9_6 => ?b1_f9_6) (fun c_f9_6 j_f9_6 => ?b2_f9_6) ?k_f9_6
    case b1_f9_6 =>
      refine x_iconst (n' := 17) (v := 0) dX17_isUnder_16 (by decide) rfl ?_
      exact j_f9_6
    case b2_f9_6 =>
      refine x_iconst (n' := 13) (v := 1) dX17_isUnder_12 (by decide) rfl ?_
      refine x_goto (tgt := 17) dX17_isUnder_13 (by decide) ?_
      exact j_f9_6
    exact j_f1_1
  refine x_topv (y := bi (z = 0 ∨ z = 4)) (by unfold bi; grind) ?_
  exact x_zret dX17_isUnder_17 hret (k_zn (bi_01 _)) (by repeat' (first | with_reducible exact kE.rf | with_reducible apply kE_A | with_reducible apply kE_I | with_reducible apply kE_L | with_reducible apply kE_R | with_reducible apply kE_O | with_reducible apply kE_G)) (⟨rfl, rfl⟩)

set_option maxHeartbeats 800000 in
set_option maxRecDepth 100000 in
theorem c_X18_isUnder__20 (l : Launch) (G : kG) (M : kM) (b : Nat) (z : Int32) (hb : mK M b = some 20) : Kt l G yX18_isUnder cX18_isUnder 2 (some .boolean) 3 61 [.ref b, .int z] M (0) (0) (fun v M2 => v = some (.int (bi (underP 4 z))) ∧ M2 = M) := by
  refine Kt.of (own := "KeptLight$Small") (L := [some (.ref b), some (.int z)]) (by decide +kernel) rfl (Nat.le_of_ble_eq_true rfl) rfl ?_
  intro pp ee ss mm args below meth cd hmn hret
  refine x_aload_n (n' := 1) dX18_isUnder_0 rfl rfl rfl ?_
  refine x_iload_n (n' := 2) dX18_isUnder_1 rfl rfl rfl ?_
  refine x_callSU (n' := 5) (n := 1) (K := 20) (c_X17_isUnder__20 l G _ b z hb) dX18_isUnder_2 (by repeat' (first | with_reducible exact hb | with_reducible apply mK_A | with_reducible apply mK_I | with_reducible apply mK_L | with_reducible apply mK_R | with_reducible apply mK_O | with_reducible apply mK_G | with_reducible refine mK_NA ?_ (by assumption) | with_reducible refine mK_NO ?_ (by assumption))) (by decide) (lw_SU5 q2817 q2807 q1011 q2806 q142 q2812) (by decide +kernel) ⟨(Nat.le_of_ble_eq_true rfl), (Nat.le_of_ble_eq_true rfl)⟩ rfl rfl (Nat.le_of_ble_eq_true rfl) (by first | exact Nat.le_of_ble_eq_true rfl | omega) (by first | exact Nat.le_of_ble_eq_true rfl | omega) rfl (fun v_1 M_2 h_4 hE_3 => ?_)
  obtain ⟨rfl, hMs⟩ := h_4
  have hMs := hMs.symm
  subst hMs
  refine x_forkN (J := 18) (x_if_ne (n' := 8) (tgt := 13) dX18_isUnder_5 (by decide) rfl) (v1 := ?v1_f5_5) (v2 := ?v2_f5_5) (fun c_f5_5 j_f5_5 => ?b1_f5_5) (fun c_f5_5 j_f5_5 => ?b2_f5_5) ?k_f5_5
  case b1_f5_5 =>
    refine x_iconst (n' := 14) (v := 1) dX18_isUnder_13 (by decide) rfl ?_
    refine x_goto (tgt := 18) dX18_isUnder_14 (by decide) ?_
    exact j_f5_5
  case b2_f5_5 =>
    refine x_iload_n (n' := 9) dX18_isUnder_8 rfl rfl rfl ?_
    refine x_iconst (n' := 10) (v := 1) dX18_isUnder_9 (by decide) rfl ?_
    refine x_forkN (J := 18) (x_icmp_ne (n' := 13) (tgt := 17) dX18_isUnder_10 (by decide) rfl) (v1 := ?v1_f10_6) (v2 := ?v2_f10_6) (fun c_f10_6 j_f10_6 => ?b1_f10_6) (fun c_f10_6 j_f10_6 => ?b2_f10_6) ?k_f10_6
    case b1_f10_6 =>
      refine x_iconst (n' := 18) (v := 0) dX18_isUnder_17 (by decide) rfl ?_
      exact j_f10_6
    case b2_f10_6 =>
      refine x_iconst (n' := 14) (v := 1) dX18_isUnder_13 (by decide) rfl ?_
      refine x_goto (tgt := 18) dX18_isUnder_14 (by decide) ?_
      exact j_f10_6
    exact j_f5_5
  refine x_topv (y := bi (underP 4 z)) (by have e1 : ¬ (5 : Int32) ≤ 3 := (by decide); have e2 : ¬ (5 : Int32) ≤ 4 := (by decide); have e3 : (5 : Int32) ≤ 5 ∧ (5 : Int32) ≤ 6 := (by decide); first | (unfold underP bi; grind) | (unfold bi; grind)) ?_
  exact x_zret dX18_isUnder_18 hret (k_zn (bi_01 _)) (by repeat' (first | with_reducible exact kE.rf | with_reducible exact hE_3 | with_reducible apply kE_A | with_reducible apply kE_I | with_reducible apply kE_L | with_reducible apply kE_R | with_reducible apply kE_O | with_reducible apply kE_G | with_reducible refine kE.tr ?_ hE_3)) (⟨rfl, rfl⟩)

set_option maxHeartbeats 800000 in
set_option maxRecDepth 100000 in
theorem c_X17_isUnder__22 (l : Launch) (G : kG) (M : kM) (b : Nat) (z : Int32) (hb : mK M b = some 22) : Kt l G yX17_isUnder cX17_isUnder 2 (some .boolean) 2 40 [.ref b, .int z] M (0) (0) (fun v M2 => v = some (.int (bi (z = 0 ∨ z = 5))) ∧ M2 = M) := by
  refine Kt.of (own := "KeptLight$Ship") (L := [some (.ref b), some (.int z)]) (by decide +kernel) rfl (Nat.le_of_ble_eq_true rfl) rfl ?_
  intro pp ee ss mm args below meth cd hmn hret
  refine x_iload_n (n' := 1) dX17_isUnder_0 rfl rfl rfl ?_
  refine x_fork (J := 17) (x_if_eq (n' := 4) (tgt := 12) dX17_isUnder_1 (by decide) rfl) (v1 := ?v1_f1_1) (v2 := ?v2_f1_1) (fun c_f1_1 j_f1_1 => ?b1_f1_1) (fun c_f1_1 j_f1_1 => ?b2_f1_1) ?k_f1_1
  case b1_f1_1 =>
    refine x_iconst (n' := 13) (v := 1) dX17_isUnder_12 (by decide) rfl ?_
    refine x_goto (tgt := 17) dX17_isUnder_13 (by decide) ?_
    exact j_f1_1
  case b2_f1_1 =>
    refine x_iload_n (n' := 5) dX17_isUnder_4 rfl rfl rfl ?_
    refine x_aload_n (n' := 6) dX17_isUnder_5 rfl rfl rfl ?_
    refine x_callO (n' := 9) (n := 0) (K := 22) (x := ⟨"KeptLight$Ship", "kind", "()I"⟩) (owner := "KeptLight$Ship") (c_X22_kind__22 l G _ b hb) dX17_isUnder_6 (by repeat' (first | with_reducible exact hb | with_reducible apply mK_A | with_reducible apply mK_I | with_reducible apply mK_L | with_reducible apply mK_R | with_reducible apply mK_O | with_reducible apply mK_G | with_reducible refine mK_NA ?_ (by assumption) | with_reducible refine mK_NO ?_ (by assumption))) rfl (lw_O6 q2813 q2184 q2183 q2185 q2186 q147 q2187) q2209 (by decide +kernel) ⟨(Nat.le_of_ble_eq_true rfl), (Nat.le_of_ble_eq_true rfl)⟩ rfl rfl (Nat.le_of_ble_eq_true rfl) (by first | exact Nat.le_of_ble_eq_true rfl | omega) (by first | exact Nat.le_of_ble_eq_true rfl | omega) rfl (fun v_2 M_3 h_5 hE_4 => ?_)
    obtain ⟨rfl, hMs⟩ := h_5
    have hMs := hMs.symm
    subst hMs
    refine x_forkN (J := 17) (x_icmp_ne (n' := 12) (tgt := 16) dX17_isUnder_9 (by decide) rfl) (v1 := ?v1_f9_6) (v2 := ?v2_f9_6) (fun c_f9_6 j_f9_6 => ?b1_f9_6) (fun c_f9_6 j_f9_6 => ?b2_f9_6) ?k_f9_6
    case b1_f9_6 =>
      refine x_iconst (n' := 17) (v := 0) dX17_isUnder_16 (by decide) rfl ?_
      exact j_f9_6
    case b2_f9_6 =>
      refine x_iconst (n' := 13) (v := 1) dX17_isUnder_12 (by decide) rfl ?_
      refine x_goto (tgt := 17) dX17_isUnder_13 (by decide) ?_
      exact j_f9_6
    exact j_f1_1
  refine x_topv (y := bi (z = 0 ∨ z = 5)) (by unfold bi; grind) ?_
  exact x_zret dX17_isUnder_17 hret (k_zn (bi_01 _)) (by repeat' (first | with_reducible exact kE.rf | with_reducible apply kE_A | with_reducible apply kE_I | with_reducible apply kE_L | with_reducible apply kE_R | with_reducible apply kE_O | with_reducible apply kE_G)) (⟨rfl, rfl⟩)

set_option maxHeartbeats 800000 in
set_option maxRecDepth 100000 in
theorem c_X21_isUnder__22 (l : Launch) (G : kG) (M : kM) (b : Nat) (z : Int32) (hb : mK M b = some 22) : Kt l G yX21_isUnder cX21_isUnder 2 (some .boolean) 3 61 [.ref b, .int z] M (0) (0) (fun v M2 => v = some (.int (bi (underP 5 z))) ∧ M2 = M) := by
  refine Kt.of (own := "KeptLight$Great") (L := [some (.ref b), some (.int z)]) (by decide +kernel) rfl (Nat.le_of_ble_eq_true rfl) rfl ?_
  intro pp ee ss mm args below meth cd hmn hret
  refine x_aload_n (n' := 1) dX21_isUnder_0 rfl rfl rfl ?_
  refine x_iload_n (n' := 2) dX21_isUnder_1 rfl rfl rfl ?_
  refine x_callSU (n' := 5) (n := 1) (K := 22) (c_X17_isUnder__22 l G _ b z hb) dX21_isUnder_2 (by repeat' (first | with_reducible exact hb | with_reducible apply mK_A | with_reducible apply mK_I | with_reducible apply mK_L | with_reducible apply mK_R | with_reducible apply mK_O | with_reducible apply mK_G | with_reducible refine mK_NA ?_ (by assumption) | with_reducible refine mK_NO ?_ (by assumption))) (by decide) (lw_SU5 q2811 q2807 q1028 q2806 q142 q2812) (by decide +kernel) ⟨(Nat.le_of_ble_eq_true rfl), (Nat.le_of_ble_eq_true rfl)⟩ rfl rfl (Nat.le_of_ble_eq_true rfl) (by first | exact Nat.le_of_ble_eq_true rfl | omega) (by first | exact Nat.le_of_ble_eq_true rfl | omega) rfl (fun v_1 M_2 h_4 hE_3 => ?_)
  obtain ⟨rfl, hMs⟩ := h_4
  have hMs := hMs.symm
  subst hMs
  refine x_forkN (J := 18) (x_if_ne (n' := 8) (tgt := 13) dX21_isUnder_5 (by decide) rfl) (v1 := ?v1_f5_5) (v2 := ?v2_f5_5) (fun c_f5_5 j_f5_5 => ?b1_f5_5) (fun c_f5_5 j_f5_5 => ?b2_f5_5) ?k_f5_5
  case b1_f5_5 =>
    refine x_iconst (n' := 14) (v := 1) dX21_isUnder_13 (by decide) rfl ?_
    refine x_goto (tgt := 18) dX21_isUnder_14 (by decide) ?_
    exact j_f5_5
  case b2_f5_5 =>
    refine x_iload_n (n' := 9) dX21_isUnder_8 rfl rfl rfl ?_
    refine x_iconst (n' := 10) (v := 2) dX21_isUnder_9 (by decide) rfl ?_
    refine x_forkN (J := 18) (x_icmp_ne (n' := 13) (tgt := 17) dX21_isUnder_10 (by decide) rfl) (v1 := ?v1_f10_6) (v2 := ?v2_f10_6) (fun c_f10_6 j_f10_6 => ?b1_f10_6) (fun c_f10_6 j_f10_6 => ?b2_f10_6) ?k_f10_6
    case b1_f10_6 =>
      refine x_iconst (n' := 18) (v := 0) dX21_isUnder_17 (by decide) rfl ?_
      exact j_f10_6
    case b2_f10_6 =>
      refine x_iconst (n' := 14) (v := 1) dX21_isUnder_13 (by decide) rfl ?_
      refine x_goto (tgt := 18) dX21_isUnder_14 (by decide) ?_
      exact j_f10_6
    exact j_f5_5
  refine x_topv (y := bi (underP 5 z)) (by have e1 : ¬ (5 : Int32) ≤ 3 := (by decide); have e2 : ¬ (5 : Int32) ≤ 4 := (by decide); have e3 : (5 : Int32) ≤ 5 ∧ (5 : Int32) ≤ 6 := (by decide); first | (unfold underP bi; grind) | (unfold bi; grind)) ?_
  exact x_zret dX21_isUnder_18 hret (k_zn (bi_01 _)) (by repeat' (first | with_reducible exact kE.rf | with_reducible exact hE_3 | with_reducible apply kE_A | with_reducible apply kE_I | with_reducible apply kE_L | with_reducible apply kE_R | with_reducible apply kE_O | with_reducible apply kE_G | with_reducible refine kE.tr ?_ hE_3)) (⟨rfl, rfl⟩)

set_option maxHeartbeats 800000 in
set_option maxRecDepth 100000 in
theorem c_X17_isUnder__23 (l : Launch) (G : kG) (M : kM) (b : Nat) (z : Int32) (hb : mK M b = some 23) : Kt l G yX17_isUnder cX17_isUnder 2 (some .boolean) 2 40 [.ref b, .int z] M (0) (0) (fun v M2 => v = some (.int (bi (z = 0 ∨ z = 6))) ∧ M2 = M) := by
  refine Kt.of (own := "KeptLight$Ship") (L := [some (.ref b), some (.int z)]) (by decide +kernel) rfl (Nat.le_of_ble_eq_true rfl) rfl ?_
  intro pp ee ss mm args below meth cd hmn hret
  refine x_iload_n (n' := 1) dX17_isUnder_0 rfl rfl rfl ?_
  refine x_fork (J := 17) (x_if_eq (n' := 4) (tgt := 12) dX17_isUnder_1 (by decide) rfl) (v1 := ?v1_f1_1) (v2 := ?v2_f1_1) (fun c_f1_1 j_f1_1 => ?b1_f1_1) (fun c_f1_1 j_f1_1 => ?b2_f1_1) ?k_f1_1
  case b1_f1_1 =>
    refine x_iconst (n' := 13) (v := 1) dX17_isUnder_12 (by decide) rfl ?_
    refine x_goto (tgt := 17) dX17_isUnder_13 (by decide) ?_
    exact j_f1_1
  case b2_f1_1 =>
    refine x_iload_n (n' := 5) dX17_isUnder_4 rfl rfl rfl ?_
    refine x_aload_n (n' := 6) dX17_isUnder_5 rfl rfl rfl ?_
    refine x_callO (n' := 9) (n := 0) (K := 23) (x := ⟨"KeptLight$Ship", "kind", "()I"⟩) (owner := "KeptLight$Ship") (c_X23_kind__23 l G _ b hb) dX17_isUnder_6 (by repeat' (first | with_reducible exact hb | with_reducible apply mK_A | with_reducible apply mK_I | with_reducible apply mK_L | with_reducible apply mK_R | with_reducible apply mK_O | with_reducible apply mK_G | with_reducible refine mK_NA ?_ (by assumption) | with_reducible refine mK_NO ?_ (by assumption))) rfl (lw_O6 q2813 q2184 q2183 q2197 q2198 q148 q2199) q2209 (by decide +kernel) ⟨(Nat.le_of_ble_eq_true rfl), (Nat.le_of_ble_eq_true rfl)⟩ rfl rfl (Nat.le_of_ble_eq_true rfl) (by first | exact Nat.le_of_ble_eq_true rfl | omega) (by first | exact Nat.le_of_ble_eq_true rfl | omega) rfl (fun v_2 M_3 h_5 hE_4 => ?_)
    obtain ⟨rfl, hMs⟩ := h_5
    have hMs := hMs.symm
    subst hMs
    refine x_forkN (J := 17) (x_icmp_ne (n' := 12) (tgt := 16) dX17_isUnder_9 (by decide) rfl) (v1 := ?v1_f9_6) (v2 := ?v2_f9_6) (fun c_f9_6 j_f9_6 => ?b1_f9_6) (fun c_f9_6 j_f9_6 => ?b2_f9_6) ?k_f9_6
    case b1_f9_6 =>
      refine x_iconst (n' := 17) (v := 0) dX17_isUnder_16 (by decide) rfl ?_
      exact j_f9_6
    case b2_f9_6 =>
      refine x_iconst (n' := 13) (v := 1) dX17_isUnder_12 (by decide) rfl ?_
      refine x_goto (tgt := 17) dX17_isUnder_13 (by decide) ?_
      exact j_f9_6
    exact j_f1_1
  refine x_topv (y := bi (z = 0 ∨ z = 6)) (by unfold bi; grind) ?_
  exact x_zret dX17_isUnder_17 hret (k_zn (bi_01 _)) (by repeat' (first | with_reducible exact kE.rf | with_reducible apply kE_A | with_reducible apply kE_I | with_reducible apply kE_L | with_reducible apply kE_R | with_reducible apply kE_O | with_reducible apply kE_G)) (⟨rfl, rfl⟩)

set_option maxHeartbeats 800000 in
set_option maxRecDepth 100000 in
theorem c_X21_isUnder__23 (l : Launch) (G : kG) (M : kM) (b : Nat) (z : Int32) (hb : mK M b = some 23) : Kt l G yX21_isUnder cX21_isUnder 2 (some .boolean) 3 61 [.ref b, .int z] M (0) (0) (fun v M2 => v = some (.int (bi (underP 6 z))) ∧ M2 = M) := by
  refine Kt.of (own := "KeptLight$Great") (L := [some (.ref b), some (.int z)]) (by decide +kernel) rfl (Nat.le_of_ble_eq_true rfl) rfl ?_
  intro pp ee ss mm args below meth cd hmn hret
  refine x_aload_n (n' := 1) dX21_isUnder_0 rfl rfl rfl ?_
  refine x_iload_n (n' := 2) dX21_isUnder_1 rfl rfl rfl ?_
  refine x_callSU (n' := 5) (n := 1) (K := 23) (c_X17_isUnder__23 l G _ b z hb) dX21_isUnder_2 (by repeat' (first | with_reducible exact hb | with_reducible apply mK_A | with_reducible apply mK_I | with_reducible apply mK_L | with_reducible apply mK_R | with_reducible apply mK_O | with_reducible apply mK_G | with_reducible refine mK_NA ?_ (by assumption) | with_reducible refine mK_NO ?_ (by assumption))) (by decide) (lw_SU5 q2811 q2807 q1028 q2806 q142 q2812) (by decide +kernel) ⟨(Nat.le_of_ble_eq_true rfl), (Nat.le_of_ble_eq_true rfl)⟩ rfl rfl (Nat.le_of_ble_eq_true rfl) (by first | exact Nat.le_of_ble_eq_true rfl | omega) (by first | exact Nat.le_of_ble_eq_true rfl | omega) rfl (fun v_1 M_2 h_4 hE_3 => ?_)
  obtain ⟨rfl, hMs⟩ := h_4
  have hMs := hMs.symm
  subst hMs
  refine x_forkN (J := 18) (x_if_ne (n' := 8) (tgt := 13) dX21_isUnder_5 (by decide) rfl) (v1 := ?v1_f5_5) (v2 := ?v2_f5_5) (fun c_f5_5 j_f5_5 => ?b1_f5_5) (fun c_f5_5 j_f5_5 => ?b2_f5_5) ?k_f5_5
  case b1_f5_5 =>
    refine x_iconst (n' := 14) (v := 1) dX21_isUnder_13 (by decide) rfl ?_
    refine x_goto (tgt := 18) dX21_isUnder_14 (by decide) ?_
    exact j_f5_5
  case b2_f5_5 =>
    refine x_iload_n (n' := 9) dX21_isUnder_8 rfl rfl rfl ?_
    refine x_iconst (n' := 10) (v := 2) dX21_isUnder_9 (by decide) rfl ?_
    refine x_forkN (J := 18) (x_icmp_ne (n' := 13) (tgt := 17) dX21_isUnder_10 (by decide) rfl) (v1 := ?v1_f10_6) (v2 := ?v2_f10_6) (fun c_f10_6 j_f10_6 => ?b1_f10_6) (fun c_f10_6 j_f10_6 => ?b2_f10_6) ?k_f10_6
    case b1_f10_6 =>
      refine x_iconst (n' := 18) (v := 0) dX21_isUnder_17 (by decide) rfl ?_
      exact j_f10_6
    case b2_f10_6 =>
      refine x_iconst (n' := 14) (v := 1) dX21_isUnder_13 (by decide) rfl ?_
      refine x_goto (tgt := 18) dX21_isUnder_14 (by decide) ?_
      exact j_f10_6
    exact j_f5_5
  refine x_topv (y := bi (underP 6 z)) (by have e1 : ¬ (5 : Int32) ≤ 3 := (by decide); have e2 : ¬ (5 : Int32) ≤ 4 := (by decide); have e3 : (5 : Int32) ≤ 5 ∧ (5 : Int32) ≤ 6 := (by decide); first | (unfold underP bi; grind) | (unfold bi; grind)) ?_
  exact x_zret dX21_isUnder_18 hret (k_zn (bi_01 _)) (by repeat' (first | with_reducible exact kE.rf | with_reducible exact hE_3 | with_reducible apply kE_A | with_reducible apply kE_I | with_reducible apply kE_L | with_reducible apply kE_R | with_reducible apply kE_O | with_reducible apply kE_G | with_reducible refine kE.tr ?_ hE_3)) (⟨rfl, rfl⟩)

set_option maxHeartbeats 800000 in
set_option maxRecDepth 100000 in
theorem c_X17_isUnder__24 (l : Launch) (G : kG) (M : kM) (b : Nat) (z : Int32) (hb : mK M b = some 24) : Kt l G yX17_isUnder cX17_isUnder 2 (some .boolean) 3 60 [.ref b, .int z] M (0) (0) (fun v M2 => v = some (.int (bi (z = 0 ∨ z = 7))) ∧ M2 = M) := by
  refine Kt.of (own := "KeptLight$Ship") (L := [some (.ref b), some (.int z)]) (by decide +kernel) rfl (Nat.le_of_ble_eq_true rfl) rfl ?_
  intro pp ee ss mm args below meth cd hmn hret
  refine x_iload_n (n' := 1) dX17_isUnder_0 rfl rfl rfl ?_
  refine x_fork (J := 17) (x_if_eq (n' := 4) (tgt := 12) dX17_isUnder_1 (by decide) rfl) (v1 := ?v1_f1_1) (v2 := ?v2_f1_1) (fun c_f1_1 j_f1_1 => ?b1_f1_1) (fun c_f1_1 j_f1_1 => ?b2_f1_1) ?k_f1_1
  case b1_f1_1 =>
    refine x_iconst (n' := 13) (v := 1) dX17_isUnder_12 (by decide) rfl ?_
    refine x_goto (tgt := 17) dX17_isUnder_13 (by decide) ?_
    exact j_f1_1
  case b2_f1_1 =>
    refine x_iload_n (n' := 5) dX17_isUnder_4 rfl rfl rfl ?_
    refine x_aload_n (n' := 6) dX17_isUnder_5 rfl rfl rfl ?_
    refine x_callO (n' := 9) (n := 0) (K := 24) (x := ⟨"KeptLight$Ship", "kind", "()I"⟩) (owner := "KeptLight$Ship") (c_X24_kind__24 l G _ b hb) dX17_isUnder_6 (by repeat' (first | with_reducible exact hb | with_reducible apply mK_A | with_reducible apply mK_I | with_reducible apply mK_L | with_reducible apply mK_R | with_reducible apply mK_O | with_reducible apply mK_G | with_reducible refine mK_NA ?_ (by assumption) | with_reducible refine mK_NO ?_ (by assumption))) rfl (lw_O6 q2813 q2184 q2183 q2201 q2202 q149 q2203) q2209 (by decide +kernel) ⟨(Nat.le_of_ble_eq_true rfl), (Nat.le_of_ble_eq_true rfl)⟩ rfl rfl (Nat.le_of_ble_eq_true rfl) (by first | exact Nat.le_of_ble_eq_true rfl | omega) (by first | exact Nat.le_of_ble_eq_true rfl | omega) rfl (fun v_2 M_3 h_5 hE_4 => ?_)
    obtain ⟨rfl, hMs⟩ := h_5
    have hMs := hMs.symm
    subst hMs
    refine x_forkN (J := 17) (x_icmp_ne (n' := 12) (tgt := 16) dX17_isUnder_9 (by decide) rfl) (v1 := ?v1_f9_6) (v2 := ?v2_f9_6) (fun c_f9_6 j_f9_6 => ?b1_f9_6) (fun c_f9_6 j_f9_6 => ?b2_f9_6) ?k_f9_6
    case b1_f9_6 =>
      refine x_iconst (n' := 17) (v := 0) dX17_isUnder_16 (by decide) rfl ?_
      exact j_f9_6
    case b2_f9_6 =>
      refine x_iconst (n' := 13) (v := 1) dX17_isUnder_12 (by decide) rfl ?_
      refine x_goto (tgt := 17) dX17_isUnder_13 (by decide) ?_
      exact j_f9_6
    exact j_f1_1
  refine x_topv (y := bi (z = 0 ∨ z = 7)) (by unfold bi; grind) ?_
  exact x_zret dX17_isUnder_17 hret (k_zn (bi_01 _)) (by repeat' (first | with_reducible exact kE.rf | with_reducible apply kE_A | with_reducible apply kE_I | with_reducible apply kE_L | with_reducible apply kE_R | with_reducible apply kE_O | with_reducible apply kE_G)) (⟨rfl, rfl⟩)

set_option maxHeartbeats 800000 in
set_option maxRecDepth 100000 in
theorem c_X21_isUnder__24 (l : Launch) (G : kG) (M : kM) (b : Nat) (z : Int32) (hb : mK M b = some 24) : Kt l G yX21_isUnder cX21_isUnder 2 (some .boolean) 4 81 [.ref b, .int z] M (0) (0) (fun v M2 => v = some (.int (bi (((z = 0 ∨ z = 7) ∨ z = 2)))) ∧ M2 = M) := by
  refine Kt.of (own := "KeptLight$Great") (L := [some (.ref b), some (.int z)]) (by decide +kernel) rfl (Nat.le_of_ble_eq_true rfl) rfl ?_
  intro pp ee ss mm args below meth cd hmn hret
  refine x_aload_n (n' := 1) dX21_isUnder_0 rfl rfl rfl ?_
  refine x_iload_n (n' := 2) dX21_isUnder_1 rfl rfl rfl ?_
  refine x_callSU (n' := 5) (n := 1) (K := 24) (c_X17_isUnder__24 l G _ b z hb) dX21_isUnder_2 (by repeat' (first | with_reducible exact hb | with_reducible apply mK_A | with_reducible apply mK_I | with_reducible apply mK_L | with_reducible apply mK_R | with_reducible apply mK_O | with_reducible apply mK_G | with_reducible refine mK_NA ?_ (by assumption) | with_reducible refine mK_NO ?_ (by assumption))) (by decide) (lw_SU5 q2811 q2807 q1028 q2806 q142 q2812) (by decide +kernel) ⟨(Nat.le_of_ble_eq_true rfl), (Nat.le_of_ble_eq_true rfl)⟩ rfl rfl (Nat.le_of_ble_eq_true rfl) (by first | exact Nat.le_of_ble_eq_true rfl | omega) (by first | exact Nat.le_of_ble_eq_true rfl | omega) rfl (fun v_1 M_2 h_4 hE_3 => ?_)
  obtain ⟨rfl, hMs⟩ := h_4
  have hMs := hMs.symm
  subst hMs
  refine x_forkN (J := 18) (x_if_ne (n' := 8) (tgt := 13) dX21_isUnder_5 (by decide) rfl) (v1 := ?v1_f5_5) (v2 := ?v2_f5_5) (fun c_f5_5 j_f5_5 => ?b1_f5_5) (fun c_f5_5 j_f5_5 => ?b2_f5_5) ?k_f5_5
  case b1_f5_5 =>
    refine x_iconst (n' := 14) (v := 1) dX21_isUnder_13 (by decide) rfl ?_
    refine x_goto (tgt := 18) dX21_isUnder_14 (by decide) ?_
    exact j_f5_5
  case b2_f5_5 =>
    refine x_iload_n (n' := 9) dX21_isUnder_8 rfl rfl rfl ?_
    refine x_iconst (n' := 10) (v := 2) dX21_isUnder_9 (by decide) rfl ?_
    refine x_forkN (J := 18) (x_icmp_ne (n' := 13) (tgt := 17) dX21_isUnder_10 (by decide) rfl) (v1 := ?v1_f10_6) (v2 := ?v2_f10_6) (fun c_f10_6 j_f10_6 => ?b1_f10_6) (fun c_f10_6 j_f10_6 => ?b2_f10_6) ?k_f10_6
    case b1_f10_6 =>
      refine x_iconst (n' := 18) (v := 0) dX21_isUnder_17 (by decide) rfl ?_
      exact j_f10_6
    case b2_f10_6 =>
      refine x_iconst (n' := 14) (v := 1) dX21_isUnder_13 (by decide) rfl ?_
      refine x_goto (tgt := 18) dX21_isUnder_14 (by decide) ?_
      exact j_f10_6
    exact j_f5_5
  refine x_topv (y := bi (((z = 0 ∨ z = 7) ∨ z = 2))) (by have e1 : ¬ (5 : Int32) ≤ 3 := (by decide); have e2 : ¬ (5 : Int32) ≤ 4 := (by decide); have e3 : (5 : Int32) ≤ 5 ∧ (5 : Int32) ≤ 6 := (by decide); first | (unfold underP bi; grind) | (unfold bi; grind)) ?_
  exact x_zret dX21_isUnder_18 hret (k_zn (bi_01 _)) (by repeat' (first | with_reducible exact kE.rf | with_reducible exact hE_3 | with_reducible apply kE_A | with_reducible apply kE_I | with_reducible apply kE_L | with_reducible apply kE_R | with_reducible apply kE_O | with_reducible apply kE_G | with_reducible refine kE.tr ?_ hE_3)) (⟨rfl, rfl⟩)

set_option maxHeartbeats 800000 in
set_option maxRecDepth 100000 in
theorem c_X24_isUnder__24 (l : Launch) (G : kG) (M : kM) (b : Nat) (z : Int32) (hb : mK M b = some 24) : Kt l G yX24_isUnder cX24_isUnder 2 (some .boolean) 5 102 [.ref b, .int z] M (0) (0) (fun v M2 => v = some (.int (bi (underP 7 z))) ∧ M2 = M) := by
  refine Kt.of (own := "KeptLight$Mail") (L := [some (.ref b), some (.int z)]) (by decide +kernel) rfl (Nat.le_of_ble_eq_true rfl) rfl ?_
  intro pp ee ss mm args below meth cd hmn hret
  refine x_aload_n (n' := 1) dX24_isUnder_0 rfl rfl rfl ?_
  refine x_iload_n (n' := 2) dX24_isUnder_1 rfl rfl rfl ?_
  refine x_callSUx (n' := 5) (n := 1) (K := 24) (sup := "KeptLight$Liner") (c_X21_isUnder__24 l G _ b z hb) dX24_isUnder_2 (by repeat' (first | with_reducible exact hb | with_reducible apply mK_A | with_reducible apply mK_I | with_reducible apply mK_L | with_reducible apply mK_R | with_reducible apply mK_O | with_reducible apply mK_G | with_reducible refine mK_NA ?_ (by assumption) | with_reducible refine mK_NO ?_ (by assumption))) (by decide) (lw_meth q2810) q2822 q2823 (fun s9 h9 => kUp1 (h9 _ q1026) (h9 _ q1027)) q2809 q146 (by decide +kernel) ⟨(Nat.le_of_ble_eq_true rfl), (Nat.le_of_ble_eq_true rfl)⟩ rfl rfl (Nat.le_of_ble_eq_true rfl) (by first | exact Nat.le_of_ble_eq_true rfl | omega) (by first | exact Nat.le_of_ble_eq_true rfl | omega) rfl (fun v_1 M_2 h_4 hE_3 => ?_)
  obtain ⟨rfl, hMs⟩ := h_4
  have hMs := hMs.symm
  subst hMs
  refine x_forkN (J := 19) (x_if_ne (n' := 8) (tgt := 14) dX24_isUnder_5 (by decide) rfl) (v1 := ?v1_f5_5) (v2 := ?v2_f5_5) (fun c_f5_5 j_f5_5 => ?b1_f5_5) (fun c_f5_5 j_f5_5 => ?b2_f5_5) ?k_f5_5
  case b1_f5_5 =>
    refine x_iconst (n' := 15) (v := 1) dX24_isUnder_14 (by decide) rfl ?_
    refine x_goto (tgt := 19) dX24_isUnder_15 (by decide) ?_
    exact j_f5_5
  case b2_f5_5 =>
    refine x_iload_n (n' := 9) dX24_isUnder_8 rfl rfl rfl ?_
    refine x_bipush (n' := 11) (v := 6) dX24_isUnder_9 (by decide) rfl ?_
    refine x_forkN (J := 19) (x_icmp_ne (n' := 14) (tgt := 18) dX24_isUnder_11 (by decide) rfl) (v1 := ?v1_f11_6) (v2 := ?v2_f11_6) (fun c_f11_6 j_f11_6 => ?b1_f11_6) (fun c_f11_6 j_f11_6 => ?b2_f11_6) ?k_f11_6
    case b1_f11_6 =>
      refine x_iconst (n' := 19) (v := 0) dX24_isUnder_18 (by decide) rfl ?_
      exact j_f11_6
    case b2_f11_6 =>
      refine x_iconst (n' := 15) (v := 1) dX24_isUnder_14 (by decide) rfl ?_
      refine x_goto (tgt := 19) dX24_isUnder_15 (by decide) ?_
      exact j_f11_6
    exact j_f5_5
  have e3 : (5 : Int32) ≤ 7 := by decide
  refine x_topv (y := bi (underP 7 z)) (by unfold underP bi; grind) ?_
  exact x_zret dX24_isUnder_19 hret (k_zn (bi_01 _)) (by repeat' (first | with_reducible exact kE.rf | with_reducible exact hE_3 | with_reducible apply kE_A | with_reducible apply kE_I | with_reducible apply kE_L | with_reducible apply kE_R | with_reducible apply kE_O | with_reducible apply kE_G | with_reducible refine kE.tr ?_ hE_3)) (⟨rfl, rfl⟩)

theorem ffX17_18_19 : FF "KeptLight$Ship" 18 19 0 "KeptLight$Ship" := ⟨by decide, by decide, q2068, Or.inl rfl⟩
theorem ffX17_21_19 : FF "KeptLight$Ship" 21 19 1 "KeptLight$Ship" := ⟨by decide, by decide, q2073, Or.inl rfl⟩
set_option maxHeartbeats 800000 in
set_option maxRecDepth 100000 in
theorem c_X17_init__19 (l : Launch) (G : kG) (M : kM) (b : Nat) (n h : Int32) (hb : mK M b = some 19) : Kt l G yX17_init cX17_init 3 none 1 20 [.ref b, .int n, .int h] M (0) (0) (fun v M2 => v = none ∧ M2 = shI M b n h) := by
  refine Kt.of (own := "KeptLight$Ship") (L := [some (.ref b), some (.int n), some (.int h)]) (by decide +kernel) rfl (Nat.le_of_ble_eq_true rfl) rfl ?_
  intro pp ee ss mm args below meth cd hmn hret
  refine x_aload_n (n' := 1) dX17_init_0 rfl rfl rfl ?_
  refine x_objInit (n' := 4) dX17_init_1 q2067 ⟨(Nat.le_of_ble_eq_true rfl), (Nat.le_of_ble_eq_true rfl)⟩ (Nat.le_of_ble_eq_true rfl) rfl ?_
  refine x_aload_n (n' := 5) dX17_init_4 rfl rfl rfl ?_
  refine x_iconst (n' := 6) (v := -1) dX17_init_5 (by decide) rfl ?_
  refine x_putI (n' := 9) dX17_init_6 (by repeat' (first | with_reducible exact hb | with_reducible apply mK_A | with_reducible apply mK_I | with_reducible apply mK_L | with_reducible apply mK_R | with_reducible apply mK_O | with_reducible apply mK_G | with_reducible refine mK_NA ?_ (by assumption) | with_reducible refine mK_NO ?_ (by assumption))) ffX17_9_19 rfl (⟨rfl, rfl⟩) rfl rfl ?_
  refine x_aload_n (n' := 10) dX17_init_9 rfl rfl rfl ?_
  refine x_iconst (n' := 11) (v := -1) dX17_init_10 (by decide) rfl ?_
  refine x_putI (n' := 14) dX17_init_11 (by repeat' (first | with_reducible exact hb | with_reducible apply mK_A | with_reducible apply mK_I | with_reducible apply mK_L | with_reducible apply mK_R | with_reducible apply mK_O | with_reducible apply mK_G | with_reducible refine mK_NA ?_ (by assumption) | with_reducible refine mK_NO ?_ (by assumption))) ffX17_15_19 rfl (⟨rfl, rfl⟩) rfl rfl ?_
  refine x_aload_n (n' := 15) dX17_init_14 rfl rfl rfl ?_
  refine x_iload_n (n' := 16) dX17_init_15 rfl rfl rfl ?_
  refine x_putIF (n' := 19) dX17_init_16 (by repeat' (first | with_reducible exact hb | with_reducible apply mK_A | with_reducible apply mK_I | with_reducible apply mK_L | with_reducible apply mK_R | with_reducible apply mK_O | with_reducible apply mK_G | with_reducible refine mK_NA ?_ (by assumption) | with_reducible refine mK_NO ?_ (by assumption))) ffX17_18_19 rfl (⟨rfl, rfl⟩) rfl hmn rfl rfl ?_
  refine x_aload_n (n' := 20) dX17_init_19 rfl rfl rfl ?_
  refine x_iload_n (n' := 21) dX17_init_20 rfl rfl rfl ?_
  refine x_putIF (n' := 24) dX17_init_21 (by repeat' (first | with_reducible exact hb | with_reducible apply mK_A | with_reducible apply mK_I | with_reducible apply mK_L | with_reducible apply mK_R | with_reducible apply mK_O | with_reducible apply mK_G | with_reducible refine mK_NA ?_ (by assumption) | with_reducible refine mK_NO ?_ (by assumption))) ffX17_21_19 rfl (⟨rfl, rfl⟩) rfl hmn rfl rfl ?_
  exact x_vret dX17_init_24 hret (by repeat' (first | with_reducible exact kE.rf | with_reducible apply kE_A | with_reducible apply kE_I | with_reducible apply kE_L | with_reducible apply kE_R | with_reducible apply kE_O | with_reducible apply kE_G)) (⟨rfl, rfl⟩)

set_option maxHeartbeats 800000 in
set_option maxRecDepth 100000 in
theorem c_X18_init__19 (l : Launch) (G : kG) (M : kM) (b : Nat) (n h : Int32) (hb : mK M b = some 19) : Kt l G yX18_init cX18_init 3 none 2 42 [.ref b, .int n, .int h] M (0) (0) (fun v M2 => v = none ∧ M2 = shI M b n h) := by
  refine Kt.of (own := "KeptLight$Small") (L := [some (.ref b), some (.int n), some (.int h)]) (by decide +kernel) rfl (Nat.le_of_ble_eq_true rfl) rfl ?_
  intro pp ee ss mm args below meth cd hmn hret
  refine x_aload_n (n' := 1) dX18_init_0 rfl rfl rfl ?_
  refine x_iload_n (n' := 2) dX18_init_1 rfl rfl rfl ?_
  refine x_iload_n (n' := 3) dX18_init_2 rfl rfl rfl ?_
  refine x_callI (n' := 6) (ret := none) (n := 2) (c_X17_init__19 l G _ b n h hb) dX18_init_3 (lw_meth q2066) q142 q2064 q2065 rfl (by decide +kernel) ⟨(Nat.le_of_ble_eq_true rfl), (Nat.le_of_ble_eq_true rfl)⟩ rfl rfl (Nat.le_of_ble_eq_true rfl) (by first | exact Nat.le_of_ble_eq_true rfl | omega) (by first | exact Nat.le_of_ble_eq_true rfl | omega) rfl (fun v_1 M_2 h_4 hE_3 => ?_)
  obtain ⟨rfl, hMs⟩ := h_4
  have hMs := hMs.symm
  subst hMs
  exact x_vret dX18_init_6 hret (by repeat' (first | with_reducible exact kE.rf | with_reducible exact hE_3 | with_reducible apply kE_A | with_reducible apply kE_I | with_reducible apply kE_L | with_reducible apply kE_R | with_reducible apply kE_O | with_reducible apply kE_G | with_reducible refine kE.tr ?_ hE_3)) (⟨rfl, rfl⟩)

set_option maxHeartbeats 800000 in
set_option maxRecDepth 100000 in
theorem c_X19_init__19 (l : Launch) (G : kG) (M : kM) (b : Nat) (n h : Int32) (hb : mK M b = some 19) : Kt l G yX19_init cX19_init 3 none 3 64 [.ref b, .int n, .int h] M (0) (0) (fun v M2 => v = none ∧ M2 = shI M b n h) := by
  refine Kt.of (own := "KeptLight$Fisher") (L := [some (.ref b), some (.int n), some (.int h)]) (by decide +kernel) rfl (Nat.le_of_ble_eq_true rfl) rfl ?_
  intro pp ee ss mm args below meth cd hmn hret
  refine x_aload_n (n' := 1) dX19_init_0 rfl rfl rfl ?_
  refine x_iload_n (n' := 2) dX19_init_1 rfl rfl rfl ?_
  refine x_iload_n (n' := 3) dX19_init_2 rfl rfl rfl ?_
  refine x_callI (n' := 6) (ret := none) (n := 2) (c_X18_init__19 l G _ b n h hb) dX19_init_3 (lw_meth q2063) q143 q2061 q2062 rfl (by decide +kernel) ⟨(Nat.le_of_ble_eq_true rfl), (Nat.le_of_ble_eq_true rfl)⟩ rfl rfl (Nat.le_of_ble_eq_true rfl) (by first | exact Nat.le_of_ble_eq_true rfl | omega) (by first | exact Nat.le_of_ble_eq_true rfl | omega) rfl (fun v_1 M_2 h_4 hE_3 => ?_)
  obtain ⟨rfl, hMs⟩ := h_4
  have hMs := hMs.symm
  subst hMs
  exact x_vret dX19_init_6 hret (by repeat' (first | with_reducible exact kE.rf | with_reducible exact hE_3 | with_reducible apply kE_A | with_reducible apply kE_I | with_reducible apply kE_L | with_reducible apply kE_R | with_reducible apply kE_O | with_reducible apply kE_G | with_reducible refine kE.tr ?_ hE_3)) (⟨rfl, rfl⟩)

theorem ffX17_18_20 : FF "KeptLight$Ship" 18 20 0 "KeptLight$Ship" := ⟨by decide, by decide, q2068, Or.inl rfl⟩
theorem ffX17_21_20 : FF "KeptLight$Ship" 21 20 1 "KeptLight$Ship" := ⟨by decide, by decide, q2073, Or.inl rfl⟩
set_option maxHeartbeats 800000 in
set_option maxRecDepth 100000 in
theorem c_X17_init__20 (l : Launch) (G : kG) (M : kM) (b : Nat) (n h : Int32) (hb : mK M b = some 20) : Kt l G yX17_init cX17_init 3 none 1 20 [.ref b, .int n, .int h] M (0) (0) (fun v M2 => v = none ∧ M2 = shI M b n h) := by
  refine Kt.of (own := "KeptLight$Ship") (L := [some (.ref b), some (.int n), some (.int h)]) (by decide +kernel) rfl (Nat.le_of_ble_eq_true rfl) rfl ?_
  intro pp ee ss mm args below meth cd hmn hret
  refine x_aload_n (n' := 1) dX17_init_0 rfl rfl rfl ?_
  refine x_objInit (n' := 4) dX17_init_1 q2067 ⟨(Nat.le_of_ble_eq_true rfl), (Nat.le_of_ble_eq_true rfl)⟩ (Nat.le_of_ble_eq_true rfl) rfl ?_
  refine x_aload_n (n' := 5) dX17_init_4 rfl rfl rfl ?_
  refine x_iconst (n' := 6) (v := -1) dX17_init_5 (by decide) rfl ?_
  refine x_putI (n' := 9) dX17_init_6 (by repeat' (first | with_reducible exact hb | with_reducible apply mK_A | with_reducible apply mK_I | with_reducible apply mK_L | with_reducible apply mK_R | with_reducible apply mK_O | with_reducible apply mK_G | with_reducible refine mK_NA ?_ (by assumption) | with_reducible refine mK_NO ?_ (by assumption))) ffX17_9_20 rfl (⟨rfl, rfl⟩) rfl rfl ?_
  refine x_aload_n (n' := 10) dX17_init_9 rfl rfl rfl ?_
  refine x_iconst (n' := 11) (v := -1) dX17_init_10 (by decide) rfl ?_
  refine x_putI (n' := 14) dX17_init_11 (by repeat' (first | with_reducible exact hb | with_reducible apply mK_A | with_reducible apply mK_I | with_reducible apply mK_L | with_reducible apply mK_R | with_reducible apply mK_O | with_reducible apply mK_G | with_reducible refine mK_NA ?_ (by assumption) | with_reducible refine mK_NO ?_ (by assumption))) ffX17_15_20 rfl (⟨rfl, rfl⟩) rfl rfl ?_
  refine x_aload_n (n' := 15) dX17_init_14 rfl rfl rfl ?_
  refine x_iload_n (n' := 16) dX17_init_15 rfl rfl rfl ?_
  refine x_putIF (n' := 19) dX17_init_16 (by repeat' (first | with_reducible exact hb | with_reducible apply mK_A | with_reducible apply mK_I | with_reducible apply mK_L | with_reducible apply mK_R | with_reducible apply mK_O | with_reducible apply mK_G | with_reducible refine mK_NA ?_ (by assumption) | with_reducible refine mK_NO ?_ (by assumption))) ffX17_18_20 rfl (⟨rfl, rfl⟩) rfl hmn rfl rfl ?_
  refine x_aload_n (n' := 20) dX17_init_19 rfl rfl rfl ?_
  refine x_iload_n (n' := 21) dX17_init_20 rfl rfl rfl ?_
  refine x_putIF (n' := 24) dX17_init_21 (by repeat' (first | with_reducible exact hb | with_reducible apply mK_A | with_reducible apply mK_I | with_reducible apply mK_L | with_reducible apply mK_R | with_reducible apply mK_O | with_reducible apply mK_G | with_reducible refine mK_NA ?_ (by assumption) | with_reducible refine mK_NO ?_ (by assumption))) ffX17_21_20 rfl (⟨rfl, rfl⟩) rfl hmn rfl rfl ?_
  exact x_vret dX17_init_24 hret (by repeat' (first | with_reducible exact kE.rf | with_reducible apply kE_A | with_reducible apply kE_I | with_reducible apply kE_L | with_reducible apply kE_R | with_reducible apply kE_O | with_reducible apply kE_G)) (⟨rfl, rfl⟩)

set_option maxHeartbeats 800000 in
set_option maxRecDepth 100000 in
theorem c_X18_init__20 (l : Launch) (G : kG) (M : kM) (b : Nat) (n h : Int32) (hb : mK M b = some 20) : Kt l G yX18_init cX18_init 3 none 2 42 [.ref b, .int n, .int h] M (0) (0) (fun v M2 => v = none ∧ M2 = shI M b n h) := by
  refine Kt.of (own := "KeptLight$Small") (L := [some (.ref b), some (.int n), some (.int h)]) (by decide +kernel) rfl (Nat.le_of_ble_eq_true rfl) rfl ?_
  intro pp ee ss mm args below meth cd hmn hret
  refine x_aload_n (n' := 1) dX18_init_0 rfl rfl rfl ?_
  refine x_iload_n (n' := 2) dX18_init_1 rfl rfl rfl ?_
  refine x_iload_n (n' := 3) dX18_init_2 rfl rfl rfl ?_
  refine x_callI (n' := 6) (ret := none) (n := 2) (c_X17_init__20 l G _ b n h hb) dX18_init_3 (lw_meth q2066) q142 q2064 q2065 rfl (by decide +kernel) ⟨(Nat.le_of_ble_eq_true rfl), (Nat.le_of_ble_eq_true rfl)⟩ rfl rfl (Nat.le_of_ble_eq_true rfl) (by first | exact Nat.le_of_ble_eq_true rfl | omega) (by first | exact Nat.le_of_ble_eq_true rfl | omega) rfl (fun v_1 M_2 h_4 hE_3 => ?_)
  obtain ⟨rfl, hMs⟩ := h_4
  have hMs := hMs.symm
  subst hMs
  exact x_vret dX18_init_6 hret (by repeat' (first | with_reducible exact kE.rf | with_reducible exact hE_3 | with_reducible apply kE_A | with_reducible apply kE_I | with_reducible apply kE_L | with_reducible apply kE_R | with_reducible apply kE_O | with_reducible apply kE_G | with_reducible refine kE.tr ?_ hE_3)) (⟨rfl, rfl⟩)

set_option maxHeartbeats 800000 in
set_option maxRecDepth 100000 in
theorem c_X20_init__20 (l : Launch) (G : kG) (M : kM) (b : Nat) (n h : Int32) (hb : mK M b = some 20) : Kt l G yX20_init cX20_init 3 none 3 64 [.ref b, .int n, .int h] M (0) (0) (fun v M2 => v = none ∧ M2 = shI M b n h) := by
  refine Kt.of (own := "KeptLight$Pilot") (L := [some (.ref b), some (.int n), some (.int h)]) (by decide +kernel) rfl (Nat.le_of_ble_eq_true rfl) rfl ?_
  intro pp ee ss mm args below meth cd hmn hret
  refine x_aload_n (n' := 1) dX20_init_0 rfl rfl rfl ?_
  refine x_iload_n (n' := 2) dX20_init_1 rfl rfl rfl ?_
  refine x_iload_n (n' := 3) dX20_init_2 rfl rfl rfl ?_
  refine x_callI (n' := 6) (ret := none) (n := 2) (c_X18_init__20 l G _ b n h hb) dX20_init_3 (lw_meth q2063) q143 q2105 q2062 rfl (by decide +kernel) ⟨(Nat.le_of_ble_eq_true rfl), (Nat.le_of_ble_eq_true rfl)⟩ rfl rfl (Nat.le_of_ble_eq_true rfl) (by first | exact Nat.le_of_ble_eq_true rfl | omega) (by first | exact Nat.le_of_ble_eq_true rfl | omega) rfl (fun v_1 M_2 h_4 hE_3 => ?_)
  obtain ⟨rfl, hMs⟩ := h_4
  have hMs := hMs.symm
  subst hMs
  exact x_vret dX20_init_6 hret (by repeat' (first | with_reducible exact kE.rf | with_reducible exact hE_3 | with_reducible apply kE_A | with_reducible apply kE_I | with_reducible apply kE_L | with_reducible apply kE_R | with_reducible apply kE_O | with_reducible apply kE_G | with_reducible refine kE.tr ?_ hE_3)) (⟨rfl, rfl⟩)

theorem ffX17_18_22 : FF "KeptLight$Ship" 18 22 0 "KeptLight$Ship" := ⟨by decide, by decide, q2068, Or.inl rfl⟩
theorem ffX17_21_22 : FF "KeptLight$Ship" 21 22 1 "KeptLight$Ship" := ⟨by decide, by decide, q2073, Or.inl rfl⟩
set_option maxHeartbeats 800000 in
set_option maxRecDepth 100000 in
theorem c_X17_init__22 (l : Launch) (G : kG) (M : kM) (b : Nat) (n h : Int32) (hb : mK M b = some 22) : Kt l G yX17_init cX17_init 3 none 1 20 [.ref b, .int n, .int h] M (0) (0) (fun v M2 => v = none ∧ M2 = shI M b n h) := by
  refine Kt.of (own := "KeptLight$Ship") (L := [some (.ref b), some (.int n), some (.int h)]) (by decide +kernel) rfl (Nat.le_of_ble_eq_true rfl) rfl ?_
  intro pp ee ss mm args below meth cd hmn hret
  refine x_aload_n (n' := 1) dX17_init_0 rfl rfl rfl ?_
  refine x_objInit (n' := 4) dX17_init_1 q2067 ⟨(Nat.le_of_ble_eq_true rfl), (Nat.le_of_ble_eq_true rfl)⟩ (Nat.le_of_ble_eq_true rfl) rfl ?_
  refine x_aload_n (n' := 5) dX17_init_4 rfl rfl rfl ?_
  refine x_iconst (n' := 6) (v := -1) dX17_init_5 (by decide) rfl ?_
  refine x_putI (n' := 9) dX17_init_6 (by repeat' (first | with_reducible exact hb | with_reducible apply mK_A | with_reducible apply mK_I | with_reducible apply mK_L | with_reducible apply mK_R | with_reducible apply mK_O | with_reducible apply mK_G | with_reducible refine mK_NA ?_ (by assumption) | with_reducible refine mK_NO ?_ (by assumption))) ffX17_9_22 rfl (⟨rfl, rfl⟩) rfl rfl ?_
  refine x_aload_n (n' := 10) dX17_init_9 rfl rfl rfl ?_
  refine x_iconst (n' := 11) (v := -1) dX17_init_10 (by decide) rfl ?_
  refine x_putI (n' := 14) dX17_init_11 (by repeat' (first | with_reducible exact hb | with_reducible apply mK_A | with_reducible apply mK_I | with_reducible apply mK_L | with_reducible apply mK_R | with_reducible apply mK_O | with_reducible apply mK_G | with_reducible refine mK_NA ?_ (by assumption) | with_reducible refine mK_NO ?_ (by assumption))) ffX17_15_22 rfl (⟨rfl, rfl⟩) rfl rfl ?_
  refine x_aload_n (n' := 15) dX17_init_14 rfl rfl rfl ?_
  refine x_iload_n (n' := 16) dX17_init_15 rfl rfl rfl ?_
  refine x_putIF (n' := 19) dX17_init_16 (by repeat' (first | with_reducible exact hb | with_reducible apply mK_A | with_reducible apply mK_I | with_reducible apply mK_L | with_reducible apply mK_R | with_reducible apply mK_O | with_reducible apply mK_G | with_reducible refine mK_NA ?_ (by assumption) | with_reducible refine mK_NO ?_ (by assumption))) ffX17_18_22 rfl (⟨rfl, rfl⟩) rfl hmn rfl rfl ?_
  refine x_aload_n (n' := 20) dX17_init_19 rfl rfl rfl ?_
  refine x_iload_n (n' := 21) dX17_init_20 rfl rfl rfl ?_
  refine x_putIF (n' := 24) dX17_init_21 (by repeat' (first | with_reducible exact hb | with_reducible apply mK_A | with_reducible apply mK_I | with_reducible apply mK_L | with_reducible apply mK_R | with_reducible apply mK_O | with_reducible apply mK_G | with_reducible refine mK_NA ?_ (by assumption) | with_reducible refine mK_NO ?_ (by assumption))) ffX17_21_22 rfl (⟨rfl, rfl⟩) rfl hmn rfl rfl ?_
  exact x_vret dX17_init_24 hret (by repeat' (first | with_reducible exact kE.rf | with_reducible apply kE_A | with_reducible apply kE_I | with_reducible apply kE_L | with_reducible apply kE_R | with_reducible apply kE_O | with_reducible apply kE_G)) (⟨rfl, rfl⟩)

set_option maxHeartbeats 800000 in
set_option maxRecDepth 100000 in
theorem c_X21_init__22 (l : Launch) (G : kG) (M : kM) (b : Nat) (n h : Int32) (hb : mK M b = some 22) : Kt l G yX21_init cX21_init 3 none 2 42 [.ref b, .int n, .int h] M (0) (0) (fun v M2 => v = none ∧ M2 = shI M b n h) := by
  refine Kt.of (own := "KeptLight$Great") (L := [some (.ref b), some (.int n), some (.int h)]) (by decide +kernel) rfl (Nat.le_of_ble_eq_true rfl) rfl ?_
  intro pp ee ss mm args below meth cd hmn hret
  refine x_aload_n (n' := 1) dX21_init_0 rfl rfl rfl ?_
  refine x_iload_n (n' := 2) dX21_init_1 rfl rfl rfl ?_
  refine x_iload_n (n' := 3) dX21_init_2 rfl rfl rfl ?_
  refine x_callI (n' := 6) (ret := none) (n := 2) (c_X17_init__22 l G _ b n h hb) dX21_init_3 (lw_meth q2066) q142 q2118 q2065 rfl (by decide +kernel) ⟨(Nat.le_of_ble_eq_true rfl), (Nat.le_of_ble_eq_true rfl)⟩ rfl rfl (Nat.le_of_ble_eq_true rfl) (by first | exact Nat.le_of_ble_eq_true rfl | omega) (by first | exact Nat.le_of_ble_eq_true rfl | omega) rfl (fun v_1 M_2 h_4 hE_3 => ?_)
  obtain ⟨rfl, hMs⟩ := h_4
  have hMs := hMs.symm
  subst hMs
  exact x_vret dX21_init_6 hret (by repeat' (first | with_reducible exact kE.rf | with_reducible exact hE_3 | with_reducible apply kE_A | with_reducible apply kE_I | with_reducible apply kE_L | with_reducible apply kE_R | with_reducible apply kE_O | with_reducible apply kE_G | with_reducible refine kE.tr ?_ hE_3)) (⟨rfl, rfl⟩)

set_option maxHeartbeats 800000 in
set_option maxRecDepth 100000 in
theorem c_X22_init__22 (l : Launch) (G : kG) (M : kM) (b : Nat) (n h : Int32) (hb : mK M b = some 22) : Kt l G yX22_init cX22_init 3 none 3 64 [.ref b, .int n, .int h] M (0) (0) (fun v M2 => v = none ∧ M2 = shI M b n h) := by
  refine Kt.of (own := "KeptLight$Coaster") (L := [some (.ref b), some (.int n), some (.int h)]) (by decide +kernel) rfl (Nat.le_of_ble_eq_true rfl) rfl ?_
  intro pp ee ss mm args below meth cd hmn hret
  refine x_aload_n (n' := 1) dX22_init_0 rfl rfl rfl ?_
  refine x_iload_n (n' := 2) dX22_init_1 rfl rfl rfl ?_
  refine x_iload_n (n' := 3) dX22_init_2 rfl rfl rfl ?_
  refine x_callI (n' := 6) (ret := none) (n := 2) (c_X21_init__22 l G _ b n h hb) dX22_init_3 (lw_meth q2117) q146 q2115 q2116 rfl (by decide +kernel) ⟨(Nat.le_of_ble_eq_true rfl), (Nat.le_of_ble_eq_true rfl)⟩ rfl rfl (Nat.le_of_ble_eq_true rfl) (by first | exact Nat.le_of_ble_eq_true rfl | omega) (by first | exact Nat.le_of_ble_eq_true rfl | omega) rfl (fun v_1 M_2 h_4 hE_3 => ?_)
  obtain ⟨rfl, hMs⟩ := h_4
  have hMs := hMs.symm
  subst hMs
  exact x_vret dX22_init_6 hret (by repeat' (first | with_reducible exact kE.rf | with_reducible exact hE_3 | with_reducible apply kE_A | with_reducible apply kE_I | with_reducible apply kE_L | with_reducible apply kE_R | with_reducible apply kE_O | with_reducible apply kE_G | with_reducible refine kE.tr ?_ hE_3)) (⟨rfl, rfl⟩)

theorem ffX17_18_23 : FF "KeptLight$Ship" 18 23 0 "KeptLight$Ship" := ⟨by decide, by decide, q2068, Or.inl rfl⟩
theorem ffX17_21_23 : FF "KeptLight$Ship" 21 23 1 "KeptLight$Ship" := ⟨by decide, by decide, q2073, Or.inl rfl⟩
set_option maxHeartbeats 800000 in
set_option maxRecDepth 100000 in
theorem c_X17_init__23 (l : Launch) (G : kG) (M : kM) (b : Nat) (n h : Int32) (hb : mK M b = some 23) : Kt l G yX17_init cX17_init 3 none 1 20 [.ref b, .int n, .int h] M (0) (0) (fun v M2 => v = none ∧ M2 = shI M b n h) := by
  refine Kt.of (own := "KeptLight$Ship") (L := [some (.ref b), some (.int n), some (.int h)]) (by decide +kernel) rfl (Nat.le_of_ble_eq_true rfl) rfl ?_
  intro pp ee ss mm args below meth cd hmn hret
  refine x_aload_n (n' := 1) dX17_init_0 rfl rfl rfl ?_
  refine x_objInit (n' := 4) dX17_init_1 q2067 ⟨(Nat.le_of_ble_eq_true rfl), (Nat.le_of_ble_eq_true rfl)⟩ (Nat.le_of_ble_eq_true rfl) rfl ?_
  refine x_aload_n (n' := 5) dX17_init_4 rfl rfl rfl ?_
  refine x_iconst (n' := 6) (v := -1) dX17_init_5 (by decide) rfl ?_
  refine x_putI (n' := 9) dX17_init_6 (by repeat' (first | with_reducible exact hb | with_reducible apply mK_A | with_reducible apply mK_I | with_reducible apply mK_L | with_reducible apply mK_R | with_reducible apply mK_O | with_reducible apply mK_G | with_reducible refine mK_NA ?_ (by assumption) | with_reducible refine mK_NO ?_ (by assumption))) ffX17_9_23 rfl (⟨rfl, rfl⟩) rfl rfl ?_
  refine x_aload_n (n' := 10) dX17_init_9 rfl rfl rfl ?_
  refine x_iconst (n' := 11) (v := -1) dX17_init_10 (by decide) rfl ?_
  refine x_putI (n' := 14) dX17_init_11 (by repeat' (first | with_reducible exact hb | with_reducible apply mK_A | with_reducible apply mK_I | with_reducible apply mK_L | with_reducible apply mK_R | with_reducible apply mK_O | with_reducible apply mK_G | with_reducible refine mK_NA ?_ (by assumption) | with_reducible refine mK_NO ?_ (by assumption))) ffX17_15_23 rfl (⟨rfl, rfl⟩) rfl rfl ?_
  refine x_aload_n (n' := 15) dX17_init_14 rfl rfl rfl ?_
  refine x_iload_n (n' := 16) dX17_init_15 rfl rfl rfl ?_
  refine x_putIF (n' := 19) dX17_init_16 (by repeat' (first | with_reducible exact hb | with_reducible apply mK_A | with_reducible apply mK_I | with_reducible apply mK_L | with_reducible apply mK_R | with_reducible apply mK_O | with_reducible apply mK_G | with_reducible refine mK_NA ?_ (by assumption) | with_reducible refine mK_NO ?_ (by assumption))) ffX17_18_23 rfl (⟨rfl, rfl⟩) rfl hmn rfl rfl ?_
  refine x_aload_n (n' := 20) dX17_init_19 rfl rfl rfl ?_
  refine x_iload_n (n' := 21) dX17_init_20 rfl rfl rfl ?_
  refine x_putIF (n' := 24) dX17_init_21 (by repeat' (first | with_reducible exact hb | with_reducible apply mK_A | with_reducible apply mK_I | with_reducible apply mK_L | with_reducible apply mK_R | with_reducible apply mK_O | with_reducible apply mK_G | with_reducible refine mK_NA ?_ (by assumption) | with_reducible refine mK_NO ?_ (by assumption))) ffX17_21_23 rfl (⟨rfl, rfl⟩) rfl hmn rfl rfl ?_
  exact x_vret dX17_init_24 hret (by repeat' (first | with_reducible exact kE.rf | with_reducible apply kE_A | with_reducible apply kE_I | with_reducible apply kE_L | with_reducible apply kE_R | with_reducible apply kE_O | with_reducible apply kE_G)) (⟨rfl, rfl⟩)

set_option maxHeartbeats 800000 in
set_option maxRecDepth 100000 in
theorem c_X21_init__23 (l : Launch) (G : kG) (M : kM) (b : Nat) (n h : Int32) (hb : mK M b = some 23) : Kt l G yX21_init cX21_init 3 none 2 42 [.ref b, .int n, .int h] M (0) (0) (fun v M2 => v = none ∧ M2 = shI M b n h) := by
  refine Kt.of (own := "KeptLight$Great") (L := [some (.ref b), some (.int n), some (.int h)]) (by decide +kernel) rfl (Nat.le_of_ble_eq_true rfl) rfl ?_
  intro pp ee ss mm args below meth cd hmn hret
  refine x_aload_n (n' := 1) dX21_init_0 rfl rfl rfl ?_
  refine x_iload_n (n' := 2) dX21_init_1 rfl rfl rfl ?_
  refine x_iload_n (n' := 3) dX21_init_2 rfl rfl rfl ?_
  refine x_callI (n' := 6) (ret := none) (n := 2) (c_X17_init__23 l G _ b n h hb) dX21_init_3 (lw_meth q2066) q142 q2118 q2065 rfl (by decide +kernel) ⟨(Nat.le_of_ble_eq_true rfl), (Nat.le_of_ble_eq_true rfl)⟩ rfl rfl (Nat.le_of_ble_eq_true rfl) (by first | exact Nat.le_of_ble_eq_true rfl | omega) (by first | exact Nat.le_of_ble_eq_true rfl | omega) rfl (fun v_1 M_2 h_4 hE_3 => ?_)
  obtain ⟨rfl, hMs⟩ := h_4
  have hMs := hMs.symm
  subst hMs
  exact x_vret dX21_init_6 hret (by repeat' (first | with_reducible exact kE.rf | with_reducible exact hE_3 | with_reducible apply kE_A | with_reducible apply kE_I | with_reducible apply kE_L | with_reducible apply kE_R | with_reducible apply kE_O | with_reducible apply kE_G | with_reducible refine kE.tr ?_ hE_3)) (⟨rfl, rfl⟩)

set_option maxHeartbeats 800000 in
set_option maxRecDepth 100000 in
theorem c_X23_init__23 (l : Launch) (G : kG) (M : kM) (b : Nat) (n h : Int32) (hb : mK M b = some 23) : Kt l G yX23_init cX23_init 3 none 3 64 [.ref b, .int n, .int h] M (0) (0) (fun v M2 => v = none ∧ M2 = shI M b n h) := by
  refine Kt.of (own := "KeptLight$Liner") (L := [some (.ref b), some (.int n), some (.int h)]) (by decide +kernel) rfl (Nat.le_of_ble_eq_true rfl) rfl ?_
  intro pp ee ss mm args below meth cd hmn hret
  refine x_aload_n (n' := 1) dX23_init_0 rfl rfl rfl ?_
  refine x_iload_n (n' := 2) dX23_init_1 rfl rfl rfl ?_
  refine x_iload_n (n' := 3) dX23_init_2 rfl rfl rfl ?_
  refine x_callI (n' := 6) (ret := none) (n := 2) (c_X21_init__23 l G _ b n h hb) dX23_init_3 (lw_meth q2117) q146 q2128 q2116 rfl (by decide +kernel) ⟨(Nat.le_of_ble_eq_true rfl), (Nat.le_of_ble_eq_true rfl)⟩ rfl rfl (Nat.le_of_ble_eq_true rfl) (by first | exact Nat.le_of_ble_eq_true rfl | omega) (by first | exact Nat.le_of_ble_eq_true rfl | omega) rfl (fun v_1 M_2 h_4 hE_3 => ?_)
  obtain ⟨rfl, hMs⟩ := h_4
  have hMs := hMs.symm
  subst hMs
  exact x_vret dX23_init_6 hret (by repeat' (first | with_reducible exact kE.rf | with_reducible exact hE_3 | with_reducible apply kE_A | with_reducible apply kE_I | with_reducible apply kE_L | with_reducible apply kE_R | with_reducible apply kE_O | with_reducible apply kE_G | with_reducible refine kE.tr ?_ hE_3)) (⟨rfl, rfl⟩)

theorem ffX17_18_24 : FF "KeptLight$Ship" 18 24 0 "KeptLight$Ship" := ⟨by decide, by decide, q2068, Or.inl rfl⟩
theorem ffX17_21_24 : FF "KeptLight$Ship" 21 24 1 "KeptLight$Ship" := ⟨by decide, by decide, q2073, Or.inl rfl⟩
set_option maxHeartbeats 800000 in
set_option maxRecDepth 100000 in
theorem c_X17_init__24 (l : Launch) (G : kG) (M : kM) (b : Nat) (n h : Int32) (hb : mK M b = some 24) : Kt l G yX17_init cX17_init 3 none 1 20 [.ref b, .int n, .int h] M (0) (0) (fun v M2 => v = none ∧ M2 = shI M b n h) := by
  refine Kt.of (own := "KeptLight$Ship") (L := [some (.ref b), some (.int n), some (.int h)]) (by decide +kernel) rfl (Nat.le_of_ble_eq_true rfl) rfl ?_
  intro pp ee ss mm args below meth cd hmn hret
  refine x_aload_n (n' := 1) dX17_init_0 rfl rfl rfl ?_
  refine x_objInit (n' := 4) dX17_init_1 q2067 ⟨(Nat.le_of_ble_eq_true rfl), (Nat.le_of_ble_eq_true rfl)⟩ (Nat.le_of_ble_eq_true rfl) rfl ?_
  refine x_aload_n (n' := 5) dX17_init_4 rfl rfl rfl ?_
  refine x_iconst (n' := 6) (v := -1) dX17_init_5 (by decide) rfl ?_
  refine x_putI (n' := 9) dX17_init_6 (by repeat' (first | with_reducible exact hb | with_reducible apply mK_A | with_reducible apply mK_I | with_reducible apply mK_L | with_reducible apply mK_R | with_reducible apply mK_O | with_reducible apply mK_G | with_reducible refine mK_NA ?_ (by assumption) | with_reducible refine mK_NO ?_ (by assumption))) ffX17_9_24 rfl (⟨rfl, rfl⟩) rfl rfl ?_
  refine x_aload_n (n' := 10) dX17_init_9 rfl rfl rfl ?_
  refine x_iconst (n' := 11) (v := -1) dX17_init_10 (by decide) rfl ?_
  refine x_putI (n' := 14) dX17_init_11 (by repeat' (first | with_reducible exact hb | with_reducible apply mK_A | with_reducible apply mK_I | with_reducible apply mK_L | with_reducible apply mK_R | with_reducible apply mK_O | with_reducible apply mK_G | with_reducible refine mK_NA ?_ (by assumption) | with_reducible refine mK_NO ?_ (by assumption))) ffX17_15_24 rfl (⟨rfl, rfl⟩) rfl rfl ?_
  refine x_aload_n (n' := 15) dX17_init_14 rfl rfl rfl ?_
  refine x_iload_n (n' := 16) dX17_init_15 rfl rfl rfl ?_
  refine x_putIF (n' := 19) dX17_init_16 (by repeat' (first | with_reducible exact hb | with_reducible apply mK_A | with_reducible apply mK_I | with_reducible apply mK_L | with_reducible apply mK_R | with_reducible apply mK_O | with_reducible apply mK_G | with_reducible refine mK_NA ?_ (by assumption) | with_reducible refine mK_NO ?_ (by assumption))) ffX17_18_24 rfl (⟨rfl, rfl⟩) rfl hmn rfl rfl ?_
  refine x_aload_n (n' := 20) dX17_init_19 rfl rfl rfl ?_
  refine x_iload_n (n' := 21) dX17_init_20 rfl rfl rfl ?_
  refine x_putIF (n' := 24) dX17_init_21 (by repeat' (first | with_reducible exact hb | with_reducible apply mK_A | with_reducible apply mK_I | with_reducible apply mK_L | with_reducible apply mK_R | with_reducible apply mK_O | with_reducible apply mK_G | with_reducible refine mK_NA ?_ (by assumption) | with_reducible refine mK_NO ?_ (by assumption))) ffX17_21_24 rfl (⟨rfl, rfl⟩) rfl hmn rfl rfl ?_
  exact x_vret dX17_init_24 hret (by repeat' (first | with_reducible exact kE.rf | with_reducible apply kE_A | with_reducible apply kE_I | with_reducible apply kE_L | with_reducible apply kE_R | with_reducible apply kE_O | with_reducible apply kE_G)) (⟨rfl, rfl⟩)

set_option maxHeartbeats 800000 in
set_option maxRecDepth 100000 in
theorem c_X21_init__24 (l : Launch) (G : kG) (M : kM) (b : Nat) (n h : Int32) (hb : mK M b = some 24) : Kt l G yX21_init cX21_init 3 none 2 42 [.ref b, .int n, .int h] M (0) (0) (fun v M2 => v = none ∧ M2 = shI M b n h) := by
  refine Kt.of (own := "KeptLight$Great") (L := [some (.ref b), some (.int n), some (.int h)]) (by decide +kernel) rfl (Nat.le_of_ble_eq_true rfl) rfl ?_
  intro pp ee ss mm args below meth cd hmn hret
  refine x_aload_n (n' := 1) dX21_init_0 rfl rfl rfl ?_
  refine x_iload_n (n' := 2) dX21_init_1 rfl rfl rfl ?_
  refine x_iload_n (n' := 3) dX21_init_2 rfl rfl rfl ?_
  refine x_callI (n' := 6) (ret := none) (n := 2) (c_X17_init__24 l G _ b n h hb) dX21_init_3 (lw_meth q2066) q142 q2118 q2065 rfl (by decide +kernel) ⟨(Nat.le_of_ble_eq_true rfl), (Nat.le_of_ble_eq_true rfl)⟩ rfl rfl (Nat.le_of_ble_eq_true rfl) (by first | exact Nat.le_of_ble_eq_true rfl | omega) (by first | exact Nat.le_of_ble_eq_true rfl | omega) rfl (fun v_1 M_2 h_4 hE_3 => ?_)
  obtain ⟨rfl, hMs⟩ := h_4
  have hMs := hMs.symm
  subst hMs
  exact x_vret dX21_init_6 hret (by repeat' (first | with_reducible exact kE.rf | with_reducible exact hE_3 | with_reducible apply kE_A | with_reducible apply kE_I | with_reducible apply kE_L | with_reducible apply kE_R | with_reducible apply kE_O | with_reducible apply kE_G | with_reducible refine kE.tr ?_ hE_3)) (⟨rfl, rfl⟩)

set_option maxHeartbeats 800000 in
set_option maxRecDepth 100000 in
theorem c_X23_init__24 (l : Launch) (G : kG) (M : kM) (b : Nat) (n h : Int32) (hb : mK M b = some 24) : Kt l G yX23_init cX23_init 3 none 3 64 [.ref b, .int n, .int h] M (0) (0) (fun v M2 => v = none ∧ M2 = shI M b n h) := by
  refine Kt.of (own := "KeptLight$Liner") (L := [some (.ref b), some (.int n), some (.int h)]) (by decide +kernel) rfl (Nat.le_of_ble_eq_true rfl) rfl ?_
  intro pp ee ss mm args below meth cd hmn hret
  refine x_aload_n (n' := 1) dX23_init_0 rfl rfl rfl ?_
  refine x_iload_n (n' := 2) dX23_init_1 rfl rfl rfl ?_
  refine x_iload_n (n' := 3) dX23_init_2 rfl rfl rfl ?_
  refine x_callI (n' := 6) (ret := none) (n := 2) (c_X21_init__24 l G _ b n h hb) dX23_init_3 (lw_meth q2117) q146 q2128 q2116 rfl (by decide +kernel) ⟨(Nat.le_of_ble_eq_true rfl), (Nat.le_of_ble_eq_true rfl)⟩ rfl rfl (Nat.le_of_ble_eq_true rfl) (by first | exact Nat.le_of_ble_eq_true rfl | omega) (by first | exact Nat.le_of_ble_eq_true rfl | omega) rfl (fun v_1 M_2 h_4 hE_3 => ?_)
  obtain ⟨rfl, hMs⟩ := h_4
  have hMs := hMs.symm
  subst hMs
  exact x_vret dX23_init_6 hret (by repeat' (first | with_reducible exact kE.rf | with_reducible exact hE_3 | with_reducible apply kE_A | with_reducible apply kE_I | with_reducible apply kE_L | with_reducible apply kE_R | with_reducible apply kE_O | with_reducible apply kE_G | with_reducible refine kE.tr ?_ hE_3)) (⟨rfl, rfl⟩)

set_option maxHeartbeats 800000 in
set_option maxRecDepth 100000 in
theorem c_X24_init__24 (l : Launch) (G : kG) (M : kM) (b : Nat) (n h : Int32) (hb : mK M b = some 24) : Kt l G yX24_init cX24_init 3 none 4 86 [.ref b, .int n, .int h] M (0) (0) (fun v M2 => v = none ∧ M2 = shI M b n h) := by
  refine Kt.of (own := "KeptLight$Mail") (L := [some (.ref b), some (.int n), some (.int h)]) (by decide +kernel) rfl (Nat.le_of_ble_eq_true rfl) rfl ?_
  intro pp ee ss mm args below meth cd hmn hret
  refine x_aload_n (n' := 1) dX24_init_0 rfl rfl rfl ?_
  refine x_iload_n (n' := 2) dX24_init_1 rfl rfl rfl ?_
  refine x_iload_n (n' := 3) dX24_init_2 rfl rfl rfl ?_
  refine x_callI (n' := 6) (ret := none) (n := 2) (c_X23_init__24 l G _ b n h hb) dX24_init_3 (lw_meth q2127) q148 q2137 q2126 rfl (by decide +kernel) ⟨(Nat.le_of_ble_eq_true rfl), (Nat.le_of_ble_eq_true rfl)⟩ rfl rfl (Nat.le_of_ble_eq_true rfl) (by first | exact Nat.le_of_ble_eq_true rfl | omega) (by first | exact Nat.le_of_ble_eq_true rfl | omega) rfl (fun v_1 M_2 h_4 hE_3 => ?_)
  obtain ⟨rfl, hMs⟩ := h_4
  have hMs := hMs.symm
  subst hMs
  exact x_vret dX24_init_6 hret (by repeat' (first | with_reducible exact kE.rf | with_reducible exact hE_3 | with_reducible apply kE_A | with_reducible apply kE_I | with_reducible apply kE_L | with_reducible apply kE_R | with_reducible apply kE_O | with_reducible apply kE_G | with_reducible refine kE.tr ?_ hE_3)) (⟨rfl, rfl⟩)

set_option maxHeartbeats 800000 in
set_option maxRecDepth 100000 in
theorem c_X0_ship_2 (l : Launch) (G : kG) (M : kM) (k n h : Int32) (o : Nat) (hk : 3 ≤ k ∧ k ≤ 7) (ho : o = 0 ∨ mK M (o - 1) ≠ none) : Kt l G yX0_ship_2 cX0_ship_2 3 (some (.object "KeptLight$Ship")) 5 108 [.int k, .int n, .int h] M (1) (4) (fun v M2 => ∃ b K, v = some (.ref b) ∧ mK M b = none ∧ k = nI (skd K) ∧ SHP M2 b K n h (-1) (-1) o ∧ Fr (fun _ => False) M M2) := by
  refine Kt.of (own := "KeptLight") (L := [some (.int k), some (.int n), some (.int h)]) (by decide +kernel) rfl (Nat.le_of_ble_eq_true rfl) rfl ?_
  intro pp ee ss mm args below meth cd hmn hret
  refine x_iload_n (n' := 1) dX0_ship_2_0 rfl rfl rfl ?_
  by_cases c1_2 : k = 3
  · refine x_tableIn (off := 31) (tgt := 32) dX0_ship_2_1 (by rw [c1_2]; decide) (by rw [c1_2]; decide) (by rw [c1_2]; decide) (by decide) ?_
    refine x_new (n' := 35) (K := 19) dX0_ship_2_32 (by decide) q1085 q2057 q144 (by first | exact Nat.le_of_ble_eq_true rfl | omega) (by first | exact Nat.le_of_ble_eq_true rfl | omega) rfl (fun s19 hq_s19 hB_s19 => ?_)
    have hE_3 := kE_nO (K := 19) hq_s19
    have k_s19 := mK_nO_of hE_3
    refine x_ghost s19 o ?_
    refine x_dup (n' := 36) dX0_ship_2_35 rfl rfl ?_
    refine x_iload_n (n' := 37) dX0_ship_2_36 rfl rfl rfl ?_
    refine x_iload_n (n' := 38) dX0_ship_2_37 rfl rfl rfl ?_
    refine x_callI (n' := 41) (ret := none) (n := 2) (c_X19_init__19 l G _ s19 n h (by repeat' (first | with_reducible exact k_s19 | with_reducible apply mK_A | with_reducible apply mK_I | with_reducible apply mK_L | with_reducible apply mK_R | with_reducible apply mK_O | with_reducible apply mK_G | with_reducible refine mK_NA ?_ (by assumption) | with_reducible refine mK_NO ?_ (by assumption) | with_reducible refine kE.ap hE_3 ?_))) dX0_ship_2_38 (lw_meth q2060) q144 q2058 q2059 rfl (by decide +kernel) ⟨(Nat.le_of_ble_eq_true rfl), (Nat.le_of_ble_eq_true rfl)⟩ rfl rfl (Nat.le_of_ble_eq_true rfl) (by first | exact Nat.le_of_ble_eq_true rfl | omega) (by first | exact Nat.le_of_ble_eq_true rfl | omega) rfl (fun v_4 M_5 h_7 hE_6 => ?_)
    obtain ⟨rfl, hMs⟩ := h_7
    have hMs := hMs.symm
    subst hMs
    refine x_goto (tgt := 89) dX0_ship_2_41 (by decide) ?_
    exact x_aret dX0_ship_2_89 hret (Or.inl ⟨_, rfl⟩) (by repeat' (first | with_reducible exact kE.rf | with_reducible exact hE_3 | with_reducible exact hE_6 | with_reducible apply kE_A | with_reducible apply kE_I | with_reducible apply kE_L | with_reducible apply kE_R | with_reducible apply kE_O | with_reducible apply kE_G | with_reducible refine kE.tr ?_ hE_3 | with_reducible refine kE.tr ?_ hE_6)) (⟨s19, 19, rfl, hq_s19, by first | assumption | exact ship_k7 hk (by assumption) (by assumption) (by assumption) (by assumption), SHP_new (by unfold shC; decide), shI_fr hq_s19 (ho.elim Or.inl (fun q => Or.inr (Or.inr q)))⟩)
  by_cases c1_8 : k = 4
  · refine x_tableIn (off := 43) (tgt := 44) dX0_ship_2_1 (by rw [c1_8]; decide) (by rw [c1_8]; decide) (by rw [c1_8]; decide) (by decide) ?_
    refine x_new (n' := 47) (K := 20) dX0_ship_2_44 (by decide) q1086 q2101 q145 (by first | exact Nat.le_of_ble_eq_true rfl | omega) (by first | exact Nat.le_of_ble_eq_true rfl | omega) rfl (fun s20 hq_s20 hB_s20 => ?_)
    have hE_9 := kE_nO (K := 20) hq_s20
    have k_s20 := mK_nO_of hE_9
    refine x_ghost s20 o ?_
    refine x_dup (n' := 48) dX0_ship_2_47 rfl rfl ?_
    refine x_iload_n (n' := 49) dX0_ship_2_48 rfl rfl rfl ?_
    refine x_iload_n (n' := 50) dX0_ship_2_49 rfl rfl rfl ?_
    refine x_callI (n' := 53) (ret := none) (n := 2) (c_X20_init__20 l G _ s20 n h (by repeat' (first | with_reducible exact k_s20 | with_reducible apply mK_A | with_reducible apply mK_I | with_reducible apply mK_L | with_reducible apply mK_R | with_reducible apply mK_O | with_reducible apply mK_G | with_reducible refine mK_NA ?_ (by assumption) | with_reducible refine mK_NO ?_ (by assumption) | with_reducible refine kE.ap hE_9 ?_))) dX0_ship_2_50 (lw_meth q2104) q145 q2102 q2103 rfl (by decide +kernel) ⟨(Nat.le_of_ble_eq_true rfl), (Nat.le_of_ble_eq_true rfl)⟩ rfl rfl (Nat.le_of_ble_eq_true rfl) (by first | exact Nat.le_of_ble_eq_true rfl | omega) (by first | exact Nat.le_of_ble_eq_true rfl | omega) rfl (fun v_10 M_11 h_13 hE_12 => ?_)
    obtain ⟨rfl, hMs⟩ := h_13
    have hMs := hMs.symm
    subst hMs
    refine x_goto (tgt := 89) dX0_ship_2_53 (by decide) ?_
    exact x_aret dX0_ship_2_89 hret (Or.inl ⟨_, rfl⟩) (by repeat' (first | with_reducible exact kE.rf | with_reducible exact hE_9 | with_reducible exact hE_12 | with_reducible apply kE_A | with_reducible apply kE_I | with_reducible apply kE_L | with_reducible apply kE_R | with_reducible apply kE_O | with_reducible apply kE_G | with_reducible refine kE.tr ?_ hE_9 | with_reducible refine kE.tr ?_ hE_12)) (⟨s20, 20, rfl, hq_s20, by first | assumption | exact ship_k7 hk (by assumption) (by assumption) (by assumption) (by assumption), SHP_new (by unfold shC; decide), shI_fr hq_s20 (ho.elim Or.inl (fun q => Or.inr (Or.inr q)))⟩)
  by_cases c1_14 : k = 5
  · refine x_tableIn (off := 55) (tgt := 56) dX0_ship_2_1 (by rw [c1_14]; decide) (by rw [c1_14]; decide) (by rw [c1_14]; decide) (by decide) ?_
    refine x_new (n' := 59) (K := 22) dX0_ship_2_56 (by decide) q1087 q2111 q147 (by first | exact Nat.le_of_ble_eq_true rfl | omega) (by first | exact Nat.le_of_ble_eq_true rfl | omega) rfl (fun s22 hq_s22 hB_s22 => ?_)
    have hE_15 := kE_nO (K := 22) hq_s22
    have k_s22 := mK_nO_of hE_15
    refine x_ghost s22 o ?_
    refine x_dup (n' := 60) dX0_ship_2_59 rfl rfl ?_
    refine x_iload_n (n' := 61) dX0_ship_2_60 rfl rfl rfl ?_
    refine x_iload_n (n' := 62) dX0_ship_2_61 rfl rfl rfl ?_
    refine x_callI (n' := 65) (ret := none) (n := 2) (c_X22_init__22 l G _ s22 n h (by repeat' (first | with_reducible exact k_s22 | with_reducible apply mK_A | with_reducible apply mK_I | with_reducible apply mK_L | with_reducible apply mK_R | with_reducible apply mK_O | with_reducible apply mK_G | with_reducible refine mK_NA ?_ (by assumption) | with_reducible refine mK_NO ?_ (by assumption) | with_reducible refine kE.ap hE_15 ?_))) dX0_ship_2_62 (lw_meth q2114) q147 q2112 q2113 rfl (by decide +kernel) ⟨(Nat.le_of_ble_eq_true rfl), (Nat.le_of_ble_eq_true rfl)⟩ rfl rfl (Nat.le_of_ble_eq_true rfl) (by first | exact Nat.le_of_ble_eq_true rfl | omega) (by first | exact Nat.le_of_ble_eq_true rfl | omega) rfl (fun v_16 M_17 h_19 hE_18 => ?_)
    obtain ⟨rfl, hMs⟩ := h_19
    have hMs := hMs.symm
    subst hMs
    refine x_goto (tgt := 89) dX0_ship_2_65 (by decide) ?_
    exact x_aret dX0_ship_2_89 hret (Or.inl ⟨_, rfl⟩) (by repeat' (first | with_reducible exact kE.rf | with_reducible exact hE_15 | with_reducible exact hE_18 | with_reducible apply kE_A | with_reducible apply kE_I | with_reducible apply kE_L | with_reducible apply kE_R | with_reducible apply kE_O | with_reducible apply kE_G | with_reducible refine kE.tr ?_ hE_15 | with_reducible refine kE.tr ?_ hE_18)) (⟨s22, 22, rfl, hq_s22, by first | assumption | exact ship_k7 hk (by assumption) (by assumption) (by assumption) (by assumption), SHP_new (by unfold shC; decide), shI_fr hq_s22 (ho.elim Or.inl (fun q => Or.inr (Or.inr q)))⟩)
  by_cases c1_20 : k = 6
  · refine x_tableIn (off := 67) (tgt := 68) dX0_ship_2_1 (by rw [c1_20]; decide) (by rw [c1_20]; decide) (by rw [c1_20]; decide) (by decide) ?_
    refine x_new (n' := 71) (K := 23) dX0_ship_2_68 (by decide) q1088 q2124 q148 (by first | exact Nat.le_of_ble_eq_true rfl | omega) (by first | exact Nat.le_of_ble_eq_true rfl | omega) rfl (fun s23 hq_s23 hB_s23 => ?_)
    have hE_21 := kE_nO (K := 23) hq_s23
    have k_s23 := mK_nO_of hE_21
    refine x_ghost s23 o ?_
    refine x_dup (n' := 72) dX0_ship_2_71 rfl rfl ?_
    refine x_iload_n (n' := 73) dX0_ship_2_72 rfl rfl rfl ?_
    refine x_iload_n (n' := 74) dX0_ship_2_73 rfl rfl rfl ?_
    refine x_callI (n' := 77) (ret := none) (n := 2) (c_X23_init__23 l G _ s23 n h (by repeat' (first | with_reducible exact k_s23 | with_reducible apply mK_A | with_reducible apply mK_I | with_reducible apply mK_L | with_reducible apply mK_R | with_reducible apply mK_O | with_reducible apply mK_G | with_reducible refine mK_NA ?_ (by assumption) | with_reducible refine mK_NO ?_ (by assumption) | with_reducible refine kE.ap hE_21 ?_))) dX0_ship_2_74 (lw_meth q2127) q148 q2125 q2126 rfl (by decide +kernel) ⟨(Nat.le_of_ble_eq_true rfl), (Nat.le_of_ble_eq_true rfl)⟩ rfl rfl (Nat.le_of_ble_eq_true rfl) (by first | exact Nat.le_of_ble_eq_true rfl | omega) (by first | exact Nat.le_of_ble_eq_true rfl | omega) rfl (fun v_22 M_23 h_25 hE_24 => ?_)
    obtain ⟨rfl, hMs⟩ := h_25
    have hMs := hMs.symm
    subst hMs
    refine x_goto (tgt := 89) dX0_ship_2_77 (by decide) ?_
    exact x_aret dX0_ship_2_89 hret (Or.inl ⟨_, rfl⟩) (by repeat' (first | with_reducible exact kE.rf | with_reducible exact hE_21 | with_reducible exact hE_24 | with_reducible apply kE_A | with_reducible apply kE_I | with_reducible apply kE_L | with_reducible apply kE_R | with_reducible apply kE_O | with_reducible apply kE_G | with_reducible refine kE.tr ?_ hE_21 | with_reducible refine kE.tr ?_ hE_24)) (⟨s23, 23, rfl, hq_s23, by first | assumption | exact ship_k7 hk (by assumption) (by assumption) (by assumption) (by assumption), SHP_new (by unfold shC; decide), shI_fr hq_s23 (ho.elim Or.inl (fun q => Or.inr (Or.inr q)))⟩)
  refine x_tableOut (tgt := 80) dX0_ship_2_1 (Or.inr (ship_out hk (by assumption) (by assumption) (by assumption) (by assumption))) (by decide) ?_
  refine x_new (n' := 83) (K := 24) dX0_ship_2_80 (by decide) q1089 q2133 q149 (by first | exact Nat.le_of_ble_eq_true rfl | omega) (by first | exact Nat.le_of_ble_eq_true rfl | omega) rfl (fun s24 hq_s24 hB_s24 => ?_)
  have hE_26 := kE_nO (K := 24) hq_s24
  have k_s24 := mK_nO_of hE_26
  refine x_ghost s24 o ?_
  refine x_dup (n' := 84) dX0_ship_2_83 rfl rfl ?_
  refine x_iload_n (n' := 85) dX0_ship_2_84 rfl rfl rfl ?_
  refine x_iload_n (n' := 86) dX0_ship_2_85 rfl rfl rfl ?_
  refine x_callI (n' := 89) (ret := none) (n := 2) (c_X24_init__24 l G _ s24 n h (by repeat' (first | with_reducible exact k_s24 | with_reducible apply mK_A | with_reducible apply mK_I | with_reducible apply mK_L | with_reducible apply mK_R | with_reducible apply mK_O | with_reducible apply mK_G | with_reducible refine mK_NA ?_ (by assumption) | with_reducible refine mK_NO ?_ (by assumption) | with_reducible refine kE.ap hE_26 ?_))) dX0_ship_2_86 (lw_meth q2136) q149 q2134 q2135 rfl (by decide +kernel) ⟨(Nat.le_of_ble_eq_true rfl), (Nat.le_of_ble_eq_true rfl)⟩ rfl rfl (Nat.le_of_ble_eq_true rfl) (by first | exact Nat.le_of_ble_eq_true rfl | omega) (by first | exact Nat.le_of_ble_eq_true rfl | omega) rfl (fun v_27 M_28 h_30 hE_29 => ?_)
  obtain ⟨rfl, hMs⟩ := h_30
  have hMs := hMs.symm
  subst hMs
  exact x_aret dX0_ship_2_89 hret (Or.inl ⟨_, rfl⟩) (by repeat' (first | with_reducible exact kE.rf | with_reducible exact hE_26 | with_reducible exact hE_29 | with_reducible apply kE_A | with_reducible apply kE_I | with_reducible apply kE_L | with_reducible apply kE_R | with_reducible apply kE_O | with_reducible apply kE_G | with_reducible refine kE.tr ?_ hE_26 | with_reducible refine kE.tr ?_ hE_29)) (⟨s24, 24, rfl, hq_s24, by first | assumption | exact ship_k7 hk (by assumption) (by assumption) (by assumption) (by assumption), SHP_new (by unfold shC; decide), shI_fr hq_s24 (ho.elim Or.inl (fun q => Or.inr (Or.inr q)))⟩)
