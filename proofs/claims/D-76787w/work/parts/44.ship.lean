theorem wi_k {w : Nat} (h : w < 3) : 200 + w = 200 ∨ 200 + w = 200 + 1 ∨ 200 + w = 200 + 2 := by omega
theorem ra_k {r : Nat} (h : r < 3) : 203 + r = 203 ∨ 203 + r = 203 + 1 ∨ 203 + r = 203 + 2 := by omega
theorem wi_s {w i : Nat} {x : Int32} (hi : i < 3) (e : 200 + w = 200 + i) (h : x = bi (i = 1)) : x = bi (w = 1) := by rw [show w = i by omega]; exact h
theorem wi_w {w i : Nat} {x : Int32} (hi : i < 3) (e : 200 + w = 200 + i) (h : x = bi (i = 2)) : x = bi (w = 2) := by rw [show w = i by omega]; exact h
theorem wi_t {w i : Nat} {x : Int32} (hi : i < 3) (e : 200 + w = 200 + i) (h : x = if i = 2 then 2 else 1) : x = if w = 2 then 2 else 1 := by rw [show w = i by omega]; exact h
theorem ra_l {r i : Nat} {x : Int32} (hi : i < 3) (e : 203 + r = 203 + i) (h : x = 12 - 3 * nI i) : x = 12 - 3 * nI r := by rw [show r = i by omega]; exact h
theorem ra_f {r i : Nat} {x : Int32} (hi : i < 3) (e : 203 + r = 203 + i) (h : x = bi (i = 2)) : x = bi (r = 2) := by rw [show r = i by omega]; exact h
theorem Kt.to {l : Launch} {G : kG} {y : MethodName} {cb : ByteArray} {nL : Nat} {ret : Option FieldType} {fr lo : Nat} {av : List Value} {M N : kM} {mc ms : Nat} {x z : Int32} (h : Kt l G y cb nL ret fr lo av M mc ms (fun v M2 => v = some (.int x) ∧ M2 = N)) (e : x = z) : Kt l G y cb nL ret fr lo av M mc ms (fun v M2 => v = some (.int z) ∧ M2 = N) := e ▸ h
/-- a sight: weather w, dark d, lit lt, sounding sn -/
def SGP (G : kG) (M : kM) (sg w : Nat) (d lt sn : Int32) : Prop := mK M sg = some 7 ∧ mR M (fc 7 0) sg = some (G.2.2.2 w) ∧ mI M (fc 7 1) sg = d ∧ mI M (fc 7 2) sg = lt ∧ mI M (fc 7 3) sg = sn ∧ w < 3 ∧ mK M (G.2.2.2 w) = some (200 + w)
theorem ll_eq {k d lt w : Int32} (h4 : k ≠ 4) (h7 : k ≠ 7) : bi (d ≠ 0 ∧ lt = 0) = bi (lightP k d lt w) := bi_c ⟨fun q => Or.inl ⟨h4, q⟩, fun q => q.elim (fun q => q.2) (fun q => absurd q.1 h7)⟩
theorem ll_4 {d lt w : Int32} : (0 : Int32) = bi (lightP 4 d lt w) := (bi_f (fun q => q.elim (fun q => q.1 rfl) (fun q => absurd q.1 (by decide)))).symm
theorem ll_7 {d lt : Int32} {w : Nat} (hw : w < 3) : bi (d ≠ 0 ∧ lt = 0) + bi (d = 0 ∧ w = 2) = bi (lightP 7 d lt (nI w)) := by
  by_cases h : d = 0
  · rw [bi_f (fun q => q.1 h), Int32.zero_add]
    exact bi_c ⟨fun q => Or.inr ⟨rfl, h, by rw [q.2]; rfl⟩, fun q => q.elim (fun q => absurd h q.2.1) (fun q => ⟨h, (nI_eq (b := 2) (by omega) (by decide)).mp q.2.2⟩)⟩
  · rw [bi_f (c := d = 0 ∧ w = 2) (fun q => h q.1), Int32.add_zero]
    exact bi_c ⟨fun q => Or.inl ⟨by decide, q⟩, fun q => q.elim (fun q => q.2) (fun q => absurd q.2.1 h)⟩
theorem ls_eq {k sn : Int32} {w : Nat} (hw : w < 3) (h3 : k ≠ 3) : bi (w = 1 ∧ sn = 0) = bi (soundP k sn (nI w)) := bi_c ⟨fun q => ⟨h3, by rw [q.1]; rfl, q.2⟩, fun q => ⟨(nI_eq (b := 1) (by omega) (by decide)).mp q.2.1, q.2.2⟩⟩
theorem ls_3 {sn w : Int32} : (0 : Int32) = bi (soundP 3 sn w) := (bi_f (fun q => q.1 rfl)).symm
theorem lr_s {k : Int32} {w : Nat} (hw : w < 3) (h : k = 3 ∨ k = 4) : bi (w = 2) = bi (roomP k (nI w)) := bi_c ⟨fun q => ⟨h, by rw [q]; rfl⟩, fun q => (nI_eq (b := 2) (by omega) (by decide)).mp q.2⟩
theorem lr_g {k d lt sn w : Int32} (h3 : k ≠ 3) (h4 : k ≠ 4) : bi (lightP k d lt w) + bi (soundP k sn w) = lacksG k d lt sn w := by
  unfold lacksG
  rw [bi_f (c := roomP k w) (fun q => q.1.elim h3 h4), Int32.add_zero]
theorem fa_s {k x : Int32} {w : Int32} (h : k = 3 ∨ k = 4) : (if x = 0 then (0 : Int32) else if x = 1 then 1 else 2) = fateP k x w := by
  unfold fateP
  by_cases a : x = 0
  · rw [if_pos a, if_pos a]
  · rw [if_neg a, if_neg a]
    by_cases b : x = 1
    · rw [if_pos b, if_pos ⟨b, Or.inl h⟩]
    · rw [if_neg b, if_neg (fun q => b q.1)]
theorem fa_g {k x : Int32} {w : Nat} (hw : w < 3) (h3 : k ≠ 3) (h4 : k ≠ 4) : (if x = 0 then (0 : Int32) else if x = 1 then (if w = 2 then 2 else 1) else 2) = fateP k x (nI w) := by
  unfold fateP
  have e : nI w ≠ 2 ↔ ¬ w = 2 := not_congr (nI_eq (b := 2) (by omega) (by decide))
  by_cases a : x = 0
  · rw [if_pos a, if_pos a]
  · rw [if_neg a, if_neg a]
    by_cases b : x = 1
    · rw [if_pos b]
      by_cases c : w = 2
      · rw [if_pos c, if_neg (fun q => q.2.elim (fun q => q.elim h3 h4) (fun q => e.mp q c))]
      · rw [if_neg c, if_pos ⟨b, Or.inr (e.mpr c)⟩]
    · rw [if_neg b, if_neg (fun q => b q.1)]
set_option maxHeartbeats 4000000 in
set_option maxRecDepth 100000 in
theorem c_X0_one (l : Launch) (G : kG) (M : kM) (z : Int32) : Kt l G yX0_one cX0_one 1 (some .int) 0 0 [.int z] M (0) (0) (fun v M2 => v = some (.int (if z = 0 then 0 else 1)) ∧ M2 = M) := by
  refine Kt.of (own := "KeptLight") (L := [some (.int z)]) (by decide +kernel) rfl (Nat.le_of_ble_eq_true rfl) rfl ?_
  intro pp ee ss mm args below meth cd hmn hret
  have hE0 : kE M M := kE.rf
  refine x_iload_n (n' := 1) dX0_one_0 rfl rfl rfl ?_
  refine x_fork (J := 9) (x_if_eq (n' := 4) (tgt := 8) dX0_one_1 (by decide) rfl) (v1 := ?v1_f1_1) (v2 := ?v2_f1_1) (fun c_f1_1 j_f1_1 => ?b1_f1_1) (fun c_f1_1 j_f1_1 => ?b2_f1_1) ?k_f1_1
  case b1_f1_1 =>
    refine x_iconst (n' := 9) (v := 0) dX0_one_8 (by decide) rfl ?_
    exact j_f1_1
  case b2_f1_1 =>
    refine x_iconst (n' := 5) (v := 1) dX0_one_4 (by decide) rfl ?_
    refine x_goto (tgt := 9) dX0_one_5 (by decide) ?_
    exact j_f1_1
  exact x_iret dX0_one_9 hret hE0 (⟨rfl, rfl⟩)

theorem bi_an {c : Prop} [Decidable c] {x : Int32} : (if bi c = 0 then (0 : Int32) else if x = 0 then 1 else 0) = bi (c ∧ x = 0) := by
  unfold bi
  by_cases h : c <;> by_cases h2 : x = 0 <;> simp [h, h2]
theorem bi_na {c : Prop} [Decidable c] {x : Int32} : (if x = 0 then (if bi c = 0 then (0 : Int32) else 1) else 0) = bi (x = 0 ∧ c) := by
  unfold bi
  by_cases h : c <;> by_cases h2 : x = 0 <;> simp [h, h2]
theorem ffX17_28_7 : FF "KeptLight$Ship" 28 7 1 "KeptLight$Sight" := ⟨by decide, by decide, q269, Or.inl rfl⟩
theorem ffX17_34_7 : FF "KeptLight$Ship" 34 7 2 "KeptLight$Sight" := ⟨by decide, by decide, q273, Or.inl rfl⟩
set_option maxHeartbeats 800000 in
set_option maxRecDepth 100000 in
theorem c_X17_lacksLight (l : Launch) (G : kG) (M : kM) (b sg w : Nat) (d lt sn : Int32) (hs : SGP G M sg w d lt sn) : Kt l G yX17_lacksLight cX17_lacksLight 2 (some .int) 1 20 [.ref b, .ref sg] M (0) (0) (fun v M2 => v = some (.int (bi (d ≠ 0 ∧ lt = 0))) ∧ M2 = M) := by
  refine Kt.of (own := "KeptLight$Ship") (L := [some (.ref b), some (.ref sg)]) (by decide +kernel) rfl (Nat.le_of_ble_eq_true rfl) rfl ?_
  intro pp ee ss mm args below meth cd hmn hret
  have hsk : mK M sg = some 7 := hs.1
  have hw := hs.2.2.2.2.2.1
  have hkw : mK M (G.2.2.2 w) = some (200 + w) := hs.2.2.2.2.2.2
  have hrw : mR M (fc 7 0) sg = some (G.2.2.2 w) := hs.2.1
  have hd : mI M (fc 7 1) sg = d := hs.2.2.1
  have hl9 : mI M (fc 7 2) sg = lt := hs.2.2.2.1
  have hsn : mI M (fc 7 3) sg = sn := hs.2.2.2.2.1
  refine x_aload_n (n' := 1) dX17_lacksLight_0 rfl rfl rfl ?_
  refine x_getI (n' := 4) dX17_lacksLight_1 (by repeat' (first | with_reducible exact hsk | with_reducible apply mK_A | with_reducible apply mK_I | with_reducible apply mK_L | with_reducible apply mK_R | with_reducible apply mK_O | with_reducible apply mK_G | with_reducible refine mK_NA ?_ (by assumption) | with_reducible refine mK_NO ?_ (by assumption))) ffX17_28_7 rfl rfl ?_
  refine x_topv hd ?_
  refine x_fork (J := 19) (x_if_eq (n' := 7) (tgt := 18) dX17_lacksLight_4 (by decide) rfl) (v1 := ?v1_f4_1) (v2 := ?v2_f4_1) (fun c_f4_1 j_f4_1 => ?b1_f4_1) (fun c_f4_1 j_f4_1 => ?b2_f4_1) ?k_f4_1
  case b1_f4_1 =>
    refine x_iconst (n' := 19) (v := 0) dX17_lacksLight_18 (by decide) rfl ?_
    exact j_f4_1
  case b2_f4_1 =>
    refine x_aload_n (n' := 8) dX17_lacksLight_7 rfl rfl rfl ?_
    refine x_getI (n' := 11) dX17_lacksLight_8 (by repeat' (first | with_reducible exact hsk | with_reducible apply mK_A | with_reducible apply mK_I | with_reducible apply mK_L | with_reducible apply mK_R | with_reducible apply mK_O | with_reducible apply mK_G | with_reducible refine mK_NA ?_ (by assumption) | with_reducible refine mK_NO ?_ (by assumption))) ffX17_34_7 rfl rfl ?_
    refine x_topv hl9 ?_
    refine x_forkN (J := 19) (x_if_ne (n' := 14) (tgt := 18) dX17_lacksLight_11 (by decide) rfl) (v1 := ?v1_f11_2) (v2 := ?v2_f11_2) (fun c_f11_2 j_f11_2 => ?b1_f11_2) (fun c_f11_2 j_f11_2 => ?b2_f11_2) ?k_f11_2
    case b1_f11_2 =>
      refine x_iconst (n' := 19) (v := 0) dX17_lacksLight_18 (by decide) rfl ?_
      exact j_f11_2
    case b2_f11_2 =>
      refine x_iconst (n' := 15) (v := 1) dX17_lacksLight_14 (by decide) rfl ?_
      refine x_goto (tgt := 19) dX17_lacksLight_15 (by decide) ?_
      exact j_f11_2
    exact j_f4_1
  refine x_topv bi_nn ?_
  refine x_callSN (n' := 22) (n := 1) (c_X0_one l G _ _) dX17_lacksLight_19 (lw_meth q1032) q1030 q77 q1031 (by decide +kernel) ⟨(Nat.le_of_ble_eq_true rfl), (Nat.le_of_ble_eq_true rfl)⟩ rfl rfl (Nat.le_of_ble_eq_true rfl) (by first | exact Nat.le_of_ble_eq_true rfl | omega) (by first | exact Nat.le_of_ble_eq_true rfl | omega) rfl (fun v_3 M_4 h_6 hE_5 => ?_)
  obtain ⟨rfl, hMs⟩ := h_6
  have hMs := hMs.symm
  subst hMs
  rw [bi_if]
  exact x_iret dX17_lacksLight_22 hret (by repeat' (first | with_reducible exact kE.rf | with_reducible exact hE_5 | with_reducible apply kE_A | with_reducible apply kE_I | with_reducible apply kE_L | with_reducible apply kE_R | with_reducible apply kE_O | with_reducible apply kE_G | with_reducible refine kE.tr ?_ hE_5)) (⟨rfl, rfl⟩)

theorem ffX17_41_7 : FF "KeptLight$Ship" 41 7 0 "KeptLight$Sight" := ⟨by decide, by decide, q266, Or.inl rfl⟩
theorem ffX17_51_7 : FF "KeptLight$Ship" 51 7 3 "KeptLight$Sight" := ⟨by decide, by decide, q276, Or.inl rfl⟩
set_option maxHeartbeats 800000 in
set_option maxRecDepth 100000 in
theorem c_X17_lacksSound (l : Launch) (G : kG) (M : kM) (b sg w : Nat) (d lt sn : Int32) (hs : SGP G M sg w d lt sn) : Kt l G yX17_lacksSound cX17_lacksSound 2 (some .int) 1 20 [.ref b, .ref sg] M (0) (0) (fun v M2 => v = some (.int (bi (w = 1 ∧ sn = 0))) ∧ M2 = M) := by
  refine Kt.of (own := "KeptLight$Ship") (L := [some (.ref b), some (.ref sg)]) (by decide +kernel) rfl (Nat.le_of_ble_eq_true rfl) rfl ?_
  intro pp ee ss mm args below meth cd hmn hret
  have hsk : mK M sg = some 7 := hs.1
  have hw := hs.2.2.2.2.2.1
  have hkw : mK M (G.2.2.2 w) = some (200 + w) := hs.2.2.2.2.2.2
  have hrw : mR M (fc 7 0) sg = some (G.2.2.2 w) := hs.2.1
  have hd : mI M (fc 7 1) sg = d := hs.2.2.1
  have hl9 : mI M (fc 7 2) sg = lt := hs.2.2.2.1
  have hsn : mI M (fc 7 3) sg = sn := hs.2.2.2.2.1
  refine x_aload_n (n' := 1) dX17_lacksSound_0 rfl rfl rfl ?_
  refine x_getRs (n' := 4) (b := (G.2.2.2 w)) dX17_lacksSound_1 (by repeat' (first | with_reducible exact hsk | with_reducible apply mK_A | with_reducible apply mK_I | with_reducible apply mK_L | with_reducible apply mK_R | with_reducible apply mK_O | with_reducible apply mK_G | with_reducible refine mK_NA ?_ (by assumption) | with_reducible refine mK_NO ?_ (by assumption))) ffX17_41_7 rfl (by repeat' (first | with_reducible exact hrw | with_reducible apply mR_A | with_reducible apply mR_I | with_reducible apply mR_L | with_reducible apply mR_R | with_reducible apply mR_O | with_reducible apply mR_G | with_reducible refine mR_NA ?_ (by assumption) (by assumption))) rfl ?_
  refine x_disp3k (by repeat' (first | with_reducible exact hkw | with_reducible apply mK_A | with_reducible apply mK_I | with_reducible apply mK_L | with_reducible apply mK_R | with_reducible apply mK_O | with_reducible apply mK_G | with_reducible refine mK_NA ?_ (by assumption) | with_reducible refine mK_NO ?_ (by assumption))) (wi_k hw) (fun e8 hk8 k8 => x_callK (n' := 7) (K := 200) (v := 0) (x := ⟨"KeptLight$Weather", "wantsSound", "()Z"⟩) (y := yX6_wantsSound) (owner := "KeptLight$Weather") dX17_lacksSound_4 hk8 rfl q1057 q1059 (Or.inr ⟨q1058, _, _, _, q1065⟩) (by decide) q1060 q1058 q1065 (by decide +kernel) (by decide +kernel) (Or.inl ⟨_, dX6_wantsSound_0, rfl, dX6_wantsSound_1⟩) (by decide +kernel) ⟨(Nat.le_of_ble_eq_true rfl), (Nat.le_of_ble_eq_true rfl)⟩ (Nat.le_of_ble_eq_true rfl) rfl (x_topv (wi_s (w := w) (i := 0) (by decide) e8 rfl) k8)) (fun e8 hk8 k8 => x_callK (n' := 7) (K := 201) (v := 1) (x := ⟨"KeptLight$Weather", "wantsSound", "()Z"⟩) (y := yX28_wantsSound) (owner := "KeptLight$Weather") dX17_lacksSound_4 hk8 rfl q1057 q1059 (Or.inr ⟨q1058, _, _, _, q1065⟩) (by decide) q1061 q1062 q1063 (by decide +kernel) (by decide +kernel) (Or.inl ⟨_, dX28_wantsSound_0, rfl, dX28_wantsSound_1⟩) (by decide +kernel) ⟨(Nat.le_of_ble_eq_true rfl), (Nat.le_of_ble_eq_true rfl)⟩ (Nat.le_of_ble_eq_true rfl) rfl (x_topv (wi_s (w := w) (i := 1) (by decide) e8 rfl) k8)) (fun e8 hk8 k8 => x_callK (n' := 7) (K := 202) (v := 0) (x := ⟨"KeptLight$Weather", "wantsSound", "()Z"⟩) (y := yX6_wantsSound) (owner := "KeptLight$Weather") dX17_lacksSound_4 hk8 rfl q1057 q1059 (Or.inr ⟨q1058, _, _, _, q1065⟩) (by decide) q1064 q1058 q1065 (by decide +kernel) (by decide +kernel) (Or.inl ⟨_, dX6_wantsSound_0, rfl, dX6_wantsSound_1⟩) (by decide +kernel) ⟨(Nat.le_of_ble_eq_true rfl), (Nat.le_of_ble_eq_true rfl)⟩ (Nat.le_of_ble_eq_true rfl) rfl (x_topv (wi_s (w := w) (i := 2) (by decide) e8 rfl) k8)) ?_
  refine x_fork (J := 22) (x_if_eq (n' := 10) (tgt := 21) dX17_lacksSound_7 (by decide) rfl) (v1 := ?v1_f7_1) (v2 := ?v2_f7_1) (fun c_f7_1 j_f7_1 => ?b1_f7_1) (fun c_f7_1 j_f7_1 => ?b2_f7_1) ?k_f7_1
  case b1_f7_1 =>
    refine x_iconst (n' := 22) (v := 0) dX17_lacksSound_21 (by decide) rfl ?_
    exact j_f7_1
  case b2_f7_1 =>
    refine x_aload_n (n' := 11) dX17_lacksSound_10 rfl rfl rfl ?_
    refine x_getI (n' := 14) dX17_lacksSound_11 (by repeat' (first | with_reducible exact hsk | with_reducible apply mK_A | with_reducible apply mK_I | with_reducible apply mK_L | with_reducible apply mK_R | with_reducible apply mK_O | with_reducible apply mK_G | with_reducible refine mK_NA ?_ (by assumption) | with_reducible refine mK_NO ?_ (by assumption))) ffX17_51_7 rfl rfl ?_
    refine x_topv hsn ?_
    refine x_forkN (J := 22) (x_if_ne (n' := 17) (tgt := 21) dX17_lacksSound_14 (by decide) rfl) (v1 := ?v1_f14_2) (v2 := ?v2_f14_2) (fun c_f14_2 j_f14_2 => ?b1_f14_2) (fun c_f14_2 j_f14_2 => ?b2_f14_2) ?k_f14_2
    case b1_f14_2 =>
      refine x_iconst (n' := 22) (v := 0) dX17_lacksSound_21 (by decide) rfl ?_
      exact j_f14_2
    case b2_f14_2 =>
      refine x_iconst (n' := 18) (v := 1) dX17_lacksSound_17 (by decide) rfl ?_
      refine x_goto (tgt := 22) dX17_lacksSound_18 (by decide) ?_
      exact j_f14_2
    exact j_f7_1
  refine x_topv (y := bi (w = 1 ∧ sn = 0)) (by exact bi_an) ?_
  refine x_callSN (n' := 25) (n := 1) (c_X0_one l G _ _) dX17_lacksSound_22 (lw_meth q1032) q1030 q77 q1031 (by decide +kernel) ⟨(Nat.le_of_ble_eq_true rfl), (Nat.le_of_ble_eq_true rfl)⟩ rfl rfl (Nat.le_of_ble_eq_true rfl) (by first | exact Nat.le_of_ble_eq_true rfl | omega) (by first | exact Nat.le_of_ble_eq_true rfl | omega) rfl (fun v_3 M_4 h_6 hE_5 => ?_)
  obtain ⟨rfl, hMs⟩ := h_6
  have hMs := hMs.symm
  subst hMs
  rw [bi_if]
  exact x_iret dX17_lacksSound_25 hret (by repeat' (first | with_reducible exact kE.rf | with_reducible exact hE_5 | with_reducible apply kE_A | with_reducible apply kE_I | with_reducible apply kE_L | with_reducible apply kE_R | with_reducible apply kE_O | with_reducible apply kE_G | with_reducible refine kE.tr ?_ hE_5)) (⟨rfl, rfl⟩)

theorem ffX24_21_7 : FF "KeptLight$Mail" 21 7 1 "KeptLight$Sight" := ⟨by decide, by decide, q270, Or.inl rfl⟩
theorem ffX24_27_7 : FF "KeptLight$Mail" 27 7 0 "KeptLight$Sight" := ⟨by decide, by decide, q265, Or.inl rfl⟩
set_option maxHeartbeats 800000 in
set_option maxRecDepth 100000 in
theorem c_X24_lacksLight (l : Launch) (G : kG) (M : kM) (b sg w : Nat) (d lt sn : Int32) (hs : SGP G M sg w d lt sn) (hb : mK M b = some 24) : Kt l G yX24_lacksLight cX24_lacksLight 2 (some .int) 2 41 [.ref b, .ref sg] M (0) (0) (fun v M2 => v = some (.int (bi (lightP 7 d lt (nI w)))) ∧ M2 = M) := by
  refine Kt.of (own := "KeptLight$Mail") (L := [some (.ref b), some (.ref sg)]) (by decide +kernel) rfl (Nat.le_of_ble_eq_true rfl) rfl ?_
  intro pp ee ss mm args below meth cd hmn hret
  have hsk : mK M sg = some 7 := hs.1
  have hw := hs.2.2.2.2.2.1
  have hkw : mK M (G.2.2.2 w) = some (200 + w) := hs.2.2.2.2.2.2
  have hrw : mR M (fc 7 0) sg = some (G.2.2.2 w) := hs.2.1
  have hd : mI M (fc 7 1) sg = d := hs.2.2.1
  have hl9 : mI M (fc 7 2) sg = lt := hs.2.2.2.1
  have hsn : mI M (fc 7 3) sg = sn := hs.2.2.2.2.1
  refine x_aload_n (n' := 1) dX24_lacksLight_0 rfl rfl rfl ?_
  refine x_aload_n (n' := 2) dX24_lacksLight_1 rfl rfl rfl ?_
  refine x_callSUx (n' := 5) (n := 1) (K := 24) (sup := "KeptLight$Liner") (c_X17_lacksLight l G _ b sg w d lt sn hs) dX24_lacksLight_2 (by repeat' (first | with_reducible exact hb | with_reducible apply mK_A | with_reducible apply mK_I | with_reducible apply mK_L | with_reducible apply mK_R | with_reducible apply mK_O | with_reducible apply mK_G | with_reducible refine mK_NA ?_ (by assumption) | with_reducible refine mK_NO ?_ (by assumption))) (by decide) (lw_meth q1029) q1023 q1024 (fun s9 h9 => kUp2 (h9 _ q1026) (h9 _ q1027) (h9 _ q1028) (by decide)) q1015 q142 (by decide +kernel) ⟨(Nat.le_of_ble_eq_true rfl), (Nat.le_of_ble_eq_true rfl)⟩ rfl rfl (Nat.le_of_ble_eq_true rfl) (by first | exact Nat.le_of_ble_eq_true rfl | omega) (by first | exact Nat.le_of_ble_eq_true rfl | omega) rfl (fun v_1 M_2 h_4 hE_3 => ?_)
  obtain ⟨rfl, hMs⟩ := h_4
  have hMs := hMs.symm
  subst hMs
  refine x_aload_n (n' := 6) dX24_lacksLight_5 rfl rfl rfl ?_
  refine x_getI (n' := 9) dX24_lacksLight_6 (by repeat' (first | with_reducible exact hsk | with_reducible apply mK_A | with_reducible apply mK_I | with_reducible apply mK_L | with_reducible apply mK_R | with_reducible apply mK_O | with_reducible apply mK_G | with_reducible refine mK_NA ?_ (by assumption) | with_reducible refine mK_NO ?_ (by assumption) | with_reducible refine kE.ap hE_3 ?_)) ffX24_21_7 rfl rfl ?_
  refine x_topv hd ?_
  refine x_forkN (J := 27) (x_if_ne (n' := 12) (tgt := 26) dX24_lacksLight_9 (by decide) rfl) (v1 := ?v1_f9_5) (v2 := ?v2_f9_5) (fun c_f9_5 j_f9_5 => ?b1_f9_5) (fun c_f9_5 j_f9_5 => ?b2_f9_5) ?k_f9_5
  case b1_f9_5 =>
    refine x_iconst (n' := 27) (v := 0) dX24_lacksLight_26 (by decide) rfl ?_
    exact j_f9_5
  case b2_f9_5 =>
    refine x_aload_n (n' := 13) dX24_lacksLight_12 rfl rfl rfl ?_
    refine x_getRs (n' := 16) (b := (G.2.2.2 w)) dX24_lacksLight_13 (by repeat' (first | with_reducible exact hsk | with_reducible apply mK_A | with_reducible apply mK_I | with_reducible apply mK_L | with_reducible apply mK_R | with_reducible apply mK_O | with_reducible apply mK_G | with_reducible refine mK_NA ?_ (by assumption) | with_reducible refine mK_NO ?_ (by assumption) | with_reducible refine kE.ap hE_3 ?_)) ffX24_27_7 rfl (by repeat' (first | with_reducible exact hrw | with_reducible apply mR_A | with_reducible apply mR_I | with_reducible apply mR_L | with_reducible apply mR_R | with_reducible apply mR_O | with_reducible apply mR_G | with_reducible refine mR_NA ?_ (by assumption) (by assumption))) rfl ?_
    refine x_disp3k (by repeat' (first | with_reducible exact hkw | with_reducible apply mK_A | with_reducible apply mK_I | with_reducible apply mK_L | with_reducible apply mK_R | with_reducible apply mK_O | with_reducible apply mK_G | with_reducible refine mK_NA ?_ (by assumption) | with_reducible refine mK_NO ?_ (by assumption) | with_reducible refine kE.ap hE_3 ?_)) (wi_k hw) (fun e8 hk8 k8 => x_callK (n' := 19) (K := 200) (v := 0) (x := ⟨"KeptLight$Weather", "isWild", "()Z"⟩) (y := yX6_isWild) (owner := "KeptLight$Weather") dX24_lacksLight_16 hk8 rfl q1033 q1035 (Or.inr ⟨q1034, _, _, _, q1041⟩) (by decide) q1036 q1034 q1041 (by decide +kernel) (by decide +kernel) (Or.inl ⟨_, dX6_isWild_0, rfl, dX6_isWild_1⟩) (by decide +kernel) ⟨(Nat.le_of_ble_eq_true rfl), (Nat.le_of_ble_eq_true rfl)⟩ (Nat.le_of_ble_eq_true rfl) rfl (x_topv (wi_w (w := w) (i := 0) (by decide) e8 rfl) k8)) (fun e8 hk8 k8 => x_callK (n' := 19) (K := 201) (v := 0) (x := ⟨"KeptLight$Weather", "isWild", "()Z"⟩) (y := yX6_isWild) (owner := "KeptLight$Weather") dX24_lacksLight_16 hk8 rfl q1033 q1035 (Or.inr ⟨q1034, _, _, _, q1041⟩) (by decide) q1037 q1034 q1041 (by decide +kernel) (by decide +kernel) (Or.inl ⟨_, dX6_isWild_0, rfl, dX6_isWild_1⟩) (by decide +kernel) ⟨(Nat.le_of_ble_eq_true rfl), (Nat.le_of_ble_eq_true rfl)⟩ (Nat.le_of_ble_eq_true rfl) rfl (x_topv (wi_w (w := w) (i := 1) (by decide) e8 rfl) k8)) (fun e8 hk8 k8 => x_callK (n' := 19) (K := 202) (v := 1) (x := ⟨"KeptLight$Weather", "isWild", "()Z"⟩) (y := yX29_isWild) (owner := "KeptLight$Weather") dX24_lacksLight_16 hk8 rfl q1033 q1035 (Or.inr ⟨q1034, _, _, _, q1041⟩) (by decide) q1038 q1039 q1040 (by decide +kernel) (by decide +kernel) (Or.inl ⟨_, dX29_isWild_0, rfl, dX29_isWild_1⟩) (by decide +kernel) ⟨(Nat.le_of_ble_eq_true rfl), (Nat.le_of_ble_eq_true rfl)⟩ (Nat.le_of_ble_eq_true rfl) rfl (x_topv (wi_w (w := w) (i := 2) (by decide) e8 rfl) k8)) ?_
    refine x_fork (J := 27) (x_if_eq (n' := 22) (tgt := 26) dX24_lacksLight_19 (by decide) rfl) (v1 := ?v1_f19_6) (v2 := ?v2_f19_6) (fun c_f19_6 j_f19_6 => ?b1_f19_6) (fun c_f19_6 j_f19_6 => ?b2_f19_6) ?k_f19_6
    case b1_f19_6 =>
      refine x_iconst (n' := 27) (v := 0) dX24_lacksLight_26 (by decide) rfl ?_
      exact j_f19_6
    case b2_f19_6 =>
      refine x_iconst (n' := 23) (v := 1) dX24_lacksLight_22 (by decide) rfl ?_
      refine x_goto (tgt := 27) dX24_lacksLight_23 (by decide) ?_
      exact j_f19_6
    exact j_f9_5
  refine x_topv (y := bi (d = 0 ∧ w = 2)) (by exact bi_na) ?_
  refine x_callSN (n' := 30) (n := 1) (c_X0_one l G _ _) dX24_lacksLight_27 (lw_meth q1032) q1042 q77 q1031 (by decide +kernel) ⟨(Nat.le_of_ble_eq_true rfl), (Nat.le_of_ble_eq_true rfl)⟩ rfl rfl (Nat.le_of_ble_eq_true rfl) (by first | exact Nat.le_of_ble_eq_true rfl | omega) (by first | exact Nat.le_of_ble_eq_true rfl | omega) rfl (fun v_7 M_8 h_10 hE_9 => ?_)
  obtain ⟨rfl, hMs⟩ := h_10
  have hMs := hMs.symm
  subst hMs
  rw [bi_if]
  refine x_iadd (n' := 31) dX24_lacksLight_30 rfl ?_
  exact x_iret dX24_lacksLight_31 hret (by repeat' (first | with_reducible exact kE.rf | with_reducible exact hE_3 | with_reducible exact hE_9 | with_reducible apply kE_A | with_reducible apply kE_I | with_reducible apply kE_L | with_reducible apply kE_R | with_reducible apply kE_O | with_reducible apply kE_G | with_reducible refine kE.tr ?_ hE_3 | with_reducible refine kE.tr ?_ hE_9)) (⟨by rw [ll_7 hw], rfl⟩)

set_option maxHeartbeats 800000 in
set_option maxRecDepth 100000 in
theorem c_X20_lacksLight (l : Launch) (G : kG) (M : kM) (b sg : Nat) : Kt l G yX20_lacksLight cX20_lacksLight 2 (some .int) 0 0 [.ref b, .ref sg] M (0) (0) (fun v M2 => v = some (.int 0) ∧ M2 = M) := by
  refine Kt.of (own := "KeptLight$Pilot") (L := [some (.ref b), some (.ref sg)]) (by decide +kernel) rfl (Nat.le_of_ble_eq_true rfl) rfl ?_
  intro pp ee ss mm args below meth cd hmn hret
  refine x_iconst (n' := 1) (v := 0) dX20_lacksLight_0 (by decide) rfl ?_
  exact x_iret dX20_lacksLight_1 hret (by repeat' (first | with_reducible exact kE.rf | with_reducible apply kE_A | with_reducible apply kE_I | with_reducible apply kE_L | with_reducible apply kE_R | with_reducible apply kE_O | with_reducible apply kE_G)) (⟨rfl, rfl⟩)

set_option maxHeartbeats 800000 in
set_option maxRecDepth 100000 in
theorem c_X19_lacksSound (l : Launch) (G : kG) (M : kM) (b sg : Nat) : Kt l G yX19_lacksSound cX19_lacksSound 2 (some .int) 0 0 [.ref b, .ref sg] M (0) (0) (fun v M2 => v = some (.int 0) ∧ M2 = M) := by
  refine Kt.of (own := "KeptLight$Fisher") (L := [some (.ref b), some (.ref sg)]) (by decide +kernel) rfl (Nat.le_of_ble_eq_true rfl) rfl ?_
  intro pp ee ss mm args below meth cd hmn hret
  refine x_iconst (n' := 1) (v := 0) dX19_lacksSound_0 (by decide) rfl ?_
  exact x_iret dX19_lacksSound_1 hret (by repeat' (first | with_reducible exact kE.rf | with_reducible apply kE_A | with_reducible apply kE_I | with_reducible apply kE_L | with_reducible apply kE_R | with_reducible apply kE_O | with_reducible apply kE_G)) (⟨rfl, rfl⟩)

set_option maxHeartbeats 800000 in
set_option maxRecDepth 100000 in
theorem c_X17_alone (l : Launch) (G : kG) (M : kM) (b sg : Nat) : Kt l G yX17_alone cX17_alone 2 (some .int) 0 0 [.ref b, .ref sg] M (0) (0) (fun v M2 => v = some (.int 1) ∧ M2 = M) := by
  refine Kt.of (own := "KeptLight$Ship") (L := [some (.ref b), some (.ref sg)]) (by decide +kernel) rfl (Nat.le_of_ble_eq_true rfl) rfl ?_
  intro pp ee ss mm args below meth cd hmn hret
  refine x_iconst (n' := 1) (v := 1) dX17_alone_0 (by decide) rfl ?_
  exact x_iret dX17_alone_1 hret (by repeat' (first | with_reducible exact kE.rf | with_reducible apply kE_A | with_reducible apply kE_I | with_reducible apply kE_L | with_reducible apply kE_R | with_reducible apply kE_O | with_reducible apply kE_G)) (⟨rfl, rfl⟩)

set_option maxHeartbeats 800000 in
set_option maxRecDepth 100000 in
theorem c_X17_lacks__19 (l : Launch) (G : kG) (M : kM) (b sg w : Nat) (d lt sn : Int32) (hs : SGP G M sg w d lt sn) (hb : mK M b = some 19) : Kt l G yX17_lacks cX17_lacks 2 (some .int) 2 41 [.ref b, .ref sg] M (0) (0) (fun v M2 => v = some (.int (bi (lightP 3 d lt (nI w)) + bi (soundP 3 sn (nI w)))) ∧ M2 = M) := by
  refine Kt.of (own := "KeptLight$Ship") (L := [some (.ref b), some (.ref sg)]) (by decide +kernel) rfl (Nat.le_of_ble_eq_true rfl) rfl ?_
  intro pp ee ss mm args below meth cd hmn hret
  have hsk : mK M sg = some 7 := hs.1
  have hw := hs.2.2.2.2.2.1
  have hkw : mK M (G.2.2.2 w) = some (200 + w) := hs.2.2.2.2.2.2
  have hrw : mR M (fc 7 0) sg = some (G.2.2.2 w) := hs.2.1
  have hd : mI M (fc 7 1) sg = d := hs.2.2.1
  have hl9 : mI M (fc 7 2) sg = lt := hs.2.2.2.1
  have hsn : mI M (fc 7 3) sg = sn := hs.2.2.2.2.1
  refine x_aload_n (n' := 1) dX17_lacks_0 rfl rfl rfl ?_
  refine x_aload_n (n' := 2) dX17_lacks_1 rfl rfl rfl ?_
  refine x_callU (n' := 5) (n := 1) (K := 19) (x := ⟨"KeptLight$Ship", "lacksLight", "(LKeptLight$Sight;)I"⟩) (owner := "KeptLight$Ship") ((c_X17_lacksLight l G _ b sg w d lt sn hs).to (ll_eq (k := 3) (d := d) (lt := lt) (w := nI w) (by decide) (by decide))) dX17_lacks_2 (by repeat' (first | with_reducible exact hb | with_reducible apply mK_A | with_reducible apply mK_I | with_reducible apply mK_L | with_reducible apply mK_R | with_reducible apply mK_O | with_reducible apply mK_G | with_reducible refine mK_NA ?_ (by assumption) | with_reducible refine mK_NO ?_ (by assumption))) rfl (lw_U5 q1014 q1016 q1018 q1015 q142 q1029) rfl (by decide +kernel) ⟨(Nat.le_of_ble_eq_true rfl), (Nat.le_of_ble_eq_true rfl)⟩ rfl rfl (Nat.le_of_ble_eq_true rfl) (by first | exact Nat.le_of_ble_eq_true rfl | omega) (by first | exact Nat.le_of_ble_eq_true rfl | omega) rfl (fun v_1 M_2 h_4 hE_3 => ?_)
  obtain ⟨rfl, hMs⟩ := h_4
  have hMs := hMs.symm
  subst hMs
  refine x_aload_n (n' := 6) dX17_lacks_5 rfl rfl rfl ?_
  refine x_aload_n (n' := 7) dX17_lacks_6 rfl rfl rfl ?_
  refine x_callO (n' := 10) (n := 1) (K := 19) (x := ⟨"KeptLight$Ship", "lacksSound", "(LKeptLight$Sight;)I"⟩) (owner := "KeptLight$Ship") ((c_X19_lacksSound l G _ b sg).to (ls_3 (sn := sn) (w := nI w))) dX17_lacks_7 (by repeat' (first | with_reducible exact hb | with_reducible apply mK_A | with_reducible apply mK_I | with_reducible apply mK_L | with_reducible apply mK_R | with_reducible apply mK_O | with_reducible apply mK_G | with_reducible refine mK_NA ?_ (by assumption) | with_reducible refine mK_NO ?_ (by assumption) | with_reducible refine kE.ap hE_3 ?_)) rfl (lw_O6 q1046 q1048 q1047 q1050 q1051 q144 q1052) q1056 (by decide +kernel) ⟨(Nat.le_of_ble_eq_true rfl), (Nat.le_of_ble_eq_true rfl)⟩ rfl rfl (Nat.le_of_ble_eq_true rfl) (by first | exact Nat.le_of_ble_eq_true rfl | omega) (by first | exact Nat.le_of_ble_eq_true rfl | omega) rfl (fun v_5 M_6 h_8 hE_7 => ?_)
  obtain ⟨rfl, hMs⟩ := h_8
  have hMs := hMs.symm
  subst hMs
  refine x_iadd (n' := 11) dX17_lacks_10 rfl ?_
  exact x_iret dX17_lacks_11 hret (by repeat' (first | with_reducible exact kE.rf | with_reducible exact hE_3 | with_reducible exact hE_7 | with_reducible apply kE_A | with_reducible apply kE_I | with_reducible apply kE_L | with_reducible apply kE_R | with_reducible apply kE_O | with_reducible apply kE_G | with_reducible refine kE.tr ?_ hE_3 | with_reducible refine kE.tr ?_ hE_7)) (⟨rfl, rfl⟩)

theorem ffX18_15_7 : FF "KeptLight$Small" 15 7 0 "KeptLight$Sight" := ⟨by decide, by decide, q264, Or.inl rfl⟩
set_option maxHeartbeats 800000 in
set_option maxRecDepth 100000 in
theorem c_X18_lacks__19 (l : Launch) (G : kG) (M : kM) (b sg w : Nat) (d lt sn : Int32) (hs : SGP G M sg w d lt sn) (hb : mK M b = some 19) : Kt l G yX18_lacks cX18_lacks 2 (some .int) 3 62 [.ref b, .ref sg] M (0) (0) (fun v M2 => v = some (.int (lacksG 3 d lt sn (nI w))) ∧ M2 = M) := by
  refine Kt.of (own := "KeptLight$Small") (L := [some (.ref b), some (.ref sg)]) (by decide +kernel) rfl (Nat.le_of_ble_eq_true rfl) rfl ?_
  intro pp ee ss mm args below meth cd hmn hret
  have hsk : mK M sg = some 7 := hs.1
  have hw := hs.2.2.2.2.2.1
  have hkw : mK M (G.2.2.2 w) = some (200 + w) := hs.2.2.2.2.2.2
  have hrw : mR M (fc 7 0) sg = some (G.2.2.2 w) := hs.2.1
  have hd : mI M (fc 7 1) sg = d := hs.2.2.1
  have hl9 : mI M (fc 7 2) sg = lt := hs.2.2.2.1
  have hsn : mI M (fc 7 3) sg = sn := hs.2.2.2.2.1
  refine x_aload_n (n' := 1) dX18_lacks_0 rfl rfl rfl ?_
  refine x_aload_n (n' := 2) dX18_lacks_1 rfl rfl rfl ?_
  refine x_callSU (n' := 5) (n := 1) (K := 19) (c_X17_lacks__19 l G _ b sg w d lt sn hs hb) dX18_lacks_2 (by repeat' (first | with_reducible exact hb | with_reducible apply mK_A | with_reducible apply mK_I | with_reducible apply mK_L | with_reducible apply mK_R | with_reducible apply mK_O | with_reducible apply mK_G | with_reducible refine mK_NA ?_ (by assumption) | with_reducible refine mK_NO ?_ (by assumption))) (by decide) (lw_SU5 q1010 q3648 q1011 q1012 q142 q1013) (by decide +kernel) ⟨(Nat.le_of_ble_eq_true rfl), (Nat.le_of_ble_eq_true rfl)⟩ rfl rfl (Nat.le_of_ble_eq_true rfl) (by first | exact Nat.le_of_ble_eq_true rfl | omega) (by first | exact Nat.le_of_ble_eq_true rfl | omega) rfl (fun v_1 M_2 h_4 hE_3 => ?_)
  obtain ⟨rfl, hMs⟩ := h_4
  have hMs := hMs.symm
  subst hMs
  refine x_aload_n (n' := 6) dX18_lacks_5 rfl rfl rfl ?_
  refine x_getRs (n' := 9) (b := (G.2.2.2 w)) dX18_lacks_6 (by repeat' (first | with_reducible exact hsk | with_reducible apply mK_A | with_reducible apply mK_I | with_reducible apply mK_L | with_reducible apply mK_R | with_reducible apply mK_O | with_reducible apply mK_G | with_reducible refine mK_NA ?_ (by assumption) | with_reducible refine mK_NO ?_ (by assumption) | with_reducible refine kE.ap hE_3 ?_)) ffX18_15_7 rfl (by repeat' (first | with_reducible exact hrw | with_reducible apply mR_A | with_reducible apply mR_I | with_reducible apply mR_L | with_reducible apply mR_R | with_reducible apply mR_O | with_reducible apply mR_G | with_reducible refine mR_NA ?_ (by assumption) (by assumption))) rfl ?_
  refine x_disp3k (by repeat' (first | with_reducible exact hkw | with_reducible apply mK_A | with_reducible apply mK_I | with_reducible apply mK_L | with_reducible apply mK_R | with_reducible apply mK_O | with_reducible apply mK_G | with_reducible refine mK_NA ?_ (by assumption) | with_reducible refine mK_NO ?_ (by assumption) | with_reducible refine kE.ap hE_3 ?_)) (wi_k hw) (fun e8 hk8 k8 => x_callK (n' := 12) (K := 200) (v := 0) (x := ⟨"KeptLight$Weather", "isWild", "()Z"⟩) (y := yX6_isWild) (owner := "KeptLight$Weather") dX18_lacks_9 hk8 rfl q1066 q1035 (Or.inr ⟨q1034, _, _, _, q1041⟩) (by decide) q1036 q1034 q1041 (by decide +kernel) (by decide +kernel) (Or.inl ⟨_, dX6_isWild_0, rfl, dX6_isWild_1⟩) (by decide +kernel) ⟨(Nat.le_of_ble_eq_true rfl), (Nat.le_of_ble_eq_true rfl)⟩ (Nat.le_of_ble_eq_true rfl) rfl (x_topv (wi_w (w := w) (i := 0) (by decide) e8 rfl) k8)) (fun e8 hk8 k8 => x_callK (n' := 12) (K := 201) (v := 0) (x := ⟨"KeptLight$Weather", "isWild", "()Z"⟩) (y := yX6_isWild) (owner := "KeptLight$Weather") dX18_lacks_9 hk8 rfl q1066 q1035 (Or.inr ⟨q1034, _, _, _, q1041⟩) (by decide) q1037 q1034 q1041 (by decide +kernel) (by decide +kernel) (Or.inl ⟨_, dX6_isWild_0, rfl, dX6_isWild_1⟩) (by decide +kernel) ⟨(Nat.le_of_ble_eq_true rfl), (Nat.le_of_ble_eq_true rfl)⟩ (Nat.le_of_ble_eq_true rfl) rfl (x_topv (wi_w (w := w) (i := 1) (by decide) e8 rfl) k8)) (fun e8 hk8 k8 => x_callK (n' := 12) (K := 202) (v := 1) (x := ⟨"KeptLight$Weather", "isWild", "()Z"⟩) (y := yX29_isWild) (owner := "KeptLight$Weather") dX18_lacks_9 hk8 rfl q1066 q1035 (Or.inr ⟨q1034, _, _, _, q1041⟩) (by decide) q1038 q1039 q1040 (by decide +kernel) (by decide +kernel) (Or.inl ⟨_, dX29_isWild_0, rfl, dX29_isWild_1⟩) (by decide +kernel) ⟨(Nat.le_of_ble_eq_true rfl), (Nat.le_of_ble_eq_true rfl)⟩ (Nat.le_of_ble_eq_true rfl) rfl (x_topv (wi_w (w := w) (i := 2) (by decide) e8 rfl) k8)) ?_
  refine x_callSN (n' := 15) (n := 1) (c_X0_one l G _ _) dX18_lacks_12 (lw_meth q1032) q1067 q77 q1031 (by decide +kernel) ⟨(Nat.le_of_ble_eq_true rfl), (Nat.le_of_ble_eq_true rfl)⟩ rfl rfl (Nat.le_of_ble_eq_true rfl) (by first | exact Nat.le_of_ble_eq_true rfl | omega) (by first | exact Nat.le_of_ble_eq_true rfl | omega) rfl (fun v_5 M_6 h_8 hE_7 => ?_)
  obtain ⟨rfl, hMs⟩ := h_8
  have hMs := hMs.symm
  subst hMs
  rw [bi_if]
  refine x_iadd (n' := 16) dX18_lacks_15 rfl ?_
  exact x_iret dX18_lacks_16 hret (by repeat' (first | with_reducible exact kE.rf | with_reducible exact hE_3 | with_reducible exact hE_7 | with_reducible apply kE_A | with_reducible apply kE_I | with_reducible apply kE_L | with_reducible apply kE_R | with_reducible apply kE_O | with_reducible apply kE_G | with_reducible refine kE.tr ?_ hE_3 | with_reducible refine kE.tr ?_ hE_7)) (⟨by rw [lr_s (k := 3) hw (by decide)]; rfl, rfl⟩)

set_option maxHeartbeats 800000 in
set_option maxRecDepth 100000 in
theorem c_X17_becomes__19 (l : Launch) (G : kG) (M : kM) (b sg w : Nat) (d lt sn : Int32) (hs : SGP G M sg w d lt sn) (hb : mK M b = some 19) : Kt l G yX17_becomes cX17_becomes 3 (some .int) 4 83 [.ref b, .ref sg] M (0) (0) (fun v M2 => v = some (.int (fateP 3 (lacksG 3 d lt sn (nI w)) (nI w))) ∧ M2 = M) := by
  refine Kt.of (own := "KeptLight$Ship") (L := [some (.ref b), some (.ref sg), none]) (by decide +kernel) rfl (Nat.le_of_ble_eq_true rfl) rfl ?_
  intro pp ee ss mm args below meth cd hmn hret
  have hsk : mK M sg = some 7 := hs.1
  have hw := hs.2.2.2.2.2.1
  have hkw : mK M (G.2.2.2 w) = some (200 + w) := hs.2.2.2.2.2.2
  have hrw : mR M (fc 7 0) sg = some (G.2.2.2 w) := hs.2.1
  have hd : mI M (fc 7 1) sg = d := hs.2.2.1
  have hl9 : mI M (fc 7 2) sg = lt := hs.2.2.2.1
  have hsn : mI M (fc 7 3) sg = sn := hs.2.2.2.2.1
  refine x_aload_n (n' := 1) dX17_becomes_0 rfl rfl rfl ?_
  refine x_aload_n (n' := 2) dX17_becomes_1 rfl rfl rfl ?_
  refine x_callO (n' := 5) (n := 1) (K := 19) (x := ⟨"KeptLight$Ship", "lacks", "(LKeptLight$Sight;)I"⟩) (owner := "KeptLight$Ship") (c_X18_lacks__19 l G _ b sg w d lt sn hs hb) dX17_becomes_2 (by repeat' (first | with_reducible exact hb | with_reducible apply mK_A | with_reducible apply mK_I | with_reducible apply mK_L | with_reducible apply mK_R | with_reducible apply mK_O | with_reducible apply mK_G | with_reducible refine mK_NA ?_ (by assumption) | with_reducible refine mK_NO ?_ (by assumption))) rfl (lw_O6 q2668 q3648 q1012 q3661 q1005 q143 q1009) q1013 (by decide +kernel) ⟨(Nat.le_of_ble_eq_true rfl), (Nat.le_of_ble_eq_true rfl)⟩ rfl rfl (Nat.le_of_ble_eq_true rfl) (by first | exact Nat.le_of_ble_eq_true rfl | omega) (by first | exact Nat.le_of_ble_eq_true rfl | omega) rfl (fun v_1 M_2 h_4 hE_3 => ?_)
  obtain ⟨rfl, hMs⟩ := h_4
  have hMs := hMs.symm
  subst hMs
  refine x_istore_n (n' := 6) dX17_becomes_5 rfl (Nat.le_of_ble_eq_true rfl) rfl (by dsimp only [List.set] <;> rfl) rfl ?_
  refine x_iload_n (n' := 7) dX17_becomes_6 rfl rfl rfl ?_
  refine x_if_ne (n' := 10) (tgt := 14) dX17_becomes_7 (by decide) rfl (fun c7_5 => ?_) (fun c7_5 => ?_)
  · have C7 := c7_5
    refine x_iload_n (n' := 15) dX17_becomes_14 rfl rfl rfl ?_
    refine x_iconst (n' := 16) (v := 1) dX17_becomes_15 (by decide) rfl ?_
    refine x_icmp_ne (n' := 19) (tgt := 27) dX17_becomes_16 (by decide) rfl (fun c16_6 => ?_) (fun c16_6 => ?_)
    · have C16 := c16_6
      refine x_iconst (n' := 28) (v := 2) dX17_becomes_27 (by decide) rfl ?_
      exact x_iret dX17_becomes_28 hret (by repeat' (first | with_reducible exact kE.rf | with_reducible exact hE_3 | with_reducible apply kE_A | with_reducible apply kE_I | with_reducible apply kE_L | with_reducible apply kE_R | with_reducible apply kE_O | with_reducible apply kE_G | with_reducible refine kE.tr ?_ hE_3)) (⟨congrArg (fun z => some (Value.int z)) (Eq.trans (by first | rw [if_pos C7] | rw [if_neg C7, if_pos C16] | rw [if_neg C7, if_neg C16]) (fa_s (k := 3) (by decide))), rfl⟩)
    · have C16 := c16_6
      refine x_aload_n (n' := 20) dX17_becomes_19 rfl rfl rfl ?_
      refine x_aload_n (n' := 21) dX17_becomes_20 rfl rfl rfl ?_
      refine x_callU (n' := 24) (n := 1) (K := 19) (x := ⟨"KeptLight$Ship", "alone", "(LKeptLight$Sight;)I"⟩) (owner := "KeptLight$Ship") (c_X17_alone l G _ b sg) dX17_becomes_21 (by repeat' (first | with_reducible exact hb | with_reducible apply mK_A | with_reducible apply mK_I | with_reducible apply mK_L | with_reducible apply mK_R | with_reducible apply mK_O | with_reducible apply mK_G | with_reducible refine mK_NA ?_ (by assumption) | with_reducible refine mK_NO ?_ (by assumption) | with_reducible refine kE.ap hE_3 ?_)) rfl (lw_U5 q2669 q2671 q2678 q2670 q142 q2677) rfl (by decide +kernel) ⟨(Nat.le_of_ble_eq_true rfl), (Nat.le_of_ble_eq_true rfl)⟩ rfl rfl (Nat.le_of_ble_eq_true rfl) (by first | exact Nat.le_of_ble_eq_true rfl | omega) (by first | exact Nat.le_of_ble_eq_true rfl | omega) rfl (fun v_7 M_8 h_10 hE_9 => ?_)
      obtain ⟨rfl, hMs⟩ := h_10
      have hMs := hMs.symm
      subst hMs
      refine x_goto (tgt := 28) dX17_becomes_24 (by decide) ?_
      exact x_iret dX17_becomes_28 hret (by repeat' (first | with_reducible exact kE.rf | with_reducible exact hE_3 | with_reducible exact hE_9 | with_reducible apply kE_A | with_reducible apply kE_I | with_reducible apply kE_L | with_reducible apply kE_R | with_reducible apply kE_O | with_reducible apply kE_G | with_reducible refine kE.tr ?_ hE_3 | with_reducible refine kE.tr ?_ hE_9)) (⟨congrArg (fun z => some (Value.int z)) (Eq.trans (by first | rw [if_pos C7] | rw [if_neg C7, if_pos C16] | rw [if_neg C7, if_neg C16]) (fa_s (k := 3) (by decide))), rfl⟩)
  · have C7 := c7_5
    refine x_iconst (n' := 11) (v := 0) dX17_becomes_10 (by decide) rfl ?_
    refine x_goto (tgt := 28) dX17_becomes_11 (by decide) ?_
    exact x_iret dX17_becomes_28 hret (by repeat' (first | with_reducible exact kE.rf | with_reducible exact hE_3 | with_reducible apply kE_A | with_reducible apply kE_I | with_reducible apply kE_L | with_reducible apply kE_R | with_reducible apply kE_O | with_reducible apply kE_G | with_reducible refine kE.tr ?_ hE_3)) (⟨congrArg (fun z => some (Value.int z)) (Eq.trans (by first | rw [if_pos C7] | rw [if_neg C7, if_pos C16] | rw [if_neg C7, if_neg C16]) (fa_s (k := 3) (by decide))), rfl⟩)

set_option maxHeartbeats 800000 in
set_option maxRecDepth 100000 in
theorem c_X17_lacks__20 (l : Launch) (G : kG) (M : kM) (b sg w : Nat) (d lt sn : Int32) (hs : SGP G M sg w d lt sn) (hb : mK M b = some 20) : Kt l G yX17_lacks cX17_lacks 2 (some .int) 2 41 [.ref b, .ref sg] M (0) (0) (fun v M2 => v = some (.int (bi (lightP 4 d lt (nI w)) + bi (soundP 4 sn (nI w)))) ∧ M2 = M) := by
  refine Kt.of (own := "KeptLight$Ship") (L := [some (.ref b), some (.ref sg)]) (by decide +kernel) rfl (Nat.le_of_ble_eq_true rfl) rfl ?_
  intro pp ee ss mm args below meth cd hmn hret
  have hsk : mK M sg = some 7 := hs.1
  have hw := hs.2.2.2.2.2.1
  have hkw : mK M (G.2.2.2 w) = some (200 + w) := hs.2.2.2.2.2.2
  have hrw : mR M (fc 7 0) sg = some (G.2.2.2 w) := hs.2.1
  have hd : mI M (fc 7 1) sg = d := hs.2.2.1
  have hl9 : mI M (fc 7 2) sg = lt := hs.2.2.2.1
  have hsn : mI M (fc 7 3) sg = sn := hs.2.2.2.2.1
  refine x_aload_n (n' := 1) dX17_lacks_0 rfl rfl rfl ?_
  refine x_aload_n (n' := 2) dX17_lacks_1 rfl rfl rfl ?_
  refine x_callO (n' := 5) (n := 1) (K := 20) (x := ⟨"KeptLight$Ship", "lacksLight", "(LKeptLight$Sight;)I"⟩) (owner := "KeptLight$Ship") ((c_X20_lacksLight l G _ b sg).to (ll_4 (d := d) (lt := lt) (w := nI w))) dX17_lacks_2 (by repeat' (first | with_reducible exact hb | with_reducible apply mK_A | with_reducible apply mK_I | with_reducible apply mK_L | with_reducible apply mK_R | with_reducible apply mK_O | with_reducible apply mK_G | with_reducible refine mK_NA ?_ (by assumption) | with_reducible refine mK_NO ?_ (by assumption))) rfl (lw_O6 q1014 q1016 q1015 q1043 q1044 q145 q1045) q1029 (by decide +kernel) ⟨(Nat.le_of_ble_eq_true rfl), (Nat.le_of_ble_eq_true rfl)⟩ rfl rfl (Nat.le_of_ble_eq_true rfl) (by first | exact Nat.le_of_ble_eq_true rfl | omega) (by first | exact Nat.le_of_ble_eq_true rfl | omega) rfl (fun v_1 M_2 h_4 hE_3 => ?_)
  obtain ⟨rfl, hMs⟩ := h_4
  have hMs := hMs.symm
  subst hMs
  refine x_aload_n (n' := 6) dX17_lacks_5 rfl rfl rfl ?_
  refine x_aload_n (n' := 7) dX17_lacks_6 rfl rfl rfl ?_
  refine x_callU (n' := 10) (n := 1) (K := 20) (x := ⟨"KeptLight$Ship", "lacksSound", "(LKeptLight$Sight;)I"⟩) (owner := "KeptLight$Ship") ((c_X17_lacksSound l G _ b sg w d lt sn hs).to (ls_eq (k := 4) (sn := sn) hw (by decide))) dX17_lacks_7 (by repeat' (first | with_reducible exact hb | with_reducible apply mK_A | with_reducible apply mK_I | with_reducible apply mK_L | with_reducible apply mK_R | with_reducible apply mK_O | with_reducible apply mK_G | with_reducible refine mK_NA ?_ (by assumption) | with_reducible refine mK_NO ?_ (by assumption) | with_reducible refine kE.ap hE_3 ?_)) rfl (lw_U5 q1046 q1048 q1055 q1047 q142 q1056) rfl (by decide +kernel) ⟨(Nat.le_of_ble_eq_true rfl), (Nat.le_of_ble_eq_true rfl)⟩ rfl rfl (Nat.le_of_ble_eq_true rfl) (by first | exact Nat.le_of_ble_eq_true rfl | omega) (by first | exact Nat.le_of_ble_eq_true rfl | omega) rfl (fun v_5 M_6 h_8 hE_7 => ?_)
  obtain ⟨rfl, hMs⟩ := h_8
  have hMs := hMs.symm
  subst hMs
  refine x_iadd (n' := 11) dX17_lacks_10 rfl ?_
  exact x_iret dX17_lacks_11 hret (by repeat' (first | with_reducible exact kE.rf | with_reducible exact hE_3 | with_reducible exact hE_7 | with_reducible apply kE_A | with_reducible apply kE_I | with_reducible apply kE_L | with_reducible apply kE_R | with_reducible apply kE_O | with_reducible apply kE_G | with_reducible refine kE.tr ?_ hE_3 | with_reducible refine kE.tr ?_ hE_7)) (⟨rfl, rfl⟩)

set_option maxHeartbeats 800000 in
set_option maxRecDepth 100000 in
theorem c_X18_lacks__20 (l : Launch) (G : kG) (M : kM) (b sg w : Nat) (d lt sn : Int32) (hs : SGP G M sg w d lt sn) (hb : mK M b = some 20) : Kt l G yX18_lacks cX18_lacks 2 (some .int) 3 62 [.ref b, .ref sg] M (0) (0) (fun v M2 => v = some (.int (lacksG 4 d lt sn (nI w))) ∧ M2 = M) := by
  refine Kt.of (own := "KeptLight$Small") (L := [some (.ref b), some (.ref sg)]) (by decide +kernel) rfl (Nat.le_of_ble_eq_true rfl) rfl ?_
  intro pp ee ss mm args below meth cd hmn hret
  have hsk : mK M sg = some 7 := hs.1
  have hw := hs.2.2.2.2.2.1
  have hkw : mK M (G.2.2.2 w) = some (200 + w) := hs.2.2.2.2.2.2
  have hrw : mR M (fc 7 0) sg = some (G.2.2.2 w) := hs.2.1
  have hd : mI M (fc 7 1) sg = d := hs.2.2.1
  have hl9 : mI M (fc 7 2) sg = lt := hs.2.2.2.1
  have hsn : mI M (fc 7 3) sg = sn := hs.2.2.2.2.1
  refine x_aload_n (n' := 1) dX18_lacks_0 rfl rfl rfl ?_
  refine x_aload_n (n' := 2) dX18_lacks_1 rfl rfl rfl ?_
  refine x_callSU (n' := 5) (n := 1) (K := 20) (c_X17_lacks__20 l G _ b sg w d lt sn hs hb) dX18_lacks_2 (by repeat' (first | with_reducible exact hb | with_reducible apply mK_A | with_reducible apply mK_I | with_reducible apply mK_L | with_reducible apply mK_R | with_reducible apply mK_O | with_reducible apply mK_G | with_reducible refine mK_NA ?_ (by assumption) | with_reducible refine mK_NO ?_ (by assumption))) (by decide) (lw_SU5 q1010 q3648 q1011 q1012 q142 q1013) (by decide +kernel) ⟨(Nat.le_of_ble_eq_true rfl), (Nat.le_of_ble_eq_true rfl)⟩ rfl rfl (Nat.le_of_ble_eq_true rfl) (by first | exact Nat.le_of_ble_eq_true rfl | omega) (by first | exact Nat.le_of_ble_eq_true rfl | omega) rfl (fun v_1 M_2 h_4 hE_3 => ?_)
  obtain ⟨rfl, hMs⟩ := h_4
  have hMs := hMs.symm
  subst hMs
  refine x_aload_n (n' := 6) dX18_lacks_5 rfl rfl rfl ?_
  refine x_getRs (n' := 9) (b := (G.2.2.2 w)) dX18_lacks_6 (by repeat' (first | with_reducible exact hsk | with_reducible apply mK_A | with_reducible apply mK_I | with_reducible apply mK_L | with_reducible apply mK_R | with_reducible apply mK_O | with_reducible apply mK_G | with_reducible refine mK_NA ?_ (by assumption) | with_reducible refine mK_NO ?_ (by assumption) | with_reducible refine kE.ap hE_3 ?_)) ffX18_15_7 rfl (by repeat' (first | with_reducible exact hrw | with_reducible apply mR_A | with_reducible apply mR_I | with_reducible apply mR_L | with_reducible apply mR_R | with_reducible apply mR_O | with_reducible apply mR_G | with_reducible refine mR_NA ?_ (by assumption) (by assumption))) rfl ?_
  refine x_disp3k (by repeat' (first | with_reducible exact hkw | with_reducible apply mK_A | with_reducible apply mK_I | with_reducible apply mK_L | with_reducible apply mK_R | with_reducible apply mK_O | with_reducible apply mK_G | with_reducible refine mK_NA ?_ (by assumption) | with_reducible refine mK_NO ?_ (by assumption) | with_reducible refine kE.ap hE_3 ?_)) (wi_k hw) (fun e8 hk8 k8 => x_callK (n' := 12) (K := 200) (v := 0) (x := ⟨"KeptLight$Weather", "isWild", "()Z"⟩) (y := yX6_isWild) (owner := "KeptLight$Weather") dX18_lacks_9 hk8 rfl q1066 q1035 (Or.inr ⟨q1034, _, _, _, q1041⟩) (by decide) q1036 q1034 q1041 (by decide +kernel) (by decide +kernel) (Or.inl ⟨_, dX6_isWild_0, rfl, dX6_isWild_1⟩) (by decide +kernel) ⟨(Nat.le_of_ble_eq_true rfl), (Nat.le_of_ble_eq_true rfl)⟩ (Nat.le_of_ble_eq_true rfl) rfl (x_topv (wi_w (w := w) (i := 0) (by decide) e8 rfl) k8)) (fun e8 hk8 k8 => x_callK (n' := 12) (K := 201) (v := 0) (x := ⟨"KeptLight$Weather", "isWild", "()Z"⟩) (y := yX6_isWild) (owner := "KeptLight$Weather") dX18_lacks_9 hk8 rfl q1066 q1035 (Or.inr ⟨q1034, _, _, _, q1041⟩) (by decide) q1037 q1034 q1041 (by decide +kernel) (by decide +kernel) (Or.inl ⟨_, dX6_isWild_0, rfl, dX6_isWild_1⟩) (by decide +kernel) ⟨(Nat.le_of_ble_eq_true rfl), (Nat.le_of_ble_eq_true rfl)⟩ (Nat.le_of_ble_eq_true rfl) rfl (x_topv (wi_w (w := w) (i := 1) (by decide) e8 rfl) k8)) (fun e8 hk8 k8 => x_callK (n' := 12) (K := 202) (v := 1) (x := ⟨"KeptLight$Weather", "isWild", "()Z"⟩) (y := yX29_isWild) (owner := "KeptLight$Weather") dX18_lacks_9 hk8 rfl q1066 q1035 (Or.inr ⟨q1034, _, _, _, q1041⟩) (by decide) q1038 q1039 q1040 (by decide +kernel) (by decide +kernel) (Or.inl ⟨_, dX29_isWild_0, rfl, dX29_isWild_1⟩) (by decide +kernel) ⟨(Nat.le_of_ble_eq_true rfl), (Nat.le_of_ble_eq_true rfl)⟩ (Nat.le_of_ble_eq_true rfl) rfl (x_topv (wi_w (w := w) (i := 2) (by decide) e8 rfl) k8)) ?_
  refine x_callSN (n' := 15) (n := 1) (c_X0_one l G _ _) dX18_lacks_12 (lw_meth q1032) q1067 q77 q1031 (by decide +kernel) ⟨(Nat.le_of_ble_eq_true rfl), (Nat.le_of_ble_eq_true rfl)⟩ rfl rfl (Nat.le_of_ble_eq_true rfl) (by first | exact Nat.le_of_ble_eq_true rfl | omega) (by first | exact Nat.le_of_ble_eq_true rfl | omega) rfl (fun v_5 M_6 h_8 hE_7 => ?_)
  obtain ⟨rfl, hMs⟩ := h_8
  have hMs := hMs.symm
  subst hMs
  rw [bi_if]
  refine x_iadd (n' := 16) dX18_lacks_15 rfl ?_
  exact x_iret dX18_lacks_16 hret (by repeat' (first | with_reducible exact kE.rf | with_reducible exact hE_3 | with_reducible exact hE_7 | with_reducible apply kE_A | with_reducible apply kE_I | with_reducible apply kE_L | with_reducible apply kE_R | with_reducible apply kE_O | with_reducible apply kE_G | with_reducible refine kE.tr ?_ hE_3 | with_reducible refine kE.tr ?_ hE_7)) (⟨by rw [lr_s (k := 4) hw (by decide)]; rfl, rfl⟩)

set_option maxHeartbeats 800000 in
set_option maxRecDepth 100000 in
theorem c_X17_becomes__20 (l : Launch) (G : kG) (M : kM) (b sg w : Nat) (d lt sn : Int32) (hs : SGP G M sg w d lt sn) (hb : mK M b = some 20) : Kt l G yX17_becomes cX17_becomes 3 (some .int) 4 83 [.ref b, .ref sg] M (0) (0) (fun v M2 => v = some (.int (fateP 4 (lacksG 4 d lt sn (nI w)) (nI w))) ∧ M2 = M) := by
  refine Kt.of (own := "KeptLight$Ship") (L := [some (.ref b), some (.ref sg), none]) (by decide +kernel) rfl (Nat.le_of_ble_eq_true rfl) rfl ?_
  intro pp ee ss mm args below meth cd hmn hret
  have hsk : mK M sg = some 7 := hs.1
  have hw := hs.2.2.2.2.2.1
  have hkw : mK M (G.2.2.2 w) = some (200 + w) := hs.2.2.2.2.2.2
  have hrw : mR M (fc 7 0) sg = some (G.2.2.2 w) := hs.2.1
  have hd : mI M (fc 7 1) sg = d := hs.2.2.1
  have hl9 : mI M (fc 7 2) sg = lt := hs.2.2.2.1
  have hsn : mI M (fc 7 3) sg = sn := hs.2.2.2.2.1
  refine x_aload_n (n' := 1) dX17_becomes_0 rfl rfl rfl ?_
  refine x_aload_n (n' := 2) dX17_becomes_1 rfl rfl rfl ?_
  refine x_callO (n' := 5) (n := 1) (K := 20) (x := ⟨"KeptLight$Ship", "lacks", "(LKeptLight$Sight;)I"⟩) (owner := "KeptLight$Ship") (c_X18_lacks__20 l G _ b sg w d lt sn hs hb) dX17_becomes_2 (by repeat' (first | with_reducible exact hb | with_reducible apply mK_A | with_reducible apply mK_I | with_reducible apply mK_L | with_reducible apply mK_R | with_reducible apply mK_O | with_reducible apply mK_G | with_reducible refine mK_NA ?_ (by assumption) | with_reducible refine mK_NO ?_ (by assumption))) rfl (lw_O6 q2668 q3648 q1012 q3664 q1005 q143 q1009) q1013 (by decide +kernel) ⟨(Nat.le_of_ble_eq_true rfl), (Nat.le_of_ble_eq_true rfl)⟩ rfl rfl (Nat.le_of_ble_eq_true rfl) (by first | exact Nat.le_of_ble_eq_true rfl | omega) (by first | exact Nat.le_of_ble_eq_true rfl | omega) rfl (fun v_1 M_2 h_4 hE_3 => ?_)
  obtain ⟨rfl, hMs⟩ := h_4
  have hMs := hMs.symm
  subst hMs
  refine x_istore_n (n' := 6) dX17_becomes_5 rfl (Nat.le_of_ble_eq_true rfl) rfl (by dsimp only [List.set] <;> rfl) rfl ?_
  refine x_iload_n (n' := 7) dX17_becomes_6 rfl rfl rfl ?_
  refine x_if_ne (n' := 10) (tgt := 14) dX17_becomes_7 (by decide) rfl (fun c7_5 => ?_) (fun c7_5 => ?_)
  · have C7 := c7_5
    refine x_iload_n (n' := 15) dX17_becomes_14 rfl rfl rfl ?_
    refine x_iconst (n' := 16) (v := 1) dX17_becomes_15 (by decide) rfl ?_
    refine x_icmp_ne (n' := 19) (tgt := 27) dX17_becomes_16 (by decide) rfl (fun c16_6 => ?_) (fun c16_6 => ?_)
    · have C16 := c16_6
      refine x_iconst (n' := 28) (v := 2) dX17_becomes_27 (by decide) rfl ?_
      exact x_iret dX17_becomes_28 hret (by repeat' (first | with_reducible exact kE.rf | with_reducible exact hE_3 | with_reducible apply kE_A | with_reducible apply kE_I | with_reducible apply kE_L | with_reducible apply kE_R | with_reducible apply kE_O | with_reducible apply kE_G | with_reducible refine kE.tr ?_ hE_3)) (⟨congrArg (fun z => some (Value.int z)) (Eq.trans (by first | rw [if_pos C7] | rw [if_neg C7, if_pos C16] | rw [if_neg C7, if_neg C16]) (fa_s (k := 4) (by decide))), rfl⟩)
    · have C16 := c16_6
      refine x_aload_n (n' := 20) dX17_becomes_19 rfl rfl rfl ?_
      refine x_aload_n (n' := 21) dX17_becomes_20 rfl rfl rfl ?_
      refine x_callU (n' := 24) (n := 1) (K := 20) (x := ⟨"KeptLight$Ship", "alone", "(LKeptLight$Sight;)I"⟩) (owner := "KeptLight$Ship") (c_X17_alone l G _ b sg) dX17_becomes_21 (by repeat' (first | with_reducible exact hb | with_reducible apply mK_A | with_reducible apply mK_I | with_reducible apply mK_L | with_reducible apply mK_R | with_reducible apply mK_O | with_reducible apply mK_G | with_reducible refine mK_NA ?_ (by assumption) | with_reducible refine mK_NO ?_ (by assumption) | with_reducible refine kE.ap hE_3 ?_)) rfl (lw_U5 q2669 q2671 q2681 q2670 q142 q2677) rfl (by decide +kernel) ⟨(Nat.le_of_ble_eq_true rfl), (Nat.le_of_ble_eq_true rfl)⟩ rfl rfl (Nat.le_of_ble_eq_true rfl) (by first | exact Nat.le_of_ble_eq_true rfl | omega) (by first | exact Nat.le_of_ble_eq_true rfl | omega) rfl (fun v_7 M_8 h_10 hE_9 => ?_)
      obtain ⟨rfl, hMs⟩ := h_10
      have hMs := hMs.symm
      subst hMs
      refine x_goto (tgt := 28) dX17_becomes_24 (by decide) ?_
      exact x_iret dX17_becomes_28 hret (by repeat' (first | with_reducible exact kE.rf | with_reducible exact hE_3 | with_reducible exact hE_9 | with_reducible apply kE_A | with_reducible apply kE_I | with_reducible apply kE_L | with_reducible apply kE_R | with_reducible apply kE_O | with_reducible apply kE_G | with_reducible refine kE.tr ?_ hE_3 | with_reducible refine kE.tr ?_ hE_9)) (⟨congrArg (fun z => some (Value.int z)) (Eq.trans (by first | rw [if_pos C7] | rw [if_neg C7, if_pos C16] | rw [if_neg C7, if_neg C16]) (fa_s (k := 4) (by decide))), rfl⟩)
  · have C7 := c7_5
    refine x_iconst (n' := 11) (v := 0) dX17_becomes_10 (by decide) rfl ?_
    refine x_goto (tgt := 28) dX17_becomes_11 (by decide) ?_
    exact x_iret dX17_becomes_28 hret (by repeat' (first | with_reducible exact kE.rf | with_reducible exact hE_3 | with_reducible apply kE_A | with_reducible apply kE_I | with_reducible apply kE_L | with_reducible apply kE_R | with_reducible apply kE_O | with_reducible apply kE_G | with_reducible refine kE.tr ?_ hE_3)) (⟨congrArg (fun z => some (Value.int z)) (Eq.trans (by first | rw [if_pos C7] | rw [if_neg C7, if_pos C16] | rw [if_neg C7, if_neg C16]) (fa_s (k := 4) (by decide))), rfl⟩)

set_option maxHeartbeats 800000 in
set_option maxRecDepth 100000 in
theorem c_X17_lacks__22 (l : Launch) (G : kG) (M : kM) (b sg w : Nat) (d lt sn : Int32) (hs : SGP G M sg w d lt sn) (hb : mK M b = some 22) : Kt l G yX17_lacks cX17_lacks 2 (some .int) 2 41 [.ref b, .ref sg] M (0) (0) (fun v M2 => v = some (.int (bi (lightP 5 d lt (nI w)) + bi (soundP 5 sn (nI w)))) ∧ M2 = M) := by
  refine Kt.of (own := "KeptLight$Ship") (L := [some (.ref b), some (.ref sg)]) (by decide +kernel) rfl (Nat.le_of_ble_eq_true rfl) rfl ?_
  intro pp ee ss mm args below meth cd hmn hret
  have hsk : mK M sg = some 7 := hs.1
  have hw := hs.2.2.2.2.2.1
  have hkw : mK M (G.2.2.2 w) = some (200 + w) := hs.2.2.2.2.2.2
  have hrw : mR M (fc 7 0) sg = some (G.2.2.2 w) := hs.2.1
  have hd : mI M (fc 7 1) sg = d := hs.2.2.1
  have hl9 : mI M (fc 7 2) sg = lt := hs.2.2.2.1
  have hsn : mI M (fc 7 3) sg = sn := hs.2.2.2.2.1
  refine x_aload_n (n' := 1) dX17_lacks_0 rfl rfl rfl ?_
  refine x_aload_n (n' := 2) dX17_lacks_1 rfl rfl rfl ?_
  refine x_callU (n' := 5) (n := 1) (K := 22) (x := ⟨"KeptLight$Ship", "lacksLight", "(LKeptLight$Sight;)I"⟩) (owner := "KeptLight$Ship") ((c_X17_lacksLight l G _ b sg w d lt sn hs).to (ll_eq (k := 5) (d := d) (lt := lt) (w := nI w) (by decide) (by decide))) dX17_lacks_2 (by repeat' (first | with_reducible exact hb | with_reducible apply mK_A | with_reducible apply mK_I | with_reducible apply mK_L | with_reducible apply mK_R | with_reducible apply mK_O | with_reducible apply mK_G | with_reducible refine mK_NA ?_ (by assumption) | with_reducible refine mK_NO ?_ (by assumption))) rfl (lw_U5 q1014 q1016 q1017 q1015 q142 q1029) rfl (by decide +kernel) ⟨(Nat.le_of_ble_eq_true rfl), (Nat.le_of_ble_eq_true rfl)⟩ rfl rfl (Nat.le_of_ble_eq_true rfl) (by first | exact Nat.le_of_ble_eq_true rfl | omega) (by first | exact Nat.le_of_ble_eq_true rfl | omega) rfl (fun v_1 M_2 h_4 hE_3 => ?_)
  obtain ⟨rfl, hMs⟩ := h_4
  have hMs := hMs.symm
  subst hMs
  refine x_aload_n (n' := 6) dX17_lacks_5 rfl rfl rfl ?_
  refine x_aload_n (n' := 7) dX17_lacks_6 rfl rfl rfl ?_
  refine x_callU (n' := 10) (n := 1) (K := 22) (x := ⟨"KeptLight$Ship", "lacksSound", "(LKeptLight$Sight;)I"⟩) (owner := "KeptLight$Ship") ((c_X17_lacksSound l G _ b sg w d lt sn hs).to (ls_eq (k := 5) (sn := sn) hw (by decide))) dX17_lacks_7 (by repeat' (first | with_reducible exact hb | with_reducible apply mK_A | with_reducible apply mK_I | with_reducible apply mK_L | with_reducible apply mK_R | with_reducible apply mK_O | with_reducible apply mK_G | with_reducible refine mK_NA ?_ (by assumption) | with_reducible refine mK_NO ?_ (by assumption) | with_reducible refine kE.ap hE_3 ?_)) rfl (lw_U5 q1046 q1048 q1049 q1047 q142 q1056) rfl (by decide +kernel) ⟨(Nat.le_of_ble_eq_true rfl), (Nat.le_of_ble_eq_true rfl)⟩ rfl rfl (Nat.le_of_ble_eq_true rfl) (by first | exact Nat.le_of_ble_eq_true rfl | omega) (by first | exact Nat.le_of_ble_eq_true rfl | omega) rfl (fun v_5 M_6 h_8 hE_7 => ?_)
  obtain ⟨rfl, hMs⟩ := h_8
  have hMs := hMs.symm
  subst hMs
  refine x_iadd (n' := 11) dX17_lacks_10 rfl ?_
  exact x_iret dX17_lacks_11 hret (by repeat' (first | with_reducible exact kE.rf | with_reducible exact hE_3 | with_reducible exact hE_7 | with_reducible apply kE_A | with_reducible apply kE_I | with_reducible apply kE_L | with_reducible apply kE_R | with_reducible apply kE_O | with_reducible apply kE_G | with_reducible refine kE.tr ?_ hE_3 | with_reducible refine kE.tr ?_ hE_7)) (⟨rfl, rfl⟩)

theorem ffX21_13_7 : FF "KeptLight$Great" 13 7 0 "KeptLight$Sight" := ⟨by decide, by decide, q263, Or.inl rfl⟩
set_option maxHeartbeats 800000 in
set_option maxRecDepth 100000 in
theorem c_X21_alone__22 (l : Launch) (G : kG) (M : kM) (b sg w : Nat) (d lt sn : Int32) (hs : SGP G M sg w d lt sn) (hb : mK M b = some 22) : Kt l G yX21_alone cX21_alone 2 (some .int) 1 21 [.ref b, .ref sg] M (0) (0) (fun v M2 => v = some (.int (if w = 2 then 2 else 1)) ∧ M2 = M) := by
  refine Kt.of (own := "KeptLight$Great") (L := [some (.ref b), some (.ref sg)]) (by decide +kernel) rfl (Nat.le_of_ble_eq_true rfl) rfl ?_
  intro pp ee ss mm args below meth cd hmn hret
  have hsk : mK M sg = some 7 := hs.1
  have hw := hs.2.2.2.2.2.1
  have hkw : mK M (G.2.2.2 w) = some (200 + w) := hs.2.2.2.2.2.2
  have hrw : mR M (fc 7 0) sg = some (G.2.2.2 w) := hs.2.1
  have hd : mI M (fc 7 1) sg = d := hs.2.2.1
  have hl9 : mI M (fc 7 2) sg = lt := hs.2.2.2.1
  have hsn : mI M (fc 7 3) sg = sn := hs.2.2.2.2.1
  refine x_aload_n (n' := 1) dX21_alone_0 rfl rfl rfl ?_
  refine x_getRs (n' := 4) (b := (G.2.2.2 w)) dX21_alone_1 (by repeat' (first | with_reducible exact hsk | with_reducible apply mK_A | with_reducible apply mK_I | with_reducible apply mK_L | with_reducible apply mK_R | with_reducible apply mK_O | with_reducible apply mK_G | with_reducible refine mK_NA ?_ (by assumption) | with_reducible refine mK_NO ?_ (by assumption))) ffX21_13_7 rfl (by repeat' (first | with_reducible exact hrw | with_reducible apply mR_A | with_reducible apply mR_I | with_reducible apply mR_L | with_reducible apply mR_R | with_reducible apply mR_O | with_reducible apply mR_G | with_reducible refine mR_NA ?_ (by assumption) (by assumption))) rfl ?_
  refine x_disp3k (by repeat' (first | with_reducible exact hkw | with_reducible apply mK_A | with_reducible apply mK_I | with_reducible apply mK_L | with_reducible apply mK_R | with_reducible apply mK_O | with_reducible apply mK_G | with_reducible refine mK_NA ?_ (by assumption) | with_reducible refine mK_NO ?_ (by assumption))) (wi_k hw) (fun e8 hk8 k8 => x_callK (n' := 7) (K := 200) (v := 0) (x := ⟨"KeptLight$Weather", "isWild", "()Z"⟩) (y := yX6_isWild) (owner := "KeptLight$Weather") dX21_alone_4 hk8 rfl q2675 q1035 (Or.inr ⟨q1034, _, _, _, q1041⟩) (by decide) q1036 q1034 q1041 (by decide +kernel) (by decide +kernel) (Or.inl ⟨_, dX6_isWild_0, rfl, dX6_isWild_1⟩) (by decide +kernel) ⟨(Nat.le_of_ble_eq_true rfl), (Nat.le_of_ble_eq_true rfl)⟩ (Nat.le_of_ble_eq_true rfl) rfl (x_topv (wi_w (w := w) (i := 0) (by decide) e8 rfl) k8)) (fun e8 hk8 k8 => x_callK (n' := 7) (K := 201) (v := 0) (x := ⟨"KeptLight$Weather", "isWild", "()Z"⟩) (y := yX6_isWild) (owner := "KeptLight$Weather") dX21_alone_4 hk8 rfl q2675 q1035 (Or.inr ⟨q1034, _, _, _, q1041⟩) (by decide) q1037 q1034 q1041 (by decide +kernel) (by decide +kernel) (Or.inl ⟨_, dX6_isWild_0, rfl, dX6_isWild_1⟩) (by decide +kernel) ⟨(Nat.le_of_ble_eq_true rfl), (Nat.le_of_ble_eq_true rfl)⟩ (Nat.le_of_ble_eq_true rfl) rfl (x_topv (wi_w (w := w) (i := 1) (by decide) e8 rfl) k8)) (fun e8 hk8 k8 => x_callK (n' := 7) (K := 202) (v := 1) (x := ⟨"KeptLight$Weather", "isWild", "()Z"⟩) (y := yX29_isWild) (owner := "KeptLight$Weather") dX21_alone_4 hk8 rfl q2675 q1035 (Or.inr ⟨q1034, _, _, _, q1041⟩) (by decide) q1038 q1039 q1040 (by decide +kernel) (by decide +kernel) (Or.inl ⟨_, dX29_isWild_0, rfl, dX29_isWild_1⟩) (by decide +kernel) ⟨(Nat.le_of_ble_eq_true rfl), (Nat.le_of_ble_eq_true rfl)⟩ (Nat.le_of_ble_eq_true rfl) rfl (x_topv (wi_w (w := w) (i := 2) (by decide) e8 rfl) k8)) ?_
  refine x_if_eq (n' := 10) (tgt := 14) dX21_alone_7 (by decide) rfl (fun c7_1 => ?_) (fun c7_1 => ?_)
  · have C7 := c7_1
    refine x_aload_n (n' := 15) dX21_alone_14 rfl rfl rfl ?_
    refine x_aload_n (n' := 16) dX21_alone_15 rfl rfl rfl ?_
    refine x_callSU (n' := 19) (n := 1) (K := 22) (c_X17_alone l G _ b sg) dX21_alone_16 (by repeat' (first | with_reducible exact hb | with_reducible apply mK_A | with_reducible apply mK_I | with_reducible apply mK_L | with_reducible apply mK_R | with_reducible apply mK_O | with_reducible apply mK_G | with_reducible refine mK_NA ?_ (by assumption) | with_reducible refine mK_NO ?_ (by assumption))) (by decide) (lw_SU5 q2676 q2671 q1028 q2670 q142 q2677) (by decide +kernel) ⟨(Nat.le_of_ble_eq_true rfl), (Nat.le_of_ble_eq_true rfl)⟩ rfl rfl (Nat.le_of_ble_eq_true rfl) (by first | exact Nat.le_of_ble_eq_true rfl | omega) (by first | exact Nat.le_of_ble_eq_true rfl | omega) rfl (fun v_2 M_3 h_5 hE_4 => ?_)
    obtain ⟨rfl, hMs⟩ := h_5
    have hMs := hMs.symm
    subst hMs
    exact x_iret dX21_alone_19 hret (by repeat' (first | with_reducible exact kE.rf | with_reducible exact hE_4 | with_reducible apply kE_A | with_reducible apply kE_I | with_reducible apply kE_L | with_reducible apply kE_R | with_reducible apply kE_O | with_reducible apply kE_G | with_reducible refine kE.tr ?_ hE_4)) (by first | (rw [if_pos (bi_n0 C7)]; exact ⟨rfl, rfl⟩) | (rw [if_neg (bi_0.mp C7)]; exact ⟨rfl, rfl⟩))
  · have C7 := c7_1
    refine x_iconst (n' := 11) (v := 2) dX21_alone_10 (by decide) rfl ?_
    refine x_goto (tgt := 19) dX21_alone_11 (by decide) ?_
    exact x_iret dX21_alone_19 hret (by repeat' (first | with_reducible exact kE.rf | with_reducible apply kE_A | with_reducible apply kE_I | with_reducible apply kE_L | with_reducible apply kE_R | with_reducible apply kE_O | with_reducible apply kE_G)) (by first | (rw [if_pos (bi_n0 C7)]; exact ⟨rfl, rfl⟩) | (rw [if_neg (bi_0.mp C7)]; exact ⟨rfl, rfl⟩))

set_option maxHeartbeats 800000 in
set_option maxRecDepth 100000 in
theorem c_X17_becomes__22 (l : Launch) (G : kG) (M : kM) (b sg w : Nat) (d lt sn : Int32) (hs : SGP G M sg w d lt sn) (hb : mK M b = some 22) : Kt l G yX17_becomes cX17_becomes 3 (some .int) 3 62 [.ref b, .ref sg] M (0) (0) (fun v M2 => v = some (.int (fateP 5 (lacksG 5 d lt sn (nI w)) (nI w))) ∧ M2 = M) := by
  refine Kt.of (own := "KeptLight$Ship") (L := [some (.ref b), some (.ref sg), none]) (by decide +kernel) rfl (Nat.le_of_ble_eq_true rfl) rfl ?_
  intro pp ee ss mm args below meth cd hmn hret
  have hsk : mK M sg = some 7 := hs.1
  have hw := hs.2.2.2.2.2.1
  have hkw : mK M (G.2.2.2 w) = some (200 + w) := hs.2.2.2.2.2.2
  have hrw : mR M (fc 7 0) sg = some (G.2.2.2 w) := hs.2.1
  have hd : mI M (fc 7 1) sg = d := hs.2.2.1
  have hl9 : mI M (fc 7 2) sg = lt := hs.2.2.2.1
  have hsn : mI M (fc 7 3) sg = sn := hs.2.2.2.2.1
  refine x_aload_n (n' := 1) dX17_becomes_0 rfl rfl rfl ?_
  refine x_aload_n (n' := 2) dX17_becomes_1 rfl rfl rfl ?_
  refine x_callU (n' := 5) (n := 1) (K := 22) (x := ⟨"KeptLight$Ship", "lacks", "(LKeptLight$Sight;)I"⟩) (owner := "KeptLight$Ship") ((c_X17_lacks__22 l G _ b sg w d lt sn hs hb).to (lr_g (k := 5) (d := d) (lt := lt) (sn := sn) (w := nI w) (by decide) (by decide))) dX17_becomes_2 (by repeat' (first | with_reducible exact hb | with_reducible apply mK_A | with_reducible apply mK_I | with_reducible apply mK_L | with_reducible apply mK_R | with_reducible apply mK_O | with_reducible apply mK_G | with_reducible refine mK_NA ?_ (by assumption) | with_reducible refine mK_NO ?_ (by assumption))) rfl (lw_U5 q2668 q3648 q3660 q1012 q142 q1013) rfl (by decide +kernel) ⟨(Nat.le_of_ble_eq_true rfl), (Nat.le_of_ble_eq_true rfl)⟩ rfl rfl (Nat.le_of_ble_eq_true rfl) (by first | exact Nat.le_of_ble_eq_true rfl | omega) (by first | exact Nat.le_of_ble_eq_true rfl | omega) rfl (fun v_1 M_2 h_4 hE_3 => ?_)
  obtain ⟨rfl, hMs⟩ := h_4
  have hMs := hMs.symm
  subst hMs
  refine x_istore_n (n' := 6) dX17_becomes_5 rfl (Nat.le_of_ble_eq_true rfl) rfl (by dsimp only [List.set] <;> rfl) rfl ?_
  refine x_iload_n (n' := 7) dX17_becomes_6 rfl rfl rfl ?_
  refine x_if_ne (n' := 10) (tgt := 14) dX17_becomes_7 (by decide) rfl (fun c7_5 => ?_) (fun c7_5 => ?_)
  · have C7 := c7_5
    refine x_iload_n (n' := 15) dX17_becomes_14 rfl rfl rfl ?_
    refine x_iconst (n' := 16) (v := 1) dX17_becomes_15 (by decide) rfl ?_
    refine x_icmp_ne (n' := 19) (tgt := 27) dX17_becomes_16 (by decide) rfl (fun c16_6 => ?_) (fun c16_6 => ?_)
    · have C16 := c16_6
      refine x_iconst (n' := 28) (v := 2) dX17_becomes_27 (by decide) rfl ?_
      exact x_iret dX17_becomes_28 hret (by repeat' (first | with_reducible exact kE.rf | with_reducible exact hE_3 | with_reducible apply kE_A | with_reducible apply kE_I | with_reducible apply kE_L | with_reducible apply kE_R | with_reducible apply kE_O | with_reducible apply kE_G | with_reducible refine kE.tr ?_ hE_3)) (⟨congrArg (fun z => some (Value.int z)) (Eq.trans (by first | rw [if_pos C7] | rw [if_neg C7, if_pos C16] | rw [if_neg C7, if_neg C16]) (fa_g (k := 5) hw (by decide) (by decide))), rfl⟩)
    · have C16 := c16_6
      refine x_aload_n (n' := 20) dX17_becomes_19 rfl rfl rfl ?_
      refine x_aload_n (n' := 21) dX17_becomes_20 rfl rfl rfl ?_
      refine x_callO (n' := 24) (n := 1) (K := 22) (x := ⟨"KeptLight$Ship", "alone", "(LKeptLight$Sight;)I"⟩) (owner := "KeptLight$Ship") (c_X21_alone__22 l G _ b sg w d lt sn hs hb) dX17_becomes_21 (by repeat' (first | with_reducible exact hb | with_reducible apply mK_A | with_reducible apply mK_I | with_reducible apply mK_L | with_reducible apply mK_R | with_reducible apply mK_O | with_reducible apply mK_G | with_reducible refine mK_NA ?_ (by assumption) | with_reducible refine mK_NO ?_ (by assumption) | with_reducible refine kE.ap hE_3 ?_)) rfl (lw_O6 q2669 q2671 q2670 q2672 q2673 q146 q2674) q2677 (by decide +kernel) ⟨(Nat.le_of_ble_eq_true rfl), (Nat.le_of_ble_eq_true rfl)⟩ rfl rfl (Nat.le_of_ble_eq_true rfl) (by first | exact Nat.le_of_ble_eq_true rfl | omega) (by first | exact Nat.le_of_ble_eq_true rfl | omega) rfl (fun v_7 M_8 h_10 hE_9 => ?_)
      obtain ⟨rfl, hMs⟩ := h_10
      have hMs := hMs.symm
      subst hMs
      refine x_goto (tgt := 28) dX17_becomes_24 (by decide) ?_
      exact x_iret dX17_becomes_28 hret (by repeat' (first | with_reducible exact kE.rf | with_reducible exact hE_3 | with_reducible exact hE_9 | with_reducible apply kE_A | with_reducible apply kE_I | with_reducible apply kE_L | with_reducible apply kE_R | with_reducible apply kE_O | with_reducible apply kE_G | with_reducible refine kE.tr ?_ hE_3 | with_reducible refine kE.tr ?_ hE_9)) (⟨congrArg (fun z => some (Value.int z)) (Eq.trans (by first | rw [if_pos C7] | rw [if_neg C7, if_pos C16] | rw [if_neg C7, if_neg C16]) (fa_g (k := 5) hw (by decide) (by decide))), rfl⟩)
  · have C7 := c7_5
    refine x_iconst (n' := 11) (v := 0) dX17_becomes_10 (by decide) rfl ?_
    refine x_goto (tgt := 28) dX17_becomes_11 (by decide) ?_
    exact x_iret dX17_becomes_28 hret (by repeat' (first | with_reducible exact kE.rf | with_reducible exact hE_3 | with_reducible apply kE_A | with_reducible apply kE_I | with_reducible apply kE_L | with_reducible apply kE_R | with_reducible apply kE_O | with_reducible apply kE_G | with_reducible refine kE.tr ?_ hE_3)) (⟨congrArg (fun z => some (Value.int z)) (Eq.trans (by first | rw [if_pos C7] | rw [if_neg C7, if_pos C16] | rw [if_neg C7, if_neg C16]) (fa_g (k := 5) hw (by decide) (by decide))), rfl⟩)

set_option maxHeartbeats 800000 in
set_option maxRecDepth 100000 in
theorem c_X17_lacks__23 (l : Launch) (G : kG) (M : kM) (b sg w : Nat) (d lt sn : Int32) (hs : SGP G M sg w d lt sn) (hb : mK M b = some 23) : Kt l G yX17_lacks cX17_lacks 2 (some .int) 2 41 [.ref b, .ref sg] M (0) (0) (fun v M2 => v = some (.int (bi (lightP 6 d lt (nI w)) + bi (soundP 6 sn (nI w)))) ∧ M2 = M) := by
  refine Kt.of (own := "KeptLight$Ship") (L := [some (.ref b), some (.ref sg)]) (by decide +kernel) rfl (Nat.le_of_ble_eq_true rfl) rfl ?_
  intro pp ee ss mm args below meth cd hmn hret
  have hsk : mK M sg = some 7 := hs.1
  have hw := hs.2.2.2.2.2.1
  have hkw : mK M (G.2.2.2 w) = some (200 + w) := hs.2.2.2.2.2.2
  have hrw : mR M (fc 7 0) sg = some (G.2.2.2 w) := hs.2.1
  have hd : mI M (fc 7 1) sg = d := hs.2.2.1
  have hl9 : mI M (fc 7 2) sg = lt := hs.2.2.2.1
  have hsn : mI M (fc 7 3) sg = sn := hs.2.2.2.2.1
  refine x_aload_n (n' := 1) dX17_lacks_0 rfl rfl rfl ?_
  refine x_aload_n (n' := 2) dX17_lacks_1 rfl rfl rfl ?_
  refine x_callU (n' := 5) (n := 1) (K := 23) (x := ⟨"KeptLight$Ship", "lacksLight", "(LKeptLight$Sight;)I"⟩) (owner := "KeptLight$Ship") ((c_X17_lacksLight l G _ b sg w d lt sn hs).to (ll_eq (k := 6) (d := d) (lt := lt) (w := nI w) (by decide) (by decide))) dX17_lacks_2 (by repeat' (first | with_reducible exact hb | with_reducible apply mK_A | with_reducible apply mK_I | with_reducible apply mK_L | with_reducible apply mK_R | with_reducible apply mK_O | with_reducible apply mK_G | with_reducible refine mK_NA ?_ (by assumption) | with_reducible refine mK_NO ?_ (by assumption))) rfl (lw_U5 q1014 q1016 q1019 q1015 q142 q1029) rfl (by decide +kernel) ⟨(Nat.le_of_ble_eq_true rfl), (Nat.le_of_ble_eq_true rfl)⟩ rfl rfl (Nat.le_of_ble_eq_true rfl) (by first | exact Nat.le_of_ble_eq_true rfl | omega) (by first | exact Nat.le_of_ble_eq_true rfl | omega) rfl (fun v_1 M_2 h_4 hE_3 => ?_)
  obtain ⟨rfl, hMs⟩ := h_4
  have hMs := hMs.symm
  subst hMs
  refine x_aload_n (n' := 6) dX17_lacks_5 rfl rfl rfl ?_
  refine x_aload_n (n' := 7) dX17_lacks_6 rfl rfl rfl ?_
  refine x_callU (n' := 10) (n := 1) (K := 23) (x := ⟨"KeptLight$Ship", "lacksSound", "(LKeptLight$Sight;)I"⟩) (owner := "KeptLight$Ship") ((c_X17_lacksSound l G _ b sg w d lt sn hs).to (ls_eq (k := 6) (sn := sn) hw (by decide))) dX17_lacks_7 (by repeat' (first | with_reducible exact hb | with_reducible apply mK_A | with_reducible apply mK_I | with_reducible apply mK_L | with_reducible apply mK_R | with_reducible apply mK_O | with_reducible apply mK_G | with_reducible refine mK_NA ?_ (by assumption) | with_reducible refine mK_NO ?_ (by assumption) | with_reducible refine kE.ap hE_3 ?_)) rfl (lw_U5 q1046 q1048 q1053 q1047 q142 q1056) rfl (by decide +kernel) ⟨(Nat.le_of_ble_eq_true rfl), (Nat.le_of_ble_eq_true rfl)⟩ rfl rfl (Nat.le_of_ble_eq_true rfl) (by first | exact Nat.le_of_ble_eq_true rfl | omega) (by first | exact Nat.le_of_ble_eq_true rfl | omega) rfl (fun v_5 M_6 h_8 hE_7 => ?_)
  obtain ⟨rfl, hMs⟩ := h_8
  have hMs := hMs.symm
  subst hMs
  refine x_iadd (n' := 11) dX17_lacks_10 rfl ?_
  exact x_iret dX17_lacks_11 hret (by repeat' (first | with_reducible exact kE.rf | with_reducible exact hE_3 | with_reducible exact hE_7 | with_reducible apply kE_A | with_reducible apply kE_I | with_reducible apply kE_L | with_reducible apply kE_R | with_reducible apply kE_O | with_reducible apply kE_G | with_reducible refine kE.tr ?_ hE_3 | with_reducible refine kE.tr ?_ hE_7)) (⟨rfl, rfl⟩)

set_option maxHeartbeats 800000 in
set_option maxRecDepth 100000 in
theorem c_X21_alone__23 (l : Launch) (G : kG) (M : kM) (b sg w : Nat) (d lt sn : Int32) (hs : SGP G M sg w d lt sn) (hb : mK M b = some 23) : Kt l G yX21_alone cX21_alone 2 (some .int) 1 21 [.ref b, .ref sg] M (0) (0) (fun v M2 => v = some (.int (if w = 2 then 2 else 1)) ∧ M2 = M) := by
  refine Kt.of (own := "KeptLight$Great") (L := [some (.ref b), some (.ref sg)]) (by decide +kernel) rfl (Nat.le_of_ble_eq_true rfl) rfl ?_
  intro pp ee ss mm args below meth cd hmn hret
  have hsk : mK M sg = some 7 := hs.1
  have hw := hs.2.2.2.2.2.1
  have hkw : mK M (G.2.2.2 w) = some (200 + w) := hs.2.2.2.2.2.2
  have hrw : mR M (fc 7 0) sg = some (G.2.2.2 w) := hs.2.1
  have hd : mI M (fc 7 1) sg = d := hs.2.2.1
  have hl9 : mI M (fc 7 2) sg = lt := hs.2.2.2.1
  have hsn : mI M (fc 7 3) sg = sn := hs.2.2.2.2.1
  refine x_aload_n (n' := 1) dX21_alone_0 rfl rfl rfl ?_
  refine x_getRs (n' := 4) (b := (G.2.2.2 w)) dX21_alone_1 (by repeat' (first | with_reducible exact hsk | with_reducible apply mK_A | with_reducible apply mK_I | with_reducible apply mK_L | with_reducible apply mK_R | with_reducible apply mK_O | with_reducible apply mK_G | with_reducible refine mK_NA ?_ (by assumption) | with_reducible refine mK_NO ?_ (by assumption))) ffX21_13_7 rfl (by repeat' (first | with_reducible exact hrw | with_reducible apply mR_A | with_reducible apply mR_I | with_reducible apply mR_L | with_reducible apply mR_R | with_reducible apply mR_O | with_reducible apply mR_G | with_reducible refine mR_NA ?_ (by assumption) (by assumption))) rfl ?_
  refine x_disp3k (by repeat' (first | with_reducible exact hkw | with_reducible apply mK_A | with_reducible apply mK_I | with_reducible apply mK_L | with_reducible apply mK_R | with_reducible apply mK_O | with_reducible apply mK_G | with_reducible refine mK_NA ?_ (by assumption) | with_reducible refine mK_NO ?_ (by assumption))) (wi_k hw) (fun e8 hk8 k8 => x_callK (n' := 7) (K := 200) (v := 0) (x := ⟨"KeptLight$Weather", "isWild", "()Z"⟩) (y := yX6_isWild) (owner := "KeptLight$Weather") dX21_alone_4 hk8 rfl q2675 q1035 (Or.inr ⟨q1034, _, _, _, q1041⟩) (by decide) q1036 q1034 q1041 (by decide +kernel) (by decide +kernel) (Or.inl ⟨_, dX6_isWild_0, rfl, dX6_isWild_1⟩) (by decide +kernel) ⟨(Nat.le_of_ble_eq_true rfl), (Nat.le_of_ble_eq_true rfl)⟩ (Nat.le_of_ble_eq_true rfl) rfl (x_topv (wi_w (w := w) (i := 0) (by decide) e8 rfl) k8)) (fun e8 hk8 k8 => x_callK (n' := 7) (K := 201) (v := 0) (x := ⟨"KeptLight$Weather", "isWild", "()Z"⟩) (y := yX6_isWild) (owner := "KeptLight$Weather") dX21_alone_4 hk8 rfl q2675 q1035 (Or.inr ⟨q1034, _, _, _, q1041⟩) (by decide) q1037 q1034 q1041 (by decide +kernel) (by decide +kernel) (Or.inl ⟨_, dX6_isWild_0, rfl, dX6_isWild_1⟩) (by decide +kernel) ⟨(Nat.le_of_ble_eq_true rfl), (Nat.le_of_ble_eq_true rfl)⟩ (Nat.le_of_ble_eq_true rfl) rfl (x_topv (wi_w (w := w) (i := 1) (by decide) e8 rfl) k8)) (fun e8 hk8 k8 => x_callK (n' := 7) (K := 202) (v := 1) (x := ⟨"KeptLight$Weather", "isWild", "()Z"⟩) (y := yX29_isWild) (owner := "KeptLight$Weather") dX21_alone_4 hk8 rfl q2675 q1035 (Or.inr ⟨q1034, _, _, _, q1041⟩) (by decide) q1038 q1039 q1040 (by decide +kernel) (by decide +kernel) (Or.inl ⟨_, dX29_isWild_0, rfl, dX29_isWild_1⟩) (by decide +kernel) ⟨(Nat.le_of_ble_eq_true rfl), (Nat.le_of_ble_eq_true rfl)⟩ (Nat.le_of_ble_eq_true rfl) rfl (x_topv (wi_w (w := w) (i := 2) (by decide) e8 rfl) k8)) ?_
  refine x_if_eq (n' := 10) (tgt := 14) dX21_alone_7 (by decide) rfl (fun c7_1 => ?_) (fun c7_1 => ?_)
  · have C7 := c7_1
    refine x_aload_n (n' := 15) dX21_alone_14 rfl rfl rfl ?_
    refine x_aload_n (n' := 16) dX21_alone_15 rfl rfl rfl ?_
    refine x_callSU (n' := 19) (n := 1) (K := 23) (c_X17_alone l G _ b sg) dX21_alone_16 (by repeat' (first | with_reducible exact hb | with_reducible apply mK_A | with_reducible apply mK_I | with_reducible apply mK_L | with_reducible apply mK_R | with_reducible apply mK_O | with_reducible apply mK_G | with_reducible refine mK_NA ?_ (by assumption) | with_reducible refine mK_NO ?_ (by assumption))) (by decide) (lw_SU5 q2676 q2671 q1028 q2670 q142 q2677) (by decide +kernel) ⟨(Nat.le_of_ble_eq_true rfl), (Nat.le_of_ble_eq_true rfl)⟩ rfl rfl (Nat.le_of_ble_eq_true rfl) (by first | exact Nat.le_of_ble_eq_true rfl | omega) (by first | exact Nat.le_of_ble_eq_true rfl | omega) rfl (fun v_2 M_3 h_5 hE_4 => ?_)
    obtain ⟨rfl, hMs⟩ := h_5
    have hMs := hMs.symm
    subst hMs
    exact x_iret dX21_alone_19 hret (by repeat' (first | with_reducible exact kE.rf | with_reducible exact hE_4 | with_reducible apply kE_A | with_reducible apply kE_I | with_reducible apply kE_L | with_reducible apply kE_R | with_reducible apply kE_O | with_reducible apply kE_G | with_reducible refine kE.tr ?_ hE_4)) (by first | (rw [if_pos (bi_n0 C7)]; exact ⟨rfl, rfl⟩) | (rw [if_neg (bi_0.mp C7)]; exact ⟨rfl, rfl⟩))
  · have C7 := c7_1
    refine x_iconst (n' := 11) (v := 2) dX21_alone_10 (by decide) rfl ?_
    refine x_goto (tgt := 19) dX21_alone_11 (by decide) ?_
    exact x_iret dX21_alone_19 hret (by repeat' (first | with_reducible exact kE.rf | with_reducible apply kE_A | with_reducible apply kE_I | with_reducible apply kE_L | with_reducible apply kE_R | with_reducible apply kE_O | with_reducible apply kE_G)) (by first | (rw [if_pos (bi_n0 C7)]; exact ⟨rfl, rfl⟩) | (rw [if_neg (bi_0.mp C7)]; exact ⟨rfl, rfl⟩))

set_option maxHeartbeats 800000 in
set_option maxRecDepth 100000 in
theorem c_X17_becomes__23 (l : Launch) (G : kG) (M : kM) (b sg w : Nat) (d lt sn : Int32) (hs : SGP G M sg w d lt sn) (hb : mK M b = some 23) : Kt l G yX17_becomes cX17_becomes 3 (some .int) 3 62 [.ref b, .ref sg] M (0) (0) (fun v M2 => v = some (.int (fateP 6 (lacksG 6 d lt sn (nI w)) (nI w))) ∧ M2 = M) := by
  refine Kt.of (own := "KeptLight$Ship") (L := [some (.ref b), some (.ref sg), none]) (by decide +kernel) rfl (Nat.le_of_ble_eq_true rfl) rfl ?_
  intro pp ee ss mm args below meth cd hmn hret
  have hsk : mK M sg = some 7 := hs.1
  have hw := hs.2.2.2.2.2.1
  have hkw : mK M (G.2.2.2 w) = some (200 + w) := hs.2.2.2.2.2.2
  have hrw : mR M (fc 7 0) sg = some (G.2.2.2 w) := hs.2.1
  have hd : mI M (fc 7 1) sg = d := hs.2.2.1
  have hl9 : mI M (fc 7 2) sg = lt := hs.2.2.2.1
  have hsn : mI M (fc 7 3) sg = sn := hs.2.2.2.2.1
  refine x_aload_n (n' := 1) dX17_becomes_0 rfl rfl rfl ?_
  refine x_aload_n (n' := 2) dX17_becomes_1 rfl rfl rfl ?_
  refine x_callU (n' := 5) (n := 1) (K := 23) (x := ⟨"KeptLight$Ship", "lacks", "(LKeptLight$Sight;)I"⟩) (owner := "KeptLight$Ship") ((c_X17_lacks__23 l G _ b sg w d lt sn hs hb).to (lr_g (k := 6) (d := d) (lt := lt) (sn := sn) (w := nI w) (by decide) (by decide))) dX17_becomes_2 (by repeat' (first | with_reducible exact hb | with_reducible apply mK_A | with_reducible apply mK_I | with_reducible apply mK_L | with_reducible apply mK_R | with_reducible apply mK_O | with_reducible apply mK_G | with_reducible refine mK_NA ?_ (by assumption) | with_reducible refine mK_NO ?_ (by assumption))) rfl (lw_U5 q2668 q3648 q3662 q1012 q142 q1013) rfl (by decide +kernel) ⟨(Nat.le_of_ble_eq_true rfl), (Nat.le_of_ble_eq_true rfl)⟩ rfl rfl (Nat.le_of_ble_eq_true rfl) (by first | exact Nat.le_of_ble_eq_true rfl | omega) (by first | exact Nat.le_of_ble_eq_true rfl | omega) rfl (fun v_1 M_2 h_4 hE_3 => ?_)
  obtain ⟨rfl, hMs⟩ := h_4
  have hMs := hMs.symm
  subst hMs
  refine x_istore_n (n' := 6) dX17_becomes_5 rfl (Nat.le_of_ble_eq_true rfl) rfl (by dsimp only [List.set] <;> rfl) rfl ?_
  refine x_iload_n (n' := 7) dX17_becomes_6 rfl rfl rfl ?_
  refine x_if_ne (n' := 10) (tgt := 14) dX17_becomes_7 (by decide) rfl (fun c7_5 => ?_) (fun c7_5 => ?_)
  · have C7 := c7_5
    refine x_iload_n (n' := 15) dX17_becomes_14 rfl rfl rfl ?_
    refine x_iconst (n' := 16) (v := 1) dX17_becomes_15 (by decide) rfl ?_
    refine x_icmp_ne (n' := 19) (tgt := 27) dX17_becomes_16 (by decide) rfl (fun c16_6 => ?_) (fun c16_6 => ?_)
    · have C16 := c16_6
      refine x_iconst (n' := 28) (v := 2) dX17_becomes_27 (by decide) rfl ?_
      exact x_iret dX17_becomes_28 hret (by repeat' (first | with_reducible exact kE.rf | with_reducible exact hE_3 | with_reducible apply kE_A | with_reducible apply kE_I | with_reducible apply kE_L | with_reducible apply kE_R | with_reducible apply kE_O | with_reducible apply kE_G | with_reducible refine kE.tr ?_ hE_3)) (⟨congrArg (fun z => some (Value.int z)) (Eq.trans (by first | rw [if_pos C7] | rw [if_neg C7, if_pos C16] | rw [if_neg C7, if_neg C16]) (fa_g (k := 6) hw (by decide) (by decide))), rfl⟩)
    · have C16 := c16_6
      refine x_aload_n (n' := 20) dX17_becomes_19 rfl rfl rfl ?_
      refine x_aload_n (n' := 21) dX17_becomes_20 rfl rfl rfl ?_
      refine x_callO (n' := 24) (n := 1) (K := 23) (x := ⟨"KeptLight$Ship", "alone", "(LKeptLight$Sight;)I"⟩) (owner := "KeptLight$Ship") (c_X21_alone__23 l G _ b sg w d lt sn hs hb) dX17_becomes_21 (by repeat' (first | with_reducible exact hb | with_reducible apply mK_A | with_reducible apply mK_I | with_reducible apply mK_L | with_reducible apply mK_R | with_reducible apply mK_O | with_reducible apply mK_G | with_reducible refine mK_NA ?_ (by assumption) | with_reducible refine mK_NO ?_ (by assumption) | with_reducible refine kE.ap hE_3 ?_)) rfl (lw_O6 q2669 q2671 q2670 q2679 q2673 q146 q2674) q2677 (by decide +kernel) ⟨(Nat.le_of_ble_eq_true rfl), (Nat.le_of_ble_eq_true rfl)⟩ rfl rfl (Nat.le_of_ble_eq_true rfl) (by first | exact Nat.le_of_ble_eq_true rfl | omega) (by first | exact Nat.le_of_ble_eq_true rfl | omega) rfl (fun v_7 M_8 h_10 hE_9 => ?_)
      obtain ⟨rfl, hMs⟩ := h_10
      have hMs := hMs.symm
      subst hMs
      refine x_goto (tgt := 28) dX17_becomes_24 (by decide) ?_
      exact x_iret dX17_becomes_28 hret (by repeat' (first | with_reducible exact kE.rf | with_reducible exact hE_3 | with_reducible exact hE_9 | with_reducible apply kE_A | with_reducible apply kE_I | with_reducible apply kE_L | with_reducible apply kE_R | with_reducible apply kE_O | with_reducible apply kE_G | with_reducible refine kE.tr ?_ hE_3 | with_reducible refine kE.tr ?_ hE_9)) (⟨congrArg (fun z => some (Value.int z)) (Eq.trans (by first | rw [if_pos C7] | rw [if_neg C7, if_pos C16] | rw [if_neg C7, if_neg C16]) (fa_g (k := 6) hw (by decide) (by decide))), rfl⟩)
  · have C7 := c7_5
    refine x_iconst (n' := 11) (v := 0) dX17_becomes_10 (by decide) rfl ?_
    refine x_goto (tgt := 28) dX17_becomes_11 (by decide) ?_
    exact x_iret dX17_becomes_28 hret (by repeat' (first | with_reducible exact kE.rf | with_reducible exact hE_3 | with_reducible apply kE_A | with_reducible apply kE_I | with_reducible apply kE_L | with_reducible apply kE_R | with_reducible apply kE_O | with_reducible apply kE_G | with_reducible refine kE.tr ?_ hE_3)) (⟨congrArg (fun z => some (Value.int z)) (Eq.trans (by first | rw [if_pos C7] | rw [if_neg C7, if_pos C16] | rw [if_neg C7, if_neg C16]) (fa_g (k := 6) hw (by decide) (by decide))), rfl⟩)

set_option maxHeartbeats 800000 in
set_option maxRecDepth 100000 in
theorem c_X17_lacks__24 (l : Launch) (G : kG) (M : kM) (b sg w : Nat) (d lt sn : Int32) (hs : SGP G M sg w d lt sn) (hb : mK M b = some 24) : Kt l G yX17_lacks cX17_lacks 2 (some .int) 3 62 [.ref b, .ref sg] M (0) (0) (fun v M2 => v = some (.int (bi (lightP 7 d lt (nI w)) + bi (soundP 7 sn (nI w)))) ∧ M2 = M) := by
  refine Kt.of (own := "KeptLight$Ship") (L := [some (.ref b), some (.ref sg)]) (by decide +kernel) rfl (Nat.le_of_ble_eq_true rfl) rfl ?_
  intro pp ee ss mm args below meth cd hmn hret
  have hsk : mK M sg = some 7 := hs.1
  have hw := hs.2.2.2.2.2.1
  have hkw : mK M (G.2.2.2 w) = some (200 + w) := hs.2.2.2.2.2.2
  have hrw : mR M (fc 7 0) sg = some (G.2.2.2 w) := hs.2.1
  have hd : mI M (fc 7 1) sg = d := hs.2.2.1
  have hl9 : mI M (fc 7 2) sg = lt := hs.2.2.2.1
  have hsn : mI M (fc 7 3) sg = sn := hs.2.2.2.2.1
  refine x_aload_n (n' := 1) dX17_lacks_0 rfl rfl rfl ?_
  refine x_aload_n (n' := 2) dX17_lacks_1 rfl rfl rfl ?_
  refine x_callO (n' := 5) (n := 1) (K := 24) (x := ⟨"KeptLight$Ship", "lacksLight", "(LKeptLight$Sight;)I"⟩) (owner := "KeptLight$Ship") (c_X24_lacksLight l G _ b sg w d lt sn hs hb) dX17_lacks_2 (by repeat' (first | with_reducible exact hb | with_reducible apply mK_A | with_reducible apply mK_I | with_reducible apply mK_L | with_reducible apply mK_R | with_reducible apply mK_O | with_reducible apply mK_G | with_reducible refine mK_NA ?_ (by assumption) | with_reducible refine mK_NO ?_ (by assumption))) rfl (lw_O6 q1014 q1016 q1015 q1020 q1021 q149 q1022) q1029 (by decide +kernel) ⟨(Nat.le_of_ble_eq_true rfl), (Nat.le_of_ble_eq_true rfl)⟩ rfl rfl (Nat.le_of_ble_eq_true rfl) (by first | exact Nat.le_of_ble_eq_true rfl | omega) (by first | exact Nat.le_of_ble_eq_true rfl | omega) rfl (fun v_1 M_2 h_4 hE_3 => ?_)
  obtain ⟨rfl, hMs⟩ := h_4
  have hMs := hMs.symm
  subst hMs
  refine x_aload_n (n' := 6) dX17_lacks_5 rfl rfl rfl ?_
  refine x_aload_n (n' := 7) dX17_lacks_6 rfl rfl rfl ?_
  refine x_callU (n' := 10) (n := 1) (K := 24) (x := ⟨"KeptLight$Ship", "lacksSound", "(LKeptLight$Sight;)I"⟩) (owner := "KeptLight$Ship") ((c_X17_lacksSound l G _ b sg w d lt sn hs).to (ls_eq (k := 7) (sn := sn) hw (by decide))) dX17_lacks_7 (by repeat' (first | with_reducible exact hb | with_reducible apply mK_A | with_reducible apply mK_I | with_reducible apply mK_L | with_reducible apply mK_R | with_reducible apply mK_O | with_reducible apply mK_G | with_reducible refine mK_NA ?_ (by assumption) | with_reducible refine mK_NO ?_ (by assumption) | with_reducible refine kE.ap hE_3 ?_)) rfl (lw_U5 q1046 q1048 q1054 q1047 q142 q1056) rfl (by decide +kernel) ⟨(Nat.le_of_ble_eq_true rfl), (Nat.le_of_ble_eq_true rfl)⟩ rfl rfl (Nat.le_of_ble_eq_true rfl) (by first | exact Nat.le_of_ble_eq_true rfl | omega) (by first | exact Nat.le_of_ble_eq_true rfl | omega) rfl (fun v_5 M_6 h_8 hE_7 => ?_)
  obtain ⟨rfl, hMs⟩ := h_8
  have hMs := hMs.symm
  subst hMs
  refine x_iadd (n' := 11) dX17_lacks_10 rfl ?_
  exact x_iret dX17_lacks_11 hret (by repeat' (first | with_reducible exact kE.rf | with_reducible exact hE_3 | with_reducible exact hE_7 | with_reducible apply kE_A | with_reducible apply kE_I | with_reducible apply kE_L | with_reducible apply kE_R | with_reducible apply kE_O | with_reducible apply kE_G | with_reducible refine kE.tr ?_ hE_3 | with_reducible refine kE.tr ?_ hE_7)) (⟨rfl, rfl⟩)

set_option maxHeartbeats 800000 in
set_option maxRecDepth 100000 in
theorem c_X21_alone__24 (l : Launch) (G : kG) (M : kM) (b sg w : Nat) (d lt sn : Int32) (hs : SGP G M sg w d lt sn) (hb : mK M b = some 24) : Kt l G yX21_alone cX21_alone 2 (some .int) 1 21 [.ref b, .ref sg] M (0) (0) (fun v M2 => v = some (.int (if w = 2 then 2 else 1)) ∧ M2 = M) := by
  refine Kt.of (own := "KeptLight$Great") (L := [some (.ref b), some (.ref sg)]) (by decide +kernel) rfl (Nat.le_of_ble_eq_true rfl) rfl ?_
  intro pp ee ss mm args below meth cd hmn hret
  have hsk : mK M sg = some 7 := hs.1
  have hw := hs.2.2.2.2.2.1
  have hkw : mK M (G.2.2.2 w) = some (200 + w) := hs.2.2.2.2.2.2
  have hrw : mR M (fc 7 0) sg = some (G.2.2.2 w) := hs.2.1
  have hd : mI M (fc 7 1) sg = d := hs.2.2.1
  have hl9 : mI M (fc 7 2) sg = lt := hs.2.2.2.1
  have hsn : mI M (fc 7 3) sg = sn := hs.2.2.2.2.1
  refine x_aload_n (n' := 1) dX21_alone_0 rfl rfl rfl ?_
  refine x_getRs (n' := 4) (b := (G.2.2.2 w)) dX21_alone_1 (by repeat' (first | with_reducible exact hsk | with_reducible apply mK_A | with_reducible apply mK_I | with_reducible apply mK_L | with_reducible apply mK_R | with_reducible apply mK_O | with_reducible apply mK_G | with_reducible refine mK_NA ?_ (by assumption) | with_reducible refine mK_NO ?_ (by assumption))) ffX21_13_7 rfl (by repeat' (first | with_reducible exact hrw | with_reducible apply mR_A | with_reducible apply mR_I | with_reducible apply mR_L | with_reducible apply mR_R | with_reducible apply mR_O | with_reducible apply mR_G | with_reducible refine mR_NA ?_ (by assumption) (by assumption))) rfl ?_
  refine x_disp3k (by repeat' (first | with_reducible exact hkw | with_reducible apply mK_A | with_reducible apply mK_I | with_reducible apply mK_L | with_reducible apply mK_R | with_reducible apply mK_O | with_reducible apply mK_G | with_reducible refine mK_NA ?_ (by assumption) | with_reducible refine mK_NO ?_ (by assumption))) (wi_k hw) (fun e8 hk8 k8 => x_callK (n' := 7) (K := 200) (v := 0) (x := ⟨"KeptLight$Weather", "isWild", "()Z"⟩) (y := yX6_isWild) (owner := "KeptLight$Weather") dX21_alone_4 hk8 rfl q2675 q1035 (Or.inr ⟨q1034, _, _, _, q1041⟩) (by decide) q1036 q1034 q1041 (by decide +kernel) (by decide +kernel) (Or.inl ⟨_, dX6_isWild_0, rfl, dX6_isWild_1⟩) (by decide +kernel) ⟨(Nat.le_of_ble_eq_true rfl), (Nat.le_of_ble_eq_true rfl)⟩ (Nat.le_of_ble_eq_true rfl) rfl (x_topv (wi_w (w := w) (i := 0) (by decide) e8 rfl) k8)) (fun e8 hk8 k8 => x_callK (n' := 7) (K := 201) (v := 0) (x := ⟨"KeptLight$Weather", "isWild", "()Z"⟩) (y := yX6_isWild) (owner := "KeptLight$Weather") dX21_alone_4 hk8 rfl q2675 q1035 (Or.inr ⟨q1034, _, _, _, q1041⟩) (by decide) q1037 q1034 q1041 (by decide +kernel) (by decide +kernel) (Or.inl ⟨_, dX6_isWild_0, rfl, dX6_isWild_1⟩) (by decide +kernel) ⟨(Nat.le_of_ble_eq_true rfl), (Nat.le_of_ble_eq_true rfl)⟩ (Nat.le_of_ble_eq_true rfl) rfl (x_topv (wi_w (w := w) (i := 1) (by decide) e8 rfl) k8)) (fun e8 hk8 k8 => x_callK (n' := 7) (K := 202) (v := 1) (x := ⟨"KeptLight$Weather", "isWild", "()Z"⟩) (y := yX29_isWild) (owner := "KeptLight$Weather") dX21_alone_4 hk8 rfl q2675 q1035 (Or.inr ⟨q1034, _, _, _, q1041⟩) (by decide) q1038 q1039 q1040 (by decide +kernel) (by decide +kernel) (Or.inl ⟨_, dX29_isWild_0, rfl, dX29_isWild_1⟩) (by decide +kernel) ⟨(Nat.le_of_ble_eq_true rfl), (Nat.le_of_ble_eq_true rfl)⟩ (Nat.le_of_ble_eq_true rfl) rfl (x_topv (wi_w (w := w) (i := 2) (by decide) e8 rfl) k8)) ?_
  refine x_if_eq (n' := 10) (tgt := 14) dX21_alone_7 (by decide) rfl (fun c7_1 => ?_) (fun c7_1 => ?_)
  · have C7 := c7_1
    refine x_aload_n (n' := 15) dX21_alone_14 rfl rfl rfl ?_
    refine x_aload_n (n' := 16) dX21_alone_15 rfl rfl rfl ?_
    refine x_callSU (n' := 19) (n := 1) (K := 24) (c_X17_alone l G _ b sg) dX21_alone_16 (by repeat' (first | with_reducible exact hb | with_reducible apply mK_A | with_reducible apply mK_I | with_reducible apply mK_L | with_reducible apply mK_R | with_reducible apply mK_O | with_reducible apply mK_G | with_reducible refine mK_NA ?_ (by assumption) | with_reducible refine mK_NO ?_ (by assumption))) (by decide) (lw_SU5 q2676 q2671 q1028 q2670 q142 q2677) (by decide +kernel) ⟨(Nat.le_of_ble_eq_true rfl), (Nat.le_of_ble_eq_true rfl)⟩ rfl rfl (Nat.le_of_ble_eq_true rfl) (by first | exact Nat.le_of_ble_eq_true rfl | omega) (by first | exact Nat.le_of_ble_eq_true rfl | omega) rfl (fun v_2 M_3 h_5 hE_4 => ?_)
    obtain ⟨rfl, hMs⟩ := h_5
    have hMs := hMs.symm
    subst hMs
    exact x_iret dX21_alone_19 hret (by repeat' (first | with_reducible exact kE.rf | with_reducible exact hE_4 | with_reducible apply kE_A | with_reducible apply kE_I | with_reducible apply kE_L | with_reducible apply kE_R | with_reducible apply kE_O | with_reducible apply kE_G | with_reducible refine kE.tr ?_ hE_4)) (by first | (rw [if_pos (bi_n0 C7)]; exact ⟨rfl, rfl⟩) | (rw [if_neg (bi_0.mp C7)]; exact ⟨rfl, rfl⟩))
  · have C7 := c7_1
    refine x_iconst (n' := 11) (v := 2) dX21_alone_10 (by decide) rfl ?_
    refine x_goto (tgt := 19) dX21_alone_11 (by decide) ?_
    exact x_iret dX21_alone_19 hret (by repeat' (first | with_reducible exact kE.rf | with_reducible apply kE_A | with_reducible apply kE_I | with_reducible apply kE_L | with_reducible apply kE_R | with_reducible apply kE_O | with_reducible apply kE_G)) (by first | (rw [if_pos (bi_n0 C7)]; exact ⟨rfl, rfl⟩) | (rw [if_neg (bi_0.mp C7)]; exact ⟨rfl, rfl⟩))

set_option maxHeartbeats 800000 in
set_option maxRecDepth 100000 in
theorem c_X17_becomes__24 (l : Launch) (G : kG) (M : kM) (b sg w : Nat) (d lt sn : Int32) (hs : SGP G M sg w d lt sn) (hb : mK M b = some 24) : Kt l G yX17_becomes cX17_becomes 3 (some .int) 4 83 [.ref b, .ref sg] M (0) (0) (fun v M2 => v = some (.int (fateP 7 (lacksG 7 d lt sn (nI w)) (nI w))) ∧ M2 = M) := by
  refine Kt.of (own := "KeptLight$Ship") (L := [some (.ref b), some (.ref sg), none]) (by decide +kernel) rfl (Nat.le_of_ble_eq_true rfl) rfl ?_
  intro pp ee ss mm args below meth cd hmn hret
  have hsk : mK M sg = some 7 := hs.1
  have hw := hs.2.2.2.2.2.1
  have hkw : mK M (G.2.2.2 w) = some (200 + w) := hs.2.2.2.2.2.2
  have hrw : mR M (fc 7 0) sg = some (G.2.2.2 w) := hs.2.1
  have hd : mI M (fc 7 1) sg = d := hs.2.2.1
  have hl9 : mI M (fc 7 2) sg = lt := hs.2.2.2.1
  have hsn : mI M (fc 7 3) sg = sn := hs.2.2.2.2.1
  refine x_aload_n (n' := 1) dX17_becomes_0 rfl rfl rfl ?_
  refine x_aload_n (n' := 2) dX17_becomes_1 rfl rfl rfl ?_
  refine x_callU (n' := 5) (n := 1) (K := 24) (x := ⟨"KeptLight$Ship", "lacks", "(LKeptLight$Sight;)I"⟩) (owner := "KeptLight$Ship") ((c_X17_lacks__24 l G _ b sg w d lt sn hs hb).to (lr_g (k := 7) (d := d) (lt := lt) (sn := sn) (w := nI w) (by decide) (by decide))) dX17_becomes_2 (by repeat' (first | with_reducible exact hb | with_reducible apply mK_A | with_reducible apply mK_I | with_reducible apply mK_L | with_reducible apply mK_R | with_reducible apply mK_O | with_reducible apply mK_G | with_reducible refine mK_NA ?_ (by assumption) | with_reducible refine mK_NO ?_ (by assumption))) rfl (lw_U5 q2668 q3648 q3663 q1012 q142 q1013) rfl (by decide +kernel) ⟨(Nat.le_of_ble_eq_true rfl), (Nat.le_of_ble_eq_true rfl)⟩ rfl rfl (Nat.le_of_ble_eq_true rfl) (by first | exact Nat.le_of_ble_eq_true rfl | omega) (by first | exact Nat.le_of_ble_eq_true rfl | omega) rfl (fun v_1 M_2 h_4 hE_3 => ?_)
  obtain ⟨rfl, hMs⟩ := h_4
  have hMs := hMs.symm
  subst hMs
  refine x_istore_n (n' := 6) dX17_becomes_5 rfl (Nat.le_of_ble_eq_true rfl) rfl (by dsimp only [List.set] <;> rfl) rfl ?_
  refine x_iload_n (n' := 7) dX17_becomes_6 rfl rfl rfl ?_
  refine x_if_ne (n' := 10) (tgt := 14) dX17_becomes_7 (by decide) rfl (fun c7_5 => ?_) (fun c7_5 => ?_)
  · have C7 := c7_5
    refine x_iload_n (n' := 15) dX17_becomes_14 rfl rfl rfl ?_
    refine x_iconst (n' := 16) (v := 1) dX17_becomes_15 (by decide) rfl ?_
    refine x_icmp_ne (n' := 19) (tgt := 27) dX17_becomes_16 (by decide) rfl (fun c16_6 => ?_) (fun c16_6 => ?_)
    · have C16 := c16_6
      refine x_iconst (n' := 28) (v := 2) dX17_becomes_27 (by decide) rfl ?_
      exact x_iret dX17_becomes_28 hret (by repeat' (first | with_reducible exact kE.rf | with_reducible exact hE_3 | with_reducible apply kE_A | with_reducible apply kE_I | with_reducible apply kE_L | with_reducible apply kE_R | with_reducible apply kE_O | with_reducible apply kE_G | with_reducible refine kE.tr ?_ hE_3)) (⟨congrArg (fun z => some (Value.int z)) (Eq.trans (by first | rw [if_pos C7] | rw [if_neg C7, if_pos C16] | rw [if_neg C7, if_neg C16]) (fa_g (k := 7) hw (by decide) (by decide))), rfl⟩)
    · have C16 := c16_6
      refine x_aload_n (n' := 20) dX17_becomes_19 rfl rfl rfl ?_
      refine x_aload_n (n' := 21) dX17_becomes_20 rfl rfl rfl ?_
      refine x_callO (n' := 24) (n := 1) (K := 24) (x := ⟨"KeptLight$Ship", "alone", "(LKeptLight$Sight;)I"⟩) (owner := "KeptLight$Ship") (c_X21_alone__24 l G _ b sg w d lt sn hs hb) dX17_becomes_21 (by repeat' (first | with_reducible exact hb | with_reducible apply mK_A | with_reducible apply mK_I | with_reducible apply mK_L | with_reducible apply mK_R | with_reducible apply mK_O | with_reducible apply mK_G | with_reducible refine mK_NA ?_ (by assumption) | with_reducible refine mK_NO ?_ (by assumption) | with_reducible refine kE.ap hE_3 ?_)) rfl (lw_O6 q2669 q2671 q2670 q2680 q2673 q146 q2674) q2677 (by decide +kernel) ⟨(Nat.le_of_ble_eq_true rfl), (Nat.le_of_ble_eq_true rfl)⟩ rfl rfl (Nat.le_of_ble_eq_true rfl) (by first | exact Nat.le_of_ble_eq_true rfl | omega) (by first | exact Nat.le_of_ble_eq_true rfl | omega) rfl (fun v_7 M_8 h_10 hE_9 => ?_)
      obtain ⟨rfl, hMs⟩ := h_10
      have hMs := hMs.symm
      subst hMs
      refine x_goto (tgt := 28) dX17_becomes_24 (by decide) ?_
      exact x_iret dX17_becomes_28 hret (by repeat' (first | with_reducible exact kE.rf | with_reducible exact hE_3 | with_reducible exact hE_9 | with_reducible apply kE_A | with_reducible apply kE_I | with_reducible apply kE_L | with_reducible apply kE_R | with_reducible apply kE_O | with_reducible apply kE_G | with_reducible refine kE.tr ?_ hE_3 | with_reducible refine kE.tr ?_ hE_9)) (⟨congrArg (fun z => some (Value.int z)) (Eq.trans (by first | rw [if_pos C7] | rw [if_neg C7, if_pos C16] | rw [if_neg C7, if_neg C16]) (fa_g (k := 7) hw (by decide) (by decide))), rfl⟩)
  · have C7 := c7_5
    refine x_iconst (n' := 11) (v := 0) dX17_becomes_10 (by decide) rfl ?_
    refine x_goto (tgt := 28) dX17_becomes_11 (by decide) ?_
    exact x_iret dX17_becomes_28 hret (by repeat' (first | with_reducible exact kE.rf | with_reducible exact hE_3 | with_reducible apply kE_A | with_reducible apply kE_I | with_reducible apply kE_L | with_reducible apply kE_R | with_reducible apply kE_O | with_reducible apply kE_G | with_reducible refine kE.tr ?_ hE_3)) (⟨congrArg (fun z => some (Value.int z)) (Eq.trans (by first | rw [if_pos C7] | rw [if_neg C7, if_pos C16] | rw [if_neg C7, if_neg C16]) (fa_g (k := 7) hw (by decide) (by decide))), rfl⟩)
