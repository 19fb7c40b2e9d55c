theorem ship_cast {K : Nat} (h : shC K) : Cond.castable (kname K) "KeptLight$Ship" ∈ lw_tbl := by
  rcases h with rfl | rfl | rfl | rfl | rfl
  · exact q3675
  · exact q3678
  · exact q3674
  · exact q3676
  · exact q3677
theorem ship_obj {K : Nat} (h : shC K) : Cond.castable (kname K) "java/lang/Object" ∈ lw_tbl := by
  rcases h with rfl | rfl | rfl | rfl | rfl
  · exact q3728
  · exact q3729
  · exact q3730
  · exact q3731
  · exact q3732
theorem SHP.ok {M : kM} {b K o : Nat} {n h f m : Int32} (q : SHP M b K n h f m o) : okO M b := ⟨K, q.1, ship_obj q.2.1⟩
theorem sgN_fr2 {S : Nat → Prop} {M : kM} {sg w : Nat} {a b c : Int32} {G : kG} (hq : mK M sg = none) : Fr S M (sgN M sg w sg a b c G) := ((((Fr.rf.obj hq (Or.inr (Or.inl rfl))).R (Or.inl hq)).I (Or.inl hq)).I (Or.inl hq)).I (Or.inl hq)
/-- how ships are told apart by rank -/
def cmpR (ka na kb nb : Int32) : Int32 := if ka = kb then na - nb else kb - ka
theorem fsX3_13 (K : Nat) (h : shC K) : FF "KeptLight$ByRank" 13 K 0 "KeptLight$Ship" := by
  rcases h with rfl | rfl | rfl | rfl | rfl
  · exact ⟨by decide, by decide, q2069, Or.inl rfl⟩
  · exact ⟨by decide, by decide, q2069, Or.inl rfl⟩
  · exact ⟨by decide, by decide, q2069, Or.inl rfl⟩
  · exact ⟨by decide, by decide, q2069, Or.inl rfl⟩
  · exact ⟨by decide, by decide, q2069, Or.inl rfl⟩
set_option maxHeartbeats 800000 in
set_option maxRecDepth 100000 in
theorem c_X3_compare_2 (l : Launch) (G : kG) (M : kM) (r a b Ka Kb : Nat) (hka : mK M a = some Ka) (hCa : shC Ka) (hkb : mK M b = some Kb) (hCb : shC Kb) : Kt l G yX3_compare_2 cX3_compare_2 3 (some .int) 3 60 [.ref r, .ref a, .ref b] M (0) (0) (fun v M2 => v = some (.int (cmpR (nI (skd Ka)) (mI M (fc 19 0) a) (nI (skd Kb)) (mI M (fc 19 0) b))) ∧ M2 = M) := by
  refine Kt.of (own := "KeptLight$ByRank") (L := [some (.ref r), some (.ref a), some (.ref b)]) (by decide +kernel) rfl (Nat.le_of_ble_eq_true rfl) rfl ?_
  intro pp ee ss mm args below meth cd hmn hret
  refine x_aload_n (n' := 1) dX3_compare_2_0 rfl rfl rfl ?_
  refine x_disp5i (z := nI (skd Ka)) (by repeat' (first | with_reducible exact hka | with_reducible apply mK_A | with_reducible apply mK_I | with_reducible apply mK_L | with_reducible apply mK_R | with_reducible apply mK_O | with_reducible apply mK_G | with_reducible refine mK_NA ?_ (by assumption) | with_reducible refine mK_NO ?_ (by assumption))) hCa (fun e8 hk8 k8 => x_callO (n' := 4) (n := 0) (K := 19) (x := ⟨"KeptLight$Ship", "kind", "()I"⟩) (owner := "KeptLight$Ship") ((c_X19_kind__19 l G _ a hk8).to (by rw [e8]; rfl)) dX3_compare_2_1 hk8 rfl (lw_O6 q2182 q2184 q2183 q2191 q2192 q144 q2193) q2209 (by decide +kernel) ⟨(Nat.le_of_ble_eq_true rfl), (Nat.le_of_ble_eq_true rfl)⟩  rfl rfl (Nat.le_of_ble_eq_true rfl) (by first | exact Nat.le_of_ble_eq_true rfl | omega) (by first | exact Nat.le_of_ble_eq_true rfl | omega) rfl k8) (fun e8 hk8 k8 => x_callO (n' := 4) (n := 0) (K := 20) (x := ⟨"KeptLight$Ship", "kind", "()I"⟩) (owner := "KeptLight$Ship") ((c_X20_kind__20 l G _ a hk8).to (by rw [e8]; rfl)) dX3_compare_2_1 hk8 rfl (lw_O6 q2182 q2184 q2183 q2205 q2206 q145 q2207) q2209 (by decide +kernel) ⟨(Nat.le_of_ble_eq_true rfl), (Nat.le_of_ble_eq_true rfl)⟩  rfl rfl (Nat.le_of_ble_eq_true rfl) (by first | exact Nat.le_of_ble_eq_true rfl | omega) (by first | exact Nat.le_of_ble_eq_true rfl | omega) rfl k8) (fun e8 hk8 k8 => x_callO (n' := 4) (n := 0) (K := 22) (x := ⟨"KeptLight$Ship", "kind", "()I"⟩) (owner := "KeptLight$Ship") ((c_X22_kind__22 l G _ a hk8).to (by rw [e8]; rfl)) dX3_compare_2_1 hk8 rfl (lw_O6 q2182 q2184 q2183 q2185 q2186 q147 q2187) q2209 (by decide +kernel) ⟨(Nat.le_of_ble_eq_true rfl), (Nat.le_of_ble_eq_true rfl)⟩  rfl rfl (Nat.le_of_ble_eq_true rfl) (by first | exact Nat.le_of_ble_eq_true rfl | omega) (by first | exact Nat.le_of_ble_eq_true rfl | omega) rfl k8) (fun e8 hk8 k8 => x_callO (n' := 4) (n := 0) (K := 23) (x := ⟨"KeptLight$Ship", "kind", "()I"⟩) (owner := "KeptLight$Ship") ((c_X23_kind__23 l G _ a hk8).to (by rw [e8]; rfl)) dX3_compare_2_1 hk8 rfl (lw_O6 q2182 q2184 q2183 q2197 q2198 q148 q2199) q2209 (by decide +kernel) ⟨(Nat.le_of_ble_eq_true rfl), (Nat.le_of_ble_eq_true rfl)⟩  rfl rfl (Nat.le_of_ble_eq_true rfl) (by first | exact Nat.le_of_ble_eq_true rfl | omega) (by first | exact Nat.le_of_ble_eq_true rfl | omega) rfl k8) (fun e8 hk8 k8 => x_callO (n' := 4) (n := 0) (K := 24) (x := ⟨"KeptLight$Ship", "kind", "()I"⟩) (owner := "KeptLight$Ship") ((c_X24_kind__24 l G _ a hk8).to (by rw [e8]; rfl)) dX3_compare_2_1 hk8 rfl (lw_O6 q2182 q2184 q2183 q2201 q2202 q149 q2203) q2209 (by decide +kernel) ⟨(Nat.le_of_ble_eq_true rfl), (Nat.le_of_ble_eq_true rfl)⟩  rfl rfl (Nat.le_of_ble_eq_true rfl) (by first | exact Nat.le_of_ble_eq_true rfl | omega) (by first | exact Nat.le_of_ble_eq_true rfl | omega) rfl k8) (fun v_1 M_2 h_4 hE_3 => ?_)
  obtain ⟨rfl, hMs⟩ := h_4
  have hMs := hMs.symm
  subst hMs
  refine x_aload_n (n' := 5) dX3_compare_2_4 rfl rfl rfl ?_
  refine x_disp5i (z := nI (skd Kb)) (by repeat' (first | with_reducible exact hkb | with_reducible apply mK_A | with_reducible apply mK_I | with_reducible apply mK_L | with_reducible apply mK_R | with_reducible apply mK_O | with_reducible apply mK_G | with_reducible refine mK_NA ?_ (by assumption) | with_reducible refine mK_NO ?_ (by assumption) | with_reducible refine kE.ap hE_3 ?_)) hCb (fun e8 hk8 k8 => x_callO (n' := 8) (n := 0) (K := 19) (x := ⟨"KeptLight$Ship", "kind", "()I"⟩) (owner := "KeptLight$Ship") ((c_X19_kind__19 l G _ b hk8).to (by rw [e8]; rfl)) dX3_compare_2_5 hk8 rfl (lw_O6 q2182 q2184 q2183 q2191 q2192 q144 q2193) q2209 (by decide +kernel) ⟨(Nat.le_of_ble_eq_true rfl), (Nat.le_of_ble_eq_true rfl)⟩  rfl rfl (Nat.le_of_ble_eq_true rfl) (by first | exact Nat.le_of_ble_eq_true rfl | omega) (by first | exact Nat.le_of_ble_eq_true rfl | omega) rfl k8) (fun e8 hk8 k8 => x_callO (n' := 8) (n := 0) (K := 20) (x := ⟨"KeptLight$Ship", "kind", "()I"⟩) (owner := "KeptLight$Ship") ((c_X20_kind__20 l G _ b hk8).to (by rw [e8]; rfl)) dX3_compare_2_5 hk8 rfl (lw_O6 q2182 q2184 q2183 q2205 q2206 q145 q2207) q2209 (by decide +kernel) ⟨(Nat.le_of_ble_eq_true rfl), (Nat.le_of_ble_eq_true rfl)⟩  rfl rfl (Nat.le_of_ble_eq_true rfl) (by first | exact Nat.le_of_ble_eq_true rfl | omega) (by first | exact Nat.le_of_ble_eq_true rfl | omega) rfl k8) (fun e8 hk8 k8 => x_callO (n' := 8) (n := 0) (K := 22) (x := ⟨"KeptLight$Ship", "kind", "()I"⟩) (owner := "KeptLight$Ship") ((c_X22_kind__22 l G _ b hk8).to (by rw [e8]; rfl)) dX3_compare_2_5 hk8 rfl (lw_O6 q2182 q2184 q2183 q2185 q2186 q147 q2187) q2209 (by decide +kernel) ⟨(Nat.le_of_ble_eq_true rfl), (Nat.le_of_ble_eq_true rfl)⟩  rfl rfl (Nat.le_of_ble_eq_true rfl) (by first | exact Nat.le_of_ble_eq_true rfl | omega) (by first | exact Nat.le_of_ble_eq_true rfl | omega) rfl k8) (fun e8 hk8 k8 => x_callO (n' := 8) (n := 0) (K := 23) (x := ⟨"KeptLight$Ship", "kind", "()I"⟩) (owner := "KeptLight$Ship") ((c_X23_kind__23 l G _ b hk8).to (by rw [e8]; rfl)) dX3_compare_2_5 hk8 rfl (lw_O6 q2182 q2184 q2183 q2197 q2198 q148 q2199) q2209 (by decide +kernel) ⟨(Nat.le_of_ble_eq_true rfl), (Nat.le_of_ble_eq_true rfl)⟩  rfl rfl (Nat.le_of_ble_eq_true rfl) (by first | exact Nat.le_of_ble_eq_true rfl | omega) (by first | exact Nat.le_of_ble_eq_true rfl | omega) rfl k8) (fun e8 hk8 k8 => x_callO (n' := 8) (n := 0) (K := 24) (x := ⟨"KeptLight$Ship", "kind", "()I"⟩) (owner := "KeptLight$Ship") ((c_X24_kind__24 l G _ b hk8).to (by rw [e8]; rfl)) dX3_compare_2_5 hk8 rfl (lw_O6 q2182 q2184 q2183 q2201 q2202 q149 q2203) q2209 (by decide +kernel) ⟨(Nat.le_of_ble_eq_true rfl), (Nat.le_of_ble_eq_true rfl)⟩  rfl rfl (Nat.le_of_ble_eq_true rfl) (by first | exact Nat.le_of_ble_eq_true rfl | omega) (by first | exact Nat.le_of_ble_eq_true rfl | omega) rfl k8) (fun v_5 M_6 h_8 hE_7 => ?_)
  obtain ⟨rfl, hMs⟩ := h_8
  have hMs := hMs.symm
  subst hMs
  refine x_fork (J := 32) (x_icmp_eq (n' := 11) (tgt := 23) dX3_compare_2_8 (by decide) rfl) (v1 := ?v1_f8_9) (v2 := ?v2_f8_9) (fun c_f8_9 j_f8_9 => ?b1_f8_9) (fun c_f8_9 j_f8_9 => ?b2_f8_9) ?k_f8_9
  case b1_f8_9 =>
    refine x_aload_n (n' := 24) dX3_compare_2_23 rfl rfl rfl ?_
    refine x_getIS (n' := 27) (K := Ka) (k := 0) dX3_compare_2_24 (by repeat' (first | with_reducible exact hka | with_reducible apply mK_A | with_reducible apply mK_I | with_reducible apply mK_L | with_reducible apply mK_R | with_reducible apply mK_O | with_reducible apply mK_G | with_reducible refine mK_NA ?_ (by assumption) | with_reducible refine mK_NO ?_ (by assumption) | with_reducible refine kE.ap hE_3 ?_ | with_reducible refine kE.ap hE_7 ?_)) hCa fsX3_13 (by decide) rfl ?_
    refine x_aload_n (n' := 28) dX3_compare_2_27 rfl rfl rfl ?_
    refine x_getIS (n' := 31) (K := Kb) (k := 0) dX3_compare_2_28 (by repeat' (first | with_reducible exact hkb | with_reducible apply mK_A | with_reducible apply mK_I | with_reducible apply mK_L | with_reducible apply mK_R | with_reducible apply mK_O | with_reducible apply mK_G | with_reducible refine mK_NA ?_ (by assumption) | with_reducible refine mK_NO ?_ (by assumption) | with_reducible refine kE.ap hE_3 ?_ | with_reducible refine kE.ap hE_7 ?_)) hCb fsX3_13 (by decide) rfl ?_
    refine x_isub (n' := 32) dX3_compare_2_31 rfl ?_
    exact j_f8_9
  case b2_f8_9 =>
    refine x_aload_n (n' := 12) dX3_compare_2_11 rfl rfl rfl ?_
    refine x_disp5i (z := nI (skd Kb)) (by repeat' (first | with_reducible exact hkb | with_reducible apply mK_A | with_reducible apply mK_I | with_reducible apply mK_L | with_reducible apply mK_R | with_reducible apply mK_O | with_reducible apply mK_G | with_reducible refine mK_NA ?_ (by assumption) | with_reducible refine mK_NO ?_ (by assumption) | with_reducible refine kE.ap hE_3 ?_ | with_reducible refine kE.ap hE_7 ?_)) hCb (fun e8 hk8 k8 => x_callO (n' := 15) (n := 0) (K := 19) (x := ⟨"KeptLight$Ship", "kind", "()I"⟩) (owner := "KeptLight$Ship") ((c_X19_kind__19 l G _ b hk8).to (by rw [e8]; rfl)) dX3_compare_2_12 hk8 rfl (lw_O6 q2182 q2184 q2183 q2191 q2192 q144 q2193) q2209 (by decide +kernel) ⟨(Nat.le_of_ble_eq_true rfl), (Nat.le_of_ble_eq_true rfl)⟩  rfl rfl (Nat.le_of_ble_eq_true rfl) (by first | exact Nat.le_of_ble_eq_true rfl | omega) (by first | exact Nat.le_of_ble_eq_true rfl | omega) rfl k8) (fun e8 hk8 k8 => x_callO (n' := 15) (n := 0) (K := 20) (x := ⟨"KeptLight$Ship", "kind", "()I"⟩) (owner := "KeptLight$Ship") ((c_X20_kind__20 l G _ b hk8).to (by rw [e8]; rfl)) dX3_compare_2_12 hk8 rfl (lw_O6 q2182 q2184 q2183 q2205 q2206 q145 q2207) q2209 (by decide +kernel) ⟨(Nat.le_of_ble_eq_true rfl), (Nat.le_of_ble_eq_true rfl)⟩  rfl rfl (Nat.le_of_ble_eq_true rfl) (by first | exact Nat.le_of_ble_eq_true rfl | omega) (by first | exact Nat.le_of_ble_eq_true rfl | omega) rfl k8) (fun e8 hk8 k8 => x_callO (n' := 15) (n := 0) (K := 22) (x := ⟨"KeptLight$Ship", "kind", "()I"⟩) (owner := "KeptLight$Ship") ((c_X22_kind__22 l G _ b hk8).to (by rw [e8]; rfl)) dX3_compare_2_12 hk8 rfl (lw_O6 q2182 q2184 q2183 q2185 q2186 q147 q2187) q2209 (by decide +kernel) ⟨(Nat.le_of_ble_eq_true rfl), (Nat.le_of_ble_eq_true rfl)⟩  rfl rfl (Nat.le_of_ble_eq_true rfl) (by first | exact Nat.le_of_ble_eq_true rfl | omega) (by first | exact Nat.le_of_ble_eq_true rfl | omega) rfl k8) (fun e8 hk8 k8 => x_callO (n' := 15) (n := 0) (K := 23) (x := ⟨"KeptLight$Ship", "kind", "()I"⟩) (owner := "KeptLight$Ship") ((c_X23_kind__23 l G _ b hk8).to (by rw [e8]; rfl)) dX3_compare_2_12 hk8 rfl (lw_O6 q2182 q2184 q2183 q2197 q2198 q148 q2199) q2209 (by decide +kernel) ⟨(Nat.le_of_ble_eq_true rfl), (Nat.le_of_ble_eq_true rfl)⟩  rfl rfl (Nat.le_of_ble_eq_true rfl) (by first | exact Nat.le_of_ble_eq_true rfl | omega) (by first | exact Nat.le_of_ble_eq_true rfl | omega) rfl k8) (fun e8 hk8 k8 => x_callO (n' := 15) (n := 0) (K := 24) (x := ⟨"KeptLight$Ship", "kind", "()I"⟩) (owner := "KeptLight$Ship") ((c_X24_kind__24 l G _ b hk8).to (by rw [e8]; rfl)) dX3_compare_2_12 hk8 rfl (lw_O6 q2182 q2184 q2183 q2201 q2202 q149 q2203) q2209 (by decide +kernel) ⟨(Nat.le_of_ble_eq_true rfl), (Nat.le_of_ble_eq_true rfl)⟩  rfl rfl (Nat.le_of_ble_eq_true rfl) (by first | exact Nat.le_of_ble_eq_true rfl | omega) (by first | exact Nat.le_of_ble_eq_true rfl | omega) rfl k8) (fun v_10 M_11 h_13 hE_12 => ?_)
    obtain ⟨rfl, hMs⟩ := h_13
    have hMs := hMs.symm
    subst hMs
    refine x_aload_n (n' := 16) dX3_compare_2_15 rfl rfl rfl ?_
    refine x_disp5i (z := nI (skd Ka)) (by repeat' (first | with_reducible exact hka | with_reducible apply mK_A | with_reducible apply mK_I | with_reducible apply mK_L | with_reducible apply mK_R | with_reducible apply mK_O | with_reducible apply mK_G | with_reducible refine mK_NA ?_ (by assumption) | with_reducible refine mK_NO ?_ (by assumption) | with_reducible refine kE.ap hE_3 ?_ | with_reducible refine kE.ap hE_7 ?_ | with_reducible refine kE.ap hE_12 ?_)) hCa (fun e8 hk8 k8 => x_callO (n' := 19) (n := 0) (K := 19) (x := ⟨"KeptLight$Ship", "kind", "()I"⟩) (owner := "KeptLight$Ship") ((c_X19_kind__19 l G _ a hk8).to (by rw [e8]; rfl)) dX3_compare_2_16 hk8 rfl (lw_O6 q2182 q2184 q2183 q2191 q2192 q144 q2193) q2209 (by decide +kernel) ⟨(Nat.le_of_ble_eq_true rfl), (Nat.le_of_ble_eq_true rfl)⟩  rfl rfl (Nat.le_of_ble_eq_true rfl) (by first | exact Nat.le_of_ble_eq_true rfl | omega) (by first | exact Nat.le_of_ble_eq_true rfl | omega) rfl k8) (fun e8 hk8 k8 => x_callO (n' := 19) (n := 0) (K := 20) (x := ⟨"KeptLight$Ship", "kind", "()I"⟩) (owner := "KeptLight$Ship") ((c_X20_kind__20 l G _ a hk8).to (by rw [e8]; rfl)) dX3_compare_2_16 hk8 rfl (lw_O6 q2182 q2184 q2183 q2205 q2206 q145 q2207) q2209 (by decide +kernel) ⟨(Nat.le_of_ble_eq_true rfl), (Nat.le_of_ble_eq_true rfl)⟩  rfl rfl (Nat.le_of_ble_eq_true rfl) (by first | exact Nat.le_of_ble_eq_true rfl | omega) (by first | exact Nat.le_of_ble_eq_true rfl | omega) rfl k8) (fun e8 hk8 k8 => x_callO (n' := 19) (n := 0) (K := 22) (x := ⟨"KeptLight$Ship", "kind", "()I"⟩) (owner := "KeptLight$Ship") ((c_X22_kind__22 l G _ a hk8).to (by rw [e8]; rfl)) dX3_compare_2_16 hk8 rfl (lw_O6 q2182 q2184 q2183 q2185 q2186 q147 q2187) q2209 (by decide +kernel) ⟨(Nat.le_of_ble_eq_true rfl), (Nat.le_of_ble_eq_true rfl)⟩  rfl rfl (Nat.le_of_ble_eq_true rfl) (by first | exact Nat.le_of_ble_eq_true rfl | omega) (by first | exact Nat.le_of_ble_eq_true rfl | omega) rfl k8) (fun e8 hk8 k8 => x_callO (n' := 19) (n := 0) (K := 23) (x := ⟨"KeptLight$Ship", "kind", "()I"⟩) (owner := "KeptLight$Ship") ((c_X23_kind__23 l G _ a hk8).to (by rw [e8]; rfl)) dX3_compare_2_16 hk8 rfl (lw_O6 q2182 q2184 q2183 q2197 q2198 q148 q2199) q2209 (by decide +kernel) ⟨(Nat.le_of_ble_eq_true rfl), (Nat.le_of_ble_eq_true rfl)⟩  rfl rfl (Nat.le_of_ble_eq_true rfl) (by first | exact Nat.le_of_ble_eq_true rfl | omega) (by first | exact Nat.le_of_ble_eq_true rfl | omega) rfl k8) (fun e8 hk8 k8 => x_callO (n' := 19) (n := 0) (K := 24) (x := ⟨"KeptLight$Ship", "kind", "()I"⟩) (owner := "KeptLight$Ship") ((c_X24_kind__24 l G _ a hk8).to (by rw [e8]; rfl)) dX3_compare_2_16 hk8 rfl (lw_O6 q2182 q2184 q2183 q2201 q2202 q149 q2203) q2209 (by decide +kernel) ⟨(Nat.le_of_ble_eq_true rfl), (Nat.le_of_ble_eq_true rfl)⟩  rfl rfl (Nat.le_of_ble_eq_true rfl) (by first | exact Nat.le_of_ble_eq_true rfl | omega) (by first | exact Nat.le_of_ble_eq_true rfl | omega) rfl k8) (fun v_14 M_15 h_17 hE_16 => ?_)
    obtain ⟨rfl, hMs⟩ := h_17
    have hMs := hMs.symm
    subst hMs
    refine x_isub (n' := 20) dX3_compare_2_19 rfl ?_
    refine x_goto (tgt := 32) dX3_compare_2_20 (by decide) ?_
    exact j_f8_9
  exact x_iret dX3_compare_2_32 hret (by repeat' (first | with_reducible exact kE.rf | with_reducible exact hE_3 | with_reducible exact hE_7 | with_reducible apply kE_A | with_reducible apply kE_I | with_reducible apply kE_L | with_reducible apply kE_R | with_reducible apply kE_O | with_reducible apply kE_G | with_reducible refine kE.tr ?_ hE_3 | with_reducible refine kE.tr ?_ hE_7)) (⟨rfl, rfl⟩)

set_option maxHeartbeats 800000 in
set_option maxRecDepth 100000 in
theorem c_X18_lacksInStorm__19 (l : Launch) (G : kG) (M : kM) (b : Nat) (hb : mK M b = some 19) (hcn : CN G M) : Kt l G yX18_lacksInStorm cX18_lacksInStorm 1 (some .int) 4 83 [.ref b] M (1) (4) (fun v M2 => v = some (.int (lacksG 3 0 0 0 2)) ∧ Fr (fun _ => False) M M2) := by
  refine Kt.of (own := "KeptLight$Small") (L := [some (.ref b)]) (by decide +kernel) rfl (Nat.le_of_ble_eq_true rfl) rfl ?_
  intro pp ee ss mm args below meth cd hmn hret
  refine x_aload_n (n' := 1) dX18_lacksInStorm_0 rfl rfl rfl ?_
  refine x_new (n' := 4) (K := 7) dX18_lacksInStorm_1 (by decide) q1001 q257 q87 (by first | exact Nat.le_of_ble_eq_true rfl | omega) (by first | exact Nat.le_of_ble_eq_true rfl | omega | (show 4 ≤ _; omega)) rfl (fun sg hq_sg hB_sg => ?_)
  have hE_1 := kE_nO (K := 7) hq_sg
  have k_sg := mK_nO_of hE_1
  refine x_ghost sg (sg + 1) ?_
  refine x_dup (n' := 5) dX18_lacksInStorm_4 rfl rfl ?_
  refine x_gets (n' := 8) dX18_lacksInStorm_5 (List.mem_of_getElem? (i := 2) rfl) q1002 rfl ?_
  refine x_iconst (n' := 9) (v := 0) dX18_lacksInStorm_8 (by decide) rfl ?_
  refine x_iconst (n' := 10) (v := 0) dX18_lacksInStorm_9 (by decide) rfl ?_
  refine x_iconst (n' := 11) (v := 0) dX18_lacksInStorm_10 (by decide) rfl ?_
  refine x_callI (n' := 14) (ret := none) (n := 4) (c_X7_init l G _ sg (G.2.2.2 2) False False False (by repeat' (first | with_reducible exact k_sg | with_reducible apply mK_A | with_reducible apply mK_I | with_reducible apply mK_L | with_reducible apply mK_R | with_reducible apply mK_O | with_reducible apply mK_G | with_reducible refine mK_NA ?_ (by assumption) | with_reducible refine mK_NO ?_ (by assumption) | with_reducible refine kE.ap hE_1 ?_))) dX18_lacksInStorm_11 (lw_meth q260) q87 q1003 q259 rfl (by decide +kernel) ⟨(Nat.le_of_ble_eq_true rfl), (Nat.le_of_ble_eq_true rfl)⟩ rfl rfl (Nat.le_of_ble_eq_true rfl) (by first | exact Nat.le_of_ble_eq_true rfl | omega) (by first | exact Nat.le_of_ble_eq_true rfl | omega) rfl (fun v_2 M_3 h_5 hE_4 => ?_)
  obtain ⟨rfl, hMs⟩ := h_5
  have hMs := hMs.symm
  subst hMs
  refine x_callU (n' := 17) (n := 1) (K := 19) (x := ⟨"KeptLight$Small", "lacks", "(LKeptLight$Sight;)I"⟩) (owner := "KeptLight$Small") (c_X18_lacks__19 l G _ b sg 2 (bi False) (bi False) (bi False) (sgN_p hq_sg (by decide) hcn).1 (by repeat' (first | with_reducible exact hb | with_reducible apply mK_A | with_reducible apply mK_I | with_reducible apply mK_L | with_reducible apply mK_R | with_reducible apply mK_O | with_reducible apply mK_G | with_reducible refine mK_NA ?_ (by assumption) | with_reducible refine mK_NO ?_ (by assumption) | with_reducible refine kE.ap hE_1 ?_ | with_reducible refine kE.ap hE_4 ?_))) dX18_lacksInStorm_14 (by repeat' (first | with_reducible exact hb | with_reducible apply mK_A | with_reducible apply mK_I | with_reducible apply mK_L | with_reducible apply mK_R | with_reducible apply mK_O | with_reducible apply mK_G | with_reducible refine mK_NA ?_ (by assumption) | with_reducible refine mK_NO ?_ (by assumption) | with_reducible refine kE.ap hE_1 ?_ | with_reducible refine kE.ap hE_4 ?_)) rfl (lw_U5 q1004 q1006 q1007 q1005 q143 q1009) rfl (by decide +kernel) ⟨(Nat.le_of_ble_eq_true rfl), (Nat.le_of_ble_eq_true rfl)⟩ rfl rfl (Nat.le_of_ble_eq_true rfl) (by first | exact Nat.le_of_ble_eq_true rfl | omega) (by first | exact Nat.le_of_ble_eq_true rfl | omega) rfl (fun v_6 M_7 h_9 hE_8 => ?_)
  obtain ⟨rfl, hMs⟩ := h_9
  have hMs := hMs.symm
  subst hMs
  exact x_iret dX18_lacksInStorm_17 hret (by repeat' (first | with_reducible exact kE.rf | with_reducible exact hE_1 | with_reducible exact hE_4 | with_reducible exact hE_8 | with_reducible apply kE_A | with_reducible apply kE_I | with_reducible apply kE_L | with_reducible apply kE_R | with_reducible apply kE_O | with_reducible apply kE_G | with_reducible refine kE.tr ?_ hE_1 | with_reducible refine kE.tr ?_ hE_4 | with_reducible refine kE.tr ?_ hE_8)) (⟨rfl, sgN_fr2 hq_sg⟩)

set_option maxHeartbeats 800000 in
set_option maxRecDepth 100000 in
theorem c_X18_lacksInStorm__20 (l : Launch) (G : kG) (M : kM) (b : Nat) (hb : mK M b = some 20) (hcn : CN G M) : Kt l G yX18_lacksInStorm cX18_lacksInStorm 1 (some .int) 4 83 [.ref b] M (1) (4) (fun v M2 => v = some (.int (lacksG 4 0 0 0 2)) ∧ Fr (fun _ => False) M M2) := by
  refine Kt.of (own := "KeptLight$Small") (L := [some (.ref b)]) (by decide +kernel) rfl (Nat.le_of_ble_eq_true rfl) rfl ?_
  intro pp ee ss mm args below meth cd hmn hret
  refine x_aload_n (n' := 1) dX18_lacksInStorm_0 rfl rfl rfl ?_
  refine x_new (n' := 4) (K := 7) dX18_lacksInStorm_1 (by decide) q1001 q257 q87 (by first | exact Nat.le_of_ble_eq_true rfl | omega) (by first | exact Nat.le_of_ble_eq_true rfl | omega | (show 4 ≤ _; omega)) rfl (fun sg hq_sg hB_sg => ?_)
  have hE_1 := kE_nO (K := 7) hq_sg
  have k_sg := mK_nO_of hE_1
  refine x_ghost sg (sg + 1) ?_
  refine x_dup (n' := 5) dX18_lacksInStorm_4 rfl rfl ?_
  refine x_gets (n' := 8) dX18_lacksInStorm_5 (List.mem_of_getElem? (i := 2) rfl) q1002 rfl ?_
  refine x_iconst (n' := 9) (v := 0) dX18_lacksInStorm_8 (by decide) rfl ?_
  refine x_iconst (n' := 10) (v := 0) dX18_lacksInStorm_9 (by decide) rfl ?_
  refine x_iconst (n' := 11) (v := 0) dX18_lacksInStorm_10 (by decide) rfl ?_
  refine x_callI (n' := 14) (ret := none) (n := 4) (c_X7_init l G _ sg (G.2.2.2 2) False False False (by repeat' (first | with_reducible exact k_sg | with_reducible apply mK_A | with_reducible apply mK_I | with_reducible apply mK_L | with_reducible apply mK_R | with_reducible apply mK_O | with_reducible apply mK_G | with_reducible refine mK_NA ?_ (by assumption) | with_reducible refine mK_NO ?_ (by assumption) | with_reducible refine kE.ap hE_1 ?_))) dX18_lacksInStorm_11 (lw_meth q260) q87 q1003 q259 rfl (by decide +kernel) ⟨(Nat.le_of_ble_eq_true rfl), (Nat.le_of_ble_eq_true rfl)⟩ rfl rfl (Nat.le_of_ble_eq_true rfl) (by first | exact Nat.le_of_ble_eq_true rfl | omega) (by first | exact Nat.le_of_ble_eq_true rfl | omega) rfl (fun v_2 M_3 h_5 hE_4 => ?_)
  obtain ⟨rfl, hMs⟩ := h_5
  have hMs := hMs.symm
  subst hMs
  refine x_callU (n' := 17) (n := 1) (K := 20) (x := ⟨"KeptLight$Small", "lacks", "(LKeptLight$Sight;)I"⟩) (owner := "KeptLight$Small") (c_X18_lacks__20 l G _ b sg 2 (bi False) (bi False) (bi False) (sgN_p hq_sg (by decide) hcn).1 (by repeat' (first | with_reducible exact hb | with_reducible apply mK_A | with_reducible apply mK_I | with_reducible apply mK_L | with_reducible apply mK_R | with_reducible apply mK_O | with_reducible apply mK_G | with_reducible refine mK_NA ?_ (by assumption) | with_reducible refine mK_NO ?_ (by assumption) | with_reducible refine kE.ap hE_1 ?_ | with_reducible refine kE.ap hE_4 ?_))) dX18_lacksInStorm_14 (by repeat' (first | with_reducible exact hb | with_reducible apply mK_A | with_reducible apply mK_I | with_reducible apply mK_L | with_reducible apply mK_R | with_reducible apply mK_O | with_reducible apply mK_G | with_reducible refine mK_NA ?_ (by assumption) | with_reducible refine mK_NO ?_ (by assumption) | with_reducible refine kE.ap hE_1 ?_ | with_reducible refine kE.ap hE_4 ?_)) rfl (lw_U5 q1004 q1006 q1008 q1005 q143 q1009) rfl (by decide +kernel) ⟨(Nat.le_of_ble_eq_true rfl), (Nat.le_of_ble_eq_true rfl)⟩ rfl rfl (Nat.le_of_ble_eq_true rfl) (by first | exact Nat.le_of_ble_eq_true rfl | omega) (by first | exact Nat.le_of_ble_eq_true rfl | omega) rfl (fun v_6 M_7 h_9 hE_8 => ?_)
  obtain ⟨rfl, hMs⟩ := h_9
  have hMs := hMs.symm
  subst hMs
  exact x_iret dX18_lacksInStorm_17 hret (by repeat' (first | with_reducible exact kE.rf | with_reducible exact hE_1 | with_reducible exact hE_4 | with_reducible exact hE_8 | with_reducible apply kE_A | with_reducible apply kE_I | with_reducible apply kE_L | with_reducible apply kE_R | with_reducible apply kE_O | with_reducible apply kE_G | with_reducible refine kE.tr ?_ hE_1 | with_reducible refine kE.tr ?_ hE_4 | with_reducible refine kE.tr ?_ hE_8)) (⟨rfl, sgN_fr2 hq_sg⟩)

set_option maxHeartbeats 800000 in
set_option maxRecDepth 100000 in
theorem c_X21_lacksInFog__22 (l : Launch) (G : kG) (M : kM) (b : Nat) (hb : mK M b = some 22) (hcn : CN G M) : Kt l G yX21_lacksInFog cX21_lacksInFog 1 (some .int) 3 62 [.ref b] M (1) (4) (fun v M2 => v = some (.int (lacksG 5 1 0 0 1)) ∧ Fr (fun _ => False) M M2) := by
  refine Kt.of (own := "KeptLight$Great") (L := [some (.ref b)]) (by decide +kernel) rfl (Nat.le_of_ble_eq_true rfl) rfl ?_
  intro pp ee ss mm args below meth cd hmn hret
  refine x_aload_n (n' := 1) dX21_lacksInFog_0 rfl rfl rfl ?_
  refine x_new (n' := 4) (K := 7) dX21_lacksInFog_1 (by decide) q1076 q257 q87 (by first | exact Nat.le_of_ble_eq_true rfl | omega) (by first | exact Nat.le_of_ble_eq_true rfl | omega | (show 4 ≤ _; omega)) rfl (fun sg hq_sg hB_sg => ?_)
  have hE_1 := kE_nO (K := 7) hq_sg
  have k_sg := mK_nO_of hE_1
  refine x_ghost sg (sg + 1) ?_
  refine x_dup (n' := 5) dX21_lacksInFog_4 rfl rfl ?_
  refine x_gets (n' := 8) dX21_lacksInFog_5 (List.mem_of_getElem? (i := 1) rfl) q1077 rfl ?_
  refine x_iconst (n' := 9) (v := 1) dX21_lacksInFog_8 (by decide) rfl ?_
  refine x_iconst (n' := 10) (v := 0) dX21_lacksInFog_9 (by decide) rfl ?_
  refine x_iconst (n' := 11) (v := 0) dX21_lacksInFog_10 (by decide) rfl ?_
  refine x_callI (n' := 14) (ret := none) (n := 4) (c_X7_init l G _ sg (G.2.2.2 1) True False False (by repeat' (first | with_reducible exact k_sg | with_reducible apply mK_A | with_reducible apply mK_I | with_reducible apply mK_L | with_reducible apply mK_R | with_reducible apply mK_O | with_reducible apply mK_G | with_reducible refine mK_NA ?_ (by assumption) | with_reducible refine mK_NO ?_ (by assumption) | with_reducible refine kE.ap hE_1 ?_))) dX21_lacksInFog_11 (lw_meth q260) q87 q1078 q259 rfl (by decide +kernel) ⟨(Nat.le_of_ble_eq_true rfl), (Nat.le_of_ble_eq_true rfl)⟩ rfl rfl (Nat.le_of_ble_eq_true rfl) (by first | exact Nat.le_of_ble_eq_true rfl | omega) (by first | exact Nat.le_of_ble_eq_true rfl | omega) rfl (fun v_2 M_3 h_5 hE_4 => ?_)
  obtain ⟨rfl, hMs⟩ := h_5
  have hMs := hMs.symm
  subst hMs
  refine x_callU (n' := 17) (n := 1) (K := 22) (x := ⟨"KeptLight$Great", "lacks", "(LKeptLight$Sight;)I"⟩) (owner := "KeptLight$Ship") ((c_X17_lacks__22 l G _ b sg 1 (bi True) (bi False) (bi False) (sgN_p hq_sg (by decide) hcn).1 (by repeat' (first | with_reducible exact hb | with_reducible apply mK_A | with_reducible apply mK_I | with_reducible apply mK_L | with_reducible apply mK_R | with_reducible apply mK_O | with_reducible apply mK_G | with_reducible refine mK_NA ?_ (by assumption) | with_reducible refine mK_NO ?_ (by assumption) | with_reducible refine kE.ap hE_1 ?_ | with_reducible refine kE.ap hE_4 ?_))).to (lr_g (k := 5) (d := bi True) (lt := bi False) (sn := bi False) (w := nI 1) (by decide) (by decide))) dX21_lacksInFog_14 (by repeat' (first | with_reducible exact hb | with_reducible apply mK_A | with_reducible apply mK_I | with_reducible apply mK_L | with_reducible apply mK_R | with_reducible apply mK_O | with_reducible apply mK_G | with_reducible refine mK_NA ?_ (by assumption) | with_reducible refine mK_NO ?_ (by assumption) | with_reducible refine kE.ap hE_1 ?_ | with_reducible refine kE.ap hE_4 ?_)) rfl (lw_U5 q1079 q1080 q1082 q1012 q142 q1013) rfl (by decide +kernel) ⟨(Nat.le_of_ble_eq_true rfl), (Nat.le_of_ble_eq_true rfl)⟩ rfl rfl (Nat.le_of_ble_eq_true rfl) (by first | exact Nat.le_of_ble_eq_true rfl | omega) (by first | exact Nat.le_of_ble_eq_true rfl | omega) rfl (fun v_6 M_7 h_9 hE_8 => ?_)
  obtain ⟨rfl, hMs⟩ := h_9
  have hMs := hMs.symm
  subst hMs
  exact x_iret dX21_lacksInFog_17 hret (by repeat' (first | with_reducible exact kE.rf | with_reducible exact hE_1 | with_reducible exact hE_4 | with_reducible exact hE_8 | with_reducible apply kE_A | with_reducible apply kE_I | with_reducible apply kE_L | with_reducible apply kE_R | with_reducible apply kE_O | with_reducible apply kE_G | with_reducible refine kE.tr ?_ hE_1 | with_reducible refine kE.tr ?_ hE_4 | with_reducible refine kE.tr ?_ hE_8)) (⟨rfl, sgN_fr2 hq_sg⟩)

set_option maxHeartbeats 800000 in
set_option maxRecDepth 100000 in
theorem c_X21_lacksInFog__23 (l : Launch) (G : kG) (M : kM) (b : Nat) (hb : mK M b = some 23) (hcn : CN G M) : Kt l G yX21_lacksInFog cX21_lacksInFog 1 (some .int) 3 62 [.ref b] M (1) (4) (fun v M2 => v = some (.int (lacksG 6 1 0 0 1)) ∧ Fr (fun _ => False) M M2) := by
  refine Kt.of (own := "KeptLight$Great") (L := [some (.ref b)]) (by decide +kernel) rfl (Nat.le_of_ble_eq_true rfl) rfl ?_
  intro pp ee ss mm args below meth cd hmn hret
  refine x_aload_n (n' := 1) dX21_lacksInFog_0 rfl rfl rfl ?_
  refine x_new (n' := 4) (K := 7) dX21_lacksInFog_1 (by decide) q1076 q257 q87 (by first | exact Nat.le_of_ble_eq_true rfl | omega) (by first | exact Nat.le_of_ble_eq_true rfl | omega | (show 4 ≤ _; omega)) rfl (fun sg hq_sg hB_sg => ?_)
  have hE_1 := kE_nO (K := 7) hq_sg
  have k_sg := mK_nO_of hE_1
  refine x_ghost sg (sg + 1) ?_
  refine x_dup (n' := 5) dX21_lacksInFog_4 rfl rfl ?_
  refine x_gets (n' := 8) dX21_lacksInFog_5 (List.mem_of_getElem? (i := 1) rfl) q1077 rfl ?_
  refine x_iconst (n' := 9) (v := 1) dX21_lacksInFog_8 (by decide) rfl ?_
  refine x_iconst (n' := 10) (v := 0) dX21_lacksInFog_9 (by decide) rfl ?_
  refine x_iconst (n' := 11) (v := 0) dX21_lacksInFog_10 (by decide) rfl ?_
  refine x_callI (n' := 14) (ret := none) (n := 4) (c_X7_init l G _ sg (G.2.2.2 1) True False False (by repeat' (first | with_reducible exact k_sg | with_reducible apply mK_A | with_reducible apply mK_I | with_reducible apply mK_L | with_reducible apply mK_R | with_reducible apply mK_O | with_reducible apply mK_G | with_reducible refine mK_NA ?_ (by assumption) | with_reducible refine mK_NO ?_ (by assumption) | with_reducible refine kE.ap hE_1 ?_))) dX21_lacksInFog_11 (lw_meth q260) q87 q1078 q259 rfl (by decide +kernel) ⟨(Nat.le_of_ble_eq_true rfl), (Nat.le_of_ble_eq_true rfl)⟩ rfl rfl (Nat.le_of_ble_eq_true rfl) (by first | exact Nat.le_of_ble_eq_true rfl | omega) (by first | exact Nat.le_of_ble_eq_true rfl | omega) rfl (fun v_2 M_3 h_5 hE_4 => ?_)
  obtain ⟨rfl, hMs⟩ := h_5
  have hMs := hMs.symm
  subst hMs
  refine x_callU (n' := 17) (n := 1) (K := 23) (x := ⟨"KeptLight$Great", "lacks", "(LKeptLight$Sight;)I"⟩) (owner := "KeptLight$Ship") ((c_X17_lacks__23 l G _ b sg 1 (bi True) (bi False) (bi False) (sgN_p hq_sg (by decide) hcn).1 (by repeat' (first | with_reducible exact hb | with_reducible apply mK_A | with_reducible apply mK_I | with_reducible apply mK_L | with_reducible apply mK_R | with_reducible apply mK_O | with_reducible apply mK_G | with_reducible refine mK_NA ?_ (by assumption) | with_reducible refine mK_NO ?_ (by assumption) | with_reducible refine kE.ap hE_1 ?_ | with_reducible refine kE.ap hE_4 ?_))).to (lr_g (k := 6) (d := bi True) (lt := bi False) (sn := bi False) (w := nI 1) (by decide) (by decide))) dX21_lacksInFog_14 (by repeat' (first | with_reducible exact hb | with_reducible apply mK_A | with_reducible apply mK_I | with_reducible apply mK_L | with_reducible apply mK_R | with_reducible apply mK_O | with_reducible apply mK_G | with_reducible refine mK_NA ?_ (by assumption) | with_reducible refine mK_NO ?_ (by assumption) | with_reducible refine kE.ap hE_1 ?_ | with_reducible refine kE.ap hE_4 ?_)) rfl (lw_U5 q1079 q1080 q1083 q1012 q142 q1013) rfl (by decide +kernel) ⟨(Nat.le_of_ble_eq_true rfl), (Nat.le_of_ble_eq_true rfl)⟩ rfl rfl (Nat.le_of_ble_eq_true rfl) (by first | exact Nat.le_of_ble_eq_true rfl | omega) (by first | exact Nat.le_of_ble_eq_true rfl | omega) rfl (fun v_6 M_7 h_9 hE_8 => ?_)
  obtain ⟨rfl, hMs⟩ := h_9
  have hMs := hMs.symm
  subst hMs
  exact x_iret dX21_lacksInFog_17 hret (by repeat' (first | with_reducible exact kE.rf | with_reducible exact hE_1 | with_reducible exact hE_4 | with_reducible exact hE_8 | with_reducible apply kE_A | with_reducible apply kE_I | with_reducible apply kE_L | with_reducible apply kE_R | with_reducible apply kE_O | with_reducible apply kE_G | with_reducible refine kE.tr ?_ hE_1 | with_reducible refine kE.tr ?_ hE_4 | with_reducible refine kE.tr ?_ hE_8)) (⟨rfl, sgN_fr2 hq_sg⟩)

set_option maxHeartbeats 800000 in
set_option maxRecDepth 100000 in
theorem c_X21_lacksInFog__24 (l : Launch) (G : kG) (M : kM) (b : Nat) (hb : mK M b = some 24) (hcn : CN G M) : Kt l G yX21_lacksInFog cX21_lacksInFog 1 (some .int) 4 83 [.ref b] M (1) (4) (fun v M2 => v = some (.int (lacksG 7 1 0 0 1)) ∧ Fr (fun _ => False) M M2) := by
  refine Kt.of (own := "KeptLight$Great") (L := [some (.ref b)]) (by decide +kernel) rfl (Nat.le_of_ble_eq_true rfl) rfl ?_
  intro pp ee ss mm args below meth cd hmn hret
  refine x_aload_n (n' := 1) dX21_lacksInFog_0 rfl rfl rfl ?_
  refine x_new (n' := 4) (K := 7) dX21_lacksInFog_1 (by decide) q1076 q257 q87 (by first | exact Nat.le_of_ble_eq_true rfl | omega) (by first | exact Nat.le_of_ble_eq_true rfl | omega | (show 4 ≤ _; omega)) rfl (fun sg hq_sg hB_sg => ?_)
  have hE_1 := kE_nO (K := 7) hq_sg
  have k_sg := mK_nO_of hE_1
  refine x_ghost sg (sg + 1) ?_
  refine x_dup (n' := 5) dX21_lacksInFog_4 rfl rfl ?_
  refine x_gets (n' := 8) dX21_lacksInFog_5 (List.mem_of_getElem? (i := 1) rfl) q1077 rfl ?_
  refine x_iconst (n' := 9) (v := 1) dX21_lacksInFog_8 (by decide) rfl ?_
  refine x_iconst (n' := 10) (v := 0) dX21_lacksInFog_9 (by decide) rfl ?_
  refine x_iconst (n' := 11) (v := 0) dX21_lacksInFog_10 (by decide) rfl ?_
  refine x_callI (n' := 14) (ret := none) (n := 4) (c_X7_init l G _ sg (G.2.2.2 1) True False False (by repeat' (first | with_reducible exact k_sg | with_reducible apply mK_A | with_reducible apply mK_I | with_reducible apply mK_L | with_reducible apply mK_R | with_reducible apply mK_O | with_reducible apply mK_G | with_reducible refine mK_NA ?_ (by assumption) | with_reducible refine mK_NO ?_ (by assumption) | with_reducible refine kE.ap hE_1 ?_))) dX21_lacksInFog_11 (lw_meth q260) q87 q1078 q259 rfl (by decide +kernel) ⟨(Nat.le_of_ble_eq_true rfl), (Nat.le_of_ble_eq_true rfl)⟩ rfl rfl (Nat.le_of_ble_eq_true rfl) (by first | exact Nat.le_of_ble_eq_true rfl | omega) (by first | exact Nat.le_of_ble_eq_true rfl | omega) rfl (fun v_2 M_3 h_5 hE_4 => ?_)
  obtain ⟨rfl, hMs⟩ := h_5
  have hMs := hMs.symm
  subst hMs
  refine x_callU (n' := 17) (n := 1) (K := 24) (x := ⟨"KeptLight$Great", "lacks", "(LKeptLight$Sight;)I"⟩) (owner := "KeptLight$Ship") ((c_X17_lacks__24 l G _ b sg 1 (bi True) (bi False) (bi False) (sgN_p hq_sg (by decide) hcn).1 (by repeat' (first | with_reducible exact hb | with_reducible apply mK_A | with_reducible apply mK_I | with_reducible apply mK_L | with_reducible apply mK_R | with_reducible apply mK_O | with_reducible apply mK_G | with_reducible refine mK_NA ?_ (by assumption) | with_reducible refine mK_NO ?_ (by assumption) | with_reducible refine kE.ap hE_1 ?_ | with_reducible refine kE.ap hE_4 ?_))).to (lr_g (k := 7) (d := bi True) (lt := bi False) (sn := bi False) (w := nI 1) (by decide) (by decide))) dX21_lacksInFog_14 (by repeat' (first | with_reducible exact hb | with_reducible apply mK_A | with_reducible apply mK_I | with_reducible apply mK_L | with_reducible apply mK_R | with_reducible apply mK_O | with_reducible apply mK_G | with_reducible refine mK_NA ?_ (by assumption) | with_reducible refine mK_NO ?_ (by assumption) | with_reducible refine kE.ap hE_1 ?_ | with_reducible refine kE.ap hE_4 ?_)) rfl (lw_U5 q1079 q1080 q1084 q1012 q142 q1013) rfl (by decide +kernel) ⟨(Nat.le_of_ble_eq_true rfl), (Nat.le_of_ble_eq_true rfl)⟩ rfl rfl (Nat.le_of_ble_eq_true rfl) (by first | exact Nat.le_of_ble_eq_true rfl | omega) (by first | exact Nat.le_of_ble_eq_true rfl | omega) rfl (fun v_6 M_7 h_9 hE_8 => ?_)
  obtain ⟨rfl, hMs⟩ := h_9
  have hMs := hMs.symm
  subst hMs
  exact x_iret dX21_lacksInFog_17 hret (by repeat' (first | with_reducible exact kE.rf | with_reducible exact hE_1 | with_reducible exact hE_4 | with_reducible exact hE_8 | with_reducible apply kE_A | with_reducible apply kE_I | with_reducible apply kE_L | with_reducible apply kE_R | with_reducible apply kE_O | with_reducible apply kE_G | with_reducible refine kE.tr ?_ hE_1 | with_reducible refine kE.tr ?_ hE_4 | with_reducible refine kE.tr ?_ hE_8)) (⟨rfl, sgN_fr2 hq_sg⟩)

theorem ffX24_41_24 : FF "KeptLight$Mail" 41 24 2 "KeptLight$Mail" := ⟨by decide, by decide, q2077, Or.inr q2078⟩
set_option maxHeartbeats 800000 in
set_option maxRecDepth 100000 in
theorem c_X24_isWreck (l : Launch) (G : kG) (M : kM) (b : Nat) (hb : mK M b = some 24) : Kt l G yX24_isWreck cX24_isWreck 1 (some .int) 1 20 [.ref b] M (0) (0) (fun v M2 => v = some (.int (bi (mI M (fc 19 2) b = 2))) ∧ M2 = M) := by
  refine Kt.of (own := "KeptLight$Mail") (L := [some (.ref b)]) (by decide +kernel) rfl (Nat.le_of_ble_eq_true rfl) rfl ?_
  intro pp ee ss mm args below meth cd hmn hret
  refine x_aload_n (n' := 1) dX24_isWreck_0 rfl rfl rfl ?_
  refine x_getI (n' := 4) dX24_isWreck_1 (by repeat' (first | with_reducible exact hb | with_reducible apply mK_A | with_reducible apply mK_I | with_reducible apply mK_L | with_reducible apply mK_R | with_reducible apply mK_O | with_reducible apply mK_G | with_reducible refine mK_NA ?_ (by assumption) | with_reducible refine mK_NO ?_ (by assumption))) ffX24_41_24 rfl rfl ?_
  refine x_iconst (n' := 5) (v := 2) dX24_isWreck_4 (by decide) rfl ?_
  refine x_forkN (J := 13) (x_icmp_ne (n' := 8) (tgt := 12) dX24_isWreck_5 (by decide) rfl) (v1 := ?v1_f5_1) (v2 := ?v2_f5_1) (fun c_f5_1 j_f5_1 => ?b1_f5_1) (fun c_f5_1 j_f5_1 => ?b2_f5_1) ?k_f5_1
  case b1_f5_1 =>
    refine x_iconst (n' := 13) (v := 0) dX24_isWreck_12 (by decide) rfl ?_
    exact j_f5_1
  case b2_f5_1 =>
    refine x_iconst (n' := 9) (v := 1) dX24_isWreck_8 (by decide) rfl ?_
    refine x_goto (tgt := 13) dX24_isWreck_9 (by decide) ?_
    exact j_f5_1
  refine x_topv (y := bi (mI M (fc 19 2) b = 2)) (by exact sg_f Iff.rfl) ?_
  refine x_callSN (n' := 16) (n := 1) (c_X0_one l G _ _) dX24_isWreck_13 (lw_meth q1032) q1042 q77 q1031 (by decide +kernel) ⟨(Nat.le_of_ble_eq_true rfl), (Nat.le_of_ble_eq_true rfl)⟩ rfl rfl (Nat.le_of_ble_eq_true rfl) (by first | exact Nat.le_of_ble_eq_true rfl | omega) (by first | exact Nat.le_of_ble_eq_true rfl | omega) rfl (fun v_2 M_3 h_5 hE_4 => ?_)
  obtain ⟨rfl, hMs⟩ := h_5
  have hMs := hMs.symm
  subst hMs
  rw [bi_if]
  exact x_iret dX24_isWreck_16 hret (by repeat' (first | with_reducible exact kE.rf | with_reducible exact hE_4 | with_reducible apply kE_A | with_reducible apply kE_I | with_reducible apply kE_L | with_reducible apply kE_R | with_reducible apply kE_O | with_reducible apply kE_G | with_reducible refine kE.tr ?_ hE_4)) (⟨rfl, rfl⟩)
