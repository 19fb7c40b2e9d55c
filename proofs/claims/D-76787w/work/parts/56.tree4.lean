theorem KV.new {M M' : kM} {o t asd : Nat} {T : kT} (h : PT M o t asd T) (q : KV M T) (hF : Fr (fun _ => False) M M') {z e k v : Nat} {p : Option Nat} (hk : mK M k = some 4) (hz : z < BB) (hi : mI M (fc 4 0) k = nI z) : KV M' (adT T z e k v p) := by
  intro j a hj
  have g : ∀ b, mK M b = some 4 → mI M' (fc 4 0) b = mI M (fc 4 0) b := fun b hb => ((hF.1 b (by rw [hb]; exact fun e => by cases e)).2.2 id).1 _
  by_cases e1 : j = z
  · subst e1
    refine ⟨hz, ?_⟩
    show mI M' (fc 4 0) (va_up (tK T) j k j) = nI j
    rw [va_up_self, g k hk, hi]
  · have hj : tN T j = some a := (va_up_ne _ _ e1).symm.trans hj
    refine ⟨(q j a hj).1, ?_⟩
    show mI M' (fc 4 0) (va_up (tK T) z k j) = nI j
    rw [va_up_ne _ _ e1, g _ (h.kk hj)]
    exact (q j a hj).2
theorem PT.newS {M : kM} {o t asd : Nat} {T : kT} {lo hi : Nat → Nat} (h : PT M o t asd T) (w : WTT T lo hi) {z e q v i ai : Nat} (ho : o = 0 ∨ mK M (o - 1) ≠ none) (hz : tN T z = none) (hi' : tN T i = some ai)
    (he : mK M e = none) (hq : mK M q = some 4 ∧ mG M q = o ∧ q ≠ asd) (hv : mK M v = some 45) : PT (enM M e o q v (some ai)) o t asd (adT T z e q v (some i)) := by
  have a := h.new (p := some i) w ho hz (fun j hj => by cases hj; exact nns hi') he hq hv
  rw [show (some i).bind (tN T) = some ai from hi'] at a
  exact a
theorem ffJ48_9_88 : FF "java/util/TreeMap$Entry" 9 88 5 "java/util/TreeMap$Entry" := ⟨by decide, by decide, q2501, Or.inl rfl⟩
theorem ffJ48_15_88 : FF "java/util/TreeMap$Entry" 15 88 0 "java/util/TreeMap$Entry" := ⟨by decide, by decide, q2490, Or.inl rfl⟩
theorem ffJ48_19_88 : FF "java/util/TreeMap$Entry" 19 88 1 "java/util/TreeMap$Entry" := ⟨by decide, by decide, q2492, Or.inl rfl⟩
theorem ffJ48_22_88 : FF "java/util/TreeMap$Entry" 22 88 4 "java/util/TreeMap$Entry" := ⟨by decide, by decide, q2499, Or.inl rfl⟩
set_option maxHeartbeats 800000 in
set_option maxRecDepth 100000 in
theorem c_J48_init__n (l : Launch) (G : kG) (M : kM) (e q v0 : Nat) (he : mK M e = some 88) : Kt l G yJ48_init cJ48_init 4 none 1 20 [.ref e, .ref q, .ref v0, .null] M (0) (0) (fun v M2 => v = none ∧ M2 = sR (sR (sR (sI M (fc 88 5) e 1) (fc 88 0) e (some q)) (fc 88 1) e (some v0)) (fc 88 4) e none) := by
  refine Kt.of (own := "java/util/TreeMap$Entry") (L := [some (.ref e), some (.ref q), some (.ref v0), some (.null)]) (by decide +kernel) rfl (Nat.le_of_ble_eq_true rfl) rfl ?_
  intro pp ee ss mm args below meth cd hmn hret
  refine x_aload_n (n' := 1) dJ48_init_0 rfl rfl rfl ?_
  refine x_objInit (n' := 4) dJ48_init_1 q2489 ⟨(Nat.le_of_ble_eq_true rfl), (Nat.le_of_ble_eq_true rfl)⟩ (Nat.le_of_ble_eq_true rfl) rfl ?_
  refine x_aload_n (n' := 5) dJ48_init_4 rfl rfl rfl ?_
  refine x_iconst (n' := 6) (v := 1) dJ48_init_5 (by decide) rfl ?_
  refine x_putI (n' := 9) dJ48_init_6 (by repeat' (first | with_reducible exact he | with_reducible apply mK_A | with_reducible apply mK_I | with_reducible apply mK_L | with_reducible apply mK_R | with_reducible apply mK_O | with_reducible apply mK_G | with_reducible refine mK_NA ?_ (by assumption) | with_reducible refine mK_NO ?_ (by assumption))) ffJ48_9_88 rfl (k_bool (Or.inr rfl)) rfl rfl ?_
  refine x_aload_n (n' := 10) dJ48_init_9 rfl rfl rfl ?_
  refine x_aload_n (n' := 11) dJ48_init_10 rfl rfl rfl ?_
  refine x_putR (n' := 14) (v := some (q)) dJ48_init_11 (by repeat' (first | with_reducible exact he | with_reducible apply mK_A | with_reducible apply mK_I | with_reducible apply mK_L | with_reducible apply mK_R | with_reducible apply mK_O | with_reducible apply mK_G | with_reducible refine mK_NA ?_ (by assumption) | with_reducible refine mK_NO ?_ (by assumption))) ffJ48_15_88 rfl rfl rfl ?_
  refine x_aload_n (n' := 15) dJ48_init_14 rfl rfl rfl ?_
  refine x_aload_n (n' := 16) dJ48_init_15 rfl rfl rfl ?_
  refine x_putR (n' := 19) (v := some (v0)) dJ48_init_16 (by repeat' (first | with_reducible exact he | with_reducible apply mK_A | with_reducible apply mK_I | with_reducible apply mK_L | with_reducible apply mK_R | with_reducible apply mK_O | with_reducible apply mK_G | with_reducible refine mK_NA ?_ (by assumption) | with_reducible refine mK_NO ?_ (by assumption))) ffJ48_19_88 rfl rfl rfl ?_
  refine x_aload_n (n' := 20) dJ48_init_19 rfl rfl rfl ?_
  refine x_aload_nN (n' := 21) dJ48_init_20 rfl rfl rfl ?_
  refine x_putR (n' := 24) (v := none) dJ48_init_21 (by repeat' (first | with_reducible exact he | with_reducible apply mK_A | with_reducible apply mK_I | with_reducible apply mK_L | with_reducible apply mK_R | with_reducible apply mK_O | with_reducible apply mK_G | with_reducible refine mK_NA ?_ (by assumption) | with_reducible refine mK_NO ?_ (by assumption))) ffJ48_22_88 rfl rfl rfl ?_
  exact x_vret dJ48_init_24 hret (by repeat' (first | with_reducible exact kE.rf | with_reducible apply kE_A | with_reducible apply kE_I | with_reducible apply kE_L | with_reducible apply kE_R | with_reducible apply kE_O | with_reducible apply kE_G)) (⟨rfl, rfl⟩)

set_option maxHeartbeats 800000 in
set_option maxRecDepth 100000 in
theorem c_J48_init__s (l : Launch) (G : kG) (M : kM) (e q v0 : Nat) (pa : Nat) (he : mK M e = some 88) : Kt l G yJ48_init cJ48_init 4 none 1 20 [.ref e, .ref q, .ref v0, .ref pa] M (0) (0) (fun v M2 => v = none ∧ M2 = sR (sR (sR (sI M (fc 88 5) e 1) (fc 88 0) e (some q)) (fc 88 1) e (some v0)) (fc 88 4) e (some pa)) := by
  refine Kt.of (own := "java/util/TreeMap$Entry") (L := [some (.ref e), some (.ref q), some (.ref v0), some (.ref pa)]) (by decide +kernel) rfl (Nat.le_of_ble_eq_true rfl) rfl ?_
  intro pp ee ss mm args below meth cd hmn hret
  refine x_aload_n (n' := 1) dJ48_init_0 rfl rfl rfl ?_
  refine x_objInit (n' := 4) dJ48_init_1 q2489 ⟨(Nat.le_of_ble_eq_true rfl), (Nat.le_of_ble_eq_true rfl)⟩ (Nat.le_of_ble_eq_true rfl) rfl ?_
  refine x_aload_n (n' := 5) dJ48_init_4 rfl rfl rfl ?_
  refine x_iconst (n' := 6) (v := 1) dJ48_init_5 (by decide) rfl ?_
  refine x_putI (n' := 9) dJ48_init_6 (by repeat' (first | with_reducible exact he | with_reducible apply mK_A | with_reducible apply mK_I | with_reducible apply mK_L | with_reducible apply mK_R | with_reducible apply mK_O | with_reducible apply mK_G | with_reducible refine mK_NA ?_ (by assumption) | with_reducible refine mK_NO ?_ (by assumption))) ffJ48_9_88 rfl (k_bool (Or.inr rfl)) rfl rfl ?_
  refine x_aload_n (n' := 10) dJ48_init_9 rfl rfl rfl ?_
  refine x_aload_n (n' := 11) dJ48_init_10 rfl rfl rfl ?_
  refine x_putR (n' := 14) (v := some (q)) dJ48_init_11 (by repeat' (first | with_reducible exact he | with_reducible apply mK_A | with_reducible apply mK_I | with_reducible apply mK_L | with_reducible apply mK_R | with_reducible apply mK_O | with_reducible apply mK_G | with_reducible refine mK_NA ?_ (by assumption) | with_reducible refine mK_NO ?_ (by assumption))) ffJ48_15_88 rfl rfl rfl ?_
  refine x_aload_n (n' := 15) dJ48_init_14 rfl rfl rfl ?_
  refine x_aload_n (n' := 16) dJ48_init_15 rfl rfl rfl ?_
  refine x_putR (n' := 19) (v := some (v0)) dJ48_init_16 (by repeat' (first | with_reducible exact he | with_reducible apply mK_A | with_reducible apply mK_I | with_reducible apply mK_L | with_reducible apply mK_R | with_reducible apply mK_O | with_reducible apply mK_G | with_reducible refine mK_NA ?_ (by assumption) | with_reducible refine mK_NO ?_ (by assumption))) ffJ48_19_88 rfl rfl rfl ?_
  refine x_aload_n (n' := 20) dJ48_init_19 rfl rfl rfl ?_
  refine x_aload_n (n' := 21) dJ48_init_20 rfl rfl rfl ?_
  refine x_putR (n' := 24) (v := some (pa)) dJ48_init_21 (by repeat' (first | with_reducible exact he | with_reducible apply mK_A | with_reducible apply mK_I | with_reducible apply mK_L | with_reducible apply mK_R | with_reducible apply mK_O | with_reducible apply mK_G | with_reducible refine mK_NA ?_ (by assumption) | with_reducible refine mK_NO ?_ (by assumption))) ffJ48_22_88 rfl rfl rfl ?_
  exact x_vret dJ48_init_24 hret (by repeat' (first | with_reducible exact kE.rf | with_reducible apply kE_A | with_reducible apply kE_I | with_reducible apply kE_L | with_reducible apply kE_R | with_reducible apply kE_O | with_reducible apply kE_G)) (⟨rfl, rfl⟩)

set_option maxHeartbeats 800000 in
set_option maxRecDepth 100000 in
theorem c_J1_addEntry (l : Launch) (G : kG) (M : kM) (o t asd : Nat) (T : kT) (i ai z q v0 : Nat) (lf : Prop) [Decidable lf] (lo hi : Nat → Nat) (hP : PT M o t asd T) (hW : WTT T lo hi) (hi9 : tN T i = some ai) (hsl : (lf ∧ tL T i = none ∧ lo i ≤ z ∧ z < i) ∨ (¬ lf ∧ tR T i = none ∧ i < z ∧ z < hi i)) (hV : KV M T) (hz : tN T z = none) (hq : mK M q = some 4 ∧ mG M q = o ∧ q ≠ asd) (hzB : z < BB) (hzi : mI M (fc 4 0) q = nI z) (hv : mK M v0 = some 45) (ho : o = 0 ∨ mK M (o - 1) ≠ none) : Kt l G yJ1_addEntry cJ1_addEntry 6 none 2 44 [.ref t, .ref q, .ref v0, .ref ai, .int (bi lf)] M (1) (6) (fun v M2 => v = none ∧ ∃ e T2, TM M2 o t asd T2 ∧ tN T2 = va_up (tN T) z (some e) ∧ tK T2 = va_up (tK T) z q ∧ tV T2 = va_up (tV T) z v0 ∧ Fr (fun x => x = o) M M2) := by
  refine Kt.of (own := "java/util/TreeMap") (L := [some (.ref t), some (.ref q), some (.ref v0), some (.ref ai), some (.int (bi lf)), none]) (by decide +kernel) rfl (Nat.le_of_ble_eq_true rfl) rfl ?_
  intro pp ee ss mm args below meth cd hmn hret
  refine x_new (n' := 3) (K := 88) dJ1_addEntry_0 (by decide) q2484 q2485 q153 (by first | exact Nat.le_of_ble_eq_true rfl | omega) (by first | exact Nat.le_of_ble_eq_true rfl | omega | (show 6 ≤ _; omega)) rfl (fun e hq_e hB_e => ?_)
  have hE_1 := kE_nO (K := 88) hq_e
  have k_e := mK_nO_of hE_1
  refine x_ghost e o ?_
  refine x_dup (n' := 4) dJ1_addEntry_3 rfl rfl ?_
  refine x_aload_n (n' := 5) dJ1_addEntry_4 rfl rfl rfl ?_
  refine x_aload_n (n' := 6) dJ1_addEntry_5 rfl rfl rfl ?_
  refine x_aload_n (n' := 7) dJ1_addEntry_6 rfl rfl rfl ?_
  refine x_callI (n' := 10) (ret := none) (n := 3) (c_J48_init__s l G _ e q v0 ai (by repeat' (first | with_reducible exact k_e | with_reducible apply mK_A | with_reducible apply mK_I | with_reducible apply mK_L | with_reducible apply mK_R | with_reducible apply mK_O | with_reducible apply mK_G | with_reducible refine mK_NA ?_ (by assumption) | with_reducible refine mK_NO ?_ (by assumption) | with_reducible refine kE.ap hE_1 ?_))) dJ1_addEntry_7 (lw_meth q2488) q153 q2486 q2487 rfl (by decide +kernel) ⟨(Nat.le_of_ble_eq_true rfl), (Nat.le_of_ble_eq_true rfl)⟩ rfl rfl (Nat.le_of_ble_eq_true rfl) (by first | exact Nat.le_of_ble_eq_true rfl | omega) (by first | exact Nat.le_of_ble_eq_true rfl | omega) rfl (fun v_2 M_3 h_5 hE_4 => ?_)
  obtain ⟨rfl, hMs⟩ := h_5
  have hMs := hMs.symm
  subst hMs
  refine x_gen (X := fun M9 => PT M9 o t asd (adT T z e q v0 (some i)) ∧ KV M9 (adT T z e q v0 (some i)) ∧ Fr (fun x => x = o) M M9) ⟨hP.newS hW ho hz hi9 hq_e hq hv, KV.new hP hV (enM_fr hq_e (ho.elim Or.inl (fun q => Or.inr (Or.inr q)))) hq.1 hzB hzi, enM_fr hq_e (ho.elim Or.inl (fun q => Or.inr (Or.inr q)))⟩ (fun M_6 hM9 => ?_)
  have hP0 := hP
  obtain ⟨hP, hV, hF⟩ := hM9
  have hz9 : tN (adT T z e q v0 (some i)) z = some e := va_up_self _ _ _
  have hi8 : tN (adT T z e q v0 (some i)) i = some ai := (va_up_ne _ _ (fun e9 => by rw [e9, hz] at hi9; cases hi9)).trans hi9
  refine x_astore (n' := 12) dJ1_addEntry_10 (Nat.le_of_ble_eq_true rfl) rfl (by dsimp only [List.set] <;> rfl) rfl ?_
  refine x_iload (n' := 14) dJ1_addEntry_12 rfl rfl ?_
  refine x_if_eq (n' := 17) (tgt := 26) dJ1_addEntry_14 (by decide) rfl (fun c14_7 => ?_) (fun c14_7 => ?_)
  · refine x_aload_n (n' := 27) dJ1_addEntry_26 rfl rfl rfl ?_
    refine x_aload (n' := 29) dJ1_addEntry_27 rfl rfl ?_
    refine x_putR (n' := 32) (v := some (e)) dJ1_addEntry_29 (hP.nk hi8) ffJ1_114_88 rfl rfl rfl ?_
    have hsl9 := hsl.resolve_left (fun q9 => absurd q9.1 (bi_0.mp (by assumption)))
    refine x_gen (X := fun M9 => PT M9 o t asd (tsR (adT T z e q v0 (some i)) i (some z)) ∧ KV M9 (tsR (adT T z e q v0 (some i)) i (some z)) ∧ Fr (fun x => x = o) M M9) ⟨hP.wR hi8 hz9.symm, hV.wR, hF.R (Or.inr (hP0.ng hi9))⟩ (fun M_8 hM9 => ?_)
    obtain ⟨hP, hV, hF⟩ := hM9
    have hW := adT_WR (e := e) (q := q) (v := v0) hW hi9 hsl9.2.1 hsl9.2.2.1 hsl9.2.2.2
    refine x_aload_n (n' := 33) dJ1_addEntry_32 rfl rfl rfl ?_
    refine x_aload (n' := 35) dJ1_addEntry_33 rfl rfl ?_
    refine x_callV (n' := 38) (n := 1) (K := 41) (c_J1_fixAfterInsertion l G _ o t asd (tsR (adT T z e q v0 (some i)) i (some z)) z e _ _ hP hW hz9) dJ1_addEntry_35 (hP.k) rfl (lw_V q2520 q2522 qs29 q81 q2523) (by decide +kernel) ⟨(Nat.le_of_ble_eq_true rfl), (Nat.le_of_ble_eq_true rfl)⟩ rfl rfl (Nat.le_of_ble_eq_true rfl) (by first | exact Nat.le_of_ble_eq_true rfl | omega) (by first | exact Nat.le_of_ble_eq_true rfl | omega) rfl (fun v_9 M_10 h_12 hE_11 => ?_)
    obtain ⟨rfl, T3, lo3, hi3, hP, hW3, hN, hF9⟩ := h_12
    have hV := (hF9.kv hV).cg hN.1 hN.2.1
    have hF := hF.tr hF9.1
    refine x_aload_n (n' := 39) dJ1_addEntry_38 rfl rfl rfl ?_
    refine x_dup (n' := 40) dJ1_addEntry_39 rfl rfl ?_
    refine x_getI (n' := 43) dJ1_addEntry_40 (hP.k) ffJ1_7_41 rfl rfl ?_
    refine x_iconst (n' := 44) (v := 1) dJ1_addEntry_43 (by decide) rfl ?_
    refine x_iadd (n' := 45) dJ1_addEntry_44 rfl ?_
    refine x_putI (n' := 48) dJ1_addEntry_45 (hP.k) ffJ1_7_41 rfl (⟨rfl, rfl⟩) rfl rfl ?_
    refine x_aload_n (n' := 49) dJ1_addEntry_48 rfl rfl rfl ?_
    refine x_dup (n' := 50) dJ1_addEntry_49 rfl rfl ?_
    refine x_getI (n' := 53) dJ1_addEntry_50 (hP.k) ffJ1_13_41 rfl rfl ?_
    refine x_iconst (n' := 54) (v := 1) dJ1_addEntry_53 (by decide) rfl ?_
    refine x_iadd (n' := 55) dJ1_addEntry_54 rfl ?_
    refine x_putI (n' := 58) dJ1_addEntry_55 (hP.k) ffJ1_13_41 rfl (⟨rfl, rfl⟩) rfl rfl ?_
    exact x_vret dJ1_addEntry_58 hret hF.kE (⟨rfl, e, T3, ⟨(hP.wI (by decide)).wI (by decide), (hV.wI (by decide)).wI (by decide), _, _, hW3⟩, hN.1, hN.2.1, hN.2.2, (hF.I (Or.inr hP0.g)).I (Or.inr hP0.g)⟩)
  · refine x_aload_n (n' := 18) dJ1_addEntry_17 rfl rfl rfl ?_
    refine x_aload (n' := 20) dJ1_addEntry_18 rfl rfl ?_
    refine x_putR (n' := 23) (v := some (e)) dJ1_addEntry_20 (hP.nk hi8) ffJ1_111_88 rfl rfl rfl ?_
    have hsl9 := hsl.resolve_right (fun q9 => q9.1 (bi_n0 (by assumption)))
    refine x_gen (X := fun M9 => PT M9 o t asd (tsL (adT T z e q v0 (some i)) i (some z)) ∧ KV M9 (tsL (adT T z e q v0 (some i)) i (some z)) ∧ Fr (fun x => x = o) M M9) ⟨hP.wL hi8 hz9.symm, hV.wR, hF.R (Or.inr (hP0.ng hi9))⟩ (fun M_13 hM9 => ?_)
    obtain ⟨hP, hV, hF⟩ := hM9
    have hW := adT_WL (e := e) (q := q) (v := v0) hW hi9 hsl9.2.1 hsl9.2.2.1 hsl9.2.2.2
    refine x_goto (tgt := 32) dJ1_addEntry_23 (by decide) ?_
    refine x_aload_n (n' := 33) dJ1_addEntry_32 rfl rfl rfl ?_
    refine x_aload (n' := 35) dJ1_addEntry_33 rfl rfl ?_
    refine x_callV (n' := 38) (n := 1) (K := 41) (c_J1_fixAfterInsertion l G _ o t asd (tsL (adT T z e q v0 (some i)) i (some z)) z e _ _ hP hW hz9) dJ1_addEntry_35 (hP.k) rfl (lw_V q2520 q2522 qs29 q81 q2523) (by decide +kernel) ⟨(Nat.le_of_ble_eq_true rfl), (Nat.le_of_ble_eq_true rfl)⟩ rfl rfl (Nat.le_of_ble_eq_true rfl) (by first | exact Nat.le_of_ble_eq_true rfl | omega) (by first | exact Nat.le_of_ble_eq_true rfl | omega) rfl (fun v_14 M_15 h_17 hE_16 => ?_)
    obtain ⟨rfl, T3, lo3, hi3, hP, hW3, hN, hF9⟩ := h_17
    have hV := (hF9.kv hV).cg hN.1 hN.2.1
    have hF := hF.tr hF9.1
    refine x_aload_n (n' := 39) dJ1_addEntry_38 rfl rfl rfl ?_
    refine x_dup (n' := 40) dJ1_addEntry_39 rfl rfl ?_
    refine x_getI (n' := 43) dJ1_addEntry_40 (hP.k) ffJ1_7_41 rfl rfl ?_
    refine x_iconst (n' := 44) (v := 1) dJ1_addEntry_43 (by decide) rfl ?_
    refine x_iadd (n' := 45) dJ1_addEntry_44 rfl ?_
    refine x_putI (n' := 48) dJ1_addEntry_45 (hP.k) ffJ1_7_41 rfl (⟨rfl, rfl⟩) rfl rfl ?_
    refine x_aload_n (n' := 49) dJ1_addEntry_48 rfl rfl rfl ?_
    refine x_dup (n' := 50) dJ1_addEntry_49 rfl rfl ?_
    refine x_getI (n' := 53) dJ1_addEntry_50 (hP.k) ffJ1_13_41 rfl rfl ?_
    refine x_iconst (n' := 54) (v := 1) dJ1_addEntry_53 (by decide) rfl ?_
    refine x_iadd (n' := 55) dJ1_addEntry_54 rfl ?_
    refine x_putI (n' := 58) dJ1_addEntry_55 (hP.k) ffJ1_13_41 rfl (⟨rfl, rfl⟩) rfl rfl ?_
    exact x_vret dJ1_addEntry_58 hret hF.kE (⟨rfl, e, T3, ⟨(hP.wI (by decide)).wI (by decide), (hV.wI (by decide)).wI (by decide), _, _, hW3⟩, hN.1, hN.2.1, hN.2.2, (hF.I (Or.inr hP0.g)).I (Or.inr hP0.g)⟩)

set_option maxHeartbeats 800000 in
set_option maxRecDepth 100000 in
theorem c_J1_compare (l : Launch) (G : kG) (M : kM) (t q : Nat) (hk : mK M t = some 41) (hc : mR M (fc 41 2) t = none) (hq : mK M q = some 4) : Kt l G yJ1_compare cJ1_compare 3 (some .int) 2 42 [.ref t, .ref q, .ref q] M (0) (0) (fun v M2 => (∃ x, v = some (.int x)) ∧ M2 = M) := by
  refine Kt.of (own := "java/util/TreeMap") (L := [some (.ref t), some (.ref q), some (.ref q)]) (by decide +kernel) rfl (Nat.le_of_ble_eq_true rfl) rfl ?_
  intro pp ee ss mm args below meth cd hmn hret
  refine x_aload_n (n' := 1) dJ1_compare_0 rfl rfl rfl ?_
  refine x_getRn (n' := 4) dJ1_compare_1 (by repeat' (first | with_reducible exact hk | with_reducible apply mK_A | with_reducible apply mK_I | with_reducible apply mK_L | with_reducible apply mK_R | with_reducible apply mK_O | with_reducible apply mK_G | with_reducible refine mK_NA ?_ (by assumption) | with_reducible refine mK_NO ?_ (by assumption))) ffJ1_16_41 rfl hc rfl ?_
  refine x_ifnonnullN (n' := 7) dJ1_compare_4 rfl ?_
  refine x_aload_n (n' := 8) dJ1_compare_7 rfl rfl rfl ?_
  refine x_castY (n' := 11) (K := 4) dJ1_compare_8 (by repeat' (first | with_reducible exact hq | with_reducible apply mK_A | with_reducible apply mK_I | with_reducible apply mK_L | with_reducible apply mK_R | with_reducible apply mK_O | with_reducible apply mK_G | with_reducible refine mK_NA ?_ (by assumption) | with_reducible refine mK_NO ?_ (by assumption))) q2211 q2216 rfl ?_
  refine x_aload_n (n' := 12) dJ1_compare_11 rfl rfl rfl ?_
  refine x_callF (n' := 17) (n := 1) (K := 4) (x := ⟨"java/lang/Comparable", "compareTo", "(Ljava/lang/Object;)I"⟩) (c_X4_compareTo l G _ q q hq hq) dJ1_compare_12 (by repeat' (first | with_reducible exact hq | with_reducible apply mK_A | with_reducible apply mK_I | with_reducible apply mK_L | with_reducible apply mK_R | with_reducible apply mK_O | with_reducible apply mK_G | with_reducible refine mK_NA ?_ (by assumption) | with_reducible refine mK_NO ?_ (by assumption))) (by decide) rfl (lw_F4 q2213 q2217 q2219 q83 q2221) ⟨q2215, q2214, q2220, q2218, q2216, by decide +kernel⟩ (by decide +kernel) ⟨(Nat.le_of_ble_eq_true rfl), (Nat.le_of_ble_eq_true rfl)⟩ rfl rfl (Nat.le_of_ble_eq_true rfl) (by first | exact Nat.le_of_ble_eq_true rfl | omega) (by first | exact Nat.le_of_ble_eq_true rfl | omega) rfl (fun v_1 M_2 h_4 hE_3 => ?_)
  obtain ⟨rfl, hMs⟩ := h_4
  have hMs := hMs.symm
  subst hMs
  refine x_goto (tgt := 31) dJ1_compare_17 (by decide) ?_
  exact x_iret dJ1_compare_31 hret (by repeat' (first | with_reducible exact kE.rf | with_reducible exact hE_3 | with_reducible apply kE_A | with_reducible apply kE_I | with_reducible apply kE_L | with_reducible apply kE_R | with_reducible apply kE_O | with_reducible apply kE_G | with_reducible refine kE.tr ?_ hE_3)) (⟨⟨_, rfl⟩, rfl⟩)

set_option maxHeartbeats 800000 in
set_option maxRecDepth 100000 in
theorem c_J1_addEntryToEmptyMap (l : Launch) (G : kG) (M : kM) (o t asd : Nat) (T : kT) (z q v0 : Nat) (lo hi : Nat → Nat) (hP : PT M o t asd T) (hW : WTT T lo hi) (hr : tr T = none) (hV : KV M T) (hz : tN T z = none) (hq : mK M q = some 4 ∧ mG M q = o ∧ q ≠ asd) (hzB : z < BB) (hzi : mI M (fc 4 0) q = nI z) (hv : mK M v0 = some 45) (ho : o = 0 ∨ mK M (o - 1) ≠ none) : Kt l G yJ1_addEntryToEmptyMap cJ1_addEntryToEmptyMap 3 none 3 64 [.ref t, .ref q, .ref v0] M (1) (6) (fun v M2 => v = none ∧ ∃ e T2, TM M2 o t asd T2 ∧ tN T2 = va_up (tN T) z (some e) ∧ tK T2 = va_up (tK T) z q ∧ tV T2 = va_up (tV T) z v0 ∧ Fr (fun x => x = o) M M2) := by
  refine Kt.of (own := "java/util/TreeMap") (L := [some (.ref t), some (.ref q), some (.ref v0)]) (by decide +kernel) rfl (Nat.le_of_ble_eq_true rfl) rfl ?_
  intro pp ee ss mm args below meth cd hmn hret
  refine x_aload_n (n' := 1) dJ1_addEntryToEmptyMap_0 rfl rfl rfl ?_
  refine x_aload_n (n' := 2) dJ1_addEntryToEmptyMap_1 rfl rfl rfl ?_
  refine x_aload_n (n' := 3) dJ1_addEntryToEmptyMap_2 rfl rfl rfl ?_
  refine x_callV (n' := 6) (n := 2) (K := 41) (c_J1_compare l G _ t q hP.k hP.c hq.1) dJ1_addEntryToEmptyMap_3 (hP.k) rfl (lw_V q2480 q2481 q2482 q81 q2483) (by decide +kernel) ⟨(Nat.le_of_ble_eq_true rfl), (Nat.le_of_ble_eq_true rfl)⟩ rfl rfl (Nat.le_of_ble_eq_true rfl) (by first | exact Nat.le_of_ble_eq_true rfl | omega) (by first | exact Nat.le_of_ble_eq_true rfl | omega) rfl (fun v_1 M_2 h_4 hE_3 => ?_)
  obtain ⟨⟨x3, rfl⟩, hMs⟩ := h_4
  have hMs := hMs.symm
  subst hMs
  refine x_pop (n' := 7) dJ1_addEntryToEmptyMap_6 rfl rfl ?_
  refine x_aload_n (n' := 8) dJ1_addEntryToEmptyMap_7 rfl rfl rfl ?_
  refine x_new (n' := 11) (K := 88) dJ1_addEntryToEmptyMap_8 (by decide) q2484 q2485 q153 (by first | exact Nat.le_of_ble_eq_true rfl | omega) (by first | exact Nat.le_of_ble_eq_true rfl | omega | (show 6 ≤ _; omega)) rfl (fun e hq_e hB_e => ?_)
  have hE_5 := kE_nO (K := 88) hq_e
  have k_e := mK_nO_of hE_5
  refine x_ghost e o ?_
  refine x_dup (n' := 12) dJ1_addEntryToEmptyMap_11 rfl rfl ?_
  refine x_aload_n (n' := 13) dJ1_addEntryToEmptyMap_12 rfl rfl rfl ?_
  refine x_aload_n (n' := 14) dJ1_addEntryToEmptyMap_13 rfl rfl rfl ?_
  refine x_null (n' := 15) dJ1_addEntryToEmptyMap_14 rfl ?_
  refine x_callI (n' := 18) (ret := none) (n := 3) (c_J48_init__n l G _ e q v0 (by repeat' (first | with_reducible exact k_e | with_reducible apply mK_A | with_reducible apply mK_I | with_reducible apply mK_L | with_reducible apply mK_R | with_reducible apply mK_O | with_reducible apply mK_G | with_reducible refine mK_NA ?_ (by assumption) | with_reducible refine mK_NO ?_ (by assumption) | with_reducible refine kE.ap hE_3 ?_ | with_reducible refine kE.ap hE_5 ?_))) dJ1_addEntryToEmptyMap_15 (lw_meth q2488) q153 q2486 q2487 rfl (by decide +kernel) ⟨(Nat.le_of_ble_eq_true rfl), (Nat.le_of_ble_eq_true rfl)⟩ rfl rfl (Nat.le_of_ble_eq_true rfl) (by first | exact Nat.le_of_ble_eq_true rfl | omega) (by first | exact Nat.le_of_ble_eq_true rfl | omega) rfl (fun v_6 M_7 h_9 hE_8 => ?_)
  obtain ⟨rfl, hMs⟩ := h_9
  have hMs := hMs.symm
  subst hMs
  refine x_gen (X := fun M9 => PT M9 o t asd (adT T z e q v0 none) ∧ KV M9 (adT T z e q v0 none) ∧ Fr (fun x => x = o) M M9) ⟨hP.new (p := none) hW ho hz (fun j hj => by cases hj) hq_e hq hv, KV.new hP hV (enM_fr hq_e (ho.elim Or.inl (fun q => Or.inr (Or.inr q)))) hq.1 hzB hzi, enM_fr hq_e (ho.elim Or.inl (fun q => Or.inr (Or.inr q)))⟩ (fun M_10 hM9 => ?_)
  have hP0 := hP
  obtain ⟨hP, hV, hF⟩ := hM9
  have hz9 : tN (adT T z e q v0 none) z = some e := va_up_self _ _ _
  refine x_putR (n' := 21) (v := some (e)) dJ1_addEntryToEmptyMap_18 (hP.k) ffJ1_101_41 rfl rfl rfl ?_
  refine x_gen (X := fun M9 => PT M9 o t asd (tsr (adT T z e q v0 none) (some z)) ∧ KV M9 (tsr (adT T z e q v0 none) (some z)) ∧ Fr (fun x => x = o) M M9) ⟨hP.wt hz9.symm, hV.wR, hF.R (Or.inr hP0.g)⟩ (fun M_11 hM9 => ?_)
  obtain ⟨hP, hV, hF⟩ := hM9
  have hW := adT_W1 (z := z) (e := e) (q := q) (v := v0) hW hr hzB
  refine x_aload_n (n' := 22) dJ1_addEntryToEmptyMap_21 rfl rfl rfl ?_
  refine x_iconst (n' := 23) (v := 1) dJ1_addEntryToEmptyMap_22 (by decide) rfl ?_
  refine x_putI (n' := 26) dJ1_addEntryToEmptyMap_23 (hP.k) ffJ1_7_41 rfl (⟨rfl, rfl⟩) rfl rfl ?_
  refine x_aload_n (n' := 27) dJ1_addEntryToEmptyMap_26 rfl rfl rfl ?_
  refine x_dup (n' := 28) dJ1_addEntryToEmptyMap_27 rfl rfl ?_
  refine x_getI (n' := 31) dJ1_addEntryToEmptyMap_28 (hP.k) ffJ1_13_41 rfl rfl ?_
  refine x_iconst (n' := 32) (v := 1) dJ1_addEntryToEmptyMap_31 (by decide) rfl ?_
  refine x_iadd (n' := 33) dJ1_addEntryToEmptyMap_32 rfl ?_
  refine x_putI (n' := 36) dJ1_addEntryToEmptyMap_33 (hP.k) ffJ1_13_41 rfl (⟨rfl, rfl⟩) rfl rfl ?_
  exact x_vret dJ1_addEntryToEmptyMap_36 hret hF.kE (⟨rfl, e, _, ⟨(hP.wI (by decide)).wI (by decide), (hV.wI (by decide)).wI (by decide), _, _, hW⟩, rfl, rfl, rfl, (hF.I (Or.inr hP0.g)).I (Or.inr hP0.g)⟩)

set_option maxHeartbeats 800000 in
set_option maxRecDepth 100000 in
theorem c_J1_put_2 (l : Launch) (G : kG) (M : kM) (o t asd : Nat) (T : kT) (z q v0 : Nat) (hT : TM M o t asd T) (hz : tN T z = none) (hq : mK M q = some 4 ∧ mG M q = o ∧ q ≠ asd) (hzB : z < BB) (hzi : mI M (fc 4 0) q = nI z) (hv : mK M v0 = some 45) (ho : o = 0 ∨ mK M (o - 1) ≠ none) : Kt l G yJ1_put_2 cJ1_put_2 10 (some (.object "java/lang/Object")) 4 86 [.ref t, .ref q, .ref v0, .int 1] M (1) (6) (fun v M2 => v = some .null ∧ ∃ e T2, TM M2 o t asd T2 ∧ tN T2 = va_up (tN T) z (some e) ∧ tK T2 = va_up (tK T) z q ∧ tV T2 = va_up (tV T) z v0 ∧ Fr (fun x => x = o) M M2) := by
  refine Kt.of (own := "java/util/TreeMap") (L := [some (.ref t), some (.ref q), some (.ref v0), some (.int 1), none, none, none, none, none, none]) (by decide +kernel) rfl (Nat.le_of_ble_eq_true rfl) rfl ?_
  intro pp ee ss mm args below meth cd hmn hret
  obtain ⟨hP, hV, lo, hi, hW⟩ := hT
  have cut123 : ∀ (fuel : Nat) (k p : Nat) (h9 : hi k - lo k < fuel) (hk : tN T k = some p) (hi1 : lo k ≤ z) (hi2 : z < hi k), Wx pp l ee { frames := 4, cells := 1, slots := 6, locals := 86 } ss mm args below meth cd "java/util/TreeMap" cJ1_put_2 10 G (MQ below (KQ G M (fun v M2 => v = some .null ∧ ∃ e T2, TM M2 o t asd T2 ∧ tN T2 = va_up (tN T) z (some e) ∧ tK T2 = va_up (tK T) z q ∧ tV T2 = va_up (tV T) z v0 ∧ Fr (fun x => x = o) M M2)) args ss (1) (6) (kA G)) 123 [some (.ref t), some (.ref q), some (.ref v0), some (.int 1), some (.ref p), none, none, none, some (.ref q), none] [] (M) (1) (6) := by
    intro fuel
    induction fuel with
    | zero => intro k p h9 hk hi1 hi2; omega
    | succ fuel ih =>
      intro k p h9 hk hi1 hi2
      refine x_aload (n' := 125) dJ1_put_2_123 rfl rfl ?_
      refine x_astore (n' := 127) dJ1_put_2_125 (Nat.le_of_ble_eq_true rfl) rfl (by dsimp only [List.set] <;> rfl) rfl ?_
      refine x_aload (n' := 129) dJ1_put_2_127 rfl rfl ?_
      refine x_aload (n' := 131) dJ1_put_2_129 rfl rfl ?_
      refine x_getRs (n' := 134) (b := (tK T k)) dJ1_put_2_131 (hP.nk hk) ffJ1_105_88 rfl (hP.key hk) rfl ?_
      refine x_callF (n' := 139) (n := 1) (K := 4) (x := ⟨"java/lang/Comparable", "compareTo", "(Ljava/lang/Object;)I"⟩) (c_X4_compareTo l G _ q (tK T k) hq.1 (hP.kk hk)) dJ1_put_2_134 (hq.1) (by decide) rfl (lw_F4 q2213 q2217 q2219 q83 q2221) ⟨q2215, q2214, q2220, q2218, q2216, by decide +kernel⟩ (by decide +kernel) ⟨(Nat.le_of_ble_eq_true rfl), (Nat.le_of_ble_eq_true rfl)⟩ rfl rfl (Nat.le_of_ble_eq_true rfl) (by first | exact Nat.le_of_ble_eq_true rfl | omega) (by first | exact Nat.le_of_ble_eq_true rfl | omega) rfl (fun v_1 M_2 h_4 hE_3 => ?_)
      obtain ⟨rfl, hMs⟩ := h_4
      have hMs := hMs.symm
      subst hMs
      rw [hzi, (hV k p hk).2]
      have hlt : (¬ (0 : Int32) ≤ nI z - nI k) ↔ z < k := Iff.trans (by rw [Int32.not_le]) (cmp_lt hzB (hV k p hk).1)
      have hgt : (0 : Int32) ≤ nI z - nI k → ¬ nI z - nI k ≤ 0 → k < z := fun q => cmp_ge (hV k p hk).1 hzB (Int32.not_lt.mpr q)
      have heq : (0 : Int32) ≤ nI z - nI k → nI z - nI k ≤ 0 → z = k := fun q => cmp_eq (hV k p hk).1 hzB (Int32.not_lt.mpr q)
      refine x_istore (n' := 141) dJ1_put_2_139 (Nat.le_of_ble_eq_true rfl) rfl (by dsimp only [List.set] <;> rfl) rfl ?_
      refine x_iload (n' := 143) dJ1_put_2_141 rfl rfl ?_
      refine x_if_ge (n' := 146) (tgt := 156) dJ1_put_2_143 (by decide) rfl (fun c143_5 => ?_) (fun c143_5 => ?_)
      · refine x_iload (n' := 158) dJ1_put_2_156 rfl rfl ?_
        refine x_if_le (n' := 161) (tgt := 171) dJ1_put_2_158 (by decide) rfl (fun c158_6 => (by have e9 := heq (by assumption) c158_6; rw [e9, hk] at hz; cases hz)) (fun c158_6 => ?_)
        refine x_aload (n' := 163) dJ1_put_2_161 rfl rfl ?_
        refine x_getRc (n' := 166) dJ1_put_2_163 (hP.nk hk) ffJ1_114_88 rfl rfl (fun e163_7 => ?_) (fun pr e163_7 => ?_)
        · refine x_astoreN (n' := 168) dJ1_put_2_166 (Nat.le_of_ble_eq_true rfl) rfl (by dsimp only [List.set] <;> rfl) rfl ?_
          refine x_goto (tgt := 196) dJ1_put_2_168 (by decide) ?_
          refine x_aloadN (n' := 198) dJ1_put_2_196 rfl rfl ?_
          refine x_ifnonnullN (n' := 201) dJ1_put_2_198 rfl ?_
          refine x_aload_n (n' := 202) dJ1_put_2_201 rfl rfl rfl ?_
          refine x_aload_n (n' := 203) dJ1_put_2_202 rfl rfl rfl ?_
          refine x_aload_n (n' := 204) dJ1_put_2_203 rfl rfl rfl ?_
          refine x_aload (n' := 206) dJ1_put_2_204 rfl rfl ?_
          refine x_iload (n' := 208) dJ1_put_2_206 rfl rfl ?_
          refine x_fork (J := 216) (x_if_ge (n' := 211) (tgt := 215) dJ1_put_2_208 (by decide) rfl) (v1 := ?v1_f208_8) (v2 := ?v2_f208_8) (fun c_f208_8 j_f208_8 => ?b1_f208_8) (fun c_f208_8 j_f208_8 => ?b2_f208_8) ?k_f208_8
          case b1_f208_8 =>
            refine x_iconst (n' := 216) (v := 0) dJ1_put_2_215 (by decide) rfl ?_
            exact j_f208_8
          case b2_f208_8 =>
            refine x_iconst (n' := 212) (v := 1) dJ1_put_2_211 (by decide) rfl ?_
            refine x_goto (tgt := 216) dJ1_put_2_212 (by decide) ?_
            exact j_f208_8
          refine x_topv (y := bi False) (by rw [if_pos (by assumption)]; rfl) ?_
          refine x_callV (n' := 219) (n := 4) (K := 41) (c_J1_addEntry l G _ o t asd T k p z q v0 False lo hi hP hW hk (Or.inr ⟨not_false, hP.rn hW hk (by assumption), hgt (by assumption) (by assumption), hi2⟩) hV hz hq hzB hzi hv ho) dJ1_put_2_216 (hP.k) rfl (lw_V q2516 q2518 qs28 q81 q2519) (by decide +kernel) ⟨(Nat.le_of_ble_eq_true rfl), (Nat.le_of_ble_eq_true rfl)⟩ rfl rfl (Nat.le_of_ble_eq_true rfl) (by first | exact Nat.le_of_ble_eq_true rfl | omega) (by first | exact Nat.le_of_ble_eq_true rfl | omega) rfl (fun v_9 M9 h_11 hE_10 => ?_)
          obtain ⟨rfl, hpost⟩ := h_11
          refine x_null (n' := 220) dJ1_put_2_219 rfl ?_
          exact x_aretN dJ1_put_2_220 hret (Or.inl ⟨_, rfl⟩) (by first | exact hE9 | assumption) (⟨rfl, hpost⟩)
        · have k_pr : mK _ pr = some 88 := (by obtain ⟨j, -, h⟩ := hP.rs hk e163_7; exact hP.nk h)
          refine x_astore (n' := 168) dJ1_put_2_166 (Nat.le_of_ble_eq_true rfl) rfl (by dsimp only [List.set] <;> rfl) rfl ?_
          refine x_goto (tgt := 196) dJ1_put_2_168 (by decide) ?_
          refine x_aload (n' := 198) dJ1_put_2_196 rfl rfl ?_
          refine x_ifnonnull (tgt := 123) dJ1_put_2_198 (by decide) ?_
          obtain ⟨j, hj1, hj2⟩ := hP.rs hk (by assumption)
          have h9 := hW.2.2.2.2.1 k j (nns hk) hj1
          have iv9 := hW.1 j (nns hj2)
          have ivk := hW.1 k (nns hk)
          have hz9 := hgt (by assumption) (by assumption)
          exact x_drop (ih j pr (by omega) hj2 (by omega) (by omega)) ⟨rfl, ⟨rfl, ⟨rfl, ⟨rfl, ⟨rfl, ⟨rfl, trivial⟩⟩⟩⟩⟩⟩
      · refine x_aload (n' := 148) dJ1_put_2_146 rfl rfl ?_
        refine x_getRc (n' := 151) dJ1_put_2_148 (hP.nk hk) ffJ1_111_88 rfl rfl (fun e148_12 => ?_) (fun pl e148_12 => ?_)
        · refine x_astoreN (n' := 153) dJ1_put_2_151 (Nat.le_of_ble_eq_true rfl) rfl (by dsimp only [List.set] <;> rfl) rfl ?_
          refine x_goto (tgt := 196) dJ1_put_2_153 (by decide) ?_
          refine x_aloadN (n' := 198) dJ1_put_2_196 rfl rfl ?_
          refine x_ifnonnullN (n' := 201) dJ1_put_2_198 rfl ?_
          refine x_aload_n (n' := 202) dJ1_put_2_201 rfl rfl rfl ?_
          refine x_aload_n (n' := 203) dJ1_put_2_202 rfl rfl rfl ?_
          refine x_aload_n (n' := 204) dJ1_put_2_203 rfl rfl rfl ?_
          refine x_aload (n' := 206) dJ1_put_2_204 rfl rfl ?_
          refine x_iload (n' := 208) dJ1_put_2_206 rfl rfl ?_
          refine x_fork (J := 216) (x_if_ge (n' := 211) (tgt := 215) dJ1_put_2_208 (by decide) rfl) (v1 := ?v1_f208_13) (v2 := ?v2_f208_13) (fun c_f208_13 j_f208_13 => ?b1_f208_13) (fun c_f208_13 j_f208_13 => ?b2_f208_13) ?k_f208_13
          case b1_f208_13 =>
            refine x_iconst (n' := 216) (v := 0) dJ1_put_2_215 (by decide) rfl ?_
            exact j_f208_13
          case b2_f208_13 =>
            refine x_iconst (n' := 212) (v := 1) dJ1_put_2_211 (by decide) rfl ?_
            refine x_goto (tgt := 216) dJ1_put_2_212 (by decide) ?_
            exact j_f208_13
          refine x_topv (y := bi True) (by rw [if_neg (by assumption)]; rfl) ?_
          refine x_callV (n' := 219) (n := 4) (K := 41) (c_J1_addEntry l G _ o t asd T k p z q v0 True lo hi hP hW hk (Or.inl ⟨trivial, hP.ln hW hk (by assumption), hi1, hlt.mp (by assumption)⟩) hV hz hq hzB hzi hv ho) dJ1_put_2_216 (hP.k) rfl (lw_V q2516 q2518 qs28 q81 q2519) (by decide +kernel) ⟨(Nat.le_of_ble_eq_true rfl), (Nat.le_of_ble_eq_true rfl)⟩ rfl rfl (Nat.le_of_ble_eq_true rfl) (by first | exact Nat.le_of_ble_eq_true rfl | omega) (by first | exact Nat.le_of_ble_eq_true rfl | omega) rfl (fun v_14 M9 h_16 hE_15 => ?_)
          obtain ⟨rfl, hpost⟩ := h_16
          refine x_null (n' := 220) dJ1_put_2_219 rfl ?_
          exact x_aretN dJ1_put_2_220 hret (Or.inl ⟨_, rfl⟩) (by first | exact hE9 | assumption) (⟨rfl, hpost⟩)
        · have k_pl : mK _ pl = some 88 := (by obtain ⟨j, -, h⟩ := hP.ls hk e148_12; exact hP.nk h)
          refine x_astore (n' := 153) dJ1_put_2_151 (Nat.le_of_ble_eq_true rfl) rfl (by dsimp only [List.set] <;> rfl) rfl ?_
          refine x_goto (tgt := 196) dJ1_put_2_153 (by decide) ?_
          refine x_aload (n' := 198) dJ1_put_2_196 rfl rfl ?_
          refine x_ifnonnull (tgt := 123) dJ1_put_2_198 (by decide) ?_
          obtain ⟨j, hj1, hj2⟩ := hP.ls hk (by assumption)
          have h9 := hW.2.2.1 k j (nns hk) hj1
          have iv9 := hW.1 j (nns hj2)
          have ivk := hW.1 k (nns hk)
          have hz9 := hlt.mp (by assumption)
          exact x_drop (ih j pl (by omega) hj2 (by omega) (by omega)) ⟨rfl, ⟨rfl, ⟨rfl, ⟨rfl, ⟨rfl, ⟨rfl, trivial⟩⟩⟩⟩⟩⟩
  refine x_aload_n (n' := 1) dJ1_put_2_0 rfl rfl rfl ?_
  refine x_getRc (n' := 4) dJ1_put_2_1 (hP.k) ffJ1_101_41 rfl rfl (fun e1_17 => ?_) (fun rt0 e1_17 => ?_)
  · refine x_astoreN (n' := 6) dJ1_put_2_4 (Nat.le_of_ble_eq_true rfl) rfl (by dsimp only [List.set] <;> rfl) rfl ?_
    refine x_aloadN (n' := 8) dJ1_put_2_6 rfl rfl ?_
    refine x_ifnonnullN (n' := 11) dJ1_put_2_8 rfl ?_
    refine x_aload_n (n' := 12) dJ1_put_2_11 rfl rfl rfl ?_
    refine x_aload_n (n' := 13) dJ1_put_2_12 rfl rfl rfl ?_
    refine x_aload_n (n' := 14) dJ1_put_2_13 rfl rfl rfl ?_
    refine x_callV (n' := 17) (n := 2) (K := 41) (c_J1_addEntryToEmptyMap l G _ o t asd T z q v0 lo hi hP hW (hP.tn hW (by assumption)) hV hz hq hzB hzi hv ho) dJ1_put_2_14 (hP.k) rfl (lw_V q2476 q2478 qs27 q81 q2479) (by decide +kernel) ⟨(Nat.le_of_ble_eq_true rfl), (Nat.le_of_ble_eq_true rfl)⟩ rfl rfl (Nat.le_of_ble_eq_true rfl) (by first | exact Nat.le_of_ble_eq_true rfl | omega) (by first | exact Nat.le_of_ble_eq_true rfl | omega) rfl (fun v_18 M9 h_20 hE_19 => ?_)
    obtain ⟨rfl, hpost⟩ := h_20
    refine x_null (n' := 18) dJ1_put_2_17 rfl ?_
    exact x_aretN dJ1_put_2_18 hret (Or.inl ⟨_, rfl⟩) (by first | exact hE9 | assumption) (⟨rfl, hpost⟩)
  · have k_rt0 : mK _ rt0 = some 88 := (by obtain ⟨j, -, h⟩ := hP.ts e1_17; exact hP.nk h)
    refine x_astore (n' := 6) dJ1_put_2_4 (Nat.le_of_ble_eq_true rfl) rfl (by dsimp only [List.set] <;> rfl) rfl ?_
    refine x_aload (n' := 8) dJ1_put_2_6 rfl rfl ?_
    refine x_ifnonnull (tgt := 19) dJ1_put_2_8 (by decide) ?_
    refine x_aload_n (n' := 20) dJ1_put_2_19 rfl rfl rfl ?_
    refine x_getRn (n' := 23) dJ1_put_2_20 (hP.k) ffJ1_16_41 rfl hP.c rfl ?_
    refine x_astoreN (n' := 25) dJ1_put_2_23 (Nat.le_of_ble_eq_true rfl) rfl (by dsimp only [List.set] <;> rfl) rfl ?_
    refine x_aloadN (n' := 27) dJ1_put_2_25 rfl rfl ?_
    refine x_ifnullN (tgt := 112) dJ1_put_2_27 (by decide) ?_
    refine x_aload_n (n' := 113) dJ1_put_2_112 rfl rfl rfl ?_
    refine x_callS (n' := 116) (n := 1) (c_J26_requireNonNull l G _ q) dJ1_put_2_113 (lw_S q2210 q1303 q115 q1304) (by decide +kernel) ⟨(Nat.le_of_ble_eq_true rfl), (Nat.le_of_ble_eq_true rfl)⟩ rfl rfl (Nat.le_of_ble_eq_true rfl) (by first | exact Nat.le_of_ble_eq_true rfl | omega) (by first | exact Nat.le_of_ble_eq_true rfl | omega) rfl (fun v_21 M_22 h_24 hE_23 => ?_)
    obtain ⟨rfl, hMs⟩ := h_24
    have hMs := hMs.symm
    subst hMs
    refine x_pop (n' := 117) dJ1_put_2_116 rfl rfl ?_
    refine x_aload_n (n' := 118) dJ1_put_2_117 rfl rfl rfl ?_
    refine x_castY (n' := 121) (K := 4) dJ1_put_2_118 (hq.1) q2211 q2216 rfl ?_
    refine x_astore (n' := 123) dJ1_put_2_121 (Nat.le_of_ble_eq_true rfl) rfl (by dsimp only [List.set] <;> rfl) rfl ?_
    obtain ⟨j, hj1, hj2⟩ := hP.ts (by assumption)
    have h9 := hW.2.2.2.2.2.2.2.2.1 j hj1
    have iv9 := hW.1 j (nns hj2)
    exact x_drop (cut123 (BB + 1) j rt0 (by omega) hj2 (by omega) (by omega)) ⟨rfl, ⟨rfl, ⟨rfl, ⟨rfl, ⟨rfl, ⟨rfl, trivial⟩⟩⟩⟩⟩⟩

set_option maxHeartbeats 800000 in
set_option maxRecDepth 100000 in
theorem c_J1_put (l : Launch) (G : kG) (M : kM) (o t asd : Nat) (T : kT) (z q v0 : Nat) (hT : TM M o t asd T) (hz : tN T z = none) (hq : mK M q = some 4 ∧ mG M q = o ∧ q ≠ asd) (hzB : z < BB) (hzi : mI M (fc 4 0) q = nI z) (hv : mK M v0 = some 45) (ho : o = 0 ∨ mK M (o - 1) ≠ none) : Kt l G yJ1_put cJ1_put 3 (some (.object "java/lang/Object")) 5 115 [.ref t, .ref q, .ref v0] M (1) (6) (fun v M2 => v = some .null ∧ ∃ e T2, TM M2 o t asd T2 ∧ tN T2 = va_up (tN T) z (some e) ∧ tK T2 = va_up (tK T) z q ∧ tV T2 = va_up (tV T) z v0 ∧ Fr (fun x => x = o) M M2) := by
  refine Kt.of (own := "java/util/TreeMap") (L := [some (.ref t), some (.ref q), some (.ref v0)]) (by decide +kernel) rfl (Nat.le_of_ble_eq_true rfl) rfl ?_
  intro pp ee ss mm args below meth cd hmn hret
  refine x_aload_n (n' := 1) dJ1_put_0 rfl rfl rfl ?_
  refine x_aload_n (n' := 2) dJ1_put_1 rfl rfl rfl ?_
  refine x_aload_n (n' := 3) dJ1_put_2 rfl rfl rfl ?_
  refine x_iconst (n' := 4) (v := 1) dJ1_put_3 (by decide) rfl ?_
  refine x_callV (n' := 7) (n := 3) (K := 41) (c_J1_put_2 l G _ o t asd T z q v0 hT hz hq hzB hzi hv ho) dJ1_put_4 (hT.1.k) rfl (lw_V q2472 q2474 qs26 q81 q2475) (by decide +kernel) ⟨(Nat.le_of_ble_eq_true rfl), (Nat.le_of_ble_eq_true rfl)⟩ rfl rfl (Nat.le_of_ble_eq_true rfl) (by first | exact Nat.le_of_ble_eq_true rfl | omega) (by first | exact Nat.le_of_ble_eq_true rfl | omega) rfl (fun v_1 M9 h_3 hE_2 => ?_)
  obtain ⟨rfl, hpost⟩ := h_3
  exact x_aretN dJ1_put_7 hret (Or.inl ⟨_, rfl⟩) (by assumption) (⟨rfl, hpost⟩)
