set_option maxHeartbeats 800000 in
set_option maxRecDepth 100000 in
theorem c_J1_parentOf__n (l : Launch) (G : kG) (M : kM)  : Kt l G yJ1_parentOf cJ1_parentOf 1 (some (.object "java/util/TreeMap$Entry")) 0 0 [.null] M (0) (0) (fun v M2 => v = some .null ∧ M2 = M) := by
  refine Kt.of (own := "java/util/TreeMap") (L := [some (.null)]) (by decide +kernel) rfl (Nat.le_of_ble_eq_true rfl) rfl ?_
  intro pp ee ss mm args below meth cd hmn hret
  refine x_aload_nN (n' := 1) dJ1_parentOf_0 rfl rfl rfl ?_
  refine x_ifnonnullN (n' := 4) dJ1_parentOf_1 rfl ?_
  refine x_null (n' := 5) dJ1_parentOf_4 rfl ?_
  refine x_goto (tgt := 12) dJ1_parentOf_5 (by decide) ?_
  exact x_aretN dJ1_parentOf_12 hret (Or.inl ⟨_, rfl⟩) (by repeat' (first | with_reducible exact kE.rf | with_reducible apply kE_A | with_reducible apply kE_I | with_reducible apply kE_L | with_reducible apply kE_R | with_reducible apply kE_O | with_reducible apply kE_G)) (⟨rfl, rfl⟩)

theorem ffJ1_124_88 : FF "java/util/TreeMap" 124 88 4 "java/util/TreeMap$Entry" := ⟨by decide, by decide, q2500, Or.inl rfl⟩
set_option maxHeartbeats 800000 in
set_option maxRecDepth 100000 in
theorem c_J1_parentOf__s (l : Launch) (G : kG) (M : kM) (o t asd : Nat) (T : kT) (k a : Nat) (hP : PT M o t asd T) (hk : tN T k = some a) : Kt l G yJ1_parentOf cJ1_parentOf 1 (some (.object "java/util/TreeMap$Entry")) 0 0 [.ref a] M (0) (0) (fun v M2 => v = some (va_rf ((tP T k).bind (tN T))) ∧ M2 = M) := by
  refine Kt.of (own := "java/util/TreeMap") (L := [some (.ref a)]) (by decide +kernel) rfl (Nat.le_of_ble_eq_true rfl) rfl ?_
  intro pp ee ss mm args below meth cd hmn hret
  refine x_aload_n (n' := 1) dJ1_parentOf_0 rfl rfl rfl ?_
  refine x_ifnonnull (tgt := 8) dJ1_parentOf_1 (by decide) ?_
  refine x_aload_n (n' := 9) dJ1_parentOf_8 rfl rfl rfl ?_
  refine x_getR (n' := 12) dJ1_parentOf_9 (hP.nk hk) ffJ1_124_88 rfl rfl ?_
  exact x_aretq dJ1_parentOf_12 hret (Or.inl ⟨_, rfl⟩) (by repeat' (first | with_reducible exact kE.rf | with_reducible apply kE_A | with_reducible apply kE_I | with_reducible apply kE_L | with_reducible apply kE_R | with_reducible apply kE_O | with_reducible apply kE_G)) (⟨by rw [← hP.p hk], rfl⟩)

set_option maxHeartbeats 800000 in
set_option maxRecDepth 100000 in
theorem c_J1_leftOf__n (l : Launch) (G : kG) (M : kM)  : Kt l G yJ1_leftOf cJ1_leftOf 1 (some (.object "java/util/TreeMap$Entry")) 0 0 [.null] M (0) (0) (fun v M2 => v = some .null ∧ M2 = M) := by
  refine Kt.of (own := "java/util/TreeMap") (L := [some (.null)]) (by decide +kernel) rfl (Nat.le_of_ble_eq_true rfl) rfl ?_
  intro pp ee ss mm args below meth cd hmn hret
  refine x_aload_nN (n' := 1) dJ1_leftOf_0 rfl rfl rfl ?_
  refine x_ifnonnullN (n' := 4) dJ1_leftOf_1 rfl ?_
  refine x_null (n' := 5) dJ1_leftOf_4 rfl ?_
  refine x_goto (tgt := 12) dJ1_leftOf_5 (by decide) ?_
  exact x_aretN dJ1_leftOf_12 hret (Or.inl ⟨_, rfl⟩) (by repeat' (first | with_reducible exact kE.rf | with_reducible apply kE_A | with_reducible apply kE_I | with_reducible apply kE_L | with_reducible apply kE_R | with_reducible apply kE_O | with_reducible apply kE_G)) (⟨rfl, rfl⟩)

theorem ffJ1_111_88 : FF "java/util/TreeMap" 111 88 2 "java/util/TreeMap$Entry" := ⟨by decide, by decide, q2496, Or.inl rfl⟩
set_option maxHeartbeats 800000 in
set_option maxRecDepth 100000 in
theorem c_J1_leftOf__s (l : Launch) (G : kG) (M : kM) (o t asd : Nat) (T : kT) (k a : Nat) (hP : PT M o t asd T) (hk : tN T k = some a) : Kt l G yJ1_leftOf cJ1_leftOf 1 (some (.object "java/util/TreeMap$Entry")) 0 0 [.ref a] M (0) (0) (fun v M2 => v = some (va_rf ((tL T k).bind (tN T))) ∧ M2 = M) := by
  refine Kt.of (own := "java/util/TreeMap") (L := [some (.ref a)]) (by decide +kernel) rfl (Nat.le_of_ble_eq_true rfl) rfl ?_
  intro pp ee ss mm args below meth cd hmn hret
  refine x_aload_n (n' := 1) dJ1_leftOf_0 rfl rfl rfl ?_
  refine x_ifnonnull (tgt := 8) dJ1_leftOf_1 (by decide) ?_
  refine x_aload_n (n' := 9) dJ1_leftOf_8 rfl rfl rfl ?_
  refine x_getR (n' := 12) dJ1_leftOf_9 (hP.nk hk) ffJ1_111_88 rfl rfl ?_
  exact x_aretq dJ1_leftOf_12 hret (Or.inl ⟨_, rfl⟩) (by repeat' (first | with_reducible exact kE.rf | with_reducible apply kE_A | with_reducible apply kE_I | with_reducible apply kE_L | with_reducible apply kE_R | with_reducible apply kE_O | with_reducible apply kE_G)) (⟨by rw [← hP.l hk], rfl⟩)

set_option maxHeartbeats 800000 in
set_option maxRecDepth 100000 in
theorem c_J1_rightOf__n (l : Launch) (G : kG) (M : kM)  : Kt l G yJ1_rightOf cJ1_rightOf 1 (some (.object "java/util/TreeMap$Entry")) 0 0 [.null] M (0) (0) (fun v M2 => v = some .null ∧ M2 = M) := by
  refine Kt.of (own := "java/util/TreeMap") (L := [some (.null)]) (by decide +kernel) rfl (Nat.le_of_ble_eq_true rfl) rfl ?_
  intro pp ee ss mm args below meth cd hmn hret
  refine x_aload_nN (n' := 1) dJ1_rightOf_0 rfl rfl rfl ?_
  refine x_ifnonnullN (n' := 4) dJ1_rightOf_1 rfl ?_
  refine x_null (n' := 5) dJ1_rightOf_4 rfl ?_
  refine x_goto (tgt := 12) dJ1_rightOf_5 (by decide) ?_
  exact x_aretN dJ1_rightOf_12 hret (Or.inl ⟨_, rfl⟩) (by repeat' (first | with_reducible exact kE.rf | with_reducible apply kE_A | with_reducible apply kE_I | with_reducible apply kE_L | with_reducible apply kE_R | with_reducible apply kE_O | with_reducible apply kE_G)) (⟨rfl, rfl⟩)

theorem ffJ1_114_88 : FF "java/util/TreeMap" 114 88 3 "java/util/TreeMap$Entry" := ⟨by decide, by decide, q2498, Or.inl rfl⟩
set_option maxHeartbeats 800000 in
set_option maxRecDepth 100000 in
theorem c_J1_rightOf__s (l : Launch) (G : kG) (M : kM) (o t asd : Nat) (T : kT) (k a : Nat) (hP : PT M o t asd T) (hk : tN T k = some a) : Kt l G yJ1_rightOf cJ1_rightOf 1 (some (.object "java/util/TreeMap$Entry")) 0 0 [.ref a] M (0) (0) (fun v M2 => v = some (va_rf ((tR T k).bind (tN T))) ∧ M2 = M) := by
  refine Kt.of (own := "java/util/TreeMap") (L := [some (.ref a)]) (by decide +kernel) rfl (Nat.le_of_ble_eq_true rfl) rfl ?_
  intro pp ee ss mm args below meth cd hmn hret
  refine x_aload_n (n' := 1) dJ1_rightOf_0 rfl rfl rfl ?_
  refine x_ifnonnull (tgt := 8) dJ1_rightOf_1 (by decide) ?_
  refine x_aload_n (n' := 9) dJ1_rightOf_8 rfl rfl rfl ?_
  refine x_getR (n' := 12) dJ1_rightOf_9 (hP.nk hk) ffJ1_114_88 rfl rfl ?_
  exact x_aretq dJ1_rightOf_12 hret (Or.inl ⟨_, rfl⟩) (by repeat' (first | with_reducible exact kE.rf | with_reducible apply kE_A | with_reducible apply kE_I | with_reducible apply kE_L | with_reducible apply kE_R | with_reducible apply kE_O | with_reducible apply kE_G)) (⟨by rw [← hP.rr hk], rfl⟩)

set_option maxHeartbeats 800000 in
set_option maxRecDepth 100000 in
theorem c_J1_colorOf__n (l : Launch) (G : kG) (M : kM)  : Kt l G yJ1_colorOf cJ1_colorOf 1 (some .boolean) 0 0 [.null] M (0) (0) (fun v M2 => v = some (.int 1) ∧ M2 = M) := by
  refine Kt.of (own := "java/util/TreeMap") (L := [some (.null)]) (by decide +kernel) rfl (Nat.le_of_ble_eq_true rfl) rfl ?_
  intro pp ee ss mm args below meth cd hmn hret
  refine x_aload_nN (n' := 1) dJ1_colorOf_0 rfl rfl rfl ?_
  refine x_ifnonnullN (n' := 4) dJ1_colorOf_1 rfl ?_
  refine x_iconst (n' := 5) (v := 1) dJ1_colorOf_4 (by decide) rfl ?_
  refine x_goto (tgt := 12) dJ1_colorOf_5 (by decide) ?_
  exact x_zret dJ1_colorOf_12 hret (k_zn (Or.inr rfl)) (by repeat' (first | with_reducible exact kE.rf | with_reducible apply kE_A | with_reducible apply kE_I | with_reducible apply kE_L | with_reducible apply kE_R | with_reducible apply kE_O | with_reducible apply kE_G)) (⟨rfl, rfl⟩)

theorem ffJ1_290_88 : FF "java/util/TreeMap" 290 88 5 "java/util/TreeMap$Entry" := ⟨by decide, by decide, q2502, Or.inl rfl⟩
set_option maxHeartbeats 800000 in
set_option maxRecDepth 100000 in
theorem c_J1_colorOf__s (l : Launch) (G : kG) (M : kM) (o t asd : Nat) (T : kT) (k a : Nat) (hP : PT M o t asd T) (hk : tN T k = some a) : Kt l G yJ1_colorOf cJ1_colorOf 1 (some .boolean) 0 0 [.ref a] M (0) (0) (fun v M2 => v = some (.int (tC T k)) ∧ M2 = M) := by
  refine Kt.of (own := "java/util/TreeMap") (L := [some (.ref a)]) (by decide +kernel) rfl (Nat.le_of_ble_eq_true rfl) rfl ?_
  intro pp ee ss mm args below meth cd hmn hret
  refine x_aload_n (n' := 1) dJ1_colorOf_0 rfl rfl rfl ?_
  refine x_ifnonnull (tgt := 8) dJ1_colorOf_1 (by decide) ?_
  refine x_aload_n (n' := 9) dJ1_colorOf_8 rfl rfl rfl ?_
  refine x_getI (n' := 12) dJ1_colorOf_9 (hP.nk hk) ffJ1_290_88 rfl rfl ?_
  rw [hP.co hk]
  exact x_zret dJ1_colorOf_12 hret (k_zn (hP.c01 hk)) (by repeat' (first | with_reducible exact kE.rf | with_reducible apply kE_A | with_reducible apply kE_I | with_reducible apply kE_L | with_reducible apply kE_R | with_reducible apply kE_O | with_reducible apply kE_G)) (⟨rfl, rfl⟩)

set_option maxHeartbeats 800000 in
set_option maxRecDepth 100000 in
theorem c_J1_setColor__n (l : Launch) (G : kG) (M : kM) (c : Int32) : Kt l G yJ1_setColor cJ1_setColor 2 none 0 0 [.null, .int c] M (0) (0) (fun v M2 => v = none ∧ M2 = M) := by
  refine Kt.of (own := "java/util/TreeMap") (L := [some (.null), some (.int c)]) (by decide +kernel) rfl (Nat.le_of_ble_eq_true rfl) rfl ?_
  intro pp ee ss mm args below meth cd hmn hret
  refine x_aload_nN (n' := 1) dJ1_setColor_0 rfl rfl rfl ?_
  refine x_ifnullN (tgt := 9) dJ1_setColor_1 (by decide) ?_
  exact x_vret dJ1_setColor_9 hret (by repeat' (first | with_reducible exact kE.rf | with_reducible apply kE_A | with_reducible apply kE_I | with_reducible apply kE_L | with_reducible apply kE_R | with_reducible apply kE_O | with_reducible apply kE_G)) (⟨rfl, rfl⟩)

set_option maxHeartbeats 800000 in
set_option maxRecDepth 100000 in
theorem c_J1_setColor__s (l : Launch) (G : kG) (M : kM) (o t asd : Nat) (T : kT) (k a : Nat) (c : Int32) (hP : PT M o t asd T) (hk : tN T k = some a) (hc : c = 0 ∨ c = 1) : Kt l G yJ1_setColor cJ1_setColor 2 none 0 0 [.ref a, .int c] M (0) (0) (fun v M2 => v = none ∧ PT M2 o t asd (tsC T k c) ∧ FK o M M2) := by
  refine Kt.of (own := "java/util/TreeMap") (L := [some (.ref a), some (.int c)]) (by decide +kernel) rfl (Nat.le_of_ble_eq_true rfl) rfl ?_
  intro pp ee ss mm args below meth cd hmn hret
  refine x_aload_n (n' := 1) dJ1_setColor_0 rfl rfl rfl ?_
  refine x_ifnull (n' := 4) dJ1_setColor_1 rfl ?_
  refine x_aload_n (n' := 5) dJ1_setColor_4 rfl rfl rfl ?_
  refine x_iload_n (n' := 6) dJ1_setColor_5 rfl rfl rfl ?_
  refine x_putI (n' := 9) dJ1_setColor_6 (hP.nk hk) ffJ1_290_88 rfl (k_bool hc) rfl rfl ?_
  exact x_vret dJ1_setColor_9 hret (by repeat' (first | with_reducible exact kE.rf | with_reducible apply kE_A | with_reducible apply kE_I | with_reducible apply kE_L | with_reducible apply kE_R | with_reducible apply kE_O | with_reducible apply kE_G)) (⟨rfl, hP.wC hk hc, FK.rf.I (Or.inr (hP.ng hk))⟩)

set_option maxHeartbeats 800000 in
set_option maxRecDepth 100000 in
theorem c_J0_init (l : Launch) (G : kG) (M : kM) (t : Nat) : Kt l G yJ0_init cJ0_init 1 none 1 20 [.ref t] M (0) (0) (fun v M2 => v = none ∧ M2 = M) := by
  refine Kt.of (own := "java/util/AbstractMap") (L := [some (.ref t)]) (by decide +kernel) rfl (Nat.le_of_ble_eq_true rfl) rfl ?_
  intro pp ee ss mm args below meth cd hmn hret
  refine x_aload_n (n' := 1) dJ0_init_0 rfl rfl rfl ?_
  refine x_objInit (n' := 4) dJ0_init_1 q188 ⟨(Nat.le_of_ble_eq_true rfl), (Nat.le_of_ble_eq_true rfl)⟩ (Nat.le_of_ble_eq_true rfl) rfl ?_
  exact x_vret dJ0_init_4 hret (by repeat' (first | with_reducible exact kE.rf | with_reducible apply kE_A | with_reducible apply kE_I | with_reducible apply kE_L | with_reducible apply kE_R | with_reducible apply kE_O | with_reducible apply kE_G)) (⟨rfl, rfl⟩)

theorem ffJ1_7_41 : FF "java/util/TreeMap" 7 41 4 "java/util/TreeMap" := ⟨by decide, by decide, q191, Or.inl rfl⟩
theorem ffJ1_13_41 : FF "java/util/TreeMap" 13 41 5 "java/util/TreeMap" := ⟨by decide, by decide, q192, Or.inl rfl⟩
theorem ffJ1_16_41 : FF "java/util/TreeMap" 16 41 2 "java/util/TreeMap" := ⟨by decide, by decide, q189, Or.inl rfl⟩
set_option maxHeartbeats 800000 in
set_option maxRecDepth 100000 in
theorem c_J1_init (l : Launch) (G : kG) (M : kM) (t : Nat) (hk : mK M t = some 41) : Kt l G yJ1_init cJ1_init 1 none 2 40 [.ref t] M (0) (0) (fun v M2 => v = none ∧ M2 = sR (sI (sI M (fc 41 4) t 0) (fc 41 5) t 0) (fc 41 2) t none) := by
  refine Kt.of (own := "java/util/TreeMap") (L := [some (.ref t)]) (by decide +kernel) rfl (Nat.le_of_ble_eq_true rfl) rfl ?_
  intro pp ee ss mm args below meth cd hmn hret
  refine x_aload_n (n' := 1) dJ1_init_0 rfl rfl rfl ?_
  refine x_callI (n' := 4) (ret := none) (n := 0) (c_J0_init l G _ t) dJ1_init_1 (lw_meth q187) q80 q185 q186 rfl (by decide +kernel) ⟨(Nat.le_of_ble_eq_true rfl), (Nat.le_of_ble_eq_true rfl)⟩ rfl rfl (Nat.le_of_ble_eq_true rfl) (by first | exact Nat.le_of_ble_eq_true rfl | omega) (by first | exact Nat.le_of_ble_eq_true rfl | omega) rfl (fun v_1 M_2 h_4 hE_3 => ?_)
  obtain ⟨rfl, hMs⟩ := h_4
  have hMs := hMs.symm
  subst hMs
  refine x_aload_n (n' := 5) dJ1_init_4 rfl rfl rfl ?_
  refine x_iconst (n' := 6) (v := 0) dJ1_init_5 (by decide) rfl ?_
  refine x_putI (n' := 9) dJ1_init_6 (by repeat' (first | with_reducible exact hk | with_reducible apply mK_A | with_reducible apply mK_I | with_reducible apply mK_L | with_reducible apply mK_R | with_reducible apply mK_O | with_reducible apply mK_G | with_reducible refine mK_NA ?_ (by assumption) | with_reducible refine mK_NO ?_ (by assumption) | with_reducible refine kE.ap hE_3 ?_)) ffJ1_7_41 rfl (⟨rfl, rfl⟩) rfl rfl ?_
  refine x_aload_n (n' := 10) dJ1_init_9 rfl rfl rfl ?_
  refine x_iconst (n' := 11) (v := 0) dJ1_init_10 (by decide) rfl ?_
  refine x_putI (n' := 14) dJ1_init_11 (by repeat' (first | with_reducible exact hk | with_reducible apply mK_A | with_reducible apply mK_I | with_reducible apply mK_L | with_reducible apply mK_R | with_reducible apply mK_O | with_reducible apply mK_G | with_reducible refine mK_NA ?_ (by assumption) | with_reducible refine mK_NO ?_ (by assumption) | with_reducible refine kE.ap hE_3 ?_)) ffJ1_13_41 rfl (⟨rfl, rfl⟩) rfl rfl ?_
  refine x_aload_n (n' := 15) dJ1_init_14 rfl rfl rfl ?_
  refine x_null (n' := 16) dJ1_init_15 rfl ?_
  refine x_putRF (n' := 19) (v := none) dJ1_init_16 (by repeat' (first | with_reducible exact hk | with_reducible apply mK_A | with_reducible apply mK_I | with_reducible apply mK_L | with_reducible apply mK_R | with_reducible apply mK_O | with_reducible apply mK_G | with_reducible refine mK_NA ?_ (by assumption) | with_reducible refine mK_NO ?_ (by assumption) | with_reducible refine kE.ap hE_3 ?_)) ffJ1_16_41 rfl rfl hmn rfl rfl ?_
  exact x_vret dJ1_init_19 hret (by repeat' (first | with_reducible exact kE.rf | with_reducible exact hE_3 | with_reducible apply kE_A | with_reducible apply kE_I | with_reducible apply kE_L | with_reducible apply kE_R | with_reducible apply kE_O | with_reducible apply kE_G | with_reducible refine kE.tr ?_ hE_3)) (⟨rfl, rfl⟩)

set_option maxHeartbeats 800000 in
set_option maxRecDepth 100000 in
theorem c_J26_requireNonNull (l : Launch) (G : kG) (M : kM) (a : Nat) : Kt l G yJ26_requireNonNull cJ26_requireNonNull 1 (some (.object "java/lang/Object")) 0 0 [.ref a] M (0) (0) (fun v M2 => v = some (.ref a) ∧ M2 = M) := by
  refine Kt.of (own := "java/util/Objects") (L := [some (.ref a)]) (by decide +kernel) rfl (Nat.le_of_ble_eq_true rfl) rfl ?_
  intro pp ee ss mm args below meth cd hmn hret
  refine x_aload_n (n' := 1) dJ26_requireNonNull_0 rfl rfl rfl ?_
  refine x_ifnonnull (tgt := 12) dJ26_requireNonNull_1 (by decide) ?_
  refine x_aload_n (n' := 13) dJ26_requireNonNull_12 rfl rfl rfl ?_
  exact x_aret dJ26_requireNonNull_13 hret (Or.inl ⟨_, rfl⟩) (by repeat' (first | with_reducible exact kE.rf | with_reducible apply kE_A | with_reducible apply kE_I | with_reducible apply kE_L | with_reducible apply kE_R | with_reducible apply kE_O | with_reducible apply kE_G)) (⟨rfl, rfl⟩)

theorem tm_nr {T : kT} {lo hi : Nat → Nat} {z : Nat} (w : WTT T lo hi) (h : tr T = none) : tN T z = none := by
  cases e : tN T z with
  | none => rfl
  | some a => exact absurd (nns e) (w.2.2.2.2.2.2.2.1 h z)
theorem tm_nl {T : kT} {lo hi : Nat → Nat} {k a z : Nat} (w : WTT T lo hi) (hk : tN T k = some a) (h : tL T k = none) (h1 : lo k ≤ z) (h2 : z < k) : tN T z = none := by
  cases e : tN T z with
  | none => rfl
  | some b => exact absurd (nns e) (w.2.1 k (nns hk) h z h1 h2)
theorem tm_nt {T : kT} {lo hi : Nat → Nat} {k a z : Nat} (w : WTT T lo hi) (hk : tN T k = some a) (h : tR T k = none) (h1 : k < z) (h2 : z < hi k) : tN T z = none := by
  cases e : tN T z with
  | none => rfl
  | some b => exact absurd (nns e) (w.2.2.2.1 k (nns hk) h z h1 h2)
theorem cmp_ge {k z : Nat} (hk : k < BB) (hz : z < BB) (h1 : ¬ nI z - nI k < 0) (h2 : ¬ nI z - nI k ≤ 0) : k < z := by
  have a := (cmp_lt hz hk)
  rcases Nat.lt_trichotomy k z with h | h | h
  · exact h
  · subst h; exact absurd (by rw [Int32.sub_self]; exact Int32.le_refl _) h2
  · exact absurd (a.mpr h) h1
theorem cmp_eq {k z : Nat} (hk : k < BB) (hz : z < BB) (h1 : ¬ nI z - nI k < 0) (h2 : nI z - nI k ≤ 0) : z = k := by
  have a := (cmp_lt hz hk)
  have e : nI z - nI k = 0 := by
    have q1 := Int32.le_iff_toInt_le.mp h2
    have q2 := Int32.le_iff_toInt_le.mp (Int32.not_lt.mp h1)
    exact Int32.toInt_inj.mp (by omega)
  have e2 : nI z = nI k := by have e3 := congrArg (fun w => w + nI k) e; simp only [Int32.sub_add_cancel, Int32.zero_add] at e3; exact e3
  exact (nI_eq hz hk).mp e2
theorem ffJ1_105_88 : FF "java/util/TreeMap" 105 88 0 "java/util/TreeMap$Entry" := ⟨by decide, by decide, q2491, Or.inl rfl⟩
theorem ffJ1_101_41 : FF "java/util/TreeMap" 101 41 3 "java/util/TreeMap" := ⟨by decide, by decide, q190, Or.inl rfl⟩
set_option maxHeartbeats 800000 in
set_option maxRecDepth 100000 in
theorem c_J1_getEntry (l : Launch) (G : kG) (M : kM) (o t asd : Nat) (T : kT) (q z : Nat) (hT : TM M o t asd T) (hq : mK M q = some 4) (hz : mI M (fc 4 0) q = nI z) (hzB : z < BB) : Kt l G yJ1_getEntry cJ1_getEntry 5 (some (.object "java/util/TreeMap$Entry")) 2 42 [.ref t, .ref q] M (0) (0) (fun v M2 => v = some (va_rf (tN T z)) ∧ M2 = M) := by
  refine Kt.of (own := "java/util/TreeMap") (L := [some (.ref t), some (.ref q), none, none, none]) (by decide +kernel) rfl (Nat.le_of_ble_eq_true rfl) rfl ?_
  intro pp ee ss mm args below meth cd hmn hret
  obtain ⟨hP, hV, lo, hi, hW⟩ := hT
  have cut32 : ∀ (fuel : Nat) (k p : Nat) (h9 : hi k - lo k < fuel) (hk : tN T k = some p) (hi1 : lo k ≤ z) (hi2 : z < hi k), Wx pp l ee { frames := 2, cells := 0, slots := 0, locals := 42 } ss mm args below meth cd "java/util/TreeMap" cJ1_getEntry 5 G (MQ below (KQ G M (fun v M2 => v = some (va_rf (tN T z)) ∧ M2 = M)) args ss (0) (0) (kA G)) 32 [some (.ref t), some (.ref q), some (.ref q), some (.ref p), none] [] (M) (0) (0) := by
    intro fuel
    induction fuel with
    | zero => intro k p h9 hk hi1 hi2; omega
    | succ fuel ih =>
      intro k p h9 hk hi1 hi2
      refine x_aload_n (n' := 33) dJ1_getEntry_32 rfl rfl rfl ?_
      refine x_aload_n (n' := 34) dJ1_getEntry_33 rfl rfl rfl ?_
      refine x_getRs (n' := 37) (b := (tK T k)) dJ1_getEntry_34 (hP.nk hk) ffJ1_105_88 rfl (hP.key hk) rfl ?_
      refine x_callF (n' := 42) (n := 1) (K := 4) (x := ⟨"java/lang/Comparable", "compareTo", "(Ljava/lang/Object;)I"⟩) (c_X4_compareTo l G _ q (tK T k) hq (hP.kk hk)) dJ1_getEntry_37 (by repeat' (first | with_reducible exact hq | with_reducible apply mK_A | with_reducible apply mK_I | with_reducible apply mK_L | with_reducible apply mK_R | with_reducible apply mK_O | with_reducible apply mK_G | with_reducible refine mK_NA ?_ (by assumption) | with_reducible refine mK_NO ?_ (by assumption))) (by decide) rfl (lw_F4 q2213 q2217 q2219 q83 q2221) ⟨q2215, q2214, q2220, q2218, q2216, by decide +kernel⟩ (by decide +kernel) ⟨(Nat.le_of_ble_eq_true rfl), (Nat.le_of_ble_eq_true rfl)⟩ rfl rfl (Nat.le_of_ble_eq_true rfl) (by first | exact Nat.le_of_ble_eq_true rfl | omega) (by first | exact Nat.le_of_ble_eq_true rfl | omega) rfl (fun v_1 M_2 h_4 hE_3 => ?_)
      obtain ⟨rfl, hMs⟩ := h_4
      have hMs := hMs.symm
      subst hMs
      rw [hz, (hV k p hk).2]
      have hlt : (¬ (0 : Int32) ≤ nI z - nI k) ↔ z < k := Iff.trans (by rw [Int32.not_le]) (cmp_lt hzB (hV k p hk).1)
      have hgt : (0 : Int32) ≤ nI z - nI k → ¬ nI z - nI k ≤ 0 → k < z := fun q => cmp_ge (hV k p hk).1 hzB (Int32.not_lt.mpr q)
      have heq : (0 : Int32) ≤ nI z - nI k → nI z - nI k ≤ 0 → z = k := fun q => cmp_eq (hV k p hk).1 hzB (Int32.not_lt.mpr q)
      refine x_istore (n' := 44) dJ1_getEntry_42 (Nat.le_of_ble_eq_true rfl) rfl (by dsimp only [List.set] <;> rfl) rfl ?_
      refine x_iload (n' := 46) dJ1_getEntry_44 rfl rfl ?_
      refine x_if_ge (n' := 49) (tgt := 57) dJ1_getEntry_46 (by decide) rfl (fun c46_5 => ?_) (fun c46_5 => ?_)
      · refine x_iload (n' := 59) dJ1_getEntry_57 rfl rfl ?_
        refine x_if_le (n' := 62) (tgt := 70) dJ1_getEntry_59 (by decide) rfl (fun c59_6 => ?_) (fun c59_6 => ?_)
        · refine x_aload_n (n' := 71) dJ1_getEntry_70 rfl rfl rfl ?_
          exact x_aret dJ1_getEntry_71 hret (Or.inl ⟨_, rfl⟩) (by repeat' (first | with_reducible exact kE.rf | with_reducible exact hE_3 | with_reducible apply kE_A | with_reducible apply kE_I | with_reducible apply kE_L | with_reducible apply kE_R | with_reducible apply kE_O | with_reducible apply kE_G | with_reducible refine kE.tr ?_ hE_3)) (⟨by rw [heq (by assumption) (by assumption), hk]; rfl, rfl⟩)
        · refine x_aload_n (n' := 63) dJ1_getEntry_62 rfl rfl rfl ?_
          refine x_getRc (n' := 66) dJ1_getEntry_63 (hP.nk hk) ffJ1_114_88 rfl rfl (fun e63_7 => ?_) (fun pr e63_7 => ?_)
          · refine x_astore_nN (n' := 67) dJ1_getEntry_66 rfl (Nat.le_of_ble_eq_true rfl) rfl (by dsimp only [List.set] <;> rfl) rfl ?_
            refine x_goto (tgt := 72) dJ1_getEntry_67 (by decide) ?_
            refine x_goto (tgt := 28) dJ1_getEntry_72 (by decide) ?_
            refine x_aload_nN (n' := 29) dJ1_getEntry_28 rfl rfl rfl ?_
            refine x_ifnullN (tgt := 75) dJ1_getEntry_29 (by decide) ?_
            refine x_null (n' := 76) dJ1_getEntry_75 rfl ?_
            exact x_aretN dJ1_getEntry_76 hret (Or.inl ⟨_, rfl⟩) (by repeat' (first | with_reducible exact kE.rf | with_reducible exact hE_3 | with_reducible apply kE_A | with_reducible apply kE_I | with_reducible apply kE_L | with_reducible apply kE_R | with_reducible apply kE_O | with_reducible apply kE_G | with_reducible refine kE.tr ?_ hE_3)) (⟨(by rw [tm_nt hW hk (hP.rn hW hk (by assumption)) (hgt (by assumption) (by assumption)) hi2]; rfl), rfl⟩)
          · have k_pr : mK _ pr = some 88 := (by obtain ⟨j, -, h⟩ := hP.rs hk e63_7; exact hP.nk h)
            refine x_astore_n (n' := 67) dJ1_getEntry_66 rfl (Nat.le_of_ble_eq_true rfl) rfl (by dsimp only [List.set] <;> rfl) rfl ?_
            refine x_goto (tgt := 72) dJ1_getEntry_67 (by decide) ?_
            refine x_goto (tgt := 28) dJ1_getEntry_72 (by decide) ?_
            refine x_aload_n (n' := 29) dJ1_getEntry_28 rfl rfl rfl ?_
            refine x_ifnull (n' := 32) dJ1_getEntry_29 rfl ?_
            obtain ⟨j, hj1, hj2⟩ := hP.rs hk (by assumption)
            have h9 := hW.2.2.2.2.1 k j (nns hk) hj1
            have iv9 := hW.1 j (nns hj2)
            have ivk := hW.1 k (nns hk)
            have hz9 := hgt (by assumption) (by assumption)
            exact x_drop (ih j pr (by omega) hj2 (by omega) (by omega)) ⟨rfl, ⟨rfl, ⟨rfl, ⟨rfl, trivial⟩⟩⟩⟩
      · refine x_aload_n (n' := 50) dJ1_getEntry_49 rfl rfl rfl ?_
        refine x_getRc (n' := 53) dJ1_getEntry_50 (hP.nk hk) ffJ1_111_88 rfl rfl (fun e50_8 => ?_) (fun pl e50_8 => ?_)
        · refine x_astore_nN (n' := 54) dJ1_getEntry_53 rfl (Nat.le_of_ble_eq_true rfl) rfl (by dsimp only [List.set] <;> rfl) rfl ?_
          refine x_goto (tgt := 72) dJ1_getEntry_54 (by decide) ?_
          refine x_goto (tgt := 28) dJ1_getEntry_72 (by decide) ?_
          refine x_aload_nN (n' := 29) dJ1_getEntry_28 rfl rfl rfl ?_
          refine x_ifnullN (tgt := 75) dJ1_getEntry_29 (by decide) ?_
          refine x_null (n' := 76) dJ1_getEntry_75 rfl ?_
          exact x_aretN dJ1_getEntry_76 hret (Or.inl ⟨_, rfl⟩) (by repeat' (first | with_reducible exact kE.rf | with_reducible exact hE_3 | with_reducible apply kE_A | with_reducible apply kE_I | with_reducible apply kE_L | with_reducible apply kE_R | with_reducible apply kE_O | with_reducible apply kE_G | with_reducible refine kE.tr ?_ hE_3)) (⟨(by rw [tm_nl hW hk (hP.ln hW hk (by assumption)) hi1 (hlt.mp (by assumption))]; rfl), rfl⟩)
        · have k_pl : mK _ pl = some 88 := (by obtain ⟨j, -, h⟩ := hP.ls hk e50_8; exact hP.nk h)
          refine x_astore_n (n' := 54) dJ1_getEntry_53 rfl (Nat.le_of_ble_eq_true rfl) rfl (by dsimp only [List.set] <;> rfl) rfl ?_
          refine x_goto (tgt := 72) dJ1_getEntry_54 (by decide) ?_
          refine x_goto (tgt := 28) dJ1_getEntry_72 (by decide) ?_
          refine x_aload_n (n' := 29) dJ1_getEntry_28 rfl rfl rfl ?_
          refine x_ifnull (n' := 32) dJ1_getEntry_29 rfl ?_
          obtain ⟨j, hj1, hj2⟩ := hP.ls hk (by assumption)
          have h9 := hW.2.2.1 k j (nns hk) hj1
          have iv9 := hW.1 j (nns hj2)
          have ivk := hW.1 k (nns hk)
          have hz9 := hlt.mp (by assumption)
          exact x_drop (ih j pl (by omega) hj2 (by omega) (by omega)) ⟨rfl, ⟨rfl, ⟨rfl, ⟨rfl, trivial⟩⟩⟩⟩
  refine x_aload_n (n' := 1) dJ1_getEntry_0 rfl rfl rfl ?_
  refine x_getRn (n' := 4) dJ1_getEntry_1 (hP.k) ffJ1_16_41 rfl hP.c rfl ?_
  refine x_ifnullN (tgt := 13) dJ1_getEntry_4 (by decide) ?_
  refine x_aload_n (n' := 14) dJ1_getEntry_13 rfl rfl rfl ?_
  refine x_callS (n' := 17) (n := 1) (c_J26_requireNonNull l G _ q) dJ1_getEntry_14 (lw_S q2210 q1303 q115 q1304) (by decide +kernel) ⟨(Nat.le_of_ble_eq_true rfl), (Nat.le_of_ble_eq_true rfl)⟩ rfl rfl (Nat.le_of_ble_eq_true rfl) (by first | exact Nat.le_of_ble_eq_true rfl | omega) (by first | exact Nat.le_of_ble_eq_true rfl | omega) rfl (fun v_9 M_10 h_12 hE_11 => ?_)
  obtain ⟨rfl, hMs⟩ := h_12
  have hMs := hMs.symm
  subst hMs
  refine x_pop (n' := 18) dJ1_getEntry_17 rfl rfl ?_
  refine x_aload_n (n' := 19) dJ1_getEntry_18 rfl rfl rfl ?_
  refine x_castY (n' := 22) (K := 4) dJ1_getEntry_19 (by repeat' (first | with_reducible exact hq | with_reducible apply mK_A | with_reducible apply mK_I | with_reducible apply mK_L | with_reducible apply mK_R | with_reducible apply mK_O | with_reducible apply mK_G | with_reducible refine mK_NA ?_ (by assumption) | with_reducible refine mK_NO ?_ (by assumption) | with_reducible refine kE.ap hE_11 ?_)) q2211 q2216 rfl ?_
  refine x_astore_n (n' := 23) dJ1_getEntry_22 rfl (Nat.le_of_ble_eq_true rfl) rfl (by dsimp only [List.set] <;> rfl) rfl ?_
  refine x_aload_n (n' := 24) dJ1_getEntry_23 rfl rfl rfl ?_
  refine x_getRc (n' := 27) dJ1_getEntry_24 (hP.k) ffJ1_101_41 rfl rfl (fun e24_13 => ?_) (fun rt0 e24_13 => ?_)
  · refine x_astore_nN (n' := 28) dJ1_getEntry_27 rfl (Nat.le_of_ble_eq_true rfl) rfl (by dsimp only [List.set] <;> rfl) rfl ?_
    refine x_aload_nN (n' := 29) dJ1_getEntry_28 rfl rfl rfl ?_
    refine x_ifnullN (tgt := 75) dJ1_getEntry_29 (by decide) ?_
    refine x_null (n' := 76) dJ1_getEntry_75 rfl ?_
    exact x_aretN dJ1_getEntry_76 hret (Or.inl ⟨_, rfl⟩) (by repeat' (first | with_reducible exact kE.rf | with_reducible exact hE_11 | with_reducible apply kE_A | with_reducible apply kE_I | with_reducible apply kE_L | with_reducible apply kE_R | with_reducible apply kE_O | with_reducible apply kE_G | with_reducible refine kE.tr ?_ hE_11)) (⟨(by rw [tm_nr hW (hP.tn hW (by assumption))]; rfl), rfl⟩)
  · have k_rt0 : mK _ rt0 = some 88 := (by obtain ⟨j, -, h⟩ := hP.ts e24_13; exact hP.nk h)
    refine x_astore_n (n' := 28) dJ1_getEntry_27 rfl (Nat.le_of_ble_eq_true rfl) rfl (by dsimp only [List.set] <;> rfl) rfl ?_
    refine x_aload_n (n' := 29) dJ1_getEntry_28 rfl rfl rfl ?_
    refine x_ifnull (n' := 32) dJ1_getEntry_29 rfl ?_
    obtain ⟨j, hj1, hj2⟩ := hP.ts (by assumption)
    have h9 := hW.2.2.2.2.2.2.2.2.1 j hj1
    have iv9 := hW.1 j (nns hj2)
    exact x_drop (cut32 (BB + 1) j rt0 (by omega) hj2 (by omega) (by omega)) ⟨rfl, ⟨rfl, ⟨rfl, ⟨rfl, trivial⟩⟩⟩⟩

theorem ffJ1_58_88 : FF "java/util/TreeMap" 58 88 1 "java/util/TreeMap$Entry" := ⟨by decide, by decide, q2494, Or.inl rfl⟩
set_option maxHeartbeats 800000 in
set_option maxRecDepth 100000 in
theorem c_J1_get (l : Launch) (G : kG) (M : kM) (o t asd : Nat) (T : kT) (q z : Nat) (hT : TM M o t asd T) (hq : mK M q = some 4) (hz : mI M (fc 4 0) q = nI z) (hzB : z < BB) : Kt l G yJ1_get cJ1_get 3 (some (.object "java/lang/Object")) 3 66 [.ref t, .ref q] M (0) (0) (fun v M2 => v = some (va_rf ((tN T z).map (fun _ => tV T z))) ∧ M2 = M) := by
  refine Kt.of (own := "java/util/TreeMap") (L := [some (.ref t), some (.ref q), none]) (by decide +kernel) rfl (Nat.le_of_ble_eq_true rfl) rfl ?_
  intro pp ee ss mm args below meth cd hmn hret
  have hP := hT.1
  refine x_aload_n (n' := 1) dJ1_get_0 rfl rfl rfl ?_
  refine x_aload_n (n' := 2) dJ1_get_1 rfl rfl rfl ?_
  refine x_callV (n' := 5) (n := 1) (K := 41) (c_J1_getEntry l G _ o t asd T q z hT hq hz hzB) dJ1_get_2 (hP.k) rfl (lw_V q2159 q2160 q2161 q81 q2162) (by decide +kernel) ⟨(Nat.le_of_ble_eq_true rfl), (Nat.le_of_ble_eq_true rfl)⟩ rfl rfl (Nat.le_of_ble_eq_true rfl) (by first | exact Nat.le_of_ble_eq_true rfl | omega) (by first | exact Nat.le_of_ble_eq_true rfl | omega) rfl (fun v_1 M_2 h_4 hE_3 => ?_)
  obtain ⟨rfl, hMs⟩ := h_4
  have hMs := hMs.symm
  subst hMs
  refine x_topq (fun hb => ?_) (fun b hb => ?_)
  · refine x_astore_nN (n' := 6) dJ1_get_5 rfl (Nat.le_of_ble_eq_true rfl) rfl (by dsimp only [List.set] <;> rfl) rfl ?_
    refine x_aload_nN (n' := 7) dJ1_get_6 rfl rfl rfl ?_
    refine x_ifnonnullN (n' := 10) dJ1_get_7 rfl ?_
    refine x_null (n' := 11) dJ1_get_10 rfl ?_
    refine x_goto (tgt := 18) dJ1_get_11 (by decide) ?_
    exact x_aretN dJ1_get_18 hret (Or.inl ⟨_, rfl⟩) (by repeat' (first | with_reducible exact kE.rf | with_reducible exact hE_3 | with_reducible apply kE_A | with_reducible apply kE_I | with_reducible apply kE_L | with_reducible apply kE_R | with_reducible apply kE_O | with_reducible apply kE_G | with_reducible refine kE.tr ?_ hE_3)) (⟨by rw [hb]; rfl, rfl⟩)
  · refine x_astore_n (n' := 6) dJ1_get_5 rfl (Nat.le_of_ble_eq_true rfl) rfl (by dsimp only [List.set] <;> rfl) rfl ?_
    refine x_aload_n (n' := 7) dJ1_get_6 rfl rfl rfl ?_
    refine x_ifnonnull (tgt := 14) dJ1_get_7 (by decide) ?_
    refine x_aload_n (n' := 15) dJ1_get_14 rfl rfl rfl ?_
    refine x_getRs (n' := 18) (b := (tV T z)) dJ1_get_15 (hP.nk hb) ffJ1_58_88 rfl (hP.val hb) rfl ?_
    exact x_aret dJ1_get_18 hret (Or.inl ⟨_, rfl⟩) (by repeat' (first | with_reducible exact kE.rf | with_reducible exact hE_3 | with_reducible apply kE_A | with_reducible apply kE_I | with_reducible apply kE_L | with_reducible apply kE_R | with_reducible apply kE_O | with_reducible apply kE_G | with_reducible refine kE.tr ?_ hE_3)) (⟨by rw [hb]; rfl, rfl⟩)
