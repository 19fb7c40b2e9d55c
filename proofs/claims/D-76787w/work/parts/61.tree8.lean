theorem PT.w1 {M : kM} {o t asd vs : Nat} {T : kT} (h : PT M o t asd T) (hv : mK M vs = some 90 ∧ mG M vs = o ∧ mR M (fc 90 0) vs = some t) : PT (sR M (fc 41 1) t (some vs)) o t asd T := by
  refine ⟨h.k, h.g, ⟨(mR_sR_c (by decide)).trans h.c, fun vs2 e => ?_⟩, (mR_sR_c (by decide)).trans h.r, h.2.2.2.2.1, fun k a hk => ?_⟩
  · rw [mR_sR] at e; cases e
    exact ⟨hv.1, hv.2.1, (mR_sR_c (by decide)).trans hv.2.2⟩
  · obtain ⟨n1, n2, n3, n4, n5, n6, n7, n8, n9⟩ := h.n hk
    exact ⟨n1, n2, ⟨(mR_sR_c (by decide)).trans n3.1, n3.2⟩, ⟨(mR_sR_c (by decide)).trans n4.1, n4.2⟩, (mR_sR_c (by decide)).trans n5, (mR_sR_c (by decide)).trans n6, (mR_sR_c (by decide)).trans n7, n8, n9⟩
theorem vs_fr {M : kM} {o t vs : Nat} (hq : mK M vs = none) (ho : o = 0 ∨ mK M (o - 1) ≠ none) : Fr (fun _ => False) M (sR (sG (nO M vs 90) vs o) (fc 90 0) vs (some t)) := (Fr.rf.obj hq (ho.elim Or.inl (fun q => Or.inr (Or.inr q)))).R (Or.inl hq)
theorem vs_k {M : kM} {o t vs : Nat} : mK (sR (sG (nO M vs 90) vs o) (fc 90 0) vs (some t)) vs = some 90 ∧ mG (sR (sG (nO M vs 90) vs o) (fc 90 0) vs (some t)) vs = o ∧ mR (sR (sG (nO M vs 90) vs o) (fc 90 0) vs (some t)) (fc 90 0) vs = some t := ⟨mK_nO (M := M), mG_sG (M := nO M vs 90), mR_sR⟩
theorem vs_T {M : kM} {o t asd vs : Nat} {T : kT} (h : TM M o t asd T) (hq : mK M vs = none) (ho : o = 0 ∨ mK M (o - 1) ≠ none) : TM (sR (sR (sG (nO M vs 90) vs o) (fc 90 0) vs (some t)) (fc 41 1) t (some vs)) o t asd T := by
  have a := h.fr (vs_fr (t := t) hq ho) id
  exact ⟨a.1.w1 vs_k, a.2.1, a.2.2⟩
/-- an iterator over the values: what comes next, what came last -/
def TI (M : kM) (t : Nat) (T : kT) (it : Nat) (x lr : Option Nat) : Prop := mK M it = some 84 ∧ mG M it = it + 1 ∧ mR M (fc 84 3) it = some t ∧ mI M (fc 84 2) it = mI M (fc 41 5) t ∧ mR M (fc 84 0) it = x.bind (tN T) ∧ mR M (fc 84 1) it = lr.bind (tN T)
def itM (M : kM) (it t : Nat) (y : Option Nat) : kM := sR (sR (sI (sR M (fc 84 3) it (some t)) (fc 84 2) it (mI M (fc 41 5) t)) (fc 84 1) it none) (fc 84 0) it y
theorem itM_TI {M : kM} {it t : Nat} {T : kT} {x : Option Nat} (h : mK M it = some 84) (hg : mG M it = it + 1) : TI (itM M it t (x.bind (tN T))) t T it x none := by
  unfold itM
  refine ⟨h, hg, ?_, ?_, mR_sR, ?_⟩
  · rw [mR_sR_c (by decide), mR_sR_c (by decide)]; exact mR_sR
  · show mI (sI (sR M (fc 84 3) it (some t)) (fc 84 2) it (mI M (fc 41 5) t)) (fc 84 2) it = mI (sI (sR M (fc 84 3) it (some t)) (fc 84 2) it (mI M (fc 41 5) t)) (fc 41 5) t
    exact mI_sI.trans (mI_sI_c (by decide)).symm
  · rw [mR_sR_c (by decide), mR_sR]; rfl
def nxM (M : kM) (it : Nat) (y : Option Nat) (a : Nat) : kM := sR (sR M (fc 84 0) it y) (fc 84 1) it (some a)
theorem nxM_TI {M : kM} {it t k a : Nat} {T : kT} {x x2 lr : Option Nat} (h : TI M t T it x lr) (hk : tN T k = some a) : TI (nxM M it (x2.bind (tN T)) a) t T it x2 (some k) := by
  unfold nxM
  obtain ⟨h1, h2, h3, h4, h5, h6⟩ := h
  refine ⟨h1, h2, ?_, ?_, ?_, ?_⟩
  · rw [mR_sR_c (by decide), mR_sR_c (by decide)]; exact h3
  · rw [mI_sR, mI_sR]; exact h4
  · rw [mR_sR_c (by decide), mR_sR]
  · rw [mR_sR]; exact hk.symm
theorem nxM_fr {M : kM} {it a t : Nat} {T : kT} {x lr y : Option Nat} (h : TI M t T it x lr) : Fr (fun z => z = it + 1) M (nxM M it y a) := (Fr.rf.R (Or.inr h.2.1)).R (Or.inr h.2.1)
theorem TI.fr {M M' : kM} {S : Nat → Prop} {t it o : Nat} {T : kT} {x lr : Option Nat} (h : TI M t T it x lr) (hF : Fr S M M') (hS : ¬ S (it + 1)) (hk : mK M t = some 41) (hg : mG M t = o) (hS2 : ¬ S o) : TI M' t T it x lr := by
  obtain ⟨h1, h2, h3, h4, h5, h6⟩ := h
  have a := hF.1 it (by rw [h1]; exact fun e => by cases e)
  have s := a.2.2 (by rw [h2]; exact hS)
  have b := hF.1 t (by rw [hk]; exact fun e => by cases e)
  have s2 := b.2.2 (by rw [hg]; exact hS2)
  exact ⟨by rw [a.1]; exact h1, by rw [a.2.1]; exact h2, by rw [s.2.1]; exact h3, by rw [s.1, s2.1]; exact h4, by rw [s.2.1]; exact h5, by rw [s.2.1]; exact h6⟩
theorem map_n {α β γ : Type} {x : Option α} {y : Option β} {f : α → γ} {g : β → γ} (h : x.map f = y.map g) : x = none ↔ y = none := by
  cases x <;> cases y <;> simp_all
theorem nx_del {T T2 : kT} {k : Nat} {x : Option Nat} (hm : ∀ j, j ≠ k → (tN T2 j).map (fun _ => tV T2 j) = (tN T j).map (fun _ => tV T j)) (hx : NXF T (k + 1) x) : NXF T2 (k + 1) x := by
  refine ⟨fun e y hy => (map_n (hm y (by omega))).mpr (hx.1 e y hy), fun s e => ?_⟩
  obtain ⟨a, b, c⟩ := hx.2 s e
  exact ⟨fun z => a ((map_n (hm s (by omega))).mp z), b, fun y h1 h2 => (map_n (hm y (by omega))).mpr (c y h1 h2)⟩
/-- after a value is taken out -/
def RMV (M : kM) (o t asd : Nat) (T : kT) (k it : Nat) (x : Option Nat) (M2 : kM) : Prop := ∃ T2, TM M2 o t asd T2 ∧ tN T2 k = none ∧ (∀ j, j ≠ k → (tN T2 j).map (fun _ => tV T2 j) = (tN T j).map (fun _ => tV T j)) ∧ NXF T2 (k + 1) x ∧ TI M2 t T2 it x none ∧ Fr (fun z => z = o ∨ z = it + 1) M M2
theorem RMV_of {M M1 M2 : kM} {o t asd : Nat} {T : kT} {lo hi : Nat → Nat} {k a it : Nat} {x : Option Nat} (hW : WTT T lo hi) (hk : tN T k = some a) (hx : NXF T (k + 1) x) (ho : it + 1 ≠ o) (h1 : mK M1 it = some 84 ∧ mG M1 it = it + 1 ∧ mR M1 (fc 84 3) it = some t) (hn : mR M1 (fc 84 0) it = if tL T k ≠ none ∧ tR T k ≠ none then some a else x.bind (tN T)) (hF : Fr (fun z => z = it + 1) M M1) (hD : DP M1 o t asd T k a M2) :
    RMV M o t asd T k it x (sR (sI M2 (fc 84 2) it (mI M2 (fc 41 5) t)) (fc 84 1) it none) := by
  obtain ⟨T2, hT, hn2, hm, hs, hF2⟩ := hD
  have b := hF2.1 it (by rw [h1.1]; exact fun e => by cases e)
  have s := b.2.2 (by rw [h1.2.1]; exact ho)
  have g2 : mG M2 it = it + 1 := by rw [b.2.1]; exact h1.2.1
  have hF3 : Fr (fun z => z = it + 1) M2 (sR (sI M2 (fc 84 2) it (mI M2 (fc 41 5) t)) (fc 84 1) it none) := (Fr.rf.I (Or.inr g2)).R (Or.inr g2)
  refine ⟨T2, hT.fr hF3 (fun e => ho e.symm), hn2, hm, nx_del hm hx, ⟨by rw [show mK (sR (sI M2 (fc 84 2) it (mI M2 (fc 41 5) t)) (fc 84 1) it none) = mK M2 from rfl, b.1]; exact h1.1, g2, ?_, ?_, ?_, mR_sR⟩, ((hF.mono (fun _ q => Or.inr q)).tr (hF2.mono (fun _ q => Or.inl q))).tr (hF3.mono (fun _ q => Or.inr q))⟩
  · rw [mR_sR_c (by decide), show mR (sI M2 (fc 84 2) it (mI M2 (fc 41 5) t)) = mR M2 from rfl, s.2.1]; exact h1.2.2
  · show mI (sI M2 (fc 84 2) it (mI M2 (fc 41 5) t)) (fc 84 2) it = mI (sI M2 (fc 84 2) it (mI M2 (fc 41 5) t)) (fc 41 5) t
    exact mI_sI.trans (mI_sI_c (by decide)).symm
  · rw [mR_sR_c (by decide), show mR (sI M2 (fc 84 2) it (mI M2 (fc 41 5) t)) = mR M2 from rfl, s.2.1, hn]
    cases x with
    | none =>
      by_cases c : tL T k ≠ none ∧ tR T k ≠ none
      · obtain ⟨s, e⟩ := nx_r hW (nns hk) c.2 hx; cases e
      · rw [if_neg c]; rfl
    | some s => exact (hs s hx).symm
theorem ffJ50_1_90 : FF "java/util/TreeMap$Values" 1 90 0 "java/util/TreeMap$Values" := ⟨by decide, by decide, q3138, Or.inl rfl⟩
set_option maxHeartbeats 800000 in
set_option maxRecDepth 100000 in
theorem c_J50_init (l : Launch) (G : kG) (M : kM) (vs t : Nat) (hk : mK M vs = some 90) : Kt l G yJ50_init cJ50_init 2 none 2 40 [.ref vs, .ref t] M (0) (0) (fun v M2 => v = none ∧ M2 = sR M (fc 90 0) vs (some t)) := by
  refine Kt.of (own := "java/util/TreeMap$Values") (L := [some (.ref vs), some (.ref t)]) (by decide +kernel) rfl (Nat.le_of_ble_eq_true rfl) rfl ?_
  intro pp ee ss mm args below meth cd hmn hret
  refine x_aload_n (n' := 1) dJ50_init_0 rfl rfl rfl ?_
  refine x_aload_n (n' := 2) dJ50_init_1 rfl rfl rfl ?_
  refine x_putRF (n' := 5) (v := some (t)) dJ50_init_2 (by repeat' (first | with_reducible exact hk | with_reducible apply mK_A | with_reducible apply mK_I | with_reducible apply mK_L | with_reducible apply mK_R | with_reducible apply mK_O | with_reducible apply mK_G | with_reducible refine mK_NA ?_ (by assumption) | with_reducible refine mK_NO ?_ (by assumption))) ffJ50_1_90 rfl rfl hmn rfl rfl ?_
  refine x_aload_n (n' := 6) dJ50_init_5 rfl rfl rfl ?_
  refine x_callI (n' := 9) (ret := none) (n := 0) (c_J3_init l G _ vs) dJ50_init_6 (lw_meth q305) q88 q3137 q304 rfl (by decide +kernel) ⟨(Nat.le_of_ble_eq_true rfl), (Nat.le_of_ble_eq_true rfl)⟩ rfl rfl (Nat.le_of_ble_eq_true rfl) (by first | exact Nat.le_of_ble_eq_true rfl | omega) (by first | exact Nat.le_of_ble_eq_true rfl | omega) rfl (fun v_1 M_2 h_4 hE_3 => ?_)
  obtain ⟨rfl, hMs⟩ := h_4
  have hMs := hMs.symm
  subst hMs
  exact x_vret dJ50_init_9 hret (by repeat' (first | with_reducible exact kE.rf | with_reducible exact hE_3 | with_reducible apply kE_A | with_reducible apply kE_I | with_reducible apply kE_L | with_reducible apply kE_R | with_reducible apply kE_O | with_reducible apply kE_G | with_reducible refine kE.tr ?_ hE_3)) (⟨rfl, rfl⟩)

theorem ffJ1_233_41 : FF "java/util/TreeMap" 233 41 1 "java/util/TreeMap" := ⟨by decide, by decide, q194, Or.inr q195⟩
set_option maxHeartbeats 800000 in
set_option maxRecDepth 100000 in
theorem c_J1_values (l : Launch) (G : kG) (M : kM) (o t asd : Nat) (T : kT) (hT : TM M o t asd T) (ho : o = 0 ∨ mK M (o - 1) ≠ none) : Kt l G yJ1_values cJ1_values 2 (some (.object "java/util/Collection")) 3 61 [.ref t] M (1) (1) (fun v M2 => ∃ vs, v = some (.ref vs) ∧ mK M2 vs = some 90 ∧ mR M2 (fc 90 0) vs = some t ∧ TM M2 o t asd T ∧ Fr (fun z => z = o) M M2) := by
  refine Kt.of (own := "java/util/TreeMap") (L := [some (.ref t), none]) (by decide +kernel) rfl (Nat.le_of_ble_eq_true rfl) rfl ?_
  intro pp ee ss mm args below meth cd hmn hret
  have hkt : mK M t = some 41 := hT.1.k
  refine x_aload_n (n' := 1) dJ1_values_0 rfl rfl rfl ?_
  refine x_getRc (n' := 4) dJ1_values_1 (by repeat' (first | with_reducible exact hkt | with_reducible apply mK_A | with_reducible apply mK_I | with_reducible apply mK_L | with_reducible apply mK_R | with_reducible apply mK_O | with_reducible apply mK_G | with_reducible refine mK_NA ?_ (by assumption) | with_reducible refine mK_NO ?_ (by assumption))) ffJ1_233_41 rfl rfl (fun e1_1 => ?_) (fun vs e1_1 => ?_)
  · refine x_astore_nN (n' := 5) dJ1_values_4 rfl (Nat.le_of_ble_eq_true rfl) rfl (by dsimp only [List.set] <;> rfl) rfl ?_
    refine x_aload_nN (n' := 6) dJ1_values_5 rfl rfl rfl ?_
    refine x_ifnonnullN (n' := 9) dJ1_values_6 rfl ?_
    refine x_new (n' := 12) (K := 90) dJ1_values_9 (by decide) q3132 q3133 q158 (by first | exact Nat.le_of_ble_eq_true rfl | omega) (by first | exact Nat.le_of_ble_eq_true rfl | omega | (show 1 ≤ _; omega)) rfl (fun vs2 hq_vs2 hB_vs2 => ?_)
    have hE_2 := kE_nO (K := 90) hq_vs2
    have k_vs2 := mK_nO_of hE_2
    refine x_ghost vs2 o ?_
    refine x_dup (n' := 13) dJ1_values_12 rfl rfl ?_
    refine x_aload_n (n' := 14) dJ1_values_13 rfl rfl rfl ?_
    refine x_callI (n' := 17) (ret := none) (n := 1) (c_J50_init l G _ vs2 t (by repeat' (first | with_reducible exact k_vs2 | with_reducible apply mK_A | with_reducible apply mK_I | with_reducible apply mK_L | with_reducible apply mK_R | with_reducible apply mK_O | with_reducible apply mK_G | with_reducible refine mK_NA ?_ (by assumption) | with_reducible refine mK_NO ?_ (by assumption) | with_reducible refine kE.ap hE_2 ?_))) dJ1_values_14 (lw_meth q3136) q158 q3134 q3135 rfl (by decide +kernel) ⟨(Nat.le_of_ble_eq_true rfl), (Nat.le_of_ble_eq_true rfl)⟩ rfl rfl (Nat.le_of_ble_eq_true rfl) (by first | exact Nat.le_of_ble_eq_true rfl | omega) (by first | exact Nat.le_of_ble_eq_true rfl | omega) rfl (fun v_3 M_4 h_6 hE_5 => ?_)
    obtain ⟨rfl, hMs⟩ := h_6
    have hMs := hMs.symm
    subst hMs
    refine x_astore_n (n' := 18) dJ1_values_17 rfl (Nat.le_of_ble_eq_true rfl) rfl (by dsimp only [List.set] <;> rfl) rfl ?_
    refine x_aload_n (n' := 19) dJ1_values_18 rfl rfl rfl ?_
    refine x_aload_n (n' := 20) dJ1_values_19 rfl rfl rfl ?_
    refine x_putR (n' := 23) (v := some (vs2)) dJ1_values_20 (by repeat' (first | with_reducible exact hkt | with_reducible apply mK_A | with_reducible apply mK_I | with_reducible apply mK_L | with_reducible apply mK_R | with_reducible apply mK_O | with_reducible apply mK_G | with_reducible refine mK_NA ?_ (by assumption) | with_reducible refine mK_NO ?_ (by assumption) | with_reducible refine kE.ap hE_2 ?_ | with_reducible refine kE.ap hE_5 ?_)) ffJ1_233_41 rfl rfl rfl ?_
    refine x_aload_n (n' := 24) dJ1_values_23 rfl rfl rfl ?_
    exact x_aret dJ1_values_24 hret (Or.inl ⟨_, rfl⟩) (by first | exact kE.rf | exact (((vs_fr hq_vs2 ho).mono (fun _ q => q.elim)).R (S := fun z => z = o) (Or.inr hT.1.g)).kE) (⟨vs2, rfl, (vs_k (M := M) (o := o) (t := t)).1, (mR_sR_c (by decide)).trans (vs_k (M := M) (o := o)).2.2, vs_T hT hq_vs2 ho, ((vs_fr hq_vs2 ho).mono (fun _ q => q.elim)).R (Or.inr hT.1.g)⟩)
  · have k_vs : mK _ vs = some 90 := (hT.1.vc.2 vs e1_1).1
    refine x_astore_n (n' := 5) dJ1_values_4 rfl (Nat.le_of_ble_eq_true rfl) rfl (by dsimp only [List.set] <;> rfl) rfl ?_
    refine x_aload_n (n' := 6) dJ1_values_5 rfl rfl rfl ?_
    refine x_ifnonnull (tgt := 23) dJ1_values_6 (by decide) ?_
    refine x_aload_n (n' := 24) dJ1_values_23 rfl rfl rfl ?_
    exact x_aret dJ1_values_24 hret (Or.inl ⟨_, rfl⟩) (by first | exact kE.rf | exact (((vs_fr hq_vs2 ho).mono (fun _ q => q.elim)).R (S := fun z => z = o) (Or.inr hT.1.g)).kE) (⟨vs, rfl, (hT.1.vc.2 vs (by assumption)).1, (hT.1.vc.2 vs (by assumption)).2.2, hT, Fr.rf⟩)

theorem ffJ43_1_84 : FF "java/util/TreeMap$PrivateEntryIterator" 1 84 3 "java/util/TreeMap$PrivateEntryIterator" := ⟨by decide, by decide, q1720, Or.inl rfl⟩
theorem ffJ43_13_41 : FFN "java/util/TreeMap$PrivateEntryIterator" 13 41 5 "java/util/TreeMap" "java/util/TreeMap" := ⟨by decide, by decide, q193, rfl⟩
theorem ffJ43_19_84 : FF "java/util/TreeMap$PrivateEntryIterator" 19 84 2 "java/util/TreeMap$PrivateEntryIterator" := ⟨by decide, by decide, q1719, Or.inl rfl⟩
theorem ffJ43_22_84 : FF "java/util/TreeMap$PrivateEntryIterator" 22 84 1 "java/util/TreeMap$PrivateEntryIterator" := ⟨by decide, by decide, q1718, Or.inl rfl⟩
theorem ffJ43_26_84 : FF "java/util/TreeMap$PrivateEntryIterator" 26 84 0 "java/util/TreeMap$PrivateEntryIterator" := ⟨by decide, by decide, q1717, Or.inl rfl⟩
set_option maxHeartbeats 800000 in
set_option maxRecDepth 100000 in
theorem c_J43_init__n (l : Launch) (G : kG) (M : kM) (it t : Nat) (hk : mK M it = some 84) (ht : mK M t = some 41) : Kt l G yJ43_init cJ43_init 3 none 1 20 [.ref it, .ref t, .null] M (0) (0) (fun v M2 => v = none ∧ M2 = itM M it t none) := by
  refine Kt.of (own := "java/util/TreeMap$PrivateEntryIterator") (L := [some (.ref it), some (.ref t), some (.null)]) (by decide +kernel) rfl (Nat.le_of_ble_eq_true rfl) rfl ?_
  intro pp ee ss mm args below meth cd hmn hret
  refine x_aload_n (n' := 1) dJ43_init_0 rfl rfl rfl ?_
  refine x_aload_n (n' := 2) dJ43_init_1 rfl rfl rfl ?_
  refine x_putRF (n' := 5) (v := some (t)) dJ43_init_2 (by repeat' (first | with_reducible exact hk | with_reducible apply mK_A | with_reducible apply mK_I | with_reducible apply mK_L | with_reducible apply mK_R | with_reducible apply mK_O | with_reducible apply mK_G | with_reducible refine mK_NA ?_ (by assumption) | with_reducible refine mK_NO ?_ (by assumption))) ffJ43_1_84 rfl rfl hmn rfl rfl ?_
  refine x_aload_n (n' := 6) dJ43_init_5 rfl rfl rfl ?_
  refine x_objInit (n' := 9) dJ43_init_6 q1716 ⟨(Nat.le_of_ble_eq_true rfl), (Nat.le_of_ble_eq_true rfl)⟩ (Nat.le_of_ble_eq_true rfl) rfl ?_
  refine x_aload_n (n' := 10) dJ43_init_9 rfl rfl rfl ?_
  refine x_aload_n (n' := 11) dJ43_init_10 rfl rfl rfl ?_
  refine x_getIN (n' := 14) dJ43_init_11 (by repeat' (first | with_reducible exact ht | with_reducible apply mK_A | with_reducible apply mK_I | with_reducible apply mK_L | with_reducible apply mK_R | with_reducible apply mK_O | with_reducible apply mK_G | with_reducible refine mK_NA ?_ (by assumption) | with_reducible refine mK_NO ?_ (by assumption))) ffJ43_13_41 rfl rfl ?_
  refine x_putI (n' := 17) dJ43_init_14 (by repeat' (first | with_reducible exact hk | with_reducible apply mK_A | with_reducible apply mK_I | with_reducible apply mK_L | with_reducible apply mK_R | with_reducible apply mK_O | with_reducible apply mK_G | with_reducible refine mK_NA ?_ (by assumption) | with_reducible refine mK_NO ?_ (by assumption))) ffJ43_19_84 rfl (⟨rfl, rfl⟩) rfl rfl ?_
  refine x_aload_n (n' := 18) dJ43_init_17 rfl rfl rfl ?_
  refine x_null (n' := 19) dJ43_init_18 rfl ?_
  refine x_putR (n' := 22) (v := none) dJ43_init_19 (by repeat' (first | with_reducible exact hk | with_reducible apply mK_A | with_reducible apply mK_I | with_reducible apply mK_L | with_reducible apply mK_R | with_reducible apply mK_O | with_reducible apply mK_G | with_reducible refine mK_NA ?_ (by assumption) | with_reducible refine mK_NO ?_ (by assumption))) ffJ43_22_84 rfl rfl rfl ?_
  refine x_aload_n (n' := 23) dJ43_init_22 rfl rfl rfl ?_
  refine x_aload_nN (n' := 24) dJ43_init_23 rfl rfl rfl ?_
  refine x_putR (n' := 27) (v := none) dJ43_init_24 (by repeat' (first | with_reducible exact hk | with_reducible apply mK_A | with_reducible apply mK_I | with_reducible apply mK_L | with_reducible apply mK_R | with_reducible apply mK_O | with_reducible apply mK_G | with_reducible refine mK_NA ?_ (by assumption) | with_reducible refine mK_NO ?_ (by assumption))) ffJ43_26_84 rfl rfl rfl ?_
  exact x_vret dJ43_init_27 hret (by repeat' (first | with_reducible exact kE.rf | with_reducible apply kE_A | with_reducible apply kE_I | with_reducible apply kE_L | with_reducible apply kE_R | with_reducible apply kE_O | with_reducible apply kE_G)) (⟨rfl, rfl⟩)

set_option maxHeartbeats 800000 in
set_option maxRecDepth 100000 in
theorem c_J44_init__n (l : Launch) (G : kG) (M : kM) (it t : Nat) (hk : mK M it = some 84) (ht : mK M t = some 41) : Kt l G yJ44_init cJ44_init 3 none 2 42 [.ref it, .ref t, .null] M (0) (0) (fun v M2 => v = none ∧ M2 = itM M it t none) := by
  refine Kt.of (own := "java/util/TreeMap$ValueIterator") (L := [some (.ref it), some (.ref t), some (.null)]) (by decide +kernel) rfl (Nat.le_of_ble_eq_true rfl) rfl ?_
  intro pp ee ss mm args below meth cd hmn hret
  refine x_aload_n (n' := 1) dJ44_init_0 rfl rfl rfl ?_
  refine x_aload_n (n' := 2) dJ44_init_1 rfl rfl rfl ?_
  refine x_aload_nN (n' := 3) dJ44_init_2 rfl rfl rfl ?_
  refine x_callI (n' := 6) (ret := none) (n := 2) (c_J43_init__n l G _ it t (by repeat' (first | with_reducible exact hk | with_reducible apply mK_A | with_reducible apply mK_I | with_reducible apply mK_L | with_reducible apply mK_R | with_reducible apply mK_O | with_reducible apply mK_G | with_reducible refine mK_NA ?_ (by assumption) | with_reducible refine mK_NO ?_ (by assumption))) (by repeat' (first | with_reducible exact ht | with_reducible apply mK_A | with_reducible apply mK_I | with_reducible apply mK_L | with_reducible apply mK_R | with_reducible apply mK_O | with_reducible apply mK_G | with_reducible refine mK_NA ?_ (by assumption) | with_reducible refine mK_NO ?_ (by assumption)))) dJ44_init_3 (lw_meth q1715) q137 q1713 q1714 rfl (by decide +kernel) ⟨(Nat.le_of_ble_eq_true rfl), (Nat.le_of_ble_eq_true rfl)⟩ rfl rfl (Nat.le_of_ble_eq_true rfl) (by first | exact Nat.le_of_ble_eq_true rfl | omega) (by first | exact Nat.le_of_ble_eq_true rfl | omega) rfl (fun v_1 M_2 h_4 hE_3 => ?_)
  obtain ⟨rfl, hMs⟩ := h_4
  have hMs := hMs.symm
  subst hMs
  exact x_vret dJ44_init_6 hret (by repeat' (first | with_reducible exact kE.rf | with_reducible exact hE_3 | with_reducible apply kE_A | with_reducible apply kE_I | with_reducible apply kE_L | with_reducible apply kE_R | with_reducible apply kE_O | with_reducible apply kE_G | with_reducible refine kE.tr ?_ hE_3)) (⟨rfl, rfl⟩)

set_option maxHeartbeats 800000 in
set_option maxRecDepth 100000 in
theorem c_J43_init__s (l : Launch) (G : kG) (M : kM) (it t : Nat) (e9 : Nat) (hk : mK M it = some 84) (ht : mK M t = some 41) : Kt l G yJ43_init cJ43_init 3 none 1 20 [.ref it, .ref t, .ref e9] M (0) (0) (fun v M2 => v = none ∧ M2 = itM M it t (some e9)) := by
  refine Kt.of (own := "java/util/TreeMap$PrivateEntryIterator") (L := [some (.ref it), some (.ref t), some (.ref e9)]) (by decide +kernel) rfl (Nat.le_of_ble_eq_true rfl) rfl ?_
  intro pp ee ss mm args below meth cd hmn hret
  refine x_aload_n (n' := 1) dJ43_init_0 rfl rfl rfl ?_
  refine x_aload_n (n' := 2) dJ43_init_1 rfl rfl rfl ?_
  refine x_putRF (n' := 5) (v := some (t)) dJ43_init_2 (by repeat' (first | with_reducible exact hk | with_reducible apply mK_A | with_reducible apply mK_I | with_reducible apply mK_L | with_reducible apply mK_R | with_reducible apply mK_O | with_reducible apply mK_G | with_reducible refine mK_NA ?_ (by assumption) | with_reducible refine mK_NO ?_ (by assumption))) ffJ43_1_84 rfl rfl hmn rfl rfl ?_
  refine x_aload_n (n' := 6) dJ43_init_5 rfl rfl rfl ?_
  refine x_objInit (n' := 9) dJ43_init_6 q1716 ⟨(Nat.le_of_ble_eq_true rfl), (Nat.le_of_ble_eq_true rfl)⟩ (Nat.le_of_ble_eq_true rfl) rfl ?_
  refine x_aload_n (n' := 10) dJ43_init_9 rfl rfl rfl ?_
  refine x_aload_n (n' := 11) dJ43_init_10 rfl rfl rfl ?_
  refine x_getIN (n' := 14) dJ43_init_11 (by repeat' (first | with_reducible exact ht | with_reducible apply mK_A | with_reducible apply mK_I | with_reducible apply mK_L | with_reducible apply mK_R | with_reducible apply mK_O | with_reducible apply mK_G | with_reducible refine mK_NA ?_ (by assumption) | with_reducible refine mK_NO ?_ (by assumption))) ffJ43_13_41 rfl rfl ?_
  refine x_putI (n' := 17) dJ43_init_14 (by repeat' (first | with_reducible exact hk | with_reducible apply mK_A | with_reducible apply mK_I | with_reducible apply mK_L | with_reducible apply mK_R | with_reducible apply mK_O | with_reducible apply mK_G | with_reducible refine mK_NA ?_ (by assumption) | with_reducible refine mK_NO ?_ (by assumption))) ffJ43_19_84 rfl (⟨rfl, rfl⟩) rfl rfl ?_
  refine x_aload_n (n' := 18) dJ43_init_17 rfl rfl rfl ?_
  refine x_null (n' := 19) dJ43_init_18 rfl ?_
  refine x_putR (n' := 22) (v := none) dJ43_init_19 (by repeat' (first | with_reducible exact hk | with_reducible apply mK_A | with_reducible apply mK_I | with_reducible apply mK_L | with_reducible apply mK_R | with_reducible apply mK_O | with_reducible apply mK_G | with_reducible refine mK_NA ?_ (by assumption) | with_reducible refine mK_NO ?_ (by assumption))) ffJ43_22_84 rfl rfl rfl ?_
  refine x_aload_n (n' := 23) dJ43_init_22 rfl rfl rfl ?_
  refine x_aload_n (n' := 24) dJ43_init_23 rfl rfl rfl ?_
  refine x_putR (n' := 27) (v := some (e9)) dJ43_init_24 (by repeat' (first | with_reducible exact hk | with_reducible apply mK_A | with_reducible apply mK_I | with_reducible apply mK_L | with_reducible apply mK_R | with_reducible apply mK_O | with_reducible apply mK_G | with_reducible refine mK_NA ?_ (by assumption) | with_reducible refine mK_NO ?_ (by assumption))) ffJ43_26_84 rfl rfl rfl ?_
  exact x_vret dJ43_init_27 hret (by repeat' (first | with_reducible exact kE.rf | with_reducible apply kE_A | with_reducible apply kE_I | with_reducible apply kE_L | with_reducible apply kE_R | with_reducible apply kE_O | with_reducible apply kE_G)) (⟨rfl, rfl⟩)

set_option maxHeartbeats 800000 in
set_option maxRecDepth 100000 in
theorem c_J44_init__s (l : Launch) (G : kG) (M : kM) (it t : Nat) (e9 : Nat) (hk : mK M it = some 84) (ht : mK M t = some 41) : Kt l G yJ44_init cJ44_init 3 none 2 42 [.ref it, .ref t, .ref e9] M (0) (0) (fun v M2 => v = none ∧ M2 = itM M it t (some e9)) := by
  refine Kt.of (own := "java/util/TreeMap$ValueIterator") (L := [some (.ref it), some (.ref t), some (.ref e9)]) (by decide +kernel) rfl (Nat.le_of_ble_eq_true rfl) rfl ?_
  intro pp ee ss mm args below meth cd hmn hret
  refine x_aload_n (n' := 1) dJ44_init_0 rfl rfl rfl ?_
  refine x_aload_n (n' := 2) dJ44_init_1 rfl rfl rfl ?_
  refine x_aload_n (n' := 3) dJ44_init_2 rfl rfl rfl ?_
  refine x_callI (n' := 6) (ret := none) (n := 2) (c_J43_init__s l G _ it t e9 (by repeat' (first | with_reducible exact hk | with_reducible apply mK_A | with_reducible apply mK_I | with_reducible apply mK_L | with_reducible apply mK_R | with_reducible apply mK_O | with_reducible apply mK_G | with_reducible refine mK_NA ?_ (by assumption) | with_reducible refine mK_NO ?_ (by assumption))) (by repeat' (first | with_reducible exact ht | with_reducible apply mK_A | with_reducible apply mK_I | with_reducible apply mK_L | with_reducible apply mK_R | with_reducible apply mK_O | with_reducible apply mK_G | with_reducible refine mK_NA ?_ (by assumption) | with_reducible refine mK_NO ?_ (by assumption)))) dJ44_init_3 (lw_meth q1715) q137 q1713 q1714 rfl (by decide +kernel) ⟨(Nat.le_of_ble_eq_true rfl), (Nat.le_of_ble_eq_true rfl)⟩ rfl rfl (Nat.le_of_ble_eq_true rfl) (by first | exact Nat.le_of_ble_eq_true rfl | omega) (by first | exact Nat.le_of_ble_eq_true rfl | omega) rfl (fun v_1 M_2 h_4 hE_3 => ?_)
  obtain ⟨rfl, hMs⟩ := h_4
  have hMs := hMs.symm
  subst hMs
  exact x_vret dJ44_init_6 hret (by repeat' (first | with_reducible exact kE.rf | with_reducible exact hE_3 | with_reducible apply kE_A | with_reducible apply kE_I | with_reducible apply kE_L | with_reducible apply kE_R | with_reducible apply kE_O | with_reducible apply kE_G | with_reducible refine kE.tr ?_ hE_3)) (⟨rfl, rfl⟩)

set_option maxHeartbeats 800000 in
set_option maxRecDepth 100000 in
theorem c_J50_iterator (l : Launch) (G : kG) (M : kM) (o t asd : Nat) (T : kT) (vs : Nat) (hT : TM M o t asd T) (hk : mK M vs = some 90) (hr : mR M (fc 90 0) vs = some t) : Kt l G yJ50_iterator cJ50_iterator 1 (some (.object "java/util/Iterator")) 3 64 [.ref vs] M (1) (4) (fun v M2 => ∃ it x, v = some (.ref it) ∧ mK M it = none ∧ NXF T 0 x ∧ TI M2 t T it x none ∧ Fr (fun _ => False) M M2) := by
  refine Kt.of (own := "java/util/TreeMap$Values") (L := [some (.ref vs)]) (by decide +kernel) rfl (Nat.le_of_ble_eq_true rfl) rfl ?_
  intro pp ee ss mm args below meth cd hmn hret
  obtain ⟨hP, hV, lo, hi, hW⟩ := hT
  refine x_new (n' := 3) (K := 84) dJ50_iterator_0 (by decide) q1704 q1705 q138 (by first | exact Nat.le_of_ble_eq_true rfl | omega) (by first | exact Nat.le_of_ble_eq_true rfl | omega | (show 4 ≤ _; omega)) rfl (fun it hq_it hB_it => ?_)
  have hE_1 := kE_nO (K := 84) hq_it
  have k_it := mK_nO_of hE_1
  refine x_ghost it (it + 1) ?_
  refine x_gen (X := fun M9 => PT M9 o t asd T ∧ Fr (fun _ => False) M M9 ∧ mK M9 it = some 84 ∧ mG M9 it = it + 1 ∧ mK M9 vs = some 90 ∧ mR M9 (fc 90 0) vs = some t) ⟨hP.fr (Fr.rf.obj hq_it (Or.inr (Or.inl rfl)) : Fr (fun _ => False) M _) id, Fr.rf.obj hq_it (Or.inr (Or.inl rfl)), mK_nO (M := M), mG_sG (M := nO M it 84), (Fr.rf.obj hq_it (Or.inr (Or.inl rfl)) : Fr (fun _ => False) M _).kE _ _ hk, mR_NO (K := 84) hr (kne hk hq_it)⟩ (fun M_9 hM9 => ?_)
  obtain ⟨hP, hF, k_it, g_it, hk, hr⟩ := hM9
  refine x_dup (n' := 4) dJ50_iterator_3 rfl rfl ?_
  refine x_aload_n (n' := 5) dJ50_iterator_4 rfl rfl rfl ?_
  refine x_getRs (n' := 8) (b := t) dJ50_iterator_5 (by repeat' (first | with_reducible exact hk | with_reducible apply mK_A | with_reducible apply mK_I | with_reducible apply mK_L | with_reducible apply mK_R | with_reducible apply mK_O | with_reducible apply mK_G | with_reducible refine mK_NA ?_ (by assumption) | with_reducible refine mK_NO ?_ (by assumption) | with_reducible refine kE.ap hE_1 ?_)) ffJ50_1_90 rfl (hr) rfl ?_
  refine x_aload_n (n' := 9) dJ50_iterator_8 rfl rfl rfl ?_
  refine x_getRs (n' := 12) (b := t) dJ50_iterator_9 (by repeat' (first | with_reducible exact hk | with_reducible apply mK_A | with_reducible apply mK_I | with_reducible apply mK_L | with_reducible apply mK_R | with_reducible apply mK_O | with_reducible apply mK_G | with_reducible refine mK_NA ?_ (by assumption) | with_reducible refine mK_NO ?_ (by assumption) | with_reducible refine kE.ap hE_1 ?_)) ffJ50_1_90 rfl (hr) rfl ?_
  refine x_callV (n' := 15) (n := 0) (K := 41) (c_J1_getFirstEntry l G _ o t asd T lo hi hP hW) dJ50_iterator_12 (hP.k) rfl (lw_V q1706 q1707 q1708 q81 q1709) (by decide +kernel) ⟨(Nat.le_of_ble_eq_true rfl), (Nat.le_of_ble_eq_true rfl)⟩ rfl rfl (Nat.le_of_ble_eq_true rfl) (by first | exact Nat.le_of_ble_eq_true rfl | omega) (by first | exact Nat.le_of_ble_eq_true rfl | omega) rfl (fun v_2 M_3 h_5 hE_4 => ?_)
  obtain ⟨x, rfl, hMs, hx⟩ := h_5
  have hMs := hMs.symm
  subst hMs
  refine x_topq (fun hb9 => ?_) (fun b9 hb9 => ?_)
  · refine x_callI (n' := 18) (ret := none) (n := 2) (c_J44_init__n l G _ it t k_it hP.k) dJ50_iterator_15 (lw_meth q1712) q138 q1710 q1711 rfl (by decide +kernel) ⟨(Nat.le_of_ble_eq_true rfl), (Nat.le_of_ble_eq_true rfl)⟩ rfl rfl (Nat.le_of_ble_eq_true rfl) (by first | exact Nat.le_of_ble_eq_true rfl | omega) (by first | exact Nat.le_of_ble_eq_true rfl | omega) rfl (fun v_6 M_7 h_9 hE_8 => ?_)
    obtain ⟨rfl, hMs⟩ := h_9
    have hMs := hMs.symm
    subst hMs
    have hF9 : Fr (fun _ => False) M (itM _ it t none) := (((hF.R (Or.inl hq_it)).I (Or.inl hq_it)).R (Or.inl hq_it)).R (Or.inl hq_it)
    have hTI : TI (itM M_9 it t none) t T it x none := Eq.mp (congrArg (fun y9 => TI (itM M_9 it t y9) t T it x none) hb9) (itM_TI k_it g_it)
    exact x_aret dJ50_iterator_18 hret (Or.inl ⟨_, rfl⟩) hF9.kE (⟨it, x, rfl, hq_it, hx, hTI, hF9⟩)
  · refine x_callI (n' := 18) (ret := none) (n := 2) (c_J44_init__s l G _ it t b9 k_it hP.k) dJ50_iterator_15 (lw_meth q1712) q138 q1710 q1711 rfl (by decide +kernel) ⟨(Nat.le_of_ble_eq_true rfl), (Nat.le_of_ble_eq_true rfl)⟩ rfl rfl (Nat.le_of_ble_eq_true rfl) (by first | exact Nat.le_of_ble_eq_true rfl | omega) (by first | exact Nat.le_of_ble_eq_true rfl | omega) rfl (fun v_10 M_11 h_13 hE_12 => ?_)
    obtain ⟨rfl, hMs⟩ := h_13
    have hMs := hMs.symm
    subst hMs
    have hF9 : Fr (fun _ => False) M (itM _ it t (some b9)) := (((hF.R (Or.inl hq_it)).I (Or.inl hq_it)).R (Or.inl hq_it)).R (Or.inl hq_it)
    have hTI : TI (itM M_9 it t (some b9)) t T it x none := Eq.mp (congrArg (fun y9 => TI (itM M_9 it t y9) t T it x none) hb9) (itM_TI k_it g_it)
    exact x_aret dJ50_iterator_18 hret (Or.inl ⟨_, rfl⟩) hF9.kE (⟨it, x, rfl, hq_it, hx, hTI, hF9⟩)

set_option maxHeartbeats 800000 in
set_option maxRecDepth 100000 in
theorem c_J43_hasNext (l : Launch) (G : kG) (M : kM) (t it : Nat) (T : kT) (x lr : Option Nat) (hti : TI M t T it x lr) (hx : ∀ j, x = some j → tN T j ≠ none) : Kt l G yJ43_hasNext cJ43_hasNext 1 (some .boolean) 0 0 [.ref it] M (0) (0) (fun v M2 => v = some (.int (if x = none then 0 else 1)) ∧ M2 = M) := by
  refine Kt.of (own := "java/util/TreeMap$PrivateEntryIterator") (L := [some (.ref it)]) (by decide +kernel) rfl (Nat.le_of_ble_eq_true rfl) rfl ?_
  intro pp ee ss mm args below meth cd hmn hret
  refine x_aload_n (n' := 1) dJ43_hasNext_0 rfl rfl rfl ?_
  refine x_getRc (n' := 4) dJ43_hasNext_1 (hti.1) ffJ43_26_84 rfl rfl (fun e1_1 => ?_) (fun b9 e1_1 => ?_)
  · refine x_ifnullN (tgt := 11) dJ43_hasNext_4 (by decide) ?_
    refine x_iconst (n' := 12) (v := 0) dJ43_hasNext_11 (by decide) rfl ?_
    exact x_zret dJ43_hasNext_12 hret (k_zn (by first | exact Or.inl rfl | exact Or.inr rfl | assumption)) (by repeat' (first | with_reducible exact kE.rf | with_reducible apply kE_A | with_reducible apply kE_I | with_reducible apply kE_L | with_reducible apply kE_R | with_reducible apply kE_O | with_reducible apply kE_G)) (⟨congrArg (fun z => some (Value.int z)) (by first | exact (if_pos (bn_n hti.2.2.2.2.1 (by assumption) hx)).symm | exact (if_neg (fun e9 => by obtain ⟨j, e8, -⟩ := bn_s hti.2.2.2.2.1 (by assumption); rw [e9] at e8; cases e8)).symm), rfl⟩)
  · refine x_ifnull (n' := 7) dJ43_hasNext_4 rfl ?_
    refine x_iconst (n' := 8) (v := 1) dJ43_hasNext_7 (by decide) rfl ?_
    refine x_goto (tgt := 12) dJ43_hasNext_8 (by decide) ?_
    exact x_zret dJ43_hasNext_12 hret (k_zn (by first | exact Or.inl rfl | exact Or.inr rfl | assumption)) (by repeat' (first | with_reducible exact kE.rf | with_reducible apply kE_A | with_reducible apply kE_I | with_reducible apply kE_L | with_reducible apply kE_R | with_reducible apply kE_O | with_reducible apply kE_G)) (⟨congrArg (fun z => some (Value.int z)) (by first | exact (if_pos (bn_n hti.2.2.2.2.1 (by assumption) hx)).symm | exact (if_neg (fun e9 => by obtain ⟨j, e8, -⟩ := bn_s hti.2.2.2.2.1 (by assumption); rw [e9] at e8; cases e8)).symm), rfl⟩)

set_option maxHeartbeats 800000 in
set_option maxRecDepth 100000 in
theorem c_J43_nextEntry (l : Launch) (G : kG) (M : kM) (o t asd : Nat) (T : kT) (it k a : Nat) (lr : Option Nat) (hT : TM M o t asd T) (hti : TI M t T it (some k) lr) (hk : tN T k = some a) : Kt l G yJ43_nextEntry cJ43_nextEntry 2 (some (.object "java/util/TreeMap$Entry")) 1 22 [.ref it] M (0) (0) (fun v M2 => v = some (.ref a) ∧ ∃ x2, NXF T (k + 1) x2 ∧ M2 = nxM M it (x2.bind (tN T)) a) := by
  refine Kt.of (own := "java/util/TreeMap$PrivateEntryIterator") (L := [some (.ref it), none]) (by decide +kernel) rfl (Nat.le_of_ble_eq_true rfl) rfl ?_
  intro pp ee ss mm args below meth cd hmn hret
  obtain ⟨hP, hV, lo, hi, hW⟩ := hT
  refine x_aload_n (n' := 1) dJ43_nextEntry_0 rfl rfl rfl ?_
  refine x_getRs (n' := 4) (b := a) dJ43_nextEntry_1 (hti.1) ffJ43_26_84 rfl (hti.2.2.2.2.1.trans hk) rfl ?_
  refine x_astore_n (n' := 5) dJ43_nextEntry_4 rfl (Nat.le_of_ble_eq_true rfl) rfl (by dsimp only [List.set] <;> rfl) rfl ?_
  refine x_aload_n (n' := 6) dJ43_nextEntry_5 rfl rfl rfl ?_
  refine x_ifnonnull (tgt := 17) dJ43_nextEntry_6 (by decide) ?_
  refine x_aload_n (n' := 18) dJ43_nextEntry_17 rfl rfl rfl ?_
  refine x_getRs (n' := 21) (b := t) dJ43_nextEntry_18 (hti.1) ffJ43_1_84 rfl (hti.2.2.1) rfl ?_
  refine x_getIN (n' := 24) dJ43_nextEntry_21 (hP.k) ffJ43_13_41 rfl rfl ?_
  refine x_aload_n (n' := 25) dJ43_nextEntry_24 rfl rfl rfl ?_
  refine x_getI (n' := 28) dJ43_nextEntry_25 (hti.1) ffJ43_19_84 rfl rfl ?_
  refine x_icmp_eq (n' := 31) (tgt := 39) dJ43_nextEntry_28 (by decide) rfl (fun c28_1 => ?_) (fun c28_1 => absurd hti.2.2.2.1.symm c28_1)
  refine x_aload_n (n' := 40) dJ43_nextEntry_39 rfl rfl rfl ?_
  refine x_aload_n (n' := 41) dJ43_nextEntry_40 rfl rfl rfl ?_
  refine x_callS (n' := 44) (n := 1) (c_J1_successor l G _ o t asd T k a lo hi hP hW hk) dJ43_nextEntry_41 (lw_S q1919 q1920 q81 q1921) (by decide +kernel) ⟨(Nat.le_of_ble_eq_true rfl), (Nat.le_of_ble_eq_true rfl)⟩ rfl rfl (Nat.le_of_ble_eq_true rfl) (by first | exact Nat.le_of_ble_eq_true rfl | omega) (by first | exact Nat.le_of_ble_eq_true rfl | omega) rfl (fun v_2 M_3 h_5 hE_4 => ?_)
  obtain ⟨x, rfl, hMs, hx⟩ := h_5
  have hMs := hMs.symm
  subst hMs
  refine x_putR (n' := 47) (v := (x.bind (tN T))) dJ43_nextEntry_44 (hti.1) ffJ43_26_84 rfl rfl rfl ?_
  refine x_aload_n (n' := 48) dJ43_nextEntry_47 rfl rfl rfl ?_
  refine x_aload_n (n' := 49) dJ43_nextEntry_48 rfl rfl rfl ?_
  refine x_putR (n' := 52) (v := some (a)) dJ43_nextEntry_49 (hti.1) ffJ43_22_84 rfl rfl rfl ?_
  refine x_aload_n (n' := 53) dJ43_nextEntry_52 rfl rfl rfl ?_
  exact x_aret dJ43_nextEntry_53 hret (Or.inl ⟨_, rfl⟩) (by repeat' (first | with_reducible exact kE.rf | with_reducible exact hE_4 | with_reducible apply kE_A | with_reducible apply kE_I | with_reducible apply kE_L | with_reducible apply kE_R | with_reducible apply kE_O | with_reducible apply kE_G | with_reducible refine kE.tr ?_ hE_4)) (⟨rfl, x, hx, rfl⟩)

theorem ffJ44_13_88 : FF "java/util/TreeMap$ValueIterator" 13 88 1 "java/util/TreeMap$Entry" := ⟨by decide, by decide, q2493, Or.inl rfl⟩
set_option maxHeartbeats 800000 in
set_option maxRecDepth 100000 in
theorem c_J44_next (l : Launch) (G : kG) (M : kM) (o t asd : Nat) (T : kT) (it k a : Nat) (lr : Option Nat) (hT : TM M o t asd T) (hti : TI M t T it (some k) lr) (hk : tN T k = some a) : Kt l G yJ44_next cJ44_next 1 (some (.object "java/lang/Object")) 2 43 [.ref it] M (0) (0) (fun v M2 => v = some (.ref (tV T k)) ∧ ∃ x2, NXF T (k + 1) x2 ∧ M2 = nxM M it (x2.bind (tN T)) a) := by
  refine Kt.of (own := "java/util/TreeMap$ValueIterator") (L := [some (.ref it)]) (by decide +kernel) rfl (Nat.le_of_ble_eq_true rfl) rfl ?_
  intro pp ee ss mm args below meth cd hmn hret
  refine x_aload_n (n' := 1) dJ44_next_0 rfl rfl rfl ?_
  refine x_callU (n' := 4) (n := 0) (K := 84) (x := ⟨"java/util/TreeMap$ValueIterator", "nextEntry", "()Ljava/util/TreeMap$Entry;"⟩) (owner := "java/util/TreeMap$PrivateEntryIterator") (c_J43_nextEntry l G _ o t asd T it k a lr hT hti hk) dJ44_next_1 (hti.1) rfl (lw_U5 q1913 q1914 q1916 q1917 q137 q1918) rfl (by decide +kernel) ⟨(Nat.le_of_ble_eq_true rfl), (Nat.le_of_ble_eq_true rfl)⟩ rfl rfl (Nat.le_of_ble_eq_true rfl) (by first | exact Nat.le_of_ble_eq_true rfl | omega) (by first | exact Nat.le_of_ble_eq_true rfl | omega) rfl (fun v_1 M_2 h_4 hE_3 => ?_)
  obtain ⟨rfl, x2, hx2, hMs⟩ := h_4
  subst hMs
  refine x_getRs (n' := 7) (b := (tV T k)) dJ44_next_4 (hT.1.nk hk) ffJ44_13_88 rfl ((mR_sR_c (by decide)).trans ((mR_sR_c (by decide)).trans (hT.1.val hk))) rfl ?_
  exact x_aret dJ44_next_7 hret (Or.inl ⟨_, rfl⟩) (by repeat' (first | with_reducible exact kE.rf | with_reducible exact hE_3 | with_reducible apply kE_A | with_reducible apply kE_I | with_reducible apply kE_L | with_reducible apply kE_R | with_reducible apply kE_O | with_reducible apply kE_G | with_reducible refine kE.tr ?_ hE_3)) (⟨rfl, x2, hx2, rfl⟩)

theorem RMV.kE {M M2 : kM} {o t asd : Nat} {T : kT} {k it : Nat} {x : Option Nat} (h : RMV M o t asd T k it x M2) : kE M M2 := by
  obtain ⟨_, _, _, _, _, _, hF⟩ := h
  exact hF.kE
theorem ffJ43_45_88 : FF "java/util/TreeMap$PrivateEntryIterator" 45 88 2 "java/util/TreeMap$Entry" := ⟨by decide, by decide, q2495, Or.inl rfl⟩
theorem ffJ43_50_88 : FF "java/util/TreeMap$PrivateEntryIterator" 50 88 3 "java/util/TreeMap$Entry" := ⟨by decide, by decide, q2497, Or.inl rfl⟩
set_option maxHeartbeats 800000 in
set_option maxRecDepth 100000 in
theorem k65_c_J43_remove (l : Launch) (G : kG) (M : kM) (o t asd : Nat) (T : kT) (it k a : Nat) (x : Option Nat) (hT : TM M o t asd T) (hti : TI M t T it x (some k)) (hk : tN T k = some a) (hx : NXF T (k + 1) x) (ho : it + 1 ≠ o) (pp : Program) (ee : Env) (ss : State) (mm : MethodId) (args : Array Value) (below : List Frame) (meth : Method) (cd : Code) (hmn : meth.name = yJ43_remove.name) (hret : meth.sig.returnType = none) : ∀ (M1 : kM) (hT1 : PT M1 o t asd T ∧ KV M1 T) (h1 : mK M1 it = some 84 ∧ mG M1 it = it + 1 ∧ mR M1 (fc 84 3) it = some t) (hl : mR M1 (fc 84 1) it = some a) (hn : mR M1 (fc 84 0) it = if tL T k ≠ none ∧ tR T k ≠ none then some a else x.bind (tN T)) (hF : Fr (fun z => z = it + 1) M M1), Wx pp l ee { frames := 3, cells := 0, slots := 0, locals := 66 } ss mm args below meth cd "java/util/TreeMap$PrivateEntryIterator" cJ43_remove 1 G (MQ below (KQ G M (fun v M2 => v = none ∧ RMV M o t asd T k it x M2)) args ss (0) (0) (kA G)) 65 [some (.ref it)] [] (M1) (0) (0) := by
  have hT0 := hT
  obtain ⟨hP, hV, lo, hi, hW⟩ := hT0
  intro M1 hT1 h1 hl hn hF
  refine x_aload_n (n' := 66) dJ43_remove_65 rfl rfl rfl ?_
  refine x_getRs (n' := 69) (b := t) dJ43_remove_66 (h1.1) ffJ43_1_84 rfl (h1.2.2) rfl ?_
  refine x_aload_n (n' := 70) dJ43_remove_69 rfl rfl rfl ?_
  refine x_getRs (n' := 73) (b := a) dJ43_remove_70 (h1.1) ffJ43_22_84 rfl (hl) rfl ?_
  refine x_callVN (n' := 76) (n := 1) (K := 41) (c_J1_deleteEntry l G _ o t asd T k a lo hi hT1.1 hT1.2 hW hk) dJ43_remove_73 (hT1.1.k) rfl (lw_meth q3232) q3229 q81 q3231 qs45 (by decide +kernel) ⟨(Nat.le_of_ble_eq_true rfl), (Nat.le_of_ble_eq_true rfl)⟩ rfl rfl (Nat.le_of_ble_eq_true rfl) (by first | exact Nat.le_of_ble_eq_true rfl | omega) (by first | exact Nat.le_of_ble_eq_true rfl | omega) rfl (fun v_1 M_2 h_3 hE_2 => ?_)
  obtain ⟨rfl, hD⟩ := h_3
  have hD0 := hD
  obtain ⟨T8, hT8, -, -, -, hF8⟩ := hD
  have hk2 : mK M_2 t = some 41 := hT8.1.k
  have h8 := hF8.1 it (by rw [h1.1]; exact fun e => by cases e)
  have h78 : mR M_2 (fc 84 3) it = some t := by rw [(h8.2.2 (by rw [h1.2.1]; exact ho)).2.1]; exact h1.2.2
  have k_it : mK M_2 it = some 84 := by rw [h8.1]; exact h1.1
  have hR := RMV_of hW hk hx ho h1 hn hF hD0
  refine x_aload_n (n' := 77) dJ43_remove_76 rfl rfl rfl ?_
  refine x_aload_n (n' := 78) dJ43_remove_77 rfl rfl rfl ?_
  refine x_getRs (n' := 81) (b := t) dJ43_remove_78 (k_it) ffJ43_1_84 rfl (h78) rfl ?_
  refine x_getIN (n' := 84) dJ43_remove_81 (hk2) ffJ43_13_41 rfl rfl ?_
  refine x_putI (n' := 87) dJ43_remove_84 (k_it) ffJ43_19_84 rfl (⟨rfl, rfl⟩) rfl rfl ?_
  refine x_aload_n (n' := 88) dJ43_remove_87 rfl rfl rfl ?_
  refine x_null (n' := 89) dJ43_remove_88 rfl ?_
  refine x_putR (n' := 92) (v := none) dJ43_remove_89 (k_it) ffJ43_22_84 rfl rfl rfl ?_
  exact x_vret dJ43_remove_92 hret hR.kE (⟨rfl, hR⟩)
set_option maxHeartbeats 800000 in
set_option maxRecDepth 100000 in
theorem c_J43_remove (l : Launch) (G : kG) (M : kM) (o t asd : Nat) (T : kT) (it k a : Nat) (x : Option Nat) (hT : TM M o t asd T) (hti : TI M t T it x (some k)) (hk : tN T k = some a) (hx : NXF T (k + 1) x) (ho : it + 1 ≠ o) : Kt l G yJ43_remove cJ43_remove 1 none 3 66 [.ref it] M (0) (0) (fun v M2 => v = none ∧ RMV M o t asd T k it x M2) := by
  refine Kt.of (own := "java/util/TreeMap$PrivateEntryIterator") (L := [some (.ref it)]) (by decide +kernel) rfl (Nat.le_of_ble_eq_true rfl) rfl ?_
  intro pp ee ss mm args below meth cd hmn hret
  have hT0 := hT
  obtain ⟨hP, hV, lo, hi, hW⟩ := hT0
  have cut65 := k65_c_J43_remove l G M o t asd T it k a x hT hti hk hx ho pp ee ss mm args below meth cd hmn hret
  refine x_aload_n (n' := 1) dJ43_remove_0 rfl rfl rfl ?_
  refine x_getRs (n' := 4) (b := a) dJ43_remove_1 (hti.1) ffJ43_22_84 rfl (hti.2.2.2.2.2.trans hk) rfl ?_
  refine x_ifnonnull (tgt := 15) dJ43_remove_4 (by decide) ?_
  refine x_aload_n (n' := 16) dJ43_remove_15 rfl rfl rfl ?_
  refine x_getRs (n' := 19) (b := t) dJ43_remove_16 (hti.1) ffJ43_1_84 rfl (hti.2.2.1) rfl ?_
  refine x_getIN (n' := 22) dJ43_remove_19 (hP.k) ffJ43_13_41 rfl rfl ?_
  refine x_aload_n (n' := 23) dJ43_remove_22 rfl rfl rfl ?_
  refine x_getI (n' := 26) dJ43_remove_23 (hti.1) ffJ43_19_84 rfl rfl ?_
  refine x_icmp_eq (n' := 29) (tgt := 37) dJ43_remove_26 (by decide) rfl (fun c26_4 => ?_) (fun c26_4 => absurd hti.2.2.2.1.symm c26_4)
  refine x_aload_n (n' := 38) dJ43_remove_37 rfl rfl rfl ?_
  refine x_getRs (n' := 41) (b := a) dJ43_remove_38 (hti.1) ffJ43_22_84 rfl (hti.2.2.2.2.2.trans hk) rfl ?_
  refine x_getRc (n' := 44) dJ43_remove_41 (hP.nk hk) ffJ43_45_88 rfl rfl (fun e41_5 => ?_) (fun bl e41_5 => ?_)
  · refine x_ifnullN (tgt := 65) dJ43_remove_44 (by decide) ?_
    exact x_drop (cut65 _ ⟨hP, hV⟩ ⟨hti.1, hti.2.1, hti.2.2.1⟩ (hti.2.2.2.2.2.trans hk) (hti.2.2.2.2.1.trans (if_neg (fun e => e.1 (hP.ln hW hk (by assumption)))).symm) Fr.rf) ⟨rfl, trivial⟩
  · refine x_ifnull (n' := 47) dJ43_remove_44 rfl ?_
    refine x_aload_n (n' := 48) dJ43_remove_47 rfl rfl rfl ?_
    refine x_getRs (n' := 51) (b := a) dJ43_remove_48 (hti.1) ffJ43_22_84 rfl (hti.2.2.2.2.2.trans hk) rfl ?_
    refine x_getRc (n' := 54) dJ43_remove_51 (hP.nk hk) ffJ43_50_88 rfl rfl (fun e51_6 => ?_) (fun br e51_6 => ?_)
    · refine x_ifnullN (tgt := 65) dJ43_remove_54 (by decide) ?_
      exact x_drop (cut65 _ ⟨hP, hV⟩ ⟨hti.1, hti.2.1, hti.2.2.1⟩ (hti.2.2.2.2.2.trans hk) (hti.2.2.2.2.1.trans (if_neg (fun e => e.2 (hP.rn hW hk (by assumption)))).symm) Fr.rf) ⟨rfl, trivial⟩
    · refine x_ifnull (n' := 57) dJ43_remove_54 rfl ?_
      refine x_aload_n (n' := 58) dJ43_remove_57 rfl rfl rfl ?_
      refine x_aload_n (n' := 59) dJ43_remove_58 rfl rfl rfl ?_
      refine x_getRs (n' := 62) (b := a) dJ43_remove_59 (hti.1) ffJ43_22_84 rfl (hti.2.2.2.2.2.trans hk) rfl ?_
      refine x_putR (n' := 65) (v := some (a)) dJ43_remove_62 (hti.1) ffJ43_26_84 rfl rfl rfl ?_
      exact x_drop (cut65 _ ⟨hP.fr (Fr.rf.R (Or.inr hti.2.1) : Fr (fun z => z = it + 1) M _) (fun e => ho e.symm), hV.wR⟩ ⟨hti.1, hti.2.1, (mR_sR_c (by decide)).trans hti.2.2.1⟩ ((mR_sR_c (by decide)).trans (hti.2.2.2.2.2.trans hk)) (mR_sR.trans (if_pos ⟨(by obtain ⟨j, h, -⟩ := hP.ls hk (b := bl) (by assumption); exact nns h), (by obtain ⟨j, h, -⟩ := hP.rs hk (b := br) (by assumption); exact nns h)⟩).symm) (Fr.rf.R (Or.inr hti.2.1))) ⟨rfl, trivial⟩
