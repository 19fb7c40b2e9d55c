theorem AL_push {G : kG} {M : kM} {t n c d x : Nat} {f : Nat → Nat} (h : ALd G M t n c d f) (hn : n < c) (hx : okO M x) : ALd G (sI (sO M d (va_up (mO M d) n (some x))) (fc 45 2) t (nI (n + 1))) t (n + 1) c d (va_up f n x) := by
  refine ⟨h.k, h.g, mI_sI, hn, h.cp, h.r, h.z, (fun hc => ⟨h.dk hc, h.dg hc, h.dn hc⟩), fun i hi => ?_⟩
  show mO (sO M d (va_up (mO M d) n (some x))) d i = _ ∧ okO M _
  rw [mO_sO]
  by_cases e : i = n
  · subst e; rw [va_up_self, va_up_self]; exact ⟨rfl, hx⟩
  · rw [va_up_ne _ _ e, va_up_ne _ _ e]; exact ⟨h.e (by omega), h.ok (by omega)⟩
/-- another element is not touched by a change of the count of changes -/
theorem AL_modc {G : kG} {M : kM} {t n c d : Nat} {f : Nat → Nat} {v : Int32} (h : ALd G M t n c d f) : ALd G (sI M (fc 45 0) t v) t n c d f := ⟨h.k, h.g, (mI_sI_c (by decide)).trans h.sz, h.le, h.cp, h.r, h.z, h.2.2.2.2.2.2.2.1, h.2.2.2.2.2.2.2.2⟩
theorem c_J5_grow (l : Launch) (G : kG) (M : kM) (t n d0 : Nat) (f : Nat → Nat) (h : ALd G M t n n d0 f) (h9 : n < 600) : Kt l G yJ5_grow cJ5_grow 4 (some (.array (.object "java/lang/Object"))) 3 94 [.ref t, .int (nI (n + 1))] M (1) (nc n) (fun v M2 => ∃ q, v = some (.ref q) ∧ ALd G M2 t n (nc n) q f ∧ Fr (ow t) M M2) := by
  by_cases hcase : n = 0
  · subst hcase; exact c_J5_grow__0 l G M t d0 f h
  · exact c_J5_grow__c l G M t n d0 f h hcase h9

set_option maxHeartbeats 800000 in
set_option maxRecDepth 100000 in
theorem c_J5_grow_2 (l : Launch) (G : kG) (M : kM) (t n d0 : Nat) (f : Nat → Nat) (h : ALd G M t n n d0 f) (h9 : n < 600) : Kt l G yJ5_grow_2 cJ5_grow_2 1 (some (.array (.object "java/lang/Object"))) 4 117 [.ref t] M (1) (nc n) (fun v M2 => ∃ q, v = some (.ref q) ∧ ALd G M2 t n (nc n) q f ∧ Fr (ow t) M M2) := by
  refine Kt.of (own := "java/util/ArrayList") (L := [some (.ref t)]) (by decide +kernel) rfl (Nat.le_of_ble_eq_true rfl) rfl ?_
  intro pp ee ss mm args below meth cd hmn hret
  have hk : mK M t = some 45 := h.k
  refine x_aload_n (n' := 1) dJ5_grow_2_0 rfl rfl rfl ?_
  refine x_aload_n (n' := 2) dJ5_grow_2_1 rfl rfl rfl ?_
  refine x_getI (n' := 5) dJ5_grow_2_2 (by repeat' (first | with_reducible exact hk | with_reducible apply mK_A | with_reducible apply mK_I | with_reducible apply mK_L | with_reducible apply mK_R | with_reducible apply mK_O | with_reducible apply mK_G | with_reducible refine mK_NA ?_ (by assumption) | with_reducible refine mK_NO ?_ (by assumption))) ffJ5_48_45 rfl rfl ?_
  refine x_topv h.sz ?_
  refine x_iconst (n' := 6) (v := 1) dJ5_grow_2_5 (by decide) rfl ?_
  refine x_iadd (n' := 7) dJ5_grow_2_6 rfl ?_
  rw [nI_1]
  refine x_callV (n' := 10) (n := 1) (K := 45) (c_J5_grow l G _ t n d0 f h h9) dJ5_grow_2_7 (by repeat' (first | with_reducible exact hk | with_reducible apply mK_A | with_reducible apply mK_I | with_reducible apply mK_L | with_reducible apply mK_R | with_reducible apply mK_O | with_reducible apply mK_G | with_reducible refine mK_NA ?_ (by assumption) | with_reducible refine mK_NO ?_ (by assumption))) rfl (lw_V q1926 q1928 qs17 q90 q1929) (by decide +kernel) ⟨(Nat.le_of_ble_eq_true rfl), (Nat.le_of_ble_eq_true rfl)⟩ rfl rfl (Nat.le_of_ble_eq_true rfl) (Nat.le_of_ble_eq_true rfl) (Nat.le_refl _) rfl (fun v_1 M1 h_3 hE_2 => ?_)
  obtain ⟨q, rfl, hA, hF⟩ := h_3
  exact x_aret dJ5_grow_2_10 hret (Or.inr ⟨_, rfl⟩) (by repeat' (first | with_reducible exact kE.rf | with_reducible exact hE_2 | with_reducible apply kE_A | with_reducible apply kE_I | with_reducible apply kE_L | with_reducible apply kE_R | with_reducible apply kE_O | with_reducible apply kE_G | with_reducible refine kE.tr ?_ hE_2)) (⟨q, rfl, hA, hF⟩)

set_option maxHeartbeats 800000 in
set_option maxRecDepth 100000 in
theorem c_J5_add_2__f (l : Launch) (G : kG) (M : kM) (t n c0 d0 : Nat) (f : Nat → Nat) (KX x : Nat) (h : ALd G M t n c0 d0 f) (hn : n < c0) (hx : mK M x = some KX) (hcx : Cond.castable (kname KX) "java/lang/Object" ∈ lw_tbl) : Kt l G yJ5_add_2 cJ5_add_2 4 none 5 137 [.ref t, .ref x, .ref d0, .int (nI n)] M (0) (0) (fun v M2 => v = none ∧ ∃ d, ALd G M2 t (n + 1) c0 d (va_up f n x) ∧ Fr (ow t) M M2) := by
  refine Kt.of (own := "java/util/ArrayList") (L := [some (.ref t), some (.ref x), some (.ref d0), some (.int (nI n))]) (by decide +kernel) rfl (Nat.le_of_ble_eq_true rfl) rfl ?_
  intro pp ee ss mm args below meth cd hmn hret
  have hk : mK M t = some 45 := h.k
  have hd : mK M d0 = some 125 := h.dk (by omega)
  have hlt := CP_lt h.cp
  refine x_iload_n (n' := 1) dJ5_add_2_0 rfl rfl rfl ?_
  refine x_aload_n (n' := 2) dJ5_add_2_1 rfl rfl rfl ?_
  refine x_alen (n' := 3) (K := 125) dJ5_add_2_2 (by repeat' (first | with_reducible exact hd | with_reducible apply mK_A | with_reducible apply mK_I | with_reducible apply mK_L | with_reducible apply mK_R | with_reducible apply mK_O | with_reducible apply mK_G | with_reducible refine mK_NA ?_ (by assumption) | with_reducible refine mK_NO ?_ (by assumption))) (by decide) (by decide) rfl ?_
  refine x_topv (congrArg nI (h.dn (by omega))) ?_
  refine x_icmp_ne (n' := 6) (tgt := 11) dJ5_add_2_3 (by decide) rfl (fun c3_1 => ?_) (fun c3_1 => absurd ((nI_eq (by omega) (by omega)).mp c3_1) (by omega))
  refine x_aload_n (n' := 12) dJ5_add_2_11 rfl rfl rfl ?_
  refine x_iload_n (n' := 13) dJ5_add_2_12 rfl rfl rfl ?_
  refine x_aload_n (n' := 14) dJ5_add_2_13 rfl rfl rfl ?_
  refine x_aast (n' := 15) dJ5_add_2_14 (by repeat' (first | with_reducible exact hd | with_reducible apply mK_A | with_reducible apply mK_I | with_reducible apply mK_L | with_reducible apply mK_R | with_reducible apply mK_O | with_reducible apply mK_G | with_reducible refine mK_NA ?_ (by assumption) | with_reducible refine mK_NO ?_ (by assumption))) (by decide) (by decide) rfl (by repeat' (first | with_reducible exact hx | with_reducible apply mK_A | with_reducible apply mK_I | with_reducible apply mK_L | with_reducible apply mK_R | with_reducible apply mK_O | with_reducible apply mK_G | with_reducible refine mK_NA ?_ (by assumption) | with_reducible refine mK_NO ?_ (by assumption))) hcx (by rw [h.dn (by omega)]; exact vp_in_nI (by omega) (by omega)) rfl ?_
  refine x_mem (M2 := sO M d0 (va_up (mO M d0) n (some x))) (by rw [nI_clamp (by omega)]) ?_
  refine x_aload_n (n' := 16) dJ5_add_2_15 rfl rfl rfl ?_
  refine x_iload_n (n' := 17) dJ5_add_2_16 rfl rfl rfl ?_
  refine x_iconst (n' := 18) (v := 1) dJ5_add_2_17 (by decide) rfl ?_
  refine x_iadd (n' := 19) dJ5_add_2_18 rfl ?_
  rw [nI_1]
  refine x_putI (n' := 22) dJ5_add_2_19 (by repeat' (first | with_reducible exact hk | with_reducible apply mK_A | with_reducible apply mK_I | with_reducible apply mK_L | with_reducible apply mK_R | with_reducible apply mK_O | with_reducible apply mK_G | with_reducible refine mK_NA ?_ (by assumption) | with_reducible refine mK_NO ?_ (by assumption))) ffJ5_48_45 rfl (⟨rfl, rfl⟩) rfl rfl ?_
  exact x_vret dJ5_add_2_22 hret (by repeat' (first | with_reducible exact kE.rf | with_reducible apply kE_A | with_reducible apply kE_I | with_reducible apply kE_L | with_reducible apply kE_R | with_reducible apply kE_O | with_reducible apply kE_G)) (⟨rfl, d0, AL_push h hn ⟨KX, hx, hcx⟩, (Fr.rf.O (Or.inr (h.dg (by omega)))).I (Or.inr h.g)⟩)

set_option maxHeartbeats 800000 in
set_option maxRecDepth 100000 in
theorem c_J5_add_2__c (l : Launch) (G : kG) (M : kM) (t n d0 : Nat) (f : Nat → Nat) (KX x : Nat) (h : ALd G M t n n d0 f) (hn : n ≠ 0) (h9 : n < 600) (hx : mK M x = some KX) (hcx : Cond.castable (kname KX) "java/lang/Object" ∈ lw_tbl) : Kt l G yJ5_add_2 cJ5_add_2 4 none 5 137 [.ref t, .ref x, .ref d0, .int (nI n)] M (1) (nc n) (fun v M2 => v = none ∧ ∃ d, ALd G M2 t (n + 1) (nc n) d (va_up f n x) ∧ Fr (ow t) M M2) := by
  refine Kt.of (own := "java/util/ArrayList") (L := [some (.ref t), some (.ref x), some (.ref d0), some (.int (nI n))]) (by decide +kernel) rfl (Nat.le_of_ble_eq_true rfl) rfl ?_
  intro pp ee ss mm args below meth cd hmn hret
  have hk : mK M t = some 45 := h.k
  have hd : mK M d0 = some 125 := h.dk hn
  have hlt := CP_lt h.cp
  refine x_iload_n (n' := 1) dJ5_add_2_0 rfl rfl rfl ?_
  refine x_aload_n (n' := 2) dJ5_add_2_1 rfl rfl rfl ?_
  refine x_alen (n' := 3) (K := 125) dJ5_add_2_2 (by repeat' (first | with_reducible exact hd | with_reducible apply mK_A | with_reducible apply mK_I | with_reducible apply mK_L | with_reducible apply mK_R | with_reducible apply mK_O | with_reducible apply mK_G | with_reducible refine mK_NA ?_ (by assumption) | with_reducible refine mK_NO ?_ (by assumption))) (by decide) (by decide) rfl ?_
  refine x_topv (congrArg nI (h.dn hn)) ?_
  refine x_icmp_ne (n' := 6) (tgt := 11) dJ5_add_2_3 (by decide) rfl (fun c3_1 => absurd rfl c3_1) (fun c3_1 => ?_)
  refine x_aload_n (n' := 7) dJ5_add_2_6 rfl rfl rfl ?_
  refine x_callV (n' := 10) (n := 0) (K := 45) (c_J5_grow_2 l G _ t n d0 f h h9) dJ5_add_2_7 (by repeat' (first | with_reducible exact hk | with_reducible apply mK_A | with_reducible apply mK_I | with_reducible apply mK_L | with_reducible apply mK_R | with_reducible apply mK_O | with_reducible apply mK_G | with_reducible refine mK_NA ?_ (by assumption) | with_reducible refine mK_NO ?_ (by assumption))) rfl (lw_V q2000 q2002 qs20 q90 q2003) (by decide +kernel) ⟨(Nat.le_of_ble_eq_true rfl), (Nat.le_of_ble_eq_true rfl)⟩ rfl rfl (Nat.le_of_ble_eq_true rfl) (Nat.le_of_ble_eq_true rfl) (Nat.le_refl _) rfl (fun v_2 M1 h_4 hE_3 => ?_)
  obtain ⟨q, rfl, hA, hF⟩ := h_4
  have hk1 : mK M1 t = some 45 := hA.k
  have hx1 : mK M1 x = some KX := hF.kE x KX hx
  have hup := CP_up h.cp
  have hq1 : mK M1 q = some 125 := hA.dk (by omega)
  refine x_astore_n (n' := 11) dJ5_add_2_10 rfl (Nat.le_of_ble_eq_true rfl) rfl (by dsimp only [List.set] <;> rfl) rfl ?_
  refine x_aload_n (n' := 12) dJ5_add_2_11 rfl rfl rfl ?_
  refine x_iload_n (n' := 13) dJ5_add_2_12 rfl rfl rfl ?_
  refine x_aload_n (n' := 14) dJ5_add_2_13 rfl rfl rfl ?_
  refine x_aast (n' := 15) dJ5_add_2_14 (by repeat' (first | with_reducible exact hq1 | with_reducible apply mK_A | with_reducible apply mK_I | with_reducible apply mK_L | with_reducible apply mK_R | with_reducible apply mK_O | with_reducible apply mK_G | with_reducible refine mK_NA ?_ (by assumption) | with_reducible refine mK_NO ?_ (by assumption) | with_reducible refine kE.ap hE_3 ?_)) (by decide) (by decide) rfl (by repeat' (first | with_reducible exact hx1 | with_reducible apply mK_A | with_reducible apply mK_I | with_reducible apply mK_L | with_reducible apply mK_R | with_reducible apply mK_O | with_reducible apply mK_G | with_reducible refine mK_NA ?_ (by assumption) | with_reducible refine mK_NO ?_ (by assumption) | with_reducible refine kE.ap hE_3 ?_)) hcx (by rw [hA.dn (by omega)]; exact vp_in_nI (by omega) (by omega)) rfl ?_
  refine x_mem (M2 := sO M1 q (va_up (mO M1 q) n (some x))) (by rw [nI_clamp (by omega)]) ?_
  refine x_aload_n (n' := 16) dJ5_add_2_15 rfl rfl rfl ?_
  refine x_iload_n (n' := 17) dJ5_add_2_16 rfl rfl rfl ?_
  refine x_iconst (n' := 18) (v := 1) dJ5_add_2_17 (by decide) rfl ?_
  refine x_iadd (n' := 19) dJ5_add_2_18 rfl ?_
  rw [nI_1]
  refine x_putI (n' := 22) dJ5_add_2_19 (by repeat' (first | with_reducible exact hk1 | with_reducible apply mK_A | with_reducible apply mK_I | with_reducible apply mK_L | with_reducible apply mK_R | with_reducible apply mK_O | with_reducible apply mK_G | with_reducible refine mK_NA ?_ (by assumption) | with_reducible refine mK_NO ?_ (by assumption) | with_reducible refine kE.ap hE_3 ?_)) ffJ5_48_45 rfl (⟨rfl, rfl⟩) rfl rfl ?_
  exact x_vret dJ5_add_2_22 hret (by repeat' (first | with_reducible exact kE.rf | with_reducible exact hE_3 | with_reducible apply kE_A | with_reducible apply kE_I | with_reducible apply kE_L | with_reducible apply kE_R | with_reducible apply kE_O | with_reducible apply kE_G | with_reducible refine kE.tr ?_ hE_3)) (⟨rfl, q, AL_push hA (by omega) ⟨KX, hx1, hcx⟩, hF.tr ((Fr.rf.O (Or.inr (hA.dg (by omega)))).I (Or.inr hA.g))⟩)

set_option maxHeartbeats 800000 in
set_option maxRecDepth 100000 in
theorem c_J5_add_2__0 (l : Launch) (G : kG) (M : kM) (t d0 : Nat) (f : Nat → Nat) (KX x : Nat) (h : ALd G M t 0 0 d0 f) (hx : mK M x = some KX) (hcx : Cond.castable (kname KX) "java/lang/Object" ∈ lw_tbl) : Kt l G yJ5_add_2 cJ5_add_2 4 none 5 137 [.ref t, .ref x, .ref (G.2.2.2 6), .int (nI 0)] M (1) (10) (fun v M2 => v = none ∧ ∃ d, ALd G M2 t 1 10 d (va_up f 0 x) ∧ Fr (ow t) M M2) := by
  refine Kt.of (own := "java/util/ArrayList") (L := [some (.ref t), some (.ref x), some (.ref (G.2.2.2 6)), some (.int (nI 0))]) (by decide +kernel) rfl (Nat.le_of_ble_eq_true rfl) rfl ?_
  intro pp ee ss mm args below meth cd hmn hret
  have hk : mK M t = some 45 := h.k
  refine x_iload_n (n' := 1) dJ5_add_2_0 rfl rfl rfl ?_
  refine x_aload_n (n' := 2) dJ5_add_2_1 rfl rfl rfl ?_
  refine x_alenC (n' := 3) dJ5_add_2_2 rfl ?_
  refine x_icmp_ne (n' := 6) (tgt := 11) dJ5_add_2_3 (by decide) rfl (fun c3_1 => absurd rfl c3_1) (fun c3_1 => ?_)
  refine x_aload_n (n' := 7) dJ5_add_2_6 rfl rfl rfl ?_
  refine x_callV (n' := 10) (n := 0) (K := 45) (c_J5_grow_2 l G _ t 0 d0 f h (by decide)) dJ5_add_2_7 (by repeat' (first | with_reducible exact hk | with_reducible apply mK_A | with_reducible apply mK_I | with_reducible apply mK_L | with_reducible apply mK_R | with_reducible apply mK_O | with_reducible apply mK_G | with_reducible refine mK_NA ?_ (by assumption) | with_reducible refine mK_NO ?_ (by assumption))) rfl (lw_V q2000 q2002 qs20 q90 q2003) (by decide +kernel) ⟨(Nat.le_of_ble_eq_true rfl), (Nat.le_of_ble_eq_true rfl)⟩ rfl rfl (Nat.le_of_ble_eq_true rfl) (Nat.le_of_ble_eq_true rfl) (Nat.le_refl _) rfl (fun v_2 M1 h_4 hE_3 => ?_)
  obtain ⟨q, rfl, hA, hF⟩ := h_4
  have hk1 : mK M1 t = some 45 := hA.k
  have hx1 : mK M1 x = some KX := hF.kE x KX hx
  have hup := CP_up h.cp
  have hq1 : mK M1 q = some 125 := hA.dk (by omega)
  refine x_astore_n (n' := 11) dJ5_add_2_10 rfl (Nat.le_of_ble_eq_true rfl) rfl (by dsimp only [List.set] <;> rfl) rfl ?_
  refine x_aload_n (n' := 12) dJ5_add_2_11 rfl rfl rfl ?_
  refine x_iload_n (n' := 13) dJ5_add_2_12 rfl rfl rfl ?_
  refine x_aload_n (n' := 14) dJ5_add_2_13 rfl rfl rfl ?_
  refine x_aast (n' := 15) dJ5_add_2_14 (by repeat' (first | with_reducible exact hq1 | with_reducible apply mK_A | with_reducible apply mK_I | with_reducible apply mK_L | with_reducible apply mK_R | with_reducible apply mK_O | with_reducible apply mK_G | with_reducible refine mK_NA ?_ (by assumption) | with_reducible refine mK_NO ?_ (by assumption) | with_reducible refine kE.ap hE_3 ?_)) (by decide) (by decide) rfl (by repeat' (first | with_reducible exact hx1 | with_reducible apply mK_A | with_reducible apply mK_I | with_reducible apply mK_L | with_reducible apply mK_R | with_reducible apply mK_O | with_reducible apply mK_G | with_reducible refine mK_NA ?_ (by assumption) | with_reducible refine mK_NO ?_ (by assumption) | with_reducible refine kE.ap hE_3 ?_)) hcx (by rw [hA.dn (by omega)]; exact vp_in_nI (by omega) (by omega)) rfl ?_
  refine x_mem (M2 := sO M1 q (va_up (mO M1 q) 0 (some x))) (by rw [nI_clamp (by omega)]) ?_
  refine x_aload_n (n' := 16) dJ5_add_2_15 rfl rfl rfl ?_
  refine x_iload_n (n' := 17) dJ5_add_2_16 rfl rfl rfl ?_
  refine x_iconst (n' := 18) (v := 1) dJ5_add_2_17 (by decide) rfl ?_
  refine x_iadd (n' := 19) dJ5_add_2_18 rfl ?_
  rw [nI_1]
  refine x_putI (n' := 22) dJ5_add_2_19 (by repeat' (first | with_reducible exact hk1 | with_reducible apply mK_A | with_reducible apply mK_I | with_reducible apply mK_L | with_reducible apply mK_R | with_reducible apply mK_O | with_reducible apply mK_G | with_reducible refine mK_NA ?_ (by assumption) | with_reducible refine mK_NO ?_ (by assumption) | with_reducible refine kE.ap hE_3 ?_)) ffJ5_48_45 rfl (⟨rfl, rfl⟩) rfl rfl ?_
  exact x_vret dJ5_add_2_22 hret (by repeat' (first | with_reducible exact kE.rf | with_reducible exact hE_3 | with_reducible apply kE_A | with_reducible apply kE_I | with_reducible apply kE_L | with_reducible apply kE_R | with_reducible apply kE_O | with_reducible apply kE_G | with_reducible refine kE.tr ?_ hE_3)) (⟨rfl, q, AL_push hA (by omega) ⟨KX, hx1, hcx⟩, hF.tr ((Fr.rf.O (Or.inr (hA.dg (by omega)))).I (Or.inr hA.g))⟩)

theorem c_J5_add_2__g (l : Launch) (G : kG) (M : kM) (t n d0 : Nat) (f : Nat → Nat) (KX x : Nat) (h : ALd G M t n n d0 f) (h9 : n < 600) (hx : mK M x = some KX) (hcx : Cond.castable (kname KX) "java/lang/Object" ∈ lw_tbl) : Kt l G yJ5_add_2 cJ5_add_2 4 none 5 137 [.ref t, .ref x, .ref d0, .int (nI n)] M (1) (nc n) (fun v M2 => v = none ∧ ∃ d, ALd G M2 t (n + 1) (nc n) d (va_up f n x) ∧ Fr (ow t) M M2) := by
  by_cases hcase : n = 0
  · subst hcase; have hz := h.z rfl; subst hz; exact c_J5_add_2__0 l G M t _ f KX x h hx hcx
  · exact c_J5_add_2__c l G M t n d0 f KX x h hcase h9 hx hcx

theorem c_J5_add_2 (l : Launch) (G : kG) (M : kM) (t n c0 d0 : Nat) (f : Nat → Nat) (KX x : Nat) (h : ALd G M t n c0 d0 f) (h9 : n < 600) (hx : mK M x = some KX) (hcx : Cond.castable (kname KX) "java/lang/Object" ∈ lw_tbl) : Kt l G yJ5_add_2 cJ5_add_2 4 none 5 137 [.ref t, .ref x, .ref d0, .int (nI n)] M (if n < c0 then 0 else 1) (if n < c0 then 0 else nc c0) (fun v M2 => v = none ∧ ∃ d, ALd G M2 t (n + 1) (if n < c0 then c0 else nc c0) d (va_up f n x) ∧ Fr (ow t) M M2) := by
  by_cases hcase : n < c0
  · rw [if_pos hcase, if_pos hcase, if_pos hcase]; exact c_J5_add_2__f l G M t n c0 d0 f KX x h hcase hx hcx
  · have hle := h.le; have e : c0 = n := by omega
    subst e; rw [if_neg hcase, if_neg hcase, if_neg hcase]; exact c_J5_add_2__g l G M t c0 d0 f KX x h h9 hx hcx

theorem ffJ5_63_45 : FF "java/util/ArrayList" 63 45 0 "java/util/ArrayList" := ⟨by decide, by decide, q320, Or.inr q317⟩
set_option maxHeartbeats 800000 in
set_option maxRecDepth 100000 in
theorem c_J5_add (l : Launch) (G : kG) (M : kM) (t n c0 : Nat) (f : Nat → Nat) (KX x : Nat) (hal : AL G M t n c0 f) (h9 : n < 600) (hx : mK M x = some KX) (hcx : Cond.castable (kname KX) "java/lang/Object" ∈ lw_tbl) : Kt l G yJ5_add cJ5_add 2 (some .boolean) 6 160 [.ref t, .ref x] M (if n < c0 then 0 else 1) (if n < c0 then 0 else nc c0) (fun v M2 => v = some (.int 1) ∧ AL G M2 t (n + 1) (if n < c0 then c0 else nc c0) (va_up f n x) ∧ Fr (ow t) M M2) := by
  refine Kt.of (own := "java/util/ArrayList") (L := [some (.ref t), some (.ref x)]) (by decide +kernel) rfl (Nat.le_of_ble_eq_true rfl) rfl ?_
  intro pp ee ss mm args below meth cd hmn hret
  obtain ⟨d0, h⟩ := hal
  have hk : mK M t = some 45 := h.k
  have hr : mR M (fc 45 1) t = some d0 := h.r
  refine x_aload_n (n' := 1) dJ5_add_0 rfl rfl rfl ?_
  refine x_dup (n' := 2) dJ5_add_1 rfl rfl ?_
  refine x_getI (n' := 5) dJ5_add_2 (by repeat' (first | with_reducible exact hk | with_reducible apply mK_A | with_reducible apply mK_I | with_reducible apply mK_L | with_reducible apply mK_R | with_reducible apply mK_O | with_reducible apply mK_G | with_reducible refine mK_NA ?_ (by assumption) | with_reducible refine mK_NO ?_ (by assumption))) ffJ5_63_45 rfl rfl ?_
  refine x_iconst (n' := 6) (v := 1) dJ5_add_5 (by decide) rfl ?_
  refine x_iadd (n' := 7) dJ5_add_6 rfl ?_
  refine x_putI (n' := 10) dJ5_add_7 (by repeat' (first | with_reducible exact hk | with_reducible apply mK_A | with_reducible apply mK_I | with_reducible apply mK_L | with_reducible apply mK_R | with_reducible apply mK_O | with_reducible apply mK_G | with_reducible refine mK_NA ?_ (by assumption) | with_reducible refine mK_NO ?_ (by assumption))) ffJ5_63_45 rfl (⟨rfl, rfl⟩) rfl rfl ?_
  refine x_aload_n (n' := 11) dJ5_add_10 rfl rfl rfl ?_
  refine x_aload_n (n' := 12) dJ5_add_11 rfl rfl rfl ?_
  refine x_aload_n (n' := 13) dJ5_add_12 rfl rfl rfl ?_
  refine x_getRs (n' := 16) (b := d0) dJ5_add_13 (by repeat' (first | with_reducible exact hk | with_reducible apply mK_A | with_reducible apply mK_I | with_reducible apply mK_L | with_reducible apply mK_R | with_reducible apply mK_O | with_reducible apply mK_G | with_reducible refine mK_NA ?_ (by assumption) | with_reducible refine mK_NO ?_ (by assumption))) ffJ5_9_45 rfl (by repeat' (first | with_reducible exact hr | with_reducible apply mR_A | with_reducible apply mR_I | with_reducible apply mR_L | with_reducible apply mR_R | with_reducible apply mR_O | with_reducible apply mR_G | with_reducible refine mR_NA ?_ (by assumption) (by assumption))) rfl ?_
  refine x_aload_n (n' := 17) dJ5_add_16 rfl rfl rfl ?_
  refine x_getI (n' := 20) dJ5_add_17 (by repeat' (first | with_reducible exact hk | with_reducible apply mK_A | with_reducible apply mK_I | with_reducible apply mK_L | with_reducible apply mK_R | with_reducible apply mK_O | with_reducible apply mK_G | with_reducible refine mK_NA ?_ (by assumption) | with_reducible refine mK_NO ?_ (by assumption))) ffJ5_48_45 rfl rfl ?_
  refine x_topv ((mI_sI_c (by decide)).trans h.sz) ?_
  refine x_callV (n' := 23) (n := 3) (K := 45) (c_J5_add_2 l G _ t n c0 d0 f KX x (AL_modc h) h9 hx hcx) dJ5_add_20 (by repeat' (first | with_reducible exact hk | with_reducible apply mK_A | with_reducible apply mK_I | with_reducible apply mK_L | with_reducible apply mK_R | with_reducible apply mK_O | with_reducible apply mK_G | with_reducible refine mK_NA ?_ (by assumption) | with_reducible refine mK_NO ?_ (by assumption))) rfl (lw_V q1996 q1998 qs19 q90 q1999) (by decide +kernel) ⟨(Nat.le_of_ble_eq_true rfl), (Nat.le_of_ble_eq_true rfl)⟩ rfl rfl (Nat.le_of_ble_eq_true rfl) (Nat.le_refl _) (Nat.le_refl _) rfl (fun v_1 M1 h_3 hE_2 => ?_)
  obtain ⟨rfl, d1, hA, hF⟩ := h_3
  refine x_iconst (n' := 24) (v := 1) dJ5_add_23 (by decide) rfl ?_
  exact x_zret dJ5_add_24 hret (k_zn (Or.inr rfl)) (by repeat' (first | with_reducible exact kE.rf | with_reducible exact hE_2 | with_reducible apply kE_A | with_reducible apply kE_I | with_reducible apply kE_L | with_reducible apply kE_R | with_reducible apply kE_O | with_reducible apply kE_G | with_reducible refine kE.tr ?_ hE_2)) (⟨rfl, ⟨d1, hA⟩, (Fr.rf.I (Or.inr h.g)).tr hF⟩)
