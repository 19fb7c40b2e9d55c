theorem nl_min {a b : Nat} (hab : a ≤ b) (hb : b < 2147483648) : (if nI b < nI a then nI b else nI a) = nI a := by
  rw [if_neg (fun q => absurd ((nI_ltI (by omega) (by omega)).mp q) (by omega))]
theorem AL_grow0 {G : kG} {M : kM} {t d0 q : Nat} {f : Nat → Nat} (h : ALd G M t 0 0 d0 f) (hq : mK M q = none) : ALd G (sR (sG (nA M q 125 10) q (t + 1)) (fc 45 1) t (some q)) t 0 10 q f := by
  have hne : t ≠ q := kne h.k hq
  exact ⟨(mK_nA_n (M := M) (K := 125) (n := 10) hne).trans h.k, (va_up_ne _ _ hne).trans h.g, h.sz, by decide, CP_nc (c := 0) CP_0 (by decide), mR_sR, (fun e => by cases e), (fun _ => ⟨mK_nA (M := M) (K := 125) (n := 10), mG_sG, mN_nA (M := M) (K := 125) (n := 10)⟩), fun i hi => absurd hi (Nat.not_lt_zero i)⟩
theorem AL_growc {G : kG} {M : kM} {t n d0 q : Nat} {f : Nat → Nat} (h : ALd G M t n n d0 f) (hn : n ≠ 0) (h9 : n < 600) (hq : mK M q = none) : ALd G (sR (sG (sO (nA M q 125 (nc n)) q (va_cpy (mO M d0) (fun _ => none) 0 0 n)) q (t + 1)) (fc 45 1) t (some q)) t n (nc n) q f := by
  have hne : t ≠ q := kne h.k hq
  have hup := CP_up h.cp
  refine ⟨(mK_nA_n (M := M) (K := 125) (n := nc n) hne).trans h.k, (va_up_ne _ _ hne).trans h.g, h.sz, by omega, CP_nc h.cp h9, mR_sR, (fun e => by omega), (fun _ => ⟨mK_nA (M := M) (K := 125) (n := nc n), mG_sG, mN_nA (M := M) (K := 125) (n := nc n)⟩), fun i hi => ⟨?_, (h.ok hi).kE (kE_nA (K := 125) (n := nc n) hq)⟩⟩
  show mO (sO (nA M q 125 (nc n)) q (va_cpy (mO M d0) (fun _ => none) 0 0 n)) q i = _
  rw [mO_sO, pk_cpy_in (Nat.zero_le _) (by omega), Nat.sub_zero, Nat.zero_add]
  exact h.e hi
theorem AL_growF {G : kG} {M : kM} {t n c d0 q N : Nat} {f : Nat → Nat} {X : Nat → Option Nat} (h : ALd G M t n c d0 f) (hq : mK M q = none) : Fr (ow t) M (sR (sG (sO (nA M q 125 N) q X) q (t + 1)) (fc 45 1) t (some q)) := by
  have h1 : Fr (ow t) M (sO (sG (nA M q 125 N) q (t + 1)) q X) := (Fr.rf.arr hq (Or.inr (Or.inr (by rw [Nat.add_sub_cancel, h.k]; exact fun e => by cases e)))).O (Or.inl hq)
  exact Fr.R (show Fr (ow t) M (sG (sO (nA M q 125 N) q X) q (t + 1)) from h1) (Or.inr h.g)
set_option maxHeartbeats 800000 in
set_option maxRecDepth 100000 in
theorem c_J17_copyOf_3 (l : Launch) (G : kG) (M : kM) (a0 n0 N : Nat) (hk0 : mK M a0 = some 125) (hn0 : mN M a0 = n0) (h0 : n0 ≤ N) (hN : N < 1000) (hel : ∀ i, i < n0 → ∀ y, mO M a0 i = some y → okO M y) : Kt l G yJ17_copyOf_3 cJ17_copyOf_3 4 (some (.array (.object "java/lang/Object"))) 1 50 [.ref a0, .int (nI N), .ref (G.2.2.2 12)] M (1) (N) (fun v M2 => ∃ q, v = some (.ref q) ∧ mK M q = none ∧ M2 = sO (nA M q 125 N) q (va_cpy (mO M a0) (fun _ => none) 0 0 n0)) := by
  refine Kt.of (own := "java/util/Arrays") (L := [some (.ref a0), some (.int (nI N)), some (.ref (G.2.2.2 12)), none]) (by decide +kernel) rfl (Nat.le_of_ble_eq_true rfl) rfl ?_
  intro pp ee ss mm args below meth cd hmn hret
  refine x_aload_n (n' := 1) dJ17_copyOf_3_0 rfl rfl rfl ?_
  refine x_ldcM (n' := 3) q1533 dJ17_copyOf_3_1 rfl ?_
  refine x_acmp_ne (n' := 6) (rx := some ((G.2.2.2 12))) (ry := some ((G.2.2.2 12))) (tgt := 13) dJ17_copyOf_3_3 (by decide) rfl (fun c3_1 => absurd rfl c3_1) (fun c3_1 => ?_)
  refine x_iload_n (n' := 7) dJ17_copyOf_3_6 rfl rfl rfl ?_
  refine x_anewarr (n' := 10) (K := 125) (N := N) dJ17_copyOf_3_7 (by decide) (by decide) rfl q1534 q1235 (nI_pos (by omega)) (nI_clamp (by omega)) (by omega) (Nat.le_of_ble_eq_true rfl) (Nat.le_refl _) rfl (fun q hq_q hB_q => ?_)
  have hE_2 := kE_nA (K := 125) (n := N) hq_q
  have k_q := mK_nA_of hE_2
  refine x_goto (tgt := 24) dJ17_copyOf_3_10 (by decide) ?_
  have hne : a0 ≠ q := kne hk0 hq_q
  refine x_astore_n (n' := 25) dJ17_copyOf_3_24 rfl (Nat.le_of_ble_eq_true rfl) rfl (by dsimp only [List.set] <;> rfl) rfl ?_
  refine x_aload_n (n' := 26) dJ17_copyOf_3_25 rfl rfl rfl ?_
  refine x_iconst (n' := 27) (v := 0) dJ17_copyOf_3_26 (by decide) rfl ?_
  refine x_aload_n (n' := 28) dJ17_copyOf_3_27 rfl rfl rfl ?_
  refine x_iconst (n' := 29) (v := 0) dJ17_copyOf_3_28 (by decide) rfl ?_
  refine x_aload_n (n' := 30) dJ17_copyOf_3_29 rfl rfl rfl ?_
  refine x_alen (n' := 31) (K := 125) dJ17_copyOf_3_30 (by repeat' (first | with_reducible exact hk0 | with_reducible apply mK_A | with_reducible apply mK_I | with_reducible apply mK_L | with_reducible apply mK_R | with_reducible apply mK_O | with_reducible apply mK_G | with_reducible refine mK_NA ?_ (by assumption) | with_reducible refine mK_NO ?_ (by assumption) | with_reducible refine kE.ap hE_2 ?_)) (by decide) (by decide) rfl ?_
  refine x_topv (congrArg nI (mN_NA hn0 hne)) ?_
  refine x_iload_n (n' := 32) dJ17_copyOf_3_31 rfl rfl rfl ?_
  refine x_mmin (n' := 35) dJ17_copyOf_3_32 q495 q496 q101 q497 ⟨(Nat.le_of_ble_eq_true rfl), (Nat.le_of_ble_eq_true rfl)⟩ (Nat.le_of_ble_eq_true rfl) rfl ?_
  refine x_topv (y := nI n0) (nl_min (by omega) (by omega)) ?_
  refine x_copyO (n' := 38) (sp := 0) (dp := 0) (n := n0) dJ17_copyOf_3_35 q498 q500 q499 q103 (by repeat' (first | with_reducible exact hk0 | with_reducible apply mK_A | with_reducible apply mK_I | with_reducible apply mK_L | with_reducible apply mK_R | with_reducible apply mK_O | with_reducible apply mK_G | with_reducible refine mK_NA ?_ (by assumption) | with_reducible refine mK_NO ?_ (by assumption) | with_reducible refine kE.ap hE_2 ?_)) (by repeat' (first | with_reducible exact k_q | with_reducible apply mK_A | with_reducible apply mK_I | with_reducible apply mK_L | with_reducible apply mK_R | with_reducible apply mK_O | with_reducible apply mK_G | with_reducible refine mK_NA ?_ (by assumption) | with_reducible refine mK_NO ?_ (by assumption) | with_reducible refine kE.ap hE_2 ?_)) (by omega) (by omega) (by omega) (by rw [mN_NA hn0 hne]; omega) (by rw [mN_nA]; omega) (fun i hi y hy => (hel i hi y (by rw [mO_nA_n hne, Nat.zero_add] at hy; exact hy)).kE (kE_nA hq_q)) ⟨(Nat.le_of_ble_eq_true rfl), (show 8 + (nativeFrameWords "java/lang/System" "arraycopy" 5 + 11) ≤ 50 from by decide)⟩ (Nat.le_of_ble_eq_true rfl) rfl ?_
  refine x_mem (M2 := sO (nA M q 125 N) q (va_cpy (mO M a0) (fun _ => none) 0 0 n0)) (by rw [mO_nA_n hne, mO_nA]) ?_
  refine x_aload_n (n' := 39) dJ17_copyOf_3_38 rfl rfl rfl ?_
  exact x_aret dJ17_copyOf_3_39 hret (Or.inr ⟨_, rfl⟩) (by repeat' (first | with_reducible exact kE.rf | with_reducible exact hE_2 | with_reducible apply kE_A | with_reducible apply kE_I | with_reducible apply kE_L | with_reducible apply kE_R | with_reducible apply kE_O | with_reducible apply kE_G | with_reducible refine kE.tr ?_ hE_2)) (⟨q, rfl, hq_q, rfl⟩)

set_option maxHeartbeats 800000 in
set_option maxRecDepth 100000 in
theorem c_J17_copyOf_2 (l : Launch) (G : kG) (M : kM) (a0 n0 N : Nat) (hk0 : mK M a0 = some 125) (hn0 : mN M a0 = n0) (h0 : n0 ≤ N) (hN : N < 1000) (hel : ∀ i, i < n0 → ∀ y, mO M a0 i = some y → okO M y) : Kt l G yJ17_copyOf_2 cJ17_copyOf_2 2 (some (.array (.object "java/lang/Object"))) 2 73 [.ref a0, .int (nI N)] M (1) (N) (fun v M2 => ∃ q, v = some (.ref q) ∧ mK M q = none ∧ M2 = sO (nA M q 125 N) q (va_cpy (mO M a0) (fun _ => none) 0 0 n0)) := by
  refine Kt.of (own := "java/util/Arrays") (L := [some (.ref a0), some (.int (nI N))]) (by decide +kernel) rfl (Nat.le_of_ble_eq_true rfl) rfl ?_
  intro pp ee ss mm args below meth cd hmn hret
  refine x_aload_n (n' := 1) dJ17_copyOf_2_0 rfl rfl rfl ?_
  refine x_iload_n (n' := 2) dJ17_copyOf_2_1 rfl rfl rfl ?_
  refine x_aload_n (n' := 3) dJ17_copyOf_2_2 rfl rfl rfl ?_
  refine x_getC (n' := 6) dJ17_copyOf_2_3 (by repeat' (first | with_reducible exact hk0 | with_reducible apply mK_A | with_reducible apply mK_I | with_reducible apply mK_L | with_reducible apply mK_R | with_reducible apply mK_O | with_reducible apply mK_G | with_reducible refine mK_NA ?_ (by assumption) | with_reducible refine mK_NO ?_ (by assumption))) q1529 q3747 q3746 q1242 q1300 ⟨(Nat.le_of_ble_eq_true rfl), (Nat.le_of_ble_eq_true rfl)⟩ (Nat.le_of_ble_eq_true rfl) rfl ?_
  refine x_callS (n' := 9) (n := 3) (c_J17_copyOf_3 l G _ a0 n0 N hk0 hn0 h0 hN hel) dJ17_copyOf_2_6 (lw_S q1530 q1531 q102 q1532) (by decide +kernel) ⟨(Nat.le_of_ble_eq_true rfl), (Nat.le_of_ble_eq_true rfl)⟩ rfl rfl (Nat.le_of_ble_eq_true rfl) (by first | exact Nat.le_of_ble_eq_true rfl | omega) (Nat.le_refl _) rfl (fun v_1 M_2 h_4 hE_3 => ?_)
  obtain ⟨q, rfl, hq, hMs⟩ := h_4
  subst hMs
  exact x_aret dJ17_copyOf_2_9 hret (Or.inr ⟨_, rfl⟩) (by repeat' (first | with_reducible exact kE.rf | with_reducible exact hE_3 | with_reducible apply kE_A | with_reducible apply kE_I | with_reducible apply kE_L | with_reducible apply kE_R | with_reducible apply kE_O | with_reducible apply kE_G | with_reducible refine kE.tr ?_ hE_3)) (⟨q, rfl, hq, rfl⟩)

set_option maxHeartbeats 800000 in
set_option maxRecDepth 100000 in
theorem c_J5_grow__0 (l : Launch) (G : kG) (M : kM) (t d0 : Nat) (f : Nat → Nat) (h : ALd G M t 0 0 d0 f) : Kt l G yJ5_grow cJ5_grow 4 (some (.array (.object "java/lang/Object"))) 3 94 [.ref t, .int (nI 1)] M (1) (10) (fun v M2 => ∃ q, v = some (.ref q) ∧ ALd G M2 t 0 10 q f ∧ Fr (ow t) M M2) := by
  refine Kt.of (own := "java/util/ArrayList") (L := [some (.ref t), some (.int (nI 1)), none, none]) (by decide +kernel) rfl (Nat.le_of_ble_eq_true rfl) rfl ?_
  intro pp ee ss mm args below meth cd hmn hret
  have hk : mK M t = some 45 := h.k
  have hz := h.z rfl
  subst hz
  have hr : mR M (fc 45 1) t = some (G.2.2.2 6) := h.r
  refine x_aload_n (n' := 1) dJ5_grow_0 rfl rfl rfl ?_
  refine x_getRs (n' := 4) (b := (G.2.2.2 6)) dJ5_grow_1 (by repeat' (first | with_reducible exact hk | with_reducible apply mK_A | with_reducible apply mK_I | with_reducible apply mK_L | with_reducible apply mK_R | with_reducible apply mK_O | with_reducible apply mK_G | with_reducible refine mK_NA ?_ (by assumption) | with_reducible refine mK_NO ?_ (by assumption))) ffJ5_9_45 rfl (by repeat' (first | with_reducible exact hr | with_reducible apply mR_A | with_reducible apply mR_I | with_reducible apply mR_L | with_reducible apply mR_R | with_reducible apply mR_O | with_reducible apply mR_G | with_reducible refine mR_NA ?_ (by assumption) (by assumption))) rfl ?_
  refine x_alenC (n' := 5) dJ5_grow_4 rfl ?_
  refine x_istore_n (n' := 6) dJ5_grow_5 rfl (Nat.le_of_ble_eq_true rfl) rfl (by dsimp only [List.set] <;> rfl) rfl ?_
  refine x_iload_n (n' := 7) dJ5_grow_6 rfl rfl rfl ?_
  refine x_if_gt (n' := 10) (tgt := 20) dJ5_grow_7 (by decide) rfl (fun c7_1 => absurd c7_1 (by decide)) (fun c7_1 => ?_)
  refine x_aload_n (n' := 11) dJ5_grow_10 rfl rfl rfl ?_
  refine x_getRs (n' := 14) (b := (G.2.2.2 6)) dJ5_grow_11 (by repeat' (first | with_reducible exact hk | with_reducible apply mK_A | with_reducible apply mK_I | with_reducible apply mK_L | with_reducible apply mK_R | with_reducible apply mK_O | with_reducible apply mK_G | with_reducible refine mK_NA ?_ (by assumption) | with_reducible refine mK_NO ?_ (by assumption))) ffJ5_9_45 rfl (by repeat' (first | with_reducible exact hr | with_reducible apply mR_A | with_reducible apply mR_I | with_reducible apply mR_L | with_reducible apply mR_R | with_reducible apply mR_O | with_reducible apply mR_G | with_reducible refine mR_NA ?_ (by assumption) (by assumption))) rfl ?_
  refine x_gets (n' := 17) dJ5_grow_14 (List.mem_of_getElem? (i := 6) rfl) q307 rfl ?_
  refine x_acmp_eq (n' := 20) (rx := some ((G.2.2.2 6))) (ry := some ((G.2.2.2 6))) (tgt := 45) dJ5_grow_17 (by decide) rfl (fun c17_2 => ?_) (fun c17_2 => absurd rfl c17_2)
  refine x_aload_n (n' := 46) dJ5_grow_45 rfl rfl rfl ?_
  refine x_bipush (n' := 48) (v := 10) dJ5_grow_46 (by decide) rfl ?_
  refine x_iload_n (n' := 49) dJ5_grow_48 rfl rfl rfl ?_
  refine x_mmax (n' := 52) dJ5_grow_49 q1931 q478 q101 q479 ⟨(Nat.le_of_ble_eq_true rfl), (Nat.le_of_ble_eq_true rfl)⟩ (Nat.le_of_ble_eq_true rfl) rfl ?_
  refine x_topv (y := 10) (by decide) ?_
  refine x_anewarr (n' := 55) (K := 125) (N := 10) dJ5_grow_52 (by decide) (by decide) rfl q1932 q1235 (by decide) (by decide) (by decide) (Nat.le_of_ble_eq_true rfl) (Nat.le_of_ble_eq_true rfl) rfl (fun q hq_q hB_q => ?_)
  have hE_3 := kE_nA (K := 125) (n := 10) hq_q
  have k_q := mK_nA_of hE_3
  refine x_ghost q (t + 1) ?_
  refine x_dup_x1 (n' := 56) dJ5_grow_55 rfl rfl rfl ?_
  refine x_putR (n' := 59) (v := some (q)) dJ5_grow_56 (by repeat' (first | with_reducible exact hk | with_reducible apply mK_A | with_reducible apply mK_I | with_reducible apply mK_L | with_reducible apply mK_R | with_reducible apply mK_O | with_reducible apply mK_G | with_reducible refine mK_NA ?_ (by assumption) | with_reducible refine mK_NO ?_ (by assumption) | with_reducible refine kE.ap hE_3 ?_)) ffJ5_9_45 rfl rfl rfl ?_
  exact x_aret dJ5_grow_59 hret (Or.inr ⟨_, rfl⟩) (by repeat' (first | with_reducible exact kE.rf | with_reducible exact hE_3 | with_reducible apply kE_A | with_reducible apply kE_I | with_reducible apply kE_L | with_reducible apply kE_R | with_reducible apply kE_O | with_reducible apply kE_G | with_reducible refine kE.tr ?_ hE_3)) (⟨q, rfl, AL_grow0 h hq_q, (Fr.rf.arr hq_q (Or.inr (Or.inr (by rw [Nat.add_sub_cancel, hk]; exact fun e => by cases e)))).R (Or.inr h.g)⟩)

set_option maxHeartbeats 800000 in
set_option maxRecDepth 100000 in
theorem c_J5_grow__c (l : Launch) (G : kG) (M : kM) (t n d0 : Nat) (f : Nat → Nat) (h : ALd G M t n n d0 f) (hn : n ≠ 0) (h9 : n < 600) : Kt l G yJ5_grow cJ5_grow 4 (some (.array (.object "java/lang/Object"))) 3 94 [.ref t, .int (nI (n + 1))] M (1) (nc n) (fun v M2 => ∃ q, v = some (.ref q) ∧ ALd G M2 t n (nc n) q f ∧ Fr (ow t) M M2) := by
  refine Kt.of (own := "java/util/ArrayList") (L := [some (.ref t), some (.int (nI (n + 1))), none, none]) (by decide +kernel) rfl (Nat.le_of_ble_eq_true rfl) rfl ?_
  intro pp ee ss mm args below meth cd hmn hret
  have hk : mK M t = some 45 := h.k
  have hd : mK M d0 = some 125 := h.dk hn
  have hr : mR M (fc 45 1) t = some d0 := h.r
  have hN : nc n = n + n / 2 := (CP_up h.cp).2.2 hn
  have h10 := CP_10 h.cp hn
  refine x_aload_n (n' := 1) dJ5_grow_0 rfl rfl rfl ?_
  refine x_getRs (n' := 4) (b := d0) dJ5_grow_1 (by repeat' (first | with_reducible exact hk | with_reducible apply mK_A | with_reducible apply mK_I | with_reducible apply mK_L | with_reducible apply mK_R | with_reducible apply mK_O | with_reducible apply mK_G | with_reducible refine mK_NA ?_ (by assumption) | with_reducible refine mK_NO ?_ (by assumption))) ffJ5_9_45 rfl (by repeat' (first | with_reducible exact hr | with_reducible apply mR_A | with_reducible apply mR_I | with_reducible apply mR_L | with_reducible apply mR_R | with_reducible apply mR_O | with_reducible apply mR_G | with_reducible refine mR_NA ?_ (by assumption) (by assumption))) rfl ?_
  refine x_alen (n' := 5) (K := 125) dJ5_grow_4 (by repeat' (first | with_reducible exact hd | with_reducible apply mK_A | with_reducible apply mK_I | with_reducible apply mK_L | with_reducible apply mK_R | with_reducible apply mK_O | with_reducible apply mK_G | with_reducible refine mK_NA ?_ (by assumption) | with_reducible refine mK_NO ?_ (by assumption))) (by decide) (by decide) rfl ?_
  refine x_topv (congrArg nI (h.dn hn)) ?_
  refine x_istore_n (n' := 6) dJ5_grow_5 rfl (Nat.le_of_ble_eq_true rfl) rfl (by dsimp only [List.set] <;> rfl) rfl ?_
  refine x_iload_n (n' := 7) dJ5_grow_6 rfl rfl rfl ?_
  refine x_if_gt (n' := 10) (tgt := 20) dJ5_grow_7 (by decide) rfl (fun c7_1 => ?_) (fun c7_1 => absurd (nI_lt (a := 0) (by omega) (by omega)) c7_1)
  refine x_iload_n (n' := 21) dJ5_grow_20 rfl rfl rfl ?_
  refine x_iload_n (n' := 22) dJ5_grow_21 rfl rfl rfl ?_
  refine x_iload_n (n' := 23) dJ5_grow_22 rfl rfl rfl ?_
  refine x_isub (n' := 24) dJ5_grow_23 rfl ?_
  rw [show nI (n + 1) - nI n = nI 1 from by rw [pk_sub (by omega), show n + 1 - n = 1 by omega]]
  refine x_iload_n (n' := 25) dJ5_grow_24 rfl rfl rfl ?_
  refine x_iconst (n' := 26) (v := 1) dJ5_grow_25 (by decide) rfl ?_
  refine x_ishr (n' := 27) dJ5_grow_26 rfl ?_
  refine x_topv (y := nI (n / 2)) (pk_shrN (by omega) _ 1 (by decide)) ?_
  refine x_callS (n' := 30) (n := 3) (c_J15_newLength l G _ n 1 (n / 2) (by omega) (by omega) (by omega) (by omega)) dJ5_grow_27 (lw_S q1930 q475 q100 q476) (by decide +kernel) ⟨(Nat.le_of_ble_eq_true rfl), (Nat.le_of_ble_eq_true rfl)⟩ rfl rfl (Nat.le_of_ble_eq_true rfl) (by first | exact Nat.le_of_ble_eq_true rfl | omega) (by first | exact Nat.le_of_ble_eq_true rfl | omega) rfl (fun v_2 M_3 h_5 hE_4 => ?_)
  obtain ⟨rfl, hMs⟩ := h_5
  have hMs := hMs.symm
  subst hMs
  refine x_topv (y := nI (nc n)) (by rw [hN, if_pos (by omega)]) ?_
  refine x_istore_n (n' := 31) dJ5_grow_30 rfl (Nat.le_of_ble_eq_true rfl) rfl (by dsimp only [List.set] <;> rfl) rfl ?_
  refine x_aload_n (n' := 32) dJ5_grow_31 rfl rfl rfl ?_
  refine x_aload_n (n' := 33) dJ5_grow_32 rfl rfl rfl ?_
  refine x_getRs (n' := 36) (b := d0) dJ5_grow_33 (by repeat' (first | with_reducible exact hk | with_reducible apply mK_A | with_reducible apply mK_I | with_reducible apply mK_L | with_reducible apply mK_R | with_reducible apply mK_O | with_reducible apply mK_G | with_reducible refine mK_NA ?_ (by assumption) | with_reducible refine mK_NO ?_ (by assumption) | with_reducible refine kE.ap hE_4 ?_)) ffJ5_9_45 rfl (by repeat' (first | with_reducible exact hr | with_reducible apply mR_A | with_reducible apply mR_I | with_reducible apply mR_L | with_reducible apply mR_R | with_reducible apply mR_O | with_reducible apply mR_G | with_reducible refine mR_NA ?_ (by assumption) (by assumption))) rfl ?_
  refine x_iload_n (n' := 37) dJ5_grow_36 rfl rfl rfl ?_
  refine x_callS (n' := 40) (n := 2) (c_J17_copyOf_2 l G _ d0 n (nc n) hd (h.dn hn) (by omega) (by omega) (fun i hi y hy => by rw [h.e hi] at hy; cases hy; exact h.ok hi)) dJ5_grow_37 (lw_S q1526 q1527 q102 q1528) (by decide +kernel) ⟨(Nat.le_of_ble_eq_true rfl), (Nat.le_of_ble_eq_true rfl)⟩ rfl rfl (Nat.le_of_ble_eq_true rfl) (Nat.le_of_ble_eq_true rfl) (Nat.le_refl _) rfl (fun v_6 M_7 h_9 hE_8 => ?_)
  obtain ⟨q, rfl, hq, hMs⟩ := h_9
  subst hMs
  have hkq : mK (sO (nA M q 125 (nc n)) q (va_cpy (mO M d0) (fun _ => none) 0 0 n)) q = some 125 := mK_nA (M := M) (K := 125) (n := nc n)
  refine x_ghost q (t + 1) ?_
  refine x_dup_x1 (n' := 41) dJ5_grow_40 rfl rfl rfl ?_
  refine x_putR (n' := 44) (v := some (q)) dJ5_grow_41 (by repeat' (first | with_reducible exact hk | with_reducible apply mK_A | with_reducible apply mK_I | with_reducible apply mK_L | with_reducible apply mK_R | with_reducible apply mK_O | with_reducible apply mK_G | with_reducible refine mK_NA ?_ (by assumption) | with_reducible refine mK_NO ?_ (by assumption) | with_reducible refine kE.ap hE_4 ?_ | with_reducible refine kE.ap hE_8 ?_)) ffJ5_9_45 rfl rfl rfl ?_
  exact x_aret dJ5_grow_44 hret (Or.inr ⟨_, rfl⟩) (by repeat' (first | with_reducible exact kE.rf | with_reducible exact hE_4 | with_reducible exact hE_8 | with_reducible apply kE_A | with_reducible apply kE_I | with_reducible apply kE_L | with_reducible apply kE_R | with_reducible apply kE_O | with_reducible apply kE_G | with_reducible refine kE.tr ?_ hE_4 | with_reducible refine kE.tr ?_ hE_8)) (⟨q, rfl, AL_growc h hn h9 hq, AL_growF h hq⟩)
