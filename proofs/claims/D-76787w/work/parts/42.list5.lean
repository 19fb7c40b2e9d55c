theorem va_cpy_0 {α : Type} {f g : Nat → α} {sp dp : Nat} : va_cpy f g sp dp 0 = g := by
  funext k; exact if_neg (by omega)
theorem sO_sI {M : kM} {c a b : Nat} {v : Int32} {f : Nat → Option Nat} : sO (sI M c a v) b f = sI (sO M b f) c a v := rfl
theorem fr_m1 {M : kM} {t d n : Nat} {v w : Int32} {X : Nat → Option Nat} : sO (sI (sO (sI M (fc 45 0) t v) d X) (fc 45 2) t w) d (va_up (mO (sI (sO (sI M (fc 45 0) t v) d X) (fc 45 2) t w) d) (n - 1) none) = sI (sO (sI M (fc 45 0) t v) d (va_up X (n - 1) none)) (fc 45 2) t w := by
  rw [mO_sI, mO_sO, sO_sI, sO_sO]
theorem fr_m2 {M : kM} {t d n i : Nat} {v w : Int32} (h : n - 1 - i = 0) : sO (sI (sI M (fc 45 0) t v) (fc 45 2) t w) d (va_up (mO (sI (sI M (fc 45 0) t v) (fc 45 2) t w) d) (n - 1) none) = sI (sO (sI M (fc 45 0) t v) d (va_up (va_cpy (mO M d) (mO M d) (i + 1) i (n - 1 - i)) (n - 1) none)) (fc 45 2) t w := by
  rw [h, va_cpy_0, mO_sI, mO_sI, sO_sI]
theorem AL_size0 {G : kG} {M : kM} {t n c d : Nat} {f : Nat → Nat} {v : Int32} (h : ALd G M t n c d f) : ALd G (sI (sI M (fc 45 0) t v) (fc 45 2) t 0) t 0 c d f := ⟨h.k, h.g, mI_sI, Nat.zero_le _, h.cp, h.r, h.z, h.2.2.2.2.2.2.2.1, fun i hi => absurd hi (Nat.not_lt_zero i)⟩
theorem AL_zo {G : kG} {M : kM} {t c d : Nat} {f : Nat → Nat} {X : Nat → Option Nat} (h : ALd G M t 0 c d f) : ALd G (sO M d X) t 0 c d f := ⟨h.k, h.g, h.sz, Nat.zero_le _, h.cp, h.r, h.z, h.2.2.2.2.2.2.2.1, fun i hi => absurd hi (Nat.not_lt_zero i)⟩
/-- an iterator over the list at t, at i -/
def IT (M : kM) (it t i : Nat) : Prop := mK M it = some 78 ∧ mG M it = it + 1 ∧ mI M (fc 78 0) it = nI i ∧ mR M (fc 78 3) it = some t ∧ mI M (fc 78 2) it = mI M (fc 45 0) t
theorem IT_new {M : kM} {it t : Nat} (hq : mK M it = none) (hk : mK M t = some 45) : IT (sI (sI (sR (sG (nO M it 78) it (it + 1)) (fc 78 3) it (some t)) (fc 78 1) it (-1)) (fc 78 2) it (mI (sG (nO M it 78) it (it + 1)) (fc 45 0) t)) it t 0 := by
  have hne : t ≠ it := kne hk hq
  refine ⟨mK_nO (M := M), mG_sG (M := nO M it 78), ?_, mR_sR (M := sG (nO M it 78) it (it + 1)), ?_⟩
  · rw [mI_sI_c (by decide), mI_sI_c (by decide)]; exact mI_NO0 (M := M) (K := 78)
  · rw [mI_sI, mI_sI_c (by decide), mI_sI_c (by decide)]; rfl
theorem IT_fr {M : kM} {it t : Nat} {S : Nat → Prop} {v w : Int32} (hq : mK M it = none) : Fr S M (sI (sI (sR (sG (nO M it 78) it (it + 1)) (fc 78 3) it (some t)) (fc 78 1) it v) (fc 78 2) it w) := ((((Fr.rf.obj hq (Or.inr (Or.inl rfl))).R (Or.inl hq)).I (Or.inl hq)).I (Or.inl hq))
theorem it_ne {i n : Nat} (hi : i < 2147483648) (hn : n < 2147483648) : (if nI i = nI n then (0 : Int32) else 1) = bi (¬ i = n) := by
  unfold bi
  by_cases h : i = n
  · rw [if_pos (by rw [h]), if_neg (fun q => q h)]
  · rw [if_neg (fun q => h ((nI_eq hi hn).mp q)), if_pos h]
set_option maxHeartbeats 800000 in
set_option maxRecDepth 100000 in
theorem c_J5_fastRemove (l : Launch) (G : kG) (M : kM) (t n c0 d0 i : Nat) (f : Nat → Nat) (h : ALd G M t n c0 d0 f) (hi : i < n) : Kt l G yJ5_fastRemove cJ5_fastRemove 4 none 1 50 [.ref t, .ref d0, .int (nI i)] M (0) (0) (fun v M2 => v = none ∧ ALd G M2 t (n - 1) c0 d0 (delF f i) ∧ Fr (ow t) M M2) := by
  refine Kt.of (own := "java/util/ArrayList") (L := [some (.ref t), some (.ref d0), some (.int (nI i)), none]) (by decide +kernel) rfl (Nat.le_of_ble_eq_true rfl) rfl ?_
  intro pp ee ss mm args below meth cd hmn hret
  have hk : mK M t = some 45 := h.k
  have hr : mR M (fc 45 1) t = some d0 := h.r
  have hlt := CP_lt h.cp
  have hle := h.le
  have hd : mK M d0 = some 125 := h.dk (by omega)
  have hn0 : mN M d0 = c0 := h.dn (by omega)
  refine x_aload_n (n' := 1) dJ5_fastRemove_0 rfl rfl rfl ?_
  refine x_dup (n' := 2) dJ5_fastRemove_1 rfl rfl ?_
  refine x_getI (n' := 5) dJ5_fastRemove_2 (by repeat' (first | with_reducible exact hk | with_reducible apply mK_A | with_reducible apply mK_I | with_reducible apply mK_L | with_reducible apply mK_R | with_reducible apply mK_O | with_reducible apply mK_G | with_reducible refine mK_NA ?_ (by assumption) | with_reducible refine mK_NO ?_ (by assumption))) ffJ5_63_45 rfl rfl ?_
  refine x_iconst (n' := 6) (v := 1) dJ5_fastRemove_5 (by decide) rfl ?_
  refine x_iadd (n' := 7) dJ5_fastRemove_6 rfl ?_
  refine x_putI (n' := 10) dJ5_fastRemove_7 (by repeat' (first | with_reducible exact hk | with_reducible apply mK_A | with_reducible apply mK_I | with_reducible apply mK_L | with_reducible apply mK_R | with_reducible apply mK_O | with_reducible apply mK_G | with_reducible refine mK_NA ?_ (by assumption) | with_reducible refine mK_NO ?_ (by assumption))) ffJ5_63_45 rfl (⟨rfl, rfl⟩) rfl rfl ?_
  refine x_aload_n (n' := 11) dJ5_fastRemove_10 rfl rfl rfl ?_
  refine x_getI (n' := 14) dJ5_fastRemove_11 (by repeat' (first | with_reducible exact hk | with_reducible apply mK_A | with_reducible apply mK_I | with_reducible apply mK_L | with_reducible apply mK_R | with_reducible apply mK_O | with_reducible apply mK_G | with_reducible refine mK_NA ?_ (by assumption) | with_reducible refine mK_NO ?_ (by assumption))) ffJ5_48_45 rfl rfl ?_
  refine x_topv ((mI_sI_c (by decide)).trans h.sz) ?_
  refine x_iconst (n' := 15) (v := 1) dJ5_fastRemove_14 (by decide) rfl ?_
  refine x_isub (n' := 16) dJ5_fastRemove_15 rfl ?_
  refine x_topv (y := nI (n - 1)) (by rw [nl_1, pk_sub (by omega)]) ?_
  refine x_dup (n' := 17) dJ5_fastRemove_16 rfl rfl ?_
  refine x_istore_n (n' := 18) dJ5_fastRemove_17 rfl (Nat.le_of_ble_eq_true rfl) rfl (by dsimp only [List.set] <;> rfl) rfl ?_
  refine x_iload_n (n' := 19) dJ5_fastRemove_18 rfl rfl rfl ?_
  refine x_icmp_le (n' := 22) (tgt := 34) dJ5_fastRemove_19 (by decide) rfl (fun c19_1 => ?_) (fun c19_1 => ?_)
  · have C19 := c19_1
    have N19 := (cv_le (by repeat' (first | with_reducible exact nl_0 | with_reducible exact nl_1 | with_reducible exact rfl | apply i_add | apply i_mul)) (by repeat' (first | with_reducible exact nl_0 | with_reducible exact nl_1 | with_reducible exact rfl | apply i_add | apply i_mul)) (by omega) (by omega)).mp c19_1
    refine x_aload_n (n' := 35) dJ5_fastRemove_34 rfl rfl rfl ?_
    refine x_aload_n (n' := 36) dJ5_fastRemove_35 rfl rfl rfl ?_
    refine x_iload_n (n' := 37) dJ5_fastRemove_36 rfl rfl rfl ?_
    refine x_dup_x1 (n' := 38) dJ5_fastRemove_37 rfl rfl rfl ?_
    refine x_putI (n' := 41) dJ5_fastRemove_38 (by repeat' (first | with_reducible exact hk | with_reducible apply mK_A | with_reducible apply mK_I | with_reducible apply mK_L | with_reducible apply mK_R | with_reducible apply mK_O | with_reducible apply mK_G | with_reducible refine mK_NA ?_ (by assumption) | with_reducible refine mK_NO ?_ (by assumption))) ffJ5_48_45 rfl (⟨rfl, rfl⟩) rfl rfl ?_
    refine x_null (n' := 42) dJ5_fastRemove_41 rfl ?_
    refine x_aastN (n' := 43) dJ5_fastRemove_42 (by repeat' (first | with_reducible exact hd | with_reducible apply mK_A | with_reducible apply mK_I | with_reducible apply mK_L | with_reducible apply mK_R | with_reducible apply mK_O | with_reducible apply mK_G | with_reducible refine mK_NA ?_ (by assumption) | with_reducible refine mK_NO ?_ (by assumption))) (by decide) (by decide) (by show vp_in _ (mN M d0); rw [hn0]; exact vp_in_nI (by omega) (by omega)) rfl ?_
    refine x_mem (M2 := sI (sO (sI M (fc 45 0) t (mI M (fc 45 0) t + 1)) d0 (va_up (va_cpy (mO M d0) (mO M d0) (i + 1) i (n - 1 - i)) (n - 1) none)) (fc 45 2) t (nI (n - 1))) (by rw [nI_clamp (by omega)]; first | rw [fr_m1, mO_sI] | rw [fr_m2 (i := i) (by omega)]) ?_
    exact x_vret dJ5_fastRemove_43 hret (by repeat' (first | with_reducible exact kE.rf | with_reducible apply kE_A | with_reducible apply kE_I | with_reducible apply kE_L | with_reducible apply kE_R | with_reducible apply kE_O | with_reducible apply kE_G)) (⟨rfl, AL_del (AL_modc h) hi, ((Fr.rf.I (Or.inr h.g)).O (Or.inr (h.dg (by omega)))).I (Or.inr h.g)⟩)
  · have C19 := c19_1
    have N19 := (not_congr (cv_le (by repeat' (first | with_reducible exact nl_0 | with_reducible exact nl_1 | with_reducible exact rfl | apply i_add | apply i_mul)) (by repeat' (first | with_reducible exact nl_0 | with_reducible exact nl_1 | with_reducible exact rfl | apply i_add | apply i_mul)) (by omega) (by omega))).mp c19_1
    refine x_aload_n (n' := 23) dJ5_fastRemove_22 rfl rfl rfl ?_
    refine x_iload_n (n' := 24) dJ5_fastRemove_23 rfl rfl rfl ?_
    refine x_iconst (n' := 25) (v := 1) dJ5_fastRemove_24 (by decide) rfl ?_
    refine x_iadd (n' := 26) dJ5_fastRemove_25 rfl ?_
    refine x_aload_n (n' := 27) dJ5_fastRemove_26 rfl rfl rfl ?_
    refine x_iload_n (n' := 28) dJ5_fastRemove_27 rfl rfl rfl ?_
    
    refine x_iload_n (n' := 29) dJ5_fastRemove_28 rfl rfl rfl ?_
    refine x_iload_n (n' := 30) dJ5_fastRemove_29 rfl rfl rfl ?_
    refine x_isub (n' := 31) dJ5_fastRemove_30 rfl ?_
    rw [nI_1, pk_sub (by omega)]
    refine x_copyO (n' := 34) (sp := (i + 1)) (dp := i) (n := (n - 1 - i)) dJ5_fastRemove_31 q1933 q500 q499 q103 (by repeat' (first | with_reducible exact hd | with_reducible apply mK_A | with_reducible apply mK_I | with_reducible apply mK_L | with_reducible apply mK_R | with_reducible apply mK_O | with_reducible apply mK_G | with_reducible refine mK_NA ?_ (by assumption) | with_reducible refine mK_NO ?_ (by assumption))) (by repeat' (first | with_reducible exact hd | with_reducible apply mK_A | with_reducible apply mK_I | with_reducible apply mK_L | with_reducible apply mK_R | with_reducible apply mK_O | with_reducible apply mK_G | with_reducible refine mK_NA ?_ (by assumption) | with_reducible refine mK_NO ?_ (by assumption))) (by omega) (by omega) (by omega) (by show _ ≤ mN M d0; rw [hn0]; omega) (by show _ ≤ mN M d0; rw [hn0]; omega) (fun j hj y hy => h.ok (i := i + 1 + j) (by omega) |> fun z => by have e := h.e (i := i + 1 + j) (by omega); rw [show mO (sI M (fc 45 0) t (mI M (fc 45 0) t + 1)) d0 (i + 1 + j) = mO M d0 (i + 1 + j) from rfl, e] at hy; cases hy; exact z) ⟨(Nat.le_of_ble_eq_true rfl), (show 8 + (nativeFrameWords "java/lang/System" "arraycopy" 5 + 11) ≤ 50 from by decide)⟩ (Nat.le_of_ble_eq_true rfl) rfl ?_
    refine x_aload_n (n' := 35) dJ5_fastRemove_34 rfl rfl rfl ?_
    refine x_aload_n (n' := 36) dJ5_fastRemove_35 rfl rfl rfl ?_
    refine x_iload_n (n' := 37) dJ5_fastRemove_36 rfl rfl rfl ?_
    refine x_dup_x1 (n' := 38) dJ5_fastRemove_37 rfl rfl rfl ?_
    refine x_putI (n' := 41) dJ5_fastRemove_38 (by repeat' (first | with_reducible exact hk | with_reducible apply mK_A | with_reducible apply mK_I | with_reducible apply mK_L | with_reducible apply mK_R | with_reducible apply mK_O | with_reducible apply mK_G | with_reducible refine mK_NA ?_ (by assumption) | with_reducible refine mK_NO ?_ (by assumption))) ffJ5_48_45 rfl (⟨rfl, rfl⟩) rfl rfl ?_
    refine x_null (n' := 42) dJ5_fastRemove_41 rfl ?_
    refine x_aastN (n' := 43) dJ5_fastRemove_42 (by repeat' (first | with_reducible exact hd | with_reducible apply mK_A | with_reducible apply mK_I | with_reducible apply mK_L | with_reducible apply mK_R | with_reducible apply mK_O | with_reducible apply mK_G | with_reducible refine mK_NA ?_ (by assumption) | with_reducible refine mK_NO ?_ (by assumption))) (by decide) (by decide) (by show vp_in _ (mN M d0); rw [hn0]; exact vp_in_nI (by omega) (by omega)) rfl ?_
    refine x_mem (M2 := sI (sO (sI M (fc 45 0) t (mI M (fc 45 0) t + 1)) d0 (va_up (va_cpy (mO M d0) (mO M d0) (i + 1) i (n - 1 - i)) (n - 1) none)) (fc 45 2) t (nI (n - 1))) (by rw [nI_clamp (by omega)]; first | rw [fr_m1, mO_sI] | rw [fr_m2 (i := i) (by omega)]) ?_
    exact x_vret dJ5_fastRemove_43 hret (by repeat' (first | with_reducible exact kE.rf | with_reducible apply kE_A | with_reducible apply kE_I | with_reducible apply kE_L | with_reducible apply kE_R | with_reducible apply kE_O | with_reducible apply kE_G)) (⟨rfl, AL_del (AL_modc h) hi, ((Fr.rf.I (Or.inr h.g)).O (Or.inr (h.dg (by omega)))).I (Or.inr h.g)⟩)

set_option maxHeartbeats 800000 in
set_option maxRecDepth 100000 in
theorem c_J5_remove (l : Launch) (G : kG) (M : kM) (t n c0 i : Nat) (f : Nat → Nat) (hal : AL G M t n c0 f) (hi : i < n) : Kt l G yJ5_remove cJ5_remove 4 (some (.object "java/lang/Object")) 2 73 [.ref t, .int (nI i)] M (0) (0) (fun v M2 => v = some (.ref (f i)) ∧ AL G M2 t (n - 1) c0 (delF f i) ∧ Fr (ow t) M M2) := by
  refine Kt.of (own := "java/util/ArrayList") (L := [some (.ref t), some (.int (nI i)), none, none]) (by decide +kernel) rfl (Nat.le_of_ble_eq_true rfl) rfl ?_
  intro pp ee ss mm args below meth cd hmn hret
  obtain ⟨d0, h⟩ := hal
  have hk : mK M t = some 45 := h.k
  have hr : mR M (fc 45 1) t = some d0 := h.r
  have hlt := CP_lt h.cp
  have hle := h.le
  have hd : mK M d0 = some 125 := h.dk (by omega)
  refine x_iload_n (n' := 1) dJ5_remove_0 rfl rfl rfl ?_
  refine x_aload_n (n' := 2) dJ5_remove_1 rfl rfl rfl ?_
  refine x_getI (n' := 5) dJ5_remove_2 (by repeat' (first | with_reducible exact hk | with_reducible apply mK_A | with_reducible apply mK_I | with_reducible apply mK_L | with_reducible apply mK_R | with_reducible apply mK_O | with_reducible apply mK_G | with_reducible refine mK_NA ?_ (by assumption) | with_reducible refine mK_NO ?_ (by assumption))) ffJ5_48_45 rfl rfl ?_
  refine x_topv h.sz ?_
  refine x_callS (n' := 8) (n := 2) (c_J26_checkIndex l G _ i n hi (by omega)) dJ5_remove_5 (lw_S q966 q967 q115 q968) (by decide +kernel) ⟨(Nat.le_of_ble_eq_true rfl), (Nat.le_of_ble_eq_true rfl)⟩ rfl rfl (Nat.le_of_ble_eq_true rfl) (by first | exact Nat.le_of_ble_eq_true rfl | omega) (by first | exact Nat.le_of_ble_eq_true rfl | omega) rfl (fun v_1 M_2 h_4 hE_3 => ?_)
  obtain ⟨rfl, hMs⟩ := h_4
  have hMs := hMs.symm
  subst hMs
  refine x_pop (n' := 9) dJ5_remove_8 rfl rfl ?_
  refine x_aload_n (n' := 10) dJ5_remove_9 rfl rfl rfl ?_
  refine x_getRs (n' := 13) (b := d0) dJ5_remove_10 (by repeat' (first | with_reducible exact hk | with_reducible apply mK_A | with_reducible apply mK_I | with_reducible apply mK_L | with_reducible apply mK_R | with_reducible apply mK_O | with_reducible apply mK_G | with_reducible refine mK_NA ?_ (by assumption) | with_reducible refine mK_NO ?_ (by assumption) | with_reducible refine kE.ap hE_3 ?_)) ffJ5_9_45 rfl (by repeat' (first | with_reducible exact hr | with_reducible apply mR_A | with_reducible apply mR_I | with_reducible apply mR_L | with_reducible apply mR_R | with_reducible apply mR_O | with_reducible apply mR_G | with_reducible refine mR_NA ?_ (by assumption) (by assumption))) rfl ?_
  refine x_astore_n (n' := 14) dJ5_remove_13 rfl (Nat.le_of_ble_eq_true rfl) rfl (by dsimp only [List.set] <;> rfl) rfl ?_
  refine x_aload_n (n' := 15) dJ5_remove_14 rfl rfl rfl ?_
  refine x_iload_n (n' := 16) dJ5_remove_15 rfl rfl rfl ?_
  refine x_aalds (n' := 17) (b := (f i)) dJ5_remove_16 (by repeat' (first | with_reducible exact hd | with_reducible apply mK_A | with_reducible apply mK_I | with_reducible apply mK_L | with_reducible apply mK_R | with_reducible apply mK_O | with_reducible apply mK_G | with_reducible refine mK_NA ?_ (by assumption) | with_reducible refine mK_NO ?_ (by assumption) | with_reducible refine kE.ap hE_3 ?_)) (by decide) (by decide) (by rw [h.dn (by omega)]; exact vp_in_nI (by omega) (by omega)) (by rw [nI_clamp (by omega)]; exact h.e hi) rfl ?_
  refine x_astore_n (n' := 18) dJ5_remove_17 rfl (Nat.le_of_ble_eq_true rfl) rfl (by dsimp only [List.set] <;> rfl) rfl ?_
  refine x_aload_n (n' := 19) dJ5_remove_18 rfl rfl rfl ?_
  refine x_aload_n (n' := 20) dJ5_remove_19 rfl rfl rfl ?_
  refine x_iload_n (n' := 21) dJ5_remove_20 rfl rfl rfl ?_
  refine x_callV (n' := 24) (n := 2) (K := 45) (c_J5_fastRemove l G _ t n c0 d0 i f h hi) dJ5_remove_21 (by repeat' (first | with_reducible exact hk | with_reducible apply mK_A | with_reducible apply mK_I | with_reducible apply mK_L | with_reducible apply mK_R | with_reducible apply mK_O | with_reducible apply mK_G | with_reducible refine mK_NA ?_ (by assumption) | with_reducible refine mK_NO ?_ (by assumption) | with_reducible refine kE.ap hE_3 ?_)) rfl (lw_V q2901 q2903 qs42 q90 q2904) (by decide +kernel) ⟨(Nat.le_of_ble_eq_true rfl), (Nat.le_of_ble_eq_true rfl)⟩ rfl rfl (Nat.le_of_ble_eq_true rfl) (by first | exact Nat.le_of_ble_eq_true rfl | omega) (by first | exact Nat.le_of_ble_eq_true rfl | omega) rfl (fun v_5 M1 h_7 hE_6 => ?_)
  obtain ⟨rfl, hA, hF⟩ := h_7
  refine x_aload_n (n' := 25) dJ5_remove_24 rfl rfl rfl ?_
  exact x_aret dJ5_remove_25 hret (Or.inl ⟨_, rfl⟩) (by repeat' (first | with_reducible exact kE.rf | with_reducible exact hE_3 | with_reducible exact hE_6 | with_reducible apply kE_A | with_reducible apply kE_I | with_reducible apply kE_L | with_reducible apply kE_R | with_reducible apply kE_O | with_reducible apply kE_G | with_reducible refine kE.tr ?_ hE_3 | with_reducible refine kE.tr ?_ hE_6)) (⟨rfl, ⟨d0, hA⟩, hF⟩)

set_option maxHeartbeats 800000 in
set_option maxRecDepth 100000 in
theorem c_J5_clear (l : Launch) (G : kG) (M : kM) (t n c0 : Nat) (f : Nat → Nat) (hal : AL G M t n c0 f) : Kt l G yJ5_clear cJ5_clear 4 none 0 0 [.ref t] M (0) (0) (fun v M2 => v = none ∧ AL G M2 t 0 c0 f ∧ Fr (ow t) M M2) := by
  refine Kt.of (own := "java/util/ArrayList") (L := [some (.ref t), none, none, none]) (by decide +kernel) rfl (Nat.le_of_ble_eq_true rfl) rfl ?_
  intro pp ee ss mm args below meth cd hmn hret
  obtain ⟨d0, h⟩ := hal
  have hk : mK M t = some 45 := h.k
  have hr : mR M (fc 45 1) t = some d0 := h.r
  have hlt := CP_lt h.cp
  have hle := h.le
  have cut27 : ∀ (fuel : Nat) (i : Nat) (M1 : kM) (h1 : n - i < fuel) (h2 : i ≤ n) (hA : ALd G M1 t 0 c0 d0 f) (hF : Fr (ow t) M M1), Wx pp l ee { frames := 0, cells := 0, slots := 0, locals := 0 } ss mm args below meth cd "java/util/ArrayList" cJ5_clear 4 G (MQ below (KQ G M (fun v M2 => v = none ∧ AL G M2 t 0 c0 f ∧ Fr (ow t) M M2)) args ss (0) (0) (kA G)) 27 [some (.ref t), some (.ref d0), some (.int (nI n)), some (.int (nI i))] [] (M1) (0) (0) := by
    intro fuel
    induction fuel with
    | zero => intro i M1 h1 h2 hA hF; omega
    | succ fuel ih =>
      intro i M1 h1 h2 hA hF
      have hk1 : mK M1 t = some 45 := hA.k
      have hEc : kE M M1 := hF.kE
      refine x_iload_n (n' := 28) dJ5_clear_27 rfl rfl rfl ?_
      refine x_iload_n (n' := 29) dJ5_clear_28 rfl rfl rfl ?_
      refine x_icmp_ge (n' := 32) (tgt := 42) dJ5_clear_29 (by decide) rfl (fun c29_1 => ?_) (fun c29_1 => ?_)
      · have n_c29_1 := (cv_le (by repeat' (first | with_reducible exact nl_0 | with_reducible exact nl_1 | with_reducible exact rfl | apply i_add | apply i_mul)) (by repeat' (first | with_reducible exact nl_0 | with_reducible exact nl_1 | with_reducible exact rfl | apply i_add | apply i_mul)) (by omega) (by omega)).mp c29_1
        exact x_vret dJ5_clear_42 hret (by repeat' (first | with_reducible exact kE.rf | with_reducible exact hEc | with_reducible apply kE_A | with_reducible apply kE_I | with_reducible apply kE_L | with_reducible apply kE_R | with_reducible apply kE_O | with_reducible apply kE_G | with_reducible refine kE.tr ?_ hEc)) (⟨rfl, ⟨d0, hA⟩, hF⟩)
      · have n_c29_1 := (not_congr (cv_le (by repeat' (first | with_reducible exact nl_0 | with_reducible exact nl_1 | with_reducible exact rfl | apply i_add | apply i_mul)) (by repeat' (first | with_reducible exact nl_0 | with_reducible exact nl_1 | with_reducible exact rfl | apply i_add | apply i_mul)) (by omega) (by omega))).mp c29_1
        have hd1 : mK M1 d0 = some 125 := hA.dk (by omega)
        refine x_aload_n (n' := 33) dJ5_clear_32 rfl rfl rfl ?_
        refine x_iload_n (n' := 34) dJ5_clear_33 rfl rfl rfl ?_
        refine x_null (n' := 35) dJ5_clear_34 rfl ?_
        refine x_aastN (n' := 36) dJ5_clear_35 (by repeat' (first | with_reducible exact hd1 | with_reducible apply mK_A | with_reducible apply mK_I | with_reducible apply mK_L | with_reducible apply mK_R | with_reducible apply mK_O | with_reducible apply mK_G | with_reducible refine mK_NA ?_ (by assumption) | with_reducible refine mK_NO ?_ (by assumption) | with_reducible refine kE.ap hEc ?_)) (by decide) (by decide) (by rw [hA.dn (by omega)]; exact vp_in_nI (by omega) (by omega)) rfl ?_
        refine x_iinc (n' := 39) dJ5_clear_36 rfl (by first | exact nI_inc _ | exact nI_decp (by omega) | exact i_inc _ | rfl) (Nat.le_of_ble_eq_true rfl) rfl (by dsimp only [List.set] <;> rfl) rfl ?_
        refine x_goto (tgt := 27) dJ5_clear_39 (by decide) ?_
        exact x_drop (ih (i + 1) _ (by omega) (by omega) (AL_zo hA) (hF.O (Or.inr (h.dg (by omega))))) ⟨rfl, ⟨rfl, ⟨rfl, ⟨rfl, trivial⟩⟩⟩⟩
  refine x_aload_n (n' := 1) dJ5_clear_0 rfl rfl rfl ?_
  refine x_dup (n' := 2) dJ5_clear_1 rfl rfl ?_
  refine x_getI (n' := 5) dJ5_clear_2 (by repeat' (first | with_reducible exact hk | with_reducible apply mK_A | with_reducible apply mK_I | with_reducible apply mK_L | with_reducible apply mK_R | with_reducible apply mK_O | with_reducible apply mK_G | with_reducible refine mK_NA ?_ (by assumption) | with_reducible refine mK_NO ?_ (by assumption))) ffJ5_63_45 rfl rfl ?_
  refine x_iconst (n' := 6) (v := 1) dJ5_clear_5 (by decide) rfl ?_
  refine x_iadd (n' := 7) dJ5_clear_6 rfl ?_
  refine x_putI (n' := 10) dJ5_clear_7 (by repeat' (first | with_reducible exact hk | with_reducible apply mK_A | with_reducible apply mK_I | with_reducible apply mK_L | with_reducible apply mK_R | with_reducible apply mK_O | with_reducible apply mK_G | with_reducible refine mK_NA ?_ (by assumption) | with_reducible refine mK_NO ?_ (by assumption))) ffJ5_63_45 rfl (⟨rfl, rfl⟩) rfl rfl ?_
  refine x_aload_n (n' := 11) dJ5_clear_10 rfl rfl rfl ?_
  refine x_getRs (n' := 14) (b := d0) dJ5_clear_11 (by repeat' (first | with_reducible exact hk | with_reducible apply mK_A | with_reducible apply mK_I | with_reducible apply mK_L | with_reducible apply mK_R | with_reducible apply mK_O | with_reducible apply mK_G | with_reducible refine mK_NA ?_ (by assumption) | with_reducible refine mK_NO ?_ (by assumption))) ffJ5_9_45 rfl (by repeat' (first | with_reducible exact hr | with_reducible apply mR_A | with_reducible apply mR_I | with_reducible apply mR_L | with_reducible apply mR_R | with_reducible apply mR_O | with_reducible apply mR_G | with_reducible refine mR_NA ?_ (by assumption) (by assumption))) rfl ?_
  refine x_astore_n (n' := 15) dJ5_clear_14 rfl (Nat.le_of_ble_eq_true rfl) rfl (by dsimp only [List.set] <;> rfl) rfl ?_
  refine x_aload_n (n' := 16) dJ5_clear_15 rfl rfl rfl ?_
  refine x_getI (n' := 19) dJ5_clear_16 (by repeat' (first | with_reducible exact hk | with_reducible apply mK_A | with_reducible apply mK_I | with_reducible apply mK_L | with_reducible apply mK_R | with_reducible apply mK_O | with_reducible apply mK_G | with_reducible refine mK_NA ?_ (by assumption) | with_reducible refine mK_NO ?_ (by assumption))) ffJ5_48_45 rfl rfl ?_
  refine x_topv ((mI_sI_c (by decide)).trans h.sz) ?_
  refine x_istore_n (n' := 20) dJ5_clear_19 rfl (Nat.le_of_ble_eq_true rfl) rfl (by dsimp only [List.set] <;> rfl) rfl ?_
  refine x_aload_n (n' := 21) dJ5_clear_20 rfl rfl rfl ?_
  refine x_iconst (n' := 22) (v := 0) dJ5_clear_21 (by decide) rfl ?_
  refine x_dup_x1 (n' := 23) dJ5_clear_22 rfl rfl rfl ?_
  refine x_putI (n' := 26) dJ5_clear_23 (by repeat' (first | with_reducible exact hk | with_reducible apply mK_A | with_reducible apply mK_I | with_reducible apply mK_L | with_reducible apply mK_R | with_reducible apply mK_O | with_reducible apply mK_G | with_reducible refine mK_NA ?_ (by assumption) | with_reducible refine mK_NO ?_ (by assumption))) ffJ5_48_45 rfl (⟨rfl, rfl⟩) rfl rfl ?_
  refine x_istore_n (n' := 27) dJ5_clear_26 rfl (Nat.le_of_ble_eq_true rfl) rfl (by dsimp only [List.set] <;> rfl) rfl ?_
  exact x_drop (cut27 (n + 1) 0 _ (by omega) (by omega) (AL_size0 h) ((Fr.rf.I (Or.inr h.g)).I (Or.inr h.g))) ⟨rfl, ⟨rfl, ⟨rfl, ⟨rfl, trivial⟩⟩⟩⟩

theorem ffJ38_1_78 : FF "java/util/ArrayList$Itr" 1 78 3 "java/util/ArrayList$Itr" := ⟨by decide, by decide, q1587, Or.inl rfl⟩
theorem ffJ38_13_78 : FF "java/util/ArrayList$Itr" 13 78 1 "java/util/ArrayList$Itr" := ⟨by decide, by decide, q1585, Or.inl rfl⟩
theorem ffJ38_17_45 : FF "java/util/ArrayList$Itr" 17 45 0 "java/util/ArrayList" := ⟨by decide, by decide, q316, Or.inr q317⟩
theorem ffJ38_22_78 : FF "java/util/ArrayList$Itr" 22 78 2 "java/util/ArrayList$Itr" := ⟨by decide, by decide, q1586, Or.inl rfl⟩
set_option maxHeartbeats 800000 in
set_option maxRecDepth 100000 in
theorem c_J38_init (l : Launch) (G : kG) (M : kM) (it t : Nat) (h78 : mK M it = some 78) (hk : mK M t = some 45) : Kt l G yJ38_init cJ38_init 2 none 1 20 [.ref it, .ref t] M (0) (0) (fun v M2 => v = none ∧ M2 = sI (sI (sR M (fc 78 3) it (some t)) (fc 78 1) it (-1)) (fc 78 2) it (mI M (fc 45 0) t)) := by
  refine Kt.of (own := "java/util/ArrayList$Itr") (L := [some (.ref it), some (.ref t)]) (by decide +kernel) rfl (Nat.le_of_ble_eq_true rfl) rfl ?_
  intro pp ee ss mm args below meth cd hmn hret
  refine x_aload_n (n' := 1) dJ38_init_0 rfl rfl rfl ?_
  refine x_aload_n (n' := 2) dJ38_init_1 rfl rfl rfl ?_
  refine x_putRF (n' := 5) (v := some (t)) dJ38_init_2 (by repeat' (first | with_reducible exact h78 | with_reducible apply mK_A | with_reducible apply mK_I | with_reducible apply mK_L | with_reducible apply mK_R | with_reducible apply mK_O | with_reducible apply mK_G | with_reducible refine mK_NA ?_ (by assumption) | with_reducible refine mK_NO ?_ (by assumption))) ffJ38_1_78 rfl rfl hmn rfl rfl ?_
  refine x_aload_n (n' := 6) dJ38_init_5 rfl rfl rfl ?_
  refine x_objInit (n' := 9) dJ38_init_6 q1581 ⟨(Nat.le_of_ble_eq_true rfl), (Nat.le_of_ble_eq_true rfl)⟩ (Nat.le_of_ble_eq_true rfl) rfl ?_
  refine x_aload_n (n' := 10) dJ38_init_9 rfl rfl rfl ?_
  refine x_iconst (n' := 11) (v := -1) dJ38_init_10 (by decide) rfl ?_
  refine x_putI (n' := 14) dJ38_init_11 (by repeat' (first | with_reducible exact h78 | with_reducible apply mK_A | with_reducible apply mK_I | with_reducible apply mK_L | with_reducible apply mK_R | with_reducible apply mK_O | with_reducible apply mK_G | with_reducible refine mK_NA ?_ (by assumption) | with_reducible refine mK_NO ?_ (by assumption))) ffJ38_13_78 rfl (⟨rfl, rfl⟩) rfl rfl ?_
  refine x_aload_n (n' := 15) dJ38_init_14 rfl rfl rfl ?_
  refine x_aload_n (n' := 16) dJ38_init_15 rfl rfl rfl ?_
  refine x_getRs (n' := 19) (b := t) dJ38_init_16 (by repeat' (first | with_reducible exact h78 | with_reducible apply mK_A | with_reducible apply mK_I | with_reducible apply mK_L | with_reducible apply mK_R | with_reducible apply mK_O | with_reducible apply mK_G | with_reducible refine mK_NA ?_ (by assumption) | with_reducible refine mK_NO ?_ (by assumption))) ffJ38_1_78 rfl (by repeat' (first | with_reducible exact mR_sR | with_reducible apply mR_A | with_reducible apply mR_I | with_reducible apply mR_L | with_reducible apply mR_R | with_reducible apply mR_O | with_reducible apply mR_G | with_reducible refine mR_NA ?_ (by assumption) (by assumption))) rfl ?_
  refine x_getI (n' := 22) dJ38_init_19 (by repeat' (first | with_reducible exact hk | with_reducible apply mK_A | with_reducible apply mK_I | with_reducible apply mK_L | with_reducible apply mK_R | with_reducible apply mK_O | with_reducible apply mK_G | with_reducible refine mK_NA ?_ (by assumption) | with_reducible refine mK_NO ?_ (by assumption))) ffJ38_17_45 rfl rfl ?_
  refine x_topv (mI_sI_c (by decide)) ?_
  refine x_putI (n' := 25) dJ38_init_22 (by repeat' (first | with_reducible exact h78 | with_reducible apply mK_A | with_reducible apply mK_I | with_reducible apply mK_L | with_reducible apply mK_R | with_reducible apply mK_O | with_reducible apply mK_G | with_reducible refine mK_NA ?_ (by assumption) | with_reducible refine mK_NO ?_ (by assumption))) ffJ38_22_78 rfl (⟨rfl, rfl⟩) rfl rfl ?_
  exact x_vret dJ38_init_25 hret (by repeat' (first | with_reducible exact kE.rf | with_reducible apply kE_A | with_reducible apply kE_I | with_reducible apply kE_L | with_reducible apply kE_R | with_reducible apply kE_O | with_reducible apply kE_G)) (⟨rfl, rfl⟩)

set_option maxHeartbeats 800000 in
set_option maxRecDepth 100000 in
theorem c_J5_iterator (l : Launch) (G : kG) (M : kM) (t : Nat) (hk : mK M t = some 45) : Kt l G yJ5_iterator cJ5_iterator 1 (some (.object "java/util/Iterator")) 2 41 [.ref t] M (1) (4) (fun v M2 => ∃ it, v = some (.ref it) ∧ mK M it = none ∧ IT M2 it t 0 ∧ Fr (fun _ => False) M M2) := by
  refine Kt.of (own := "java/util/ArrayList") (L := [some (.ref t)]) (by decide +kernel) rfl (Nat.le_of_ble_eq_true rfl) rfl ?_
  intro pp ee ss mm args below meth cd hmn hret
  refine x_new (n' := 3) (K := 78) dJ5_iterator_0 (by decide) q1576 q1577 q131 (by first | exact Nat.le_of_ble_eq_true rfl | omega) (by first | exact Nat.le_of_ble_eq_true rfl | omega) rfl (fun it hq_it hB_it => ?_)
  have hE_1 := kE_nO (K := 78) hq_it
  have k_it := mK_nO_of hE_1
  refine x_ghost it (it + 1) ?_
  have hne : t ≠ it := kne hk hq_it
  refine x_dup (n' := 4) dJ5_iterator_3 rfl rfl ?_
  refine x_aload_n (n' := 5) dJ5_iterator_4 rfl rfl rfl ?_
  refine x_callI (n' := 8) (ret := none) (n := 1) (c_J38_init l G _ it t (by repeat' (first | with_reducible exact k_it | with_reducible apply mK_A | with_reducible apply mK_I | with_reducible apply mK_L | with_reducible apply mK_R | with_reducible apply mK_O | with_reducible apply mK_G | with_reducible refine mK_NA ?_ (by assumption) | with_reducible refine mK_NO ?_ (by assumption) | with_reducible refine kE.ap hE_1 ?_)) (by repeat' (first | with_reducible exact hk | with_reducible apply mK_A | with_reducible apply mK_I | with_reducible apply mK_L | with_reducible apply mK_R | with_reducible apply mK_O | with_reducible apply mK_G | with_reducible refine mK_NA ?_ (by assumption) | with_reducible refine mK_NO ?_ (by assumption) | with_reducible refine kE.ap hE_1 ?_))) dJ5_iterator_5 (lw_meth q1580) q131 q1578 q1579 rfl (by decide +kernel) ⟨(Nat.le_of_ble_eq_true rfl), (Nat.le_of_ble_eq_true rfl)⟩ rfl rfl (Nat.le_of_ble_eq_true rfl) (by first | exact Nat.le_of_ble_eq_true rfl | omega) (by first | exact Nat.le_of_ble_eq_true rfl | omega) rfl (fun v_2 M_3 h_5 hE_4 => ?_)
  obtain ⟨rfl, hMs⟩ := h_5
  have hMs := hMs.symm
  subst hMs
  exact x_aret dJ5_iterator_8 hret (Or.inl ⟨_, rfl⟩) (by repeat' (first | with_reducible exact kE.rf | with_reducible exact hE_1 | with_reducible exact hE_4 | with_reducible apply kE_A | with_reducible apply kE_I | with_reducible apply kE_L | with_reducible apply kE_R | with_reducible apply kE_O | with_reducible apply kE_G | with_reducible refine kE.tr ?_ hE_1 | with_reducible refine kE.tr ?_ hE_4)) (⟨it, rfl, hq_it, IT_new hq_it hk, IT_fr hq_it⟩)

theorem ffJ38_25_78 : FF "java/util/ArrayList$Itr" 25 78 0 "java/util/ArrayList$Itr" := ⟨by decide, by decide, q1584, Or.inl rfl⟩
theorem ffJ38_28_45 : FFN "java/util/ArrayList$Itr" 28 45 2 "java/util/ArrayList" "java/util/ArrayList" := ⟨by decide, by decide, q311, rfl⟩
set_option maxHeartbeats 800000 in
set_option maxRecDepth 100000 in
theorem c_J38_hasNext (l : Launch) (G : kG) (M : kM) (it t n c0 i : Nat) (f : Nat → Nat) (hit : IT M it t i) (hal : AL G M t n c0 f) (hi : i ≤ n) : Kt l G yJ38_hasNext cJ38_hasNext 1 (some .boolean) 0 0 [.ref it] M (0) (0) (fun v M2 => v = some (.int (bi (¬ i = n))) ∧ M2 = M) := by
  refine Kt.of (own := "java/util/ArrayList$Itr") (L := [some (.ref it)]) (by decide +kernel) rfl (Nat.le_of_ble_eq_true rfl) rfl ?_
  intro pp ee ss mm args below meth cd hmn hret
  have h78 : mK M it = some 78 := hit.1
  obtain ⟨d0, h⟩ := hal
  have hk : mK M t = some 45 := h.k
  have hr3 : mR M (fc 78 3) it = some t := hit.2.2.2.1
  have hr : mR M (fc 45 1) t = some d0 := h.r
  have hlt := CP_lt h.cp
  have hle := h.le
  refine x_aload_n (n' := 1) dJ38_hasNext_0 rfl rfl rfl ?_
  refine x_getI (n' := 4) dJ38_hasNext_1 (by repeat' (first | with_reducible exact h78 | with_reducible apply mK_A | with_reducible apply mK_I | with_reducible apply mK_L | with_reducible apply mK_R | with_reducible apply mK_O | with_reducible apply mK_G | with_reducible refine mK_NA ?_ (by assumption) | with_reducible refine mK_NO ?_ (by assumption))) ffJ38_25_78 rfl rfl ?_
  refine x_topv hit.2.2.1 ?_
  refine x_aload_n (n' := 5) dJ38_hasNext_4 rfl rfl rfl ?_
  refine x_getRs (n' := 8) (b := t) dJ38_hasNext_5 (by repeat' (first | with_reducible exact h78 | with_reducible apply mK_A | with_reducible apply mK_I | with_reducible apply mK_L | with_reducible apply mK_R | with_reducible apply mK_O | with_reducible apply mK_G | with_reducible refine mK_NA ?_ (by assumption) | with_reducible refine mK_NO ?_ (by assumption))) ffJ38_1_78 rfl (by repeat' (first | with_reducible exact hr3 | with_reducible apply mR_A | with_reducible apply mR_I | with_reducible apply mR_L | with_reducible apply mR_R | with_reducible apply mR_O | with_reducible apply mR_G | with_reducible refine mR_NA ?_ (by assumption) (by assumption))) rfl ?_
  refine x_getIN (n' := 11) dJ38_hasNext_8 (by repeat' (first | with_reducible exact hk | with_reducible apply mK_A | with_reducible apply mK_I | with_reducible apply mK_L | with_reducible apply mK_R | with_reducible apply mK_O | with_reducible apply mK_G | with_reducible refine mK_NA ?_ (by assumption) | with_reducible refine mK_NO ?_ (by assumption))) ffJ38_28_45 rfl rfl ?_
  refine x_topv h.sz ?_
  refine x_fork (J := 19) (x_icmp_eq (n' := 14) (tgt := 18) dJ38_hasNext_11 (by decide) rfl) (v1 := ?v1_f11_1) (v2 := ?v2_f11_1) (fun c_f11_1 j_f11_1 => ?b1_f11_1) (fun c_f11_1 j_f11_1 => ?b2_f11_1) ?k_f11_1
  case b1_f11_1 =>
    refine x_iconst (n' := 19) (v := 0) dJ38_hasNext_18 (by decide) rfl ?_
    exact j_f11_1
  case b2_f11_1 =>
    refine x_iconst (n' := 15) (v := 1) dJ38_hasNext_14 (by decide) rfl ?_
    refine x_goto (tgt := 19) dJ38_hasNext_15 (by decide) ?_
    exact j_f11_1
  refine x_topv (y := bi (¬ i = n)) (by exact it_ne (by omega) (by omega)) ?_
  exact x_zret dJ38_hasNext_19 hret (k_zn (bi_01 _)) (by repeat' (first | with_reducible exact kE.rf | with_reducible apply kE_A | with_reducible apply kE_I | with_reducible apply kE_L | with_reducible apply kE_R | with_reducible apply kE_O | with_reducible apply kE_G)) (⟨rfl, rfl⟩)

set_option maxHeartbeats 800000 in
set_option maxRecDepth 100000 in
theorem c_J38_checkForComodification (l : Launch) (G : kG) (M : kM) (it t i : Nat) (hit : IT M it t i) (hk : mK M t = some 45) : Kt l G yJ38_checkForComodification cJ38_checkForComodification 1 none 0 0 [.ref it] M (0) (0) (fun v M2 => v = none ∧ M2 = M) := by
  refine Kt.of (own := "java/util/ArrayList$Itr") (L := [some (.ref it)]) (by decide +kernel) rfl (Nat.le_of_ble_eq_true rfl) rfl ?_
  intro pp ee ss mm args below meth cd hmn hret
  have h78 : mK M it = some 78 := hit.1
  have hr3 : mR M (fc 78 3) it = some t := hit.2.2.2.1
  refine x_aload_n (n' := 1) dJ38_checkForComodification_0 rfl rfl rfl ?_
  refine x_getRs (n' := 4) (b := t) dJ38_checkForComodification_1 (by repeat' (first | with_reducible exact h78 | with_reducible apply mK_A | with_reducible apply mK_I | with_reducible apply mK_L | with_reducible apply mK_R | with_reducible apply mK_O | with_reducible apply mK_G | with_reducible refine mK_NA ?_ (by assumption) | with_reducible refine mK_NO ?_ (by assumption))) ffJ38_1_78 rfl (by repeat' (first | with_reducible exact hr3 | with_reducible apply mR_A | with_reducible apply mR_I | with_reducible apply mR_L | with_reducible apply mR_R | with_reducible apply mR_O | with_reducible apply mR_G | with_reducible refine mR_NA ?_ (by assumption) (by assumption))) rfl ?_
  refine x_getI (n' := 7) dJ38_checkForComodification_4 (by repeat' (first | with_reducible exact hk | with_reducible apply mK_A | with_reducible apply mK_I | with_reducible apply mK_L | with_reducible apply mK_R | with_reducible apply mK_O | with_reducible apply mK_G | with_reducible refine mK_NA ?_ (by assumption) | with_reducible refine mK_NO ?_ (by assumption))) ffJ38_17_45 rfl rfl ?_
  refine x_aload_n (n' := 8) dJ38_checkForComodification_7 rfl rfl rfl ?_
  refine x_getI (n' := 11) dJ38_checkForComodification_8 (by repeat' (first | with_reducible exact h78 | with_reducible apply mK_A | with_reducible apply mK_I | with_reducible apply mK_L | with_reducible apply mK_R | with_reducible apply mK_O | with_reducible apply mK_G | with_reducible refine mK_NA ?_ (by assumption) | with_reducible refine mK_NO ?_ (by assumption))) ffJ38_22_78 rfl rfl ?_
  refine x_icmp_eq (n' := 14) (tgt := 22) dJ38_checkForComodification_11 (by decide) rfl (fun c11_1 => ?_) (fun c11_1 => absurd hit.2.2.2.2.symm c11_1)
  exact x_vret dJ38_checkForComodification_22 hret (by repeat' (first | with_reducible exact kE.rf | with_reducible apply kE_A | with_reducible apply kE_I | with_reducible apply kE_L | with_reducible apply kE_R | with_reducible apply kE_O | with_reducible apply kE_G)) (⟨rfl, rfl⟩)

theorem ffJ38_37_45 : FF "java/util/ArrayList$Itr" 37 45 1 "java/util/ArrayList" := ⟨by decide, by decide, q310, Or.inl rfl⟩
set_option maxHeartbeats 800000 in
set_option maxRecDepth 100000 in
theorem c_J38_next (l : Launch) (G : kG) (M : kM) (it t n c0 i : Nat) (f : Nat → Nat) (hit : IT M it t i) (hal : AL G M t n c0 f) (hi : i < n) : Kt l G yJ38_next cJ38_next 3 (some (.object "java/lang/Object")) 1 20 [.ref it] M (0) (0) (fun v M2 => v = some (.ref (f i)) ∧ M2 = sI (sI M (fc 78 0) it (nI (i + 1))) (fc 78 1) it (nI i)) := by
  refine Kt.of (own := "java/util/ArrayList$Itr") (L := [some (.ref it), none, none]) (by decide +kernel) rfl (Nat.le_of_ble_eq_true rfl) rfl ?_
  intro pp ee ss mm args below meth cd hmn hret
  have h78 : mK M it = some 78 := hit.1
  obtain ⟨d0, h⟩ := hal
  have hk : mK M t = some 45 := h.k
  have hr3 : mR M (fc 78 3) it = some t := hit.2.2.2.1
  have hr : mR M (fc 45 1) t = some d0 := h.r
  have hlt := CP_lt h.cp
  have hle := h.le
  have hd : mK M d0 = some 125 := h.dk (by omega)
  refine x_aload_n (n' := 1) dJ38_next_0 rfl rfl rfl ?_
  refine x_callV (n' := 4) (n := 0) (K := 78) (c_J38_checkForComodification l G _ it t i hit hk) dJ38_next_1 (by repeat' (first | with_reducible exact h78 | with_reducible apply mK_A | with_reducible apply mK_I | with_reducible apply mK_L | with_reducible apply mK_R | with_reducible apply mK_O | with_reducible apply mK_G | with_reducible refine mK_NA ?_ (by assumption) | with_reducible refine mK_NO ?_ (by assumption))) rfl (lw_V q1878 q1879 q1880 q131 q1883) (by decide +kernel) ⟨(Nat.le_of_ble_eq_true rfl), (Nat.le_of_ble_eq_true rfl)⟩ rfl rfl (Nat.le_of_ble_eq_true rfl) (by first | exact Nat.le_of_ble_eq_true rfl | omega) (by first | exact Nat.le_of_ble_eq_true rfl | omega) rfl (fun v_1 M_2 h_4 hE_3 => ?_)
  obtain ⟨rfl, hMs⟩ := h_4
  have hMs := hMs.symm
  subst hMs
  refine x_aload_n (n' := 5) dJ38_next_4 rfl rfl rfl ?_
  refine x_getI (n' := 8) dJ38_next_5 (by repeat' (first | with_reducible exact h78 | with_reducible apply mK_A | with_reducible apply mK_I | with_reducible apply mK_L | with_reducible apply mK_R | with_reducible apply mK_O | with_reducible apply mK_G | with_reducible refine mK_NA ?_ (by assumption) | with_reducible refine mK_NO ?_ (by assumption) | with_reducible refine kE.ap hE_3 ?_)) ffJ38_25_78 rfl rfl ?_
  refine x_topv hit.2.2.1 ?_
  refine x_istore_n (n' := 9) dJ38_next_8 rfl (Nat.le_of_ble_eq_true rfl) rfl (by dsimp only [List.set] <;> rfl) rfl ?_
  refine x_iload_n (n' := 10) dJ38_next_9 rfl rfl rfl ?_
  refine x_aload_n (n' := 11) dJ38_next_10 rfl rfl rfl ?_
  refine x_getRs (n' := 14) (b := t) dJ38_next_11 (by repeat' (first | with_reducible exact h78 | with_reducible apply mK_A | with_reducible apply mK_I | with_reducible apply mK_L | with_reducible apply mK_R | with_reducible apply mK_O | with_reducible apply mK_G | with_reducible refine mK_NA ?_ (by assumption) | with_reducible refine mK_NO ?_ (by assumption) | with_reducible refine kE.ap hE_3 ?_)) ffJ38_1_78 rfl (by repeat' (first | with_reducible exact hr3 | with_reducible apply mR_A | with_reducible apply mR_I | with_reducible apply mR_L | with_reducible apply mR_R | with_reducible apply mR_O | with_reducible apply mR_G | with_reducible refine mR_NA ?_ (by assumption) (by assumption))) rfl ?_
  refine x_getIN (n' := 17) dJ38_next_14 (by repeat' (first | with_reducible exact hk | with_reducible apply mK_A | with_reducible apply mK_I | with_reducible apply mK_L | with_reducible apply mK_R | with_reducible apply mK_O | with_reducible apply mK_G | with_reducible refine mK_NA ?_ (by assumption) | with_reducible refine mK_NO ?_ (by assumption) | with_reducible refine kE.ap hE_3 ?_)) ffJ38_28_45 rfl rfl ?_
  refine x_topv h.sz ?_
  refine x_icmp_lt (n' := 20) (tgt := 28) dJ38_next_17 (by decide) rfl (fun c17_5 => ?_) (fun c17_5 => absurd (nI_lt hi (by omega)) c17_5)
  refine x_aload_n (n' := 29) dJ38_next_28 rfl rfl rfl ?_
  refine x_getRs (n' := 32) (b := t) dJ38_next_29 (by repeat' (first | with_reducible exact h78 | with_reducible apply mK_A | with_reducible apply mK_I | with_reducible apply mK_L | with_reducible apply mK_R | with_reducible apply mK_O | with_reducible apply mK_G | with_reducible refine mK_NA ?_ (by assumption) | with_reducible refine mK_NO ?_ (by assumption) | with_reducible refine kE.ap hE_3 ?_)) ffJ38_1_78 rfl (by repeat' (first | with_reducible exact hr3 | with_reducible apply mR_A | with_reducible apply mR_I | with_reducible apply mR_L | with_reducible apply mR_R | with_reducible apply mR_O | with_reducible apply mR_G | with_reducible refine mR_NA ?_ (by assumption) (by assumption))) rfl ?_
  refine x_getRs (n' := 35) (b := d0) dJ38_next_32 (by repeat' (first | with_reducible exact hk | with_reducible apply mK_A | with_reducible apply mK_I | with_reducible apply mK_L | with_reducible apply mK_R | with_reducible apply mK_O | with_reducible apply mK_G | with_reducible refine mK_NA ?_ (by assumption) | with_reducible refine mK_NO ?_ (by assumption) | with_reducible refine kE.ap hE_3 ?_)) ffJ38_37_45 rfl (by repeat' (first | with_reducible exact hr | with_reducible apply mR_A | with_reducible apply mR_I | with_reducible apply mR_L | with_reducible apply mR_R | with_reducible apply mR_O | with_reducible apply mR_G | with_reducible refine mR_NA ?_ (by assumption) (by assumption))) rfl ?_
  refine x_astore_n (n' := 36) dJ38_next_35 rfl (Nat.le_of_ble_eq_true rfl) rfl (by dsimp only [List.set] <;> rfl) rfl ?_
  refine x_iload_n (n' := 37) dJ38_next_36 rfl rfl rfl ?_
  refine x_aload_n (n' := 38) dJ38_next_37 rfl rfl rfl ?_
  refine x_alen (n' := 39) (K := 125) dJ38_next_38 (by repeat' (first | with_reducible exact hd | with_reducible apply mK_A | with_reducible apply mK_I | with_reducible apply mK_L | with_reducible apply mK_R | with_reducible apply mK_O | with_reducible apply mK_G | with_reducible refine mK_NA ?_ (by assumption) | with_reducible refine mK_NO ?_ (by assumption) | with_reducible refine kE.ap hE_3 ?_)) (by decide) (by decide) rfl ?_
  refine x_topv (congrArg nI (h.dn (by omega))) ?_
  refine x_icmp_lt (n' := 42) (tgt := 50) dJ38_next_39 (by decide) rfl (fun c39_6 => ?_) (fun c39_6 => absurd (nI_lt (by omega) (by omega)) c39_6)
  refine x_aload_n (n' := 51) dJ38_next_50 rfl rfl rfl ?_
  refine x_iload_n (n' := 52) dJ38_next_51 rfl rfl rfl ?_
  refine x_iconst (n' := 53) (v := 1) dJ38_next_52 (by decide) rfl ?_
  refine x_iadd (n' := 54) dJ38_next_53 rfl ?_
  rw [nI_1]
  refine x_putI (n' := 57) dJ38_next_54 (by repeat' (first | with_reducible exact h78 | with_reducible apply mK_A | with_reducible apply mK_I | with_reducible apply mK_L | with_reducible apply mK_R | with_reducible apply mK_O | with_reducible apply mK_G | with_reducible refine mK_NA ?_ (by assumption) | with_reducible refine mK_NO ?_ (by assumption) | with_reducible refine kE.ap hE_3 ?_)) ffJ38_25_78 rfl (⟨rfl, rfl⟩) rfl rfl ?_
  refine x_aload_n (n' := 58) dJ38_next_57 rfl rfl rfl ?_
  refine x_aload_n (n' := 59) dJ38_next_58 rfl rfl rfl ?_
  refine x_iload_n (n' := 60) dJ38_next_59 rfl rfl rfl ?_
  refine x_dup_x1 (n' := 61) dJ38_next_60 rfl rfl rfl ?_
  refine x_putI (n' := 64) dJ38_next_61 (by repeat' (first | with_reducible exact h78 | with_reducible apply mK_A | with_reducible apply mK_I | with_reducible apply mK_L | with_reducible apply mK_R | with_reducible apply mK_O | with_reducible apply mK_G | with_reducible refine mK_NA ?_ (by assumption) | with_reducible refine mK_NO ?_ (by assumption) | with_reducible refine kE.ap hE_3 ?_)) ffJ38_13_78 rfl (⟨rfl, rfl⟩) rfl rfl ?_
  refine x_aalds (n' := 65) (b := (f i)) dJ38_next_64 (by repeat' (first | with_reducible exact hd | with_reducible apply mK_A | with_reducible apply mK_I | with_reducible apply mK_L | with_reducible apply mK_R | with_reducible apply mK_O | with_reducible apply mK_G | with_reducible refine mK_NA ?_ (by assumption) | with_reducible refine mK_NO ?_ (by assumption) | with_reducible refine kE.ap hE_3 ?_)) (by decide) (by decide) (by show vp_in _ (mN M d0); rw [h.dn (by omega)]; exact vp_in_nI (by omega) (by omega)) (by rw [nI_clamp (by omega)]; exact h.e hi) rfl ?_
  exact x_aret dJ38_next_65 hret (Or.inl ⟨_, rfl⟩) (by repeat' (first | with_reducible exact kE.rf | with_reducible exact hE_3 | with_reducible apply kE_A | with_reducible apply kE_I | with_reducible apply kE_L | with_reducible apply kE_R | with_reducible apply kE_O | with_reducible apply kE_G | with_reducible refine kE.tr ?_ hE_3)) (⟨rfl, rfl⟩)
