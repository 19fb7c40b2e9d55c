def insF (f : Nat → Nat) (i x : Nat) : Nat → Nat := fun j => if j < i then f j else if j = i then x else f (j - 1)
def delF (f : Nat → Nat) (i : Nat) : Nat → Nat := fun j => if j < i then f j else f (j + 1)
theorem sO_sO {M : kM} {a : Nat} {f h : Nat → Option Nat} : sO (sO M a f) a h = sO M a h := by
  show (mK M, mI M, mR M, mN M, mA M, mL M, va_up (va_up (mO M) a f) a h, mG M) = _
  rw [up_up]
  rfl
theorem AL_ins {G : kG} {M : kM} {t n c d i x : Nat} {f : Nat → Nat} (h : ALd G M t n c d f) (hn : n < c) (hi : i ≤ n) (hx : okO M x) : ALd G (sI (sO M d (va_up (va_cpy (mO M d) (mO M d) i (i + 1) (n - i)) i (some x))) (fc 45 2) t (nI (n + 1))) t (n + 1) c d (insF f i x) := by
  refine ⟨h.k, h.g, mI_sI, hn, h.cp, h.r, h.z, (fun hc => ⟨h.dk hc, h.dg hc, h.dn hc⟩), fun j hj => ?_⟩
  show mO (sO M d _) d j = _ ∧ okO M _
  rw [mO_sO]
  unfold insF
  by_cases e : j = i
  · subst e; rw [va_up_self, if_neg (by omega), if_pos rfl]; exact ⟨rfl, hx⟩
  · rw [va_up_ne _ _ e]
    by_cases e2 : j < i
    · rw [if_pos e2, pk_cpy_out (by omega)]; exact ⟨h.e (by omega), h.ok (by omega)⟩
    · rw [if_neg e2, if_neg e, pk_cpy_in (by omega) (by omega), show i + (j - (i + 1)) = j - 1 by omega]; exact ⟨h.e (by omega), h.ok (by omega)⟩
theorem AL_del {G : kG} {M : kM} {t n c d i : Nat} {f : Nat → Nat} (h : ALd G M t n c d f) (hi : i < n) : ALd G (sI (sO M d (va_up (va_cpy (mO M d) (mO M d) (i + 1) i (n - 1 - i)) (n - 1) none)) (fc 45 2) t (nI (n - 1))) t (n - 1) c d (delF f i) := by
  have hle := h.le
  refine ⟨h.k, h.g, mI_sI, by omega, h.cp, h.r, h.z, (fun hc => ⟨h.dk hc, h.dg hc, h.dn hc⟩), fun j hj => ?_⟩
  show mO (sO M d _) d j = _ ∧ okO M _
  rw [mO_sO]
  unfold delF
  rw [va_up_ne _ _ (by omega)]
  by_cases e2 : j < i
  · rw [if_pos e2, pk_cpy_out (by omega)]; exact ⟨h.e (by omega), h.ok (by omega)⟩
  · rw [if_neg e2, pk_cpy_in (by omega) (by omega), show i + 1 + (j - i) = j + 1 by omega]; exact ⟨h.e (by omega), h.ok (by omega)⟩
set_option maxHeartbeats 800000 in
set_option maxRecDepth 100000 in
theorem c_J5_rangeCheckForAdd (l : Launch) (G : kG) (M : kM) (t n c0 : Nat) (f : Nat → Nat) (i : Nat) (hal : AL G M t n c0 f) (hi : i ≤ n) : Kt l G yJ5_rangeCheckForAdd cJ5_rangeCheckForAdd 2 none 0 0 [.ref t, .int (nI i)] M (0) (0) (fun v M2 => v = none ∧ M2 = M) := by
  refine Kt.of (own := "java/util/ArrayList") (L := [some (.ref t), some (.int (nI i))]) (by decide +kernel) rfl (Nat.le_of_ble_eq_true rfl) rfl ?_
  intro pp ee ss mm args below meth cd hmn hret
  have hal0 := hal
  obtain ⟨d0, h⟩ := hal
  have hlk : mK M t = some 45 := h.k
  have hle := h.le
  have hlt := CP_lt h.cp
  refine x_iload_n (n' := 1) dJ5_rangeCheckForAdd_0 rfl rfl rfl ?_
  refine x_aload_n (n' := 2) dJ5_rangeCheckForAdd_1 rfl rfl rfl ?_
  refine x_getI (n' := 5) dJ5_rangeCheckForAdd_2 (by repeat' (first | with_reducible exact hlk | with_reducible apply mK_A | with_reducible apply mK_I | with_reducible apply mK_L | with_reducible apply mK_R | with_reducible apply mK_O | with_reducible apply mK_G | with_reducible refine mK_NA ?_ (by assumption) | with_reducible refine mK_NO ?_ (by assumption))) ffJ5_48_45 rfl rfl ?_
  refine x_topv h.sz ?_
  refine x_icmp_gt (n' := 8) (tgt := 12) dJ5_rangeCheckForAdd_5 (by decide) rfl (fun c5_1 => absurd c5_1 (nI_nlt (by omega) (by omega))) (fun c5_1 => ?_)
  refine x_iload_n (n' := 9) dJ5_rangeCheckForAdd_8 rfl rfl rfl ?_
  refine x_if_ge (n' := 12) (tgt := 25) dJ5_rangeCheckForAdd_9 (by decide) rfl (fun c9_2 => ?_) (fun c9_2 => absurd (nI_pos' (by omega)) c9_2)
  exact x_vret dJ5_rangeCheckForAdd_25 hret (by repeat' (first | with_reducible exact kE.rf | with_reducible apply kE_A | with_reducible apply kE_I | with_reducible apply kE_L | with_reducible apply kE_R | with_reducible apply kE_O | with_reducible apply kE_G)) (⟨rfl, rfl⟩)

set_option maxHeartbeats 800000 in
set_option maxRecDepth 100000 in
theorem c_J5_add_3__f (l : Launch) (G : kG) (M : kM) (t n c0 d0 i : Nat) (f : Nat → Nat) (KX x : Nat) (h : ALd G M t n c0 d0 f) (hn : n < c0) (hi : i ≤ n) (hx : mK M x = some KX) (hcx : Cond.castable (kname KX) "java/lang/Object" ∈ lw_tbl) : Kt l G yJ5_add_3 cJ5_add_3 5 none 5 137 [.ref t, .int (nI i), .ref x] M (0) (0) (fun v M2 => v = none ∧ AL G M2 t (n + 1) (if n < c0 then c0 else nc c0) (insF f i x) ∧ Fr (ow t) M M2) := by
  refine Kt.of (own := "java/util/ArrayList") (L := [some (.ref t), some (.int (nI i)), some (.ref x), none, none]) (by decide +kernel) rfl (Nat.le_of_ble_eq_true rfl) rfl ?_
  intro pp ee ss mm args below meth cd hmn hret
  have hk : mK M t = some 45 := h.k
  have hr : mR M (fc 45 1) t = some d0 := h.r
  have hlt := CP_lt h.cp
  have hd : mK M d0 = some 125 := h.dk (by omega)
  have cut38 : ∀ (M1 : kM) (d1 : Nat) (hA : ALd G M1 t n (if n < c0 then c0 else nc c0) d1 f) (hF : Fr (ow t) M M1) (hx1 : mK M1 x = some KX), Wx pp l ee { frames := 5, cells := 0, slots := 0, locals := 137 } ss mm args below meth cd "java/util/ArrayList" cJ5_add_3 5 G (MQ below (KQ G M (fun v M2 => v = none ∧ AL G M2 t (n + 1) (if n < c0 then c0 else nc c0) (insF f i x) ∧ Fr (ow t) M M2)) args ss (0) (0) (kA G)) 38 [some (.ref t), some (.int (nI i)), some (.ref x), some (.int (nI n)), some (.ref d1)] [] (M1) (0) (0) := by
    intro M1 d1 hA hF hx1
    have hEc : kE M M1 := hF.kE
    have hk1 : mK M1 t = some 45 := hA.k
    have hcc : n < (if n < c0 then c0 else nc c0) := by have := CP_up h.cp; have := h.le; split <;> omega
    have hd1 : mK M1 d1 = some 125 := hA.dk (by omega)
    have hlt1 := CP_lt hA.cp
    refine x_aload (n' := 40) dJ5_add_3_38 rfl rfl ?_
    refine x_iload_n (n' := 41) dJ5_add_3_40 rfl rfl rfl ?_
    refine x_aload (n' := 43) dJ5_add_3_41 rfl rfl ?_
    refine x_iload_n (n' := 44) dJ5_add_3_43 rfl rfl rfl ?_
    refine x_iconst (n' := 45) (v := 1) dJ5_add_3_44 (by decide) rfl ?_
    refine x_iadd (n' := 46) dJ5_add_3_45 rfl ?_
    refine x_iload_n (n' := 47) dJ5_add_3_46 rfl rfl rfl ?_
    refine x_iload_n (n' := 48) dJ5_add_3_47 rfl rfl rfl ?_
    refine x_isub (n' := 49) dJ5_add_3_48 rfl ?_
    rw [nI_1, pk_sub (by omega)]
    refine x_copyO (n' := 52) (sp := i) (dp := (i + 1)) (n := (n - i)) dJ5_add_3_49 q1933 q500 q499 q103 (by repeat' (first | with_reducible exact hd1 | with_reducible apply mK_A | with_reducible apply mK_I | with_reducible apply mK_L | with_reducible apply mK_R | with_reducible apply mK_O | with_reducible apply mK_G | with_reducible refine mK_NA ?_ (by assumption) | with_reducible refine mK_NO ?_ (by assumption) | with_reducible refine kE.ap hEc ?_)) (by repeat' (first | with_reducible exact hd1 | with_reducible apply mK_A | with_reducible apply mK_I | with_reducible apply mK_L | with_reducible apply mK_R | with_reducible apply mK_O | with_reducible apply mK_G | with_reducible refine mK_NA ?_ (by assumption) | with_reducible refine mK_NO ?_ (by assumption) | with_reducible refine kE.ap hEc ?_)) (by omega) (by omega) (by omega) (by rw [hA.dn (by omega)]; omega) (by rw [hA.dn (by omega)]; omega) (fun j hj y hy => by rw [hA.e (by omega)] at hy; cases hy; exact hA.ok (by omega)) ⟨(Nat.le_of_ble_eq_true rfl), (show 8 + (nativeFrameWords "java/lang/System" "arraycopy" 5 + 11) ≤ 137 from by decide)⟩ (Nat.le_of_ble_eq_true rfl) rfl ?_
    refine x_aload (n' := 54) dJ5_add_3_52 rfl rfl ?_
    refine x_iload_n (n' := 55) dJ5_add_3_54 rfl rfl rfl ?_
    refine x_aload_n (n' := 56) dJ5_add_3_55 rfl rfl rfl ?_
    refine x_aast (n' := 57) dJ5_add_3_56 (by repeat' (first | with_reducible exact hd1 | with_reducible apply mK_A | with_reducible apply mK_I | with_reducible apply mK_L | with_reducible apply mK_R | with_reducible apply mK_O | with_reducible apply mK_G | with_reducible refine mK_NA ?_ (by assumption) | with_reducible refine mK_NO ?_ (by assumption) | with_reducible refine kE.ap hEc ?_)) (by decide) (by decide) rfl (by repeat' (first | with_reducible exact hx1 | with_reducible apply mK_A | with_reducible apply mK_I | with_reducible apply mK_L | with_reducible apply mK_R | with_reducible apply mK_O | with_reducible apply mK_G | with_reducible refine mK_NA ?_ (by assumption) | with_reducible refine mK_NO ?_ (by assumption) | with_reducible refine kE.ap hEc ?_)) hcx (by show vp_in _ (mN M1 d1); rw [hA.dn (by omega)]; exact vp_in_nI (by omega) (by omega)) rfl ?_
    refine x_mem (M2 := sO M1 d1 (va_up (va_cpy (mO M1 d1) (mO M1 d1) i (i + 1) (n - i)) i (some x))) (by rw [nI_clamp (by omega), mO_sO]; exact sO_sO) ?_
    refine x_aload_n (n' := 58) dJ5_add_3_57 rfl rfl rfl ?_
    refine x_iload_n (n' := 59) dJ5_add_3_58 rfl rfl rfl ?_
    refine x_iconst (n' := 60) (v := 1) dJ5_add_3_59 (by decide) rfl ?_
    refine x_iadd (n' := 61) dJ5_add_3_60 rfl ?_
    rw [nI_1]
    refine x_putI (n' := 64) dJ5_add_3_61 (by repeat' (first | with_reducible exact hk1 | with_reducible apply mK_A | with_reducible apply mK_I | with_reducible apply mK_L | with_reducible apply mK_R | with_reducible apply mK_O | with_reducible apply mK_G | with_reducible refine mK_NA ?_ (by assumption) | with_reducible refine mK_NO ?_ (by assumption) | with_reducible refine kE.ap hEc ?_)) ffJ5_48_45 rfl (⟨rfl, rfl⟩) rfl rfl ?_
    exact x_vret dJ5_add_3_64 hret (by repeat' (first | with_reducible exact kE.rf | with_reducible exact hEc | with_reducible apply kE_A | with_reducible apply kE_I | with_reducible apply kE_L | with_reducible apply kE_R | with_reducible apply kE_O | with_reducible apply kE_G | with_reducible refine kE.tr ?_ hEc)) (⟨rfl, ⟨d1, AL_ins hA hcc hi ⟨KX, hx1, hcx⟩⟩, hF.tr ((Fr.rf.O (Or.inr (hA.dg (by omega)))).I (Or.inr hA.g))⟩)
  refine x_aload_n (n' := 1) dJ5_add_3_0 rfl rfl rfl ?_
  refine x_iload_n (n' := 2) dJ5_add_3_1 rfl rfl rfl ?_
  refine x_callV (n' := 5) (n := 1) (K := 45) (c_J5_rangeCheckForAdd l G _ t n c0 f i ⟨d0, h⟩ hi) dJ5_add_3_2 (by repeat' (first | with_reducible exact hk | with_reducible apply mK_A | with_reducible apply mK_I | with_reducible apply mK_L | with_reducible apply mK_R | with_reducible apply mK_O | with_reducible apply mK_G | with_reducible refine mK_NA ?_ (by assumption) | with_reducible refine mK_NO ?_ (by assumption))) rfl (lw_V q1635 q1637 qs13 q90 q1638) (by decide +kernel) ⟨(Nat.le_of_ble_eq_true rfl), (Nat.le_of_ble_eq_true rfl)⟩ rfl rfl (Nat.le_of_ble_eq_true rfl) (by first | exact Nat.le_of_ble_eq_true rfl | omega) (by first | exact Nat.le_of_ble_eq_true rfl | omega) rfl (fun v_1 M_2 h_4 hE_3 => ?_)
  obtain ⟨rfl, hMs⟩ := h_4
  have hMs := hMs.symm
  subst hMs
  refine x_aload_n (n' := 6) dJ5_add_3_5 rfl rfl rfl ?_
  refine x_dup (n' := 7) dJ5_add_3_6 rfl rfl ?_
  refine x_getI (n' := 10) dJ5_add_3_7 (by repeat' (first | with_reducible exact hk | with_reducible apply mK_A | with_reducible apply mK_I | with_reducible apply mK_L | with_reducible apply mK_R | with_reducible apply mK_O | with_reducible apply mK_G | with_reducible refine mK_NA ?_ (by assumption) | with_reducible refine mK_NO ?_ (by assumption) | with_reducible refine kE.ap hE_3 ?_)) ffJ5_63_45 rfl rfl ?_
  refine x_iconst (n' := 11) (v := 1) dJ5_add_3_10 (by decide) rfl ?_
  refine x_iadd (n' := 12) dJ5_add_3_11 rfl ?_
  refine x_putI (n' := 15) dJ5_add_3_12 (by repeat' (first | with_reducible exact hk | with_reducible apply mK_A | with_reducible apply mK_I | with_reducible apply mK_L | with_reducible apply mK_R | with_reducible apply mK_O | with_reducible apply mK_G | with_reducible refine mK_NA ?_ (by assumption) | with_reducible refine mK_NO ?_ (by assumption) | with_reducible refine kE.ap hE_3 ?_)) ffJ5_63_45 rfl (⟨rfl, rfl⟩) rfl rfl ?_
  refine x_aload_n (n' := 16) dJ5_add_3_15 rfl rfl rfl ?_
  refine x_getI (n' := 19) dJ5_add_3_16 (by repeat' (first | with_reducible exact hk | with_reducible apply mK_A | with_reducible apply mK_I | with_reducible apply mK_L | with_reducible apply mK_R | with_reducible apply mK_O | with_reducible apply mK_G | with_reducible refine mK_NA ?_ (by assumption) | with_reducible refine mK_NO ?_ (by assumption) | with_reducible refine kE.ap hE_3 ?_)) ffJ5_48_45 rfl rfl ?_
  refine x_topv ((mI_sI_c (by decide)).trans h.sz) ?_
  refine x_dup (n' := 20) dJ5_add_3_19 rfl rfl ?_
  refine x_istore_n (n' := 21) dJ5_add_3_20 rfl (Nat.le_of_ble_eq_true rfl) rfl (by dsimp only [List.set] <;> rfl) rfl ?_
  refine x_aload_n (n' := 22) dJ5_add_3_21 rfl rfl rfl ?_
  refine x_getRs (n' := 25) (b := d0) dJ5_add_3_22 (by repeat' (first | with_reducible exact hk | with_reducible apply mK_A | with_reducible apply mK_I | with_reducible apply mK_L | with_reducible apply mK_R | with_reducible apply mK_O | with_reducible apply mK_G | with_reducible refine mK_NA ?_ (by assumption) | with_reducible refine mK_NO ?_ (by assumption) | with_reducible refine kE.ap hE_3 ?_)) ffJ5_9_45 rfl (by repeat' (first | with_reducible exact hr | with_reducible apply mR_A | with_reducible apply mR_I | with_reducible apply mR_L | with_reducible apply mR_R | with_reducible apply mR_O | with_reducible apply mR_G | with_reducible refine mR_NA ?_ (by assumption) (by assumption))) rfl ?_
  refine x_dup (n' := 26) dJ5_add_3_25 rfl rfl ?_
  refine x_astore (n' := 28) dJ5_add_3_26 (Nat.le_of_ble_eq_true rfl) rfl (by dsimp only [List.set] <;> rfl) rfl ?_
  refine x_alen (n' := 29) (K := 125) dJ5_add_3_28 (by repeat' (first | with_reducible exact hd | with_reducible apply mK_A | with_reducible apply mK_I | with_reducible apply mK_L | with_reducible apply mK_R | with_reducible apply mK_O | with_reducible apply mK_G | with_reducible refine mK_NA ?_ (by assumption) | with_reducible refine mK_NO ?_ (by assumption) | with_reducible refine kE.ap hE_3 ?_)) (by decide) (by decide) rfl ?_
  refine x_topv (congrArg nI (h.dn (by omega))) ?_
  refine x_icmp_ne (n' := 32) (tgt := 38) dJ5_add_3_29 (by decide) rfl (fun c29_5 => ?_) (fun c29_5 => absurd ((nI_eq (by omega) (by omega)).mp c29_5) (by omega))
  refine x_room (cb2 := 0) (sb2 := 0) (Nat.zero_le _) (Nat.zero_le _) ?_
  exact x_drop (cut38 _ d0 (by rw [if_pos hn]; exact AL_modc h) (Fr.rf.I (Or.inr h.g)) hx) ⟨rfl, ⟨rfl, ⟨rfl, ⟨rfl, ⟨rfl, trivial⟩⟩⟩⟩⟩

set_option maxHeartbeats 800000 in
set_option maxRecDepth 100000 in
theorem c_J5_add_3__c (l : Launch) (G : kG) (M : kM) (t n d0 i : Nat) (f : Nat → Nat) (KX x : Nat) (h : ALd G M t n n d0 f) (hn : n ≠ 0) (h9 : n < 600) (hi : i ≤ n) (hx : mK M x = some KX) (hcx : Cond.castable (kname KX) "java/lang/Object" ∈ lw_tbl) : Kt l G yJ5_add_3 cJ5_add_3 5 none 5 137 [.ref t, .int (nI i), .ref x] M (1) (nc n) (fun v M2 => v = none ∧ AL G M2 t (n + 1) (if n < n then n else nc n) (insF f i x) ∧ Fr (ow t) M M2) := by
  refine Kt.of (own := "java/util/ArrayList") (L := [some (.ref t), some (.int (nI i)), some (.ref x), none, none]) (by decide +kernel) rfl (Nat.le_of_ble_eq_true rfl) rfl ?_
  intro pp ee ss mm args below meth cd hmn hret
  have hk : mK M t = some 45 := h.k
  have hr : mR M (fc 45 1) t = some d0 := h.r
  have hlt := CP_lt h.cp
  have hd : mK M d0 = some 125 := h.dk hn
  have cut38 : ∀ (M1 : kM) (d1 : Nat) (hA : ALd G M1 t n (if n < n then n else nc n) d1 f) (hF : Fr (ow t) M M1) (hx1 : mK M1 x = some KX), Wx pp l ee { frames := 5, cells := 1, slots := nc n, locals := 137 } ss mm args below meth cd "java/util/ArrayList" cJ5_add_3 5 G (MQ below (KQ G M (fun v M2 => v = none ∧ AL G M2 t (n + 1) (if n < n then n else nc n) (insF f i x) ∧ Fr (ow t) M M2)) args ss (1) (nc n) (kA G)) 38 [some (.ref t), some (.int (nI i)), some (.ref x), some (.int (nI n)), some (.ref d1)] [] (M1) (0) (0) := by
    intro M1 d1 hA hF hx1
    have hEc : kE M M1 := hF.kE
    have hk1 : mK M1 t = some 45 := hA.k
    have hcc : n < (if n < n then n else nc n) := by have := CP_up h.cp; have := h.le; split <;> omega
    have hd1 : mK M1 d1 = some 125 := hA.dk (by omega)
    have hlt1 := CP_lt hA.cp
    refine x_aload (n' := 40) dJ5_add_3_38 rfl rfl ?_
    refine x_iload_n (n' := 41) dJ5_add_3_40 rfl rfl rfl ?_
    refine x_aload (n' := 43) dJ5_add_3_41 rfl rfl ?_
    refine x_iload_n (n' := 44) dJ5_add_3_43 rfl rfl rfl ?_
    refine x_iconst (n' := 45) (v := 1) dJ5_add_3_44 (by decide) rfl ?_
    refine x_iadd (n' := 46) dJ5_add_3_45 rfl ?_
    refine x_iload_n (n' := 47) dJ5_add_3_46 rfl rfl rfl ?_
    refine x_iload_n (n' := 48) dJ5_add_3_47 rfl rfl rfl ?_
    refine x_isub (n' := 49) dJ5_add_3_48 rfl ?_
    rw [nI_1, pk_sub (by omega)]
    refine x_copyO (n' := 52) (sp := i) (dp := (i + 1)) (n := (n - i)) dJ5_add_3_49 q1933 q500 q499 q103 (by repeat' (first | with_reducible exact hd1 | with_reducible apply mK_A | with_reducible apply mK_I | with_reducible apply mK_L | with_reducible apply mK_R | with_reducible apply mK_O | with_reducible apply mK_G | with_reducible refine mK_NA ?_ (by assumption) | with_reducible refine mK_NO ?_ (by assumption) | with_reducible refine kE.ap hEc ?_)) (by repeat' (first | with_reducible exact hd1 | with_reducible apply mK_A | with_reducible apply mK_I | with_reducible apply mK_L | with_reducible apply mK_R | with_reducible apply mK_O | with_reducible apply mK_G | with_reducible refine mK_NA ?_ (by assumption) | with_reducible refine mK_NO ?_ (by assumption) | with_reducible refine kE.ap hEc ?_)) (by omega) (by omega) (by omega) (by rw [hA.dn (by omega)]; omega) (by rw [hA.dn (by omega)]; omega) (fun j hj y hy => by rw [hA.e (by omega)] at hy; cases hy; exact hA.ok (by omega)) ⟨(Nat.le_of_ble_eq_true rfl), (show 8 + (nativeFrameWords "java/lang/System" "arraycopy" 5 + 11) ≤ 137 from by decide)⟩ (Nat.le_of_ble_eq_true rfl) rfl ?_
    refine x_aload (n' := 54) dJ5_add_3_52 rfl rfl ?_
    refine x_iload_n (n' := 55) dJ5_add_3_54 rfl rfl rfl ?_
    refine x_aload_n (n' := 56) dJ5_add_3_55 rfl rfl rfl ?_
    refine x_aast (n' := 57) dJ5_add_3_56 (by repeat' (first | with_reducible exact hd1 | with_reducible apply mK_A | with_reducible apply mK_I | with_reducible apply mK_L | with_reducible apply mK_R | with_reducible apply mK_O | with_reducible apply mK_G | with_reducible refine mK_NA ?_ (by assumption) | with_reducible refine mK_NO ?_ (by assumption) | with_reducible refine kE.ap hEc ?_)) (by decide) (by decide) rfl (by repeat' (first | with_reducible exact hx1 | with_reducible apply mK_A | with_reducible apply mK_I | with_reducible apply mK_L | with_reducible apply mK_R | with_reducible apply mK_O | with_reducible apply mK_G | with_reducible refine mK_NA ?_ (by assumption) | with_reducible refine mK_NO ?_ (by assumption) | with_reducible refine kE.ap hEc ?_)) hcx (by show vp_in _ (mN M1 d1); rw [hA.dn (by omega)]; exact vp_in_nI (by omega) (by omega)) rfl ?_
    refine x_mem (M2 := sO M1 d1 (va_up (va_cpy (mO M1 d1) (mO M1 d1) i (i + 1) (n - i)) i (some x))) (by rw [nI_clamp (by omega), mO_sO]; exact sO_sO) ?_
    refine x_aload_n (n' := 58) dJ5_add_3_57 rfl rfl rfl ?_
    refine x_iload_n (n' := 59) dJ5_add_3_58 rfl rfl rfl ?_
    refine x_iconst (n' := 60) (v := 1) dJ5_add_3_59 (by decide) rfl ?_
    refine x_iadd (n' := 61) dJ5_add_3_60 rfl ?_
    rw [nI_1]
    refine x_putI (n' := 64) dJ5_add_3_61 (by repeat' (first | with_reducible exact hk1 | with_reducible apply mK_A | with_reducible apply mK_I | with_reducible apply mK_L | with_reducible apply mK_R | with_reducible apply mK_O | with_reducible apply mK_G | with_reducible refine mK_NA ?_ (by assumption) | with_reducible refine mK_NO ?_ (by assumption) | with_reducible refine kE.ap hEc ?_)) ffJ5_48_45 rfl (⟨rfl, rfl⟩) rfl rfl ?_
    exact x_vret dJ5_add_3_64 hret (by repeat' (first | with_reducible exact kE.rf | with_reducible exact hEc | with_reducible apply kE_A | with_reducible apply kE_I | with_reducible apply kE_L | with_reducible apply kE_R | with_reducible apply kE_O | with_reducible apply kE_G | with_reducible refine kE.tr ?_ hEc)) (⟨rfl, ⟨d1, AL_ins hA hcc hi ⟨KX, hx1, hcx⟩⟩, hF.tr ((Fr.rf.O (Or.inr (hA.dg (by omega)))).I (Or.inr hA.g))⟩)
  refine x_aload_n (n' := 1) dJ5_add_3_0 rfl rfl rfl ?_
  refine x_iload_n (n' := 2) dJ5_add_3_1 rfl rfl rfl ?_
  refine x_callV (n' := 5) (n := 1) (K := 45) (c_J5_rangeCheckForAdd l G _ t n n f i ⟨d0, h⟩ hi) dJ5_add_3_2 (by repeat' (first | with_reducible exact hk | with_reducible apply mK_A | with_reducible apply mK_I | with_reducible apply mK_L | with_reducible apply mK_R | with_reducible apply mK_O | with_reducible apply mK_G | with_reducible refine mK_NA ?_ (by assumption) | with_reducible refine mK_NO ?_ (by assumption))) rfl (lw_V q1635 q1637 qs13 q90 q1638) (by decide +kernel) ⟨(Nat.le_of_ble_eq_true rfl), (Nat.le_of_ble_eq_true rfl)⟩ rfl rfl (Nat.le_of_ble_eq_true rfl) (by first | exact Nat.le_of_ble_eq_true rfl | omega) (by first | exact Nat.le_of_ble_eq_true rfl | omega) rfl (fun v_1 M_2 h_4 hE_3 => ?_)
  obtain ⟨rfl, hMs⟩ := h_4
  have hMs := hMs.symm
  subst hMs
  refine x_aload_n (n' := 6) dJ5_add_3_5 rfl rfl rfl ?_
  refine x_dup (n' := 7) dJ5_add_3_6 rfl rfl ?_
  refine x_getI (n' := 10) dJ5_add_3_7 (by repeat' (first | with_reducible exact hk | with_reducible apply mK_A | with_reducible apply mK_I | with_reducible apply mK_L | with_reducible apply mK_R | with_reducible apply mK_O | with_reducible apply mK_G | with_reducible refine mK_NA ?_ (by assumption) | with_reducible refine mK_NO ?_ (by assumption) | with_reducible refine kE.ap hE_3 ?_)) ffJ5_63_45 rfl rfl ?_
  refine x_iconst (n' := 11) (v := 1) dJ5_add_3_10 (by decide) rfl ?_
  refine x_iadd (n' := 12) dJ5_add_3_11 rfl ?_
  refine x_putI (n' := 15) dJ5_add_3_12 (by repeat' (first | with_reducible exact hk | with_reducible apply mK_A | with_reducible apply mK_I | with_reducible apply mK_L | with_reducible apply mK_R | with_reducible apply mK_O | with_reducible apply mK_G | with_reducible refine mK_NA ?_ (by assumption) | with_reducible refine mK_NO ?_ (by assumption) | with_reducible refine kE.ap hE_3 ?_)) ffJ5_63_45 rfl (⟨rfl, rfl⟩) rfl rfl ?_
  refine x_aload_n (n' := 16) dJ5_add_3_15 rfl rfl rfl ?_
  refine x_getI (n' := 19) dJ5_add_3_16 (by repeat' (first | with_reducible exact hk | with_reducible apply mK_A | with_reducible apply mK_I | with_reducible apply mK_L | with_reducible apply mK_R | with_reducible apply mK_O | with_reducible apply mK_G | with_reducible refine mK_NA ?_ (by assumption) | with_reducible refine mK_NO ?_ (by assumption) | with_reducible refine kE.ap hE_3 ?_)) ffJ5_48_45 rfl rfl ?_
  refine x_topv ((mI_sI_c (by decide)).trans h.sz) ?_
  refine x_dup (n' := 20) dJ5_add_3_19 rfl rfl ?_
  refine x_istore_n (n' := 21) dJ5_add_3_20 rfl (Nat.le_of_ble_eq_true rfl) rfl (by dsimp only [List.set] <;> rfl) rfl ?_
  refine x_aload_n (n' := 22) dJ5_add_3_21 rfl rfl rfl ?_
  refine x_getRs (n' := 25) (b := d0) dJ5_add_3_22 (by repeat' (first | with_reducible exact hk | with_reducible apply mK_A | with_reducible apply mK_I | with_reducible apply mK_L | with_reducible apply mK_R | with_reducible apply mK_O | with_reducible apply mK_G | with_reducible refine mK_NA ?_ (by assumption) | with_reducible refine mK_NO ?_ (by assumption) | with_reducible refine kE.ap hE_3 ?_)) ffJ5_9_45 rfl (by repeat' (first | with_reducible exact hr | with_reducible apply mR_A | with_reducible apply mR_I | with_reducible apply mR_L | with_reducible apply mR_R | with_reducible apply mR_O | with_reducible apply mR_G | with_reducible refine mR_NA ?_ (by assumption) (by assumption))) rfl ?_
  refine x_dup (n' := 26) dJ5_add_3_25 rfl rfl ?_
  refine x_astore (n' := 28) dJ5_add_3_26 (Nat.le_of_ble_eq_true rfl) rfl (by dsimp only [List.set] <;> rfl) rfl ?_
  refine x_alen (n' := 29) (K := 125) dJ5_add_3_28 (by repeat' (first | with_reducible exact hd | with_reducible apply mK_A | with_reducible apply mK_I | with_reducible apply mK_L | with_reducible apply mK_R | with_reducible apply mK_O | with_reducible apply mK_G | with_reducible refine mK_NA ?_ (by assumption) | with_reducible refine mK_NO ?_ (by assumption) | with_reducible refine kE.ap hE_3 ?_)) (by decide) (by decide) rfl ?_
  refine x_topv (congrArg nI (h.dn hn)) ?_
  refine x_icmp_ne (n' := 32) (tgt := 38) dJ5_add_3_29 (by decide) rfl (fun c29_5 => absurd rfl c29_5) (fun c29_5 => ?_)
  refine x_aload_n (n' := 33) dJ5_add_3_32 rfl rfl rfl ?_
  refine x_callV (n' := 36) (n := 0) (K := 45) (c_J5_grow_2 l G _ t n d0 f (AL_modc h) h9) dJ5_add_3_33 (by repeat' (first | with_reducible exact hk | with_reducible apply mK_A | with_reducible apply mK_I | with_reducible apply mK_L | with_reducible apply mK_R | with_reducible apply mK_O | with_reducible apply mK_G | with_reducible refine mK_NA ?_ (by assumption) | with_reducible refine mK_NO ?_ (by assumption) | with_reducible refine kE.ap hE_3 ?_)) rfl (lw_V q2000 q2002 qs20 q90 q2003) (by decide +kernel) ⟨(Nat.le_of_ble_eq_true rfl), (Nat.le_of_ble_eq_true rfl)⟩ rfl rfl (Nat.le_of_ble_eq_true rfl) (Nat.le_of_ble_eq_true rfl) (Nat.le_refl _) rfl (fun v_6 M1 h_8 hE_7 => ?_)
  obtain ⟨d1, rfl, hA, hF⟩ := h_8
  have hk1 : mK M1 t = some 45 := hA.k
  have hx1 : mK M1 x = some KX := hF.kE x KX hx
  refine x_astore (n' := 38) dJ5_add_3_36 (Nat.le_of_ble_eq_true rfl) rfl (by dsimp only [List.set] <;> rfl) rfl ?_
  refine x_room (cb2 := 0) (sb2 := 0) (Nat.zero_le _) (Nat.zero_le _) ?_
  exact x_drop (cut38 _ d1 (by rw [if_neg (by omega)]; exact hA) ((Fr.rf.I (Or.inr h.g)).tr hF) hx1) ⟨rfl, ⟨rfl, ⟨rfl, ⟨rfl, ⟨rfl, trivial⟩⟩⟩⟩⟩

set_option maxHeartbeats 800000 in
set_option maxRecDepth 100000 in
theorem c_J5_add_3__0 (l : Launch) (G : kG) (M : kM) (t : Nat) (f : Nat → Nat) (KX x : Nat) (h : ALd G M t 0 0 (G.2.2.2 6) f) (hx : mK M x = some KX) (hcx : Cond.castable (kname KX) "java/lang/Object" ∈ lw_tbl) : Kt l G yJ5_add_3 cJ5_add_3 5 none 5 137 [.ref t, .int (nI 0), .ref x] M (1) (10) (fun v M2 => v = none ∧ AL G M2 t (0 + 1) (if 0 < 0 then 0 else nc 0) (insF f 0 x) ∧ Fr (ow t) M M2) := by
  refine Kt.of (own := "java/util/ArrayList") (L := [some (.ref t), some (.int (nI 0)), some (.ref x), none, none]) (by decide +kernel) rfl (Nat.le_of_ble_eq_true rfl) rfl ?_
  intro pp ee ss mm args below meth cd hmn hret
  have hk : mK M t = some 45 := h.k
  have hr : mR M (fc 45 1) t = some (G.2.2.2 6) := h.r
  have hi : 0 ≤ 0 := Nat.le_refl _
  have cut38 : ∀ (M1 : kM) (d1 : Nat) (hA : ALd G M1 t 0 (if 0 < 0 then 0 else nc 0) d1 f) (hF : Fr (ow t) M M1) (hx1 : mK M1 x = some KX), Wx pp l ee { frames := 5, cells := 1, slots := 10, locals := 137 } ss mm args below meth cd "java/util/ArrayList" cJ5_add_3 5 G (MQ below (KQ G M (fun v M2 => v = none ∧ AL G M2 t (0 + 1) (if 0 < 0 then 0 else nc 0) (insF f 0 x) ∧ Fr (ow t) M M2)) args ss (1) (10) (kA G)) 38 [some (.ref t), some (.int (nI 0)), some (.ref x), some (.int (nI 0)), some (.ref d1)] [] (M1) (0) (0) := by
    intro M1 d1 hA hF hx1
    have hEc : kE M M1 := hF.kE
    have hk1 : mK M1 t = some 45 := hA.k
    have hcc : 0 < (if 0 < 0 then 0 else nc 0) := by have := CP_up h.cp; have := h.le; split <;> omega
    have hd1 : mK M1 d1 = some 125 := hA.dk (by omega)
    have hlt1 := CP_lt hA.cp
    refine x_aload (n' := 40) dJ5_add_3_38 rfl rfl ?_
    refine x_iload_n (n' := 41) dJ5_add_3_40 rfl rfl rfl ?_
    refine x_aload (n' := 43) dJ5_add_3_41 rfl rfl ?_
    refine x_iload_n (n' := 44) dJ5_add_3_43 rfl rfl rfl ?_
    refine x_iconst (n' := 45) (v := 1) dJ5_add_3_44 (by decide) rfl ?_
    refine x_iadd (n' := 46) dJ5_add_3_45 rfl ?_
    refine x_iload_n (n' := 47) dJ5_add_3_46 rfl rfl rfl ?_
    refine x_iload_n (n' := 48) dJ5_add_3_47 rfl rfl rfl ?_
    refine x_isub (n' := 49) dJ5_add_3_48 rfl ?_
    rw [nI_1, pk_sub (by omega)]
    refine x_copyO (n' := 52) (sp := 0) (dp := (0 + 1)) (n := (0 - 0)) dJ5_add_3_49 q1933 q500 q499 q103 (by repeat' (first | with_reducible exact hd1 | with_reducible apply mK_A | with_reducible apply mK_I | with_reducible apply mK_L | with_reducible apply mK_R | with_reducible apply mK_O | with_reducible apply mK_G | with_reducible refine mK_NA ?_ (by assumption) | with_reducible refine mK_NO ?_ (by assumption) | with_reducible refine kE.ap hEc ?_)) (by repeat' (first | with_reducible exact hd1 | with_reducible apply mK_A | with_reducible apply mK_I | with_reducible apply mK_L | with_reducible apply mK_R | with_reducible apply mK_O | with_reducible apply mK_G | with_reducible refine mK_NA ?_ (by assumption) | with_reducible refine mK_NO ?_ (by assumption) | with_reducible refine kE.ap hEc ?_)) (by omega) (by omega) (by omega) (by rw [hA.dn (by omega)]; omega) (by rw [hA.dn (by omega)]; omega) (fun j hj y hy => by rw [hA.e (by omega)] at hy; cases hy; exact hA.ok (by omega)) ⟨(Nat.le_of_ble_eq_true rfl), (show 8 + (nativeFrameWords "java/lang/System" "arraycopy" 5 + 11) ≤ 137 from by decide)⟩ (Nat.le_of_ble_eq_true rfl) rfl ?_
    refine x_aload (n' := 54) dJ5_add_3_52 rfl rfl ?_
    refine x_iload_n (n' := 55) dJ5_add_3_54 rfl rfl rfl ?_
    refine x_aload_n (n' := 56) dJ5_add_3_55 rfl rfl rfl ?_
    refine x_aast (n' := 57) dJ5_add_3_56 (by repeat' (first | with_reducible exact hd1 | with_reducible apply mK_A | with_reducible apply mK_I | with_reducible apply mK_L | with_reducible apply mK_R | with_reducible apply mK_O | with_reducible apply mK_G | with_reducible refine mK_NA ?_ (by assumption) | with_reducible refine mK_NO ?_ (by assumption) | with_reducible refine kE.ap hEc ?_)) (by decide) (by decide) rfl (by repeat' (first | with_reducible exact hx1 | with_reducible apply mK_A | with_reducible apply mK_I | with_reducible apply mK_L | with_reducible apply mK_R | with_reducible apply mK_O | with_reducible apply mK_G | with_reducible refine mK_NA ?_ (by assumption) | with_reducible refine mK_NO ?_ (by assumption) | with_reducible refine kE.ap hEc ?_)) hcx (by show vp_in _ (mN M1 d1); rw [hA.dn (by omega)]; exact vp_in_nI (by omega) (by omega)) rfl ?_
    refine x_mem (M2 := sO M1 d1 (va_up (va_cpy (mO M1 d1) (mO M1 d1) 0 (0 + 1) (0 - 0)) 0 (some x))) (by rw [nI_clamp (by omega), mO_sO]; exact sO_sO) ?_
    refine x_aload_n (n' := 58) dJ5_add_3_57 rfl rfl rfl ?_
    refine x_iload_n (n' := 59) dJ5_add_3_58 rfl rfl rfl ?_
    refine x_iconst (n' := 60) (v := 1) dJ5_add_3_59 (by decide) rfl ?_
    refine x_iadd (n' := 61) dJ5_add_3_60 rfl ?_
    rw [nI_1]
    refine x_putI (n' := 64) dJ5_add_3_61 (by repeat' (first | with_reducible exact hk1 | with_reducible apply mK_A | with_reducible apply mK_I | with_reducible apply mK_L | with_reducible apply mK_R | with_reducible apply mK_O | with_reducible apply mK_G | with_reducible refine mK_NA ?_ (by assumption) | with_reducible refine mK_NO ?_ (by assumption) | with_reducible refine kE.ap hEc ?_)) ffJ5_48_45 rfl (⟨rfl, rfl⟩) rfl rfl ?_
    exact x_vret dJ5_add_3_64 hret (by repeat' (first | with_reducible exact kE.rf | with_reducible exact hEc | with_reducible apply kE_A | with_reducible apply kE_I | with_reducible apply kE_L | with_reducible apply kE_R | with_reducible apply kE_O | with_reducible apply kE_G | with_reducible refine kE.tr ?_ hEc)) (⟨rfl, ⟨d1, AL_ins hA hcc hi ⟨KX, hx1, hcx⟩⟩, hF.tr ((Fr.rf.O (Or.inr (hA.dg (by omega)))).I (Or.inr hA.g))⟩)
  refine x_aload_n (n' := 1) dJ5_add_3_0 rfl rfl rfl ?_
  refine x_iload_n (n' := 2) dJ5_add_3_1 rfl rfl rfl ?_
  refine x_callV (n' := 5) (n := 1) (K := 45) (c_J5_rangeCheckForAdd l G _ t 0 0 f 0 ⟨_, h⟩ hi) dJ5_add_3_2 (by repeat' (first | with_reducible exact hk | with_reducible apply mK_A | with_reducible apply mK_I | with_reducible apply mK_L | with_reducible apply mK_R | with_reducible apply mK_O | with_reducible apply mK_G | with_reducible refine mK_NA ?_ (by assumption) | with_reducible refine mK_NO ?_ (by assumption))) rfl (lw_V q1635 q1637 qs13 q90 q1638) (by decide +kernel) ⟨(Nat.le_of_ble_eq_true rfl), (Nat.le_of_ble_eq_true rfl)⟩ rfl rfl (Nat.le_of_ble_eq_true rfl) (by first | exact Nat.le_of_ble_eq_true rfl | omega) (by first | exact Nat.le_of_ble_eq_true rfl | omega) rfl (fun v_1 M_2 h_4 hE_3 => ?_)
  obtain ⟨rfl, hMs⟩ := h_4
  have hMs := hMs.symm
  subst hMs
  refine x_aload_n (n' := 6) dJ5_add_3_5 rfl rfl rfl ?_
  refine x_dup (n' := 7) dJ5_add_3_6 rfl rfl ?_
  refine x_getI (n' := 10) dJ5_add_3_7 (by repeat' (first | with_reducible exact hk | with_reducible apply mK_A | with_reducible apply mK_I | with_reducible apply mK_L | with_reducible apply mK_R | with_reducible apply mK_O | with_reducible apply mK_G | with_reducible refine mK_NA ?_ (by assumption) | with_reducible refine mK_NO ?_ (by assumption) | with_reducible refine kE.ap hE_3 ?_)) ffJ5_63_45 rfl rfl ?_
  refine x_iconst (n' := 11) (v := 1) dJ5_add_3_10 (by decide) rfl ?_
  refine x_iadd (n' := 12) dJ5_add_3_11 rfl ?_
  refine x_putI (n' := 15) dJ5_add_3_12 (by repeat' (first | with_reducible exact hk | with_reducible apply mK_A | with_reducible apply mK_I | with_reducible apply mK_L | with_reducible apply mK_R | with_reducible apply mK_O | with_reducible apply mK_G | with_reducible refine mK_NA ?_ (by assumption) | with_reducible refine mK_NO ?_ (by assumption) | with_reducible refine kE.ap hE_3 ?_)) ffJ5_63_45 rfl (⟨rfl, rfl⟩) rfl rfl ?_
  refine x_aload_n (n' := 16) dJ5_add_3_15 rfl rfl rfl ?_
  refine x_getI (n' := 19) dJ5_add_3_16 (by repeat' (first | with_reducible exact hk | with_reducible apply mK_A | with_reducible apply mK_I | with_reducible apply mK_L | with_reducible apply mK_R | with_reducible apply mK_O | with_reducible apply mK_G | with_reducible refine mK_NA ?_ (by assumption) | with_reducible refine mK_NO ?_ (by assumption) | with_reducible refine kE.ap hE_3 ?_)) ffJ5_48_45 rfl rfl ?_
  refine x_topv ((mI_sI_c (by decide)).trans h.sz) ?_
  refine x_dup (n' := 20) dJ5_add_3_19 rfl rfl ?_
  refine x_istore_n (n' := 21) dJ5_add_3_20 rfl (Nat.le_of_ble_eq_true rfl) rfl (by dsimp only [List.set] <;> rfl) rfl ?_
  refine x_aload_n (n' := 22) dJ5_add_3_21 rfl rfl rfl ?_
  refine x_getRs (n' := 25) (b := (G.2.2.2 6)) dJ5_add_3_22 (by repeat' (first | with_reducible exact hk | with_reducible apply mK_A | with_reducible apply mK_I | with_reducible apply mK_L | with_reducible apply mK_R | with_reducible apply mK_O | with_reducible apply mK_G | with_reducible refine mK_NA ?_ (by assumption) | with_reducible refine mK_NO ?_ (by assumption) | with_reducible refine kE.ap hE_3 ?_)) ffJ5_9_45 rfl (by repeat' (first | with_reducible exact hr | with_reducible apply mR_A | with_reducible apply mR_I | with_reducible apply mR_L | with_reducible apply mR_R | with_reducible apply mR_O | with_reducible apply mR_G | with_reducible refine mR_NA ?_ (by assumption) (by assumption))) rfl ?_
  refine x_dup (n' := 26) dJ5_add_3_25 rfl rfl ?_
  refine x_astore (n' := 28) dJ5_add_3_26 (Nat.le_of_ble_eq_true rfl) rfl (by dsimp only [List.set] <;> rfl) rfl ?_
  refine x_alenC (n' := 29) dJ5_add_3_28 rfl ?_
  refine x_icmp_ne (n' := 32) (tgt := 38) dJ5_add_3_29 (by decide) rfl (fun c29_5 => absurd rfl c29_5) (fun c29_5 => ?_)
  refine x_aload_n (n' := 33) dJ5_add_3_32 rfl rfl rfl ?_
  refine x_callV (n' := 36) (n := 0) (K := 45) (c_J5_grow_2 l G _ t 0 _ f (AL_modc h) (by decide)) dJ5_add_3_33 (by repeat' (first | with_reducible exact hk | with_reducible apply mK_A | with_reducible apply mK_I | with_reducible apply mK_L | with_reducible apply mK_R | with_reducible apply mK_O | with_reducible apply mK_G | with_reducible refine mK_NA ?_ (by assumption) | with_reducible refine mK_NO ?_ (by assumption) | with_reducible refine kE.ap hE_3 ?_)) rfl (lw_V q2000 q2002 qs20 q90 q2003) (by decide +kernel) ⟨(Nat.le_of_ble_eq_true rfl), (Nat.le_of_ble_eq_true rfl)⟩ rfl rfl (Nat.le_of_ble_eq_true rfl) (Nat.le_of_ble_eq_true rfl) (Nat.le_refl _) rfl (fun v_6 M1 h_8 hE_7 => ?_)
  obtain ⟨d1, rfl, hA, hF⟩ := h_8
  have hk1 : mK M1 t = some 45 := hA.k
  have hx1 : mK M1 x = some KX := hF.kE x KX hx
  refine x_astore (n' := 38) dJ5_add_3_36 (Nat.le_of_ble_eq_true rfl) rfl (by dsimp only [List.set] <;> rfl) rfl ?_
  refine x_room (cb2 := 0) (sb2 := 0) (Nat.zero_le _) (Nat.zero_le _) ?_
  exact x_drop (cut38 _ d1 (by rw [if_neg (by omega)]; exact hA) ((Fr.rf.I (Or.inr h.g)).tr hF) hx1) ⟨rfl, ⟨rfl, ⟨rfl, ⟨rfl, ⟨rfl, trivial⟩⟩⟩⟩⟩

theorem c_J5_add_3__g (l : Launch) (G : kG) (M : kM) (t n d0 i : Nat) (f : Nat → Nat) (KX x : Nat) (h : ALd G M t n n d0 f) (h9 : n < 600) (hi : i ≤ n) (hx : mK M x = some KX) (hcx : Cond.castable (kname KX) "java/lang/Object" ∈ lw_tbl) : Kt l G yJ5_add_3 cJ5_add_3 5 none 5 137 [.ref t, .int (nI i), .ref x] M (1) (nc n) (fun v M2 => v = none ∧ AL G M2 t (n + 1) (if n < n then n else nc n) (insF f i x) ∧ Fr (ow t) M M2) := by
  by_cases hcase : n = 0
  · subst hcase; have hz := h.z rfl; subst hz; have e : i = 0 := by omega
    subst e; exact c_J5_add_3__0 l G M t f KX x h hx hcx
  · exact c_J5_add_3__c l G M t n d0 i f KX x h hcase h9 hi hx hcx

theorem c_J5_add_3 (l : Launch) (G : kG) (M : kM) (t n c0 i : Nat) (f : Nat → Nat) (KX x : Nat) (hal : AL G M t n c0 f) (h9 : n < 600) (hi : i ≤ n) (hx : mK M x = some KX) (hcx : Cond.castable (kname KX) "java/lang/Object" ∈ lw_tbl) : Kt l G yJ5_add_3 cJ5_add_3 5 none 5 137 [.ref t, .int (nI i), .ref x] M (if n < c0 then 0 else 1) (if n < c0 then 0 else nc c0) (fun v M2 => v = none ∧ AL G M2 t (n + 1) (if n < c0 then c0 else nc c0) (insF f i x) ∧ Fr (ow t) M M2) := by
  by_cases hcase : n < c0
  · obtain ⟨d0, h⟩ := hal; rw [if_pos hcase, if_pos hcase]; exact c_J5_add_3__f l G M t n c0 d0 i f KX x h hcase hi hx hcx
  · obtain ⟨d0, h⟩ := hal; have hle := h.le; have e : c0 = n := by omega
    subst e; rw [if_neg hcase, if_neg hcase]; exact c_J5_add_3__g l G M t c0 d0 i f KX x h h9 hi hx hcx
