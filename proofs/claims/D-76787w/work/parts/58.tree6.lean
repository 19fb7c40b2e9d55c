theorem rotLT_Lp {T : kT} {p r : Nat} (h : p ≠ r) (h2 : tP T p ≠ some p) : tL (rotLT T p r) p = tL T p := by
  refine (va_up_ne _ _ h).trans ?_
  cases e : tP T p with
  | none => rfl
  | some g =>
    dsimp only
    split
    · exact va_up_ne _ _ (fun z => h2 (by rw [e, ← z]))
    · rfl
theorem rotRT_Rp {T : kT} {p r : Nat} (h : p ≠ r) (h2 : tP T p ≠ some p) : tR (rotRT T p r) p = tR T p := by
  refine (va_up_ne _ _ h).trans ?_
  cases e : tP T p with
  | none => rfl
  | some g =>
    dsimp only
    split
    · exact va_up_ne _ _ (fun z => h2 (by rw [e, ← z]))
    · rfl
theorem rotRT_Lo {T : kT} {s l p : Nat} (h : p ≠ s) (hp : tP T s = some p) (hr : tR T p = some s) : tL (rotRT T s l) p = tL T p := by
  show rrL (tL T) (tR T) (tP T) s l p = tL T p
  unfold rrL
  rw [hp]
  dsimp only
  rw [if_pos hr]
  exact va_up_ne _ _ h
theorem rotLT_Ro {T : kT} {s l p : Nat} (h : p ≠ s) (hp : tP T s = some p) (hr : tL T p = some s) : tR (rotLT T s l) p = tR T p := by
  show rlR (tL T) (tR T) (tP T) s l p = tR T p
  unfold rlR
  rw [hp]
  dsimp only
  rw [if_pos hr]
  exact va_up_ne _ _ h
theorem rotRT_Rl {T : kT} {p r : Nat} : tR (rotRT T p r) r = some p := va_up_self _ _ _
theorem rotLT_Ll {T : kT} {p r : Nat} : tL (rotLT T p r) r = some p := va_up_self _ _ _
/-- a node without children stays so -/
theorem rotLT_leaf {T : kT} {lo hi : Nat → Nat} (w : WTT T lo hi) {p r q a : Nat} (hp : tN T p = some a) (hr : tR T p = some r) (hq : q ≠ r) (h1 : tL T q = none) (h2 : tR T q = none) : tL (rotLT T p r) q = none ∧ tR (rotLT T p r) q = none := by
  have hqp : q ≠ p := fun e => by rw [e, hr] at h2; cases h2
  have hg : ∀ g, tP T p = some g → q ≠ g := fun g hg e => by
    subst e
    rcases (w.2.2.2.2.2.2.1 p q (nns hp) hg).2 with z | z
    · rw [h1] at z; cases z
    · rw [h2] at z; cases z
  constructor
  · refine (va_up_ne _ _ hq).trans ?_
    cases e : tP T p with
    | none => exact h1
    | some g =>
      dsimp only
      split
      · exact (va_up_ne _ _ (hg g e)).trans h1
      · exact h1
  · show rlR (tL T) (tR T) (tP T) p r q = none
    unfold rlR
    cases e : tP T p with
    | none => exact (va_up_ne _ _ hqp).trans h2
    | some g =>
      dsimp only
      split
      · exact (va_up_ne _ _ hqp).trans h2
      · exact ((va_up_ne _ _ (hg g e)).trans (va_up_ne _ _ hqp)).trans h2
theorem rotRT_leaf {T : kT} {lo hi : Nat → Nat} (w : WTT T lo hi) {p r q a : Nat} (hp : tN T p = some a) (hr : tL T p = some r) (hq : q ≠ r) (h1 : tL T q = none) (h2 : tR T q = none) : tL (rotRT T p r) q = none ∧ tR (rotRT T p r) q = none := by
  have hqp : q ≠ p := fun e => by rw [e, hr] at h1; cases h1
  have hg : ∀ g, tP T p = some g → q ≠ g := fun g hg e => by
    subst e
    rcases (w.2.2.2.2.2.2.1 p q (nns hp) hg).2 with z | z
    · rw [h1] at z; cases z
    · rw [h2] at z; cases z
  constructor
  · show rrL (tL T) (tR T) (tP T) p r q = none
    unfold rrL
    cases e : tP T p with
    | none => exact (va_up_ne _ _ hqp).trans h1
    | some g =>
      dsimp only
      split
      · exact (va_up_ne _ _ hqp).trans h1
      · exact ((va_up_ne _ _ (hg g e)).trans (va_up_ne _ _ hqp)).trans h1
  · refine (va_up_ne _ _ hq).trans ?_
    cases e : tP T p with
    | none => exact h2
    | some g =>
      dsimp only
      split
      · exact (va_up_ne _ _ (hg g e)).trans h2
      · exact h2
theorem WT.pne {D L R P rt lo hi} (w : WT D L R P rt lo hi) {p : Nat} (hp : D p) : P p ≠ some p := fun e => (w.up hp e).2.1 rfl
set_option maxHeartbeats 20000000 in
set_option maxRecDepth 100000 in
theorem k302_c_J1_fixAfterDeletion (l : Launch) (G : kG) (M : kM) (o t asd : Nat) (T : kT) (x0 ax0 q : Nat) (lf : Prop) (lo hi : Nat → Nat) (hP : PT M o t asd T) (hW : WTT T lo hi) (hx0 : tN T x0 = some ax0) (hlf : lf → (tL T q = none ∧ tR T q = none) ∧ lo x0 ≤ q ∧ q < hi x0 ∧ tN T q ≠ none) (pp : Program) (ee : Env) (ss : State) (mm : MethodId) (args : Array Value) (below : List Frame) (meth : Method) (cd : Code) (hmn : meth.name = yJ1_fixAfterDeletion.name) (hret : meth.sig.returnType = none) : ∀ (fuel : Nat) (ih : ∀ (x ax : Nat) (T1 : kT) (lo1 hi1 : Nat → Nat) (M1 : kM) (h9 : BB - (hi1 x - lo1 x) < fuel) (hx : tN T1 x = some ax) (hP : PT M1 o t asd T1) (hW : WTT T1 lo1 hi1) (hN : tN T1 = tN T ∧ tK T1 = tK T ∧ tV T1 = tV T) (hF : FK o M M1) (hlf : (lf → (tL T1 q = none ∧ tR T1 q = none) ∧ lo1 x ≤ q ∧ q < hi1 x ∧ tN T1 q ≠ none)), Wx pp l ee { frames := 1, cells := 0, slots := 0, locals := 22 } ss mm args below meth cd "java/util/TreeMap" cJ1_fixAfterDeletion 3 G (MQ below (KQ G M (fun v M2 => v = none ∧ ∃ T2 lo2 hi2, PT M2 o t asd T2 ∧ WTT T2 lo2 hi2 ∧ (tN T2 = tN T ∧ tK T2 = tK T ∧ tV T2 = tV T) ∧ FK o M M2 ∧ (lf → tL T2 q = none ∧ tR T2 q = none))) args ss (0) (0) (kA G)) 0 [some (.ref t), some (.ref ax), none] [] (M1) (0) (0)) (x ax p ap s as9 : Nat) (T1 : kT) (lo1 hi1 : Nat → Nat) (M1 : kM) (h9 : BB - (hi1 x - lo1 x) < fuel + 1) (hx : tN T1 x = some ax) (hp : tN T1 p = some ap) (hs : tN T1 s = some as9) (hxp : tP T1 x = some p) (hxs : tR T1 p = some x) (hps : tL T1 p = some s) (hP : PT M1 o t asd T1) (hW : WTT T1 lo1 hi1) (hN : tN T1 = tN T ∧ tK T1 = tK T ∧ tV T1 = tV T) (hF : FK o M M1) (hlf : (lf → (tL T1 q = none ∧ tR T1 q = none) ∧ lo1 x ≤ q ∧ q < hi1 x ∧ tN T1 q ≠ none)), Wx pp l ee { frames := 1, cells := 0, slots := 0, locals := 22 } ss mm args below meth cd "java/util/TreeMap" cJ1_fixAfterDeletion 3 G (MQ below (KQ G M (fun v M2 => v = none ∧ ∃ T2 lo2 hi2, PT M2 o t asd T2 ∧ WTT T2 lo2 hi2 ∧ (tN T2 = tN T ∧ tK T2 = tK T ∧ tV T2 = tV T) ∧ FK o M M2 ∧ (lf → tL T2 q = none ∧ tR T2 q = none))) args ss (0) (0) (kA G)) 302 [some (.ref t), some (.ref ax), some (.ref as9)] [] (M1) (0) (0) := by
  have hP0 := hP
  have hF : FK o M M := FK.rf
  intro fuel ih x ax p ap s as9 T1 lo1 hi1 M1 h9 hx hp hs hxp hxs hps hP hW hN hF hlf
  have hu0 := hW.up (nns hx) hxp
  have ivp0 := hW.1 p (nns hp)
  have hsx := hW.2.2.2.2.1 p x (nns hp) hxs
  refine x_aload_n (n' := 303) dJ1_fixAfterDeletion_302 rfl rfl rfl ?_
  refine x_aload_n (n' := 304) dJ1_fixAfterDeletion_303 rfl rfl rfl ?_
  refine x_callS (n' := 307) (n := 1) (c_J1_parentOf__s l G _ o t asd T1 x ax hP hx) dJ1_fixAfterDeletion_304 (lw_S q2524 q2525 q81 q2526) (by decide +kernel) ⟨(Nat.le_of_ble_eq_true rfl), (Nat.le_of_ble_eq_true rfl)⟩ rfl rfl (Nat.le_of_ble_eq_true rfl) (by first | exact Nat.le_of_ble_eq_true rfl | omega) (by first | exact Nat.le_of_ble_eq_true rfl | omega) rfl (fun v_1 M_2 h_4 hE_3 => ?_)
  obtain ⟨rfl, hMs⟩ := h_4
  have hMs := hMs.symm
  subst hMs
  clear hE_3
  refine x_topr (lk_s hxp hp) ?_
  refine x_callS (n' := 310) (n := 1) (c_J1_colorOf__s l G _ o t asd T1 p ap hP hp) dJ1_fixAfterDeletion_307 (lw_S q2533 q2534 q81 q2535) (by decide +kernel) ⟨(Nat.le_of_ble_eq_true rfl), (Nat.le_of_ble_eq_true rfl)⟩ rfl rfl (Nat.le_of_ble_eq_true rfl) (by first | exact Nat.le_of_ble_eq_true rfl | omega) (by first | exact Nat.le_of_ble_eq_true rfl | omega) rfl (fun v_5 M_6 h_8 hE_7 => ?_)
  obtain ⟨rfl, hMs⟩ := h_8
  have hMs := hMs.symm
  subst hMs
  clear hE_7
  refine x_callS (n' := 313) (n := 2) (c_J1_setColor__s l G _ o t asd T1 s as9 (tC T1 p) hP hs (hP.c01 hp)) dJ1_fixAfterDeletion_310 (lw_S q2536 q2537 q81 q2538) (by decide +kernel) ⟨(Nat.le_of_ble_eq_true rfl), (Nat.le_of_ble_eq_true rfl)⟩ rfl rfl (Nat.le_of_ble_eq_true rfl) (by first | exact Nat.le_of_ble_eq_true rfl | omega) (by first | exact Nat.le_of_ble_eq_true rfl | omega) rfl (fun v_9 M_10 h_12 hE_11 => ?_)
  obtain ⟨rfl, hP9, hF9⟩ := h_12
  replace hP := hP9
  replace hF := hF.tr hF9
  clear hF9
  clear hE_11
  refine x_aload_n (n' := 314) dJ1_fixAfterDeletion_313 rfl rfl rfl ?_
  refine x_callS (n' := 317) (n := 1) (c_J1_parentOf__s l G _ o t asd (tsC T1 s (tC T1 p)) x ax hP hx) dJ1_fixAfterDeletion_314 (lw_S q2524 q2525 q81 q2526) (by decide +kernel) ⟨(Nat.le_of_ble_eq_true rfl), (Nat.le_of_ble_eq_true rfl)⟩ rfl rfl (Nat.le_of_ble_eq_true rfl) (by first | exact Nat.le_of_ble_eq_true rfl | omega) (by first | exact Nat.le_of_ble_eq_true rfl | omega) rfl (fun v_13 M_14 h_16 hE_15 => ?_)
  obtain ⟨rfl, hMs⟩ := h_16
  have hMs := hMs.symm
  subst hMs
  clear hE_15
  refine x_topr (lk_s hxp hp) ?_
  refine x_iconst (n' := 318) (v := 1) dJ1_fixAfterDeletion_317 (by decide) rfl ?_
  refine x_callS (n' := 321) (n := 2) (c_J1_setColor__s l G _ o t asd (tsC T1 s (tC T1 p)) p ap 1 hP hp (Or.inr rfl)) dJ1_fixAfterDeletion_318 (lw_S q2536 q2537 q81 q2538) (by decide +kernel) ⟨(Nat.le_of_ble_eq_true rfl), (Nat.le_of_ble_eq_true rfl)⟩ rfl rfl (Nat.le_of_ble_eq_true rfl) (by first | exact Nat.le_of_ble_eq_true rfl | omega) (by first | exact Nat.le_of_ble_eq_true rfl | omega) rfl (fun v_17 M_18 h_20 hE_19 => ?_)
  obtain ⟨rfl, hP9, hF9⟩ := h_20
  replace hP := hP9
  replace hF := hF.tr hF9
  clear hF9
  clear hE_19
  refine x_aload_n (n' := 322) dJ1_fixAfterDeletion_321 rfl rfl rfl ?_
  refine x_callS (n' := 325) (n := 1) (c_J1_leftOf__s l G _ o t asd (tsC (tsC T1 s (tC T1 p)) p 1) s as9 hP hs) dJ1_fixAfterDeletion_322 (lw_S q2527 q2528 q81 q2529) (by decide +kernel) ⟨(Nat.le_of_ble_eq_true rfl), (Nat.le_of_ble_eq_true rfl)⟩ rfl rfl (Nat.le_of_ble_eq_true rfl) (by first | exact Nat.le_of_ble_eq_true rfl | omega) (by first | exact Nat.le_of_ble_eq_true rfl | omega) rfl (fun v_21 M_22 h_24 hE_23 => ?_)
  obtain ⟨rfl, hMs⟩ := h_24
  have hMs := hMs.symm
  subst hMs
  clear hE_23
  refine x_topq (fun e_27 => ?_) (fun b_26 e_27 => ?_)
  · have hl_28 : tL (tsC (tsC T1 s (tC T1 p)) p 1) s = none := bind_n e_27 (fun _ q => hW.dl (nns hs) q)
    refine x_iconst (n' := 326) (v := 1) dJ1_fixAfterDeletion_325 (by decide) rfl ?_
    refine x_callS (n' := 329) (n := 2) (c_J1_setColor__n l G _ 1) dJ1_fixAfterDeletion_326 (lw_S q2536 q2537 q81 q2538) (by decide +kernel) ⟨(Nat.le_of_ble_eq_true rfl), (Nat.le_of_ble_eq_true rfl)⟩ rfl rfl (Nat.le_of_ble_eq_true rfl) (by first | exact Nat.le_of_ble_eq_true rfl | omega) (by first | exact Nat.le_of_ble_eq_true rfl | omega) rfl (fun v_30 M_31 h_33 hE_32 => ?_)
    obtain ⟨rfl, hMs⟩ := h_33
    have hMs := hMs.symm
    subst hMs
    clear hE_32
    refine x_aload_n (n' := 330) dJ1_fixAfterDeletion_329 rfl rfl rfl ?_
    refine x_aload_n (n' := 331) dJ1_fixAfterDeletion_330 rfl rfl rfl ?_
    refine x_callS (n' := 334) (n := 1) (c_J1_parentOf__s l G _ o t asd (tsC (tsC T1 s (tC T1 p)) p 1) x ax hP hx) dJ1_fixAfterDeletion_331 (lw_S q2524 q2525 q81 q2526) (by decide +kernel) ⟨(Nat.le_of_ble_eq_true rfl), (Nat.le_of_ble_eq_true rfl)⟩ rfl rfl (Nat.le_of_ble_eq_true rfl) (by first | exact Nat.le_of_ble_eq_true rfl | omega) (by first | exact Nat.le_of_ble_eq_true rfl | omega) rfl (fun v_34 M_35 h_37 hE_36 => ?_)
    obtain ⟨rfl, hMs⟩ := h_37
    have hMs := hMs.symm
    subst hMs
    clear hE_36
    refine x_topr (lk_s hxp hp) ?_
    refine x_callV (n' := 337) (n := 1) (K := 41) (c_J1_rotateRight__s l G _ o t asd (tsC (tsC T1 s (tC T1 p)) p 1) p ap s _ _ hP hW hp hps) dJ1_fixAfterDeletion_334 (hP.k) rfl (lw_V q2543 q2545 qs31 q81 q2546) (by decide +kernel) ⟨(Nat.le_of_ble_eq_true rfl), (Nat.le_of_ble_eq_true rfl)⟩ rfl rfl (Nat.le_of_ble_eq_true rfl) (by first | exact Nat.le_of_ble_eq_true rfl | omega) (by first | exact Nat.le_of_ble_eq_true rfl | omega) rfl (fun v_38 M_39 h_41 hE_40 => ?_)
    obtain ⟨rfl, hP9, hF9⟩ := h_41
    replace hP := hP9
    replace hF := hF.tr hF9
    clear hF9
    clear hE_40
    have hr9 := hW.2.2.1 p s (nns hp) hps
    have ivr9 := hW.1 s (nns hs)
    have ivk9 := hW.1 p (nns hp)
    have ivx9 := hW.1 x (nns hx)
    have hW0 := hW
    have hW := rotRT_W (T := (tsC (tsC T1 s (tC T1 p)) p 1)) hW0 hp hps
    have hlf := fun h => (have z := hlf h; (⟨rotRT_leaf (T := (tsC (tsC T1 s (tC T1 p)) p 1)) hW0 hp hps (by omega) z.1.1 z.1.2, z.2.2.2⟩ : (tL (rotRT (tsC (tsC T1 s (tC T1 p)) p 1) p s) q = none ∧ tR (rotRT (tsC (tsC T1 s (tC T1 p)) p 1) p s) q = none) ∧ tN T1 q ≠ none))
    obtain ⟨r0, hrt⟩ : ∃ r0, tr (rotRT (tsC (tsC T1 s (tC T1 p)) p 1) p s) = some r0 := rot_r (fun e9 => hW.2.2.2.2.2.2.2.1 e9 x (nns hx))
    obtain ⟨ar0, har0⟩ : ∃ a, tN T1 r0 = some a := rot_r (hW.dt hrt)
    refine x_aload_n (n' := 338) dJ1_fixAfterDeletion_337 rfl rfl rfl ?_
    refine x_getRs (n' := 341) (b := ar0) dJ1_fixAfterDeletion_338 (hP.k) ffJ1_101_41 rfl (hP.r.trans (lk_s hrt har0)) rfl ?_
    refine x_astore_n (n' := 342) dJ1_fixAfterDeletion_341 rfl (Nat.le_of_ble_eq_true rfl) rfl (by dsimp only [List.set] <;> rfl) rfl ?_
    refine x_goto (tgt := 0) dJ1_fixAfterDeletion_342 (by decide) ?_
    have hr8 := hW.2.2.2.2.2.2.2.2.1 r0 hrt
    exact x_drop (ih r0 ar0 (rotRT (tsC (tsC T1 s (tC T1 p)) p 1) p s) _ _ _ (by omega) har0 hP hW hN hF (fun h => by have z := hlf h; have z2 := hW.1 q z.2; exact ⟨z.1, by omega, by omega, z.2⟩)) ⟨rfl, ⟨rfl, trivial⟩⟩
  · obtain ⟨j_25, hl_28, hj_29⟩ := bind_s e_27
    refine x_iconst (n' := 326) (v := 1) dJ1_fixAfterDeletion_325 (by decide) rfl ?_
    refine x_callS (n' := 329) (n := 2) (c_J1_setColor__s l G _ o t asd (tsC (tsC T1 s (tC T1 p)) p 1) j_25 b_26 1 hP hj_29 (Or.inr rfl)) dJ1_fixAfterDeletion_326 (lw_S q2536 q2537 q81 q2538) (by decide +kernel) ⟨(Nat.le_of_ble_eq_true rfl), (Nat.le_of_ble_eq_true rfl)⟩ rfl rfl (Nat.le_of_ble_eq_true rfl) (by first | exact Nat.le_of_ble_eq_true rfl | omega) (by first | exact Nat.le_of_ble_eq_true rfl | omega) rfl (fun v_42 M_43 h_45 hE_44 => ?_)
    obtain ⟨rfl, hP9, hF9⟩ := h_45
    replace hP := hP9
    replace hF := hF.tr hF9
    clear hF9
    clear hE_44
    refine x_aload_n (n' := 330) dJ1_fixAfterDeletion_329 rfl rfl rfl ?_
    refine x_aload_n (n' := 331) dJ1_fixAfterDeletion_330 rfl rfl rfl ?_
    refine x_callS (n' := 334) (n := 1) (c_J1_parentOf__s l G _ o t asd (tsC (tsC (tsC T1 s (tC T1 p)) p 1) j_25 1) x ax hP hx) dJ1_fixAfterDeletion_331 (lw_S q2524 q2525 q81 q2526) (by decide +kernel) ⟨(Nat.le_of_ble_eq_true rfl), (Nat.le_of_ble_eq_true rfl)⟩ rfl rfl (Nat.le_of_ble_eq_true rfl) (by first | exact Nat.le_of_ble_eq_true rfl | omega) (by first | exact Nat.le_of_ble_eq_true rfl | omega) rfl (fun v_46 M_47 h_49 hE_48 => ?_)
    obtain ⟨rfl, hMs⟩ := h_49
    have hMs := hMs.symm
    subst hMs
    clear hE_48
    refine x_topr (lk_s hxp hp) ?_
    refine x_callV (n' := 337) (n := 1) (K := 41) (c_J1_rotateRight__s l G _ o t asd (tsC (tsC (tsC T1 s (tC T1 p)) p 1) j_25 1) p ap s _ _ hP hW hp hps) dJ1_fixAfterDeletion_334 (hP.k) rfl (lw_V q2543 q2545 qs31 q81 q2546) (by decide +kernel) ⟨(Nat.le_of_ble_eq_true rfl), (Nat.le_of_ble_eq_true rfl)⟩ rfl rfl (Nat.le_of_ble_eq_true rfl) (by first | exact Nat.le_of_ble_eq_true rfl | omega) (by first | exact Nat.le_of_ble_eq_true rfl | omega) rfl (fun v_50 M_51 h_53 hE_52 => ?_)
    obtain ⟨rfl, hP9, hF9⟩ := h_53
    replace hP := hP9
    replace hF := hF.tr hF9
    clear hF9
    clear hE_52
    have hr9 := hW.2.2.1 p s (nns hp) hps
    have ivr9 := hW.1 s (nns hs)
    have ivk9 := hW.1 p (nns hp)
    have ivx9 := hW.1 x (nns hx)
    have hW0 := hW
    have hW := rotRT_W (T := (tsC (tsC (tsC T1 s (tC T1 p)) p 1) j_25 1)) hW0 hp hps
    have hlf := fun h => (have z := hlf h; (⟨rotRT_leaf (T := (tsC (tsC (tsC T1 s (tC T1 p)) p 1) j_25 1)) hW0 hp hps (by omega) z.1.1 z.1.2, z.2.2.2⟩ : (tL (rotRT (tsC (tsC (tsC T1 s (tC T1 p)) p 1) j_25 1) p s) q = none ∧ tR (rotRT (tsC (tsC (tsC T1 s (tC T1 p)) p 1) j_25 1) p s) q = none) ∧ tN T1 q ≠ none))
    obtain ⟨r0, hrt⟩ : ∃ r0, tr (rotRT (tsC (tsC (tsC T1 s (tC T1 p)) p 1) j_25 1) p s) = some r0 := rot_r (fun e9 => hW.2.2.2.2.2.2.2.1 e9 x (nns hx))
    obtain ⟨ar0, har0⟩ : ∃ a, tN T1 r0 = some a := rot_r (hW.dt hrt)
    refine x_aload_n (n' := 338) dJ1_fixAfterDeletion_337 rfl rfl rfl ?_
    refine x_getRs (n' := 341) (b := ar0) dJ1_fixAfterDeletion_338 (hP.k) ffJ1_101_41 rfl (hP.r.trans (lk_s hrt har0)) rfl ?_
    refine x_astore_n (n' := 342) dJ1_fixAfterDeletion_341 rfl (Nat.le_of_ble_eq_true rfl) rfl (by dsimp only [List.set] <;> rfl) rfl ?_
    refine x_goto (tgt := 0) dJ1_fixAfterDeletion_342 (by decide) ?_
    have hr8 := hW.2.2.2.2.2.2.2.2.1 r0 hrt
    exact x_drop (ih r0 ar0 (rotRT (tsC (tsC (tsC T1 s (tC T1 p)) p 1) j_25 1) p s) _ _ _ (by omega) har0 hP hW hN hF (fun h => by have z := hlf h; have z2 := hW.1 q z.2; exact ⟨z.1, by omega, by omega, z.2⟩)) ⟨rfl, ⟨rfl, trivial⟩⟩
set_option maxHeartbeats 20000000 in
set_option maxRecDepth 100000 in
theorem k143_c_J1_fixAfterDeletion (l : Launch) (G : kG) (M : kM) (o t asd : Nat) (T : kT) (x0 ax0 q : Nat) (lf : Prop) (lo hi : Nat → Nat) (hP : PT M o t asd T) (hW : WTT T lo hi) (hx0 : tN T x0 = some ax0) (hlf : lf → (tL T q = none ∧ tR T q = none) ∧ lo x0 ≤ q ∧ q < hi x0 ∧ tN T q ≠ none) (pp : Program) (ee : Env) (ss : State) (mm : MethodId) (args : Array Value) (below : List Frame) (meth : Method) (cd : Code) (hmn : meth.name = yJ1_fixAfterDeletion.name) (hret : meth.sig.returnType = none) : ∀ (fuel : Nat) (ih : ∀ (x ax : Nat) (T1 : kT) (lo1 hi1 : Nat → Nat) (M1 : kM) (h9 : BB - (hi1 x - lo1 x) < fuel) (hx : tN T1 x = some ax) (hP : PT M1 o t asd T1) (hW : WTT T1 lo1 hi1) (hN : tN T1 = tN T ∧ tK T1 = tK T ∧ tV T1 = tV T) (hF : FK o M M1) (hlf : (lf → (tL T1 q = none ∧ tR T1 q = none) ∧ lo1 x ≤ q ∧ q < hi1 x ∧ tN T1 q ≠ none)), Wx pp l ee { frames := 1, cells := 0, slots := 0, locals := 22 } ss mm args below meth cd "java/util/TreeMap" cJ1_fixAfterDeletion 3 G (MQ below (KQ G M (fun v M2 => v = none ∧ ∃ T2 lo2 hi2, PT M2 o t asd T2 ∧ WTT T2 lo2 hi2 ∧ (tN T2 = tN T ∧ tK T2 = tK T ∧ tV T2 = tV T) ∧ FK o M M2 ∧ (lf → tL T2 q = none ∧ tR T2 q = none))) args ss (0) (0) (kA G)) 0 [some (.ref t), some (.ref ax), none] [] (M1) (0) (0)) (x ax p ap s as9 : Nat) (T1 : kT) (lo1 hi1 : Nat → Nat) (M1 : kM) (h9 : BB - (hi1 x - lo1 x) < fuel + 1) (hx : tN T1 x = some ax) (hp : tN T1 p = some ap) (hs : tN T1 s = some as9) (hxp : tP T1 x = some p) (hxs : tL T1 p = some x) (hps : tR T1 p = some s) (hP : PT M1 o t asd T1) (hW : WTT T1 lo1 hi1) (hN : tN T1 = tN T ∧ tK T1 = tK T ∧ tV T1 = tV T) (hF : FK o M M1) (hlf : (lf → (tL T1 q = none ∧ tR T1 q = none) ∧ lo1 x ≤ q ∧ q < hi1 x ∧ tN T1 q ≠ none)), Wx pp l ee { frames := 1, cells := 0, slots := 0, locals := 22 } ss mm args below meth cd "java/util/TreeMap" cJ1_fixAfterDeletion 3 G (MQ below (KQ G M (fun v M2 => v = none ∧ ∃ T2 lo2 hi2, PT M2 o t asd T2 ∧ WTT T2 lo2 hi2 ∧ (tN T2 = tN T ∧ tK T2 = tK T ∧ tV T2 = tV T) ∧ FK o M M2 ∧ (lf → tL T2 q = none ∧ tR T2 q = none))) args ss (0) (0) (kA G)) 143 [some (.ref t), some (.ref ax), some (.ref as9)] [] (M1) (0) (0) := by
  have hP0 := hP
  have hF : FK o M M := FK.rf
  have cut302 := k302_c_J1_fixAfterDeletion l G M o t asd T x0 ax0 q lf lo hi hP hW hx0 hlf pp ee ss mm args below meth cd hmn hret
  intro fuel ih x ax p ap s as9 T1 lo1 hi1 M1 h9 hx hp hs hxp hxs hps hP hW hN hF hlf
  have hu0 := hW.up (nns hx) hxp
  have ivp0 := hW.1 p (nns hp)
  have hsx := hW.2.2.1 p x (nns hp) hxs
  refine x_aload_n (n' := 144) dJ1_fixAfterDeletion_143 rfl rfl rfl ?_
  refine x_aload_n (n' := 145) dJ1_fixAfterDeletion_144 rfl rfl rfl ?_
  refine x_callS (n' := 148) (n := 1) (c_J1_parentOf__s l G _ o t asd T1 x ax hP hx) dJ1_fixAfterDeletion_145 (lw_S q2524 q2525 q81 q2526) (by decide +kernel) ⟨(Nat.le_of_ble_eq_true rfl), (Nat.le_of_ble_eq_true rfl)⟩ rfl rfl (Nat.le_of_ble_eq_true rfl) (by first | exact Nat.le_of_ble_eq_true rfl | omega) (by first | exact Nat.le_of_ble_eq_true rfl | omega) rfl (fun v_54 M_55 h_57 hE_56 => ?_)
  obtain ⟨rfl, hMs⟩ := h_57
  have hMs := hMs.symm
  subst hMs
  clear hE_56
  refine x_topr (lk_s hxp hp) ?_
  refine x_callS (n' := 151) (n := 1) (c_J1_colorOf__s l G _ o t asd T1 p ap hP hp) dJ1_fixAfterDeletion_148 (lw_S q2533 q2534 q81 q2535) (by decide +kernel) ⟨(Nat.le_of_ble_eq_true rfl), (Nat.le_of_ble_eq_true rfl)⟩ rfl rfl (Nat.le_of_ble_eq_true rfl) (by first | exact Nat.le_of_ble_eq_true rfl | omega) (by first | exact Nat.le_of_ble_eq_true rfl | omega) rfl (fun v_58 M_59 h_61 hE_60 => ?_)
  obtain ⟨rfl, hMs⟩ := h_61
  have hMs := hMs.symm
  subst hMs
  clear hE_60
  refine x_callS (n' := 154) (n := 2) (c_J1_setColor__s l G _ o t asd T1 s as9 (tC T1 p) hP hs (hP.c01 hp)) dJ1_fixAfterDeletion_151 (lw_S q2536 q2537 q81 q2538) (by decide +kernel) ⟨(Nat.le_of_ble_eq_true rfl), (Nat.le_of_ble_eq_true rfl)⟩ rfl rfl (Nat.le_of_ble_eq_true rfl) (by first | exact Nat.le_of_ble_eq_true rfl | omega) (by first | exact Nat.le_of_ble_eq_true rfl | omega) rfl (fun v_62 M_63 h_65 hE_64 => ?_)
  obtain ⟨rfl, hP9, hF9⟩ := h_65
  replace hP := hP9
  replace hF := hF.tr hF9
  clear hF9
  clear hE_64
  refine x_aload_n (n' := 155) dJ1_fixAfterDeletion_154 rfl rfl rfl ?_
  refine x_callS (n' := 158) (n := 1) (c_J1_parentOf__s l G _ o t asd (tsC T1 s (tC T1 p)) x ax hP hx) dJ1_fixAfterDeletion_155 (lw_S q2524 q2525 q81 q2526) (by decide +kernel) ⟨(Nat.le_of_ble_eq_true rfl), (Nat.le_of_ble_eq_true rfl)⟩ rfl rfl (Nat.le_of_ble_eq_true rfl) (by first | exact Nat.le_of_ble_eq_true rfl | omega) (by first | exact Nat.le_of_ble_eq_true rfl | omega) rfl (fun v_66 M_67 h_69 hE_68 => ?_)
  obtain ⟨rfl, hMs⟩ := h_69
  have hMs := hMs.symm
  subst hMs
  clear hE_68
  refine x_topr (lk_s hxp hp) ?_
  refine x_iconst (n' := 159) (v := 1) dJ1_fixAfterDeletion_158 (by decide) rfl ?_
  refine x_callS (n' := 162) (n := 2) (c_J1_setColor__s l G _ o t asd (tsC T1 s (tC T1 p)) p ap 1 hP hp (Or.inr rfl)) dJ1_fixAfterDeletion_159 (lw_S q2536 q2537 q81 q2538) (by decide +kernel) ⟨(Nat.le_of_ble_eq_true rfl), (Nat.le_of_ble_eq_true rfl)⟩ rfl rfl (Nat.le_of_ble_eq_true rfl) (by first | exact Nat.le_of_ble_eq_true rfl | omega) (by first | exact Nat.le_of_ble_eq_true rfl | omega) rfl (fun v_70 M_71 h_73 hE_72 => ?_)
  obtain ⟨rfl, hP9, hF9⟩ := h_73
  replace hP := hP9
  replace hF := hF.tr hF9
  clear hF9
  clear hE_72
  refine x_aload_n (n' := 163) dJ1_fixAfterDeletion_162 rfl rfl rfl ?_
  refine x_callS (n' := 166) (n := 1) (c_J1_rightOf__s l G _ o t asd (tsC (tsC T1 s (tC T1 p)) p 1) s as9 hP hs) dJ1_fixAfterDeletion_163 (lw_S q2530 q2531 q81 q2532) (by decide +kernel) ⟨(Nat.le_of_ble_eq_true rfl), (Nat.le_of_ble_eq_true rfl)⟩ rfl rfl (Nat.le_of_ble_eq_true rfl) (by first | exact Nat.le_of_ble_eq_true rfl | omega) (by first | exact Nat.le_of_ble_eq_true rfl | omega) rfl (fun v_74 M_75 h_77 hE_76 => ?_)
  obtain ⟨rfl, hMs⟩ := h_77
  have hMs := hMs.symm
  subst hMs
  clear hE_76
  refine x_topq (fun e_80 => ?_) (fun b_79 e_80 => ?_)
  · have hl_81 : tR (tsC (tsC T1 s (tC T1 p)) p 1) s = none := bind_n e_80 (fun _ q => hW.dr (nns hs) q)
    refine x_iconst (n' := 167) (v := 1) dJ1_fixAfterDeletion_166 (by decide) rfl ?_
    refine x_callS (n' := 170) (n := 2) (c_J1_setColor__n l G _ 1) dJ1_fixAfterDeletion_167 (lw_S q2536 q2537 q81 q2538) (by decide +kernel) ⟨(Nat.le_of_ble_eq_true rfl), (Nat.le_of_ble_eq_true rfl)⟩ rfl rfl (Nat.le_of_ble_eq_true rfl) (by first | exact Nat.le_of_ble_eq_true rfl | omega) (by first | exact Nat.le_of_ble_eq_true rfl | omega) rfl (fun v_83 M_84 h_86 hE_85 => ?_)
    obtain ⟨rfl, hMs⟩ := h_86
    have hMs := hMs.symm
    subst hMs
    clear hE_85
    refine x_aload_n (n' := 171) dJ1_fixAfterDeletion_170 rfl rfl rfl ?_
    refine x_aload_n (n' := 172) dJ1_fixAfterDeletion_171 rfl rfl rfl ?_
    refine x_callS (n' := 175) (n := 1) (c_J1_parentOf__s l G _ o t asd (tsC (tsC T1 s (tC T1 p)) p 1) x ax hP hx) dJ1_fixAfterDeletion_172 (lw_S q2524 q2525 q81 q2526) (by decide +kernel) ⟨(Nat.le_of_ble_eq_true rfl), (Nat.le_of_ble_eq_true rfl)⟩ rfl rfl (Nat.le_of_ble_eq_true rfl) (by first | exact Nat.le_of_ble_eq_true rfl | omega) (by first | exact Nat.le_of_ble_eq_true rfl | omega) rfl (fun v_87 M_88 h_90 hE_89 => ?_)
    obtain ⟨rfl, hMs⟩ := h_90
    have hMs := hMs.symm
    subst hMs
    clear hE_89
    refine x_topr (lk_s hxp hp) ?_
    refine x_callV (n' := 178) (n := 1) (K := 41) (c_J1_rotateLeft__s l G _ o t asd (tsC (tsC T1 s (tC T1 p)) p 1) p ap s _ _ hP hW hp hps) dJ1_fixAfterDeletion_175 (hP.k) rfl (lw_V q2539 q2541 qs30 q81 q2542) (by decide +kernel) ⟨(Nat.le_of_ble_eq_true rfl), (Nat.le_of_ble_eq_true rfl)⟩ rfl rfl (Nat.le_of_ble_eq_true rfl) (by first | exact Nat.le_of_ble_eq_true rfl | omega) (by first | exact Nat.le_of_ble_eq_true rfl | omega) rfl (fun v_91 M_92 h_94 hE_93 => ?_)
    obtain ⟨rfl, hP9, hF9⟩ := h_94
    replace hP := hP9
    replace hF := hF.tr hF9
    clear hF9
    clear hE_93
    have hr9 := hW.2.2.2.2.1 p s (nns hp) hps
    have ivr9 := hW.1 s (nns hs)
    have ivk9 := hW.1 p (nns hp)
    have ivx9 := hW.1 x (nns hx)
    have hW0 := hW
    have hW := rotLT_W (T := (tsC (tsC T1 s (tC T1 p)) p 1)) hW0 hp hps
    have hlf := fun h => (have z := hlf h; (⟨rotLT_leaf (T := (tsC (tsC T1 s (tC T1 p)) p 1)) hW0 hp hps (by omega) z.1.1 z.1.2, z.2.2.2⟩ : (tL (rotLT (tsC (tsC T1 s (tC T1 p)) p 1) p s) q = none ∧ tR (rotLT (tsC (tsC T1 s (tC T1 p)) p 1) p s) q = none) ∧ tN T1 q ≠ none))
    obtain ⟨r0, hrt⟩ : ∃ r0, tr (rotLT (tsC (tsC T1 s (tC T1 p)) p 1) p s) = some r0 := rot_r (fun e9 => hW.2.2.2.2.2.2.2.1 e9 x (nns hx))
    obtain ⟨ar0, har0⟩ : ∃ a, tN T1 r0 = some a := rot_r (hW.dt hrt)
    refine x_aload_n (n' := 179) dJ1_fixAfterDeletion_178 rfl rfl rfl ?_
    refine x_getRs (n' := 182) (b := ar0) dJ1_fixAfterDeletion_179 (hP.k) ffJ1_101_41 rfl (hP.r.trans (lk_s hrt har0)) rfl ?_
    refine x_astore_n (n' := 183) dJ1_fixAfterDeletion_182 rfl (Nat.le_of_ble_eq_true rfl) rfl (by dsimp only [List.set] <;> rfl) rfl ?_
    refine x_goto (tgt := 0) dJ1_fixAfterDeletion_183 (by decide) ?_
    have hr8 := hW.2.2.2.2.2.2.2.2.1 r0 hrt
    exact x_drop (ih r0 ar0 (rotLT (tsC (tsC T1 s (tC T1 p)) p 1) p s) _ _ _ (by omega) har0 hP hW hN hF (fun h => by have z := hlf h; have z2 := hW.1 q z.2; exact ⟨z.1, by omega, by omega, z.2⟩)) ⟨rfl, ⟨rfl, trivial⟩⟩
  · obtain ⟨j_78, hl_81, hj_82⟩ := bind_s e_80
    refine x_iconst (n' := 167) (v := 1) dJ1_fixAfterDeletion_166 (by decide) rfl ?_
    refine x_callS (n' := 170) (n := 2) (c_J1_setColor__s l G _ o t asd (tsC (tsC T1 s (tC T1 p)) p 1) j_78 b_79 1 hP hj_82 (Or.inr rfl)) dJ1_fixAfterDeletion_167 (lw_S q2536 q2537 q81 q2538) (by decide +kernel) ⟨(Nat.le_of_ble_eq_true rfl), (Nat.le_of_ble_eq_true rfl)⟩ rfl rfl (Nat.le_of_ble_eq_true rfl) (by first | exact Nat.le_of_ble_eq_true rfl | omega) (by first | exact Nat.le_of_ble_eq_true rfl | omega) rfl (fun v_95 M_96 h_98 hE_97 => ?_)
    obtain ⟨rfl, hP9, hF9⟩ := h_98
    replace hP := hP9
    replace hF := hF.tr hF9
    clear hF9
    clear hE_97
    refine x_aload_n (n' := 171) dJ1_fixAfterDeletion_170 rfl rfl rfl ?_
    refine x_aload_n (n' := 172) dJ1_fixAfterDeletion_171 rfl rfl rfl ?_
    refine x_callS (n' := 175) (n := 1) (c_J1_parentOf__s l G _ o t asd (tsC (tsC (tsC T1 s (tC T1 p)) p 1) j_78 1) x ax hP hx) dJ1_fixAfterDeletion_172 (lw_S q2524 q2525 q81 q2526) (by decide +kernel) ⟨(Nat.le_of_ble_eq_true rfl), (Nat.le_of_ble_eq_true rfl)⟩ rfl rfl (Nat.le_of_ble_eq_true rfl) (by first | exact Nat.le_of_ble_eq_true rfl | omega) (by first | exact Nat.le_of_ble_eq_true rfl | omega) rfl (fun v_99 M_100 h_102 hE_101 => ?_)
    obtain ⟨rfl, hMs⟩ := h_102
    have hMs := hMs.symm
    subst hMs
    clear hE_101
    refine x_topr (lk_s hxp hp) ?_
    refine x_callV (n' := 178) (n := 1) (K := 41) (c_J1_rotateLeft__s l G _ o t asd (tsC (tsC (tsC T1 s (tC T1 p)) p 1) j_78 1) p ap s _ _ hP hW hp hps) dJ1_fixAfterDeletion_175 (hP.k) rfl (lw_V q2539 q2541 qs30 q81 q2542) (by decide +kernel) ⟨(Nat.le_of_ble_eq_true rfl), (Nat.le_of_ble_eq_true rfl)⟩ rfl rfl (Nat.le_of_ble_eq_true rfl) (by first | exact Nat.le_of_ble_eq_true rfl | omega) (by first | exact Nat.le_of_ble_eq_true rfl | omega) rfl (fun v_103 M_104 h_106 hE_105 => ?_)
    obtain ⟨rfl, hP9, hF9⟩ := h_106
    replace hP := hP9
    replace hF := hF.tr hF9
    clear hF9
    clear hE_105
    have hr9 := hW.2.2.2.2.1 p s (nns hp) hps
    have ivr9 := hW.1 s (nns hs)
    have ivk9 := hW.1 p (nns hp)
    have ivx9 := hW.1 x (nns hx)
    have hW0 := hW
    have hW := rotLT_W (T := (tsC (tsC (tsC T1 s (tC T1 p)) p 1) j_78 1)) hW0 hp hps
    have hlf := fun h => (have z := hlf h; (⟨rotLT_leaf (T := (tsC (tsC (tsC T1 s (tC T1 p)) p 1) j_78 1)) hW0 hp hps (by omega) z.1.1 z.1.2, z.2.2.2⟩ : (tL (rotLT (tsC (tsC (tsC T1 s (tC T1 p)) p 1) j_78 1) p s) q = none ∧ tR (rotLT (tsC (tsC (tsC T1 s (tC T1 p)) p 1) j_78 1) p s) q = none) ∧ tN T1 q ≠ none))
    obtain ⟨r0, hrt⟩ : ∃ r0, tr (rotLT (tsC (tsC (tsC T1 s (tC T1 p)) p 1) j_78 1) p s) = some r0 := rot_r (fun e9 => hW.2.2.2.2.2.2.2.1 e9 x (nns hx))
    obtain ⟨ar0, har0⟩ : ∃ a, tN T1 r0 = some a := rot_r (hW.dt hrt)
    refine x_aload_n (n' := 179) dJ1_fixAfterDeletion_178 rfl rfl rfl ?_
    refine x_getRs (n' := 182) (b := ar0) dJ1_fixAfterDeletion_179 (hP.k) ffJ1_101_41 rfl (hP.r.trans (lk_s hrt har0)) rfl ?_
    refine x_astore_n (n' := 183) dJ1_fixAfterDeletion_182 rfl (Nat.le_of_ble_eq_true rfl) rfl (by dsimp only [List.set] <;> rfl) rfl ?_
    refine x_goto (tgt := 0) dJ1_fixAfterDeletion_183 (by decide) ?_
    have hr8 := hW.2.2.2.2.2.2.2.2.1 r0 hrt
    exact x_drop (ih r0 ar0 (rotLT (tsC (tsC (tsC T1 s (tC T1 p)) p 1) j_78 1) p s) _ _ _ (by omega) har0 hP hW hN hF (fun h => by have z := hlf h; have z2 := hW.1 q z.2; exact ⟨z.1, by omega, by omega, z.2⟩)) ⟨rfl, ⟨rfl, trivial⟩⟩
set_option maxHeartbeats 20000000 in
set_option maxRecDepth 100000 in
theorem k230_c_J1_fixAfterDeletion (l : Launch) (G : kG) (M : kM) (o t asd : Nat) (T : kT) (x0 ax0 q : Nat) (lf : Prop) (lo hi : Nat → Nat) (hP : PT M o t asd T) (hW : WTT T lo hi) (hx0 : tN T x0 = some ax0) (hlf : lf → (tL T q = none ∧ tR T q = none) ∧ lo x0 ≤ q ∧ q < hi x0 ∧ tN T q ≠ none) (pp : Program) (ee : Env) (ss : State) (mm : MethodId) (args : Array Value) (below : List Frame) (meth : Method) (cd : Code) (hmn : meth.name = yJ1_fixAfterDeletion.name) (hret : meth.sig.returnType = none) : ∀ (fuel : Nat) (ih : ∀ (x ax : Nat) (T1 : kT) (lo1 hi1 : Nat → Nat) (M1 : kM) (h9 : BB - (hi1 x - lo1 x) < fuel) (hx : tN T1 x = some ax) (hP : PT M1 o t asd T1) (hW : WTT T1 lo1 hi1) (hN : tN T1 = tN T ∧ tK T1 = tK T ∧ tV T1 = tV T) (hF : FK o M M1) (hlf : (lf → (tL T1 q = none ∧ tR T1 q = none) ∧ lo1 x ≤ q ∧ q < hi1 x ∧ tN T1 q ≠ none)), Wx pp l ee { frames := 1, cells := 0, slots := 0, locals := 22 } ss mm args below meth cd "java/util/TreeMap" cJ1_fixAfterDeletion 3 G (MQ below (KQ G M (fun v M2 => v = none ∧ ∃ T2 lo2 hi2, PT M2 o t asd T2 ∧ WTT T2 lo2 hi2 ∧ (tN T2 = tN T ∧ tK T2 = tK T ∧ tV T2 = tV T) ∧ FK o M M2 ∧ (lf → tL T2 q = none ∧ tR T2 q = none))) args ss (0) (0) (kA G)) 0 [some (.ref t), some (.ref ax), none] [] (M1) (0) (0)) (x ax p ap s as9 : Nat) (T1 : kT) (lo1 hi1 : Nat → Nat) (M1 : kM) (h9 : BB - (hi1 x - lo1 x) < fuel + 1) (hx : tN T1 x = some ax) (hp : tN T1 p = some ap) (hs : tN T1 s = some as9) (hxp : tP T1 x = some p) (hxs : tR T1 p = some x) (hps : tL T1 p = some s) (hP : PT M1 o t asd T1) (hW : WTT T1 lo1 hi1) (hN : tN T1 = tN T ∧ tK T1 = tK T ∧ tV T1 = tV T) (hF : FK o M M1) (hlf : (lf → (tL T1 q = none ∧ tR T1 q = none) ∧ lo1 x ≤ q ∧ q < hi1 x ∧ tN T1 q ≠ none)), Wx pp l ee { frames := 1, cells := 0, slots := 0, locals := 22 } ss mm args below meth cd "java/util/TreeMap" cJ1_fixAfterDeletion 3 G (MQ below (KQ G M (fun v M2 => v = none ∧ ∃ T2 lo2 hi2, PT M2 o t asd T2 ∧ WTT T2 lo2 hi2 ∧ (tN T2 = tN T ∧ tK T2 = tK T ∧ tV T2 = tV T) ∧ FK o M M2 ∧ (lf → tL T2 q = none ∧ tR T2 q = none))) args ss (0) (0) (kA G)) 230 [some (.ref t), some (.ref ax), some (.ref as9)] [] (M1) (0) (0) := by
  have hP0 := hP
  have hF : FK o M M := FK.rf
  have cut302 := k302_c_J1_fixAfterDeletion l G M o t asd T x0 ax0 q lf lo hi hP hW hx0 hlf pp ee ss mm args below meth cd hmn hret
  have cut143 := k143_c_J1_fixAfterDeletion l G M o t asd T x0 ax0 q lf lo hi hP hW hx0 hlf pp ee ss mm args below meth cd hmn hret
  intro fuel ih x ax p ap s as9 T1 lo1 hi1 M1 h9 hx hp hs hxp hxs hps hP hW hN hF hlf
  have hu0 := hW.up (nns hx) hxp
  have ivp0 := hW.1 p (nns hp)
  have hsx := hW.2.2.2.2.1 p x (nns hp) hxs
  refine x_aload_n (n' := 231) dJ1_fixAfterDeletion_230 rfl rfl rfl ?_
  refine x_callS (n' := 234) (n := 1) (c_J1_rightOf__s l G _ o t asd T1 s as9 hP hs) dJ1_fixAfterDeletion_231 (lw_S q2530 q2531 q81 q2532) (by decide +kernel) ⟨(Nat.le_of_ble_eq_true rfl), (Nat.le_of_ble_eq_true rfl)⟩ rfl rfl (Nat.le_of_ble_eq_true rfl) (by first | exact Nat.le_of_ble_eq_true rfl | omega) (by first | exact Nat.le_of_ble_eq_true rfl | omega) rfl (fun v_107 M_108 h_110 hE_109 => ?_)
  obtain ⟨rfl, hMs⟩ := h_110
  have hMs := hMs.symm
  subst hMs
  clear hE_109
  refine x_topq (fun e_113 => ?_) (fun b_112 e_113 => ?_)
  · have hl_114 : tR T1 s = none := bind_n e_113 (fun _ q => hW.dr (nns hs) q)
    refine x_callS (n' := 237) (n := 1) (c_J1_colorOf__n l G _) dJ1_fixAfterDeletion_234 (lw_S q2533 q2534 q81 q2535) (by decide +kernel) ⟨(Nat.le_of_ble_eq_true rfl), (Nat.le_of_ble_eq_true rfl)⟩ rfl rfl (Nat.le_of_ble_eq_true rfl) (by first | exact Nat.le_of_ble_eq_true rfl | omega) (by first | exact Nat.le_of_ble_eq_true rfl | omega) rfl (fun v_116 M_117 h_119 hE_118 => ?_)
    obtain ⟨rfl, hMs⟩ := h_119
    have hMs := hMs.symm
    subst hMs
    clear hE_118
    refine x_iconst (n' := 238) (v := 1) dJ1_fixAfterDeletion_237 (by decide) rfl ?_
    refine x_icmp_ne (n' := 241) (tgt := 265) dJ1_fixAfterDeletion_238 (by decide) rfl (fun c238_120 => by first | exact absurd c238_120 (by decide) | exact absurd (by decide) c238_120) (fun c238_120 => ?_)
    refine x_aload_n (n' := 242) dJ1_fixAfterDeletion_241 rfl rfl rfl ?_
    refine x_callS (n' := 245) (n := 1) (c_J1_leftOf__s l G _ o t asd T1 s as9 hP hs) dJ1_fixAfterDeletion_242 (lw_S q2527 q2528 q81 q2529) (by decide +kernel) ⟨(Nat.le_of_ble_eq_true rfl), (Nat.le_of_ble_eq_true rfl)⟩ rfl rfl (Nat.le_of_ble_eq_true rfl) (by first | exact Nat.le_of_ble_eq_true rfl | omega) (by first | exact Nat.le_of_ble_eq_true rfl | omega) rfl (fun v_121 M_122 h_124 hE_123 => ?_)
    obtain ⟨rfl, hMs⟩ := h_124
    have hMs := hMs.symm
    subst hMs
    clear hE_123
    refine x_topq (fun e_127 => ?_) (fun b_126 e_127 => ?_)
    · have hl_128 : tL T1 s = none := bind_n e_127 (fun _ q => hW.dl (nns hs) q)
      refine x_callS (n' := 248) (n := 1) (c_J1_colorOf__n l G _) dJ1_fixAfterDeletion_245 (lw_S q2533 q2534 q81 q2535) (by decide +kernel) ⟨(Nat.le_of_ble_eq_true rfl), (Nat.le_of_ble_eq_true rfl)⟩ rfl rfl (Nat.le_of_ble_eq_true rfl) (by first | exact Nat.le_of_ble_eq_true rfl | omega) (by first | exact Nat.le_of_ble_eq_true rfl | omega) rfl (fun v_130 M_131 h_133 hE_132 => ?_)
      obtain ⟨rfl, hMs⟩ := h_133
      have hMs := hMs.symm
      subst hMs
      clear hE_132
      refine x_iconst (n' := 249) (v := 1) dJ1_fixAfterDeletion_248 (by decide) rfl ?_
      refine x_icmp_ne (n' := 252) (tgt := 265) dJ1_fixAfterDeletion_249 (by decide) rfl (fun c249_134 => by first | exact absurd c249_134 (by decide) | exact absurd (by decide) c249_134) (fun c249_134 => ?_)
      refine x_aload_n (n' := 253) dJ1_fixAfterDeletion_252 rfl rfl rfl ?_
      refine x_iconst (n' := 254) (v := 0) dJ1_fixAfterDeletion_253 (by decide) rfl ?_
      refine x_callS (n' := 257) (n := 2) (c_J1_setColor__s l G _ o t asd T1 s as9 0 hP hs (Or.inl rfl)) dJ1_fixAfterDeletion_254 (lw_S q2536 q2537 q81 q2538) (by decide +kernel) ⟨(Nat.le_of_ble_eq_true rfl), (Nat.le_of_ble_eq_true rfl)⟩ rfl rfl (Nat.le_of_ble_eq_true rfl) (by first | exact Nat.le_of_ble_eq_true rfl | omega) (by first | exact Nat.le_of_ble_eq_true rfl | omega) rfl (fun v_135 M_136 h_138 hE_137 => ?_)
      obtain ⟨rfl, hP9, hF9⟩ := h_138
      replace hP := hP9
      replace hF := hF.tr hF9
      clear hF9
      clear hE_137
      refine x_aload_n (n' := 258) dJ1_fixAfterDeletion_257 rfl rfl rfl ?_
      refine x_callS (n' := 261) (n := 1) (c_J1_parentOf__s l G _ o t asd (tsC T1 s 0) x ax hP hx) dJ1_fixAfterDeletion_258 (lw_S q2524 q2525 q81 q2526) (by decide +kernel) ⟨(Nat.le_of_ble_eq_true rfl), (Nat.le_of_ble_eq_true rfl)⟩ rfl rfl (Nat.le_of_ble_eq_true rfl) (by first | exact Nat.le_of_ble_eq_true rfl | omega) (by first | exact Nat.le_of_ble_eq_true rfl | omega) rfl (fun v_139 M_140 h_142 hE_141 => ?_)
      obtain ⟨rfl, hMs⟩ := h_142
      have hMs := hMs.symm
      subst hMs
      clear hE_141
      refine x_topr (lk_s hxp hp) ?_
      refine x_astore_n (n' := 262) dJ1_fixAfterDeletion_261 rfl (Nat.le_of_ble_eq_true rfl) rfl (by dsimp only [List.set] <;> rfl) rfl ?_
      refine x_goto (tgt := 342) dJ1_fixAfterDeletion_262 (by decide) ?_
      refine x_goto (tgt := 0) dJ1_fixAfterDeletion_342 (by decide) ?_
      exact x_drop (ih p ap (tsC T1 s 0) _ _ _ (by omega) hp hP hW hN hF (fun h => by have z := hlf h; exact ⟨z.1, by omega, by omega, z.2.2.2⟩)) ⟨rfl, ⟨rfl, trivial⟩⟩
    · obtain ⟨j_125, hl_128, hj_129⟩ := bind_s e_127
      refine x_callS (n' := 248) (n := 1) (c_J1_colorOf__s l G _ o t asd T1 j_125 b_126 hP hj_129) dJ1_fixAfterDeletion_245 (lw_S q2533 q2534 q81 q2535) (by decide +kernel) ⟨(Nat.le_of_ble_eq_true rfl), (Nat.le_of_ble_eq_true rfl)⟩ rfl rfl (Nat.le_of_ble_eq_true rfl) (by first | exact Nat.le_of_ble_eq_true rfl | omega) (by first | exact Nat.le_of_ble_eq_true rfl | omega) rfl (fun v_143 M_144 h_146 hE_145 => ?_)
      obtain ⟨rfl, hMs⟩ := h_146
      have hMs := hMs.symm
      subst hMs
      clear hE_145
      refine x_iconst (n' := 249) (v := 1) dJ1_fixAfterDeletion_248 (by decide) rfl ?_
      refine x_icmp_ne (n' := 252) (tgt := 265) dJ1_fixAfterDeletion_249 (by decide) rfl (fun c249_147 => ?_) (fun c249_147 => ?_)
      · refine x_aload_n (n' := 266) dJ1_fixAfterDeletion_265 rfl rfl rfl ?_
        refine x_callS (n' := 269) (n := 1) (c_J1_leftOf__s l G _ o t asd T1 s as9 hP hs) dJ1_fixAfterDeletion_266 (lw_S q2527 q2528 q81 q2529) (by decide +kernel) ⟨(Nat.le_of_ble_eq_true rfl), (Nat.le_of_ble_eq_true rfl)⟩ rfl rfl (Nat.le_of_ble_eq_true rfl) (by first | exact Nat.le_of_ble_eq_true rfl | omega) (by first | exact Nat.le_of_ble_eq_true rfl | omega) rfl (fun v_148 M_149 h_151 hE_150 => ?_)
        obtain ⟨rfl, hMs⟩ := h_151
        have hMs := hMs.symm
        subst hMs
        clear hE_150
        refine x_topr (lk_s hl_128 hj_129) ?_
        refine x_callS (n' := 272) (n := 1) (c_J1_colorOf__s l G _ o t asd T1 j_125 b_126 hP hj_129) dJ1_fixAfterDeletion_269 (lw_S q2533 q2534 q81 q2535) (by decide +kernel) ⟨(Nat.le_of_ble_eq_true rfl), (Nat.le_of_ble_eq_true rfl)⟩ rfl rfl (Nat.le_of_ble_eq_true rfl) (by first | exact Nat.le_of_ble_eq_true rfl | omega) (by first | exact Nat.le_of_ble_eq_true rfl | omega) rfl (fun v_152 M_153 h_155 hE_154 => ?_)
        obtain ⟨rfl, hMs⟩ := h_155
        have hMs := hMs.symm
        subst hMs
        clear hE_154
        refine x_iconst (n' := 273) (v := 1) dJ1_fixAfterDeletion_272 (by decide) rfl ?_
        refine x_icmp_ne (n' := 276) (tgt := 302) dJ1_fixAfterDeletion_273 (by decide) rfl (fun c273_156 => ?_) (fun c273_156 => by first | exact absurd c273_156 (by assumption) | exact absurd (by assumption) c273_156)
        exact x_drop (cut302 fuel ih x ax p ap s as9 T1 lo1 hi1 _ (by omega) hx hp hs hxp hxs hps hP hW hN hF hlf) ⟨rfl, ⟨rfl, ⟨rfl, trivial⟩⟩⟩
      · refine x_aload_n (n' := 253) dJ1_fixAfterDeletion_252 rfl rfl rfl ?_
        refine x_iconst (n' := 254) (v := 0) dJ1_fixAfterDeletion_253 (by decide) rfl ?_
        refine x_callS (n' := 257) (n := 2) (c_J1_setColor__s l G _ o t asd T1 s as9 0 hP hs (Or.inl rfl)) dJ1_fixAfterDeletion_254 (lw_S q2536 q2537 q81 q2538) (by decide +kernel) ⟨(Nat.le_of_ble_eq_true rfl), (Nat.le_of_ble_eq_true rfl)⟩ rfl rfl (Nat.le_of_ble_eq_true rfl) (by first | exact Nat.le_of_ble_eq_true rfl | omega) (by first | exact Nat.le_of_ble_eq_true rfl | omega) rfl (fun v_157 M_158 h_160 hE_159 => ?_)
        obtain ⟨rfl, hP9, hF9⟩ := h_160
        replace hP := hP9
        replace hF := hF.tr hF9
        clear hF9
        clear hE_159
        refine x_aload_n (n' := 258) dJ1_fixAfterDeletion_257 rfl rfl rfl ?_
        refine x_callS (n' := 261) (n := 1) (c_J1_parentOf__s l G _ o t asd (tsC T1 s 0) x ax hP hx) dJ1_fixAfterDeletion_258 (lw_S q2524 q2525 q81 q2526) (by decide +kernel) ⟨(Nat.le_of_ble_eq_true rfl), (Nat.le_of_ble_eq_true rfl)⟩ rfl rfl (Nat.le_of_ble_eq_true rfl) (by first | exact Nat.le_of_ble_eq_true rfl | omega) (by first | exact Nat.le_of_ble_eq_true rfl | omega) rfl (fun v_161 M_162 h_164 hE_163 => ?_)
        obtain ⟨rfl, hMs⟩ := h_164
        have hMs := hMs.symm
        subst hMs
        clear hE_163
        refine x_topr (lk_s hxp hp) ?_
        refine x_astore_n (n' := 262) dJ1_fixAfterDeletion_261 rfl (Nat.le_of_ble_eq_true rfl) rfl (by dsimp only [List.set] <;> rfl) rfl ?_
        refine x_goto (tgt := 342) dJ1_fixAfterDeletion_262 (by decide) ?_
        refine x_goto (tgt := 0) dJ1_fixAfterDeletion_342 (by decide) ?_
        exact x_drop (ih p ap (tsC T1 s 0) _ _ _ (by omega) hp hP hW hN hF (fun h => by have z := hlf h; exact ⟨z.1, by omega, by omega, z.2.2.2⟩)) ⟨rfl, ⟨rfl, trivial⟩⟩
  · obtain ⟨j_111, hl_114, hj_115⟩ := bind_s e_113
    refine x_callS (n' := 237) (n := 1) (c_J1_colorOf__s l G _ o t asd T1 j_111 b_112 hP hj_115) dJ1_fixAfterDeletion_234 (lw_S q2533 q2534 q81 q2535) (by decide +kernel) ⟨(Nat.le_of_ble_eq_true rfl), (Nat.le_of_ble_eq_true rfl)⟩ rfl rfl (Nat.le_of_ble_eq_true rfl) (by first | exact Nat.le_of_ble_eq_true rfl | omega) (by first | exact Nat.le_of_ble_eq_true rfl | omega) rfl (fun v_165 M_166 h_168 hE_167 => ?_)
    obtain ⟨rfl, hMs⟩ := h_168
    have hMs := hMs.symm
    subst hMs
    clear hE_167
    refine x_iconst (n' := 238) (v := 1) dJ1_fixAfterDeletion_237 (by decide) rfl ?_
    refine x_icmp_ne (n' := 241) (tgt := 265) dJ1_fixAfterDeletion_238 (by decide) rfl (fun c238_169 => ?_) (fun c238_169 => ?_)
    · refine x_aload_n (n' := 266) dJ1_fixAfterDeletion_265 rfl rfl rfl ?_
      refine x_callS (n' := 269) (n := 1) (c_J1_leftOf__s l G _ o t asd T1 s as9 hP hs) dJ1_fixAfterDeletion_266 (lw_S q2527 q2528 q81 q2529) (by decide +kernel) ⟨(Nat.le_of_ble_eq_true rfl), (Nat.le_of_ble_eq_true rfl)⟩ rfl rfl (Nat.le_of_ble_eq_true rfl) (by first | exact Nat.le_of_ble_eq_true rfl | omega) (by first | exact Nat.le_of_ble_eq_true rfl | omega) rfl (fun v_170 M_171 h_173 hE_172 => ?_)
      obtain ⟨rfl, hMs⟩ := h_173
      have hMs := hMs.symm
      subst hMs
      clear hE_172
      refine x_topq (fun e_176 => ?_) (fun b_175 e_176 => ?_)
      · have hl_177 : tL T1 s = none := bind_n e_176 (fun _ q => hW.dl (nns hs) q)
        refine x_callS (n' := 272) (n := 1) (c_J1_colorOf__n l G _) dJ1_fixAfterDeletion_269 (lw_S q2533 q2534 q81 q2535) (by decide +kernel) ⟨(Nat.le_of_ble_eq_true rfl), (Nat.le_of_ble_eq_true rfl)⟩ rfl rfl (Nat.le_of_ble_eq_true rfl) (by first | exact Nat.le_of_ble_eq_true rfl | omega) (by first | exact Nat.le_of_ble_eq_true rfl | omega) rfl (fun v_179 M_180 h_182 hE_181 => ?_)
        obtain ⟨rfl, hMs⟩ := h_182
        have hMs := hMs.symm
        subst hMs
        clear hE_181
        refine x_iconst (n' := 273) (v := 1) dJ1_fixAfterDeletion_272 (by decide) rfl ?_
        refine x_icmp_ne (n' := 276) (tgt := 302) dJ1_fixAfterDeletion_273 (by decide) rfl (fun c273_183 => by first | exact absurd c273_183 (by decide) | exact absurd (by decide) c273_183) (fun c273_183 => ?_)
        refine x_aload_n (n' := 277) dJ1_fixAfterDeletion_276 rfl rfl rfl ?_
        refine x_callS (n' := 280) (n := 1) (c_J1_rightOf__s l G _ o t asd T1 s as9 hP hs) dJ1_fixAfterDeletion_277 (lw_S q2530 q2531 q81 q2532) (by decide +kernel) ⟨(Nat.le_of_ble_eq_true rfl), (Nat.le_of_ble_eq_true rfl)⟩ rfl rfl (Nat.le_of_ble_eq_true rfl) (by first | exact Nat.le_of_ble_eq_true rfl | omega) (by first | exact Nat.le_of_ble_eq_true rfl | omega) rfl (fun v_184 M_185 h_187 hE_186 => ?_)
        obtain ⟨rfl, hMs⟩ := h_187
        have hMs := hMs.symm
        subst hMs
        clear hE_186
        refine x_topr (lk_s hl_114 hj_115) ?_
        refine x_iconst (n' := 281) (v := 1) dJ1_fixAfterDeletion_280 (by decide) rfl ?_
        refine x_callS (n' := 284) (n := 2) (c_J1_setColor__s l G _ o t asd T1 j_111 b_112 1 hP hj_115 (Or.inr rfl)) dJ1_fixAfterDeletion_281 (lw_S q2536 q2537 q81 q2538) (by decide +kernel) ⟨(Nat.le_of_ble_eq_true rfl), (Nat.le_of_ble_eq_true rfl)⟩ rfl rfl (Nat.le_of_ble_eq_true rfl) (by first | exact Nat.le_of_ble_eq_true rfl | omega) (by first | exact Nat.le_of_ble_eq_true rfl | omega) rfl (fun v_188 M_189 h_191 hE_190 => ?_)
        obtain ⟨rfl, hP9, hF9⟩ := h_191
        replace hP := hP9
        replace hF := hF.tr hF9
        clear hF9
        clear hE_190
        refine x_aload_n (n' := 285) dJ1_fixAfterDeletion_284 rfl rfl rfl ?_
        refine x_iconst (n' := 286) (v := 0) dJ1_fixAfterDeletion_285 (by decide) rfl ?_
        refine x_callS (n' := 289) (n := 2) (c_J1_setColor__s l G _ o t asd (tsC T1 j_111 1) s as9 0 hP hs (Or.inl rfl)) dJ1_fixAfterDeletion_286 (lw_S q2536 q2537 q81 q2538) (by decide +kernel) ⟨(Nat.le_of_ble_eq_true rfl), (Nat.le_of_ble_eq_true rfl)⟩ rfl rfl (Nat.le_of_ble_eq_true rfl) (by first | exact Nat.le_of_ble_eq_true rfl | omega) (by first | exact Nat.le_of_ble_eq_true rfl | omega) rfl (fun v_192 M_193 h_195 hE_194 => ?_)
        obtain ⟨rfl, hP9, hF9⟩ := h_195
        replace hP := hP9
        replace hF := hF.tr hF9
        clear hF9
        clear hE_194
        refine x_aload_n (n' := 290) dJ1_fixAfterDeletion_289 rfl rfl rfl ?_
        refine x_aload_n (n' := 291) dJ1_fixAfterDeletion_290 rfl rfl rfl ?_
        refine x_callV (n' := 294) (n := 1) (K := 41) (c_J1_rotateLeft__s l G _ o t asd (tsC (tsC T1 j_111 1) s 0) s as9 j_111 _ _ hP hW hs hl_114) dJ1_fixAfterDeletion_291 (hP.k) rfl (lw_V q2539 q2541 qs30 q81 q2542) (by decide +kernel) ⟨(Nat.le_of_ble_eq_true rfl), (Nat.le_of_ble_eq_true rfl)⟩ rfl rfl (Nat.le_of_ble_eq_true rfl) (by first | exact Nat.le_of_ble_eq_true rfl | omega) (by first | exact Nat.le_of_ble_eq_true rfl | omega) rfl (fun v_196 M_197 h_199 hE_198 => ?_)
        obtain ⟨rfl, hP9, hF9⟩ := h_199
        replace hP := hP9
        replace hF := hF.tr hF9
        clear hF9
        clear hE_198
        have hr9 := hW.2.2.2.2.1 s j_111 (nns hs) hl_114
        have ivr9 := hW.1 j_111 (nns hj_115)
        have ivk9 := hW.1 s (nns hs)
        have ivx9 := hW.1 x (nns hx)
        have hs9 := hW.2.2.1 p s (nns hp) hps
        have hW0 := hW
        obtain ⟨lo1, hi1, hW, hlx, hhx⟩ : ∃ lo9 hi9, WTT (rotLT (tsC (tsC T1 j_111 1) s 0) s j_111) lo9 hi9 ∧ lo9 x = lo1 x ∧ hi9 x = hi1 x := ⟨_, _, rotLT_W (T := (tsC (tsC T1 j_111 1) s 0)) hW0 hs hl_114, (va_up_ne _ _ (by omega)), (va_up_ne _ _ (by omega)).trans (va_up_ne _ _ (by omega))⟩
        have hlf := fun h => (have z := hlf h; (⟨rotLT_leaf (T := (tsC (tsC T1 j_111 1) s 0)) hW0 hs hl_114 (by omega) z.1.1 z.1.2, by omega, by omega, z.2.2.2⟩ : (tL (rotLT (tsC (tsC T1 j_111 1) s 0) s j_111) q = none ∧ tR (rotLT (tsC (tsC T1 j_111 1) s 0) s j_111) q = none) ∧ lo1 x ≤ q ∧ q < hi1 x ∧ tN T1 q ≠ none))
        have hxp0 := hxp
        have hxs0 := hxs
        have hxp : tP (rotLT (tsC (tsC T1 j_111 1) s 0) s j_111) x = some p := (rotLT_Po (T := (tsC (tsC T1 j_111 1) s 0)) (by omega) (by omega) (fun e => by have e2 : tP (tsC (tsC T1 j_111 1) s 0) x = some j_111 := (hW0.upL (nns hj_115) e).2; have e3 := Option.some.inj (hxp0.symm.trans e2); omega)).trans hxp0
        have hps9 := (hW0.upL (nns hp) hps).2
        have hxs : tR (rotLT (tsC (tsC T1 j_111 1) s 0) s j_111) p = some x := (rotLT_Ro (T := (tsC (tsC T1 j_111 1) s 0)) (by omega) hps9 hps).trans hxs0
        have hz_200 : tL (rotLT (tsC (tsC T1 j_111 1) s 0) s j_111) p = some j_111 := rotLT_Lg (T := (tsC (tsC T1 j_111 1) s 0)) (by omega) hps9 hps
        have hz_201 : tL (rotLT (tsC (tsC T1 j_111 1) s 0) s j_111) j_111 = some s := rotLT_Ll
        have hsx := hW.2.2.2.2.1 p x (nns hp) hxs
        have hu0 := hW.up (nns hx) hxp
        have ivp0 := hW.1 p (nns hp)
        refine x_aload_n (n' := 295) dJ1_fixAfterDeletion_294 rfl rfl rfl ?_
        refine x_callS (n' := 298) (n := 1) (c_J1_parentOf__s l G _ o t asd (rotLT (tsC (tsC T1 j_111 1) s 0) s j_111) x ax hP hx) dJ1_fixAfterDeletion_295 (lw_S q2524 q2525 q81 q2526) (by decide +kernel) ⟨(Nat.le_of_ble_eq_true rfl), (Nat.le_of_ble_eq_true rfl)⟩ rfl rfl (Nat.le_of_ble_eq_true rfl) (by first | exact Nat.le_of_ble_eq_true rfl | omega) (by first | exact Nat.le_of_ble_eq_true rfl | omega) rfl (fun v_202 M_203 h_205 hE_204 => ?_)
        obtain ⟨rfl, hMs⟩ := h_205
        have hMs := hMs.symm
        subst hMs
        clear hE_204
        refine x_topr (lk_s hxp hp) ?_
        refine x_callS (n' := 301) (n := 1) (c_J1_leftOf__s l G _ o t asd (rotLT (tsC (tsC T1 j_111 1) s 0) s j_111) p ap hP hp) dJ1_fixAfterDeletion_298 (lw_S q2527 q2528 q81 q2529) (by decide +kernel) ⟨(Nat.le_of_ble_eq_true rfl), (Nat.le_of_ble_eq_true rfl)⟩ rfl rfl (Nat.le_of_ble_eq_true rfl) (by first | exact Nat.le_of_ble_eq_true rfl | omega) (by first | exact Nat.le_of_ble_eq_true rfl | omega) rfl (fun v_206 M_207 h_209 hE_208 => ?_)
        obtain ⟨rfl, hMs⟩ := h_209
        have hMs := hMs.symm
        subst hMs
        clear hE_208
        refine x_topr (lk_s hz_200 hj_115) ?_
        refine x_astore_n (n' := 302) dJ1_fixAfterDeletion_301 rfl (Nat.le_of_ble_eq_true rfl) rfl (by dsimp only [List.set] <;> rfl) rfl ?_
        exact x_drop (cut302 fuel ih x ax p ap j_111 b_112 (rotLT (tsC (tsC T1 j_111 1) s 0) s j_111) lo1 hi1 _ (by omega) hx hp hj_115 hxp hxs hz_200 hP hW hN hF hlf) ⟨rfl, ⟨rfl, ⟨rfl, trivial⟩⟩⟩
      · obtain ⟨j_174, hl_177, hj_178⟩ := bind_s e_176
        refine x_callS (n' := 272) (n := 1) (c_J1_colorOf__s l G _ o t asd T1 j_174 b_175 hP hj_178) dJ1_fixAfterDeletion_269 (lw_S q2533 q2534 q81 q2535) (by decide +kernel) ⟨(Nat.le_of_ble_eq_true rfl), (Nat.le_of_ble_eq_true rfl)⟩ rfl rfl (Nat.le_of_ble_eq_true rfl) (by first | exact Nat.le_of_ble_eq_true rfl | omega) (by first | exact Nat.le_of_ble_eq_true rfl | omega) rfl (fun v_210 M_211 h_213 hE_212 => ?_)
        obtain ⟨rfl, hMs⟩ := h_213
        have hMs := hMs.symm
        subst hMs
        clear hE_212
        refine x_iconst (n' := 273) (v := 1) dJ1_fixAfterDeletion_272 (by decide) rfl ?_
        refine x_icmp_ne (n' := 276) (tgt := 302) dJ1_fixAfterDeletion_273 (by decide) rfl (fun c273_214 => ?_) (fun c273_214 => ?_)
        · exact x_drop (cut302 fuel ih x ax p ap s as9 T1 lo1 hi1 _ (by omega) hx hp hs hxp hxs hps hP hW hN hF hlf) ⟨rfl, ⟨rfl, ⟨rfl, trivial⟩⟩⟩
        · refine x_aload_n (n' := 277) dJ1_fixAfterDeletion_276 rfl rfl rfl ?_
          refine x_callS (n' := 280) (n := 1) (c_J1_rightOf__s l G _ o t asd T1 s as9 hP hs) dJ1_fixAfterDeletion_277 (lw_S q2530 q2531 q81 q2532) (by decide +kernel) ⟨(Nat.le_of_ble_eq_true rfl), (Nat.le_of_ble_eq_true rfl)⟩ rfl rfl (Nat.le_of_ble_eq_true rfl) (by first | exact Nat.le_of_ble_eq_true rfl | omega) (by first | exact Nat.le_of_ble_eq_true rfl | omega) rfl (fun v_215 M_216 h_218 hE_217 => ?_)
          obtain ⟨rfl, hMs⟩ := h_218
          have hMs := hMs.symm
          subst hMs
          clear hE_217
          refine x_topr (lk_s hl_114 hj_115) ?_
          refine x_iconst (n' := 281) (v := 1) dJ1_fixAfterDeletion_280 (by decide) rfl ?_
          refine x_callS (n' := 284) (n := 2) (c_J1_setColor__s l G _ o t asd T1 j_111 b_112 1 hP hj_115 (Or.inr rfl)) dJ1_fixAfterDeletion_281 (lw_S q2536 q2537 q81 q2538) (by decide +kernel) ⟨(Nat.le_of_ble_eq_true rfl), (Nat.le_of_ble_eq_true rfl)⟩ rfl rfl (Nat.le_of_ble_eq_true rfl) (by first | exact Nat.le_of_ble_eq_true rfl | omega) (by first | exact Nat.le_of_ble_eq_true rfl | omega) rfl (fun v_219 M_220 h_222 hE_221 => ?_)
          obtain ⟨rfl, hP9, hF9⟩ := h_222
          replace hP := hP9
          replace hF := hF.tr hF9
          clear hF9
          clear hE_221
          refine x_aload_n (n' := 285) dJ1_fixAfterDeletion_284 rfl rfl rfl ?_
          refine x_iconst (n' := 286) (v := 0) dJ1_fixAfterDeletion_285 (by decide) rfl ?_
          refine x_callS (n' := 289) (n := 2) (c_J1_setColor__s l G _ o t asd (tsC T1 j_111 1) s as9 0 hP hs (Or.inl rfl)) dJ1_fixAfterDeletion_286 (lw_S q2536 q2537 q81 q2538) (by decide +kernel) ⟨(Nat.le_of_ble_eq_true rfl), (Nat.le_of_ble_eq_true rfl)⟩ rfl rfl (Nat.le_of_ble_eq_true rfl) (by first | exact Nat.le_of_ble_eq_true rfl | omega) (by first | exact Nat.le_of_ble_eq_true rfl | omega) rfl (fun v_223 M_224 h_226 hE_225 => ?_)
          obtain ⟨rfl, hP9, hF9⟩ := h_226
          replace hP := hP9
          replace hF := hF.tr hF9
          clear hF9
          clear hE_225
          refine x_aload_n (n' := 290) dJ1_fixAfterDeletion_289 rfl rfl rfl ?_
          refine x_aload_n (n' := 291) dJ1_fixAfterDeletion_290 rfl rfl rfl ?_
          refine x_callV (n' := 294) (n := 1) (K := 41) (c_J1_rotateLeft__s l G _ o t asd (tsC (tsC T1 j_111 1) s 0) s as9 j_111 _ _ hP hW hs hl_114) dJ1_fixAfterDeletion_291 (hP.k) rfl (lw_V q2539 q2541 qs30 q81 q2542) (by decide +kernel) ⟨(Nat.le_of_ble_eq_true rfl), (Nat.le_of_ble_eq_true rfl)⟩ rfl rfl (Nat.le_of_ble_eq_true rfl) (by first | exact Nat.le_of_ble_eq_true rfl | omega) (by first | exact Nat.le_of_ble_eq_true rfl | omega) rfl (fun v_227 M_228 h_230 hE_229 => ?_)
          obtain ⟨rfl, hP9, hF9⟩ := h_230
          replace hP := hP9
          replace hF := hF.tr hF9
          clear hF9
          clear hE_229
          have hr9 := hW.2.2.2.2.1 s j_111 (nns hs) hl_114
          have ivr9 := hW.1 j_111 (nns hj_115)
          have ivk9 := hW.1 s (nns hs)
          have ivx9 := hW.1 x (nns hx)
          have hs9 := hW.2.2.1 p s (nns hp) hps
          have hW0 := hW
          obtain ⟨lo1, hi1, hW, hlx, hhx⟩ : ∃ lo9 hi9, WTT (rotLT (tsC (tsC T1 j_111 1) s 0) s j_111) lo9 hi9 ∧ lo9 x = lo1 x ∧ hi9 x = hi1 x := ⟨_, _, rotLT_W (T := (tsC (tsC T1 j_111 1) s 0)) hW0 hs hl_114, (va_up_ne _ _ (by omega)), (va_up_ne _ _ (by omega)).trans (va_up_ne _ _ (by omega))⟩
          have hlf := fun h => (have z := hlf h; (⟨rotLT_leaf (T := (tsC (tsC T1 j_111 1) s 0)) hW0 hs hl_114 (by omega) z.1.1 z.1.2, by omega, by omega, z.2.2.2⟩ : (tL (rotLT (tsC (tsC T1 j_111 1) s 0) s j_111) q = none ∧ tR (rotLT (tsC (tsC T1 j_111 1) s 0) s j_111) q = none) ∧ lo1 x ≤ q ∧ q < hi1 x ∧ tN T1 q ≠ none))
          have hxp0 := hxp
          have hxs0 := hxs
          have hxp : tP (rotLT (tsC (tsC T1 j_111 1) s 0) s j_111) x = some p := (rotLT_Po (T := (tsC (tsC T1 j_111 1) s 0)) (by omega) (by omega) (fun e => by have e2 : tP (tsC (tsC T1 j_111 1) s 0) x = some j_111 := (hW0.upL (nns hj_115) e).2; have e3 := Option.some.inj (hxp0.symm.trans e2); omega)).trans hxp0
          have hps9 := (hW0.upL (nns hp) hps).2
          have hxs : tR (rotLT (tsC (tsC T1 j_111 1) s 0) s j_111) p = some x := (rotLT_Ro (T := (tsC (tsC T1 j_111 1) s 0)) (by omega) hps9 hps).trans hxs0
          have hz_231 : tL (rotLT (tsC (tsC T1 j_111 1) s 0) s j_111) p = some j_111 := rotLT_Lg (T := (tsC (tsC T1 j_111 1) s 0)) (by omega) hps9 hps
          have hz_232 : tL (rotLT (tsC (tsC T1 j_111 1) s 0) s j_111) j_111 = some s := rotLT_Ll
          have hsx := hW.2.2.2.2.1 p x (nns hp) hxs
          have hu0 := hW.up (nns hx) hxp
          have ivp0 := hW.1 p (nns hp)
          refine x_aload_n (n' := 295) dJ1_fixAfterDeletion_294 rfl rfl rfl ?_
          refine x_callS (n' := 298) (n := 1) (c_J1_parentOf__s l G _ o t asd (rotLT (tsC (tsC T1 j_111 1) s 0) s j_111) x ax hP hx) dJ1_fixAfterDeletion_295 (lw_S q2524 q2525 q81 q2526) (by decide +kernel) ⟨(Nat.le_of_ble_eq_true rfl), (Nat.le_of_ble_eq_true rfl)⟩ rfl rfl (Nat.le_of_ble_eq_true rfl) (by first | exact Nat.le_of_ble_eq_true rfl | omega) (by first | exact Nat.le_of_ble_eq_true rfl | omega) rfl (fun v_233 M_234 h_236 hE_235 => ?_)
          obtain ⟨rfl, hMs⟩ := h_236
          have hMs := hMs.symm
          subst hMs
          clear hE_235
          refine x_topr (lk_s hxp hp) ?_
          refine x_callS (n' := 301) (n := 1) (c_J1_leftOf__s l G _ o t asd (rotLT (tsC (tsC T1 j_111 1) s 0) s j_111) p ap hP hp) dJ1_fixAfterDeletion_298 (lw_S q2527 q2528 q81 q2529) (by decide +kernel) ⟨(Nat.le_of_ble_eq_true rfl), (Nat.le_of_ble_eq_true rfl)⟩ rfl rfl (Nat.le_of_ble_eq_true rfl) (by first | exact Nat.le_of_ble_eq_true rfl | omega) (by first | exact Nat.le_of_ble_eq_true rfl | omega) rfl (fun v_237 M_238 h_240 hE_239 => ?_)
          obtain ⟨rfl, hMs⟩ := h_240
          have hMs := hMs.symm
          subst hMs
          clear hE_239
          refine x_topr (lk_s hz_231 hj_115) ?_
          refine x_astore_n (n' := 302) dJ1_fixAfterDeletion_301 rfl (Nat.le_of_ble_eq_true rfl) rfl (by dsimp only [List.set] <;> rfl) rfl ?_
          exact x_drop (cut302 fuel ih x ax p ap j_111 b_112 (rotLT (tsC (tsC T1 j_111 1) s 0) s j_111) lo1 hi1 _ (by omega) hx hp hj_115 hxp hxs hz_231 hP hW hN hF hlf) ⟨rfl, ⟨rfl, ⟨rfl, trivial⟩⟩⟩
    · refine x_aload_n (n' := 242) dJ1_fixAfterDeletion_241 rfl rfl rfl ?_
      refine x_callS (n' := 245) (n := 1) (c_J1_leftOf__s l G _ o t asd T1 s as9 hP hs) dJ1_fixAfterDeletion_242 (lw_S q2527 q2528 q81 q2529) (by decide +kernel) ⟨(Nat.le_of_ble_eq_true rfl), (Nat.le_of_ble_eq_true rfl)⟩ rfl rfl (Nat.le_of_ble_eq_true rfl) (by first | exact Nat.le_of_ble_eq_true rfl | omega) (by first | exact Nat.le_of_ble_eq_true rfl | omega) rfl (fun v_241 M_242 h_244 hE_243 => ?_)
      obtain ⟨rfl, hMs⟩ := h_244
      have hMs := hMs.symm
      subst hMs
      clear hE_243
      refine x_topq (fun e_247 => ?_) (fun b_246 e_247 => ?_)
      · have hl_248 : tL T1 s = none := bind_n e_247 (fun _ q => hW.dl (nns hs) q)
        refine x_callS (n' := 248) (n := 1) (c_J1_colorOf__n l G _) dJ1_fixAfterDeletion_245 (lw_S q2533 q2534 q81 q2535) (by decide +kernel) ⟨(Nat.le_of_ble_eq_true rfl), (Nat.le_of_ble_eq_true rfl)⟩ rfl rfl (Nat.le_of_ble_eq_true rfl) (by first | exact Nat.le_of_ble_eq_true rfl | omega) (by first | exact Nat.le_of_ble_eq_true rfl | omega) rfl (fun v_250 M_251 h_253 hE_252 => ?_)
        obtain ⟨rfl, hMs⟩ := h_253
        have hMs := hMs.symm
        subst hMs
        clear hE_252
        refine x_iconst (n' := 249) (v := 1) dJ1_fixAfterDeletion_248 (by decide) rfl ?_
        refine x_icmp_ne (n' := 252) (tgt := 265) dJ1_fixAfterDeletion_249 (by decide) rfl (fun c249_254 => by first | exact absurd c249_254 (by decide) | exact absurd (by decide) c249_254) (fun c249_254 => ?_)
        refine x_aload_n (n' := 253) dJ1_fixAfterDeletion_252 rfl rfl rfl ?_
        refine x_iconst (n' := 254) (v := 0) dJ1_fixAfterDeletion_253 (by decide) rfl ?_
        refine x_callS (n' := 257) (n := 2) (c_J1_setColor__s l G _ o t asd T1 s as9 0 hP hs (Or.inl rfl)) dJ1_fixAfterDeletion_254 (lw_S q2536 q2537 q81 q2538) (by decide +kernel) ⟨(Nat.le_of_ble_eq_true rfl), (Nat.le_of_ble_eq_true rfl)⟩ rfl rfl (Nat.le_of_ble_eq_true rfl) (by first | exact Nat.le_of_ble_eq_true rfl | omega) (by first | exact Nat.le_of_ble_eq_true rfl | omega) rfl (fun v_255 M_256 h_258 hE_257 => ?_)
        obtain ⟨rfl, hP9, hF9⟩ := h_258
        replace hP := hP9
        replace hF := hF.tr hF9
        clear hF9
        clear hE_257
        refine x_aload_n (n' := 258) dJ1_fixAfterDeletion_257 rfl rfl rfl ?_
        refine x_callS (n' := 261) (n := 1) (c_J1_parentOf__s l G _ o t asd (tsC T1 s 0) x ax hP hx) dJ1_fixAfterDeletion_258 (lw_S q2524 q2525 q81 q2526) (by decide +kernel) ⟨(Nat.le_of_ble_eq_true rfl), (Nat.le_of_ble_eq_true rfl)⟩ rfl rfl (Nat.le_of_ble_eq_true rfl) (by first | exact Nat.le_of_ble_eq_true rfl | omega) (by first | exact Nat.le_of_ble_eq_true rfl | omega) rfl (fun v_259 M_260 h_262 hE_261 => ?_)
        obtain ⟨rfl, hMs⟩ := h_262
        have hMs := hMs.symm
        subst hMs
        clear hE_261
        refine x_topr (lk_s hxp hp) ?_
        refine x_astore_n (n' := 262) dJ1_fixAfterDeletion_261 rfl (Nat.le_of_ble_eq_true rfl) rfl (by dsimp only [List.set] <;> rfl) rfl ?_
        refine x_goto (tgt := 342) dJ1_fixAfterDeletion_262 (by decide) ?_
        refine x_goto (tgt := 0) dJ1_fixAfterDeletion_342 (by decide) ?_
        exact x_drop (ih p ap (tsC T1 s 0) _ _ _ (by omega) hp hP hW hN hF (fun h => by have z := hlf h; exact ⟨z.1, by omega, by omega, z.2.2.2⟩)) ⟨rfl, ⟨rfl, trivial⟩⟩
      · obtain ⟨j_245, hl_248, hj_249⟩ := bind_s e_247
        refine x_callS (n' := 248) (n := 1) (c_J1_colorOf__s l G _ o t asd T1 j_245 b_246 hP hj_249) dJ1_fixAfterDeletion_245 (lw_S q2533 q2534 q81 q2535) (by decide +kernel) ⟨(Nat.le_of_ble_eq_true rfl), (Nat.le_of_ble_eq_true rfl)⟩ rfl rfl (Nat.le_of_ble_eq_true rfl) (by first | exact Nat.le_of_ble_eq_true rfl | omega) (by first | exact Nat.le_of_ble_eq_true rfl | omega) rfl (fun v_263 M_264 h_266 hE_265 => ?_)
        obtain ⟨rfl, hMs⟩ := h_266
        have hMs := hMs.symm
        subst hMs
        clear hE_265
        refine x_iconst (n' := 249) (v := 1) dJ1_fixAfterDeletion_248 (by decide) rfl ?_
        refine x_icmp_ne (n' := 252) (tgt := 265) dJ1_fixAfterDeletion_249 (by decide) rfl (fun c249_267 => ?_) (fun c249_267 => ?_)
        · refine x_aload_n (n' := 266) dJ1_fixAfterDeletion_265 rfl rfl rfl ?_
          refine x_callS (n' := 269) (n := 1) (c_J1_leftOf__s l G _ o t asd T1 s as9 hP hs) dJ1_fixAfterDeletion_266 (lw_S q2527 q2528 q81 q2529) (by decide +kernel) ⟨(Nat.le_of_ble_eq_true rfl), (Nat.le_of_ble_eq_true rfl)⟩ rfl rfl (Nat.le_of_ble_eq_true rfl) (by first | exact Nat.le_of_ble_eq_true rfl | omega) (by first | exact Nat.le_of_ble_eq_true rfl | omega) rfl (fun v_268 M_269 h_271 hE_270 => ?_)
          obtain ⟨rfl, hMs⟩ := h_271
          have hMs := hMs.symm
          subst hMs
          clear hE_270
          refine x_topr (lk_s hl_248 hj_249) ?_
          refine x_callS (n' := 272) (n := 1) (c_J1_colorOf__s l G _ o t asd T1 j_245 b_246 hP hj_249) dJ1_fixAfterDeletion_269 (lw_S q2533 q2534 q81 q2535) (by decide +kernel) ⟨(Nat.le_of_ble_eq_true rfl), (Nat.le_of_ble_eq_true rfl)⟩ rfl rfl (Nat.le_of_ble_eq_true rfl) (by first | exact Nat.le_of_ble_eq_true rfl | omega) (by first | exact Nat.le_of_ble_eq_true rfl | omega) rfl (fun v_272 M_273 h_275 hE_274 => ?_)
          obtain ⟨rfl, hMs⟩ := h_275
          have hMs := hMs.symm
          subst hMs
          clear hE_274
          refine x_iconst (n' := 273) (v := 1) dJ1_fixAfterDeletion_272 (by decide) rfl ?_
          refine x_icmp_ne (n' := 276) (tgt := 302) dJ1_fixAfterDeletion_273 (by decide) rfl (fun c273_276 => ?_) (fun c273_276 => by first | exact absurd c273_276 (by assumption) | exact absurd (by assumption) c273_276)
          exact x_drop (cut302 fuel ih x ax p ap s as9 T1 lo1 hi1 _ (by omega) hx hp hs hxp hxs hps hP hW hN hF hlf) ⟨rfl, ⟨rfl, ⟨rfl, trivial⟩⟩⟩
        · refine x_aload_n (n' := 253) dJ1_fixAfterDeletion_252 rfl rfl rfl ?_
          refine x_iconst (n' := 254) (v := 0) dJ1_fixAfterDeletion_253 (by decide) rfl ?_
          refine x_callS (n' := 257) (n := 2) (c_J1_setColor__s l G _ o t asd T1 s as9 0 hP hs (Or.inl rfl)) dJ1_fixAfterDeletion_254 (lw_S q2536 q2537 q81 q2538) (by decide +kernel) ⟨(Nat.le_of_ble_eq_true rfl), (Nat.le_of_ble_eq_true rfl)⟩ rfl rfl (Nat.le_of_ble_eq_true rfl) (by first | exact Nat.le_of_ble_eq_true rfl | omega) (by first | exact Nat.le_of_ble_eq_true rfl | omega) rfl (fun v_277 M_278 h_280 hE_279 => ?_)
          obtain ⟨rfl, hP9, hF9⟩ := h_280
          replace hP := hP9
          replace hF := hF.tr hF9
          clear hF9
          clear hE_279
          refine x_aload_n (n' := 258) dJ1_fixAfterDeletion_257 rfl rfl rfl ?_
          refine x_callS (n' := 261) (n := 1) (c_J1_parentOf__s l G _ o t asd (tsC T1 s 0) x ax hP hx) dJ1_fixAfterDeletion_258 (lw_S q2524 q2525 q81 q2526) (by decide +kernel) ⟨(Nat.le_of_ble_eq_true rfl), (Nat.le_of_ble_eq_true rfl)⟩ rfl rfl (Nat.le_of_ble_eq_true rfl) (by first | exact Nat.le_of_ble_eq_true rfl | omega) (by first | exact Nat.le_of_ble_eq_true rfl | omega) rfl (fun v_281 M_282 h_284 hE_283 => ?_)
          obtain ⟨rfl, hMs⟩ := h_284
          have hMs := hMs.symm
          subst hMs
          clear hE_283
          refine x_topr (lk_s hxp hp) ?_
          refine x_astore_n (n' := 262) dJ1_fixAfterDeletion_261 rfl (Nat.le_of_ble_eq_true rfl) rfl (by dsimp only [List.set] <;> rfl) rfl ?_
          refine x_goto (tgt := 342) dJ1_fixAfterDeletion_262 (by decide) ?_
          refine x_goto (tgt := 0) dJ1_fixAfterDeletion_342 (by decide) ?_
          exact x_drop (ih p ap (tsC T1 s 0) _ _ _ (by omega) hp hP hW hN hF (fun h => by have z := hlf h; exact ⟨z.1, by omega, by omega, z.2.2.2⟩)) ⟨rfl, ⟨rfl, trivial⟩⟩
set_option maxHeartbeats 20000000 in
set_option maxRecDepth 100000 in
theorem k71_c_J1_fixAfterDeletion (l : Launch) (G : kG) (M : kM) (o t asd : Nat) (T : kT) (x0 ax0 q : Nat) (lf : Prop) (lo hi : Nat → Nat) (hP : PT M o t asd T) (hW : WTT T lo hi) (hx0 : tN T x0 = some ax0) (hlf : lf → (tL T q = none ∧ tR T q = none) ∧ lo x0 ≤ q ∧ q < hi x0 ∧ tN T q ≠ none) (pp : Program) (ee : Env) (ss : State) (mm : MethodId) (args : Array Value) (below : List Frame) (meth : Method) (cd : Code) (hmn : meth.name = yJ1_fixAfterDeletion.name) (hret : meth.sig.returnType = none) : ∀ (fuel : Nat) (ih : ∀ (x ax : Nat) (T1 : kT) (lo1 hi1 : Nat → Nat) (M1 : kM) (h9 : BB - (hi1 x - lo1 x) < fuel) (hx : tN T1 x = some ax) (hP : PT M1 o t asd T1) (hW : WTT T1 lo1 hi1) (hN : tN T1 = tN T ∧ tK T1 = tK T ∧ tV T1 = tV T) (hF : FK o M M1) (hlf : (lf → (tL T1 q = none ∧ tR T1 q = none) ∧ lo1 x ≤ q ∧ q < hi1 x ∧ tN T1 q ≠ none)), Wx pp l ee { frames := 1, cells := 0, slots := 0, locals := 22 } ss mm args below meth cd "java/util/TreeMap" cJ1_fixAfterDeletion 3 G (MQ below (KQ G M (fun v M2 => v = none ∧ ∃ T2 lo2 hi2, PT M2 o t asd T2 ∧ WTT T2 lo2 hi2 ∧ (tN T2 = tN T ∧ tK T2 = tK T ∧ tV T2 = tV T) ∧ FK o M M2 ∧ (lf → tL T2 q = none ∧ tR T2 q = none))) args ss (0) (0) (kA G)) 0 [some (.ref t), some (.ref ax), none] [] (M1) (0) (0)) (x ax p ap s as9 : Nat) (T1 : kT) (lo1 hi1 : Nat → Nat) (M1 : kM) (h9 : BB - (hi1 x - lo1 x) < fuel + 1) (hx : tN T1 x = some ax) (hp : tN T1 p = some ap) (hs : tN T1 s = some as9) (hxp : tP T1 x = some p) (hxs : tL T1 p = some x) (hps : tR T1 p = some s) (hP : PT M1 o t asd T1) (hW : WTT T1 lo1 hi1) (hN : tN T1 = tN T ∧ tK T1 = tK T ∧ tV T1 = tV T) (hF : FK o M M1) (hlf : (lf → (tL T1 q = none ∧ tR T1 q = none) ∧ lo1 x ≤ q ∧ q < hi1 x ∧ tN T1 q ≠ none)), Wx pp l ee { frames := 1, cells := 0, slots := 0, locals := 22 } ss mm args below meth cd "java/util/TreeMap" cJ1_fixAfterDeletion 3 G (MQ below (KQ G M (fun v M2 => v = none ∧ ∃ T2 lo2 hi2, PT M2 o t asd T2 ∧ WTT T2 lo2 hi2 ∧ (tN T2 = tN T ∧ tK T2 = tK T ∧ tV T2 = tV T) ∧ FK o M M2 ∧ (lf → tL T2 q = none ∧ tR T2 q = none))) args ss (0) (0) (kA G)) 71 [some (.ref t), some (.ref ax), some (.ref as9)] [] (M1) (0) (0) := by
  have hP0 := hP
  have hF : FK o M M := FK.rf
  have cut302 := k302_c_J1_fixAfterDeletion l G M o t asd T x0 ax0 q lf lo hi hP hW hx0 hlf pp ee ss mm args below meth cd hmn hret
  have cut143 := k143_c_J1_fixAfterDeletion l G M o t asd T x0 ax0 q lf lo hi hP hW hx0 hlf pp ee ss mm args below meth cd hmn hret
  have cut230 := k230_c_J1_fixAfterDeletion l G M o t asd T x0 ax0 q lf lo hi hP hW hx0 hlf pp ee ss mm args below meth cd hmn hret
  intro fuel ih x ax p ap s as9 T1 lo1 hi1 M1 h9 hx hp hs hxp hxs hps hP hW hN hF hlf
  have hu0 := hW.up (nns hx) hxp
  have ivp0 := hW.1 p (nns hp)
  have hsx := hW.2.2.1 p x (nns hp) hxs
  refine x_aload_n (n' := 72) dJ1_fixAfterDeletion_71 rfl rfl rfl ?_
  refine x_callS (n' := 75) (n := 1) (c_J1_leftOf__s l G _ o t asd T1 s as9 hP hs) dJ1_fixAfterDeletion_72 (lw_S q2527 q2528 q81 q2529) (by decide +kernel) ⟨(Nat.le_of_ble_eq_true rfl), (Nat.le_of_ble_eq_true rfl)⟩ rfl rfl (Nat.le_of_ble_eq_true rfl) (by first | exact Nat.le_of_ble_eq_true rfl | omega) (by first | exact Nat.le_of_ble_eq_true rfl | omega) rfl (fun v_285 M_286 h_288 hE_287 => ?_)
  obtain ⟨rfl, hMs⟩ := h_288
  have hMs := hMs.symm
  subst hMs
  clear hE_287
  refine x_topq (fun e_291 => ?_) (fun b_290 e_291 => ?_)
  · have hl_292 : tL T1 s = none := bind_n e_291 (fun _ q => hW.dl (nns hs) q)
    refine x_callS (n' := 78) (n := 1) (c_J1_colorOf__n l G _) dJ1_fixAfterDeletion_75 (lw_S q2533 q2534 q81 q2535) (by decide +kernel) ⟨(Nat.le_of_ble_eq_true rfl), (Nat.le_of_ble_eq_true rfl)⟩ rfl rfl (Nat.le_of_ble_eq_true rfl) (by first | exact Nat.le_of_ble_eq_true rfl | omega) (by first | exact Nat.le_of_ble_eq_true rfl | omega) rfl (fun v_294 M_295 h_297 hE_296 => ?_)
    obtain ⟨rfl, hMs⟩ := h_297
    have hMs := hMs.symm
    subst hMs
    clear hE_296
    refine x_iconst (n' := 79) (v := 1) dJ1_fixAfterDeletion_78 (by decide) rfl ?_
    refine x_icmp_ne (n' := 82) (tgt := 106) dJ1_fixAfterDeletion_79 (by decide) rfl (fun c79_298 => by first | exact absurd c79_298 (by decide) | exact absurd (by decide) c79_298) (fun c79_298 => ?_)
    refine x_aload_n (n' := 83) dJ1_fixAfterDeletion_82 rfl rfl rfl ?_
    refine x_callS (n' := 86) (n := 1) (c_J1_rightOf__s l G _ o t asd T1 s as9 hP hs) dJ1_fixAfterDeletion_83 (lw_S q2530 q2531 q81 q2532) (by decide +kernel) ⟨(Nat.le_of_ble_eq_true rfl), (Nat.le_of_ble_eq_true rfl)⟩ rfl rfl (Nat.le_of_ble_eq_true rfl) (by first | exact Nat.le_of_ble_eq_true rfl | omega) (by first | exact Nat.le_of_ble_eq_true rfl | omega) rfl (fun v_299 M_300 h_302 hE_301 => ?_)
    obtain ⟨rfl, hMs⟩ := h_302
    have hMs := hMs.symm
    subst hMs
    clear hE_301
    refine x_topq (fun e_305 => ?_) (fun b_304 e_305 => ?_)
    · have hl_306 : tR T1 s = none := bind_n e_305 (fun _ q => hW.dr (nns hs) q)
      refine x_callS (n' := 89) (n := 1) (c_J1_colorOf__n l G _) dJ1_fixAfterDeletion_86 (lw_S q2533 q2534 q81 q2535) (by decide +kernel) ⟨(Nat.le_of_ble_eq_true rfl), (Nat.le_of_ble_eq_true rfl)⟩ rfl rfl (Nat.le_of_ble_eq_true rfl) (by first | exact Nat.le_of_ble_eq_true rfl | omega) (by first | exact Nat.le_of_ble_eq_true rfl | omega) rfl (fun v_308 M_309 h_311 hE_310 => ?_)
      obtain ⟨rfl, hMs⟩ := h_311
      have hMs := hMs.symm
      subst hMs
      clear hE_310
      refine x_iconst (n' := 90) (v := 1) dJ1_fixAfterDeletion_89 (by decide) rfl ?_
      refine x_icmp_ne (n' := 93) (tgt := 106) dJ1_fixAfterDeletion_90 (by decide) rfl (fun c90_312 => by first | exact absurd c90_312 (by decide) | exact absurd (by decide) c90_312) (fun c90_312 => ?_)
      refine x_aload_n (n' := 94) dJ1_fixAfterDeletion_93 rfl rfl rfl ?_
      refine x_iconst (n' := 95) (v := 0) dJ1_fixAfterDeletion_94 (by decide) rfl ?_
      refine x_callS (n' := 98) (n := 2) (c_J1_setColor__s l G _ o t asd T1 s as9 0 hP hs (Or.inl rfl)) dJ1_fixAfterDeletion_95 (lw_S q2536 q2537 q81 q2538) (by decide +kernel) ⟨(Nat.le_of_ble_eq_true rfl), (Nat.le_of_ble_eq_true rfl)⟩ rfl rfl (Nat.le_of_ble_eq_true rfl) (by first | exact Nat.le_of_ble_eq_true rfl | omega) (by first | exact Nat.le_of_ble_eq_true rfl | omega) rfl (fun v_313 M_314 h_316 hE_315 => ?_)
      obtain ⟨rfl, hP9, hF9⟩ := h_316
      replace hP := hP9
      replace hF := hF.tr hF9
      clear hF9
      clear hE_315
      refine x_aload_n (n' := 99) dJ1_fixAfterDeletion_98 rfl rfl rfl ?_
      refine x_callS (n' := 102) (n := 1) (c_J1_parentOf__s l G _ o t asd (tsC T1 s 0) x ax hP hx) dJ1_fixAfterDeletion_99 (lw_S q2524 q2525 q81 q2526) (by decide +kernel) ⟨(Nat.le_of_ble_eq_true rfl), (Nat.le_of_ble_eq_true rfl)⟩ rfl rfl (Nat.le_of_ble_eq_true rfl) (by first | exact Nat.le_of_ble_eq_true rfl | omega) (by first | exact Nat.le_of_ble_eq_true rfl | omega) rfl (fun v_317 M_318 h_320 hE_319 => ?_)
      obtain ⟨rfl, hMs⟩ := h_320
      have hMs := hMs.symm
      subst hMs
      clear hE_319
      refine x_topr (lk_s hxp hp) ?_
      refine x_astore_n (n' := 103) dJ1_fixAfterDeletion_102 rfl (Nat.le_of_ble_eq_true rfl) rfl (by dsimp only [List.set] <;> rfl) rfl ?_
      refine x_goto (tgt := 183) dJ1_fixAfterDeletion_103 (by decide) ?_
      refine x_goto (tgt := 0) dJ1_fixAfterDeletion_183 (by decide) ?_
      exact x_drop (ih p ap (tsC T1 s 0) _ _ _ (by omega) hp hP hW hN hF (fun h => by have z := hlf h; exact ⟨z.1, by omega, by omega, z.2.2.2⟩)) ⟨rfl, ⟨rfl, trivial⟩⟩
    · obtain ⟨j_303, hl_306, hj_307⟩ := bind_s e_305
      refine x_callS (n' := 89) (n := 1) (c_J1_colorOf__s l G _ o t asd T1 j_303 b_304 hP hj_307) dJ1_fixAfterDeletion_86 (lw_S q2533 q2534 q81 q2535) (by decide +kernel) ⟨(Nat.le_of_ble_eq_true rfl), (Nat.le_of_ble_eq_true rfl)⟩ rfl rfl (Nat.le_of_ble_eq_true rfl) (by first | exact Nat.le_of_ble_eq_true rfl | omega) (by first | exact Nat.le_of_ble_eq_true rfl | omega) rfl (fun v_321 M_322 h_324 hE_323 => ?_)
      obtain ⟨rfl, hMs⟩ := h_324
      have hMs := hMs.symm
      subst hMs
      clear hE_323
      refine x_iconst (n' := 90) (v := 1) dJ1_fixAfterDeletion_89 (by decide) rfl ?_
      refine x_icmp_ne (n' := 93) (tgt := 106) dJ1_fixAfterDeletion_90 (by decide) rfl (fun c90_325 => ?_) (fun c90_325 => ?_)
      · refine x_aload_n (n' := 107) dJ1_fixAfterDeletion_106 rfl rfl rfl ?_
        refine x_callS (n' := 110) (n := 1) (c_J1_rightOf__s l G _ o t asd T1 s as9 hP hs) dJ1_fixAfterDeletion_107 (lw_S q2530 q2531 q81 q2532) (by decide +kernel) ⟨(Nat.le_of_ble_eq_true rfl), (Nat.le_of_ble_eq_true rfl)⟩ rfl rfl (Nat.le_of_ble_eq_true rfl) (by first | exact Nat.le_of_ble_eq_true rfl | omega) (by first | exact Nat.le_of_ble_eq_true rfl | omega) rfl (fun v_326 M_327 h_329 hE_328 => ?_)
        obtain ⟨rfl, hMs⟩ := h_329
        have hMs := hMs.symm
        subst hMs
        clear hE_328
        refine x_topr (lk_s hl_306 hj_307) ?_
        refine x_callS (n' := 113) (n := 1) (c_J1_colorOf__s l G _ o t asd T1 j_303 b_304 hP hj_307) dJ1_fixAfterDeletion_110 (lw_S q2533 q2534 q81 q2535) (by decide +kernel) ⟨(Nat.le_of_ble_eq_true rfl), (Nat.le_of_ble_eq_true rfl)⟩ rfl rfl (Nat.le_of_ble_eq_true rfl) (by first | exact Nat.le_of_ble_eq_true rfl | omega) (by first | exact Nat.le_of_ble_eq_true rfl | omega) rfl (fun v_330 M_331 h_333 hE_332 => ?_)
        obtain ⟨rfl, hMs⟩ := h_333
        have hMs := hMs.symm
        subst hMs
        clear hE_332
        refine x_iconst (n' := 114) (v := 1) dJ1_fixAfterDeletion_113 (by decide) rfl ?_
        refine x_icmp_ne (n' := 117) (tgt := 143) dJ1_fixAfterDeletion_114 (by decide) rfl (fun c114_334 => ?_) (fun c114_334 => by first | exact absurd c114_334 (by assumption) | exact absurd (by assumption) c114_334)
        exact x_drop (cut143 fuel ih x ax p ap s as9 T1 lo1 hi1 _ (by omega) hx hp hs hxp hxs hps hP hW hN hF hlf) ⟨rfl, ⟨rfl, ⟨rfl, trivial⟩⟩⟩
      · refine x_aload_n (n' := 94) dJ1_fixAfterDeletion_93 rfl rfl rfl ?_
        refine x_iconst (n' := 95) (v := 0) dJ1_fixAfterDeletion_94 (by decide) rfl ?_
        refine x_callS (n' := 98) (n := 2) (c_J1_setColor__s l G _ o t asd T1 s as9 0 hP hs (Or.inl rfl)) dJ1_fixAfterDeletion_95 (lw_S q2536 q2537 q81 q2538) (by decide +kernel) ⟨(Nat.le_of_ble_eq_true rfl), (Nat.le_of_ble_eq_true rfl)⟩ rfl rfl (Nat.le_of_ble_eq_true rfl) (by first | exact Nat.le_of_ble_eq_true rfl | omega) (by first | exact Nat.le_of_ble_eq_true rfl | omega) rfl (fun v_335 M_336 h_338 hE_337 => ?_)
        obtain ⟨rfl, hP9, hF9⟩ := h_338
        replace hP := hP9
        replace hF := hF.tr hF9
        clear hF9
        clear hE_337
        refine x_aload_n (n' := 99) dJ1_fixAfterDeletion_98 rfl rfl rfl ?_
        refine x_callS (n' := 102) (n := 1) (c_J1_parentOf__s l G _ o t asd (tsC T1 s 0) x ax hP hx) dJ1_fixAfterDeletion_99 (lw_S q2524 q2525 q81 q2526) (by decide +kernel) ⟨(Nat.le_of_ble_eq_true rfl), (Nat.le_of_ble_eq_true rfl)⟩ rfl rfl (Nat.le_of_ble_eq_true rfl) (by first | exact Nat.le_of_ble_eq_true rfl | omega) (by first | exact Nat.le_of_ble_eq_true rfl | omega) rfl (fun v_339 M_340 h_342 hE_341 => ?_)
        obtain ⟨rfl, hMs⟩ := h_342
        have hMs := hMs.symm
        subst hMs
        clear hE_341
        refine x_topr (lk_s hxp hp) ?_
        refine x_astore_n (n' := 103) dJ1_fixAfterDeletion_102 rfl (Nat.le_of_ble_eq_true rfl) rfl (by dsimp only [List.set] <;> rfl) rfl ?_
        refine x_goto (tgt := 183) dJ1_fixAfterDeletion_103 (by decide) ?_
        refine x_goto (tgt := 0) dJ1_fixAfterDeletion_183 (by decide) ?_
        exact x_drop (ih p ap (tsC T1 s 0) _ _ _ (by omega) hp hP hW hN hF (fun h => by have z := hlf h; exact ⟨z.1, by omega, by omega, z.2.2.2⟩)) ⟨rfl, ⟨rfl, trivial⟩⟩
  · obtain ⟨j_289, hl_292, hj_293⟩ := bind_s e_291
    refine x_callS (n' := 78) (n := 1) (c_J1_colorOf__s l G _ o t asd T1 j_289 b_290 hP hj_293) dJ1_fixAfterDeletion_75 (lw_S q2533 q2534 q81 q2535) (by decide +kernel) ⟨(Nat.le_of_ble_eq_true rfl), (Nat.le_of_ble_eq_true rfl)⟩ rfl rfl (Nat.le_of_ble_eq_true rfl) (by first | exact Nat.le_of_ble_eq_true rfl | omega) (by first | exact Nat.le_of_ble_eq_true rfl | omega) rfl (fun v_343 M_344 h_346 hE_345 => ?_)
    obtain ⟨rfl, hMs⟩ := h_346
    have hMs := hMs.symm
    subst hMs
    clear hE_345
    refine x_iconst (n' := 79) (v := 1) dJ1_fixAfterDeletion_78 (by decide) rfl ?_
    refine x_icmp_ne (n' := 82) (tgt := 106) dJ1_fixAfterDeletion_79 (by decide) rfl (fun c79_347 => ?_) (fun c79_347 => ?_)
    · refine x_aload_n (n' := 107) dJ1_fixAfterDeletion_106 rfl rfl rfl ?_
      refine x_callS (n' := 110) (n := 1) (c_J1_rightOf__s l G _ o t asd T1 s as9 hP hs) dJ1_fixAfterDeletion_107 (lw_S q2530 q2531 q81 q2532) (by decide +kernel) ⟨(Nat.le_of_ble_eq_true rfl), (Nat.le_of_ble_eq_true rfl)⟩ rfl rfl (Nat.le_of_ble_eq_true rfl) (by first | exact Nat.le_of_ble_eq_true rfl | omega) (by first | exact Nat.le_of_ble_eq_true rfl | omega) rfl (fun v_348 M_349 h_351 hE_350 => ?_)
      obtain ⟨rfl, hMs⟩ := h_351
      have hMs := hMs.symm
      subst hMs
      clear hE_350
      refine x_topq (fun e_354 => ?_) (fun b_353 e_354 => ?_)
      · have hl_355 : tR T1 s = none := bind_n e_354 (fun _ q => hW.dr (nns hs) q)
        refine x_callS (n' := 113) (n := 1) (c_J1_colorOf__n l G _) dJ1_fixAfterDeletion_110 (lw_S q2533 q2534 q81 q2535) (by decide +kernel) ⟨(Nat.le_of_ble_eq_true rfl), (Nat.le_of_ble_eq_true rfl)⟩ rfl rfl (Nat.le_of_ble_eq_true rfl) (by first | exact Nat.le_of_ble_eq_true rfl | omega) (by first | exact Nat.le_of_ble_eq_true rfl | omega) rfl (fun v_357 M_358 h_360 hE_359 => ?_)
        obtain ⟨rfl, hMs⟩ := h_360
        have hMs := hMs.symm
        subst hMs
        clear hE_359
        refine x_iconst (n' := 114) (v := 1) dJ1_fixAfterDeletion_113 (by decide) rfl ?_
        refine x_icmp_ne (n' := 117) (tgt := 143) dJ1_fixAfterDeletion_114 (by decide) rfl (fun c114_361 => by first | exact absurd c114_361 (by decide) | exact absurd (by decide) c114_361) (fun c114_361 => ?_)
        refine x_aload_n (n' := 118) dJ1_fixAfterDeletion_117 rfl rfl rfl ?_
        refine x_callS (n' := 121) (n := 1) (c_J1_leftOf__s l G _ o t asd T1 s as9 hP hs) dJ1_fixAfterDeletion_118 (lw_S q2527 q2528 q81 q2529) (by decide +kernel) ⟨(Nat.le_of_ble_eq_true rfl), (Nat.le_of_ble_eq_true rfl)⟩ rfl rfl (Nat.le_of_ble_eq_true rfl) (by first | exact Nat.le_of_ble_eq_true rfl | omega) (by first | exact Nat.le_of_ble_eq_true rfl | omega) rfl (fun v_362 M_363 h_365 hE_364 => ?_)
        obtain ⟨rfl, hMs⟩ := h_365
        have hMs := hMs.symm
        subst hMs
        clear hE_364
        refine x_topr (lk_s hl_292 hj_293) ?_
        refine x_iconst (n' := 122) (v := 1) dJ1_fixAfterDeletion_121 (by decide) rfl ?_
        refine x_callS (n' := 125) (n := 2) (c_J1_setColor__s l G _ o t asd T1 j_289 b_290 1 hP hj_293 (Or.inr rfl)) dJ1_fixAfterDeletion_122 (lw_S q2536 q2537 q81 q2538) (by decide +kernel) ⟨(Nat.le_of_ble_eq_true rfl), (Nat.le_of_ble_eq_true rfl)⟩ rfl rfl (Nat.le_of_ble_eq_true rfl) (by first | exact Nat.le_of_ble_eq_true rfl | omega) (by first | exact Nat.le_of_ble_eq_true rfl | omega) rfl (fun v_366 M_367 h_369 hE_368 => ?_)
        obtain ⟨rfl, hP9, hF9⟩ := h_369
        replace hP := hP9
        replace hF := hF.tr hF9
        clear hF9
        clear hE_368
        refine x_aload_n (n' := 126) dJ1_fixAfterDeletion_125 rfl rfl rfl ?_
        refine x_iconst (n' := 127) (v := 0) dJ1_fixAfterDeletion_126 (by decide) rfl ?_
        refine x_callS (n' := 130) (n := 2) (c_J1_setColor__s l G _ o t asd (tsC T1 j_289 1) s as9 0 hP hs (Or.inl rfl)) dJ1_fixAfterDeletion_127 (lw_S q2536 q2537 q81 q2538) (by decide +kernel) ⟨(Nat.le_of_ble_eq_true rfl), (Nat.le_of_ble_eq_true rfl)⟩ rfl rfl (Nat.le_of_ble_eq_true rfl) (by first | exact Nat.le_of_ble_eq_true rfl | omega) (by first | exact Nat.le_of_ble_eq_true rfl | omega) rfl (fun v_370 M_371 h_373 hE_372 => ?_)
        obtain ⟨rfl, hP9, hF9⟩ := h_373
        replace hP := hP9
        replace hF := hF.tr hF9
        clear hF9
        clear hE_372
        refine x_aload_n (n' := 131) dJ1_fixAfterDeletion_130 rfl rfl rfl ?_
        refine x_aload_n (n' := 132) dJ1_fixAfterDeletion_131 rfl rfl rfl ?_
        refine x_callV (n' := 135) (n := 1) (K := 41) (c_J1_rotateRight__s l G _ o t asd (tsC (tsC T1 j_289 1) s 0) s as9 j_289 _ _ hP hW hs hl_292) dJ1_fixAfterDeletion_132 (hP.k) rfl (lw_V q2543 q2545 qs31 q81 q2546) (by decide +kernel) ⟨(Nat.le_of_ble_eq_true rfl), (Nat.le_of_ble_eq_true rfl)⟩ rfl rfl (Nat.le_of_ble_eq_true rfl) (by first | exact Nat.le_of_ble_eq_true rfl | omega) (by first | exact Nat.le_of_ble_eq_true rfl | omega) rfl (fun v_374 M_375 h_377 hE_376 => ?_)
        obtain ⟨rfl, hP9, hF9⟩ := h_377
        replace hP := hP9
        replace hF := hF.tr hF9
        clear hF9
        clear hE_376
        have hr9 := hW.2.2.1 s j_289 (nns hs) hl_292
        have ivr9 := hW.1 j_289 (nns hj_293)
        have ivk9 := hW.1 s (nns hs)
        have ivx9 := hW.1 x (nns hx)
        have hs9 := hW.2.2.2.2.1 p s (nns hp) hps
        have hW0 := hW
        obtain ⟨lo1, hi1, hW, hlx, hhx⟩ : ∃ lo9 hi9, WTT (rotRT (tsC (tsC T1 j_289 1) s 0) s j_289) lo9 hi9 ∧ lo9 x = lo1 x ∧ hi9 x = hi1 x := ⟨_, _, rotRT_W (T := (tsC (tsC T1 j_289 1) s 0)) hW0 hs hl_292, (va_up_ne _ _ (by omega)), (va_up_ne _ _ (by omega))⟩
        have hlf := fun h => (have z := hlf h; (⟨rotRT_leaf (T := (tsC (tsC T1 j_289 1) s 0)) hW0 hs hl_292 (by omega) z.1.1 z.1.2, by omega, by omega, z.2.2.2⟩ : (tL (rotRT (tsC (tsC T1 j_289 1) s 0) s j_289) q = none ∧ tR (rotRT (tsC (tsC T1 j_289 1) s 0) s j_289) q = none) ∧ lo1 x ≤ q ∧ q < hi1 x ∧ tN T1 q ≠ none))
        have hxp0 := hxp
        have hxs0 := hxs
        have hxp : tP (rotRT (tsC (tsC T1 j_289 1) s 0) s j_289) x = some p := (rotRT_Po (T := (tsC (tsC T1 j_289 1) s 0)) (by omega) (by omega) (fun e => by have e2 : tP (tsC (tsC T1 j_289 1) s 0) x = some j_289 := (hW0.upR (nns hj_293) e).2; have e3 := Option.some.inj (hxp0.symm.trans e2); omega)).trans hxp0
        have hps9 := (hW0.upR (nns hp) hps).2
        have hxs : tL (rotRT (tsC (tsC T1 j_289 1) s 0) s j_289) p = some x := (rotRT_Lo (T := (tsC (tsC T1 j_289 1) s 0)) (by omega) hps9 hps).trans hxs0
        have hz_378 : tR (rotRT (tsC (tsC T1 j_289 1) s 0) s j_289) p = some j_289 := rotRT_Rg (T := (tsC (tsC T1 j_289 1) s 0)) (by omega) hps9 hps
        have hz_379 : tR (rotRT (tsC (tsC T1 j_289 1) s 0) s j_289) j_289 = some s := rotRT_Rl
        have hsx := hW.2.2.1 p x (nns hp) hxs
        have hu0 := hW.up (nns hx) hxp
        have ivp0 := hW.1 p (nns hp)
        refine x_aload_n (n' := 136) dJ1_fixAfterDeletion_135 rfl rfl rfl ?_
        refine x_callS (n' := 139) (n := 1) (c_J1_parentOf__s l G _ o t asd (rotRT (tsC (tsC T1 j_289 1) s 0) s j_289) x ax hP hx) dJ1_fixAfterDeletion_136 (lw_S q2524 q2525 q81 q2526) (by decide +kernel) ⟨(Nat.le_of_ble_eq_true rfl), (Nat.le_of_ble_eq_true rfl)⟩ rfl rfl (Nat.le_of_ble_eq_true rfl) (by first | exact Nat.le_of_ble_eq_true rfl | omega) (by first | exact Nat.le_of_ble_eq_true rfl | omega) rfl (fun v_380 M_381 h_383 hE_382 => ?_)
        obtain ⟨rfl, hMs⟩ := h_383
        have hMs := hMs.symm
        subst hMs
        clear hE_382
        refine x_topr (lk_s hxp hp) ?_
        refine x_callS (n' := 142) (n := 1) (c_J1_rightOf__s l G _ o t asd (rotRT (tsC (tsC T1 j_289 1) s 0) s j_289) p ap hP hp) dJ1_fixAfterDeletion_139 (lw_S q2530 q2531 q81 q2532) (by decide +kernel) ⟨(Nat.le_of_ble_eq_true rfl), (Nat.le_of_ble_eq_true rfl)⟩ rfl rfl (Nat.le_of_ble_eq_true rfl) (by first | exact Nat.le_of_ble_eq_true rfl | omega) (by first | exact Nat.le_of_ble_eq_true rfl | omega) rfl (fun v_384 M_385 h_387 hE_386 => ?_)
        obtain ⟨rfl, hMs⟩ := h_387
        have hMs := hMs.symm
        subst hMs
        clear hE_386
        refine x_topr (lk_s hz_378 hj_293) ?_
        refine x_astore_n (n' := 143) dJ1_fixAfterDeletion_142 rfl (Nat.le_of_ble_eq_true rfl) rfl (by dsimp only [List.set] <;> rfl) rfl ?_
        exact x_drop (cut143 fuel ih x ax p ap j_289 b_290 (rotRT (tsC (tsC T1 j_289 1) s 0) s j_289) lo1 hi1 _ (by omega) hx hp hj_293 hxp hxs hz_378 hP hW hN hF hlf) ⟨rfl, ⟨rfl, ⟨rfl, trivial⟩⟩⟩
      · obtain ⟨j_352, hl_355, hj_356⟩ := bind_s e_354
        refine x_callS (n' := 113) (n := 1) (c_J1_colorOf__s l G _ o t asd T1 j_352 b_353 hP hj_356) dJ1_fixAfterDeletion_110 (lw_S q2533 q2534 q81 q2535) (by decide +kernel) ⟨(Nat.le_of_ble_eq_true rfl), (Nat.le_of_ble_eq_true rfl)⟩ rfl rfl (Nat.le_of_ble_eq_true rfl) (by first | exact Nat.le_of_ble_eq_true rfl | omega) (by first | exact Nat.le_of_ble_eq_true rfl | omega) rfl (fun v_388 M_389 h_391 hE_390 => ?_)
        obtain ⟨rfl, hMs⟩ := h_391
        have hMs := hMs.symm
        subst hMs
        clear hE_390
        refine x_iconst (n' := 114) (v := 1) dJ1_fixAfterDeletion_113 (by decide) rfl ?_
        refine x_icmp_ne (n' := 117) (tgt := 143) dJ1_fixAfterDeletion_114 (by decide) rfl (fun c114_392 => ?_) (fun c114_392 => ?_)
        · exact x_drop (cut143 fuel ih x ax p ap s as9 T1 lo1 hi1 _ (by omega) hx hp hs hxp hxs hps hP hW hN hF hlf) ⟨rfl, ⟨rfl, ⟨rfl, trivial⟩⟩⟩
        · refine x_aload_n (n' := 118) dJ1_fixAfterDeletion_117 rfl rfl rfl ?_
          refine x_callS (n' := 121) (n := 1) (c_J1_leftOf__s l G _ o t asd T1 s as9 hP hs) dJ1_fixAfterDeletion_118 (lw_S q2527 q2528 q81 q2529) (by decide +kernel) ⟨(Nat.le_of_ble_eq_true rfl), (Nat.le_of_ble_eq_true rfl)⟩ rfl rfl (Nat.le_of_ble_eq_true rfl) (by first | exact Nat.le_of_ble_eq_true rfl | omega) (by first | exact Nat.le_of_ble_eq_true rfl | omega) rfl (fun v_393 M_394 h_396 hE_395 => ?_)
          obtain ⟨rfl, hMs⟩ := h_396
          have hMs := hMs.symm
          subst hMs
          clear hE_395
          refine x_topr (lk_s hl_292 hj_293) ?_
          refine x_iconst (n' := 122) (v := 1) dJ1_fixAfterDeletion_121 (by decide) rfl ?_
          refine x_callS (n' := 125) (n := 2) (c_J1_setColor__s l G _ o t asd T1 j_289 b_290 1 hP hj_293 (Or.inr rfl)) dJ1_fixAfterDeletion_122 (lw_S q2536 q2537 q81 q2538) (by decide +kernel) ⟨(Nat.le_of_ble_eq_true rfl), (Nat.le_of_ble_eq_true rfl)⟩ rfl rfl (Nat.le_of_ble_eq_true rfl) (by first | exact Nat.le_of_ble_eq_true rfl | omega) (by first | exact Nat.le_of_ble_eq_true rfl | omega) rfl (fun v_397 M_398 h_400 hE_399 => ?_)
          obtain ⟨rfl, hP9, hF9⟩ := h_400
          replace hP := hP9
          replace hF := hF.tr hF9
          clear hF9
          clear hE_399
          refine x_aload_n (n' := 126) dJ1_fixAfterDeletion_125 rfl rfl rfl ?_
          refine x_iconst (n' := 127) (v := 0) dJ1_fixAfterDeletion_126 (by decide) rfl ?_
          refine x_callS (n' := 130) (n := 2) (c_J1_setColor__s l G _ o t asd (tsC T1 j_289 1) s as9 0 hP hs (Or.inl rfl)) dJ1_fixAfterDeletion_127 (lw_S q2536 q2537 q81 q2538) (by decide +kernel) ⟨(Nat.le_of_ble_eq_true rfl), (Nat.le_of_ble_eq_true rfl)⟩ rfl rfl (Nat.le_of_ble_eq_true rfl) (by first | exact Nat.le_of_ble_eq_true rfl | omega) (by first | exact Nat.le_of_ble_eq_true rfl | omega) rfl (fun v_401 M_402 h_404 hE_403 => ?_)
          obtain ⟨rfl, hP9, hF9⟩ := h_404
          replace hP := hP9
          replace hF := hF.tr hF9
          clear hF9
          clear hE_403
          refine x_aload_n (n' := 131) dJ1_fixAfterDeletion_130 rfl rfl rfl ?_
          refine x_aload_n (n' := 132) dJ1_fixAfterDeletion_131 rfl rfl rfl ?_
          refine x_callV (n' := 135) (n := 1) (K := 41) (c_J1_rotateRight__s l G _ o t asd (tsC (tsC T1 j_289 1) s 0) s as9 j_289 _ _ hP hW hs hl_292) dJ1_fixAfterDeletion_132 (hP.k) rfl (lw_V q2543 q2545 qs31 q81 q2546) (by decide +kernel) ⟨(Nat.le_of_ble_eq_true rfl), (Nat.le_of_ble_eq_true rfl)⟩ rfl rfl (Nat.le_of_ble_eq_true rfl) (by first | exact Nat.le_of_ble_eq_true rfl | omega) (by first | exact Nat.le_of_ble_eq_true rfl | omega) rfl (fun v_405 M_406 h_408 hE_407 => ?_)
          obtain ⟨rfl, hP9, hF9⟩ := h_408
          replace hP := hP9
          replace hF := hF.tr hF9
          clear hF9
          clear hE_407
          have hr9 := hW.2.2.1 s j_289 (nns hs) hl_292
          have ivr9 := hW.1 j_289 (nns hj_293)
          have ivk9 := hW.1 s (nns hs)
          have ivx9 := hW.1 x (nns hx)
          have hs9 := hW.2.2.2.2.1 p s (nns hp) hps
          have hW0 := hW
          obtain ⟨lo1, hi1, hW, hlx, hhx⟩ : ∃ lo9 hi9, WTT (rotRT (tsC (tsC T1 j_289 1) s 0) s j_289) lo9 hi9 ∧ lo9 x = lo1 x ∧ hi9 x = hi1 x := ⟨_, _, rotRT_W (T := (tsC (tsC T1 j_289 1) s 0)) hW0 hs hl_292, (va_up_ne _ _ (by omega)), (va_up_ne _ _ (by omega))⟩
          have hlf := fun h => (have z := hlf h; (⟨rotRT_leaf (T := (tsC (tsC T1 j_289 1) s 0)) hW0 hs hl_292 (by omega) z.1.1 z.1.2, by omega, by omega, z.2.2.2⟩ : (tL (rotRT (tsC (tsC T1 j_289 1) s 0) s j_289) q = none ∧ tR (rotRT (tsC (tsC T1 j_289 1) s 0) s j_289) q = none) ∧ lo1 x ≤ q ∧ q < hi1 x ∧ tN T1 q ≠ none))
          have hxp0 := hxp
          have hxs0 := hxs
          have hxp : tP (rotRT (tsC (tsC T1 j_289 1) s 0) s j_289) x = some p := (rotRT_Po (T := (tsC (tsC T1 j_289 1) s 0)) (by omega) (by omega) (fun e => by have e2 : tP (tsC (tsC T1 j_289 1) s 0) x = some j_289 := (hW0.upR (nns hj_293) e).2; have e3 := Option.some.inj (hxp0.symm.trans e2); omega)).trans hxp0
          have hps9 := (hW0.upR (nns hp) hps).2
          have hxs : tL (rotRT (tsC (tsC T1 j_289 1) s 0) s j_289) p = some x := (rotRT_Lo (T := (tsC (tsC T1 j_289 1) s 0)) (by omega) hps9 hps).trans hxs0
          have hz_409 : tR (rotRT (tsC (tsC T1 j_289 1) s 0) s j_289) p = some j_289 := rotRT_Rg (T := (tsC (tsC T1 j_289 1) s 0)) (by omega) hps9 hps
          have hz_410 : tR (rotRT (tsC (tsC T1 j_289 1) s 0) s j_289) j_289 = some s := rotRT_Rl
          have hsx := hW.2.2.1 p x (nns hp) hxs
          have hu0 := hW.up (nns hx) hxp
          have ivp0 := hW.1 p (nns hp)
          refine x_aload_n (n' := 136) dJ1_fixAfterDeletion_135 rfl rfl rfl ?_
          refine x_callS (n' := 139) (n := 1) (c_J1_parentOf__s l G _ o t asd (rotRT (tsC (tsC T1 j_289 1) s 0) s j_289) x ax hP hx) dJ1_fixAfterDeletion_136 (lw_S q2524 q2525 q81 q2526) (by decide +kernel) ⟨(Nat.le_of_ble_eq_true rfl), (Nat.le_of_ble_eq_true rfl)⟩ rfl rfl (Nat.le_of_ble_eq_true rfl) (by first | exact Nat.le_of_ble_eq_true rfl | omega) (by first | exact Nat.le_of_ble_eq_true rfl | omega) rfl (fun v_411 M_412 h_414 hE_413 => ?_)
          obtain ⟨rfl, hMs⟩ := h_414
          have hMs := hMs.symm
          subst hMs
          clear hE_413
          refine x_topr (lk_s hxp hp) ?_
          refine x_callS (n' := 142) (n := 1) (c_J1_rightOf__s l G _ o t asd (rotRT (tsC (tsC T1 j_289 1) s 0) s j_289) p ap hP hp) dJ1_fixAfterDeletion_139 (lw_S q2530 q2531 q81 q2532) (by decide +kernel) ⟨(Nat.le_of_ble_eq_true rfl), (Nat.le_of_ble_eq_true rfl)⟩ rfl rfl (Nat.le_of_ble_eq_true rfl) (by first | exact Nat.le_of_ble_eq_true rfl | omega) (by first | exact Nat.le_of_ble_eq_true rfl | omega) rfl (fun v_415 M_416 h_418 hE_417 => ?_)
          obtain ⟨rfl, hMs⟩ := h_418
          have hMs := hMs.symm
          subst hMs
          clear hE_417
          refine x_topr (lk_s hz_409 hj_293) ?_
          refine x_astore_n (n' := 143) dJ1_fixAfterDeletion_142 rfl (Nat.le_of_ble_eq_true rfl) rfl (by dsimp only [List.set] <;> rfl) rfl ?_
          exact x_drop (cut143 fuel ih x ax p ap j_289 b_290 (rotRT (tsC (tsC T1 j_289 1) s 0) s j_289) lo1 hi1 _ (by omega) hx hp hj_293 hxp hxs hz_409 hP hW hN hF hlf) ⟨rfl, ⟨rfl, ⟨rfl, trivial⟩⟩⟩
    · refine x_aload_n (n' := 83) dJ1_fixAfterDeletion_82 rfl rfl rfl ?_
      refine x_callS (n' := 86) (n := 1) (c_J1_rightOf__s l G _ o t asd T1 s as9 hP hs) dJ1_fixAfterDeletion_83 (lw_S q2530 q2531 q81 q2532) (by decide +kernel) ⟨(Nat.le_of_ble_eq_true rfl), (Nat.le_of_ble_eq_true rfl)⟩ rfl rfl (Nat.le_of_ble_eq_true rfl) (by first | exact Nat.le_of_ble_eq_true rfl | omega) (by first | exact Nat.le_of_ble_eq_true rfl | omega) rfl (fun v_419 M_420 h_422 hE_421 => ?_)
      obtain ⟨rfl, hMs⟩ := h_422
      have hMs := hMs.symm
      subst hMs
      clear hE_421
      refine x_topq (fun e_425 => ?_) (fun b_424 e_425 => ?_)
      · have hl_426 : tR T1 s = none := bind_n e_425 (fun _ q => hW.dr (nns hs) q)
        refine x_callS (n' := 89) (n := 1) (c_J1_colorOf__n l G _) dJ1_fixAfterDeletion_86 (lw_S q2533 q2534 q81 q2535) (by decide +kernel) ⟨(Nat.le_of_ble_eq_true rfl), (Nat.le_of_ble_eq_true rfl)⟩ rfl rfl (Nat.le_of_ble_eq_true rfl) (by first | exact Nat.le_of_ble_eq_true rfl | omega) (by first | exact Nat.le_of_ble_eq_true rfl | omega) rfl (fun v_428 M_429 h_431 hE_430 => ?_)
        obtain ⟨rfl, hMs⟩ := h_431
        have hMs := hMs.symm
        subst hMs
        clear hE_430
        refine x_iconst (n' := 90) (v := 1) dJ1_fixAfterDeletion_89 (by decide) rfl ?_
        refine x_icmp_ne (n' := 93) (tgt := 106) dJ1_fixAfterDeletion_90 (by decide) rfl (fun c90_432 => by first | exact absurd c90_432 (by decide) | exact absurd (by decide) c90_432) (fun c90_432 => ?_)
        refine x_aload_n (n' := 94) dJ1_fixAfterDeletion_93 rfl rfl rfl ?_
        refine x_iconst (n' := 95) (v := 0) dJ1_fixAfterDeletion_94 (by decide) rfl ?_
        refine x_callS (n' := 98) (n := 2) (c_J1_setColor__s l G _ o t asd T1 s as9 0 hP hs (Or.inl rfl)) dJ1_fixAfterDeletion_95 (lw_S q2536 q2537 q81 q2538) (by decide +kernel) ⟨(Nat.le_of_ble_eq_true rfl), (Nat.le_of_ble_eq_true rfl)⟩ rfl rfl (Nat.le_of_ble_eq_true rfl) (by first | exact Nat.le_of_ble_eq_true rfl | omega) (by first | exact Nat.le_of_ble_eq_true rfl | omega) rfl (fun v_433 M_434 h_436 hE_435 => ?_)
        obtain ⟨rfl, hP9, hF9⟩ := h_436
        replace hP := hP9
        replace hF := hF.tr hF9
        clear hF9
        clear hE_435
        refine x_aload_n (n' := 99) dJ1_fixAfterDeletion_98 rfl rfl rfl ?_
        refine x_callS (n' := 102) (n := 1) (c_J1_parentOf__s l G _ o t asd (tsC T1 s 0) x ax hP hx) dJ1_fixAfterDeletion_99 (lw_S q2524 q2525 q81 q2526) (by decide +kernel) ⟨(Nat.le_of_ble_eq_true rfl), (Nat.le_of_ble_eq_true rfl)⟩ rfl rfl (Nat.le_of_ble_eq_true rfl) (by first | exact Nat.le_of_ble_eq_true rfl | omega) (by first | exact Nat.le_of_ble_eq_true rfl | omega) rfl (fun v_437 M_438 h_440 hE_439 => ?_)
        obtain ⟨rfl, hMs⟩ := h_440
        have hMs := hMs.symm
        subst hMs
        clear hE_439
        refine x_topr (lk_s hxp hp) ?_
        refine x_astore_n (n' := 103) dJ1_fixAfterDeletion_102 rfl (Nat.le_of_ble_eq_true rfl) rfl (by dsimp only [List.set] <;> rfl) rfl ?_
        refine x_goto (tgt := 183) dJ1_fixAfterDeletion_103 (by decide) ?_
        refine x_goto (tgt := 0) dJ1_fixAfterDeletion_183 (by decide) ?_
        exact x_drop (ih p ap (tsC T1 s 0) _ _ _ (by omega) hp hP hW hN hF (fun h => by have z := hlf h; exact ⟨z.1, by omega, by omega, z.2.2.2⟩)) ⟨rfl, ⟨rfl, trivial⟩⟩
      · obtain ⟨j_423, hl_426, hj_427⟩ := bind_s e_425
        refine x_callS (n' := 89) (n := 1) (c_J1_colorOf__s l G _ o t asd T1 j_423 b_424 hP hj_427) dJ1_fixAfterDeletion_86 (lw_S q2533 q2534 q81 q2535) (by decide +kernel) ⟨(Nat.le_of_ble_eq_true rfl), (Nat.le_of_ble_eq_true rfl)⟩ rfl rfl (Nat.le_of_ble_eq_true rfl) (by first | exact Nat.le_of_ble_eq_true rfl | omega) (by first | exact Nat.le_of_ble_eq_true rfl | omega) rfl (fun v_441 M_442 h_444 hE_443 => ?_)
        obtain ⟨rfl, hMs⟩ := h_444
        have hMs := hMs.symm
        subst hMs
        clear hE_443
        refine x_iconst (n' := 90) (v := 1) dJ1_fixAfterDeletion_89 (by decide) rfl ?_
        refine x_icmp_ne (n' := 93) (tgt := 106) dJ1_fixAfterDeletion_90 (by decide) rfl (fun c90_445 => ?_) (fun c90_445 => ?_)
        · refine x_aload_n (n' := 107) dJ1_fixAfterDeletion_106 rfl rfl rfl ?_
          refine x_callS (n' := 110) (n := 1) (c_J1_rightOf__s l G _ o t asd T1 s as9 hP hs) dJ1_fixAfterDeletion_107 (lw_S q2530 q2531 q81 q2532) (by decide +kernel) ⟨(Nat.le_of_ble_eq_true rfl), (Nat.le_of_ble_eq_true rfl)⟩ rfl rfl (Nat.le_of_ble_eq_true rfl) (by first | exact Nat.le_of_ble_eq_true rfl | omega) (by first | exact Nat.le_of_ble_eq_true rfl | omega) rfl (fun v_446 M_447 h_449 hE_448 => ?_)
          obtain ⟨rfl, hMs⟩ := h_449
          have hMs := hMs.symm
          subst hMs
          clear hE_448
          refine x_topr (lk_s hl_426 hj_427) ?_
          refine x_callS (n' := 113) (n := 1) (c_J1_colorOf__s l G _ o t asd T1 j_423 b_424 hP hj_427) dJ1_fixAfterDeletion_110 (lw_S q2533 q2534 q81 q2535) (by decide +kernel) ⟨(Nat.le_of_ble_eq_true rfl), (Nat.le_of_ble_eq_true rfl)⟩ rfl rfl (Nat.le_of_ble_eq_true rfl) (by first | exact Nat.le_of_ble_eq_true rfl | omega) (by first | exact Nat.le_of_ble_eq_true rfl | omega) rfl (fun v_450 M_451 h_453 hE_452 => ?_)
          obtain ⟨rfl, hMs⟩ := h_453
          have hMs := hMs.symm
          subst hMs
          clear hE_452
          refine x_iconst (n' := 114) (v := 1) dJ1_fixAfterDeletion_113 (by decide) rfl ?_
          refine x_icmp_ne (n' := 117) (tgt := 143) dJ1_fixAfterDeletion_114 (by decide) rfl (fun c114_454 => ?_) (fun c114_454 => by first | exact absurd c114_454 (by assumption) | exact absurd (by assumption) c114_454)
          exact x_drop (cut143 fuel ih x ax p ap s as9 T1 lo1 hi1 _ (by omega) hx hp hs hxp hxs hps hP hW hN hF hlf) ⟨rfl, ⟨rfl, ⟨rfl, trivial⟩⟩⟩
        · refine x_aload_n (n' := 94) dJ1_fixAfterDeletion_93 rfl rfl rfl ?_
          refine x_iconst (n' := 95) (v := 0) dJ1_fixAfterDeletion_94 (by decide) rfl ?_
          refine x_callS (n' := 98) (n := 2) (c_J1_setColor__s l G _ o t asd T1 s as9 0 hP hs (Or.inl rfl)) dJ1_fixAfterDeletion_95 (lw_S q2536 q2537 q81 q2538) (by decide +kernel) ⟨(Nat.le_of_ble_eq_true rfl), (Nat.le_of_ble_eq_true rfl)⟩ rfl rfl (Nat.le_of_ble_eq_true rfl) (by first | exact Nat.le_of_ble_eq_true rfl | omega) (by first | exact Nat.le_of_ble_eq_true rfl | omega) rfl (fun v_455 M_456 h_458 hE_457 => ?_)
          obtain ⟨rfl, hP9, hF9⟩ := h_458
          replace hP := hP9
          replace hF := hF.tr hF9
          clear hF9
          clear hE_457
          refine x_aload_n (n' := 99) dJ1_fixAfterDeletion_98 rfl rfl rfl ?_
          refine x_callS (n' := 102) (n := 1) (c_J1_parentOf__s l G _ o t asd (tsC T1 s 0) x ax hP hx) dJ1_fixAfterDeletion_99 (lw_S q2524 q2525 q81 q2526) (by decide +kernel) ⟨(Nat.le_of_ble_eq_true rfl), (Nat.le_of_ble_eq_true rfl)⟩ rfl rfl (Nat.le_of_ble_eq_true rfl) (by first | exact Nat.le_of_ble_eq_true rfl | omega) (by first | exact Nat.le_of_ble_eq_true rfl | omega) rfl (fun v_459 M_460 h_462 hE_461 => ?_)
          obtain ⟨rfl, hMs⟩ := h_462
          have hMs := hMs.symm
          subst hMs
          clear hE_461
          refine x_topr (lk_s hxp hp) ?_
          refine x_astore_n (n' := 103) dJ1_fixAfterDeletion_102 rfl (Nat.le_of_ble_eq_true rfl) rfl (by dsimp only [List.set] <;> rfl) rfl ?_
          refine x_goto (tgt := 183) dJ1_fixAfterDeletion_103 (by decide) ?_
          refine x_goto (tgt := 0) dJ1_fixAfterDeletion_183 (by decide) ?_
          exact x_drop (ih p ap (tsC T1 s 0) _ _ _ (by omega) hp hP hW hN hF (fun h => by have z := hlf h; exact ⟨z.1, by omega, by omega, z.2.2.2⟩)) ⟨rfl, ⟨rfl, trivial⟩⟩
set_option maxHeartbeats 20000000 in
set_option maxRecDepth 100000 in
theorem k0_c_J1_fixAfterDeletion (l : Launch) (G : kG) (M : kM) (o t asd : Nat) (T : kT) (x0 ax0 q : Nat) (lf : Prop) (lo hi : Nat → Nat) (hP : PT M o t asd T) (hW : WTT T lo hi) (hx0 : tN T x0 = some ax0) (hlf : lf → (tL T q = none ∧ tR T q = none) ∧ lo x0 ≤ q ∧ q < hi x0 ∧ tN T q ≠ none) (pp : Program) (ee : Env) (ss : State) (mm : MethodId) (args : Array Value) (below : List Frame) (meth : Method) (cd : Code) (hmn : meth.name = yJ1_fixAfterDeletion.name) (hret : meth.sig.returnType = none) : ∀ (fuel : Nat) (x ax : Nat) (T1 : kT) (lo1 hi1 : Nat → Nat) (M1 : kM) (h9 : BB - (hi1 x - lo1 x) < fuel) (hx : tN T1 x = some ax) (hP : PT M1 o t asd T1) (hW : WTT T1 lo1 hi1) (hN : tN T1 = tN T ∧ tK T1 = tK T ∧ tV T1 = tV T) (hF : FK o M M1) (hlf : (lf → (tL T1 q = none ∧ tR T1 q = none) ∧ lo1 x ≤ q ∧ q < hi1 x ∧ tN T1 q ≠ none)), Wx pp l ee { frames := 1, cells := 0, slots := 0, locals := 22 } ss mm args below meth cd "java/util/TreeMap" cJ1_fixAfterDeletion 3 G (MQ below (KQ G M (fun v M2 => v = none ∧ ∃ T2 lo2 hi2, PT M2 o t asd T2 ∧ WTT T2 lo2 hi2 ∧ (tN T2 = tN T ∧ tK T2 = tK T ∧ tV T2 = tV T) ∧ FK o M M2 ∧ (lf → tL T2 q = none ∧ tR T2 q = none))) args ss (0) (0) (kA G)) 0 [some (.ref t), some (.ref ax), none] [] (M1) (0) (0) := by
  have hP0 := hP
  have hF : FK o M M := FK.rf
  have cut302 := k302_c_J1_fixAfterDeletion l G M o t asd T x0 ax0 q lf lo hi hP hW hx0 hlf pp ee ss mm args below meth cd hmn hret
  have cut143 := k143_c_J1_fixAfterDeletion l G M o t asd T x0 ax0 q lf lo hi hP hW hx0 hlf pp ee ss mm args below meth cd hmn hret
  have cut230 := k230_c_J1_fixAfterDeletion l G M o t asd T x0 ax0 q lf lo hi hP hW hx0 hlf pp ee ss mm args below meth cd hmn hret
  have cut71 := k71_c_J1_fixAfterDeletion l G M o t asd T x0 ax0 q lf lo hi hP hW hx0 hlf pp ee ss mm args below meth cd hmn hret
  intro fuel
  induction fuel with
  | zero => intro x ax T1 lo1 hi1 M1 h9 hx hP hW hN hF hlf; omega
  | succ fuel ih =>
    intro x ax T1 lo1 hi1 M1 h9 hx hP hW hN hF hlf
    refine x_aload_n (n' := 1) dJ1_fixAfterDeletion_0 rfl rfl rfl ?_
    refine x_aload_n (n' := 2) dJ1_fixAfterDeletion_1 rfl rfl rfl ?_
    refine x_getR (n' := 5) dJ1_fixAfterDeletion_2 (hP.k) ffJ1_101_41 rfl rfl ?_
    refine x_acmp_eq (n' := 8) (rx := some (ax)) (ry := (mR _ (fc 41 3) t)) (tgt := 345) dJ1_fixAfterDeletion_5 (by decide) rfl (fun c5_463 => ?_) (fun c5_463 => ?_)
    · refine x_aload_n (n' := 346) dJ1_fixAfterDeletion_345 rfl rfl rfl ?_
      refine x_iconst (n' := 347) (v := 1) dJ1_fixAfterDeletion_346 (by decide) rfl ?_
      refine x_callS (n' := 350) (n := 2) (c_J1_setColor__s l G _ o t asd T1 x ax 1 hP hx (Or.inr rfl)) dJ1_fixAfterDeletion_347 (lw_S q2536 q2537 q81 q2538) (by decide +kernel) ⟨(Nat.le_of_ble_eq_true rfl), (Nat.le_of_ble_eq_true rfl)⟩ rfl rfl (Nat.le_of_ble_eq_true rfl) (by first | exact Nat.le_of_ble_eq_true rfl | omega) (by first | exact Nat.le_of_ble_eq_true rfl | omega) rfl (fun v_464 M_465 h_467 hE_466 => ?_)
      obtain ⟨rfl, hP9, hF9⟩ := h_467
      replace hP := hP9
      replace hF := hF.tr hF9
      clear hF9
      clear hE_466
      exact x_vret dJ1_fixAfterDeletion_350 hret hF.kE (⟨rfl, _, lo1, hi1, hP, hW, hN, hF, fun h => (hlf h).1⟩)
    · obtain ⟨p, hxp⟩ : ∃ p, tP T1 x = some p := rot_r (fun e9 => absurd (show some ax = mR _ (fc 41 3) t from (by rw [hP.r, hW.2.2.2.2.2.1 x (nns hx) e9]; exact hx.symm)) (by assumption))
      obtain ⟨ap, hp⟩ : ∃ ap, tN T1 p = some ap := rot_r (hW.dp (nns hx) hxp)
      have hu0 := hW.up (nns hx) hxp
      have ivp0 := hW.1 p (nns hp)
      refine x_aload_n (n' := 9) dJ1_fixAfterDeletion_8 rfl rfl rfl ?_
      refine x_callS (n' := 12) (n := 1) (c_J1_colorOf__s l G _ o t asd T1 x ax hP hx) dJ1_fixAfterDeletion_9 (lw_S q2533 q2534 q81 q2535) (by decide +kernel) ⟨(Nat.le_of_ble_eq_true rfl), (Nat.le_of_ble_eq_true rfl)⟩ rfl rfl (Nat.le_of_ble_eq_true rfl) (by first | exact Nat.le_of_ble_eq_true rfl | omega) (by first | exact Nat.le_of_ble_eq_true rfl | omega) rfl (fun v_468 M_469 h_471 hE_470 => ?_)
      obtain ⟨rfl, hMs⟩ := h_471
      have hMs := hMs.symm
      subst hMs
      clear hE_470
      refine x_iconst (n' := 13) (v := 1) dJ1_fixAfterDeletion_12 (by decide) rfl ?_
      refine x_icmp_ne (n' := 16) (tgt := 345) dJ1_fixAfterDeletion_13 (by decide) rfl (fun c13_472 => ?_) (fun c13_472 => ?_)
      · refine x_aload_n (n' := 346) dJ1_fixAfterDeletion_345 rfl rfl rfl ?_
        refine x_iconst (n' := 347) (v := 1) dJ1_fixAfterDeletion_346 (by decide) rfl ?_
        refine x_callS (n' := 350) (n := 2) (c_J1_setColor__s l G _ o t asd T1 x ax 1 hP hx (Or.inr rfl)) dJ1_fixAfterDeletion_347 (lw_S q2536 q2537 q81 q2538) (by decide +kernel) ⟨(Nat.le_of_ble_eq_true rfl), (Nat.le_of_ble_eq_true rfl)⟩ rfl rfl (Nat.le_of_ble_eq_true rfl) (by first | exact Nat.le_of_ble_eq_true rfl | omega) (by first | exact Nat.le_of_ble_eq_true rfl | omega) rfl (fun v_473 M_474 h_476 hE_475 => ?_)
        obtain ⟨rfl, hP9, hF9⟩ := h_476
        replace hP := hP9
        replace hF := hF.tr hF9
        clear hF9
        clear hE_475
        exact x_vret dJ1_fixAfterDeletion_350 hret hF.kE (⟨rfl, _, lo1, hi1, hP, hW, hN, hF, fun h => (hlf h).1⟩)
      · refine x_aload_n (n' := 17) dJ1_fixAfterDeletion_16 rfl rfl rfl ?_
        refine x_aload_n (n' := 18) dJ1_fixAfterDeletion_17 rfl rfl rfl ?_
        refine x_callS (n' := 21) (n := 1) (c_J1_parentOf__s l G _ o t asd T1 x ax hP hx) dJ1_fixAfterDeletion_18 (lw_S q2524 q2525 q81 q2526) (by decide +kernel) ⟨(Nat.le_of_ble_eq_true rfl), (Nat.le_of_ble_eq_true rfl)⟩ rfl rfl (Nat.le_of_ble_eq_true rfl) (by first | exact Nat.le_of_ble_eq_true rfl | omega) (by first | exact Nat.le_of_ble_eq_true rfl | omega) rfl (fun v_477 M_478 h_480 hE_479 => ?_)
        obtain ⟨rfl, hMs⟩ := h_480
        have hMs := hMs.symm
        subst hMs
        clear hE_479
        refine x_topr (lk_s hxp hp) ?_
        refine x_callS (n' := 24) (n := 1) (c_J1_leftOf__s l G _ o t asd T1 p ap hP hp) dJ1_fixAfterDeletion_21 (lw_S q2527 q2528 q81 q2529) (by decide +kernel) ⟨(Nat.le_of_ble_eq_true rfl), (Nat.le_of_ble_eq_true rfl)⟩ rfl rfl (Nat.le_of_ble_eq_true rfl) (by first | exact Nat.le_of_ble_eq_true rfl | omega) (by first | exact Nat.le_of_ble_eq_true rfl | omega) rfl (fun v_481 M_482 h_484 hE_483 => ?_)
        obtain ⟨rfl, hMs⟩ := h_484
        have hMs := hMs.symm
        subst hMs
        clear hE_483
        refine x_topq (fun e_487 => ?_) (fun b_486 e_487 => ?_)
        · have hl_488 : tL T1 p = none := bind_n e_487 (fun _ q => hW.dl (nns hp) q)
          refine x_acmp_ne (n' := 27) (rx := some (ax)) (ry := none) (tgt := 186) dJ1_fixAfterDeletion_24 (by decide) rfl (fun c24_490 => ?_) (fun c24_490 => by cases c24_490)
          have hxs : tR T1 p = some x := hW.sideL (nns hx) hxp (fun e9 => by have := hl_488; rw [show tL T1 p = some x from e9] at this; cases this)
          have hsx := hW.2.2.2.2.1 p x (nns hp) hxs
          refine x_aload_n (n' := 187) dJ1_fixAfterDeletion_186 rfl rfl rfl ?_
          refine x_callS (n' := 190) (n := 1) (c_J1_parentOf__s l G _ o t asd T1 x ax hP hx) dJ1_fixAfterDeletion_187 (lw_S q2524 q2525 q81 q2526) (by decide +kernel) ⟨(Nat.le_of_ble_eq_true rfl), (Nat.le_of_ble_eq_true rfl)⟩ rfl rfl (Nat.le_of_ble_eq_true rfl) (by first | exact Nat.le_of_ble_eq_true rfl | omega) (by first | exact Nat.le_of_ble_eq_true rfl | omega) rfl (fun v_491 M_492 h_494 hE_493 => ?_)
          obtain ⟨rfl, hMs⟩ := h_494
          have hMs := hMs.symm
          subst hMs
          clear hE_493
          refine x_topr (lk_s hxp hp) ?_
          refine x_callS (n' := 193) (n := 1) (c_J1_leftOf__s l G _ o t asd T1 p ap hP hp) dJ1_fixAfterDeletion_190 (lw_S q2527 q2528 q81 q2529) (by decide +kernel) ⟨(Nat.le_of_ble_eq_true rfl), (Nat.le_of_ble_eq_true rfl)⟩ rfl rfl (Nat.le_of_ble_eq_true rfl) (by first | exact Nat.le_of_ble_eq_true rfl | omega) (by first | exact Nat.le_of_ble_eq_true rfl | omega) rfl (fun v_495 M_496 h_498 hE_497 => ?_)
          obtain ⟨rfl, hMs⟩ := h_498
          have hMs := hMs.symm
          subst hMs
          clear hE_497
          refine x_topn (lk_n hl_488) ?_
          refine x_astore_nN (n' := 194) dJ1_fixAfterDeletion_193 rfl (Nat.le_of_ble_eq_true rfl) rfl (by dsimp only [List.set] <;> rfl) rfl ?_
          refine x_aload_nN (n' := 195) dJ1_fixAfterDeletion_194 rfl rfl rfl ?_
          refine x_callS (n' := 198) (n := 1) (c_J1_colorOf__n l G _) dJ1_fixAfterDeletion_195 (lw_S q2533 q2534 q81 q2535) (by decide +kernel) ⟨(Nat.le_of_ble_eq_true rfl), (Nat.le_of_ble_eq_true rfl)⟩ rfl rfl (Nat.le_of_ble_eq_true rfl) (by first | exact Nat.le_of_ble_eq_true rfl | omega) (by first | exact Nat.le_of_ble_eq_true rfl | omega) rfl (fun v_499 M_500 h_502 hE_501 => ?_)
          obtain ⟨rfl, hMs⟩ := h_502
          have hMs := hMs.symm
          subst hMs
          clear hE_501
          refine x_if_ne (n' := 201) (tgt := 230) dJ1_fixAfterDeletion_198 (by decide) rfl (fun c198_503 => ?_) (fun c198_503 => by first | exact absurd c198_503 (by decide) | exact absurd (by decide) c198_503)
          refine x_aload_nN (n' := 231) dJ1_fixAfterDeletion_230 rfl rfl rfl ?_
          refine x_callS (n' := 234) (n := 1) (c_J1_rightOf__n l G _) dJ1_fixAfterDeletion_231 (lw_S q2530 q2531 q81 q2532) (by decide +kernel) ⟨(Nat.le_of_ble_eq_true rfl), (Nat.le_of_ble_eq_true rfl)⟩ rfl rfl (Nat.le_of_ble_eq_true rfl) (by first | exact Nat.le_of_ble_eq_true rfl | omega) (by first | exact Nat.le_of_ble_eq_true rfl | omega) rfl (fun v_504 M_505 h_507 hE_506 => ?_)
          obtain ⟨rfl, hMs⟩ := h_507
          have hMs := hMs.symm
          subst hMs
          clear hE_506
          refine x_callS (n' := 237) (n := 1) (c_J1_colorOf__n l G _) dJ1_fixAfterDeletion_234 (lw_S q2533 q2534 q81 q2535) (by decide +kernel) ⟨(Nat.le_of_ble_eq_true rfl), (Nat.le_of_ble_eq_true rfl)⟩ rfl rfl (Nat.le_of_ble_eq_true rfl) (by first | exact Nat.le_of_ble_eq_true rfl | omega) (by first | exact Nat.le_of_ble_eq_true rfl | omega) rfl (fun v_508 M_509 h_511 hE_510 => ?_)
          obtain ⟨rfl, hMs⟩ := h_511
          have hMs := hMs.symm
          subst hMs
          clear hE_510
          refine x_iconst (n' := 238) (v := 1) dJ1_fixAfterDeletion_237 (by decide) rfl ?_
          refine x_icmp_ne (n' := 241) (tgt := 265) dJ1_fixAfterDeletion_238 (by decide) rfl (fun c238_512 => by first | exact absurd c238_512 (by decide) | exact absurd (by decide) c238_512) (fun c238_512 => ?_)
          refine x_aload_nN (n' := 242) dJ1_fixAfterDeletion_241 rfl rfl rfl ?_
          refine x_callS (n' := 245) (n := 1) (c_J1_leftOf__n l G _) dJ1_fixAfterDeletion_242 (lw_S q2527 q2528 q81 q2529) (by decide +kernel) ⟨(Nat.le_of_ble_eq_true rfl), (Nat.le_of_ble_eq_true rfl)⟩ rfl rfl (Nat.le_of_ble_eq_true rfl) (by first | exact Nat.le_of_ble_eq_true rfl | omega) (by first | exact Nat.le_of_ble_eq_true rfl | omega) rfl (fun v_513 M_514 h_516 hE_515 => ?_)
          obtain ⟨rfl, hMs⟩ := h_516
          have hMs := hMs.symm
          subst hMs
          clear hE_515
          refine x_callS (n' := 248) (n := 1) (c_J1_colorOf__n l G _) dJ1_fixAfterDeletion_245 (lw_S q2533 q2534 q81 q2535) (by decide +kernel) ⟨(Nat.le_of_ble_eq_true rfl), (Nat.le_of_ble_eq_true rfl)⟩ rfl rfl (Nat.le_of_ble_eq_true rfl) (by first | exact Nat.le_of_ble_eq_true rfl | omega) (by first | exact Nat.le_of_ble_eq_true rfl | omega) rfl (fun v_517 M_518 h_520 hE_519 => ?_)
          obtain ⟨rfl, hMs⟩ := h_520
          have hMs := hMs.symm
          subst hMs
          clear hE_519
          refine x_iconst (n' := 249) (v := 1) dJ1_fixAfterDeletion_248 (by decide) rfl ?_
          refine x_icmp_ne (n' := 252) (tgt := 265) dJ1_fixAfterDeletion_249 (by decide) rfl (fun c249_521 => by first | exact absurd c249_521 (by decide) | exact absurd (by decide) c249_521) (fun c249_521 => ?_)
          refine x_aload_nN (n' := 253) dJ1_fixAfterDeletion_252 rfl rfl rfl ?_
          refine x_iconst (n' := 254) (v := 0) dJ1_fixAfterDeletion_253 (by decide) rfl ?_
          refine x_callS (n' := 257) (n := 2) (c_J1_setColor__n l G _ 0) dJ1_fixAfterDeletion_254 (lw_S q2536 q2537 q81 q2538) (by decide +kernel) ⟨(Nat.le_of_ble_eq_true rfl), (Nat.le_of_ble_eq_true rfl)⟩ rfl rfl (Nat.le_of_ble_eq_true rfl) (by first | exact Nat.le_of_ble_eq_true rfl | omega) (by first | exact Nat.le_of_ble_eq_true rfl | omega) rfl (fun v_522 M_523 h_525 hE_524 => ?_)
          obtain ⟨rfl, hMs⟩ := h_525
          have hMs := hMs.symm
          subst hMs
          clear hE_524
          refine x_aload_n (n' := 258) dJ1_fixAfterDeletion_257 rfl rfl rfl ?_
          refine x_callS (n' := 261) (n := 1) (c_J1_parentOf__s l G _ o t asd T1 x ax hP hx) dJ1_fixAfterDeletion_258 (lw_S q2524 q2525 q81 q2526) (by decide +kernel) ⟨(Nat.le_of_ble_eq_true rfl), (Nat.le_of_ble_eq_true rfl)⟩ rfl rfl (Nat.le_of_ble_eq_true rfl) (by first | exact Nat.le_of_ble_eq_true rfl | omega) (by first | exact Nat.le_of_ble_eq_true rfl | omega) rfl (fun v_526 M_527 h_529 hE_528 => ?_)
          obtain ⟨rfl, hMs⟩ := h_529
          have hMs := hMs.symm
          subst hMs
          clear hE_528
          refine x_topr (lk_s hxp hp) ?_
          refine x_astore_n (n' := 262) dJ1_fixAfterDeletion_261 rfl (Nat.le_of_ble_eq_true rfl) rfl (by dsimp only [List.set] <;> rfl) rfl ?_
          refine x_goto (tgt := 342) dJ1_fixAfterDeletion_262 (by decide) ?_
          refine x_goto (tgt := 0) dJ1_fixAfterDeletion_342 (by decide) ?_
          exact x_drop (ih p ap T1 _ _ _ (by omega) hp hP hW hN hF (fun h => by have z := hlf h; exact ⟨z.1, by omega, by omega, z.2.2.2⟩)) ⟨rfl, ⟨rfl, trivial⟩⟩
        · obtain ⟨j_485, hl_488, hj_489⟩ := bind_s e_487
          refine x_acmp_ne (n' := 27) (rx := some (ax)) (ry := some (b_486)) (tgt := 186) dJ1_fixAfterDeletion_24 (by decide) rfl (fun c24_530 => ?_) (fun c24_530 => ?_)
          · have hxs : tR T1 p = some x := hW.sideL (nns hx) hxp (fun e9 => absurd (congrArg some (Option.some.inj ((hx.symm).trans ((congrArg (tN T1) (Option.some.inj (e9.symm.trans hl_488))).trans hj_489)))) (by assumption))
            have hsx := hW.2.2.2.2.1 p x (nns hp) hxs
            refine x_aload_n (n' := 187) dJ1_fixAfterDeletion_186 rfl rfl rfl ?_
            refine x_callS (n' := 190) (n := 1) (c_J1_parentOf__s l G _ o t asd T1 x ax hP hx) dJ1_fixAfterDeletion_187 (lw_S q2524 q2525 q81 q2526) (by decide +kernel) ⟨(Nat.le_of_ble_eq_true rfl), (Nat.le_of_ble_eq_true rfl)⟩ rfl rfl (Nat.le_of_ble_eq_true rfl) (by first | exact Nat.le_of_ble_eq_true rfl | omega) (by first | exact Nat.le_of_ble_eq_true rfl | omega) rfl (fun v_531 M_532 h_534 hE_533 => ?_)
            obtain ⟨rfl, hMs⟩ := h_534
            have hMs := hMs.symm
            subst hMs
            clear hE_533
            refine x_topr (lk_s hxp hp) ?_
            refine x_callS (n' := 193) (n := 1) (c_J1_leftOf__s l G _ o t asd T1 p ap hP hp) dJ1_fixAfterDeletion_190 (lw_S q2527 q2528 q81 q2529) (by decide +kernel) ⟨(Nat.le_of_ble_eq_true rfl), (Nat.le_of_ble_eq_true rfl)⟩ rfl rfl (Nat.le_of_ble_eq_true rfl) (by first | exact Nat.le_of_ble_eq_true rfl | omega) (by first | exact Nat.le_of_ble_eq_true rfl | omega) rfl (fun v_535 M_536 h_538 hE_537 => ?_)
            obtain ⟨rfl, hMs⟩ := h_538
            have hMs := hMs.symm
            subst hMs
            clear hE_537
            refine x_topr (lk_s hl_488 hj_489) ?_
            refine x_astore_n (n' := 194) dJ1_fixAfterDeletion_193 rfl (Nat.le_of_ble_eq_true rfl) rfl (by dsimp only [List.set] <;> rfl) rfl ?_
            refine x_aload_n (n' := 195) dJ1_fixAfterDeletion_194 rfl rfl rfl ?_
            refine x_callS (n' := 198) (n := 1) (c_J1_colorOf__s l G _ o t asd T1 j_485 b_486 hP hj_489) dJ1_fixAfterDeletion_195 (lw_S q2533 q2534 q81 q2535) (by decide +kernel) ⟨(Nat.le_of_ble_eq_true rfl), (Nat.le_of_ble_eq_true rfl)⟩ rfl rfl (Nat.le_of_ble_eq_true rfl) (by first | exact Nat.le_of_ble_eq_true rfl | omega) (by first | exact Nat.le_of_ble_eq_true rfl | omega) rfl (fun v_539 M_540 h_542 hE_541 => ?_)
            obtain ⟨rfl, hMs⟩ := h_542
            have hMs := hMs.symm
            subst hMs
            clear hE_541
            refine x_if_ne (n' := 201) (tgt := 230) dJ1_fixAfterDeletion_198 (by decide) rfl (fun c198_543 => ?_) (fun c198_543 => ?_)
            · exact x_drop (cut230 fuel ih x ax p ap j_485 b_486 T1 lo1 hi1 _ (by omega) hx hp hj_489 hxp hxs hl_488 hP hW hN hF hlf) ⟨rfl, ⟨rfl, ⟨rfl, trivial⟩⟩⟩
            · refine x_aload_n (n' := 202) dJ1_fixAfterDeletion_201 rfl rfl rfl ?_
              refine x_iconst (n' := 203) (v := 1) dJ1_fixAfterDeletion_202 (by decide) rfl ?_
              refine x_callS (n' := 206) (n := 2) (c_J1_setColor__s l G _ o t asd T1 j_485 b_486 1 hP hj_489 (Or.inr rfl)) dJ1_fixAfterDeletion_203 (lw_S q2536 q2537 q81 q2538) (by decide +kernel) ⟨(Nat.le_of_ble_eq_true rfl), (Nat.le_of_ble_eq_true rfl)⟩ rfl rfl (Nat.le_of_ble_eq_true rfl) (by first | exact Nat.le_of_ble_eq_true rfl | omega) (by first | exact Nat.le_of_ble_eq_true rfl | omega) rfl (fun v_544 M_545 h_547 hE_546 => ?_)
              obtain ⟨rfl, hP9, hF9⟩ := h_547
              replace hP := hP9
              replace hF := hF.tr hF9
              clear hF9
              clear hE_546
              refine x_aload_n (n' := 207) dJ1_fixAfterDeletion_206 rfl rfl rfl ?_
              refine x_callS (n' := 210) (n := 1) (c_J1_parentOf__s l G _ o t asd (tsC T1 j_485 1) x ax hP hx) dJ1_fixAfterDeletion_207 (lw_S q2524 q2525 q81 q2526) (by decide +kernel) ⟨(Nat.le_of_ble_eq_true rfl), (Nat.le_of_ble_eq_true rfl)⟩ rfl rfl (Nat.le_of_ble_eq_true rfl) (by first | exact Nat.le_of_ble_eq_true rfl | omega) (by first | exact Nat.le_of_ble_eq_true rfl | omega) rfl (fun v_548 M_549 h_551 hE_550 => ?_)
              obtain ⟨rfl, hMs⟩ := h_551
              have hMs := hMs.symm
              subst hMs
              clear hE_550
              refine x_topr (lk_s hxp hp) ?_
              refine x_iconst (n' := 211) (v := 0) dJ1_fixAfterDeletion_210 (by decide) rfl ?_
              refine x_callS (n' := 214) (n := 2) (c_J1_setColor__s l G _ o t asd (tsC T1 j_485 1) p ap 0 hP hp (Or.inl rfl)) dJ1_fixAfterDeletion_211 (lw_S q2536 q2537 q81 q2538) (by decide +kernel) ⟨(Nat.le_of_ble_eq_true rfl), (Nat.le_of_ble_eq_true rfl)⟩ rfl rfl (Nat.le_of_ble_eq_true rfl) (by first | exact Nat.le_of_ble_eq_true rfl | omega) (by first | exact Nat.le_of_ble_eq_true rfl | omega) rfl (fun v_552 M_553 h_555 hE_554 => ?_)
              obtain ⟨rfl, hP9, hF9⟩ := h_555
              replace hP := hP9
              replace hF := hF.tr hF9
              clear hF9
              clear hE_554
              refine x_aload_n (n' := 215) dJ1_fixAfterDeletion_214 rfl rfl rfl ?_
              refine x_aload_n (n' := 216) dJ1_fixAfterDeletion_215 rfl rfl rfl ?_
              refine x_callS (n' := 219) (n := 1) (c_J1_parentOf__s l G _ o t asd (tsC (tsC T1 j_485 1) p 0) x ax hP hx) dJ1_fixAfterDeletion_216 (lw_S q2524 q2525 q81 q2526) (by decide +kernel) ⟨(Nat.le_of_ble_eq_true rfl), (Nat.le_of_ble_eq_true rfl)⟩ rfl rfl (Nat.le_of_ble_eq_true rfl) (by first | exact Nat.le_of_ble_eq_true rfl | omega) (by first | exact Nat.le_of_ble_eq_true rfl | omega) rfl (fun v_556 M_557 h_559 hE_558 => ?_)
              obtain ⟨rfl, hMs⟩ := h_559
              have hMs := hMs.symm
              subst hMs
              clear hE_558
              refine x_topr (lk_s hxp hp) ?_
              refine x_callV (n' := 222) (n := 1) (K := 41) (c_J1_rotateRight__s l G _ o t asd (tsC (tsC T1 j_485 1) p 0) p ap j_485 _ _ hP hW hp hl_488) dJ1_fixAfterDeletion_219 (hP.k) rfl (lw_V q2543 q2545 qs31 q81 q2546) (by decide +kernel) ⟨(Nat.le_of_ble_eq_true rfl), (Nat.le_of_ble_eq_true rfl)⟩ rfl rfl (Nat.le_of_ble_eq_true rfl) (by first | exact Nat.le_of_ble_eq_true rfl | omega) (by first | exact Nat.le_of_ble_eq_true rfl | omega) rfl (fun v_560 M_561 h_563 hE_562 => ?_)
              obtain ⟨rfl, hP9, hF9⟩ := h_563
              replace hP := hP9
              replace hF := hF.tr hF9
              clear hF9
              clear hE_562
              have hr9 := hW.2.2.1 p j_485 (nns hp) hl_488
              have ivr9 := hW.1 j_485 (nns hj_489)
              have ivk9 := hW.1 p (nns hp)
              have ivx9 := hW.1 x (nns hx)
              have hW0 := hW
              obtain ⟨lo1, hi1, hW, hlx, hhx⟩ : ∃ lo9 hi9, WTT (rotRT (tsC (tsC T1 j_485 1) p 0) p j_485) lo9 hi9 ∧ lo9 x = lo1 x ∧ hi9 x = hi1 x := ⟨_, _, rotRT_W (T := (tsC (tsC T1 j_485 1) p 0)) hW0 hp hl_488, (va_up_ne _ _ (by omega)), (va_up_ne _ _ (by omega))⟩
              have hlf := fun h => (have z := hlf h; (⟨rotRT_leaf (T := (tsC (tsC T1 j_485 1) p 0)) hW0 hp hl_488 (by omega) z.1.1 z.1.2, by omega, by omega, z.2.2.2⟩ : (tL (rotRT (tsC (tsC T1 j_485 1) p 0) p j_485) q = none ∧ tR (rotRT (tsC (tsC T1 j_485 1) p 0) p j_485) q = none) ∧ lo1 x ≤ q ∧ q < hi1 x ∧ tN T1 q ≠ none))
              have hxp0 := hxp
              have hxs0 := hxs
              have hxp : tP (rotRT (tsC (tsC T1 j_485 1) p 0) p j_485) x = some p := (rotRT_Po (T := (tsC (tsC T1 j_485 1) p 0)) (by omega) (by omega) (fun e => by have e2 : tP (tsC (tsC T1 j_485 1) p 0) x = some j_485 := (hW0.upR (nns hj_489) e).2; have e3 := Option.some.inj (hxp0.symm.trans e2); omega)).trans hxp0
              have hxs : tR (rotRT (tsC (tsC T1 j_485 1) p 0) p j_485) p = some x := (rotRT_Rp (T := (tsC (tsC T1 j_485 1) p 0)) (by omega) (hW0.pne (nns hp))).trans hxs0
              have hsx := hW.2.2.2.2.1 p x (nns hp) hxs
              have hu0 := hW.up (nns hx) hxp
              have ivp0 := hW.1 p (nns hp)
              refine x_aload_n (n' := 223) dJ1_fixAfterDeletion_222 rfl rfl rfl ?_
              refine x_callS (n' := 226) (n := 1) (c_J1_parentOf__s l G _ o t asd (rotRT (tsC (tsC T1 j_485 1) p 0) p j_485) x ax hP hx) dJ1_fixAfterDeletion_223 (lw_S q2524 q2525 q81 q2526) (by decide +kernel) ⟨(Nat.le_of_ble_eq_true rfl), (Nat.le_of_ble_eq_true rfl)⟩ rfl rfl (Nat.le_of_ble_eq_true rfl) (by first | exact Nat.le_of_ble_eq_true rfl | omega) (by first | exact Nat.le_of_ble_eq_true rfl | omega) rfl (fun v_564 M_565 h_567 hE_566 => ?_)
              obtain ⟨rfl, hMs⟩ := h_567
              have hMs := hMs.symm
              subst hMs
              clear hE_566
              refine x_topr (lk_s hxp hp) ?_
              refine x_callS (n' := 229) (n := 1) (c_J1_leftOf__s l G _ o t asd (rotRT (tsC (tsC T1 j_485 1) p 0) p j_485) p ap hP hp) dJ1_fixAfterDeletion_226 (lw_S q2527 q2528 q81 q2529) (by decide +kernel) ⟨(Nat.le_of_ble_eq_true rfl), (Nat.le_of_ble_eq_true rfl)⟩ rfl rfl (Nat.le_of_ble_eq_true rfl) (by first | exact Nat.le_of_ble_eq_true rfl | omega) (by first | exact Nat.le_of_ble_eq_true rfl | omega) rfl (fun v_568 M_569 h_571 hE_570 => ?_)
              obtain ⟨rfl, hMs⟩ := h_571
              have hMs := hMs.symm
              subst hMs
              clear hE_570
              refine x_topq (fun e_574 => ?_) (fun b_573 e_574 => ?_)
              · have hl_575 : tL (rotRT (tsC (tsC T1 j_485 1) p 0) p j_485) p = none := bind_n e_574 (fun _ q => hW.dl (nns hp) q)
                refine x_astore_nN (n' := 230) dJ1_fixAfterDeletion_229 rfl (Nat.le_of_ble_eq_true rfl) rfl (by dsimp only [List.set] <;> rfl) rfl ?_
                refine x_aload_nN (n' := 231) dJ1_fixAfterDeletion_230 rfl rfl rfl ?_
                refine x_callS (n' := 234) (n := 1) (c_J1_rightOf__n l G _) dJ1_fixAfterDeletion_231 (lw_S q2530 q2531 q81 q2532) (by decide +kernel) ⟨(Nat.le_of_ble_eq_true rfl), (Nat.le_of_ble_eq_true rfl)⟩ rfl rfl (Nat.le_of_ble_eq_true rfl) (by first | exact Nat.le_of_ble_eq_true rfl | omega) (by first | exact Nat.le_of_ble_eq_true rfl | omega) rfl (fun v_577 M_578 h_580 hE_579 => ?_)
                obtain ⟨rfl, hMs⟩ := h_580
                have hMs := hMs.symm
                subst hMs
                clear hE_579
                refine x_callS (n' := 237) (n := 1) (c_J1_colorOf__n l G _) dJ1_fixAfterDeletion_234 (lw_S q2533 q2534 q81 q2535) (by decide +kernel) ⟨(Nat.le_of_ble_eq_true rfl), (Nat.le_of_ble_eq_true rfl)⟩ rfl rfl (Nat.le_of_ble_eq_true rfl) (by first | exact Nat.le_of_ble_eq_true rfl | omega) (by first | exact Nat.le_of_ble_eq_true rfl | omega) rfl (fun v_581 M_582 h_584 hE_583 => ?_)
                obtain ⟨rfl, hMs⟩ := h_584
                have hMs := hMs.symm
                subst hMs
                clear hE_583
                refine x_iconst (n' := 238) (v := 1) dJ1_fixAfterDeletion_237 (by decide) rfl ?_
                refine x_icmp_ne (n' := 241) (tgt := 265) dJ1_fixAfterDeletion_238 (by decide) rfl (fun c238_585 => by first | exact absurd c238_585 (by decide) | exact absurd (by decide) c238_585) (fun c238_585 => ?_)
                refine x_aload_nN (n' := 242) dJ1_fixAfterDeletion_241 rfl rfl rfl ?_
                refine x_callS (n' := 245) (n := 1) (c_J1_leftOf__n l G _) dJ1_fixAfterDeletion_242 (lw_S q2527 q2528 q81 q2529) (by decide +kernel) ⟨(Nat.le_of_ble_eq_true rfl), (Nat.le_of_ble_eq_true rfl)⟩ rfl rfl (Nat.le_of_ble_eq_true rfl) (by first | exact Nat.le_of_ble_eq_true rfl | omega) (by first | exact Nat.le_of_ble_eq_true rfl | omega) rfl (fun v_586 M_587 h_589 hE_588 => ?_)
                obtain ⟨rfl, hMs⟩ := h_589
                have hMs := hMs.symm
                subst hMs
                clear hE_588
                refine x_callS (n' := 248) (n := 1) (c_J1_colorOf__n l G _) dJ1_fixAfterDeletion_245 (lw_S q2533 q2534 q81 q2535) (by decide +kernel) ⟨(Nat.le_of_ble_eq_true rfl), (Nat.le_of_ble_eq_true rfl)⟩ rfl rfl (Nat.le_of_ble_eq_true rfl) (by first | exact Nat.le_of_ble_eq_true rfl | omega) (by first | exact Nat.le_of_ble_eq_true rfl | omega) rfl (fun v_590 M_591 h_593 hE_592 => ?_)
                obtain ⟨rfl, hMs⟩ := h_593
                have hMs := hMs.symm
                subst hMs
                clear hE_592
                refine x_iconst (n' := 249) (v := 1) dJ1_fixAfterDeletion_248 (by decide) rfl ?_
                refine x_icmp_ne (n' := 252) (tgt := 265) dJ1_fixAfterDeletion_249 (by decide) rfl (fun c249_594 => by first | exact absurd c249_594 (by decide) | exact absurd (by decide) c249_594) (fun c249_594 => ?_)
                refine x_aload_nN (n' := 253) dJ1_fixAfterDeletion_252 rfl rfl rfl ?_
                refine x_iconst (n' := 254) (v := 0) dJ1_fixAfterDeletion_253 (by decide) rfl ?_
                refine x_callS (n' := 257) (n := 2) (c_J1_setColor__n l G _ 0) dJ1_fixAfterDeletion_254 (lw_S q2536 q2537 q81 q2538) (by decide +kernel) ⟨(Nat.le_of_ble_eq_true rfl), (Nat.le_of_ble_eq_true rfl)⟩ rfl rfl (Nat.le_of_ble_eq_true rfl) (by first | exact Nat.le_of_ble_eq_true rfl | omega) (by first | exact Nat.le_of_ble_eq_true rfl | omega) rfl (fun v_595 M_596 h_598 hE_597 => ?_)
                obtain ⟨rfl, hMs⟩ := h_598
                have hMs := hMs.symm
                subst hMs
                clear hE_597
                refine x_aload_n (n' := 258) dJ1_fixAfterDeletion_257 rfl rfl rfl ?_
                refine x_callS (n' := 261) (n := 1) (c_J1_parentOf__s l G _ o t asd (rotRT (tsC (tsC T1 j_485 1) p 0) p j_485) x ax hP hx) dJ1_fixAfterDeletion_258 (lw_S q2524 q2525 q81 q2526) (by decide +kernel) ⟨(Nat.le_of_ble_eq_true rfl), (Nat.le_of_ble_eq_true rfl)⟩ rfl rfl (Nat.le_of_ble_eq_true rfl) (by first | exact Nat.le_of_ble_eq_true rfl | omega) (by first | exact Nat.le_of_ble_eq_true rfl | omega) rfl (fun v_599 M_600 h_602 hE_601 => ?_)
                obtain ⟨rfl, hMs⟩ := h_602
                have hMs := hMs.symm
                subst hMs
                clear hE_601
                refine x_topr (lk_s hxp hp) ?_
                refine x_astore_n (n' := 262) dJ1_fixAfterDeletion_261 rfl (Nat.le_of_ble_eq_true rfl) rfl (by dsimp only [List.set] <;> rfl) rfl ?_
                refine x_goto (tgt := 342) dJ1_fixAfterDeletion_262 (by decide) ?_
                refine x_goto (tgt := 0) dJ1_fixAfterDeletion_342 (by decide) ?_
                exact x_drop (ih p ap (rotRT (tsC (tsC T1 j_485 1) p 0) p j_485) _ _ _ (by omega) hp hP hW hN hF (fun h => by have z := hlf h; exact ⟨z.1, by omega, by omega, z.2.2.2⟩)) ⟨rfl, ⟨rfl, trivial⟩⟩
              · obtain ⟨j_572, hl_575, hj_576⟩ := bind_s e_574
                refine x_astore_n (n' := 230) dJ1_fixAfterDeletion_229 rfl (Nat.le_of_ble_eq_true rfl) rfl (by dsimp only [List.set] <;> rfl) rfl ?_
                exact x_drop (cut230 fuel ih x ax p ap j_572 b_573 (rotRT (tsC (tsC T1 j_485 1) p 0) p j_485) lo1 hi1 _ (by omega) hx hp hj_576 hxp hxs hl_575 hP hW hN hF hlf) ⟨rfl, ⟨rfl, ⟨rfl, trivial⟩⟩⟩
          · have hxs : tL T1 p = some x := by have e9 : ax = b_486 := Option.some.inj (by assumption); have e8 : x = j_485 := hP.inj hx ((hj_489).trans (congrArg some e9.symm)); rw [e8]; exact hl_488
            have hsx := hW.2.2.1 p x (nns hp) hxs
            refine x_aload_n (n' := 28) dJ1_fixAfterDeletion_27 rfl rfl rfl ?_
            refine x_callS (n' := 31) (n := 1) (c_J1_parentOf__s l G _ o t asd T1 x ax hP hx) dJ1_fixAfterDeletion_28 (lw_S q2524 q2525 q81 q2526) (by decide +kernel) ⟨(Nat.le_of_ble_eq_true rfl), (Nat.le_of_ble_eq_true rfl)⟩ rfl rfl (Nat.le_of_ble_eq_true rfl) (by first | exact Nat.le_of_ble_eq_true rfl | omega) (by first | exact Nat.le_of_ble_eq_true rfl | omega) rfl (fun v_603 M_604 h_606 hE_605 => ?_)
            obtain ⟨rfl, hMs⟩ := h_606
            have hMs := hMs.symm
            subst hMs
            clear hE_605
            refine x_topr (lk_s hxp hp) ?_
            refine x_callS (n' := 34) (n := 1) (c_J1_rightOf__s l G _ o t asd T1 p ap hP hp) dJ1_fixAfterDeletion_31 (lw_S q2530 q2531 q81 q2532) (by decide +kernel) ⟨(Nat.le_of_ble_eq_true rfl), (Nat.le_of_ble_eq_true rfl)⟩ rfl rfl (Nat.le_of_ble_eq_true rfl) (by first | exact Nat.le_of_ble_eq_true rfl | omega) (by first | exact Nat.le_of_ble_eq_true rfl | omega) rfl (fun v_607 M_608 h_610 hE_609 => ?_)
            obtain ⟨rfl, hMs⟩ := h_610
            have hMs := hMs.symm
            subst hMs
            clear hE_609
            refine x_topq (fun e_613 => ?_) (fun b_612 e_613 => ?_)
            · have hl_614 : tR T1 p = none := bind_n e_613 (fun _ q => hW.dr (nns hp) q)
              refine x_astore_nN (n' := 35) dJ1_fixAfterDeletion_34 rfl (Nat.le_of_ble_eq_true rfl) rfl (by dsimp only [List.set] <;> rfl) rfl ?_
              refine x_aload_nN (n' := 36) dJ1_fixAfterDeletion_35 rfl rfl rfl ?_
              refine x_callS (n' := 39) (n := 1) (c_J1_colorOf__n l G _) dJ1_fixAfterDeletion_36 (lw_S q2533 q2534 q81 q2535) (by decide +kernel) ⟨(Nat.le_of_ble_eq_true rfl), (Nat.le_of_ble_eq_true rfl)⟩ rfl rfl (Nat.le_of_ble_eq_true rfl) (by first | exact Nat.le_of_ble_eq_true rfl | omega) (by first | exact Nat.le_of_ble_eq_true rfl | omega) rfl (fun v_616 M_617 h_619 hE_618 => ?_)
              obtain ⟨rfl, hMs⟩ := h_619
              have hMs := hMs.symm
              subst hMs
              clear hE_618
              refine x_if_ne (n' := 42) (tgt := 71) dJ1_fixAfterDeletion_39 (by decide) rfl (fun c39_620 => ?_) (fun c39_620 => by first | exact absurd c39_620 (by decide) | exact absurd (by decide) c39_620)
              refine x_aload_nN (n' := 72) dJ1_fixAfterDeletion_71 rfl rfl rfl ?_
              refine x_callS (n' := 75) (n := 1) (c_J1_leftOf__n l G _) dJ1_fixAfterDeletion_72 (lw_S q2527 q2528 q81 q2529) (by decide +kernel) ⟨(Nat.le_of_ble_eq_true rfl), (Nat.le_of_ble_eq_true rfl)⟩ rfl rfl (Nat.le_of_ble_eq_true rfl) (by first | exact Nat.le_of_ble_eq_true rfl | omega) (by first | exact Nat.le_of_ble_eq_true rfl | omega) rfl (fun v_621 M_622 h_624 hE_623 => ?_)
              obtain ⟨rfl, hMs⟩ := h_624
              have hMs := hMs.symm
              subst hMs
              clear hE_623
              refine x_callS (n' := 78) (n := 1) (c_J1_colorOf__n l G _) dJ1_fixAfterDeletion_75 (lw_S q2533 q2534 q81 q2535) (by decide +kernel) ⟨(Nat.le_of_ble_eq_true rfl), (Nat.le_of_ble_eq_true rfl)⟩ rfl rfl (Nat.le_of_ble_eq_true rfl) (by first | exact Nat.le_of_ble_eq_true rfl | omega) (by first | exact Nat.le_of_ble_eq_true rfl | omega) rfl (fun v_625 M_626 h_628 hE_627 => ?_)
              obtain ⟨rfl, hMs⟩ := h_628
              have hMs := hMs.symm
              subst hMs
              clear hE_627
              refine x_iconst (n' := 79) (v := 1) dJ1_fixAfterDeletion_78 (by decide) rfl ?_
              refine x_icmp_ne (n' := 82) (tgt := 106) dJ1_fixAfterDeletion_79 (by decide) rfl (fun c79_629 => by first | exact absurd c79_629 (by decide) | exact absurd (by decide) c79_629) (fun c79_629 => ?_)
              refine x_aload_nN (n' := 83) dJ1_fixAfterDeletion_82 rfl rfl rfl ?_
              refine x_callS (n' := 86) (n := 1) (c_J1_rightOf__n l G _) dJ1_fixAfterDeletion_83 (lw_S q2530 q2531 q81 q2532) (by decide +kernel) ⟨(Nat.le_of_ble_eq_true rfl), (Nat.le_of_ble_eq_true rfl)⟩ rfl rfl (Nat.le_of_ble_eq_true rfl) (by first | exact Nat.le_of_ble_eq_true rfl | omega) (by first | exact Nat.le_of_ble_eq_true rfl | omega) rfl (fun v_630 M_631 h_633 hE_632 => ?_)
              obtain ⟨rfl, hMs⟩ := h_633
              have hMs := hMs.symm
              subst hMs
              clear hE_632
              refine x_callS (n' := 89) (n := 1) (c_J1_colorOf__n l G _) dJ1_fixAfterDeletion_86 (lw_S q2533 q2534 q81 q2535) (by decide +kernel) ⟨(Nat.le_of_ble_eq_true rfl), (Nat.le_of_ble_eq_true rfl)⟩ rfl rfl (Nat.le_of_ble_eq_true rfl) (by first | exact Nat.le_of_ble_eq_true rfl | omega) (by first | exact Nat.le_of_ble_eq_true rfl | omega) rfl (fun v_634 M_635 h_637 hE_636 => ?_)
              obtain ⟨rfl, hMs⟩ := h_637
              have hMs := hMs.symm
              subst hMs
              clear hE_636
              refine x_iconst (n' := 90) (v := 1) dJ1_fixAfterDeletion_89 (by decide) rfl ?_
              refine x_icmp_ne (n' := 93) (tgt := 106) dJ1_fixAfterDeletion_90 (by decide) rfl (fun c90_638 => by first | exact absurd c90_638 (by decide) | exact absurd (by decide) c90_638) (fun c90_638 => ?_)
              refine x_aload_nN (n' := 94) dJ1_fixAfterDeletion_93 rfl rfl rfl ?_
              refine x_iconst (n' := 95) (v := 0) dJ1_fixAfterDeletion_94 (by decide) rfl ?_
              refine x_callS (n' := 98) (n := 2) (c_J1_setColor__n l G _ 0) dJ1_fixAfterDeletion_95 (lw_S q2536 q2537 q81 q2538) (by decide +kernel) ⟨(Nat.le_of_ble_eq_true rfl), (Nat.le_of_ble_eq_true rfl)⟩ rfl rfl (Nat.le_of_ble_eq_true rfl) (by first | exact Nat.le_of_ble_eq_true rfl | omega) (by first | exact Nat.le_of_ble_eq_true rfl | omega) rfl (fun v_639 M_640 h_642 hE_641 => ?_)
              obtain ⟨rfl, hMs⟩ := h_642
              have hMs := hMs.symm
              subst hMs
              clear hE_641
              refine x_aload_n (n' := 99) dJ1_fixAfterDeletion_98 rfl rfl rfl ?_
              refine x_callS (n' := 102) (n := 1) (c_J1_parentOf__s l G _ o t asd T1 x ax hP hx) dJ1_fixAfterDeletion_99 (lw_S q2524 q2525 q81 q2526) (by decide +kernel) ⟨(Nat.le_of_ble_eq_true rfl), (Nat.le_of_ble_eq_true rfl)⟩ rfl rfl (Nat.le_of_ble_eq_true rfl) (by first | exact Nat.le_of_ble_eq_true rfl | omega) (by first | exact Nat.le_of_ble_eq_true rfl | omega) rfl (fun v_643 M_644 h_646 hE_645 => ?_)
              obtain ⟨rfl, hMs⟩ := h_646
              have hMs := hMs.symm
              subst hMs
              clear hE_645
              refine x_topr (lk_s hxp hp) ?_
              refine x_astore_n (n' := 103) dJ1_fixAfterDeletion_102 rfl (Nat.le_of_ble_eq_true rfl) rfl (by dsimp only [List.set] <;> rfl) rfl ?_
              refine x_goto (tgt := 183) dJ1_fixAfterDeletion_103 (by decide) ?_
              refine x_goto (tgt := 0) dJ1_fixAfterDeletion_183 (by decide) ?_
              exact x_drop (ih p ap T1 _ _ _ (by omega) hp hP hW hN hF (fun h => by have z := hlf h; exact ⟨z.1, by omega, by omega, z.2.2.2⟩)) ⟨rfl, ⟨rfl, trivial⟩⟩
            · obtain ⟨j_611, hl_614, hj_615⟩ := bind_s e_613
              refine x_astore_n (n' := 35) dJ1_fixAfterDeletion_34 rfl (Nat.le_of_ble_eq_true rfl) rfl (by dsimp only [List.set] <;> rfl) rfl ?_
              refine x_aload_n (n' := 36) dJ1_fixAfterDeletion_35 rfl rfl rfl ?_
              refine x_callS (n' := 39) (n := 1) (c_J1_colorOf__s l G _ o t asd T1 j_611 b_612 hP hj_615) dJ1_fixAfterDeletion_36 (lw_S q2533 q2534 q81 q2535) (by decide +kernel) ⟨(Nat.le_of_ble_eq_true rfl), (Nat.le_of_ble_eq_true rfl)⟩ rfl rfl (Nat.le_of_ble_eq_true rfl) (by first | exact Nat.le_of_ble_eq_true rfl | omega) (by first | exact Nat.le_of_ble_eq_true rfl | omega) rfl (fun v_647 M_648 h_650 hE_649 => ?_)
              obtain ⟨rfl, hMs⟩ := h_650
              have hMs := hMs.symm
              subst hMs
              clear hE_649
              refine x_if_ne (n' := 42) (tgt := 71) dJ1_fixAfterDeletion_39 (by decide) rfl (fun c39_651 => ?_) (fun c39_651 => ?_)
              · exact x_drop (cut71 fuel ih x ax p ap j_611 b_612 T1 lo1 hi1 _ (by omega) hx hp hj_615 hxp hxs hl_614 hP hW hN hF hlf) ⟨rfl, ⟨rfl, ⟨rfl, trivial⟩⟩⟩
              · refine x_aload_n (n' := 43) dJ1_fixAfterDeletion_42 rfl rfl rfl ?_
                refine x_iconst (n' := 44) (v := 1) dJ1_fixAfterDeletion_43 (by decide) rfl ?_
                refine x_callS (n' := 47) (n := 2) (c_J1_setColor__s l G _ o t asd T1 j_611 b_612 1 hP hj_615 (Or.inr rfl)) dJ1_fixAfterDeletion_44 (lw_S q2536 q2537 q81 q2538) (by decide +kernel) ⟨(Nat.le_of_ble_eq_true rfl), (Nat.le_of_ble_eq_true rfl)⟩ rfl rfl (Nat.le_of_ble_eq_true rfl) (by first | exact Nat.le_of_ble_eq_true rfl | omega) (by first | exact Nat.le_of_ble_eq_true rfl | omega) rfl (fun v_652 M_653 h_655 hE_654 => ?_)
                obtain ⟨rfl, hP9, hF9⟩ := h_655
                replace hP := hP9
                replace hF := hF.tr hF9
                clear hF9
                clear hE_654
                refine x_aload_n (n' := 48) dJ1_fixAfterDeletion_47 rfl rfl rfl ?_
                refine x_callS (n' := 51) (n := 1) (c_J1_parentOf__s l G _ o t asd (tsC T1 j_611 1) x ax hP hx) dJ1_fixAfterDeletion_48 (lw_S q2524 q2525 q81 q2526) (by decide +kernel) ⟨(Nat.le_of_ble_eq_true rfl), (Nat.le_of_ble_eq_true rfl)⟩ rfl rfl (Nat.le_of_ble_eq_true rfl) (by first | exact Nat.le_of_ble_eq_true rfl | omega) (by first | exact Nat.le_of_ble_eq_true rfl | omega) rfl (fun v_656 M_657 h_659 hE_658 => ?_)
                obtain ⟨rfl, hMs⟩ := h_659
                have hMs := hMs.symm
                subst hMs
                clear hE_658
                refine x_topr (lk_s hxp hp) ?_
                refine x_iconst (n' := 52) (v := 0) dJ1_fixAfterDeletion_51 (by decide) rfl ?_
                refine x_callS (n' := 55) (n := 2) (c_J1_setColor__s l G _ o t asd (tsC T1 j_611 1) p ap 0 hP hp (Or.inl rfl)) dJ1_fixAfterDeletion_52 (lw_S q2536 q2537 q81 q2538) (by decide +kernel) ⟨(Nat.le_of_ble_eq_true rfl), (Nat.le_of_ble_eq_true rfl)⟩ rfl rfl (Nat.le_of_ble_eq_true rfl) (by first | exact Nat.le_of_ble_eq_true rfl | omega) (by first | exact Nat.le_of_ble_eq_true rfl | omega) rfl (fun v_660 M_661 h_663 hE_662 => ?_)
                obtain ⟨rfl, hP9, hF9⟩ := h_663
                replace hP := hP9
                replace hF := hF.tr hF9
                clear hF9
                clear hE_662
                refine x_aload_n (n' := 56) dJ1_fixAfterDeletion_55 rfl rfl rfl ?_
                refine x_aload_n (n' := 57) dJ1_fixAfterDeletion_56 rfl rfl rfl ?_
                refine x_callS (n' := 60) (n := 1) (c_J1_parentOf__s l G _ o t asd (tsC (tsC T1 j_611 1) p 0) x ax hP hx) dJ1_fixAfterDeletion_57 (lw_S q2524 q2525 q81 q2526) (by decide +kernel) ⟨(Nat.le_of_ble_eq_true rfl), (Nat.le_of_ble_eq_true rfl)⟩ rfl rfl (Nat.le_of_ble_eq_true rfl) (by first | exact Nat.le_of_ble_eq_true rfl | omega) (by first | exact Nat.le_of_ble_eq_true rfl | omega) rfl (fun v_664 M_665 h_667 hE_666 => ?_)
                obtain ⟨rfl, hMs⟩ := h_667
                have hMs := hMs.symm
                subst hMs
                clear hE_666
                refine x_topr (lk_s hxp hp) ?_
                refine x_callV (n' := 63) (n := 1) (K := 41) (c_J1_rotateLeft__s l G _ o t asd (tsC (tsC T1 j_611 1) p 0) p ap j_611 _ _ hP hW hp hl_614) dJ1_fixAfterDeletion_60 (hP.k) rfl (lw_V q2539 q2541 qs30 q81 q2542) (by decide +kernel) ⟨(Nat.le_of_ble_eq_true rfl), (Nat.le_of_ble_eq_true rfl)⟩ rfl rfl (Nat.le_of_ble_eq_true rfl) (by first | exact Nat.le_of_ble_eq_true rfl | omega) (by first | exact Nat.le_of_ble_eq_true rfl | omega) rfl (fun v_668 M_669 h_671 hE_670 => ?_)
                obtain ⟨rfl, hP9, hF9⟩ := h_671
                replace hP := hP9
                replace hF := hF.tr hF9
                clear hF9
                clear hE_670
                have hr9 := hW.2.2.2.2.1 p j_611 (nns hp) hl_614
                have ivr9 := hW.1 j_611 (nns hj_615)
                have ivk9 := hW.1 p (nns hp)
                have ivx9 := hW.1 x (nns hx)
                have hW0 := hW
                obtain ⟨lo1, hi1, hW, hlx, hhx⟩ : ∃ lo9 hi9, WTT (rotLT (tsC (tsC T1 j_611 1) p 0) p j_611) lo9 hi9 ∧ lo9 x = lo1 x ∧ hi9 x = hi1 x := ⟨_, _, rotLT_W (T := (tsC (tsC T1 j_611 1) p 0)) hW0 hp hl_614, (va_up_ne _ _ (by omega)), (va_up_ne _ _ (by omega)).trans (va_up_ne _ _ (by omega))⟩
                have hlf := fun h => (have z := hlf h; (⟨rotLT_leaf (T := (tsC (tsC T1 j_611 1) p 0)) hW0 hp hl_614 (by omega) z.1.1 z.1.2, by omega, by omega, z.2.2.2⟩ : (tL (rotLT (tsC (tsC T1 j_611 1) p 0) p j_611) q = none ∧ tR (rotLT (tsC (tsC T1 j_611 1) p 0) p j_611) q = none) ∧ lo1 x ≤ q ∧ q < hi1 x ∧ tN T1 q ≠ none))
                have hxp0 := hxp
                have hxs0 := hxs
                have hxp : tP (rotLT (tsC (tsC T1 j_611 1) p 0) p j_611) x = some p := (rotLT_Po (T := (tsC (tsC T1 j_611 1) p 0)) (by omega) (by omega) (fun e => by have e2 : tP (tsC (tsC T1 j_611 1) p 0) x = some j_611 := (hW0.upL (nns hj_615) e).2; have e3 := Option.some.inj (hxp0.symm.trans e2); omega)).trans hxp0
                have hxs : tL (rotLT (tsC (tsC T1 j_611 1) p 0) p j_611) p = some x := (rotLT_Lp (T := (tsC (tsC T1 j_611 1) p 0)) (by omega) (hW0.pne (nns hp))).trans hxs0
                have hsx := hW.2.2.1 p x (nns hp) hxs
                have hu0 := hW.up (nns hx) hxp
                have ivp0 := hW.1 p (nns hp)
                refine x_aload_n (n' := 64) dJ1_fixAfterDeletion_63 rfl rfl rfl ?_
                refine x_callS (n' := 67) (n := 1) (c_J1_parentOf__s l G _ o t asd (rotLT (tsC (tsC T1 j_611 1) p 0) p j_611) x ax hP hx) dJ1_fixAfterDeletion_64 (lw_S q2524 q2525 q81 q2526) (by decide +kernel) ⟨(Nat.le_of_ble_eq_true rfl), (Nat.le_of_ble_eq_true rfl)⟩ rfl rfl (Nat.le_of_ble_eq_true rfl) (by first | exact Nat.le_of_ble_eq_true rfl | omega) (by first | exact Nat.le_of_ble_eq_true rfl | omega) rfl (fun v_672 M_673 h_675 hE_674 => ?_)
                obtain ⟨rfl, hMs⟩ := h_675
                have hMs := hMs.symm
                subst hMs
                clear hE_674
                refine x_topr (lk_s hxp hp) ?_
                refine x_callS (n' := 70) (n := 1) (c_J1_rightOf__s l G _ o t asd (rotLT (tsC (tsC T1 j_611 1) p 0) p j_611) p ap hP hp) dJ1_fixAfterDeletion_67 (lw_S q2530 q2531 q81 q2532) (by decide +kernel) ⟨(Nat.le_of_ble_eq_true rfl), (Nat.le_of_ble_eq_true rfl)⟩ rfl rfl (Nat.le_of_ble_eq_true rfl) (by first | exact Nat.le_of_ble_eq_true rfl | omega) (by first | exact Nat.le_of_ble_eq_true rfl | omega) rfl (fun v_676 M_677 h_679 hE_678 => ?_)
                obtain ⟨rfl, hMs⟩ := h_679
                have hMs := hMs.symm
                subst hMs
                clear hE_678
                refine x_topq (fun e_682 => ?_) (fun b_681 e_682 => ?_)
                · have hl_683 : tR (rotLT (tsC (tsC T1 j_611 1) p 0) p j_611) p = none := bind_n e_682 (fun _ q => hW.dr (nns hp) q)
                  refine x_astore_nN (n' := 71) dJ1_fixAfterDeletion_70 rfl (Nat.le_of_ble_eq_true rfl) rfl (by dsimp only [List.set] <;> rfl) rfl ?_
                  refine x_aload_nN (n' := 72) dJ1_fixAfterDeletion_71 rfl rfl rfl ?_
                  refine x_callS (n' := 75) (n := 1) (c_J1_leftOf__n l G _) dJ1_fixAfterDeletion_72 (lw_S q2527 q2528 q81 q2529) (by decide +kernel) ⟨(Nat.le_of_ble_eq_true rfl), (Nat.le_of_ble_eq_true rfl)⟩ rfl rfl (Nat.le_of_ble_eq_true rfl) (by first | exact Nat.le_of_ble_eq_true rfl | omega) (by first | exact Nat.le_of_ble_eq_true rfl | omega) rfl (fun v_685 M_686 h_688 hE_687 => ?_)
                  obtain ⟨rfl, hMs⟩ := h_688
                  have hMs := hMs.symm
                  subst hMs
                  clear hE_687
                  refine x_callS (n' := 78) (n := 1) (c_J1_colorOf__n l G _) dJ1_fixAfterDeletion_75 (lw_S q2533 q2534 q81 q2535) (by decide +kernel) ⟨(Nat.le_of_ble_eq_true rfl), (Nat.le_of_ble_eq_true rfl)⟩ rfl rfl (Nat.le_of_ble_eq_true rfl) (by first | exact Nat.le_of_ble_eq_true rfl | omega) (by first | exact Nat.le_of_ble_eq_true rfl | omega) rfl (fun v_689 M_690 h_692 hE_691 => ?_)
                  obtain ⟨rfl, hMs⟩ := h_692
                  have hMs := hMs.symm
                  subst hMs
                  clear hE_691
                  refine x_iconst (n' := 79) (v := 1) dJ1_fixAfterDeletion_78 (by decide) rfl ?_
                  refine x_icmp_ne (n' := 82) (tgt := 106) dJ1_fixAfterDeletion_79 (by decide) rfl (fun c79_693 => by first | exact absurd c79_693 (by decide) | exact absurd (by decide) c79_693) (fun c79_693 => ?_)
                  refine x_aload_nN (n' := 83) dJ1_fixAfterDeletion_82 rfl rfl rfl ?_
                  refine x_callS (n' := 86) (n := 1) (c_J1_rightOf__n l G _) dJ1_fixAfterDeletion_83 (lw_S q2530 q2531 q81 q2532) (by decide +kernel) ⟨(Nat.le_of_ble_eq_true rfl), (Nat.le_of_ble_eq_true rfl)⟩ rfl rfl (Nat.le_of_ble_eq_true rfl) (by first | exact Nat.le_of_ble_eq_true rfl | omega) (by first | exact Nat.le_of_ble_eq_true rfl | omega) rfl (fun v_694 M_695 h_697 hE_696 => ?_)
                  obtain ⟨rfl, hMs⟩ := h_697
                  have hMs := hMs.symm
                  subst hMs
                  clear hE_696
                  refine x_callS (n' := 89) (n := 1) (c_J1_colorOf__n l G _) dJ1_fixAfterDeletion_86 (lw_S q2533 q2534 q81 q2535) (by decide +kernel) ⟨(Nat.le_of_ble_eq_true rfl), (Nat.le_of_ble_eq_true rfl)⟩ rfl rfl (Nat.le_of_ble_eq_true rfl) (by first | exact Nat.le_of_ble_eq_true rfl | omega) (by first | exact Nat.le_of_ble_eq_true rfl | omega) rfl (fun v_698 M_699 h_701 hE_700 => ?_)
                  obtain ⟨rfl, hMs⟩ := h_701
                  have hMs := hMs.symm
                  subst hMs
                  clear hE_700
                  refine x_iconst (n' := 90) (v := 1) dJ1_fixAfterDeletion_89 (by decide) rfl ?_
                  refine x_icmp_ne (n' := 93) (tgt := 106) dJ1_fixAfterDeletion_90 (by decide) rfl (fun c90_702 => by first | exact absurd c90_702 (by decide) | exact absurd (by decide) c90_702) (fun c90_702 => ?_)
                  refine x_aload_nN (n' := 94) dJ1_fixAfterDeletion_93 rfl rfl rfl ?_
                  refine x_iconst (n' := 95) (v := 0) dJ1_fixAfterDeletion_94 (by decide) rfl ?_
                  refine x_callS (n' := 98) (n := 2) (c_J1_setColor__n l G _ 0) dJ1_fixAfterDeletion_95 (lw_S q2536 q2537 q81 q2538) (by decide +kernel) ⟨(Nat.le_of_ble_eq_true rfl), (Nat.le_of_ble_eq_true rfl)⟩ rfl rfl (Nat.le_of_ble_eq_true rfl) (by first | exact Nat.le_of_ble_eq_true rfl | omega) (by first | exact Nat.le_of_ble_eq_true rfl | omega) rfl (fun v_703 M_704 h_706 hE_705 => ?_)
                  obtain ⟨rfl, hMs⟩ := h_706
                  have hMs := hMs.symm
                  subst hMs
                  clear hE_705
                  refine x_aload_n (n' := 99) dJ1_fixAfterDeletion_98 rfl rfl rfl ?_
                  refine x_callS (n' := 102) (n := 1) (c_J1_parentOf__s l G _ o t asd (rotLT (tsC (tsC T1 j_611 1) p 0) p j_611) x ax hP hx) dJ1_fixAfterDeletion_99 (lw_S q2524 q2525 q81 q2526) (by decide +kernel) ⟨(Nat.le_of_ble_eq_true rfl), (Nat.le_of_ble_eq_true rfl)⟩ rfl rfl (Nat.le_of_ble_eq_true rfl) (by first | exact Nat.le_of_ble_eq_true rfl | omega) (by first | exact Nat.le_of_ble_eq_true rfl | omega) rfl (fun v_707 M_708 h_710 hE_709 => ?_)
                  obtain ⟨rfl, hMs⟩ := h_710
                  have hMs := hMs.symm
                  subst hMs
                  clear hE_709
                  refine x_topr (lk_s hxp hp) ?_
                  refine x_astore_n (n' := 103) dJ1_fixAfterDeletion_102 rfl (Nat.le_of_ble_eq_true rfl) rfl (by dsimp only [List.set] <;> rfl) rfl ?_
                  refine x_goto (tgt := 183) dJ1_fixAfterDeletion_103 (by decide) ?_
                  refine x_goto (tgt := 0) dJ1_fixAfterDeletion_183 (by decide) ?_
                  exact x_drop (ih p ap (rotLT (tsC (tsC T1 j_611 1) p 0) p j_611) _ _ _ (by omega) hp hP hW hN hF (fun h => by have z := hlf h; exact ⟨z.1, by omega, by omega, z.2.2.2⟩)) ⟨rfl, ⟨rfl, trivial⟩⟩
                · obtain ⟨j_680, hl_683, hj_684⟩ := bind_s e_682
                  refine x_astore_n (n' := 71) dJ1_fixAfterDeletion_70 rfl (Nat.le_of_ble_eq_true rfl) rfl (by dsimp only [List.set] <;> rfl) rfl ?_
                  exact x_drop (cut71 fuel ih x ax p ap j_680 b_681 (rotLT (tsC (tsC T1 j_611 1) p 0) p j_611) lo1 hi1 _ (by omega) hx hp hj_684 hxp hxs hl_683 hP hW hN hF hlf) ⟨rfl, ⟨rfl, ⟨rfl, trivial⟩⟩⟩
set_option maxHeartbeats 20000000 in
set_option maxRecDepth 100000 in
theorem c_J1_fixAfterDeletion (l : Launch) (G : kG) (M : kM) (o t asd : Nat) (T : kT) (x0 ax0 q : Nat) (lf : Prop) (lo hi : Nat → Nat) (hP : PT M o t asd T) (hW : WTT T lo hi) (hx0 : tN T x0 = some ax0) (hlf : lf → (tL T q = none ∧ tR T q = none) ∧ lo x0 ≤ q ∧ q < hi x0 ∧ tN T q ≠ none) : Kt l G yJ1_fixAfterDeletion cJ1_fixAfterDeletion 3 none 1 22 [.ref t, .ref ax0] M (0) (0) (fun v M2 => v = none ∧ ∃ T2 lo2 hi2, PT M2 o t asd T2 ∧ WTT T2 lo2 hi2 ∧ (tN T2 = tN T ∧ tK T2 = tK T ∧ tV T2 = tV T) ∧ FK o M M2 ∧ (lf → tL T2 q = none ∧ tR T2 q = none)) := by
  refine Kt.of (own := "java/util/TreeMap") (L := [some (.ref t), some (.ref ax0), none]) (by decide +kernel) rfl (Nat.le_of_ble_eq_true rfl) rfl ?_
  intro pp ee ss mm args below meth cd hmn hret
  have hP0 := hP
  have hF : FK o M M := FK.rf
  have cut302 := k302_c_J1_fixAfterDeletion l G M o t asd T x0 ax0 q lf lo hi hP hW hx0 hlf pp ee ss mm args below meth cd hmn hret
  have cut143 := k143_c_J1_fixAfterDeletion l G M o t asd T x0 ax0 q lf lo hi hP hW hx0 hlf pp ee ss mm args below meth cd hmn hret
  have cut230 := k230_c_J1_fixAfterDeletion l G M o t asd T x0 ax0 q lf lo hi hP hW hx0 hlf pp ee ss mm args below meth cd hmn hret
  have cut71 := k71_c_J1_fixAfterDeletion l G M o t asd T x0 ax0 q lf lo hi hP hW hx0 hlf pp ee ss mm args below meth cd hmn hret
  have cut0 := k0_c_J1_fixAfterDeletion l G M o t asd T x0 ax0 q lf lo hi hP hW hx0 hlf pp ee ss mm args below meth cd hmn hret
  exact x_drop (cut0 (BB + 1) x0 ax0 T lo hi M (by omega) hx0 hP hW ⟨rfl, rfl, rfl⟩ hF hlf) ⟨rfl, ⟨rfl, trivial⟩⟩
