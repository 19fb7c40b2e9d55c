theorem lk_n {w : Option Nat} {f : Nat → Option Nat} (h : w = none) : w.bind f = none := by rw [h]; rfl
theorem lk_s {w : Option Nat} {f : Nat → Option Nat} {j b : Nat} (h : w = some j) (hb : f j = some b) : w.bind f = some b := by rw [h]; exact hb
theorem rotLT_Pp {T : kT} {p r : Nat} : tP (rotLT T p r) p = some r := va_up_self _ _ _
theorem rotRT_Pp {T : kT} {p r : Nat} : tP (rotRT T p r) p = some r := va_up_self _ _ _
theorem rotLT_Pr {T : kT} {p r : Nat} (h : p ≠ r) : tP (rotLT T p r) r = tP T p := (va_up_ne _ _ (fun e => h e.symm)).trans (va_up_self _ _ _)
theorem rotRT_Pr {T : kT} {p r : Nat} (h : p ≠ r) : tP (rotRT T p r) r = tP T p := (va_up_ne _ _ (fun e => h e.symm)).trans (va_up_self _ _ _)
theorem rotLT_Po {T : kT} {p r k : Nat} (h1 : k ≠ p) (h2 : k ≠ r) (h3 : tL T r ≠ some k) : tP (rotLT T p r) k = tP T k := by
  refine ((va_up_ne _ _ h1).trans (va_up_ne _ _ h2)).trans ?_
  cases e : tL T r with
  | none => rfl
  | some c => exact va_up_ne _ _ (fun z => h3 (by rw [e, z]))
theorem rotRT_Po {T : kT} {p r k : Nat} (h1 : k ≠ p) (h2 : k ≠ r) (h3 : tR T r ≠ some k) : tP (rotRT T p r) k = tP T k := by
  refine ((va_up_ne _ _ h1).trans (va_up_ne _ _ h2)).trans ?_
  cases e : tR T r with
  | none => rfl
  | some c => exact va_up_ne _ _ (fun z => h3 (by rw [e, z]))
/-- the grandparent's link after a rotation below -/
theorem rotLT_Lg {T : kT} {p r g : Nat} (hg : g ≠ r) (hp : tP T p = some g) (h : tL T g = some p) : tL (rotLT T p r) g = some r := by
  refine (va_up_ne _ _ hg).trans ?_
  rw [hp]
  dsimp only
  rw [if_pos h]
  exact va_up_self _ _ _
theorem rotRT_Rg {T : kT} {p r g : Nat} (hg : g ≠ r) (hp : tP T p = some g) (h : tR T g = some p) : tR (rotRT T p r) g = some r := by
  refine (va_up_ne _ _ hg).trans ?_
  rw [hp]
  dsimp only
  rw [if_pos h]
  exact va_up_self _ _ _
theorem rotLT_Rr {T : kT} {p r g : Nat} (hr : r ≠ p) (hg : g ≠ r) (hp : tP T p = some g) : tR (rotLT T p r) r = tR T r := by
  show rlR (tL T) (tR T) (tP T) p r r = tR T r
  unfold rlR
  rw [hp]
  dsimp only
  split
  · exact va_up_ne _ _ hr
  · exact (va_up_ne _ _ (fun e => hg e.symm)).trans (va_up_ne _ _ hr)
theorem rotRT_Lr {T : kT} {p r g : Nat} (hr : r ≠ p) (hg : g ≠ r) (hp : tP T p = some g) : tL (rotRT T p r) r = tL T r := by
  show rrL (tL T) (tR T) (tP T) p r r = tL T r
  unfold rrL
  rw [hp]
  dsimp only
  split
  · exact va_up_ne _ _ hr
  · exact (va_up_ne _ _ (fun e => hg e.symm)).trans (va_up_ne _ _ hr)
/-- a child's room is less than its parent's -/
theorem WT.up {D L R P rt lo hi} (w : WT D L R P rt lo hi) {x p : Nat} (hx : D x) (h : P x = some p) : D p ∧ x ≠ p ∧ lo p ≤ lo x ∧ hi x ≤ hi p ∧ hi x - lo x < hi p - lo p := by
  have a := w.2.2.2.2.2.2.1 x p hx h
  have ix := w.1 x hx
  have ip := w.1 p a.1
  rcases a.2 with q | q
  · have b := w.2.2.1 p x a.1 q
    exact ⟨a.1, by omega, by omega, by omega, by omega⟩
  · have b := w.2.2.2.2.1 p x a.1 q
    exact ⟨a.1, by omega, by omega, by omega, by omega⟩
theorem WT.upL {D L R P rt lo hi} (w : WT D L R P rt lo hi) {x p : Nat} (hx : D x) (h : L x = some p) : D p ∧ P p = some x := ⟨(w.2.2.1 x p hx h).1, (w.2.2.1 x p hx h).2.2.2⟩
theorem WT.upR {D L R P rt lo hi} (w : WT D L R P rt lo hi) {x p : Nat} (hx : D x) (h : R x = some p) : D p ∧ P p = some x := ⟨(w.2.2.2.2.1 x p hx h).1, (w.2.2.2.2.1 x p hx h).2.2.2⟩
theorem WT.sideL {D L R P rt lo hi} (w : WT D L R P rt lo hi) {x p : Nat} (hx : D x) (h : P x = some p) (h2 : L p ≠ some x) : R p = some x := (w.2.2.2.2.2.2.1 x p hx h).2.resolve_left h2
theorem WT.sideR {D L R P rt lo hi} (w : WT D L R P rt lo hi) {x p : Nat} (hx : D x) (h : P x = some p) (h2 : R p ≠ some x) : L p = some x := (w.2.2.2.2.2.2.1 x p hx h).2.resolve_right h2
set_option maxHeartbeats 800000 in
set_option maxRecDepth 100000 in
theorem c_J1_fixAfterInsertion (l : Launch) (G : kG) (M : kM) (o t asd : Nat) (T : kT) (x0 ax0 : Nat) (lo hi : Nat → Nat) (hP : PT M o t asd T) (hW : WTT T lo hi) (hx0 : tN T x0 = some ax0) : Kt l G yJ1_fixAfterInsertion cJ1_fixAfterInsertion 3 none 1 22 [.ref t, .ref ax0] M (0) (0) (fun v M2 => v = none ∧ ∃ T2 lo2 hi2, PT M2 o t asd T2 ∧ WTT T2 lo2 hi2 ∧ (tN T2 = tN T ∧ tK T2 = tK T ∧ tV T2 = tV T) ∧ FK o M M2) := by
  refine Kt.of (own := "java/util/TreeMap") (L := [some (.ref t), some (.ref ax0), none]) (by decide +kernel) rfl (Nat.le_of_ble_eq_true rfl) rfl ?_
  intro pp ee ss mm args below meth cd hmn hret
  have hP0 := hP
  have hF : FK o M M := FK.rf
  have cut5 : ∀ (fuel : Nat) (m x ax : Nat) (T1 : kT) (lo1 hi1 : Nat → Nat) (M1 : kM) (h9 : m < fuel) (hm : ∀ p, tP T1 x = some p → tC T1 p = 0 → BB + 1 - (hi1 x - lo1 x) ≤ m) (hx : tN T1 x = some ax) (hP : PT M1 o t asd T1) (hW : WTT T1 lo1 hi1) (hN : tN T1 = tN T ∧ tK T1 = tK T ∧ tV T1 = tV T) (hF : FK o M M1), Wx pp l ee { frames := 1, cells := 0, slots := 0, locals := 22 } ss mm args below meth cd "java/util/TreeMap" cJ1_fixAfterInsertion 3 G (MQ below (KQ G M (fun v M2 => v = none ∧ ∃ T2 lo2 hi2, PT M2 o t asd T2 ∧ WTT T2 lo2 hi2 ∧ (tN T2 = tN T ∧ tK T2 = tK T ∧ tV T2 = tV T) ∧ FK o M M2)) args ss (0) (0) (kA G)) 5 [some (.ref t), some (.ref ax), none] [] (M1) (0) (0) := by
    intro fuel
    induction fuel with
    | zero => intro m x ax T1 lo1 hi1 M1 h9 hm hx hP hW hN hF; omega
    | succ fuel ih =>
      intro m x ax T1 lo1 hi1 M1 h9 hm hx hP hW hN hF
      have hW1 := hW
      refine x_aload_n (n' := 6) dJ1_fixAfterInsertion_5 rfl rfl rfl ?_
      refine x_ifnull (n' := 9) dJ1_fixAfterInsertion_6 rfl ?_
      refine x_aload_n (n' := 10) dJ1_fixAfterInsertion_9 rfl rfl rfl ?_
      refine x_aload_n (n' := 11) dJ1_fixAfterInsertion_10 rfl rfl rfl ?_
      refine x_getR (n' := 14) dJ1_fixAfterInsertion_11 (hP.k) ffJ1_101_41 rfl rfl ?_
      refine x_acmp_eq (n' := 17) (rx := some (ax)) (ry := (mR _ (fc 41 3) t)) (tgt := 258) dJ1_fixAfterInsertion_14 (by decide) rfl (fun c14_1 => ?_) (fun c14_1 => ?_)
      · refine x_aload_n (n' := 259) dJ1_fixAfterInsertion_258 rfl rfl rfl ?_
        obtain ⟨r0, hrt⟩ : ∃ r0, tr T1 = some r0 := rot_r (fun e9 => hW.2.2.2.2.2.2.2.1 e9 x (nns hx))
        obtain ⟨ar0, har0⟩ : ∃ a, tN T1 r0 = some a := rot_r (hW.dt hrt)
        refine x_getRs (n' := 262) (b := ar0) dJ1_fixAfterInsertion_259 (hP.k) ffJ1_101_41 rfl (hP.r.trans (lk_s hrt har0)) rfl ?_
        refine x_iconst (n' := 263) (v := 1) dJ1_fixAfterInsertion_262 (by decide) rfl ?_
        refine x_putI (n' := 266) dJ1_fixAfterInsertion_263 (hP.nk har0) ffJ1_290_88 rfl (k_bool (by first | exact Or.inl rfl | exact Or.inr rfl)) rfl rfl ?_
        exact x_vret dJ1_fixAfterInsertion_266 hret hF.kE (⟨rfl, _, lo1, hi1, hP.wC har0 (Or.inr rfl), hW, hN, hF.I (Or.inr (by have z1 : tN T r0 = some ar0 := hN.1 ▸ har0; exact hP0.ng z1))⟩)
      · obtain ⟨p, hxp⟩ : ∃ p, tP T1 x = some p := rot_r (fun e9 => absurd (show some ax = mR _ (fc 41 3) t from (by rw [hP.r, hW.2.2.2.2.2.1 x (nns hx) e9]; exact hx.symm)) (by assumption))
        obtain ⟨ap, hp⟩ : ∃ ap, tN T1 p = some ap := rot_r (hW.dp (nns hx) hxp)
        refine x_aload_n (n' := 18) dJ1_fixAfterInsertion_17 rfl rfl rfl ?_
        refine x_getRs (n' := 21) (b := ap) dJ1_fixAfterInsertion_18 (hP.nk hx) ffJ1_124_88 rfl ((hP.p hx).trans (lk_s hxp hp)) rfl ?_
        refine x_getI (n' := 24) dJ1_fixAfterInsertion_21 (hP.nk hp) ffJ1_290_88 rfl rfl ?_
        rw [hP.co hp]
        refine x_if_ne (n' := 27) (tgt := 258) dJ1_fixAfterInsertion_24 (by decide) rfl (fun c24_2 => ?_) (fun c24_2 => ?_)
        · refine x_aload_n (n' := 259) dJ1_fixAfterInsertion_258 rfl rfl rfl ?_
          obtain ⟨r0, hrt⟩ : ∃ r0, tr T1 = some r0 := rot_r (fun e9 => hW.2.2.2.2.2.2.2.1 e9 x (nns hx))
          obtain ⟨ar0, har0⟩ : ∃ a, tN T1 r0 = some a := rot_r (hW.dt hrt)
          refine x_getRs (n' := 262) (b := ar0) dJ1_fixAfterInsertion_259 (hP.k) ffJ1_101_41 rfl (hP.r.trans (lk_s hrt har0)) rfl ?_
          refine x_iconst (n' := 263) (v := 1) dJ1_fixAfterInsertion_262 (by decide) rfl ?_
          refine x_putI (n' := 266) dJ1_fixAfterInsertion_263 (hP.nk har0) ffJ1_290_88 rfl (k_bool (by first | exact Or.inl rfl | exact Or.inr rfl)) rfl rfl ?_
          exact x_vret dJ1_fixAfterInsertion_266 hret hF.kE (⟨rfl, _, lo1, hi1, hP.wC har0 (Or.inr rfl), hW, hN, hF.I (Or.inr (by have z1 : tN T r0 = some ar0 := hN.1 ▸ har0; exact hP0.ng z1))⟩)
        · refine x_aload_n (n' := 28) dJ1_fixAfterInsertion_27 rfl rfl rfl ?_
          refine x_callS (n' := 31) (n := 1) (c_J1_parentOf__s l G _ o t asd T1 x ax hP hx) dJ1_fixAfterInsertion_28 (lw_S q2524 q2525 q81 q2526) (by decide +kernel) ⟨(Nat.le_of_ble_eq_true rfl), (Nat.le_of_ble_eq_true rfl)⟩ rfl rfl (Nat.le_of_ble_eq_true rfl) (by first | exact Nat.le_of_ble_eq_true rfl | omega) (by first | exact Nat.le_of_ble_eq_true rfl | omega) rfl (fun v_3 M_4 h_6 hE_5 => ?_)
          obtain ⟨rfl, hMs⟩ := h_6
          have hMs := hMs.symm
          subst hMs
          refine x_topr (lk_s hxp hp) ?_
          refine x_aload_n (n' := 32) dJ1_fixAfterInsertion_31 rfl rfl rfl ?_
          refine x_callS (n' := 35) (n := 1) (c_J1_parentOf__s l G _ o t asd T1 x ax hP hx) dJ1_fixAfterInsertion_32 (lw_S q2524 q2525 q81 q2526) (by decide +kernel) ⟨(Nat.le_of_ble_eq_true rfl), (Nat.le_of_ble_eq_true rfl)⟩ rfl rfl (Nat.le_of_ble_eq_true rfl) (by first | exact Nat.le_of_ble_eq_true rfl | omega) (by first | exact Nat.le_of_ble_eq_true rfl | omega) rfl (fun v_7 M_8 h_10 hE_9 => ?_)
          obtain ⟨rfl, hMs⟩ := h_10
          have hMs := hMs.symm
          subst hMs
          refine x_topr (lk_s hxp hp) ?_
          refine x_callS (n' := 38) (n := 1) (c_J1_parentOf__s l G _ o t asd T1 p ap hP hp) dJ1_fixAfterInsertion_35 (lw_S q2524 q2525 q81 q2526) (by decide +kernel) ⟨(Nat.le_of_ble_eq_true rfl), (Nat.le_of_ble_eq_true rfl)⟩ rfl rfl (Nat.le_of_ble_eq_true rfl) (by first | exact Nat.le_of_ble_eq_true rfl | omega) (by first | exact Nat.le_of_ble_eq_true rfl | omega) rfl (fun v_11 M_12 h_14 hE_13 => ?_)
          obtain ⟨rfl, hMs⟩ := h_14
          have hMs := hMs.symm
          subst hMs
          refine x_topq (fun e_17 => ?_) (fun b_16 e_17 => ?_)
          · have hl_18 : tP T1 p = none := bind_n e_17 (fun _ q => hW.dp (nns hp) q)
            refine x_callS (n' := 41) (n := 1) (c_J1_leftOf__n l G _) dJ1_fixAfterInsertion_38 (lw_S q2527 q2528 q81 q2529) (by decide +kernel) ⟨(Nat.le_of_ble_eq_true rfl), (Nat.le_of_ble_eq_true rfl)⟩ rfl rfl (Nat.le_of_ble_eq_true rfl) (by first | exact Nat.le_of_ble_eq_true rfl | omega) (by first | exact Nat.le_of_ble_eq_true rfl | omega) rfl (fun v_20 M_21 h_23 hE_22 => ?_)
            obtain ⟨rfl, hMs⟩ := h_23
            have hMs := hMs.symm
            subst hMs
            refine x_acmp_ne (n' := 44) (rx := some (ap)) (ry := none) (tgt := 151) dJ1_fixAfterInsertion_41 (by decide) rfl (fun c41_24 => ?_) (fun c41_24 => by cases c41_24)
            refine x_aload_n (n' := 152) dJ1_fixAfterInsertion_151 rfl rfl rfl ?_
            refine x_callS (n' := 155) (n := 1) (c_J1_parentOf__s l G _ o t asd T1 x ax hP hx) dJ1_fixAfterInsertion_152 (lw_S q2524 q2525 q81 q2526) (by decide +kernel) ⟨(Nat.le_of_ble_eq_true rfl), (Nat.le_of_ble_eq_true rfl)⟩ rfl rfl (Nat.le_of_ble_eq_true rfl) (by first | exact Nat.le_of_ble_eq_true rfl | omega) (by first | exact Nat.le_of_ble_eq_true rfl | omega) rfl (fun v_25 M_26 h_28 hE_27 => ?_)
            obtain ⟨rfl, hMs⟩ := h_28
            have hMs := hMs.symm
            subst hMs
            refine x_topr (lk_s hxp hp) ?_
            refine x_callS (n' := 158) (n := 1) (c_J1_parentOf__s l G _ o t asd T1 p ap hP hp) dJ1_fixAfterInsertion_155 (lw_S q2524 q2525 q81 q2526) (by decide +kernel) ⟨(Nat.le_of_ble_eq_true rfl), (Nat.le_of_ble_eq_true rfl)⟩ rfl rfl (Nat.le_of_ble_eq_true rfl) (by first | exact Nat.le_of_ble_eq_true rfl | omega) (by first | exact Nat.le_of_ble_eq_true rfl | omega) rfl (fun v_29 M_30 h_32 hE_31 => ?_)
            obtain ⟨rfl, hMs⟩ := h_32
            have hMs := hMs.symm
            subst hMs
            refine x_topn (lk_n hl_18) ?_
            refine x_callS (n' := 161) (n := 1) (c_J1_leftOf__n l G _) dJ1_fixAfterInsertion_158 (lw_S q2527 q2528 q81 q2529) (by decide +kernel) ⟨(Nat.le_of_ble_eq_true rfl), (Nat.le_of_ble_eq_true rfl)⟩ rfl rfl (Nat.le_of_ble_eq_true rfl) (by first | exact Nat.le_of_ble_eq_true rfl | omega) (by first | exact Nat.le_of_ble_eq_true rfl | omega) rfl (fun v_33 M_34 h_36 hE_35 => ?_)
            obtain ⟨rfl, hMs⟩ := h_36
            have hMs := hMs.symm
            subst hMs
            refine x_astore_nN (n' := 162) dJ1_fixAfterInsertion_161 rfl (Nat.le_of_ble_eq_true rfl) rfl (by dsimp only [List.set] <;> rfl) rfl ?_
            refine x_aload_nN (n' := 163) dJ1_fixAfterInsertion_162 rfl rfl rfl ?_
            refine x_callS (n' := 166) (n := 1) (c_J1_colorOf__n l G _) dJ1_fixAfterInsertion_163 (lw_S q2533 q2534 q81 q2535) (by decide +kernel) ⟨(Nat.le_of_ble_eq_true rfl), (Nat.le_of_ble_eq_true rfl)⟩ rfl rfl (Nat.le_of_ble_eq_true rfl) (by first | exact Nat.le_of_ble_eq_true rfl | omega) (by first | exact Nat.le_of_ble_eq_true rfl | omega) rfl (fun v_37 M_38 h_40 hE_39 => ?_)
            obtain ⟨rfl, hMs⟩ := h_40
            have hMs := hMs.symm
            subst hMs
            refine x_if_ne (n' := 169) (tgt := 204) dJ1_fixAfterInsertion_166 (by decide) rfl (fun c166_41 => ?_) (fun c166_41 => by first | exact absurd c166_41 (by decide) | exact absurd (by decide) c166_41)
            refine x_aload_n (n' := 205) dJ1_fixAfterInsertion_204 rfl rfl rfl ?_
            refine x_aload_n (n' := 206) dJ1_fixAfterInsertion_205 rfl rfl rfl ?_
            refine x_callS (n' := 209) (n := 1) (c_J1_parentOf__s l G _ o t asd T1 x ax hP hx) dJ1_fixAfterInsertion_206 (lw_S q2524 q2525 q81 q2526) (by decide +kernel) ⟨(Nat.le_of_ble_eq_true rfl), (Nat.le_of_ble_eq_true rfl)⟩ rfl rfl (Nat.le_of_ble_eq_true rfl) (by first | exact Nat.le_of_ble_eq_true rfl | omega) (by first | exact Nat.le_of_ble_eq_true rfl | omega) rfl (fun v_42 M_43 h_45 hE_44 => ?_)
            obtain ⟨rfl, hMs⟩ := h_45
            have hMs := hMs.symm
            subst hMs
            refine x_topr (lk_s hxp hp) ?_
            refine x_callS (n' := 212) (n := 1) (c_J1_leftOf__s l G _ o t asd T1 p ap hP hp) dJ1_fixAfterInsertion_209 (lw_S q2527 q2528 q81 q2529) (by decide +kernel) ⟨(Nat.le_of_ble_eq_true rfl), (Nat.le_of_ble_eq_true rfl)⟩ rfl rfl (Nat.le_of_ble_eq_true rfl) (by first | exact Nat.le_of_ble_eq_true rfl | omega) (by first | exact Nat.le_of_ble_eq_true rfl | omega) rfl (fun v_46 M_47 h_49 hE_48 => ?_)
            obtain ⟨rfl, hMs⟩ := h_49
            have hMs := hMs.symm
            subst hMs
            refine x_topq (fun e_52 => ?_) (fun b_51 e_52 => ?_)
            · have hl_53 : tL T1 p = none := bind_n e_52 (fun _ q => hW.dl (nns hp) q)
              refine x_acmp_ne (n' := 215) (rx := some (ax)) (ry := none) (tgt := 225) dJ1_fixAfterInsertion_212 (by decide) rfl (fun c212_55 => ?_) (fun c212_55 => by cases c212_55)
              have hpo : tL T1 p ≠ some x := fun e9 => by have := hl_53; rw [show tL T1 p = some x from e9] at this; cases this
              refine x_aload_n (n' := 226) dJ1_fixAfterInsertion_225 rfl rfl rfl ?_
              refine x_callS (n' := 229) (n := 1) (c_J1_parentOf__s l G _ o t asd T1 x ax hP hx) dJ1_fixAfterInsertion_226 (lw_S q2524 q2525 q81 q2526) (by decide +kernel) ⟨(Nat.le_of_ble_eq_true rfl), (Nat.le_of_ble_eq_true rfl)⟩ rfl rfl (Nat.le_of_ble_eq_true rfl) (by first | exact Nat.le_of_ble_eq_true rfl | omega) (by first | exact Nat.le_of_ble_eq_true rfl | omega) rfl (fun v_56 M_57 h_59 hE_58 => ?_)
              obtain ⟨rfl, hMs⟩ := h_59
              have hMs := hMs.symm
              subst hMs
              refine x_topr (lk_s hxp hp) ?_
              refine x_iconst (n' := 230) (v := 1) dJ1_fixAfterInsertion_229 (by decide) rfl ?_
              refine x_callS (n' := 233) (n := 2) (c_J1_setColor__s l G _ o t asd T1 p ap 1 hP hp (Or.inr rfl)) dJ1_fixAfterInsertion_230 (lw_S q2536 q2537 q81 q2538) (by decide +kernel) ⟨(Nat.le_of_ble_eq_true rfl), (Nat.le_of_ble_eq_true rfl)⟩ rfl rfl (Nat.le_of_ble_eq_true rfl) (by first | exact Nat.le_of_ble_eq_true rfl | omega) (by first | exact Nat.le_of_ble_eq_true rfl | omega) rfl (fun v_60 M_61 h_63 hE_62 => ?_)
              obtain ⟨rfl, hP9, hF9⟩ := h_63
              replace hP := hP9
              replace hF := hF.tr hF9
              clear hF9
              refine x_aload_n (n' := 234) dJ1_fixAfterInsertion_233 rfl rfl rfl ?_
              refine x_callS (n' := 237) (n := 1) (c_J1_parentOf__s l G _ o t asd (tsC T1 p 1) x ax hP hx) dJ1_fixAfterInsertion_234 (lw_S q2524 q2525 q81 q2526) (by decide +kernel) ⟨(Nat.le_of_ble_eq_true rfl), (Nat.le_of_ble_eq_true rfl)⟩ rfl rfl (Nat.le_of_ble_eq_true rfl) (by first | exact Nat.le_of_ble_eq_true rfl | omega) (by first | exact Nat.le_of_ble_eq_true rfl | omega) rfl (fun v_64 M_65 h_67 hE_66 => ?_)
              obtain ⟨rfl, hMs⟩ := h_67
              have hMs := hMs.symm
              subst hMs
              refine x_topr (lk_s hxp hp) ?_
              refine x_callS (n' := 240) (n := 1) (c_J1_parentOf__s l G _ o t asd (tsC T1 p 1) p ap hP hp) dJ1_fixAfterInsertion_237 (lw_S q2524 q2525 q81 q2526) (by decide +kernel) ⟨(Nat.le_of_ble_eq_true rfl), (Nat.le_of_ble_eq_true rfl)⟩ rfl rfl (Nat.le_of_ble_eq_true rfl) (by first | exact Nat.le_of_ble_eq_true rfl | omega) (by first | exact Nat.le_of_ble_eq_true rfl | omega) rfl (fun v_68 M_69 h_71 hE_70 => ?_)
              obtain ⟨rfl, hMs⟩ := h_71
              have hMs := hMs.symm
              subst hMs
              refine x_topn (lk_n hl_18) ?_
              refine x_iconst (n' := 241) (v := 0) dJ1_fixAfterInsertion_240 (by decide) rfl ?_
              refine x_callS (n' := 244) (n := 2) (c_J1_setColor__n l G _ 0) dJ1_fixAfterInsertion_241 (lw_S q2536 q2537 q81 q2538) (by decide +kernel) ⟨(Nat.le_of_ble_eq_true rfl), (Nat.le_of_ble_eq_true rfl)⟩ rfl rfl (Nat.le_of_ble_eq_true rfl) (by first | exact Nat.le_of_ble_eq_true rfl | omega) (by first | exact Nat.le_of_ble_eq_true rfl | omega) rfl (fun v_72 M_73 h_75 hE_74 => ?_)
              obtain ⟨rfl, hMs⟩ := h_75
              have hMs := hMs.symm
              subst hMs
              refine x_aload_n (n' := 245) dJ1_fixAfterInsertion_244 rfl rfl rfl ?_
              refine x_aload_n (n' := 246) dJ1_fixAfterInsertion_245 rfl rfl rfl ?_
              refine x_callS (n' := 249) (n := 1) (c_J1_parentOf__s l G _ o t asd (tsC T1 p 1) x ax hP hx) dJ1_fixAfterInsertion_246 (lw_S q2524 q2525 q81 q2526) (by decide +kernel) ⟨(Nat.le_of_ble_eq_true rfl), (Nat.le_of_ble_eq_true rfl)⟩ rfl rfl (Nat.le_of_ble_eq_true rfl) (by first | exact Nat.le_of_ble_eq_true rfl | omega) (by first | exact Nat.le_of_ble_eq_true rfl | omega) rfl (fun v_76 M_77 h_79 hE_78 => ?_)
              obtain ⟨rfl, hMs⟩ := h_79
              have hMs := hMs.symm
              subst hMs
              refine x_topr (lk_s hxp hp) ?_
              refine x_callS (n' := 252) (n := 1) (c_J1_parentOf__s l G _ o t asd (tsC T1 p 1) p ap hP hp) dJ1_fixAfterInsertion_249 (lw_S q2524 q2525 q81 q2526) (by decide +kernel) ⟨(Nat.le_of_ble_eq_true rfl), (Nat.le_of_ble_eq_true rfl)⟩ rfl rfl (Nat.le_of_ble_eq_true rfl) (by first | exact Nat.le_of_ble_eq_true rfl | omega) (by first | exact Nat.le_of_ble_eq_true rfl | omega) rfl (fun v_80 M_81 h_83 hE_82 => ?_)
              obtain ⟨rfl, hMs⟩ := h_83
              have hMs := hMs.symm
              subst hMs
              refine x_topn (lk_n hl_18) ?_
              refine x_callV (n' := 255) (n := 1) (K := 41) (c_J1_rotateLeft__n l G _ t) dJ1_fixAfterInsertion_252 (hP.k) rfl (lw_V q2539 q2541 qs30 q81 q2542) (by decide +kernel) ⟨(Nat.le_of_ble_eq_true rfl), (Nat.le_of_ble_eq_true rfl)⟩ rfl rfl (Nat.le_of_ble_eq_true rfl) (by first | exact Nat.le_of_ble_eq_true rfl | omega) (by first | exact Nat.le_of_ble_eq_true rfl | omega) rfl (fun v_84 M_85 h_87 hE_86 => ?_)
              obtain ⟨rfl, hMs⟩ := h_87
              have hMs := hMs.symm
              subst hMs
              have hfp : tP (tsC T1 p 1) x = some p := hxp
              have hfc : tC (tsC T1 p 1) p = 1 := va_up_self _ _ _
              refine x_goto (tgt := 5) dJ1_fixAfterInsertion_255 (by decide) ?_
              have hm9 := hm p hxp (by assumption)
              have ivx := hW1.1 x (nns hx)
              exact x_drop (ih 0 x ax (tsC T1 p 1) _ _ _ (by omega) (fun p9 hp9 hc9 => absurd hc9 (by rw [hfp] at hp9; cases hp9; rw [hfc]; decide)) hx hP hW hN hF) ⟨rfl, ⟨rfl, trivial⟩⟩
            · obtain ⟨j_50, hl_53, hj_54⟩ := bind_s e_52
              refine x_acmp_ne (n' := 215) (rx := some (ax)) (ry := some (b_51)) (tgt := 225) dJ1_fixAfterInsertion_212 (by decide) rfl (fun c212_88 => ?_) (fun c212_88 => ?_)
              · have hpo : tL T1 p ≠ some x := fun e9 => absurd (congrArg some (Option.some.inj ((hx.symm).trans ((congrArg (tN T1) (Option.some.inj (e9.symm.trans hl_53))).trans hj_54)))) (by assumption)
                refine x_aload_n (n' := 226) dJ1_fixAfterInsertion_225 rfl rfl rfl ?_
                refine x_callS (n' := 229) (n := 1) (c_J1_parentOf__s l G _ o t asd T1 x ax hP hx) dJ1_fixAfterInsertion_226 (lw_S q2524 q2525 q81 q2526) (by decide +kernel) ⟨(Nat.le_of_ble_eq_true rfl), (Nat.le_of_ble_eq_true rfl)⟩ rfl rfl (Nat.le_of_ble_eq_true rfl) (by first | exact Nat.le_of_ble_eq_true rfl | omega) (by first | exact Nat.le_of_ble_eq_true rfl | omega) rfl (fun v_89 M_90 h_92 hE_91 => ?_)
                obtain ⟨rfl, hMs⟩ := h_92
                have hMs := hMs.symm
                subst hMs
                refine x_topr (lk_s hxp hp) ?_
                refine x_iconst (n' := 230) (v := 1) dJ1_fixAfterInsertion_229 (by decide) rfl ?_
                refine x_callS (n' := 233) (n := 2) (c_J1_setColor__s l G _ o t asd T1 p ap 1 hP hp (Or.inr rfl)) dJ1_fixAfterInsertion_230 (lw_S q2536 q2537 q81 q2538) (by decide +kernel) ⟨(Nat.le_of_ble_eq_true rfl), (Nat.le_of_ble_eq_true rfl)⟩ rfl rfl (Nat.le_of_ble_eq_true rfl) (by first | exact Nat.le_of_ble_eq_true rfl | omega) (by first | exact Nat.le_of_ble_eq_true rfl | omega) rfl (fun v_93 M_94 h_96 hE_95 => ?_)
                obtain ⟨rfl, hP9, hF9⟩ := h_96
                replace hP := hP9
                replace hF := hF.tr hF9
                clear hF9
                refine x_aload_n (n' := 234) dJ1_fixAfterInsertion_233 rfl rfl rfl ?_
                refine x_callS (n' := 237) (n := 1) (c_J1_parentOf__s l G _ o t asd (tsC T1 p 1) x ax hP hx) dJ1_fixAfterInsertion_234 (lw_S q2524 q2525 q81 q2526) (by decide +kernel) ⟨(Nat.le_of_ble_eq_true rfl), (Nat.le_of_ble_eq_true rfl)⟩ rfl rfl (Nat.le_of_ble_eq_true rfl) (by first | exact Nat.le_of_ble_eq_true rfl | omega) (by first | exact Nat.le_of_ble_eq_true rfl | omega) rfl (fun v_97 M_98 h_100 hE_99 => ?_)
                obtain ⟨rfl, hMs⟩ := h_100
                have hMs := hMs.symm
                subst hMs
                refine x_topr (lk_s hxp hp) ?_
                refine x_callS (n' := 240) (n := 1) (c_J1_parentOf__s l G _ o t asd (tsC T1 p 1) p ap hP hp) dJ1_fixAfterInsertion_237 (lw_S q2524 q2525 q81 q2526) (by decide +kernel) ⟨(Nat.le_of_ble_eq_true rfl), (Nat.le_of_ble_eq_true rfl)⟩ rfl rfl (Nat.le_of_ble_eq_true rfl) (by first | exact Nat.le_of_ble_eq_true rfl | omega) (by first | exact Nat.le_of_ble_eq_true rfl | omega) rfl (fun v_101 M_102 h_104 hE_103 => ?_)
                obtain ⟨rfl, hMs⟩ := h_104
                have hMs := hMs.symm
                subst hMs
                refine x_topn (lk_n hl_18) ?_
                refine x_iconst (n' := 241) (v := 0) dJ1_fixAfterInsertion_240 (by decide) rfl ?_
                refine x_callS (n' := 244) (n := 2) (c_J1_setColor__n l G _ 0) dJ1_fixAfterInsertion_241 (lw_S q2536 q2537 q81 q2538) (by decide +kernel) ⟨(Nat.le_of_ble_eq_true rfl), (Nat.le_of_ble_eq_true rfl)⟩ rfl rfl (Nat.le_of_ble_eq_true rfl) (by first | exact Nat.le_of_ble_eq_true rfl | omega) (by first | exact Nat.le_of_ble_eq_true rfl | omega) rfl (fun v_105 M_106 h_108 hE_107 => ?_)
                obtain ⟨rfl, hMs⟩ := h_108
                have hMs := hMs.symm
                subst hMs
                refine x_aload_n (n' := 245) dJ1_fixAfterInsertion_244 rfl rfl rfl ?_
                refine x_aload_n (n' := 246) dJ1_fixAfterInsertion_245 rfl rfl rfl ?_
                refine x_callS (n' := 249) (n := 1) (c_J1_parentOf__s l G _ o t asd (tsC T1 p 1) x ax hP hx) dJ1_fixAfterInsertion_246 (lw_S q2524 q2525 q81 q2526) (by decide +kernel) ⟨(Nat.le_of_ble_eq_true rfl), (Nat.le_of_ble_eq_true rfl)⟩ rfl rfl (Nat.le_of_ble_eq_true rfl) (by first | exact Nat.le_of_ble_eq_true rfl | omega) (by first | exact Nat.le_of_ble_eq_true rfl | omega) rfl (fun v_109 M_110 h_112 hE_111 => ?_)
                obtain ⟨rfl, hMs⟩ := h_112
                have hMs := hMs.symm
                subst hMs
                refine x_topr (lk_s hxp hp) ?_
                refine x_callS (n' := 252) (n := 1) (c_J1_parentOf__s l G _ o t asd (tsC T1 p 1) p ap hP hp) dJ1_fixAfterInsertion_249 (lw_S q2524 q2525 q81 q2526) (by decide +kernel) ⟨(Nat.le_of_ble_eq_true rfl), (Nat.le_of_ble_eq_true rfl)⟩ rfl rfl (Nat.le_of_ble_eq_true rfl) (by first | exact Nat.le_of_ble_eq_true rfl | omega) (by first | exact Nat.le_of_ble_eq_true rfl | omega) rfl (fun v_113 M_114 h_116 hE_115 => ?_)
                obtain ⟨rfl, hMs⟩ := h_116
                have hMs := hMs.symm
                subst hMs
                refine x_topn (lk_n hl_18) ?_
                refine x_callV (n' := 255) (n := 1) (K := 41) (c_J1_rotateLeft__n l G _ t) dJ1_fixAfterInsertion_252 (hP.k) rfl (lw_V q2539 q2541 qs30 q81 q2542) (by decide +kernel) ⟨(Nat.le_of_ble_eq_true rfl), (Nat.le_of_ble_eq_true rfl)⟩ rfl rfl (Nat.le_of_ble_eq_true rfl) (by first | exact Nat.le_of_ble_eq_true rfl | omega) (by first | exact Nat.le_of_ble_eq_true rfl | omega) rfl (fun v_117 M_118 h_120 hE_119 => ?_)
                obtain ⟨rfl, hMs⟩ := h_120
                have hMs := hMs.symm
                subst hMs
                have hfp : tP (tsC T1 p 1) x = some p := hxp
                have hfc : tC (tsC T1 p 1) p = 1 := va_up_self _ _ _
                refine x_goto (tgt := 5) dJ1_fixAfterInsertion_255 (by decide) ?_
                have hm9 := hm p hxp (by assumption)
                have ivx := hW1.1 x (nns hx)
                exact x_drop (ih 0 x ax (tsC T1 p 1) _ _ _ (by omega) (fun p9 hp9 hc9 => absurd hc9 (by rw [hfp] at hp9; cases hp9; rw [hfc]; decide)) hx hP hW hN hF) ⟨rfl, ⟨rfl, trivial⟩⟩
              · have hpx : tL T1 p = some x := by have e9 : ax = b_51 := Option.some.inj (by assumption); have e8 : x = j_50 := hP.inj hx ((hj_54).trans (congrArg some e9.symm)); rw [e8]; exact hl_53
                refine x_aload_n (n' := 216) dJ1_fixAfterInsertion_215 rfl rfl rfl ?_
                refine x_callS (n' := 219) (n := 1) (c_J1_parentOf__s l G _ o t asd T1 x ax hP hx) dJ1_fixAfterInsertion_216 (lw_S q2524 q2525 q81 q2526) (by decide +kernel) ⟨(Nat.le_of_ble_eq_true rfl), (Nat.le_of_ble_eq_true rfl)⟩ rfl rfl (Nat.le_of_ble_eq_true rfl) (by first | exact Nat.le_of_ble_eq_true rfl | omega) (by first | exact Nat.le_of_ble_eq_true rfl | omega) rfl (fun v_121 M_122 h_124 hE_123 => ?_)
                obtain ⟨rfl, hMs⟩ := h_124
                have hMs := hMs.symm
                subst hMs
                refine x_topr (lk_s hxp hp) ?_
                refine x_astore_n (n' := 220) dJ1_fixAfterInsertion_219 rfl (Nat.le_of_ble_eq_true rfl) rfl (by dsimp only [List.set] <;> rfl) rfl ?_
                refine x_aload_n (n' := 221) dJ1_fixAfterInsertion_220 rfl rfl rfl ?_
                refine x_aload_n (n' := 222) dJ1_fixAfterInsertion_221 rfl rfl rfl ?_
                refine x_callV (n' := 225) (n := 1) (K := 41) (c_J1_rotateRight__s l G _ o t asd T1 p ap x _ _ hP hW hp hpx) dJ1_fixAfterInsertion_222 (hP.k) rfl (lw_V q2543 q2545 qs31 q81 q2546) (by decide +kernel) ⟨(Nat.le_of_ble_eq_true rfl), (Nat.le_of_ble_eq_true rfl)⟩ rfl rfl (Nat.le_of_ble_eq_true rfl) (by first | exact Nat.le_of_ble_eq_true rfl | omega) (by first | exact Nat.le_of_ble_eq_true rfl | omega) rfl (fun v_125 M_126 h_128 hE_127 => ?_)
                obtain ⟨rfl, hP9, hF9⟩ := h_128
                replace hP := hP9
                replace hF := hF.tr hF9
                clear hF9
                have hW0 := hW
                have hW := rotRT_W (T := T1) hW0 hp hpx
                have hup := hW0.up (nns hx) hxp
                have hq1 : tP (rotRT T1 p x) p = some x := rotRT_Pp
                have hq2 : tP (rotRT T1 p x) x = none := (rotRT_Pr (fun e => hup.2.1 e.symm)).trans hl_18
                refine x_aload_n (n' := 226) dJ1_fixAfterInsertion_225 rfl rfl rfl ?_
                refine x_callS (n' := 229) (n := 1) (c_J1_parentOf__s l G _ o t asd (rotRT T1 p x) p ap hP hp) dJ1_fixAfterInsertion_226 (lw_S q2524 q2525 q81 q2526) (by decide +kernel) ⟨(Nat.le_of_ble_eq_true rfl), (Nat.le_of_ble_eq_true rfl)⟩ rfl rfl (Nat.le_of_ble_eq_true rfl) (by first | exact Nat.le_of_ble_eq_true rfl | omega) (by first | exact Nat.le_of_ble_eq_true rfl | omega) rfl (fun v_129 M_130 h_132 hE_131 => ?_)
                obtain ⟨rfl, hMs⟩ := h_132
                have hMs := hMs.symm
                subst hMs
                refine x_topr (lk_s hq1 hx) ?_
                refine x_iconst (n' := 230) (v := 1) dJ1_fixAfterInsertion_229 (by decide) rfl ?_
                refine x_callS (n' := 233) (n := 2) (c_J1_setColor__s l G _ o t asd (rotRT T1 p x) x ax 1 hP hx (Or.inr rfl)) dJ1_fixAfterInsertion_230 (lw_S q2536 q2537 q81 q2538) (by decide +kernel) ⟨(Nat.le_of_ble_eq_true rfl), (Nat.le_of_ble_eq_true rfl)⟩ rfl rfl (Nat.le_of_ble_eq_true rfl) (by first | exact Nat.le_of_ble_eq_true rfl | omega) (by first | exact Nat.le_of_ble_eq_true rfl | omega) rfl (fun v_133 M_134 h_136 hE_135 => ?_)
                obtain ⟨rfl, hP9, hF9⟩ := h_136
                replace hP := hP9
                replace hF := hF.tr hF9
                clear hF9
                refine x_aload_n (n' := 234) dJ1_fixAfterInsertion_233 rfl rfl rfl ?_
                refine x_callS (n' := 237) (n := 1) (c_J1_parentOf__s l G _ o t asd (tsC (rotRT T1 p x) x 1) p ap hP hp) dJ1_fixAfterInsertion_234 (lw_S q2524 q2525 q81 q2526) (by decide +kernel) ⟨(Nat.le_of_ble_eq_true rfl), (Nat.le_of_ble_eq_true rfl)⟩ rfl rfl (Nat.le_of_ble_eq_true rfl) (by first | exact Nat.le_of_ble_eq_true rfl | omega) (by first | exact Nat.le_of_ble_eq_true rfl | omega) rfl (fun v_137 M_138 h_140 hE_139 => ?_)
                obtain ⟨rfl, hMs⟩ := h_140
                have hMs := hMs.symm
                subst hMs
                refine x_topr (lk_s hq1 hx) ?_
                refine x_callS (n' := 240) (n := 1) (c_J1_parentOf__s l G _ o t asd (tsC (rotRT T1 p x) x 1) x ax hP hx) dJ1_fixAfterInsertion_237 (lw_S q2524 q2525 q81 q2526) (by decide +kernel) ⟨(Nat.le_of_ble_eq_true rfl), (Nat.le_of_ble_eq_true rfl)⟩ rfl rfl (Nat.le_of_ble_eq_true rfl) (by first | exact Nat.le_of_ble_eq_true rfl | omega) (by first | exact Nat.le_of_ble_eq_true rfl | omega) rfl (fun v_141 M_142 h_144 hE_143 => ?_)
                obtain ⟨rfl, hMs⟩ := h_144
                have hMs := hMs.symm
                subst hMs
                refine x_topn (lk_n hq2) ?_
                refine x_iconst (n' := 241) (v := 0) dJ1_fixAfterInsertion_240 (by decide) rfl ?_
                refine x_callS (n' := 244) (n := 2) (c_J1_setColor__n l G _ 0) dJ1_fixAfterInsertion_241 (lw_S q2536 q2537 q81 q2538) (by decide +kernel) ⟨(Nat.le_of_ble_eq_true rfl), (Nat.le_of_ble_eq_true rfl)⟩ rfl rfl (Nat.le_of_ble_eq_true rfl) (by first | exact Nat.le_of_ble_eq_true rfl | omega) (by first | exact Nat.le_of_ble_eq_true rfl | omega) rfl (fun v_145 M_146 h_148 hE_147 => ?_)
                obtain ⟨rfl, hMs⟩ := h_148
                have hMs := hMs.symm
                subst hMs
                refine x_aload_n (n' := 245) dJ1_fixAfterInsertion_244 rfl rfl rfl ?_
                refine x_aload_n (n' := 246) dJ1_fixAfterInsertion_245 rfl rfl rfl ?_
                refine x_callS (n' := 249) (n := 1) (c_J1_parentOf__s l G _ o t asd (tsC (rotRT T1 p x) x 1) p ap hP hp) dJ1_fixAfterInsertion_246 (lw_S q2524 q2525 q81 q2526) (by decide +kernel) ⟨(Nat.le_of_ble_eq_true rfl), (Nat.le_of_ble_eq_true rfl)⟩ rfl rfl (Nat.le_of_ble_eq_true rfl) (by first | exact Nat.le_of_ble_eq_true rfl | omega) (by first | exact Nat.le_of_ble_eq_true rfl | omega) rfl (fun v_149 M_150 h_152 hE_151 => ?_)
                obtain ⟨rfl, hMs⟩ := h_152
                have hMs := hMs.symm
                subst hMs
                refine x_topr (lk_s hq1 hx) ?_
                refine x_callS (n' := 252) (n := 1) (c_J1_parentOf__s l G _ o t asd (tsC (rotRT T1 p x) x 1) x ax hP hx) dJ1_fixAfterInsertion_249 (lw_S q2524 q2525 q81 q2526) (by decide +kernel) ⟨(Nat.le_of_ble_eq_true rfl), (Nat.le_of_ble_eq_true rfl)⟩ rfl rfl (Nat.le_of_ble_eq_true rfl) (by first | exact Nat.le_of_ble_eq_true rfl | omega) (by first | exact Nat.le_of_ble_eq_true rfl | omega) rfl (fun v_153 M_154 h_156 hE_155 => ?_)
                obtain ⟨rfl, hMs⟩ := h_156
                have hMs := hMs.symm
                subst hMs
                refine x_topn (lk_n hq2) ?_
                refine x_callV (n' := 255) (n := 1) (K := 41) (c_J1_rotateLeft__n l G _ t) dJ1_fixAfterInsertion_252 (hP.k) rfl (lw_V q2539 q2541 qs30 q81 q2542) (by decide +kernel) ⟨(Nat.le_of_ble_eq_true rfl), (Nat.le_of_ble_eq_true rfl)⟩ rfl rfl (Nat.le_of_ble_eq_true rfl) (by first | exact Nat.le_of_ble_eq_true rfl | omega) (by first | exact Nat.le_of_ble_eq_true rfl | omega) rfl (fun v_157 M_158 h_160 hE_159 => ?_)
                obtain ⟨rfl, hMs⟩ := h_160
                have hMs := hMs.symm
                subst hMs
                have hfp : tP (tsC (rotRT T1 p x) x 1) p = some x := hq1
                have hfc : tC (tsC (rotRT T1 p x) x 1) x = 1 := va_up_self _ _ _
                refine x_goto (tgt := 5) dJ1_fixAfterInsertion_255 (by decide) ?_
                have hm9 := hm p hxp (by assumption)
                have ivx := hW1.1 x (nns hx)
                exact x_drop (ih 0 p ap (tsC (rotRT T1 p x) x 1) _ _ _ (by omega) (fun p9 hp9 hc9 => absurd hc9 (by rw [hfp] at hp9; cases hp9; rw [hfc]; decide)) hp hP hW hN hF) ⟨rfl, ⟨rfl, trivial⟩⟩
          · obtain ⟨j_15, hl_18, hj_19⟩ := bind_s e_17
            refine x_callS (n' := 41) (n := 1) (c_J1_leftOf__s l G _ o t asd T1 j_15 b_16 hP hj_19) dJ1_fixAfterInsertion_38 (lw_S q2527 q2528 q81 q2529) (by decide +kernel) ⟨(Nat.le_of_ble_eq_true rfl), (Nat.le_of_ble_eq_true rfl)⟩ rfl rfl (Nat.le_of_ble_eq_true rfl) (by first | exact Nat.le_of_ble_eq_true rfl | omega) (by first | exact Nat.le_of_ble_eq_true rfl | omega) rfl (fun v_161 M_162 h_164 hE_163 => ?_)
            obtain ⟨rfl, hMs⟩ := h_164
            have hMs := hMs.symm
            subst hMs
            refine x_topq (fun e_167 => ?_) (fun b_166 e_167 => ?_)
            · have hl_168 : tL T1 j_15 = none := bind_n e_167 (fun _ q => hW.dl (nns hj_19) q)
              refine x_acmp_ne (n' := 44) (rx := some (ap)) (ry := none) (tgt := 151) dJ1_fixAfterInsertion_41 (by decide) rfl (fun c41_170 => ?_) (fun c41_170 => by cases c41_170)
              have hgr : tR T1 j_15 = some p := hW.sideL (nns hp) hl_18 (fun e9 => by have := hl_168; rw [show tL T1 j_15 = some p from e9] at this; cases this)
              refine x_aload_n (n' := 152) dJ1_fixAfterInsertion_151 rfl rfl rfl ?_
              refine x_callS (n' := 155) (n := 1) (c_J1_parentOf__s l G _ o t asd T1 x ax hP hx) dJ1_fixAfterInsertion_152 (lw_S q2524 q2525 q81 q2526) (by decide +kernel) ⟨(Nat.le_of_ble_eq_true rfl), (Nat.le_of_ble_eq_true rfl)⟩ rfl rfl (Nat.le_of_ble_eq_true rfl) (by first | exact Nat.le_of_ble_eq_true rfl | omega) (by first | exact Nat.le_of_ble_eq_true rfl | omega) rfl (fun v_171 M_172 h_174 hE_173 => ?_)
              obtain ⟨rfl, hMs⟩ := h_174
              have hMs := hMs.symm
              subst hMs
              refine x_topr (lk_s hxp hp) ?_
              refine x_callS (n' := 158) (n := 1) (c_J1_parentOf__s l G _ o t asd T1 p ap hP hp) dJ1_fixAfterInsertion_155 (lw_S q2524 q2525 q81 q2526) (by decide +kernel) ⟨(Nat.le_of_ble_eq_true rfl), (Nat.le_of_ble_eq_true rfl)⟩ rfl rfl (Nat.le_of_ble_eq_true rfl) (by first | exact Nat.le_of_ble_eq_true rfl | omega) (by first | exact Nat.le_of_ble_eq_true rfl | omega) rfl (fun v_175 M_176 h_178 hE_177 => ?_)
              obtain ⟨rfl, hMs⟩ := h_178
              have hMs := hMs.symm
              subst hMs
              refine x_topr (lk_s hl_18 hj_19) ?_
              refine x_callS (n' := 161) (n := 1) (c_J1_leftOf__s l G _ o t asd T1 j_15 b_16 hP hj_19) dJ1_fixAfterInsertion_158 (lw_S q2527 q2528 q81 q2529) (by decide +kernel) ⟨(Nat.le_of_ble_eq_true rfl), (Nat.le_of_ble_eq_true rfl)⟩ rfl rfl (Nat.le_of_ble_eq_true rfl) (by first | exact Nat.le_of_ble_eq_true rfl | omega) (by first | exact Nat.le_of_ble_eq_true rfl | omega) rfl (fun v_179 M_180 h_182 hE_181 => ?_)
              obtain ⟨rfl, hMs⟩ := h_182
              have hMs := hMs.symm
              subst hMs
              refine x_topn (lk_n hl_168) ?_
              refine x_astore_nN (n' := 162) dJ1_fixAfterInsertion_161 rfl (Nat.le_of_ble_eq_true rfl) rfl (by dsimp only [List.set] <;> rfl) rfl ?_
              refine x_aload_nN (n' := 163) dJ1_fixAfterInsertion_162 rfl rfl rfl ?_
              refine x_callS (n' := 166) (n := 1) (c_J1_colorOf__n l G _) dJ1_fixAfterInsertion_163 (lw_S q2533 q2534 q81 q2535) (by decide +kernel) ⟨(Nat.le_of_ble_eq_true rfl), (Nat.le_of_ble_eq_true rfl)⟩ rfl rfl (Nat.le_of_ble_eq_true rfl) (by first | exact Nat.le_of_ble_eq_true rfl | omega) (by first | exact Nat.le_of_ble_eq_true rfl | omega) rfl (fun v_183 M_184 h_186 hE_185 => ?_)
              obtain ⟨rfl, hMs⟩ := h_186
              have hMs := hMs.symm
              subst hMs
              refine x_if_ne (n' := 169) (tgt := 204) dJ1_fixAfterInsertion_166 (by decide) rfl (fun c166_187 => ?_) (fun c166_187 => by first | exact absurd c166_187 (by decide) | exact absurd (by decide) c166_187)
              refine x_aload_n (n' := 205) dJ1_fixAfterInsertion_204 rfl rfl rfl ?_
              refine x_aload_n (n' := 206) dJ1_fixAfterInsertion_205 rfl rfl rfl ?_
              refine x_callS (n' := 209) (n := 1) (c_J1_parentOf__s l G _ o t asd T1 x ax hP hx) dJ1_fixAfterInsertion_206 (lw_S q2524 q2525 q81 q2526) (by decide +kernel) ⟨(Nat.le_of_ble_eq_true rfl), (Nat.le_of_ble_eq_true rfl)⟩ rfl rfl (Nat.le_of_ble_eq_true rfl) (by first | exact Nat.le_of_ble_eq_true rfl | omega) (by first | exact Nat.le_of_ble_eq_true rfl | omega) rfl (fun v_188 M_189 h_191 hE_190 => ?_)
              obtain ⟨rfl, hMs⟩ := h_191
              have hMs := hMs.symm
              subst hMs
              refine x_topr (lk_s hxp hp) ?_
              refine x_callS (n' := 212) (n := 1) (c_J1_leftOf__s l G _ o t asd T1 p ap hP hp) dJ1_fixAfterInsertion_209 (lw_S q2527 q2528 q81 q2529) (by decide +kernel) ⟨(Nat.le_of_ble_eq_true rfl), (Nat.le_of_ble_eq_true rfl)⟩ rfl rfl (Nat.le_of_ble_eq_true rfl) (by first | exact Nat.le_of_ble_eq_true rfl | omega) (by first | exact Nat.le_of_ble_eq_true rfl | omega) rfl (fun v_192 M_193 h_195 hE_194 => ?_)
              obtain ⟨rfl, hMs⟩ := h_195
              have hMs := hMs.symm
              subst hMs
              refine x_topq (fun e_198 => ?_) (fun b_197 e_198 => ?_)
              · have hl_199 : tL T1 p = none := bind_n e_198 (fun _ q => hW.dl (nns hp) q)
                refine x_acmp_ne (n' := 215) (rx := some (ax)) (ry := none) (tgt := 225) dJ1_fixAfterInsertion_212 (by decide) rfl (fun c212_201 => ?_) (fun c212_201 => by cases c212_201)
                have hpo : tL T1 p ≠ some x := fun e9 => by have := hl_199; rw [show tL T1 p = some x from e9] at this; cases this
                refine x_aload_n (n' := 226) dJ1_fixAfterInsertion_225 rfl rfl rfl ?_
                refine x_callS (n' := 229) (n := 1) (c_J1_parentOf__s l G _ o t asd T1 x ax hP hx) dJ1_fixAfterInsertion_226 (lw_S q2524 q2525 q81 q2526) (by decide +kernel) ⟨(Nat.le_of_ble_eq_true rfl), (Nat.le_of_ble_eq_true rfl)⟩ rfl rfl (Nat.le_of_ble_eq_true rfl) (by first | exact Nat.le_of_ble_eq_true rfl | omega) (by first | exact Nat.le_of_ble_eq_true rfl | omega) rfl (fun v_202 M_203 h_205 hE_204 => ?_)
                obtain ⟨rfl, hMs⟩ := h_205
                have hMs := hMs.symm
                subst hMs
                refine x_topr (lk_s hxp hp) ?_
                refine x_iconst (n' := 230) (v := 1) dJ1_fixAfterInsertion_229 (by decide) rfl ?_
                refine x_callS (n' := 233) (n := 2) (c_J1_setColor__s l G _ o t asd T1 p ap 1 hP hp (Or.inr rfl)) dJ1_fixAfterInsertion_230 (lw_S q2536 q2537 q81 q2538) (by decide +kernel) ⟨(Nat.le_of_ble_eq_true rfl), (Nat.le_of_ble_eq_true rfl)⟩ rfl rfl (Nat.le_of_ble_eq_true rfl) (by first | exact Nat.le_of_ble_eq_true rfl | omega) (by first | exact Nat.le_of_ble_eq_true rfl | omega) rfl (fun v_206 M_207 h_209 hE_208 => ?_)
                obtain ⟨rfl, hP9, hF9⟩ := h_209
                replace hP := hP9
                replace hF := hF.tr hF9
                clear hF9
                refine x_aload_n (n' := 234) dJ1_fixAfterInsertion_233 rfl rfl rfl ?_
                refine x_callS (n' := 237) (n := 1) (c_J1_parentOf__s l G _ o t asd (tsC T1 p 1) x ax hP hx) dJ1_fixAfterInsertion_234 (lw_S q2524 q2525 q81 q2526) (by decide +kernel) ⟨(Nat.le_of_ble_eq_true rfl), (Nat.le_of_ble_eq_true rfl)⟩ rfl rfl (Nat.le_of_ble_eq_true rfl) (by first | exact Nat.le_of_ble_eq_true rfl | omega) (by first | exact Nat.le_of_ble_eq_true rfl | omega) rfl (fun v_210 M_211 h_213 hE_212 => ?_)
                obtain ⟨rfl, hMs⟩ := h_213
                have hMs := hMs.symm
                subst hMs
                refine x_topr (lk_s hxp hp) ?_
                refine x_callS (n' := 240) (n := 1) (c_J1_parentOf__s l G _ o t asd (tsC T1 p 1) p ap hP hp) dJ1_fixAfterInsertion_237 (lw_S q2524 q2525 q81 q2526) (by decide +kernel) ⟨(Nat.le_of_ble_eq_true rfl), (Nat.le_of_ble_eq_true rfl)⟩ rfl rfl (Nat.le_of_ble_eq_true rfl) (by first | exact Nat.le_of_ble_eq_true rfl | omega) (by first | exact Nat.le_of_ble_eq_true rfl | omega) rfl (fun v_214 M_215 h_217 hE_216 => ?_)
                obtain ⟨rfl, hMs⟩ := h_217
                have hMs := hMs.symm
                subst hMs
                refine x_topr (lk_s hl_18 hj_19) ?_
                refine x_iconst (n' := 241) (v := 0) dJ1_fixAfterInsertion_240 (by decide) rfl ?_
                refine x_callS (n' := 244) (n := 2) (c_J1_setColor__s l G _ o t asd (tsC T1 p 1) j_15 b_16 0 hP hj_19 (Or.inl rfl)) dJ1_fixAfterInsertion_241 (lw_S q2536 q2537 q81 q2538) (by decide +kernel) ⟨(Nat.le_of_ble_eq_true rfl), (Nat.le_of_ble_eq_true rfl)⟩ rfl rfl (Nat.le_of_ble_eq_true rfl) (by first | exact Nat.le_of_ble_eq_true rfl | omega) (by first | exact Nat.le_of_ble_eq_true rfl | omega) rfl (fun v_218 M_219 h_221 hE_220 => ?_)
                obtain ⟨rfl, hP9, hF9⟩ := h_221
                replace hP := hP9
                replace hF := hF.tr hF9
                clear hF9
                refine x_aload_n (n' := 245) dJ1_fixAfterInsertion_244 rfl rfl rfl ?_
                refine x_aload_n (n' := 246) dJ1_fixAfterInsertion_245 rfl rfl rfl ?_
                refine x_callS (n' := 249) (n := 1) (c_J1_parentOf__s l G _ o t asd (tsC (tsC T1 p 1) j_15 0) x ax hP hx) dJ1_fixAfterInsertion_246 (lw_S q2524 q2525 q81 q2526) (by decide +kernel) ⟨(Nat.le_of_ble_eq_true rfl), (Nat.le_of_ble_eq_true rfl)⟩ rfl rfl (Nat.le_of_ble_eq_true rfl) (by first | exact Nat.le_of_ble_eq_true rfl | omega) (by first | exact Nat.le_of_ble_eq_true rfl | omega) rfl (fun v_222 M_223 h_225 hE_224 => ?_)
                obtain ⟨rfl, hMs⟩ := h_225
                have hMs := hMs.symm
                subst hMs
                refine x_topr (lk_s hxp hp) ?_
                refine x_callS (n' := 252) (n := 1) (c_J1_parentOf__s l G _ o t asd (tsC (tsC T1 p 1) j_15 0) p ap hP hp) dJ1_fixAfterInsertion_249 (lw_S q2524 q2525 q81 q2526) (by decide +kernel) ⟨(Nat.le_of_ble_eq_true rfl), (Nat.le_of_ble_eq_true rfl)⟩ rfl rfl (Nat.le_of_ble_eq_true rfl) (by first | exact Nat.le_of_ble_eq_true rfl | omega) (by first | exact Nat.le_of_ble_eq_true rfl | omega) rfl (fun v_226 M_227 h_229 hE_228 => ?_)
                obtain ⟨rfl, hMs⟩ := h_229
                have hMs := hMs.symm
                subst hMs
                refine x_topr (lk_s hl_18 hj_19) ?_
                refine x_callV (n' := 255) (n := 1) (K := 41) (c_J1_rotateLeft__s l G _ o t asd (tsC (tsC T1 p 1) j_15 0) j_15 b_16 p _ _ hP hW hj_19 hgr) dJ1_fixAfterInsertion_252 (hP.k) rfl (lw_V q2539 q2541 qs30 q81 q2542) (by decide +kernel) ⟨(Nat.le_of_ble_eq_true rfl), (Nat.le_of_ble_eq_true rfl)⟩ rfl rfl (Nat.le_of_ble_eq_true rfl) (by first | exact Nat.le_of_ble_eq_true rfl | omega) (by first | exact Nat.le_of_ble_eq_true rfl | omega) rfl (fun v_230 M_231 h_233 hE_232 => ?_)
                obtain ⟨rfl, hP9, hF9⟩ := h_233
                replace hP := hP9
                replace hF := hF.tr hF9
                clear hF9
                have hW0 := hW
                have hW := rotLT_W (T := (tsC (tsC T1 p 1) j_15 0)) hW0 hj_19 hgr
                have hu1 := hW1.up (nns hx) hxp
                have hu2 := hW1.up (nns hp) hl_18
                have hgx9 : j_15 ≠ x := fun e => by subst e; omega
                have hfp : tP (rotLT (tsC (tsC T1 p 1) j_15 0) j_15 p) x = some p := (rotLT_Po (fun e => hgx9 e.symm) hu1.2.1 hpo).trans hxp
                have hfc : tC (rotLT (tsC (tsC T1 p 1) j_15 0) j_15 p) p = 1 := (va_up_ne _ _ hu2.2.1).trans (va_up_self _ _ _)
                refine x_goto (tgt := 5) dJ1_fixAfterInsertion_255 (by decide) ?_
                have hm9 := hm p hxp (by assumption)
                have ivx := hW1.1 x (nns hx)
                exact x_drop (ih 0 x ax (rotLT (tsC (tsC T1 p 1) j_15 0) j_15 p) _ _ _ (by omega) (fun p9 hp9 hc9 => absurd hc9 (by rw [hfp] at hp9; cases hp9; rw [hfc]; decide)) hx hP hW hN hF) ⟨rfl, ⟨rfl, trivial⟩⟩
              · obtain ⟨j_196, hl_199, hj_200⟩ := bind_s e_198
                refine x_acmp_ne (n' := 215) (rx := some (ax)) (ry := some (b_197)) (tgt := 225) dJ1_fixAfterInsertion_212 (by decide) rfl (fun c212_234 => ?_) (fun c212_234 => ?_)
                · have hpo : tL T1 p ≠ some x := fun e9 => absurd (congrArg some (Option.some.inj ((hx.symm).trans ((congrArg (tN T1) (Option.some.inj (e9.symm.trans hl_199))).trans hj_200)))) (by assumption)
                  refine x_aload_n (n' := 226) dJ1_fixAfterInsertion_225 rfl rfl rfl ?_
                  refine x_callS (n' := 229) (n := 1) (c_J1_parentOf__s l G _ o t asd T1 x ax hP hx) dJ1_fixAfterInsertion_226 (lw_S q2524 q2525 q81 q2526) (by decide +kernel) ⟨(Nat.le_of_ble_eq_true rfl), (Nat.le_of_ble_eq_true rfl)⟩ rfl rfl (Nat.le_of_ble_eq_true rfl) (by first | exact Nat.le_of_ble_eq_true rfl | omega) (by first | exact Nat.le_of_ble_eq_true rfl | omega) rfl (fun v_235 M_236 h_238 hE_237 => ?_)
                  obtain ⟨rfl, hMs⟩ := h_238
                  have hMs := hMs.symm
                  subst hMs
                  refine x_topr (lk_s hxp hp) ?_
                  refine x_iconst (n' := 230) (v := 1) dJ1_fixAfterInsertion_229 (by decide) rfl ?_
                  refine x_callS (n' := 233) (n := 2) (c_J1_setColor__s l G _ o t asd T1 p ap 1 hP hp (Or.inr rfl)) dJ1_fixAfterInsertion_230 (lw_S q2536 q2537 q81 q2538) (by decide +kernel) ⟨(Nat.le_of_ble_eq_true rfl), (Nat.le_of_ble_eq_true rfl)⟩ rfl rfl (Nat.le_of_ble_eq_true rfl) (by first | exact Nat.le_of_ble_eq_true rfl | omega) (by first | exact Nat.le_of_ble_eq_true rfl | omega) rfl (fun v_239 M_240 h_242 hE_241 => ?_)
                  obtain ⟨rfl, hP9, hF9⟩ := h_242
                  replace hP := hP9
                  replace hF := hF.tr hF9
                  clear hF9
                  refine x_aload_n (n' := 234) dJ1_fixAfterInsertion_233 rfl rfl rfl ?_
                  refine x_callS (n' := 237) (n := 1) (c_J1_parentOf__s l G _ o t asd (tsC T1 p 1) x ax hP hx) dJ1_fixAfterInsertion_234 (lw_S q2524 q2525 q81 q2526) (by decide +kernel) ⟨(Nat.le_of_ble_eq_true rfl), (Nat.le_of_ble_eq_true rfl)⟩ rfl rfl (Nat.le_of_ble_eq_true rfl) (by first | exact Nat.le_of_ble_eq_true rfl | omega) (by first | exact Nat.le_of_ble_eq_true rfl | omega) rfl (fun v_243 M_244 h_246 hE_245 => ?_)
                  obtain ⟨rfl, hMs⟩ := h_246
                  have hMs := hMs.symm
                  subst hMs
                  refine x_topr (lk_s hxp hp) ?_
                  refine x_callS (n' := 240) (n := 1) (c_J1_parentOf__s l G _ o t asd (tsC T1 p 1) p ap hP hp) dJ1_fixAfterInsertion_237 (lw_S q2524 q2525 q81 q2526) (by decide +kernel) ⟨(Nat.le_of_ble_eq_true rfl), (Nat.le_of_ble_eq_true rfl)⟩ rfl rfl (Nat.le_of_ble_eq_true rfl) (by first | exact Nat.le_of_ble_eq_true rfl | omega) (by first | exact Nat.le_of_ble_eq_true rfl | omega) rfl (fun v_247 M_248 h_250 hE_249 => ?_)
                  obtain ⟨rfl, hMs⟩ := h_250
                  have hMs := hMs.symm
                  subst hMs
                  refine x_topr (lk_s hl_18 hj_19) ?_
                  refine x_iconst (n' := 241) (v := 0) dJ1_fixAfterInsertion_240 (by decide) rfl ?_
                  refine x_callS (n' := 244) (n := 2) (c_J1_setColor__s l G _ o t asd (tsC T1 p 1) j_15 b_16 0 hP hj_19 (Or.inl rfl)) dJ1_fixAfterInsertion_241 (lw_S q2536 q2537 q81 q2538) (by decide +kernel) ⟨(Nat.le_of_ble_eq_true rfl), (Nat.le_of_ble_eq_true rfl)⟩ rfl rfl (Nat.le_of_ble_eq_true rfl) (by first | exact Nat.le_of_ble_eq_true rfl | omega) (by first | exact Nat.le_of_ble_eq_true rfl | omega) rfl (fun v_251 M_252 h_254 hE_253 => ?_)
                  obtain ⟨rfl, hP9, hF9⟩ := h_254
                  replace hP := hP9
                  replace hF := hF.tr hF9
                  clear hF9
                  refine x_aload_n (n' := 245) dJ1_fixAfterInsertion_244 rfl rfl rfl ?_
                  refine x_aload_n (n' := 246) dJ1_fixAfterInsertion_245 rfl rfl rfl ?_
                  refine x_callS (n' := 249) (n := 1) (c_J1_parentOf__s l G _ o t asd (tsC (tsC T1 p 1) j_15 0) x ax hP hx) dJ1_fixAfterInsertion_246 (lw_S q2524 q2525 q81 q2526) (by decide +kernel) ⟨(Nat.le_of_ble_eq_true rfl), (Nat.le_of_ble_eq_true rfl)⟩ rfl rfl (Nat.le_of_ble_eq_true rfl) (by first | exact Nat.le_of_ble_eq_true rfl | omega) (by first | exact Nat.le_of_ble_eq_true rfl | omega) rfl (fun v_255 M_256 h_258 hE_257 => ?_)
                  obtain ⟨rfl, hMs⟩ := h_258
                  have hMs := hMs.symm
                  subst hMs
                  refine x_topr (lk_s hxp hp) ?_
                  refine x_callS (n' := 252) (n := 1) (c_J1_parentOf__s l G _ o t asd (tsC (tsC T1 p 1) j_15 0) p ap hP hp) dJ1_fixAfterInsertion_249 (lw_S q2524 q2525 q81 q2526) (by decide +kernel) ⟨(Nat.le_of_ble_eq_true rfl), (Nat.le_of_ble_eq_true rfl)⟩ rfl rfl (Nat.le_of_ble_eq_true rfl) (by first | exact Nat.le_of_ble_eq_true rfl | omega) (by first | exact Nat.le_of_ble_eq_true rfl | omega) rfl (fun v_259 M_260 h_262 hE_261 => ?_)
                  obtain ⟨rfl, hMs⟩ := h_262
                  have hMs := hMs.symm
                  subst hMs
                  refine x_topr (lk_s hl_18 hj_19) ?_
                  refine x_callV (n' := 255) (n := 1) (K := 41) (c_J1_rotateLeft__s l G _ o t asd (tsC (tsC T1 p 1) j_15 0) j_15 b_16 p _ _ hP hW hj_19 hgr) dJ1_fixAfterInsertion_252 (hP.k) rfl (lw_V q2539 q2541 qs30 q81 q2542) (by decide +kernel) ⟨(Nat.le_of_ble_eq_true rfl), (Nat.le_of_ble_eq_true rfl)⟩ rfl rfl (Nat.le_of_ble_eq_true rfl) (by first | exact Nat.le_of_ble_eq_true rfl | omega) (by first | exact Nat.le_of_ble_eq_true rfl | omega) rfl (fun v_263 M_264 h_266 hE_265 => ?_)
                  obtain ⟨rfl, hP9, hF9⟩ := h_266
                  replace hP := hP9
                  replace hF := hF.tr hF9
                  clear hF9
                  have hW0 := hW
                  have hW := rotLT_W (T := (tsC (tsC T1 p 1) j_15 0)) hW0 hj_19 hgr
                  have hu1 := hW1.up (nns hx) hxp
                  have hu2 := hW1.up (nns hp) hl_18
                  have hgx9 : j_15 ≠ x := fun e => by subst e; omega
                  have hfp : tP (rotLT (tsC (tsC T1 p 1) j_15 0) j_15 p) x = some p := (rotLT_Po (fun e => hgx9 e.symm) hu1.2.1 hpo).trans hxp
                  have hfc : tC (rotLT (tsC (tsC T1 p 1) j_15 0) j_15 p) p = 1 := (va_up_ne _ _ hu2.2.1).trans (va_up_self _ _ _)
                  refine x_goto (tgt := 5) dJ1_fixAfterInsertion_255 (by decide) ?_
                  have hm9 := hm p hxp (by assumption)
                  have ivx := hW1.1 x (nns hx)
                  exact x_drop (ih 0 x ax (rotLT (tsC (tsC T1 p 1) j_15 0) j_15 p) _ _ _ (by omega) (fun p9 hp9 hc9 => absurd hc9 (by rw [hfp] at hp9; cases hp9; rw [hfc]; decide)) hx hP hW hN hF) ⟨rfl, ⟨rfl, trivial⟩⟩
                · have hpx : tL T1 p = some x := by have e9 : ax = b_197 := Option.some.inj (by assumption); have e8 : x = j_196 := hP.inj hx ((hj_200).trans (congrArg some e9.symm)); rw [e8]; exact hl_199
                  refine x_aload_n (n' := 216) dJ1_fixAfterInsertion_215 rfl rfl rfl ?_
                  refine x_callS (n' := 219) (n := 1) (c_J1_parentOf__s l G _ o t asd T1 x ax hP hx) dJ1_fixAfterInsertion_216 (lw_S q2524 q2525 q81 q2526) (by decide +kernel) ⟨(Nat.le_of_ble_eq_true rfl), (Nat.le_of_ble_eq_true rfl)⟩ rfl rfl (Nat.le_of_ble_eq_true rfl) (by first | exact Nat.le_of_ble_eq_true rfl | omega) (by first | exact Nat.le_of_ble_eq_true rfl | omega) rfl (fun v_267 M_268 h_270 hE_269 => ?_)
                  obtain ⟨rfl, hMs⟩ := h_270
                  have hMs := hMs.symm
                  subst hMs
                  refine x_topr (lk_s hxp hp) ?_
                  refine x_astore_n (n' := 220) dJ1_fixAfterInsertion_219 rfl (Nat.le_of_ble_eq_true rfl) rfl (by dsimp only [List.set] <;> rfl) rfl ?_
                  refine x_aload_n (n' := 221) dJ1_fixAfterInsertion_220 rfl rfl rfl ?_
                  refine x_aload_n (n' := 222) dJ1_fixAfterInsertion_221 rfl rfl rfl ?_
                  refine x_callV (n' := 225) (n := 1) (K := 41) (c_J1_rotateRight__s l G _ o t asd T1 p ap x _ _ hP hW hp hpx) dJ1_fixAfterInsertion_222 (hP.k) rfl (lw_V q2543 q2545 qs31 q81 q2546) (by decide +kernel) ⟨(Nat.le_of_ble_eq_true rfl), (Nat.le_of_ble_eq_true rfl)⟩ rfl rfl (Nat.le_of_ble_eq_true rfl) (by first | exact Nat.le_of_ble_eq_true rfl | omega) (by first | exact Nat.le_of_ble_eq_true rfl | omega) rfl (fun v_271 M_272 h_274 hE_273 => ?_)
                  obtain ⟨rfl, hP9, hF9⟩ := h_274
                  replace hP := hP9
                  replace hF := hF.tr hF9
                  clear hF9
                  have hW0 := hW
                  have hW := rotRT_W (T := T1) hW0 hp hpx
                  have hup := hW0.up (nns hx) hxp
                  have hq1 : tP (rotRT T1 p x) p = some x := rotRT_Pp
                  have hq2 : tP (rotRT T1 p x) x = some j_15 := (rotRT_Pr (fun e => hup.2.1 e.symm)).trans hl_18
                  have hup2 := hW0.up (nns hp) hl_18
                  have hgx : j_15 ≠ x := fun e => by subst e; omega
                  have hq3 : tR (rotRT T1 p x) j_15 = some x := rotRT_Rg hgx hl_18 hgr
                  have hq4 : tL (rotRT T1 p x) x = tL T1 x := rotRT_Lr hup.2.1 hgx hl_18
                  have hq5 : tL T1 x ≠ some p := fun e => by have := (hW0.upL (nns hx) e).2; rw [show tP T1 p = some j_15 from hl_18] at this; cases this; exact hgx rfl
                  refine x_aload_n (n' := 226) dJ1_fixAfterInsertion_225 rfl rfl rfl ?_
                  refine x_callS (n' := 229) (n := 1) (c_J1_parentOf__s l G _ o t asd (rotRT T1 p x) p ap hP hp) dJ1_fixAfterInsertion_226 (lw_S q2524 q2525 q81 q2526) (by decide +kernel) ⟨(Nat.le_of_ble_eq_true rfl), (Nat.le_of_ble_eq_true rfl)⟩ rfl rfl (Nat.le_of_ble_eq_true rfl) (by first | exact Nat.le_of_ble_eq_true rfl | omega) (by first | exact Nat.le_of_ble_eq_true rfl | omega) rfl (fun v_275 M_276 h_278 hE_277 => ?_)
                  obtain ⟨rfl, hMs⟩ := h_278
                  have hMs := hMs.symm
                  subst hMs
                  refine x_topr (lk_s hq1 hx) ?_
                  refine x_iconst (n' := 230) (v := 1) dJ1_fixAfterInsertion_229 (by decide) rfl ?_
                  refine x_callS (n' := 233) (n := 2) (c_J1_setColor__s l G _ o t asd (rotRT T1 p x) x ax 1 hP hx (Or.inr rfl)) dJ1_fixAfterInsertion_230 (lw_S q2536 q2537 q81 q2538) (by decide +kernel) ⟨(Nat.le_of_ble_eq_true rfl), (Nat.le_of_ble_eq_true rfl)⟩ rfl rfl (Nat.le_of_ble_eq_true rfl) (by first | exact Nat.le_of_ble_eq_true rfl | omega) (by first | exact Nat.le_of_ble_eq_true rfl | omega) rfl (fun v_279 M_280 h_282 hE_281 => ?_)
                  obtain ⟨rfl, hP9, hF9⟩ := h_282
                  replace hP := hP9
                  replace hF := hF.tr hF9
                  clear hF9
                  refine x_aload_n (n' := 234) dJ1_fixAfterInsertion_233 rfl rfl rfl ?_
                  refine x_callS (n' := 237) (n := 1) (c_J1_parentOf__s l G _ o t asd (tsC (rotRT T1 p x) x 1) p ap hP hp) dJ1_fixAfterInsertion_234 (lw_S q2524 q2525 q81 q2526) (by decide +kernel) ⟨(Nat.le_of_ble_eq_true rfl), (Nat.le_of_ble_eq_true rfl)⟩ rfl rfl (Nat.le_of_ble_eq_true rfl) (by first | exact Nat.le_of_ble_eq_true rfl | omega) (by first | exact Nat.le_of_ble_eq_true rfl | omega) rfl (fun v_283 M_284 h_286 hE_285 => ?_)
                  obtain ⟨rfl, hMs⟩ := h_286
                  have hMs := hMs.symm
                  subst hMs
                  refine x_topr (lk_s hq1 hx) ?_
                  refine x_callS (n' := 240) (n := 1) (c_J1_parentOf__s l G _ o t asd (tsC (rotRT T1 p x) x 1) x ax hP hx) dJ1_fixAfterInsertion_237 (lw_S q2524 q2525 q81 q2526) (by decide +kernel) ⟨(Nat.le_of_ble_eq_true rfl), (Nat.le_of_ble_eq_true rfl)⟩ rfl rfl (Nat.le_of_ble_eq_true rfl) (by first | exact Nat.le_of_ble_eq_true rfl | omega) (by first | exact Nat.le_of_ble_eq_true rfl | omega) rfl (fun v_287 M_288 h_290 hE_289 => ?_)
                  obtain ⟨rfl, hMs⟩ := h_290
                  have hMs := hMs.symm
                  subst hMs
                  refine x_topr (lk_s hq2 hj_19) ?_
                  refine x_iconst (n' := 241) (v := 0) dJ1_fixAfterInsertion_240 (by decide) rfl ?_
                  refine x_callS (n' := 244) (n := 2) (c_J1_setColor__s l G _ o t asd (tsC (rotRT T1 p x) x 1) j_15 b_16 0 hP hj_19 (Or.inl rfl)) dJ1_fixAfterInsertion_241 (lw_S q2536 q2537 q81 q2538) (by decide +kernel) ⟨(Nat.le_of_ble_eq_true rfl), (Nat.le_of_ble_eq_true rfl)⟩ rfl rfl (Nat.le_of_ble_eq_true rfl) (by first | exact Nat.le_of_ble_eq_true rfl | omega) (by first | exact Nat.le_of_ble_eq_true rfl | omega) rfl (fun v_291 M_292 h_294 hE_293 => ?_)
                  obtain ⟨rfl, hP9, hF9⟩ := h_294
                  replace hP := hP9
                  replace hF := hF.tr hF9
                  clear hF9
                  refine x_aload_n (n' := 245) dJ1_fixAfterInsertion_244 rfl rfl rfl ?_
                  refine x_aload_n (n' := 246) dJ1_fixAfterInsertion_245 rfl rfl rfl ?_
                  refine x_callS (n' := 249) (n := 1) (c_J1_parentOf__s l G _ o t asd (tsC (tsC (rotRT T1 p x) x 1) j_15 0) p ap hP hp) dJ1_fixAfterInsertion_246 (lw_S q2524 q2525 q81 q2526) (by decide +kernel) ⟨(Nat.le_of_ble_eq_true rfl), (Nat.le_of_ble_eq_true rfl)⟩ rfl rfl (Nat.le_of_ble_eq_true rfl) (by first | exact Nat.le_of_ble_eq_true rfl | omega) (by first | exact Nat.le_of_ble_eq_true rfl | omega) rfl (fun v_295 M_296 h_298 hE_297 => ?_)
                  obtain ⟨rfl, hMs⟩ := h_298
                  have hMs := hMs.symm
                  subst hMs
                  refine x_topr (lk_s hq1 hx) ?_
                  refine x_callS (n' := 252) (n := 1) (c_J1_parentOf__s l G _ o t asd (tsC (tsC (rotRT T1 p x) x 1) j_15 0) x ax hP hx) dJ1_fixAfterInsertion_249 (lw_S q2524 q2525 q81 q2526) (by decide +kernel) ⟨(Nat.le_of_ble_eq_true rfl), (Nat.le_of_ble_eq_true rfl)⟩ rfl rfl (Nat.le_of_ble_eq_true rfl) (by first | exact Nat.le_of_ble_eq_true rfl | omega) (by first | exact Nat.le_of_ble_eq_true rfl | omega) rfl (fun v_299 M_300 h_302 hE_301 => ?_)
                  obtain ⟨rfl, hMs⟩ := h_302
                  have hMs := hMs.symm
                  subst hMs
                  refine x_topr (lk_s hq2 hj_19) ?_
                  refine x_callV (n' := 255) (n := 1) (K := 41) (c_J1_rotateLeft__s l G _ o t asd (tsC (tsC (rotRT T1 p x) x 1) j_15 0) j_15 b_16 x _ _ hP hW hj_19 hq3) dJ1_fixAfterInsertion_252 (hP.k) rfl (lw_V q2539 q2541 qs30 q81 q2542) (by decide +kernel) ⟨(Nat.le_of_ble_eq_true rfl), (Nat.le_of_ble_eq_true rfl)⟩ rfl rfl (Nat.le_of_ble_eq_true rfl) (by first | exact Nat.le_of_ble_eq_true rfl | omega) (by first | exact Nat.le_of_ble_eq_true rfl | omega) rfl (fun v_303 M_304 h_306 hE_305 => ?_)
                  obtain ⟨rfl, hP9, hF9⟩ := h_306
                  replace hP := hP9
                  replace hF := hF.tr hF9
                  clear hF9
                  have hW0 := hW
                  have hW := rotLT_W (T := (tsC (tsC (rotRT T1 p x) x 1) j_15 0)) hW0 hj_19 hq3
                  have hu1 := hW1.up (nns hx) hxp
                  have hu2 := hW1.up (nns hp) hl_18
                  have hgx9 : j_15 ≠ x := fun e => by subst e; omega
                  have hfp : tP (rotLT (tsC (tsC (rotRT T1 p x) x 1) j_15 0) j_15 x) p = some x := (rotLT_Po hu2.2.1 (fun e => hu1.2.1 e.symm) (fun e => hq5 (hq4.symm.trans e))).trans hq1
                  have hfc : tC (rotLT (tsC (tsC (rotRT T1 p x) x 1) j_15 0) j_15 x) x = 1 := (va_up_ne _ _ (fun e => hgx9 e.symm)).trans (va_up_self _ _ _)
                  refine x_goto (tgt := 5) dJ1_fixAfterInsertion_255 (by decide) ?_
                  have hm9 := hm p hxp (by assumption)
                  have ivx := hW1.1 x (nns hx)
                  exact x_drop (ih 0 p ap (rotLT (tsC (tsC (rotRT T1 p x) x 1) j_15 0) j_15 x) _ _ _ (by omega) (fun p9 hp9 hc9 => absurd hc9 (by rw [hfp] at hp9; cases hp9; rw [hfc]; decide)) hp hP hW hN hF) ⟨rfl, ⟨rfl, trivial⟩⟩
            · obtain ⟨j_165, hl_168, hj_169⟩ := bind_s e_167
              refine x_acmp_ne (n' := 44) (rx := some (ap)) (ry := some (b_166)) (tgt := 151) dJ1_fixAfterInsertion_41 (by decide) rfl (fun c41_307 => ?_) (fun c41_307 => ?_)
              · have hgr : tR T1 j_15 = some p := hW.sideL (nns hp) hl_18 (fun e9 => absurd (congrArg some (Option.some.inj ((hp.symm).trans ((congrArg (tN T1) (Option.some.inj (e9.symm.trans hl_168))).trans hj_169)))) (by assumption))
                refine x_aload_n (n' := 152) dJ1_fixAfterInsertion_151 rfl rfl rfl ?_
                refine x_callS (n' := 155) (n := 1) (c_J1_parentOf__s l G _ o t asd T1 x ax hP hx) dJ1_fixAfterInsertion_152 (lw_S q2524 q2525 q81 q2526) (by decide +kernel) ⟨(Nat.le_of_ble_eq_true rfl), (Nat.le_of_ble_eq_true rfl)⟩ rfl rfl (Nat.le_of_ble_eq_true rfl) (by first | exact Nat.le_of_ble_eq_true rfl | omega) (by first | exact Nat.le_of_ble_eq_true rfl | omega) rfl (fun v_308 M_309 h_311 hE_310 => ?_)
                obtain ⟨rfl, hMs⟩ := h_311
                have hMs := hMs.symm
                subst hMs
                refine x_topr (lk_s hxp hp) ?_
                refine x_callS (n' := 158) (n := 1) (c_J1_parentOf__s l G _ o t asd T1 p ap hP hp) dJ1_fixAfterInsertion_155 (lw_S q2524 q2525 q81 q2526) (by decide +kernel) ⟨(Nat.le_of_ble_eq_true rfl), (Nat.le_of_ble_eq_true rfl)⟩ rfl rfl (Nat.le_of_ble_eq_true rfl) (by first | exact Nat.le_of_ble_eq_true rfl | omega) (by first | exact Nat.le_of_ble_eq_true rfl | omega) rfl (fun v_312 M_313 h_315 hE_314 => ?_)
                obtain ⟨rfl, hMs⟩ := h_315
                have hMs := hMs.symm
                subst hMs
                refine x_topr (lk_s hl_18 hj_19) ?_
                refine x_callS (n' := 161) (n := 1) (c_J1_leftOf__s l G _ o t asd T1 j_15 b_16 hP hj_19) dJ1_fixAfterInsertion_158 (lw_S q2527 q2528 q81 q2529) (by decide +kernel) ⟨(Nat.le_of_ble_eq_true rfl), (Nat.le_of_ble_eq_true rfl)⟩ rfl rfl (Nat.le_of_ble_eq_true rfl) (by first | exact Nat.le_of_ble_eq_true rfl | omega) (by first | exact Nat.le_of_ble_eq_true rfl | omega) rfl (fun v_316 M_317 h_319 hE_318 => ?_)
                obtain ⟨rfl, hMs⟩ := h_319
                have hMs := hMs.symm
                subst hMs
                refine x_topr (lk_s hl_168 hj_169) ?_
                refine x_astore_n (n' := 162) dJ1_fixAfterInsertion_161 rfl (Nat.le_of_ble_eq_true rfl) rfl (by dsimp only [List.set] <;> rfl) rfl ?_
                refine x_aload_n (n' := 163) dJ1_fixAfterInsertion_162 rfl rfl rfl ?_
                refine x_callS (n' := 166) (n := 1) (c_J1_colorOf__s l G _ o t asd T1 j_165 b_166 hP hj_169) dJ1_fixAfterInsertion_163 (lw_S q2533 q2534 q81 q2535) (by decide +kernel) ⟨(Nat.le_of_ble_eq_true rfl), (Nat.le_of_ble_eq_true rfl)⟩ rfl rfl (Nat.le_of_ble_eq_true rfl) (by first | exact Nat.le_of_ble_eq_true rfl | omega) (by first | exact Nat.le_of_ble_eq_true rfl | omega) rfl (fun v_320 M_321 h_323 hE_322 => ?_)
                obtain ⟨rfl, hMs⟩ := h_323
                have hMs := hMs.symm
                subst hMs
                refine x_if_ne (n' := 169) (tgt := 204) dJ1_fixAfterInsertion_166 (by decide) rfl (fun c166_324 => ?_) (fun c166_324 => ?_)
                · refine x_aload_n (n' := 205) dJ1_fixAfterInsertion_204 rfl rfl rfl ?_
                  refine x_aload_n (n' := 206) dJ1_fixAfterInsertion_205 rfl rfl rfl ?_
                  refine x_callS (n' := 209) (n := 1) (c_J1_parentOf__s l G _ o t asd T1 x ax hP hx) dJ1_fixAfterInsertion_206 (lw_S q2524 q2525 q81 q2526) (by decide +kernel) ⟨(Nat.le_of_ble_eq_true rfl), (Nat.le_of_ble_eq_true rfl)⟩ rfl rfl (Nat.le_of_ble_eq_true rfl) (by first | exact Nat.le_of_ble_eq_true rfl | omega) (by first | exact Nat.le_of_ble_eq_true rfl | omega) rfl (fun v_325 M_326 h_328 hE_327 => ?_)
                  obtain ⟨rfl, hMs⟩ := h_328
                  have hMs := hMs.symm
                  subst hMs
                  refine x_topr (lk_s hxp hp) ?_
                  refine x_callS (n' := 212) (n := 1) (c_J1_leftOf__s l G _ o t asd T1 p ap hP hp) dJ1_fixAfterInsertion_209 (lw_S q2527 q2528 q81 q2529) (by decide +kernel) ⟨(Nat.le_of_ble_eq_true rfl), (Nat.le_of_ble_eq_true rfl)⟩ rfl rfl (Nat.le_of_ble_eq_true rfl) (by first | exact Nat.le_of_ble_eq_true rfl | omega) (by first | exact Nat.le_of_ble_eq_true rfl | omega) rfl (fun v_329 M_330 h_332 hE_331 => ?_)
                  obtain ⟨rfl, hMs⟩ := h_332
                  have hMs := hMs.symm
                  subst hMs
                  refine x_topq (fun e_335 => ?_) (fun b_334 e_335 => ?_)
                  · have hl_336 : tL T1 p = none := bind_n e_335 (fun _ q => hW.dl (nns hp) q)
                    refine x_acmp_ne (n' := 215) (rx := some (ax)) (ry := none) (tgt := 225) dJ1_fixAfterInsertion_212 (by decide) rfl (fun c212_338 => ?_) (fun c212_338 => by cases c212_338)
                    have hpo : tL T1 p ≠ some x := fun e9 => by have := hl_336; rw [show tL T1 p = some x from e9] at this; cases this
                    refine x_aload_n (n' := 226) dJ1_fixAfterInsertion_225 rfl rfl rfl ?_
                    refine x_callS (n' := 229) (n := 1) (c_J1_parentOf__s l G _ o t asd T1 x ax hP hx) dJ1_fixAfterInsertion_226 (lw_S q2524 q2525 q81 q2526) (by decide +kernel) ⟨(Nat.le_of_ble_eq_true rfl), (Nat.le_of_ble_eq_true rfl)⟩ rfl rfl (Nat.le_of_ble_eq_true rfl) (by first | exact Nat.le_of_ble_eq_true rfl | omega) (by first | exact Nat.le_of_ble_eq_true rfl | omega) rfl (fun v_339 M_340 h_342 hE_341 => ?_)
                    obtain ⟨rfl, hMs⟩ := h_342
                    have hMs := hMs.symm
                    subst hMs
                    refine x_topr (lk_s hxp hp) ?_
                    refine x_iconst (n' := 230) (v := 1) dJ1_fixAfterInsertion_229 (by decide) rfl ?_
                    refine x_callS (n' := 233) (n := 2) (c_J1_setColor__s l G _ o t asd T1 p ap 1 hP hp (Or.inr rfl)) dJ1_fixAfterInsertion_230 (lw_S q2536 q2537 q81 q2538) (by decide +kernel) ⟨(Nat.le_of_ble_eq_true rfl), (Nat.le_of_ble_eq_true rfl)⟩ rfl rfl (Nat.le_of_ble_eq_true rfl) (by first | exact Nat.le_of_ble_eq_true rfl | omega) (by first | exact Nat.le_of_ble_eq_true rfl | omega) rfl (fun v_343 M_344 h_346 hE_345 => ?_)
                    obtain ⟨rfl, hP9, hF9⟩ := h_346
                    replace hP := hP9
                    replace hF := hF.tr hF9
                    clear hF9
                    refine x_aload_n (n' := 234) dJ1_fixAfterInsertion_233 rfl rfl rfl ?_
                    refine x_callS (n' := 237) (n := 1) (c_J1_parentOf__s l G _ o t asd (tsC T1 p 1) x ax hP hx) dJ1_fixAfterInsertion_234 (lw_S q2524 q2525 q81 q2526) (by decide +kernel) ⟨(Nat.le_of_ble_eq_true rfl), (Nat.le_of_ble_eq_true rfl)⟩ rfl rfl (Nat.le_of_ble_eq_true rfl) (by first | exact Nat.le_of_ble_eq_true rfl | omega) (by first | exact Nat.le_of_ble_eq_true rfl | omega) rfl (fun v_347 M_348 h_350 hE_349 => ?_)
                    obtain ⟨rfl, hMs⟩ := h_350
                    have hMs := hMs.symm
                    subst hMs
                    refine x_topr (lk_s hxp hp) ?_
                    refine x_callS (n' := 240) (n := 1) (c_J1_parentOf__s l G _ o t asd (tsC T1 p 1) p ap hP hp) dJ1_fixAfterInsertion_237 (lw_S q2524 q2525 q81 q2526) (by decide +kernel) ⟨(Nat.le_of_ble_eq_true rfl), (Nat.le_of_ble_eq_true rfl)⟩ rfl rfl (Nat.le_of_ble_eq_true rfl) (by first | exact Nat.le_of_ble_eq_true rfl | omega) (by first | exact Nat.le_of_ble_eq_true rfl | omega) rfl (fun v_351 M_352 h_354 hE_353 => ?_)
                    obtain ⟨rfl, hMs⟩ := h_354
                    have hMs := hMs.symm
                    subst hMs
                    refine x_topr (lk_s hl_18 hj_19) ?_
                    refine x_iconst (n' := 241) (v := 0) dJ1_fixAfterInsertion_240 (by decide) rfl ?_
                    refine x_callS (n' := 244) (n := 2) (c_J1_setColor__s l G _ o t asd (tsC T1 p 1) j_15 b_16 0 hP hj_19 (Or.inl rfl)) dJ1_fixAfterInsertion_241 (lw_S q2536 q2537 q81 q2538) (by decide +kernel) ⟨(Nat.le_of_ble_eq_true rfl), (Nat.le_of_ble_eq_true rfl)⟩ rfl rfl (Nat.le_of_ble_eq_true rfl) (by first | exact Nat.le_of_ble_eq_true rfl | omega) (by first | exact Nat.le_of_ble_eq_true rfl | omega) rfl (fun v_355 M_356 h_358 hE_357 => ?_)
                    obtain ⟨rfl, hP9, hF9⟩ := h_358
                    replace hP := hP9
                    replace hF := hF.tr hF9
                    clear hF9
                    refine x_aload_n (n' := 245) dJ1_fixAfterInsertion_244 rfl rfl rfl ?_
                    refine x_aload_n (n' := 246) dJ1_fixAfterInsertion_245 rfl rfl rfl ?_
                    refine x_callS (n' := 249) (n := 1) (c_J1_parentOf__s l G _ o t asd (tsC (tsC T1 p 1) j_15 0) x ax hP hx) dJ1_fixAfterInsertion_246 (lw_S q2524 q2525 q81 q2526) (by decide +kernel) ⟨(Nat.le_of_ble_eq_true rfl), (Nat.le_of_ble_eq_true rfl)⟩ rfl rfl (Nat.le_of_ble_eq_true rfl) (by first | exact Nat.le_of_ble_eq_true rfl | omega) (by first | exact Nat.le_of_ble_eq_true rfl | omega) rfl (fun v_359 M_360 h_362 hE_361 => ?_)
                    obtain ⟨rfl, hMs⟩ := h_362
                    have hMs := hMs.symm
                    subst hMs
                    refine x_topr (lk_s hxp hp) ?_
                    refine x_callS (n' := 252) (n := 1) (c_J1_parentOf__s l G _ o t asd (tsC (tsC T1 p 1) j_15 0) p ap hP hp) dJ1_fixAfterInsertion_249 (lw_S q2524 q2525 q81 q2526) (by decide +kernel) ⟨(Nat.le_of_ble_eq_true rfl), (Nat.le_of_ble_eq_true rfl)⟩ rfl rfl (Nat.le_of_ble_eq_true rfl) (by first | exact Nat.le_of_ble_eq_true rfl | omega) (by first | exact Nat.le_of_ble_eq_true rfl | omega) rfl (fun v_363 M_364 h_366 hE_365 => ?_)
                    obtain ⟨rfl, hMs⟩ := h_366
                    have hMs := hMs.symm
                    subst hMs
                    refine x_topr (lk_s hl_18 hj_19) ?_
                    refine x_callV (n' := 255) (n := 1) (K := 41) (c_J1_rotateLeft__s l G _ o t asd (tsC (tsC T1 p 1) j_15 0) j_15 b_16 p _ _ hP hW hj_19 hgr) dJ1_fixAfterInsertion_252 (hP.k) rfl (lw_V q2539 q2541 qs30 q81 q2542) (by decide +kernel) ⟨(Nat.le_of_ble_eq_true rfl), (Nat.le_of_ble_eq_true rfl)⟩ rfl rfl (Nat.le_of_ble_eq_true rfl) (by first | exact Nat.le_of_ble_eq_true rfl | omega) (by first | exact Nat.le_of_ble_eq_true rfl | omega) rfl (fun v_367 M_368 h_370 hE_369 => ?_)
                    obtain ⟨rfl, hP9, hF9⟩ := h_370
                    replace hP := hP9
                    replace hF := hF.tr hF9
                    clear hF9
                    have hW0 := hW
                    have hW := rotLT_W (T := (tsC (tsC T1 p 1) j_15 0)) hW0 hj_19 hgr
                    have hu1 := hW1.up (nns hx) hxp
                    have hu2 := hW1.up (nns hp) hl_18
                    have hgx9 : j_15 ≠ x := fun e => by subst e; omega
                    have hfp : tP (rotLT (tsC (tsC T1 p 1) j_15 0) j_15 p) x = some p := (rotLT_Po (fun e => hgx9 e.symm) hu1.2.1 hpo).trans hxp
                    have hfc : tC (rotLT (tsC (tsC T1 p 1) j_15 0) j_15 p) p = 1 := (va_up_ne _ _ hu2.2.1).trans (va_up_self _ _ _)
                    refine x_goto (tgt := 5) dJ1_fixAfterInsertion_255 (by decide) ?_
                    have hm9 := hm p hxp (by assumption)
                    have ivx := hW1.1 x (nns hx)
                    exact x_drop (ih 0 x ax (rotLT (tsC (tsC T1 p 1) j_15 0) j_15 p) _ _ _ (by omega) (fun p9 hp9 hc9 => absurd hc9 (by rw [hfp] at hp9; cases hp9; rw [hfc]; decide)) hx hP hW hN hF) ⟨rfl, ⟨rfl, trivial⟩⟩
                  · obtain ⟨j_333, hl_336, hj_337⟩ := bind_s e_335
                    refine x_acmp_ne (n' := 215) (rx := some (ax)) (ry := some (b_334)) (tgt := 225) dJ1_fixAfterInsertion_212 (by decide) rfl (fun c212_371 => ?_) (fun c212_371 => ?_)
                    · have hpo : tL T1 p ≠ some x := fun e9 => absurd (congrArg some (Option.some.inj ((hx.symm).trans ((congrArg (tN T1) (Option.some.inj (e9.symm.trans hl_336))).trans hj_337)))) (by assumption)
                      refine x_aload_n (n' := 226) dJ1_fixAfterInsertion_225 rfl rfl rfl ?_
                      refine x_callS (n' := 229) (n := 1) (c_J1_parentOf__s l G _ o t asd T1 x ax hP hx) dJ1_fixAfterInsertion_226 (lw_S q2524 q2525 q81 q2526) (by decide +kernel) ⟨(Nat.le_of_ble_eq_true rfl), (Nat.le_of_ble_eq_true rfl)⟩ rfl rfl (Nat.le_of_ble_eq_true rfl) (by first | exact Nat.le_of_ble_eq_true rfl | omega) (by first | exact Nat.le_of_ble_eq_true rfl | omega) rfl (fun v_372 M_373 h_375 hE_374 => ?_)
                      obtain ⟨rfl, hMs⟩ := h_375
                      have hMs := hMs.symm
                      subst hMs
                      refine x_topr (lk_s hxp hp) ?_
                      refine x_iconst (n' := 230) (v := 1) dJ1_fixAfterInsertion_229 (by decide) rfl ?_
                      refine x_callS (n' := 233) (n := 2) (c_J1_setColor__s l G _ o t asd T1 p ap 1 hP hp (Or.inr rfl)) dJ1_fixAfterInsertion_230 (lw_S q2536 q2537 q81 q2538) (by decide +kernel) ⟨(Nat.le_of_ble_eq_true rfl), (Nat.le_of_ble_eq_true rfl)⟩ rfl rfl (Nat.le_of_ble_eq_true rfl) (by first | exact Nat.le_of_ble_eq_true rfl | omega) (by first | exact Nat.le_of_ble_eq_true rfl | omega) rfl (fun v_376 M_377 h_379 hE_378 => ?_)
                      obtain ⟨rfl, hP9, hF9⟩ := h_379
                      replace hP := hP9
                      replace hF := hF.tr hF9
                      clear hF9
                      refine x_aload_n (n' := 234) dJ1_fixAfterInsertion_233 rfl rfl rfl ?_
                      refine x_callS (n' := 237) (n := 1) (c_J1_parentOf__s l G _ o t asd (tsC T1 p 1) x ax hP hx) dJ1_fixAfterInsertion_234 (lw_S q2524 q2525 q81 q2526) (by decide +kernel) ⟨(Nat.le_of_ble_eq_true rfl), (Nat.le_of_ble_eq_true rfl)⟩ rfl rfl (Nat.le_of_ble_eq_true rfl) (by first | exact Nat.le_of_ble_eq_true rfl | omega) (by first | exact Nat.le_of_ble_eq_true rfl | omega) rfl (fun v_380 M_381 h_383 hE_382 => ?_)
                      obtain ⟨rfl, hMs⟩ := h_383
                      have hMs := hMs.symm
                      subst hMs
                      refine x_topr (lk_s hxp hp) ?_
                      refine x_callS (n' := 240) (n := 1) (c_J1_parentOf__s l G _ o t asd (tsC T1 p 1) p ap hP hp) dJ1_fixAfterInsertion_237 (lw_S q2524 q2525 q81 q2526) (by decide +kernel) ⟨(Nat.le_of_ble_eq_true rfl), (Nat.le_of_ble_eq_true rfl)⟩ rfl rfl (Nat.le_of_ble_eq_true rfl) (by first | exact Nat.le_of_ble_eq_true rfl | omega) (by first | exact Nat.le_of_ble_eq_true rfl | omega) rfl (fun v_384 M_385 h_387 hE_386 => ?_)
                      obtain ⟨rfl, hMs⟩ := h_387
                      have hMs := hMs.symm
                      subst hMs
                      refine x_topr (lk_s hl_18 hj_19) ?_
                      refine x_iconst (n' := 241) (v := 0) dJ1_fixAfterInsertion_240 (by decide) rfl ?_
                      refine x_callS (n' := 244) (n := 2) (c_J1_setColor__s l G _ o t asd (tsC T1 p 1) j_15 b_16 0 hP hj_19 (Or.inl rfl)) dJ1_fixAfterInsertion_241 (lw_S q2536 q2537 q81 q2538) (by decide +kernel) ⟨(Nat.le_of_ble_eq_true rfl), (Nat.le_of_ble_eq_true rfl)⟩ rfl rfl (Nat.le_of_ble_eq_true rfl) (by first | exact Nat.le_of_ble_eq_true rfl | omega) (by first | exact Nat.le_of_ble_eq_true rfl | omega) rfl (fun v_388 M_389 h_391 hE_390 => ?_)
                      obtain ⟨rfl, hP9, hF9⟩ := h_391
                      replace hP := hP9
                      replace hF := hF.tr hF9
                      clear hF9
                      refine x_aload_n (n' := 245) dJ1_fixAfterInsertion_244 rfl rfl rfl ?_
                      refine x_aload_n (n' := 246) dJ1_fixAfterInsertion_245 rfl rfl rfl ?_
                      refine x_callS (n' := 249) (n := 1) (c_J1_parentOf__s l G _ o t asd (tsC (tsC T1 p 1) j_15 0) x ax hP hx) dJ1_fixAfterInsertion_246 (lw_S q2524 q2525 q81 q2526) (by decide +kernel) ⟨(Nat.le_of_ble_eq_true rfl), (Nat.le_of_ble_eq_true rfl)⟩ rfl rfl (Nat.le_of_ble_eq_true rfl) (by first | exact Nat.le_of_ble_eq_true rfl | omega) (by first | exact Nat.le_of_ble_eq_true rfl | omega) rfl (fun v_392 M_393 h_395 hE_394 => ?_)
                      obtain ⟨rfl, hMs⟩ := h_395
                      have hMs := hMs.symm
                      subst hMs
                      refine x_topr (lk_s hxp hp) ?_
                      refine x_callS (n' := 252) (n := 1) (c_J1_parentOf__s l G _ o t asd (tsC (tsC T1 p 1) j_15 0) p ap hP hp) dJ1_fixAfterInsertion_249 (lw_S q2524 q2525 q81 q2526) (by decide +kernel) ⟨(Nat.le_of_ble_eq_true rfl), (Nat.le_of_ble_eq_true rfl)⟩ rfl rfl (Nat.le_of_ble_eq_true rfl) (by first | exact Nat.le_of_ble_eq_true rfl | omega) (by first | exact Nat.le_of_ble_eq_true rfl | omega) rfl (fun v_396 M_397 h_399 hE_398 => ?_)
                      obtain ⟨rfl, hMs⟩ := h_399
                      have hMs := hMs.symm
                      subst hMs
                      refine x_topr (lk_s hl_18 hj_19) ?_
                      refine x_callV (n' := 255) (n := 1) (K := 41) (c_J1_rotateLeft__s l G _ o t asd (tsC (tsC T1 p 1) j_15 0) j_15 b_16 p _ _ hP hW hj_19 hgr) dJ1_fixAfterInsertion_252 (hP.k) rfl (lw_V q2539 q2541 qs30 q81 q2542) (by decide +kernel) ⟨(Nat.le_of_ble_eq_true rfl), (Nat.le_of_ble_eq_true rfl)⟩ rfl rfl (Nat.le_of_ble_eq_true rfl) (by first | exact Nat.le_of_ble_eq_true rfl | omega) (by first | exact Nat.le_of_ble_eq_true rfl | omega) rfl (fun v_400 M_401 h_403 hE_402 => ?_)
                      obtain ⟨rfl, hP9, hF9⟩ := h_403
                      replace hP := hP9
                      replace hF := hF.tr hF9
                      clear hF9
                      have hW0 := hW
                      have hW := rotLT_W (T := (tsC (tsC T1 p 1) j_15 0)) hW0 hj_19 hgr
                      have hu1 := hW1.up (nns hx) hxp
                      have hu2 := hW1.up (nns hp) hl_18
                      have hgx9 : j_15 ≠ x := fun e => by subst e; omega
                      have hfp : tP (rotLT (tsC (tsC T1 p 1) j_15 0) j_15 p) x = some p := (rotLT_Po (fun e => hgx9 e.symm) hu1.2.1 hpo).trans hxp
                      have hfc : tC (rotLT (tsC (tsC T1 p 1) j_15 0) j_15 p) p = 1 := (va_up_ne _ _ hu2.2.1).trans (va_up_self _ _ _)
                      refine x_goto (tgt := 5) dJ1_fixAfterInsertion_255 (by decide) ?_
                      have hm9 := hm p hxp (by assumption)
                      have ivx := hW1.1 x (nns hx)
                      exact x_drop (ih 0 x ax (rotLT (tsC (tsC T1 p 1) j_15 0) j_15 p) _ _ _ (by omega) (fun p9 hp9 hc9 => absurd hc9 (by rw [hfp] at hp9; cases hp9; rw [hfc]; decide)) hx hP hW hN hF) ⟨rfl, ⟨rfl, trivial⟩⟩
                    · have hpx : tL T1 p = some x := by have e9 : ax = b_334 := Option.some.inj (by assumption); have e8 : x = j_333 := hP.inj hx ((hj_337).trans (congrArg some e9.symm)); rw [e8]; exact hl_336
                      refine x_aload_n (n' := 216) dJ1_fixAfterInsertion_215 rfl rfl rfl ?_
                      refine x_callS (n' := 219) (n := 1) (c_J1_parentOf__s l G _ o t asd T1 x ax hP hx) dJ1_fixAfterInsertion_216 (lw_S q2524 q2525 q81 q2526) (by decide +kernel) ⟨(Nat.le_of_ble_eq_true rfl), (Nat.le_of_ble_eq_true rfl)⟩ rfl rfl (Nat.le_of_ble_eq_true rfl) (by first | exact Nat.le_of_ble_eq_true rfl | omega) (by first | exact Nat.le_of_ble_eq_true rfl | omega) rfl (fun v_404 M_405 h_407 hE_406 => ?_)
                      obtain ⟨rfl, hMs⟩ := h_407
                      have hMs := hMs.symm
                      subst hMs
                      refine x_topr (lk_s hxp hp) ?_
                      refine x_astore_n (n' := 220) dJ1_fixAfterInsertion_219 rfl (Nat.le_of_ble_eq_true rfl) rfl (by dsimp only [List.set] <;> rfl) rfl ?_
                      refine x_aload_n (n' := 221) dJ1_fixAfterInsertion_220 rfl rfl rfl ?_
                      refine x_aload_n (n' := 222) dJ1_fixAfterInsertion_221 rfl rfl rfl ?_
                      refine x_callV (n' := 225) (n := 1) (K := 41) (c_J1_rotateRight__s l G _ o t asd T1 p ap x _ _ hP hW hp hpx) dJ1_fixAfterInsertion_222 (hP.k) rfl (lw_V q2543 q2545 qs31 q81 q2546) (by decide +kernel) ⟨(Nat.le_of_ble_eq_true rfl), (Nat.le_of_ble_eq_true rfl)⟩ rfl rfl (Nat.le_of_ble_eq_true rfl) (by first | exact Nat.le_of_ble_eq_true rfl | omega) (by first | exact Nat.le_of_ble_eq_true rfl | omega) rfl (fun v_408 M_409 h_411 hE_410 => ?_)
                      obtain ⟨rfl, hP9, hF9⟩ := h_411
                      replace hP := hP9
                      replace hF := hF.tr hF9
                      clear hF9
                      have hW0 := hW
                      have hW := rotRT_W (T := T1) hW0 hp hpx
                      have hup := hW0.up (nns hx) hxp
                      have hq1 : tP (rotRT T1 p x) p = some x := rotRT_Pp
                      have hq2 : tP (rotRT T1 p x) x = some j_15 := (rotRT_Pr (fun e => hup.2.1 e.symm)).trans hl_18
                      have hup2 := hW0.up (nns hp) hl_18
                      have hgx : j_15 ≠ x := fun e => by subst e; omega
                      have hq3 : tR (rotRT T1 p x) j_15 = some x := rotRT_Rg hgx hl_18 hgr
                      have hq4 : tL (rotRT T1 p x) x = tL T1 x := rotRT_Lr hup.2.1 hgx hl_18
                      have hq5 : tL T1 x ≠ some p := fun e => by have := (hW0.upL (nns hx) e).2; rw [show tP T1 p = some j_15 from hl_18] at this; cases this; exact hgx rfl
                      refine x_aload_n (n' := 226) dJ1_fixAfterInsertion_225 rfl rfl rfl ?_
                      refine x_callS (n' := 229) (n := 1) (c_J1_parentOf__s l G _ o t asd (rotRT T1 p x) p ap hP hp) dJ1_fixAfterInsertion_226 (lw_S q2524 q2525 q81 q2526) (by decide +kernel) ⟨(Nat.le_of_ble_eq_true rfl), (Nat.le_of_ble_eq_true rfl)⟩ rfl rfl (Nat.le_of_ble_eq_true rfl) (by first | exact Nat.le_of_ble_eq_true rfl | omega) (by first | exact Nat.le_of_ble_eq_true rfl | omega) rfl (fun v_412 M_413 h_415 hE_414 => ?_)
                      obtain ⟨rfl, hMs⟩ := h_415
                      have hMs := hMs.symm
                      subst hMs
                      refine x_topr (lk_s hq1 hx) ?_
                      refine x_iconst (n' := 230) (v := 1) dJ1_fixAfterInsertion_229 (by decide) rfl ?_
                      refine x_callS (n' := 233) (n := 2) (c_J1_setColor__s l G _ o t asd (rotRT T1 p x) x ax 1 hP hx (Or.inr rfl)) dJ1_fixAfterInsertion_230 (lw_S q2536 q2537 q81 q2538) (by decide +kernel) ⟨(Nat.le_of_ble_eq_true rfl), (Nat.le_of_ble_eq_true rfl)⟩ rfl rfl (Nat.le_of_ble_eq_true rfl) (by first | exact Nat.le_of_ble_eq_true rfl | omega) (by first | exact Nat.le_of_ble_eq_true rfl | omega) rfl (fun v_416 M_417 h_419 hE_418 => ?_)
                      obtain ⟨rfl, hP9, hF9⟩ := h_419
                      replace hP := hP9
                      replace hF := hF.tr hF9
                      clear hF9
                      refine x_aload_n (n' := 234) dJ1_fixAfterInsertion_233 rfl rfl rfl ?_
                      refine x_callS (n' := 237) (n := 1) (c_J1_parentOf__s l G _ o t asd (tsC (rotRT T1 p x) x 1) p ap hP hp) dJ1_fixAfterInsertion_234 (lw_S q2524 q2525 q81 q2526) (by decide +kernel) ⟨(Nat.le_of_ble_eq_true rfl), (Nat.le_of_ble_eq_true rfl)⟩ rfl rfl (Nat.le_of_ble_eq_true rfl) (by first | exact Nat.le_of_ble_eq_true rfl | omega) (by first | exact Nat.le_of_ble_eq_true rfl | omega) rfl (fun v_420 M_421 h_423 hE_422 => ?_)
                      obtain ⟨rfl, hMs⟩ := h_423
                      have hMs := hMs.symm
                      subst hMs
                      refine x_topr (lk_s hq1 hx) ?_
                      refine x_callS (n' := 240) (n := 1) (c_J1_parentOf__s l G _ o t asd (tsC (rotRT T1 p x) x 1) x ax hP hx) dJ1_fixAfterInsertion_237 (lw_S q2524 q2525 q81 q2526) (by decide +kernel) ⟨(Nat.le_of_ble_eq_true rfl), (Nat.le_of_ble_eq_true rfl)⟩ rfl rfl (Nat.le_of_ble_eq_true rfl) (by first | exact Nat.le_of_ble_eq_true rfl | omega) (by first | exact Nat.le_of_ble_eq_true rfl | omega) rfl (fun v_424 M_425 h_427 hE_426 => ?_)
                      obtain ⟨rfl, hMs⟩ := h_427
                      have hMs := hMs.symm
                      subst hMs
                      refine x_topr (lk_s hq2 hj_19) ?_
                      refine x_iconst (n' := 241) (v := 0) dJ1_fixAfterInsertion_240 (by decide) rfl ?_
                      refine x_callS (n' := 244) (n := 2) (c_J1_setColor__s l G _ o t asd (tsC (rotRT T1 p x) x 1) j_15 b_16 0 hP hj_19 (Or.inl rfl)) dJ1_fixAfterInsertion_241 (lw_S q2536 q2537 q81 q2538) (by decide +kernel) ⟨(Nat.le_of_ble_eq_true rfl), (Nat.le_of_ble_eq_true rfl)⟩ rfl rfl (Nat.le_of_ble_eq_true rfl) (by first | exact Nat.le_of_ble_eq_true rfl | omega) (by first | exact Nat.le_of_ble_eq_true rfl | omega) rfl (fun v_428 M_429 h_431 hE_430 => ?_)
                      obtain ⟨rfl, hP9, hF9⟩ := h_431
                      replace hP := hP9
                      replace hF := hF.tr hF9
                      clear hF9
                      refine x_aload_n (n' := 245) dJ1_fixAfterInsertion_244 rfl rfl rfl ?_
                      refine x_aload_n (n' := 246) dJ1_fixAfterInsertion_245 rfl rfl rfl ?_
                      refine x_callS (n' := 249) (n := 1) (c_J1_parentOf__s l G _ o t asd (tsC (tsC (rotRT T1 p x) x 1) j_15 0) p ap hP hp) dJ1_fixAfterInsertion_246 (lw_S q2524 q2525 q81 q2526) (by decide +kernel) ⟨(Nat.le_of_ble_eq_true rfl), (Nat.le_of_ble_eq_true rfl)⟩ rfl rfl (Nat.le_of_ble_eq_true rfl) (by first | exact Nat.le_of_ble_eq_true rfl | omega) (by first | exact Nat.le_of_ble_eq_true rfl | omega) rfl (fun v_432 M_433 h_435 hE_434 => ?_)
                      obtain ⟨rfl, hMs⟩ := h_435
                      have hMs := hMs.symm
                      subst hMs
                      refine x_topr (lk_s hq1 hx) ?_
                      refine x_callS (n' := 252) (n := 1) (c_J1_parentOf__s l G _ o t asd (tsC (tsC (rotRT T1 p x) x 1) j_15 0) x ax hP hx) dJ1_fixAfterInsertion_249 (lw_S q2524 q2525 q81 q2526) (by decide +kernel) ⟨(Nat.le_of_ble_eq_true rfl), (Nat.le_of_ble_eq_true rfl)⟩ rfl rfl (Nat.le_of_ble_eq_true rfl) (by first | exact Nat.le_of_ble_eq_true rfl | omega) (by first | exact Nat.le_of_ble_eq_true rfl | omega) rfl (fun v_436 M_437 h_439 hE_438 => ?_)
                      obtain ⟨rfl, hMs⟩ := h_439
                      have hMs := hMs.symm
                      subst hMs
                      refine x_topr (lk_s hq2 hj_19) ?_
                      refine x_callV (n' := 255) (n := 1) (K := 41) (c_J1_rotateLeft__s l G _ o t asd (tsC (tsC (rotRT T1 p x) x 1) j_15 0) j_15 b_16 x _ _ hP hW hj_19 hq3) dJ1_fixAfterInsertion_252 (hP.k) rfl (lw_V q2539 q2541 qs30 q81 q2542) (by decide +kernel) ⟨(Nat.le_of_ble_eq_true rfl), (Nat.le_of_ble_eq_true rfl)⟩ rfl rfl (Nat.le_of_ble_eq_true rfl) (by first | exact Nat.le_of_ble_eq_true rfl | omega) (by first | exact Nat.le_of_ble_eq_true rfl | omega) rfl (fun v_440 M_441 h_443 hE_442 => ?_)
                      obtain ⟨rfl, hP9, hF9⟩ := h_443
                      replace hP := hP9
                      replace hF := hF.tr hF9
                      clear hF9
                      have hW0 := hW
                      have hW := rotLT_W (T := (tsC (tsC (rotRT T1 p x) x 1) j_15 0)) hW0 hj_19 hq3
                      have hu1 := hW1.up (nns hx) hxp
                      have hu2 := hW1.up (nns hp) hl_18
                      have hgx9 : j_15 ≠ x := fun e => by subst e; omega
                      have hfp : tP (rotLT (tsC (tsC (rotRT T1 p x) x 1) j_15 0) j_15 x) p = some x := (rotLT_Po hu2.2.1 (fun e => hu1.2.1 e.symm) (fun e => hq5 (hq4.symm.trans e))).trans hq1
                      have hfc : tC (rotLT (tsC (tsC (rotRT T1 p x) x 1) j_15 0) j_15 x) x = 1 := (va_up_ne _ _ (fun e => hgx9 e.symm)).trans (va_up_self _ _ _)
                      refine x_goto (tgt := 5) dJ1_fixAfterInsertion_255 (by decide) ?_
                      have hm9 := hm p hxp (by assumption)
                      have ivx := hW1.1 x (nns hx)
                      exact x_drop (ih 0 p ap (rotLT (tsC (tsC (rotRT T1 p x) x 1) j_15 0) j_15 x) _ _ _ (by omega) (fun p9 hp9 hc9 => absurd hc9 (by rw [hfp] at hp9; cases hp9; rw [hfc]; decide)) hp hP hW hN hF) ⟨rfl, ⟨rfl, trivial⟩⟩
                · refine x_aload_n (n' := 170) dJ1_fixAfterInsertion_169 rfl rfl rfl ?_
                  refine x_callS (n' := 173) (n := 1) (c_J1_parentOf__s l G _ o t asd T1 x ax hP hx) dJ1_fixAfterInsertion_170 (lw_S q2524 q2525 q81 q2526) (by decide +kernel) ⟨(Nat.le_of_ble_eq_true rfl), (Nat.le_of_ble_eq_true rfl)⟩ rfl rfl (Nat.le_of_ble_eq_true rfl) (by first | exact Nat.le_of_ble_eq_true rfl | omega) (by first | exact Nat.le_of_ble_eq_true rfl | omega) rfl (fun v_444 M_445 h_447 hE_446 => ?_)
                  obtain ⟨rfl, hMs⟩ := h_447
                  have hMs := hMs.symm
                  subst hMs
                  refine x_topr (lk_s hxp hp) ?_
                  refine x_iconst (n' := 174) (v := 1) dJ1_fixAfterInsertion_173 (by decide) rfl ?_
                  refine x_callS (n' := 177) (n := 2) (c_J1_setColor__s l G _ o t asd T1 p ap 1 hP hp (Or.inr rfl)) dJ1_fixAfterInsertion_174 (lw_S q2536 q2537 q81 q2538) (by decide +kernel) ⟨(Nat.le_of_ble_eq_true rfl), (Nat.le_of_ble_eq_true rfl)⟩ rfl rfl (Nat.le_of_ble_eq_true rfl) (by first | exact Nat.le_of_ble_eq_true rfl | omega) (by first | exact Nat.le_of_ble_eq_true rfl | omega) rfl (fun v_448 M_449 h_451 hE_450 => ?_)
                  obtain ⟨rfl, hP9, hF9⟩ := h_451
                  replace hP := hP9
                  replace hF := hF.tr hF9
                  clear hF9
                  refine x_aload_n (n' := 178) dJ1_fixAfterInsertion_177 rfl rfl rfl ?_
                  refine x_iconst (n' := 179) (v := 1) dJ1_fixAfterInsertion_178 (by decide) rfl ?_
                  refine x_callS (n' := 182) (n := 2) (c_J1_setColor__s l G _ o t asd (tsC T1 p 1) j_165 b_166 1 hP hj_169 (Or.inr rfl)) dJ1_fixAfterInsertion_179 (lw_S q2536 q2537 q81 q2538) (by decide +kernel) ⟨(Nat.le_of_ble_eq_true rfl), (Nat.le_of_ble_eq_true rfl)⟩ rfl rfl (Nat.le_of_ble_eq_true rfl) (by first | exact Nat.le_of_ble_eq_true rfl | omega) (by first | exact Nat.le_of_ble_eq_true rfl | omega) rfl (fun v_452 M_453 h_455 hE_454 => ?_)
                  obtain ⟨rfl, hP9, hF9⟩ := h_455
                  replace hP := hP9
                  replace hF := hF.tr hF9
                  clear hF9
                  refine x_aload_n (n' := 183) dJ1_fixAfterInsertion_182 rfl rfl rfl ?_
                  refine x_callS (n' := 186) (n := 1) (c_J1_parentOf__s l G _ o t asd (tsC (tsC T1 p 1) j_165 1) x ax hP hx) dJ1_fixAfterInsertion_183 (lw_S q2524 q2525 q81 q2526) (by decide +kernel) ⟨(Nat.le_of_ble_eq_true rfl), (Nat.le_of_ble_eq_true rfl)⟩ rfl rfl (Nat.le_of_ble_eq_true rfl) (by first | exact Nat.le_of_ble_eq_true rfl | omega) (by first | exact Nat.le_of_ble_eq_true rfl | omega) rfl (fun v_456 M_457 h_459 hE_458 => ?_)
                  obtain ⟨rfl, hMs⟩ := h_459
                  have hMs := hMs.symm
                  subst hMs
                  refine x_topr (lk_s hxp hp) ?_
                  refine x_callS (n' := 189) (n := 1) (c_J1_parentOf__s l G _ o t asd (tsC (tsC T1 p 1) j_165 1) p ap hP hp) dJ1_fixAfterInsertion_186 (lw_S q2524 q2525 q81 q2526) (by decide +kernel) ⟨(Nat.le_of_ble_eq_true rfl), (Nat.le_of_ble_eq_true rfl)⟩ rfl rfl (Nat.le_of_ble_eq_true rfl) (by first | exact Nat.le_of_ble_eq_true rfl | omega) (by first | exact Nat.le_of_ble_eq_true rfl | omega) rfl (fun v_460 M_461 h_463 hE_462 => ?_)
                  obtain ⟨rfl, hMs⟩ := h_463
                  have hMs := hMs.symm
                  subst hMs
                  refine x_topr (lk_s hl_18 hj_19) ?_
                  refine x_iconst (n' := 190) (v := 0) dJ1_fixAfterInsertion_189 (by decide) rfl ?_
                  refine x_callS (n' := 193) (n := 2) (c_J1_setColor__s l G _ o t asd (tsC (tsC T1 p 1) j_165 1) j_15 b_16 0 hP hj_19 (Or.inl rfl)) dJ1_fixAfterInsertion_190 (lw_S q2536 q2537 q81 q2538) (by decide +kernel) ⟨(Nat.le_of_ble_eq_true rfl), (Nat.le_of_ble_eq_true rfl)⟩ rfl rfl (Nat.le_of_ble_eq_true rfl) (by first | exact Nat.le_of_ble_eq_true rfl | omega) (by first | exact Nat.le_of_ble_eq_true rfl | omega) rfl (fun v_464 M_465 h_467 hE_466 => ?_)
                  obtain ⟨rfl, hP9, hF9⟩ := h_467
                  replace hP := hP9
                  replace hF := hF.tr hF9
                  clear hF9
                  refine x_aload_n (n' := 194) dJ1_fixAfterInsertion_193 rfl rfl rfl ?_
                  refine x_callS (n' := 197) (n := 1) (c_J1_parentOf__s l G _ o t asd (tsC (tsC (tsC T1 p 1) j_165 1) j_15 0) x ax hP hx) dJ1_fixAfterInsertion_194 (lw_S q2524 q2525 q81 q2526) (by decide +kernel) ⟨(Nat.le_of_ble_eq_true rfl), (Nat.le_of_ble_eq_true rfl)⟩ rfl rfl (Nat.le_of_ble_eq_true rfl) (by first | exact Nat.le_of_ble_eq_true rfl | omega) (by first | exact Nat.le_of_ble_eq_true rfl | omega) rfl (fun v_468 M_469 h_471 hE_470 => ?_)
                  obtain ⟨rfl, hMs⟩ := h_471
                  have hMs := hMs.symm
                  subst hMs
                  refine x_topr (lk_s hxp hp) ?_
                  refine x_callS (n' := 200) (n := 1) (c_J1_parentOf__s l G _ o t asd (tsC (tsC (tsC T1 p 1) j_165 1) j_15 0) p ap hP hp) dJ1_fixAfterInsertion_197 (lw_S q2524 q2525 q81 q2526) (by decide +kernel) ⟨(Nat.le_of_ble_eq_true rfl), (Nat.le_of_ble_eq_true rfl)⟩ rfl rfl (Nat.le_of_ble_eq_true rfl) (by first | exact Nat.le_of_ble_eq_true rfl | omega) (by first | exact Nat.le_of_ble_eq_true rfl | omega) rfl (fun v_472 M_473 h_475 hE_474 => ?_)
                  obtain ⟨rfl, hMs⟩ := h_475
                  have hMs := hMs.symm
                  subst hMs
                  refine x_topr (lk_s hl_18 hj_19) ?_
                  refine x_astore_n (n' := 201) dJ1_fixAfterInsertion_200 rfl (Nat.le_of_ble_eq_true rfl) rfl (by dsimp only [List.set] <;> rfl) rfl ?_
                  refine x_goto (tgt := 255) dJ1_fixAfterInsertion_201 (by decide) ?_
                  refine x_goto (tgt := 5) dJ1_fixAfterInsertion_255 (by decide) ?_
                  have hu1 := hW.up (nns hx) hxp
                  have hu2 := hW.up (nns hp) hl_18
                  have ivg := hW.1 j_15 (nns hj_19)
                  have hm9 := hm p hxp (by assumption)
                  exact x_drop (ih (BB + 1 - (hi1 j_15 - lo1 j_15)) j_15 b_16 (tsC (tsC (tsC T1 p 1) j_165 1) j_15 0) lo1 hi1 _ (by omega) (fun _ _ _ => Nat.le_refl _) hj_19 hP hW hN hF) ⟨rfl, ⟨rfl, trivial⟩⟩
              · have hgl : tL T1 j_15 = some p := by have e9 : ap = b_166 := Option.some.inj (by assumption); have e8 : p = j_165 := hP.inj (hp) ((hj_169).trans (congrArg some e9.symm)); rw [e8]; exact hl_168
                refine x_aload_n (n' := 45) dJ1_fixAfterInsertion_44 rfl rfl rfl ?_
                refine x_callS (n' := 48) (n := 1) (c_J1_parentOf__s l G _ o t asd T1 x ax hP hx) dJ1_fixAfterInsertion_45 (lw_S q2524 q2525 q81 q2526) (by decide +kernel) ⟨(Nat.le_of_ble_eq_true rfl), (Nat.le_of_ble_eq_true rfl)⟩ rfl rfl (Nat.le_of_ble_eq_true rfl) (by first | exact Nat.le_of_ble_eq_true rfl | omega) (by first | exact Nat.le_of_ble_eq_true rfl | omega) rfl (fun v_476 M_477 h_479 hE_478 => ?_)
                obtain ⟨rfl, hMs⟩ := h_479
                have hMs := hMs.symm
                subst hMs
                refine x_topr (lk_s hxp hp) ?_
                refine x_callS (n' := 51) (n := 1) (c_J1_parentOf__s l G _ o t asd T1 p ap hP hp) dJ1_fixAfterInsertion_48 (lw_S q2524 q2525 q81 q2526) (by decide +kernel) ⟨(Nat.le_of_ble_eq_true rfl), (Nat.le_of_ble_eq_true rfl)⟩ rfl rfl (Nat.le_of_ble_eq_true rfl) (by first | exact Nat.le_of_ble_eq_true rfl | omega) (by first | exact Nat.le_of_ble_eq_true rfl | omega) rfl (fun v_480 M_481 h_483 hE_482 => ?_)
                obtain ⟨rfl, hMs⟩ := h_483
                have hMs := hMs.symm
                subst hMs
                refine x_topr (lk_s hl_18 hj_19) ?_
                refine x_callS (n' := 54) (n := 1) (c_J1_rightOf__s l G _ o t asd T1 j_15 b_16 hP hj_19) dJ1_fixAfterInsertion_51 (lw_S q2530 q2531 q81 q2532) (by decide +kernel) ⟨(Nat.le_of_ble_eq_true rfl), (Nat.le_of_ble_eq_true rfl)⟩ rfl rfl (Nat.le_of_ble_eq_true rfl) (by first | exact Nat.le_of_ble_eq_true rfl | omega) (by first | exact Nat.le_of_ble_eq_true rfl | omega) rfl (fun v_484 M_485 h_487 hE_486 => ?_)
                obtain ⟨rfl, hMs⟩ := h_487
                have hMs := hMs.symm
                subst hMs
                refine x_topq (fun e_490 => ?_) (fun b_489 e_490 => ?_)
                · have hl_491 : tR T1 j_15 = none := bind_n e_490 (fun _ q => hW.dr (nns hj_19) q)
                  refine x_astore_nN (n' := 55) dJ1_fixAfterInsertion_54 rfl (Nat.le_of_ble_eq_true rfl) rfl (by dsimp only [List.set] <;> rfl) rfl ?_
                  refine x_aload_nN (n' := 56) dJ1_fixAfterInsertion_55 rfl rfl rfl ?_
                  refine x_callS (n' := 59) (n := 1) (c_J1_colorOf__n l G _) dJ1_fixAfterInsertion_56 (lw_S q2533 q2534 q81 q2535) (by decide +kernel) ⟨(Nat.le_of_ble_eq_true rfl), (Nat.le_of_ble_eq_true rfl)⟩ rfl rfl (Nat.le_of_ble_eq_true rfl) (by first | exact Nat.le_of_ble_eq_true rfl | omega) (by first | exact Nat.le_of_ble_eq_true rfl | omega) rfl (fun v_493 M_494 h_496 hE_495 => ?_)
                  obtain ⟨rfl, hMs⟩ := h_496
                  have hMs := hMs.symm
                  subst hMs
                  refine x_if_ne (n' := 62) (tgt := 97) dJ1_fixAfterInsertion_59 (by decide) rfl (fun c59_497 => ?_) (fun c59_497 => by first | exact absurd c59_497 (by decide) | exact absurd (by decide) c59_497)
                  refine x_aload_n (n' := 98) dJ1_fixAfterInsertion_97 rfl rfl rfl ?_
                  refine x_aload_n (n' := 99) dJ1_fixAfterInsertion_98 rfl rfl rfl ?_
                  refine x_callS (n' := 102) (n := 1) (c_J1_parentOf__s l G _ o t asd T1 x ax hP hx) dJ1_fixAfterInsertion_99 (lw_S q2524 q2525 q81 q2526) (by decide +kernel) ⟨(Nat.le_of_ble_eq_true rfl), (Nat.le_of_ble_eq_true rfl)⟩ rfl rfl (Nat.le_of_ble_eq_true rfl) (by first | exact Nat.le_of_ble_eq_true rfl | omega) (by first | exact Nat.le_of_ble_eq_true rfl | omega) rfl (fun v_498 M_499 h_501 hE_500 => ?_)
                  obtain ⟨rfl, hMs⟩ := h_501
                  have hMs := hMs.symm
                  subst hMs
                  refine x_topr (lk_s hxp hp) ?_
                  refine x_callS (n' := 105) (n := 1) (c_J1_rightOf__s l G _ o t asd T1 p ap hP hp) dJ1_fixAfterInsertion_102 (lw_S q2530 q2531 q81 q2532) (by decide +kernel) ⟨(Nat.le_of_ble_eq_true rfl), (Nat.le_of_ble_eq_true rfl)⟩ rfl rfl (Nat.le_of_ble_eq_true rfl) (by first | exact Nat.le_of_ble_eq_true rfl | omega) (by first | exact Nat.le_of_ble_eq_true rfl | omega) rfl (fun v_502 M_503 h_505 hE_504 => ?_)
                  obtain ⟨rfl, hMs⟩ := h_505
                  have hMs := hMs.symm
                  subst hMs
                  refine x_topq (fun e_508 => ?_) (fun b_507 e_508 => ?_)
                  · have hl_509 : tR T1 p = none := bind_n e_508 (fun _ q => hW.dr (nns hp) q)
                    refine x_acmp_ne (n' := 108) (rx := some (ax)) (ry := none) (tgt := 118) dJ1_fixAfterInsertion_105 (by decide) rfl (fun c105_511 => ?_) (fun c105_511 => by cases c105_511)
                    have hpo : tR T1 p ≠ some x := fun e9 => by have := hl_509; rw [show tR T1 p = some x from e9] at this; cases this
                    refine x_aload_n (n' := 119) dJ1_fixAfterInsertion_118 rfl rfl rfl ?_
                    refine x_callS (n' := 122) (n := 1) (c_J1_parentOf__s l G _ o t asd T1 x ax hP hx) dJ1_fixAfterInsertion_119 (lw_S q2524 q2525 q81 q2526) (by decide +kernel) ⟨(Nat.le_of_ble_eq_true rfl), (Nat.le_of_ble_eq_true rfl)⟩ rfl rfl (Nat.le_of_ble_eq_true rfl) (by first | exact Nat.le_of_ble_eq_true rfl | omega) (by first | exact Nat.le_of_ble_eq_true rfl | omega) rfl (fun v_512 M_513 h_515 hE_514 => ?_)
                    obtain ⟨rfl, hMs⟩ := h_515
                    have hMs := hMs.symm
                    subst hMs
                    refine x_topr (lk_s hxp hp) ?_
                    refine x_iconst (n' := 123) (v := 1) dJ1_fixAfterInsertion_122 (by decide) rfl ?_
                    refine x_callS (n' := 126) (n := 2) (c_J1_setColor__s l G _ o t asd T1 p ap 1 hP hp (Or.inr rfl)) dJ1_fixAfterInsertion_123 (lw_S q2536 q2537 q81 q2538) (by decide +kernel) ⟨(Nat.le_of_ble_eq_true rfl), (Nat.le_of_ble_eq_true rfl)⟩ rfl rfl (Nat.le_of_ble_eq_true rfl) (by first | exact Nat.le_of_ble_eq_true rfl | omega) (by first | exact Nat.le_of_ble_eq_true rfl | omega) rfl (fun v_516 M_517 h_519 hE_518 => ?_)
                    obtain ⟨rfl, hP9, hF9⟩ := h_519
                    replace hP := hP9
                    replace hF := hF.tr hF9
                    clear hF9
                    refine x_aload_n (n' := 127) dJ1_fixAfterInsertion_126 rfl rfl rfl ?_
                    refine x_callS (n' := 130) (n := 1) (c_J1_parentOf__s l G _ o t asd (tsC T1 p 1) x ax hP hx) dJ1_fixAfterInsertion_127 (lw_S q2524 q2525 q81 q2526) (by decide +kernel) ⟨(Nat.le_of_ble_eq_true rfl), (Nat.le_of_ble_eq_true rfl)⟩ rfl rfl (Nat.le_of_ble_eq_true rfl) (by first | exact Nat.le_of_ble_eq_true rfl | omega) (by first | exact Nat.le_of_ble_eq_true rfl | omega) rfl (fun v_520 M_521 h_523 hE_522 => ?_)
                    obtain ⟨rfl, hMs⟩ := h_523
                    have hMs := hMs.symm
                    subst hMs
                    refine x_topr (lk_s hxp hp) ?_
                    refine x_callS (n' := 133) (n := 1) (c_J1_parentOf__s l G _ o t asd (tsC T1 p 1) p ap hP hp) dJ1_fixAfterInsertion_130 (lw_S q2524 q2525 q81 q2526) (by decide +kernel) ⟨(Nat.le_of_ble_eq_true rfl), (Nat.le_of_ble_eq_true rfl)⟩ rfl rfl (Nat.le_of_ble_eq_true rfl) (by first | exact Nat.le_of_ble_eq_true rfl | omega) (by first | exact Nat.le_of_ble_eq_true rfl | omega) rfl (fun v_524 M_525 h_527 hE_526 => ?_)
                    obtain ⟨rfl, hMs⟩ := h_527
                    have hMs := hMs.symm
                    subst hMs
                    refine x_topr (lk_s hl_18 hj_19) ?_
                    refine x_iconst (n' := 134) (v := 0) dJ1_fixAfterInsertion_133 (by decide) rfl ?_
                    refine x_callS (n' := 137) (n := 2) (c_J1_setColor__s l G _ o t asd (tsC T1 p 1) j_15 b_16 0 hP hj_19 (Or.inl rfl)) dJ1_fixAfterInsertion_134 (lw_S q2536 q2537 q81 q2538) (by decide +kernel) ⟨(Nat.le_of_ble_eq_true rfl), (Nat.le_of_ble_eq_true rfl)⟩ rfl rfl (Nat.le_of_ble_eq_true rfl) (by first | exact Nat.le_of_ble_eq_true rfl | omega) (by first | exact Nat.le_of_ble_eq_true rfl | omega) rfl (fun v_528 M_529 h_531 hE_530 => ?_)
                    obtain ⟨rfl, hP9, hF9⟩ := h_531
                    replace hP := hP9
                    replace hF := hF.tr hF9
                    clear hF9
                    refine x_aload_n (n' := 138) dJ1_fixAfterInsertion_137 rfl rfl rfl ?_
                    refine x_aload_n (n' := 139) dJ1_fixAfterInsertion_138 rfl rfl rfl ?_
                    refine x_callS (n' := 142) (n := 1) (c_J1_parentOf__s l G _ o t asd (tsC (tsC T1 p 1) j_15 0) x ax hP hx) dJ1_fixAfterInsertion_139 (lw_S q2524 q2525 q81 q2526) (by decide +kernel) ⟨(Nat.le_of_ble_eq_true rfl), (Nat.le_of_ble_eq_true rfl)⟩ rfl rfl (Nat.le_of_ble_eq_true rfl) (by first | exact Nat.le_of_ble_eq_true rfl | omega) (by first | exact Nat.le_of_ble_eq_true rfl | omega) rfl (fun v_532 M_533 h_535 hE_534 => ?_)
                    obtain ⟨rfl, hMs⟩ := h_535
                    have hMs := hMs.symm
                    subst hMs
                    refine x_topr (lk_s hxp hp) ?_
                    refine x_callS (n' := 145) (n := 1) (c_J1_parentOf__s l G _ o t asd (tsC (tsC T1 p 1) j_15 0) p ap hP hp) dJ1_fixAfterInsertion_142 (lw_S q2524 q2525 q81 q2526) (by decide +kernel) ⟨(Nat.le_of_ble_eq_true rfl), (Nat.le_of_ble_eq_true rfl)⟩ rfl rfl (Nat.le_of_ble_eq_true rfl) (by first | exact Nat.le_of_ble_eq_true rfl | omega) (by first | exact Nat.le_of_ble_eq_true rfl | omega) rfl (fun v_536 M_537 h_539 hE_538 => ?_)
                    obtain ⟨rfl, hMs⟩ := h_539
                    have hMs := hMs.symm
                    subst hMs
                    refine x_topr (lk_s hl_18 hj_19) ?_
                    refine x_callV (n' := 148) (n := 1) (K := 41) (c_J1_rotateRight__s l G _ o t asd (tsC (tsC T1 p 1) j_15 0) j_15 b_16 p _ _ hP hW hj_19 hgl) dJ1_fixAfterInsertion_145 (hP.k) rfl (lw_V q2543 q2545 qs31 q81 q2546) (by decide +kernel) ⟨(Nat.le_of_ble_eq_true rfl), (Nat.le_of_ble_eq_true rfl)⟩ rfl rfl (Nat.le_of_ble_eq_true rfl) (by first | exact Nat.le_of_ble_eq_true rfl | omega) (by first | exact Nat.le_of_ble_eq_true rfl | omega) rfl (fun v_540 M_541 h_543 hE_542 => ?_)
                    obtain ⟨rfl, hP9, hF9⟩ := h_543
                    replace hP := hP9
                    replace hF := hF.tr hF9
                    clear hF9
                    have hW0 := hW
                    have hW := rotRT_W (T := (tsC (tsC T1 p 1) j_15 0)) hW0 hj_19 hgl
                    have hu1 := hW1.up (nns hx) hxp
                    have hu2 := hW1.up (nns hp) hl_18
                    have hgx9 : j_15 ≠ x := fun e => by subst e; omega
                    have hfp : tP (rotRT (tsC (tsC T1 p 1) j_15 0) j_15 p) x = some p := (rotRT_Po (fun e => hgx9 e.symm) hu1.2.1 hpo).trans hxp
                    have hfc : tC (rotRT (tsC (tsC T1 p 1) j_15 0) j_15 p) p = 1 := (va_up_ne _ _ hu2.2.1).trans (va_up_self _ _ _)
                    refine x_goto (tgt := 5) dJ1_fixAfterInsertion_148 (by decide) ?_
                    have hm9 := hm p hxp (by assumption)
                    have ivx := hW1.1 x (nns hx)
                    exact x_drop (ih 0 x ax (rotRT (tsC (tsC T1 p 1) j_15 0) j_15 p) _ _ _ (by omega) (fun p9 hp9 hc9 => absurd hc9 (by rw [hfp] at hp9; cases hp9; rw [hfc]; decide)) hx hP hW hN hF) ⟨rfl, ⟨rfl, trivial⟩⟩
                  · obtain ⟨j_506, hl_509, hj_510⟩ := bind_s e_508
                    refine x_acmp_ne (n' := 108) (rx := some (ax)) (ry := some (b_507)) (tgt := 118) dJ1_fixAfterInsertion_105 (by decide) rfl (fun c105_544 => ?_) (fun c105_544 => ?_)
                    · have hpo : tR T1 p ≠ some x := fun e9 => absurd (congrArg some (Option.some.inj ((hx.symm).trans ((congrArg (tN T1) (Option.some.inj (e9.symm.trans hl_509))).trans hj_510)))) (by assumption)
                      refine x_aload_n (n' := 119) dJ1_fixAfterInsertion_118 rfl rfl rfl ?_
                      refine x_callS (n' := 122) (n := 1) (c_J1_parentOf__s l G _ o t asd T1 x ax hP hx) dJ1_fixAfterInsertion_119 (lw_S q2524 q2525 q81 q2526) (by decide +kernel) ⟨(Nat.le_of_ble_eq_true rfl), (Nat.le_of_ble_eq_true rfl)⟩ rfl rfl (Nat.le_of_ble_eq_true rfl) (by first | exact Nat.le_of_ble_eq_true rfl | omega) (by first | exact Nat.le_of_ble_eq_true rfl | omega) rfl (fun v_545 M_546 h_548 hE_547 => ?_)
                      obtain ⟨rfl, hMs⟩ := h_548
                      have hMs := hMs.symm
                      subst hMs
                      refine x_topr (lk_s hxp hp) ?_
                      refine x_iconst (n' := 123) (v := 1) dJ1_fixAfterInsertion_122 (by decide) rfl ?_
                      refine x_callS (n' := 126) (n := 2) (c_J1_setColor__s l G _ o t asd T1 p ap 1 hP hp (Or.inr rfl)) dJ1_fixAfterInsertion_123 (lw_S q2536 q2537 q81 q2538) (by decide +kernel) ⟨(Nat.le_of_ble_eq_true rfl), (Nat.le_of_ble_eq_true rfl)⟩ rfl rfl (Nat.le_of_ble_eq_true rfl) (by first | exact Nat.le_of_ble_eq_true rfl | omega) (by first | exact Nat.le_of_ble_eq_true rfl | omega) rfl (fun v_549 M_550 h_552 hE_551 => ?_)
                      obtain ⟨rfl, hP9, hF9⟩ := h_552
                      replace hP := hP9
                      replace hF := hF.tr hF9
                      clear hF9
                      refine x_aload_n (n' := 127) dJ1_fixAfterInsertion_126 rfl rfl rfl ?_
                      refine x_callS (n' := 130) (n := 1) (c_J1_parentOf__s l G _ o t asd (tsC T1 p 1) x ax hP hx) dJ1_fixAfterInsertion_127 (lw_S q2524 q2525 q81 q2526) (by decide +kernel) ⟨(Nat.le_of_ble_eq_true rfl), (Nat.le_of_ble_eq_true rfl)⟩ rfl rfl (Nat.le_of_ble_eq_true rfl) (by first | exact Nat.le_of_ble_eq_true rfl | omega) (by first | exact Nat.le_of_ble_eq_true rfl | omega) rfl (fun v_553 M_554 h_556 hE_555 => ?_)
                      obtain ⟨rfl, hMs⟩ := h_556
                      have hMs := hMs.symm
                      subst hMs
                      refine x_topr (lk_s hxp hp) ?_
                      refine x_callS (n' := 133) (n := 1) (c_J1_parentOf__s l G _ o t asd (tsC T1 p 1) p ap hP hp) dJ1_fixAfterInsertion_130 (lw_S q2524 q2525 q81 q2526) (by decide +kernel) ⟨(Nat.le_of_ble_eq_true rfl), (Nat.le_of_ble_eq_true rfl)⟩ rfl rfl (Nat.le_of_ble_eq_true rfl) (by first | exact Nat.le_of_ble_eq_true rfl | omega) (by first | exact Nat.le_of_ble_eq_true rfl | omega) rfl (fun v_557 M_558 h_560 hE_559 => ?_)
                      obtain ⟨rfl, hMs⟩ := h_560
                      have hMs := hMs.symm
                      subst hMs
                      refine x_topr (lk_s hl_18 hj_19) ?_
                      refine x_iconst (n' := 134) (v := 0) dJ1_fixAfterInsertion_133 (by decide) rfl ?_
                      refine x_callS (n' := 137) (n := 2) (c_J1_setColor__s l G _ o t asd (tsC T1 p 1) j_15 b_16 0 hP hj_19 (Or.inl rfl)) dJ1_fixAfterInsertion_134 (lw_S q2536 q2537 q81 q2538) (by decide +kernel) ⟨(Nat.le_of_ble_eq_true rfl), (Nat.le_of_ble_eq_true rfl)⟩ rfl rfl (Nat.le_of_ble_eq_true rfl) (by first | exact Nat.le_of_ble_eq_true rfl | omega) (by first | exact Nat.le_of_ble_eq_true rfl | omega) rfl (fun v_561 M_562 h_564 hE_563 => ?_)
                      obtain ⟨rfl, hP9, hF9⟩ := h_564
                      replace hP := hP9
                      replace hF := hF.tr hF9
                      clear hF9
                      refine x_aload_n (n' := 138) dJ1_fixAfterInsertion_137 rfl rfl rfl ?_
                      refine x_aload_n (n' := 139) dJ1_fixAfterInsertion_138 rfl rfl rfl ?_
                      refine x_callS (n' := 142) (n := 1) (c_J1_parentOf__s l G _ o t asd (tsC (tsC T1 p 1) j_15 0) x ax hP hx) dJ1_fixAfterInsertion_139 (lw_S q2524 q2525 q81 q2526) (by decide +kernel) ⟨(Nat.le_of_ble_eq_true rfl), (Nat.le_of_ble_eq_true rfl)⟩ rfl rfl (Nat.le_of_ble_eq_true rfl) (by first | exact Nat.le_of_ble_eq_true rfl | omega) (by first | exact Nat.le_of_ble_eq_true rfl | omega) rfl (fun v_565 M_566 h_568 hE_567 => ?_)
                      obtain ⟨rfl, hMs⟩ := h_568
                      have hMs := hMs.symm
                      subst hMs
                      refine x_topr (lk_s hxp hp) ?_
                      refine x_callS (n' := 145) (n := 1) (c_J1_parentOf__s l G _ o t asd (tsC (tsC T1 p 1) j_15 0) p ap hP hp) dJ1_fixAfterInsertion_142 (lw_S q2524 q2525 q81 q2526) (by decide +kernel) ⟨(Nat.le_of_ble_eq_true rfl), (Nat.le_of_ble_eq_true rfl)⟩ rfl rfl (Nat.le_of_ble_eq_true rfl) (by first | exact Nat.le_of_ble_eq_true rfl | omega) (by first | exact Nat.le_of_ble_eq_true rfl | omega) rfl (fun v_569 M_570 h_572 hE_571 => ?_)
                      obtain ⟨rfl, hMs⟩ := h_572
                      have hMs := hMs.symm
                      subst hMs
                      refine x_topr (lk_s hl_18 hj_19) ?_
                      refine x_callV (n' := 148) (n := 1) (K := 41) (c_J1_rotateRight__s l G _ o t asd (tsC (tsC T1 p 1) j_15 0) j_15 b_16 p _ _ hP hW hj_19 hgl) dJ1_fixAfterInsertion_145 (hP.k) rfl (lw_V q2543 q2545 qs31 q81 q2546) (by decide +kernel) ⟨(Nat.le_of_ble_eq_true rfl), (Nat.le_of_ble_eq_true rfl)⟩ rfl rfl (Nat.le_of_ble_eq_true rfl) (by first | exact Nat.le_of_ble_eq_true rfl | omega) (by first | exact Nat.le_of_ble_eq_true rfl | omega) rfl (fun v_573 M_574 h_576 hE_575 => ?_)
                      obtain ⟨rfl, hP9, hF9⟩ := h_576
                      replace hP := hP9
                      replace hF := hF.tr hF9
                      clear hF9
                      have hW0 := hW
                      have hW := rotRT_W (T := (tsC (tsC T1 p 1) j_15 0)) hW0 hj_19 hgl
                      have hu1 := hW1.up (nns hx) hxp
                      have hu2 := hW1.up (nns hp) hl_18
                      have hgx9 : j_15 ≠ x := fun e => by subst e; omega
                      have hfp : tP (rotRT (tsC (tsC T1 p 1) j_15 0) j_15 p) x = some p := (rotRT_Po (fun e => hgx9 e.symm) hu1.2.1 hpo).trans hxp
                      have hfc : tC (rotRT (tsC (tsC T1 p 1) j_15 0) j_15 p) p = 1 := (va_up_ne _ _ hu2.2.1).trans (va_up_self _ _ _)
                      refine x_goto (tgt := 5) dJ1_fixAfterInsertion_148 (by decide) ?_
                      have hm9 := hm p hxp (by assumption)
                      have ivx := hW1.1 x (nns hx)
                      exact x_drop (ih 0 x ax (rotRT (tsC (tsC T1 p 1) j_15 0) j_15 p) _ _ _ (by omega) (fun p9 hp9 hc9 => absurd hc9 (by rw [hfp] at hp9; cases hp9; rw [hfc]; decide)) hx hP hW hN hF) ⟨rfl, ⟨rfl, trivial⟩⟩
                    · have hpx : tR T1 p = some x := by have e9 : ax = b_507 := Option.some.inj (by assumption); have e8 : x = j_506 := hP.inj hx ((hj_510).trans (congrArg some e9.symm)); rw [e8]; exact hl_509
                      refine x_aload_n (n' := 109) dJ1_fixAfterInsertion_108 rfl rfl rfl ?_
                      refine x_callS (n' := 112) (n := 1) (c_J1_parentOf__s l G _ o t asd T1 x ax hP hx) dJ1_fixAfterInsertion_109 (lw_S q2524 q2525 q81 q2526) (by decide +kernel) ⟨(Nat.le_of_ble_eq_true rfl), (Nat.le_of_ble_eq_true rfl)⟩ rfl rfl (Nat.le_of_ble_eq_true rfl) (by first | exact Nat.le_of_ble_eq_true rfl | omega) (by first | exact Nat.le_of_ble_eq_true rfl | omega) rfl (fun v_577 M_578 h_580 hE_579 => ?_)
                      obtain ⟨rfl, hMs⟩ := h_580
                      have hMs := hMs.symm
                      subst hMs
                      refine x_topr (lk_s hxp hp) ?_
                      refine x_astore_n (n' := 113) dJ1_fixAfterInsertion_112 rfl (Nat.le_of_ble_eq_true rfl) rfl (by dsimp only [List.set] <;> rfl) rfl ?_
                      refine x_aload_n (n' := 114) dJ1_fixAfterInsertion_113 rfl rfl rfl ?_
                      refine x_aload_n (n' := 115) dJ1_fixAfterInsertion_114 rfl rfl rfl ?_
                      refine x_callV (n' := 118) (n := 1) (K := 41) (c_J1_rotateLeft__s l G _ o t asd T1 p ap x _ _ hP hW hp hpx) dJ1_fixAfterInsertion_115 (hP.k) rfl (lw_V q2539 q2541 qs30 q81 q2542) (by decide +kernel) ⟨(Nat.le_of_ble_eq_true rfl), (Nat.le_of_ble_eq_true rfl)⟩ rfl rfl (Nat.le_of_ble_eq_true rfl) (by first | exact Nat.le_of_ble_eq_true rfl | omega) (by first | exact Nat.le_of_ble_eq_true rfl | omega) rfl (fun v_581 M_582 h_584 hE_583 => ?_)
                      obtain ⟨rfl, hP9, hF9⟩ := h_584
                      replace hP := hP9
                      replace hF := hF.tr hF9
                      clear hF9
                      have hW0 := hW
                      have hW := rotLT_W (T := T1) hW0 hp hpx
                      have hup := hW0.up (nns hx) hxp
                      have hq1 : tP (rotLT T1 p x) p = some x := rotLT_Pp
                      have hq2 : tP (rotLT T1 p x) x = some j_15 := (rotLT_Pr (fun e => hup.2.1 e.symm)).trans hl_18
                      have hup2 := hW0.up (nns hp) hl_18
                      have hgx : j_15 ≠ x := fun e => by subst e; omega
                      have hq3 : tL (rotLT T1 p x) j_15 = some x := rotLT_Lg hgx hl_18 hgl
                      have hq4 : tR (rotLT T1 p x) x = tR T1 x := rotLT_Rr hup.2.1 hgx hl_18
                      have hq5 : tR T1 x ≠ some p := fun e => by have := (hW0.upR (nns hx) e).2; rw [show tP T1 p = some j_15 from hl_18] at this; cases this; exact hgx rfl
                      refine x_aload_n (n' := 119) dJ1_fixAfterInsertion_118 rfl rfl rfl ?_
                      refine x_callS (n' := 122) (n := 1) (c_J1_parentOf__s l G _ o t asd (rotLT T1 p x) p ap hP hp) dJ1_fixAfterInsertion_119 (lw_S q2524 q2525 q81 q2526) (by decide +kernel) ⟨(Nat.le_of_ble_eq_true rfl), (Nat.le_of_ble_eq_true rfl)⟩ rfl rfl (Nat.le_of_ble_eq_true rfl) (by first | exact Nat.le_of_ble_eq_true rfl | omega) (by first | exact Nat.le_of_ble_eq_true rfl | omega) rfl (fun v_585 M_586 h_588 hE_587 => ?_)
                      obtain ⟨rfl, hMs⟩ := h_588
                      have hMs := hMs.symm
                      subst hMs
                      refine x_topr (lk_s hq1 hx) ?_
                      refine x_iconst (n' := 123) (v := 1) dJ1_fixAfterInsertion_122 (by decide) rfl ?_
                      refine x_callS (n' := 126) (n := 2) (c_J1_setColor__s l G _ o t asd (rotLT T1 p x) x ax 1 hP hx (Or.inr rfl)) dJ1_fixAfterInsertion_123 (lw_S q2536 q2537 q81 q2538) (by decide +kernel) ⟨(Nat.le_of_ble_eq_true rfl), (Nat.le_of_ble_eq_true rfl)⟩ rfl rfl (Nat.le_of_ble_eq_true rfl) (by first | exact Nat.le_of_ble_eq_true rfl | omega) (by first | exact Nat.le_of_ble_eq_true rfl | omega) rfl (fun v_589 M_590 h_592 hE_591 => ?_)
                      obtain ⟨rfl, hP9, hF9⟩ := h_592
                      replace hP := hP9
                      replace hF := hF.tr hF9
                      clear hF9
                      refine x_aload_n (n' := 127) dJ1_fixAfterInsertion_126 rfl rfl rfl ?_
                      refine x_callS (n' := 130) (n := 1) (c_J1_parentOf__s l G _ o t asd (tsC (rotLT T1 p x) x 1) p ap hP hp) dJ1_fixAfterInsertion_127 (lw_S q2524 q2525 q81 q2526) (by decide +kernel) ⟨(Nat.le_of_ble_eq_true rfl), (Nat.le_of_ble_eq_true rfl)⟩ rfl rfl (Nat.le_of_ble_eq_true rfl) (by first | exact Nat.le_of_ble_eq_true rfl | omega) (by first | exact Nat.le_of_ble_eq_true rfl | omega) rfl (fun v_593 M_594 h_596 hE_595 => ?_)
                      obtain ⟨rfl, hMs⟩ := h_596
                      have hMs := hMs.symm
                      subst hMs
                      refine x_topr (lk_s hq1 hx) ?_
                      refine x_callS (n' := 133) (n := 1) (c_J1_parentOf__s l G _ o t asd (tsC (rotLT T1 p x) x 1) x ax hP hx) dJ1_fixAfterInsertion_130 (lw_S q2524 q2525 q81 q2526) (by decide +kernel) ⟨(Nat.le_of_ble_eq_true rfl), (Nat.le_of_ble_eq_true rfl)⟩ rfl rfl (Nat.le_of_ble_eq_true rfl) (by first | exact Nat.le_of_ble_eq_true rfl | omega) (by first | exact Nat.le_of_ble_eq_true rfl | omega) rfl (fun v_597 M_598 h_600 hE_599 => ?_)
                      obtain ⟨rfl, hMs⟩ := h_600
                      have hMs := hMs.symm
                      subst hMs
                      refine x_topr (lk_s hq2 hj_19) ?_
                      refine x_iconst (n' := 134) (v := 0) dJ1_fixAfterInsertion_133 (by decide) rfl ?_
                      refine x_callS (n' := 137) (n := 2) (c_J1_setColor__s l G _ o t asd (tsC (rotLT T1 p x) x 1) j_15 b_16 0 hP hj_19 (Or.inl rfl)) dJ1_fixAfterInsertion_134 (lw_S q2536 q2537 q81 q2538) (by decide +kernel) ⟨(Nat.le_of_ble_eq_true rfl), (Nat.le_of_ble_eq_true rfl)⟩ rfl rfl (Nat.le_of_ble_eq_true rfl) (by first | exact Nat.le_of_ble_eq_true rfl | omega) (by first | exact Nat.le_of_ble_eq_true rfl | omega) rfl (fun v_601 M_602 h_604 hE_603 => ?_)
                      obtain ⟨rfl, hP9, hF9⟩ := h_604
                      replace hP := hP9
                      replace hF := hF.tr hF9
                      clear hF9
                      refine x_aload_n (n' := 138) dJ1_fixAfterInsertion_137 rfl rfl rfl ?_
                      refine x_aload_n (n' := 139) dJ1_fixAfterInsertion_138 rfl rfl rfl ?_
                      refine x_callS (n' := 142) (n := 1) (c_J1_parentOf__s l G _ o t asd (tsC (tsC (rotLT T1 p x) x 1) j_15 0) p ap hP hp) dJ1_fixAfterInsertion_139 (lw_S q2524 q2525 q81 q2526) (by decide +kernel) ⟨(Nat.le_of_ble_eq_true rfl), (Nat.le_of_ble_eq_true rfl)⟩ rfl rfl (Nat.le_of_ble_eq_true rfl) (by first | exact Nat.le_of_ble_eq_true rfl | omega) (by first | exact Nat.le_of_ble_eq_true rfl | omega) rfl (fun v_605 M_606 h_608 hE_607 => ?_)
                      obtain ⟨rfl, hMs⟩ := h_608
                      have hMs := hMs.symm
                      subst hMs
                      refine x_topr (lk_s hq1 hx) ?_
                      refine x_callS (n' := 145) (n := 1) (c_J1_parentOf__s l G _ o t asd (tsC (tsC (rotLT T1 p x) x 1) j_15 0) x ax hP hx) dJ1_fixAfterInsertion_142 (lw_S q2524 q2525 q81 q2526) (by decide +kernel) ⟨(Nat.le_of_ble_eq_true rfl), (Nat.le_of_ble_eq_true rfl)⟩ rfl rfl (Nat.le_of_ble_eq_true rfl) (by first | exact Nat.le_of_ble_eq_true rfl | omega) (by first | exact Nat.le_of_ble_eq_true rfl | omega) rfl (fun v_609 M_610 h_612 hE_611 => ?_)
                      obtain ⟨rfl, hMs⟩ := h_612
                      have hMs := hMs.symm
                      subst hMs
                      refine x_topr (lk_s hq2 hj_19) ?_
                      refine x_callV (n' := 148) (n := 1) (K := 41) (c_J1_rotateRight__s l G _ o t asd (tsC (tsC (rotLT T1 p x) x 1) j_15 0) j_15 b_16 x _ _ hP hW hj_19 hq3) dJ1_fixAfterInsertion_145 (hP.k) rfl (lw_V q2543 q2545 qs31 q81 q2546) (by decide +kernel) ⟨(Nat.le_of_ble_eq_true rfl), (Nat.le_of_ble_eq_true rfl)⟩ rfl rfl (Nat.le_of_ble_eq_true rfl) (by first | exact Nat.le_of_ble_eq_true rfl | omega) (by first | exact Nat.le_of_ble_eq_true rfl | omega) rfl (fun v_613 M_614 h_616 hE_615 => ?_)
                      obtain ⟨rfl, hP9, hF9⟩ := h_616
                      replace hP := hP9
                      replace hF := hF.tr hF9
                      clear hF9
                      have hW0 := hW
                      have hW := rotRT_W (T := (tsC (tsC (rotLT T1 p x) x 1) j_15 0)) hW0 hj_19 hq3
                      have hu1 := hW1.up (nns hx) hxp
                      have hu2 := hW1.up (nns hp) hl_18
                      have hgx9 : j_15 ≠ x := fun e => by subst e; omega
                      have hfp : tP (rotRT (tsC (tsC (rotLT T1 p x) x 1) j_15 0) j_15 x) p = some x := (rotRT_Po hu2.2.1 (fun e => hu1.2.1 e.symm) (fun e => hq5 (hq4.symm.trans e))).trans hq1
                      have hfc : tC (rotRT (tsC (tsC (rotLT T1 p x) x 1) j_15 0) j_15 x) x = 1 := (va_up_ne _ _ (fun e => hgx9 e.symm)).trans (va_up_self _ _ _)
                      refine x_goto (tgt := 5) dJ1_fixAfterInsertion_148 (by decide) ?_
                      have hm9 := hm p hxp (by assumption)
                      have ivx := hW1.1 x (nns hx)
                      exact x_drop (ih 0 p ap (rotRT (tsC (tsC (rotLT T1 p x) x 1) j_15 0) j_15 x) _ _ _ (by omega) (fun p9 hp9 hc9 => absurd hc9 (by rw [hfp] at hp9; cases hp9; rw [hfc]; decide)) hp hP hW hN hF) ⟨rfl, ⟨rfl, trivial⟩⟩
                · obtain ⟨j_488, hl_491, hj_492⟩ := bind_s e_490
                  refine x_astore_n (n' := 55) dJ1_fixAfterInsertion_54 rfl (Nat.le_of_ble_eq_true rfl) rfl (by dsimp only [List.set] <;> rfl) rfl ?_
                  refine x_aload_n (n' := 56) dJ1_fixAfterInsertion_55 rfl rfl rfl ?_
                  refine x_callS (n' := 59) (n := 1) (c_J1_colorOf__s l G _ o t asd T1 j_488 b_489 hP hj_492) dJ1_fixAfterInsertion_56 (lw_S q2533 q2534 q81 q2535) (by decide +kernel) ⟨(Nat.le_of_ble_eq_true rfl), (Nat.le_of_ble_eq_true rfl)⟩ rfl rfl (Nat.le_of_ble_eq_true rfl) (by first | exact Nat.le_of_ble_eq_true rfl | omega) (by first | exact Nat.le_of_ble_eq_true rfl | omega) rfl (fun v_617 M_618 h_620 hE_619 => ?_)
                  obtain ⟨rfl, hMs⟩ := h_620
                  have hMs := hMs.symm
                  subst hMs
                  refine x_if_ne (n' := 62) (tgt := 97) dJ1_fixAfterInsertion_59 (by decide) rfl (fun c59_621 => ?_) (fun c59_621 => ?_)
                  · refine x_aload_n (n' := 98) dJ1_fixAfterInsertion_97 rfl rfl rfl ?_
                    refine x_aload_n (n' := 99) dJ1_fixAfterInsertion_98 rfl rfl rfl ?_
                    refine x_callS (n' := 102) (n := 1) (c_J1_parentOf__s l G _ o t asd T1 x ax hP hx) dJ1_fixAfterInsertion_99 (lw_S q2524 q2525 q81 q2526) (by decide +kernel) ⟨(Nat.le_of_ble_eq_true rfl), (Nat.le_of_ble_eq_true rfl)⟩ rfl rfl (Nat.le_of_ble_eq_true rfl) (by first | exact Nat.le_of_ble_eq_true rfl | omega) (by first | exact Nat.le_of_ble_eq_true rfl | omega) rfl (fun v_622 M_623 h_625 hE_624 => ?_)
                    obtain ⟨rfl, hMs⟩ := h_625
                    have hMs := hMs.symm
                    subst hMs
                    refine x_topr (lk_s hxp hp) ?_
                    refine x_callS (n' := 105) (n := 1) (c_J1_rightOf__s l G _ o t asd T1 p ap hP hp) dJ1_fixAfterInsertion_102 (lw_S q2530 q2531 q81 q2532) (by decide +kernel) ⟨(Nat.le_of_ble_eq_true rfl), (Nat.le_of_ble_eq_true rfl)⟩ rfl rfl (Nat.le_of_ble_eq_true rfl) (by first | exact Nat.le_of_ble_eq_true rfl | omega) (by first | exact Nat.le_of_ble_eq_true rfl | omega) rfl (fun v_626 M_627 h_629 hE_628 => ?_)
                    obtain ⟨rfl, hMs⟩ := h_629
                    have hMs := hMs.symm
                    subst hMs
                    refine x_topq (fun e_632 => ?_) (fun b_631 e_632 => ?_)
                    · have hl_633 : tR T1 p = none := bind_n e_632 (fun _ q => hW.dr (nns hp) q)
                      refine x_acmp_ne (n' := 108) (rx := some (ax)) (ry := none) (tgt := 118) dJ1_fixAfterInsertion_105 (by decide) rfl (fun c105_635 => ?_) (fun c105_635 => by cases c105_635)
                      have hpo : tR T1 p ≠ some x := fun e9 => by have := hl_633; rw [show tR T1 p = some x from e9] at this; cases this
                      refine x_aload_n (n' := 119) dJ1_fixAfterInsertion_118 rfl rfl rfl ?_
                      refine x_callS (n' := 122) (n := 1) (c_J1_parentOf__s l G _ o t asd T1 x ax hP hx) dJ1_fixAfterInsertion_119 (lw_S q2524 q2525 q81 q2526) (by decide +kernel) ⟨(Nat.le_of_ble_eq_true rfl), (Nat.le_of_ble_eq_true rfl)⟩ rfl rfl (Nat.le_of_ble_eq_true rfl) (by first | exact Nat.le_of_ble_eq_true rfl | omega) (by first | exact Nat.le_of_ble_eq_true rfl | omega) rfl (fun v_636 M_637 h_639 hE_638 => ?_)
                      obtain ⟨rfl, hMs⟩ := h_639
                      have hMs := hMs.symm
                      subst hMs
                      refine x_topr (lk_s hxp hp) ?_
                      refine x_iconst (n' := 123) (v := 1) dJ1_fixAfterInsertion_122 (by decide) rfl ?_
                      refine x_callS (n' := 126) (n := 2) (c_J1_setColor__s l G _ o t asd T1 p ap 1 hP hp (Or.inr rfl)) dJ1_fixAfterInsertion_123 (lw_S q2536 q2537 q81 q2538) (by decide +kernel) ⟨(Nat.le_of_ble_eq_true rfl), (Nat.le_of_ble_eq_true rfl)⟩ rfl rfl (Nat.le_of_ble_eq_true rfl) (by first | exact Nat.le_of_ble_eq_true rfl | omega) (by first | exact Nat.le_of_ble_eq_true rfl | omega) rfl (fun v_640 M_641 h_643 hE_642 => ?_)
                      obtain ⟨rfl, hP9, hF9⟩ := h_643
                      replace hP := hP9
                      replace hF := hF.tr hF9
                      clear hF9
                      refine x_aload_n (n' := 127) dJ1_fixAfterInsertion_126 rfl rfl rfl ?_
                      refine x_callS (n' := 130) (n := 1) (c_J1_parentOf__s l G _ o t asd (tsC T1 p 1) x ax hP hx) dJ1_fixAfterInsertion_127 (lw_S q2524 q2525 q81 q2526) (by decide +kernel) ⟨(Nat.le_of_ble_eq_true rfl), (Nat.le_of_ble_eq_true rfl)⟩ rfl rfl (Nat.le_of_ble_eq_true rfl) (by first | exact Nat.le_of_ble_eq_true rfl | omega) (by first | exact Nat.le_of_ble_eq_true rfl | omega) rfl (fun v_644 M_645 h_647 hE_646 => ?_)
                      obtain ⟨rfl, hMs⟩ := h_647
                      have hMs := hMs.symm
                      subst hMs
                      refine x_topr (lk_s hxp hp) ?_
                      refine x_callS (n' := 133) (n := 1) (c_J1_parentOf__s l G _ o t asd (tsC T1 p 1) p ap hP hp) dJ1_fixAfterInsertion_130 (lw_S q2524 q2525 q81 q2526) (by decide +kernel) ⟨(Nat.le_of_ble_eq_true rfl), (Nat.le_of_ble_eq_true rfl)⟩ rfl rfl (Nat.le_of_ble_eq_true rfl) (by first | exact Nat.le_of_ble_eq_true rfl | omega) (by first | exact Nat.le_of_ble_eq_true rfl | omega) rfl (fun v_648 M_649 h_651 hE_650 => ?_)
                      obtain ⟨rfl, hMs⟩ := h_651
                      have hMs := hMs.symm
                      subst hMs
                      refine x_topr (lk_s hl_18 hj_19) ?_
                      refine x_iconst (n' := 134) (v := 0) dJ1_fixAfterInsertion_133 (by decide) rfl ?_
                      refine x_callS (n' := 137) (n := 2) (c_J1_setColor__s l G _ o t asd (tsC T1 p 1) j_15 b_16 0 hP hj_19 (Or.inl rfl)) dJ1_fixAfterInsertion_134 (lw_S q2536 q2537 q81 q2538) (by decide +kernel) ⟨(Nat.le_of_ble_eq_true rfl), (Nat.le_of_ble_eq_true rfl)⟩ rfl rfl (Nat.le_of_ble_eq_true rfl) (by first | exact Nat.le_of_ble_eq_true rfl | omega) (by first | exact Nat.le_of_ble_eq_true rfl | omega) rfl (fun v_652 M_653 h_655 hE_654 => ?_)
                      obtain ⟨rfl, hP9, hF9⟩ := h_655
                      replace hP := hP9
                      replace hF := hF.tr hF9
                      clear hF9
                      refine x_aload_n (n' := 138) dJ1_fixAfterInsertion_137 rfl rfl rfl ?_
                      refine x_aload_n (n' := 139) dJ1_fixAfterInsertion_138 rfl rfl rfl ?_
                      refine x_callS (n' := 142) (n := 1) (c_J1_parentOf__s l G _ o t asd (tsC (tsC T1 p 1) j_15 0) x ax hP hx) dJ1_fixAfterInsertion_139 (lw_S q2524 q2525 q81 q2526) (by decide +kernel) ⟨(Nat.le_of_ble_eq_true rfl), (Nat.le_of_ble_eq_true rfl)⟩ rfl rfl (Nat.le_of_ble_eq_true rfl) (by first | exact Nat.le_of_ble_eq_true rfl | omega) (by first | exact Nat.le_of_ble_eq_true rfl | omega) rfl (fun v_656 M_657 h_659 hE_658 => ?_)
                      obtain ⟨rfl, hMs⟩ := h_659
                      have hMs := hMs.symm
                      subst hMs
                      refine x_topr (lk_s hxp hp) ?_
                      refine x_callS (n' := 145) (n := 1) (c_J1_parentOf__s l G _ o t asd (tsC (tsC T1 p 1) j_15 0) p ap hP hp) dJ1_fixAfterInsertion_142 (lw_S q2524 q2525 q81 q2526) (by decide +kernel) ⟨(Nat.le_of_ble_eq_true rfl), (Nat.le_of_ble_eq_true rfl)⟩ rfl rfl (Nat.le_of_ble_eq_true rfl) (by first | exact Nat.le_of_ble_eq_true rfl | omega) (by first | exact Nat.le_of_ble_eq_true rfl | omega) rfl (fun v_660 M_661 h_663 hE_662 => ?_)
                      obtain ⟨rfl, hMs⟩ := h_663
                      have hMs := hMs.symm
                      subst hMs
                      refine x_topr (lk_s hl_18 hj_19) ?_
                      refine x_callV (n' := 148) (n := 1) (K := 41) (c_J1_rotateRight__s l G _ o t asd (tsC (tsC T1 p 1) j_15 0) j_15 b_16 p _ _ hP hW hj_19 hgl) dJ1_fixAfterInsertion_145 (hP.k) rfl (lw_V q2543 q2545 qs31 q81 q2546) (by decide +kernel) ⟨(Nat.le_of_ble_eq_true rfl), (Nat.le_of_ble_eq_true rfl)⟩ rfl rfl (Nat.le_of_ble_eq_true rfl) (by first | exact Nat.le_of_ble_eq_true rfl | omega) (by first | exact Nat.le_of_ble_eq_true rfl | omega) rfl (fun v_664 M_665 h_667 hE_666 => ?_)
                      obtain ⟨rfl, hP9, hF9⟩ := h_667
                      replace hP := hP9
                      replace hF := hF.tr hF9
                      clear hF9
                      have hW0 := hW
                      have hW := rotRT_W (T := (tsC (tsC T1 p 1) j_15 0)) hW0 hj_19 hgl
                      have hu1 := hW1.up (nns hx) hxp
                      have hu2 := hW1.up (nns hp) hl_18
                      have hgx9 : j_15 ≠ x := fun e => by subst e; omega
                      have hfp : tP (rotRT (tsC (tsC T1 p 1) j_15 0) j_15 p) x = some p := (rotRT_Po (fun e => hgx9 e.symm) hu1.2.1 hpo).trans hxp
                      have hfc : tC (rotRT (tsC (tsC T1 p 1) j_15 0) j_15 p) p = 1 := (va_up_ne _ _ hu2.2.1).trans (va_up_self _ _ _)
                      refine x_goto (tgt := 5) dJ1_fixAfterInsertion_148 (by decide) ?_
                      have hm9 := hm p hxp (by assumption)
                      have ivx := hW1.1 x (nns hx)
                      exact x_drop (ih 0 x ax (rotRT (tsC (tsC T1 p 1) j_15 0) j_15 p) _ _ _ (by omega) (fun p9 hp9 hc9 => absurd hc9 (by rw [hfp] at hp9; cases hp9; rw [hfc]; decide)) hx hP hW hN hF) ⟨rfl, ⟨rfl, trivial⟩⟩
                    · obtain ⟨j_630, hl_633, hj_634⟩ := bind_s e_632
                      refine x_acmp_ne (n' := 108) (rx := some (ax)) (ry := some (b_631)) (tgt := 118) dJ1_fixAfterInsertion_105 (by decide) rfl (fun c105_668 => ?_) (fun c105_668 => ?_)
                      · have hpo : tR T1 p ≠ some x := fun e9 => absurd (congrArg some (Option.some.inj ((hx.symm).trans ((congrArg (tN T1) (Option.some.inj (e9.symm.trans hl_633))).trans hj_634)))) (by assumption)
                        refine x_aload_n (n' := 119) dJ1_fixAfterInsertion_118 rfl rfl rfl ?_
                        refine x_callS (n' := 122) (n := 1) (c_J1_parentOf__s l G _ o t asd T1 x ax hP hx) dJ1_fixAfterInsertion_119 (lw_S q2524 q2525 q81 q2526) (by decide +kernel) ⟨(Nat.le_of_ble_eq_true rfl), (Nat.le_of_ble_eq_true rfl)⟩ rfl rfl (Nat.le_of_ble_eq_true rfl) (by first | exact Nat.le_of_ble_eq_true rfl | omega) (by first | exact Nat.le_of_ble_eq_true rfl | omega) rfl (fun v_669 M_670 h_672 hE_671 => ?_)
                        obtain ⟨rfl, hMs⟩ := h_672
                        have hMs := hMs.symm
                        subst hMs
                        refine x_topr (lk_s hxp hp) ?_
                        refine x_iconst (n' := 123) (v := 1) dJ1_fixAfterInsertion_122 (by decide) rfl ?_
                        refine x_callS (n' := 126) (n := 2) (c_J1_setColor__s l G _ o t asd T1 p ap 1 hP hp (Or.inr rfl)) dJ1_fixAfterInsertion_123 (lw_S q2536 q2537 q81 q2538) (by decide +kernel) ⟨(Nat.le_of_ble_eq_true rfl), (Nat.le_of_ble_eq_true rfl)⟩ rfl rfl (Nat.le_of_ble_eq_true rfl) (by first | exact Nat.le_of_ble_eq_true rfl | omega) (by first | exact Nat.le_of_ble_eq_true rfl | omega) rfl (fun v_673 M_674 h_676 hE_675 => ?_)
                        obtain ⟨rfl, hP9, hF9⟩ := h_676
                        replace hP := hP9
                        replace hF := hF.tr hF9
                        clear hF9
                        refine x_aload_n (n' := 127) dJ1_fixAfterInsertion_126 rfl rfl rfl ?_
                        refine x_callS (n' := 130) (n := 1) (c_J1_parentOf__s l G _ o t asd (tsC T1 p 1) x ax hP hx) dJ1_fixAfterInsertion_127 (lw_S q2524 q2525 q81 q2526) (by decide +kernel) ⟨(Nat.le_of_ble_eq_true rfl), (Nat.le_of_ble_eq_true rfl)⟩ rfl rfl (Nat.le_of_ble_eq_true rfl) (by first | exact Nat.le_of_ble_eq_true rfl | omega) (by first | exact Nat.le_of_ble_eq_true rfl | omega) rfl (fun v_677 M_678 h_680 hE_679 => ?_)
                        obtain ⟨rfl, hMs⟩ := h_680
                        have hMs := hMs.symm
                        subst hMs
                        refine x_topr (lk_s hxp hp) ?_
                        refine x_callS (n' := 133) (n := 1) (c_J1_parentOf__s l G _ o t asd (tsC T1 p 1) p ap hP hp) dJ1_fixAfterInsertion_130 (lw_S q2524 q2525 q81 q2526) (by decide +kernel) ⟨(Nat.le_of_ble_eq_true rfl), (Nat.le_of_ble_eq_true rfl)⟩ rfl rfl (Nat.le_of_ble_eq_true rfl) (by first | exact Nat.le_of_ble_eq_true rfl | omega) (by first | exact Nat.le_of_ble_eq_true rfl | omega) rfl (fun v_681 M_682 h_684 hE_683 => ?_)
                        obtain ⟨rfl, hMs⟩ := h_684
                        have hMs := hMs.symm
                        subst hMs
                        refine x_topr (lk_s hl_18 hj_19) ?_
                        refine x_iconst (n' := 134) (v := 0) dJ1_fixAfterInsertion_133 (by decide) rfl ?_
                        refine x_callS (n' := 137) (n := 2) (c_J1_setColor__s l G _ o t asd (tsC T1 p 1) j_15 b_16 0 hP hj_19 (Or.inl rfl)) dJ1_fixAfterInsertion_134 (lw_S q2536 q2537 q81 q2538) (by decide +kernel) ⟨(Nat.le_of_ble_eq_true rfl), (Nat.le_of_ble_eq_true rfl)⟩ rfl rfl (Nat.le_of_ble_eq_true rfl) (by first | exact Nat.le_of_ble_eq_true rfl | omega) (by first | exact Nat.le_of_ble_eq_true rfl | omega) rfl (fun v_685 M_686 h_688 hE_687 => ?_)
                        obtain ⟨rfl, hP9, hF9⟩ := h_688
                        replace hP := hP9
                        replace hF := hF.tr hF9
                        clear hF9
                        refine x_aload_n (n' := 138) dJ1_fixAfterInsertion_137 rfl rfl rfl ?_
                        refine x_aload_n (n' := 139) dJ1_fixAfterInsertion_138 rfl rfl rfl ?_
                        refine x_callS (n' := 142) (n := 1) (c_J1_parentOf__s l G _ o t asd (tsC (tsC T1 p 1) j_15 0) x ax hP hx) dJ1_fixAfterInsertion_139 (lw_S q2524 q2525 q81 q2526) (by decide +kernel) ⟨(Nat.le_of_ble_eq_true rfl), (Nat.le_of_ble_eq_true rfl)⟩ rfl rfl (Nat.le_of_ble_eq_true rfl) (by first | exact Nat.le_of_ble_eq_true rfl | omega) (by first | exact Nat.le_of_ble_eq_true rfl | omega) rfl (fun v_689 M_690 h_692 hE_691 => ?_)
                        obtain ⟨rfl, hMs⟩ := h_692
                        have hMs := hMs.symm
                        subst hMs
                        refine x_topr (lk_s hxp hp) ?_
                        refine x_callS (n' := 145) (n := 1) (c_J1_parentOf__s l G _ o t asd (tsC (tsC T1 p 1) j_15 0) p ap hP hp) dJ1_fixAfterInsertion_142 (lw_S q2524 q2525 q81 q2526) (by decide +kernel) ⟨(Nat.le_of_ble_eq_true rfl), (Nat.le_of_ble_eq_true rfl)⟩ rfl rfl (Nat.le_of_ble_eq_true rfl) (by first | exact Nat.le_of_ble_eq_true rfl | omega) (by first | exact Nat.le_of_ble_eq_true rfl | omega) rfl (fun v_693 M_694 h_696 hE_695 => ?_)
                        obtain ⟨rfl, hMs⟩ := h_696
                        have hMs := hMs.symm
                        subst hMs
                        refine x_topr (lk_s hl_18 hj_19) ?_
                        refine x_callV (n' := 148) (n := 1) (K := 41) (c_J1_rotateRight__s l G _ o t asd (tsC (tsC T1 p 1) j_15 0) j_15 b_16 p _ _ hP hW hj_19 hgl) dJ1_fixAfterInsertion_145 (hP.k) rfl (lw_V q2543 q2545 qs31 q81 q2546) (by decide +kernel) ⟨(Nat.le_of_ble_eq_true rfl), (Nat.le_of_ble_eq_true rfl)⟩ rfl rfl (Nat.le_of_ble_eq_true rfl) (by first | exact Nat.le_of_ble_eq_true rfl | omega) (by first | exact Nat.le_of_ble_eq_true rfl | omega) rfl (fun v_697 M_698 h_700 hE_699 => ?_)
                        obtain ⟨rfl, hP9, hF9⟩ := h_700
                        replace hP := hP9
                        replace hF := hF.tr hF9
                        clear hF9
                        have hW0 := hW
                        have hW := rotRT_W (T := (tsC (tsC T1 p 1) j_15 0)) hW0 hj_19 hgl
                        have hu1 := hW1.up (nns hx) hxp
                        have hu2 := hW1.up (nns hp) hl_18
                        have hgx9 : j_15 ≠ x := fun e => by subst e; omega
                        have hfp : tP (rotRT (tsC (tsC T1 p 1) j_15 0) j_15 p) x = some p := (rotRT_Po (fun e => hgx9 e.symm) hu1.2.1 hpo).trans hxp
                        have hfc : tC (rotRT (tsC (tsC T1 p 1) j_15 0) j_15 p) p = 1 := (va_up_ne _ _ hu2.2.1).trans (va_up_self _ _ _)
                        refine x_goto (tgt := 5) dJ1_fixAfterInsertion_148 (by decide) ?_
                        have hm9 := hm p hxp (by assumption)
                        have ivx := hW1.1 x (nns hx)
                        exact x_drop (ih 0 x ax (rotRT (tsC (tsC T1 p 1) j_15 0) j_15 p) _ _ _ (by omega) (fun p9 hp9 hc9 => absurd hc9 (by rw [hfp] at hp9; cases hp9; rw [hfc]; decide)) hx hP hW hN hF) ⟨rfl, ⟨rfl, trivial⟩⟩
                      · have hpx : tR T1 p = some x := by have e9 : ax = b_631 := Option.some.inj (by assumption); have e8 : x = j_630 := hP.inj hx ((hj_634).trans (congrArg some e9.symm)); rw [e8]; exact hl_633
                        refine x_aload_n (n' := 109) dJ1_fixAfterInsertion_108 rfl rfl rfl ?_
                        refine x_callS (n' := 112) (n := 1) (c_J1_parentOf__s l G _ o t asd T1 x ax hP hx) dJ1_fixAfterInsertion_109 (lw_S q2524 q2525 q81 q2526) (by decide +kernel) ⟨(Nat.le_of_ble_eq_true rfl), (Nat.le_of_ble_eq_true rfl)⟩ rfl rfl (Nat.le_of_ble_eq_true rfl) (by first | exact Nat.le_of_ble_eq_true rfl | omega) (by first | exact Nat.le_of_ble_eq_true rfl | omega) rfl (fun v_701 M_702 h_704 hE_703 => ?_)
                        obtain ⟨rfl, hMs⟩ := h_704
                        have hMs := hMs.symm
                        subst hMs
                        refine x_topr (lk_s hxp hp) ?_
                        refine x_astore_n (n' := 113) dJ1_fixAfterInsertion_112 rfl (Nat.le_of_ble_eq_true rfl) rfl (by dsimp only [List.set] <;> rfl) rfl ?_
                        refine x_aload_n (n' := 114) dJ1_fixAfterInsertion_113 rfl rfl rfl ?_
                        refine x_aload_n (n' := 115) dJ1_fixAfterInsertion_114 rfl rfl rfl ?_
                        refine x_callV (n' := 118) (n := 1) (K := 41) (c_J1_rotateLeft__s l G _ o t asd T1 p ap x _ _ hP hW hp hpx) dJ1_fixAfterInsertion_115 (hP.k) rfl (lw_V q2539 q2541 qs30 q81 q2542) (by decide +kernel) ⟨(Nat.le_of_ble_eq_true rfl), (Nat.le_of_ble_eq_true rfl)⟩ rfl rfl (Nat.le_of_ble_eq_true rfl) (by first | exact Nat.le_of_ble_eq_true rfl | omega) (by first | exact Nat.le_of_ble_eq_true rfl | omega) rfl (fun v_705 M_706 h_708 hE_707 => ?_)
                        obtain ⟨rfl, hP9, hF9⟩ := h_708
                        replace hP := hP9
                        replace hF := hF.tr hF9
                        clear hF9
                        have hW0 := hW
                        have hW := rotLT_W (T := T1) hW0 hp hpx
                        have hup := hW0.up (nns hx) hxp
                        have hq1 : tP (rotLT T1 p x) p = some x := rotLT_Pp
                        have hq2 : tP (rotLT T1 p x) x = some j_15 := (rotLT_Pr (fun e => hup.2.1 e.symm)).trans hl_18
                        have hup2 := hW0.up (nns hp) hl_18
                        have hgx : j_15 ≠ x := fun e => by subst e; omega
                        have hq3 : tL (rotLT T1 p x) j_15 = some x := rotLT_Lg hgx hl_18 hgl
                        have hq4 : tR (rotLT T1 p x) x = tR T1 x := rotLT_Rr hup.2.1 hgx hl_18
                        have hq5 : tR T1 x ≠ some p := fun e => by have := (hW0.upR (nns hx) e).2; rw [show tP T1 p = some j_15 from hl_18] at this; cases this; exact hgx rfl
                        refine x_aload_n (n' := 119) dJ1_fixAfterInsertion_118 rfl rfl rfl ?_
                        refine x_callS (n' := 122) (n := 1) (c_J1_parentOf__s l G _ o t asd (rotLT T1 p x) p ap hP hp) dJ1_fixAfterInsertion_119 (lw_S q2524 q2525 q81 q2526) (by decide +kernel) ⟨(Nat.le_of_ble_eq_true rfl), (Nat.le_of_ble_eq_true rfl)⟩ rfl rfl (Nat.le_of_ble_eq_true rfl) (by first | exact Nat.le_of_ble_eq_true rfl | omega) (by first | exact Nat.le_of_ble_eq_true rfl | omega) rfl (fun v_709 M_710 h_712 hE_711 => ?_)
                        obtain ⟨rfl, hMs⟩ := h_712
                        have hMs := hMs.symm
                        subst hMs
                        refine x_topr (lk_s hq1 hx) ?_
                        refine x_iconst (n' := 123) (v := 1) dJ1_fixAfterInsertion_122 (by decide) rfl ?_
                        refine x_callS (n' := 126) (n := 2) (c_J1_setColor__s l G _ o t asd (rotLT T1 p x) x ax 1 hP hx (Or.inr rfl)) dJ1_fixAfterInsertion_123 (lw_S q2536 q2537 q81 q2538) (by decide +kernel) ⟨(Nat.le_of_ble_eq_true rfl), (Nat.le_of_ble_eq_true rfl)⟩ rfl rfl (Nat.le_of_ble_eq_true rfl) (by first | exact Nat.le_of_ble_eq_true rfl | omega) (by first | exact Nat.le_of_ble_eq_true rfl | omega) rfl (fun v_713 M_714 h_716 hE_715 => ?_)
                        obtain ⟨rfl, hP9, hF9⟩ := h_716
                        replace hP := hP9
                        replace hF := hF.tr hF9
                        clear hF9
                        refine x_aload_n (n' := 127) dJ1_fixAfterInsertion_126 rfl rfl rfl ?_
                        refine x_callS (n' := 130) (n := 1) (c_J1_parentOf__s l G _ o t asd (tsC (rotLT T1 p x) x 1) p ap hP hp) dJ1_fixAfterInsertion_127 (lw_S q2524 q2525 q81 q2526) (by decide +kernel) ⟨(Nat.le_of_ble_eq_true rfl), (Nat.le_of_ble_eq_true rfl)⟩ rfl rfl (Nat.le_of_ble_eq_true rfl) (by first | exact Nat.le_of_ble_eq_true rfl | omega) (by first | exact Nat.le_of_ble_eq_true rfl | omega) rfl (fun v_717 M_718 h_720 hE_719 => ?_)
                        obtain ⟨rfl, hMs⟩ := h_720
                        have hMs := hMs.symm
                        subst hMs
                        refine x_topr (lk_s hq1 hx) ?_
                        refine x_callS (n' := 133) (n := 1) (c_J1_parentOf__s l G _ o t asd (tsC (rotLT T1 p x) x 1) x ax hP hx) dJ1_fixAfterInsertion_130 (lw_S q2524 q2525 q81 q2526) (by decide +kernel) ⟨(Nat.le_of_ble_eq_true rfl), (Nat.le_of_ble_eq_true rfl)⟩ rfl rfl (Nat.le_of_ble_eq_true rfl) (by first | exact Nat.le_of_ble_eq_true rfl | omega) (by first | exact Nat.le_of_ble_eq_true rfl | omega) rfl (fun v_721 M_722 h_724 hE_723 => ?_)
                        obtain ⟨rfl, hMs⟩ := h_724
                        have hMs := hMs.symm
                        subst hMs
                        refine x_topr (lk_s hq2 hj_19) ?_
                        refine x_iconst (n' := 134) (v := 0) dJ1_fixAfterInsertion_133 (by decide) rfl ?_
                        refine x_callS (n' := 137) (n := 2) (c_J1_setColor__s l G _ o t asd (tsC (rotLT T1 p x) x 1) j_15 b_16 0 hP hj_19 (Or.inl rfl)) dJ1_fixAfterInsertion_134 (lw_S q2536 q2537 q81 q2538) (by decide +kernel) ⟨(Nat.le_of_ble_eq_true rfl), (Nat.le_of_ble_eq_true rfl)⟩ rfl rfl (Nat.le_of_ble_eq_true rfl) (by first | exact Nat.le_of_ble_eq_true rfl | omega) (by first | exact Nat.le_of_ble_eq_true rfl | omega) rfl (fun v_725 M_726 h_728 hE_727 => ?_)
                        obtain ⟨rfl, hP9, hF9⟩ := h_728
                        replace hP := hP9
                        replace hF := hF.tr hF9
                        clear hF9
                        refine x_aload_n (n' := 138) dJ1_fixAfterInsertion_137 rfl rfl rfl ?_
                        refine x_aload_n (n' := 139) dJ1_fixAfterInsertion_138 rfl rfl rfl ?_
                        refine x_callS (n' := 142) (n := 1) (c_J1_parentOf__s l G _ o t asd (tsC (tsC (rotLT T1 p x) x 1) j_15 0) p ap hP hp) dJ1_fixAfterInsertion_139 (lw_S q2524 q2525 q81 q2526) (by decide +kernel) ⟨(Nat.le_of_ble_eq_true rfl), (Nat.le_of_ble_eq_true rfl)⟩ rfl rfl (Nat.le_of_ble_eq_true rfl) (by first | exact Nat.le_of_ble_eq_true rfl | omega) (by first | exact Nat.le_of_ble_eq_true rfl | omega) rfl (fun v_729 M_730 h_732 hE_731 => ?_)
                        obtain ⟨rfl, hMs⟩ := h_732
                        have hMs := hMs.symm
                        subst hMs
                        refine x_topr (lk_s hq1 hx) ?_
                        refine x_callS (n' := 145) (n := 1) (c_J1_parentOf__s l G _ o t asd (tsC (tsC (rotLT T1 p x) x 1) j_15 0) x ax hP hx) dJ1_fixAfterInsertion_142 (lw_S q2524 q2525 q81 q2526) (by decide +kernel) ⟨(Nat.le_of_ble_eq_true rfl), (Nat.le_of_ble_eq_true rfl)⟩ rfl rfl (Nat.le_of_ble_eq_true rfl) (by first | exact Nat.le_of_ble_eq_true rfl | omega) (by first | exact Nat.le_of_ble_eq_true rfl | omega) rfl (fun v_733 M_734 h_736 hE_735 => ?_)
                        obtain ⟨rfl, hMs⟩ := h_736
                        have hMs := hMs.symm
                        subst hMs
                        refine x_topr (lk_s hq2 hj_19) ?_
                        refine x_callV (n' := 148) (n := 1) (K := 41) (c_J1_rotateRight__s l G _ o t asd (tsC (tsC (rotLT T1 p x) x 1) j_15 0) j_15 b_16 x _ _ hP hW hj_19 hq3) dJ1_fixAfterInsertion_145 (hP.k) rfl (lw_V q2543 q2545 qs31 q81 q2546) (by decide +kernel) ⟨(Nat.le_of_ble_eq_true rfl), (Nat.le_of_ble_eq_true rfl)⟩ rfl rfl (Nat.le_of_ble_eq_true rfl) (by first | exact Nat.le_of_ble_eq_true rfl | omega) (by first | exact Nat.le_of_ble_eq_true rfl | omega) rfl (fun v_737 M_738 h_740 hE_739 => ?_)
                        obtain ⟨rfl, hP9, hF9⟩ := h_740
                        replace hP := hP9
                        replace hF := hF.tr hF9
                        clear hF9
                        have hW0 := hW
                        have hW := rotRT_W (T := (tsC (tsC (rotLT T1 p x) x 1) j_15 0)) hW0 hj_19 hq3
                        have hu1 := hW1.up (nns hx) hxp
                        have hu2 := hW1.up (nns hp) hl_18
                        have hgx9 : j_15 ≠ x := fun e => by subst e; omega
                        have hfp : tP (rotRT (tsC (tsC (rotLT T1 p x) x 1) j_15 0) j_15 x) p = some x := (rotRT_Po hu2.2.1 (fun e => hu1.2.1 e.symm) (fun e => hq5 (hq4.symm.trans e))).trans hq1
                        have hfc : tC (rotRT (tsC (tsC (rotLT T1 p x) x 1) j_15 0) j_15 x) x = 1 := (va_up_ne _ _ (fun e => hgx9 e.symm)).trans (va_up_self _ _ _)
                        refine x_goto (tgt := 5) dJ1_fixAfterInsertion_148 (by decide) ?_
                        have hm9 := hm p hxp (by assumption)
                        have ivx := hW1.1 x (nns hx)
                        exact x_drop (ih 0 p ap (rotRT (tsC (tsC (rotLT T1 p x) x 1) j_15 0) j_15 x) _ _ _ (by omega) (fun p9 hp9 hc9 => absurd hc9 (by rw [hfp] at hp9; cases hp9; rw [hfc]; decide)) hp hP hW hN hF) ⟨rfl, ⟨rfl, trivial⟩⟩
                  · refine x_aload_n (n' := 63) dJ1_fixAfterInsertion_62 rfl rfl rfl ?_
                    refine x_callS (n' := 66) (n := 1) (c_J1_parentOf__s l G _ o t asd T1 x ax hP hx) dJ1_fixAfterInsertion_63 (lw_S q2524 q2525 q81 q2526) (by decide +kernel) ⟨(Nat.le_of_ble_eq_true rfl), (Nat.le_of_ble_eq_true rfl)⟩ rfl rfl (Nat.le_of_ble_eq_true rfl) (by first | exact Nat.le_of_ble_eq_true rfl | omega) (by first | exact Nat.le_of_ble_eq_true rfl | omega) rfl (fun v_741 M_742 h_744 hE_743 => ?_)
                    obtain ⟨rfl, hMs⟩ := h_744
                    have hMs := hMs.symm
                    subst hMs
                    refine x_topr (lk_s hxp hp) ?_
                    refine x_iconst (n' := 67) (v := 1) dJ1_fixAfterInsertion_66 (by decide) rfl ?_
                    refine x_callS (n' := 70) (n := 2) (c_J1_setColor__s l G _ o t asd T1 p ap 1 hP hp (Or.inr rfl)) dJ1_fixAfterInsertion_67 (lw_S q2536 q2537 q81 q2538) (by decide +kernel) ⟨(Nat.le_of_ble_eq_true rfl), (Nat.le_of_ble_eq_true rfl)⟩ rfl rfl (Nat.le_of_ble_eq_true rfl) (by first | exact Nat.le_of_ble_eq_true rfl | omega) (by first | exact Nat.le_of_ble_eq_true rfl | omega) rfl (fun v_745 M_746 h_748 hE_747 => ?_)
                    obtain ⟨rfl, hP9, hF9⟩ := h_748
                    replace hP := hP9
                    replace hF := hF.tr hF9
                    clear hF9
                    refine x_aload_n (n' := 71) dJ1_fixAfterInsertion_70 rfl rfl rfl ?_
                    refine x_iconst (n' := 72) (v := 1) dJ1_fixAfterInsertion_71 (by decide) rfl ?_
                    refine x_callS (n' := 75) (n := 2) (c_J1_setColor__s l G _ o t asd (tsC T1 p 1) j_488 b_489 1 hP hj_492 (Or.inr rfl)) dJ1_fixAfterInsertion_72 (lw_S q2536 q2537 q81 q2538) (by decide +kernel) ⟨(Nat.le_of_ble_eq_true rfl), (Nat.le_of_ble_eq_true rfl)⟩ rfl rfl (Nat.le_of_ble_eq_true rfl) (by first | exact Nat.le_of_ble_eq_true rfl | omega) (by first | exact Nat.le_of_ble_eq_true rfl | omega) rfl (fun v_749 M_750 h_752 hE_751 => ?_)
                    obtain ⟨rfl, hP9, hF9⟩ := h_752
                    replace hP := hP9
                    replace hF := hF.tr hF9
                    clear hF9
                    refine x_aload_n (n' := 76) dJ1_fixAfterInsertion_75 rfl rfl rfl ?_
                    refine x_callS (n' := 79) (n := 1) (c_J1_parentOf__s l G _ o t asd (tsC (tsC T1 p 1) j_488 1) x ax hP hx) dJ1_fixAfterInsertion_76 (lw_S q2524 q2525 q81 q2526) (by decide +kernel) ⟨(Nat.le_of_ble_eq_true rfl), (Nat.le_of_ble_eq_true rfl)⟩ rfl rfl (Nat.le_of_ble_eq_true rfl) (by first | exact Nat.le_of_ble_eq_true rfl | omega) (by first | exact Nat.le_of_ble_eq_true rfl | omega) rfl (fun v_753 M_754 h_756 hE_755 => ?_)
                    obtain ⟨rfl, hMs⟩ := h_756
                    have hMs := hMs.symm
                    subst hMs
                    refine x_topr (lk_s hxp hp) ?_
                    refine x_callS (n' := 82) (n := 1) (c_J1_parentOf__s l G _ o t asd (tsC (tsC T1 p 1) j_488 1) p ap hP hp) dJ1_fixAfterInsertion_79 (lw_S q2524 q2525 q81 q2526) (by decide +kernel) ⟨(Nat.le_of_ble_eq_true rfl), (Nat.le_of_ble_eq_true rfl)⟩ rfl rfl (Nat.le_of_ble_eq_true rfl) (by first | exact Nat.le_of_ble_eq_true rfl | omega) (by first | exact Nat.le_of_ble_eq_true rfl | omega) rfl (fun v_757 M_758 h_760 hE_759 => ?_)
                    obtain ⟨rfl, hMs⟩ := h_760
                    have hMs := hMs.symm
                    subst hMs
                    refine x_topr (lk_s hl_18 hj_19) ?_
                    refine x_iconst (n' := 83) (v := 0) dJ1_fixAfterInsertion_82 (by decide) rfl ?_
                    refine x_callS (n' := 86) (n := 2) (c_J1_setColor__s l G _ o t asd (tsC (tsC T1 p 1) j_488 1) j_15 b_16 0 hP hj_19 (Or.inl rfl)) dJ1_fixAfterInsertion_83 (lw_S q2536 q2537 q81 q2538) (by decide +kernel) ⟨(Nat.le_of_ble_eq_true rfl), (Nat.le_of_ble_eq_true rfl)⟩ rfl rfl (Nat.le_of_ble_eq_true rfl) (by first | exact Nat.le_of_ble_eq_true rfl | omega) (by first | exact Nat.le_of_ble_eq_true rfl | omega) rfl (fun v_761 M_762 h_764 hE_763 => ?_)
                    obtain ⟨rfl, hP9, hF9⟩ := h_764
                    replace hP := hP9
                    replace hF := hF.tr hF9
                    clear hF9
                    refine x_aload_n (n' := 87) dJ1_fixAfterInsertion_86 rfl rfl rfl ?_
                    refine x_callS (n' := 90) (n := 1) (c_J1_parentOf__s l G _ o t asd (tsC (tsC (tsC T1 p 1) j_488 1) j_15 0) x ax hP hx) dJ1_fixAfterInsertion_87 (lw_S q2524 q2525 q81 q2526) (by decide +kernel) ⟨(Nat.le_of_ble_eq_true rfl), (Nat.le_of_ble_eq_true rfl)⟩ rfl rfl (Nat.le_of_ble_eq_true rfl) (by first | exact Nat.le_of_ble_eq_true rfl | omega) (by first | exact Nat.le_of_ble_eq_true rfl | omega) rfl (fun v_765 M_766 h_768 hE_767 => ?_)
                    obtain ⟨rfl, hMs⟩ := h_768
                    have hMs := hMs.symm
                    subst hMs
                    refine x_topr (lk_s hxp hp) ?_
                    refine x_callS (n' := 93) (n := 1) (c_J1_parentOf__s l G _ o t asd (tsC (tsC (tsC T1 p 1) j_488 1) j_15 0) p ap hP hp) dJ1_fixAfterInsertion_90 (lw_S q2524 q2525 q81 q2526) (by decide +kernel) ⟨(Nat.le_of_ble_eq_true rfl), (Nat.le_of_ble_eq_true rfl)⟩ rfl rfl (Nat.le_of_ble_eq_true rfl) (by first | exact Nat.le_of_ble_eq_true rfl | omega) (by first | exact Nat.le_of_ble_eq_true rfl | omega) rfl (fun v_769 M_770 h_772 hE_771 => ?_)
                    obtain ⟨rfl, hMs⟩ := h_772
                    have hMs := hMs.symm
                    subst hMs
                    refine x_topr (lk_s hl_18 hj_19) ?_
                    refine x_astore_n (n' := 94) dJ1_fixAfterInsertion_93 rfl (Nat.le_of_ble_eq_true rfl) rfl (by dsimp only [List.set] <;> rfl) rfl ?_
                    refine x_goto (tgt := 148) dJ1_fixAfterInsertion_94 (by decide) ?_
                    refine x_goto (tgt := 5) dJ1_fixAfterInsertion_148 (by decide) ?_
                    have hu1 := hW.up (nns hx) hxp
                    have hu2 := hW.up (nns hp) hl_18
                    have ivg := hW.1 j_15 (nns hj_19)
                    have hm9 := hm p hxp (by assumption)
                    exact x_drop (ih (BB + 1 - (hi1 j_15 - lo1 j_15)) j_15 b_16 (tsC (tsC (tsC T1 p 1) j_488 1) j_15 0) lo1 hi1 _ (by omega) (fun _ _ _ => Nat.le_refl _) hj_19 hP hW hN hF) ⟨rfl, ⟨rfl, trivial⟩⟩
  refine x_aload_n (n' := 1) dJ1_fixAfterInsertion_0 rfl rfl rfl ?_
  refine x_iconst (n' := 2) (v := 0) dJ1_fixAfterInsertion_1 (by decide) rfl ?_
  refine x_putI (n' := 5) dJ1_fixAfterInsertion_2 (hP.nk hx0) ffJ1_290_88 rfl (k_bool (by first | exact Or.inl rfl | exact Or.inr rfl)) rfl rfl ?_
  exact x_drop (cut5 (BB + 2) (BB + 1) x0 ax0 (tsC T x0 0) lo hi _ (by omega) (fun _ _ _ => by omega) hx0 (hP.wC hx0 (Or.inl rfl)) hW ⟨rfl, rfl, rfl⟩ (hF.I (Or.inr (hP0.ng hx0)))) ⟨rfl, ⟨rfl, trivial⟩⟩
