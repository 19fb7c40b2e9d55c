theorem rot_r {o : Option Nat} (h : o ≠ none) : ∃ a, o = some a := by
  cases o with
  | none => exact absurd rfl h
  | some a => exact ⟨a, rfl⟩
theorem rot_nr {T : kT} {lo hi : Nat → Nat} (w : WTT T lo hi) {p r a : Nat} (hp : tN T p = some a) (hr : tR T p = some r) : p ≠ r := by
  have a := w.2.2.2.2.1 p r (nns hp) hr
  have b := w.1 r a.1
  omega
theorem rot_nl {T : kT} {lo hi : Nat → Nat} (w : WTT T lo hi) {p r a : Nat} (hp : tN T p = some a) (hr : tL T p = some r) : p ≠ r := by
  have a := w.2.2.1 p r (nns hp) hr
  have b := w.1 r a.1
  omega
theorem rot_cl {T : kT} {lo hi : Nat → Nat} (w : WTT T lo hi) {p r a c : Nat} (hp : tN T p = some a) (hr : tR T p = some r) (hc : tL T r = some c) : p ≠ c := by
  have a := w.2.2.2.2.1 p r (nns hp) hr
  have b := w.2.2.1 r c a.1 hc
  have d := w.1 c b.1
  omega
theorem rot_cr {T : kT} {lo hi : Nat → Nat} (w : WTT T lo hi) {p r a c : Nat} (hp : tN T p = some a) (hr : tL T p = some r) (hc : tR T r = some c) : p ≠ c := by
  have a := w.2.2.1 p r (nns hp) hr
  have b := w.2.2.2.2.1 r c a.1 hc
  have d := w.1 c b.1
  omega
theorem ro_n {x w : Option Nat} {f : Nat → Option Nat} (h : x = w.bind f) (e : w = none) : x = none := by rw [h, e]; rfl
theorem ro_s {x w : Option Nat} {f : Nat → Option Nat} {j b : Nat} (h : x = w.bind f) (e : w = some j) (h2 : f j = some b) : x = some b := by rw [h, e]; exact h2
set_option maxHeartbeats 800000 in
set_option maxRecDepth 100000 in
theorem c_J1_rotateLeft__s (l : Launch) (G : kG) (M : kM) (o t asd : Nat) (T : kT) (p a r : Nat) (lo hi : Nat → Nat) (hP : PT M o t asd T) (hW : WTT T lo hi) (hp : tN T p = some a) (hr : tR T p = some r) : Kt l G yJ1_rotateLeft cJ1_rotateLeft 3 none 0 0 [.ref t, .ref a] M (0) (0) (fun v M2 => v = none ∧ PT M2 o t asd (rotLT T p r) ∧ FK o M M2) := by
  refine Kt.of (own := "java/util/TreeMap") (L := [some (.ref t), some (.ref a), none]) (by decide +kernel) rfl (Nat.le_of_ble_eq_true rfl) rfl ?_
  intro pp ee ss mm args below meth cd hmn hret
  have hP0 := hP
  have hF : FK o M M := FK.rf
  obtain ⟨ar, har⟩ : ∃ ar, tN T r = some ar := rot_r (hW.dr (nns hp) hr)
  have hpr : p ≠ r := rot_nr hW hp hr
  refine x_aload_n (n' := 1) dJ1_rotateLeft_0 rfl rfl rfl ?_
  refine x_ifnull (n' := 4) dJ1_rotateLeft_1 rfl ?_
  refine x_aload_n (n' := 5) dJ1_rotateLeft_4 rfl rfl rfl ?_
  refine x_getRs (n' := 8) (b := ar) dJ1_rotateLeft_5 (hP.nk hp) ffJ1_114_88 rfl ((hP.rr hp).trans (by rw [hr]; exact har)) rfl ?_
  refine x_astore_n (n' := 9) dJ1_rotateLeft_8 rfl (Nat.le_of_ble_eq_true rfl) rfl (by dsimp only [List.set] <;> rfl) rfl ?_
  refine x_aload_n (n' := 10) dJ1_rotateLeft_9 rfl rfl rfl ?_
  refine x_aload_n (n' := 11) dJ1_rotateLeft_10 rfl rfl rfl ?_
  refine x_getR (n' := 14) dJ1_rotateLeft_11 (hP.nk har) ffJ1_111_88 rfl rfl ?_
  refine x_putR (n' := 17) (v := (mR M (fc 88 2) ar)) dJ1_rotateLeft_14 (hP.nk hp) ffJ1_114_88 rfl rfl rfl ?_
  refine x_gen (X := fun M9 => PT M9 o t asd (tsR T p (tL T r)) ∧ FK o M M9) ⟨hP.wR hp (hP.l har), hF.R (Or.inr (hP0.ng hp))⟩ (fun M_1 hM9 => ?_)
  obtain ⟨hP, hF⟩ := hM9
  refine x_aload_n (n' := 18) dJ1_rotateLeft_17 rfl rfl rfl ?_
  refine x_getRc (n' := 21) dJ1_rotateLeft_18 (hP.nk har) ffJ1_111_88 rfl rfl (fun e18_2 => ?_) (fun bc e18_2 => ?_)
  · have hcc : tL T r = none := bn_n (hP.l har) (by assumption) (fun _ q => hW.dl (nns har) q)
    refine x_ifnullN (tgt := 32) dJ1_rotateLeft_21 (by decide) ?_
    refine x_aload_n (n' := 33) dJ1_rotateLeft_32 rfl rfl rfl ?_
    refine x_aload_n (n' := 34) dJ1_rotateLeft_33 rfl rfl rfl ?_
    refine x_getRc (n' := 37) dJ1_rotateLeft_34 (hP.nk hp) ffJ1_124_88 rfl rfl (fun e34_3 => ?_) (fun bq e34_3 => ?_)
    · have hpp : tP T p = none := (rfl : tP T p = tP T p).symm.trans (bn_n (hP.p hp) (by assumption) (fun j q => hW.dp (nns hp) (((rfl : tP T p = tP T p)).symm.trans q)))
      refine x_putR (n' := 40) (v := none) dJ1_rotateLeft_37 (hP.nk har) ffJ1_124_88 rfl rfl rfl ?_
      refine x_gen (X := fun M9 => PT M9 o t asd (tsP (tsR T p (tL T r)) r (tP T p)) ∧ FK o M M9) ⟨hP.wP har (by rw [hpp]; first | rfl | exact hq2.symm), hF.R (Or.inr (hP0.ng har))⟩ (fun M_4 hM9 => ?_)
      obtain ⟨hP, hF⟩ := hM9
      refine x_aload_n (n' := 41) dJ1_rotateLeft_40 rfl rfl rfl ?_
      refine x_getRn (n' := 44) dJ1_rotateLeft_41 (hP.nk hp) ffJ1_124_88 rfl (ro_n (hP.p hp) (((va_up_ne _ _ hpr).trans (rfl : tP T p = tP T p)).trans hpp)) rfl ?_
      refine x_ifnonnullN (n' := 47) dJ1_rotateLeft_44 rfl ?_
      refine x_aload_n (n' := 48) dJ1_rotateLeft_47 rfl rfl rfl ?_
      refine x_aload_n (n' := 49) dJ1_rotateLeft_48 rfl rfl rfl ?_
      refine x_putR (n' := 52) (v := some (ar)) dJ1_rotateLeft_49 (hP.k) ffJ1_101_41 rfl rfl rfl ?_
      refine x_gen (X := fun M9 => PT M9 o t asd (tsr (tsP (tsR T p (tL T r)) r (tP T p)) (some r)) ∧ FK o M M9) ⟨hP.wt har.symm, hF.R (Or.inr hP0.g)⟩ (fun M_5 hM9 => ?_)
      obtain ⟨hP, hF⟩ := hM9
      refine x_goto (tgt := 85) dJ1_rotateLeft_52 (by decide) ?_
      refine x_aload_n (n' := 86) dJ1_rotateLeft_85 rfl rfl rfl ?_
      refine x_aload_n (n' := 87) dJ1_rotateLeft_86 rfl rfl rfl ?_
      refine x_putR (n' := 90) (v := some (a)) dJ1_rotateLeft_87 (hP.nk har) ffJ1_111_88 rfl rfl rfl ?_
      refine x_gen (X := fun M9 => PT M9 o t asd (tsL (tsr (tsP (tsR T p (tL T r)) r (tP T p)) (some r)) r (some p)) ∧ FK o M M9) ⟨hP.wL har hp.symm, hF.R (Or.inr (hP0.ng har))⟩ (fun M_6 hM9 => ?_)
      obtain ⟨hP, hF⟩ := hM9
      refine x_aload_n (n' := 91) dJ1_rotateLeft_90 rfl rfl rfl ?_
      refine x_aload_n (n' := 92) dJ1_rotateLeft_91 rfl rfl rfl ?_
      refine x_putR (n' := 95) (v := some (ar)) dJ1_rotateLeft_92 (hP.nk hp) ffJ1_124_88 rfl rfl rfl ?_
      refine x_gen (X := fun M9 => PT M9 o t asd (tsP (tsL (tsr (tsP (tsR T p (tL T r)) r (tP T p)) (some r)) r (some p)) p (some r)) ∧ FK o M M9) ⟨hP.wP hp har.symm, hF.R (Or.inr (hP0.ng hp))⟩ (fun M_7 hM9 => ?_)
      obtain ⟨hP, hF⟩ := hM9
      exact x_vret dJ1_rotateLeft_95 hret hF.kE (⟨rfl, (show rotLT T p r = (tsP (tsL (tsr (tsP (tsR T p (tL T r)) r (tP T p)) (some r)) r (some p)) p (some r)) by simp only [rotLT, rlL, rlR, rlP, rlT, rrL, rrR, rrP, rrT, hpp, hcc]; rfl) ▸ hP, hF⟩)
    · have k_bq : mK _ bq = some 88 := (by obtain ⟨q, -, h2⟩ := bn_s (hP.p hp) e34_3; exact hP.nk h2)
      obtain ⟨q, hpp, hq2⟩ := bn_s (hP.p hp) (by assumption)
      have hpp : tP T p = some q := (rfl : tP T p = tP T p).symm.trans hpp
      have hq2 : tN T q = some bq := hq2
      refine x_putR (n' := 40) (v := some (bq)) dJ1_rotateLeft_37 (hP.nk har) ffJ1_124_88 rfl rfl rfl ?_
      refine x_gen (X := fun M9 => PT M9 o t asd (tsP (tsR T p (tL T r)) r (tP T p)) ∧ FK o M M9) ⟨hP.wP har (by rw [hpp]; first | rfl | exact hq2.symm), hF.R (Or.inr (hP0.ng har))⟩ (fun M_8 hM9 => ?_)
      obtain ⟨hP, hF⟩ := hM9
      refine x_aload_n (n' := 41) dJ1_rotateLeft_40 rfl rfl rfl ?_
      refine x_getRs (n' := 44) (b := bq) dJ1_rotateLeft_41 (hP.nk hp) ffJ1_124_88 rfl (ro_s (hP.p hp) (((va_up_ne _ _ hpr).trans (rfl : tP T p = tP T p)).trans hpp) hq2) rfl ?_
      refine x_ifnonnull (tgt := 55) dJ1_rotateLeft_44 (by decide) ?_
      refine x_aload_n (n' := 56) dJ1_rotateLeft_55 rfl rfl rfl ?_
      refine x_getRs (n' := 59) (b := bq) dJ1_rotateLeft_56 (hP.nk hp) ffJ1_124_88 rfl (ro_s (hP.p hp) (((va_up_ne _ _ hpr).trans (rfl : tP T p = tP T p)).trans hpp) hq2) rfl ?_
      refine x_getR (n' := 62) dJ1_rotateLeft_59 (hP.nk hq2) ffJ1_111_88 rfl rfl ?_
      refine x_aload_n (n' := 63) dJ1_rotateLeft_62 rfl rfl rfl ?_
      refine x_acmp_ne (n' := 66) (rx := (mR _ (fc 88 2) bq)) (ry := some (a)) (tgt := 77) dJ1_rotateLeft_63 (by decide) rfl (fun c63_9 => ?_) (fun c63_9 => ?_)
      · have hlq : ¬ tL T q = some p := fun h9 => absurd ((hP.l hq2).trans (by show Option.bind (tL T q) (tN T) = some a; rw [h9]; exact hp)) (by assumption)
        refine x_aload_n (n' := 78) dJ1_rotateLeft_77 rfl rfl rfl ?_
        refine x_getRs (n' := 81) (b := bq) dJ1_rotateLeft_78 (hP.nk hp) ffJ1_124_88 rfl (ro_s (hP.p hp) (((va_up_ne _ _ hpr).trans (rfl : tP T p = tP T p)).trans hpp) hq2) rfl ?_
        refine x_aload_n (n' := 82) dJ1_rotateLeft_81 rfl rfl rfl ?_
        refine x_putR (n' := 85) (v := some (ar)) dJ1_rotateLeft_82 (hP.nk hq2) ffJ1_114_88 rfl rfl rfl ?_
        refine x_gen (X := fun M9 => PT M9 o t asd (tsR (tsP (tsR T p (tL T r)) r (tP T p)) q (some r)) ∧ FK o M M9) ⟨hP.wR hq2 har.symm, hF.R (Or.inr (hP0.ng hq2))⟩ (fun M_10 hM9 => ?_)
        obtain ⟨hP, hF⟩ := hM9
        refine x_aload_n (n' := 86) dJ1_rotateLeft_85 rfl rfl rfl ?_
        refine x_aload_n (n' := 87) dJ1_rotateLeft_86 rfl rfl rfl ?_
        refine x_putR (n' := 90) (v := some (a)) dJ1_rotateLeft_87 (hP.nk har) ffJ1_111_88 rfl rfl rfl ?_
        refine x_gen (X := fun M9 => PT M9 o t asd (tsL (tsR (tsP (tsR T p (tL T r)) r (tP T p)) q (some r)) r (some p)) ∧ FK o M M9) ⟨hP.wL har hp.symm, hF.R (Or.inr (hP0.ng har))⟩ (fun M_11 hM9 => ?_)
        obtain ⟨hP, hF⟩ := hM9
        refine x_aload_n (n' := 91) dJ1_rotateLeft_90 rfl rfl rfl ?_
        refine x_aload_n (n' := 92) dJ1_rotateLeft_91 rfl rfl rfl ?_
        refine x_putR (n' := 95) (v := some (ar)) dJ1_rotateLeft_92 (hP.nk hp) ffJ1_124_88 rfl rfl rfl ?_
        refine x_gen (X := fun M9 => PT M9 o t asd (tsP (tsL (tsR (tsP (tsR T p (tL T r)) r (tP T p)) q (some r)) r (some p)) p (some r)) ∧ FK o M M9) ⟨hP.wP hp har.symm, hF.R (Or.inr (hP0.ng hp))⟩ (fun M_12 hM9 => ?_)
        obtain ⟨hP, hF⟩ := hM9
        exact x_vret dJ1_rotateLeft_95 hret hF.kE (⟨rfl, (show rotLT T p r = (tsP (tsL (tsR (tsP (tsR T p (tL T r)) r (tP T p)) q (some r)) r (some p)) p (some r)) by simp only [rotLT, rlL, rlR, rlP, rlT, rrL, rrR, rrP, rrT, hpp, hcc, if_neg hlq]; rfl) ▸ hP, hF⟩)
      · have hlq : tL T q = some p := by obtain ⟨j, h1, h2⟩ := bn_s (hP.l hq2) (by assumption); rw [hP0.inj hp h2]; exact h1
        refine x_aload_n (n' := 67) dJ1_rotateLeft_66 rfl rfl rfl ?_
        refine x_getRs (n' := 70) (b := bq) dJ1_rotateLeft_67 (hP.nk hp) ffJ1_124_88 rfl (ro_s (hP.p hp) (((va_up_ne _ _ hpr).trans (rfl : tP T p = tP T p)).trans hpp) hq2) rfl ?_
        refine x_aload_n (n' := 71) dJ1_rotateLeft_70 rfl rfl rfl ?_
        refine x_putR (n' := 74) (v := some (ar)) dJ1_rotateLeft_71 (hP.nk hq2) ffJ1_111_88 rfl rfl rfl ?_
        refine x_gen (X := fun M9 => PT M9 o t asd (tsL (tsP (tsR T p (tL T r)) r (tP T p)) q (some r)) ∧ FK o M M9) ⟨hP.wL hq2 har.symm, hF.R (Or.inr (hP0.ng hq2))⟩ (fun M_13 hM9 => ?_)
        obtain ⟨hP, hF⟩ := hM9
        refine x_goto (tgt := 85) dJ1_rotateLeft_74 (by decide) ?_
        refine x_aload_n (n' := 86) dJ1_rotateLeft_85 rfl rfl rfl ?_
        refine x_aload_n (n' := 87) dJ1_rotateLeft_86 rfl rfl rfl ?_
        refine x_putR (n' := 90) (v := some (a)) dJ1_rotateLeft_87 (hP.nk har) ffJ1_111_88 rfl rfl rfl ?_
        refine x_gen (X := fun M9 => PT M9 o t asd (tsL (tsL (tsP (tsR T p (tL T r)) r (tP T p)) q (some r)) r (some p)) ∧ FK o M M9) ⟨hP.wL har hp.symm, hF.R (Or.inr (hP0.ng har))⟩ (fun M_14 hM9 => ?_)
        obtain ⟨hP, hF⟩ := hM9
        refine x_aload_n (n' := 91) dJ1_rotateLeft_90 rfl rfl rfl ?_
        refine x_aload_n (n' := 92) dJ1_rotateLeft_91 rfl rfl rfl ?_
        refine x_putR (n' := 95) (v := some (ar)) dJ1_rotateLeft_92 (hP.nk hp) ffJ1_124_88 rfl rfl rfl ?_
        refine x_gen (X := fun M9 => PT M9 o t asd (tsP (tsL (tsL (tsP (tsR T p (tL T r)) r (tP T p)) q (some r)) r (some p)) p (some r)) ∧ FK o M M9) ⟨hP.wP hp har.symm, hF.R (Or.inr (hP0.ng hp))⟩ (fun M_15 hM9 => ?_)
        obtain ⟨hP, hF⟩ := hM9
        exact x_vret dJ1_rotateLeft_95 hret hF.kE (⟨rfl, (show rotLT T p r = (tsP (tsL (tsL (tsP (tsR T p (tL T r)) r (tP T p)) q (some r)) r (some p)) p (some r)) by simp only [rotLT, rlL, rlR, rlP, rlT, rrL, rrR, rrP, rrT, hpp, hcc, if_pos hlq]; rfl) ▸ hP, hF⟩)
  · have k_bc : mK _ bc = some 88 := (by obtain ⟨c, -, h2⟩ := bn_s (hP.l har) e18_2; exact hP.nk h2)
    obtain ⟨c, hcc, hc2⟩ := bn_s (hP.l har) (by assumption)
    have hcc : tL T r = some c := hcc
    have hc2 : tN T c = some bc := hc2
    have hcp : p ≠ c := rot_cl hW hp hr hcc
    refine x_ifnull (n' := 24) dJ1_rotateLeft_21 rfl ?_
    refine x_aload_n (n' := 25) dJ1_rotateLeft_24 rfl rfl rfl ?_
    refine x_getRs (n' := 28) (b := bc) dJ1_rotateLeft_25 (hP.nk har) ffJ1_111_88 rfl ((by assumption)) rfl ?_
    refine x_aload_n (n' := 29) dJ1_rotateLeft_28 rfl rfl rfl ?_
    refine x_putR (n' := 32) (v := some (a)) dJ1_rotateLeft_29 (by repeat' (first | with_reducible exact k_bc | with_reducible apply mK_A | with_reducible apply mK_I | with_reducible apply mK_L | with_reducible apply mK_R | with_reducible apply mK_O | with_reducible apply mK_G | with_reducible refine mK_NA ?_ (by assumption) | with_reducible refine mK_NO ?_ (by assumption))) ffJ1_124_88 rfl rfl rfl ?_
    refine x_gen (X := fun M9 => PT M9 o t asd (tsP (tsR T p (tL T r)) c (some p)) ∧ FK o M M9) ⟨hP.wP hc2 hp.symm, hF.R (Or.inr (hP0.ng hc2))⟩ (fun M_16 hM9 => ?_)
    obtain ⟨hP, hF⟩ := hM9
    refine x_aload_n (n' := 33) dJ1_rotateLeft_32 rfl rfl rfl ?_
    refine x_aload_n (n' := 34) dJ1_rotateLeft_33 rfl rfl rfl ?_
    refine x_getRc (n' := 37) dJ1_rotateLeft_34 (hP.nk hp) ffJ1_124_88 rfl rfl (fun e34_17 => ?_) (fun bq e34_17 => ?_)
    · have hpp : tP T p = none := (va_up_ne _ _ hcp : tP (tsP (tsR T p (tL T r)) c (some p)) p = tP T p).symm.trans (bn_n (hP.p hp) (by assumption) (fun j q => hW.dp (nns hp) (((va_up_ne _ _ hcp : tP (tsP (tsR T p (tL T r)) c (some p)) p = tP T p)).symm.trans q)))
      refine x_putR (n' := 40) (v := none) dJ1_rotateLeft_37 (hP.nk har) ffJ1_124_88 rfl rfl rfl ?_
      refine x_gen (X := fun M9 => PT M9 o t asd (tsP (tsP (tsR T p (tL T r)) c (some p)) r (tP T p)) ∧ FK o M M9) ⟨hP.wP har (by rw [hpp]; first | rfl | exact hq2.symm), hF.R (Or.inr (hP0.ng har))⟩ (fun M_18 hM9 => ?_)
      obtain ⟨hP, hF⟩ := hM9
      refine x_aload_n (n' := 41) dJ1_rotateLeft_40 rfl rfl rfl ?_
      refine x_getRn (n' := 44) dJ1_rotateLeft_41 (hP.nk hp) ffJ1_124_88 rfl (ro_n (hP.p hp) (((va_up_ne _ _ hpr).trans (va_up_ne _ _ hcp : tP (tsP (tsR T p (tL T r)) c (some p)) p = tP T p)).trans hpp)) rfl ?_
      refine x_ifnonnullN (n' := 47) dJ1_rotateLeft_44 rfl ?_
      refine x_aload_n (n' := 48) dJ1_rotateLeft_47 rfl rfl rfl ?_
      refine x_aload_n (n' := 49) dJ1_rotateLeft_48 rfl rfl rfl ?_
      refine x_putR (n' := 52) (v := some (ar)) dJ1_rotateLeft_49 (hP.k) ffJ1_101_41 rfl rfl rfl ?_
      refine x_gen (X := fun M9 => PT M9 o t asd (tsr (tsP (tsP (tsR T p (tL T r)) c (some p)) r (tP T p)) (some r)) ∧ FK o M M9) ⟨hP.wt har.symm, hF.R (Or.inr hP0.g)⟩ (fun M_19 hM9 => ?_)
      obtain ⟨hP, hF⟩ := hM9
      refine x_goto (tgt := 85) dJ1_rotateLeft_52 (by decide) ?_
      refine x_aload_n (n' := 86) dJ1_rotateLeft_85 rfl rfl rfl ?_
      refine x_aload_n (n' := 87) dJ1_rotateLeft_86 rfl rfl rfl ?_
      refine x_putR (n' := 90) (v := some (a)) dJ1_rotateLeft_87 (hP.nk har) ffJ1_111_88 rfl rfl rfl ?_
      refine x_gen (X := fun M9 => PT M9 o t asd (tsL (tsr (tsP (tsP (tsR T p (tL T r)) c (some p)) r (tP T p)) (some r)) r (some p)) ∧ FK o M M9) ⟨hP.wL har hp.symm, hF.R (Or.inr (hP0.ng har))⟩ (fun M_20 hM9 => ?_)
      obtain ⟨hP, hF⟩ := hM9
      refine x_aload_n (n' := 91) dJ1_rotateLeft_90 rfl rfl rfl ?_
      refine x_aload_n (n' := 92) dJ1_rotateLeft_91 rfl rfl rfl ?_
      refine x_putR (n' := 95) (v := some (ar)) dJ1_rotateLeft_92 (hP.nk hp) ffJ1_124_88 rfl rfl rfl ?_
      refine x_gen (X := fun M9 => PT M9 o t asd (tsP (tsL (tsr (tsP (tsP (tsR T p (tL T r)) c (some p)) r (tP T p)) (some r)) r (some p)) p (some r)) ∧ FK o M M9) ⟨hP.wP hp har.symm, hF.R (Or.inr (hP0.ng hp))⟩ (fun M_21 hM9 => ?_)
      obtain ⟨hP, hF⟩ := hM9
      exact x_vret dJ1_rotateLeft_95 hret hF.kE (⟨rfl, (show rotLT T p r = (tsP (tsL (tsr (tsP (tsP (tsR T p (tL T r)) c (some p)) r (tP T p)) (some r)) r (some p)) p (some r)) by simp only [rotLT, rlL, rlR, rlP, rlT, rrL, rrR, rrP, rrT, hpp, hcc]; rfl) ▸ hP, hF⟩)
    · have k_bq : mK _ bq = some 88 := (by obtain ⟨q, -, h2⟩ := bn_s (hP.p hp) e34_17; exact hP.nk h2)
      obtain ⟨q, hpp, hq2⟩ := bn_s (hP.p hp) (by assumption)
      have hpp : tP T p = some q := (va_up_ne _ _ hcp : tP (tsP (tsR T p (tL T r)) c (some p)) p = tP T p).symm.trans hpp
      have hq2 : tN T q = some bq := hq2
      refine x_putR (n' := 40) (v := some (bq)) dJ1_rotateLeft_37 (hP.nk har) ffJ1_124_88 rfl rfl rfl ?_
      refine x_gen (X := fun M9 => PT M9 o t asd (tsP (tsP (tsR T p (tL T r)) c (some p)) r (tP T p)) ∧ FK o M M9) ⟨hP.wP har (by rw [hpp]; first | rfl | exact hq2.symm), hF.R (Or.inr (hP0.ng har))⟩ (fun M_22 hM9 => ?_)
      obtain ⟨hP, hF⟩ := hM9
      refine x_aload_n (n' := 41) dJ1_rotateLeft_40 rfl rfl rfl ?_
      refine x_getRs (n' := 44) (b := bq) dJ1_rotateLeft_41 (hP.nk hp) ffJ1_124_88 rfl (ro_s (hP.p hp) (((va_up_ne _ _ hpr).trans (va_up_ne _ _ hcp : tP (tsP (tsR T p (tL T r)) c (some p)) p = tP T p)).trans hpp) hq2) rfl ?_
      refine x_ifnonnull (tgt := 55) dJ1_rotateLeft_44 (by decide) ?_
      refine x_aload_n (n' := 56) dJ1_rotateLeft_55 rfl rfl rfl ?_
      refine x_getRs (n' := 59) (b := bq) dJ1_rotateLeft_56 (hP.nk hp) ffJ1_124_88 rfl (ro_s (hP.p hp) (((va_up_ne _ _ hpr).trans (va_up_ne _ _ hcp : tP (tsP (tsR T p (tL T r)) c (some p)) p = tP T p)).trans hpp) hq2) rfl ?_
      refine x_getR (n' := 62) dJ1_rotateLeft_59 (hP.nk hq2) ffJ1_111_88 rfl rfl ?_
      refine x_aload_n (n' := 63) dJ1_rotateLeft_62 rfl rfl rfl ?_
      refine x_acmp_ne (n' := 66) (rx := (mR _ (fc 88 2) bq)) (ry := some (a)) (tgt := 77) dJ1_rotateLeft_63 (by decide) rfl (fun c63_23 => ?_) (fun c63_23 => ?_)
      · have hlq : ¬ tL T q = some p := fun h9 => absurd ((hP.l hq2).trans (by show Option.bind (tL T q) (tN T) = some a; rw [h9]; exact hp)) (by assumption)
        refine x_aload_n (n' := 78) dJ1_rotateLeft_77 rfl rfl rfl ?_
        refine x_getRs (n' := 81) (b := bq) dJ1_rotateLeft_78 (hP.nk hp) ffJ1_124_88 rfl (ro_s (hP.p hp) (((va_up_ne _ _ hpr).trans (va_up_ne _ _ hcp : tP (tsP (tsR T p (tL T r)) c (some p)) p = tP T p)).trans hpp) hq2) rfl ?_
        refine x_aload_n (n' := 82) dJ1_rotateLeft_81 rfl rfl rfl ?_
        refine x_putR (n' := 85) (v := some (ar)) dJ1_rotateLeft_82 (hP.nk hq2) ffJ1_114_88 rfl rfl rfl ?_
        refine x_gen (X := fun M9 => PT M9 o t asd (tsR (tsP (tsP (tsR T p (tL T r)) c (some p)) r (tP T p)) q (some r)) ∧ FK o M M9) ⟨hP.wR hq2 har.symm, hF.R (Or.inr (hP0.ng hq2))⟩ (fun M_24 hM9 => ?_)
        obtain ⟨hP, hF⟩ := hM9
        refine x_aload_n (n' := 86) dJ1_rotateLeft_85 rfl rfl rfl ?_
        refine x_aload_n (n' := 87) dJ1_rotateLeft_86 rfl rfl rfl ?_
        refine x_putR (n' := 90) (v := some (a)) dJ1_rotateLeft_87 (hP.nk har) ffJ1_111_88 rfl rfl rfl ?_
        refine x_gen (X := fun M9 => PT M9 o t asd (tsL (tsR (tsP (tsP (tsR T p (tL T r)) c (some p)) r (tP T p)) q (some r)) r (some p)) ∧ FK o M M9) ⟨hP.wL har hp.symm, hF.R (Or.inr (hP0.ng har))⟩ (fun M_25 hM9 => ?_)
        obtain ⟨hP, hF⟩ := hM9
        refine x_aload_n (n' := 91) dJ1_rotateLeft_90 rfl rfl rfl ?_
        refine x_aload_n (n' := 92) dJ1_rotateLeft_91 rfl rfl rfl ?_
        refine x_putR (n' := 95) (v := some (ar)) dJ1_rotateLeft_92 (hP.nk hp) ffJ1_124_88 rfl rfl rfl ?_
        refine x_gen (X := fun M9 => PT M9 o t asd (tsP (tsL (tsR (tsP (tsP (tsR T p (tL T r)) c (some p)) r (tP T p)) q (some r)) r (some p)) p (some r)) ∧ FK o M M9) ⟨hP.wP hp har.symm, hF.R (Or.inr (hP0.ng hp))⟩ (fun M_26 hM9 => ?_)
        obtain ⟨hP, hF⟩ := hM9
        exact x_vret dJ1_rotateLeft_95 hret hF.kE (⟨rfl, (show rotLT T p r = (tsP (tsL (tsR (tsP (tsP (tsR T p (tL T r)) c (some p)) r (tP T p)) q (some r)) r (some p)) p (some r)) by simp only [rotLT, rlL, rlR, rlP, rlT, rrL, rrR, rrP, rrT, hpp, hcc, if_neg hlq]; rfl) ▸ hP, hF⟩)
      · have hlq : tL T q = some p := by obtain ⟨j, h1, h2⟩ := bn_s (hP.l hq2) (by assumption); rw [hP0.inj hp h2]; exact h1
        refine x_aload_n (n' := 67) dJ1_rotateLeft_66 rfl rfl rfl ?_
        refine x_getRs (n' := 70) (b := bq) dJ1_rotateLeft_67 (hP.nk hp) ffJ1_124_88 rfl (ro_s (hP.p hp) (((va_up_ne _ _ hpr).trans (va_up_ne _ _ hcp : tP (tsP (tsR T p (tL T r)) c (some p)) p = tP T p)).trans hpp) hq2) rfl ?_
        refine x_aload_n (n' := 71) dJ1_rotateLeft_70 rfl rfl rfl ?_
        refine x_putR (n' := 74) (v := some (ar)) dJ1_rotateLeft_71 (hP.nk hq2) ffJ1_111_88 rfl rfl rfl ?_
        refine x_gen (X := fun M9 => PT M9 o t asd (tsL (tsP (tsP (tsR T p (tL T r)) c (some p)) r (tP T p)) q (some r)) ∧ FK o M M9) ⟨hP.wL hq2 har.symm, hF.R (Or.inr (hP0.ng hq2))⟩ (fun M_27 hM9 => ?_)
        obtain ⟨hP, hF⟩ := hM9
        refine x_goto (tgt := 85) dJ1_rotateLeft_74 (by decide) ?_
        refine x_aload_n (n' := 86) dJ1_rotateLeft_85 rfl rfl rfl ?_
        refine x_aload_n (n' := 87) dJ1_rotateLeft_86 rfl rfl rfl ?_
        refine x_putR (n' := 90) (v := some (a)) dJ1_rotateLeft_87 (hP.nk har) ffJ1_111_88 rfl rfl rfl ?_
        refine x_gen (X := fun M9 => PT M9 o t asd (tsL (tsL (tsP (tsP (tsR T p (tL T r)) c (some p)) r (tP T p)) q (some r)) r (some p)) ∧ FK o M M9) ⟨hP.wL har hp.symm, hF.R (Or.inr (hP0.ng har))⟩ (fun M_28 hM9 => ?_)
        obtain ⟨hP, hF⟩ := hM9
        refine x_aload_n (n' := 91) dJ1_rotateLeft_90 rfl rfl rfl ?_
        refine x_aload_n (n' := 92) dJ1_rotateLeft_91 rfl rfl rfl ?_
        refine x_putR (n' := 95) (v := some (ar)) dJ1_rotateLeft_92 (hP.nk hp) ffJ1_124_88 rfl rfl rfl ?_
        refine x_gen (X := fun M9 => PT M9 o t asd (tsP (tsL (tsL (tsP (tsP (tsR T p (tL T r)) c (some p)) r (tP T p)) q (some r)) r (some p)) p (some r)) ∧ FK o M M9) ⟨hP.wP hp har.symm, hF.R (Or.inr (hP0.ng hp))⟩ (fun M_29 hM9 => ?_)
        obtain ⟨hP, hF⟩ := hM9
        exact x_vret dJ1_rotateLeft_95 hret hF.kE (⟨rfl, (show rotLT T p r = (tsP (tsL (tsL (tsP (tsP (tsR T p (tL T r)) c (some p)) r (tP T p)) q (some r)) r (some p)) p (some r)) by simp only [rotLT, rlL, rlR, rlP, rlT, rrL, rrR, rrP, rrT, hpp, hcc, if_pos hlq]; rfl) ▸ hP, hF⟩)

set_option maxHeartbeats 800000 in
set_option maxRecDepth 100000 in
theorem c_J1_rotateLeft__n (l : Launch) (G : kG) (M : kM) (t : Nat) : Kt l G yJ1_rotateLeft cJ1_rotateLeft 3 none 0 0 [.ref t, .null] M (0) (0) (fun v M2 => v = none ∧ M2 = M) := by
  refine Kt.of (own := "java/util/TreeMap") (L := [some (.ref t), some (.null), none]) (by decide +kernel) rfl (Nat.le_of_ble_eq_true rfl) rfl ?_
  intro pp ee ss mm args below meth cd hmn hret
  refine x_aload_nN (n' := 1) dJ1_rotateLeft_0 rfl rfl rfl ?_
  refine x_ifnullN (tgt := 95) dJ1_rotateLeft_1 (by decide) ?_
  exact x_vret dJ1_rotateLeft_95 hret (by repeat' (first | with_reducible exact kE.rf | with_reducible apply kE_A | with_reducible apply kE_I | with_reducible apply kE_L | with_reducible apply kE_R | with_reducible apply kE_O | with_reducible apply kE_G)) (⟨rfl, rfl⟩)

set_option maxHeartbeats 800000 in
set_option maxRecDepth 100000 in
theorem c_J1_rotateRight__s (l : Launch) (G : kG) (M : kM) (o t asd : Nat) (T : kT) (p a r : Nat) (lo hi : Nat → Nat) (hP : PT M o t asd T) (hW : WTT T lo hi) (hp : tN T p = some a) (hr : tL T p = some r) : Kt l G yJ1_rotateRight cJ1_rotateRight 3 none 0 0 [.ref t, .ref a] M (0) (0) (fun v M2 => v = none ∧ PT M2 o t asd (rotRT T p r) ∧ FK o M M2) := by
  refine Kt.of (own := "java/util/TreeMap") (L := [some (.ref t), some (.ref a), none]) (by decide +kernel) rfl (Nat.le_of_ble_eq_true rfl) rfl ?_
  intro pp ee ss mm args below meth cd hmn hret
  have hP0 := hP
  have hF : FK o M M := FK.rf
  obtain ⟨ar, har⟩ : ∃ ar, tN T r = some ar := rot_r (hW.dl (nns hp) hr)
  have hpr : p ≠ r := rot_nl hW hp hr
  refine x_aload_n (n' := 1) dJ1_rotateRight_0 rfl rfl rfl ?_
  refine x_ifnull (n' := 4) dJ1_rotateRight_1 rfl ?_
  refine x_aload_n (n' := 5) dJ1_rotateRight_4 rfl rfl rfl ?_
  refine x_getRs (n' := 8) (b := ar) dJ1_rotateRight_5 (hP.nk hp) ffJ1_111_88 rfl ((hP.l hp).trans (by rw [hr]; exact har)) rfl ?_
  refine x_astore_n (n' := 9) dJ1_rotateRight_8 rfl (Nat.le_of_ble_eq_true rfl) rfl (by dsimp only [List.set] <;> rfl) rfl ?_
  refine x_aload_n (n' := 10) dJ1_rotateRight_9 rfl rfl rfl ?_
  refine x_aload_n (n' := 11) dJ1_rotateRight_10 rfl rfl rfl ?_
  refine x_getR (n' := 14) dJ1_rotateRight_11 (hP.nk har) ffJ1_114_88 rfl rfl ?_
  refine x_putR (n' := 17) (v := (mR M (fc 88 3) ar)) dJ1_rotateRight_14 (hP.nk hp) ffJ1_111_88 rfl rfl rfl ?_
  refine x_gen (X := fun M9 => PT M9 o t asd (tsL T p (tR T r)) ∧ FK o M M9) ⟨hP.wL hp (hP.rr har), hF.R (Or.inr (hP0.ng hp))⟩ (fun M_1 hM9 => ?_)
  obtain ⟨hP, hF⟩ := hM9
  refine x_aload_n (n' := 18) dJ1_rotateRight_17 rfl rfl rfl ?_
  refine x_getRc (n' := 21) dJ1_rotateRight_18 (hP.nk har) ffJ1_114_88 rfl rfl (fun e18_2 => ?_) (fun bc e18_2 => ?_)
  · have hcc : tR T r = none := bn_n (hP.rr har) (by assumption) (fun _ q => hW.dr (nns har) q)
    refine x_ifnullN (tgt := 32) dJ1_rotateRight_21 (by decide) ?_
    refine x_aload_n (n' := 33) dJ1_rotateRight_32 rfl rfl rfl ?_
    refine x_aload_n (n' := 34) dJ1_rotateRight_33 rfl rfl rfl ?_
    refine x_getRc (n' := 37) dJ1_rotateRight_34 (hP.nk hp) ffJ1_124_88 rfl rfl (fun e34_3 => ?_) (fun bq e34_3 => ?_)
    · have hpp : tP T p = none := (rfl : tP T p = tP T p).symm.trans (bn_n (hP.p hp) (by assumption) (fun j q => hW.dp (nns hp) (((rfl : tP T p = tP T p)).symm.trans q)))
      refine x_putR (n' := 40) (v := none) dJ1_rotateRight_37 (hP.nk har) ffJ1_124_88 rfl rfl rfl ?_
      refine x_gen (X := fun M9 => PT M9 o t asd (tsP (tsL T p (tR T r)) r (tP T p)) ∧ FK o M M9) ⟨hP.wP har (by rw [hpp]; first | rfl | exact hq2.symm), hF.R (Or.inr (hP0.ng har))⟩ (fun M_4 hM9 => ?_)
      obtain ⟨hP, hF⟩ := hM9
      refine x_aload_n (n' := 41) dJ1_rotateRight_40 rfl rfl rfl ?_
      refine x_getRn (n' := 44) dJ1_rotateRight_41 (hP.nk hp) ffJ1_124_88 rfl (ro_n (hP.p hp) (((va_up_ne _ _ hpr).trans (rfl : tP T p = tP T p)).trans hpp)) rfl ?_
      refine x_ifnonnullN (n' := 47) dJ1_rotateRight_44 rfl ?_
      refine x_aload_n (n' := 48) dJ1_rotateRight_47 rfl rfl rfl ?_
      refine x_aload_n (n' := 49) dJ1_rotateRight_48 rfl rfl rfl ?_
      refine x_putR (n' := 52) (v := some (ar)) dJ1_rotateRight_49 (hP.k) ffJ1_101_41 rfl rfl rfl ?_
      refine x_gen (X := fun M9 => PT M9 o t asd (tsr (tsP (tsL T p (tR T r)) r (tP T p)) (some r)) ∧ FK o M M9) ⟨hP.wt har.symm, hF.R (Or.inr hP0.g)⟩ (fun M_5 hM9 => ?_)
      obtain ⟨hP, hF⟩ := hM9
      refine x_goto (tgt := 85) dJ1_rotateRight_52 (by decide) ?_
      refine x_aload_n (n' := 86) dJ1_rotateRight_85 rfl rfl rfl ?_
      refine x_aload_n (n' := 87) dJ1_rotateRight_86 rfl rfl rfl ?_
      refine x_putR (n' := 90) (v := some (a)) dJ1_rotateRight_87 (hP.nk har) ffJ1_114_88 rfl rfl rfl ?_
      refine x_gen (X := fun M9 => PT M9 o t asd (tsR (tsr (tsP (tsL T p (tR T r)) r (tP T p)) (some r)) r (some p)) ∧ FK o M M9) ⟨hP.wR har hp.symm, hF.R (Or.inr (hP0.ng har))⟩ (fun M_6 hM9 => ?_)
      obtain ⟨hP, hF⟩ := hM9
      refine x_aload_n (n' := 91) dJ1_rotateRight_90 rfl rfl rfl ?_
      refine x_aload_n (n' := 92) dJ1_rotateRight_91 rfl rfl rfl ?_
      refine x_putR (n' := 95) (v := some (ar)) dJ1_rotateRight_92 (hP.nk hp) ffJ1_124_88 rfl rfl rfl ?_
      refine x_gen (X := fun M9 => PT M9 o t asd (tsP (tsR (tsr (tsP (tsL T p (tR T r)) r (tP T p)) (some r)) r (some p)) p (some r)) ∧ FK o M M9) ⟨hP.wP hp har.symm, hF.R (Or.inr (hP0.ng hp))⟩ (fun M_7 hM9 => ?_)
      obtain ⟨hP, hF⟩ := hM9
      exact x_vret dJ1_rotateRight_95 hret hF.kE (⟨rfl, (show rotRT T p r = (tsP (tsR (tsr (tsP (tsL T p (tR T r)) r (tP T p)) (some r)) r (some p)) p (some r)) by simp only [rotRT, rlL, rlR, rlP, rlT, rrL, rrR, rrP, rrT, hpp, hcc]; rfl) ▸ hP, hF⟩)
    · have k_bq : mK _ bq = some 88 := (by obtain ⟨q, -, h2⟩ := bn_s (hP.p hp) e34_3; exact hP.nk h2)
      obtain ⟨q, hpp, hq2⟩ := bn_s (hP.p hp) (by assumption)
      have hpp : tP T p = some q := (rfl : tP T p = tP T p).symm.trans hpp
      have hq2 : tN T q = some bq := hq2
      refine x_putR (n' := 40) (v := some (bq)) dJ1_rotateRight_37 (hP.nk har) ffJ1_124_88 rfl rfl rfl ?_
      refine x_gen (X := fun M9 => PT M9 o t asd (tsP (tsL T p (tR T r)) r (tP T p)) ∧ FK o M M9) ⟨hP.wP har (by rw [hpp]; first | rfl | exact hq2.symm), hF.R (Or.inr (hP0.ng har))⟩ (fun M_8 hM9 => ?_)
      obtain ⟨hP, hF⟩ := hM9
      refine x_aload_n (n' := 41) dJ1_rotateRight_40 rfl rfl rfl ?_
      refine x_getRs (n' := 44) (b := bq) dJ1_rotateRight_41 (hP.nk hp) ffJ1_124_88 rfl (ro_s (hP.p hp) (((va_up_ne _ _ hpr).trans (rfl : tP T p = tP T p)).trans hpp) hq2) rfl ?_
      refine x_ifnonnull (tgt := 55) dJ1_rotateRight_44 (by decide) ?_
      refine x_aload_n (n' := 56) dJ1_rotateRight_55 rfl rfl rfl ?_
      refine x_getRs (n' := 59) (b := bq) dJ1_rotateRight_56 (hP.nk hp) ffJ1_124_88 rfl (ro_s (hP.p hp) (((va_up_ne _ _ hpr).trans (rfl : tP T p = tP T p)).trans hpp) hq2) rfl ?_
      refine x_getR (n' := 62) dJ1_rotateRight_59 (hP.nk hq2) ffJ1_114_88 rfl rfl ?_
      refine x_aload_n (n' := 63) dJ1_rotateRight_62 rfl rfl rfl ?_
      refine x_acmp_ne (n' := 66) (rx := (mR _ (fc 88 3) bq)) (ry := some (a)) (tgt := 77) dJ1_rotateRight_63 (by decide) rfl (fun c63_9 => ?_) (fun c63_9 => ?_)
      · have hlq : ¬ tR T q = some p := fun h9 => absurd ((hP.rr hq2).trans (by show Option.bind (tR T q) (tN T) = some a; rw [h9]; exact hp)) (by assumption)
        refine x_aload_n (n' := 78) dJ1_rotateRight_77 rfl rfl rfl ?_
        refine x_getRs (n' := 81) (b := bq) dJ1_rotateRight_78 (hP.nk hp) ffJ1_124_88 rfl (ro_s (hP.p hp) (((va_up_ne _ _ hpr).trans (rfl : tP T p = tP T p)).trans hpp) hq2) rfl ?_
        refine x_aload_n (n' := 82) dJ1_rotateRight_81 rfl rfl rfl ?_
        refine x_putR (n' := 85) (v := some (ar)) dJ1_rotateRight_82 (hP.nk hq2) ffJ1_111_88 rfl rfl rfl ?_
        refine x_gen (X := fun M9 => PT M9 o t asd (tsL (tsP (tsL T p (tR T r)) r (tP T p)) q (some r)) ∧ FK o M M9) ⟨hP.wL hq2 har.symm, hF.R (Or.inr (hP0.ng hq2))⟩ (fun M_10 hM9 => ?_)
        obtain ⟨hP, hF⟩ := hM9
        refine x_aload_n (n' := 86) dJ1_rotateRight_85 rfl rfl rfl ?_
        refine x_aload_n (n' := 87) dJ1_rotateRight_86 rfl rfl rfl ?_
        refine x_putR (n' := 90) (v := some (a)) dJ1_rotateRight_87 (hP.nk har) ffJ1_114_88 rfl rfl rfl ?_
        refine x_gen (X := fun M9 => PT M9 o t asd (tsR (tsL (tsP (tsL T p (tR T r)) r (tP T p)) q (some r)) r (some p)) ∧ FK o M M9) ⟨hP.wR har hp.symm, hF.R (Or.inr (hP0.ng har))⟩ (fun M_11 hM9 => ?_)
        obtain ⟨hP, hF⟩ := hM9
        refine x_aload_n (n' := 91) dJ1_rotateRight_90 rfl rfl rfl ?_
        refine x_aload_n (n' := 92) dJ1_rotateRight_91 rfl rfl rfl ?_
        refine x_putR (n' := 95) (v := some (ar)) dJ1_rotateRight_92 (hP.nk hp) ffJ1_124_88 rfl rfl rfl ?_
        refine x_gen (X := fun M9 => PT M9 o t asd (tsP (tsR (tsL (tsP (tsL T p (tR T r)) r (tP T p)) q (some r)) r (some p)) p (some r)) ∧ FK o M M9) ⟨hP.wP hp har.symm, hF.R (Or.inr (hP0.ng hp))⟩ (fun M_12 hM9 => ?_)
        obtain ⟨hP, hF⟩ := hM9
        exact x_vret dJ1_rotateRight_95 hret hF.kE (⟨rfl, (show rotRT T p r = (tsP (tsR (tsL (tsP (tsL T p (tR T r)) r (tP T p)) q (some r)) r (some p)) p (some r)) by simp only [rotRT, rlL, rlR, rlP, rlT, rrL, rrR, rrP, rrT, hpp, hcc, if_neg hlq]; rfl) ▸ hP, hF⟩)
      · have hlq : tR T q = some p := by obtain ⟨j, h1, h2⟩ := bn_s (hP.rr hq2) (by assumption); rw [hP0.inj hp h2]; exact h1
        refine x_aload_n (n' := 67) dJ1_rotateRight_66 rfl rfl rfl ?_
        refine x_getRs (n' := 70) (b := bq) dJ1_rotateRight_67 (hP.nk hp) ffJ1_124_88 rfl (ro_s (hP.p hp) (((va_up_ne _ _ hpr).trans (rfl : tP T p = tP T p)).trans hpp) hq2) rfl ?_
        refine x_aload_n (n' := 71) dJ1_rotateRight_70 rfl rfl rfl ?_
        refine x_putR (n' := 74) (v := some (ar)) dJ1_rotateRight_71 (hP.nk hq2) ffJ1_114_88 rfl rfl rfl ?_
        refine x_gen (X := fun M9 => PT M9 o t asd (tsR (tsP (tsL T p (tR T r)) r (tP T p)) q (some r)) ∧ FK o M M9) ⟨hP.wR hq2 har.symm, hF.R (Or.inr (hP0.ng hq2))⟩ (fun M_13 hM9 => ?_)
        obtain ⟨hP, hF⟩ := hM9
        refine x_goto (tgt := 85) dJ1_rotateRight_74 (by decide) ?_
        refine x_aload_n (n' := 86) dJ1_rotateRight_85 rfl rfl rfl ?_
        refine x_aload_n (n' := 87) dJ1_rotateRight_86 rfl rfl rfl ?_
        refine x_putR (n' := 90) (v := some (a)) dJ1_rotateRight_87 (hP.nk har) ffJ1_114_88 rfl rfl rfl ?_
        refine x_gen (X := fun M9 => PT M9 o t asd (tsR (tsR (tsP (tsL T p (tR T r)) r (tP T p)) q (some r)) r (some p)) ∧ FK o M M9) ⟨hP.wR har hp.symm, hF.R (Or.inr (hP0.ng har))⟩ (fun M_14 hM9 => ?_)
        obtain ⟨hP, hF⟩ := hM9
        refine x_aload_n (n' := 91) dJ1_rotateRight_90 rfl rfl rfl ?_
        refine x_aload_n (n' := 92) dJ1_rotateRight_91 rfl rfl rfl ?_
        refine x_putR (n' := 95) (v := some (ar)) dJ1_rotateRight_92 (hP.nk hp) ffJ1_124_88 rfl rfl rfl ?_
        refine x_gen (X := fun M9 => PT M9 o t asd (tsP (tsR (tsR (tsP (tsL T p (tR T r)) r (tP T p)) q (some r)) r (some p)) p (some r)) ∧ FK o M M9) ⟨hP.wP hp har.symm, hF.R (Or.inr (hP0.ng hp))⟩ (fun M_15 hM9 => ?_)
        obtain ⟨hP, hF⟩ := hM9
        exact x_vret dJ1_rotateRight_95 hret hF.kE (⟨rfl, (show rotRT T p r = (tsP (tsR (tsR (tsP (tsL T p (tR T r)) r (tP T p)) q (some r)) r (some p)) p (some r)) by simp only [rotRT, rlL, rlR, rlP, rlT, rrL, rrR, rrP, rrT, hpp, hcc, if_pos hlq]; rfl) ▸ hP, hF⟩)
  · have k_bc : mK _ bc = some 88 := (by obtain ⟨c, -, h2⟩ := bn_s (hP.rr har) e18_2; exact hP.nk h2)
    obtain ⟨c, hcc, hc2⟩ := bn_s (hP.rr har) (by assumption)
    have hcc : tR T r = some c := hcc
    have hc2 : tN T c = some bc := hc2
    have hcp : p ≠ c := rot_cr hW hp hr hcc
    refine x_ifnull (n' := 24) dJ1_rotateRight_21 rfl ?_
    refine x_aload_n (n' := 25) dJ1_rotateRight_24 rfl rfl rfl ?_
    refine x_getRs (n' := 28) (b := bc) dJ1_rotateRight_25 (hP.nk har) ffJ1_114_88 rfl ((by assumption)) rfl ?_
    refine x_aload_n (n' := 29) dJ1_rotateRight_28 rfl rfl rfl ?_
    refine x_putR (n' := 32) (v := some (a)) dJ1_rotateRight_29 (by repeat' (first | with_reducible exact k_bc | with_reducible apply mK_A | with_reducible apply mK_I | with_reducible apply mK_L | with_reducible apply mK_R | with_reducible apply mK_O | with_reducible apply mK_G | with_reducible refine mK_NA ?_ (by assumption) | with_reducible refine mK_NO ?_ (by assumption))) ffJ1_124_88 rfl rfl rfl ?_
    refine x_gen (X := fun M9 => PT M9 o t asd (tsP (tsL T p (tR T r)) c (some p)) ∧ FK o M M9) ⟨hP.wP hc2 hp.symm, hF.R (Or.inr (hP0.ng hc2))⟩ (fun M_16 hM9 => ?_)
    obtain ⟨hP, hF⟩ := hM9
    refine x_aload_n (n' := 33) dJ1_rotateRight_32 rfl rfl rfl ?_
    refine x_aload_n (n' := 34) dJ1_rotateRight_33 rfl rfl rfl ?_
    refine x_getRc (n' := 37) dJ1_rotateRight_34 (hP.nk hp) ffJ1_124_88 rfl rfl (fun e34_17 => ?_) (fun bq e34_17 => ?_)
    · have hpp : tP T p = none := (va_up_ne _ _ hcp : tP (tsP (tsL T p (tR T r)) c (some p)) p = tP T p).symm.trans (bn_n (hP.p hp) (by assumption) (fun j q => hW.dp (nns hp) (((va_up_ne _ _ hcp : tP (tsP (tsL T p (tR T r)) c (some p)) p = tP T p)).symm.trans q)))
      refine x_putR (n' := 40) (v := none) dJ1_rotateRight_37 (hP.nk har) ffJ1_124_88 rfl rfl rfl ?_
      refine x_gen (X := fun M9 => PT M9 o t asd (tsP (tsP (tsL T p (tR T r)) c (some p)) r (tP T p)) ∧ FK o M M9) ⟨hP.wP har (by rw [hpp]; first | rfl | exact hq2.symm), hF.R (Or.inr (hP0.ng har))⟩ (fun M_18 hM9 => ?_)
      obtain ⟨hP, hF⟩ := hM9
      refine x_aload_n (n' := 41) dJ1_rotateRight_40 rfl rfl rfl ?_
      refine x_getRn (n' := 44) dJ1_rotateRight_41 (hP.nk hp) ffJ1_124_88 rfl (ro_n (hP.p hp) (((va_up_ne _ _ hpr).trans (va_up_ne _ _ hcp : tP (tsP (tsL T p (tR T r)) c (some p)) p = tP T p)).trans hpp)) rfl ?_
      refine x_ifnonnullN (n' := 47) dJ1_rotateRight_44 rfl ?_
      refine x_aload_n (n' := 48) dJ1_rotateRight_47 rfl rfl rfl ?_
      refine x_aload_n (n' := 49) dJ1_rotateRight_48 rfl rfl rfl ?_
      refine x_putR (n' := 52) (v := some (ar)) dJ1_rotateRight_49 (hP.k) ffJ1_101_41 rfl rfl rfl ?_
      refine x_gen (X := fun M9 => PT M9 o t asd (tsr (tsP (tsP (tsL T p (tR T r)) c (some p)) r (tP T p)) (some r)) ∧ FK o M M9) ⟨hP.wt har.symm, hF.R (Or.inr hP0.g)⟩ (fun M_19 hM9 => ?_)
      obtain ⟨hP, hF⟩ := hM9
      refine x_goto (tgt := 85) dJ1_rotateRight_52 (by decide) ?_
      refine x_aload_n (n' := 86) dJ1_rotateRight_85 rfl rfl rfl ?_
      refine x_aload_n (n' := 87) dJ1_rotateRight_86 rfl rfl rfl ?_
      refine x_putR (n' := 90) (v := some (a)) dJ1_rotateRight_87 (hP.nk har) ffJ1_114_88 rfl rfl rfl ?_
      refine x_gen (X := fun M9 => PT M9 o t asd (tsR (tsr (tsP (tsP (tsL T p (tR T r)) c (some p)) r (tP T p)) (some r)) r (some p)) ∧ FK o M M9) ⟨hP.wR har hp.symm, hF.R (Or.inr (hP0.ng har))⟩ (fun M_20 hM9 => ?_)
      obtain ⟨hP, hF⟩ := hM9
      refine x_aload_n (n' := 91) dJ1_rotateRight_90 rfl rfl rfl ?_
      refine x_aload_n (n' := 92) dJ1_rotateRight_91 rfl rfl rfl ?_
      refine x_putR (n' := 95) (v := some (ar)) dJ1_rotateRight_92 (hP.nk hp) ffJ1_124_88 rfl rfl rfl ?_
      refine x_gen (X := fun M9 => PT M9 o t asd (tsP (tsR (tsr (tsP (tsP (tsL T p (tR T r)) c (some p)) r (tP T p)) (some r)) r (some p)) p (some r)) ∧ FK o M M9) ⟨hP.wP hp har.symm, hF.R (Or.inr (hP0.ng hp))⟩ (fun M_21 hM9 => ?_)
      obtain ⟨hP, hF⟩ := hM9
      exact x_vret dJ1_rotateRight_95 hret hF.kE (⟨rfl, (show rotRT T p r = (tsP (tsR (tsr (tsP (tsP (tsL T p (tR T r)) c (some p)) r (tP T p)) (some r)) r (some p)) p (some r)) by simp only [rotRT, rlL, rlR, rlP, rlT, rrL, rrR, rrP, rrT, hpp, hcc]; rfl) ▸ hP, hF⟩)
    · have k_bq : mK _ bq = some 88 := (by obtain ⟨q, -, h2⟩ := bn_s (hP.p hp) e34_17; exact hP.nk h2)
      obtain ⟨q, hpp, hq2⟩ := bn_s (hP.p hp) (by assumption)
      have hpp : tP T p = some q := (va_up_ne _ _ hcp : tP (tsP (tsL T p (tR T r)) c (some p)) p = tP T p).symm.trans hpp
      have hq2 : tN T q = some bq := hq2
      refine x_putR (n' := 40) (v := some (bq)) dJ1_rotateRight_37 (hP.nk har) ffJ1_124_88 rfl rfl rfl ?_
      refine x_gen (X := fun M9 => PT M9 o t asd (tsP (tsP (tsL T p (tR T r)) c (some p)) r (tP T p)) ∧ FK o M M9) ⟨hP.wP har (by rw [hpp]; first | rfl | exact hq2.symm), hF.R (Or.inr (hP0.ng har))⟩ (fun M_22 hM9 => ?_)
      obtain ⟨hP, hF⟩ := hM9
      refine x_aload_n (n' := 41) dJ1_rotateRight_40 rfl rfl rfl ?_
      refine x_getRs (n' := 44) (b := bq) dJ1_rotateRight_41 (hP.nk hp) ffJ1_124_88 rfl (ro_s (hP.p hp) (((va_up_ne _ _ hpr).trans (va_up_ne _ _ hcp : tP (tsP (tsL T p (tR T r)) c (some p)) p = tP T p)).trans hpp) hq2) rfl ?_
      refine x_ifnonnull (tgt := 55) dJ1_rotateRight_44 (by decide) ?_
      refine x_aload_n (n' := 56) dJ1_rotateRight_55 rfl rfl rfl ?_
      refine x_getRs (n' := 59) (b := bq) dJ1_rotateRight_56 (hP.nk hp) ffJ1_124_88 rfl (ro_s (hP.p hp) (((va_up_ne _ _ hpr).trans (va_up_ne _ _ hcp : tP (tsP (tsL T p (tR T r)) c (some p)) p = tP T p)).trans hpp) hq2) rfl ?_
      refine x_getR (n' := 62) dJ1_rotateRight_59 (hP.nk hq2) ffJ1_114_88 rfl rfl ?_
      refine x_aload_n (n' := 63) dJ1_rotateRight_62 rfl rfl rfl ?_
      refine x_acmp_ne (n' := 66) (rx := (mR _ (fc 88 3) bq)) (ry := some (a)) (tgt := 77) dJ1_rotateRight_63 (by decide) rfl (fun c63_23 => ?_) (fun c63_23 => ?_)
      · have hlq : ¬ tR T q = some p := fun h9 => absurd ((hP.rr hq2).trans (by show Option.bind (tR T q) (tN T) = some a; rw [h9]; exact hp)) (by assumption)
        refine x_aload_n (n' := 78) dJ1_rotateRight_77 rfl rfl rfl ?_
        refine x_getRs (n' := 81) (b := bq) dJ1_rotateRight_78 (hP.nk hp) ffJ1_124_88 rfl (ro_s (hP.p hp) (((va_up_ne _ _ hpr).trans (va_up_ne _ _ hcp : tP (tsP (tsL T p (tR T r)) c (some p)) p = tP T p)).trans hpp) hq2) rfl ?_
        refine x_aload_n (n' := 82) dJ1_rotateRight_81 rfl rfl rfl ?_
        refine x_putR (n' := 85) (v := some (ar)) dJ1_rotateRight_82 (hP.nk hq2) ffJ1_111_88 rfl rfl rfl ?_
        refine x_gen (X := fun M9 => PT M9 o t asd (tsL (tsP (tsP (tsL T p (tR T r)) c (some p)) r (tP T p)) q (some r)) ∧ FK o M M9) ⟨hP.wL hq2 har.symm, hF.R (Or.inr (hP0.ng hq2))⟩ (fun M_24 hM9 => ?_)
        obtain ⟨hP, hF⟩ := hM9
        refine x_aload_n (n' := 86) dJ1_rotateRight_85 rfl rfl rfl ?_
        refine x_aload_n (n' := 87) dJ1_rotateRight_86 rfl rfl rfl ?_
        refine x_putR (n' := 90) (v := some (a)) dJ1_rotateRight_87 (hP.nk har) ffJ1_114_88 rfl rfl rfl ?_
        refine x_gen (X := fun M9 => PT M9 o t asd (tsR (tsL (tsP (tsP (tsL T p (tR T r)) c (some p)) r (tP T p)) q (some r)) r (some p)) ∧ FK o M M9) ⟨hP.wR har hp.symm, hF.R (Or.inr (hP0.ng har))⟩ (fun M_25 hM9 => ?_)
        obtain ⟨hP, hF⟩ := hM9
        refine x_aload_n (n' := 91) dJ1_rotateRight_90 rfl rfl rfl ?_
        refine x_aload_n (n' := 92) dJ1_rotateRight_91 rfl rfl rfl ?_
        refine x_putR (n' := 95) (v := some (ar)) dJ1_rotateRight_92 (hP.nk hp) ffJ1_124_88 rfl rfl rfl ?_
        refine x_gen (X := fun M9 => PT M9 o t asd (tsP (tsR (tsL (tsP (tsP (tsL T p (tR T r)) c (some p)) r (tP T p)) q (some r)) r (some p)) p (some r)) ∧ FK o M M9) ⟨hP.wP hp har.symm, hF.R (Or.inr (hP0.ng hp))⟩ (fun M_26 hM9 => ?_)
        obtain ⟨hP, hF⟩ := hM9
        exact x_vret dJ1_rotateRight_95 hret hF.kE (⟨rfl, (show rotRT T p r = (tsP (tsR (tsL (tsP (tsP (tsL T p (tR T r)) c (some p)) r (tP T p)) q (some r)) r (some p)) p (some r)) by simp only [rotRT, rlL, rlR, rlP, rlT, rrL, rrR, rrP, rrT, hpp, hcc, if_neg hlq]; rfl) ▸ hP, hF⟩)
      · have hlq : tR T q = some p := by obtain ⟨j, h1, h2⟩ := bn_s (hP.rr hq2) (by assumption); rw [hP0.inj hp h2]; exact h1
        refine x_aload_n (n' := 67) dJ1_rotateRight_66 rfl rfl rfl ?_
        refine x_getRs (n' := 70) (b := bq) dJ1_rotateRight_67 (hP.nk hp) ffJ1_124_88 rfl (ro_s (hP.p hp) (((va_up_ne _ _ hpr).trans (va_up_ne _ _ hcp : tP (tsP (tsL T p (tR T r)) c (some p)) p = tP T p)).trans hpp) hq2) rfl ?_
        refine x_aload_n (n' := 71) dJ1_rotateRight_70 rfl rfl rfl ?_
        refine x_putR (n' := 74) (v := some (ar)) dJ1_rotateRight_71 (hP.nk hq2) ffJ1_114_88 rfl rfl rfl ?_
        refine x_gen (X := fun M9 => PT M9 o t asd (tsR (tsP (tsP (tsL T p (tR T r)) c (some p)) r (tP T p)) q (some r)) ∧ FK o M M9) ⟨hP.wR hq2 har.symm, hF.R (Or.inr (hP0.ng hq2))⟩ (fun M_27 hM9 => ?_)
        obtain ⟨hP, hF⟩ := hM9
        refine x_goto (tgt := 85) dJ1_rotateRight_74 (by decide) ?_
        refine x_aload_n (n' := 86) dJ1_rotateRight_85 rfl rfl rfl ?_
        refine x_aload_n (n' := 87) dJ1_rotateRight_86 rfl rfl rfl ?_
        refine x_putR (n' := 90) (v := some (a)) dJ1_rotateRight_87 (hP.nk har) ffJ1_114_88 rfl rfl rfl ?_
        refine x_gen (X := fun M9 => PT M9 o t asd (tsR (tsR (tsP (tsP (tsL T p (tR T r)) c (some p)) r (tP T p)) q (some r)) r (some p)) ∧ FK o M M9) ⟨hP.wR har hp.symm, hF.R (Or.inr (hP0.ng har))⟩ (fun M_28 hM9 => ?_)
        obtain ⟨hP, hF⟩ := hM9
        refine x_aload_n (n' := 91) dJ1_rotateRight_90 rfl rfl rfl ?_
        refine x_aload_n (n' := 92) dJ1_rotateRight_91 rfl rfl rfl ?_
        refine x_putR (n' := 95) (v := some (ar)) dJ1_rotateRight_92 (hP.nk hp) ffJ1_124_88 rfl rfl rfl ?_
        refine x_gen (X := fun M9 => PT M9 o t asd (tsP (tsR (tsR (tsP (tsP (tsL T p (tR T r)) c (some p)) r (tP T p)) q (some r)) r (some p)) p (some r)) ∧ FK o M M9) ⟨hP.wP hp har.symm, hF.R (Or.inr (hP0.ng hp))⟩ (fun M_29 hM9 => ?_)
        obtain ⟨hP, hF⟩ := hM9
        exact x_vret dJ1_rotateRight_95 hret hF.kE (⟨rfl, (show rotRT T p r = (tsP (tsR (tsR (tsP (tsP (tsL T p (tR T r)) c (some p)) r (tP T p)) q (some r)) r (some p)) p (some r)) by simp only [rotRT, rlL, rlR, rlP, rlT, rrL, rrR, rrP, rrT, hpp, hcc, if_pos hlq]; rfl) ▸ hP, hF⟩)

set_option maxHeartbeats 800000 in
set_option maxRecDepth 100000 in
theorem c_J1_rotateRight__n (l : Launch) (G : kG) (M : kM) (t : Nat) : Kt l G yJ1_rotateRight cJ1_rotateRight 3 none 0 0 [.ref t, .null] M (0) (0) (fun v M2 => v = none ∧ M2 = M) := by
  refine Kt.of (own := "java/util/TreeMap") (L := [some (.ref t), some (.null), none]) (by decide +kernel) rfl (Nat.le_of_ble_eq_true rfl) rfl ?_
  intro pp ee ss mm args below meth cd hmn hret
  refine x_aload_nN (n' := 1) dJ1_rotateRight_0 rfl rfl rfl ?_
  refine x_ifnullN (tgt := 95) dJ1_rotateRight_1 (by decide) ?_
  exact x_vret dJ1_rotateRight_95 hret (by repeat' (first | with_reducible exact kE.rf | with_reducible apply kE_A | with_reducible apply kE_I | with_reducible apply kE_L | with_reducible apply kE_R | with_reducible apply kE_O | with_reducible apply kE_G)) (⟨rfl, rfl⟩)
