/-- a bit set of one word, v -/
def BT (M : kM) (b d o : Nat) (v : Int32) : Prop := mK M b = some 46 ∧ mG M b = o ∧ mR M (fc 46 0) b = some d ∧ mK M d = some 124 ∧ mG M d = o ∧ mN M d = 1 ∧ mI M (fc 46 1) b = (if v = 0 then 0 else 1) ∧ mL M d 0 = v.toInt64
def bsM (M : kM) (b d : Nat) (v : Int32) : kM := sL (sI M (fc 46 1) b (if v = 0 then 0 else 1)) d (va_up (mL M d) 0 v.toInt64)
theorem BT.bs {M : kM} {b d o : Nat} {v v2 : Int32} (h : BT M b d o v) : BT (bsM M b d v2) b d o v2 := by
  obtain ⟨h1, h2, h3, h4, h5, h6, h7, h8⟩ := h
  refine ⟨h1, h2, h3, h4, h5, h6, ?_, ?_⟩
  · show mI (sI M (fc 46 1) b _) (fc 46 1) b = _
    exact mI_sI
  · show va_up (mL M) d _ d 0 = _
    rw [va_up_self, va_up_self]
theorem BT.fr {M M' : kM} {b d o : Nat} {v : Int32} {S : Nat → Prop} (h : BT M b d o v) (hF : Fr S M M') (hS : ¬ S o) : BT M' b d o v := by
  obtain ⟨h1, h2, h3, h4, h5, h6, h7, h8⟩ := h
  have a := hF.1 b (by rw [h1]; exact fun e => by cases e)
  have s := a.2.2 (by rw [h2]; exact hS)
  have a2 := hF.1 d (by rw [h4]; exact fun e => by cases e)
  have s2 := a2.2.2 (by rw [h5]; exact hS)
  exact ⟨by rw [a.1]; exact h1, by rw [a.2.1]; exact h2, by rw [s.2.1]; exact h3, by rw [a2.1]; exact h4, by rw [a2.2.1]; exact h5, by rw [s2.2.2.1]; exact h6, by rw [s.1]; exact h7, by rw [s2.2.2.2.2.1]; exact h8⟩
theorem sI_eta {M : kM} {c a : Nat} {v : Int32} (h : mI M c a = v) : sI M c a v = M := by
  have e : u2 (mI M) c a v = mI M := by
    funext x y
    unfold u2
    split
    · next q => rw [q.1, q.2]; exact h.symm
    · rfl
  unfold sI; rw [e]; rfl
theorem BT.eta {M : kM} {b d o : Nat} {v : Int32} (h : BT M b d o v) : bsM M b d v = M := by
  unfold bsM
  rw [sI_eta h.2.2.2.2.2.2.1]
  have e : va_up (mL M d) 0 v.toInt64 = mL M d := by rw [← h.2.2.2.2.2.2.2, up_eta]
  rw [e]
  exact sL_eta
theorem bs_bs {M : kM} {b d : Nat} {v v2 : Int32} : bsM (bsM M b d v) b d v2 = bsM M b d v2 := by
  show (_, _, _, _, _, _, _, _) = (_, _, _, _, _, _, _, _)
  have e1 : mL (bsM M b d v) d = va_up (mL M d) 0 v.toInt64 := va_up_self _ _ _
  have e2 : u2 (mI (bsM M b d v)) (fc 46 1) b (if v2 = 0 then 0 else 1) = u2 (mI M) (fc 46 1) b (if v2 = 0 then 0 else 1) := by
    funext x y
    unfold u2
    split
    · rfl
    · next q => exact if_neg q
  have e3 : va_up (mL (bsM M b d v)) d (va_up (mL (bsM M b d v) d) 0 v2.toInt64) = va_up (mL M) d (va_up (mL M d) 0 v2.toInt64) := by
    rw [e1, up_up]; show va_up (va_up (mL M) d _) d _ = _; rw [up_up]
  show (mK M, u2 (mI (bsM M b d v)) (fc 46 1) b (if v2 = 0 then 0 else 1), mR M, mN M, mA M, va_up (mL (bsM M b d v)) d (va_up (mL (bsM M b d v) d) 0 v2.toInt64), mO M, mG M) = _
  rw [e2, e3]; rfl
theorem wi0 : ∀ h, h < 24 → nI h >>> ((6 : Int32) &&& 31) = nI 0 := by decide
theorem sh_1 : ∀ h, h < 24 → (1 : Int64) <<< ((nI h).toInt64 &&& 63) = ((1 : Int32) <<< (nI h &&& 31)).toInt64 := by decide
theorem sh_n : ∀ h, h < 24 → ¬ (1 : Int32) <<< (nI h &&& 31) = 0 := by decide
theorem bs_set {M : kM} {b d o h : Nat} {v : Int32} (hB : BT M b d o v) (hh : h < 24) : sL (sI M (fc 46 1) b 1) d (va_up (mL (sI M (fc 46 1) b 1) d) 0 (mL (sI M (fc 46 1) b 1) d 0 ||| (1 : Int64) <<< ((nI h).toInt64 &&& 63))) = bsM M b d (v ||| (1 : Int32) <<< (nI h &&& 31)) := by
  unfold bsM
  rw [if_neg (fun e => sh_n h hh (Int32.or_eq_zero_iff.mp e).2), Int32.toInt64_or, sh_1 h hh, show mL (sI M (fc 46 1) b 1) d = mL M d from rfl, hB.2.2.2.2.2.2.2]
theorem bs_fr {M : kM} {b d o : Nat} {v v2 : Int32} (h : BT M b d o v) : Fr (fun x => x = o) M (bsM M b d v2) := (Fr.rf.I (Or.inr h.2.1)).L (Or.inr h.2.2.2.2.1)
set_option maxHeartbeats 800000 in
set_option maxRecDepth 100000 in
theorem c_J6_wordIndex (l : Launch) (G : kG) (M : kM) (x : Int32) : Kt l G yJ6_wordIndex cJ6_wordIndex 1 (some .int) 0 0 [.int x] M (0) (0) (fun v M2 => v = some (.int (x >>> (6 &&& 31))) ∧ M2 = M) := by
  refine Kt.of (own := "java/util/BitSet") (L := [some (.int x)]) (by decide +kernel) rfl (Nat.le_of_ble_eq_true rfl) rfl ?_
  intro pp ee ss mm args below meth cd hmn hret
  refine x_iload_n (n' := 1) dJ6_wordIndex_0 rfl rfl rfl ?_
  refine x_bipush (n' := 3) (v := 6) dJ6_wordIndex_1 (by decide) rfl ?_
  refine x_ishr (n' := 4) dJ6_wordIndex_3 rfl ?_
  exact x_iret dJ6_wordIndex_4 hret (by repeat' (first | with_reducible exact kE.rf | with_reducible apply kE_A | with_reducible apply kE_I | with_reducible apply kE_L | with_reducible apply kE_R | with_reducible apply kE_O | with_reducible apply kE_G)) (⟨rfl, rfl⟩)

set_option maxHeartbeats 800000 in
set_option maxRecDepth 100000 in
theorem c_J6_checkInvariants (l : Launch) (G : kG) (M : kM) (b : Nat) : Kt l G yJ6_checkInvariants cJ6_checkInvariants 1 none 0 0 [.ref b] M (0) (0) (fun v M2 => v = none ∧ M2 = M) := by
  refine Kt.of (own := "java/util/BitSet") (L := [some (.ref b)]) (by decide +kernel) rfl (Nat.le_of_ble_eq_true rfl) rfl ?_
  intro pp ee ss mm args below meth cd hmn hret
  refine x_gets (n' := 3) dJ6_checkInvariants_0 (List.mem_of_getElem? (i := 7) rfl) q2633 rfl ?_
  refine x_if_ne (n' := 6) (tgt := 37) dJ6_checkInvariants_3 (by decide) rfl (fun c3_1 => ?_) (fun c3_1 => by first | exact absurd c3_1 (by decide) | exact absurd (by decide) c3_1)
  refine x_gets (n' := 40) dJ6_checkInvariants_37 (List.mem_of_getElem? (i := 7) rfl) q2633 rfl ?_
  refine x_if_ne (n' := 43) (tgt := 70) dJ6_checkInvariants_40 (by decide) rfl (fun c40_2 => ?_) (fun c40_2 => by first | exact absurd c40_2 (by decide) | exact absurd (by decide) c40_2)
  refine x_gets (n' := 73) dJ6_checkInvariants_70 (List.mem_of_getElem? (i := 7) rfl) q2633 rfl ?_
  refine x_if_ne (n' := 76) (tgt := 110) dJ6_checkInvariants_73 (by decide) rfl (fun c73_3 => ?_) (fun c73_3 => by first | exact absurd c73_3 (by decide) | exact absurd (by decide) c73_3)
  exact x_vret dJ6_checkInvariants_110 hret (by repeat' (first | with_reducible exact kE.rf | with_reducible apply kE_A | with_reducible apply kE_I | with_reducible apply kE_L | with_reducible apply kE_R | with_reducible apply kE_O | with_reducible apply kE_G)) (⟨rfl, rfl⟩)

theorem ffJ6_11_46 : FF "java/util/BitSet" 11 46 0 "java/util/BitSet" := ⟨by decide, by decide, q679, Or.inl rfl⟩
set_option maxHeartbeats 800000 in
set_option maxRecDepth 100000 in
theorem c_J6_ensureCapacity (l : Launch) (G : kG) (M : kM) (b d o : Nat) (v : Int32) (hB : BT M b d o v) : Kt l G yJ6_ensureCapacity cJ6_ensureCapacity 3 none 0 0 [.ref b, .int (nI 1)] M (0) (0) (fun v M2 => v = none ∧ M2 = M) := by
  refine Kt.of (own := "java/util/BitSet") (L := [some (.ref b), some (.int (nI 1)), none]) (by decide +kernel) rfl (Nat.le_of_ble_eq_true rfl) rfl ?_
  intro pp ee ss mm args below meth cd hmn hret
  refine x_aload_n (n' := 1) dJ6_ensureCapacity_0 rfl rfl rfl ?_
  refine x_getRs (n' := 4) (b := d) dJ6_ensureCapacity_1 (hB.1) ffJ6_11_46 rfl (hB.2.2.1) rfl ?_
  refine x_alen (n' := 5) (K := 124) dJ6_ensureCapacity_4 (hB.2.2.2.1) (by decide) (by decide) rfl ?_
  refine x_topv (congrArg nI hB.2.2.2.2.2.1) ?_
  refine x_iload_n (n' := 6) dJ6_ensureCapacity_5 rfl rfl rfl ?_
  refine x_icmp_ge (n' := 9) (tgt := 38) dJ6_ensureCapacity_6 (by decide) rfl (fun c6_1 => ?_) (fun c6_1 => absurd (by decide) c6_1)
  exact x_vret dJ6_ensureCapacity_38 hret (by repeat' (first | with_reducible exact kE.rf | with_reducible apply kE_A | with_reducible apply kE_I | with_reducible apply kE_L | with_reducible apply kE_R | with_reducible apply kE_O | with_reducible apply kE_G)) (⟨rfl, rfl⟩)

theorem ffJ6_7_46 : FF "java/util/BitSet" 7 46 1 "java/util/BitSet" := ⟨by decide, by decide, q680, Or.inl rfl⟩
set_option maxHeartbeats 800000 in
set_option maxRecDepth 100000 in
theorem c_J6_expandTo (l : Launch) (G : kG) (M : kM) (b d o : Nat) (v : Int32) (hB : BT M b d o v) : Kt l G yJ6_expandTo cJ6_expandTo 3 none 1 22 [.ref b, .int (nI 0)] M (0) (0) (fun v M2 => v = none ∧ M2 = sI M (fc 46 1) b 1) := by
  refine Kt.of (own := "java/util/BitSet") (L := [some (.ref b), some (.int (nI 0)), none]) (by decide +kernel) rfl (Nat.le_of_ble_eq_true rfl) rfl ?_
  intro pp ee ss mm args below meth cd hmn hret
  refine x_iload_n (n' := 1) dJ6_expandTo_0 rfl rfl rfl ?_
  refine x_iconst (n' := 2) (v := 1) dJ6_expandTo_1 (by decide) rfl ?_
  refine x_iadd (n' := 3) dJ6_expandTo_2 rfl ?_
  refine x_istore_n (n' := 4) dJ6_expandTo_3 rfl (Nat.le_of_ble_eq_true rfl) rfl (by dsimp only [List.set] <;> rfl) rfl ?_
  refine x_loc (i := 2) (y := nI 1) rfl (by decide) rfl ?_
  refine x_aload_n (n' := 5) dJ6_expandTo_4 rfl rfl rfl ?_
  refine x_getI (n' := 8) dJ6_expandTo_5 (hB.1) ffJ6_7_46 rfl rfl ?_
  refine x_topv hB.2.2.2.2.2.2.1 ?_
  refine x_iload_n (n' := 9) dJ6_expandTo_8 rfl rfl rfl ?_
  refine x_icmp_ge (n' := 12) (tgt := 22) dJ6_expandTo_9 (by decide) rfl (fun c9_1 => ?_) (fun c9_1 => ?_)
  · exact x_vret dJ6_expandTo_22 hret (by repeat' (first | with_reducible exact kE.rf | with_reducible apply kE_A | with_reducible apply kE_I | with_reducible apply kE_L | with_reducible apply kE_R | with_reducible apply kE_O | with_reducible apply kE_G)) (⟨rfl, (sI_eta (hB.2.2.2.2.2.2.1.trans (if_neg (fun e9 => absurd (show nI 1 ≤ _ from by assumption) (by rw [if_pos e9]; decide))))).symm⟩)
  · refine x_aload_n (n' := 13) dJ6_expandTo_12 rfl rfl rfl ?_
    refine x_iload_n (n' := 14) dJ6_expandTo_13 rfl rfl rfl ?_
    refine x_callV (n' := 17) (n := 1) (K := 46) (c_J6_ensureCapacity l G _ b d o v hB) dJ6_expandTo_14 (hB.1) rfl (lw_V q2616 q2618 qs34 q91 q2619) (by decide +kernel) ⟨(Nat.le_of_ble_eq_true rfl), (Nat.le_of_ble_eq_true rfl)⟩ rfl rfl (Nat.le_of_ble_eq_true rfl) (by first | exact Nat.le_of_ble_eq_true rfl | omega) (by first | exact Nat.le_of_ble_eq_true rfl | omega) rfl (fun v_2 M_3 h_5 hE_4 => ?_)
    obtain ⟨rfl, hMs⟩ := h_5
    have hMs := hMs.symm
    subst hMs
    refine x_aload_n (n' := 18) dJ6_expandTo_17 rfl rfl rfl ?_
    refine x_iload_n (n' := 19) dJ6_expandTo_18 rfl rfl rfl ?_
    refine x_putI (n' := 22) dJ6_expandTo_19 (hB.1) ffJ6_7_46 rfl (⟨rfl, rfl⟩) rfl rfl ?_
    exact x_vret dJ6_expandTo_22 hret (by repeat' (first | with_reducible exact kE.rf | with_reducible exact hE_4 | with_reducible apply kE_A | with_reducible apply kE_I | with_reducible apply kE_L | with_reducible apply kE_R | with_reducible apply kE_O | with_reducible apply kE_G | with_reducible refine kE.tr ?_ hE_4)) (⟨rfl, rfl⟩)

set_option maxHeartbeats 800000 in
set_option maxRecDepth 100000 in
theorem c_J6_set (l : Launch) (G : kG) (M : kM) (b d o : Nat) (v : Int32) (h : Nat) (hB : BT M b d o v) (hh : h < 24) : Kt l G yJ6_set cJ6_set 3 none 2 44 [.ref b, .int (nI h)] M (0) (0) (fun v9 M2 => v9 = none ∧ M2 = bsM M b d (v ||| (1 : Int32) <<< (nI h &&& 31))) := by
  refine Kt.of (own := "java/util/BitSet") (L := [some (.ref b), some (.int (nI h)), none]) (by decide +kernel) rfl (Nat.le_of_ble_eq_true rfl) rfl ?_
  intro pp ee ss mm args below meth cd hmn hret
  refine x_iload_n (n' := 1) dJ6_set_0 rfl rfl rfl ?_
  refine x_if_ge (n' := 4) (tgt := 31) dJ6_set_1 (by decide) rfl (fun c1_1 => ?_) (fun c1_1 => absurd (nI_nn (by omega)) c1_1)
  refine x_iload_n (n' := 32) dJ6_set_31 rfl rfl rfl ?_
  refine x_callS (n' := 35) (n := 1) (c_J6_wordIndex l G _ (nI h)) dJ6_set_32 (lw_S q676 q677 q91 q678) (by decide +kernel) ⟨(Nat.le_of_ble_eq_true rfl), (Nat.le_of_ble_eq_true rfl)⟩ rfl rfl (Nat.le_of_ble_eq_true rfl) (by first | exact Nat.le_of_ble_eq_true rfl | omega) (by first | exact Nat.le_of_ble_eq_true rfl | omega) rfl (fun v_2 M_3 h_5 hE_4 => ?_)
  obtain ⟨rfl, hMs⟩ := h_5
  have hMs := hMs.symm
  subst hMs
  refine x_topv (wi0 h hh) ?_
  refine x_istore_n (n' := 36) dJ6_set_35 rfl (Nat.le_of_ble_eq_true rfl) rfl (by dsimp only [List.set] <;> rfl) rfl ?_
  refine x_aload_n (n' := 37) dJ6_set_36 rfl rfl rfl ?_
  refine x_iload_n (n' := 38) dJ6_set_37 rfl rfl rfl ?_
  refine x_callV (n' := 41) (n := 1) (K := 46) (c_J6_expandTo l G _ b d o v hB) dJ6_set_38 (hB.1) rfl (lw_V q2612 q2614 qs33 q91 q2615) (by decide +kernel) ⟨(Nat.le_of_ble_eq_true rfl), (Nat.le_of_ble_eq_true rfl)⟩ rfl rfl (Nat.le_of_ble_eq_true rfl) (by first | exact Nat.le_of_ble_eq_true rfl | omega) (by first | exact Nat.le_of_ble_eq_true rfl | omega) rfl (fun v_6 M_7 h_9 hE_8 => ?_)
  obtain ⟨rfl, hMs⟩ := h_9
  have hMs := hMs.symm
  subst hMs
  refine x_aload_n (n' := 42) dJ6_set_41 rfl rfl rfl ?_
  refine x_getRs (n' := 45) (b := d) dJ6_set_42 (hB.1) ffJ6_11_46 rfl (hB.2.2.1) rfl ?_
  refine x_iload_n (n' := 46) dJ6_set_45 rfl rfl rfl ?_
  refine x_dup2_11 (n' := 47) dJ6_set_46 rfl rfl rfl ?_
  refine x_lldk (n' := 48) (N := 1) dJ6_set_47 (hB.2.2.2.1) (hB.2.2.2.2.2.1) (by repeat' (first | with_reducible exact nl_0 | with_reducible exact rfl | apply i_add | apply i_mul)) (by omega) (by decide) rfl rfl ?_
  refine x_lconst (n' := 49) (v := 1) dJ6_set_48 (by decide) rfl ?_
  refine x_iload_n (n' := 50) dJ6_set_49 rfl rfl rfl ?_
  refine x_lshl (n' := 51) dJ6_set_50 rfl rfl ?_
  refine x_lor (n' := 52) dJ6_set_51 rfl ?_
  refine x_lastk (n' := 53) (N := 1) dJ6_set_52 (hB.2.2.2.1) (hB.2.2.2.2.2.1) (by repeat' (first | with_reducible exact nl_0 | with_reducible exact rfl | apply i_add | apply i_mul)) (by omega) (by decide) (by first | with_reducible exact mL_sL | rfl) (by first | with_reducible exact sL_sL | rfl) rfl ?_
  refine x_aload_n (n' := 54) dJ6_set_53 rfl rfl rfl ?_
  refine x_callV (n' := 57) (n := 0) (K := 46) (c_J6_checkInvariants l G _ b) dJ6_set_54 (hB.1) rfl (lw_V q2629 q2631 qs35 q91 q2632) (by decide +kernel) ⟨(Nat.le_of_ble_eq_true rfl), (Nat.le_of_ble_eq_true rfl)⟩ rfl rfl (Nat.le_of_ble_eq_true rfl) (by first | exact Nat.le_of_ble_eq_true rfl | omega) (by first | exact Nat.le_of_ble_eq_true rfl | omega) rfl (fun v_10 M_11 h_13 hE_12 => ?_)
  obtain ⟨rfl, hMs⟩ := h_13
  have hMs := hMs.symm
  subst hMs
  exact x_vret dJ6_set_57 hret (bs_set hB hh ▸ (bs_fr hB).kE) (⟨rfl, bs_set hB hh⟩)

set_option maxHeartbeats 800000 in
set_option maxRecDepth 100000 in
theorem c_J6_clear (l : Launch) (G : kG) (M : kM) (b d o : Nat) (v : Int32) (hB : BT M b d o v) : Kt l G yJ6_clear cJ6_clear 1 none 0 0 [.ref b] M (0) (0) (fun v9 M2 => v9 = none ∧ M2 = bsM M b d 0) := by
  refine Kt.of (own := "java/util/BitSet") (L := [some (.ref b)]) (by decide +kernel) rfl (Nat.le_of_ble_eq_true rfl) rfl ?_
  intro pp ee ss mm args below meth cd hmn hret
  have hB0 := hB
  have cut0 : ∀ (fuel : Nat) (v1 : Int32) (M1 : kM) (h9 : (if v1 = 0 then 0 else 1) < fuel) (hB : BT M1 b d o v1) (hM : bsM M1 b d 0 = bsM M b d 0), Wx pp l ee { frames := 0, cells := 0, slots := 0, locals := 0 } ss mm args below meth cd "java/util/BitSet" cJ6_clear 1 G (MQ below (KQ G M (fun v9 M2 => v9 = none ∧ M2 = bsM M b d 0)) args ss (0) (0) (kA G)) 0 [some (.ref b)] [] (M1) (0) (0) := by
    intro fuel
    induction fuel with
    | zero => intro v1 M1 h9 hB hM; omega
    | succ fuel ih =>
      intro v1 M1 h9 hB hM
      refine x_aload_n (n' := 1) dJ6_clear_0 rfl rfl rfl ?_
      refine x_getI (n' := 4) dJ6_clear_1 (hB.1) ffJ6_7_46 rfl rfl ?_
      refine x_topv hB.2.2.2.2.2.2.1 ?_
      refine x_if_le (n' := 7) (tgt := 27) dJ6_clear_4 (by decide) rfl (fun c4_1 => ?_) (fun c4_1 => ?_)
      · have hv1 : v1 = 0 := Decidable.byContradiction (fun e9 => absurd (show (if v1 = 0 then (0 : Int32) else 1) ≤ 0 from by assumption) (by rw [if_neg e9]; decide))
        subst hv1
        have hM2 : M1 = bsM M b d 0 := hB.eta.symm.trans hM
        have hE9 : kE M M1 := by rw [hM2]; exact (bs_fr hB0).kE
        exact x_vret dJ6_clear_27 hret hE9 (⟨rfl, hM2⟩)
      · refine x_aload_n (n' := 8) dJ6_clear_7 rfl rfl rfl ?_
        have hv9 : ¬ v1 = 0 := fun e9 => absurd (by rw [if_pos e9]; decide) (by assumption : ¬ (if v1 = 0 then (0 : Int32) else 1) ≤ 0)
        refine x_getRs (n' := 11) (b := d) dJ6_clear_8 (hB.1) ffJ6_11_46 rfl (hB.2.2.1) rfl ?_
        refine x_aload_n (n' := 12) dJ6_clear_11 rfl rfl rfl ?_
        refine x_dup (n' := 13) dJ6_clear_12 rfl rfl ?_
        refine x_getI (n' := 16) dJ6_clear_13 (hB.1) ffJ6_7_46 rfl rfl ?_
        refine x_topv hB.2.2.2.2.2.2.1 ?_
        refine x_iconst (n' := 17) (v := 1) dJ6_clear_16 (by decide) rfl ?_
        refine x_isub (n' := 18) dJ6_clear_17 rfl ?_
        refine x_topv (y := nI 0) (by rw [if_neg hv9]; decide) ?_
        refine x_dup_x1 (n' := 19) dJ6_clear_18 rfl rfl rfl ?_
        refine x_putI (n' := 22) dJ6_clear_19 (hB.1) ffJ6_7_46 rfl (⟨rfl, rfl⟩) rfl rfl ?_
        refine x_lconst (n' := 23) (v := 0) dJ6_clear_22 (by decide) rfl ?_
        refine x_lastk (n' := 24) (N := 1) dJ6_clear_23 (hB.2.2.2.1) (hB.2.2.2.2.2.1) (by repeat' (first | with_reducible exact nl_0 | with_reducible exact nl_1 | with_reducible exact rfl | apply i_add | apply i_mul)) (by omega) (by decide) (by first | with_reducible exact mL_sL | rfl) (by first | with_reducible exact sL_sL | rfl) rfl ?_
        refine x_mem (M2 := bsM M1 b d 0) rfl ?_
        refine x_goto (tgt := 0) dJ6_clear_24 (by decide) ?_
        exact x_drop (ih 0 _ (by rw [if_neg hv9] at h9; rw [if_pos rfl]; omega) hB.bs (bs_bs.trans hM)) ⟨rfl, trivial⟩
  exact x_drop (cut0 2 v _ (by split <;> omega) hB rfl) ⟨rfl, trivial⟩

theorem or_m {M : kM} {b d o b2 d2 o2 : Nat} {v : Int32} (hB : BT M b d o 0) (hB2 : BT M b2 d2 o2 v) : sL (sI M (fc 46 1) b (nI 1)) d (va_cpy (mL (sI M (fc 46 1) b (nI 1)) d2) (mL (sI M (fc 46 1) b (nI 1)) d) 0 0 1) = sL (sI M (fc 46 1) b 1) d (va_up (mL M d) 0 v.toInt64) := by
  have e : va_cpy (mL (sI M (fc 46 1) b (nI 1)) d2) (mL (sI M (fc 46 1) b (nI 1)) d) 0 0 1 = va_up (mL M d) 0 v.toInt64 := by
    funext k
    unfold va_cpy va_up
    by_cases h : k = 0
    · subst h; exact hB2.2.2.2.2.2.2.2
    · rw [if_neg h, if_neg (by omega)]; rfl
  rw [e]; rfl
set_option maxHeartbeats 800000 in
set_option maxRecDepth 100000 in
theorem c_J6_or__z (l : Launch) (G : kG) (M : kM) (d o b b2 d2 o2 : Nat) (v : Int32) (hB : BT M b d o 0) (hB2 : BT M b2 d2 o2 v) (hne : b ≠ b2) (hv : v = 0) : Kt l G yJ6_or cJ6_or 4 none 1 50 [.ref b, .ref b2] M (0) (0) (fun v9 M2 => v9 = none ∧ M2 = bsM M b d v) := by
  refine Kt.of (own := "java/util/BitSet") (L := [some (.ref b), some (.ref b2), none, none]) (by decide +kernel) rfl (Nat.le_of_ble_eq_true rfl) rfl ?_
  intro pp ee ss mm args below meth cd hmn hret
  have u1 : mI M (fc 46 1) b = nI 0 := hB.2.2.2.2.2.2.1
  have u2 : mI M (fc 46 1) b2 = nI 0 := hB2.2.2.2.2.2.2.1.trans (if_pos hv)
  have hbs := (bs_fr (v2 := v) hB).kE
  refine x_aload_n (n' := 1) dJ6_or_0 rfl rfl rfl ?_
  refine x_aload_n (n' := 2) dJ6_or_1 rfl rfl rfl ?_
  refine x_acmp_ne (n' := 5) (rx := some (b)) (ry := some (b2)) (tgt := 6) dJ6_or_2 (by decide) rfl (fun c2_1 => ?_) (fun c2_1 => absurd (by cases c2_1; rfl) hne)
  refine x_aload_n (n' := 7) dJ6_or_6 rfl rfl rfl ?_
  refine x_getI (n' := 10) dJ6_or_7 (hB.1) ffJ6_7_46 rfl rfl ?_
  refine x_topv u1 ?_
  refine x_aload_n (n' := 11) dJ6_or_10 rfl rfl rfl ?_
  refine x_getI (n' := 14) dJ6_or_11 (hB2.1) ffJ6_7_46 rfl rfl ?_
  refine x_topv u2 ?_
  refine x_mmin (n' := 17) dJ6_or_14 q2919 q496 q101 q497 ⟨(Nat.le_of_ble_eq_true rfl), (Nat.le_of_ble_eq_true rfl)⟩ (Nat.le_of_ble_eq_true rfl) rfl ?_
  refine x_topv (y := nI 0) (by decide) ?_
  refine x_istore_n (n' := 18) dJ6_or_17 rfl (Nat.le_of_ble_eq_true rfl) rfl (by dsimp only [List.set] <;> rfl) rfl ?_
  refine x_aload_n (n' := 19) dJ6_or_18 rfl rfl rfl ?_
  refine x_getI (n' := 22) dJ6_or_19 (hB.1) ffJ6_7_46 rfl rfl ?_
  refine x_topv u1 ?_
  refine x_aload_n (n' := 23) dJ6_or_22 rfl rfl rfl ?_
  refine x_getI (n' := 26) dJ6_or_23 (hB2.1) ffJ6_7_46 rfl rfl ?_
  refine x_topv u2 ?_
  refine x_icmp_ge (n' := 29) (tgt := 45) dJ6_or_26 (by decide) rfl (fun c26_2 => ?_) (fun c26_2 => absurd (by decide) c26_2)
  refine x_iconst (n' := 46) (v := 0) dJ6_or_45 (by decide) rfl ?_
  refine x_istore_n (n' := 47) dJ6_or_46 rfl (Nat.le_of_ble_eq_true rfl) rfl (by dsimp only [List.set] <;> rfl) rfl ?_
  refine x_iload_n (n' := 48) dJ6_or_47 rfl rfl rfl ?_
  refine x_iload_n (n' := 49) dJ6_or_48 rfl rfl rfl ?_
  refine x_icmp_ge (n' := 52) (tgt := 73) dJ6_or_49 (by decide) rfl (fun c49_3 => ?_) (fun c49_3 => absurd (by decide) c49_3)
  refine x_iload_n (n' := 74) dJ6_or_73 rfl rfl rfl ?_
  refine x_aload_n (n' := 75) dJ6_or_74 rfl rfl rfl ?_
  refine x_getI (n' := 78) dJ6_or_75 (hB2.1) ffJ6_7_46 rfl rfl ?_
  refine x_topv (u2) ?_
  refine x_icmp_ge (n' := 81) (tgt := 100) dJ6_or_78 (by decide) rfl (fun c78_4 => ?_) (fun c78_4 => absurd (by decide) c78_4)
  refine x_aload_n (n' := 101) dJ6_or_100 rfl rfl rfl ?_
  refine x_callV (n' := 104) (n := 0) (K := 46) (c_J6_checkInvariants l G _ b) dJ6_or_101 (hB.1) rfl (lw_V q2629 q2631 qs35 q91 q2632) (by decide +kernel) ⟨(Nat.le_of_ble_eq_true rfl), (Nat.le_of_ble_eq_true rfl)⟩ rfl rfl (Nat.le_of_ble_eq_true rfl) (by first | exact Nat.le_of_ble_eq_true rfl | omega) (by first | exact Nat.le_of_ble_eq_true rfl | omega) rfl (fun v_5 M_6 h_8 hE_7 => ?_)
  obtain ⟨rfl, hMs⟩ := h_8
  have hMs := hMs.symm
  subst hMs
  exact x_vret dJ6_or_104 hret (by repeat' (first | with_reducible exact kE.rf | with_reducible exact hE_7 | with_reducible apply kE_A | with_reducible apply kE_I | with_reducible apply kE_L | with_reducible apply kE_R | with_reducible apply kE_O | with_reducible apply kE_G | with_reducible refine kE.tr ?_ hE_7)) (⟨rfl, by subst hv; exact hB.eta.symm⟩)

set_option maxHeartbeats 800000 in
set_option maxRecDepth 100000 in
theorem c_J6_or__n (l : Launch) (G : kG) (M : kM) (d o b b2 d2 o2 : Nat) (v : Int32) (hB : BT M b d o 0) (hB2 : BT M b2 d2 o2 v) (hne : b ≠ b2) (hv : ¬ v = 0) : Kt l G yJ6_or cJ6_or 4 none 1 50 [.ref b, .ref b2] M (0) (0) (fun v9 M2 => v9 = none ∧ M2 = bsM M b d v) := by
  refine Kt.of (own := "java/util/BitSet") (L := [some (.ref b), some (.ref b2), none, none]) (by decide +kernel) rfl (Nat.le_of_ble_eq_true rfl) rfl ?_
  intro pp ee ss mm args below meth cd hmn hret
  have u1 : mI M (fc 46 1) b = nI 0 := hB.2.2.2.2.2.2.1
  have u2 : mI M (fc 46 1) b2 = nI 1 := hB2.2.2.2.2.2.2.1.trans (if_neg hv)
  have hbs := (bs_fr (v2 := v) hB).kE
  refine x_aload_n (n' := 1) dJ6_or_0 rfl rfl rfl ?_
  refine x_aload_n (n' := 2) dJ6_or_1 rfl rfl rfl ?_
  refine x_acmp_ne (n' := 5) (rx := some (b)) (ry := some (b2)) (tgt := 6) dJ6_or_2 (by decide) rfl (fun c2_1 => ?_) (fun c2_1 => absurd (by cases c2_1; rfl) hne)
  refine x_aload_n (n' := 7) dJ6_or_6 rfl rfl rfl ?_
  refine x_getI (n' := 10) dJ6_or_7 (hB.1) ffJ6_7_46 rfl rfl ?_
  refine x_topv u1 ?_
  refine x_aload_n (n' := 11) dJ6_or_10 rfl rfl rfl ?_
  refine x_getI (n' := 14) dJ6_or_11 (hB2.1) ffJ6_7_46 rfl rfl ?_
  refine x_topv u2 ?_
  refine x_mmin (n' := 17) dJ6_or_14 q2919 q496 q101 q497 ⟨(Nat.le_of_ble_eq_true rfl), (Nat.le_of_ble_eq_true rfl)⟩ (Nat.le_of_ble_eq_true rfl) rfl ?_
  refine x_topv (y := nI 0) (by decide) ?_
  refine x_istore_n (n' := 18) dJ6_or_17 rfl (Nat.le_of_ble_eq_true rfl) rfl (by dsimp only [List.set] <;> rfl) rfl ?_
  refine x_aload_n (n' := 19) dJ6_or_18 rfl rfl rfl ?_
  refine x_getI (n' := 22) dJ6_or_19 (hB.1) ffJ6_7_46 rfl rfl ?_
  refine x_topv u1 ?_
  refine x_aload_n (n' := 23) dJ6_or_22 rfl rfl rfl ?_
  refine x_getI (n' := 26) dJ6_or_23 (hB2.1) ffJ6_7_46 rfl rfl ?_
  refine x_topv u2 ?_
  refine x_icmp_ge (n' := 29) (tgt := 45) dJ6_or_26 (by decide) rfl (fun c26_2 => absurd c26_2 (by decide)) (fun c26_2 => ?_)
  refine x_aload_n (n' := 30) dJ6_or_29 rfl rfl rfl ?_
  refine x_aload_n (n' := 31) dJ6_or_30 rfl rfl rfl ?_
  refine x_getI (n' := 34) dJ6_or_31 (hB2.1) ffJ6_7_46 rfl rfl ?_
  refine x_topv u2 ?_
  refine x_callV (n' := 37) (n := 1) (K := 46) (c_J6_ensureCapacity l G _ b d o 0 hB) dJ6_or_34 (hB.1) rfl (lw_V q2616 q2618 qs34 q91 q2619) (by decide +kernel) ⟨(Nat.le_of_ble_eq_true rfl), (Nat.le_of_ble_eq_true rfl)⟩ rfl rfl (Nat.le_of_ble_eq_true rfl) (by first | exact Nat.le_of_ble_eq_true rfl | omega) (by first | exact Nat.le_of_ble_eq_true rfl | omega) rfl (fun v_3 M_4 h_6 hE_5 => ?_)
  obtain ⟨rfl, hMs⟩ := h_6
  have hMs := hMs.symm
  subst hMs
  refine x_aload_n (n' := 38) dJ6_or_37 rfl rfl rfl ?_
  refine x_aload_n (n' := 39) dJ6_or_38 rfl rfl rfl ?_
  refine x_getI (n' := 42) dJ6_or_39 (hB2.1) ffJ6_7_46 rfl rfl ?_
  refine x_topv u2 ?_
  refine x_putI (n' := 45) dJ6_or_42 (hB.1) ffJ6_7_46 rfl (⟨rfl, rfl⟩) rfl rfl ?_
  refine x_iconst (n' := 46) (v := 0) dJ6_or_45 (by decide) rfl ?_
  refine x_istore_n (n' := 47) dJ6_or_46 rfl (Nat.le_of_ble_eq_true rfl) rfl (by dsimp only [List.set] <;> rfl) rfl ?_
  refine x_iload_n (n' := 48) dJ6_or_47 rfl rfl rfl ?_
  refine x_iload_n (n' := 49) dJ6_or_48 rfl rfl rfl ?_
  refine x_icmp_ge (n' := 52) (tgt := 73) dJ6_or_49 (by decide) rfl (fun c49_7 => ?_) (fun c49_7 => absurd (by decide) c49_7)
  refine x_iload_n (n' := 74) dJ6_or_73 rfl rfl rfl ?_
  refine x_aload_n (n' := 75) dJ6_or_74 rfl rfl rfl ?_
  refine x_getI (n' := 78) dJ6_or_75 (hB2.1) ffJ6_7_46 rfl rfl ?_
  refine x_topv ((mI_sI_a (fun e => hne e.symm)).trans u2) ?_
  refine x_icmp_ge (n' := 81) (tgt := 100) dJ6_or_78 (by decide) rfl (fun c78_8 => absurd c78_8 (by decide)) (fun c78_8 => ?_)
  refine x_aload_n (n' := 82) dJ6_or_81 rfl rfl rfl ?_
  refine x_getRs (n' := 85) (b := d2) dJ6_or_82 (hB2.1) ffJ6_11_46 rfl (hB2.2.2.1) rfl ?_
  refine x_iload_n (n' := 86) dJ6_or_85 rfl rfl rfl ?_
  refine x_aload_n (n' := 87) dJ6_or_86 rfl rfl rfl ?_
  refine x_getRs (n' := 90) (b := d) dJ6_or_87 (hB.1) ffJ6_11_46 rfl (hB.2.2.1) rfl ?_
  refine x_iload_n (n' := 91) dJ6_or_90 rfl rfl rfl ?_
  refine x_aload_n (n' := 92) dJ6_or_91 rfl rfl rfl ?_
  refine x_getI (n' := 95) dJ6_or_92 (hB.1) ffJ6_7_46 rfl rfl ?_
  refine x_topv (mI_sI) ?_
  refine x_iload_n (n' := 96) dJ6_or_95 rfl rfl rfl ?_
  refine x_isub (n' := 97) dJ6_or_96 rfl ?_
  refine x_topv (y := nI 1) (by decide) ?_
  refine x_copyL (n' := 100) (sp := 0) (dp := 0) (n := 1) dJ6_or_97 q2920 q500 q499 q103 (hB2.2.2.2.1) (hB.2.2.2.1) (by omega) (by omega) (by omega) (show 0 + 1 ≤ mN M d2 from by rw [hB2.2.2.2.2.2.1]; omega) (show 0 + 1 ≤ mN M d from by rw [hB.2.2.2.2.2.1]; omega) ⟨(Nat.le_of_ble_eq_true rfl), (show 8 + (nativeFrameWords "java/lang/System" "arraycopy" 5 + 11) ≤ 50 from by decide)⟩ (Nat.le_of_ble_eq_true rfl) rfl ?_
  refine x_aload_n (n' := 101) dJ6_or_100 rfl rfl rfl ?_
  refine x_callV (n' := 104) (n := 0) (K := 46) (c_J6_checkInvariants l G _ b) dJ6_or_101 (hB.1) rfl (lw_V q2629 q2631 qs35 q91 q2632) (by decide +kernel) ⟨(Nat.le_of_ble_eq_true rfl), (Nat.le_of_ble_eq_true rfl)⟩ rfl rfl (Nat.le_of_ble_eq_true rfl) (by first | exact Nat.le_of_ble_eq_true rfl | omega) (by first | exact Nat.le_of_ble_eq_true rfl | omega) rfl (fun v_9 M_10 h_12 hE_11 => ?_)
  obtain ⟨rfl, hMs⟩ := h_12
  have hMs := hMs.symm
  subst hMs
  exact x_vret dJ6_or_104 hret (by repeat' (first | with_reducible exact kE.rf | with_reducible exact hE_5 | with_reducible exact hE_11 | with_reducible apply kE_A | with_reducible apply kE_I | with_reducible apply kE_L | with_reducible apply kE_R | with_reducible apply kE_O | with_reducible apply kE_G | with_reducible refine kE.tr ?_ hE_5 | with_reducible refine kE.tr ?_ hE_11)) (⟨rfl, by unfold bsM; rw [if_neg hv]; exact or_m hB hB2⟩)

theorem c_J6_or (l : Launch) (G : kG) (M : kM) (d o b b2 d2 o2 : Nat) (v : Int32) (hB : BT M b d o 0) (hB2 : BT M b2 d2 o2 v) (hne : b ≠ b2) : Kt l G yJ6_or cJ6_or 4 none 1 50 [.ref b, .ref b2] M (0) (0) (fun v9 M2 => v9 = none ∧ M2 = bsM M b d v) := by
  by_cases hcase : v = 0
  · exact c_J6_or__z l G M d o b b2 d2 o2 v hB hB2 hne hcase
  · exact c_J6_or__n l G M d o b b2 d2 o2 v hB hB2 hne hcase

set_option maxHeartbeats 800000 in
set_option maxRecDepth 100000 in
theorem c_J6_initWords (l : Launch) (G : kG) (M : kM) (b o : Nat) (hk : mK M b = some 46) (ho : o = 0 ∨ mK M (o - 1) ≠ none) : Kt l G yJ6_initWords cJ6_initWords 2 none 1 20 [.ref b, .int (nI 24)] M (1) (1) (fun v9 M2 => v9 = none ∧ ∃ d, mK M d = none ∧ M2 = sR (sG (nA M d 124 1) d o) (fc 46 0) b (some d)) := by
  refine Kt.of (own := "java/util/BitSet") (L := [some (.ref b), some (.int (nI 24))]) (by decide +kernel) rfl (Nat.le_of_ble_eq_true rfl) rfl ?_
  intro pp ee ss mm args below meth cd hmn hret
  refine x_aload_n (n' := 1) dJ6_initWords_0 rfl rfl rfl ?_
  refine x_iload_n (n' := 2) dJ6_initWords_1 rfl rfl rfl ?_
  refine x_iconst (n' := 3) (v := 1) dJ6_initWords_2 (by decide) rfl ?_
  refine x_isub (n' := 4) dJ6_initWords_3 rfl ?_
  refine x_callS (n' := 7) (n := 1) (c_J6_wordIndex l G _ (nI 24 - 1)) dJ6_initWords_4 (lw_S q676 q677 q91 q678) (by decide +kernel) ⟨(Nat.le_of_ble_eq_true rfl), (Nat.le_of_ble_eq_true rfl)⟩ rfl rfl (Nat.le_of_ble_eq_true rfl) (by first | exact Nat.le_of_ble_eq_true rfl | omega) (by first | exact Nat.le_of_ble_eq_true rfl | omega) rfl (fun v_1 M_2 h_4 hE_3 => ?_)
  obtain ⟨rfl, hMs⟩ := h_4
  have hMs := hMs.symm
  subst hMs
  refine x_iconst (n' := 8) (v := 1) dJ6_initWords_7 (by decide) rfl ?_
  refine x_iadd (n' := 9) dJ6_initWords_8 rfl ?_
  refine x_topv (y := nI 1) (by decide) ?_
  refine x_newarr (n' := 11) (K := 124) (N := 1) dJ6_initWords_9 (by decide) (by decide) rfl q689 (nI_pos (by omega)) (nI_clamp (by omega)) (by omega) (Nat.le_of_ble_eq_true rfl) (Nat.le_refl _) rfl (fun d hq_d hB_d => ?_)
  have hE_5 := kE_nA (K := 124) (n := 1) hq_d
  have k_d := mK_nA_of hE_5
  refine x_ghost d o ?_
  refine x_putR (n' := 14) (v := some (d)) dJ6_initWords_11 (by repeat' (first | with_reducible exact hk | with_reducible apply mK_A | with_reducible apply mK_I | with_reducible apply mK_L | with_reducible apply mK_R | with_reducible apply mK_O | with_reducible apply mK_G | with_reducible refine mK_NA ?_ (by assumption) | with_reducible refine mK_NO ?_ (by assumption) | with_reducible refine kE.ap hE_3 ?_ | with_reducible refine kE.ap hE_5 ?_)) ffJ6_11_46 rfl rfl rfl ?_
  exact x_vret dJ6_initWords_14 hret (by repeat' (first | with_reducible exact kE.rf | with_reducible exact hE_3 | with_reducible exact hE_5 | with_reducible apply kE_A | with_reducible apply kE_I | with_reducible apply kE_L | with_reducible apply kE_R | with_reducible apply kE_O | with_reducible apply kE_G | with_reducible refine kE.tr ?_ hE_3 | with_reducible refine kE.tr ?_ hE_5)) (⟨rfl, d, hq_d, rfl⟩)

def btM (M : kM) (b d o : Nat) : kM := sI (sR (sG (nA (sI (sI M (fc 46 1) b 0) (fc 46 2) b 0) d 124 1) d o) (fc 46 0) b (some d)) (fc 46 2) b 1
theorem bt_fr {M : kM} {b d o : Nat} (hk : mK M b = some 46) (hg : mG M b = o) (ho : o = 0 ∨ mK M (o - 1) ≠ none) (hq : mK M d = none) : Fr (fun x => x = o) M (btM M b d o) :=
  ((((Fr.rf.I (Or.inr hg)).I (Or.inr hg)).arr hq (ho.elim Or.inl (fun q => Or.inr (Or.inr q)))).R (Or.inr hg)).I (Or.inr hg)
theorem bt_new {M : kM} {b d o : Nat} (hk : mK M b = some 46) (hg : mG M b = o) (hq : mK M d = none) : BT (btM M b d o) b d o 0 := by
  have hne : b ≠ d := kne hk hq
  refine ⟨(va_up_ne _ _ hne).trans hk, (va_up_ne _ _ hne).trans hg, mR_sR, va_up_self _ _ _, va_up_self _ _ _, va_up_self _ _ _, ?_, ?_⟩
  · show mI (sI (sI (sI M (fc 46 1) b 0) (fc 46 2) b 0) (fc 46 2) b 1) (fc 46 1) b = _
    rw [mI_sI_c (by decide), mI_sI_c (by decide), mI_sI]; rfl
  · show va_up (mL M) d _ d 0 = _
    rw [va_up_self]; rfl
theorem ffJ6_24_46 : FF "java/util/BitSet" 24 46 2 "java/util/BitSet" := ⟨by decide, by decide, q681, Or.inl rfl⟩
set_option maxHeartbeats 800000 in
set_option maxRecDepth 100000 in
theorem c_J6_init (l : Launch) (G : kG) (M : kM) (b o : Nat) (hk : mK M b = some 46) (hg : mG M b = o) (ho : o = 0 ∨ mK M (o - 1) ≠ none) : Kt l G yJ6_init cJ6_init 2 none 2 41 [.ref b, .int (nI 24)] M (1) (1) (fun v9 M2 => v9 = none ∧ ∃ d, mK M d = none ∧ BT M2 b d o 0 ∧ Fr (fun x => x = o) M M2) := by
  refine Kt.of (own := "java/util/BitSet") (L := [some (.ref b), some (.int (nI 24))]) (by decide +kernel) rfl (Nat.le_of_ble_eq_true rfl) rfl ?_
  intro pp ee ss mm args below meth cd hmn hret
  refine x_aload_n (n' := 1) dJ6_init_0 rfl rfl rfl ?_
  refine x_objInit (n' := 4) dJ6_init_1 q333 ⟨(Nat.le_of_ble_eq_true rfl), (Nat.le_of_ble_eq_true rfl)⟩ (Nat.le_of_ble_eq_true rfl) rfl ?_
  refine x_aload_n (n' := 5) dJ6_init_4 rfl rfl rfl ?_
  refine x_iconst (n' := 6) (v := 0) dJ6_init_5 (by decide) rfl ?_
  refine x_putI (n' := 9) dJ6_init_6 (by repeat' (first | with_reducible exact hk | with_reducible apply mK_A | with_reducible apply mK_I | with_reducible apply mK_L | with_reducible apply mK_R | with_reducible apply mK_O | with_reducible apply mK_G | with_reducible refine mK_NA ?_ (by assumption) | with_reducible refine mK_NO ?_ (by assumption))) ffJ6_7_46 rfl (⟨rfl, rfl⟩) rfl rfl ?_
  refine x_aload_n (n' := 10) dJ6_init_9 rfl rfl rfl ?_
  refine x_iconst (n' := 11) (v := 0) dJ6_init_10 (by decide) rfl ?_
  refine x_putI (n' := 14) dJ6_init_11 (by repeat' (first | with_reducible exact hk | with_reducible apply mK_A | with_reducible apply mK_I | with_reducible apply mK_L | with_reducible apply mK_R | with_reducible apply mK_O | with_reducible apply mK_G | with_reducible refine mK_NA ?_ (by assumption) | with_reducible refine mK_NO ?_ (by assumption))) ffJ6_24_46 rfl (k_bool (by first | exact Or.inl rfl | exact Or.inr rfl | assumption)) rfl rfl ?_
  refine x_iload_n (n' := 15) dJ6_init_14 rfl rfl rfl ?_
  refine x_if_ge (n' := 18) (tgt := 45) dJ6_init_15 (by decide) rfl (fun c15_1 => ?_) (fun c15_1 => absurd (by decide) c15_1)
  refine x_aload_n (n' := 46) dJ6_init_45 rfl rfl rfl ?_
  refine x_iload_n (n' := 47) dJ6_init_46 rfl rfl rfl ?_
  refine x_callV (n' := 50) (n := 1) (K := 46) (c_J6_initWords l G _ b o (by repeat' (first | with_reducible exact hk | with_reducible apply mK_A | with_reducible apply mK_I | with_reducible apply mK_L | with_reducible apply mK_R | with_reducible apply mK_O | with_reducible apply mK_G | with_reducible refine mK_NA ?_ (by assumption) | with_reducible refine mK_NO ?_ (by assumption))) ho) dJ6_init_47 (by repeat' (first | with_reducible exact hk | with_reducible apply mK_A | with_reducible apply mK_I | with_reducible apply mK_L | with_reducible apply mK_R | with_reducible apply mK_O | with_reducible apply mK_G | with_reducible refine mK_NA ?_ (by assumption) | with_reducible refine mK_NO ?_ (by assumption))) rfl (lw_V q672 q674 qs2 q91 q675) (by decide +kernel) ⟨(Nat.le_of_ble_eq_true rfl), (Nat.le_of_ble_eq_true rfl)⟩ rfl rfl (Nat.le_of_ble_eq_true rfl) (by first | exact Nat.le_of_ble_eq_true rfl | omega) (by first | exact Nat.le_of_ble_eq_true rfl | omega) rfl (fun v_2 M_3 h_5 hE_4 => ?_)
  obtain ⟨rfl, d, hq_d, hMs⟩ := h_5
  subst hMs
  refine x_aload_n (n' := 51) dJ6_init_50 rfl rfl rfl ?_
  refine x_iconst (n' := 52) (v := 1) dJ6_init_51 (by decide) rfl ?_
  refine x_putI (n' := 55) dJ6_init_52 (by repeat' (first | with_reducible exact hk | with_reducible apply mK_A | with_reducible apply mK_I | with_reducible apply mK_L | with_reducible apply mK_R | with_reducible apply mK_O | with_reducible apply mK_G | with_reducible refine mK_NA ?_ (by assumption) | with_reducible refine mK_NO ?_ (by assumption) | with_reducible refine kE.ap hE_4 ?_)) ffJ6_24_46 rfl (k_bool (by first | exact Or.inl rfl | exact Or.inr rfl | assumption)) rfl rfl ?_
  exact x_vret dJ6_init_55 hret (bt_fr hk hg ho hq_d).kE (⟨rfl, d, hq_d, bt_new hk hg hq_d, bt_fr hk hg ho hq_d⟩)
