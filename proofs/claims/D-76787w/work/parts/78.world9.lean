theorem hEnd_lo {x x' g : gT} {h nr nk : Nat} {who : Int32} (e : ∀ j, j < 109 → j ≠ 15 → x' j = x j) {j : Nat} (hj : j < 109) (h15 : j ≠ 15) : hEnd x' g h nr nk who j = hEnd x g h nr nk who j := by
  have a : ∀ j, j < 109 → j ≠ 15 → tireG x' who (weaG g nr h) nk j = tireG x who (weaG g nr h) nk j := fun j h1 h2 => by
    unfold tireG
    split
    · unfold tireV; rw [e _ (by omega) (by omega)]
    · exact e j h1 h2
  have b : boatP (tireG x' who (weaG g nr h) nk) h (weaG g nr h) (dav g h) = boatP (tireG x who (weaG g nr h) nk) h (weaG g nr h) (dav g h) := by
    unfold boatP; rw [a 8 (by decide) (by decide)]
  unfold hEnd
  simp only [b]
  by_cases h0 : j = 0
  · rw [h0, va_up_self, va_up_self]
  · rw [va_up_ne _ _ h0, va_up_ne _ _ h0]
    unfold hg9
    split
    · exact a j hj h15
    · unfold rstG
      split
      · rfl
      · unfold supG
        rw [a 4 (by decide) (by decide), a 10 (by decide) (by decide), a 5 (by decide) (by decide), a 11 (by decide) (by decide), a 9 (by decide) (by decide), a 18 (by decide) (by decide)]
        unfold va_up
        split
        · rfl
        · split
          · rfl
          · split
            · rfl
            · split
              · rfl
              · exact a j hj h15
theorem hg6_low {g : gT} {f d p : Int32} {j : Nat} (hj : j < 909 ∧ j ≠ 15) : hg6 g f d p j = g j := by unfold hg6; split; exact logP_low hj; rfl
theorem hourL_C {g : gT} {h nr nk ns j : Nat} (hns : ns ≤ 200) (hp : 0 ≤ plV g h → nn (plV g h) < 6) (ht : tev g h = 0) (hj : ¬ wOth j) : hourG g h nr nk ns j = hEnd (cC3 g h nr) g h nr nk (-1) j := by
  unfold wOth at hj
  refine (hour_C (nk := nk) hns hp ht j (by omega)).trans (hEnd_lo (fun i h1 h2 => ?_) (by omega) (by omega))
  exact (hg6_low (by omega)).trans (fold_low (by omega) _ _)
theorem hourL_D {g : gT} {h nr nk ns j : Nat} (_ : 0 ≤ plV g h → nn (plV g h) < 6) (ht : tev g h = 1) (hj : ¬ wOth j) : hourG g h nr nk ns j = hEnd (cC3 g h nr) g h nr nk (plV g h) j := by
  unfold wOth at hj
  refine (hour_D (nk := nk) ht j (by omega)).trans (hEnd_lo (fun i h1 h2 => ?_) (by omega) (by omega))
  exact (fold_low (by omega) _ _).trans ((hg5L (by omega)).trans (hg4L (by omega)))
set_option maxHeartbeats 4000000 in
set_option maxRecDepth 100000 in
theorem k262_c_X1_hours_2__mA (l : Launch) (G : kG) (M : kM) (w : Nat) (a kf sf sa : Nat → Nat) (T : kT) (ex : Nat → Prop) (g : gT) (nk nr ns : Nat) (h wt : Nat) (x y : Int32) (hM : MB G M w a kf sf sa T ex g nk nr ns) (hwe : weaG g nr h = nI wt) (hw3 : wt < 3) (hw : WF g h nr nk ns) (hbb : h + 1 < BB) (hcn : CN G M) (hpe : plV g h = -1) (hT17 : mI M (fc 1 17) w = 1) (hx : mI M (fc 1 18) w = x) (hy : mI M (fc 1 19) w = y) (pp : Program) (ee : Env) (ss : State) (mm : MethodId) (args : Array Value) (below : List Frame) (meth : Method) (cd : Code) (hmn : meth.name = yX1_hours_2.name) (hret : meth.sig.returnType = none) : ∀ (sg : Nat) (M1 : kM) (hM : MB G M1 w a kf sf sa T ex (cC3 g h nr) nk nr ns) (hS : (SGP G M1 sg wt (bi (dkG g h)) (bi (cC3 g h nr 6 = 1)) (bi (coalP (s2 g h) (weaG g nr h) (tev g h))) ∧ mG M1 sg = a 4 + 1)) (hc : mI M1 (fc 1 18) w = x + wpc (shF (dav g h) (coV g h nr) (nI wt) (cC3 g h nr)) 1 (rk (cC3 g h nr) (nI h) ns) ∧ mI M1 (fc 1 19) w = y + wpc (shF (dav g h) (coV g h nr) (nI wt) (cC3 g h nr)) 2 (rk (cC3 g h nr) (nI h) ns) ∧ mI M1 (fc 1 17) w = 1) (hF1 : Fr (FSm w a) M M1), Wx pp l ee { frames := 12, cells := 0, slots := 0, locals := 260 } ss mm args below meth cd "KeptLight$World" cX1_hours_2 8 G (MQ below (KQ G M (fun v M2 => v = none ∧ MB G M2 w a kf sf sa T ex (hourG g h nr nk ns) nk nr ns ∧ (mI M2 (fc 1 18) w = x + wpc (shF (dav g h) (coV g h nr) (nI wt) (cC3 g h nr)) 1 (rk (cC3 g h nr) (nI h) ns) ∧ mI M2 (fc 1 19) w = y + wpc (shF (dav g h) (coV g h nr) (nI wt) (cC3 g h nr)) 2 (rk (cC3 g h nr) (nI h) ns) ∧ mI M2 (fc 1 17) w = 1) ∧ Fr (FSm w a) M M2)) args ss (0) (0) (kA G)) 262 [some (.ref w), some (.ref (G.2.2.2 wt)), some (.int (bi (dkG g h))), some (.int (plV g h)), some .null, some .null, none, some (.ref sg)] [] (M1) (0) (0) := by
  have hF : FX w M M := FX.rf
  have hW := hM.wc
  have h6 := hM.b.1
  have h20 := hM.b.2.1
  have hr := hw.rn
  have hh := hw.hh
  have hb1 : h < 2147483648 := by have : BB = 2147483648 := rfl; omega
  have hwn : nn (weaG g nr h) = wt := by rw [hwe]; exact nn_nI (by omega)
  have hpl6 : 0 ≤ plV g h → nn (plV g h) < 6 := hw.pl _ (Nat.mod_lt _ (by decide))
  have hp0 : plV g h < 0 := by rw [hpe]; decide
  have hnt : ¬ (tendP g (plV g h)) := fun q => absurd q.1 (Int32.not_le.mpr hp0)
  have ht9 : tev g h = 0 := bi_f hnt
  have hf0 : fav g h = 0 := bi_f (fun q => absurd q.1 (Int32.not_le.mpr hp0))
  intro sg M1 hM hS hc hF1
  have hW := hM.wc
  have hE9 := hF1.kE
  refine x_aload_n (n' := 263) dX1_hours_2_262 rfl rfl rfl ?_
  refine x_aloadN (n' := 265) dX1_hours_2_263 rfl rfl ?_
  refine x_aload_n (n' := 266) dX1_hours_2_265 rfl rfl rfl ?_
  refine x_callV (n' := 269) (n := 2) (K := 1) (c_X1_rests__n l G _ w a kf sf (cC3 g h nr) nk nr wt hW h6 h20 hw3 (hcn.kE hE9)) dX1_hours_2_266 (hW.s.k) rfl (lw_V q2739 q2741 qs39 q78 q2742) (by decide +kernel) ⟨(Nat.le_of_ble_eq_true rfl), (Nat.le_of_ble_eq_true rfl)⟩ rfl rfl (Nat.le_of_ble_eq_true rfl) (by first | exact Nat.le_of_ble_eq_true rfl | omega) (by first | exact Nat.le_of_ble_eq_true rfl | omega) rfl (fun v_1 M_r h_3 hE_2 => ?_)
  obtain ⟨rfl, hW9, hF9⟩ := h_3
  have hW := hW9
  have hS := sg_fr hS hF9.1 (fun e9 => hM.wc.s4 (Nat.succ.inj e9))
  have hF := hF9
  refine x_aload_n (n' := 270) dX1_hours_2_269 rfl rfl rfl ?_
  refine x_aload (n' := 272) dX1_hours_2_270 rfl rfl ?_
  have hz0 : (tireG (cC3 g h nr) (-1) (nI wt) nk) 0 = nI h := (by unfold tireG; exact if_neg (fun q => by omega) : (tireG (cC3 g h nr) (-1) (nI wt) nk) 0 = (cC3 g h nr) 0).trans ((cC3_hi hpl6 (Or.inl rfl)).trans hh)
  refine x_callV (n' := 275) (n := 1) (K := 1) (c_X1_lands l G _ w a kf sf (tireG (cC3 g h nr) (-1) (nI wt) nk) nk nr sg wt h _ _ _ hW h6 h20 hS.1 (hz0)) dX1_hours_2_272 (hW.s.k) rfl (lw_V q2756 q2758 qs40 q78 q2759) (by decide +kernel) ⟨(Nat.le_of_ble_eq_true rfl), (Nat.le_of_ble_eq_true rfl)⟩ rfl rfl (Nat.le_of_ble_eq_true rfl) (by first | exact Nat.le_of_ble_eq_true rfl | omega) (by first | exact Nat.le_of_ble_eq_true rfl | omega) rfl (fun v_4 M_l h_6 hE_5 => ?_)
  obtain ⟨rfl, hW9, hF9⟩ := h_6
  have hW := hW9
  have hF := hF.tr hF9
  refine x_aload_n (n' := 276) dX1_hours_2_275 rfl rfl rfl ?_
  refine x_dup (n' := 277) dX1_hours_2_276 rfl rfl ?_
  refine x_getI (n' := 280) dX1_hours_2_277 (hW.s.k) ffX1_128_1 rfl rfl ?_
  refine x_topv ((hW.i 9 (by decide)).trans (hg9_0.trans hz0)) ?_
  refine x_iconst (n' := 281) (v := 1) dX1_hours_2_280 (by decide) rfl ?_
  refine x_iadd (n' := 282) dX1_hours_2_281 rfl ?_
  rw [nI_1]
  refine x_putI (n' := 285) dX1_hours_2_282 (hW.s.k) ffX1_128_1 rfl (⟨rfl, rfl⟩) rfl rfl ?_
  refine x_gen (X := fun M9 => WC G M9 w a kf sf (va_up (hg9 (tireG (cC3 g h nr) (-1) (nI wt) nk) h nk (bi (boatP (tireG (cC3 g h nr) (-1) (nI wt) nk) h (nI wt) (dav g h)))) 0 (nI (h + 1))) nk nr ∧ FX w M1 M9) ⟨hW.setI h6 h20 9 (by decide) (fun e => by cases e), hF.tr (hW.setIF 9)⟩ (fun M_7 hM9 => ?_)
  obtain ⟨hW, hF⟩ := hM9
  have hWf := Eq.mpr (congrArg (fun g9 => WC G _ w a kf sf g9 nk nr) (show (hEnd (cC3 g h nr) g h nr nk (-1)) = va_up (hg9 (tireG (cC3 g h nr) (-1) (nI wt) nk) h nk (bi (boatP (tireG (cC3 g h nr) (-1) (nI wt) nk) h (nI wt) (dav g h)))) 0 (nI (h + 1)) from by unfold hEnd; simp only [hwe])) hW
  have hWg := hWf.cg h6 h20 (g' := hourG g h nr nk ns) (fun j hj => hourL_C hw.s2 hpl6 ht9 hj)
  have hMf := hM.own hF.1 hWg (fun s hs => by have a1 := (hrs_keep (n := 1) hw (j := 109 + 4 * s + 1) (by have := hM.b.2.2; unfold kpI; omega) (by omega)); have a2 := (hrs_keep (n := 1) hw (j := 109 + 4 * s) (by have := hM.b.2.2; unfold kpI; omega) (by omega)); exact ⟨a1.trans (cC3_hi hpl6 (by omega)).symm, a2.trans (cC3_hi hpl6 (by omega)).symm⟩)
  have hFz := hF1.tr (hF.1.mono (fun _ e9 => Or.inl e9))
  have hcz : mI _ (fc 1 18) w = _ ∧ mI _ (fc 1 19) w = _ ∧ mI _ (fc 1 17) w = _ := ⟨(hF.2 18 (by decide)).trans hc.1, (hF.2 19 (by decide)).trans hc.2.1, (hF.2 17 (by decide)).trans hc.2.2⟩
  exact x_vret dX1_hours_2_285 hret hFz.kE (⟨rfl, hMf, hcz, hFz⟩)
set_option maxHeartbeats 4000000 in
set_option maxRecDepth 100000 in
theorem k118_c_X1_hours_2__mA (l : Launch) (G : kG) (M : kM) (w : Nat) (a kf sf sa : Nat → Nat) (T : kT) (ex : Nat → Prop) (g : gT) (nk nr ns : Nat) (h wt : Nat) (x y : Int32) (hM : MB G M w a kf sf sa T ex g nk nr ns) (hwe : weaG g nr h = nI wt) (hw3 : wt < 3) (hw : WF g h nr nk ns) (hbb : h + 1 < BB) (hcn : CN G M) (hpe : plV g h = -1) (hT17 : mI M (fc 1 17) w = 1) (hx : mI M (fc 1 18) w = x) (hy : mI M (fc 1 19) w = y) (pp : Program) (ee : Env) (ss : State) (mm : MethodId) (args : Array Value) (below : List Frame) (meth : Method) (cd : Code) (hmn : meth.name = yX1_hours_2.name) (hret : meth.sig.returnType = none) : ∀ (M1 : kM) (hW : WC G M1 w a kf sf (lampG g (dav g h) (tev g h) h) nk nr) (hF : FX w M M1), Wx pp l ee { frames := 12, cells := 0, slots := 0, locals := 260 } ss mm args below meth cd "KeptLight$World" cX1_hours_2 8 G (MQ below (KQ G M (fun v M2 => v = none ∧ MB G M2 w a kf sf sa T ex (hourG g h nr nk ns) nk nr ns ∧ (mI M2 (fc 1 18) w = x + wpc (shF (dav g h) (coV g h nr) (nI wt) (cC3 g h nr)) 1 (rk (cC3 g h nr) (nI h) ns) ∧ mI M2 (fc 1 19) w = y + wpc (shF (dav g h) (coV g h nr) (nI wt) (cC3 g h nr)) 2 (rk (cC3 g h nr) (nI h) ns) ∧ mI M2 (fc 1 17) w = 1) ∧ Fr (FSm w a) M M2)) args ss (0) (0) (kA G)) 118 [some (.ref w), some (.ref (G.2.2.2 wt)), some (.int (bi (dkG g h))), some (.int (plV g h)), some .null, some .null, some (.int (coV g h nr)), none] [] (M1) (0) (0) := by
  have hF : FX w M M := FX.rf
  have hW := hM.wc
  have h6 := hM.b.1
  have h20 := hM.b.2.1
  have hr := hw.rn
  have hh := hw.hh
  have hb1 : h < 2147483648 := by have : BB = 2147483648 := rfl; omega
  have hwn : nn (weaG g nr h) = wt := by rw [hwe]; exact nn_nI (by omega)
  have hpl6 : 0 ≤ plV g h → nn (plV g h) < 6 := hw.pl _ (Nat.mod_lt _ (by decide))
  have hp0 : plV g h < 0 := by rw [hpe]; decide
  have hnt : ¬ (tendP g (plV g h)) := fun q => absurd q.1 (Int32.not_le.mpr hp0)
  have ht9 : tev g h = 0 := bi_f hnt
  have hf0 : fav g h = 0 := bi_f (fun q => absurd q.1 (Int32.not_le.mpr hp0))
  have cut262 := k262_c_X1_hours_2__mA l G M w a kf sf sa T ex g nk nr ns h wt x y hM hwe hw3 hw hbb hcn hpe hT17 hx hy pp ee ss mm args below meth cd hmn hret
  intro M1 hW hF
  refine x_aload_n (n' := 119) dX1_hours_2_118 rfl rfl rfl ?_
  refine x_getRs (n' := 122) (b := (a 10)) dX1_hours_2_119 (hW.s.k) ffX1_57_1 rfl (hW.s.r 10 (by decide)) rfl ?_
  refine x_iconst (n' := 123) (v := 4) dX1_hours_2_122 (by decide) rfl ?_
  refine x_dup2_11 (n' := 124) dX1_hours_2_123 rfl rfl rfl ?_
  refine x_ildk (n' := 125) (N := 5) dX1_hours_2_124 (hW.s.ak 10 (by decide)) (hW.s.an 10 (by decide)) (by repeat' (first | with_reducible exact nl_0 | with_reducible exact nl_1 | with_reducible exact nl_4 | with_reducible exact nl_24 | with_reducible exact rfl | apply i_add | apply i_mul)) (by omega) (by decide) ((hW.told 4 (by decide)).trans lamp_5) rfl ?_
  refine x_iload (n' := 127) dX1_hours_2_125 rfl rfl ?_
  refine x_fork (J := 135) (x_if_eq (n' := 130) (tgt := 134) dX1_hours_2_127 (by decide) rfl) (v1 := ?v1_f127_8) (v2 := ?v2_f127_8) (fun c_f127_8 j_f127_8 => ?b1_f127_8) (fun c_f127_8 j_f127_8 => ?b2_f127_8) ?k_f127_8
  case b1_f127_8 =>
    refine x_iconst (n' := 135) (v := 0) dX1_hours_2_134 (by decide) rfl ?_
    exact j_f127_8
  case b2_f127_8 =>
    refine x_iconst (n' := 131) (v := 1) dX1_hours_2_130 (by decide) rfl ?_
    refine x_goto (tgt := 135) dX1_hours_2_131 (by decide) ?_
    exact j_f127_8
  refine x_topv bi_if ?_
  refine x_isub (n' := 136) dX1_hours_2_135 rfl ?_
  refine x_iastk (n' := 137) (N := 5) dX1_hours_2_136 (hW.s.ak 10 (by decide)) (hW.s.an 10 (by decide)) (by repeat' (first | with_reducible exact nl_0 | with_reducible exact nl_1 | with_reducible exact nl_4 | with_reducible exact nl_24 | with_reducible exact rfl | apply i_add | apply i_mul)) (by omega) (by decide) (by first | with_reducible exact mA_sA | with_reducible exact mA_SC0 | with_reducible exact mA_SC1 hS | with_reducible exact mA_SC5 hS | with_reducible exact mA_SC6 hS | with_reducible exact mA_SC10 hS | with_reducible exact mA_SC11 hS | with_reducible exact mA_SC12 hS | with_reducible exact mA_sI_sA | with_reducible exact mA_sI3_sA | rfl) (by first | with_reducible exact SC_A0 | with_reducible exact SC_A1 hS | with_reducible exact SC_A5 hS | with_reducible exact SC_A6 hS | with_reducible exact SC_A10 hS | with_reducible exact SC_A11 hS | with_reducible exact SC_A12 hS | with_reducible exact sA_sA | with_reducible exact sA_sI_sA | with_reducible exact sA_sI3_sA | rfl) rfl ?_
  refine x_gen (X := fun M9 => WC G M9 w a kf sf (va_up (lampG g (dav g h) (tev g h) h) (1 + 4) (g 5 - coV g h nr)) nk nr ∧ FX w M M9) ⟨hW.setTold h6 h20 (i := 4) (by decide), hF.tr (hW.setA 10 (by decide))⟩ (fun M_9 hM9 => ?_)
  obtain ⟨hW, hF⟩ := hM9
  refine x_aload_n (n' := 138) dX1_hours_2_137 rfl rfl rfl ?_
  refine x_getRs (n' := 141) (b := (a 4)) dX1_hours_2_138 (hW.s.k) ffX1_21_1 rfl (hW.s.r 4 (by decide)) rfl ?_
  refine x_aload_n (n' := 142) dX1_hours_2_141 rfl rfl rfl ?_
  refine x_iload_n (n' := 143) dX1_hours_2_142 rfl rfl rfl ?_
  refine x_aload_n (n' := 144) dX1_hours_2_143 rfl rfl rfl ?_
  refine x_getI (n' := 147) dX1_hours_2_144 (hW.s.k) ffX1_131_1 rfl rfl ?_
  refine x_topv ((hW.i 12 (by decide)).trans (lit_bi hW.lit)) ?_
  refine x_iload (n' := 149) dX1_hours_2_147 rfl rfl ?_
  refine x_callV (n' := 152) (n := 4) (K := 5) (c_X5_of l G _ (a 4) wt (dkG g h) ((va_up (lampG g (dav g h) (tev g h) h) (1 + 4) (g 5 - coV g h nr)) 6 = 1) (coalP (s2 g h) (weaG g nr h) (tev g h)) hW.s.2.2.2.2.2 hw3 (hcn.kE hF.kE)) dX1_hours_2_149 (SGS.k hW.s.2.2.2.2.2) rfl (lw_V q2636 q2637 q2638 q84 q2639) (by decide +kernel) ⟨(Nat.le_of_ble_eq_true rfl), (Nat.le_of_ble_eq_true rfl)⟩ rfl rfl (Nat.le_of_ble_eq_true rfl) (by first | exact Nat.le_of_ble_eq_true rfl | omega) (by first | exact Nat.le_of_ble_eq_true rfl | omega) rfl (fun v_10 M_11 h_13 hE_12 => ?_)
  obtain ⟨sg, rfl, hMs, hsg, hsgo⟩ := h_13
  have hMs := hMs.symm
  subst hMs
  refine x_astore (n' := 154) dX1_hours_2_152 (Nat.le_of_ble_eq_true rfl) rfl (by dsimp only [List.set] <;> rfl) rfl ?_
  refine x_aloadN (n' := 156) dX1_hours_2_154 rfl rfl ?_
  refine x_ifnullN (tgt := 205) dX1_hours_2_156 (by decide) ?_
  have hW9 := Eq.mpr (congrArg (fun g9 => WC G _ w a kf sf g9 nk nr) (cC3_A hp0)) hW
  have hS9 := sg_fr ⟨hsg, hsgo⟩ (Fr.rf : Fr (ow w) _ _) (fun e9 => hW.s4 (Nat.succ.inj e9))
  rw [show (va_up (lampG g (dav g h) (tev g h) h) (1 + 4) (g 5 - coV g h nr)) 6 = cC3 g h nr 6 from (va_up_ne _ _ (by decide)).trans cC3_6.symm] at hS9
  have h17 := hF.2 17 (by decide)
  refine x_gen (X := fun M9 => MB G M9 w a kf sf sa T ex (cC3 g h nr) nk nr ns ∧ (SGP G M9 sg wt (bi (dkG g h)) (bi (cC3 g h nr 6 = 1)) (bi (coalP (s2 g h) (weaG g nr h) (tev g h))) ∧ mG M9 sg = a 4 + 1) ∧ (mI M9 (fc 1 18) w = x ∧ mI M9 (fc 1 19) w = y ∧ mI M9 (fc 1 17) w = 1) ∧ Fr (FSm w a) M M9) ⟨hM.own hF.1 hW9 (fun s hs => ⟨cC3_hi hpl6 (by omega), cC3_hi hpl6 (by omega)⟩), hS9, ⟨(hF.2 18 (by decide)).trans hx, (hF.2 19 (by decide)).trans hy, h17.trans hT17⟩, hF.1.mono (fun _ e9 => Or.inl e9)⟩ (fun M_14 hM9 => ?_)
  clear hW hF hS9 hW9 h17
  have hM0 := hM
  obtain ⟨hM, hS, hc, hF⟩ := hM9
  refine x_aload_n (n' := 206) dX1_hours_2_205 rfl rfl rfl ?_
  refine x_getI (n' := 209) dX1_hours_2_206 (hM.wc.s.k) ffX1_73_1 rfl rfl ?_
  refine x_topv hc.2.2 ?_
  refine x_if_eq (n' := 212) (tgt := 221) dX1_hours_2_209 (by decide) rfl (fun c209_15 => absurd c209_15 (by decide)) (fun c209_15 => ?_)
  refine x_aload_n (n' := 213) dX1_hours_2_212 rfl rfl rfl ?_
  refine x_aload (n' := 215) dX1_hours_2_213 rfl rfl ?_
  refine x_callV (n' := 218) (n := 1) (K := 1) (c_X1_wouldPass l G _ w a kf sf sa T ex (cC3 g h nr) nk nr ns sg wt h (dkG g h) (coalP (s2 g h) (weaG g nr h) (tev g h)) x y hM hS ((cC3_hi hpl6 (Or.inl rfl)).trans hh) (Nat.lt_trans (Nat.lt_succ_self h) hbb) hc.1 hc.2.1) dX1_hours_2_215 (hM.wc.s.k) rfl (lw_V q2644 q2646 qs36 q78 q2647) (by decide +kernel) ⟨(Nat.le_of_ble_eq_true rfl), (Nat.le_of_ble_eq_true rfl)⟩ rfl rfl (Nat.le_of_ble_eq_true rfl) (by first | exact Nat.le_of_ble_eq_true rfl | omega) (by first | exact Nat.le_of_ble_eq_true rfl | omega) rfl (fun v_16 M_p h_18 hE_17 => ?_)
  obtain ⟨rfl, hM8, hc8, hF8⟩ := h_18
  have hS := sg_fr hS hF8 hM.m4
  have hc := (⟨hc8.1, hc8.2.1, hc8.2.2.trans hc.2.2⟩ : mI M_p (fc 1 18) w = x + wpc (shF (dav g h) (coV g h nr) (nI wt) (cC3 g h nr)) 1 (rk (cC3 g h nr) (nI h) ns) ∧ mI M_p (fc 1 19) w = y + wpc (shF (dav g h) (coV g h nr) (nI wt) (cC3 g h nr)) 2 (rk (cC3 g h nr) (nI h) ns) ∧ mI M_p (fc 1 17) w = 1)
  have hF := hF.tr hF8
  have hM := hM8
  refine x_goto (tgt := 262) dX1_hours_2_218 (by decide) ?_
  exact x_drop (cut262 sg _ hM hS hc hF) ⟨rfl, ⟨rfl, ⟨rfl, ⟨rfl, ⟨rfl, ⟨rfl, ⟨rfl, trivial⟩⟩⟩⟩⟩⟩⟩
set_option maxHeartbeats 4000000 in
set_option maxRecDepth 100000 in
theorem c_X1_hours_2__mA (l : Launch) (G : kG) (M : kM) (w : Nat) (a kf sf sa : Nat → Nat) (T : kT) (ex : Nat → Prop) (g : gT) (nk nr ns : Nat) (h wt : Nat) (x y : Int32) (hM : MB G M w a kf sf sa T ex g nk nr ns) (hwe : weaG g nr h = nI wt) (hw3 : wt < 3) (hw : WF g h nr nk ns) (hbb : h + 1 < BB) (hcn : CN G M) (hpe : plV g h = -1) (hT17 : mI M (fc 1 17) w = 1) (hx : mI M (fc 1 18) w = x) (hy : mI M (fc 1 19) w = y) : Kt l G yX1_hours_2 cX1_hours_2 8 none 12 260 [.ref w] M (0) (0) (fun v M2 => v = none ∧ MB G M2 w a kf sf sa T ex (hourG g h nr nk ns) nk nr ns ∧ (mI M2 (fc 1 18) w = x + wpc (shF (dav g h) (coV g h nr) (nI wt) (cC3 g h nr)) 1 (rk (cC3 g h nr) (nI h) ns) ∧ mI M2 (fc 1 19) w = y + wpc (shF (dav g h) (coV g h nr) (nI wt) (cC3 g h nr)) 2 (rk (cC3 g h nr) (nI h) ns) ∧ mI M2 (fc 1 17) w = 1) ∧ Fr (FSm w a) M M2) := by
  refine Kt.of (own := "KeptLight$World") (L := [some (.ref w), none, none, none, none, none, none, none]) (by decide +kernel) rfl (Nat.le_of_ble_eq_true rfl) rfl ?_
  intro pp ee ss mm args below meth cd hmn hret
  have hF : FX w M M := FX.rf
  have hW := hM.wc
  have h6 := hM.b.1
  have h20 := hM.b.2.1
  have hr := hw.rn
  have hh := hw.hh
  have hb1 : h < 2147483648 := by have : BB = 2147483648 := rfl; omega
  have hwn : nn (weaG g nr h) = wt := by rw [hwe]; exact nn_nI (by omega)
  have hpl6 : 0 ≤ plV g h → nn (plV g h) < 6 := hw.pl _ (Nat.mod_lt _ (by decide))
  have hp0 : plV g h < 0 := by rw [hpe]; decide
  have hnt : ¬ (tendP g (plV g h)) := fun q => absurd q.1 (Int32.not_le.mpr hp0)
  have ht9 : tev g h = 0 := bi_f hnt
  have hf0 : fav g h = 0 := bi_f (fun q => absurd q.1 (Int32.not_le.mpr hp0))
  have cut262 := k262_c_X1_hours_2__mA l G M w a kf sf sa T ex g nk nr ns h wt x y hM hwe hw3 hw hbb hcn hpe hT17 hx hy pp ee ss mm args below meth cd hmn hret
  have cut118 := k118_c_X1_hours_2__mA l G M w a kf sf sa T ex g nk nr ns h wt x y hM hwe hw3 hw hbb hcn hpe hT17 hx hy pp ee ss mm args below meth cd hmn hret
  refine x_aload_n (n' := 1) dX1_hours_2_0 rfl rfl rfl ?_
  refine x_aload_n (n' := 2) dX1_hours_2_1 rfl rfl rfl ?_
  refine x_getI (n' := 5) dX1_hours_2_2 (hW.s.k) ffX1_128_1 rfl rfl ?_
  refine x_topv ((hW.i 9 (by decide)).trans hh) ?_
  refine x_callV (n' := 8) (n := 1) (K := 1) (c_X1_weather l G _ w a kf sf g nk nr h hW hr hb1) dX1_hours_2_5 (hW.s.k) rfl (lw_V q2570 q2571 q2572 q78 q2573) (by decide +kernel) ⟨(Nat.le_of_ble_eq_true rfl), (Nat.le_of_ble_eq_true rfl)⟩ rfl rfl (Nat.le_of_ble_eq_true rfl) (by first | exact Nat.le_of_ble_eq_true rfl | omega) (by first | exact Nat.le_of_ble_eq_true rfl | omega) rfl (fun v_19 M_20 h_22 hE_21 => ?_)
  obtain ⟨rfl, hMs⟩ := h_22
  have hMs := hMs.symm
  subst hMs
  rw [hwn]
  refine x_astore_n (n' := 9) dX1_hours_2_8 rfl (Nat.le_of_ble_eq_true rfl) rfl (by dsimp only [List.set] <;> rfl) rfl ?_
  refine x_aload_n (n' := 10) dX1_hours_2_9 rfl rfl rfl ?_
  refine x_aload_n (n' := 11) dX1_hours_2_10 rfl rfl rfl ?_
  refine x_getI (n' := 14) dX1_hours_2_11 (hW.s.k) ffX1_128_1 rfl rfl ?_
  refine x_topv ((hW.i 9 (by decide)).trans hh) ?_
  refine x_callV (n' := 17) (n := 1) (K := 1) (c_X1_isDark l G _ w a kf sf g nk nr h hW hb1) dX1_hours_2_14 (hW.s.k) rfl (lw_V q2580 q2581 q2582 q78 q2583) (by decide +kernel) ⟨(Nat.le_of_ble_eq_true rfl), (Nat.le_of_ble_eq_true rfl)⟩ rfl rfl (Nat.le_of_ble_eq_true rfl) (by first | exact Nat.le_of_ble_eq_true rfl | omega) (by first | exact Nat.le_of_ble_eq_true rfl | omega) rfl (fun v_23 M_24 h_26 hE_25 => ?_)
  obtain ⟨rfl, hMs⟩ := h_26
  have hMs := hMs.symm
  subst hMs
  refine x_istore_n (n' := 18) dX1_hours_2_17 rfl (Nat.le_of_ble_eq_true rfl) rfl (by dsimp only [List.set] <;> rfl) rfl ?_
  refine x_aload_n (n' := 19) dX1_hours_2_18 rfl rfl rfl ?_
  refine x_getRs (n' := 22) (b := (a 1)) dX1_hours_2_19 (hW.s.k) ffX1_35_1 rfl (hW.s.r 1 (by decide)) rfl ?_
  refine x_aload_n (n' := 23) dX1_hours_2_22 rfl rfl rfl ?_
  refine x_getI (n' := 26) dX1_hours_2_23 (hW.s.k) ffX1_128_1 rfl rfl ?_
  refine x_topv ((hW.i 9 (by decide)).trans hh) ?_
  refine x_bipush (n' := 28) (v := 24) dX1_hours_2_26 (by decide) rfl ?_
  refine x_irem (n' := 29) dX1_hours_2_28 (by decide) rfl ?_
  refine x_topv (rem24 hb1) ?_
  refine x_ildk (n' := 30) (N := 24) dX1_hours_2_29 (hW.s.ak 1 (by decide)) (hW.s.an 1 (by decide)) (by repeat' (first | with_reducible exact nl_0 | with_reducible exact nl_1 | with_reducible exact nl_4 | with_reducible exact nl_24 | with_reducible exact rfl | apply i_add | apply i_mul)) (by omega) (by decide) (hW.plan (h % 24) (Nat.mod_lt _ (by decide))) rfl ?_
  refine x_istore_n (n' := 31) dX1_hours_2_30 rfl (Nat.le_of_ble_eq_true rfl) rfl (by dsimp only [List.set] <;> rfl) rfl ?_
  refine x_iload_n (n' := 32) dX1_hours_2_31 rfl rfl rfl ?_
  refine x_iconst (n' := 33) (v := -1) dX1_hours_2_32 (by decide) rfl ?_
  refine x_icmp_ne (n' := 36) (tgt := 40) dX1_hours_2_33 (by decide) rfl (fun c33_27 => absurd hpe c33_27) (fun c33_27 => ?_)
  refine x_null (n' := 37) dX1_hours_2_36 rfl ?_
  refine x_goto (tgt := 51) dX1_hours_2_37 (by decide) ?_
  refine x_astoreN (n' := 53) dX1_hours_2_51 (Nat.le_of_ble_eq_true rfl) rfl (by dsimp only [List.set] <;> rfl) rfl ?_
  refine x_aloadN (n' := 55) dX1_hours_2_53 rfl rfl ?_
  refine x_ifnullN (tgt := 71) dX1_hours_2_55 (by decide) ?_
  refine x_null (n' := 72) dX1_hours_2_71 rfl ?_
  refine x_astoreN (n' := 74) dX1_hours_2_72 (Nat.le_of_ble_eq_true rfl) rfl (by dsimp only [List.set] <;> rfl) rfl ?_
  refine x_aload_n (n' := 75) dX1_hours_2_74 rfl rfl rfl ?_
  refine x_iload_n (n' := 76) dX1_hours_2_75 rfl rfl rfl ?_
  refine x_aloadN (n' := 78) dX1_hours_2_76 rfl rfl ?_
  refine x_ifnullN (tgt := 85) dX1_hours_2_78 (by decide) ?_
  refine x_iconst (n' := 86) (v := 0) dX1_hours_2_85 (by decide) rfl ?_
  refine x_topv (y := bi (tendP g (plV g h))) ((bi_f hnt).symm) ?_
  refine x_callV (n' := 89) (n := 2) (K := 1) (c_X1_burns l G _ w a kf sf g nk nr (dkG g h) (tendP g (plV g h)) h hW h6 h20 hh hb1) dX1_hours_2_86 (hW.s.k) rfl (lw_V q2601 q2603 qs32 q78 q2604) (by decide +kernel) ⟨(Nat.le_of_ble_eq_true rfl), (Nat.le_of_ble_eq_true rfl)⟩ rfl rfl (Nat.le_of_ble_eq_true rfl) (by first | exact Nat.le_of_ble_eq_true rfl | omega) (by first | exact Nat.le_of_ble_eq_true rfl | omega) rfl (fun v_28 M_b h_30 hE_29 => ?_)
  obtain ⟨rfl, hW9, hF9⟩ := h_30
  have hW := hW9
  have hF := hF.tr hF9
  refine x_aload_n (n' := 90) dX1_hours_2_89 rfl rfl rfl ?_
  refine x_disp3k ((hcn.kE hF.kE) wt (by omega)) (wi_k hw3) (fun e8 hk8 k8 => x_callK (n' := 93) (K := 200) (v := 0) (x := ⟨"KeptLight$Weather", "wantsSound", "()Z"⟩) (y := yX6_wantsSound) (owner := "KeptLight$Weather") dX1_hours_2_90 hk8 rfl q2635 q1059 (Or.inr ⟨q1058, _, _, _, q1065⟩) (by decide) q1060 q1058 q1065 (by decide +kernel) (by decide +kernel) (Or.inl ⟨_, dX6_wantsSound_0, rfl, dX6_wantsSound_1⟩) (by decide +kernel) ⟨(Nat.le_of_ble_eq_true rfl), (Nat.le_of_ble_eq_true rfl)⟩ (Nat.le_of_ble_eq_true rfl) rfl (x_topv (wi_s (w := wt) (i := 0) (by decide) e8 rfl) k8)) (fun e8 hk8 k8 => x_callK (n' := 93) (K := 201) (v := 1) (x := ⟨"KeptLight$Weather", "wantsSound", "()Z"⟩) (y := yX28_wantsSound) (owner := "KeptLight$Weather") dX1_hours_2_90 hk8 rfl q2635 q1059 (Or.inr ⟨q1058, _, _, _, q1065⟩) (by decide) q1061 q1062 q1063 (by decide +kernel) (by decide +kernel) (Or.inl ⟨_, dX28_wantsSound_0, rfl, dX28_wantsSound_1⟩) (by decide +kernel) ⟨(Nat.le_of_ble_eq_true rfl), (Nat.le_of_ble_eq_true rfl)⟩ (Nat.le_of_ble_eq_true rfl) rfl (x_topv (wi_s (w := wt) (i := 1) (by decide) e8 rfl) k8)) (fun e8 hk8 k8 => x_callK (n' := 93) (K := 202) (v := 0) (x := ⟨"KeptLight$Weather", "wantsSound", "()Z"⟩) (y := yX6_wantsSound) (owner := "KeptLight$Weather") dX1_hours_2_90 hk8 rfl q2635 q1059 (Or.inr ⟨q1058, _, _, _, q1065⟩) (by decide) q1064 q1058 q1065 (by decide +kernel) (by decide +kernel) (Or.inl ⟨_, dX6_wantsSound_0, rfl, dX6_wantsSound_1⟩) (by decide +kernel) ⟨(Nat.le_of_ble_eq_true rfl), (Nat.le_of_ble_eq_true rfl)⟩ (Nat.le_of_ble_eq_true rfl) rfl (x_topv (wi_s (w := wt) (i := 2) (by decide) e8 rfl) k8)) ?_
  refine x_if_eq (n' := 96) (tgt := 115) dX1_hours_2_93 (by decide) rfl (fun c93_31 => ?_) (fun c93_31 => ?_)
  · refine x_iconst (n' := 116) (v := 0) dX1_hours_2_115 (by decide) rfl ?_
    refine x_istore (n' := 118) dX1_hours_2_116 (Nat.le_of_ble_eq_true rfl) rfl (by dsimp only [List.set] <;> rfl) rfl ?_
    refine x_loc (i := 6) (y := coV g h nr) rfl (by first | exact cov_a hwe hw3 (by assumption) | exact cov_b ht9) rfl ?_
    exact x_drop (cut118 _ hW hF) ⟨rfl, ⟨rfl, ⟨rfl, ⟨rfl, ⟨rfl, ⟨rfl, ⟨rfl, trivial⟩⟩⟩⟩⟩⟩⟩
  · refine x_aloadN (n' := 98) dX1_hours_2_96 rfl rfl ?_
    refine x_ifnullN (tgt := 115) dX1_hours_2_98 (by decide) ?_
    refine x_iconst (n' := 116) (v := 0) dX1_hours_2_115 (by decide) rfl ?_
    refine x_istore (n' := 118) dX1_hours_2_116 (Nat.le_of_ble_eq_true rfl) rfl (by dsimp only [List.set] <;> rfl) rfl ?_
    refine x_loc (i := 6) (y := coV g h nr) rfl (by first | exact cov_a hwe hw3 (by assumption) | exact cov_b ht9) rfl ?_
    exact x_drop (cut118 _ hW hF) ⟨rfl, ⟨rfl, ⟨rfl, ⟨rfl, ⟨rfl, ⟨rfl, ⟨rfl, trivial⟩⟩⟩⟩⟩⟩⟩

set_option maxHeartbeats 4000000 in
set_option maxRecDepth 100000 in
theorem k262_c_X1_hours_2__mB (l : Launch) (G : kG) (M : kM) (w : Nat) (a kf sf sa : Nat → Nat) (T : kT) (ex : Nat → Prop) (g : gT) (nk nr ns : Nat) (h wt k : Nat) (x y : Int32) (hM : MB G M w a kf sf sa T ex g nk nr ns) (hwe : weaG g nr h = nI wt) (hw3 : wt < 3) (hw : WF g h nr nk ns) (hbb : h + 1 < BB) (hcn : CN G M) (hk : k < nk) (hpe : plV g h = nI k) (hf : (fallP g (plV g h))) (hT17 : mI M (fc 1 17) w = 1) (hx : mI M (fc 1 18) w = x) (hy : mI M (fc 1 19) w = y) (pp : Program) (ee : Env) (ss : State) (mm : MethodId) (args : Array Value) (below : List Frame) (meth : Method) (cd : Code) (hmn : meth.name = yX1_hours_2.name) (hret : meth.sig.returnType = none) : ∀ (sg : Nat) (M1 : kM) (hM : MB G M1 w a kf sf sa T ex (cC3 g h nr) nk nr ns) (hS : (SGP G M1 sg wt (bi (dkG g h)) (bi (cC3 g h nr 6 = 1)) (bi (coalP (s2 g h) (weaG g nr h) (tev g h))) ∧ mG M1 sg = a 4 + 1)) (hc : mI M1 (fc 1 18) w = x + wpc (shF (dav g h) (coV g h nr) (nI wt) (cC3 g h nr)) 1 (rk (cC3 g h nr) (nI h) ns) ∧ mI M1 (fc 1 19) w = y + wpc (shF (dav g h) (coV g h nr) (nI wt) (cC3 g h nr)) 2 (rk (cC3 g h nr) (nI h) ns) ∧ mI M1 (fc 1 17) w = 1) (hF1 : Fr (FSm w a) M M1), Wx pp l ee { frames := 12, cells := 0, slots := 0, locals := 260 } ss mm args below meth cd "KeptLight$World" cX1_hours_2 8 G (MQ below (KQ G M (fun v M2 => v = none ∧ MB G M2 w a kf sf sa T ex (hourG g h nr nk ns) nk nr ns ∧ (mI M2 (fc 1 18) w = x + wpc (shF (dav g h) (coV g h nr) (nI wt) (cC3 g h nr)) 1 (rk (cC3 g h nr) (nI h) ns) ∧ mI M2 (fc 1 19) w = y + wpc (shF (dav g h) (coV g h nr) (nI wt) (cC3 g h nr)) 2 (rk (cC3 g h nr) (nI h) ns) ∧ mI M2 (fc 1 17) w = 1) ∧ Fr (FSm w a) M M2)) args ss (0) (0) (kA G)) 262 [some (.ref w), some (.ref (G.2.2.2 wt)), some (.int (bi (dkG g h))), some (.int (nI k)), some (.ref (kf k)), some .null, none, some (.ref sg)] [] (M1) (0) (0) := by
  have hF : FX w M M := FX.rf
  have hW := hM.wc
  have h6 := hM.b.1
  have h20 := hM.b.2.1
  have hr := hw.rn
  have hh := hw.hh
  have hb1 : h < 2147483648 := by have : BB = 2147483648 := rfl; omega
  have hwn : nn (weaG g nr h) = wt := by rw [hwe]; exact nn_nI (by omega)
  have hpl6 : 0 ≤ plV g h → nn (plV g h) < 6 := hw.pl _ (Nat.mod_lt _ (by decide))
  have hk6 : k < 6 := by omega
  have hpn : nn (plV g h) = k := by rw [hpe]; exact nn_nI (by omega)
  have hp0 : 0 ≤ plV g h := by rw [hpe]; exact nI_nn (by omega)
  have hf2 : 12 - 3 * nI (nn (g (61 + 4 * k))) ≤ g (61 + 4 * k + 1) := by have q := hf.2; rw [hpn] at q; rw [← hW.rk hk]; exact q
  have hnt : ¬ (tendP g (plV g h)) := fun q => q.2 hf
  have ht9 : tev g h = 0 := bi_f hnt
  have hf1 : ¬ fav g h = 0 := fun q => bi_0.mp q hf
  intro sg M1 hM hS hc hF1
  have hW := hM.wc
  have hE9 := hF1.kE
  refine x_aload_n (n' := 263) dX1_hours_2_262 rfl rfl rfl ?_
  refine x_aloadN (n' := 265) dX1_hours_2_263 rfl rfl ?_
  refine x_aload_n (n' := 266) dX1_hours_2_265 rfl rfl rfl ?_
  refine x_callV (n' := 269) (n := 2) (K := 1) (c_X1_rests__n l G _ w a kf sf (cC3 g h nr) nk nr wt hW h6 h20 hw3 (hcn.kE hE9)) dX1_hours_2_266 (hW.s.k) rfl (lw_V q2739 q2741 qs39 q78 q2742) (by decide +kernel) ⟨(Nat.le_of_ble_eq_true rfl), (Nat.le_of_ble_eq_true rfl)⟩ rfl rfl (Nat.le_of_ble_eq_true rfl) (by first | exact Nat.le_of_ble_eq_true rfl | omega) (by first | exact Nat.le_of_ble_eq_true rfl | omega) rfl (fun v_1 M_r h_3 hE_2 => ?_)
  obtain ⟨rfl, hW9, hF9⟩ := h_3
  have hW := hW9
  have hS := sg_fr hS hF9.1 (fun e9 => hM.wc.s4 (Nat.succ.inj e9))
  have hF := hF9
  refine x_aload_n (n' := 270) dX1_hours_2_269 rfl rfl rfl ?_
  refine x_aload (n' := 272) dX1_hours_2_270 rfl rfl ?_
  have hz0 : (tireG (cC3 g h nr) (-1) (nI wt) nk) 0 = nI h := (by unfold tireG; exact if_neg (fun q => by omega) : (tireG (cC3 g h nr) (-1) (nI wt) nk) 0 = (cC3 g h nr) 0).trans ((cC3_hi hpl6 (Or.inl rfl)).trans hh)
  refine x_callV (n' := 275) (n := 1) (K := 1) (c_X1_lands l G _ w a kf sf (tireG (cC3 g h nr) (-1) (nI wt) nk) nk nr sg wt h _ _ _ hW h6 h20 hS.1 (hz0)) dX1_hours_2_272 (hW.s.k) rfl (lw_V q2756 q2758 qs40 q78 q2759) (by decide +kernel) ⟨(Nat.le_of_ble_eq_true rfl), (Nat.le_of_ble_eq_true rfl)⟩ rfl rfl (Nat.le_of_ble_eq_true rfl) (by first | exact Nat.le_of_ble_eq_true rfl | omega) (by first | exact Nat.le_of_ble_eq_true rfl | omega) rfl (fun v_4 M_l h_6 hE_5 => ?_)
  obtain ⟨rfl, hW9, hF9⟩ := h_6
  have hW := hW9
  have hF := hF.tr hF9
  refine x_aload_n (n' := 276) dX1_hours_2_275 rfl rfl rfl ?_
  refine x_dup (n' := 277) dX1_hours_2_276 rfl rfl ?_
  refine x_getI (n' := 280) dX1_hours_2_277 (hW.s.k) ffX1_128_1 rfl rfl ?_
  refine x_topv ((hW.i 9 (by decide)).trans (hg9_0.trans hz0)) ?_
  refine x_iconst (n' := 281) (v := 1) dX1_hours_2_280 (by decide) rfl ?_
  refine x_iadd (n' := 282) dX1_hours_2_281 rfl ?_
  rw [nI_1]
  refine x_putI (n' := 285) dX1_hours_2_282 (hW.s.k) ffX1_128_1 rfl (⟨rfl, rfl⟩) rfl rfl ?_
  refine x_gen (X := fun M9 => WC G M9 w a kf sf (va_up (hg9 (tireG (cC3 g h nr) (-1) (nI wt) nk) h nk (bi (boatP (tireG (cC3 g h nr) (-1) (nI wt) nk) h (nI wt) (dav g h)))) 0 (nI (h + 1))) nk nr ∧ FX w M1 M9) ⟨hW.setI h6 h20 9 (by decide) (fun e => by cases e), hF.tr (hW.setIF 9)⟩ (fun M_7 hM9 => ?_)
  obtain ⟨hW, hF⟩ := hM9
  have hWf := Eq.mpr (congrArg (fun g9 => WC G _ w a kf sf g9 nk nr) (show (hEnd (cC3 g h nr) g h nr nk (-1)) = va_up (hg9 (tireG (cC3 g h nr) (-1) (nI wt) nk) h nk (bi (boatP (tireG (cC3 g h nr) (-1) (nI wt) nk) h (nI wt) (dav g h)))) 0 (nI (h + 1)) from by unfold hEnd; simp only [hwe])) hW
  have hWg := hWf.cg h6 h20 (g' := hourG g h nr nk ns) (fun j hj => hourL_C hw.s2 hpl6 ht9 hj)
  have hMf := hM.own hF.1 hWg (fun s hs => by have a1 := (hrs_keep (n := 1) hw (j := 109 + 4 * s + 1) (by have := hM.b.2.2; unfold kpI; omega) (by omega)); have a2 := (hrs_keep (n := 1) hw (j := 109 + 4 * s) (by have := hM.b.2.2; unfold kpI; omega) (by omega)); exact ⟨a1.trans (cC3_hi hpl6 (by omega)).symm, a2.trans (cC3_hi hpl6 (by omega)).symm⟩)
  have hFz := hF1.tr (hF.1.mono (fun _ e9 => Or.inl e9))
  have hcz : mI _ (fc 1 18) w = _ ∧ mI _ (fc 1 19) w = _ ∧ mI _ (fc 1 17) w = _ := ⟨(hF.2 18 (by decide)).trans hc.1, (hF.2 19 (by decide)).trans hc.2.1, (hF.2 17 (by decide)).trans hc.2.2⟩
  exact x_vret dX1_hours_2_285 hret hFz.kE (⟨rfl, hMf, hcz, hFz⟩)
set_option maxHeartbeats 4000000 in
set_option maxRecDepth 100000 in
theorem k118_c_X1_hours_2__mB (l : Launch) (G : kG) (M : kM) (w : Nat) (a kf sf sa : Nat → Nat) (T : kT) (ex : Nat → Prop) (g : gT) (nk nr ns : Nat) (h wt k : Nat) (x y : Int32) (hM : MB G M w a kf sf sa T ex g nk nr ns) (hwe : weaG g nr h = nI wt) (hw3 : wt < 3) (hw : WF g h nr nk ns) (hbb : h + 1 < BB) (hcn : CN G M) (hk : k < nk) (hpe : plV g h = nI k) (hf : (fallP g (plV g h))) (hT17 : mI M (fc 1 17) w = 1) (hx : mI M (fc 1 18) w = x) (hy : mI M (fc 1 19) w = y) (pp : Program) (ee : Env) (ss : State) (mm : MethodId) (args : Array Value) (below : List Frame) (meth : Method) (cd : Code) (hmn : meth.name = yX1_hours_2.name) (hret : meth.sig.returnType = none) : ∀ (M1 : kM) (hW : WC G M1 w a kf sf (lampG g (dav g h) (tev g h) h) nk nr) (hF : FX w M M1), Wx pp l ee { frames := 12, cells := 0, slots := 0, locals := 260 } ss mm args below meth cd "KeptLight$World" cX1_hours_2 8 G (MQ below (KQ G M (fun v M2 => v = none ∧ MB G M2 w a kf sf sa T ex (hourG g h nr nk ns) nk nr ns ∧ (mI M2 (fc 1 18) w = x + wpc (shF (dav g h) (coV g h nr) (nI wt) (cC3 g h nr)) 1 (rk (cC3 g h nr) (nI h) ns) ∧ mI M2 (fc 1 19) w = y + wpc (shF (dav g h) (coV g h nr) (nI wt) (cC3 g h nr)) 2 (rk (cC3 g h nr) (nI h) ns) ∧ mI M2 (fc 1 17) w = 1) ∧ Fr (FSm w a) M M2)) args ss (0) (0) (kA G)) 118 [some (.ref w), some (.ref (G.2.2.2 wt)), some (.int (bi (dkG g h))), some (.int (nI k)), some (.ref (kf k)), some .null, some (.int (coV g h nr)), none] [] (M1) (0) (0) := by
  have hF : FX w M M := FX.rf
  have hW := hM.wc
  have h6 := hM.b.1
  have h20 := hM.b.2.1
  have hr := hw.rn
  have hh := hw.hh
  have hb1 : h < 2147483648 := by have : BB = 2147483648 := rfl; omega
  have hwn : nn (weaG g nr h) = wt := by rw [hwe]; exact nn_nI (by omega)
  have hpl6 : 0 ≤ plV g h → nn (plV g h) < 6 := hw.pl _ (Nat.mod_lt _ (by decide))
  have hk6 : k < 6 := by omega
  have hpn : nn (plV g h) = k := by rw [hpe]; exact nn_nI (by omega)
  have hp0 : 0 ≤ plV g h := by rw [hpe]; exact nI_nn (by omega)
  have hf2 : 12 - 3 * nI (nn (g (61 + 4 * k))) ≤ g (61 + 4 * k + 1) := by have q := hf.2; rw [hpn] at q; rw [← hW.rk hk]; exact q
  have hnt : ¬ (tendP g (plV g h)) := fun q => q.2 hf
  have ht9 : tev g h = 0 := bi_f hnt
  have hf1 : ¬ fav g h = 0 := fun q => bi_0.mp q hf
  have cut262 := k262_c_X1_hours_2__mB l G M w a kf sf sa T ex g nk nr ns h wt k x y hM hwe hw3 hw hbb hcn hk hpe hf hT17 hx hy pp ee ss mm args below meth cd hmn hret
  intro M1 hW hF
  refine x_aload_n (n' := 119) dX1_hours_2_118 rfl rfl rfl ?_
  refine x_getRs (n' := 122) (b := (a 10)) dX1_hours_2_119 (hW.s.k) ffX1_57_1 rfl (hW.s.r 10 (by decide)) rfl ?_
  refine x_iconst (n' := 123) (v := 4) dX1_hours_2_122 (by decide) rfl ?_
  refine x_dup2_11 (n' := 124) dX1_hours_2_123 rfl rfl rfl ?_
  refine x_ildk (n' := 125) (N := 5) dX1_hours_2_124 (hW.s.ak 10 (by decide)) (hW.s.an 10 (by decide)) (by repeat' (first | with_reducible exact nl_0 | with_reducible exact nl_1 | with_reducible exact nl_4 | with_reducible exact nl_24 | with_reducible exact rfl | apply i_add | apply i_mul)) (by omega) (by decide) ((hW.told 4 (by decide)).trans lamp_5) rfl ?_
  refine x_iload (n' := 127) dX1_hours_2_125 rfl rfl ?_
  refine x_fork (J := 135) (x_if_eq (n' := 130) (tgt := 134) dX1_hours_2_127 (by decide) rfl) (v1 := ?v1_f127_8) (v2 := ?v2_f127_8) (fun c_f127_8 j_f127_8 => ?b1_f127_8) (fun c_f127_8 j_f127_8 => ?b2_f127_8) ?k_f127_8
  case b1_f127_8 =>
    refine x_iconst (n' := 135) (v := 0) dX1_hours_2_134 (by decide) rfl ?_
    exact j_f127_8
  case b2_f127_8 =>
    refine x_iconst (n' := 131) (v := 1) dX1_hours_2_130 (by decide) rfl ?_
    refine x_goto (tgt := 135) dX1_hours_2_131 (by decide) ?_
    exact j_f127_8
  refine x_topv bi_if ?_
  refine x_isub (n' := 136) dX1_hours_2_135 rfl ?_
  refine x_iastk (n' := 137) (N := 5) dX1_hours_2_136 (hW.s.ak 10 (by decide)) (hW.s.an 10 (by decide)) (by repeat' (first | with_reducible exact nl_0 | with_reducible exact nl_1 | with_reducible exact nl_4 | with_reducible exact nl_24 | with_reducible exact rfl | apply i_add | apply i_mul)) (by omega) (by decide) (by first | with_reducible exact mA_sA | with_reducible exact mA_SC0 | with_reducible exact mA_SC1 hS | with_reducible exact mA_SC5 hS | with_reducible exact mA_SC6 hS | with_reducible exact mA_SC10 hS | with_reducible exact mA_SC11 hS | with_reducible exact mA_SC12 hS | with_reducible exact mA_sI_sA | with_reducible exact mA_sI3_sA | rfl) (by first | with_reducible exact SC_A0 | with_reducible exact SC_A1 hS | with_reducible exact SC_A5 hS | with_reducible exact SC_A6 hS | with_reducible exact SC_A10 hS | with_reducible exact SC_A11 hS | with_reducible exact SC_A12 hS | with_reducible exact sA_sA | with_reducible exact sA_sI_sA | with_reducible exact sA_sI3_sA | rfl) rfl ?_
  refine x_gen (X := fun M9 => WC G M9 w a kf sf (va_up (lampG g (dav g h) (tev g h) h) (1 + 4) (g 5 - coV g h nr)) nk nr ∧ FX w M M9) ⟨hW.setTold h6 h20 (i := 4) (by decide), hF.tr (hW.setA 10 (by decide))⟩ (fun M_9 hM9 => ?_)
  obtain ⟨hW, hF⟩ := hM9
  refine x_aload_n (n' := 138) dX1_hours_2_137 rfl rfl rfl ?_
  refine x_getRs (n' := 141) (b := (a 4)) dX1_hours_2_138 (hW.s.k) ffX1_21_1 rfl (hW.s.r 4 (by decide)) rfl ?_
  refine x_aload_n (n' := 142) dX1_hours_2_141 rfl rfl rfl ?_
  refine x_iload_n (n' := 143) dX1_hours_2_142 rfl rfl rfl ?_
  refine x_aload_n (n' := 144) dX1_hours_2_143 rfl rfl rfl ?_
  refine x_getI (n' := 147) dX1_hours_2_144 (hW.s.k) ffX1_131_1 rfl rfl ?_
  refine x_topv ((hW.i 12 (by decide)).trans (lit_bi hW.lit)) ?_
  refine x_iload (n' := 149) dX1_hours_2_147 rfl rfl ?_
  refine x_callV (n' := 152) (n := 4) (K := 5) (c_X5_of l G _ (a 4) wt (dkG g h) ((va_up (lampG g (dav g h) (tev g h) h) (1 + 4) (g 5 - coV g h nr)) 6 = 1) (coalP (s2 g h) (weaG g nr h) (tev g h)) hW.s.2.2.2.2.2 hw3 (hcn.kE hF.kE)) dX1_hours_2_149 (SGS.k hW.s.2.2.2.2.2) rfl (lw_V q2636 q2637 q2638 q84 q2639) (by decide +kernel) ⟨(Nat.le_of_ble_eq_true rfl), (Nat.le_of_ble_eq_true rfl)⟩ rfl rfl (Nat.le_of_ble_eq_true rfl) (by first | exact Nat.le_of_ble_eq_true rfl | omega) (by first | exact Nat.le_of_ble_eq_true rfl | omega) rfl (fun v_10 M_11 h_13 hE_12 => ?_)
  obtain ⟨sg, rfl, hMs, hsg, hsgo⟩ := h_13
  have hMs := hMs.symm
  subst hMs
  refine x_astore (n' := 154) dX1_hours_2_152 (Nat.le_of_ble_eq_true rfl) rfl (by dsimp only [List.set] <;> rfl) rfl ?_
  refine x_aload (n' := 156) dX1_hours_2_154 rfl rfl ?_
  refine x_ifnull (n' := 159) dX1_hours_2_156 rfl ?_
  refine x_aload (n' := 161) dX1_hours_2_159 rfl rfl ?_
  refine x_dup (n' := 162) dX1_hours_2_161 rfl rfl ?_
  refine x_getI (n' := 165) dX1_hours_2_162 ((hW.kp hk).1) ffX1_290_15 rfl rfl ?_
  refine x_topv (hW.kp hk).2.2.2.2.2.2.2.1 ?_
  refine x_aloadN (n' := 167) dX1_hours_2_165 rfl rfl ?_
  refine x_ifnullN (tgt := 174) dX1_hours_2_167 (by decide) ?_
  refine x_iconst (n' := 175) (v := 0) dX1_hours_2_174 (by decide) rfl ?_
  refine x_callSN (n' := 178) (n := 1) (c_X0_one l G _ _) dX1_hours_2_175 (lw_meth q1032) q2643 q77 q1031 (by decide +kernel) ⟨(Nat.le_of_ble_eq_true rfl), (Nat.le_of_ble_eq_true rfl)⟩ rfl rfl (Nat.le_of_ble_eq_true rfl) (by first | exact Nat.le_of_ble_eq_true rfl | omega) (by first | exact Nat.le_of_ble_eq_true rfl | omega) rfl (fun v_14 M_15 h_17 hE_16 => ?_)
  obtain ⟨rfl, hMs⟩ := h_17
  have hMs := hMs.symm
  subst hMs
  refine x_topv (y := bi (¬ (fallP g (plV g h)))) (by rw [bi_f (fun z => z hf)]; rfl) ?_
  refine x_iadd (n' := 179) dX1_hours_2_178 rfl ?_
  refine x_putI (n' := 182) dX1_hours_2_179 ((hW.kp hk).1) ffX1_290_15 rfl (⟨rfl, rfl⟩) rfl rfl ?_
  have hFk := hW.setKF (j := 3) (v := (va_up (lampG g (dav g h) (tev g h) h) (1 + 4) (g 5 - coV g h nr)) (61 + 4 * k + 2) + bi (¬ (fallP g (plV g h)))) hk
  refine x_gen (X := fun M9 => WC G M9 w a kf sf (va_up (va_up (lampG g (dav g h) (tev g h) h) (1 + 4) (g 5 - coV g h nr)) (61 + 4 * k + (3 - 1)) ((va_up (lampG g (dav g h) (tev g h) h) (1 + 4) (g 5 - coV g h nr)) (61 + 4 * k + 2) + bi (¬ (fallP g (plV g h))))) nk nr ∧ FX w M M9 ∧ (SGP G M9 sg wt (bi (dkG g h)) (bi ((va_up (lampG g (dav g h) (tev g h) h) (1 + 4) (g 5 - coV g h nr)) 6 = 1)) (bi (coalP (s2 g h) (weaG g nr h) (tev g h))) ∧ mG M9 sg = a 4 + 1)) ⟨hW.setK h6 h20 3 hk (Or.inr (Or.inl rfl)), hF.tr hFk, sg_fr ⟨hsg, hsgo⟩ hFk.1 (fun e9 => hW.s4 (Nat.succ.inj e9))⟩ (fun M_18 hM9 => ?_)
  obtain ⟨hW, hF, hsg, hsgo⟩ := hM9
  refine x_aload (n' := 184) dX1_hours_2_182 rfl rfl ?_
  refine x_dup (n' := 185) dX1_hours_2_184 rfl rfl ?_
  refine x_getI (n' := 188) dX1_hours_2_185 ((hW.kp hk).1) ffX1_293_15 rfl rfl ?_
  refine x_topv (hW.kp hk).2.2.2.2.2.2.2.2 ?_
  refine x_aloadN (n' := 190) dX1_hours_2_188 rfl rfl ?_
  refine x_ifnonnullN (n' := 193) dX1_hours_2_190 rfl ?_
  refine x_iconst (n' := 194) (v := 1) dX1_hours_2_193 (by decide) rfl ?_
  refine x_goto (tgt := 198) dX1_hours_2_194 (by decide) ?_
  refine x_callSN (n' := 201) (n := 1) (c_X0_one l G _ _) dX1_hours_2_198 (lw_meth q1032) q2643 q77 q1031 (by decide +kernel) ⟨(Nat.le_of_ble_eq_true rfl), (Nat.le_of_ble_eq_true rfl)⟩ rfl rfl (Nat.le_of_ble_eq_true rfl) (by first | exact Nat.le_of_ble_eq_true rfl | omega) (by first | exact Nat.le_of_ble_eq_true rfl | omega) rfl (fun v_19 M_20 h_22 hE_21 => ?_)
  obtain ⟨rfl, hMs⟩ := h_22
  have hMs := hMs.symm
  subst hMs
  refine x_topv (y := bi (fallP g (plV g h))) (by rw [bi_t hf]; rfl) ?_
  refine x_iadd (n' := 202) dX1_hours_2_201 rfl ?_
  refine x_putI (n' := 205) dX1_hours_2_202 ((hW.kp hk).1) ffX1_293_15 rfl (⟨rfl, rfl⟩) rfl rfl ?_
  have hFk2 := hW.setKF (j := 4) (v := (va_up (va_up (lampG g (dav g h) (tev g h) h) (1 + 4) (g 5 - coV g h nr)) (61 + 4 * k + (3 - 1)) ((va_up (lampG g (dav g h) (tev g h) h) (1 + 4) (g 5 - coV g h nr)) (61 + 4 * k + 2) + bi (¬ (fallP g (plV g h))))) (61 + 4 * k + 3) + bi (fallP g (plV g h))) hk
  have hW := hW.setK h6 h20 (v := (va_up (va_up (lampG g (dav g h) (tev g h) h) (1 + 4) (g 5 - coV g h nr)) (61 + 4 * k + (3 - 1)) ((va_up (lampG g (dav g h) (tev g h) h) (1 + 4) (g 5 - coV g h nr)) (61 + 4 * k + 2) + bi (¬ (fallP g (plV g h))))) (61 + 4 * k + 3) + bi (fallP g (plV g h))) 4 hk (Or.inr (Or.inr rfl))
  have e3 : (va_up (va_up (lampG g (dav g h) (tev g h) h) (1 + 4) (g 5 - coV g h nr)) (61 + 4 * k + (3 - 1)) ((va_up (lampG g (dav g h) (tev g h) h) (1 + 4) (g 5 - coV g h nr)) (61 + 4 * k + 2) + bi (¬ (fallP g (plV g h))))) (61 + 4 * k + 3) = (va_up (lampG g (dav g h) (tev g h) h) (1 + 4) (g 5 - coV g h nr)) (61 + 4 * k + 3) := va_up_ne _ _ (by omega)
  rw [e3] at hW hFk2 ⊢
  have hF := hF.tr hFk2
  have hFk := hFk2
  have hW9 := Eq.mpr (congrArg (fun g9 => WC G _ w a kf sf g9 nk nr) (cC3_B hpe hk6)) hW
  have hS9 := sg_fr ⟨hsg, hsgo⟩ hFk.1 (fun e9 => hW.s4 (Nat.succ.inj e9))
  rw [show (va_up (lampG g (dav g h) (tev g h) h) (1 + 4) (g 5 - coV g h nr)) 6 = cC3 g h nr 6 from (va_up_ne _ _ (by decide)).trans cC3_6.symm] at hS9
  have h17 := hF.2 17 (by decide)
  refine x_gen (X := fun M9 => MB G M9 w a kf sf sa T ex (cC3 g h nr) nk nr ns ∧ (SGP G M9 sg wt (bi (dkG g h)) (bi (cC3 g h nr 6 = 1)) (bi (coalP (s2 g h) (weaG g nr h) (tev g h))) ∧ mG M9 sg = a 4 + 1) ∧ (mI M9 (fc 1 18) w = x ∧ mI M9 (fc 1 19) w = y ∧ mI M9 (fc 1 17) w = 1) ∧ Fr (FSm w a) M M9) ⟨hM.own hF.1 hW9 (fun s hs => ⟨cC3_hi hpl6 (by omega), cC3_hi hpl6 (by omega)⟩), hS9, ⟨(hF.2 18 (by decide)).trans hx, (hF.2 19 (by decide)).trans hy, h17.trans hT17⟩, hF.1.mono (fun _ e9 => Or.inl e9)⟩ (fun M_23 hM9 => ?_)
  clear hW hF hS9 hW9 h17
  have hM0 := hM
  obtain ⟨hM, hS, hc, hF⟩ := hM9
  refine x_aload_n (n' := 206) dX1_hours_2_205 rfl rfl rfl ?_
  refine x_getI (n' := 209) dX1_hours_2_206 (hM.wc.s.k) ffX1_73_1 rfl rfl ?_
  refine x_topv hc.2.2 ?_
  refine x_if_eq (n' := 212) (tgt := 221) dX1_hours_2_209 (by decide) rfl (fun c209_24 => absurd c209_24 (by decide)) (fun c209_24 => ?_)
  refine x_aload_n (n' := 213) dX1_hours_2_212 rfl rfl rfl ?_
  refine x_aload (n' := 215) dX1_hours_2_213 rfl rfl ?_
  refine x_callV (n' := 218) (n := 1) (K := 1) (c_X1_wouldPass l G _ w a kf sf sa T ex (cC3 g h nr) nk nr ns sg wt h (dkG g h) (coalP (s2 g h) (weaG g nr h) (tev g h)) x y hM hS ((cC3_hi hpl6 (Or.inl rfl)).trans hh) (Nat.lt_trans (Nat.lt_succ_self h) hbb) hc.1 hc.2.1) dX1_hours_2_215 (hM.wc.s.k) rfl (lw_V q2644 q2646 qs36 q78 q2647) (by decide +kernel) ⟨(Nat.le_of_ble_eq_true rfl), (Nat.le_of_ble_eq_true rfl)⟩ rfl rfl (Nat.le_of_ble_eq_true rfl) (by first | exact Nat.le_of_ble_eq_true rfl | omega) (by first | exact Nat.le_of_ble_eq_true rfl | omega) rfl (fun v_25 M_p h_27 hE_26 => ?_)
  obtain ⟨rfl, hM8, hc8, hF8⟩ := h_27
  have hS := sg_fr hS hF8 hM.m4
  have hc := (⟨hc8.1, hc8.2.1, hc8.2.2.trans hc.2.2⟩ : mI M_p (fc 1 18) w = x + wpc (shF (dav g h) (coV g h nr) (nI wt) (cC3 g h nr)) 1 (rk (cC3 g h nr) (nI h) ns) ∧ mI M_p (fc 1 19) w = y + wpc (shF (dav g h) (coV g h nr) (nI wt) (cC3 g h nr)) 2 (rk (cC3 g h nr) (nI h) ns) ∧ mI M_p (fc 1 17) w = 1)
  have hF := hF.tr hF8
  have hM := hM8
  refine x_goto (tgt := 262) dX1_hours_2_218 (by decide) ?_
  exact x_drop (cut262 sg _ hM hS hc hF) ⟨rfl, ⟨rfl, ⟨rfl, ⟨rfl, ⟨rfl, ⟨rfl, ⟨rfl, trivial⟩⟩⟩⟩⟩⟩⟩
set_option maxHeartbeats 4000000 in
set_option maxRecDepth 100000 in
theorem c_X1_hours_2__mB (l : Launch) (G : kG) (M : kM) (w : Nat) (a kf sf sa : Nat → Nat) (T : kT) (ex : Nat → Prop) (g : gT) (nk nr ns : Nat) (h wt k : Nat) (x y : Int32) (hM : MB G M w a kf sf sa T ex g nk nr ns) (hwe : weaG g nr h = nI wt) (hw3 : wt < 3) (hw : WF g h nr nk ns) (hbb : h + 1 < BB) (hcn : CN G M) (hk : k < nk) (hpe : plV g h = nI k) (hf : (fallP g (plV g h))) (hT17 : mI M (fc 1 17) w = 1) (hx : mI M (fc 1 18) w = x) (hy : mI M (fc 1 19) w = y) : Kt l G yX1_hours_2 cX1_hours_2 8 none 12 260 [.ref w] M (0) (0) (fun v M2 => v = none ∧ MB G M2 w a kf sf sa T ex (hourG g h nr nk ns) nk nr ns ∧ (mI M2 (fc 1 18) w = x + wpc (shF (dav g h) (coV g h nr) (nI wt) (cC3 g h nr)) 1 (rk (cC3 g h nr) (nI h) ns) ∧ mI M2 (fc 1 19) w = y + wpc (shF (dav g h) (coV g h nr) (nI wt) (cC3 g h nr)) 2 (rk (cC3 g h nr) (nI h) ns) ∧ mI M2 (fc 1 17) w = 1) ∧ Fr (FSm w a) M M2) := by
  refine Kt.of (own := "KeptLight$World") (L := [some (.ref w), none, none, none, none, none, none, none]) (by decide +kernel) rfl (Nat.le_of_ble_eq_true rfl) rfl ?_
  intro pp ee ss mm args below meth cd hmn hret
  have hF : FX w M M := FX.rf
  have hW := hM.wc
  have h6 := hM.b.1
  have h20 := hM.b.2.1
  have hr := hw.rn
  have hh := hw.hh
  have hb1 : h < 2147483648 := by have : BB = 2147483648 := rfl; omega
  have hwn : nn (weaG g nr h) = wt := by rw [hwe]; exact nn_nI (by omega)
  have hpl6 : 0 ≤ plV g h → nn (plV g h) < 6 := hw.pl _ (Nat.mod_lt _ (by decide))
  have hk6 : k < 6 := by omega
  have hpn : nn (plV g h) = k := by rw [hpe]; exact nn_nI (by omega)
  have hp0 : 0 ≤ plV g h := by rw [hpe]; exact nI_nn (by omega)
  have hf2 : 12 - 3 * nI (nn (g (61 + 4 * k))) ≤ g (61 + 4 * k + 1) := by have q := hf.2; rw [hpn] at q; rw [← hW.rk hk]; exact q
  have hnt : ¬ (tendP g (plV g h)) := fun q => q.2 hf
  have ht9 : tev g h = 0 := bi_f hnt
  have hf1 : ¬ fav g h = 0 := fun q => bi_0.mp q hf
  have cut262 := k262_c_X1_hours_2__mB l G M w a kf sf sa T ex g nk nr ns h wt k x y hM hwe hw3 hw hbb hcn hk hpe hf hT17 hx hy pp ee ss mm args below meth cd hmn hret
  have cut118 := k118_c_X1_hours_2__mB l G M w a kf sf sa T ex g nk nr ns h wt k x y hM hwe hw3 hw hbb hcn hk hpe hf hT17 hx hy pp ee ss mm args below meth cd hmn hret
  refine x_aload_n (n' := 1) dX1_hours_2_0 rfl rfl rfl ?_
  refine x_aload_n (n' := 2) dX1_hours_2_1 rfl rfl rfl ?_
  refine x_getI (n' := 5) dX1_hours_2_2 (hW.s.k) ffX1_128_1 rfl rfl ?_
  refine x_topv ((hW.i 9 (by decide)).trans hh) ?_
  refine x_callV (n' := 8) (n := 1) (K := 1) (c_X1_weather l G _ w a kf sf g nk nr h hW hr hb1) dX1_hours_2_5 (hW.s.k) rfl (lw_V q2570 q2571 q2572 q78 q2573) (by decide +kernel) ⟨(Nat.le_of_ble_eq_true rfl), (Nat.le_of_ble_eq_true rfl)⟩ rfl rfl (Nat.le_of_ble_eq_true rfl) (by first | exact Nat.le_of_ble_eq_true rfl | omega) (by first | exact Nat.le_of_ble_eq_true rfl | omega) rfl (fun v_28 M_29 h_31 hE_30 => ?_)
  obtain ⟨rfl, hMs⟩ := h_31
  have hMs := hMs.symm
  subst hMs
  rw [hwn]
  refine x_astore_n (n' := 9) dX1_hours_2_8 rfl (Nat.le_of_ble_eq_true rfl) rfl (by dsimp only [List.set] <;> rfl) rfl ?_
  refine x_aload_n (n' := 10) dX1_hours_2_9 rfl rfl rfl ?_
  refine x_aload_n (n' := 11) dX1_hours_2_10 rfl rfl rfl ?_
  refine x_getI (n' := 14) dX1_hours_2_11 (hW.s.k) ffX1_128_1 rfl rfl ?_
  refine x_topv ((hW.i 9 (by decide)).trans hh) ?_
  refine x_callV (n' := 17) (n := 1) (K := 1) (c_X1_isDark l G _ w a kf sf g nk nr h hW hb1) dX1_hours_2_14 (hW.s.k) rfl (lw_V q2580 q2581 q2582 q78 q2583) (by decide +kernel) ⟨(Nat.le_of_ble_eq_true rfl), (Nat.le_of_ble_eq_true rfl)⟩ rfl rfl (Nat.le_of_ble_eq_true rfl) (by first | exact Nat.le_of_ble_eq_true rfl | omega) (by first | exact Nat.le_of_ble_eq_true rfl | omega) rfl (fun v_32 M_33 h_35 hE_34 => ?_)
  obtain ⟨rfl, hMs⟩ := h_35
  have hMs := hMs.symm
  subst hMs
  refine x_istore_n (n' := 18) dX1_hours_2_17 rfl (Nat.le_of_ble_eq_true rfl) rfl (by dsimp only [List.set] <;> rfl) rfl ?_
  refine x_aload_n (n' := 19) dX1_hours_2_18 rfl rfl rfl ?_
  refine x_getRs (n' := 22) (b := (a 1)) dX1_hours_2_19 (hW.s.k) ffX1_35_1 rfl (hW.s.r 1 (by decide)) rfl ?_
  refine x_aload_n (n' := 23) dX1_hours_2_22 rfl rfl rfl ?_
  refine x_getI (n' := 26) dX1_hours_2_23 (hW.s.k) ffX1_128_1 rfl rfl ?_
  refine x_topv ((hW.i 9 (by decide)).trans hh) ?_
  refine x_bipush (n' := 28) (v := 24) dX1_hours_2_26 (by decide) rfl ?_
  refine x_irem (n' := 29) dX1_hours_2_28 (by decide) rfl ?_
  refine x_topv (rem24 hb1) ?_
  refine x_ildk (n' := 30) (N := 24) dX1_hours_2_29 (hW.s.ak 1 (by decide)) (hW.s.an 1 (by decide)) (by repeat' (first | with_reducible exact nl_0 | with_reducible exact nl_1 | with_reducible exact nl_4 | with_reducible exact nl_24 | with_reducible exact rfl | apply i_add | apply i_mul)) (by omega) (by decide) (hW.plan (h % 24) (Nat.mod_lt _ (by decide))) rfl ?_
  refine x_istore_n (n' := 31) dX1_hours_2_30 rfl (Nat.le_of_ble_eq_true rfl) rfl (by dsimp only [List.set] <;> rfl) rfl ?_
  refine x_iload_n (n' := 32) dX1_hours_2_31 rfl rfl rfl ?_
  refine x_iconst (n' := 33) (v := -1) dX1_hours_2_32 (by decide) rfl ?_
  refine x_icmp_ne (n' := 36) (tgt := 40) dX1_hours_2_33 (by decide) rfl (fun c33_36 => ?_) (fun c33_36 => absurd (hpe.symm.trans c33_36) (nk_1 k hk6))
  refine x_loc (i := 3) (y := nI k) rfl hpe rfl ?_
  refine x_aload_n (n' := 41) dX1_hours_2_40 rfl rfl rfl ?_
  refine x_getRs (n' := 44) (b := (a 0)) dX1_hours_2_41 (hW.s.k) ffX1_31_1 rfl (hW.s.r 0 (by decide)) rfl ?_
  refine x_iload_n (n' := 45) dX1_hours_2_44 rfl rfl rfl ?_
  refine x_callV (n' := 48) (n := 1) (K := 45) (c_J5_get l G _ (a 0) nk (a 40) kf k hW.kl hk) dX1_hours_2_45 (hW.kl.kk) rfl (lw_V q2579 q963 q964 q90 q965) (by decide +kernel) ⟨(Nat.le_of_ble_eq_true rfl), (Nat.le_of_ble_eq_true rfl)⟩ rfl rfl (Nat.le_of_ble_eq_true rfl) (by first | exact Nat.le_of_ble_eq_true rfl | omega) (by first | exact Nat.le_of_ble_eq_true rfl | omega) rfl (fun v_37 M_38 h_40 hE_39 => ?_)
  obtain ⟨rfl, hMs⟩ := h_40
  have hMs := hMs.symm
  subst hMs
  refine x_castE (n' := 51) dX1_hours_2_48 ((hW.kp hk).1) rfl q2584 rfl ?_
  refine x_astore (n' := 53) dX1_hours_2_51 (Nat.le_of_ble_eq_true rfl) rfl (by dsimp only [List.set] <;> rfl) rfl ?_
  refine x_aload (n' := 55) dX1_hours_2_53 rfl rfl ?_
  refine x_ifnull (n' := 58) dX1_hours_2_55 rfl ?_
  refine x_aload (n' := 60) dX1_hours_2_58 rfl rfl ?_
  refine x_callV (n' := 63) (n := 0) (K := 15) (c_X15_isAsleep l G _ (kf k) k _ (w + 1) _ _ _ (hW.kp hk)) dX1_hours_2_60 ((hW.kp hk).1) rfl (lw_V q2585 q2586 q2587 q140 q2588) (by decide +kernel) ⟨(Nat.le_of_ble_eq_true rfl), (Nat.le_of_ble_eq_true rfl)⟩ rfl rfl (Nat.le_of_ble_eq_true rfl) (by first | exact Nat.le_of_ble_eq_true rfl | omega) (by first | exact Nat.le_of_ble_eq_true rfl | omega) rfl (fun v_41 M_42 h_44 hE_43 => ?_)
  obtain ⟨rfl, hMs⟩ := h_44
  have hMs := hMs.symm
  subst hMs
  refine x_if_ne (n' := 66) (tgt := 71) dX1_hours_2_63 (by decide) rfl (fun c63_45 => ?_) (fun c63_45 => absurd hf2 (bi_0.mp c63_45))
  refine x_null (n' := 72) dX1_hours_2_71 rfl ?_
  refine x_astoreN (n' := 74) dX1_hours_2_72 (Nat.le_of_ble_eq_true rfl) rfl (by dsimp only [List.set] <;> rfl) rfl ?_
  refine x_aload_n (n' := 75) dX1_hours_2_74 rfl rfl rfl ?_
  refine x_iload_n (n' := 76) dX1_hours_2_75 rfl rfl rfl ?_
  refine x_aloadN (n' := 78) dX1_hours_2_76 rfl rfl ?_
  refine x_ifnullN (tgt := 85) dX1_hours_2_78 (by decide) ?_
  refine x_iconst (n' := 86) (v := 0) dX1_hours_2_85 (by decide) rfl ?_
  refine x_topv (y := bi (tendP g (plV g h))) ((bi_f hnt).symm) ?_
  refine x_callV (n' := 89) (n := 2) (K := 1) (c_X1_burns l G _ w a kf sf g nk nr (dkG g h) (tendP g (plV g h)) h hW h6 h20 hh hb1) dX1_hours_2_86 (hW.s.k) rfl (lw_V q2601 q2603 qs32 q78 q2604) (by decide +kernel) ⟨(Nat.le_of_ble_eq_true rfl), (Nat.le_of_ble_eq_true rfl)⟩ rfl rfl (Nat.le_of_ble_eq_true rfl) (by first | exact Nat.le_of_ble_eq_true rfl | omega) (by first | exact Nat.le_of_ble_eq_true rfl | omega) rfl (fun v_46 M_b h_48 hE_47 => ?_)
  obtain ⟨rfl, hW9, hF9⟩ := h_48
  have hW := hW9
  have hF := hF.tr hF9
  refine x_aload_n (n' := 90) dX1_hours_2_89 rfl rfl rfl ?_
  refine x_disp3k ((hcn.kE hF.kE) wt (by omega)) (wi_k hw3) (fun e8 hk8 k8 => x_callK (n' := 93) (K := 200) (v := 0) (x := ⟨"KeptLight$Weather", "wantsSound", "()Z"⟩) (y := yX6_wantsSound) (owner := "KeptLight$Weather") dX1_hours_2_90 hk8 rfl q2635 q1059 (Or.inr ⟨q1058, _, _, _, q1065⟩) (by decide) q1060 q1058 q1065 (by decide +kernel) (by decide +kernel) (Or.inl ⟨_, dX6_wantsSound_0, rfl, dX6_wantsSound_1⟩) (by decide +kernel) ⟨(Nat.le_of_ble_eq_true rfl), (Nat.le_of_ble_eq_true rfl)⟩ (Nat.le_of_ble_eq_true rfl) rfl (x_topv (wi_s (w := wt) (i := 0) (by decide) e8 rfl) k8)) (fun e8 hk8 k8 => x_callK (n' := 93) (K := 201) (v := 1) (x := ⟨"KeptLight$Weather", "wantsSound", "()Z"⟩) (y := yX28_wantsSound) (owner := "KeptLight$Weather") dX1_hours_2_90 hk8 rfl q2635 q1059 (Or.inr ⟨q1058, _, _, _, q1065⟩) (by decide) q1061 q1062 q1063 (by decide +kernel) (by decide +kernel) (Or.inl ⟨_, dX28_wantsSound_0, rfl, dX28_wantsSound_1⟩) (by decide +kernel) ⟨(Nat.le_of_ble_eq_true rfl), (Nat.le_of_ble_eq_true rfl)⟩ (Nat.le_of_ble_eq_true rfl) rfl (x_topv (wi_s (w := wt) (i := 1) (by decide) e8 rfl) k8)) (fun e8 hk8 k8 => x_callK (n' := 93) (K := 202) (v := 0) (x := ⟨"KeptLight$Weather", "wantsSound", "()Z"⟩) (y := yX6_wantsSound) (owner := "KeptLight$Weather") dX1_hours_2_90 hk8 rfl q2635 q1059 (Or.inr ⟨q1058, _, _, _, q1065⟩) (by decide) q1064 q1058 q1065 (by decide +kernel) (by decide +kernel) (Or.inl ⟨_, dX6_wantsSound_0, rfl, dX6_wantsSound_1⟩) (by decide +kernel) ⟨(Nat.le_of_ble_eq_true rfl), (Nat.le_of_ble_eq_true rfl)⟩ (Nat.le_of_ble_eq_true rfl) rfl (x_topv (wi_s (w := wt) (i := 2) (by decide) e8 rfl) k8)) ?_
  refine x_if_eq (n' := 96) (tgt := 115) dX1_hours_2_93 (by decide) rfl (fun c93_49 => ?_) (fun c93_49 => ?_)
  · refine x_iconst (n' := 116) (v := 0) dX1_hours_2_115 (by decide) rfl ?_
    refine x_istore (n' := 118) dX1_hours_2_116 (Nat.le_of_ble_eq_true rfl) rfl (by dsimp only [List.set] <;> rfl) rfl ?_
    refine x_loc (i := 6) (y := coV g h nr) rfl (by first | exact cov_a hwe hw3 (by assumption) | exact cov_b ht9) rfl ?_
    exact x_drop (cut118 _ hW hF) ⟨rfl, ⟨rfl, ⟨rfl, ⟨rfl, ⟨rfl, ⟨rfl, ⟨rfl, trivial⟩⟩⟩⟩⟩⟩⟩
  · refine x_aloadN (n' := 98) dX1_hours_2_96 rfl rfl ?_
    refine x_ifnullN (tgt := 115) dX1_hours_2_98 (by decide) ?_
    refine x_iconst (n' := 116) (v := 0) dX1_hours_2_115 (by decide) rfl ?_
    refine x_istore (n' := 118) dX1_hours_2_116 (Nat.le_of_ble_eq_true rfl) rfl (by dsimp only [List.set] <;> rfl) rfl ?_
    refine x_loc (i := 6) (y := coV g h nr) rfl (by first | exact cov_a hwe hw3 (by assumption) | exact cov_b ht9) rfl ?_
    exact x_drop (cut118 _ hW hF) ⟨rfl, ⟨rfl, ⟨rfl, ⟨rfl, ⟨rfl, ⟨rfl, ⟨rfl, trivial⟩⟩⟩⟩⟩⟩⟩

set_option maxHeartbeats 4000000 in
set_option maxRecDepth 100000 in
theorem k262_c_X1_hours_2__mC (l : Launch) (G : kG) (M : kM) (w : Nat) (a kf sf sa : Nat → Nat) (T : kT) (ex : Nat → Prop) (g : gT) (nk nr ns : Nat) (h wt k : Nat) (x y : Int32) (hM : MB G M w a kf sf sa T ex g nk nr ns) (hwe : weaG g nr h = nI wt) (hw3 : wt < 3) (hw : WF g h nr nk ns) (hbb : h + 1 < BB) (hcn : CN G M) (hk : k < nk) (hpe : plV g h = nI k) (hf : ¬ (fallP g (plV g h))) (hT17 : mI M (fc 1 17) w = 1) (hx : mI M (fc 1 18) w = x) (hy : mI M (fc 1 19) w = y) (pp : Program) (ee : Env) (ss : State) (mm : MethodId) (args : Array Value) (below : List Frame) (meth : Method) (cd : Code) (hmn : meth.name = yX1_hours_2.name) (hret : meth.sig.returnType = none) : ∀ (sg : Nat) (M1 : kM) (hM : MB G M1 w a kf sf sa T ex (cC3 g h nr) nk nr ns) (hS : (SGP G M1 sg wt (bi (dkG g h)) (bi (cC3 g h nr 6 = 1)) (bi (coalP (s2 g h) (weaG g nr h) (tev g h))) ∧ mG M1 sg = a 4 + 1)) (hc : mI M1 (fc 1 18) w = x + wpc (shF (dav g h) (coV g h nr) (nI wt) (cC3 g h nr)) 1 (rk (cC3 g h nr) (nI h) ns) ∧ mI M1 (fc 1 19) w = y + wpc (shF (dav g h) (coV g h nr) (nI wt) (cC3 g h nr)) 2 (rk (cC3 g h nr) (nI h) ns) ∧ mI M1 (fc 1 17) w = 1) (hF1 : Fr (FSm w a) M M1), Wx pp l ee { frames := 12, cells := 0, slots := 0, locals := 260 } ss mm args below meth cd "KeptLight$World" cX1_hours_2 8 G (MQ below (KQ G M (fun v M2 => v = none ∧ MB G M2 w a kf sf sa T ex (hourG g h nr nk ns) nk nr ns ∧ (mI M2 (fc 1 18) w = x + wpc (shF (dav g h) (coV g h nr) (nI wt) (cC3 g h nr)) 1 (rk (cC3 g h nr) (nI h) ns) ∧ mI M2 (fc 1 19) w = y + wpc (shF (dav g h) (coV g h nr) (nI wt) (cC3 g h nr)) 2 (rk (cC3 g h nr) (nI h) ns) ∧ mI M2 (fc 1 17) w = 1) ∧ Fr (FSm w a) M M2)) args ss (0) (0) (kA G)) 262 [some (.ref w), some (.ref (G.2.2.2 wt)), some (.int (bi (dkG g h))), some (.int (nI k)), some (.ref (kf k)), some (.ref (kf k)), none, some (.ref sg)] [] (M1) (0) (0) := by
  have hF : FX w M M := FX.rf
  have hW := hM.wc
  have h6 := hM.b.1
  have h20 := hM.b.2.1
  have hr := hw.rn
  have hh := hw.hh
  have hb1 : h < 2147483648 := by have : BB = 2147483648 := rfl; omega
  have hwn : nn (weaG g nr h) = wt := by rw [hwe]; exact nn_nI (by omega)
  have hpl6 : 0 ≤ plV g h → nn (plV g h) < 6 := hw.pl _ (Nat.mod_lt _ (by decide))
  have hk6 : k < 6 := by omega
  have hpn : nn (plV g h) = k := by rw [hpe]; exact nn_nI (by omega)
  have hp0 : 0 ≤ plV g h := by rw [hpe]; exact nI_nn (by omega)
  have hf2 : ¬ 12 - 3 * nI (nn (g (61 + 4 * k))) ≤ g (61 + 4 * k + 1) := fun q => hf ⟨hp0, by rw [hpn, hW.rk hk]; exact q⟩
  have ht9 : tev g h = 1 := bi_t ⟨hp0, hf⟩
  intro sg M1 hM hS hc hF1
  have hW := hM.wc
  have hE9 := hF1.kE
  refine x_aload_n (n' := 263) dX1_hours_2_262 rfl rfl rfl ?_
  refine x_aload (n' := 265) dX1_hours_2_263 rfl rfl ?_
  refine x_aload_n (n' := 266) dX1_hours_2_265 rfl rfl rfl ?_
  refine x_callV (n' := 269) (n := 2) (K := 1) (c_X1_rests__s l G _ w a kf sf (cC3 g h nr) nk nr wt k hW h6 h20 hw3 (hcn.kE hE9) hk) dX1_hours_2_266 (hW.s.k) rfl (lw_V q2739 q2741 qs39 q78 q2742) (by decide +kernel) ⟨(Nat.le_of_ble_eq_true rfl), (Nat.le_of_ble_eq_true rfl)⟩ rfl rfl (Nat.le_of_ble_eq_true rfl) (by first | exact Nat.le_of_ble_eq_true rfl | omega) (by first | exact Nat.le_of_ble_eq_true rfl | omega) rfl (fun v_1 M_r h_3 hE_2 => ?_)
  obtain ⟨rfl, hW9, hF9⟩ := h_3
  have hW := hW9
  have hS := sg_fr hS hF9.1 (fun e9 => hM.wc.s4 (Nat.succ.inj e9))
  have hF := hF9
  refine x_aload_n (n' := 270) dX1_hours_2_269 rfl rfl rfl ?_
  refine x_aload (n' := 272) dX1_hours_2_270 rfl rfl ?_
  have hz0 : (tireG (cC3 g h nr) (nI k) (nI wt) nk) 0 = nI h := (by unfold tireG; exact if_neg (fun q => by omega) : (tireG (cC3 g h nr) (nI k) (nI wt) nk) 0 = (cC3 g h nr) 0).trans ((cC3_hi hpl6 (Or.inl rfl)).trans hh)
  refine x_callV (n' := 275) (n := 1) (K := 1) (c_X1_lands l G _ w a kf sf (tireG (cC3 g h nr) (nI k) (nI wt) nk) nk nr sg wt h _ _ _ hW h6 h20 hS.1 (hz0)) dX1_hours_2_272 (hW.s.k) rfl (lw_V q2756 q2758 qs40 q78 q2759) (by decide +kernel) ⟨(Nat.le_of_ble_eq_true rfl), (Nat.le_of_ble_eq_true rfl)⟩ rfl rfl (Nat.le_of_ble_eq_true rfl) (by first | exact Nat.le_of_ble_eq_true rfl | omega) (by first | exact Nat.le_of_ble_eq_true rfl | omega) rfl (fun v_4 M_l h_6 hE_5 => ?_)
  obtain ⟨rfl, hW9, hF9⟩ := h_6
  have hW := hW9
  have hF := hF.tr hF9
  refine x_aload_n (n' := 276) dX1_hours_2_275 rfl rfl rfl ?_
  refine x_dup (n' := 277) dX1_hours_2_276 rfl rfl ?_
  refine x_getI (n' := 280) dX1_hours_2_277 (hW.s.k) ffX1_128_1 rfl rfl ?_
  refine x_topv ((hW.i 9 (by decide)).trans (hg9_0.trans hz0)) ?_
  refine x_iconst (n' := 281) (v := 1) dX1_hours_2_280 (by decide) rfl ?_
  refine x_iadd (n' := 282) dX1_hours_2_281 rfl ?_
  rw [nI_1]
  refine x_putI (n' := 285) dX1_hours_2_282 (hW.s.k) ffX1_128_1 rfl (⟨rfl, rfl⟩) rfl rfl ?_
  refine x_gen (X := fun M9 => WC G M9 w a kf sf (va_up (hg9 (tireG (cC3 g h nr) (nI k) (nI wt) nk) h nk (bi (boatP (tireG (cC3 g h nr) (nI k) (nI wt) nk) h (nI wt) (dav g h)))) 0 (nI (h + 1))) nk nr ∧ FX w M1 M9) ⟨hW.setI h6 h20 9 (by decide) (fun e => by cases e), hF.tr (hW.setIF 9)⟩ (fun M_7 hM9 => ?_)
  obtain ⟨hW, hF⟩ := hM9
  have hWf := Eq.mpr (congrArg (fun g9 => WC G _ w a kf sf g9 nk nr) (show (hEnd (cC3 g h nr) g h nr nk (plV g h)) = va_up (hg9 (tireG (cC3 g h nr) (nI k) (nI wt) nk) h nk (bi (boatP (tireG (cC3 g h nr) (nI k) (nI wt) nk) h (nI wt) (dav g h)))) 0 (nI (h + 1)) from by unfold hEnd; simp only [hwe, hpe])) hW
  have hWg := hWf.cg h6 h20 (g' := hourG g h nr nk ns) (fun j hj => hourL_D hpl6 ht9 hj)
  have hMf := hM.own hF.1 hWg (fun s hs => by have a1 := (hrs_keep (n := 1) hw (j := 109 + 4 * s + 1) (by have := hM.b.2.2; unfold kpI; omega) (by omega)); have a2 := (hrs_keep (n := 1) hw (j := 109 + 4 * s) (by have := hM.b.2.2; unfold kpI; omega) (by omega)); exact ⟨a1.trans (cC3_hi hpl6 (by omega)).symm, a2.trans (cC3_hi hpl6 (by omega)).symm⟩)
  have hFz := hF1.tr (hF.1.mono (fun _ e9 => Or.inl e9))
  have hcz : mI _ (fc 1 18) w = _ ∧ mI _ (fc 1 19) w = _ ∧ mI _ (fc 1 17) w = _ := ⟨(hF.2 18 (by decide)).trans hc.1, (hF.2 19 (by decide)).trans hc.2.1, (hF.2 17 (by decide)).trans hc.2.2⟩
  exact x_vret dX1_hours_2_285 hret hFz.kE (⟨rfl, hMf, hcz, hFz⟩)
set_option maxHeartbeats 4000000 in
set_option maxRecDepth 100000 in
theorem k118_c_X1_hours_2__mC (l : Launch) (G : kG) (M : kM) (w : Nat) (a kf sf sa : Nat → Nat) (T : kT) (ex : Nat → Prop) (g : gT) (nk nr ns : Nat) (h wt k : Nat) (x y : Int32) (hM : MB G M w a kf sf sa T ex g nk nr ns) (hwe : weaG g nr h = nI wt) (hw3 : wt < 3) (hw : WF g h nr nk ns) (hbb : h + 1 < BB) (hcn : CN G M) (hk : k < nk) (hpe : plV g h = nI k) (hf : ¬ (fallP g (plV g h))) (hT17 : mI M (fc 1 17) w = 1) (hx : mI M (fc 1 18) w = x) (hy : mI M (fc 1 19) w = y) (pp : Program) (ee : Env) (ss : State) (mm : MethodId) (args : Array Value) (below : List Frame) (meth : Method) (cd : Code) (hmn : meth.name = yX1_hours_2.name) (hret : meth.sig.returnType = none) : ∀ (M1 : kM) (hW : WC G M1 w a kf sf (lampG g (dav g h) (tev g h) h) nk nr) (hF : FX w M M1), Wx pp l ee { frames := 12, cells := 0, slots := 0, locals := 260 } ss mm args below meth cd "KeptLight$World" cX1_hours_2 8 G (MQ below (KQ G M (fun v M2 => v = none ∧ MB G M2 w a kf sf sa T ex (hourG g h nr nk ns) nk nr ns ∧ (mI M2 (fc 1 18) w = x + wpc (shF (dav g h) (coV g h nr) (nI wt) (cC3 g h nr)) 1 (rk (cC3 g h nr) (nI h) ns) ∧ mI M2 (fc 1 19) w = y + wpc (shF (dav g h) (coV g h nr) (nI wt) (cC3 g h nr)) 2 (rk (cC3 g h nr) (nI h) ns) ∧ mI M2 (fc 1 17) w = 1) ∧ Fr (FSm w a) M M2)) args ss (0) (0) (kA G)) 118 [some (.ref w), some (.ref (G.2.2.2 wt)), some (.int (bi (dkG g h))), some (.int (nI k)), some (.ref (kf k)), some (.ref (kf k)), some (.int (coV g h nr)), none] [] (M1) (0) (0) := by
  have hF : FX w M M := FX.rf
  have hW := hM.wc
  have h6 := hM.b.1
  have h20 := hM.b.2.1
  have hr := hw.rn
  have hh := hw.hh
  have hb1 : h < 2147483648 := by have : BB = 2147483648 := rfl; omega
  have hwn : nn (weaG g nr h) = wt := by rw [hwe]; exact nn_nI (by omega)
  have hpl6 : 0 ≤ plV g h → nn (plV g h) < 6 := hw.pl _ (Nat.mod_lt _ (by decide))
  have hk6 : k < 6 := by omega
  have hpn : nn (plV g h) = k := by rw [hpe]; exact nn_nI (by omega)
  have hp0 : 0 ≤ plV g h := by rw [hpe]; exact nI_nn (by omega)
  have hf2 : ¬ 12 - 3 * nI (nn (g (61 + 4 * k))) ≤ g (61 + 4 * k + 1) := fun q => hf ⟨hp0, by rw [hpn, hW.rk hk]; exact q⟩
  have ht9 : tev g h = 1 := bi_t ⟨hp0, hf⟩
  have cut262 := k262_c_X1_hours_2__mC l G M w a kf sf sa T ex g nk nr ns h wt k x y hM hwe hw3 hw hbb hcn hk hpe hf hT17 hx hy pp ee ss mm args below meth cd hmn hret
  intro M1 hW hF
  refine x_aload_n (n' := 119) dX1_hours_2_118 rfl rfl rfl ?_
  refine x_getRs (n' := 122) (b := (a 10)) dX1_hours_2_119 (hW.s.k) ffX1_57_1 rfl (hW.s.r 10 (by decide)) rfl ?_
  refine x_iconst (n' := 123) (v := 4) dX1_hours_2_122 (by decide) rfl ?_
  refine x_dup2_11 (n' := 124) dX1_hours_2_123 rfl rfl rfl ?_
  refine x_ildk (n' := 125) (N := 5) dX1_hours_2_124 (hW.s.ak 10 (by decide)) (hW.s.an 10 (by decide)) (by repeat' (first | with_reducible exact nl_0 | with_reducible exact nl_1 | with_reducible exact nl_4 | with_reducible exact nl_24 | with_reducible exact rfl | apply i_add | apply i_mul)) (by omega) (by decide) ((hW.told 4 (by decide)).trans lamp_5) rfl ?_
  refine x_iload (n' := 127) dX1_hours_2_125 rfl rfl ?_
  refine x_fork (J := 135) (x_if_eq (n' := 130) (tgt := 134) dX1_hours_2_127 (by decide) rfl) (v1 := ?v1_f127_8) (v2 := ?v2_f127_8) (fun c_f127_8 j_f127_8 => ?b1_f127_8) (fun c_f127_8 j_f127_8 => ?b2_f127_8) ?k_f127_8
  case b1_f127_8 =>
    refine x_iconst (n' := 135) (v := 0) dX1_hours_2_134 (by decide) rfl ?_
    exact j_f127_8
  case b2_f127_8 =>
    refine x_iconst (n' := 131) (v := 1) dX1_hours_2_130 (by decide) rfl ?_
    refine x_goto (tgt := 135) dX1_hours_2_131 (by decide) ?_
    exact j_f127_8
  refine x_topv bi_if ?_
  refine x_isub (n' := 136) dX1_hours_2_135 rfl ?_
  refine x_iastk (n' := 137) (N := 5) dX1_hours_2_136 (hW.s.ak 10 (by decide)) (hW.s.an 10 (by decide)) (by repeat' (first | with_reducible exact nl_0 | with_reducible exact nl_1 | with_reducible exact nl_4 | with_reducible exact nl_24 | with_reducible exact rfl | apply i_add | apply i_mul)) (by omega) (by decide) (by first | with_reducible exact mA_sA | with_reducible exact mA_SC0 | with_reducible exact mA_SC1 hS | with_reducible exact mA_SC5 hS | with_reducible exact mA_SC6 hS | with_reducible exact mA_SC10 hS | with_reducible exact mA_SC11 hS | with_reducible exact mA_SC12 hS | with_reducible exact mA_sI_sA | with_reducible exact mA_sI3_sA | rfl) (by first | with_reducible exact SC_A0 | with_reducible exact SC_A1 hS | with_reducible exact SC_A5 hS | with_reducible exact SC_A6 hS | with_reducible exact SC_A10 hS | with_reducible exact SC_A11 hS | with_reducible exact SC_A12 hS | with_reducible exact sA_sA | with_reducible exact sA_sI_sA | with_reducible exact sA_sI3_sA | rfl) rfl ?_
  refine x_gen (X := fun M9 => WC G M9 w a kf sf (va_up (lampG g (dav g h) (tev g h) h) (1 + 4) (g 5 - coV g h nr)) nk nr ∧ FX w M M9) ⟨hW.setTold h6 h20 (i := 4) (by decide), hF.tr (hW.setA 10 (by decide))⟩ (fun M_9 hM9 => ?_)
  obtain ⟨hW, hF⟩ := hM9
  refine x_aload_n (n' := 138) dX1_hours_2_137 rfl rfl rfl ?_
  refine x_getRs (n' := 141) (b := (a 4)) dX1_hours_2_138 (hW.s.k) ffX1_21_1 rfl (hW.s.r 4 (by decide)) rfl ?_
  refine x_aload_n (n' := 142) dX1_hours_2_141 rfl rfl rfl ?_
  refine x_iload_n (n' := 143) dX1_hours_2_142 rfl rfl rfl ?_
  refine x_aload_n (n' := 144) dX1_hours_2_143 rfl rfl rfl ?_
  refine x_getI (n' := 147) dX1_hours_2_144 (hW.s.k) ffX1_131_1 rfl rfl ?_
  refine x_topv ((hW.i 12 (by decide)).trans (lit_bi hW.lit)) ?_
  refine x_iload (n' := 149) dX1_hours_2_147 rfl rfl ?_
  refine x_callV (n' := 152) (n := 4) (K := 5) (c_X5_of l G _ (a 4) wt (dkG g h) ((va_up (lampG g (dav g h) (tev g h) h) (1 + 4) (g 5 - coV g h nr)) 6 = 1) (coalP (s2 g h) (weaG g nr h) (tev g h)) hW.s.2.2.2.2.2 hw3 (hcn.kE hF.kE)) dX1_hours_2_149 (SGS.k hW.s.2.2.2.2.2) rfl (lw_V q2636 q2637 q2638 q84 q2639) (by decide +kernel) ⟨(Nat.le_of_ble_eq_true rfl), (Nat.le_of_ble_eq_true rfl)⟩ rfl rfl (Nat.le_of_ble_eq_true rfl) (by first | exact Nat.le_of_ble_eq_true rfl | omega) (by first | exact Nat.le_of_ble_eq_true rfl | omega) rfl (fun v_10 M_11 h_13 hE_12 => ?_)
  obtain ⟨sg, rfl, hMs, hsg, hsgo⟩ := h_13
  have hMs := hMs.symm
  subst hMs
  refine x_astore (n' := 154) dX1_hours_2_152 (Nat.le_of_ble_eq_true rfl) rfl (by dsimp only [List.set] <;> rfl) rfl ?_
  refine x_aload (n' := 156) dX1_hours_2_154 rfl rfl ?_
  refine x_ifnull (n' := 159) dX1_hours_2_156 rfl ?_
  refine x_aload (n' := 161) dX1_hours_2_159 rfl rfl ?_
  refine x_dup (n' := 162) dX1_hours_2_161 rfl rfl ?_
  refine x_getI (n' := 165) dX1_hours_2_162 ((hW.kp hk).1) ffX1_290_15 rfl rfl ?_
  refine x_topv (hW.kp hk).2.2.2.2.2.2.2.1 ?_
  refine x_aload (n' := 167) dX1_hours_2_165 rfl rfl ?_
  refine x_ifnull (n' := 170) dX1_hours_2_167 rfl ?_
  refine x_iconst (n' := 171) (v := 1) dX1_hours_2_170 (by decide) rfl ?_
  refine x_goto (tgt := 175) dX1_hours_2_171 (by decide) ?_
  refine x_callSN (n' := 178) (n := 1) (c_X0_one l G _ _) dX1_hours_2_175 (lw_meth q1032) q2643 q77 q1031 (by decide +kernel) ⟨(Nat.le_of_ble_eq_true rfl), (Nat.le_of_ble_eq_true rfl)⟩ rfl rfl (Nat.le_of_ble_eq_true rfl) (by first | exact Nat.le_of_ble_eq_true rfl | omega) (by first | exact Nat.le_of_ble_eq_true rfl | omega) rfl (fun v_14 M_15 h_17 hE_16 => ?_)
  obtain ⟨rfl, hMs⟩ := h_17
  have hMs := hMs.symm
  subst hMs
  refine x_topv (y := bi (¬ (fallP g (plV g h)))) (by rw [bi_t hf]; rfl) ?_
  refine x_iadd (n' := 179) dX1_hours_2_178 rfl ?_
  refine x_putI (n' := 182) dX1_hours_2_179 ((hW.kp hk).1) ffX1_290_15 rfl (⟨rfl, rfl⟩) rfl rfl ?_
  have hFk := hW.setKF (j := 3) (v := (va_up (lampG g (dav g h) (tev g h) h) (1 + 4) (g 5 - coV g h nr)) (61 + 4 * k + 2) + bi (¬ (fallP g (plV g h)))) hk
  refine x_gen (X := fun M9 => WC G M9 w a kf sf (va_up (va_up (lampG g (dav g h) (tev g h) h) (1 + 4) (g 5 - coV g h nr)) (61 + 4 * k + (3 - 1)) ((va_up (lampG g (dav g h) (tev g h) h) (1 + 4) (g 5 - coV g h nr)) (61 + 4 * k + 2) + bi (¬ (fallP g (plV g h))))) nk nr ∧ FX w M M9 ∧ (SGP G M9 sg wt (bi (dkG g h)) (bi ((va_up (lampG g (dav g h) (tev g h) h) (1 + 4) (g 5 - coV g h nr)) 6 = 1)) (bi (coalP (s2 g h) (weaG g nr h) (tev g h))) ∧ mG M9 sg = a 4 + 1)) ⟨hW.setK h6 h20 3 hk (Or.inr (Or.inl rfl)), hF.tr hFk, sg_fr ⟨hsg, hsgo⟩ hFk.1 (fun e9 => hW.s4 (Nat.succ.inj e9))⟩ (fun M_18 hM9 => ?_)
  obtain ⟨hW, hF, hsg, hsgo⟩ := hM9
  refine x_aload (n' := 184) dX1_hours_2_182 rfl rfl ?_
  refine x_dup (n' := 185) dX1_hours_2_184 rfl rfl ?_
  refine x_getI (n' := 188) dX1_hours_2_185 ((hW.kp hk).1) ffX1_293_15 rfl rfl ?_
  refine x_topv (hW.kp hk).2.2.2.2.2.2.2.2 ?_
  refine x_aload (n' := 190) dX1_hours_2_188 rfl rfl ?_
  refine x_ifnonnull (tgt := 197) dX1_hours_2_190 (by decide) ?_
  refine x_iconst (n' := 198) (v := 0) dX1_hours_2_197 (by decide) rfl ?_
  refine x_callSN (n' := 201) (n := 1) (c_X0_one l G _ _) dX1_hours_2_198 (lw_meth q1032) q2643 q77 q1031 (by decide +kernel) ⟨(Nat.le_of_ble_eq_true rfl), (Nat.le_of_ble_eq_true rfl)⟩ rfl rfl (Nat.le_of_ble_eq_true rfl) (by first | exact Nat.le_of_ble_eq_true rfl | omega) (by first | exact Nat.le_of_ble_eq_true rfl | omega) rfl (fun v_19 M_20 h_22 hE_21 => ?_)
  obtain ⟨rfl, hMs⟩ := h_22
  have hMs := hMs.symm
  subst hMs
  refine x_topv (y := bi (fallP g (plV g h))) (by rw [bi_f hf]; rfl) ?_
  refine x_iadd (n' := 202) dX1_hours_2_201 rfl ?_
  refine x_putI (n' := 205) dX1_hours_2_202 ((hW.kp hk).1) ffX1_293_15 rfl (⟨rfl, rfl⟩) rfl rfl ?_
  have hFk2 := hW.setKF (j := 4) (v := (va_up (va_up (lampG g (dav g h) (tev g h) h) (1 + 4) (g 5 - coV g h nr)) (61 + 4 * k + (3 - 1)) ((va_up (lampG g (dav g h) (tev g h) h) (1 + 4) (g 5 - coV g h nr)) (61 + 4 * k + 2) + bi (¬ (fallP g (plV g h))))) (61 + 4 * k + 3) + bi (fallP g (plV g h))) hk
  have hW := hW.setK h6 h20 (v := (va_up (va_up (lampG g (dav g h) (tev g h) h) (1 + 4) (g 5 - coV g h nr)) (61 + 4 * k + (3 - 1)) ((va_up (lampG g (dav g h) (tev g h) h) (1 + 4) (g 5 - coV g h nr)) (61 + 4 * k + 2) + bi (¬ (fallP g (plV g h))))) (61 + 4 * k + 3) + bi (fallP g (plV g h))) 4 hk (Or.inr (Or.inr rfl))
  have e3 : (va_up (va_up (lampG g (dav g h) (tev g h) h) (1 + 4) (g 5 - coV g h nr)) (61 + 4 * k + (3 - 1)) ((va_up (lampG g (dav g h) (tev g h) h) (1 + 4) (g 5 - coV g h nr)) (61 + 4 * k + 2) + bi (¬ (fallP g (plV g h))))) (61 + 4 * k + 3) = (va_up (lampG g (dav g h) (tev g h) h) (1 + 4) (g 5 - coV g h nr)) (61 + 4 * k + 3) := va_up_ne _ _ (by omega)
  rw [e3] at hW hFk2 ⊢
  have hF := hF.tr hFk2
  have hFk := hFk2
  have hW9 := Eq.mpr (congrArg (fun g9 => WC G _ w a kf sf g9 nk nr) (cC3_B hpe hk6)) hW
  have hS9 := sg_fr ⟨hsg, hsgo⟩ hFk.1 (fun e9 => hW.s4 (Nat.succ.inj e9))
  rw [show (va_up (lampG g (dav g h) (tev g h) h) (1 + 4) (g 5 - coV g h nr)) 6 = cC3 g h nr 6 from (va_up_ne _ _ (by decide)).trans cC3_6.symm] at hS9
  have h17 := hF.2 17 (by decide)
  refine x_gen (X := fun M9 => MB G M9 w a kf sf sa T ex (cC3 g h nr) nk nr ns ∧ (SGP G M9 sg wt (bi (dkG g h)) (bi (cC3 g h nr 6 = 1)) (bi (coalP (s2 g h) (weaG g nr h) (tev g h))) ∧ mG M9 sg = a 4 + 1) ∧ (mI M9 (fc 1 18) w = x ∧ mI M9 (fc 1 19) w = y ∧ mI M9 (fc 1 17) w = 1) ∧ Fr (FSm w a) M M9) ⟨hM.own hF.1 hW9 (fun s hs => ⟨cC3_hi hpl6 (by omega), cC3_hi hpl6 (by omega)⟩), hS9, ⟨(hF.2 18 (by decide)).trans hx, (hF.2 19 (by decide)).trans hy, h17.trans hT17⟩, hF.1.mono (fun _ e9 => Or.inl e9)⟩ (fun M_23 hM9 => ?_)
  clear hW hF hS9 hW9 h17
  have hM0 := hM
  obtain ⟨hM, hS, hc, hF⟩ := hM9
  refine x_aload_n (n' := 206) dX1_hours_2_205 rfl rfl rfl ?_
  refine x_getI (n' := 209) dX1_hours_2_206 (hM.wc.s.k) ffX1_73_1 rfl rfl ?_
  refine x_topv hc.2.2 ?_
  refine x_if_eq (n' := 212) (tgt := 221) dX1_hours_2_209 (by decide) rfl (fun c209_24 => absurd c209_24 (by decide)) (fun c209_24 => ?_)
  refine x_aload_n (n' := 213) dX1_hours_2_212 rfl rfl rfl ?_
  refine x_aload (n' := 215) dX1_hours_2_213 rfl rfl ?_
  refine x_callV (n' := 218) (n := 1) (K := 1) (c_X1_wouldPass l G _ w a kf sf sa T ex (cC3 g h nr) nk nr ns sg wt h (dkG g h) (coalP (s2 g h) (weaG g nr h) (tev g h)) x y hM hS ((cC3_hi hpl6 (Or.inl rfl)).trans hh) (Nat.lt_trans (Nat.lt_succ_self h) hbb) hc.1 hc.2.1) dX1_hours_2_215 (hM.wc.s.k) rfl (lw_V q2644 q2646 qs36 q78 q2647) (by decide +kernel) ⟨(Nat.le_of_ble_eq_true rfl), (Nat.le_of_ble_eq_true rfl)⟩ rfl rfl (Nat.le_of_ble_eq_true rfl) (by first | exact Nat.le_of_ble_eq_true rfl | omega) (by first | exact Nat.le_of_ble_eq_true rfl | omega) rfl (fun v_25 M_p h_27 hE_26 => ?_)
  obtain ⟨rfl, hM8, hc8, hF8⟩ := h_27
  have hS := sg_fr hS hF8 hM.m4
  have hc := (⟨hc8.1, hc8.2.1, hc8.2.2.trans hc.2.2⟩ : mI M_p (fc 1 18) w = x + wpc (shF (dav g h) (coV g h nr) (nI wt) (cC3 g h nr)) 1 (rk (cC3 g h nr) (nI h) ns) ∧ mI M_p (fc 1 19) w = y + wpc (shF (dav g h) (coV g h nr) (nI wt) (cC3 g h nr)) 2 (rk (cC3 g h nr) (nI h) ns) ∧ mI M_p (fc 1 17) w = 1)
  have hF := hF.tr hF8
  have hM := hM8
  refine x_goto (tgt := 262) dX1_hours_2_218 (by decide) ?_
  exact x_drop (cut262 sg _ hM hS hc hF) ⟨rfl, ⟨rfl, ⟨rfl, ⟨rfl, ⟨rfl, ⟨rfl, ⟨rfl, trivial⟩⟩⟩⟩⟩⟩⟩
set_option maxHeartbeats 4000000 in
set_option maxRecDepth 100000 in
theorem c_X1_hours_2__mC (l : Launch) (G : kG) (M : kM) (w : Nat) (a kf sf sa : Nat → Nat) (T : kT) (ex : Nat → Prop) (g : gT) (nk nr ns : Nat) (h wt k : Nat) (x y : Int32) (hM : MB G M w a kf sf sa T ex g nk nr ns) (hwe : weaG g nr h = nI wt) (hw3 : wt < 3) (hw : WF g h nr nk ns) (hbb : h + 1 < BB) (hcn : CN G M) (hk : k < nk) (hpe : plV g h = nI k) (hf : ¬ (fallP g (plV g h))) (hT17 : mI M (fc 1 17) w = 1) (hx : mI M (fc 1 18) w = x) (hy : mI M (fc 1 19) w = y) : Kt l G yX1_hours_2 cX1_hours_2 8 none 12 260 [.ref w] M (0) (0) (fun v M2 => v = none ∧ MB G M2 w a kf sf sa T ex (hourG g h nr nk ns) nk nr ns ∧ (mI M2 (fc 1 18) w = x + wpc (shF (dav g h) (coV g h nr) (nI wt) (cC3 g h nr)) 1 (rk (cC3 g h nr) (nI h) ns) ∧ mI M2 (fc 1 19) w = y + wpc (shF (dav g h) (coV g h nr) (nI wt) (cC3 g h nr)) 2 (rk (cC3 g h nr) (nI h) ns) ∧ mI M2 (fc 1 17) w = 1) ∧ Fr (FSm w a) M M2) := by
  refine Kt.of (own := "KeptLight$World") (L := [some (.ref w), none, none, none, none, none, none, none]) (by decide +kernel) rfl (Nat.le_of_ble_eq_true rfl) rfl ?_
  intro pp ee ss mm args below meth cd hmn hret
  have hF : FX w M M := FX.rf
  have hW := hM.wc
  have h6 := hM.b.1
  have h20 := hM.b.2.1
  have hr := hw.rn
  have hh := hw.hh
  have hb1 : h < 2147483648 := by have : BB = 2147483648 := rfl; omega
  have hwn : nn (weaG g nr h) = wt := by rw [hwe]; exact nn_nI (by omega)
  have hpl6 : 0 ≤ plV g h → nn (plV g h) < 6 := hw.pl _ (Nat.mod_lt _ (by decide))
  have hk6 : k < 6 := by omega
  have hpn : nn (plV g h) = k := by rw [hpe]; exact nn_nI (by omega)
  have hp0 : 0 ≤ plV g h := by rw [hpe]; exact nI_nn (by omega)
  have hf2 : ¬ 12 - 3 * nI (nn (g (61 + 4 * k))) ≤ g (61 + 4 * k + 1) := fun q => hf ⟨hp0, by rw [hpn, hW.rk hk]; exact q⟩
  have ht9 : tev g h = 1 := bi_t ⟨hp0, hf⟩
  have cut262 := k262_c_X1_hours_2__mC l G M w a kf sf sa T ex g nk nr ns h wt k x y hM hwe hw3 hw hbb hcn hk hpe hf hT17 hx hy pp ee ss mm args below meth cd hmn hret
  have cut118 := k118_c_X1_hours_2__mC l G M w a kf sf sa T ex g nk nr ns h wt k x y hM hwe hw3 hw hbb hcn hk hpe hf hT17 hx hy pp ee ss mm args below meth cd hmn hret
  refine x_aload_n (n' := 1) dX1_hours_2_0 rfl rfl rfl ?_
  refine x_aload_n (n' := 2) dX1_hours_2_1 rfl rfl rfl ?_
  refine x_getI (n' := 5) dX1_hours_2_2 (hW.s.k) ffX1_128_1 rfl rfl ?_
  refine x_topv ((hW.i 9 (by decide)).trans hh) ?_
  refine x_callV (n' := 8) (n := 1) (K := 1) (c_X1_weather l G _ w a kf sf g nk nr h hW hr hb1) dX1_hours_2_5 (hW.s.k) rfl (lw_V q2570 q2571 q2572 q78 q2573) (by decide +kernel) ⟨(Nat.le_of_ble_eq_true rfl), (Nat.le_of_ble_eq_true rfl)⟩ rfl rfl (Nat.le_of_ble_eq_true rfl) (by first | exact Nat.le_of_ble_eq_true rfl | omega) (by first | exact Nat.le_of_ble_eq_true rfl | omega) rfl (fun v_28 M_29 h_31 hE_30 => ?_)
  obtain ⟨rfl, hMs⟩ := h_31
  have hMs := hMs.symm
  subst hMs
  rw [hwn]
  refine x_astore_n (n' := 9) dX1_hours_2_8 rfl (Nat.le_of_ble_eq_true rfl) rfl (by dsimp only [List.set] <;> rfl) rfl ?_
  refine x_aload_n (n' := 10) dX1_hours_2_9 rfl rfl rfl ?_
  refine x_aload_n (n' := 11) dX1_hours_2_10 rfl rfl rfl ?_
  refine x_getI (n' := 14) dX1_hours_2_11 (hW.s.k) ffX1_128_1 rfl rfl ?_
  refine x_topv ((hW.i 9 (by decide)).trans hh) ?_
  refine x_callV (n' := 17) (n := 1) (K := 1) (c_X1_isDark l G _ w a kf sf g nk nr h hW hb1) dX1_hours_2_14 (hW.s.k) rfl (lw_V q2580 q2581 q2582 q78 q2583) (by decide +kernel) ⟨(Nat.le_of_ble_eq_true rfl), (Nat.le_of_ble_eq_true rfl)⟩ rfl rfl (Nat.le_of_ble_eq_true rfl) (by first | exact Nat.le_of_ble_eq_true rfl | omega) (by first | exact Nat.le_of_ble_eq_true rfl | omega) rfl (fun v_32 M_33 h_35 hE_34 => ?_)
  obtain ⟨rfl, hMs⟩ := h_35
  have hMs := hMs.symm
  subst hMs
  refine x_istore_n (n' := 18) dX1_hours_2_17 rfl (Nat.le_of_ble_eq_true rfl) rfl (by dsimp only [List.set] <;> rfl) rfl ?_
  refine x_aload_n (n' := 19) dX1_hours_2_18 rfl rfl rfl ?_
  refine x_getRs (n' := 22) (b := (a 1)) dX1_hours_2_19 (hW.s.k) ffX1_35_1 rfl (hW.s.r 1 (by decide)) rfl ?_
  refine x_aload_n (n' := 23) dX1_hours_2_22 rfl rfl rfl ?_
  refine x_getI (n' := 26) dX1_hours_2_23 (hW.s.k) ffX1_128_1 rfl rfl ?_
  refine x_topv ((hW.i 9 (by decide)).trans hh) ?_
  refine x_bipush (n' := 28) (v := 24) dX1_hours_2_26 (by decide) rfl ?_
  refine x_irem (n' := 29) dX1_hours_2_28 (by decide) rfl ?_
  refine x_topv (rem24 hb1) ?_
  refine x_ildk (n' := 30) (N := 24) dX1_hours_2_29 (hW.s.ak 1 (by decide)) (hW.s.an 1 (by decide)) (by repeat' (first | with_reducible exact nl_0 | with_reducible exact nl_1 | with_reducible exact nl_4 | with_reducible exact nl_24 | with_reducible exact rfl | apply i_add | apply i_mul)) (by omega) (by decide) (hW.plan (h % 24) (Nat.mod_lt _ (by decide))) rfl ?_
  refine x_istore_n (n' := 31) dX1_hours_2_30 rfl (Nat.le_of_ble_eq_true rfl) rfl (by dsimp only [List.set] <;> rfl) rfl ?_
  refine x_iload_n (n' := 32) dX1_hours_2_31 rfl rfl rfl ?_
  refine x_iconst (n' := 33) (v := -1) dX1_hours_2_32 (by decide) rfl ?_
  refine x_icmp_ne (n' := 36) (tgt := 40) dX1_hours_2_33 (by decide) rfl (fun c33_36 => ?_) (fun c33_36 => absurd (hpe.symm.trans c33_36) (nk_1 k hk6))
  refine x_loc (i := 3) (y := nI k) rfl hpe rfl ?_
  refine x_aload_n (n' := 41) dX1_hours_2_40 rfl rfl rfl ?_
  refine x_getRs (n' := 44) (b := (a 0)) dX1_hours_2_41 (hW.s.k) ffX1_31_1 rfl (hW.s.r 0 (by decide)) rfl ?_
  refine x_iload_n (n' := 45) dX1_hours_2_44 rfl rfl rfl ?_
  refine x_callV (n' := 48) (n := 1) (K := 45) (c_J5_get l G _ (a 0) nk (a 40) kf k hW.kl hk) dX1_hours_2_45 (hW.kl.kk) rfl (lw_V q2579 q963 q964 q90 q965) (by decide +kernel) ⟨(Nat.le_of_ble_eq_true rfl), (Nat.le_of_ble_eq_true rfl)⟩ rfl rfl (Nat.le_of_ble_eq_true rfl) (by first | exact Nat.le_of_ble_eq_true rfl | omega) (by first | exact Nat.le_of_ble_eq_true rfl | omega) rfl (fun v_37 M_38 h_40 hE_39 => ?_)
  obtain ⟨rfl, hMs⟩ := h_40
  have hMs := hMs.symm
  subst hMs
  refine x_castE (n' := 51) dX1_hours_2_48 ((hW.kp hk).1) rfl q2584 rfl ?_
  refine x_astore (n' := 53) dX1_hours_2_51 (Nat.le_of_ble_eq_true rfl) rfl (by dsimp only [List.set] <;> rfl) rfl ?_
  refine x_aload (n' := 55) dX1_hours_2_53 rfl rfl ?_
  refine x_ifnull (n' := 58) dX1_hours_2_55 rfl ?_
  refine x_aload (n' := 60) dX1_hours_2_58 rfl rfl ?_
  refine x_callV (n' := 63) (n := 0) (K := 15) (c_X15_isAsleep l G _ (kf k) k _ (w + 1) _ _ _ (hW.kp hk)) dX1_hours_2_60 ((hW.kp hk).1) rfl (lw_V q2585 q2586 q2587 q140 q2588) (by decide +kernel) ⟨(Nat.le_of_ble_eq_true rfl), (Nat.le_of_ble_eq_true rfl)⟩ rfl rfl (Nat.le_of_ble_eq_true rfl) (by first | exact Nat.le_of_ble_eq_true rfl | omega) (by first | exact Nat.le_of_ble_eq_true rfl | omega) rfl (fun v_41 M_42 h_44 hE_43 => ?_)
  obtain ⟨rfl, hMs⟩ := h_44
  have hMs := hMs.symm
  subst hMs
  refine x_if_ne (n' := 66) (tgt := 71) dX1_hours_2_63 (by decide) rfl (fun c63_45 => absurd (bi_0.mpr hf2) c63_45) (fun c63_45 => ?_)
  refine x_aload (n' := 68) dX1_hours_2_66 rfl rfl ?_
  refine x_goto (tgt := 72) dX1_hours_2_68 (by decide) ?_
  refine x_astore (n' := 74) dX1_hours_2_72 (Nat.le_of_ble_eq_true rfl) rfl (by dsimp only [List.set] <;> rfl) rfl ?_
  refine x_aload_n (n' := 75) dX1_hours_2_74 rfl rfl rfl ?_
  refine x_iload_n (n' := 76) dX1_hours_2_75 rfl rfl rfl ?_
  refine x_aload (n' := 78) dX1_hours_2_76 rfl rfl ?_
  refine x_ifnull (n' := 81) dX1_hours_2_78 rfl ?_
  refine x_iconst (n' := 82) (v := 1) dX1_hours_2_81 (by decide) rfl ?_
  refine x_goto (tgt := 86) dX1_hours_2_82 (by decide) ?_
  refine x_topv (y := bi (tendP g (plV g h))) ((bi_t ⟨hp0, hf⟩).symm) ?_
  refine x_callV (n' := 89) (n := 2) (K := 1) (c_X1_burns l G _ w a kf sf g nk nr (dkG g h) (tendP g (plV g h)) h hW h6 h20 hh hb1) dX1_hours_2_86 (hW.s.k) rfl (lw_V q2601 q2603 qs32 q78 q2604) (by decide +kernel) ⟨(Nat.le_of_ble_eq_true rfl), (Nat.le_of_ble_eq_true rfl)⟩ rfl rfl (Nat.le_of_ble_eq_true rfl) (by first | exact Nat.le_of_ble_eq_true rfl | omega) (by first | exact Nat.le_of_ble_eq_true rfl | omega) rfl (fun v_46 M_b h_48 hE_47 => ?_)
  obtain ⟨rfl, hW9, hF9⟩ := h_48
  have hW := hW9
  have hF := hF.tr hF9
  refine x_aload_n (n' := 90) dX1_hours_2_89 rfl rfl rfl ?_
  refine x_disp3k ((hcn.kE hF.kE) wt (by omega)) (wi_k hw3) (fun e8 hk8 k8 => x_callK (n' := 93) (K := 200) (v := 0) (x := ⟨"KeptLight$Weather", "wantsSound", "()Z"⟩) (y := yX6_wantsSound) (owner := "KeptLight$Weather") dX1_hours_2_90 hk8 rfl q2635 q1059 (Or.inr ⟨q1058, _, _, _, q1065⟩) (by decide) q1060 q1058 q1065 (by decide +kernel) (by decide +kernel) (Or.inl ⟨_, dX6_wantsSound_0, rfl, dX6_wantsSound_1⟩) (by decide +kernel) ⟨(Nat.le_of_ble_eq_true rfl), (Nat.le_of_ble_eq_true rfl)⟩ (Nat.le_of_ble_eq_true rfl) rfl (x_topv (wi_s (w := wt) (i := 0) (by decide) e8 rfl) k8)) (fun e8 hk8 k8 => x_callK (n' := 93) (K := 201) (v := 1) (x := ⟨"KeptLight$Weather", "wantsSound", "()Z"⟩) (y := yX28_wantsSound) (owner := "KeptLight$Weather") dX1_hours_2_90 hk8 rfl q2635 q1059 (Or.inr ⟨q1058, _, _, _, q1065⟩) (by decide) q1061 q1062 q1063 (by decide +kernel) (by decide +kernel) (Or.inl ⟨_, dX28_wantsSound_0, rfl, dX28_wantsSound_1⟩) (by decide +kernel) ⟨(Nat.le_of_ble_eq_true rfl), (Nat.le_of_ble_eq_true rfl)⟩ (Nat.le_of_ble_eq_true rfl) rfl (x_topv (wi_s (w := wt) (i := 1) (by decide) e8 rfl) k8)) (fun e8 hk8 k8 => x_callK (n' := 93) (K := 202) (v := 0) (x := ⟨"KeptLight$Weather", "wantsSound", "()Z"⟩) (y := yX6_wantsSound) (owner := "KeptLight$Weather") dX1_hours_2_90 hk8 rfl q2635 q1059 (Or.inr ⟨q1058, _, _, _, q1065⟩) (by decide) q1064 q1058 q1065 (by decide +kernel) (by decide +kernel) (Or.inl ⟨_, dX6_wantsSound_0, rfl, dX6_wantsSound_1⟩) (by decide +kernel) ⟨(Nat.le_of_ble_eq_true rfl), (Nat.le_of_ble_eq_true rfl)⟩ (Nat.le_of_ble_eq_true rfl) rfl (x_topv (wi_s (w := wt) (i := 2) (by decide) e8 rfl) k8)) ?_
  refine x_if_eq (n' := 96) (tgt := 115) dX1_hours_2_93 (by decide) rfl (fun c93_49 => ?_) (fun c93_49 => ?_)
  · refine x_iconst (n' := 116) (v := 0) dX1_hours_2_115 (by decide) rfl ?_
    refine x_istore (n' := 118) dX1_hours_2_116 (Nat.le_of_ble_eq_true rfl) rfl (by dsimp only [List.set] <;> rfl) rfl ?_
    refine x_loc (i := 6) (y := coV g h nr) rfl (by first | exact cov_a hwe hw3 (by assumption) | exact cov_e hwe (by assumption) ht9) rfl ?_
    exact x_drop (cut118 _ hW hF) ⟨rfl, ⟨rfl, ⟨rfl, ⟨rfl, ⟨rfl, ⟨rfl, ⟨rfl, trivial⟩⟩⟩⟩⟩⟩⟩
  · refine x_aload (n' := 98) dX1_hours_2_96 rfl rfl ?_
    refine x_ifnull (n' := 101) dX1_hours_2_98 rfl ?_
    refine x_aload_n (n' := 102) dX1_hours_2_101 rfl rfl rfl ?_
    refine x_getRs (n' := 105) (b := (a 10)) dX1_hours_2_102 (hW.s.k) ffX1_57_1 rfl (hW.s.r 10 (by decide)) rfl ?_
    refine x_iconst (n' := 106) (v := 4) dX1_hours_2_105 (by decide) rfl ?_
    refine x_ildk (n' := 107) (N := 5) dX1_hours_2_106 (hW.s.ak 10 (by decide)) (hW.s.an 10 (by decide)) (by repeat' (first | with_reducible exact nl_0 | with_reducible exact nl_1 | with_reducible exact nl_4 | with_reducible exact nl_24 | with_reducible exact rfl | apply i_add | apply i_mul)) (by omega) (by decide) ((hW.told 4 (by decide)).trans lamp_5) rfl ?_
    refine x_iconst (n' := 108) (v := 1) dX1_hours_2_107 (by decide) rfl ?_
    refine x_fork (J := 116) (x_icmp_lt (n' := 111) (tgt := 115) dX1_hours_2_108 (by decide) rfl) (v1 := ?v1_f108_50) (v2 := ?v2_f108_50) (fun c_f108_50 j_f108_50 => ?b1_f108_50) (fun c_f108_50 j_f108_50 => ?b2_f108_50) ?k_f108_50
    case b1_f108_50 =>
      refine x_iconst (n' := 116) (v := 0) dX1_hours_2_115 (by decide) rfl ?_
      exact j_f108_50
    case b2_f108_50 =>
      refine x_iconst (n' := 112) (v := 1) dX1_hours_2_111 (by decide) rfl ?_
      refine x_goto (tgt := 116) dX1_hours_2_112 (by decide) ?_
      exact j_f108_50
    refine x_istore (n' := 118) dX1_hours_2_116 (Nat.le_of_ble_eq_true rfl) rfl (by dsimp only [List.set] <;> rfl) rfl ?_
    refine x_loc (i := 6) (y := coV g h nr) rfl (by first | exact cov_a hwe hw3 (by assumption) | exact cov_e hwe (by assumption) ht9) rfl ?_
    exact x_drop (cut118 _ hW hF) ⟨rfl, ⟨rfl, ⟨rfl, ⟨rfl, ⟨rfl, ⟨rfl, ⟨rfl, trivial⟩⟩⟩⟩⟩⟩⟩
