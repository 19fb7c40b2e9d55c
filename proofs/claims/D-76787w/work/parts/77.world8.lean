/-- a world of thought -/
def MB (G : kG) (M : kM) (w : Nat) (a kf sf sa : Nat → Nat) (T : kT) (ex : Nat → Prop) (g : gT) (nk nr ns : Nat) : Prop := WC G M w a kf sf g nk nr ∧ CM G M (a 3) (a 32) (a 33) T sa (rlG g ns) ex ∧ (∀ s, s < ns → NM M (a 3) (sa s) s (g (109 + 4 * s))) ∧ (ex w ∧ ex (a 3)) ∧ (nk ≤ 6 ∧ nr ≤ 20 ∧ ns ≤ 200)
def FSm (w : Nat) (a : Nat → Nat) : Nat → Prop := fun o => o = w + 1 ∨ o = a 33 + 1
section
variable {G : kG} {M M2 : kM} {w : Nat} {a kf sf sa : Nat → Nat} {T : kT} {ex S : Nat → Prop} {g g' : gT} {nk nr ns : Nat}
theorem MB.wc (h : MB G M w a kf sf sa T ex g nk nr ns) : WC G M w a kf sf g nk nr := h.1
theorem MB.c (h : MB G M w a kf sf sa T ex g nk nr ns) : CM G M (a 3) (a 32) (a 33) T sa (rlG g ns) ex := h.2.1
theorem MB.nm (h : MB G M w a kf sf sa T ex g nk nr ns) {s : Nat} (hs : s < ns) : NM M (a 3) (sa s) s (g (109 + 4 * s)) := h.2.2.1 s hs
theorem MB.b (h : MB G M w a kf sf sa T ex g nk nr ns) : nk ≤ 6 ∧ nr ≤ 20 ∧ ns ≤ 200 := h.2.2.2.2
theorem MB.nms (h : MB G M w a kf sf sa T ex g nk nr ns) (z : Nat) (s : Nat) (hs : s ∈ rlG g ns z) : NM M (a 3) (sa s) s ((fun s => g (109 + 4 * s)) s) := h.nm (rlG_lt hs)
theorem MB.k4 (h : MB G M w a kf sf sa T ex g nk nr ns) : mK M (a 4) = some 5 := h.wc.s.2.2.2.2.2.k
theorem MB.own (h : MB G M w a kf sf sa T ex g nk nr ns) (hF : Fr (ow w) M M2) (hW : WC G M2 w a kf sf g' nk nr) (hS : ∀ s, s < ns → g' (109 + 4 * s + 1) = g (109 + 4 * s + 1) ∧ g' (109 + 4 * s) = g (109 + 4 * s)) : MB G M2 w a kf sf sa T ex g' nk nr ns := by
  have n3 : ¬ ow w (a 3 + 1) := fun e => nk_ne h.c.1.1 h.wc.s.k (by decide) (Nat.succ.inj e)
  refine ⟨hW, ?_, fun s hs => ?_, h.2.2.2.1, h.b⟩
  · rw [rlG_cg hS]; exact h.c.fr hF (fun o e => ⟨w, e, h.2.2.2.1.1⟩)
  · rw [(hS s hs).2]; exact (h.nm hs).fr hF n3
theorem MB.ask (h : MB G M w a kf sf sa T ex g nk nr ns) {v : Int32} : MB G (sI M (fc 4 0) (a 33) v) w a kf sf sa T ex g nk nr ns ∧ Fr (ow (a 33)) M (sI M (fc 4 0) (a 33) v) := by
  have kq := h.c.1.2.2.2.2.2.1
  have hF : Fr (ow (a 33)) M (sI M (fc 4 0) (a 33) v) := Fr.rf.I (Or.inr h.c.1.2.2.2.2.2.2)
  have ne : ∀ {x K : Nat}, mK M x = some K → K ≠ 4 → ¬ ow (a 33) (x + 1) := fun hx hK e => nk_ne hx kq hK (Nat.succ.inj e)
  exact ⟨⟨h.wc.fr hF (ne h.wc.s.k (by decide)) (fun e => by cases e) (ne h.k4 (by decide)) (ne h.wc.kl.kk (by decide)) (ne h.wc.sl.kk (by decide)), h.c.asked, fun s hs => (h.nm hs).fr hF (ne h.c.1.1 (by decide)), h.2.2.2.1, h.b⟩, hF⟩
theorem MB.m4 (h : MB G M w a kf sf sa T ex g nk nr ns) : ¬ FSm w a (a 4 + 1) := fun e => by
  rcases e with e | e
  · exact nk_ne h.k4 h.wc.s.k (by decide) (Nat.succ.inj e)
  · exact nk_ne h.k4 h.c.1.2.2.2.2.2.1 (by decide) (Nat.succ.inj e)
theorem MB.askw (h : MB G M w a kf sf sa T ex g nk nr ns) {v : Int32} {f : Nat} (hf : f ∈ [17, 18, 19]) : mI (sI M (fc 4 0) (a 33) v) (fc 1 f) w = mI M (fc 1 f) w := mI_sI_c ((by decide : ∀ f, f ∈ [17, 18, 19] → fc 1 f ≠ fc 4 0) f hf)
end
/-- how many of the ships fare so -/
def wpc (F : Nat → Int32) (v : Int32) (l : List Nat) : Int32 := l.foldl (fun z s => z + bi (F s = v)) 0
theorem wpc_s {F : Nat → Int32} {v : Int32} {l : List Nat} {i s : Nat} (hi : l[i]? = some s) : wpc F v (l.take (i + 1)) = wpc F v (l.take i) + bi (F s = v) := by
  unfold wpc
  rw [List.take_add_one, hi, List.foldl_append]
  rfl
theorem shF_lt {g : gT} {d t w : Int32} {s : Nat} : shF d t w g s = shF d t w g s := rfl
theorem ffX1_143_1 : FF "KeptLight$World" 143 1 18 "KeptLight$World" := ⟨by decide, by decide, q722, Or.inl rfl⟩
theorem ffX1_146_1 : FF "KeptLight$World" 146 1 19 "KeptLight$World" := ⟨by decide, by decide, q724, Or.inl rfl⟩
set_option maxHeartbeats 4000000 in
set_option maxRecDepth 100000 in
theorem k2_c_X1_wouldPass (l : Launch) (G : kG) (M : kM) (w : Nat) (a kf sf sa : Nat → Nat) (T : kT) (ex : Nat → Prop) (g : gT) (nk nr ns : Nat) (sg wt h : Nat) (d c : Prop) [Decidable d] [Decidable c] (x y : Int32) (hM : MB G M w a kf sf sa T ex g nk nr ns) (hS : (SGP G M sg wt (bi d) (bi (g 6 = 1)) (bi c) ∧ mG M sg = a 4 + 1)) (hh : g 0 = nI h) (hb : h < BB) (hx : mI M (fc 1 18) w = x) (hy : mI M (fc 1 19) w = y) (pp : Program) (ee : Env) (ss : State) (mm : MethodId) (args : Array Value) (below : List Frame) (meth : Method) (cd : Code) (hmn : meth.name = yX1_wouldPass.name) (hret : meth.sig.returnType = none) : ∀ (fuel : Nat) (k : Nat) (M1 : kM) (h9 : (rlG g ns h).length - k < fuel) (h2 : k ≤ (rlG g ns h).length) (hM : MB G M1 w a kf sf sa T ex g nk nr ns) (hS : (SGP G M1 sg wt (bi d) (bi (g 6 = 1)) (bi c) ∧ mG M1 sg = a 4 + 1)) (hc : mI M1 (fc 1 18) w = x + wpc (shF (bi d) (bi c) (nI wt) g) 1 ((rk g (nI h) ns).take k) ∧ mI M1 (fc 1 19) w = y + wpc (shF (bi d) (bi c) (nI wt) g) 2 ((rk g (nI h) ns).take k) ∧ mI M1 (fc 1 17) w = mI M (fc 1 17) w) (hF : Fr (FSm w a) M M1), Wx pp l ee { frames := 6, cells := 0, slots := 0, locals := 131 } ss mm args below meth cd "KeptLight$World" cX1_wouldPass 4 G (MQ below (KQ G M (fun v M2 => v = none ∧ MB G M2 w a kf sf sa T ex g nk nr ns ∧ (mI M2 (fc 1 18) w = x + wpc (shF (bi d) (bi c) (nI wt) g) 1 (rk g (nI h) ns) ∧ mI M2 (fc 1 19) w = y + wpc (shF (bi d) (bi c) (nI wt) g) 2 (rk g (nI h) ns) ∧ mI M2 (fc 1 17) w = mI M (fc 1 17) w) ∧ Fr (FSm w a) M M2)) args ss (0) (0) (kA G)) 2 [some (.ref w), some (.ref sg), some (.int (nI k)), none] [] (M1) (0) (0) := by
  have hF : Fr (FSm w a) M M := Fr.rf
  intro fuel
  induction fuel with
  | zero => intro k M1 h9 h2 hM hS hc hF; omega
  | succ fuel ih =>
    intro k M1 h9 h2 hM hS hc hF
    have hlr : (rlG g ns h).length < 1100 := by have := rk_len g (nI h) ns; have := hM.b.2.2; show (rk g (nI h) ns).length < 1100; omega
    refine x_iload_n (n' := 3) dX1_wouldPass_2 rfl rfl rfl ?_
    refine x_aload_n (n' := 4) dX1_wouldPass_3 rfl rfl rfl ?_
    refine x_aload_n (n' := 5) dX1_wouldPass_4 rfl rfl rfl ?_
    refine x_getI (n' := 8) dX1_wouldPass_5 (hM.wc.s.k) ffX1_128_1 rfl rfl ?_
    refine x_topv ((hM.wc.i 9 (by decide)).trans hh) ?_
    refine x_callV (n' := 11) (n := 1) (K := 1) (c_X1_manyAt l G _ w a kf sf g nk nr (a 32) (a 33) T sa (rlG g ns) ex h hM.wc hM.c hb) dX1_wouldPass_8 (hM.wc.s.k) rfl (lw_V q2648 q2649 q2650 q78 q2651) (by decide +kernel) ⟨(Nat.le_of_ble_eq_true rfl), (Nat.le_of_ble_eq_true rfl)⟩ rfl rfl (Nat.le_of_ble_eq_true rfl) (by first | exact Nat.le_of_ble_eq_true rfl | omega) (by first | exact Nat.le_of_ble_eq_true rfl | omega) rfl (fun v_1 M_2 h_4 hE_3 => ?_)
    obtain ⟨rfl, hMs⟩ := h_4
    have hMs := hMs.symm
    subst hMs
    have hQ9 := hM.ask (v := nI h)
    refine x_gen (X := fun M9 => MB G M9 w a kf sf sa T ex g nk nr ns ∧ (SGP G M9 sg wt (bi d) (bi (g 6 = 1)) (bi c) ∧ mG M9 sg = a 4 + 1) ∧ (mI M9 (fc 1 18) w = x + wpc (shF (bi d) (bi c) (nI wt) g) 1 ((rk g (nI h) ns).take k) ∧ mI M9 (fc 1 19) w = y + wpc (shF (bi d) (bi c) (nI wt) g) 2 ((rk g (nI h) ns).take k) ∧ mI M9 (fc 1 17) w = mI M (fc 1 17) w) ∧ Fr (FSm w a) M M9) ⟨hQ9.1, sg_fr hS (hQ9.2.mono (fun _ e9 => Or.inr e9)) hM.m4, ⟨(hM.askw (by decide)).trans hc.1, (hM.askw (by decide)).trans hc.2.1, (hM.askw (by decide)).trans hc.2.2⟩, hF.tr (hQ9.2.mono (fun _ e9 => Or.inr e9))⟩ (fun M_5 hM9 => ?_)
    clear hM hS hc hF
    obtain ⟨hM, hS, hc, hF⟩ := hM9
    refine x_icmp_ge (n' := 14) (tgt := 78) dX1_wouldPass_11 (by decide) rfl (fun c11_6 => ?_) (fun c11_6 => ?_)
    · have n_c11_6 := (cv_le (by repeat' (first | with_reducible exact nl_0 | with_reducible exact nl_1 | with_reducible exact nl_2 | with_reducible exact rfl | apply i_add | apply i_mul)) (by repeat' (first | with_reducible exact nl_0 | with_reducible exact nl_1 | with_reducible exact nl_2 | with_reducible exact rfl | apply i_add | apply i_mul)) (by omega) (by omega)).mp c11_6
      exact x_vret dX1_wouldPass_78 hret hF.kE (⟨rfl, hM, (by have e9 : k = (rlG g ns h).length := (by omega); rw [e9, show (rlG g ns h).length = (rk g (nI h) ns).length from rfl, List.take_length] at hc; exact hc), hF⟩)
    · have n_c11_6 := (not_congr (cv_le (by repeat' (first | with_reducible exact nl_0 | with_reducible exact nl_1 | with_reducible exact nl_2 | with_reducible exact rfl | apply i_add | apply i_mul)) (by repeat' (first | with_reducible exact nl_0 | with_reducible exact nl_1 | with_reducible exact nl_2 | with_reducible exact rfl | apply i_add | apply i_mul)) (by omega) (by omega))).mp c11_6
      have hkl : k < (rlG g ns h).length := by omega
      refine x_aload_n (n' := 15) dX1_wouldPass_14 rfl rfl rfl ?_
      refine x_aload_n (n' := 16) dX1_wouldPass_15 rfl rfl rfl ?_
      refine x_getI (n' := 19) dX1_wouldPass_16 (hM.wc.s.k) ffX1_128_1 rfl rfl ?_
      refine x_topv ((hM.wc.i 9 (by decide)).trans hh) ?_
      refine x_iload_n (n' := 20) dX1_wouldPass_19 rfl rfl rfl ?_
      refine x_callV (n' := 23) (n := 2) (K := 1) (c_X1_shipAt l G _ w a kf sf g nk nr (a 32) (a 33) T sa (rlG g ns) ex h k (fun s => g (109 + 4 * s)) hM.wc hM.c hb hkl (fun s hs => hM.nms h s hs)) dX1_wouldPass_20 (hM.wc.s.k) rfl (lw_V q2654 q2655 q2656 q78 q2657) (by decide +kernel) ⟨(Nat.le_of_ble_eq_true rfl), (Nat.le_of_ble_eq_true rfl)⟩ rfl rfl (Nat.le_of_ble_eq_true rfl) (by first | exact Nat.le_of_ble_eq_true rfl | omega) (by first | exact Nat.le_of_ble_eq_true rfl | omega) rfl (fun v_7 M_8 h_10 hE_9 => ?_)
      obtain ⟨rfl, hMs⟩ := h_10
      have hMs := hMs.symm
      subst hMs
      have hQ9 := hM.ask (v := nI h)
      refine x_gen (X := fun M9 => MB G M9 w a kf sf sa T ex g nk nr ns ∧ (SGP G M9 sg wt (bi d) (bi (g 6 = 1)) (bi c) ∧ mG M9 sg = a 4 + 1) ∧ (mI M9 (fc 1 18) w = x + wpc (shF (bi d) (bi c) (nI wt) g) 1 ((rk g (nI h) ns).take k) ∧ mI M9 (fc 1 19) w = y + wpc (shF (bi d) (bi c) (nI wt) g) 2 ((rk g (nI h) ns).take k) ∧ mI M9 (fc 1 17) w = mI M (fc 1 17) w) ∧ Fr (FSm w a) M M9) ⟨hQ9.1, sg_fr hS (hQ9.2.mono (fun _ e9 => Or.inr e9)) hM.m4, ⟨(hM.askw (by decide)).trans hc.1, (hM.askw (by decide)).trans hc.2.1, (hM.askw (by decide)).trans hc.2.2⟩, hF.tr (hQ9.2.mono (fun _ e9 => Or.inr e9))⟩ (fun M_11 hM9 => ?_)
      clear hM hS hc hF
      obtain ⟨hM, hS, hc, hF⟩ := hM9
      obtain ⟨s9, hs9⟩ : ∃ s9, s9 = (rlG g ns h).getD k 0 := ⟨_, rfl⟩
      rw [← hs9]
      have hsn : s9 < ns := by rw [hs9]; exact rlG_lt (gD_mem hkl)
      obtain ⟨Ke, hKe, hCe, -, -, hke⟩ := hM.nm hsn
      have hsk9 : (rk g (nI h) ns)[k]? = some s9 := by rw [hs9]; exact gD_some hkl
      refine x_aload_n (n' := 24) dX1_wouldPass_23 rfl rfl rfl ?_
      refine x_disp5i (z := fateP (nI (skd Ke)) (lacksG (nI (skd Ke)) (bi d) (bi (g 6 = 1)) (bi c) (nI wt)) (nI wt)) (by repeat' (first | with_reducible exact hKe | with_reducible apply mK_A | with_reducible apply mK_I | with_reducible apply mK_L | with_reducible apply mK_R | with_reducible apply mK_O | with_reducible apply mK_G | with_reducible refine mK_NA ?_ (by assumption) | with_reducible refine mK_NO ?_ (by assumption) | with_reducible refine kE.ap hE_3 ?_ | with_reducible refine kE.ap hE_9 ?_)) hCe (fun e8 hk8 k8 => x_callU (n' := 27) (n := 1) (K := 19) (x := ⟨"KeptLight$Ship", "becomes", "(LKeptLight$Sight;)I"⟩) (owner := "KeptLight$Ship") ((c_X17_becomes__19 l G _ (sa s9) sg wt _ _ _ hS.1 hk8).to (by rw [e8]; rfl)) dX1_wouldPass_24 hk8 rfl (lw_U5 q2659 q2661 q2663 q2660 q142 q2667) rfl (by decide +kernel) ⟨(Nat.le_of_ble_eq_true rfl), (Nat.le_of_ble_eq_true rfl)⟩  rfl rfl (Nat.le_of_ble_eq_true rfl) (by first | exact Nat.le_of_ble_eq_true rfl | omega) (by first | exact Nat.le_of_ble_eq_true rfl | omega) rfl k8) (fun e8 hk8 k8 => x_callU (n' := 27) (n := 1) (K := 20) (x := ⟨"KeptLight$Ship", "becomes", "(LKeptLight$Sight;)I"⟩) (owner := "KeptLight$Ship") ((c_X17_becomes__20 l G _ (sa s9) sg wt _ _ _ hS.1 hk8).to (by rw [e8]; rfl)) dX1_wouldPass_24 hk8 rfl (lw_U5 q2659 q2661 q2666 q2660 q142 q2667) rfl (by decide +kernel) ⟨(Nat.le_of_ble_eq_true rfl), (Nat.le_of_ble_eq_true rfl)⟩  rfl rfl (Nat.le_of_ble_eq_true rfl) (by first | exact Nat.le_of_ble_eq_true rfl | omega) (by first | exact Nat.le_of_ble_eq_true rfl | omega) rfl k8) (fun e8 hk8 k8 => x_callU (n' := 27) (n := 1) (K := 22) (x := ⟨"KeptLight$Ship", "becomes", "(LKeptLight$Sight;)I"⟩) (owner := "KeptLight$Ship") ((c_X17_becomes__22 l G _ (sa s9) sg wt _ _ _ hS.1 hk8).to (by rw [e8]; rfl)) dX1_wouldPass_24 hk8 rfl (lw_U5 q2659 q2661 q2662 q2660 q142 q2667) rfl (by decide +kernel) ⟨(Nat.le_of_ble_eq_true rfl), (Nat.le_of_ble_eq_true rfl)⟩  rfl rfl (Nat.le_of_ble_eq_true rfl) (by first | exact Nat.le_of_ble_eq_true rfl | omega) (by first | exact Nat.le_of_ble_eq_true rfl | omega) rfl k8) (fun e8 hk8 k8 => x_callU (n' := 27) (n := 1) (K := 23) (x := ⟨"KeptLight$Ship", "becomes", "(LKeptLight$Sight;)I"⟩) (owner := "KeptLight$Ship") ((c_X17_becomes__23 l G _ (sa s9) sg wt _ _ _ hS.1 hk8).to (by rw [e8]; rfl)) dX1_wouldPass_24 hk8 rfl (lw_U5 q2659 q2661 q2664 q2660 q142 q2667) rfl (by decide +kernel) ⟨(Nat.le_of_ble_eq_true rfl), (Nat.le_of_ble_eq_true rfl)⟩  rfl rfl (Nat.le_of_ble_eq_true rfl) (by first | exact Nat.le_of_ble_eq_true rfl | omega) (by first | exact Nat.le_of_ble_eq_true rfl | omega) rfl k8) (fun e8 hk8 k8 => x_callU (n' := 27) (n := 1) (K := 24) (x := ⟨"KeptLight$Ship", "becomes", "(LKeptLight$Sight;)I"⟩) (owner := "KeptLight$Ship") ((c_X17_becomes__24 l G _ (sa s9) sg wt _ _ _ hS.1 hk8).to (by rw [e8]; rfl)) dX1_wouldPass_24 hk8 rfl (lw_U5 q2659 q2661 q2665 q2660 q142 q2667) rfl (by decide +kernel) ⟨(Nat.le_of_ble_eq_true rfl), (Nat.le_of_ble_eq_true rfl)⟩  rfl rfl (Nat.le_of_ble_eq_true rfl) (by first | exact Nat.le_of_ble_eq_true rfl | omega) (by first | exact Nat.le_of_ble_eq_true rfl | omega) rfl k8) (fun v_12 M_13 h_15 hE_14 => ?_)
      obtain ⟨rfl, hMs⟩ := h_15
      have hMs := hMs.symm
      subst hMs
      refine x_topv (y := (shF (bi d) (bi c) (nI wt) g) s9) (by unfold shF; rw [hke]) ?_
      refine x_istore_n (n' := 28) dX1_wouldPass_27 rfl (Nat.le_of_ble_eq_true rfl) rfl (by dsimp only [List.set] <;> rfl) rfl ?_
      refine x_aload_n (n' := 29) dX1_wouldPass_28 rfl rfl rfl ?_
      refine x_dup (n' := 30) dX1_wouldPass_29 rfl rfl ?_
      refine x_getI (n' := 33) dX1_wouldPass_30 (hM.wc.s.k) ffX1_143_1 rfl rfl ?_
      refine x_topv hc.1 ?_
      refine x_iload_n (n' := 34) dX1_wouldPass_33 rfl rfl rfl ?_
      refine x_iconst (n' := 35) (v := 1) dX1_wouldPass_34 (by decide) rfl ?_
      refine x_forkN (J := 43) (x_icmp_ne (n' := 38) (tgt := 42) dX1_wouldPass_35 (by decide) rfl) (v1 := ?v1_f35_16) (v2 := ?v2_f35_16) (fun c_f35_16 j_f35_16 => ?b1_f35_16) (fun c_f35_16 j_f35_16 => ?b2_f35_16) ?k_f35_16
      case b1_f35_16 =>
        refine x_iconst (n' := 43) (v := 0) dX1_wouldPass_42 (by decide) rfl ?_
        exact j_f35_16
      case b2_f35_16 =>
        refine x_iconst (n' := 39) (v := 1) dX1_wouldPass_38 (by decide) rfl ?_
        refine x_goto (tgt := 43) dX1_wouldPass_39 (by decide) ?_
        exact j_f35_16
      refine x_topv (y := bi ((shF (bi d) (bi c) (nI wt) g) s9 = 1)) (by unfold bi; grind) ?_
      refine x_callSN (n' := 46) (n := 1) (c_X0_one l G _ _) dX1_wouldPass_43 (lw_meth q1032) q2643 q77 q1031 (by decide +kernel) ⟨(Nat.le_of_ble_eq_true rfl), (Nat.le_of_ble_eq_true rfl)⟩ rfl rfl (Nat.le_of_ble_eq_true rfl) (by first | exact Nat.le_of_ble_eq_true rfl | omega) (by first | exact Nat.le_of_ble_eq_true rfl | omega) rfl (fun v_17 M_18 h_20 hE_19 => ?_)
      obtain ⟨rfl, hMs⟩ := h_20
      have hMs := hMs.symm
      subst hMs
      refine x_topv bi_if ?_
      refine x_iadd (n' := 47) dX1_wouldPass_46 rfl ?_
      refine x_putI (n' := 50) dX1_wouldPass_47 (hM.wc.s.k) ffX1_143_1 rfl (⟨rfl, rfl⟩) rfl rfl ?_
      refine x_gen (X := fun M9 => MB G M9 w a kf sf sa T ex g nk nr ns ∧ (SGP G M9 sg wt (bi d) (bi (g 6 = 1)) (bi c) ∧ mG M9 sg = a 4 + 1) ∧ (mI M9 (fc 1 18) w = x + wpc (shF (bi d) (bi c) (nI wt) g) 1 ((rk g (nI h) ns).take (k + 1)) ∧ mI M9 (fc 1 19) w = y + wpc (shF (bi d) (bi c) (nI wt) g) 2 ((rk g (nI h) ns).take k) ∧ mI M9 (fc 1 17) w = mI M (fc 1 17) w) ∧ Fr (FSm w a) M M9) ⟨hM.own (Fr.rf.I (Or.inr hM.wc.s.gg)) (hM.wc.setX hM.b.1 hM.b.2.1 18 (by decide)) (fun _ _ => ⟨rfl, rfl⟩), sg_fr hS (Fr.rf.I (Or.inr hM.wc.s.gg) : Fr (ow w) _ _) (fun e9 => hM.wc.s4 (Nat.succ.inj e9)), ⟨mI_sI.trans (by rw [wpc_s hsk9, Int32.add_assoc]), (mI_sI_c (by decide)).trans hc.2.1, (mI_sI_c (by decide)).trans hc.2.2⟩, hF.tr ((Fr.rf.I (Or.inr hM.wc.s.gg) : Fr (ow w) _ _).mono (fun _ e9 => Or.inl e9))⟩ (fun M_21 hM9 => ?_)
      clear hM hS hc hF
      obtain ⟨hM, hS, hc, hF⟩ := hM9
      refine x_aload_n (n' := 51) dX1_wouldPass_50 rfl rfl rfl ?_
      refine x_dup (n' := 52) dX1_wouldPass_51 rfl rfl ?_
      refine x_getI (n' := 55) dX1_wouldPass_52 (hM.wc.s.k) ffX1_146_1 rfl rfl ?_
      refine x_topv hc.2.1 ?_
      refine x_iload_n (n' := 56) dX1_wouldPass_55 rfl rfl rfl ?_
      refine x_iconst (n' := 57) (v := 2) dX1_wouldPass_56 (by decide) rfl ?_
      refine x_forkN (J := 65) (x_icmp_ne (n' := 60) (tgt := 64) dX1_wouldPass_57 (by decide) rfl) (v1 := ?v1_f57_22) (v2 := ?v2_f57_22) (fun c_f57_22 j_f57_22 => ?b1_f57_22) (fun c_f57_22 j_f57_22 => ?b2_f57_22) ?k_f57_22
      case b1_f57_22 =>
        refine x_iconst (n' := 65) (v := 0) dX1_wouldPass_64 (by decide) rfl ?_
        exact j_f57_22
      case b2_f57_22 =>
        refine x_iconst (n' := 61) (v := 1) dX1_wouldPass_60 (by decide) rfl ?_
        refine x_goto (tgt := 65) dX1_wouldPass_61 (by decide) ?_
        exact j_f57_22
      refine x_topv (y := bi ((shF (bi d) (bi c) (nI wt) g) s9 = 2)) (by unfold bi; grind) ?_
      refine x_callSN (n' := 68) (n := 1) (c_X0_one l G _ _) dX1_wouldPass_65 (lw_meth q1032) q2643 q77 q1031 (by decide +kernel) ⟨(Nat.le_of_ble_eq_true rfl), (Nat.le_of_ble_eq_true rfl)⟩ rfl rfl (Nat.le_of_ble_eq_true rfl) (by first | exact Nat.le_of_ble_eq_true rfl | omega) (by first | exact Nat.le_of_ble_eq_true rfl | omega) rfl (fun v_23 M_24 h_26 hE_25 => ?_)
      obtain ⟨rfl, hMs⟩ := h_26
      have hMs := hMs.symm
      subst hMs
      refine x_topv bi_if ?_
      refine x_iadd (n' := 69) dX1_wouldPass_68 rfl ?_
      refine x_putI (n' := 72) dX1_wouldPass_69 (hM.wc.s.k) ffX1_146_1 rfl (⟨rfl, rfl⟩) rfl rfl ?_
      refine x_gen (X := fun M9 => MB G M9 w a kf sf sa T ex g nk nr ns ∧ (SGP G M9 sg wt (bi d) (bi (g 6 = 1)) (bi c) ∧ mG M9 sg = a 4 + 1) ∧ (mI M9 (fc 1 18) w = x + wpc (shF (bi d) (bi c) (nI wt) g) 1 ((rk g (nI h) ns).take (k + 1)) ∧ mI M9 (fc 1 19) w = y + wpc (shF (bi d) (bi c) (nI wt) g) 2 ((rk g (nI h) ns).take (k + 1)) ∧ mI M9 (fc 1 17) w = mI M (fc 1 17) w) ∧ Fr (FSm w a) M M9) ⟨hM.own (Fr.rf.I (Or.inr hM.wc.s.gg)) (hM.wc.setX hM.b.1 hM.b.2.1 19 (by decide)) (fun _ _ => ⟨rfl, rfl⟩), sg_fr hS (Fr.rf.I (Or.inr hM.wc.s.gg) : Fr (ow w) _ _) (fun e9 => hM.wc.s4 (Nat.succ.inj e9)), ⟨(mI_sI_c (by decide)).trans hc.1, mI_sI.trans (by rw [wpc_s hsk9, Int32.add_assoc]), (mI_sI_c (by decide)).trans hc.2.2⟩, hF.tr ((Fr.rf.I (Or.inr hM.wc.s.gg) : Fr (ow w) _ _).mono (fun _ e9 => Or.inl e9))⟩ (fun M_27 hM9 => ?_)
      clear hM hS hc hF
      obtain ⟨hM, hS, hc, hF⟩ := hM9
      refine x_iinc (n' := 75) dX1_wouldPass_72 rfl (by first | exact nI_inc _ | exact nI_decp (by omega) | exact i_inc _ | rfl) (Nat.le_of_ble_eq_true rfl) rfl (by dsimp only [List.set] <;> rfl) rfl ?_
      refine x_goto (tgt := 2) dX1_wouldPass_75 (by decide) ?_
      exact x_drop (ih (k + 1) _ (by omega) (by omega) hM hS hc hF) ⟨rfl, ⟨rfl, ⟨rfl, trivial⟩⟩⟩
set_option maxHeartbeats 4000000 in
set_option maxRecDepth 100000 in
theorem c_X1_wouldPass (l : Launch) (G : kG) (M : kM) (w : Nat) (a kf sf sa : Nat → Nat) (T : kT) (ex : Nat → Prop) (g : gT) (nk nr ns : Nat) (sg wt h : Nat) (d c : Prop) [Decidable d] [Decidable c] (x y : Int32) (hM : MB G M w a kf sf sa T ex g nk nr ns) (hS : (SGP G M sg wt (bi d) (bi (g 6 = 1)) (bi c) ∧ mG M sg = a 4 + 1)) (hh : g 0 = nI h) (hb : h < BB) (hx : mI M (fc 1 18) w = x) (hy : mI M (fc 1 19) w = y) : Kt l G yX1_wouldPass cX1_wouldPass 4 none 6 131 [.ref w, .ref sg] M (0) (0) (fun v M2 => v = none ∧ MB G M2 w a kf sf sa T ex g nk nr ns ∧ (mI M2 (fc 1 18) w = x + wpc (shF (bi d) (bi c) (nI wt) g) 1 (rk g (nI h) ns) ∧ mI M2 (fc 1 19) w = y + wpc (shF (bi d) (bi c) (nI wt) g) 2 (rk g (nI h) ns) ∧ mI M2 (fc 1 17) w = mI M (fc 1 17) w) ∧ Fr (FSm w a) M M2) := by
  refine Kt.of (own := "KeptLight$World") (L := [some (.ref w), some (.ref sg), none, none]) (by decide +kernel) rfl (Nat.le_of_ble_eq_true rfl) rfl ?_
  intro pp ee ss mm args below meth cd hmn hret
  have hF : Fr (FSm w a) M M := Fr.rf
  have cut2 := k2_c_X1_wouldPass l G M w a kf sf sa T ex g nk nr ns sg wt h d c x y hM hS hh hb hx hy pp ee ss mm args below meth cd hmn hret
  refine x_iconst (n' := 1) (v := 0) dX1_wouldPass_0 (by decide) rfl ?_
  refine x_istore_n (n' := 2) dX1_wouldPass_1 rfl (Nat.le_of_ble_eq_true rfl) rfl (by dsimp only [List.set] <;> rfl) rfl ?_
  exact x_drop (cut2 ((rlG g ns h).length + 1) 0 _ (by omega) (Nat.zero_le _) hM hS ⟨hx.trans (by show x = x + 0; rw [Int32.add_zero]), hy.trans (by show y = y + 0; rw [Int32.add_zero]), rfl⟩ hF) ⟨rfl, ⟨rfl, ⟨rfl, trivial⟩⟩⟩
