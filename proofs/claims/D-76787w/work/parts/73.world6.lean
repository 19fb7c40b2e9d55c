theorem logP_low {g : gT} {so sh who : Int32} {j : Nat} (hj : j < 909 ∧ j ≠ 15) : logP g so sh who j = g j := by
  unfold logP
  split
  · exact logG_low hj
  · rfl
theorem l15_P {g : gT} {n : Nat} {x y z : Int32} (h : g 15 = nI n) (hn : n ≤ 400) : logP g x y z 15 = nI (lnx n) := by
  by_cases e : n < 400
  · rw [logP_a h e, show lnx n = n + 1 from if_pos e]; exact va_up_self _ _ _
  · rw [logP_b h hn (by omega), show lnx n = n from if_neg e]; exact h
theorem hg4S {g : gT} {d t p : Int32} : Sg g (hg4 g d t p) := by unfold hg4; exact Sg.ite logP_Sg Sg.rf
theorem hg5S {g : gT} {c p : Int32} : Sg g (hg5 g c p) := by unfold hg5; exact Sg.ite logP_Sg Sg.rf
theorem hg4L {g : gT} {d t p : Int32} {j : Nat} (hj : j < 909 ∧ j ≠ 15) : hg4 g d t p j = g j := by unfold hg4; split; exact logP_low hj; rfl
theorem hg5L {g : gT} {c p : Int32} {j : Nat} (hj : j < 909 ∧ j ≠ 15) : hg5 g c p j = g j := by unfold hg5; split; exact logP_low hj; rfl
theorem l15_4 {g : gT} {n : Nat} {d t p : Int32} (h : g 15 = nI n) (hn : n ≤ 400) : ∃ m, n ≤ m ∧ m ≤ 400 ∧ hg4 g d t p 15 = nI m := by
  unfold hg4; split
  · exact ⟨lnx n, lnx_le, lnx_4 hn, l15_P h hn⟩
  · exact ⟨n, Nat.le_refl _, hn, h⟩
theorem l15_5 {g : gT} {n : Nat} {c p : Int32} (h : g 15 = nI n) (hn : n ≤ 400) : ∃ m, n ≤ m ∧ m ≤ 400 ∧ hg5 g c p 15 = nI m := by
  unfold hg5; split
  · exact ⟨lnx n, lnx_le, lnx_4 hn, l15_P h hn⟩
  · exact ⟨n, Nat.le_refl _, hn, h⟩
theorem shU_low {g : gT} {d t w : Int32} {s j : Nat} (hj : j < 109) : shU d t w g s j = g j := (va_up_ne _ _ (by omega)).trans (va_up_ne _ _ (by omega))
theorem shU_15 {g : gT} {d t w : Int32} {s : Nat} : shU d t w g s 15 = g 15 := shU_low (by decide)
theorem shS_low {g : gT} {d t w who : Int32} {s j : Nat} (hj : j < 109 ∧ j ≠ 15) : shS d t w who g s j = g j := by
  unfold shS; split
  · exact shU_low hj.1
  · exact (logP_low ⟨by omega, hj.2⟩).trans (shU_low hj.1)
theorem fold_low {d t w who : Int32} {j : Nat} (hj : j < 109 ∧ j ≠ 15) (l : List Nat) (g : gT) : l.foldl (shS d t w who) g j = g j := by
  induction l generalizing g with
  | nil => rfl
  | cons s l ih => exact (ih _).trans (shS_low hj)
theorem fold_15 {d t w who : Int32} (l : List Nat) (g : gT) (n : Nat) (h : g 15 = nI n) (hn : n ≤ 400) : ∃ m, n ≤ m ∧ m ≤ 400 ∧ l.foldl (shS d t w who) g 15 = nI m := by
  induction l generalizing g n with
  | nil => exact ⟨n, Nat.le_refl _, hn, h⟩
  | cons s l ih =>
    have a : ∃ m, n ≤ m ∧ m ≤ 400 ∧ shS d t w who g s 15 = nI m := by
      unfold shS; split
      · exact ⟨n, Nat.le_refl _, hn, shU_15.trans h⟩
      · exact ⟨lnx n, lnx_le, lnx_4 hn, l15_P (shU_15.trans h) hn⟩
    obtain ⟨m, a1, a2, a3⟩ := a
    obtain ⟨m2, b1, b2, b3⟩ := ih _ m a3 a2
    exact ⟨m2, by omega, b2, b3⟩
theorem fold_0 {d t w : Int32} (l : List Nat) (g : gT) : l.foldl (shS d t w (-1)) g 15 = g 15 := by
  induction l generalizing g with
  | nil => rfl
  | cons s l ih => exact (ih _).trans (by unfold shS; rw [if_pos (by decide)]; exact shU_15)
theorem shN_low {g : gT} {h : Int32} {ns i j : Nat} {d t w who : Int32} (hj : j < 109 ∧ j ≠ 15) : shN g h ns d t w who i j = g j := fold_low hj _ _
theorem shN_rest {g : gT} {h : Int32} {ns i : Nat} {d t w who : Int32} : shAll g h ns d t w who = ((rk g h ns).drop i).foldl (shS d t w who) (shN g h ns d t w who i) := by
  show (rk g h ns).foldl _ _ = ((rk g h ns).drop i).foldl _ (((rk g h ns).take i).foldl _ _)
  rw [← List.foldl_append, List.take_append_drop]
theorem gD_some {L : List Nat} {i : Nat} (h : i < L.length) : L[i]? = some (L.getD i 0) := by
  rw [List.getD_eq_getElem?_getD, List.getElem?_eq_getElem h]; rfl
theorem shS_s {d t w who : Int32} {g : gT} {s : Nat} (h : ¬ who < 0) : shS d t w who g s = logP (shU d t w g s) (4 + shF d t w g s) (nI s) who := if_neg h
/-- who may change when ships pass -/
def FSn (a : Nat → Nat) : Nat → Prop := fun o => o = a 5 + 1 ∨ o = a 3 + 1 ∨ o = a 33 + 1
theorem NB.n4 {G : kG} {M : kM} {w : Nat} {a kf sf sa ef : Nat → Nat} {T : kT} {ex : Nat → Prop} {g : gT} {nk nr ns nl : Nat} (h : NB G M w a kf sf sa ef T ex g nk nr ns nl) : ¬ FSn a (a 4 + 1) := fun e => by
  rcases e with e | e | e
  · exact nk_ne h.k4 h.l.1.kk (by decide) (Nat.succ.inj e)
  · exact nk_ne h.k4 h.c3 (by decide) (Nat.succ.inj e)
  · exact nk_ne h.k4 h.c.1.2.2.2.2.2.1 (by decide) (Nat.succ.inj e)
theorem sg_fr {G : kG} {M M2 : kM} {sg wt x : Nat} {d lt sn : Int32} {S : Nat → Prop} (h : SGP G M sg wt d lt sn ∧ mG M sg = x) (hF : Fr S M M2) (hS : ¬ S x) : SGP G M2 sg wt d lt sn ∧ mG M2 sg = x := ⟨h.1.fr hF (by rw [h.2]; exact hS), ((hF.1 sg (by rw [h.1.1]; exact fun e => by cases e)).2.1).trans h.2⟩
theorem met_eq {l : Int32} {c : Prop} [Decidable c] (h : l = 0 ∨ l = 1) : (if bi (l = 1) = 0 then (0 : Int32) else 1) + (if bi c = 0 then 0 else 2) = l + (if bi c = 0 then 0 else 2) := by
  rcases h with h | h <;> subst h <;> rfl
set_option maxHeartbeats 4000000 in
set_option maxRecDepth 100000 in
theorem k49_c_X1_passes__n (l : Launch) (G : kG) (M : kM) (w : Nat) (a kf sf sa ef : Nat → Nat) (T : kT) (ex : Nat → Prop) (g : gT) (nk nr ns nl : Nat) (sg wt h : Nat) (d c : Prop) [Decidable d] [Decidable c] (hB : NB G M w a kf sf sa ef T ex g nk nr ns nl) (hS : SGP G M sg wt (bi d) (bi (g 6 = 1)) (bi c) ∧ mG M sg = a 4 + 1) (hwt : wt < 3) (hh : g 0 = nI h) (hb : h < BB) (pp : Program) (ee : Env) (ss : State) (mm : MethodId) (args : Array Value) (below : List Frame) (meth : Method) (cd : Code) (hmn : meth.name = yX1_passes.name) (hret : meth.sig.returnType = none) : ∀ (fuel : Nat) (k : Nat) (M1 : kM) (h9 : (rlG g ns h).length - k < fuel) (h2 : k ≤ (rlG g ns h).length) (hB : NB G M1 w a kf sf sa ef T ex (shN g (nI h) ns (bi d) (bi c) (nI wt) (-1) k) nk nr ns nl) (hS : SGP G M1 sg wt (bi d) (bi (g 6 = 1)) (bi c) ∧ mG M1 sg = a 4 + 1) (hF : Fr (FSn a) M M1), Wx pp l ee { frames := 6, cells := 0, slots := 0, locals := 131 } ss mm args below meth cd "KeptLight$World" cX1_passes 5 G (MQ below (KQ G M (fun v M2 => v = none ∧ ∃ ef2, NB G M2 w a kf sf sa ef2 T ex (shAll g (nI h) ns (bi d) (bi c) (nI wt) (-1)) nk nr ns nl ∧ Fr (FSn a) M M2)) args ss (0) (0) (kA G)) 49 [some (.ref w), some (.ref sg), some (.null), some (.int (nI k)), none] [] (M1) (0) (0) := by
  have hF : Fr (FSn a) M M := Fr.rf
  have hlt := hB.wc.lit
  intro fuel
  induction fuel with
  | zero => intro k M1 h9 h2 hB hS hF; omega
  | succ fuel ih =>
    intro k M1 h9 h2 hB hS hF
    have hrl : rlG (shN g (nI h) ns (bi d) (bi c) (nI wt) (-1) k) ns = rlG g ns := rlG_cg ((shN_Sg hB.b.2.2).ship hB.b.2.2)
    have hlr : (rlG g ns h).length < 1100 := by have := rk_len g (nI h) ns; have := hB.b.2.2; show (rk g (nI h) ns).length < 1100; omega
    refine x_iload_n (n' := 50) dX1_passes_49 rfl rfl rfl ?_
    refine x_aload_n (n' := 51) dX1_passes_50 rfl rfl rfl ?_
    refine x_aload_n (n' := 52) dX1_passes_51 rfl rfl rfl ?_
    refine x_getI (n' := 55) dX1_passes_52 (hB.wc.s.k) ffX1_128_1 rfl rfl ?_
    refine x_topv ((hB.wc.i 9 (by decide)).trans ((shN_low (by decide)).trans ((rfl).trans hh))) ?_
    refine x_callV (n' := 58) (n := 1) (K := 1) (c_X1_manyAt l G _ w a kf sf (shN g (nI h) ns (bi d) (bi c) (nI wt) (-1) k) nk nr (a 32) (a 33) T sa (rlG (shN g (nI h) ns (bi d) (bi c) (nI wt) (-1) k) ns) ex h hB.wc hB.c hb) dX1_passes_55 (hB.wc.s.k) rfl (lw_V q2648 q2649 q2650 q78 q2651) (by decide +kernel) ⟨(Nat.le_of_ble_eq_true rfl), (Nat.le_of_ble_eq_true rfl)⟩ rfl rfl (Nat.le_of_ble_eq_true rfl) (by first | exact Nat.le_of_ble_eq_true rfl | omega) (by first | exact Nat.le_of_ble_eq_true rfl | omega) rfl (fun v_1 M_2 h_4 hE_3 => ?_)
    obtain ⟨rfl, hMs⟩ := h_4
    have hMs := hMs.symm
    subst hMs
    refine x_topv (congrArg (fun r9 => nI (r9 h).length) hrl) ?_
    have hQ9 := hB.ask (v := nI h)
    refine x_gen (X := fun M9 => NB G M9 w a kf sf sa ef T ex (shN g (nI h) ns (bi d) (bi c) (nI wt) (-1) k) nk nr ns nl ∧ (SGP G M9 sg wt (bi d) (bi (g 6 = 1)) (bi c) ∧ mG M9 sg = a 4 + 1) ∧ Fr (FSn a) M M9) ⟨hQ9.1, sg_fr hS (hQ9.2.mono (fun _ e9 => Or.inr (Or.inr e9))) hB.n4, hF.tr (hQ9.2.mono (fun _ e9 => Or.inr (Or.inr e9)))⟩ (fun M_5 hM9 => ?_)
    clear hQ9 hB hS hF
    obtain ⟨hB, hS, hF⟩ := hM9
    refine x_icmp_ge (n' := 61) (tgt := 105) dX1_passes_58 (by decide) rfl (fun c58_6 => ?_) (fun c58_6 => ?_)
    · have n_c58_6 := (cv_le (by repeat' (first | with_reducible exact nl_0 | with_reducible exact nl_1 | with_reducible exact nl_2 | with_reducible exact nl_3 | with_reducible exact nl_4 | with_reducible exact rfl | apply i_add | apply i_mul)) (by repeat' (first | with_reducible exact nl_0 | with_reducible exact nl_1 | with_reducible exact nl_2 | with_reducible exact nl_3 | with_reducible exact nl_4 | with_reducible exact rfl | apply i_add | apply i_mul)) (by omega) (by omega)).mp c58_6
      exact x_vret dX1_passes_105 hret hF.kE (⟨rfl, ef, (by have e9 : k = (rlG g ns h).length := (by omega); rw [shN_all (by rw [e9]; exact List.getElem?_eq_none (Nat.le_refl _))] at hB; exact hB), hF⟩)
    · have n_c58_6 := (not_congr (cv_le (by repeat' (first | with_reducible exact nl_0 | with_reducible exact nl_1 | with_reducible exact nl_2 | with_reducible exact nl_3 | with_reducible exact nl_4 | with_reducible exact rfl | apply i_add | apply i_mul)) (by repeat' (first | with_reducible exact nl_0 | with_reducible exact nl_1 | with_reducible exact nl_2 | with_reducible exact nl_3 | with_reducible exact nl_4 | with_reducible exact rfl | apply i_add | apply i_mul)) (by omega) (by omega))).mp c58_6
      have hkl0 : k < (rlG g ns h).length := by omega
      have hkl : k < (rlG (shN g (nI h) ns (bi d) (bi c) (nI wt) (-1) k) ns h).length := by rw [hrl]; exact hkl0
      refine x_aload_n (n' := 62) dX1_passes_61 rfl rfl rfl ?_
      refine x_aload_n (n' := 63) dX1_passes_62 rfl rfl rfl ?_
      refine x_getI (n' := 66) dX1_passes_63 (hB.wc.s.k) ffX1_128_1 rfl rfl ?_
      refine x_topv ((hB.wc.i 9 (by decide)).trans ((shN_low (by decide)).trans ((rfl).trans hh))) ?_
      refine x_iload_n (n' := 67) dX1_passes_66 rfl rfl rfl ?_
      refine x_callV (n' := 70) (n := 2) (K := 1) (c_X1_shipAt l G _ w a kf sf (shN g (nI h) ns (bi d) (bi c) (nI wt) (-1) k) nk nr (a 32) (a 33) T sa (rlG (shN g (nI h) ns (bi d) (bi c) (nI wt) (-1) k) ns) ex h k (fun s => (shN g (nI h) ns (bi d) (bi c) (nI wt) (-1) k) (109 + 4 * s)) hB.wc hB.c hb hkl (fun s hs => hB.s.nms h s hs)) dX1_passes_67 (hB.wc.s.k) rfl (lw_V q2654 q2655 q2656 q78 q2657) (by decide +kernel) ⟨(Nat.le_of_ble_eq_true rfl), (Nat.le_of_ble_eq_true rfl)⟩ rfl rfl (Nat.le_of_ble_eq_true rfl) (by first | exact Nat.le_of_ble_eq_true rfl | omega) (by first | exact Nat.le_of_ble_eq_true rfl | omega) rfl (fun v_7 M_8 h_10 hE_9 => ?_)
      obtain ⟨rfl, hMs⟩ := h_10
      have hMs := hMs.symm
      subst hMs
      have hQ9 := hB.ask (v := nI h)
      refine x_gen (X := fun M9 => NB G M9 w a kf sf sa ef T ex (shN g (nI h) ns (bi d) (bi c) (nI wt) (-1) k) nk nr ns nl ∧ (SGP G M9 sg wt (bi d) (bi (g 6 = 1)) (bi c) ∧ mG M9 sg = a 4 + 1) ∧ Fr (FSn a) M M9) ⟨hQ9.1, sg_fr hS (hQ9.2.mono (fun _ e9 => Or.inr (Or.inr e9))) hB.n4, hF.tr (hQ9.2.mono (fun _ e9 => Or.inr (Or.inr e9)))⟩ (fun M_11 hM9 => ?_)
      clear hQ9 hB hS hF
      obtain ⟨hB, hS, hF⟩ := hM9
      refine x_astore (n' := 72) dX1_passes_70 (Nat.le_of_ble_eq_true rfl) rfl (by dsimp only [List.set] <;> rfl) rfl ?_
      refine x_aload (n' := 74) dX1_passes_72 rfl rfl ?_
      obtain ⟨s9, hs9⟩ : ∃ s9, s9 = (rlG (shN g (nI h) ns (bi d) (bi c) (nI wt) (-1) k) ns h).getD k 0 := ⟨_, rfl⟩
      rw [← hs9]
      have hsn : s9 < ns := by rw [hs9]; exact rlG_lt (gD_mem hkl)
      obtain ⟨Ke, hKe, hCe, -, -, hke⟩ := hB.s.nm hsn
      refine x_aload_n (n' := 75) dX1_passes_74 rfl rfl rfl ?_
      refine x_disp5 (Qp := fun v M2 => v = none ∧ M2 = sI (sI M_11 (fc 19 2) (sa s9) (fateP (nI (skd Ke)) (lacksG (nI (skd Ke)) (bi d) (bi (g 6 = 1)) (bi c) (nI wt)) (nI wt))) (fc 19 3) (sa s9) ((if bi (g 6 = 1) = 0 then 0 else 1) + (if bi c = 0 then 0 else 2))) (by repeat' (first | with_reducible exact hKe | with_reducible apply mK_A | with_reducible apply mK_I | with_reducible apply mK_L | with_reducible apply mK_R | with_reducible apply mK_O | with_reducible apply mK_G | with_reducible refine mK_NA ?_ (by assumption) | with_reducible refine mK_NO ?_ (by assumption) | with_reducible refine kE.ap hE_3 ?_ | with_reducible refine kE.ap hE_9 ?_)) hCe (fun e8 hk8 k8 => x_callU (n' := 78) (n := 1) (K := 19) (x := ⟨"KeptLight$Ship", "passes", "(LKeptLight$Sight;)V"⟩) (owner := "KeptLight$Ship") ((c_X17_passes__19 l G _ (sa s9) sg wt _ _ _ hS.1 hk8).im (fun v M2 h => by rw [e8]; exact h)) dX1_passes_75 hk8 rfl (lw_U5 q2716 q2718 q2720 q2717 q142 q2724) rfl (by decide +kernel) ⟨(Nat.le_of_ble_eq_true rfl), (Nat.le_of_ble_eq_true rfl)⟩  rfl rfl (Nat.le_of_ble_eq_true rfl) (by first | exact Nat.le_of_ble_eq_true rfl | omega) (by first | exact Nat.le_of_ble_eq_true rfl | omega) rfl k8) (fun e8 hk8 k8 => x_callU (n' := 78) (n := 1) (K := 20) (x := ⟨"KeptLight$Ship", "passes", "(LKeptLight$Sight;)V"⟩) (owner := "KeptLight$Ship") ((c_X17_passes__20 l G _ (sa s9) sg wt _ _ _ hS.1 hk8).im (fun v M2 h => by rw [e8]; exact h)) dX1_passes_75 hk8 rfl (lw_U5 q2716 q2718 q2723 q2717 q142 q2724) rfl (by decide +kernel) ⟨(Nat.le_of_ble_eq_true rfl), (Nat.le_of_ble_eq_true rfl)⟩  rfl rfl (Nat.le_of_ble_eq_true rfl) (by first | exact Nat.le_of_ble_eq_true rfl | omega) (by first | exact Nat.le_of_ble_eq_true rfl | omega) rfl k8) (fun e8 hk8 k8 => x_callU (n' := 78) (n := 1) (K := 22) (x := ⟨"KeptLight$Ship", "passes", "(LKeptLight$Sight;)V"⟩) (owner := "KeptLight$Ship") ((c_X17_passes__22 l G _ (sa s9) sg wt _ _ _ hS.1 hk8).im (fun v M2 h => by rw [e8]; exact h)) dX1_passes_75 hk8 rfl (lw_U5 q2716 q2718 q2719 q2717 q142 q2724) rfl (by decide +kernel) ⟨(Nat.le_of_ble_eq_true rfl), (Nat.le_of_ble_eq_true rfl)⟩  rfl rfl (Nat.le_of_ble_eq_true rfl) (by first | exact Nat.le_of_ble_eq_true rfl | omega) (by first | exact Nat.le_of_ble_eq_true rfl | omega) rfl k8) (fun e8 hk8 k8 => x_callU (n' := 78) (n := 1) (K := 23) (x := ⟨"KeptLight$Ship", "passes", "(LKeptLight$Sight;)V"⟩) (owner := "KeptLight$Ship") ((c_X17_passes__23 l G _ (sa s9) sg wt _ _ _ hS.1 hk8).im (fun v M2 h => by rw [e8]; exact h)) dX1_passes_75 hk8 rfl (lw_U5 q2716 q2718 q2721 q2717 q142 q2724) rfl (by decide +kernel) ⟨(Nat.le_of_ble_eq_true rfl), (Nat.le_of_ble_eq_true rfl)⟩  rfl rfl (Nat.le_of_ble_eq_true rfl) (by first | exact Nat.le_of_ble_eq_true rfl | omega) (by first | exact Nat.le_of_ble_eq_true rfl | omega) rfl k8) (fun e8 hk8 k8 => x_callU (n' := 78) (n := 1) (K := 24) (x := ⟨"KeptLight$Ship", "passes", "(LKeptLight$Sight;)V"⟩) (owner := "KeptLight$Ship") ((c_X17_passes__24 l G _ (sa s9) sg wt _ _ _ hS.1 hk8).im (fun v M2 h => by rw [e8]; exact h)) dX1_passes_75 hk8 rfl (lw_U5 q2716 q2718 q2722 q2717 q142 q2724) rfl (by decide +kernel) ⟨(Nat.le_of_ble_eq_true rfl), (Nat.le_of_ble_eq_true rfl)⟩  rfl rfl (Nat.le_of_ble_eq_true rfl) (by first | exact Nat.le_of_ble_eq_true rfl | omega) (by first | exact Nat.le_of_ble_eq_true rfl | omega) rfl k8) (fun v_12 M_13 h_15 hE_14 => ?_)
      obtain ⟨rfl, hMs⟩ := h_15
      have hMs := hMs.symm
      subst hMs
      have hkd : (shN g (nI h) ns (bi d) (bi c) (nI wt) (-1) k) (109 + 4 * s9) = (nI (skd Ke)) := hke
      have hg6 : (shN g (nI h) ns (bi d) (bi c) (nI wt) (-1) k) 6 = g 6 := (shN_low (by decide)).trans (rfl)
      have hsk9 : (rk g (nI h) ns)[k]? = some s9 := by rw [hs9, hrl]; exact gD_some hkl0
      have hP9 := hB.pas hsn (x := fateP (nI (skd Ke)) (lacksG (nI (skd Ke)) (bi d) (bi (g 6 = 1)) (bi c) (nI wt)) (nI wt)) (y := (if bi (g 6 = 1) = 0 then 0 else 1) + (if bi c = 0 then 0 else 2))
      have hU : va_up (va_up (shN g (nI h) ns (bi d) (bi c) (nI wt) (-1) k) (109 + 4 * s9 + 2) (fateP (nI (skd Ke)) (lacksG (nI (skd Ke)) (bi d) (bi (g 6 = 1)) (bi c) (nI wt)) (nI wt))) (109 + 4 * s9 + 3) ((if bi (g 6 = 1) = 0 then 0 else 1) + (if bi c = 0 then 0 else 2)) = shU (bi d) (bi c) (nI wt) (shN g (nI h) ns (bi d) (bi c) (nI wt) (-1) k) s9 := by unfold shU shF; rw [hkd, hg6, met_eq hlt]
      rw [hU] at hP9
      refine x_gen (X := fun M9 => NB G M9 w a kf sf sa ef T ex (shU (bi d) (bi c) (nI wt) (shN g (nI h) ns (bi d) (bi c) (nI wt) (-1) k) s9) nk nr ns nl ∧ (SGP G M9 sg wt (bi d) (bi (g 6 = 1)) (bi c) ∧ mG M9 sg = a 4 + 1) ∧ Fr (FSn a) M M9) ⟨hP9.1, sg_fr hS (hP9.2.mono (fun _ e9 => Or.inr (Or.inl e9))) hB.n4, hF.tr (hP9.2.mono (fun _ e9 => Or.inr (Or.inl e9)))⟩ (fun M_16 hM9 => ?_)
      clear hP9 hB hS hF
      obtain ⟨hB, hS, hF⟩ := hM9
      obtain ⟨Kf, hsh, hkf⟩ := hB.s s9 hsn
      refine x_aload_nN (n' := 79) dX1_passes_78 rfl rfl rfl ?_
      refine x_ifnullN (tgt := 99) dX1_passes_79 (by decide) ?_
      have hB2 : NB G M_16 w a kf sf sa ef T ex (shN g (nI h) ns (bi d) (bi c) (nI wt) (-1) (k + 1)) nk nr ns nl := by rw [shN_s hsk9]; exact hB
      refine x_iinc (n' := 102) dX1_passes_99 rfl (by first | exact nI_inc _ | exact nI_decp (by omega) | exact i_inc _ | rfl) (Nat.le_of_ble_eq_true rfl) rfl (by dsimp only [List.set] <;> rfl) rfl ?_
      refine x_goto (tgt := 49) dX1_passes_102 (by decide) ?_
      exact x_drop (ih (k + 1) _ (by omega) (by omega) hB2 hS hF) ⟨rfl, ⟨rfl, ⟨rfl, ⟨rfl, trivial⟩⟩⟩⟩
set_option maxHeartbeats 4000000 in
set_option maxRecDepth 100000 in
theorem c_X1_passes__n (l : Launch) (G : kG) (M : kM) (w : Nat) (a kf sf sa ef : Nat → Nat) (T : kT) (ex : Nat → Prop) (g : gT) (nk nr ns nl : Nat) (sg wt h : Nat) (d c : Prop) [Decidable d] [Decidable c] (hB : NB G M w a kf sf sa ef T ex g nk nr ns nl) (hS : SGP G M sg wt (bi d) (bi (g 6 = 1)) (bi c) ∧ mG M sg = a 4 + 1) (hwt : wt < 3) (hh : g 0 = nI h) (hb : h < BB) : Kt l G yX1_passes cX1_passes 5 none 6 131 [.ref w, .ref sg, .null] M (0) (0) (fun v M2 => v = none ∧ ∃ ef2, NB G M2 w a kf sf sa ef2 T ex (shAll g (nI h) ns (bi d) (bi c) (nI wt) (-1)) nk nr ns nl ∧ Fr (FSn a) M M2) := by
  refine Kt.of (own := "KeptLight$World") (L := [some (.ref w), some (.ref sg), some (.null), none, none]) (by decide +kernel) rfl (Nat.le_of_ble_eq_true rfl) rfl ?_
  intro pp ee ss mm args below meth cd hmn hret
  have hF : Fr (FSn a) M M := Fr.rf
  have hlt := hB.wc.lit
  have cut49 := k49_c_X1_passes__n l G M w a kf sf sa ef T ex g nk nr ns nl sg wt h d c hB hS hwt hh hb pp ee ss mm args below meth cd hmn hret
  refine x_aload_nN (n' := 1) dX1_passes_0 rfl rfl rfl ?_
  refine x_ifnullN (tgt := 29) dX1_passes_1 (by decide) ?_
  refine x_aload_nN (n' := 30) dX1_passes_29 rfl rfl rfl ?_
  refine x_ifnullN (tgt := 47) dX1_passes_30 (by decide) ?_
  refine x_iconst (n' := 48) (v := 0) dX1_passes_47 (by decide) rfl ?_
  refine x_istore_n (n' := 49) dX1_passes_48 rfl (Nat.le_of_ble_eq_true rfl) rfl (by dsimp only [List.set] <;> rfl) rfl ?_
  exact x_drop (cut49 ((rlG g ns h).length + 1) 0 _ (by omega) (Nat.zero_le _) (by rw [shN_0]; exact hB) hS hF) ⟨rfl, ⟨rfl, ⟨rfl, ⟨rfl, trivial⟩⟩⟩⟩

theorem fsX1_155 (K : Nat) (h : shC K) : FF "KeptLight$World" 155 K 2 "KeptLight$Ship" := by
  rcases h with rfl | rfl | rfl | rfl | rfl
  · exact ⟨by decide, by decide, q2079, Or.inl rfl⟩
  · exact ⟨by decide, by decide, q2079, Or.inl rfl⟩
  · exact ⟨by decide, by decide, q2079, Or.inl rfl⟩
  · exact ⟨by decide, by decide, q2079, Or.inl rfl⟩
  · exact ⟨by decide, by decide, q2079, Or.inl rfl⟩
theorem fsX1_243 (K : Nat) (h : shC K) : FF "KeptLight$World" 243 K 0 "KeptLight$Ship" := by
  rcases h with rfl | rfl | rfl | rfl | rfl
  · exact ⟨by decide, by decide, q2071, Or.inl rfl⟩
  · exact ⟨by decide, by decide, q2071, Or.inl rfl⟩
  · exact ⟨by decide, by decide, q2071, Or.inl rfl⟩
  · exact ⟨by decide, by decide, q2071, Or.inl rfl⟩
  · exact ⟨by decide, by decide, q2071, Or.inl rfl⟩
theorem ffX1_228_7 : FF "KeptLight$World" 228 7 3 "KeptLight$Sight" := ⟨by decide, by decide, q277, Or.inl rfl⟩
theorem ffX1_223_7 : FF "KeptLight$World" 223 7 2 "KeptLight$Sight" := ⟨by decide, by decide, q274, Or.inl rfl⟩
set_option maxHeartbeats 4000000 in
set_option maxRecDepth 100000 in
theorem k49_c_X1_passes__s (l : Launch) (G : kG) (M : kM) (w : Nat) (a kf sf sa ef : Nat → Nat) (T : kT) (ex : Nat → Prop) (g : gT) (nk nr ns nl : Nat) (sg wt h : Nat) (d c : Prop) [Decidable d] [Decidable c] (k0 N : Nat) (hB : NB G M w a kf sf sa ef T ex g nk nr ns nl) (hS : SGP G M sg wt (bi d) (bi (g 6 = 1)) (bi c) ∧ mG M sg = a 4 + 1) (hwt : wt < 3) (hh : g 0 = nI h) (hb : h < BB) (hk0 : k0 < nk) (hN : N = nn ((shAll (hg5 (hg4 g (bi d) 1 (nI k0)) (bi c) (nI k0)) (nI h) ns (bi d) (bi c) (nI wt) (nI k0)) 15)) (pp : Program) (ee : Env) (ss : State) (mm : MethodId) (args : Array Value) (below : List Frame) (meth : Method) (cd : Code) (hmn : meth.name = yX1_passes.name) (hret : meth.sig.returnType = none) : ∀ (fuel : Nat) (k : Nat) (ef1 : Nat → Nat) (nl1 : Nat) (M1 : kM) (h9 : (rlG (hg5 (hg4 g (bi d) 1 (nI k0)) (bi c) (nI k0)) ns h).length - k < fuel) (h2 : k ≤ (rlG (hg5 (hg4 g (bi d) 1 (nI k0)) (bi c) (nI k0)) ns h).length) (hB : NB G M1 w a kf sf sa ef1 T ex (shN (hg5 (hg4 g (bi d) 1 (nI k0)) (bi c) (nI k0)) (nI h) ns (bi d) (bi c) (nI wt) (nI k0) k) nk nr ns nl1) (hS : SGP G M1 sg wt (bi d) (bi (g 6 = 1)) (bi c) ∧ mG M1 sg = a 4 + 1) (hF : Fr (FSn a) M M1), Wx pp l ee { frames := 8, cells := lgc (a 43) N - lgc (a 43) nl, slots := lgs (a 43) N - lgs (a 43) nl, locals := 204 } ss mm args below meth cd "KeptLight$World" cX1_passes 5 G (MQ below (KQ G M (fun v M2 => v = none ∧ ∃ ef2, NB G M2 w a kf sf sa ef2 T ex (shAll (hg5 (hg4 g (bi d) 1 (nI k0)) (bi c) (nI k0)) (nI h) ns (bi d) (bi c) (nI wt) (nI k0)) nk nr ns N ∧ Fr (FSn a) M M2)) args ss (lgc (a 43) N - lgc (a 43) nl) (lgs (a 43) N - lgs (a 43) nl) (kA G)) 49 [some (.ref w), some (.ref sg), some (.ref (kf k0)), some (.int (nI k)), none] [] (M1) (lgc (a 43) N - lgc (a 43) nl1) (lgs (a 43) N - lgs (a 43) nl1) := by
  have hF : Fr (FSn a) M M := Fr.rf
  have hlt := hB.wc.lit
  intro fuel
  induction fuel with
  | zero => intro k ef1 nl1 M1 h9 h2 hB hS hF; omega
  | succ fuel ih =>
    intro k ef1 nl1 M1 h9 h2 hB hS hF
    have hw0 : ¬ nI k0 < 0 := Int32.not_lt.mpr (nI_nn (by have := hB.b.1; omega))
    have hle : nl1 ≤ N := (by obtain ⟨m6, b1, b2, b3⟩ := fold_15 (d := bi d) (t := bi c) (w := nI wt) (who := (nI k0)) ((rk (hg5 (hg4 g (bi d) 1 (nI k0)) (bi c) (nI k0)) (nI h) ns).drop k) _ nl1 hB.l.2.2.2.1 hB.l.2.2.2.2; have b4 : (shAll (hg5 (hg4 g (bi d) 1 (nI k0)) (bi c) (nI k0)) (nI h) ns (bi d) (bi c) (nI wt) (nI k0)) 15 = nI m6 := (by rw [shN_rest (i := k)]; exact b3); rw [hN, b4, nn_nI (by omega)]; omega)
    have hc1 := lgc_up (c0 := a 43) hle
    have hc2 := lgs_up (c0 := a 43) hle
    have hrl : rlG (shN (hg5 (hg4 g (bi d) 1 (nI k0)) (bi c) (nI k0)) (nI h) ns (bi d) (bi c) (nI wt) (nI k0) k) ns = rlG (hg5 (hg4 g (bi d) 1 (nI k0)) (bi c) (nI k0)) ns := rlG_cg ((shN_Sg hB.b.2.2).ship hB.b.2.2)
    have hlr : (rlG (hg5 (hg4 g (bi d) 1 (nI k0)) (bi c) (nI k0)) ns h).length < 1100 := by have := rk_len (hg5 (hg4 g (bi d) 1 (nI k0)) (bi c) (nI k0)) (nI h) ns; have := hB.b.2.2; show (rk (hg5 (hg4 g (bi d) 1 (nI k0)) (bi c) (nI k0)) (nI h) ns).length < 1100; omega
    refine x_iload_n (n' := 50) dX1_passes_49 rfl rfl rfl ?_
    refine x_aload_n (n' := 51) dX1_passes_50 rfl rfl rfl ?_
    refine x_aload_n (n' := 52) dX1_passes_51 rfl rfl rfl ?_
    refine x_getI (n' := 55) dX1_passes_52 (hB.wc.s.k) ffX1_128_1 rfl rfl ?_
    refine x_topv ((hB.wc.i 9 (by decide)).trans ((shN_low (by decide)).trans (((hg5L (by decide)).trans (hg4L (by decide))).trans hh))) ?_
    refine x_callV (n' := 58) (n := 1) (K := 1) (c_X1_manyAt l G _ w a kf sf (shN (hg5 (hg4 g (bi d) 1 (nI k0)) (bi c) (nI k0)) (nI h) ns (bi d) (bi c) (nI wt) (nI k0) k) nk nr (a 32) (a 33) T sa (rlG (shN (hg5 (hg4 g (bi d) 1 (nI k0)) (bi c) (nI k0)) (nI h) ns (bi d) (bi c) (nI wt) (nI k0) k) ns) ex h hB.wc hB.c hb) dX1_passes_55 (hB.wc.s.k) rfl (lw_V q2648 q2649 q2650 q78 q2651) (by decide +kernel) ⟨(Nat.le_of_ble_eq_true rfl), (Nat.le_of_ble_eq_true rfl)⟩ rfl rfl (Nat.le_of_ble_eq_true rfl) (by first | exact Nat.le_of_ble_eq_true rfl | omega) (by first | exact Nat.le_of_ble_eq_true rfl | omega) rfl (fun v_1 M_2 h_4 hE_3 => ?_)
    obtain ⟨rfl, hMs⟩ := h_4
    have hMs := hMs.symm
    subst hMs
    refine x_topv (congrArg (fun r9 => nI (r9 h).length) hrl) ?_
    have hQ9 := hB.ask (v := nI h)
    refine x_gen (X := fun M9 => NB G M9 w a kf sf sa ef1 T ex (shN (hg5 (hg4 g (bi d) 1 (nI k0)) (bi c) (nI k0)) (nI h) ns (bi d) (bi c) (nI wt) (nI k0) k) nk nr ns nl1 ∧ (SGP G M9 sg wt (bi d) (bi (g 6 = 1)) (bi c) ∧ mG M9 sg = a 4 + 1) ∧ Fr (FSn a) M M9) ⟨hQ9.1, sg_fr hS (hQ9.2.mono (fun _ e9 => Or.inr (Or.inr e9))) hB.n4, hF.tr (hQ9.2.mono (fun _ e9 => Or.inr (Or.inr e9)))⟩ (fun M_5 hM9 => ?_)
    clear hQ9 hB hS hF
    obtain ⟨hB, hS, hF⟩ := hM9
    refine x_icmp_ge (n' := 61) (tgt := 105) dX1_passes_58 (by decide) rfl (fun c58_6 => ?_) (fun c58_6 => ?_)
    · have n_c58_6 := (cv_le (by repeat' (first | with_reducible exact nl_0 | with_reducible exact nl_1 | with_reducible exact nl_2 | with_reducible exact nl_3 | with_reducible exact nl_4 | with_reducible exact rfl | apply i_add | apply i_mul)) (by repeat' (first | with_reducible exact nl_0 | with_reducible exact nl_1 | with_reducible exact nl_2 | with_reducible exact nl_3 | with_reducible exact nl_4 | with_reducible exact rfl | apply i_add | apply i_mul)) (by omega) (by omega)).mp c58_6
      exact x_vret dX1_passes_105 hret hF.kE (⟨rfl, ef1, (by have e9 : k = (rlG (hg5 (hg4 g (bi d) 1 (nI k0)) (bi c) (nI k0)) ns h).length := (by omega); rw [shN_all (by rw [e9]; exact List.getElem?_eq_none (Nat.le_refl _))] at hB; have e8 : N = nl1 := (by rw [hN, hB.l.2.2.2.1, nn_nI (by have := hB.l.2.2.2.2; omega)]); rw [e8]; exact hB), hF⟩)
    · have n_c58_6 := (not_congr (cv_le (by repeat' (first | with_reducible exact nl_0 | with_reducible exact nl_1 | with_reducible exact nl_2 | with_reducible exact nl_3 | with_reducible exact nl_4 | with_reducible exact rfl | apply i_add | apply i_mul)) (by repeat' (first | with_reducible exact nl_0 | with_reducible exact nl_1 | with_reducible exact nl_2 | with_reducible exact nl_3 | with_reducible exact nl_4 | with_reducible exact rfl | apply i_add | apply i_mul)) (by omega) (by omega))).mp c58_6
      have hkl0 : k < (rlG (hg5 (hg4 g (bi d) 1 (nI k0)) (bi c) (nI k0)) ns h).length := by omega
      have hkl : k < (rlG (shN (hg5 (hg4 g (bi d) 1 (nI k0)) (bi c) (nI k0)) (nI h) ns (bi d) (bi c) (nI wt) (nI k0) k) ns h).length := by rw [hrl]; exact hkl0
      refine x_aload_n (n' := 62) dX1_passes_61 rfl rfl rfl ?_
      refine x_aload_n (n' := 63) dX1_passes_62 rfl rfl rfl ?_
      refine x_getI (n' := 66) dX1_passes_63 (hB.wc.s.k) ffX1_128_1 rfl rfl ?_
      refine x_topv ((hB.wc.i 9 (by decide)).trans ((shN_low (by decide)).trans (((hg5L (by decide)).trans (hg4L (by decide))).trans hh))) ?_
      refine x_iload_n (n' := 67) dX1_passes_66 rfl rfl rfl ?_
      refine x_callV (n' := 70) (n := 2) (K := 1) (c_X1_shipAt l G _ w a kf sf (shN (hg5 (hg4 g (bi d) 1 (nI k0)) (bi c) (nI k0)) (nI h) ns (bi d) (bi c) (nI wt) (nI k0) k) nk nr (a 32) (a 33) T sa (rlG (shN (hg5 (hg4 g (bi d) 1 (nI k0)) (bi c) (nI k0)) (nI h) ns (bi d) (bi c) (nI wt) (nI k0) k) ns) ex h k (fun s => (shN (hg5 (hg4 g (bi d) 1 (nI k0)) (bi c) (nI k0)) (nI h) ns (bi d) (bi c) (nI wt) (nI k0) k) (109 + 4 * s)) hB.wc hB.c hb hkl (fun s hs => hB.s.nms h s hs)) dX1_passes_67 (hB.wc.s.k) rfl (lw_V q2654 q2655 q2656 q78 q2657) (by decide +kernel) ⟨(Nat.le_of_ble_eq_true rfl), (Nat.le_of_ble_eq_true rfl)⟩ rfl rfl (Nat.le_of_ble_eq_true rfl) (by first | exact Nat.le_of_ble_eq_true rfl | omega) (by first | exact Nat.le_of_ble_eq_true rfl | omega) rfl (fun v_7 M_8 h_10 hE_9 => ?_)
      obtain ⟨rfl, hMs⟩ := h_10
      have hMs := hMs.symm
      subst hMs
      have hQ9 := hB.ask (v := nI h)
      refine x_gen (X := fun M9 => NB G M9 w a kf sf sa ef1 T ex (shN (hg5 (hg4 g (bi d) 1 (nI k0)) (bi c) (nI k0)) (nI h) ns (bi d) (bi c) (nI wt) (nI k0) k) nk nr ns nl1 ∧ (SGP G M9 sg wt (bi d) (bi (g 6 = 1)) (bi c) ∧ mG M9 sg = a 4 + 1) ∧ Fr (FSn a) M M9) ⟨hQ9.1, sg_fr hS (hQ9.2.mono (fun _ e9 => Or.inr (Or.inr e9))) hB.n4, hF.tr (hQ9.2.mono (fun _ e9 => Or.inr (Or.inr e9)))⟩ (fun M_11 hM9 => ?_)
      clear hQ9 hB hS hF
      obtain ⟨hB, hS, hF⟩ := hM9
      refine x_astore (n' := 72) dX1_passes_70 (Nat.le_of_ble_eq_true rfl) rfl (by dsimp only [List.set] <;> rfl) rfl ?_
      refine x_aload (n' := 74) dX1_passes_72 rfl rfl ?_
      obtain ⟨s9, hs9⟩ : ∃ s9, s9 = (rlG (shN (hg5 (hg4 g (bi d) 1 (nI k0)) (bi c) (nI k0)) (nI h) ns (bi d) (bi c) (nI wt) (nI k0) k) ns h).getD k 0 := ⟨_, rfl⟩
      rw [← hs9]
      have hsn : s9 < ns := by rw [hs9]; exact rlG_lt (gD_mem hkl)
      obtain ⟨Ke, hKe, hCe, -, -, hke⟩ := hB.s.nm hsn
      refine x_aload_n (n' := 75) dX1_passes_74 rfl rfl rfl ?_
      refine x_disp5 (Qp := fun v M2 => v = none ∧ M2 = sI (sI M_11 (fc 19 2) (sa s9) (fateP (nI (skd Ke)) (lacksG (nI (skd Ke)) (bi d) (bi (g 6 = 1)) (bi c) (nI wt)) (nI wt))) (fc 19 3) (sa s9) ((if bi (g 6 = 1) = 0 then 0 else 1) + (if bi c = 0 then 0 else 2))) (by repeat' (first | with_reducible exact hKe | with_reducible apply mK_A | with_reducible apply mK_I | with_reducible apply mK_L | with_reducible apply mK_R | with_reducible apply mK_O | with_reducible apply mK_G | with_reducible refine mK_NA ?_ (by assumption) | with_reducible refine mK_NO ?_ (by assumption) | with_reducible refine kE.ap hE_3 ?_ | with_reducible refine kE.ap hE_9 ?_)) hCe (fun e8 hk8 k8 => x_callU (n' := 78) (n := 1) (K := 19) (x := ⟨"KeptLight$Ship", "passes", "(LKeptLight$Sight;)V"⟩) (owner := "KeptLight$Ship") ((c_X17_passes__19 l G _ (sa s9) sg wt _ _ _ hS.1 hk8).im (fun v M2 h => by rw [e8]; exact h)) dX1_passes_75 hk8 rfl (lw_U5 q2716 q2718 q2720 q2717 q142 q2724) rfl (by decide +kernel) ⟨(Nat.le_of_ble_eq_true rfl), (Nat.le_of_ble_eq_true rfl)⟩  rfl rfl (Nat.le_of_ble_eq_true rfl) (by first | exact Nat.le_of_ble_eq_true rfl | omega) (by first | exact Nat.le_of_ble_eq_true rfl | omega) rfl k8) (fun e8 hk8 k8 => x_callU (n' := 78) (n := 1) (K := 20) (x := ⟨"KeptLight$Ship", "passes", "(LKeptLight$Sight;)V"⟩) (owner := "KeptLight$Ship") ((c_X17_passes__20 l G _ (sa s9) sg wt _ _ _ hS.1 hk8).im (fun v M2 h => by rw [e8]; exact h)) dX1_passes_75 hk8 rfl (lw_U5 q2716 q2718 q2723 q2717 q142 q2724) rfl (by decide +kernel) ⟨(Nat.le_of_ble_eq_true rfl), (Nat.le_of_ble_eq_true rfl)⟩  rfl rfl (Nat.le_of_ble_eq_true rfl) (by first | exact Nat.le_of_ble_eq_true rfl | omega) (by first | exact Nat.le_of_ble_eq_true rfl | omega) rfl k8) (fun e8 hk8 k8 => x_callU (n' := 78) (n := 1) (K := 22) (x := ⟨"KeptLight$Ship", "passes", "(LKeptLight$Sight;)V"⟩) (owner := "KeptLight$Ship") ((c_X17_passes__22 l G _ (sa s9) sg wt _ _ _ hS.1 hk8).im (fun v M2 h => by rw [e8]; exact h)) dX1_passes_75 hk8 rfl (lw_U5 q2716 q2718 q2719 q2717 q142 q2724) rfl (by decide +kernel) ⟨(Nat.le_of_ble_eq_true rfl), (Nat.le_of_ble_eq_true rfl)⟩  rfl rfl (Nat.le_of_ble_eq_true rfl) (by first | exact Nat.le_of_ble_eq_true rfl | omega) (by first | exact Nat.le_of_ble_eq_true rfl | omega) rfl k8) (fun e8 hk8 k8 => x_callU (n' := 78) (n := 1) (K := 23) (x := ⟨"KeptLight$Ship", "passes", "(LKeptLight$Sight;)V"⟩) (owner := "KeptLight$Ship") ((c_X17_passes__23 l G _ (sa s9) sg wt _ _ _ hS.1 hk8).im (fun v M2 h => by rw [e8]; exact h)) dX1_passes_75 hk8 rfl (lw_U5 q2716 q2718 q2721 q2717 q142 q2724) rfl (by decide +kernel) ⟨(Nat.le_of_ble_eq_true rfl), (Nat.le_of_ble_eq_true rfl)⟩  rfl rfl (Nat.le_of_ble_eq_true rfl) (by first | exact Nat.le_of_ble_eq_true rfl | omega) (by first | exact Nat.le_of_ble_eq_true rfl | omega) rfl k8) (fun e8 hk8 k8 => x_callU (n' := 78) (n := 1) (K := 24) (x := ⟨"KeptLight$Ship", "passes", "(LKeptLight$Sight;)V"⟩) (owner := "KeptLight$Ship") ((c_X17_passes__24 l G _ (sa s9) sg wt _ _ _ hS.1 hk8).im (fun v M2 h => by rw [e8]; exact h)) dX1_passes_75 hk8 rfl (lw_U5 q2716 q2718 q2722 q2717 q142 q2724) rfl (by decide +kernel) ⟨(Nat.le_of_ble_eq_true rfl), (Nat.le_of_ble_eq_true rfl)⟩  rfl rfl (Nat.le_of_ble_eq_true rfl) (by first | exact Nat.le_of_ble_eq_true rfl | omega) (by first | exact Nat.le_of_ble_eq_true rfl | omega) rfl k8) (fun v_12 M_13 h_15 hE_14 => ?_)
      obtain ⟨rfl, hMs⟩ := h_15
      have hMs := hMs.symm
      subst hMs
      have hkd : (shN (hg5 (hg4 g (bi d) 1 (nI k0)) (bi c) (nI k0)) (nI h) ns (bi d) (bi c) (nI wt) (nI k0) k) (109 + 4 * s9) = (nI (skd Ke)) := hke
      have hg6 : (shN (hg5 (hg4 g (bi d) 1 (nI k0)) (bi c) (nI k0)) (nI h) ns (bi d) (bi c) (nI wt) (nI k0) k) 6 = g 6 := (shN_low (by decide)).trans ((hg5L (by decide)).trans (hg4L (by decide)))
      have hsk9 : (rk (hg5 (hg4 g (bi d) 1 (nI k0)) (bi c) (nI k0)) (nI h) ns)[k]? = some s9 := by rw [hs9, hrl]; exact gD_some hkl0
      have hP9 := hB.pas hsn (x := fateP (nI (skd Ke)) (lacksG (nI (skd Ke)) (bi d) (bi (g 6 = 1)) (bi c) (nI wt)) (nI wt)) (y := (if bi (g 6 = 1) = 0 then 0 else 1) + (if bi c = 0 then 0 else 2))
      have hU : va_up (va_up (shN (hg5 (hg4 g (bi d) 1 (nI k0)) (bi c) (nI k0)) (nI h) ns (bi d) (bi c) (nI wt) (nI k0) k) (109 + 4 * s9 + 2) (fateP (nI (skd Ke)) (lacksG (nI (skd Ke)) (bi d) (bi (g 6 = 1)) (bi c) (nI wt)) (nI wt))) (109 + 4 * s9 + 3) ((if bi (g 6 = 1) = 0 then 0 else 1) + (if bi c = 0 then 0 else 2)) = shU (bi d) (bi c) (nI wt) (shN (hg5 (hg4 g (bi d) 1 (nI k0)) (bi c) (nI k0)) (nI h) ns (bi d) (bi c) (nI wt) (nI k0) k) s9 := by unfold shU shF; rw [hkd, hg6, met_eq hlt]
      rw [hU] at hP9
      refine x_gen (X := fun M9 => NB G M9 w a kf sf sa ef1 T ex (shU (bi d) (bi c) (nI wt) (shN (hg5 (hg4 g (bi d) 1 (nI k0)) (bi c) (nI k0)) (nI h) ns (bi d) (bi c) (nI wt) (nI k0) k) s9) nk nr ns nl1 ∧ (SGP G M9 sg wt (bi d) (bi (g 6 = 1)) (bi c) ∧ mG M9 sg = a 4 + 1) ∧ Fr (FSn a) M M9) ⟨hP9.1, sg_fr hS (hP9.2.mono (fun _ e9 => Or.inr (Or.inl e9))) hB.n4, hF.tr (hP9.2.mono (fun _ e9 => Or.inr (Or.inl e9)))⟩ (fun M_16 hM9 => ?_)
      clear hP9 hB hS hF
      obtain ⟨hB, hS, hF⟩ := hM9
      obtain ⟨Kf, hsh, hkf⟩ := hB.s s9 hsn
      refine x_aload_n (n' := 79) dX1_passes_78 rfl rfl rfl ?_
      refine x_ifnull (n' := 82) dX1_passes_79 rfl ?_
      refine x_aload_n (n' := 83) dX1_passes_82 rfl rfl rfl ?_
      refine x_iconst (n' := 84) (v := 4) dX1_passes_83 (by decide) rfl ?_
      refine x_aload (n' := 86) dX1_passes_84 rfl rfl ?_
      refine x_getIS (n' := 89) (K := Kf) (k := 2) dX1_passes_86 (hsh.1) hsh.2.1 fsX1_155 (by decide) rfl ?_
      refine x_topv (show _ = shF (bi d) (bi c) (nI wt) (shN (hg5 (hg4 g (bi d) 1 (nI k0)) (bi c) (nI k0)) (nI h) ns (bi d) (bi c) (nI wt) (nI k0) k) s9 from hsh.2.2.2.2.2.1.trans ((va_up_ne _ _ (by omega)).trans (va_up_self _ _ _))) ?_
      refine x_iadd (n' := 90) dX1_passes_89 rfl ?_
      refine x_aload (n' := 92) dX1_passes_90 rfl rfl ?_
      refine x_getIS (n' := 95) (K := Kf) (k := 0) dX1_passes_92 (hsh.1) hsh.2.1 fsX1_243 (by decide) rfl ?_
      refine x_topv hsh.2.2.2.1 ?_
      refine x_aload_n (n' := 96) dX1_passes_95 rfl rfl rfl ?_
      have hE9 : (shN (hg5 (hg4 g (bi d) 1 (nI k0)) (bi c) (nI k0)) (nI h) ns (bi d) (bi c) (nI wt) (nI k0) (k + 1)) 15 = nI (lnx nl1) := (by rw [shN_s hsk9, shS_s hw0]; exact l15_P hB.l.2.2.2.1 hB.l.2.2.2.2)
      have hl9 : lnx nl1 ≤ N := (by obtain ⟨m6, b1, b2, b3⟩ := fold_15 (d := bi d) (t := bi c) (w := nI wt) (who := (nI k0)) ((rk (hg5 (hg4 g (bi d) 1 (nI k0)) (bi c) (nI k0)) (nI h) ns).drop (k + 1)) _ (lnx nl1) hE9 (lnx_4 hB.l.2.2.2.2); have b4 : (shAll (hg5 (hg4 g (bi d) 1 (nI k0)) (bi c) (nI k0)) (nI h) ns (bi d) (bi c) (nI wt) (nI k0)) 15 = nI m6 := (by rw [shN_rest (i := (k + 1))]; exact b3); rw [hN, b4, nn_nI (by omega)]; omega)
      have hc3 := lgc_up (c0 := a 43) hl9
      have hc4 := lgs_up (c0 := a 43) hl9
      have hc5 := lgc_up (c0 := a 43) (lnx_le (n := nl1))
      have hc6 := lgs_up (c0 := a 43) (lnx_le (n := nl1))
      refine x_callV (n' := 99) (n := 3) (K := 1) (c_X1_writes l G _ w a kf sf sa _ T ex (shU (bi d) (bi c) (nI wt) (shN (hg5 (hg4 g (bi d) 1 (nI k0)) (bi c) (nI k0)) (nI h) ns (bi d) (bi c) (nI wt) (nI k0) k) s9) nk nr ns nl1 k0 (4 + shF (bi d) (bi c) (nI wt) (shN (hg5 (hg4 g (bi d) 1 (nI k0)) (bi c) (nI k0)) (nI h) ns (bi d) (bi c) (nI wt) (nI k0) k) s9) (nI s9) hB hk0) dX1_passes_96 (hB.wc.s.k) rfl (lw_V q2686 q2688 qs38 q78 q2689) (by decide +kernel) ⟨(Nat.le_of_ble_eq_true rfl), (Nat.le_of_ble_eq_true rfl)⟩ rfl rfl (Nat.le_of_ble_eq_true rfl) (by omega) (by omega) rfl (fun v_17 M_w3 h_19 hE_18 => ?_)
      obtain ⟨rfl, ef2, hB2, hF2⟩ := h_19
      have hS := sg_fr hS (hF2.mono (fun _ e9 => Or.inl e9)) hB.n4
      have hF := hF.tr (hF2.mono (fun _ e9 => Or.inl e9))
      have hB2 : NB G M_w3 w a kf sf sa ef2 T ex (shN (hg5 (hg4 g (bi d) 1 (nI k0)) (bi c) (nI k0)) (nI h) ns (bi d) (bi c) (nI wt) (nI k0) (k + 1)) nk nr ns (lnx nl1) := by rw [shN_s hsk9, shS_s hw0]; exact hB2
      refine x_iinc (n' := 102) dX1_passes_99 rfl (by first | exact nI_inc _ | exact nI_decp (by omega) | exact i_inc _ | rfl) (Nat.le_of_ble_eq_true rfl) rfl (by dsimp only [List.set] <;> rfl) rfl ?_
      refine x_goto (tgt := 49) dX1_passes_102 (by decide) ?_
      refine x_room (cb2 := lgc (a 43) N - lgc (a 43) (lnx nl1)) (sb2 := lgs (a 43) N - lgs (a 43) (lnx nl1)) (by omega) (by omega) ?_
      exact x_drop (ih (k + 1) ef2 _ _ (by omega) (by omega) hB2 hS hF) ⟨rfl, ⟨rfl, ⟨rfl, ⟨rfl, trivial⟩⟩⟩⟩
set_option maxHeartbeats 4000000 in
set_option maxRecDepth 100000 in
theorem k47_c_X1_passes__s (l : Launch) (G : kG) (M : kM) (w : Nat) (a kf sf sa ef : Nat → Nat) (T : kT) (ex : Nat → Prop) (g : gT) (nk nr ns nl : Nat) (sg wt h : Nat) (d c : Prop) [Decidable d] [Decidable c] (k0 N : Nat) (hB : NB G M w a kf sf sa ef T ex g nk nr ns nl) (hS : SGP G M sg wt (bi d) (bi (g 6 = 1)) (bi c) ∧ mG M sg = a 4 + 1) (hwt : wt < 3) (hh : g 0 = nI h) (hb : h < BB) (hk0 : k0 < nk) (hN : N = nn ((shAll (hg5 (hg4 g (bi d) 1 (nI k0)) (bi c) (nI k0)) (nI h) ns (bi d) (bi c) (nI wt) (nI k0)) 15)) (pp : Program) (ee : Env) (ss : State) (mm : MethodId) (args : Array Value) (below : List Frame) (meth : Method) (cd : Code) (hmn : meth.name = yX1_passes.name) (hret : meth.sig.returnType = none) : ∀ (ef1 : Nat → Nat) (nl1 : Nat) (M1 : kM) (hB : NB G M1 w a kf sf sa ef1 T ex (hg5 (hg4 g (bi d) 1 (nI k0)) (bi c) (nI k0)) nk nr ns nl1) (hS : SGP G M1 sg wt (bi d) (bi (g 6 = 1)) (bi c) ∧ mG M1 sg = a 4 + 1) (hF : Fr (FSn a) M M1), Wx pp l ee { frames := 8, cells := lgc (a 43) N - lgc (a 43) nl, slots := lgs (a 43) N - lgs (a 43) nl, locals := 204 } ss mm args below meth cd "KeptLight$World" cX1_passes 5 G (MQ below (KQ G M (fun v M2 => v = none ∧ ∃ ef2, NB G M2 w a kf sf sa ef2 T ex (shAll (hg5 (hg4 g (bi d) 1 (nI k0)) (bi c) (nI k0)) (nI h) ns (bi d) (bi c) (nI wt) (nI k0)) nk nr ns N ∧ Fr (FSn a) M M2)) args ss (lgc (a 43) N - lgc (a 43) nl) (lgs (a 43) N - lgs (a 43) nl) (kA G)) 47 [some (.ref w), some (.ref sg), some (.ref (kf k0)), none, none] [] (M1) (lgc (a 43) N - lgc (a 43) nl1) (lgs (a 43) N - lgs (a 43) nl1) := by
  have hF : Fr (FSn a) M M := Fr.rf
  have hlt := hB.wc.lit
  have cut49 := k49_c_X1_passes__s l G M w a kf sf sa ef T ex g nk nr ns nl sg wt h d c k0 N hB hS hwt hh hb hk0 hN pp ee ss mm args below meth cd hmn hret
  intro ef1 nl1 M1 hB hS hF
  have hle : nl1 ≤ N := (by obtain ⟨m6, b1, b2, b3⟩ := fold_15 (d := bi d) (t := bi c) (w := nI wt) (who := (nI k0)) (rk (hg5 (hg4 g (bi d) 1 (nI k0)) (bi c) (nI k0)) (nI h) ns) _ nl1 hB.l.2.2.2.1 hB.l.2.2.2.2; have b4 : (shAll (hg5 (hg4 g (bi d) 1 (nI k0)) (bi c) (nI k0)) (nI h) ns (bi d) (bi c) (nI wt) (nI k0)) 15 = nI m6 := b3; rw [hN, b4, nn_nI (by omega)]; omega)
  have hc1 := lgc_up (c0 := a 43) hle
  have hc2 := lgs_up (c0 := a 43) hle
  refine x_iconst (n' := 48) (v := 0) dX1_passes_47 (by decide) rfl ?_
  refine x_istore_n (n' := 49) dX1_passes_48 rfl (Nat.le_of_ble_eq_true rfl) rfl (by dsimp only [List.set] <;> rfl) rfl ?_
  exact x_drop (cut49 ((rlG (hg5 (hg4 g (bi d) 1 (nI k0)) (bi c) (nI k0)) ns h).length + 1) 0 ef1 nl1 _ (by omega) (Nat.zero_le _) (by rw [shN_0]; exact hB) hS hF) ⟨rfl, ⟨rfl, ⟨rfl, ⟨rfl, trivial⟩⟩⟩⟩
set_option maxHeartbeats 4000000 in
set_option maxRecDepth 100000 in
theorem k29_c_X1_passes__s (l : Launch) (G : kG) (M : kM) (w : Nat) (a kf sf sa ef : Nat → Nat) (T : kT) (ex : Nat → Prop) (g : gT) (nk nr ns nl : Nat) (sg wt h : Nat) (d c : Prop) [Decidable d] [Decidable c] (k0 N : Nat) (hB : NB G M w a kf sf sa ef T ex g nk nr ns nl) (hS : SGP G M sg wt (bi d) (bi (g 6 = 1)) (bi c) ∧ mG M sg = a 4 + 1) (hwt : wt < 3) (hh : g 0 = nI h) (hb : h < BB) (hk0 : k0 < nk) (hN : N = nn ((shAll (hg5 (hg4 g (bi d) 1 (nI k0)) (bi c) (nI k0)) (nI h) ns (bi d) (bi c) (nI wt) (nI k0)) 15)) (pp : Program) (ee : Env) (ss : State) (mm : MethodId) (args : Array Value) (below : List Frame) (meth : Method) (cd : Code) (hmn : meth.name = yX1_passes.name) (hret : meth.sig.returnType = none) : ∀ (ef1 : Nat → Nat) (nl1 : Nat) (M1 : kM) (hB : NB G M1 w a kf sf sa ef1 T ex (hg4 g (bi d) 1 (nI k0)) nk nr ns nl1) (hS : SGP G M1 sg wt (bi d) (bi (g 6 = 1)) (bi c) ∧ mG M1 sg = a 4 + 1) (hF : Fr (FSn a) M M1), Wx pp l ee { frames := 8, cells := lgc (a 43) N - lgc (a 43) nl, slots := lgs (a 43) N - lgs (a 43) nl, locals := 204 } ss mm args below meth cd "KeptLight$World" cX1_passes 5 G (MQ below (KQ G M (fun v M2 => v = none ∧ ∃ ef2, NB G M2 w a kf sf sa ef2 T ex (shAll (hg5 (hg4 g (bi d) 1 (nI k0)) (bi c) (nI k0)) (nI h) ns (bi d) (bi c) (nI wt) (nI k0)) nk nr ns N ∧ Fr (FSn a) M M2)) args ss (lgc (a 43) N - lgc (a 43) nl) (lgs (a 43) N - lgs (a 43) nl) (kA G)) 29 [some (.ref w), some (.ref sg), some (.ref (kf k0)), none, none] [] (M1) (lgc (a 43) N - lgc (a 43) nl1) (lgs (a 43) N - lgs (a 43) nl1) := by
  have hF : Fr (FSn a) M M := Fr.rf
  have hlt := hB.wc.lit
  have cut49 := k49_c_X1_passes__s l G M w a kf sf sa ef T ex g nk nr ns nl sg wt h d c k0 N hB hS hwt hh hb hk0 hN pp ee ss mm args below meth cd hmn hret
  have cut47 := k47_c_X1_passes__s l G M w a kf sf sa ef T ex g nk nr ns nl sg wt h d c k0 N hB hS hwt hh hb hk0 hN pp ee ss mm args below meth cd hmn hret
  intro ef1 nl1 M1 hB hS hF
  have hle : nl1 ≤ N := (by obtain ⟨m5, a1, a2, a3⟩ := l15_5 (c := bi c) (p := (nI k0)) hB.l.2.2.2.1 hB.l.2.2.2.2; obtain ⟨m6, b1, b2, b3⟩ := fold_15 (d := bi d) (t := bi c) (w := nI wt) (who := (nI k0)) (rk (hg5 (hg4 g (bi d) 1 (nI k0)) (bi c) (nI k0)) (nI h) ns) _ m5 a3 a2; have b4 : (shAll (hg5 (hg4 g (bi d) 1 (nI k0)) (bi c) (nI k0)) (nI h) ns (bi d) (bi c) (nI wt) (nI k0)) 15 = nI m6 := b3; rw [hN, b4, nn_nI (by omega)]; omega)
  have hc1 := lgc_up (c0 := a 43) hle
  have hc2 := lgs_up (c0 := a 43) hle
  refine x_aload_n (n' := 30) dX1_passes_29 rfl rfl rfl ?_
  refine x_ifnull (n' := 33) dX1_passes_30 rfl ?_
  refine x_aload_n (n' := 34) dX1_passes_33 rfl rfl rfl ?_
  refine x_getI (n' := 37) dX1_passes_34 (hS.1.1) ffX1_228_7 rfl rfl ?_
  refine x_topv hS.1.2.2.2.2.1 ?_
  refine x_if_eq (n' := 40) (tgt := 47) dX1_passes_37 (by decide) rfl (fun c37_20 => ?_) (fun c37_20 => ?_)
  · refine x_room (cb2 := lgc (a 43) N - lgc (a 43) nl1) (sb2 := lgs (a 43) N - lgs (a 43) nl1) (by omega) (by omega) ?_
    have hB2 : NB G M1 w a kf sf sa ef1 T ex (hg5 (hg4 g (bi d) 1 (nI k0)) (bi c) (nI k0)) nk nr ns nl1 := by rw [show (hg5 (hg4 g (bi d) 1 (nI k0)) (bi c) (nI k0)) = (hg4 g (bi d) 1 (nI k0)) from if_neg (fun q9 => q9 (by assumption))]; exact hB
    exact x_drop (cut47 ef1 nl1 _ hB2 hS hF) ⟨rfl, ⟨rfl, ⟨rfl, trivial⟩⟩⟩
  · refine x_aload_n (n' := 41) dX1_passes_40 rfl rfl rfl ?_
    refine x_iconst (n' := 42) (v := 3) dX1_passes_41 (by decide) rfl ?_
    refine x_iconst (n' := 43) (v := -1) dX1_passes_42 (by decide) rfl ?_
    refine x_aload_n (n' := 44) dX1_passes_43 rfl rfl rfl ?_
    have hE9 : (hg5 (hg4 g (bi d) 1 (nI k0)) (bi c) (nI k0)) 15 = nI (lnx nl1) := (by rw [show (hg5 (hg4 g (bi d) 1 (nI k0)) (bi c) (nI k0)) = logP (hg4 g (bi d) 1 (nI k0)) 3 (-1) (nI k0) from if_pos (by assumption)]; exact l15_P hB.l.2.2.2.1 hB.l.2.2.2.2)
    have hl9 : lnx nl1 ≤ N := (by obtain ⟨m6, b1, b2, b3⟩ := fold_15 (d := bi d) (t := bi c) (w := nI wt) (who := (nI k0)) (rk (hg5 (hg4 g (bi d) 1 (nI k0)) (bi c) (nI k0)) (nI h) ns) _ (lnx nl1) hE9 (lnx_4 hB.l.2.2.2.2); have b4 : (shAll (hg5 (hg4 g (bi d) 1 (nI k0)) (bi c) (nI k0)) (nI h) ns (bi d) (bi c) (nI wt) (nI k0)) 15 = nI m6 := b3; rw [hN, b4, nn_nI (by omega)]; omega)
    have hc3 := lgc_up (c0 := a 43) hl9
    have hc4 := lgs_up (c0 := a 43) hl9
    have hc5 := lgc_up (c0 := a 43) (lnx_le (n := nl1))
    have hc6 := lgs_up (c0 := a 43) (lnx_le (n := nl1))
    refine x_callV (n' := 47) (n := 3) (K := 1) (c_X1_writes l G _ w a kf sf sa _ T ex (hg4 g (bi d) 1 (nI k0)) nk nr ns nl1 k0 3 (-1) hB hk0) dX1_passes_44 (hB.wc.s.k) rfl (lw_V q2686 q2688 qs38 q78 q2689) (by decide +kernel) ⟨(Nat.le_of_ble_eq_true rfl), (Nat.le_of_ble_eq_true rfl)⟩ rfl rfl (Nat.le_of_ble_eq_true rfl) (by omega) (by omega) rfl (fun v_21 M_w2 h_23 hE_22 => ?_)
    obtain ⟨rfl, ef2, hB2, hF2⟩ := h_23
    have hS := sg_fr hS (hF2.mono (fun _ e9 => Or.inl e9)) hB.n4
    have hF := hF.tr (hF2.mono (fun _ e9 => Or.inl e9))
    refine x_room (cb2 := lgc (a 43) N - lgc (a 43) (lnx nl1)) (sb2 := lgs (a 43) N - lgs (a 43) (lnx nl1)) (by omega) (by omega) ?_
    rw [show logP (hg4 g (bi d) 1 (nI k0)) 3 (-1) (nI k0) = (hg5 (hg4 g (bi d) 1 (nI k0)) (bi c) (nI k0)) from (if_pos (by assumption)).symm] at hB2
    exact x_drop (cut47 ef2 _ _ hB2 hS hF) ⟨rfl, ⟨rfl, ⟨rfl, trivial⟩⟩⟩
set_option maxHeartbeats 4000000 in
set_option maxRecDepth 100000 in
theorem c_X1_passes__s (l : Launch) (G : kG) (M : kM) (w : Nat) (a kf sf sa ef : Nat → Nat) (T : kT) (ex : Nat → Prop) (g : gT) (nk nr ns nl : Nat) (sg wt h : Nat) (d c : Prop) [Decidable d] [Decidable c] (k0 N : Nat) (hB : NB G M w a kf sf sa ef T ex g nk nr ns nl) (hS : SGP G M sg wt (bi d) (bi (g 6 = 1)) (bi c) ∧ mG M sg = a 4 + 1) (hwt : wt < 3) (hh : g 0 = nI h) (hb : h < BB) (hk0 : k0 < nk) (hN : N = nn ((shAll (hg5 (hg4 g (bi d) 1 (nI k0)) (bi c) (nI k0)) (nI h) ns (bi d) (bi c) (nI wt) (nI k0)) 15)) : Kt l G yX1_passes cX1_passes 5 none 8 204 [.ref w, .ref sg, .ref (kf k0)] M (lgc (a 43) N - lgc (a 43) nl) (lgs (a 43) N - lgs (a 43) nl) (fun v M2 => v = none ∧ ∃ ef2, NB G M2 w a kf sf sa ef2 T ex (shAll (hg5 (hg4 g (bi d) 1 (nI k0)) (bi c) (nI k0)) (nI h) ns (bi d) (bi c) (nI wt) (nI k0)) nk nr ns N ∧ Fr (FSn a) M M2) := by
  refine Kt.of (own := "KeptLight$World") (L := [some (.ref w), some (.ref sg), some (.ref (kf k0)), none, none]) (by decide +kernel) rfl (Nat.le_of_ble_eq_true rfl) rfl ?_
  intro pp ee ss mm args below meth cd hmn hret
  have hF : Fr (FSn a) M M := Fr.rf
  have hlt := hB.wc.lit
  have cut49 := k49_c_X1_passes__s l G M w a kf sf sa ef T ex g nk nr ns nl sg wt h d c k0 N hB hS hwt hh hb hk0 hN pp ee ss mm args below meth cd hmn hret
  have cut47 := k47_c_X1_passes__s l G M w a kf sf sa ef T ex g nk nr ns nl sg wt h d c k0 N hB hS hwt hh hb hk0 hN pp ee ss mm args below meth cd hmn hret
  have cut29 := k29_c_X1_passes__s l G M w a kf sf sa ef T ex g nk nr ns nl sg wt h d c k0 N hB hS hwt hh hb hk0 hN pp ee ss mm args below meth cd hmn hret
  refine x_aload_n (n' := 1) dX1_passes_0 rfl rfl rfl ?_
  refine x_ifnull (n' := 4) dX1_passes_1 rfl ?_
  refine x_aload_n (n' := 5) dX1_passes_4 rfl rfl rfl ?_
  refine x_getI (n' := 8) dX1_passes_5 (hS.1.1) ffX1_218_7 rfl rfl ?_
  refine x_topv hS.1.2.2.1 ?_
  refine x_if_eq (n' := 11) (tgt := 29) dX1_passes_8 (by decide) rfl (fun c8_24 => ?_) (fun c8_24 => ?_)
  · refine x_room (cb2 := lgc (a 43) N - lgc (a 43) nl) (sb2 := lgs (a 43) N - lgs (a 43) nl) (by omega) (by omega) ?_
    have hB2 : NB G M w a kf sf sa ef T ex (hg4 g (bi d) 1 (nI k0)) nk nr ns nl := by rw [show (hg4 g (bi d) 1 (nI k0)) = g from if_neg (fun q9 => q9.2 (by assumption))]; exact hB
    exact x_drop (cut29 ef nl _ hB2 hS hF) ⟨rfl, ⟨rfl, ⟨rfl, trivial⟩⟩⟩
  · refine x_aload_n (n' := 12) dX1_passes_11 rfl rfl rfl ?_
    refine x_aload_n (n' := 13) dX1_passes_12 rfl rfl rfl ?_
    refine x_getI (n' := 16) dX1_passes_13 (hS.1.1) ffX1_223_7 rfl rfl ?_
    refine x_topv hS.1.2.2.2.1 ?_
    refine x_fork (J := 24) (x_if_eq (n' := 19) (tgt := 23) dX1_passes_16 (by decide) rfl) (v1 := ?v1_f16_25) (v2 := ?v2_f16_25) (fun c_f16_25 j_f16_25 => ?b1_f16_25) (fun c_f16_25 j_f16_25 => ?b2_f16_25) ?k_f16_25
    case b1_f16_25 =>
      refine x_iconst (n' := 24) (v := 2) dX1_passes_23 (by decide) rfl ?_
      exact j_f16_25
    case b2_f16_25 =>
      refine x_iconst (n' := 20) (v := 1) dX1_passes_19 (by decide) rfl ?_
      refine x_goto (tgt := 24) dX1_passes_20 (by decide) ?_
      exact j_f16_25
    refine x_topv (y := if g 6 = 1 then 1 else 2) (by unfold bi; grind) ?_
    refine x_iconst (n' := 25) (v := -1) dX1_passes_24 (by decide) rfl ?_
    refine x_aload_n (n' := 26) dX1_passes_25 rfl rfl rfl ?_
    have hE9 : (hg4 g (bi d) 1 (nI k0)) 15 = nI (lnx nl) := (by rw [show (hg4 g (bi d) 1 (nI k0)) = logP g (if g 6 = 1 then 1 else 2) (-1) (nI k0) from if_pos ⟨by decide, (by assumption)⟩]; exact l15_P hB.l.2.2.2.1 hB.l.2.2.2.2)
    have hl9 : lnx nl ≤ N := (by obtain ⟨m5, a1, a2, a3⟩ := l15_5 (c := bi c) (p := (nI k0)) hE9 (lnx_4 hB.l.2.2.2.2); obtain ⟨m6, b1, b2, b3⟩ := fold_15 (d := bi d) (t := bi c) (w := nI wt) (who := (nI k0)) (rk (hg5 (hg4 g (bi d) 1 (nI k0)) (bi c) (nI k0)) (nI h) ns) _ m5 a3 a2; have b4 : (shAll (hg5 (hg4 g (bi d) 1 (nI k0)) (bi c) (nI k0)) (nI h) ns (bi d) (bi c) (nI wt) (nI k0)) 15 = nI m6 := b3; rw [hN, b4, nn_nI (by omega)]; omega)
    have hc3 := lgc_up (c0 := a 43) hl9
    have hc4 := lgs_up (c0 := a 43) hl9
    have hc5 := lgc_up (c0 := a 43) (lnx_le (n := nl))
    have hc6 := lgs_up (c0 := a 43) (lnx_le (n := nl))
    refine x_callV (n' := 29) (n := 3) (K := 1) (c_X1_writes l G _ w a kf sf sa _ T ex g nk nr ns nl k0 (if g 6 = 1 then 1 else 2) (-1) hB hk0) dX1_passes_26 (hB.wc.s.k) rfl (lw_V q2686 q2688 qs38 q78 q2689) (by decide +kernel) ⟨(Nat.le_of_ble_eq_true rfl), (Nat.le_of_ble_eq_true rfl)⟩ rfl rfl (Nat.le_of_ble_eq_true rfl) (by omega) (by omega) rfl (fun v_26 M_w1 h_28 hE_27 => ?_)
    obtain ⟨rfl, ef2, hB2, hF2⟩ := h_28
    have hS := sg_fr hS (hF2.mono (fun _ e9 => Or.inl e9)) hB.n4
    have hF := hF.tr (hF2.mono (fun _ e9 => Or.inl e9))
    refine x_room (cb2 := lgc (a 43) N - lgc (a 43) (lnx nl)) (sb2 := lgs (a 43) N - lgs (a 43) (lnx nl)) (by omega) (by omega) ?_
    rw [show logP g (if g 6 = 1 then 1 else 2) (-1) (nI k0) = (hg4 g (bi d) 1 (nI k0)) from (if_pos ⟨by decide, (by assumption)⟩).symm] at hB2
    exact x_drop (cut29 ef2 _ _ hB2 hS hF) ⟨rfl, ⟨rfl, ⟨rfl, trivial⟩⟩⟩
