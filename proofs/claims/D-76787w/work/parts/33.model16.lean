theorem SC_I9 {M : kM} {m : Nat} {ad : Nat → Nat} {g : gT} {sa : Nat → gT} {sf : Nat → Int32} {v : Int32} : sI (SC M m ad g sa sf) (fc 9 9) m v = SC (sI M (fc 9 9) m v) m ad g sa sf := by
  have e1 : u2 (fun c b => if b = m ∧ scI c then sf c else mI M c b) (fc 9 9) m v = (fun c b => if b = m ∧ scI c then sf c else u2 (mI M) (fc 9 9) m v c b) := by
    funext c b
    by_cases h : c = fc 9 9 ∧ b = m
    · obtain ⟨rfl, rfl⟩ := h
      rw [u2_s, if_neg (fun q => absurd q.2 (by unfold scI; decide)), u2_s]
    · by_cases h1 : c = fc 9 9
      · have h2 : b ≠ m := fun q => h ⟨h1, q⟩
        rw [u2_a h2, if_neg (fun q => h2 q.1), if_neg (fun q => h2 q.1), u2_a h2]
      · rw [u2_c h1, u2_c h1]
  show (mK M, u2 (fun c b => if b = m ∧ scI c then sf c else mI M c b) (fc 9 9) m v, mR M, mN M, _, mL M, mO M, mG M) = _
  rw [e1]
  rfl
theorem mI_SC_9 {M : kM} {m : Nat} {ad : Nat → Nat} {g : gT} {sa : Nat → gT} {sf : Nat → Int32} : mI (SC M m ad g sa sf) (fc 9 9) m = mI M (fc 9 9) m := mI_SCn (fun q => absurd q.2 (by unfold scI; decide))
theorem kE_SSI {M : kM} {m c a : Nat} {v : Int32} {ad : Nat → Nat} {g g' : gT} {sa sa' : Nat → gT} {sf sf' : Nat → Int32} : kE (SC M m ad g sa sf) (SC (sI M c a v) m ad g' sa' sf') := fun _ _ q => q
theorem sk_ms {b : Bool} {rm rm2 fuel : Nat} (hr : rm ≤ 20) (h9 : b = true → rm2 = rm + 1) (h1 : (if true = true then 22 - rm else 0) < fuel + 1) : (if b = true then 22 - rm2 else 0) < fuel := by
  rw [if_pos rfl] at h1
  by_cases w : b = true
  · rw [if_pos w, h9 w]; omega
  · rw [if_neg w]; omega
set_option maxHeartbeats 4000000 in
set_option maxRecDepth 100000 in
theorem c_X9_byteAt (l : Launch) (G : kG) (M : kM) (m : Nat) (ad : Nat → Nat) (hS : MS M m ad) (p t : Nat) (ht : mI M (fc 9 9) m = nI t) (hb : t ≤ 250) (hp : p < 2147483648) : Kt l G yX9_byteAt cX9_byteAt 2 (some .int) 0 0 [.ref m, .int (nI p)] M (0) (0) (fun v M2 => v = some (.int (byG (mA M (ad 4)) t p)) ∧ M2 = M) := by
  refine Kt.of (own := "KeptLightModel") (L := [some (.ref m), some (.int (nI p))]) (by decide +kernel) rfl (Nat.le_of_ble_eq_true rfl) rfl ?_
  intro pp ee ss mm args below meth cd hmn hret
  have km := hS.1
  obtain ⟨hr_tape, kk_tape, hn_tape⟩ := hS.2.1 4 (by decide)
  have hr_tape : mR M (fc 9 8) m = some (ad 4) := hr_tape
  have hn_tape : mN M (ad 4) = 250 := hn_tape
  have kk_tape : mK M (ad 4) = some 120 := kk_tape
  refine x_iload_n (n' := 1) dX9_byteAt_0 rfl rfl rfl ?_
  refine x_aload_n (n' := 2) dX9_byteAt_1 rfl rfl rfl ?_
  refine x_getI (n' := 5) dX9_byteAt_2 (by repeat' (first | with_reducible exact km | with_reducible apply mK_A | with_reducible apply mK_I | with_reducible apply mK_L | with_reducible apply mK_R | with_reducible apply mK_O | with_reducible apply mK_S)) ffX9_135_9 rfl rfl ?_
  refine x_topv ht ?_
  refine x_icmp_ge (n' := 8) (tgt := 17) dX9_byteAt_5 (by decide) rfl (fun c5_1 => ?_) (fun c5_1 => ?_)
  · have C5 := c5_1
    have N5 := (cv_le (by repeat' (first | with_reducible exact nl_0 | with_reducible exact rfl | apply i_add | apply i_mul)) (by repeat' (first | with_reducible exact nl_0 | with_reducible exact rfl | apply i_add | apply i_mul)) (by omega) (by omega)).mp c5_1
    refine x_iconst (n' := 18) (v := -1) dX9_byteAt_17 (by decide) rfl ?_
    exact x_iret dX9_byteAt_18 hret (by repeat' (first | with_reducible exact kE.rf | with_reducible exact kE_SS | with_reducible exact kE_SSI | with_reducible apply kE_A | with_reducible apply kE_I | with_reducible apply kE_L | with_reducible apply kE_R | with_reducible apply kE_O | with_reducible apply kE_S)) (by first | exact ⟨congrArg (fun z => some (Value.int z)) (if_pos (by omega)).symm, rfl⟩ | exact ⟨congrArg (fun z => some (Value.int z)) (if_neg (by omega)).symm, rfl⟩)
  · have C5 := c5_1
    have N5 := (not_congr (cv_le (by repeat' (first | with_reducible exact nl_0 | with_reducible exact rfl | apply i_add | apply i_mul)) (by repeat' (first | with_reducible exact nl_0 | with_reducible exact rfl | apply i_add | apply i_mul)) (by omega) (by omega))).mp c5_1
    refine x_aload_n (n' := 9) dX9_byteAt_8 rfl rfl rfl ?_
    refine x_getRs (n' := 12) (b := (ad 4)) dX9_byteAt_9 (by repeat' (first | with_reducible exact km | with_reducible apply mK_A | with_reducible apply mK_I | with_reducible apply mK_L | with_reducible apply mK_R | with_reducible apply mK_O | with_reducible apply mK_S)) ffX9_22_9 rfl (by repeat' (first | with_reducible exact hr_tape | with_reducible apply mR_A | with_reducible apply mR_I | with_reducible apply mR_L | with_reducible apply mR_S)) rfl ?_
    refine x_iload_n (n' := 13) dX9_byteAt_12 rfl rfl rfl ?_
    refine x_ildk (n' := 14) (N := 250) dX9_byteAt_13 (by repeat' (first | with_reducible exact kk_tape | with_reducible apply mK_A | with_reducible apply mK_I | with_reducible apply mK_L | with_reducible apply mK_R | with_reducible apply mK_O | with_reducible apply mK_S)) (by repeat' (first | with_reducible exact hn_tape | with_reducible apply mN_A | with_reducible apply mN_I | with_reducible apply mN_L | with_reducible apply mN_R | with_reducible apply mN_O | with_reducible apply mN_S)) (by repeat' (first | with_reducible exact nl_0 | with_reducible exact rfl | apply i_add | apply i_mul)) (by omega) (by decide) (by first | (simp (disch := omega) only [mA_sA, mA_sI, mA_SC0, mA_SC1 hS, mA_SC5 hS, mA_SC6 hS, mA_SC10 hS, mA_SC11 hS, mA_SC12 hS, up_s, up_n, if_false] <;> rfl) | rfl) rfl ?_
    refine x_goto (tgt := 18) dX9_byteAt_14 (by decide) ?_
    exact x_iret dX9_byteAt_18 hret (by repeat' (first | with_reducible exact kE.rf | with_reducible exact kE_SS | with_reducible exact kE_SSI | with_reducible apply kE_A | with_reducible apply kE_I | with_reducible apply kE_L | with_reducible apply kE_R | with_reducible apply kE_O | with_reducible apply kE_S)) (by first | exact ⟨congrArg (fun z => some (Value.int z)) (if_pos (by omega)).symm, rfl⟩ | exact ⟨congrArg (fun z => some (Value.int z)) (if_neg (by omega)).symm, rfl⟩)

theorem ffX9_139_9 : FF "KeptLightModel" 139 9 10 "KeptLightModel" := ⟨by decide, by decide, q3262, Or.inl rfl⟩
theorem ffX9_25_9 : FF "KeptLightModel" 25 9 11 "KeptLightModel" := ⟨by decide, by decide, q3263, Or.inl rfl⟩
theorem ffX9_145_9 : FF "KeptLightModel" 145 9 12 "KeptLightModel" := ⟨by decide, by decide, q3264, Or.inl rfl⟩
set_option maxHeartbeats 4000000 in
set_option maxRecDepth 100000 in
theorem c_X9_isRun (l : Launch) (G : kG) (M : kM) (m : Nat) (ad : Nat → Nat) (hS : MS M m ad) (g : gT) (sa : Nat → gT) (sf : Nat → Int32) (t p rm : Nat) (ht : mI M (fc 9 9) m = nI t) (hb : t ≤ 250) (hp : sf (fc 9 10) = nI p) (hr : sf (fc 9 12) = nI rm) (hp2 : p ≤ t) (hr2 : rm ≤ 20) : Kt l G yX9_isRun cX9_isRun 4 (some .boolean) 1 25 [.ref m] (SC M m ad g sa sf) (0) (0) (fun v M2 => v = some (.int (bi ((skR (mA M (ad 4)) t p rm (sa 5)).1 = true))) ∧ ∃ sf2, M2 = SC M m ad g (va_up sa 5 (skR (mA M (ad 4)) t p rm (sa 5)).2.2.2) sf2 ∧ sf2 (fc 9 10) = nI (skR (mA M (ad 4)) t p rm (sa 5)).2.1 ∧ sf2 (fc 9 12) = nI (skR (mA M (ad 4)) t p rm (sa 5)).2.2.1) := by
  refine Kt.of (own := "KeptLightModel") (L := [some (.ref m), none, none, none]) (by decide +kernel) rfl (Nat.le_of_ble_eq_true rfl) rfl ?_
  intro pp ee ss mm args below meth cd hmn hret
  have km := hS.1
  obtain ⟨hr_read, kk_read, hn_read⟩ := hS.2.1 5 (by decide)
  have hr_read : mR M (fc 9 11) m = some (ad 5) := hr_read
  have hn_read : mN M (ad 5) = 40 := hn_read
  have kk_read : mK M (ad 5) = some 120 := kk_read
  have cut52 : ∀ (fuel : Nat) (n : Nat) (h1 : 2 - n < fuel) (h2 : n ≤ 2) (h3 : ∀ j, j < n → dgP (byG (mA M (ad 4)) t (p + 1 + j))) (hC : irC (mA M (ad 4)) t p rm), Wx pp l ee { frames := 1, cells := 0, slots := 0, locals := 25 } ss mm args below meth cd "KeptLightModel" cX9_isRun 4 G (MQ below (KQ G (SC M m ad g sa sf) (fun v M2 => v = some (.int (bi ((skR (mA M (ad 4)) t p rm (sa 5)).1 = true))) ∧ ∃ sf2, M2 = SC M m ad g (va_up sa 5 (skR (mA M (ad 4)) t p rm (sa 5)).2.2.2) sf2 ∧ sf2 (fc 9 10) = nI (skR (mA M (ad 4)) t p rm (sa 5)).2.1 ∧ sf2 (fc 9 12) = nI (skR (mA M (ad 4)) t p rm (sa 5)).2.2.1)) args ss (0) (0) (kA G)) 52 [some (.ref m), some (.int (byG (mA M (ad 4)) t p)), some (.int (irV (mA M (ad 4)) t p n)), some (.int (nI n))] [] (SC M m ad g sa (va_up sf (fc 9 10) (nI (p + 1)))) (0) (0) := by
    intro fuel
    induction fuel with
    | zero => intro n h1 h2 h3 hC; omega
    | succ fuel ih =>
      intro n h1 h2 h3 hC
      have hrm : rm < 20 := by have := hC.1; omega
      refine x_iload_n (n' := 53) dX9_isRun_52 rfl rfl rfl ?_
      refine x_iconst (n' := 54) (v := 2) dX9_isRun_53 (by decide) rfl ?_
      refine x_icmp_ge (n' := 57) (tgt := 105) dX9_isRun_54 (by decide) rfl (fun c54_1 => ?_) (fun c54_1 => ?_)
      · have C54 := c54_1
        have N54 := (cv_le (by repeat' (first | with_reducible exact nl_0 | with_reducible exact nl_1 | with_reducible exact nl_2 | with_reducible exact nl_10 | with_reducible exact nl_20 | with_reducible exact nl_48 | with_reducible exact nl_99 | with_reducible exact nl_102 | with_reducible exact nl_115 | with_reducible exact rfl | apply i_add | apply i_mul)) (by repeat' (first | with_reducible exact nl_0 | with_reducible exact nl_1 | with_reducible exact nl_2 | with_reducible exact nl_10 | with_reducible exact nl_20 | with_reducible exact nl_48 | with_reducible exact nl_99 | with_reducible exact nl_102 | with_reducible exact nl_115 | with_reducible exact rfl | apply i_add | apply i_mul)) (by omega) (by omega)).mp c54_1
        have hN : irN (mA M (ad 4)) t p = n := by first | exact irN_e h2 h3 (Or.inl (by omega)) | exact irN_e h2 h3 (Or.inr (bi_0.mp C77))
        refine x_iload_n (n' := 106) dX9_isRun_105 rfl rfl rfl ?_
        refine x_if_eq (n' := 109) (tgt := 113) dX9_isRun_106 (by decide) rfl (fun c106_2 => ?_) (fun c106_2 => ?_)
        · have C106 := c106_2
          have N106 := (cv_eq (by repeat' (first | with_reducible exact nl_0 | with_reducible exact nl_1 | with_reducible exact nl_2 | with_reducible exact nl_10 | with_reducible exact nl_20 | with_reducible exact nl_48 | with_reducible exact nl_99 | with_reducible exact nl_102 | with_reducible exact nl_115 | with_reducible exact rfl | apply i_add | apply i_mul)) (by repeat' (first | with_reducible exact nl_0 | with_reducible exact nl_1 | with_reducible exact nl_2 | with_reducible exact nl_10 | with_reducible exact nl_20 | with_reducible exact nl_48 | with_reducible exact nl_99 | with_reducible exact nl_102 | with_reducible exact nl_115 | with_reducible exact rfl | apply i_add | apply i_mul)) (by omega) (by omega)).mp c106_2
          refine x_iconst (n' := 114) (v := 0) dX9_isRun_113 (by decide) rfl ?_
          exact x_zret dX9_isRun_114 hret (by first | exact k_zn (bi_01 _) | exact k_zn (Or.inl rfl) | exact k_zn (Or.inr rfl)) (by repeat' (first | with_reducible exact kE.rf | with_reducible exact kE_SS | with_reducible exact kE_SSI | with_reducible apply kE_A | with_reducible apply kE_I | with_reducible apply kE_L | with_reducible apply kE_R | with_reducible apply kE_O | with_reducible apply kE_S)) (by rw [skR_b hC (by rw [hN]; first | exact Or.inl N106 | exact Or.inr C110)]; exact ⟨rfl, _, by rw [up_eta], va_up_self _ _ _, by rw [va_up_ne _ _ (by decide)]; exact hr⟩)
        · have C106 := c106_2
          have N106 := (not_congr (cv_eq (by repeat' (first | with_reducible exact nl_0 | with_reducible exact nl_1 | with_reducible exact nl_2 | with_reducible exact nl_10 | with_reducible exact nl_20 | with_reducible exact nl_48 | with_reducible exact nl_99 | with_reducible exact nl_102 | with_reducible exact nl_115 | with_reducible exact rfl | apply i_add | apply i_mul)) (by repeat' (first | with_reducible exact nl_0 | with_reducible exact nl_1 | with_reducible exact nl_2 | with_reducible exact nl_10 | with_reducible exact nl_20 | with_reducible exact nl_48 | with_reducible exact nl_99 | with_reducible exact nl_102 | with_reducible exact nl_115 | with_reducible exact rfl | apply i_add | apply i_mul)) (by omega) (by omega))).mp c106_2
          refine x_iload_n (n' := 110) dX9_isRun_109 rfl rfl rfl ?_
          refine x_if_ne (n' := 113) (tgt := 115) dX9_isRun_110 (by decide) rfl (fun c110_3 => ?_) (fun c110_3 => ?_)
          · have C110 := c110_3
            refine x_aload_n (n' := 116) dX9_isRun_115 rfl rfl rfl ?_
            refine x_dup (n' := 117) dX9_isRun_116 rfl rfl ?_
            refine x_getI (n' := 120) dX9_isRun_117 (by repeat' (first | with_reducible exact km | with_reducible apply mK_A | with_reducible apply mK_I | with_reducible apply mK_L | with_reducible apply mK_R | with_reducible apply mK_O | with_reducible apply mK_S)) ffX9_139_9 rfl rfl ?_
            refine x_topv (mI_SC_10.trans (va_up_self _ _ _)) ?_
            refine x_iload_n (n' := 121) dX9_isRun_120 rfl rfl rfl ?_
            refine x_iadd (n' := 122) dX9_isRun_121 rfl ?_
            rw [nI_add]
            refine x_putI (n' := 125) dX9_isRun_122 (by repeat' (first | with_reducible exact km | with_reducible apply mK_A | with_reducible apply mK_I | with_reducible apply mK_L | with_reducible apply mK_R | with_reducible apply mK_O | with_reducible apply mK_S)) ffX9_139_9 rfl (⟨rfl, rfl⟩) rfl rfl ?_
            refine x_mem (M2 := SC M m ad g sa (va_up (va_up sf (fc 9 10) (nI (p + 1))) (fc 9 10) (nI (p + 1 + n)))) SC_I10 ?_
            refine x_aload_n (n' := 126) dX9_isRun_125 rfl rfl rfl ?_
            refine x_getRs (n' := 129) (b := (ad 5)) dX9_isRun_126 (by repeat' (first | with_reducible exact km | with_reducible apply mK_A | with_reducible apply mK_I | with_reducible apply mK_L | with_reducible apply mK_R | with_reducible apply mK_O | with_reducible apply mK_S)) ffX9_25_9 rfl (by repeat' (first | with_reducible exact hr_read | with_reducible apply mR_A | with_reducible apply mR_I | with_reducible apply mR_L | with_reducible apply mR_S)) rfl ?_
            refine x_iconst (n' := 130) (v := 2) dX9_isRun_129 (by decide) rfl ?_
            refine x_aload_n (n' := 131) dX9_isRun_130 rfl rfl rfl ?_
            refine x_getI (n' := 134) dX9_isRun_131 (by repeat' (first | with_reducible exact km | with_reducible apply mK_A | with_reducible apply mK_I | with_reducible apply mK_L | with_reducible apply mK_R | with_reducible apply mK_O | with_reducible apply mK_S)) ffX9_145_9 rfl rfl ?_
            refine x_topv (y := nI rm) (mI_SC_12.trans (by rw [va_up_ne _ _ (by decide), va_up_ne _ _ (by decide)]; exact hr)) ?_
            refine x_imul (n' := 135) dX9_isRun_134 rfl ?_
            refine x_iload_n (n' := 136) dX9_isRun_135 rfl rfl rfl ?_
            refine x_bipush (n' := 138) (v := 99) dX9_isRun_136 (by decide) rfl ?_
            refine x_forkN (J := 156) (x_icmp_ne (n' := 141) (tgt := 145) dX9_isRun_138 (by decide) rfl) (v1 := ?v1_f138_4) (v2 := ?v2_f138_4) (fun c_f138_4 j_f138_4 => ?b1_f138_4) (fun c_f138_4 j_f138_4 => ?b2_f138_4) ?k_f138_4
            case b1_f138_4 =>
              refine x_iload_n (n' := 146) dX9_isRun_145 rfl rfl rfl ?_
              refine x_bipush (n' := 148) (v := 102) dX9_isRun_146 (by decide) rfl ?_
              refine x_forkN (J := 156) (x_icmp_ne (n' := 151) (tgt := 155) dX9_isRun_148 (by decide) rfl) (v1 := ?v1_f148_5) (v2 := ?v2_f148_5) (fun c_f148_5 j_f148_5 => ?b1_f148_5) (fun c_f148_5 j_f148_5 => ?b2_f148_5) ?k_f148_5
              case b1_f148_5 =>
                refine x_iconst (n' := 156) (v := 2) dX9_isRun_155 (by decide) rfl ?_
                exact j_f148_5
              case b2_f148_5 =>
                refine x_iconst (n' := 152) (v := 1) dX9_isRun_151 (by decide) rfl ?_
                refine x_goto (tgt := 156) dX9_isRun_152 (by decide) ?_
                exact j_f148_5
              exact j_f138_4
            case b2_f138_4 =>
              refine x_iconst (n' := 142) (v := 0) dX9_isRun_141 (by decide) rfl ?_
              refine x_goto (tgt := 156) dX9_isRun_142 (by decide) ?_
              exact j_f138_4
            refine x_topv (y := irK (byG (mA M (ad 4)) t p)) (by exact rfl) ?_
            refine x_iastk (n' := 157) (N := 40) dX9_isRun_156 (by repeat' (first | with_reducible exact kk_read | with_reducible apply mK_A | with_reducible apply mK_I | with_reducible apply mK_L | with_reducible apply mK_R | with_reducible apply mK_O | with_reducible apply mK_S)) (by repeat' (first | with_reducible exact hn_read | with_reducible apply mN_A | with_reducible apply mN_I | with_reducible apply mN_L | with_reducible apply mN_R | with_reducible apply mN_O | with_reducible apply mN_S)) (by repeat' (first | with_reducible exact nl_0 | with_reducible exact nl_1 | with_reducible exact nl_2 | with_reducible exact nl_10 | with_reducible exact nl_20 | with_reducible exact nl_48 | with_reducible exact nl_99 | with_reducible exact nl_102 | with_reducible exact nl_115 | with_reducible exact rfl | apply i_add | apply i_mul)) (by omega) (by decide) (by first | with_reducible exact mA_sA | with_reducible exact mA_SC0 | with_reducible exact mA_SC1 hS | with_reducible exact mA_SC5 hS | with_reducible exact mA_SC6 hS | with_reducible exact mA_SC10 hS | with_reducible exact mA_SC11 hS | with_reducible exact mA_SC12 hS | with_reducible exact mA_sI_sA | with_reducible exact mA_sI3_sA | rfl) (by first | with_reducible exact SC_A0 | with_reducible exact SC_A1 hS | with_reducible exact SC_A5 hS | with_reducible exact SC_A6 hS | with_reducible exact SC_A10 hS | with_reducible exact SC_A11 hS | with_reducible exact SC_A12 hS | with_reducible exact sA_sA | with_reducible exact sA_sI_sA | with_reducible exact sA_sI3_sA | rfl) rfl ?_
            refine x_aload_n (n' := 158) dX9_isRun_157 rfl rfl rfl ?_
            refine x_getRs (n' := 161) (b := (ad 5)) dX9_isRun_158 (by repeat' (first | with_reducible exact km | with_reducible apply mK_A | with_reducible apply mK_I | with_reducible apply mK_L | with_reducible apply mK_R | with_reducible apply mK_O | with_reducible apply mK_S)) ffX9_25_9 rfl (by repeat' (first | with_reducible exact hr_read | with_reducible apply mR_A | with_reducible apply mR_I | with_reducible apply mR_L | with_reducible apply mR_S)) rfl ?_
            refine x_iconst (n' := 162) (v := 2) dX9_isRun_161 (by decide) rfl ?_
            refine x_aload_n (n' := 163) dX9_isRun_162 rfl rfl rfl ?_
            refine x_getI (n' := 166) dX9_isRun_163 (by repeat' (first | with_reducible exact km | with_reducible apply mK_A | with_reducible apply mK_I | with_reducible apply mK_L | with_reducible apply mK_R | with_reducible apply mK_O | with_reducible apply mK_S)) ffX9_145_9 rfl rfl ?_
            refine x_topv (y := nI rm) (mI_SC_12.trans (by rw [va_up_ne _ _ (by decide), va_up_ne _ _ (by decide)]; exact hr)) ?_
            refine x_imul (n' := 167) dX9_isRun_166 rfl ?_
            refine x_iconst (n' := 168) (v := 1) dX9_isRun_167 (by decide) rfl ?_
            refine x_iadd (n' := 169) dX9_isRun_168 rfl ?_
            refine x_iload_n (n' := 170) dX9_isRun_169 rfl rfl rfl ?_
            refine x_iastk (n' := 171) (N := 40) dX9_isRun_170 (by repeat' (first | with_reducible exact kk_read | with_reducible apply mK_A | with_reducible apply mK_I | with_reducible apply mK_L | with_reducible apply mK_R | with_reducible apply mK_O | with_reducible apply mK_S)) (by repeat' (first | with_reducible exact hn_read | with_reducible apply mN_A | with_reducible apply mN_I | with_reducible apply mN_L | with_reducible apply mN_R | with_reducible apply mN_O | with_reducible apply mN_S)) (by repeat' (first | with_reducible exact nl_0 | with_reducible exact nl_1 | with_reducible exact nl_2 | with_reducible exact nl_10 | with_reducible exact nl_20 | with_reducible exact nl_48 | with_reducible exact nl_99 | with_reducible exact nl_102 | with_reducible exact nl_115 | with_reducible exact rfl | apply i_add | apply i_mul)) (by omega) (by decide) (by first | with_reducible exact mA_sA | with_reducible exact mA_SC0 | with_reducible exact mA_SC1 hS | with_reducible exact mA_SC5 hS | with_reducible exact mA_SC6 hS | with_reducible exact mA_SC10 hS | with_reducible exact mA_SC11 hS | with_reducible exact mA_SC12 hS | with_reducible exact mA_sI_sA | with_reducible exact mA_sI3_sA | rfl) (by first | with_reducible exact SC_A0 | with_reducible exact SC_A1 hS | with_reducible exact SC_A5 hS | with_reducible exact SC_A6 hS | with_reducible exact SC_A10 hS | with_reducible exact SC_A11 hS | with_reducible exact SC_A12 hS | with_reducible exact sA_sA | with_reducible exact sA_sI_sA | with_reducible exact sA_sI3_sA | rfl) rfl ?_
            refine x_mem (M2 := SC M m ad g (va_up sa 5 (va_up (va_up (sa 5) (2 * rm) (irK (byG (mA M (ad 4)) t p))) (2 * rm + 1) (irV (mA M (ad 4)) t p n))) (va_up (va_up sf (fc 9 10) (nI (p + 1))) (fc 9 10) (nI (p + 1 + n)))) (by rw [va_up_self, up_up]) ?_
            refine x_aload_n (n' := 172) dX9_isRun_171 rfl rfl rfl ?_
            refine x_dup (n' := 173) dX9_isRun_172 rfl rfl ?_
            refine x_getI (n' := 176) dX9_isRun_173 (by repeat' (first | with_reducible exact km | with_reducible apply mK_A | with_reducible apply mK_I | with_reducible apply mK_L | with_reducible apply mK_R | with_reducible apply mK_O | with_reducible apply mK_S)) ffX9_145_9 rfl rfl ?_
            refine x_topv (y := nI rm) (mI_SC_12.trans (by rw [va_up_ne _ _ (by decide), va_up_ne _ _ (by decide)]; exact hr)) ?_
            refine x_iconst (n' := 177) (v := 1) dX9_isRun_176 (by decide) rfl ?_
            refine x_iadd (n' := 178) dX9_isRun_177 rfl ?_
            rw [nI_1]
            refine x_putI (n' := 181) dX9_isRun_178 (by repeat' (first | with_reducible exact km | with_reducible apply mK_A | with_reducible apply mK_I | with_reducible apply mK_L | with_reducible apply mK_R | with_reducible apply mK_O | with_reducible apply mK_S)) ffX9_145_9 rfl (⟨rfl, rfl⟩) rfl rfl ?_
            refine x_mem (M2 := SC M m ad g (va_up sa 5 (va_up (va_up (sa 5) (2 * rm) (irK (byG (mA M (ad 4)) t p))) (2 * rm + 1) (irV (mA M (ad 4)) t p n))) (va_up (va_up (va_up sf (fc 9 10) (nI (p + 1))) (fc 9 10) (nI (p + 1 + n))) (fc 9 12) (nI (rm + 1)))) SC_I12 ?_
            refine x_iconst (n' := 182) (v := 1) dX9_isRun_181 (by decide) rfl ?_
            exact x_zret dX9_isRun_182 hret (by first | exact k_zn (bi_01 _) | exact k_zn (Or.inl rfl) | exact k_zn (Or.inr rfl)) (by repeat' (first | with_reducible exact kE.rf | with_reducible exact kE_SS | with_reducible exact kE_SSI | with_reducible apply kE_A | with_reducible apply kE_I | with_reducible apply kE_L | with_reducible apply kE_R | with_reducible apply kE_O | with_reducible apply kE_S)) (by rw [skR_c hC (by rw [hN]; exact fun q => q.elim N106 C110), hN]; exact ⟨rfl, _, rfl, by rw [va_up_ne _ _ (by decide), va_up_self], va_up_self _ _ _⟩)
          · have C110 := c110_3
            refine x_iconst (n' := 114) (v := 0) dX9_isRun_113 (by decide) rfl ?_
            exact x_zret dX9_isRun_114 hret (by first | exact k_zn (bi_01 _) | exact k_zn (Or.inl rfl) | exact k_zn (Or.inr rfl)) (by repeat' (first | with_reducible exact kE.rf | with_reducible exact kE_SS | with_reducible exact kE_SSI | with_reducible apply kE_A | with_reducible apply kE_I | with_reducible apply kE_L | with_reducible apply kE_R | with_reducible apply kE_O | with_reducible apply kE_S)) (by rw [skR_b hC (by rw [hN]; first | exact Or.inl N106 | exact Or.inr C110)]; exact ⟨rfl, _, by rw [up_eta], va_up_self _ _ _, by rw [va_up_ne _ _ (by decide)]; exact hr⟩)
      · have C54 := c54_1
        have N54 := (not_congr (cv_le (by repeat' (first | with_reducible exact nl_0 | with_reducible exact nl_1 | with_reducible exact nl_2 | with_reducible exact nl_10 | with_reducible exact nl_20 | with_reducible exact nl_48 | with_reducible exact nl_99 | with_reducible exact nl_102 | with_reducible exact nl_115 | with_reducible exact rfl | apply i_add | apply i_mul)) (by repeat' (first | with_reducible exact nl_0 | with_reducible exact nl_1 | with_reducible exact nl_2 | with_reducible exact nl_10 | with_reducible exact nl_20 | with_reducible exact nl_48 | with_reducible exact nl_99 | with_reducible exact nl_102 | with_reducible exact nl_115 | with_reducible exact rfl | apply i_add | apply i_mul)) (by omega) (by omega))).mp c54_1
        refine x_aload_n (n' := 58) dX9_isRun_57 rfl rfl rfl ?_
        refine x_aload_n (n' := 59) dX9_isRun_58 rfl rfl rfl ?_
        refine x_getI (n' := 62) dX9_isRun_59 (by repeat' (first | with_reducible exact km | with_reducible apply mK_A | with_reducible apply mK_I | with_reducible apply mK_L | with_reducible apply mK_R | with_reducible apply mK_O | with_reducible apply mK_S)) ffX9_139_9 rfl rfl ?_
        refine x_topv (mI_SC_10.trans (va_up_self _ _ _)) ?_
        refine x_iload_n (n' := 63) dX9_isRun_62 rfl rfl rfl ?_
        refine x_iadd (n' := 64) dX9_isRun_63 rfl ?_
        rw [nI_add]
        refine x_callV (n' := 67) (n := 1) (K := 9) (c_X9_byteAt l G _ m ad (by repeat' (first | with_reducible exact hS | with_reducible apply MS.sA | with_reducible apply MS.sI | with_reducible apply MS.sL | with_reducible apply MS.sc)) (p + 1 + n) t (mI_SC_9.trans ht) hb (by omega)) dX9_isRun_64 (by repeat' (first | with_reducible exact km | with_reducible apply mK_A | with_reducible apply mK_I | with_reducible apply mK_L | with_reducible apply mK_R | with_reducible apply mK_O | with_reducible apply mK_S)) rfl (lw_V q3340 q3342 qs50 q109 q3343) (by decide +kernel) ⟨(Nat.le_of_ble_eq_true rfl), (Nat.le_of_ble_eq_true rfl)⟩ rfl rfl (Nat.le_of_ble_eq_true rfl) (by first | exact Nat.le_of_ble_eq_true rfl | omega) (by first | exact Nat.le_of_ble_eq_true rfl | omega) rfl (fun v_6 M_7 h_9 hE_8 => ?_)
        obtain ⟨rfl, hMs⟩ := h_9
        have hMs := hMs.symm
        subst hMs
        rw [mA_SCn hS 4 (by decide) (by decide)]
        refine x_i2l (n' := 68) dX9_isRun_67 rfl rfl ?_
        refine x_ldc2 (n' := 71) q3344 dX9_isRun_68 rfl ?_
        refine x_ldc2 (n' := 74) q3345 dX9_isRun_71 rfl ?_
        refine x_callS (n' := 77) (n := 3) (c_X9_in l G _ _ _ _) dX9_isRun_74 (lw_S q3321 q3322 q109 q3323) (by decide +kernel) ⟨(Nat.le_of_ble_eq_true rfl), (Nat.le_of_ble_eq_true rfl)⟩ rfl rfl (Nat.le_of_ble_eq_true rfl) (by first | exact Nat.le_of_ble_eq_true rfl | omega) (by first | exact Nat.le_of_ble_eq_true rfl | omega) rfl (fun v_10 M_11 h_13 hE_12 => ?_)
        obtain ⟨rfl, hMs⟩ := h_13
        have hMs := hMs.symm
        subst hMs
        rw [k_in3 (x := 48) (y := 57) (by decide) (by decide)]
        refine x_if_eq (n' := 80) (tgt := 105) dX9_isRun_77 (by decide) rfl (fun c77_14 => ?_) (fun c77_14 => ?_)
        · have C77 := c77_14
          have hN : irN (mA M (ad 4)) t p = n := by first | exact irN_e h2 h3 (Or.inl (by omega)) | exact irN_e h2 h3 (Or.inr (bi_0.mp C77))
          refine x_iload_n (n' := 106) dX9_isRun_105 rfl rfl rfl ?_
          refine x_if_eq (n' := 109) (tgt := 113) dX9_isRun_106 (by decide) rfl (fun c106_15 => ?_) (fun c106_15 => ?_)
          · have C106 := c106_15
            have N106 := (cv_eq (by repeat' (first | with_reducible exact nl_0 | with_reducible exact nl_1 | with_reducible exact nl_2 | with_reducible exact nl_10 | with_reducible exact nl_20 | with_reducible exact nl_48 | with_reducible exact nl_99 | with_reducible exact nl_102 | with_reducible exact nl_115 | with_reducible exact rfl | apply i_add | apply i_mul)) (by repeat' (first | with_reducible exact nl_0 | with_reducible exact nl_1 | with_reducible exact nl_2 | with_reducible exact nl_10 | with_reducible exact nl_20 | with_reducible exact nl_48 | with_reducible exact nl_99 | with_reducible exact nl_102 | with_reducible exact nl_115 | with_reducible exact rfl | apply i_add | apply i_mul)) (by omega) (by omega)).mp c106_15
            refine x_iconst (n' := 114) (v := 0) dX9_isRun_113 (by decide) rfl ?_
            exact x_zret dX9_isRun_114 hret (by first | exact k_zn (bi_01 _) | exact k_zn (Or.inl rfl) | exact k_zn (Or.inr rfl)) (by repeat' (first | with_reducible exact kE.rf | with_reducible exact kE_SS | with_reducible exact kE_SSI | with_reducible apply kE_A | with_reducible apply kE_I | with_reducible apply kE_L | with_reducible apply kE_R | with_reducible apply kE_O | with_reducible apply kE_S)) (by rw [skR_b hC (by rw [hN]; first | exact Or.inl N106 | exact Or.inr C110)]; exact ⟨rfl, _, by rw [up_eta], va_up_self _ _ _, by rw [va_up_ne _ _ (by decide)]; exact hr⟩)
          · have C106 := c106_15
            have N106 := (not_congr (cv_eq (by repeat' (first | with_reducible exact nl_0 | with_reducible exact nl_1 | with_reducible exact nl_2 | with_reducible exact nl_10 | with_reducible exact nl_20 | with_reducible exact nl_48 | with_reducible exact nl_99 | with_reducible exact nl_102 | with_reducible exact nl_115 | with_reducible exact rfl | apply i_add | apply i_mul)) (by repeat' (first | with_reducible exact nl_0 | with_reducible exact nl_1 | with_reducible exact nl_2 | with_reducible exact nl_10 | with_reducible exact nl_20 | with_reducible exact nl_48 | with_reducible exact nl_99 | with_reducible exact nl_102 | with_reducible exact nl_115 | with_reducible exact rfl | apply i_add | apply i_mul)) (by omega) (by omega))).mp c106_15
            refine x_iload_n (n' := 110) dX9_isRun_109 rfl rfl rfl ?_
            refine x_if_ne (n' := 113) (tgt := 115) dX9_isRun_110 (by decide) rfl (fun c110_16 => ?_) (fun c110_16 => ?_)
            · have C110 := c110_16
              refine x_aload_n (n' := 116) dX9_isRun_115 rfl rfl rfl ?_
              refine x_dup (n' := 117) dX9_isRun_116 rfl rfl ?_
              refine x_getI (n' := 120) dX9_isRun_117 (by repeat' (first | with_reducible exact km | with_reducible apply mK_A | with_reducible apply mK_I | with_reducible apply mK_L | with_reducible apply mK_R | with_reducible apply mK_O | with_reducible apply mK_S)) ffX9_139_9 rfl rfl ?_
              refine x_topv (mI_SC_10.trans (va_up_self _ _ _)) ?_
              refine x_iload_n (n' := 121) dX9_isRun_120 rfl rfl rfl ?_
              refine x_iadd (n' := 122) dX9_isRun_121 rfl ?_
              rw [nI_add]
              refine x_putI (n' := 125) dX9_isRun_122 (by repeat' (first | with_reducible exact km | with_reducible apply mK_A | with_reducible apply mK_I | with_reducible apply mK_L | with_reducible apply mK_R | with_reducible apply mK_O | with_reducible apply mK_S)) ffX9_139_9 rfl (⟨rfl, rfl⟩) rfl rfl ?_
              refine x_mem (M2 := SC M m ad g sa (va_up (va_up sf (fc 9 10) (nI (p + 1))) (fc 9 10) (nI (p + 1 + n)))) SC_I10 ?_
              refine x_aload_n (n' := 126) dX9_isRun_125 rfl rfl rfl ?_
              refine x_getRs (n' := 129) (b := (ad 5)) dX9_isRun_126 (by repeat' (first | with_reducible exact km | with_reducible apply mK_A | with_reducible apply mK_I | with_reducible apply mK_L | with_reducible apply mK_R | with_reducible apply mK_O | with_reducible apply mK_S)) ffX9_25_9 rfl (by repeat' (first | with_reducible exact hr_read | with_reducible apply mR_A | with_reducible apply mR_I | with_reducible apply mR_L | with_reducible apply mR_S)) rfl ?_
              refine x_iconst (n' := 130) (v := 2) dX9_isRun_129 (by decide) rfl ?_
              refine x_aload_n (n' := 131) dX9_isRun_130 rfl rfl rfl ?_
              refine x_getI (n' := 134) dX9_isRun_131 (by repeat' (first | with_reducible exact km | with_reducible apply mK_A | with_reducible apply mK_I | with_reducible apply mK_L | with_reducible apply mK_R | with_reducible apply mK_O | with_reducible apply mK_S)) ffX9_145_9 rfl rfl ?_
              refine x_topv (y := nI rm) (mI_SC_12.trans (by rw [va_up_ne _ _ (by decide), va_up_ne _ _ (by decide)]; exact hr)) ?_
              refine x_imul (n' := 135) dX9_isRun_134 rfl ?_
              refine x_iload_n (n' := 136) dX9_isRun_135 rfl rfl rfl ?_
              refine x_bipush (n' := 138) (v := 99) dX9_isRun_136 (by decide) rfl ?_
              refine x_forkN (J := 156) (x_icmp_ne (n' := 141) (tgt := 145) dX9_isRun_138 (by decide) rfl) (v1 := ?v1_f138_17) (v2 := ?v2_f138_17) (fun c_f138_17 j_f138_17 => ?b1_f138_17) (fun c_f138_17 j_f138_17 => ?b2_f138_17) ?k_f138_17
              case b1_f138_17 =>
                refine x_iload_n (n' := 146) dX9_isRun_145 rfl rfl rfl ?_
                refine x_bipush (n' := 148) (v := 102) dX9_isRun_146 (by decide) rfl ?_
                refine x_forkN (J := 156) (x_icmp_ne (n' := 151) (tgt := 155) dX9_isRun_148 (by decide) rfl) (v1 := ?v1_f148_18) (v2 := ?v2_f148_18) (fun c_f148_18 j_f148_18 => ?b1_f148_18) (fun c_f148_18 j_f148_18 => ?b2_f148_18) ?k_f148_18
                case b1_f148_18 =>
                  refine x_iconst (n' := 156) (v := 2) dX9_isRun_155 (by decide) rfl ?_
                  exact j_f148_18
                case b2_f148_18 =>
                  refine x_iconst (n' := 152) (v := 1) dX9_isRun_151 (by decide) rfl ?_
                  refine x_goto (tgt := 156) dX9_isRun_152 (by decide) ?_
                  exact j_f148_18
                exact j_f138_17
              case b2_f138_17 =>
                refine x_iconst (n' := 142) (v := 0) dX9_isRun_141 (by decide) rfl ?_
                refine x_goto (tgt := 156) dX9_isRun_142 (by decide) ?_
                exact j_f138_17
              refine x_topv (y := irK (byG (mA M (ad 4)) t p)) (by exact rfl) ?_
              refine x_iastk (n' := 157) (N := 40) dX9_isRun_156 (by repeat' (first | with_reducible exact kk_read | with_reducible apply mK_A | with_reducible apply mK_I | with_reducible apply mK_L | with_reducible apply mK_R | with_reducible apply mK_O | with_reducible apply mK_S)) (by repeat' (first | with_reducible exact hn_read | with_reducible apply mN_A | with_reducible apply mN_I | with_reducible apply mN_L | with_reducible apply mN_R | with_reducible apply mN_O | with_reducible apply mN_S)) (by repeat' (first | with_reducible exact nl_0 | with_reducible exact nl_1 | with_reducible exact nl_2 | with_reducible exact nl_10 | with_reducible exact nl_20 | with_reducible exact nl_48 | with_reducible exact nl_99 | with_reducible exact nl_102 | with_reducible exact nl_115 | with_reducible exact rfl | apply i_add | apply i_mul)) (by omega) (by decide) (by first | with_reducible exact mA_sA | with_reducible exact mA_SC0 | with_reducible exact mA_SC1 hS | with_reducible exact mA_SC5 hS | with_reducible exact mA_SC6 hS | with_reducible exact mA_SC10 hS | with_reducible exact mA_SC11 hS | with_reducible exact mA_SC12 hS | with_reducible exact mA_sI_sA | with_reducible exact mA_sI3_sA | rfl) (by first | with_reducible exact SC_A0 | with_reducible exact SC_A1 hS | with_reducible exact SC_A5 hS | with_reducible exact SC_A6 hS | with_reducible exact SC_A10 hS | with_reducible exact SC_A11 hS | with_reducible exact SC_A12 hS | with_reducible exact sA_sA | with_reducible exact sA_sI_sA | with_reducible exact sA_sI3_sA | rfl) rfl ?_
              refine x_aload_n (n' := 158) dX9_isRun_157 rfl rfl rfl ?_
              refine x_getRs (n' := 161) (b := (ad 5)) dX9_isRun_158 (by repeat' (first | with_reducible exact km | with_reducible apply mK_A | with_reducible apply mK_I | with_reducible apply mK_L | with_reducible apply mK_R | with_reducible apply mK_O | with_reducible apply mK_S)) ffX9_25_9 rfl (by repeat' (first | with_reducible exact hr_read | with_reducible apply mR_A | with_reducible apply mR_I | with_reducible apply mR_L | with_reducible apply mR_S)) rfl ?_
              refine x_iconst (n' := 162) (v := 2) dX9_isRun_161 (by decide) rfl ?_
              refine x_aload_n (n' := 163) dX9_isRun_162 rfl rfl rfl ?_
              refine x_getI (n' := 166) dX9_isRun_163 (by repeat' (first | with_reducible exact km | with_reducible apply mK_A | with_reducible apply mK_I | with_reducible apply mK_L | with_reducible apply mK_R | with_reducible apply mK_O | with_reducible apply mK_S)) ffX9_145_9 rfl rfl ?_
              refine x_topv (y := nI rm) (mI_SC_12.trans (by rw [va_up_ne _ _ (by decide), va_up_ne _ _ (by decide)]; exact hr)) ?_
              refine x_imul (n' := 167) dX9_isRun_166 rfl ?_
              refine x_iconst (n' := 168) (v := 1) dX9_isRun_167 (by decide) rfl ?_
              refine x_iadd (n' := 169) dX9_isRun_168 rfl ?_
              refine x_iload_n (n' := 170) dX9_isRun_169 rfl rfl rfl ?_
              refine x_iastk (n' := 171) (N := 40) dX9_isRun_170 (by repeat' (first | with_reducible exact kk_read | with_reducible apply mK_A | with_reducible apply mK_I | with_reducible apply mK_L | with_reducible apply mK_R | with_reducible apply mK_O | with_reducible apply mK_S)) (by repeat' (first | with_reducible exact hn_read | with_reducible apply mN_A | with_reducible apply mN_I | with_reducible apply mN_L | with_reducible apply mN_R | with_reducible apply mN_O | with_reducible apply mN_S)) (by repeat' (first | with_reducible exact nl_0 | with_reducible exact nl_1 | with_reducible exact nl_2 | with_reducible exact nl_10 | with_reducible exact nl_20 | with_reducible exact nl_48 | with_reducible exact nl_99 | with_reducible exact nl_102 | with_reducible exact nl_115 | with_reducible exact rfl | apply i_add | apply i_mul)) (by omega) (by decide) (by first | with_reducible exact mA_sA | with_reducible exact mA_SC0 | with_reducible exact mA_SC1 hS | with_reducible exact mA_SC5 hS | with_reducible exact mA_SC6 hS | with_reducible exact mA_SC10 hS | with_reducible exact mA_SC11 hS | with_reducible exact mA_SC12 hS | with_reducible exact mA_sI_sA | with_reducible exact mA_sI3_sA | rfl) (by first | with_reducible exact SC_A0 | with_reducible exact SC_A1 hS | with_reducible exact SC_A5 hS | with_reducible exact SC_A6 hS | with_reducible exact SC_A10 hS | with_reducible exact SC_A11 hS | with_reducible exact SC_A12 hS | with_reducible exact sA_sA | with_reducible exact sA_sI_sA | with_reducible exact sA_sI3_sA | rfl) rfl ?_
              refine x_mem (M2 := SC M m ad g (va_up sa 5 (va_up (va_up (sa 5) (2 * rm) (irK (byG (mA M (ad 4)) t p))) (2 * rm + 1) (irV (mA M (ad 4)) t p n))) (va_up (va_up sf (fc 9 10) (nI (p + 1))) (fc 9 10) (nI (p + 1 + n)))) (by rw [va_up_self, up_up]) ?_
              refine x_aload_n (n' := 172) dX9_isRun_171 rfl rfl rfl ?_
              refine x_dup (n' := 173) dX9_isRun_172 rfl rfl ?_
              refine x_getI (n' := 176) dX9_isRun_173 (by repeat' (first | with_reducible exact km | with_reducible apply mK_A | with_reducible apply mK_I | with_reducible apply mK_L | with_reducible apply mK_R | with_reducible apply mK_O | with_reducible apply mK_S)) ffX9_145_9 rfl rfl ?_
              refine x_topv (y := nI rm) (mI_SC_12.trans (by rw [va_up_ne _ _ (by decide), va_up_ne _ _ (by decide)]; exact hr)) ?_
              refine x_iconst (n' := 177) (v := 1) dX9_isRun_176 (by decide) rfl ?_
              refine x_iadd (n' := 178) dX9_isRun_177 rfl ?_
              rw [nI_1]
              refine x_putI (n' := 181) dX9_isRun_178 (by repeat' (first | with_reducible exact km | with_reducible apply mK_A | with_reducible apply mK_I | with_reducible apply mK_L | with_reducible apply mK_R | with_reducible apply mK_O | with_reducible apply mK_S)) ffX9_145_9 rfl (⟨rfl, rfl⟩) rfl rfl ?_
              refine x_mem (M2 := SC M m ad g (va_up sa 5 (va_up (va_up (sa 5) (2 * rm) (irK (byG (mA M (ad 4)) t p))) (2 * rm + 1) (irV (mA M (ad 4)) t p n))) (va_up (va_up (va_up sf (fc 9 10) (nI (p + 1))) (fc 9 10) (nI (p + 1 + n))) (fc 9 12) (nI (rm + 1)))) SC_I12 ?_
              refine x_iconst (n' := 182) (v := 1) dX9_isRun_181 (by decide) rfl ?_
              exact x_zret dX9_isRun_182 hret (by first | exact k_zn (bi_01 _) | exact k_zn (Or.inl rfl) | exact k_zn (Or.inr rfl)) (by repeat' (first | with_reducible exact kE.rf | with_reducible exact kE_SS | with_reducible exact kE_SSI | with_reducible apply kE_A | with_reducible apply kE_I | with_reducible apply kE_L | with_reducible apply kE_R | with_reducible apply kE_O | with_reducible apply kE_S)) (by rw [skR_c hC (by rw [hN]; exact fun q => q.elim N106 C110), hN]; exact ⟨rfl, _, rfl, by rw [va_up_ne _ _ (by decide), va_up_self], va_up_self _ _ _⟩)
            · have C110 := c110_16
              refine x_iconst (n' := 114) (v := 0) dX9_isRun_113 (by decide) rfl ?_
              exact x_zret dX9_isRun_114 hret (by first | exact k_zn (bi_01 _) | exact k_zn (Or.inl rfl) | exact k_zn (Or.inr rfl)) (by repeat' (first | with_reducible exact kE.rf | with_reducible exact kE_SS | with_reducible exact kE_SSI | with_reducible apply kE_A | with_reducible apply kE_I | with_reducible apply kE_L | with_reducible apply kE_R | with_reducible apply kE_O | with_reducible apply kE_S)) (by rw [skR_b hC (by rw [hN]; first | exact Or.inl N106 | exact Or.inr C110)]; exact ⟨rfl, _, by rw [up_eta], va_up_self _ _ _, by rw [va_up_ne _ _ (by decide)]; exact hr⟩)
        · have C77 := c77_14
          refine x_bipush (n' := 82) (v := 10) dX9_isRun_80 (by decide) rfl ?_
          refine x_iload_n (n' := 83) dX9_isRun_82 rfl rfl rfl ?_
          refine x_imul (n' := 84) dX9_isRun_83 rfl ?_
          refine x_aload_n (n' := 85) dX9_isRun_84 rfl rfl rfl ?_
          refine x_aload_n (n' := 86) dX9_isRun_85 rfl rfl rfl ?_
          refine x_getI (n' := 89) dX9_isRun_86 (by repeat' (first | with_reducible exact km | with_reducible apply mK_A | with_reducible apply mK_I | with_reducible apply mK_L | with_reducible apply mK_R | with_reducible apply mK_O | with_reducible apply mK_S)) ffX9_139_9 rfl rfl ?_
          refine x_topv (mI_SC_10.trans (va_up_self _ _ _)) ?_
          refine x_iload_n (n' := 90) dX9_isRun_89 rfl rfl rfl ?_
          refine x_iadd (n' := 91) dX9_isRun_90 rfl ?_
          rw [nI_add]
          refine x_callV (n' := 94) (n := 1) (K := 9) (c_X9_byteAt l G _ m ad (by repeat' (first | with_reducible exact hS | with_reducible apply MS.sA | with_reducible apply MS.sI | with_reducible apply MS.sL | with_reducible apply MS.sc)) (p + 1 + n) t (mI_SC_9.trans ht) hb (by omega)) dX9_isRun_91 (by repeat' (first | with_reducible exact km | with_reducible apply mK_A | with_reducible apply mK_I | with_reducible apply mK_L | with_reducible apply mK_R | with_reducible apply mK_O | with_reducible apply mK_S)) rfl (lw_V q3340 q3342 qs50 q109 q3343) (by decide +kernel) ⟨(Nat.le_of_ble_eq_true rfl), (Nat.le_of_ble_eq_true rfl)⟩ rfl rfl (Nat.le_of_ble_eq_true rfl) (by first | exact Nat.le_of_ble_eq_true rfl | omega) (by first | exact Nat.le_of_ble_eq_true rfl | omega) rfl (fun v_19 M_20 h_22 hE_21 => ?_)
          obtain ⟨rfl, hMs⟩ := h_22
          have hMs := hMs.symm
          subst hMs
          rw [mA_SCn hS 4 (by decide) (by decide)]
          refine x_iadd (n' := 95) dX9_isRun_94 rfl ?_
          refine x_bipush (n' := 97) (v := 48) dX9_isRun_95 (by decide) rfl ?_
          refine x_isub (n' := 98) dX9_isRun_97 rfl ?_
          refine x_istore_n (n' := 99) dX9_isRun_98 rfl (Nat.le_of_ble_eq_true rfl) rfl (by dsimp only [List.set] <;> rfl) rfl ?_
          refine x_iinc (n' := 102) dX9_isRun_99 rfl (by first | exact nI_inc _ | exact nI_decp (by omega) | exact i_inc _ | rfl) (Nat.le_of_ble_eq_true rfl) rfl (by dsimp only [List.set] <;> rfl) rfl ?_
          refine x_goto (tgt := 52) dX9_isRun_102 (by decide) ?_
          exact x_drop (ih (n + 1) (by omega) (by omega) (fun j q => by rcases Nat.lt_or_ge j n with w | w <;> first | exact h3 j w | exact (show n = j by omega) ▸ bi_n0 C77) hC) ⟨rfl, ⟨rfl, ⟨rfl, ⟨rfl, trivial⟩⟩⟩⟩
  refine x_aload_n (n' := 1) dX9_isRun_0 rfl rfl rfl ?_
  refine x_aload_n (n' := 2) dX9_isRun_1 rfl rfl rfl ?_
  refine x_getI (n' := 5) dX9_isRun_2 (by repeat' (first | with_reducible exact km | with_reducible apply mK_A | with_reducible apply mK_I | with_reducible apply mK_L | with_reducible apply mK_R | with_reducible apply mK_O | with_reducible apply mK_S)) ffX9_139_9 rfl rfl ?_
  refine x_topv (mI_SC_10.trans hp) ?_
  refine x_callV (n' := 8) (n := 1) (K := 9) (c_X9_byteAt l G _ m ad (by repeat' (first | with_reducible exact hS | with_reducible apply MS.sA | with_reducible apply MS.sI | with_reducible apply MS.sL | with_reducible apply MS.sc)) p t (mI_SC_9.trans ht) hb (by omega)) dX9_isRun_5 (by repeat' (first | with_reducible exact km | with_reducible apply mK_A | with_reducible apply mK_I | with_reducible apply mK_L | with_reducible apply mK_R | with_reducible apply mK_O | with_reducible apply mK_S)) rfl (lw_V q3340 q3342 qs50 q109 q3343) (by decide +kernel) ⟨(Nat.le_of_ble_eq_true rfl), (Nat.le_of_ble_eq_true rfl)⟩ rfl rfl (Nat.le_of_ble_eq_true rfl) (by first | exact Nat.le_of_ble_eq_true rfl | omega) (by first | exact Nat.le_of_ble_eq_true rfl | omega) rfl (fun v_23 M_24 h_26 hE_25 => ?_)
  obtain ⟨rfl, hMs⟩ := h_26
  have hMs := hMs.symm
  subst hMs
  rw [mA_SCn hS 4 (by decide) (by decide)]
  refine x_istore_n (n' := 9) dX9_isRun_8 rfl (Nat.le_of_ble_eq_true rfl) rfl (by dsimp only [List.set] <;> rfl) rfl ?_
  refine x_aload_n (n' := 10) dX9_isRun_9 rfl rfl rfl ?_
  refine x_getI (n' := 13) dX9_isRun_10 (by repeat' (first | with_reducible exact km | with_reducible apply mK_A | with_reducible apply mK_I | with_reducible apply mK_L | with_reducible apply mK_R | with_reducible apply mK_O | with_reducible apply mK_S)) ffX9_145_9 rfl rfl ?_
  refine x_topv (mI_SC_12.trans hr) ?_
  refine x_bipush (n' := 15) (v := 20) dX9_isRun_13 (by decide) rfl ?_
  refine x_icmp_eq (n' := 18) (tgt := 36) dX9_isRun_15 (by decide) rfl (fun c15_27 => ?_) (fun c15_27 => ?_)
  · have C15 := c15_27
    have N15 := (cv_eq (by repeat' (first | with_reducible exact nl_0 | with_reducible exact nl_1 | with_reducible exact nl_2 | with_reducible exact nl_10 | with_reducible exact nl_20 | with_reducible exact nl_48 | with_reducible exact nl_99 | with_reducible exact nl_102 | with_reducible exact nl_115 | with_reducible exact rfl | apply i_add | apply i_mul)) (by repeat' (first | with_reducible exact nl_0 | with_reducible exact nl_1 | with_reducible exact nl_2 | with_reducible exact nl_10 | with_reducible exact nl_20 | with_reducible exact nl_48 | with_reducible exact nl_99 | with_reducible exact nl_102 | with_reducible exact nl_115 | with_reducible exact rfl | apply i_add | apply i_mul)) (by omega) (by omega)).mp c15_27
    refine x_iconst (n' := 37) (v := 0) dX9_isRun_36 (by decide) rfl ?_
    exact x_zret dX9_isRun_37 hret (by first | exact k_zn (bi_01 _) | exact k_zn (Or.inl rfl) | exact k_zn (Or.inr rfl)) (by repeat' (first | with_reducible exact kE.rf | with_reducible exact kE_SS | with_reducible exact kE_SSI | with_reducible apply kE_A | with_reducible apply kE_I | with_reducible apply kE_L | with_reducible apply kE_R | with_reducible apply kE_O | with_reducible apply kE_S)) (by rw [skR_a (by first | exact fun q => q.1 N15 | exact fun q => q.2.elim C21 (fun q => q.elim C27 C33))]; exact ⟨rfl, sf, by rw [up_eta], hp, hr⟩)
  · have C15 := c15_27
    have N15 := (not_congr (cv_eq (by repeat' (first | with_reducible exact nl_0 | with_reducible exact nl_1 | with_reducible exact nl_2 | with_reducible exact nl_10 | with_reducible exact nl_20 | with_reducible exact nl_48 | with_reducible exact nl_99 | with_reducible exact nl_102 | with_reducible exact nl_115 | with_reducible exact rfl | apply i_add | apply i_mul)) (by repeat' (first | with_reducible exact nl_0 | with_reducible exact nl_1 | with_reducible exact nl_2 | with_reducible exact nl_10 | with_reducible exact nl_20 | with_reducible exact nl_48 | with_reducible exact nl_99 | with_reducible exact nl_102 | with_reducible exact nl_115 | with_reducible exact rfl | apply i_add | apply i_mul)) (by omega) (by omega))).mp c15_27
    refine x_iload_n (n' := 19) dX9_isRun_18 rfl rfl rfl ?_
    refine x_bipush (n' := 21) (v := 99) dX9_isRun_19 (by decide) rfl ?_
    refine x_icmp_eq (n' := 24) (tgt := 38) dX9_isRun_21 (by decide) rfl (fun c21_28 => ?_) (fun c21_28 => ?_)
    · have C21 := c21_28
      refine x_aload_n (n' := 39) dX9_isRun_38 rfl rfl rfl ?_
      refine x_dup (n' := 40) dX9_isRun_39 rfl rfl ?_
      refine x_getI (n' := 43) dX9_isRun_40 (by repeat' (first | with_reducible exact km | with_reducible apply mK_A | with_reducible apply mK_I | with_reducible apply mK_L | with_reducible apply mK_R | with_reducible apply mK_O | with_reducible apply mK_S)) ffX9_139_9 rfl rfl ?_
      refine x_topv (mI_SC_10.trans hp) ?_
      refine x_iconst (n' := 44) (v := 1) dX9_isRun_43 (by decide) rfl ?_
      refine x_iadd (n' := 45) dX9_isRun_44 rfl ?_
      rw [nI_1]
      refine x_putI (n' := 48) dX9_isRun_45 (by repeat' (first | with_reducible exact km | with_reducible apply mK_A | with_reducible apply mK_I | with_reducible apply mK_L | with_reducible apply mK_R | with_reducible apply mK_O | with_reducible apply mK_S)) ffX9_139_9 rfl (⟨rfl, rfl⟩) rfl rfl ?_
      refine x_mem (M2 := SC M m ad g sa (va_up sf (fc 9 10) (nI (p + 1)))) SC_I10 ?_
      refine x_iconst (n' := 49) (v := 0) dX9_isRun_48 (by decide) rfl ?_
      refine x_istore_n (n' := 50) dX9_isRun_49 rfl (Nat.le_of_ble_eq_true rfl) rfl (by dsimp only [List.set] <;> rfl) rfl ?_
      refine x_iconst (n' := 51) (v := 0) dX9_isRun_50 (by decide) rfl ?_
      refine x_istore_n (n' := 52) dX9_isRun_51 rfl (Nat.le_of_ble_eq_true rfl) rfl (by dsimp only [List.set] <;> rfl) rfl ?_
      exact x_drop (cut52 3 0 (by omega) (by omega) (fun j q => absurd q (by omega)) ⟨N15, by first | exact Or.inl C21 | exact Or.inr (Or.inl C27) | exact Or.inr (Or.inr C33)⟩) ⟨rfl, ⟨rfl, ⟨rfl, ⟨rfl, trivial⟩⟩⟩⟩
    · have C21 := c21_28
      refine x_iload_n (n' := 25) dX9_isRun_24 rfl rfl rfl ?_
      refine x_bipush (n' := 27) (v := 102) dX9_isRun_25 (by decide) rfl ?_
      refine x_icmp_eq (n' := 30) (tgt := 38) dX9_isRun_27 (by decide) rfl (fun c27_29 => ?_) (fun c27_29 => ?_)
      · have C27 := c27_29
        refine x_aload_n (n' := 39) dX9_isRun_38 rfl rfl rfl ?_
        refine x_dup (n' := 40) dX9_isRun_39 rfl rfl ?_
        refine x_getI (n' := 43) dX9_isRun_40 (by repeat' (first | with_reducible exact km | with_reducible apply mK_A | with_reducible apply mK_I | with_reducible apply mK_L | with_reducible apply mK_R | with_reducible apply mK_O | with_reducible apply mK_S)) ffX9_139_9 rfl rfl ?_
        refine x_topv (mI_SC_10.trans hp) ?_
        refine x_iconst (n' := 44) (v := 1) dX9_isRun_43 (by decide) rfl ?_
        refine x_iadd (n' := 45) dX9_isRun_44 rfl ?_
        rw [nI_1]
        refine x_putI (n' := 48) dX9_isRun_45 (by repeat' (first | with_reducible exact km | with_reducible apply mK_A | with_reducible apply mK_I | with_reducible apply mK_L | with_reducible apply mK_R | with_reducible apply mK_O | with_reducible apply mK_S)) ffX9_139_9 rfl (⟨rfl, rfl⟩) rfl rfl ?_
        refine x_mem (M2 := SC M m ad g sa (va_up sf (fc 9 10) (nI (p + 1)))) SC_I10 ?_
        refine x_iconst (n' := 49) (v := 0) dX9_isRun_48 (by decide) rfl ?_
        refine x_istore_n (n' := 50) dX9_isRun_49 rfl (Nat.le_of_ble_eq_true rfl) rfl (by dsimp only [List.set] <;> rfl) rfl ?_
        refine x_iconst (n' := 51) (v := 0) dX9_isRun_50 (by decide) rfl ?_
        refine x_istore_n (n' := 52) dX9_isRun_51 rfl (Nat.le_of_ble_eq_true rfl) rfl (by dsimp only [List.set] <;> rfl) rfl ?_
        exact x_drop (cut52 3 0 (by omega) (by omega) (fun j q => absurd q (by omega)) ⟨N15, by first | exact Or.inl C21 | exact Or.inr (Or.inl C27) | exact Or.inr (Or.inr C33)⟩) ⟨rfl, ⟨rfl, ⟨rfl, ⟨rfl, trivial⟩⟩⟩⟩
      · have C27 := c27_29
        refine x_iload_n (n' := 31) dX9_isRun_30 rfl rfl rfl ?_
        refine x_bipush (n' := 33) (v := 115) dX9_isRun_31 (by decide) rfl ?_
        refine x_icmp_eq (n' := 36) (tgt := 38) dX9_isRun_33 (by decide) rfl (fun c33_30 => ?_) (fun c33_30 => ?_)
        · have C33 := c33_30
          refine x_aload_n (n' := 39) dX9_isRun_38 rfl rfl rfl ?_
          refine x_dup (n' := 40) dX9_isRun_39 rfl rfl ?_
          refine x_getI (n' := 43) dX9_isRun_40 (by repeat' (first | with_reducible exact km | with_reducible apply mK_A | with_reducible apply mK_I | with_reducible apply mK_L | with_reducible apply mK_R | with_reducible apply mK_O | with_reducible apply mK_S)) ffX9_139_9 rfl rfl ?_
          refine x_topv (mI_SC_10.trans hp) ?_
          refine x_iconst (n' := 44) (v := 1) dX9_isRun_43 (by decide) rfl ?_
          refine x_iadd (n' := 45) dX9_isRun_44 rfl ?_
          rw [nI_1]
          refine x_putI (n' := 48) dX9_isRun_45 (by repeat' (first | with_reducible exact km | with_reducible apply mK_A | with_reducible apply mK_I | with_reducible apply mK_L | with_reducible apply mK_R | with_reducible apply mK_O | with_reducible apply mK_S)) ffX9_139_9 rfl (⟨rfl, rfl⟩) rfl rfl ?_
          refine x_mem (M2 := SC M m ad g sa (va_up sf (fc 9 10) (nI (p + 1)))) SC_I10 ?_
          refine x_iconst (n' := 49) (v := 0) dX9_isRun_48 (by decide) rfl ?_
          refine x_istore_n (n' := 50) dX9_isRun_49 rfl (Nat.le_of_ble_eq_true rfl) rfl (by dsimp only [List.set] <;> rfl) rfl ?_
          refine x_iconst (n' := 51) (v := 0) dX9_isRun_50 (by decide) rfl ?_
          refine x_istore_n (n' := 52) dX9_isRun_51 rfl (Nat.le_of_ble_eq_true rfl) rfl (by dsimp only [List.set] <;> rfl) rfl ?_
          exact x_drop (cut52 3 0 (by omega) (by omega) (fun j q => absurd q (by omega)) ⟨N15, by first | exact Or.inl C21 | exact Or.inr (Or.inl C27) | exact Or.inr (Or.inr C33)⟩) ⟨rfl, ⟨rfl, ⟨rfl, ⟨rfl, trivial⟩⟩⟩⟩
        · have C33 := c33_30
          refine x_iconst (n' := 37) (v := 0) dX9_isRun_36 (by decide) rfl ?_
          exact x_zret dX9_isRun_37 hret (by first | exact k_zn (bi_01 _) | exact k_zn (Or.inl rfl) | exact k_zn (Or.inr rfl)) (by repeat' (first | with_reducible exact kE.rf | with_reducible exact kE_SS | with_reducible exact kE_SSI | with_reducible apply kE_A | with_reducible apply kE_I | with_reducible apply kE_L | with_reducible apply kE_R | with_reducible apply kE_O | with_reducible apply kE_S)) (by rw [skR_a (by first | exact fun q => q.1 N15 | exact fun q => q.2.elim C21 (fun q => q.elim C27 C33))]; exact ⟨rfl, sf, by rw [up_eta], hp, hr⟩)

set_option maxHeartbeats 4000000 in
set_option maxRecDepth 100000 in
theorem c_X9_sky (l : Launch) (G : kG) (M : kM) (m : Nat) (ad : Nat → Nat) (hS : MS M m ad) (g : gT) (sa : Nat → gT) (sf : Nat → Int32) (t : Nat) (ht : mI M (fc 9 9) m = nI t) (hb : t ≤ 250) : Kt l G yX9_sky cX9_sky 3 (some .int) 2 48 [.ref m] (SC M m ad g sa sf) (0) (0) (fun v M2 => ((skA (mA M (ad 4)) t (sa 5)).1 = true → v = some (.int (nI (skA (mA M (ad 4)) t (sa 5)).2.2.1)) ∧ ∃ sa2 sf2, M2 = SC (sI M (fc 9 9) m 0) m ad (skG g (skA (mA M (ad 4)) t (sa 5)).2.2.2 (skA (mA M (ad 4)) t (sa 5)).2.2.1 (2 * (skA (mA M (ad 4)) t (sa 5)).2.2.1)) sa2 sf2) ∧ (¬ (skA (mA M (ad 4)) t (sa 5)).1 = true → v = some (.int (-300 - nI (skA (mA M (ad 4)) t (sa 5)).2.1)) ∧ ∃ sa2 sf2, M2 = rfM (SC (sI M (fc 9 9) m 0) m ad g sa2 sf2) ad 0)) := by
  refine Kt.of (own := "KeptLightModel") (L := [some (.ref m), none, none]) (by decide +kernel) rfl (Nat.le_of_ble_eq_true rfl) rfl ?_
  intro pp ee ss mm args below meth cd hmn hret
  have km := hS.1
  obtain ⟨hr_g, kk_g, hn_g⟩ := hS.2.1 0 (by decide)
  have hr_g : mR M (fc 9 0) m = some (ad 0) := hr_g
  have hn_g : mN M (ad 0) = 2509 := hn_g
  have kk_g : mK M (ad 0) = some 120 := kk_g
  obtain ⟨hr_refusals, kk_refusals, hn_refusals⟩ := hS.2.1 3 (by decide)
  have hr_refusals : mR M (fc 9 4) m = some (ad 3) := hr_refusals
  have hn_refusals : mN M (ad 3) = 5 := hn_refusals
  have kk_refusals : mK M (ad 3) = some 120 := kk_refusals
  obtain ⟨hr_read, kk_read, hn_read⟩ := hS.2.1 5 (by decide)
  have hr_read : mR M (fc 9 11) m = some (ad 5) := hr_read
  have hn_read : mN M (ad 5) = 40 := hn_read
  have kk_read : mK M (ad 5) = some 120 := kk_read
  have ne_g_refusals := hS.eqf 0 3 (by decide) (by decide) (by decide)
  have ne_g_read := hS.eqf 0 5 (by decide) (by decide) (by decide)
  have ne_refusals_g := hS.eqf 3 0 (by decide) (by decide) (by decide)
  have ne_refusals_read := hS.eqf 3 5 (by decide) (by decide) (by decide)
  have ne_read_g := hS.eqf 5 0 (by decide) (by decide) (by decide)
  have ne_read_refusals := hS.eqf 5 3 (by decide) (by decide) (by decide)
  have cut112 : ∀ (fuel : Nat) (k rm : Nat) (rd : gT) (sf1 : Nat → Int32) (h1 : 2 * rm - k < fuel) (h2 : k ≤ 2 * rm) (hr1 : sf1 (fc 9 12) = nI rm) (hr2 : rm ≤ 20) (h3 : ∃ q, (skA (mA M (ad 4)) t (sa 5)) = (true, q, rm, rd)), Wx pp l ee { frames := 2, cells := 0, slots := 0, locals := 48 } ss mm args below meth cd "KeptLightModel" cX9_sky 3 G (MQ below (KQ G (SC M m ad g sa sf) (fun v M2 => ((skA (mA M (ad 4)) t (sa 5)).1 = true → v = some (.int (nI (skA (mA M (ad 4)) t (sa 5)).2.2.1)) ∧ ∃ sa2 sf2, M2 = SC (sI M (fc 9 9) m 0) m ad (skG g (skA (mA M (ad 4)) t (sa 5)).2.2.2 (skA (mA M (ad 4)) t (sa 5)).2.2.1 (2 * (skA (mA M (ad 4)) t (sa 5)).2.2.1)) sa2 sf2) ∧ (¬ (skA (mA M (ad 4)) t (sa 5)).1 = true → v = some (.int (-300 - nI (skA (mA M (ad 4)) t (sa 5)).2.1)) ∧ ∃ sa2 sf2, M2 = rfM (SC (sI M (fc 9 9) m 0) m ad g sa2 sf2) ad 0))) args ss (0) (0) (kA G)) 112 [some (.ref m), none, some (.int (nI k))] [] (SC (sI M (fc 9 9) m 0) m ad (skG g rd rm k) (va_up sa 5 rd) sf1) (0) (0) := by
    intro fuel
    induction fuel with
    | zero => intro k rm rd sf1 h1 h2 hr1 hr2 h3; omega
    | succ fuel ih =>
      intro k rm rd sf1 h1 h2 hr1 hr2 h3
      refine x_iload_n (n' := 113) dX9_sky_112 rfl rfl rfl ?_
      refine x_iconst (n' := 114) (v := 2) dX9_sky_113 (by decide) rfl ?_
      refine x_aload_n (n' := 115) dX9_sky_114 rfl rfl rfl ?_
      refine x_getI (n' := 118) dX9_sky_115 (by repeat' (first | with_reducible exact km | with_reducible apply mK_A | with_reducible apply mK_I | with_reducible apply mK_L | with_reducible apply mK_R | with_reducible apply mK_O | with_reducible apply mK_S)) ffX9_145_9 rfl rfl ?_
      refine x_topv (mI_SC_12.trans hr1) ?_
      refine x_imul (n' := 119) dX9_sky_118 rfl ?_
      refine x_icmp_ge (n' := 122) (tgt := 143) dX9_sky_119 (by decide) rfl (fun c119_1 => ?_) (fun c119_1 => ?_)
      · have C119 := c119_1
        have N119 := (cv_le (by repeat' (first | with_reducible exact nl_0 | with_reducible exact nl_1 | with_reducible exact nl_2 | with_reducible exact nl_12 | with_reducible exact nl_21 | with_reducible exact nl_32 | with_reducible exact rfl | apply i_add | apply i_mul)) (by repeat' (first | with_reducible exact nl_0 | with_reducible exact nl_1 | with_reducible exact nl_2 | with_reducible exact nl_12 | with_reducible exact nl_21 | with_reducible exact nl_32 | with_reducible exact rfl | apply i_add | apply i_mul)) (by omega) (by omega)).mp c119_1
        refine x_aload_n (n' := 144) dX9_sky_143 rfl rfl rfl ?_
        refine x_getI (n' := 147) dX9_sky_144 (by repeat' (first | with_reducible exact km | with_reducible apply mK_A | with_reducible apply mK_I | with_reducible apply mK_L | with_reducible apply mK_R | with_reducible apply mK_O | with_reducible apply mK_S)) ffX9_145_9 rfl rfl ?_
        refine x_topv (mI_SC_12.trans hr1) ?_
        exact x_iret dX9_sky_147 hret (by repeat' (first | with_reducible exact kE.rf | with_reducible exact kE_SS | with_reducible exact kE_SSI | with_reducible apply kE_A | with_reducible apply kE_I | with_reducible apply kE_L | with_reducible apply kE_R | with_reducible apply kE_O | with_reducible apply kE_S)) (by obtain ⟨q, h3⟩ := h3; rw [show k = 2 * rm by omega, h3]; exact ⟨fun _ => ⟨rfl, _, _, rfl⟩, fun q => absurd rfl q⟩)
      · have C119 := c119_1
        have N119 := (not_congr (cv_le (by repeat' (first | with_reducible exact nl_0 | with_reducible exact nl_1 | with_reducible exact nl_2 | with_reducible exact nl_12 | with_reducible exact nl_21 | with_reducible exact nl_32 | with_reducible exact rfl | apply i_add | apply i_mul)) (by repeat' (first | with_reducible exact nl_0 | with_reducible exact nl_1 | with_reducible exact nl_2 | with_reducible exact nl_12 | with_reducible exact nl_21 | with_reducible exact nl_32 | with_reducible exact rfl | apply i_add | apply i_mul)) (by omega) (by omega))).mp c119_1
        refine x_aload_n (n' := 123) dX9_sky_122 rfl rfl rfl ?_
        refine x_getRs (n' := 126) (b := (ad 0)) dX9_sky_123 (by repeat' (first | with_reducible exact km | with_reducible apply mK_A | with_reducible apply mK_I | with_reducible apply mK_L | with_reducible apply mK_R | with_reducible apply mK_O | with_reducible apply mK_S)) ffX9_9_9 rfl (by repeat' (first | with_reducible exact hr_g | with_reducible apply mR_A | with_reducible apply mR_I | with_reducible apply mR_L | with_reducible apply mR_S)) rfl ?_
        refine x_bipush (n' := 128) (v := 21) dX9_sky_126 (by decide) rfl ?_
        refine x_iload_n (n' := 129) dX9_sky_128 rfl rfl rfl ?_
        refine x_iadd (n' := 130) dX9_sky_129 rfl ?_
        refine x_aload_n (n' := 131) dX9_sky_130 rfl rfl rfl ?_
        refine x_getRs (n' := 134) (b := (ad 5)) dX9_sky_131 (by repeat' (first | with_reducible exact km | with_reducible apply mK_A | with_reducible apply mK_I | with_reducible apply mK_L | with_reducible apply mK_R | with_reducible apply mK_O | with_reducible apply mK_S)) ffX9_25_9 rfl (by repeat' (first | with_reducible exact hr_read | with_reducible apply mR_A | with_reducible apply mR_I | with_reducible apply mR_L | with_reducible apply mR_S)) rfl ?_
        refine x_iload_n (n' := 135) dX9_sky_134 rfl rfl rfl ?_
        refine x_ildk (n' := 136) (N := 40) dX9_sky_135 (by repeat' (first | with_reducible exact kk_read | with_reducible apply mK_A | with_reducible apply mK_I | with_reducible apply mK_L | with_reducible apply mK_R | with_reducible apply mK_O | with_reducible apply mK_S)) (by repeat' (first | with_reducible exact hn_read | with_reducible apply mN_A | with_reducible apply mN_I | with_reducible apply mN_L | with_reducible apply mN_R | with_reducible apply mN_O | with_reducible apply mN_S)) (by repeat' (first | with_reducible exact nl_0 | with_reducible exact nl_1 | with_reducible exact nl_2 | with_reducible exact nl_12 | with_reducible exact nl_21 | with_reducible exact nl_32 | with_reducible exact rfl | apply i_add | apply i_mul)) (by omega) (by decide) (by first | (simp (disch := omega) only [mA_sA, mA_sI, mA_SC0, mA_SC1 hS, mA_SC5 hS, mA_SC6 hS, mA_SC10 hS, mA_SC11 hS, mA_SC12 hS, up_s, up_n, if_false, ne_g_refusals, ne_g_read, ne_refusals_g, ne_refusals_read, ne_read_g, ne_read_refusals] <;> rfl) | rfl) rfl ?_
        refine x_iastk (n' := 137) (N := 2509) dX9_sky_136 (by repeat' (first | with_reducible exact kk_g | with_reducible apply mK_A | with_reducible apply mK_I | with_reducible apply mK_L | with_reducible apply mK_R | with_reducible apply mK_O | with_reducible apply mK_S)) (by repeat' (first | with_reducible exact hn_g | with_reducible apply mN_A | with_reducible apply mN_I | with_reducible apply mN_L | with_reducible apply mN_R | with_reducible apply mN_O | with_reducible apply mN_S)) (by repeat' (first | with_reducible exact nl_0 | with_reducible exact nl_1 | with_reducible exact nl_2 | with_reducible exact nl_12 | with_reducible exact nl_21 | with_reducible exact nl_32 | with_reducible exact rfl | apply i_add | apply i_mul)) (by omega) (by decide) (by first | with_reducible exact mA_sA | with_reducible exact mA_SC0 | with_reducible exact mA_SC1 hS | with_reducible exact mA_SC5 hS | with_reducible exact mA_SC6 hS | with_reducible exact mA_SC10 hS | with_reducible exact mA_SC11 hS | with_reducible exact mA_SC12 hS | with_reducible exact mA_sI_sA | with_reducible exact mA_sI3_sA | rfl) (by first | with_reducible exact SC_A0 | with_reducible exact SC_A1 hS | with_reducible exact SC_A5 hS | with_reducible exact SC_A6 hS | with_reducible exact SC_A10 hS | with_reducible exact SC_A11 hS | with_reducible exact SC_A12 hS | with_reducible exact sA_sA | with_reducible exact sA_sI_sA | with_reducible exact sA_sI3_sA | rfl) rfl ?_
        refine x_iinc (n' := 140) dX9_sky_137 rfl (by first | exact nI_inc _ | exact nI_decp (by omega) | exact i_inc _ | rfl) (Nat.le_of_ble_eq_true rfl) rfl (by dsimp only [List.set] <;> rfl) rfl ?_
        refine x_goto (tgt := 112) dX9_sky_140 (by decide) ?_
        rw [mA_SC5 (M := sI M (fc 9 9) m 0) hS.sI, va_up_self, skG_s]
        exact x_drop (ih (k + 1) rm rd sf1 (by omega) (by omega) hr1 hr2 h3) ⟨rfl, ⟨rfl, trivial⟩⟩
  have cut71 : ∀ (b : Bool) (q rm : Nat) (rd : gT) (sf1 : Nat → Int32) (hp1 : sf1 (fc 9 10) = nI q) (hr1 : sf1 (fc 9 12) = nI rm) (hr2 : rm ≤ 20) (h3 : skJ (mA M (ad 4)) t (skA (mA M (ad 4)) t (sa 5)) (b, q, rm, rd)) (hx : ¬ b = true ∨ t ≤ q), Wx pp l ee { frames := 2, cells := 0, slots := 0, locals := 48 } ss mm args below meth cd "KeptLightModel" cX9_sky 3 G (MQ below (KQ G (SC M m ad g sa sf) (fun v M2 => ((skA (mA M (ad 4)) t (sa 5)).1 = true → v = some (.int (nI (skA (mA M (ad 4)) t (sa 5)).2.2.1)) ∧ ∃ sa2 sf2, M2 = SC (sI M (fc 9 9) m 0) m ad (skG g (skA (mA M (ad 4)) t (sa 5)).2.2.2 (skA (mA M (ad 4)) t (sa 5)).2.2.1 (2 * (skA (mA M (ad 4)) t (sa 5)).2.2.1)) sa2 sf2) ∧ (¬ (skA (mA M (ad 4)) t (sa 5)).1 = true → v = some (.int (-300 - nI (skA (mA M (ad 4)) t (sa 5)).2.1)) ∧ ∃ sa2 sf2, M2 = rfM (SC (sI M (fc 9 9) m 0) m ad g sa2 sf2) ad 0))) args ss (0) (0) (kA G)) 71 [some (.ref m), some (.int (bi (b = true))), none] [] (SC M m ad g (va_up sa 5 rd) sf1) (0) (0) := by
    intro b q rm rd sf1 hp1 hr1 hr2 h3 hx
    refine x_aload_n (n' := 72) dX9_sky_71 rfl rfl rfl ?_
    refine x_iconst (n' := 73) (v := 0) dX9_sky_72 (by decide) rfl ?_
    refine x_putI (n' := 76) dX9_sky_73 (by repeat' (first | with_reducible exact km | with_reducible apply mK_A | with_reducible apply mK_I | with_reducible apply mK_L | with_reducible apply mK_R | with_reducible apply mK_O | with_reducible apply mK_S)) ffX9_135_9 rfl (⟨rfl, rfl⟩) rfl rfl ?_
    refine x_mem (M2 := SC (sI M (fc 9 9) m 0) m ad g (va_up sa 5 rd) sf1) (by exact SC_I9) ?_
    refine x_iload_n (n' := 77) dX9_sky_76 rfl rfl rfl ?_
    refine x_if_ne (n' := 80) (tgt := 99) dX9_sky_77 (by decide) rfl (fun c77_2 => ?_) (fun c77_2 => ?_)
    · have C77 := c77_2
      have hbt : b = true := bi_n0 C77
      subst hbt
      have hA := skJ_t h3 (hx.resolve_left (fun w => w rfl))
      refine x_aload_n (n' := 100) dX9_sky_99 rfl rfl rfl ?_
      refine x_getRs (n' := 103) (b := (ad 0)) dX9_sky_100 (by repeat' (first | with_reducible exact km | with_reducible apply mK_A | with_reducible apply mK_I | with_reducible apply mK_L | with_reducible apply mK_R | with_reducible apply mK_O | with_reducible apply mK_S)) ffX9_9_9 rfl (by repeat' (first | with_reducible exact hr_g | with_reducible apply mR_A | with_reducible apply mR_I | with_reducible apply mR_L | with_reducible apply mR_S)) rfl ?_
      refine x_bipush (n' := 105) (v := 12) dX9_sky_103 (by decide) rfl ?_
      refine x_aload_n (n' := 106) dX9_sky_105 rfl rfl rfl ?_
      refine x_getI (n' := 109) dX9_sky_106 (by repeat' (first | with_reducible exact km | with_reducible apply mK_A | with_reducible apply mK_I | with_reducible apply mK_L | with_reducible apply mK_R | with_reducible apply mK_O | with_reducible apply mK_S)) ffX9_145_9 rfl rfl ?_
      refine x_topv (mI_SC_12.trans hr1) ?_
      refine x_iastk (n' := 110) (N := 2509) dX9_sky_109 (by repeat' (first | with_reducible exact kk_g | with_reducible apply mK_A | with_reducible apply mK_I | with_reducible apply mK_L | with_reducible apply mK_R | with_reducible apply mK_O | with_reducible apply mK_S)) (by repeat' (first | with_reducible exact hn_g | with_reducible apply mN_A | with_reducible apply mN_I | with_reducible apply mN_L | with_reducible apply mN_R | with_reducible apply mN_O | with_reducible apply mN_S)) (by repeat' (first | with_reducible exact nl_0 | with_reducible exact nl_1 | with_reducible exact nl_2 | with_reducible exact nl_12 | with_reducible exact nl_21 | with_reducible exact nl_32 | with_reducible exact rfl | apply i_add | apply i_mul)) (by omega) (by decide) (by first | with_reducible exact mA_sA | with_reducible exact mA_SC0 | with_reducible exact mA_SC1 hS | with_reducible exact mA_SC5 hS | with_reducible exact mA_SC6 hS | with_reducible exact mA_SC10 hS | with_reducible exact mA_SC11 hS | with_reducible exact mA_SC12 hS | with_reducible exact mA_sI_sA | with_reducible exact mA_sI3_sA | rfl) (by first | with_reducible exact SC_A0 | with_reducible exact SC_A1 hS | with_reducible exact SC_A5 hS | with_reducible exact SC_A6 hS | with_reducible exact SC_A10 hS | with_reducible exact SC_A11 hS | with_reducible exact SC_A12 hS | with_reducible exact sA_sA | with_reducible exact sA_sI_sA | with_reducible exact sA_sI3_sA | rfl) rfl ?_
      refine x_iconst (n' := 111) (v := 0) dX9_sky_110 (by decide) rfl ?_
      refine x_istore_n (n' := 112) dX9_sky_111 rfl (Nat.le_of_ble_eq_true rfl) rfl (by dsimp only [List.set] <;> rfl) rfl ?_
      refine x_mem (M2 := SC (sI M (fc 9 9) m 0) m ad (skG g rd rm 0) (va_up sa 5 rd) sf1) (by rw [skG_0]) ?_
      exact x_drop (cut112 (2 * rm + 1) 0 rm rd sf1 (by omega) (by omega) hr1 hr2 ⟨q, hA⟩) ⟨rfl, ⟨rfl, trivial⟩⟩
    · have C77 := c77_2
      refine x_aload_n (n' := 81) dX9_sky_80 rfl rfl rfl ?_
      refine x_getRs (n' := 84) (b := (ad 3)) dX9_sky_81 (by repeat' (first | with_reducible exact km | with_reducible apply mK_A | with_reducible apply mK_I | with_reducible apply mK_L | with_reducible apply mK_R | with_reducible apply mK_O | with_reducible apply mK_S)) ffX9_19_9 rfl (by repeat' (first | with_reducible exact hr_refusals | with_reducible apply mR_A | with_reducible apply mR_I | with_reducible apply mR_L | with_reducible apply mR_S)) rfl ?_
      refine x_iconst (n' := 85) (v := 0) dX9_sky_84 (by decide) rfl ?_
      refine x_dup2_11 (n' := 86) dX9_sky_85 rfl rfl rfl ?_
      refine x_ildk (n' := 87) (N := 5) dX9_sky_86 (by repeat' (first | with_reducible exact kk_refusals | with_reducible apply mK_A | with_reducible apply mK_I | with_reducible apply mK_L | with_reducible apply mK_R | with_reducible apply mK_O | with_reducible apply mK_S)) (by repeat' (first | with_reducible exact hn_refusals | with_reducible apply mN_A | with_reducible apply mN_I | with_reducible apply mN_L | with_reducible apply mN_R | with_reducible apply mN_O | with_reducible apply mN_S)) (by repeat' (first | with_reducible exact nl_0 | with_reducible exact nl_1 | with_reducible exact nl_2 | with_reducible exact nl_12 | with_reducible exact nl_21 | with_reducible exact nl_32 | with_reducible exact rfl | apply i_add | apply i_mul)) (by omega) (by decide) (by first | (simp (disch := omega) only [mA_sA, mA_sI, mA_SC0, mA_SC1 hS, mA_SC5 hS, mA_SC6 hS, mA_SC10 hS, mA_SC11 hS, mA_SC12 hS, up_s, up_n, if_false, ne_g_refusals, ne_g_read, ne_refusals_g, ne_refusals_read, ne_read_g, ne_read_refusals] <;> rfl) | rfl) rfl ?_
      refine x_iconst (n' := 88) (v := 1) dX9_sky_87 (by decide) rfl ?_
      refine x_iadd (n' := 89) dX9_sky_88 rfl ?_
      refine x_iastk (n' := 90) (N := 5) dX9_sky_89 (by repeat' (first | with_reducible exact kk_refusals | with_reducible apply mK_A | with_reducible apply mK_I | with_reducible apply mK_L | with_reducible apply mK_R | with_reducible apply mK_O | with_reducible apply mK_S)) (by repeat' (first | with_reducible exact hn_refusals | with_reducible apply mN_A | with_reducible apply mN_I | with_reducible apply mN_L | with_reducible apply mN_R | with_reducible apply mN_O | with_reducible apply mN_S)) (by repeat' (first | with_reducible exact nl_0 | with_reducible exact nl_1 | with_reducible exact nl_2 | with_reducible exact nl_12 | with_reducible exact nl_21 | with_reducible exact nl_32 | with_reducible exact rfl | apply i_add | apply i_mul)) (by omega) (by decide) (by first | with_reducible exact mA_sA | with_reducible exact mA_SC0 | with_reducible exact mA_SC1 hS | with_reducible exact mA_SC5 hS | with_reducible exact mA_SC6 hS | with_reducible exact mA_SC10 hS | with_reducible exact mA_SC11 hS | with_reducible exact mA_SC12 hS | with_reducible exact mA_sI_sA | with_reducible exact mA_sI3_sA | rfl) (by first | with_reducible exact SC_A0 | with_reducible exact SC_A1 hS | with_reducible exact SC_A5 hS | with_reducible exact SC_A6 hS | with_reducible exact SC_A10 hS | with_reducible exact SC_A11 hS | with_reducible exact SC_A12 hS | with_reducible exact sA_sA | with_reducible exact sA_sI_sA | with_reducible exact sA_sI3_sA | rfl) rfl ?_
      refine x_sipush (n' := 93) (v := -300) dX9_sky_90 (by decide) rfl ?_
      refine x_aload_n (n' := 94) dX9_sky_93 rfl rfl rfl ?_
      refine x_getI (n' := 97) dX9_sky_94 (by repeat' (first | with_reducible exact km | with_reducible apply mK_A | with_reducible apply mK_I | with_reducible apply mK_L | with_reducible apply mK_R | with_reducible apply mK_O | with_reducible apply mK_S)) ffX9_139_9 rfl rfl ?_
      refine x_topv (y := nI q) ((congrFun (congrFun mI_sA _) _).trans (mI_SC_10.trans hp1)) ?_
      refine x_isub (n' := 98) dX9_sky_97 rfl ?_
      exact x_iret dX9_sky_98 hret (by repeat' (first | with_reducible exact kE.rf | with_reducible exact kE_SS | with_reducible exact kE_SSI | with_reducible apply kE_A | with_reducible apply kE_I | with_reducible apply kE_L | with_reducible apply kE_R | with_reducible apply kE_O | with_reducible apply kE_S)) (⟨fun w => absurd w (by rw [← h3.2 (bi_0.mp C77)]; exact bi_0.mp C77), fun _ => by rw [← h3.2 (bi_0.mp C77)]; exact ⟨rfl, _, sf1, rfl⟩⟩)
  have cut15 : ∀ (fuel : Nat) (b : Bool) (q rm : Nat) (rd : gT) (sf1 : Nat → Int32) (h1 : (if b = true then 22 - rm else 0) < fuel) (hp1 : sf1 (fc 9 10) = nI q) (hr1 : sf1 (fc 9 12) = nI rm) (hq : q ≤ t + 1) (hr2 : rm ≤ 20) (h3 : skJ (mA M (ad 4)) t (skA (mA M (ad 4)) t (sa 5)) (b, q, rm, rd)), Wx pp l ee { frames := 2, cells := 0, slots := 0, locals := 48 } ss mm args below meth cd "KeptLightModel" cX9_sky 3 G (MQ below (KQ G (SC M m ad g sa sf) (fun v M2 => ((skA (mA M (ad 4)) t (sa 5)).1 = true → v = some (.int (nI (skA (mA M (ad 4)) t (sa 5)).2.2.1)) ∧ ∃ sa2 sf2, M2 = SC (sI M (fc 9 9) m 0) m ad (skG g (skA (mA M (ad 4)) t (sa 5)).2.2.2 (skA (mA M (ad 4)) t (sa 5)).2.2.1 (2 * (skA (mA M (ad 4)) t (sa 5)).2.2.1)) sa2 sf2) ∧ (¬ (skA (mA M (ad 4)) t (sa 5)).1 = true → v = some (.int (-300 - nI (skA (mA M (ad 4)) t (sa 5)).2.1)) ∧ ∃ sa2 sf2, M2 = rfM (SC (sI M (fc 9 9) m 0) m ad g sa2 sf2) ad 0))) args ss (0) (0) (kA G)) 15 [some (.ref m), some (.int (bi (b = true))), none] [] (SC M m ad g (va_up sa 5 rd) sf1) (0) (0) := by
    intro fuel
    induction fuel with
    | zero => intro b q rm rd sf1 h1 hp1 hr1 hq hr2 h3; omega
    | succ fuel ih =>
      intro b q rm rd sf1 h1 hp1 hr1 hq hr2 h3
      refine x_iload_n (n' := 16) dX9_sky_15 rfl rfl rfl ?_
      refine x_if_eq (n' := 19) (tgt := 71) dX9_sky_16 (by decide) rfl (fun c16_3 => ?_) (fun c16_3 => ?_)
      · have C16 := c16_3
        exact x_drop (cut71 _ q rm rd sf1 hp1 hr1 hr2 h3 (by first | exact Or.inl (bi_0.mp C16) | exact Or.inr N27)) ⟨rfl, ⟨rfl, trivial⟩⟩
      · have C16 := c16_3
        have hbt : b = true := bi_n0 C16
        subst hbt
        refine x_aload_n (n' := 20) dX9_sky_19 rfl rfl rfl ?_
        refine x_getI (n' := 23) dX9_sky_20 (by repeat' (first | with_reducible exact km | with_reducible apply mK_A | with_reducible apply mK_I | with_reducible apply mK_L | with_reducible apply mK_R | with_reducible apply mK_O | with_reducible apply mK_S)) ffX9_139_9 rfl rfl ?_
        refine x_topv (mI_SC_10.trans hp1) ?_
        refine x_aload_n (n' := 24) dX9_sky_23 rfl rfl rfl ?_
        refine x_getI (n' := 27) dX9_sky_24 (by repeat' (first | with_reducible exact km | with_reducible apply mK_A | with_reducible apply mK_I | with_reducible apply mK_L | with_reducible apply mK_R | with_reducible apply mK_O | with_reducible apply mK_S)) ffX9_135_9 rfl rfl ?_
        refine x_topv (mI_SC_9.trans ht) ?_
        refine x_icmp_ge (n' := 30) (tgt := 71) dX9_sky_27 (by decide) rfl (fun c27_4 => ?_) (fun c27_4 => ?_)
        · have C27 := c27_4
          have N27 := (cv_le (by repeat' (first | with_reducible exact nl_0 | with_reducible exact nl_1 | with_reducible exact nl_2 | with_reducible exact nl_12 | with_reducible exact nl_21 | with_reducible exact nl_32 | with_reducible exact rfl | apply i_add | apply i_mul)) (by repeat' (first | with_reducible exact nl_0 | with_reducible exact nl_1 | with_reducible exact nl_2 | with_reducible exact nl_12 | with_reducible exact nl_21 | with_reducible exact nl_32 | with_reducible exact rfl | apply i_add | apply i_mul)) (by omega) (by omega)).mp c27_4
          exact x_drop (cut71 _ q rm rd sf1 hp1 hr1 hr2 h3 (by first | exact Or.inl (bi_0.mp C16) | exact Or.inr N27)) ⟨rfl, ⟨rfl, trivial⟩⟩
        · have C27 := c27_4
          have N27 := (not_congr (cv_le (by repeat' (first | with_reducible exact nl_0 | with_reducible exact nl_1 | with_reducible exact nl_2 | with_reducible exact nl_12 | with_reducible exact nl_21 | with_reducible exact nl_32 | with_reducible exact rfl | apply i_add | apply i_mul)) (by repeat' (first | with_reducible exact nl_0 | with_reducible exact nl_1 | with_reducible exact nl_2 | with_reducible exact nl_12 | with_reducible exact nl_21 | with_reducible exact nl_32 | with_reducible exact rfl | apply i_add | apply i_mul)) (by omega) (by omega))).mp c27_4
          refine x_aload_n (n' := 31) dX9_sky_30 rfl rfl rfl ?_
          refine x_aload_n (n' := 32) dX9_sky_31 rfl rfl rfl ?_
          refine x_getI (n' := 35) dX9_sky_32 (by repeat' (first | with_reducible exact km | with_reducible apply mK_A | with_reducible apply mK_I | with_reducible apply mK_L | with_reducible apply mK_R | with_reducible apply mK_O | with_reducible apply mK_S)) ffX9_139_9 rfl rfl ?_
          refine x_topv (mI_SC_10.trans hp1) ?_
          refine x_callV (n' := 38) (n := 1) (K := 9) (c_X9_byteAt l G _ m ad (by repeat' (first | with_reducible exact hS | with_reducible apply MS.sA | with_reducible apply MS.sI | with_reducible apply MS.sL | with_reducible apply MS.sc)) q t (mI_SC_9.trans ht) hb (by omega)) dX9_sky_35 (by repeat' (first | with_reducible exact km | with_reducible apply mK_A | with_reducible apply mK_I | with_reducible apply mK_L | with_reducible apply mK_R | with_reducible apply mK_O | with_reducible apply mK_S)) rfl (lw_V q3340 q3342 qs50 q109 q3343) (by decide +kernel) ⟨(Nat.le_of_ble_eq_true rfl), (Nat.le_of_ble_eq_true rfl)⟩ rfl rfl (Nat.le_of_ble_eq_true rfl) (by first | exact Nat.le_of_ble_eq_true rfl | omega) (by first | exact Nat.le_of_ble_eq_true rfl | omega) rfl (fun v_5 M_6 h_8 hE_7 => ?_)
          obtain ⟨rfl, hMs⟩ := h_8
          have hMs := hMs.symm
          subst hMs
          rw [mA_SCn hS 4 (by decide) (by decide)]
          refine x_bipush (n' := 40) (v := 32) dX9_sky_38 (by decide) rfl ?_
          refine x_forkN (J := 48) (x_icmp_ne (n' := 43) (tgt := 47) dX9_sky_40 (by decide) rfl) (v1 := ?v1_f40_9) (v2 := ?v2_f40_9) (fun c_f40_9 j_f40_9 => ?b1_f40_9) (fun c_f40_9 j_f40_9 => ?b2_f40_9) ?k_f40_9
          case b1_f40_9 =>
            refine x_iconst (n' := 48) (v := 0) dX9_sky_47 (by decide) rfl ?_
            exact j_f40_9
          case b2_f40_9 =>
            refine x_iconst (n' := 44) (v := 1) dX9_sky_43 (by decide) rfl ?_
            refine x_goto (tgt := 48) dX9_sky_44 (by decide) ?_
            exact j_f40_9
          refine x_topv (y := bi ((byG (mA M (ad 4)) t q) = 32)) (by exact rfl) ?_
          refine x_istore_n (n' := 49) dX9_sky_48 rfl (Nat.le_of_ble_eq_true rfl) rfl (by dsimp only [List.set] <;> rfl) rfl ?_
          refine x_iload_n (n' := 50) dX9_sky_49 rfl rfl rfl ?_
          refine x_if_eq (n' := 53) (tgt := 15) dX9_sky_50 (by decide) rfl (fun c50_10 => ?_) (fun c50_10 => ?_)
          · have C50 := c50_10
            refine x_loc (i := 1) rfl (C50.trans (bi_f (c := false = true) (by decide)).symm) (by dsimp only [List.set] <;> rfl) ?_
            exact x_drop (ih false q rm rd sf1 (by rw [if_neg (by decide)]; rw [if_pos rfl] at h1; omega) hp1 hr1 hq hr2 (skJ_x h3 hr2 (by omega) (bi_0.mp C50))) ⟨rfl, ⟨rfl, trivial⟩⟩
          · have C50 := c50_10
            refine x_aload_n (n' := 54) dX9_sky_53 rfl rfl rfl ?_
            refine x_dup (n' := 55) dX9_sky_54 rfl rfl ?_
            refine x_getI (n' := 58) dX9_sky_55 (by repeat' (first | with_reducible exact km | with_reducible apply mK_A | with_reducible apply mK_I | with_reducible apply mK_L | with_reducible apply mK_R | with_reducible apply mK_O | with_reducible apply mK_S)) ffX9_139_9 rfl rfl ?_
            refine x_topv (mI_SC_10.trans hp1) ?_
            refine x_iconst (n' := 59) (v := 1) dX9_sky_58 (by decide) rfl ?_
            refine x_iadd (n' := 60) dX9_sky_59 rfl ?_
            rw [nI_1]
            refine x_putI (n' := 63) dX9_sky_60 (by repeat' (first | with_reducible exact km | with_reducible apply mK_A | with_reducible apply mK_I | with_reducible apply mK_L | with_reducible apply mK_R | with_reducible apply mK_O | with_reducible apply mK_S)) ffX9_139_9 rfl (⟨rfl, rfl⟩) rfl rfl ?_
            refine x_mem (M2 := SC M m ad g (va_up sa 5 rd) (va_up sf1 (fc 9 10) (nI (q + 1)))) SC_I10 ?_
            refine x_aload_n (n' := 64) dX9_sky_63 rfl rfl rfl ?_
            refine x_callV (n' := 67) (n := 0) (K := 9) (c_X9_isRun l G M m ad hS g (va_up sa 5 rd) (va_up sf1 (fc 9 10) (nI (q + 1))) t (q + 1) rm ht hb (va_up_self _ _ _) (by rw [va_up_ne _ _ (by decide)]; exact hr1) (by omega) hr2) dX9_sky_64 (by repeat' (first | with_reducible exact km | with_reducible apply mK_A | with_reducible apply mK_I | with_reducible apply mK_L | with_reducible apply mK_R | with_reducible apply mK_O | with_reducible apply mK_S)) rfl (lw_V q3336 q3338 qs49 q109 q3339) (by decide +kernel) ⟨(Nat.le_of_ble_eq_true rfl), (Nat.le_of_ble_eq_true rfl)⟩ rfl rfl (Nat.le_of_ble_eq_true rfl) (by first | exact Nat.le_of_ble_eq_true rfl | omega) (by first | exact Nat.le_of_ble_eq_true rfl | omega) rfl (fun v_11 M_12 h_14 hE_13 => ?_)
            obtain ⟨rfl, sf2, hMs, hp2, hr3⟩ := h_14
            rw [va_up_self, up_up] at hMs
            rw [va_up_self] at hp2 hr3
            rw [va_up_self]
            have hMs := hMs.symm
            subst hMs
            refine x_istore_n (n' := 68) dX9_sky_67 rfl (Nat.le_of_ble_eq_true rfl) rfl (by dsimp only [List.set] <;> rfl) rfl ?_
            refine x_goto (tgt := 15) dX9_sky_68 (by decide) ?_
            have hb9 := skR_bd (rd := rd) (tp := (mA M (ad 4))) (t := t) (p := q + 1) (rm := rm) (by omega) hr2
            exact x_drop (ih (skR (mA M (ad 4)) t (q + 1) rm rd).1 (skR (mA M (ad 4)) t (q + 1) rm rd).2.1 (skR (mA M (ad 4)) t (q + 1) rm rd).2.2.1 (skR (mA M (ad 4)) t (q + 1) rm rd).2.2.2 sf2 (sk_ms hr2 hb9.2.2 h1) hp2 hr3 hb9.1 hb9.2.1 (skJ_s h3 hr2 (by omega) (bi_n0 C50))) ⟨rfl, ⟨rfl, trivial⟩⟩
  refine x_aload_n (n' := 1) dX9_sky_0 rfl rfl rfl ?_
  refine x_iconst (n' := 2) (v := 0) dX9_sky_1 (by decide) rfl ?_
  refine x_putI (n' := 5) dX9_sky_2 (by repeat' (first | with_reducible exact km | with_reducible apply mK_A | with_reducible apply mK_I | with_reducible apply mK_L | with_reducible apply mK_R | with_reducible apply mK_O | with_reducible apply mK_S)) ffX9_139_9 rfl (⟨rfl, rfl⟩) rfl rfl ?_
  refine x_mem (M2 := SC M m ad g sa (va_up sf (fc 9 10) 0)) SC_I10 ?_
  refine x_aload_n (n' := 6) dX9_sky_5 rfl rfl rfl ?_
  refine x_iconst (n' := 7) (v := 0) dX9_sky_6 (by decide) rfl ?_
  refine x_putI (n' := 10) dX9_sky_7 (by repeat' (first | with_reducible exact km | with_reducible apply mK_A | with_reducible apply mK_I | with_reducible apply mK_L | with_reducible apply mK_R | with_reducible apply mK_O | with_reducible apply mK_S)) ffX9_145_9 rfl (⟨rfl, rfl⟩) rfl rfl ?_
  refine x_mem (M2 := SC M m ad g sa (va_up (va_up sf (fc 9 10) 0) (fc 9 12) 0)) SC_I12 ?_
  refine x_aload_n (n' := 11) dX9_sky_10 rfl rfl rfl ?_
  refine x_callV (n' := 14) (n := 0) (K := 9) (c_X9_isRun l G M m ad hS g sa (va_up (va_up sf (fc 9 10) 0) (fc 9 12) 0) t 0 0 ht hb (by rw [va_up_ne _ _ (by decide), va_up_self]; rfl) (va_up_self _ _ _) (Nat.zero_le _) (by omega)) dX9_sky_11 (by repeat' (first | with_reducible exact km | with_reducible apply mK_A | with_reducible apply mK_I | with_reducible apply mK_L | with_reducible apply mK_R | with_reducible apply mK_O | with_reducible apply mK_S)) rfl (lw_V q3336 q3338 qs49 q109 q3339) (by decide +kernel) ⟨(Nat.le_of_ble_eq_true rfl), (Nat.le_of_ble_eq_true rfl)⟩ rfl rfl (Nat.le_of_ble_eq_true rfl) (by first | exact Nat.le_of_ble_eq_true rfl | omega) (by first | exact Nat.le_of_ble_eq_true rfl | omega) rfl (fun v_15 M_16 h_18 hE_17 => ?_)
  obtain ⟨rfl, sf1, hMs, hp1, hr1⟩ := h_18
  have hMs := hMs.symm
  subst hMs
  refine x_istore_n (n' := 15) dX9_sky_14 rfl (Nat.le_of_ble_eq_true rfl) rfl (by dsimp only [List.set] <;> rfl) rfl ?_
  have hb9 := skR_bd (rd := sa 5) (tp := (mA M (ad 4))) (t := t) (p := 0) (rm := 0) (Nat.zero_le _) (by omega)
  exact x_drop (cut15 23 (skR (mA M (ad 4)) t 0 0 (sa 5)).1 (skR (mA M (ad 4)) t 0 0 (sa 5)).2.1 (skR (mA M (ad 4)) t 0 0 (sa 5)).2.2.1 (skR (mA M (ad 4)) t 0 0 (sa 5)).2.2.2 sf1 (by split <;> omega) hp1 hr1 hb9.1 hb9.2.1 (skJ_0 _ _ _)) ⟨rfl, ⟨rfl, trivial⟩⟩
