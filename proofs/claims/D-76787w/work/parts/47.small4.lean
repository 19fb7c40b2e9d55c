/-- the constants are there -/
def CN (G : kG) (M : kM) : Prop := ∀ i, i < 6 → mK M (G.2.2.2 i) = some (200 + i)
theorem CN.kE {G : kG} {M M' : kM} (h : CN G M) (e : kE M M') : CN G M' := fun i hi => e _ _ (h i hi)
theorem CN.ne {G : kG} {M : kM} (h : CN G M) {i j : Nat} (hi : i < 6) (hj : j < 6) (e : some (G.2.2.2 i) = some (G.2.2.2 j)) : i = j := by
  have a := h i hi
  rw [Option.some.inj e, h j hj] at a
  have := Option.some.inj a
  omega
/-- the sights of s: its array ar with n of them -/
def sgt (i : Nat) (j : Nat) : Int32 := bi (i / j % 2 = 1)
def SGI (G : kG) (M : kM) (s ar n : Nat) : Prop := mK M s = some 5 ∧ mG M s = s + 1 ∧ mR M (fc 5 0) s = some ar ∧ mK M ar = some 126 ∧ mG M ar = s + 1 ∧ mN M ar = 24 ∧ ∀ k, k < n → ∃ sg, mO M ar k = some sg ∧ mG M sg = s + 1 ∧ SGP G M sg (k / 8) (sgt k 1) (sgt k 2) (sgt k 4)
def SGS (G : kG) (M : kM) (s : Nat) : Prop := ∃ ar, SGI G M s ar 24
theorem SGI.fr {G : kG} {M M' : kM} {s ar n : Nat} {S : Nat → Prop} (h : SGI G M s ar n) (hF : Fr S M M') (hS : ¬ S (s + 1)) : SGI G M' s ar n := by
  obtain ⟨q1, q2, q3, q4, q5, q6, q7⟩ := h
  have a := hF.1 s (by rw [q1]; exact fun e => by cases e)
  have c := a.2.2 (by rw [q2]; exact hS)
  have a2 := hF.1 ar (by rw [q4]; exact fun e => by cases e)
  have c2 := a2.2.2 (by rw [q5]; exact hS)
  refine ⟨by rw [a.1]; exact q1, by rw [a.2.1]; exact q2, by rw [c.2.1]; exact q3, by rw [a2.1]; exact q4, by rw [a2.2.1]; exact q5, by rw [c2.2.2.1]; exact q6, fun k hk => ?_⟩
  obtain ⟨sg, z1, z2, z3⟩ := q7 k hk
  have a3 := hF.1 sg (by rw [z3.1]; exact fun e => by cases e)
  exact ⟨sg, by rw [c2.2.2.2.2.2]; exact z1, by rw [a3.2.1]; exact z2, z3.fr hF (by rw [z2]; exact hS)⟩
theorem SGS.fr {G : kG} {M M' : kM} {s : Nat} {S : Nat → Prop} (h : SGS G M s) (hF : Fr S M M') (hS : ¬ S (s + 1)) : SGS G M' s := by
  obtain ⟨ar, h⟩ := h
  exact ⟨ar, h.fr hF hS⟩
def sgN (M : kM) (sg w : Nat) (s : Nat) (a b c : Int32) (G : kG) : kM := sI (sI (sI (sR (sG (nO M sg 7) sg (s + 1)) (fc 7 0) sg (some (G.2.2.2 w))) (fc 7 1) sg a) (fc 7 2) sg b) (fc 7 3) sg c
theorem sgN_fr {S : Nat → Prop} {M : kM} {sg w s : Nat} {a b c : Int32} {G : kG} (hq : mK M sg = none) (ho : mK M s ≠ none) : Fr S M (sgN M sg w s a b c G) := ((((Fr.rf.obj hq (Or.inr (Or.inr (by rw [Nat.add_sub_cancel]; exact ho)))).R (Or.inl hq)).I (Or.inl hq)).I (Or.inl hq)).I (Or.inl hq)
theorem sgN_p {M : kM} {sg w s : Nat} {a b c : Int32} {G : kG} (hq : mK M sg = none) (hw : w < 3) (hc : CN G M) : SGP G (sgN M sg w s a b c G) sg w a b c ∧ mG (sgN M sg w s a b c G) sg = s + 1 :=
  ⟨⟨mK_nO (M := M), mR_sR (M := sG (nO M sg 7) sg (s + 1)), by unfold sgN; rw [mI_sI_c (by decide), mI_sI_c (by decide), mI_sI], by unfold sgN; rw [mI_sI_c (by decide), mI_sI], by unfold sgN; rw [mI_sI], hw, ((((kE_nO hq : kE M (nO M sg 7)) _ _ (hc w (by omega)))))⟩, mG_sG (M := nO M sg 7)⟩
theorem SGI.step {G : kG} {M : kM} {s ar i sg w : Nat} {a b c : Int32} (h : SGI G M s ar i) (hi : i < 24) (hq : mK M sg = none) (hc : CN G M) (ew : w = i / 8) (ea : a = sgt i 1) (eb : b = sgt i 2) (ec : c = sgt i 4) :
    SGI G (sO (sgN M sg w s a b c G) ar (va_up (mO (sgN M sg w s a b c G) ar) i (some sg))) s ar (i + 1) := by
  have hs : mK M s ≠ none := by rw [h.1]; exact fun e => by cases e
  have hp := sgN_p (s := s) (a := a) (b := b) (c := c) hq (show w < 3 by omega) hc
  have h1 := h.fr (sgN_fr (S := fun _ => False) (w := w) (a := a) (b := b) (c := c) (G := G) hq hs) id
  obtain ⟨q1, q2, q3, q4, q5, q6, q7⟩ := h1
  refine ⟨q1, q2, q3, q4, q5, q6, fun k hk => ?_⟩
  by_cases e : k = i
  · subst e
    exact ⟨sg, by rw [mO_sO, va_up_self], hp.2, by rw [← ew, ← ea, ← eb, ← ec]; exact hp.1⟩
  · obtain ⟨z, z1, z2, z3⟩ := q7 k (by omega)
    exact ⟨z, by rw [mO_sO, va_up_ne _ _ e]; exact z1, z2, z3⟩
theorem sg_b1 : ∀ i, i < 24 → (((nI i &&& 1 : Int32) = 1) ↔ i / 1 % 2 = 1) := by decide
theorem sg_b2 : ∀ i, i < 24 → (((nI i &&& 2 : Int32) = 2) ↔ i / 2 % 2 = 1) := by decide
theorem sg_b4 : ∀ i, i < 24 → (((nI i &&& 4 : Int32) = 4) ↔ i / 4 % 2 = 1) := by decide
theorem sg_d0 : ∀ i, i < 24 → ((nI i / 8 : Int32) = 0 ↔ i / 8 = 0) := by decide
theorem sg_d1 : ∀ i, i < 24 → ((nI i / 8 : Int32) = 1 ↔ i / 8 = 1) := by decide
theorem sg_2 {i : Nat} (h : i < 24) (a : ¬ i / 8 = 0) (b : ¬ i / 8 = 1) : i / 8 = 2 := by omega
theorem SGI_0 {G : kG} {M : kM} {b ar : Nat} (hb : mK M b = some 5) (hg : mG M b = b + 1) (hq : mK M ar = none) : SGI G (sR (sG (nA M ar 126 24) ar (b + 1)) (fc 5 0) b (some ar)) b ar 0 :=
  ⟨(kE_nA hq : kE M (nA M ar 126 24)) _ _ hb, (va_up_ne _ _ (kne hb hq)).trans hg, mR_sR, mK_nA (M := M) (n := 24), mG_sG (M := nA M ar 126 24), mN_nA (M := M) (K := 126), fun k hk => absurd hk (Nat.not_lt_zero k)⟩
theorem SGI_0f {M : kM} {b ar : Nat} (hq : mK M ar = none) (hb : mK M b = some 5) (hg : mG M b = b + 1) : Fr (ow b) M (sR (sG (nA M ar 126 24) ar (b + 1)) (fc 5 0) b (some ar)) := (Fr.rf.arr hq (Or.inr (Or.inr (by rw [Nat.add_sub_cancel, hb]; exact fun e => by cases e)))).R (Or.inr hg)
theorem sg_f {c d : Prop} [Decidable c] [Decidable d] (h : c ↔ d) : (if c then (1 : Int32) else 0) = bi d := by unfold bi; simp only [h]
theorem cn_03 {G : kG} {M : kM} {w : Nat} (h : CN G M) (hw : w < 3) (e : some (G.2.2.2 (3 + w)) = some (G.2.2.2 3)) : (0 : Int32) = nI w := by
  have := h.ne (by omega) (by omega) e
  rw [show w = 0 by omega]; rfl
theorem cn_13 {G : kG} {M : kM} {w : Nat} (h : CN G M) (hw : w < 3) (e : some (G.2.2.2 (3 + w)) = some (G.2.2.2 4)) : (1 : Int32) = nI w := by
  have := h.ne (by omega) (by omega) e
  rw [show w = 1 by omega]; rfl
theorem cn_23 {G : kG} {M : kM} {w : Nat} (h : CN G M) (hw : w < 3) (e0 : ¬ some (G.2.2.2 (3 + w)) = some (G.2.2.2 3)) (e : ¬ some (G.2.2.2 (3 + w)) = some (G.2.2.2 4)) : (2 : Int32) = nI w := by
  have a : w ≠ 0 := fun q => by subst q; exact e0 rfl
  have b : w ≠ 1 := fun q => by subst q; exact e rfl
  rw [show w = 2 by omega]; rfl
theorem cn_00 {G : kG} {M : kM} {w : Nat} (h : CN G M) (hw : w < 3) (e : some (G.2.2.2 (w)) = some (G.2.2.2 0)) : (0 : Int32) = nI w := by
  have := h.ne (by omega) (by omega) e
  rw [show w = 0 by omega]; rfl
theorem cn_10 {G : kG} {M : kM} {w : Nat} (h : CN G M) (hw : w < 3) (e : some (G.2.2.2 (w)) = some (G.2.2.2 1)) : (1 : Int32) = nI w := by
  have := h.ne (by omega) (by omega) e
  rw [show w = 1 by omega]; rfl
theorem cn_20 {G : kG} {M : kM} {w : Nat} (h : CN G M) (hw : w < 3) (e0 : ¬ some (G.2.2.2 (w)) = some (G.2.2.2 0)) (e : ¬ some (G.2.2.2 (w)) = some (G.2.2.2 1)) : (2 : Int32) = nI w := by
  have a : w ≠ 0 := fun q => by subst q; exact e0 rfl
  have b : w ≠ 1 := fun q => by subst q; exact e rfl
  rw [show w = 2 by omega]; rfl
theorem ffX5_9_5 : FF "KeptLight$Sights" 9 5 0 "KeptLight$Sights" := ⟨by decide, by decide, q287, Or.inl rfl⟩
set_option maxHeartbeats 800000 in
set_option maxRecDepth 100000 in
theorem c_X5_init (l : Launch) (G : kG) (M : kM) (b : Nat) (hb : mK M b = some 5) (hg : mG M b = b + 1) (hcn : CN G M) : Kt l G yX5_init cX5_init 3 none 2 44 [.ref b] M (25) (120) (fun v M2 => v = none ∧ SGS G M2 b ∧ Fr (ow b) M M2) := by
  refine Kt.of (own := "KeptLight$Sights") (L := [some (.ref b), none, none]) (by decide +kernel) rfl (Nat.le_of_ble_eq_true rfl) rfl ?_
  intro pp ee ss mm args below meth cd hmn hret
  have cut15 : ∀ (fuel : Nat) (ar i : Nat) (M1 : kM) (h1 : 24 - i < fuel) (h2 : i ≤ 24) (hI : SGI G M1 b ar i) (hF : Fr (ow b) M M1), Wx pp l ee { frames := 2, cells := 25, slots := 120, locals := 44 } ss mm args below meth cd "KeptLight$Sights" cX5_init 3 G (MQ below (KQ G M (fun v M2 => v = none ∧ SGS G M2 b ∧ Fr (ow b) M M2)) args ss (25) (120) (kA G)) 15 [some (.ref b), some (.int (nI i)), none] [] (M1) (24 - i) (4 * (24 - i)) := by
    intro fuel
    induction fuel with
    | zero => intro ar i M1 h1 h2 hI hF; omega
    | succ fuel ih =>
      intro ar i M1 h1 h2 hI hF
      have hcN7 : cN 7 = 4 := rfl
      have hEc : kE M M1 := hF.kE
      have hb1 : mK M1 b = some 5 := hI.1
      have hra : mR M1 (fc 5 0) b = some ar := hI.2.2.1
      have hka : mK M1 ar = some 126 := hI.2.2.2.1
      refine x_iload_n (n' := 16) dX5_init_15 rfl rfl rfl ?_
      refine x_bipush (n' := 18) (v := 24) dX5_init_16 (by decide) rfl ?_
      refine x_icmp_ge (n' := 21) (tgt := 108) dX5_init_18 (by decide) rfl (fun c18_1 => ?_) (fun c18_1 => ?_)
      · have n_c18_1 := (cv_le (by repeat' (first | with_reducible exact nl_0 | with_reducible exact nl_1 | with_reducible exact nl_2 | with_reducible exact nl_4 | with_reducible exact nl_8 | with_reducible exact nl_24 | with_reducible exact rfl | apply i_add | apply i_mul)) (by repeat' (first | with_reducible exact nl_0 | with_reducible exact nl_1 | with_reducible exact nl_2 | with_reducible exact nl_4 | with_reducible exact nl_8 | with_reducible exact nl_24 | with_reducible exact rfl | apply i_add | apply i_mul)) (by omega) (by omega)).mp c18_1
        exact x_vret dX5_init_108 hret (by repeat' (first | with_reducible exact kE.rf | with_reducible exact hEc | with_reducible apply kE_A | with_reducible apply kE_I | with_reducible apply kE_L | with_reducible apply kE_R | with_reducible apply kE_O | with_reducible apply kE_G | with_reducible refine kE.tr ?_ hEc)) (⟨rfl, ⟨ar, (show i = 24 by omega) ▸ hI⟩, hF⟩)
      · have n_c18_1 := (not_congr (cv_le (by repeat' (first | with_reducible exact nl_0 | with_reducible exact nl_1 | with_reducible exact nl_2 | with_reducible exact nl_4 | with_reducible exact nl_8 | with_reducible exact nl_24 | with_reducible exact rfl | apply i_add | apply i_mul)) (by repeat' (first | with_reducible exact nl_0 | with_reducible exact nl_1 | with_reducible exact nl_2 | with_reducible exact nl_4 | with_reducible exact nl_8 | with_reducible exact nl_24 | with_reducible exact rfl | apply i_add | apply i_mul)) (by omega) (by omega))).mp c18_1
        refine x_iload_n (n' := 22) dX5_init_21 rfl rfl rfl ?_
        refine x_bipush (n' := 24) (v := 8) dX5_init_22 (by decide) rfl ?_
        refine x_idiv (n' := 25) dX5_init_24 (by decide) rfl ?_
        refine x_if_ne (n' := 28) (tgt := 34) dX5_init_25 (by decide) rfl (fun c25_2 => ?_) (fun c25_2 => ?_)
        · have C25 := c25_2
          refine x_iload_n (n' := 35) dX5_init_34 rfl rfl rfl ?_
          refine x_bipush (n' := 37) (v := 8) dX5_init_35 (by decide) rfl ?_
          refine x_idiv (n' := 38) dX5_init_37 (by decide) rfl ?_
          refine x_iconst (n' := 39) (v := 1) dX5_init_38 (by decide) rfl ?_
          refine x_icmp_ne (n' := 42) (tgt := 48) dX5_init_39 (by decide) rfl (fun c39_3 => ?_) (fun c39_3 => ?_)
          · have C39 := c39_3
            refine x_gets (n' := 51) dX5_init_48 (List.mem_of_getElem? (i := 2) rfl) q255 rfl ?_
            refine x_astore_n (n' := 52) dX5_init_51 rfl (Nat.le_of_ble_eq_true rfl) rfl (by dsimp only [List.set] <;> rfl) rfl ?_
            refine x_aload_n (n' := 53) dX5_init_52 rfl rfl rfl ?_
            refine x_getRs (n' := 56) (b := ar) dX5_init_53 (by repeat' (first | with_reducible exact hb1 | with_reducible apply mK_A | with_reducible apply mK_I | with_reducible apply mK_L | with_reducible apply mK_R | with_reducible apply mK_O | with_reducible apply mK_G | with_reducible refine mK_NA ?_ (by assumption) | with_reducible refine mK_NO ?_ (by assumption) | with_reducible refine kE.ap hEc ?_)) ffX5_9_5 rfl (by repeat' (first | with_reducible exact hra | with_reducible apply mR_A | with_reducible apply mR_I | with_reducible apply mR_L | with_reducible apply mR_R | with_reducible apply mR_O | with_reducible apply mR_G | with_reducible refine mR_NA ?_ (by assumption) (by assumption))) rfl ?_
            refine x_iload_n (n' := 57) dX5_init_56 rfl rfl rfl ?_
            refine x_new (n' := 60) (K := 7) dX5_init_57 (by decide) q249 q257 q87 (by first | exact Nat.le_of_ble_eq_true rfl | omega) (by first | exact Nat.le_of_ble_eq_true rfl | omega | (show 4 ≤ _; omega)) rfl (fun sg hq_sg hB_sg => ?_)
            have hE_4 := kE_nO (K := 7) hq_sg
            have k_sg := mK_nO_of hE_4
            refine x_ghost sg (b + 1) ?_
            refine x_dup (n' := 61) dX5_init_60 rfl rfl ?_
            refine x_aload_n (n' := 62) dX5_init_61 rfl rfl rfl ?_
            refine x_iload_n (n' := 63) dX5_init_62 rfl rfl rfl ?_
            refine x_iconst (n' := 64) (v := 1) dX5_init_63 (by decide) rfl ?_
            refine x_iand (n' := 65) dX5_init_64 rfl ?_
            refine x_iconst (n' := 66) (v := 1) dX5_init_65 (by decide) rfl ?_
            refine x_forkN (J := 74) (x_icmp_ne (n' := 69) (tgt := 73) dX5_init_66 (by decide) rfl) (v1 := ?v1_f66_5) (v2 := ?v2_f66_5) (fun c_f66_5 j_f66_5 => ?b1_f66_5) (fun c_f66_5 j_f66_5 => ?b2_f66_5) ?k_f66_5
            case b1_f66_5 =>
              refine x_iconst (n' := 74) (v := 0) dX5_init_73 (by decide) rfl ?_
              exact j_f66_5
            case b2_f66_5 =>
              refine x_iconst (n' := 70) (v := 1) dX5_init_69 (by decide) rfl ?_
              refine x_goto (tgt := 74) dX5_init_70 (by decide) ?_
              exact j_f66_5
            refine x_topv (y := bi (i / 1 % 2 = 1)) (by exact sg_f (sg_b1 i (by omega))) ?_
            refine x_iload_n (n' := 75) dX5_init_74 rfl rfl rfl ?_
            refine x_iconst (n' := 76) (v := 2) dX5_init_75 (by decide) rfl ?_
            refine x_iand (n' := 77) dX5_init_76 rfl ?_
            refine x_iconst (n' := 78) (v := 2) dX5_init_77 (by decide) rfl ?_
            refine x_forkN (J := 86) (x_icmp_ne (n' := 81) (tgt := 85) dX5_init_78 (by decide) rfl) (v1 := ?v1_f78_6) (v2 := ?v2_f78_6) (fun c_f78_6 j_f78_6 => ?b1_f78_6) (fun c_f78_6 j_f78_6 => ?b2_f78_6) ?k_f78_6
            case b1_f78_6 =>
              refine x_iconst (n' := 86) (v := 0) dX5_init_85 (by decide) rfl ?_
              exact j_f78_6
            case b2_f78_6 =>
              refine x_iconst (n' := 82) (v := 1) dX5_init_81 (by decide) rfl ?_
              refine x_goto (tgt := 86) dX5_init_82 (by decide) ?_
              exact j_f78_6
            refine x_topv (y := bi (i / 2 % 2 = 1)) (by exact sg_f (sg_b2 i (by omega))) ?_
            refine x_iload_n (n' := 87) dX5_init_86 rfl rfl rfl ?_
            refine x_iconst (n' := 88) (v := 4) dX5_init_87 (by decide) rfl ?_
            refine x_iand (n' := 89) dX5_init_88 rfl ?_
            refine x_iconst (n' := 90) (v := 4) dX5_init_89 (by decide) rfl ?_
            refine x_forkN (J := 98) (x_icmp_ne (n' := 93) (tgt := 97) dX5_init_90 (by decide) rfl) (v1 := ?v1_f90_7) (v2 := ?v2_f90_7) (fun c_f90_7 j_f90_7 => ?b1_f90_7) (fun c_f90_7 j_f90_7 => ?b2_f90_7) ?k_f90_7
            case b1_f90_7 =>
              refine x_iconst (n' := 98) (v := 0) dX5_init_97 (by decide) rfl ?_
              exact j_f90_7
            case b2_f90_7 =>
              refine x_iconst (n' := 94) (v := 1) dX5_init_93 (by decide) rfl ?_
              refine x_goto (tgt := 98) dX5_init_94 (by decide) ?_
              exact j_f90_7
            refine x_topv (y := bi (i / 4 % 2 = 1)) (by exact sg_f (sg_b4 i (by omega))) ?_
            refine x_callI (n' := 101) (ret := none) (n := 4) (c_X7_init l G _ sg (G.2.2.2 2) (i / 1 % 2 = 1) (i / 2 % 2 = 1) (i / 4 % 2 = 1) (by repeat' (first | with_reducible exact k_sg | with_reducible apply mK_A | with_reducible apply mK_I | with_reducible apply mK_L | with_reducible apply mK_R | with_reducible apply mK_O | with_reducible apply mK_G | with_reducible refine mK_NA ?_ (by assumption) | with_reducible refine mK_NO ?_ (by assumption) | with_reducible refine kE.ap hEc ?_ | with_reducible refine kE.ap hE_4 ?_))) dX5_init_98 (lw_meth q260) q87 q258 q259 rfl (by decide +kernel) ⟨(Nat.le_of_ble_eq_true rfl), (Nat.le_of_ble_eq_true rfl)⟩ rfl rfl (Nat.le_of_ble_eq_true rfl) (by first | exact Nat.le_of_ble_eq_true rfl | omega) (by first | exact Nat.le_of_ble_eq_true rfl | omega) rfl (fun v_8 M_9 h_11 hE_10 => ?_)
            obtain ⟨rfl, hMs⟩ := h_11
            have hMs := hMs.symm
            subst hMs
            refine x_aastE (n' := 102) (K := 126) dX5_init_101 (by repeat' (first | with_reducible exact hka | with_reducible apply mK_A | with_reducible apply mK_I | with_reducible apply mK_L | with_reducible apply mK_R | with_reducible apply mK_O | with_reducible apply mK_G | with_reducible refine mK_NA ?_ (by assumption) | with_reducible refine mK_NO ?_ (by assumption) | with_reducible refine kE.ap hEc ?_ | with_reducible refine kE.ap hE_4 ?_ | with_reducible refine kE.ap hE_10 ?_)) (by decide) (by decide) rfl (by repeat' (first | with_reducible exact k_sg | with_reducible apply mK_A | with_reducible apply mK_I | with_reducible apply mK_L | with_reducible apply mK_R | with_reducible apply mK_O | with_reducible apply mK_G | with_reducible refine mK_NA ?_ (by assumption) | with_reducible refine mK_NO ?_ (by assumption) | with_reducible refine kE.ap hEc ?_ | with_reducible refine kE.ap hE_4 ?_ | with_reducible refine kE.ap hE_10 ?_)) rfl (by show vp_in _ (mN M1 ar); rw [hI.2.2.2.2.2.1]; exact vp_in_nI (by omega) (by omega)) rfl ?_
            refine x_iinc (n' := 105) dX5_init_102 rfl (by first | exact nI_inc _ | exact nI_decp (by omega) | exact i_inc _ | rfl) (Nat.le_of_ble_eq_true rfl) rfl (by dsimp only [List.set] <;> rfl) rfl ?_
            refine x_goto (tgt := 15) dX5_init_105 (by decide) ?_
            have hstep := SGI.step (w := 2) hI (by omega) hq_sg (hcn.kE hEc) (sg_2 (by omega) (fun q => C25 ((sg_d0 i (by omega)).mpr q)) (fun q => C39 ((sg_d1 i (by omega)).mpr q))).symm rfl rfl rfl
            have hF9 : Fr (ow b) M1 (sO (sgN M1 sg 2 b (sgt i 1) (sgt i 2) (sgt i 4) G) ar (va_up (mO (sgN M1 sg 2 b (sgt i 1) (sgt i 2) (sgt i 4) G) ar) i (some sg))) := (sgN_fr hq_sg (by rw [hI.1]; exact fun e => by cases e)).O (Or.inr hI.2.2.2.2.1)
            refine x_room (cb2 := 24 - (i + 1)) (sb2 := 4 * (24 - (i + 1))) (by omega) (by omega) ?_
            rw [nI_clamp (by omega)]
            exact x_drop (ih ar (i + 1) _ (by omega) (by omega) hstep (hF.tr hF9)) ⟨rfl, ⟨rfl, trivial⟩⟩
          · have C39 := c39_3
            refine x_gets (n' := 45) dX5_init_42 (List.mem_of_getElem? (i := 1) rfl) q253 rfl ?_
            refine x_goto (tgt := 51) dX5_init_45 (by decide) ?_
            refine x_astore_n (n' := 52) dX5_init_51 rfl (Nat.le_of_ble_eq_true rfl) rfl (by dsimp only [List.set] <;> rfl) rfl ?_
            refine x_aload_n (n' := 53) dX5_init_52 rfl rfl rfl ?_
            refine x_getRs (n' := 56) (b := ar) dX5_init_53 (by repeat' (first | with_reducible exact hb1 | with_reducible apply mK_A | with_reducible apply mK_I | with_reducible apply mK_L | with_reducible apply mK_R | with_reducible apply mK_O | with_reducible apply mK_G | with_reducible refine mK_NA ?_ (by assumption) | with_reducible refine mK_NO ?_ (by assumption) | with_reducible refine kE.ap hEc ?_)) ffX5_9_5 rfl (by repeat' (first | with_reducible exact hra | with_reducible apply mR_A | with_reducible apply mR_I | with_reducible apply mR_L | with_reducible apply mR_R | with_reducible apply mR_O | with_reducible apply mR_G | with_reducible refine mR_NA ?_ (by assumption) (by assumption))) rfl ?_
            refine x_iload_n (n' := 57) dX5_init_56 rfl rfl rfl ?_
            refine x_new (n' := 60) (K := 7) dX5_init_57 (by decide) q249 q257 q87 (by first | exact Nat.le_of_ble_eq_true rfl | omega) (by first | exact Nat.le_of_ble_eq_true rfl | omega | (show 4 ≤ _; omega)) rfl (fun sg hq_sg hB_sg => ?_)
            have hE_12 := kE_nO (K := 7) hq_sg
            have k_sg := mK_nO_of hE_12
            refine x_ghost sg (b + 1) ?_
            refine x_dup (n' := 61) dX5_init_60 rfl rfl ?_
            refine x_aload_n (n' := 62) dX5_init_61 rfl rfl rfl ?_
            refine x_iload_n (n' := 63) dX5_init_62 rfl rfl rfl ?_
            refine x_iconst (n' := 64) (v := 1) dX5_init_63 (by decide) rfl ?_
            refine x_iand (n' := 65) dX5_init_64 rfl ?_
            refine x_iconst (n' := 66) (v := 1) dX5_init_65 (by decide) rfl ?_
            refine x_forkN (J := 74) (x_icmp_ne (n' := 69) (tgt := 73) dX5_init_66 (by decide) rfl) (v1 := ?v1_f66_13) (v2 := ?v2_f66_13) (fun c_f66_13 j_f66_13 => ?b1_f66_13) (fun c_f66_13 j_f66_13 => ?b2_f66_13) ?k_f66_13
            case b1_f66_13 =>
              refine x_iconst (n' := 74) (v := 0) dX5_init_73 (by decide) rfl ?_
              exact j_f66_13
            case b2_f66_13 =>
              refine x_iconst (n' := 70) (v := 1) dX5_init_69 (by decide) rfl ?_
              refine x_goto (tgt := 74) dX5_init_70 (by decide) ?_
              exact j_f66_13
            refine x_topv (y := bi (i / 1 % 2 = 1)) (by exact sg_f (sg_b1 i (by omega))) ?_
            refine x_iload_n (n' := 75) dX5_init_74 rfl rfl rfl ?_
            refine x_iconst (n' := 76) (v := 2) dX5_init_75 (by decide) rfl ?_
            refine x_iand (n' := 77) dX5_init_76 rfl ?_
            refine x_iconst (n' := 78) (v := 2) dX5_init_77 (by decide) rfl ?_
            refine x_forkN (J := 86) (x_icmp_ne (n' := 81) (tgt := 85) dX5_init_78 (by decide) rfl) (v1 := ?v1_f78_14) (v2 := ?v2_f78_14) (fun c_f78_14 j_f78_14 => ?b1_f78_14) (fun c_f78_14 j_f78_14 => ?b2_f78_14) ?k_f78_14
            case b1_f78_14 =>
              refine x_iconst (n' := 86) (v := 0) dX5_init_85 (by decide) rfl ?_
              exact j_f78_14
            case b2_f78_14 =>
              refine x_iconst (n' := 82) (v := 1) dX5_init_81 (by decide) rfl ?_
              refine x_goto (tgt := 86) dX5_init_82 (by decide) ?_
              exact j_f78_14
            refine x_topv (y := bi (i / 2 % 2 = 1)) (by exact sg_f (sg_b2 i (by omega))) ?_
            refine x_iload_n (n' := 87) dX5_init_86 rfl rfl rfl ?_
            refine x_iconst (n' := 88) (v := 4) dX5_init_87 (by decide) rfl ?_
            refine x_iand (n' := 89) dX5_init_88 rfl ?_
            refine x_iconst (n' := 90) (v := 4) dX5_init_89 (by decide) rfl ?_
            refine x_forkN (J := 98) (x_icmp_ne (n' := 93) (tgt := 97) dX5_init_90 (by decide) rfl) (v1 := ?v1_f90_15) (v2 := ?v2_f90_15) (fun c_f90_15 j_f90_15 => ?b1_f90_15) (fun c_f90_15 j_f90_15 => ?b2_f90_15) ?k_f90_15
            case b1_f90_15 =>
              refine x_iconst (n' := 98) (v := 0) dX5_init_97 (by decide) rfl ?_
              exact j_f90_15
            case b2_f90_15 =>
              refine x_iconst (n' := 94) (v := 1) dX5_init_93 (by decide) rfl ?_
              refine x_goto (tgt := 98) dX5_init_94 (by decide) ?_
              exact j_f90_15
            refine x_topv (y := bi (i / 4 % 2 = 1)) (by exact sg_f (sg_b4 i (by omega))) ?_
            refine x_callI (n' := 101) (ret := none) (n := 4) (c_X7_init l G _ sg (G.2.2.2 1) (i / 1 % 2 = 1) (i / 2 % 2 = 1) (i / 4 % 2 = 1) (by repeat' (first | with_reducible exact k_sg | with_reducible apply mK_A | with_reducible apply mK_I | with_reducible apply mK_L | with_reducible apply mK_R | with_reducible apply mK_O | with_reducible apply mK_G | with_reducible refine mK_NA ?_ (by assumption) | with_reducible refine mK_NO ?_ (by assumption) | with_reducible refine kE.ap hEc ?_ | with_reducible refine kE.ap hE_12 ?_))) dX5_init_98 (lw_meth q260) q87 q258 q259 rfl (by decide +kernel) ⟨(Nat.le_of_ble_eq_true rfl), (Nat.le_of_ble_eq_true rfl)⟩ rfl rfl (Nat.le_of_ble_eq_true rfl) (by first | exact Nat.le_of_ble_eq_true rfl | omega) (by first | exact Nat.le_of_ble_eq_true rfl | omega) rfl (fun v_16 M_17 h_19 hE_18 => ?_)
            obtain ⟨rfl, hMs⟩ := h_19
            have hMs := hMs.symm
            subst hMs
            refine x_aastE (n' := 102) (K := 126) dX5_init_101 (by repeat' (first | with_reducible exact hka | with_reducible apply mK_A | with_reducible apply mK_I | with_reducible apply mK_L | with_reducible apply mK_R | with_reducible apply mK_O | with_reducible apply mK_G | with_reducible refine mK_NA ?_ (by assumption) | with_reducible refine mK_NO ?_ (by assumption) | with_reducible refine kE.ap hEc ?_ | with_reducible refine kE.ap hE_12 ?_ | with_reducible refine kE.ap hE_18 ?_)) (by decide) (by decide) rfl (by repeat' (first | with_reducible exact k_sg | with_reducible apply mK_A | with_reducible apply mK_I | with_reducible apply mK_L | with_reducible apply mK_R | with_reducible apply mK_O | with_reducible apply mK_G | with_reducible refine mK_NA ?_ (by assumption) | with_reducible refine mK_NO ?_ (by assumption) | with_reducible refine kE.ap hEc ?_ | with_reducible refine kE.ap hE_12 ?_ | with_reducible refine kE.ap hE_18 ?_)) rfl (by show vp_in _ (mN M1 ar); rw [hI.2.2.2.2.2.1]; exact vp_in_nI (by omega) (by omega)) rfl ?_
            refine x_iinc (n' := 105) dX5_init_102 rfl (by first | exact nI_inc _ | exact nI_decp (by omega) | exact i_inc _ | rfl) (Nat.le_of_ble_eq_true rfl) rfl (by dsimp only [List.set] <;> rfl) rfl ?_
            refine x_goto (tgt := 15) dX5_init_105 (by decide) ?_
            have hstep := SGI.step (w := 1) hI (by omega) hq_sg (hcn.kE hEc) ((sg_d1 i (by omega)).mp C39).symm rfl rfl rfl
            have hF9 : Fr (ow b) M1 (sO (sgN M1 sg 1 b (sgt i 1) (sgt i 2) (sgt i 4) G) ar (va_up (mO (sgN M1 sg 1 b (sgt i 1) (sgt i 2) (sgt i 4) G) ar) i (some sg))) := (sgN_fr hq_sg (by rw [hI.1]; exact fun e => by cases e)).O (Or.inr hI.2.2.2.2.1)
            refine x_room (cb2 := 24 - (i + 1)) (sb2 := 4 * (24 - (i + 1))) (by omega) (by omega) ?_
            rw [nI_clamp (by omega)]
            exact x_drop (ih ar (i + 1) _ (by omega) (by omega) hstep (hF.tr hF9)) ⟨rfl, ⟨rfl, trivial⟩⟩
        · have C25 := c25_2
          refine x_gets (n' := 31) dX5_init_28 (List.mem_of_getElem? (i := 0) rfl) q251 rfl ?_
          refine x_goto (tgt := 51) dX5_init_31 (by decide) ?_
          refine x_astore_n (n' := 52) dX5_init_51 rfl (Nat.le_of_ble_eq_true rfl) rfl (by dsimp only [List.set] <;> rfl) rfl ?_
          refine x_aload_n (n' := 53) dX5_init_52 rfl rfl rfl ?_
          refine x_getRs (n' := 56) (b := ar) dX5_init_53 (by repeat' (first | with_reducible exact hb1 | with_reducible apply mK_A | with_reducible apply mK_I | with_reducible apply mK_L | with_reducible apply mK_R | with_reducible apply mK_O | with_reducible apply mK_G | with_reducible refine mK_NA ?_ (by assumption) | with_reducible refine mK_NO ?_ (by assumption) | with_reducible refine kE.ap hEc ?_)) ffX5_9_5 rfl (by repeat' (first | with_reducible exact hra | with_reducible apply mR_A | with_reducible apply mR_I | with_reducible apply mR_L | with_reducible apply mR_R | with_reducible apply mR_O | with_reducible apply mR_G | with_reducible refine mR_NA ?_ (by assumption) (by assumption))) rfl ?_
          refine x_iload_n (n' := 57) dX5_init_56 rfl rfl rfl ?_
          refine x_new (n' := 60) (K := 7) dX5_init_57 (by decide) q249 q257 q87 (by first | exact Nat.le_of_ble_eq_true rfl | omega) (by first | exact Nat.le_of_ble_eq_true rfl | omega | (show 4 ≤ _; omega)) rfl (fun sg hq_sg hB_sg => ?_)
          have hE_20 := kE_nO (K := 7) hq_sg
          have k_sg := mK_nO_of hE_20
          refine x_ghost sg (b + 1) ?_
          refine x_dup (n' := 61) dX5_init_60 rfl rfl ?_
          refine x_aload_n (n' := 62) dX5_init_61 rfl rfl rfl ?_
          refine x_iload_n (n' := 63) dX5_init_62 rfl rfl rfl ?_
          refine x_iconst (n' := 64) (v := 1) dX5_init_63 (by decide) rfl ?_
          refine x_iand (n' := 65) dX5_init_64 rfl ?_
          refine x_iconst (n' := 66) (v := 1) dX5_init_65 (by decide) rfl ?_
          refine x_forkN (J := 74) (x_icmp_ne (n' := 69) (tgt := 73) dX5_init_66 (by decide) rfl) (v1 := ?v1_f66_21) (v2 := ?v2_f66_21) (fun c_f66_21 j_f66_21 => ?b1_f66_21) (fun c_f66_21 j_f66_21 => ?b2_f66_21) ?k_f66_21
          case b1_f66_21 =>
            refine x_iconst (n' := 74) (v := 0) dX5_init_73 (by decide) rfl ?_
            exact j_f66_21
          case b2_f66_21 =>
            refine x_iconst (n' := 70) (v := 1) dX5_init_69 (by decide) rfl ?_
            refine x_goto (tgt := 74) dX5_init_70 (by decide) ?_
            exact j_f66_21
          refine x_topv (y := bi (i / 1 % 2 = 1)) (by exact sg_f (sg_b1 i (by omega))) ?_
          refine x_iload_n (n' := 75) dX5_init_74 rfl rfl rfl ?_
          refine x_iconst (n' := 76) (v := 2) dX5_init_75 (by decide) rfl ?_
          refine x_iand (n' := 77) dX5_init_76 rfl ?_
          refine x_iconst (n' := 78) (v := 2) dX5_init_77 (by decide) rfl ?_
          refine x_forkN (J := 86) (x_icmp_ne (n' := 81) (tgt := 85) dX5_init_78 (by decide) rfl) (v1 := ?v1_f78_22) (v2 := ?v2_f78_22) (fun c_f78_22 j_f78_22 => ?b1_f78_22) (fun c_f78_22 j_f78_22 => ?b2_f78_22) ?k_f78_22
          case b1_f78_22 =>
            refine x_iconst (n' := 86) (v := 0) dX5_init_85 (by decide) rfl ?_
            exact j_f78_22
          case b2_f78_22 =>
            refine x_iconst (n' := 82) (v := 1) dX5_init_81 (by decide) rfl ?_
            refine x_goto (tgt := 86) dX5_init_82 (by decide) ?_
            exact j_f78_22
          refine x_topv (y := bi (i / 2 % 2 = 1)) (by exact sg_f (sg_b2 i (by omega))) ?_
          refine x_iload_n (n' := 87) dX5_init_86 rfl rfl rfl ?_
          refine x_iconst (n' := 88) (v := 4) dX5_init_87 (by decide) rfl ?_
          refine x_iand (n' := 89) dX5_init_88 rfl ?_
          refine x_iconst (n' := 90) (v := 4) dX5_init_89 (by decide) rfl ?_
          refine x_forkN (J := 98) (x_icmp_ne (n' := 93) (tgt := 97) dX5_init_90 (by decide) rfl) (v1 := ?v1_f90_23) (v2 := ?v2_f90_23) (fun c_f90_23 j_f90_23 => ?b1_f90_23) (fun c_f90_23 j_f90_23 => ?b2_f90_23) ?k_f90_23
          case b1_f90_23 =>
            refine x_iconst (n' := 98) (v := 0) dX5_init_97 (by decide) rfl ?_
            exact j_f90_23
          case b2_f90_23 =>
            refine x_iconst (n' := 94) (v := 1) dX5_init_93 (by decide) rfl ?_
            refine x_goto (tgt := 98) dX5_init_94 (by decide) ?_
            exact j_f90_23
          refine x_topv (y := bi (i / 4 % 2 = 1)) (by exact sg_f (sg_b4 i (by omega))) ?_
          refine x_callI (n' := 101) (ret := none) (n := 4) (c_X7_init l G _ sg (G.2.2.2 0) (i / 1 % 2 = 1) (i / 2 % 2 = 1) (i / 4 % 2 = 1) (by repeat' (first | with_reducible exact k_sg | with_reducible apply mK_A | with_reducible apply mK_I | with_reducible apply mK_L | with_reducible apply mK_R | with_reducible apply mK_O | with_reducible apply mK_G | with_reducible refine mK_NA ?_ (by assumption) | with_reducible refine mK_NO ?_ (by assumption) | with_reducible refine kE.ap hEc ?_ | with_reducible refine kE.ap hE_20 ?_))) dX5_init_98 (lw_meth q260) q87 q258 q259 rfl (by decide +kernel) ⟨(Nat.le_of_ble_eq_true rfl), (Nat.le_of_ble_eq_true rfl)⟩ rfl rfl (Nat.le_of_ble_eq_true rfl) (by first | exact Nat.le_of_ble_eq_true rfl | omega) (by first | exact Nat.le_of_ble_eq_true rfl | omega) rfl (fun v_24 M_25 h_27 hE_26 => ?_)
          obtain ⟨rfl, hMs⟩ := h_27
          have hMs := hMs.symm
          subst hMs
          refine x_aastE (n' := 102) (K := 126) dX5_init_101 (by repeat' (first | with_reducible exact hka | with_reducible apply mK_A | with_reducible apply mK_I | with_reducible apply mK_L | with_reducible apply mK_R | with_reducible apply mK_O | with_reducible apply mK_G | with_reducible refine mK_NA ?_ (by assumption) | with_reducible refine mK_NO ?_ (by assumption) | with_reducible refine kE.ap hEc ?_ | with_reducible refine kE.ap hE_20 ?_ | with_reducible refine kE.ap hE_26 ?_)) (by decide) (by decide) rfl (by repeat' (first | with_reducible exact k_sg | with_reducible apply mK_A | with_reducible apply mK_I | with_reducible apply mK_L | with_reducible apply mK_R | with_reducible apply mK_O | with_reducible apply mK_G | with_reducible refine mK_NA ?_ (by assumption) | with_reducible refine mK_NO ?_ (by assumption) | with_reducible refine kE.ap hEc ?_ | with_reducible refine kE.ap hE_20 ?_ | with_reducible refine kE.ap hE_26 ?_)) rfl (by show vp_in _ (mN M1 ar); rw [hI.2.2.2.2.2.1]; exact vp_in_nI (by omega) (by omega)) rfl ?_
          refine x_iinc (n' := 105) dX5_init_102 rfl (by first | exact nI_inc _ | exact nI_decp (by omega) | exact i_inc _ | rfl) (Nat.le_of_ble_eq_true rfl) rfl (by dsimp only [List.set] <;> rfl) rfl ?_
          refine x_goto (tgt := 15) dX5_init_105 (by decide) ?_
          have hstep := SGI.step (w := 0) hI (by omega) hq_sg (hcn.kE hEc) ((sg_d0 i (by omega)).mp C25).symm rfl rfl rfl
          have hF9 : Fr (ow b) M1 (sO (sgN M1 sg 0 b (sgt i 1) (sgt i 2) (sgt i 4) G) ar (va_up (mO (sgN M1 sg 0 b (sgt i 1) (sgt i 2) (sgt i 4) G) ar) i (some sg))) := (sgN_fr hq_sg (by rw [hI.1]; exact fun e => by cases e)).O (Or.inr hI.2.2.2.2.1)
          refine x_room (cb2 := 24 - (i + 1)) (sb2 := 4 * (24 - (i + 1))) (by omega) (by omega) ?_
          rw [nI_clamp (by omega)]
          exact x_drop (ih ar (i + 1) _ (by omega) (by omega) hstep (hF.tr hF9)) ⟨rfl, ⟨rfl, trivial⟩⟩
  refine x_aload_n (n' := 1) dX5_init_0 rfl rfl rfl ?_
  refine x_objInit (n' := 4) dX5_init_1 q248 ⟨(Nat.le_of_ble_eq_true rfl), (Nat.le_of_ble_eq_true rfl)⟩ (Nat.le_of_ble_eq_true rfl) rfl ?_
  refine x_aload_n (n' := 5) dX5_init_4 rfl rfl rfl ?_
  refine x_bipush (n' := 7) (v := 24) dX5_init_5 (by decide) rfl ?_
  refine x_anewarr (n' := 10) (K := 126) (N := 24) dX5_init_7 (by decide) (by decide) rfl q249 q250 (by decide) (by decide) (by decide) (Nat.le_of_ble_eq_true rfl) (Nat.le_of_ble_eq_true rfl) rfl (fun ar hq_ar hB_ar => ?_)
  have hE_28 := kE_nA (K := 126) (n := 24) hq_ar
  have k_ar := mK_nA_of hE_28
  have ne_b_ar : b ≠ ar := kne hb hq_ar
  refine x_ghost ar (b + 1) ?_
  refine x_putRF (n' := 13) (v := some (ar)) dX5_init_10 (by repeat' (first | with_reducible exact hb | with_reducible apply mK_A | with_reducible apply mK_I | with_reducible apply mK_L | with_reducible apply mK_R | with_reducible apply mK_O | with_reducible apply mK_G | with_reducible refine mK_NA ?_ (by assumption) | with_reducible refine mK_NO ?_ (by assumption) | with_reducible refine kE.ap hE_28 ?_)) ffX5_9_5 rfl rfl hmn rfl rfl ?_
  refine x_iconst (n' := 14) (v := 0) dX5_init_13 (by decide) rfl ?_
  refine x_istore_n (n' := 15) dX5_init_14 rfl (Nat.le_of_ble_eq_true rfl) rfl (by dsimp only [List.set] <;> rfl) rfl ?_
  exact x_drop (cut15 25 ar 0 _ (by omega) (by omega) (SGI_0 hb hg hq_ar) (SGI_0f hq_ar hb hg)) ⟨rfl, ⟨rfl, trivial⟩⟩

def bn (c : Prop) [Decidable c] : Nat := if c then 1 else 0
theorem bi_bn {c : Prop} [Decidable c] : bi c = nI (bn c) := by unfold bi bn; split <;> rfl
theorem bn_le (c : Prop) [Decidable c] : bn c ≤ 1 := by unfold bn; split <;> omega
theorem of_k {w : Nat} (hw : w < 3) : (if bi (w = 1) = 0 then (if bi (w = 2) = 0 then (0 : Int32) else 16) else 8) = nI (8 * w) := by
  rcases (show w = 0 ∨ w = 1 ∨ w = 2 by omega) with rfl | rfl | rfl <;> decide
theorem of_i {w : Nat} {d lt sn : Prop} [Decidable d] [Decidable lt] [Decidable sn] : nI (8 * w) + bi d + 2 * bi lt + 4 * bi sn = nI (8 * w + bn d + 2 * bn lt + 4 * bn sn) := by
  rw [bi_bn, bi_bn, bi_bn, show (2 : Int32) = nI 2 from rfl, show (4 : Int32) = nI 4 from rfl, pk_mul, pk_mul, nI_add, nI_add, nI_add]
theorem of_s {w : Nat} {d lt sn : Prop} [Decidable d] [Decidable lt] [Decidable sn] : (8 * w + bn d + 2 * bn lt + 4 * bn sn) / 8 = w ∧ sgt (8 * w + bn d + 2 * bn lt + 4 * bn sn) 1 = bi d ∧ sgt (8 * w + bn d + 2 * bn lt + 4 * bn sn) 2 = bi lt ∧ sgt (8 * w + bn d + 2 * bn lt + 4 * bn sn) 4 = bi sn := by
  have a := bn_le d
  have b := bn_le lt
  have c := bn_le sn
  have k : ∀ (q : Prop) [Decidable q], (bn q = 1 ↔ q) := fun q _ => by unfold bn; split <;> simp [*]
  refine ⟨by omega, bi_c (Iff.trans ?_ (k d)), bi_c (Iff.trans ?_ (k lt)), bi_c (Iff.trans ?_ (k sn))⟩
  · constructor <;> intro h <;> omega
  · constructor <;> intro h <;> omega
  · constructor <;> intro h <;> omega
set_option maxHeartbeats 800000 in
set_option maxRecDepth 100000 in
theorem c_X5_of (l : Launch) (G : kG) (M : kM) (s w : Nat) (d lt sn : Prop) [Decidable d] [Decidable lt] [Decidable sn] (hs : SGS G M s) (hw : w < 3) (hcn : CN G M) : Kt l G yX5_of cX5_of 6 (some (.object "KeptLight$Sight")) 1 20 [.ref s, .ref (G.2.2.2 w), .int (bi d), .int (bi lt), .int (bi sn)] M (0) (0) (fun v M2 => ∃ sg, v = some (.ref sg) ∧ M2 = M ∧ SGP G M sg w (bi d) (bi lt) (bi sn) ∧ mG M sg = s + 1) := by
  refine Kt.of (own := "KeptLight$Sights") (L := [some (.ref s), some (.ref (G.2.2.2 w)), some (.int (bi d)), some (.int (bi lt)), some (.int (bi sn)), none]) (by decide +kernel) rfl (Nat.le_of_ble_eq_true rfl) rfl ?_
  intro pp ee ss mm args below meth cd hmn hret
  obtain ⟨ar, hI⟩ := hs
  have hks : mK M s = some 5 := hI.1
  have hkw : mK M (G.2.2.2 w) = some (200 + w) := hcn w (by omega)
  have hra : mR M (fc 5 0) s = some ar := hI.2.2.1
  have hka : mK M ar = some 126 := hI.2.2.2.1
  have hd1 := bn_le d
  have hd2 := bn_le lt
  have hd3 := bn_le sn
  obtain ⟨sg, z1, z2, z3⟩ := hI.2.2.2.2.2.2 (8 * w + bn d + 2 * bn lt + 4 * bn sn) (by omega)
  refine x_aload_n (n' := 1) dX5_of_0 rfl rfl rfl ?_
  refine x_disp3k (by repeat' (first | with_reducible exact hkw | with_reducible apply mK_A | with_reducible apply mK_I | with_reducible apply mK_L | with_reducible apply mK_R | with_reducible apply mK_O | with_reducible apply mK_G | with_reducible refine mK_NA ?_ (by assumption) | with_reducible refine mK_NO ?_ (by assumption))) (wi_k hw) (fun e8 hk8 k8 => x_callK (n' := 4) (K := 200) (v := 0) (x := ⟨"KeptLight$Weather", "wantsSound", "()Z"⟩) (y := yX6_wantsSound) (owner := "KeptLight$Weather") dX5_of_1 hk8 rfl q2640 q1059 (Or.inr ⟨q1058, _, _, _, q1065⟩) (by decide) q1060 q1058 q1065 (by decide +kernel) (by decide +kernel) (Or.inl ⟨_, dX6_wantsSound_0, rfl, dX6_wantsSound_1⟩) (by decide +kernel) ⟨(Nat.le_of_ble_eq_true rfl), (Nat.le_of_ble_eq_true rfl)⟩ (Nat.le_of_ble_eq_true rfl) rfl (x_topv (wi_s (w := w) (i := 0) (by decide) e8 rfl) k8)) (fun e8 hk8 k8 => x_callK (n' := 4) (K := 201) (v := 1) (x := ⟨"KeptLight$Weather", "wantsSound", "()Z"⟩) (y := yX28_wantsSound) (owner := "KeptLight$Weather") dX5_of_1 hk8 rfl q2640 q1059 (Or.inr ⟨q1058, _, _, _, q1065⟩) (by decide) q1061 q1062 q1063 (by decide +kernel) (by decide +kernel) (Or.inl ⟨_, dX28_wantsSound_0, rfl, dX28_wantsSound_1⟩) (by decide +kernel) ⟨(Nat.le_of_ble_eq_true rfl), (Nat.le_of_ble_eq_true rfl)⟩ (Nat.le_of_ble_eq_true rfl) rfl (x_topv (wi_s (w := w) (i := 1) (by decide) e8 rfl) k8)) (fun e8 hk8 k8 => x_callK (n' := 4) (K := 202) (v := 0) (x := ⟨"KeptLight$Weather", "wantsSound", "()Z"⟩) (y := yX6_wantsSound) (owner := "KeptLight$Weather") dX5_of_1 hk8 rfl q2640 q1059 (Or.inr ⟨q1058, _, _, _, q1065⟩) (by decide) q1064 q1058 q1065 (by decide +kernel) (by decide +kernel) (Or.inl ⟨_, dX6_wantsSound_0, rfl, dX6_wantsSound_1⟩) (by decide +kernel) ⟨(Nat.le_of_ble_eq_true rfl), (Nat.le_of_ble_eq_true rfl)⟩ (Nat.le_of_ble_eq_true rfl) rfl (x_topv (wi_s (w := w) (i := 2) (by decide) e8 rfl) k8)) ?_
  refine x_fork (J := 25) (x_if_eq (n' := 7) (tgt := 12) dX5_of_4 (by decide) rfl) (v1 := ?v1_f4_1) (v2 := ?v2_f4_1) (fun c_f4_1 j_f4_1 => ?b1_f4_1) (fun c_f4_1 j_f4_1 => ?b2_f4_1) ?k_f4_1
  case b1_f4_1 =>
    refine x_aload_n (n' := 13) dX5_of_12 rfl rfl rfl ?_
    refine x_disp3k (by repeat' (first | with_reducible exact hkw | with_reducible apply mK_A | with_reducible apply mK_I | with_reducible apply mK_L | with_reducible apply mK_R | with_reducible apply mK_O | with_reducible apply mK_G | with_reducible refine mK_NA ?_ (by assumption) | with_reducible refine mK_NO ?_ (by assumption))) (wi_k hw) (fun e8 hk8 k8 => x_callK (n' := 16) (K := 200) (v := 0) (x := ⟨"KeptLight$Weather", "isWild", "()Z"⟩) (y := yX6_isWild) (owner := "KeptLight$Weather") dX5_of_13 hk8 rfl q2641 q1035 (Or.inr ⟨q1034, _, _, _, q1041⟩) (by decide) q1036 q1034 q1041 (by decide +kernel) (by decide +kernel) (Or.inl ⟨_, dX6_isWild_0, rfl, dX6_isWild_1⟩) (by decide +kernel) ⟨(Nat.le_of_ble_eq_true rfl), (Nat.le_of_ble_eq_true rfl)⟩ (Nat.le_of_ble_eq_true rfl) rfl (x_topv (wi_w (w := w) (i := 0) (by decide) e8 rfl) k8)) (fun e8 hk8 k8 => x_callK (n' := 16) (K := 201) (v := 0) (x := ⟨"KeptLight$Weather", "isWild", "()Z"⟩) (y := yX6_isWild) (owner := "KeptLight$Weather") dX5_of_13 hk8 rfl q2641 q1035 (Or.inr ⟨q1034, _, _, _, q1041⟩) (by decide) q1037 q1034 q1041 (by decide +kernel) (by decide +kernel) (Or.inl ⟨_, dX6_isWild_0, rfl, dX6_isWild_1⟩) (by decide +kernel) ⟨(Nat.le_of_ble_eq_true rfl), (Nat.le_of_ble_eq_true rfl)⟩ (Nat.le_of_ble_eq_true rfl) rfl (x_topv (wi_w (w := w) (i := 1) (by decide) e8 rfl) k8)) (fun e8 hk8 k8 => x_callK (n' := 16) (K := 202) (v := 1) (x := ⟨"KeptLight$Weather", "isWild", "()Z"⟩) (y := yX29_isWild) (owner := "KeptLight$Weather") dX5_of_13 hk8 rfl q2641 q1035 (Or.inr ⟨q1034, _, _, _, q1041⟩) (by decide) q1038 q1039 q1040 (by decide +kernel) (by decide +kernel) (Or.inl ⟨_, dX29_isWild_0, rfl, dX29_isWild_1⟩) (by decide +kernel) ⟨(Nat.le_of_ble_eq_true rfl), (Nat.le_of_ble_eq_true rfl)⟩ (Nat.le_of_ble_eq_true rfl) rfl (x_topv (wi_w (w := w) (i := 2) (by decide) e8 rfl) k8)) ?_
    refine x_fork (J := 25) (x_if_eq (n' := 19) (tgt := 24) dX5_of_16 (by decide) rfl) (v1 := ?v1_f16_2) (v2 := ?v2_f16_2) (fun c_f16_2 j_f16_2 => ?b1_f16_2) (fun c_f16_2 j_f16_2 => ?b2_f16_2) ?k_f16_2
    case b1_f16_2 =>
      refine x_iconst (n' := 25) (v := 0) dX5_of_24 (by decide) rfl ?_
      exact j_f16_2
    case b2_f16_2 =>
      refine x_bipush (n' := 21) (v := 16) dX5_of_19 (by decide) rfl ?_
      refine x_goto (tgt := 25) dX5_of_21 (by decide) ?_
      exact j_f16_2
    exact j_f4_1
  case b2_f4_1 =>
    refine x_bipush (n' := 9) (v := 8) dX5_of_7 (by decide) rfl ?_
    refine x_goto (tgt := 25) dX5_of_9 (by decide) ?_
    exact j_f4_1
  refine x_topv (y := nI (8 * w)) (by exact of_k hw) ?_
  refine x_istore (n' := 27) dX5_of_25 (Nat.le_of_ble_eq_true rfl) rfl (by dsimp only [List.set] <;> rfl) rfl ?_
  refine x_aload_n (n' := 28) dX5_of_27 rfl rfl rfl ?_
  refine x_getRs (n' := 31) (b := ar) dX5_of_28 (by repeat' (first | with_reducible exact hks | with_reducible apply mK_A | with_reducible apply mK_I | with_reducible apply mK_L | with_reducible apply mK_R | with_reducible apply mK_O | with_reducible apply mK_G | with_reducible refine mK_NA ?_ (by assumption) | with_reducible refine mK_NO ?_ (by assumption))) ffX5_9_5 rfl (by repeat' (first | with_reducible exact hra | with_reducible apply mR_A | with_reducible apply mR_I | with_reducible apply mR_L | with_reducible apply mR_R | with_reducible apply mR_O | with_reducible apply mR_G | with_reducible refine mR_NA ?_ (by assumption) (by assumption))) rfl ?_
  refine x_iload (n' := 33) dX5_of_31 rfl rfl ?_
  refine x_iload_n (n' := 34) dX5_of_33 rfl rfl rfl ?_
  refine x_callSN (n' := 37) (n := 1) (c_X0_one l G _ _) dX5_of_34 (lw_meth q1032) q2642 q77 q1031 (by decide +kernel) ⟨(Nat.le_of_ble_eq_true rfl), (Nat.le_of_ble_eq_true rfl)⟩ rfl rfl (Nat.le_of_ble_eq_true rfl) (by first | exact Nat.le_of_ble_eq_true rfl | omega) (by first | exact Nat.le_of_ble_eq_true rfl | omega) rfl (fun v_3 M_4 h_6 hE_5 => ?_)
  obtain ⟨rfl, hMs⟩ := h_6
  have hMs := hMs.symm
  subst hMs
  rw [bi_if]
  refine x_iadd (n' := 38) dX5_of_37 rfl ?_
  refine x_iconst (n' := 39) (v := 2) dX5_of_38 (by decide) rfl ?_
  refine x_iload_n (n' := 40) dX5_of_39 rfl rfl rfl ?_
  refine x_callSN (n' := 43) (n := 1) (c_X0_one l G _ _) dX5_of_40 (lw_meth q1032) q2642 q77 q1031 (by decide +kernel) ⟨(Nat.le_of_ble_eq_true rfl), (Nat.le_of_ble_eq_true rfl)⟩ rfl rfl (Nat.le_of_ble_eq_true rfl) (by first | exact Nat.le_of_ble_eq_true rfl | omega) (by first | exact Nat.le_of_ble_eq_true rfl | omega) rfl (fun v_7 M_8 h_10 hE_9 => ?_)
  obtain ⟨rfl, hMs⟩ := h_10
  have hMs := hMs.symm
  subst hMs
  rw [bi_if]
  refine x_imul (n' := 44) dX5_of_43 rfl ?_
  refine x_iadd (n' := 45) dX5_of_44 rfl ?_
  refine x_iconst (n' := 46) (v := 4) dX5_of_45 (by decide) rfl ?_
  refine x_iload (n' := 48) dX5_of_46 rfl rfl ?_
  refine x_callSN (n' := 51) (n := 1) (c_X0_one l G _ _) dX5_of_48 (lw_meth q1032) q2642 q77 q1031 (by decide +kernel) ⟨(Nat.le_of_ble_eq_true rfl), (Nat.le_of_ble_eq_true rfl)⟩ rfl rfl (Nat.le_of_ble_eq_true rfl) (by first | exact Nat.le_of_ble_eq_true rfl | omega) (by first | exact Nat.le_of_ble_eq_true rfl | omega) rfl (fun v_11 M_12 h_14 hE_13 => ?_)
  obtain ⟨rfl, hMs⟩ := h_14
  have hMs := hMs.symm
  subst hMs
  rw [bi_if]
  refine x_imul (n' := 52) dX5_of_51 rfl ?_
  refine x_iadd (n' := 53) dX5_of_52 rfl ?_
  refine x_topv (y := nI (8 * w + bn d + 2 * bn lt + 4 * bn sn)) (by exact of_i) ?_
  refine x_aalds (n' := 54) (b := sg) dX5_of_53 (by repeat' (first | with_reducible exact hka | with_reducible apply mK_A | with_reducible apply mK_I | with_reducible apply mK_L | with_reducible apply mK_R | with_reducible apply mK_O | with_reducible apply mK_G | with_reducible refine mK_NA ?_ (by assumption) | with_reducible refine mK_NO ?_ (by assumption) | with_reducible refine kE.ap hE_5 ?_ | with_reducible refine kE.ap hE_9 ?_ | with_reducible refine kE.ap hE_13 ?_)) (by decide) (by decide) (by rw [hI.2.2.2.2.2.1]; exact vp_in_nI (by omega) (by omega)) (by rw [nI_clamp (by omega)]; exact z1) rfl ?_
  exact x_aret dX5_of_54 hret (Or.inl ⟨_, rfl⟩) (by repeat' (first | with_reducible exact kE.rf | with_reducible exact hE_5 | with_reducible exact hE_9 | with_reducible exact hE_13 | with_reducible apply kE_A | with_reducible apply kE_I | with_reducible apply kE_L | with_reducible apply kE_R | with_reducible apply kE_O | with_reducible apply kE_G | with_reducible refine kE.tr ?_ hE_5 | with_reducible refine kE.tr ?_ hE_9 | with_reducible refine kE.tr ?_ hE_13)) (⟨sg, rfl, rfl, by rw [of_s.1, of_s.2.1, of_s.2.2.1, of_s.2.2.2] at z3; exact z3, z2⟩)

set_option maxHeartbeats 800000 in
set_option maxRecDepth 100000 in
theorem c_X0_numberOf (l : Launch) (G : kG) (M : kM) (w : Nat) (hcn : CN G M) (hw : w < 3) : Kt l G yX0_numberOf cX0_numberOf 1 (some .int) 0 0 [.ref (G.2.2.2 w)] M (0) (0) (fun v M2 => v = some (.int (nI w)) ∧ M2 = M) := by
  refine Kt.of (own := "KeptLight") (L := [some (.ref (G.2.2.2 w))]) (by decide +kernel) rfl (Nat.le_of_ble_eq_true rfl) rfl ?_
  intro pp ee ss mm args below meth cd hmn hret
  refine x_aload_n (n' := 1) dX0_numberOf_0 rfl rfl rfl ?_
  refine x_gets (n' := 4) dX0_numberOf_1 (List.mem_of_getElem? (i := 0) rfl) q2770 rfl ?_
  refine x_acmp_ne (n' := 7) (rx := some ((G.2.2.2 w))) (ry := some ((G.2.2.2 0))) (tgt := 11) dX0_numberOf_4 (by decide) rfl (fun c4_1 => ?_) (fun c4_1 => ?_)
  · have C4 := c4_1
    refine x_aload_n (n' := 12) dX0_numberOf_11 rfl rfl rfl ?_
    refine x_gets (n' := 15) dX0_numberOf_12 (List.mem_of_getElem? (i := 1) rfl) q2771 rfl ?_
    refine x_acmp_ne (n' := 18) (rx := some ((G.2.2.2 w))) (ry := some ((G.2.2.2 1))) (tgt := 22) dX0_numberOf_15 (by decide) rfl (fun c15_2 => ?_) (fun c15_2 => ?_)
    · have C15 := c15_2
      refine x_iconst (n' := 23) (v := 2) dX0_numberOf_22 (by decide) rfl ?_
      exact x_iret dX0_numberOf_23 hret (by repeat' (first | with_reducible exact kE.rf | with_reducible apply kE_A | with_reducible apply kE_I | with_reducible apply kE_L | with_reducible apply kE_R | with_reducible apply kE_O | with_reducible apply kE_G)) (⟨congrArg (fun z => some (Value.int z)) (by first | exact cn_20 hcn hw C4 C15 | exact cn_10 hcn hw C15 | exact cn_00 hcn hw C4), rfl⟩)
    · have C15 := c15_2
      refine x_iconst (n' := 19) (v := 1) dX0_numberOf_18 (by decide) rfl ?_
      refine x_goto (tgt := 23) dX0_numberOf_19 (by decide) ?_
      exact x_iret dX0_numberOf_23 hret (by repeat' (first | with_reducible exact kE.rf | with_reducible apply kE_A | with_reducible apply kE_I | with_reducible apply kE_L | with_reducible apply kE_R | with_reducible apply kE_O | with_reducible apply kE_G)) (⟨congrArg (fun z => some (Value.int z)) (by first | exact cn_20 hcn hw C4 C15 | exact cn_10 hcn hw C15 | exact cn_00 hcn hw C4), rfl⟩)
  · have C4 := c4_1
    refine x_iconst (n' := 8) (v := 0) dX0_numberOf_7 (by decide) rfl ?_
    refine x_goto (tgt := 23) dX0_numberOf_8 (by decide) ?_
    exact x_iret dX0_numberOf_23 hret (by repeat' (first | with_reducible exact kE.rf | with_reducible apply kE_A | with_reducible apply kE_I | with_reducible apply kE_L | with_reducible apply kE_R | with_reducible apply kE_O | with_reducible apply kE_G)) (⟨congrArg (fun z => some (Value.int z)) (by first | exact cn_20 hcn hw C4 C15 | exact cn_10 hcn hw C15 | exact cn_00 hcn hw C4), rfl⟩)

set_option maxHeartbeats 800000 in
set_option maxRecDepth 100000 in
theorem c_X0_rankOf (l : Launch) (G : kG) (M : kM) (w : Nat) (hcn : CN G M) (hw : w < 3) : Kt l G yX0_rankOf cX0_rankOf 1 (some .int) 0 0 [.ref (G.2.2.2 (3 + w))] M (0) (0) (fun v M2 => v = some (.int (nI w)) ∧ M2 = M) := by
  refine Kt.of (own := "KeptLight") (L := [some (.ref (G.2.2.2 (3 + w)))]) (by decide +kernel) rfl (Nat.le_of_ble_eq_true rfl) rfl ?_
  intro pp ee ss mm args below meth cd hmn hret
  refine x_aload_n (n' := 1) dX0_rankOf_0 rfl rfl rfl ?_
  refine x_gets (n' := 4) dX0_rankOf_1 (List.mem_of_getElem? (i := 3) rfl) q1956 rfl ?_
  refine x_acmp_ne (n' := 7) (rx := some ((G.2.2.2 (3 + w)))) (ry := some ((G.2.2.2 3))) (tgt := 11) dX0_rankOf_4 (by decide) rfl (fun c4_1 => ?_) (fun c4_1 => ?_)
  · have C4 := c4_1
    refine x_aload_n (n' := 12) dX0_rankOf_11 rfl rfl rfl ?_
    refine x_gets (n' := 15) dX0_rankOf_12 (List.mem_of_getElem? (i := 4) rfl) q1958 rfl ?_
    refine x_acmp_ne (n' := 18) (rx := some ((G.2.2.2 (3 + w)))) (ry := some ((G.2.2.2 4))) (tgt := 22) dX0_rankOf_15 (by decide) rfl (fun c15_2 => ?_) (fun c15_2 => ?_)
    · have C15 := c15_2
      refine x_iconst (n' := 23) (v := 2) dX0_rankOf_22 (by decide) rfl ?_
      exact x_iret dX0_rankOf_23 hret (by repeat' (first | with_reducible exact kE.rf | with_reducible apply kE_A | with_reducible apply kE_I | with_reducible apply kE_L | with_reducible apply kE_R | with_reducible apply kE_O | with_reducible apply kE_G)) (⟨congrArg (fun z => some (Value.int z)) (by first | exact cn_23 hcn hw C4 C15 | exact cn_13 hcn hw C15 | exact cn_03 hcn hw C4), rfl⟩)
    · have C15 := c15_2
      refine x_iconst (n' := 19) (v := 1) dX0_rankOf_18 (by decide) rfl ?_
      refine x_goto (tgt := 23) dX0_rankOf_19 (by decide) ?_
      exact x_iret dX0_rankOf_23 hret (by repeat' (first | with_reducible exact kE.rf | with_reducible apply kE_A | with_reducible apply kE_I | with_reducible apply kE_L | with_reducible apply kE_R | with_reducible apply kE_O | with_reducible apply kE_G)) (⟨congrArg (fun z => some (Value.int z)) (by first | exact cn_23 hcn hw C4 C15 | exact cn_13 hcn hw C15 | exact cn_03 hcn hw C4), rfl⟩)
  · have C4 := c4_1
    refine x_iconst (n' := 8) (v := 0) dX0_rankOf_7 (by decide) rfl ?_
    refine x_goto (tgt := 23) dX0_rankOf_8 (by decide) ?_
    exact x_iret dX0_rankOf_23 hret (by repeat' (first | with_reducible exact kE.rf | with_reducible apply kE_A | with_reducible apply kE_I | with_reducible apply kE_L | with_reducible apply kE_R | with_reducible apply kE_O | with_reducible apply kE_G)) (⟨congrArg (fun z => some (Value.int z)) (by first | exact cn_23 hcn hw C4 C15 | exact cn_13 hcn hw C15 | exact cn_03 hcn hw C4), rfl⟩)
