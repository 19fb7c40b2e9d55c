def rlF (rl : Nat → List Nat) (fr m : Nat) : Nat → List Nat := fun y => if y < m then fgL (rl y) fr 0 else rl y
theorem CM.cg {G : kG} {M : kM} {c t q : Nat} {T : kT} {sa : Nat → Nat} {rl rl' : Nat → List Nat} {ex : Nat → Prop} (h : CM G M c t q T sa rl ex) (h1 : ∀ z, z < BB → mT T z = none → rl' z = []) (h2 : ∀ z l, mT T z = some l → rl' z = rl z) : CM G M c t q T sa rl' ex :=
  ⟨h.1, h.2.1, h.2.2.1, h1, fun z l e => by rw [h2 z l e]; exact h.2.2.2.2.1 z l e, h.2.2.2.2.2⟩
theorem fg_nil {fr i : Nat} : fgL [] fr i = [] := by unfold fgL; rw [List.take_nil, List.drop_nil]; rfl
theorem CM.step {G : kG} {M : kM} {c t q : Nat} {T : kT} {sa : Nat → Nat} {rl : Nat → List Nat} {ex : Nat → Prop} {fr m k : Nat} (h : CM G M c t q T sa (va_up (rlF rl fr m) k (fgL (rl k) fr 0)) ex) (hm : m ≤ k) (hn : ∀ y, m ≤ y → y < k → mT T y = none) : CM G M c t q T sa (rlF rl fr (k + 1)) ex := by
  refine h.cg (fun z hz e => ?_) (fun z l e => ?_)
  · have a := h.2.2.2.1 z hz e
    unfold rlF at a ⊢
    by_cases h1 : z = k
    · subst h1; rw [va_up_self] at a; rw [if_pos (by omega)]; exact a
    · rw [va_up_ne _ _ h1] at a
      by_cases h2 : z < m
      · rw [if_pos h2] at a; rw [if_pos (by omega)]; exact a
      · rw [if_neg h2] at a
        split
        · rw [a]; exact fg_nil
        · exact a
  · unfold rlF
    by_cases h1 : z = k
    · subst h1; rw [va_up_self, if_pos (by omega)]
    · rw [va_up_ne _ _ h1]
      by_cases h2 : z < m
      · rw [if_pos h2, if_pos (by omega)]
      · by_cases h3 : z < k
        · have := hn z (by omega) h3; rw [this] at e; cases e
        · rw [if_neg h2, if_neg (by omega)]
theorem CM.fin {G : kG} {M : kM} {c t q : Nat} {T : kT} {sa : Nat → Nat} {rl : Nat → List Nat} {ex : Nat → Prop} {fr m : Nat} (h : CM G M c t q T sa (rlF rl fr m) ex) (hx : NXF T m none) : CM G M c t q T sa (fun y => (rl y).filter (fun s => decide (s < fr))) ex := by
  have hn : ∀ z, m ≤ z → mT T z = none := fun z hz => mT_n.mpr (hx.1 rfl z hz)
  refine h.cg (fun z hz e => ?_) (fun z l e => ?_)
  · have a := h.2.2.2.1 z hz e
    unfold rlF at a
    by_cases h2 : z < m
    · rw [if_pos h2] at a; exact a
    · rw [if_neg h2] at a; rw [a]; rfl
  · unfold rlF
    by_cases h2 : z < m
    · rw [if_pos h2]; rfl
    · have := hn z (by omega); rw [this] at e; cases e
theorem CM.beg {G : kG} {M : kM} {c t q : Nat} {T : kT} {sa : Nat → Nat} {rl : Nat → List Nat} {ex : Nat → Prop} {fr : Nat} (h : CM G M c t q T sa rl ex) : CM G M c t q T sa (rlF rl fr 0) ex := h.cg (fun z hz e => by unfold rlF; rw [if_neg (by omega)]; exact h.2.2.2.1 z hz e) (fun z l _ => if_neg (by omega))
theorem CM.ent {G : kG} {M : kM} {c t q : Nat} {T : kT} {sa : Nat → Nat} {rl : Nat → List Nat} {ex : Nat → Prop} {fr m k : Nat} (h : CM G M c t q T sa (rlF rl fr m) ex) (hm : m ≤ k) : CM G M c t q T sa (va_up (rlF rl fr m) k (fgL (rl k) fr (rl k).length)) ex := by
  have e : va_up (rlF rl fr m) k (fgL (rl k) fr (rl k).length) = rlF rl fr m := by
    funext z
    unfold va_up
    by_cases h1 : z = k
    · subst h1; rw [if_pos rfl, fgL_n]; unfold rlF; rw [if_neg (by omega)]
    · rw [if_neg h1]
  rw [e]; exact h
theorem lt0_i {i : Nat} (hi : i < 2147483648) : nI i - 1 < 0 ↔ i = 0 := by
  cases i with
  | zero => exact ⟨fun _ => rfl, fun _ => by decide⟩
  | succ j =>
    rw [nI_prd]
    exact ⟨fun h => absurd ((nI_ltI (b := 0) (by omega) (by decide)).mp h) (by omega), fun h => by cases h⟩
theorem EX2 {ex : Nat → Prop} {t it : Nat} (h1 : ¬ ex t) (h2 : ¬ ex it) : ∀ o, (o = t + 1 ∨ o = it + 1) → EX ex o := fun o h => by
  rcases h with h | h
  · exact ⟨t, h, h1⟩
  · exact ⟨it, h, h2⟩
theorem kct84 {M : kM} {it l : Nat} (h : mK M it = some 84) (h2 : mK M l = some 45) (e : it = l) : False := by rw [e, h2] at h; exact absurd h (by decide)
theorem kq84 {M : kM} {q it : Nat} (h : mK M q = some 4) (h2 : mK M it = some 84) (e : q = it) : False := by rw [e, h2] at h; exact absurd h (by decide)
theorem vs_F {G : kG} {M M2 : kM} {c t q : Nat} {T : kT} {sa : Nat → Nat} {rl : Nat → List Nat} {ex : Nat → Prop} (h : CM G M c t q T sa rl ex) (hT : TM M2 (t + 1) t q T) (hF : Fr (fun z => z = t + 1) M M2) : CM G M2 c t q T sa rl ex :=
  ⟨h.1.fr hF (fun e => by cases e) (fun e => by have a := h.1.2.2.2.2.2.1; rw [Nat.succ.inj e, h.2.1.1.k] at a; exact absurd a (by decide)), hT, h.2.2.1, h.2.2.2.1, fun z l e => ⟨(h.2.2.2.2.1 z l e).1.fr hF (fun e2 => h.tl e (Nat.succ.inj e2).symm), (h.2.2.2.2.1 z l e).2⟩, h.2.2.2.2.2⟩
theorem fsX2_90 (K : Nat) (h : shC K) : FF "KeptLight$Coming" 90 K 0 "KeptLight$Ship" := by
  rcases h with rfl | rfl | rfl | rfl | rfl
  · exact ⟨by decide, by decide, q2070, Or.inl rfl⟩
  · exact ⟨by decide, by decide, q2070, Or.inl rfl⟩
  · exact ⟨by decide, by decide, q2070, Or.inl rfl⟩
  · exact ⟨by decide, by decide, q2070, Or.inl rfl⟩
  · exact ⟨by decide, by decide, q2070, Or.inl rfl⟩
set_option maxHeartbeats 4000000 in
set_option maxRecDepth 100000 in
theorem k40_c_X2_forgets (l : Launch) (G : kG) (M : kM) (c t q : Nat) (T : kT) (sa : Nat → Nat) (rl : Nat → List Nat) (ex : Nat → Prop) (kd : Nat → Int32) (fr : Nat) (hC : CM G M c t q T sa rl ex) (hN : ∀ y, ∀ s ∈ rl y, NM M c (sa s) s (kd s)) (hln0 : ∀ y, (rl y).length < 1000) (hfr : fr < 1000) (hs9 : ∀ y, ∀ s ∈ rl y, s < 1000) (hex : ∀ x, ex x → mK M x ≠ none) (hec : ex c) (pp : Program) (ee : Env) (ss : State) (mm : MethodId) (args : Array Value) (below : List Frame) (meth : Method) (cd : Code) (hmn : meth.name = yX2_forgets.name) (hret : meth.sig.returnType = none) : ∀ (fuel : Nat) (fu : Nat) (ih13 : ∀ (it m : Nat) (x lr : Option Nat) (T1 : kT) (M1 : kM) (h9 : BB - m < fu) (hm : m ≤ BB) (hit : ¬ ex it ∧ it ≠ t) (hC : CM G M1 c t q T1 sa (rlF rl fr m) ex) (hti : TI M1 t T1 it x lr) (hx : NXF T1 m x) (hN : ∀ y, ∀ s ∈ rl y, NM M1 c (sa s) s (kd s)) (hF : Fr (EX ex) M M1), Wx pp l ee { frames := 4, cells := 2, slots := 5, locals := 96 } ss mm args below meth cd "KeptLight$Coming" cX2_forgets 5 G (MQ below (KQ G M (fun v M2 => v = none ∧ ∃ T2, CM G M2 c t q T2 sa (fun y => (rl y).filter (fun s => decide (s < fr))) ex ∧ Fr (EX ex) M M2)) args ss (2) (5) (kA G)) 13 [some (.ref c), some (.int (nI fr)), some (.ref it), none, none] [] (M1) (0) (0)) (it m k a i l9 : Nat) (x : Option Nat) (T1 : kT) (M1 : kM) (h9 : i < fuel) (hfu : BB - m < fu + 1) (hm : m ≤ k) (hit : ¬ ex it ∧ it ≠ t) (hi : i ≤ (rl k).length) (ha : tN T1 k = some a) (hl : mT T1 k = some l9) (hmk : ∀ y, m ≤ y → y < k → mT T1 y = none) (hC : CM G M1 c t q T1 sa (va_up (rlF rl fr m) k (fgL (rl k) fr i)) ex) (hti : TI M1 t T1 it x (some k)) (hx : NXF T1 (k + 1) x) (hN : ∀ y, ∀ s ∈ rl y, NM M1 c (sa s) s (kd s)) (hF : Fr (EX ex) M M1), Wx pp l ee { frames := 4, cells := 2, slots := 5, locals := 96 } ss mm args below meth cd "KeptLight$Coming" cX2_forgets 5 G (MQ below (KQ G M (fun v M2 => v = none ∧ ∃ T2, CM G M2 c t q T2 sa (fun y => (rl y).filter (fun s => decide (s < fr))) ex ∧ Fr (EX ex) M M2)) args ss (2) (5) (kA G)) 40 [some (.ref c), some (.int (nI fr)), some (.ref it), some (.ref l9), some (.int (nI i - 1))] [] (M1) (0) (0) := by
  intro fuel
  induction fuel with
  | zero => intro fu ih13 it m k a i l9 x T1 M1 h9 hfu hm hit hi ha hl hmk hC hti hx hN hF; omega
  | succ fuel ih =>
    intro fu ih13 it m k a i l9 x T1 M1 h9 hfu hm hit hi ha hl hmk hC hti hx hN hF
    have hLS := (hC.2.2.2.2.1 k l9 hl).1
    rw [va_up_self] at hLS
    have hln : (rl k).length < 1000 := hln0 k
    have hkB := (hC.2.1.2.1 k a ha).1
    refine x_iload (n' := 42) dX2_forgets_40 rfl rfl ?_
    refine x_if_lt (n' := 45) (tgt := 74) dX2_forgets_42 (by decide) rfl (fun c42_1 => ?_) (fun c42_1 => ?_)
    · have hi0 : i = 0 := (lt0_i (by omega)).mp (by assumption)
      subst hi0
      obtain ⟨cp, hA⟩ := hLS
      refine x_aload_n (n' := 75) dX2_forgets_74 rfl rfl rfl ?_
      refine x_callV (n' := 78) (n := 0) (K := 45) (c_J5_isEmpty l G _ l9 _ cp _ hA) dX2_forgets_75 (hC.lk hl) rfl (lw_V q3149 q2575 q2576 q90 q2577) (by decide +kernel) ⟨(Nat.le_of_ble_eq_true rfl), (Nat.le_of_ble_eq_true rfl)⟩ rfl rfl (Nat.le_of_ble_eq_true rfl) (by first | exact Nat.le_of_ble_eq_true rfl | omega) (by first | exact Nat.le_of_ble_eq_true rfl | omega) rfl (fun v_2 M_3 h_5 hE_4 => ?_)
      obtain ⟨rfl, hMs⟩ := h_5
      have hMs := hMs.symm
      subst hMs
      refine x_if_eq (n' := 81) (tgt := 87) dX2_forgets_78 (by decide) rfl (fun c78_6 => ?_) (fun c78_6 => ?_)
      · refine x_goto (tgt := 13) dX2_forgets_87 (by decide) ?_
        exact x_drop (ih13 it (k + 1) x (some k) T1 _ (by omega) (by have := (hC.2.1.2.1 k a ha).1; omega) hit (hC.step hm hmk) hti hx hN hF) ⟨rfl, ⟨rfl, ⟨rfl, trivial⟩⟩⟩
      · have hemp : fgL (rl k) fr 0 = [] := List.length_eq_zero_iff.mp (bi_n0 (by assumption))
        refine x_aload_n (n' := 82) dX2_forgets_81 rfl rfl rfl ?_
        refine x_callF (n' := 87) (n := 0) (K := 84) (x := ⟨"java/util/Iterator", "remove", "()V"⟩) (c_J43_remove l G _ (t + 1) t q T1 it k a x hC.2.1 hti ha hx (fun e => hit.2 (Nat.succ.inj e))) dX2_forgets_82 (hti.1) (by decide) rfl (lw_F4 q3151 q3224 q3226 q137 q3228) ⟨q3153, q3152, q3227, q3225, q1765, by decide +kernel⟩ (by decide +kernel) ⟨(Nat.le_of_ble_eq_true rfl), (Nat.le_of_ble_eq_true rfl)⟩ rfl rfl (Nat.le_of_ble_eq_true rfl) (by first | exact Nat.le_of_ble_eq_true rfl | omega) (by first | exact Nat.le_of_ble_eq_true rfl | omega) rfl (fun v_7 M_8 h_9 hE_8 => ?_)
        obtain ⟨rfl, hR⟩ := h_9
        refine x_goto (tgt := 13) dX2_forgets_87 (by decide) ?_
        obtain ⟨T2, hT2, hn2, hm2, hx2, hti2, hF2⟩ := hR
        have hm3 : ∀ y, y ≠ k → mT T2 y = mT T1 y := hm2
        have hF3 := hF2.mono (EX2 hC.2.2.1.1 hit.1)
        have hC3 := (hC.less (k := k) (by rw [va_up_self]; exact hemp) hti.1 hT2 hn2 hm3 hF2).step hm (fun y h1 h2 => (hm3 y (by omega)).trans (hmk y h1 h2))
        exact x_drop (ih13 it (k + 1) x none T2 _ (by omega) (by have := (hC.2.1.2.1 k a ha).1; omega) hit hC3 hti2 hx2 (fun y s hs => (hN y s hs).fr hF3 (EX.c hec)) (hF.tr hF3)) ⟨rfl, ⟨rfl, ⟨rfl, trivial⟩⟩⟩
    · obtain ⟨j, rfl⟩ : ∃ j, i = j + 1 := ⟨i - 1, by have := mt (lt0_i (i := i) (by omega)).mpr (by assumption); omega⟩
      refine x_loc (i := 4) (y := nI j) rfl (nI_prd j) rfl ?_
      obtain ⟨cp, hA⟩ := hLS
      have hjn : j < (fgL (rl k) fr (j + 1)).length := fgL_l (by omega)
      obtain ⟨Ke, hKe, hCe, -, hNe, -⟩ := hN k _ (gD_mem (k := j) (by omega))
      have hsl := hs9 k _ (gD_mem (k := j) (by omega))
      rw [← fgL_g (L := rl k) (fr := fr) (by omega)] at hKe hNe
      refine x_aload_n (n' := 46) dX2_forgets_45 rfl rfl rfl ?_
      refine x_iload (n' := 48) dX2_forgets_46 rfl rfl ?_
      refine x_callV (n' := 51) (n := 1) (K := 45) (c_J5_get l G _ l9 _ cp _ j hA hjn) dX2_forgets_48 (hC.lk hl) rfl (lw_V q2548 q963 q964 q90 q965) (by decide +kernel) ⟨(Nat.le_of_ble_eq_true rfl), (Nat.le_of_ble_eq_true rfl)⟩ rfl rfl (Nat.le_of_ble_eq_true rfl) (by first | exact Nat.le_of_ble_eq_true rfl | omega) (by first | exact Nat.le_of_ble_eq_true rfl | omega) rfl (fun v_10 M_11 h_13 hE_12 => ?_)
      obtain ⟨rfl, hMs⟩ := h_13
      have hMs := hMs.symm
      subst hMs
      refine x_castY (n' := 54) (K := Ke) dX2_forgets_51 (by repeat' (first | with_reducible exact hKe | with_reducible apply mK_A | with_reducible apply mK_I | with_reducible apply mK_L | with_reducible apply mK_R | with_reducible apply mK_O | with_reducible apply mK_G | with_reducible refine mK_NA ?_ (by assumption) | with_reducible refine mK_NO ?_ (by assumption) | with_reducible refine kE.ap hE_12 ?_)) q2549 (ship_cast hCe) rfl ?_
      refine x_getIS (n' := 57) (K := Ke) (k := 0) dX2_forgets_54 (by repeat' (first | with_reducible exact hKe | with_reducible apply mK_A | with_reducible apply mK_I | with_reducible apply mK_L | with_reducible apply mK_R | with_reducible apply mK_O | with_reducible apply mK_G | with_reducible refine mK_NA ?_ (by assumption) | with_reducible refine mK_NO ?_ (by assumption) | with_reducible refine kE.ap hE_12 ?_)) hCe fsX2_90 (by decide) rfl ?_
      refine x_topv hNe ?_
      refine x_iload_n (n' := 58) dX2_forgets_57 rfl rfl rfl ?_
      refine x_icmp_lt (n' := 61) (tgt := 68) dX2_forgets_58 (by decide) rfl (fun c58_14 => ?_) (fun c58_14 => ?_)
      · refine x_iinc (n' := 71) dX2_forgets_68 rfl (show nI j + Int32.ofInt (-1) = nI j - 1 from by rw [Int32.sub_eq_add_neg]; rfl) (Nat.le_of_ble_eq_true rfl) rfl (by dsimp only [List.set] <;> rfl) rfl ?_
        refine x_goto (tgt := 40) dX2_forgets_71 (by decide) ?_
        rw [← fgL_k (by omega) (by rw [← fgL_g (L := rl k) (fr := fr) (by omega)]; exact (nI_ltI (by rw [fgL_g (by omega)]; omega) (by omega)).mp (by assumption))] at hC
        exact x_drop (ih fu ih13 it m k a j l9 x T1 _ (by omega) hfu hm hit (by omega) ha hl hmk hC hti hx hN hF) ⟨rfl, ⟨rfl, ⟨rfl, ⟨rfl, ⟨rfl, trivial⟩⟩⟩⟩⟩
      · refine x_aload_n (n' := 62) dX2_forgets_61 rfl rfl rfl ?_
        refine x_iload (n' := 64) dX2_forgets_62 rfl rfl ?_
        refine x_callV (n' := 67) (n := 1) (K := 45) (c_J5_remove l G _ l9 _ cp j _ hA hjn) dX2_forgets_64 (hC.lk hl) rfl (lw_V q3148 q2898 q2899 q90 q2900) (by decide +kernel) ⟨(Nat.le_of_ble_eq_true rfl), (Nat.le_of_ble_eq_true rfl)⟩ rfl rfl (Nat.le_of_ble_eq_true rfl) (by first | exact Nat.le_of_ble_eq_true rfl | omega) (by first | exact Nat.le_of_ble_eq_true rfl | omega) rfl (fun v_15 M_7 h_17 hE_16 => ?_)
        obtain ⟨rfl, hA9, hF9⟩ := h_17
        refine x_gen (X := fun M9 => CM G M9 c t q T1 sa (va_up (rlF rl fr m) k (fgL (rl k) fr j)) ex ∧ TI M9 t T1 it x (some k) ∧ (∀ y, ∀ s ∈ rl y, NM M9 c (sa s) s (kd s)) ∧ Fr (EX ex) M M9) ⟨by have a9 := hC.rep hl hF9 (LSS.del hjn hA9); rw [up_up, ← fgL_x (by omega) (fun e9 => (by assumption : ¬ nI ((fgL (rl k) fr (j + 1)).getD j 0) < nI fr) ((nI_ltI (by rw [fgL_g (by omega)]; omega) (by omega)).mpr (by rw [fgL_g (by omega)]; exact e9)))] at a9; exact a9, hti.fr hF9 (fun e9 => kct84 hti.1 (hC.lk hl) (Nat.succ.inj e9)) hC.2.1.1.k hC.2.1.1.g (fun e9 => hC.tl hl (Nat.succ.inj e9)), fun y s hs => (hN y s hs).fr hF9 (fun e9 => EX.c hec (hC.repF hl _ e9)), hF.tr (hF9.mono (hC.repF hl))⟩ (fun M_9 hM9 => ?_)
        obtain ⟨hC, hti, hN, hF⟩ := hM9
        refine x_pop (n' := 68) dX2_forgets_67 rfl rfl ?_
        refine x_iinc (n' := 71) dX2_forgets_68 rfl (show nI j + Int32.ofInt (-1) = nI j - 1 from by rw [Int32.sub_eq_add_neg]; rfl) (Nat.le_of_ble_eq_true rfl) rfl (by dsimp only [List.set] <;> rfl) rfl ?_
        refine x_goto (tgt := 40) dX2_forgets_71 (by decide) ?_
        exact x_drop (ih fu ih13 it m k a j l9 x T1 _ (by omega) hfu hm hit (by omega) ha hl hmk hC hti hx hN hF) ⟨rfl, ⟨rfl, ⟨rfl, ⟨rfl, ⟨rfl, trivial⟩⟩⟩⟩⟩
set_option maxHeartbeats 4000000 in
set_option maxRecDepth 100000 in
theorem k13_c_X2_forgets (l : Launch) (G : kG) (M : kM) (c t q : Nat) (T : kT) (sa : Nat → Nat) (rl : Nat → List Nat) (ex : Nat → Prop) (kd : Nat → Int32) (fr : Nat) (hC : CM G M c t q T sa rl ex) (hN : ∀ y, ∀ s ∈ rl y, NM M c (sa s) s (kd s)) (hln0 : ∀ y, (rl y).length < 1000) (hfr : fr < 1000) (hs9 : ∀ y, ∀ s ∈ rl y, s < 1000) (hex : ∀ x, ex x → mK M x ≠ none) (hec : ex c) (pp : Program) (ee : Env) (ss : State) (mm : MethodId) (args : Array Value) (below : List Frame) (meth : Method) (cd : Code) (hmn : meth.name = yX2_forgets.name) (hret : meth.sig.returnType = none) : ∀ (fuel : Nat) (it m : Nat) (x lr : Option Nat) (T1 : kT) (M1 : kM) (h9 : BB - m < fuel) (hm : m ≤ BB) (hit : ¬ ex it ∧ it ≠ t) (hC : CM G M1 c t q T1 sa (rlF rl fr m) ex) (hti : TI M1 t T1 it x lr) (hx : NXF T1 m x) (hN : ∀ y, ∀ s ∈ rl y, NM M1 c (sa s) s (kd s)) (hF : Fr (EX ex) M M1), Wx pp l ee { frames := 4, cells := 2, slots := 5, locals := 96 } ss mm args below meth cd "KeptLight$Coming" cX2_forgets 5 G (MQ below (KQ G M (fun v M2 => v = none ∧ ∃ T2, CM G M2 c t q T2 sa (fun y => (rl y).filter (fun s => decide (s < fr))) ex ∧ Fr (EX ex) M M2)) args ss (2) (5) (kA G)) 13 [some (.ref c), some (.int (nI fr)), some (.ref it), none, none] [] (M1) (0) (0) := by
  have cut40 := k40_c_X2_forgets l G M c t q T sa rl ex kd fr hC hN hln0 hfr hs9 hex hec pp ee ss mm args below meth cd hmn hret
  intro fuel
  induction fuel with
  | zero => intro it m x lr T1 M1 h9 hm hit hC hti hx hN hF; omega
  | succ fuel ih =>
    intro it m x lr T1 M1 h9 hm hit hC hti hx hN hF
    refine x_aload_n (n' := 14) dX2_forgets_13 rfl rfl rfl ?_
    refine x_callF (n' := 19) (n := 0) (K := 84) (x := ⟨"java/util/Iterator", "hasNext", "()Z"⟩) (c_J43_hasNext l G _ t it T1 x lr hti (fun j e => (hx.2 j e).1)) dX2_forgets_14 (hti.1) (by decide) rfl (lw_F4 q3145 q1766 q1768 q137 q1770) ⟨q1733, q1732, q1769, q1767, q1765, by decide +kernel⟩ (by decide +kernel) ⟨(Nat.le_of_ble_eq_true rfl), (Nat.le_of_ble_eq_true rfl)⟩ rfl rfl (Nat.le_of_ble_eq_true rfl) (by first | exact Nat.le_of_ble_eq_true rfl | omega) (by first | exact Nat.le_of_ble_eq_true rfl | omega) rfl (fun v_18 M_19 h_21 hE_20 => ?_)
    obtain ⟨rfl, hMs⟩ := h_21
    have hMs := hMs.symm
    subst hMs
    refine x_if_eq (n' := 22) (tgt := 90) dX2_forgets_19 (by decide) rfl (fun c19_22 => ?_) (fun c19_22 => ?_)
    · have hx0 : x = none := Decidable.byContradiction (fun e => absurd (by assumption : (if x = none then (0 : Int32) else 1) = 0) (by rw [if_neg e]; decide))
      subst hx0
      exact x_vret dX2_forgets_90 hret hF.kE (⟨rfl, T1, hC.fin hx, hF⟩)
    · obtain ⟨k, rfl⟩ : ∃ k, x = some k := rot_r (fun e => by subst e; exact (by assumption : ¬ _) rfl)
      have hxk := hx.2 k rfl
      obtain ⟨a, ha⟩ : ∃ a, tN T1 k = some a := rot_r hxk.1
      refine x_aload_n (n' := 23) dX2_forgets_22 rfl rfl rfl ?_
      refine x_callF (n' := 28) (n := 0) (K := 84) (x := ⟨"java/util/Iterator", "next", "()Ljava/lang/Object;"⟩) (c_J44_next l G _ (t + 1) t q T1 it k a lr hC.2.1 hti ha) dX2_forgets_23 (hti.1) (by decide) rfl (lw_F4 q3147 q1908 q1910 q138 q1912) ⟨q1775, q1774, q1911, q1909, q1765, by decide +kernel⟩ (by decide +kernel) ⟨(Nat.le_of_ble_eq_true rfl), (Nat.le_of_ble_eq_true rfl)⟩ rfl rfl (Nat.le_of_ble_eq_true rfl) (by first | exact Nat.le_of_ble_eq_true rfl | omega) (by first | exact Nat.le_of_ble_eq_true rfl | omega) rfl (fun v_23 M_24 h_26 hE_25 => ?_)
      obtain ⟨rfl, x2, hx2, hMs⟩ := h_26
      subst hMs
      have hFn := nxM_fr (y := x2.bind (tN T1)) (a := a) hti
      refine x_castE (n' := 31) dX2_forgets_28 ((hC.lk (mT_i ha))) rfl q2466 rfl ?_
      refine x_gen (X := fun M9 => CM G M9 c t q T1 sa (va_up (rlF rl fr m) k (fgL (rl k) fr (rl k).length)) ex ∧ TI M9 t T1 it x2 (some k) ∧ (∀ y, ∀ s ∈ rl y, NM M9 c (sa s) s (kd s)) ∧ Fr (EX ex) M M9) ⟨(hC.fr0 hFn (fun e => by cases e) (fun e => hit.2 (Nat.succ.inj e).symm) (fun e => kq84 hC.1.2.2.2.2.2.1 hti.1 (Nat.succ.inj e)) (fun z l e e2 => kct84 hti.1 (hC.lk e) (Nat.succ.inj e2).symm)).ent hxk.2.1, nxM_TI hti ha, fun y s hs => (hN y s hs).fr hFn (fun e => EX.c hec ⟨it, e, hit.1⟩), hF.tr (hFn.mono (fun _ e => ⟨it, e, hit.1⟩))⟩ (fun M_9 hM9 => ?_)
      obtain ⟨hC, hti, hN, hF⟩ := hM9
      obtain ⟨cp, hA⟩ := (hC.2.2.2.2.1 k _ (mT_i ha)).1
      rw [va_up_self, fgL_n] at hA
      have hlen := hA.lec
      refine x_astore_n (n' := 32) dX2_forgets_31 rfl (Nat.le_of_ble_eq_true rfl) rfl (by dsimp only [List.set] <;> rfl) rfl ?_
      refine x_aload_n (n' := 33) dX2_forgets_32 rfl rfl rfl ?_
      refine x_callV (n' := 36) (n := 0) (K := 45) (c_J5_size l G _ (tV T1 k) _ cp _ hA) dX2_forgets_33 (hA.kk) rfl (lw_V q2547 q959 q960 q90 q961) (by decide +kernel) ⟨(Nat.le_of_ble_eq_true rfl), (Nat.le_of_ble_eq_true rfl)⟩ rfl rfl (Nat.le_of_ble_eq_true rfl) (by first | exact Nat.le_of_ble_eq_true rfl | omega) (by first | exact Nat.le_of_ble_eq_true rfl | omega) rfl (fun v_27 M_28 h_30 hE_29 => ?_)
      obtain ⟨rfl, hMs⟩ := h_30
      have hMs := hMs.symm
      subst hMs
      refine x_iconst (n' := 37) (v := 1) dX2_forgets_36 (by decide) rfl ?_
      refine x_isub (n' := 38) dX2_forgets_37 rfl ?_
      refine x_istore (n' := 40) dX2_forgets_38 (Nat.le_of_ble_eq_true rfl) rfl (by dsimp only [List.set] <;> rfl) rfl ?_
      exact x_drop (cut40 ((rl k).length + 1) fuel ih it m k a (rl k).length (tV T1 k) x2 T1 _ (by omega) (by omega) hxk.2.1 hit (Nat.le_refl _) ha (mT_i ha) (fun y h1 h2 => mT_n.mpr (hxk.2.2 y h1 h2)) hC hti hx2 hN hF) ⟨rfl, ⟨rfl, ⟨rfl, ⟨rfl, ⟨rfl, trivial⟩⟩⟩⟩⟩
set_option maxHeartbeats 4000000 in
set_option maxRecDepth 100000 in
theorem c_X2_forgets (l : Launch) (G : kG) (M : kM) (c t q : Nat) (T : kT) (sa : Nat → Nat) (rl : Nat → List Nat) (ex : Nat → Prop) (kd : Nat → Int32) (fr : Nat) (hC : CM G M c t q T sa rl ex) (hN : ∀ y, ∀ s ∈ rl y, NM M c (sa s) s (kd s)) (hln0 : ∀ y, (rl y).length < 1000) (hfr : fr < 1000) (hs9 : ∀ y, ∀ s ∈ rl y, s < 1000) (hex : ∀ x, ex x → mK M x ≠ none) (hec : ex c) : Kt l G yX2_forgets cX2_forgets 5 none 4 96 [.ref c, .int (nI fr)] M (2) (5) (fun v M2 => v = none ∧ ∃ T2, CM G M2 c t q T2 sa (fun y => (rl y).filter (fun s => decide (s < fr))) ex ∧ Fr (EX ex) M M2) := by
  refine Kt.of (own := "KeptLight$Coming") (L := [some (.ref c), some (.int (nI fr)), none, none, none]) (by decide +kernel) rfl (Nat.le_of_ble_eq_true rfl) rfl ?_
  intro pp ee ss mm args below meth cd hmn hret
  have cut40 := k40_c_X2_forgets l G M c t q T sa rl ex kd fr hC hN hln0 hfr hs9 hex hec pp ee ss mm args below meth cd hmn hret
  have cut13 := k13_c_X2_forgets l G M c t q T sa rl ex kd fr hC hN hln0 hfr hs9 hex hec pp ee ss mm args below meth cd hmn hret
  refine x_aload_n (n' := 1) dX2_forgets_0 rfl rfl rfl ?_
  refine x_getRs (n' := 4) (b := t) dX2_forgets_1 (hC.1.1) ffX2_10_2 rfl (hC.1.2.2.1) rfl ?_
  refine x_callV (n' := 7) (n := 0) (K := 41) (c_J1_values l G _ (t + 1) t q T hC.2.1 (Or.inr (by rw [show t + 1 - 1 = t from rfl, hC.2.1.1.k]; exact fun e => by cases e))) dX2_forgets_4 (hC.2.1.1.k) rfl (lw_V q3128 q3129 q3130 q81 q3131) (by decide +kernel) ⟨(Nat.le_of_ble_eq_true rfl), (Nat.le_of_ble_eq_true rfl)⟩ rfl rfl (Nat.le_of_ble_eq_true rfl) (by first | exact Nat.le_of_ble_eq_true rfl | omega) (by first | exact Nat.le_of_ble_eq_true rfl | omega) rfl (fun v_31 M_4 h_33 hE_32 => ?_)
  obtain ⟨vs, rfl, hvk, hvr, hTv, hFv0⟩ := h_33
  have hCv := vs_F hC hTv hFv0
  have hFv : Fr (EX ex) M M_4 := hFv0.mono (fun _ e => ⟨t, e, hC.2.2.1.1⟩)
  have hNv : ∀ y, ∀ s ∈ rl y, NM M_4 c (sa s) s (kd s) := fun y s hs => (hN y s hs).fr hFv (EX.c hec)
  refine x_callF (n' := 12) (n := 0) (K := 90) (x := ⟨"java/util/Collection", "iterator", "()Ljava/util/Iterator;"⟩) (c_J50_iterator l G _ (t + 1) t q T vs hTv hvk hvr) dX2_forgets_7 (hvk) (by decide) rfl (lw_F4 q3143 q2999 q1702 q158 q1703) ⟨q2987, q2986, q3001, q3000, q1556, by decide +kernel⟩ (by decide +kernel) ⟨(Nat.le_of_ble_eq_true rfl), (Nat.le_of_ble_eq_true rfl)⟩ rfl rfl (Nat.le_of_ble_eq_true rfl) (by first | exact Nat.le_of_ble_eq_true rfl | omega) (by first | exact Nat.le_of_ble_eq_true rfl | omega) rfl (fun v_34 M_5 h_36 hE_35 => ?_)
  obtain ⟨it, x, rfl, hitn, hx, hti, hFi⟩ := h_36
  refine x_gen (X := fun M9 => CM G M9 c t q T sa (rlF rl fr 0) ex ∧ TI M9 t T it x none ∧ (∀ y, ∀ s ∈ rl y, NM M9 c (sa s) s (kd s)) ∧ Fr (EX ex) M M9) ⟨(hCv.fr hFi (fun _ w => w.elim)).beg, hti, fun y s hs => (hNv y s hs).fr hFi id, hFv.tr (hFi.mono (fun _ w => w.elim))⟩ (fun M_9 hM9 => ?_)
  obtain ⟨hC, hti, hN, hF⟩ := hM9
  have hit : ¬ ex it ∧ it ≠ t := ⟨fun e => hex it e (nk_back hFv.kE hitn), fun e => by rw [e, hCv.2.1.1.k] at hitn; cases hitn⟩
  refine x_astore_n (n' := 13) dX2_forgets_12 rfl (Nat.le_of_ble_eq_true rfl) rfl (by dsimp only [List.set] <;> rfl) rfl ?_
  exact x_drop (cut13 (BB + 1) it 0 x none T _ (by omega) (Nat.zero_le _) hit hC hti hx hN hF) ⟨rfl, ⟨rfl, ⟨rfl, trivial⟩⟩⟩
