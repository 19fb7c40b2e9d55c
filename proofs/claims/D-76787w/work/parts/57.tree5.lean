/-- the least key from m on -/
def NXF (T : kT) (m : Nat) (x : Option Nat) : Prop := (x = none → ∀ y, m ≤ y → tN T y = none) ∧ ∀ s, x = some s → tN T s ≠ none ∧ m ≤ s ∧ ∀ y, m ≤ y → y < s → tN T y = none
theorem nn9 {o : Option Nat} (h : ¬ o ≠ none) : o = none := by
  cases o with
  | none => rfl
  | some a => exact absurd (fun e => by cases e) h
theorem NXF_s {T : kT} {m s a : Nat} (h : tN T s = some a) (h1 : m ≤ s) (h2 : ∀ y, m ≤ y → y < s → ¬ tN T y ≠ none) : NXF T m (some s) := ⟨fun e => (by cases e), fun s' e => by cases e; exact ⟨nns h, h1, fun y a b => nn9 (h2 y a b)⟩⟩
theorem NXF_n {T : kT} {m : Nat} (h : ∀ y, m ≤ y → ¬ tN T y ≠ none) : NXF T m none := ⟨fun _ y hy => nn9 (h y hy), fun s' e => by cases e⟩
set_option maxHeartbeats 800000 in
set_option maxRecDepth 100000 in
theorem c_J1_successor (l : Launch) (G : kG) (M : kM) (o t asd : Nat) (T : kT) (k a : Nat) (lo hi : Nat → Nat) (hP : PT M o t asd T) (hW : WTT T lo hi) (hk : tN T k = some a) : Kt l G yJ1_successor cJ1_successor 3 (some (.object "java/util/TreeMap$Entry")) 0 0 [.ref a] M (0) (0) (fun v M2 => ∃ x, v = some (va_rf (x.bind (tN T))) ∧ M2 = M ∧ NXF T (k + 1) x) := by
  refine Kt.of (own := "java/util/TreeMap") (L := [some (.ref a), none, none]) (by decide +kernel) rfl (Nat.le_of_ble_eq_true rfl) rfl ?_
  intro pp ee ss mm args below meth cd hmn hret
  have cut46 : ∀ (fuel : Nat) (c ch p p1 : Nat) (h9 : BB - (hi c - lo c) < fuel) (hc : tN T c = some ch) (hp : tN T p = some p1) (hcp : tP T c = some p) (hh : hi c = hi k) (hr : tR T k = none), Wx pp l ee { frames := 0, cells := 0, slots := 0, locals := 0 } ss mm args below meth cd "java/util/TreeMap" cJ1_successor 3 G (MQ below (KQ G M (fun v M2 => ∃ x, v = some (va_rf (x.bind (tN T))) ∧ M2 = M ∧ NXF T (k + 1) x)) args ss (0) (0) (kA G)) 46 [some (.ref a), some (.ref p1), some (.ref ch)] [] (M) (0) (0) := by
    intro fuel
    induction fuel with
    | zero => intro c ch p p1 h9 hc hp hcp hh hr; omega
    | succ fuel ih =>
      intro c ch p p1 h9 hc hp hcp hh hr
      refine x_aload_n (n' := 47) dJ1_successor_46 rfl rfl rfl ?_
      refine x_aload_n (n' := 48) dJ1_successor_47 rfl rfl rfl ?_
      refine x_getR (n' := 51) dJ1_successor_48 (hP.nk hp) ffJ1_114_88 rfl rfl ?_
      refine x_acmp_ne (n' := 54) (rx := some (ch)) (ry := (mR M (fc 88 3) p1)) (tgt := 64) dJ1_successor_51 (by decide) rfl (fun c51_1 => ?_) (fun c51_1 => ?_)
      · have hpl : tL T p = some c := hW.sideR (nns hc) hcp (fun e9 => absurd (by rw [hP.rr hp, e9]; exact hc.symm) (by assumption : ¬ some ch = mR M (fc 88 3) p1))
        refine x_aload_n (n' := 65) dJ1_successor_64 rfl rfl rfl ?_
        exact x_aret dJ1_successor_65 hret (Or.inl ⟨_, rfl⟩) (by repeat' (first | with_reducible exact kE.rf | with_reducible apply kE_A | with_reducible apply kE_I | with_reducible apply kE_L | with_reducible apply kE_R | with_reducible apply kE_O | with_reducible apply kE_G)) (⟨some p, congrArg (fun z => some (va_rf z)) (show some p1 = tN T p from hp.symm), rfl, NXF_s hp (by have a9 := hW.2.2.1 p c (nns hp) hpl; have b9 := hW.1 k (nns hk); omega) (fun y h1 h2 hd => hW.2.2.2.1 k (nns hk) hr y (by omega) (by have a9 := hW.2.2.1 p c (nns hp) hpl; omega) hd)⟩)
      · obtain ⟨c2, hc2, hc3⟩ := hP.rs hp (b := ch) (Eq.symm (by assumption))
        have hpr : tR T p = some c := by rw [hP.inj hc hc3]; exact hc2
        have h7 := hW.2.2.2.2.1 p c (nns hp) hpr
        refine x_aload_n (n' := 55) dJ1_successor_54 rfl rfl rfl ?_
        refine x_astore_n (n' := 56) dJ1_successor_55 rfl (Nat.le_of_ble_eq_true rfl) rfl (by dsimp only [List.set] <;> rfl) rfl ?_
        refine x_aload_n (n' := 57) dJ1_successor_56 rfl rfl rfl ?_
        refine x_getRc (n' := 60) dJ1_successor_57 (hP.nk hp) ffJ1_124_88 rfl rfl (fun e57_2 => ?_) (fun bp e57_2 => ?_)
        · refine x_astore_nN (n' := 61) dJ1_successor_60 rfl (Nat.le_of_ble_eq_true rfl) rfl (by dsimp only [List.set] <;> rfl) rfl ?_
          refine x_goto (tgt := 42) dJ1_successor_61 (by decide) ?_
          refine x_aload_nN (n' := 43) dJ1_successor_42 rfl rfl rfl ?_
          refine x_ifnullN (tgt := 64) dJ1_successor_43 (by decide) ?_
          refine x_aload_nN (n' := 65) dJ1_successor_64 rfl rfl rfl ?_
          exact x_aretN dJ1_successor_65 hret (Or.inl ⟨_, rfl⟩) (by repeat' (first | with_reducible exact kE.rf | with_reducible apply kE_A | with_reducible apply kE_I | with_reducible apply kE_L | with_reducible apply kE_R | with_reducible apply kE_O | with_reducible apply kE_G)) (⟨none, rfl, rfl, NXF_n (fun y hy hd => by have e9 := hW.2.2.2.2.2.1 p (nns hp) (hP.pn hW hp (by assumption)); have a9 := hW.2.2.2.2.2.2.2.2.1 p e9; have b9 := hW.1 y hd; exact hW.2.2.2.1 k (nns hk) hr y (by omega) (by omega) hd)⟩)
        · have k_bp : mK _ bp = some 88 := (by obtain ⟨j, -, h⟩ := hP.ps hp e57_2; exact hP.nk h)
          refine x_astore_n (n' := 61) dJ1_successor_60 rfl (Nat.le_of_ble_eq_true rfl) rfl (by dsimp only [List.set] <;> rfl) rfl ?_
          refine x_goto (tgt := 42) dJ1_successor_61 (by decide) ?_
          refine x_aload_n (n' := 43) dJ1_successor_42 rfl rfl rfl ?_
          refine x_ifnull (n' := 46) dJ1_successor_43 rfl ?_
          obtain ⟨j2, hj1, hj2⟩ := hP.ps hp (b := bp) (by assumption)
          have hu1 := hW.up (nns hc) hcp
          have ivp := hW.1 p (nns hp)
          exact x_drop (ih p p1 j2 bp (by omega) hp hj2 hj1 (by omega) hr) ⟨rfl, ⟨rfl, ⟨rfl, trivial⟩⟩⟩
  have cut18 : ∀ (fuel : Nat) (j p1 : Nat) (h9 : j < fuel) (hj : tN T j = some p1) (hl : lo j = k + 1), Wx pp l ee { frames := 0, cells := 0, slots := 0, locals := 0 } ss mm args below meth cd "java/util/TreeMap" cJ1_successor 3 G (MQ below (KQ G M (fun v M2 => ∃ x, v = some (va_rf (x.bind (tN T))) ∧ M2 = M ∧ NXF T (k + 1) x)) args ss (0) (0) (kA G)) 18 [some (.ref a), some (.ref p1), none] [] (M) (0) (0) := by
    intro fuel
    induction fuel with
    | zero => intro j p1 h9 hj hl; omega
    | succ fuel ih =>
      intro j p1 h9 hj hl
      refine x_aload_n (n' := 19) dJ1_successor_18 rfl rfl rfl ?_
      refine x_getRc (n' := 22) dJ1_successor_19 (hP.nk hj) ffJ1_111_88 rfl rfl (fun e19_3 => ?_) (fun bl e19_3 => ?_)
      · refine x_ifnullN (tgt := 33) dJ1_successor_22 (by decide) ?_
        refine x_aload_n (n' := 34) dJ1_successor_33 rfl rfl rfl ?_
        exact x_aret dJ1_successor_34 hret (Or.inl ⟨_, rfl⟩) (by repeat' (first | with_reducible exact kE.rf | with_reducible apply kE_A | with_reducible apply kE_I | with_reducible apply kE_L | with_reducible apply kE_R | with_reducible apply kE_O | with_reducible apply kE_G)) (⟨some j, congrArg (fun z => some (va_rf z)) (show some p1 = tN T j from hj.symm), rfl, NXF_s hj (by have b9 := hW.1 j (nns hj); omega) (fun y h1 h2 hd => hW.2.1 j (nns hj) (hP.ln hW hj (by assumption)) y (by omega) h2 hd)⟩)
      · have k_bl : mK _ bl = some 88 := (by obtain ⟨j, -, h⟩ := hP.ls hj e19_3; exact hP.nk h)
        refine x_ifnull (n' := 25) dJ1_successor_22 rfl ?_
        refine x_aload_n (n' := 26) dJ1_successor_25 rfl rfl rfl ?_
        refine x_getRs (n' := 29) (b := bl) dJ1_successor_26 (hP.nk hj) ffJ1_111_88 rfl ((by assumption)) rfl ?_
        refine x_astore_n (n' := 30) dJ1_successor_29 rfl (Nat.le_of_ble_eq_true rfl) rfl (by dsimp only [List.set] <;> rfl) rfl ?_
        refine x_goto (tgt := 18) dJ1_successor_30 (by decide) ?_
        obtain ⟨j2, hj1, hj2⟩ := hP.ls hj (b := bl) (by assumption)
        have h8 := hW.2.2.1 j j2 (nns hj) hj1
        have iv9 := hW.1 j2 (nns hj2)
        exact x_drop (ih j2 bl (by omega) hj2 (by omega)) ⟨rfl, ⟨rfl, trivial⟩⟩
  refine x_aload_n (n' := 1) dJ1_successor_0 rfl rfl rfl ?_
  refine x_ifnonnull (tgt := 6) dJ1_successor_1 (by decide) ?_
  refine x_aload_n (n' := 7) dJ1_successor_6 rfl rfl rfl ?_
  refine x_getRc (n' := 10) dJ1_successor_7 (hP.nk hk) ffJ1_114_88 rfl rfl (fun e7_4 => ?_) (fun br e7_4 => ?_)
  · refine x_ifnullN (tgt := 35) dJ1_successor_10 (by decide) ?_
    have hr : tR T k = none := hP.rn hW hk (by assumption)
    refine x_aload_n (n' := 36) dJ1_successor_35 rfl rfl rfl ?_
    refine x_getRc (n' := 39) dJ1_successor_36 (hP.nk hk) ffJ1_124_88 rfl rfl (fun e36_5 => ?_) (fun bp e36_5 => ?_)
    · refine x_astore_nN (n' := 40) dJ1_successor_39 rfl (Nat.le_of_ble_eq_true rfl) rfl (by dsimp only [List.set] <;> rfl) rfl ?_
      refine x_aload_n (n' := 41) dJ1_successor_40 rfl rfl rfl ?_
      refine x_astore_n (n' := 42) dJ1_successor_41 rfl (Nat.le_of_ble_eq_true rfl) rfl (by dsimp only [List.set] <;> rfl) rfl ?_
      refine x_aload_nN (n' := 43) dJ1_successor_42 rfl rfl rfl ?_
      refine x_ifnullN (tgt := 64) dJ1_successor_43 (by decide) ?_
      refine x_aload_nN (n' := 65) dJ1_successor_64 rfl rfl rfl ?_
      exact x_aretN dJ1_successor_65 hret (Or.inl ⟨_, rfl⟩) (by repeat' (first | with_reducible exact kE.rf | with_reducible apply kE_A | with_reducible apply kE_I | with_reducible apply kE_L | with_reducible apply kE_R | with_reducible apply kE_O | with_reducible apply kE_G)) (⟨none, rfl, rfl, NXF_n (fun y hy hd => by have e9 := hW.2.2.2.2.2.1 k (nns hk) (hP.pn hW hk (by assumption)); have a9 := hW.2.2.2.2.2.2.2.2.1 k e9; have b9 := hW.1 y hd; exact hW.2.2.2.1 k (nns hk) hr y (by omega) (by omega) hd)⟩)
    · have k_bp : mK _ bp = some 88 := (by obtain ⟨j, -, h⟩ := hP.ps hk e36_5; exact hP.nk h)
      refine x_astore_n (n' := 40) dJ1_successor_39 rfl (Nat.le_of_ble_eq_true rfl) rfl (by dsimp only [List.set] <;> rfl) rfl ?_
      refine x_aload_n (n' := 41) dJ1_successor_40 rfl rfl rfl ?_
      refine x_astore_n (n' := 42) dJ1_successor_41 rfl (Nat.le_of_ble_eq_true rfl) rfl (by dsimp only [List.set] <;> rfl) rfl ?_
      refine x_aload_n (n' := 43) dJ1_successor_42 rfl rfl rfl ?_
      refine x_ifnull (n' := 46) dJ1_successor_43 rfl ?_
      obtain ⟨j, hj1, hj2⟩ := hP.ps hk (b := bp) (by assumption)
      exact x_drop (cut46 (BB + 1) k a j bp (by omega) hk hj2 hj1 rfl hr) ⟨rfl, ⟨rfl, ⟨rfl, trivial⟩⟩⟩
  · have k_br : mK _ br = some 88 := (by obtain ⟨j, -, h⟩ := hP.rs hk e7_4; exact hP.nk h)
    refine x_ifnull (n' := 13) dJ1_successor_10 rfl ?_
    refine x_aload_n (n' := 14) dJ1_successor_13 rfl rfl rfl ?_
    refine x_getRs (n' := 17) (b := br) dJ1_successor_14 (hP.nk hk) ffJ1_114_88 rfl ((by assumption)) rfl ?_
    refine x_astore_n (n' := 18) dJ1_successor_17 rfl (Nat.le_of_ble_eq_true rfl) rfl (by dsimp only [List.set] <;> rfl) rfl ?_
    obtain ⟨j, hj1, hj2⟩ := hP.rs hk (b := br) (by assumption)
    have h9 := hW.2.2.2.2.1 k j (nns hk) hj1
    exact x_drop (cut18 (j + 1) j br (by omega) hj2 (by omega)) ⟨rfl, ⟨rfl, trivial⟩⟩

set_option maxHeartbeats 800000 in
set_option maxRecDepth 100000 in
theorem c_J1_getFirstEntry (l : Launch) (G : kG) (M : kM) (o t asd : Nat) (T : kT) (lo hi : Nat → Nat) (hP : PT M o t asd T) (hW : WTT T lo hi) : Kt l G yJ1_getFirstEntry cJ1_getFirstEntry 2 (some (.object "java/util/TreeMap$Entry")) 0 0 [.ref t] M (0) (0) (fun v M2 => ∃ x, v = some (va_rf (x.bind (tN T))) ∧ M2 = M ∧ NXF T 0 x) := by
  refine Kt.of (own := "java/util/TreeMap") (L := [some (.ref t), none]) (by decide +kernel) rfl (Nat.le_of_ble_eq_true rfl) rfl ?_
  intro pp ee ss mm args below meth cd hmn hret
  have cut9 : ∀ (fuel : Nat) (j p1 : Nat) (h9 : j < fuel) (hj : tN T j = some p1) (hl : lo j = 0), Wx pp l ee { frames := 0, cells := 0, slots := 0, locals := 0 } ss mm args below meth cd "java/util/TreeMap" cJ1_getFirstEntry 2 G (MQ below (KQ G M (fun v M2 => ∃ x, v = some (va_rf (x.bind (tN T))) ∧ M2 = M ∧ NXF T 0 x)) args ss (0) (0) (kA G)) 9 [some (.ref t), some (.ref p1)] [] (M) (0) (0) := by
    intro fuel
    induction fuel with
    | zero => intro j p1 h9 hj hl; omega
    | succ fuel ih =>
      intro j p1 h9 hj hl
      refine x_aload_n (n' := 10) dJ1_getFirstEntry_9 rfl rfl rfl ?_
      refine x_getRc (n' := 13) dJ1_getFirstEntry_10 (hP.nk hj) ffJ1_111_88 rfl rfl (fun e10_1 => ?_) (fun bl e10_1 => ?_)
      · refine x_ifnullN (tgt := 24) dJ1_getFirstEntry_13 (by decide) ?_
        refine x_aload_n (n' := 25) dJ1_getFirstEntry_24 rfl rfl rfl ?_
        exact x_aret dJ1_getFirstEntry_25 hret (Or.inl ⟨_, rfl⟩) (by repeat' (first | with_reducible exact kE.rf | with_reducible apply kE_A | with_reducible apply kE_I | with_reducible apply kE_L | with_reducible apply kE_R | with_reducible apply kE_O | with_reducible apply kE_G)) (⟨some j, congrArg (fun z => some (va_rf z)) (show some p1 = tN T j from hj.symm), rfl, NXF_s hj (by omega) (fun y h1 h2 hd => hW.2.1 j (nns hj) (hP.ln hW hj (by assumption)) y (by omega) h2 hd)⟩)
      · have k_bl : mK _ bl = some 88 := (by obtain ⟨j, -, h⟩ := hP.ls hj e10_1; exact hP.nk h)
        refine x_ifnull (n' := 16) dJ1_getFirstEntry_13 rfl ?_
        refine x_aload_n (n' := 17) dJ1_getFirstEntry_16 rfl rfl rfl ?_
        refine x_getRs (n' := 20) (b := bl) dJ1_getFirstEntry_17 (hP.nk hj) ffJ1_111_88 rfl ((by assumption)) rfl ?_
        refine x_astore_n (n' := 21) dJ1_getFirstEntry_20 rfl (Nat.le_of_ble_eq_true rfl) rfl (by dsimp only [List.set] <;> rfl) rfl ?_
        refine x_goto (tgt := 9) dJ1_getFirstEntry_21 (by decide) ?_
        obtain ⟨j2, hj1, hj2⟩ := hP.ls hj (b := bl) (by assumption)
        have h8 := hW.2.2.1 j j2 (nns hj) hj1
        have iv9 := hW.1 j2 (nns hj2)
        exact x_drop (ih j2 bl (by omega) hj2 (by omega)) ⟨rfl, ⟨rfl, trivial⟩⟩
  refine x_aload_n (n' := 1) dJ1_getFirstEntry_0 rfl rfl rfl ?_
  refine x_getRc (n' := 4) dJ1_getFirstEntry_1 (hP.k) ffJ1_101_41 rfl rfl (fun e1_2 => ?_) (fun br e1_2 => ?_)
  · refine x_astore_nN (n' := 5) dJ1_getFirstEntry_4 rfl (Nat.le_of_ble_eq_true rfl) rfl (by dsimp only [List.set] <;> rfl) rfl ?_
    refine x_aload_nN (n' := 6) dJ1_getFirstEntry_5 rfl rfl rfl ?_
    refine x_ifnullN (tgt := 24) dJ1_getFirstEntry_6 (by decide) ?_
    refine x_aload_nN (n' := 25) dJ1_getFirstEntry_24 rfl rfl rfl ?_
    exact x_aretN dJ1_getFirstEntry_25 hret (Or.inl ⟨_, rfl⟩) (by repeat' (first | with_reducible exact kE.rf | with_reducible apply kE_A | with_reducible apply kE_I | with_reducible apply kE_L | with_reducible apply kE_R | with_reducible apply kE_O | with_reducible apply kE_G)) (⟨none, rfl, rfl, NXF_n (fun y _ => hW.2.2.2.2.2.2.2.1 (hP.tn hW (by assumption)) y)⟩)
  · have k_br : mK _ br = some 88 := (by obtain ⟨j, -, h⟩ := hP.ts e1_2; exact hP.nk h)
    refine x_astore_n (n' := 5) dJ1_getFirstEntry_4 rfl (Nat.le_of_ble_eq_true rfl) rfl (by dsimp only [List.set] <;> rfl) rfl ?_
    refine x_aload_n (n' := 6) dJ1_getFirstEntry_5 rfl rfl rfl ?_
    refine x_ifnull (n' := 9) dJ1_getFirstEntry_6 rfl ?_
    obtain ⟨j, hj1, hj2⟩ := hP.ts (b := br) (by assumption)
    have h9 := hW.2.2.2.2.2.2.2.2.1 j hj1
    exact x_drop (cut9 (j + 1) j br (by omega) hj2 (by omega)) ⟨rfl, ⟨rfl, trivial⟩⟩
