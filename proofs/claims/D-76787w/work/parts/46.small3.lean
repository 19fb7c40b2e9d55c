/-- a keeper: number, rank, tired, tended, slept -/
def KPP (G : kG) (M : kM) (b i r : Nat) (ti te sl : Int32) (o : Nat) : Prop := mK M b = some 15 ∧ mG M b = o ∧ mI M (fc 15 0) b = nI i ∧ mR M (fc 15 1) b = some (G.2.2.2 (3 + r)) ∧ r < 3 ∧ mK M (G.2.2.2 (3 + r)) = some (203 + r) ∧ mI M (fc 15 2) b = ti ∧ mI M (fc 15 3) b = te ∧ mI M (fc 15 4) b = sl
/-- an entry -/
def ENP (M : kM) (b : Nat) (h s x k : Int32) : Prop := mK M b = some 25 ∧ mG M b = 0 ∧ mI M (fc 25 0) b = h ∧ mI M (fc 25 1) b = s ∧ mI M (fc 25 2) b = x ∧ mI M (fc 25 3) b = k
/-- a spell -/
def SPP (G : kG) (M : kM) (b w : Nat) (n : Int32) : Prop := mK M b = some 14 ∧ mG M b = 0 ∧ mR M (fc 14 0) b = some (G.2.2.2 w) ∧ w < 3 ∧ mK M (G.2.2.2 w) = some (200 + w) ∧ mI M (fc 14 1) b = n
theorem ENP.fr {M M' : kM} {b : Nat} {h s x k : Int32} {S : Nat → Prop} (q : ENP M b h s x k) (hF : Fr S M M') (hS : ¬ S 0) : ENP M' b h s x k := by
  have a := hF.1 b (by rw [q.1]; exact fun e => by cases e)
  have c := a.2.2 (by rw [q.2.1]; exact hS)
  exact ⟨by rw [a.1]; exact q.1, by rw [a.2.1]; exact q.2.1, by rw [c.1]; exact q.2.2.1, by rw [c.1]; exact q.2.2.2.1, by rw [c.1]; exact q.2.2.2.2.1, by rw [c.1]; exact q.2.2.2.2.2⟩
theorem SPP.fr {G : kG} {M M' : kM} {b w : Nat} {n : Int32} {S : Nat → Prop} (q : SPP G M b w n) (hF : Fr S M M') (hS : ¬ S 0) : SPP G M' b w n := by
  have a := hF.1 b (by rw [q.1]; exact fun e => by cases e)
  have c := a.2.2 (by rw [q.2.1]; exact hS)
  exact ⟨by rw [a.1]; exact q.1, by rw [a.2.1]; exact q.2.1, by rw [c.2.1]; exact q.2.2.1, q.2.2.2.1, hF.kE _ _ q.2.2.2.2.1, by rw [c.1]; exact q.2.2.2.2.2⟩
theorem KPP.fr {G : kG} {M M' : kM} {b i r o : Nat} {ti te sl : Int32} {S : Nat → Prop} (q : KPP G M b i r ti te sl o) (hF : Fr S M M') (hS : ¬ S o) : KPP G M' b i r ti te sl o := by
  obtain ⟨q1, q2, q3, q4, q5, q6, q7, q8, q9⟩ := q
  have a := hF.1 b (by rw [q1]; exact fun e => by cases e)
  have c := a.2.2 (by rw [q2]; exact hS)
  exact ⟨by rw [a.1]; exact q1, by rw [a.2.1]; exact q2, by rw [c.1]; exact q3, by rw [c.2.1]; exact q4, q5, hF.kE _ _ q6, by rw [c.1]; exact q7, by rw [c.1]; exact q8, by rw [c.1]; exact q9⟩
theorem SHP.fr {M M' : kM} {b K o : Nat} {n h f m : Int32} {S : Nat → Prop} (q : SHP M b K n h f m o) (hF : Fr S M M') (hS : ¬ S o) : SHP M' b K n h f m o := by
  obtain ⟨q1, q2, q3, q4, q5, q6, q7⟩ := q
  have a := hF.1 b (by rw [q1]; exact fun e => by cases e)
  have c := a.2.2 (by rw [q3]; exact hS)
  exact ⟨by rw [a.1]; exact q1, q2, by rw [a.2.1]; exact q3, by rw [c.1]; exact q4, by rw [c.1]; exact q5, by rw [c.1]; exact q6, by rw [c.1]; exact q7⟩
theorem rk_0 {r : Int32} (h : r = 0) : 3 + nn r = 3 := by subst h; decide
theorem rk_1 {r : Int32} (h : r = 1) : 3 + nn r = 4 := by subst h; decide
theorem rk_2 {r : Int32} (h : 0 ≤ r ∧ r ≤ 2) (h0 : ¬ r = 0) (h1 : ¬ r = 1) : 3 + nn r = 5 := by
  have e : r = 2 := by
    have a := Int32.le_iff_toInt_le.mp h.1
    have b := Int32.le_iff_toInt_le.mp h.2
    have b3 : r.toInt ≠ 0 := fun q => h0 (Int32.toInt_inj.mp q)
    have b4 : r.toInt ≠ 1 := fun q => h1 (Int32.toInt_inj.mp q)
    have c : (2 : Int32).toInt = 2 := rfl
    have c : (0 : Int32).toInt = 0 := rfl
    exact Int32.toInt_inj.mp (by omega)
  subst e; decide
theorem in_eq3 {v a b : Int32} : (if v < a then (0 : Int32) else if b < v then 0 else 1) = bi (a ≤ v ∧ v ≤ b) := by
  unfold bi
  by_cases h : v < a
  · rw [if_pos h, if_neg (fun q => absurd h (Int32.not_lt.mpr q.1))]
  · rw [if_neg h]
    by_cases h2 : b < v
    · rw [if_pos h2, if_neg (fun q => absurd h2 (Int32.not_lt.mpr q.2))]
    · rw [if_neg h2, if_pos ⟨Int32.not_lt.mp h, Int32.not_lt.mp h2⟩]
theorem as_eq {x y : Int32} : (if x < y then (0 : Int32) else 1) = bi (y ≤ x) := by
  unfold bi
  by_cases h : x < y
  · rw [if_pos h, if_neg (fun q => absurd h (Int32.not_lt.mpr q))]
  · rw [if_neg h, if_pos (Int32.not_lt.mp h)]
theorem le2_eq {s y : Int32} : (if y < s then (0 : Int32) else 1) = bi (s ≤ y) := as_eq
theorem ffX15_7_15 : FF "KeptLight$Keeper" 7 15 0 "KeptLight$Keeper" := ⟨by decide, by decide, q1966, Or.inl rfl⟩
theorem ffX15_13_15 : FF "KeptLight$Keeper" 13 15 1 "KeptLight$Keeper" := ⟨by decide, by decide, q1969, Or.inl rfl⟩
set_option maxHeartbeats 800000 in
set_option maxRecDepth 100000 in
theorem c_X15_init (l : Launch) (G : kG) (M : kM) (b : Nat) (r : Nat) (n : Int32) (hb : mK M b = some 15) : Kt l G yX15_init cX15_init 3 none 1 20 [.ref b, .int n, .ref r] M (0) (0) (fun v M2 => v = none ∧ M2 = sR (sI M (fc 15 0) b n) (fc 15 1) b (some r)) := by
  refine Kt.of (own := "KeptLight$Keeper") (L := [some (.ref b), some (.int n), some (.ref r)]) (by decide +kernel) rfl (Nat.le_of_ble_eq_true rfl) rfl ?_
  intro pp ee ss mm args below meth cd hmn hret
  refine x_aload_n (n' := 1) dX15_init_0 rfl rfl rfl ?_
  refine x_objInit (n' := 4) dX15_init_1 q1965 ⟨(Nat.le_of_ble_eq_true rfl), (Nat.le_of_ble_eq_true rfl)⟩ (Nat.le_of_ble_eq_true rfl) rfl ?_
  refine x_aload_n (n' := 5) dX15_init_4 rfl rfl rfl ?_
  refine x_iload_n (n' := 6) dX15_init_5 rfl rfl rfl ?_
  refine x_putIF (n' := 9) dX15_init_6 (by repeat' (first | with_reducible exact hb | with_reducible apply mK_A | with_reducible apply mK_I | with_reducible apply mK_L | with_reducible apply mK_R | with_reducible apply mK_O | with_reducible apply mK_G | with_reducible refine mK_NA ?_ (by assumption) | with_reducible refine mK_NO ?_ (by assumption))) ffX15_7_15 rfl (⟨rfl, rfl⟩) rfl hmn rfl rfl ?_
  refine x_aload_n (n' := 10) dX15_init_9 rfl rfl rfl ?_
  refine x_aload_n (n' := 11) dX15_init_10 rfl rfl rfl ?_
  refine x_putRF (n' := 14) (v := some (r)) dX15_init_11 (by repeat' (first | with_reducible exact hb | with_reducible apply mK_A | with_reducible apply mK_I | with_reducible apply mK_L | with_reducible apply mK_R | with_reducible apply mK_O | with_reducible apply mK_G | with_reducible refine mK_NA ?_ (by assumption) | with_reducible refine mK_NO ?_ (by assumption))) ffX15_13_15 rfl rfl hmn rfl rfl ?_
  exact x_vret dX15_init_14 hret (by repeat' (first | with_reducible exact kE.rf | with_reducible apply kE_A | with_reducible apply kE_I | with_reducible apply kE_L | with_reducible apply kE_R | with_reducible apply kE_O | with_reducible apply kE_G)) (⟨rfl, rfl⟩)

theorem ffX25_9_25 : FF "KeptLight$Entry" 9 25 0 "KeptLight$Entry" := ⟨by decide, by decide, q2696, Or.inl rfl⟩
theorem ffX25_15_25 : FF "KeptLight$Entry" 15 25 1 "KeptLight$Entry" := ⟨by decide, by decide, q2699, Or.inl rfl⟩
theorem ffX25_18_25 : FF "KeptLight$Entry" 18 25 2 "KeptLight$Entry" := ⟨by decide, by decide, q2702, Or.inl rfl⟩
theorem ffX25_21_25 : FF "KeptLight$Entry" 21 25 3 "KeptLight$Entry" := ⟨by decide, by decide, q2704, Or.inl rfl⟩
set_option maxHeartbeats 800000 in
set_option maxRecDepth 100000 in
theorem c_X25_init (l : Launch) (G : kG) (M : kM) (b : Nat) (h s x k : Int32) (hb : mK M b = some 25) : Kt l G yX25_init cX25_init 5 none 1 20 [.ref b, .int h, .int s, .int x, .int k] M (0) (0) (fun v M2 => v = none ∧ M2 = sI (sI (sI (sI M (fc 25 0) b h) (fc 25 1) b s) (fc 25 2) b x) (fc 25 3) b k) := by
  refine Kt.of (own := "KeptLight$Entry") (L := [some (.ref b), some (.int h), some (.int s), some (.int x), some (.int k)]) (by decide +kernel) rfl (Nat.le_of_ble_eq_true rfl) rfl ?_
  intro pp ee ss mm args below meth cd hmn hret
  refine x_aload_n (n' := 1) dX25_init_0 rfl rfl rfl ?_
  refine x_objInit (n' := 4) dX25_init_1 q2695 ⟨(Nat.le_of_ble_eq_true rfl), (Nat.le_of_ble_eq_true rfl)⟩ (Nat.le_of_ble_eq_true rfl) rfl ?_
  refine x_aload_n (n' := 5) dX25_init_4 rfl rfl rfl ?_
  refine x_iload_n (n' := 6) dX25_init_5 rfl rfl rfl ?_
  refine x_putIF (n' := 9) dX25_init_6 (by repeat' (first | with_reducible exact hb | with_reducible apply mK_A | with_reducible apply mK_I | with_reducible apply mK_L | with_reducible apply mK_R | with_reducible apply mK_O | with_reducible apply mK_G | with_reducible refine mK_NA ?_ (by assumption) | with_reducible refine mK_NO ?_ (by assumption))) ffX25_9_25 rfl (⟨rfl, rfl⟩) rfl hmn rfl rfl ?_
  refine x_aload_n (n' := 10) dX25_init_9 rfl rfl rfl ?_
  refine x_iload_n (n' := 11) dX25_init_10 rfl rfl rfl ?_
  refine x_putIF (n' := 14) dX25_init_11 (by repeat' (first | with_reducible exact hb | with_reducible apply mK_A | with_reducible apply mK_I | with_reducible apply mK_L | with_reducible apply mK_R | with_reducible apply mK_O | with_reducible apply mK_G | with_reducible refine mK_NA ?_ (by assumption) | with_reducible refine mK_NO ?_ (by assumption))) ffX25_15_25 rfl (⟨rfl, rfl⟩) rfl hmn rfl rfl ?_
  refine x_aload_n (n' := 15) dX25_init_14 rfl rfl rfl ?_
  refine x_iload_n (n' := 16) dX25_init_15 rfl rfl rfl ?_
  refine x_putIF (n' := 19) dX25_init_16 (by repeat' (first | with_reducible exact hb | with_reducible apply mK_A | with_reducible apply mK_I | with_reducible apply mK_L | with_reducible apply mK_R | with_reducible apply mK_O | with_reducible apply mK_G | with_reducible refine mK_NA ?_ (by assumption) | with_reducible refine mK_NO ?_ (by assumption))) ffX25_18_25 rfl (⟨rfl, rfl⟩) rfl hmn rfl rfl ?_
  refine x_aload_n (n' := 20) dX25_init_19 rfl rfl rfl ?_
  refine x_iload (n' := 22) dX25_init_20 rfl rfl ?_
  refine x_putIF (n' := 25) dX25_init_22 (by repeat' (first | with_reducible exact hb | with_reducible apply mK_A | with_reducible apply mK_I | with_reducible apply mK_L | with_reducible apply mK_R | with_reducible apply mK_O | with_reducible apply mK_G | with_reducible refine mK_NA ?_ (by assumption) | with_reducible refine mK_NO ?_ (by assumption))) ffX25_21_25 rfl (⟨rfl, rfl⟩) rfl hmn rfl rfl ?_
  exact x_vret dX25_init_25 hret (by repeat' (first | with_reducible exact kE.rf | with_reducible apply kE_A | with_reducible apply kE_I | with_reducible apply kE_L | with_reducible apply kE_R | with_reducible apply kE_O | with_reducible apply kE_G)) (⟨rfl, rfl⟩)

theorem ffX26_7_26 : FF "KeptLight$Difference" 7 26 0 "KeptLight$Difference" := ⟨by decide, by decide, q2857, Or.inl rfl⟩
theorem ffX26_13_26 : FF "KeptLight$Difference" 13 26 1 "KeptLight$Difference" := ⟨by decide, by decide, q2859, Or.inl rfl⟩
set_option maxHeartbeats 800000 in
set_option maxRecDepth 100000 in
theorem c_X26_init (l : Launch) (G : kG) (M : kM) (b : Nat) (e s : Nat) (hb : mK M b = some 26) : Kt l G yX26_init cX26_init 3 none 1 20 [.ref b, .ref e, .ref s] M (0) (0) (fun v M2 => v = none ∧ M2 = sR (sR M (fc 26 0) b (some e)) (fc 26 1) b (some s)) := by
  refine Kt.of (own := "KeptLight$Difference") (L := [some (.ref b), some (.ref e), some (.ref s)]) (by decide +kernel) rfl (Nat.le_of_ble_eq_true rfl) rfl ?_
  intro pp ee ss mm args below meth cd hmn hret
  refine x_aload_n (n' := 1) dX26_init_0 rfl rfl rfl ?_
  refine x_objInit (n' := 4) dX26_init_1 q2856 ⟨(Nat.le_of_ble_eq_true rfl), (Nat.le_of_ble_eq_true rfl)⟩ (Nat.le_of_ble_eq_true rfl) rfl ?_
  refine x_aload_n (n' := 5) dX26_init_4 rfl rfl rfl ?_
  refine x_aload_n (n' := 6) dX26_init_5 rfl rfl rfl ?_
  refine x_putRF (n' := 9) (v := some (e)) dX26_init_6 (by repeat' (first | with_reducible exact hb | with_reducible apply mK_A | with_reducible apply mK_I | with_reducible apply mK_L | with_reducible apply mK_R | with_reducible apply mK_O | with_reducible apply mK_G | with_reducible refine mK_NA ?_ (by assumption) | with_reducible refine mK_NO ?_ (by assumption))) ffX26_7_26 rfl rfl hmn rfl rfl ?_
  refine x_aload_n (n' := 10) dX26_init_9 rfl rfl rfl ?_
  refine x_aload_n (n' := 11) dX26_init_10 rfl rfl rfl ?_
  refine x_putRF (n' := 14) (v := some (s)) dX26_init_11 (by repeat' (first | with_reducible exact hb | with_reducible apply mK_A | with_reducible apply mK_I | with_reducible apply mK_L | with_reducible apply mK_R | with_reducible apply mK_O | with_reducible apply mK_G | with_reducible refine mK_NA ?_ (by assumption) | with_reducible refine mK_NO ?_ (by assumption))) ffX26_13_26 rfl rfl hmn rfl rfl ?_
  exact x_vret dX26_init_14 hret (by repeat' (first | with_reducible exact kE.rf | with_reducible apply kE_A | with_reducible apply kE_I | with_reducible apply kE_L | with_reducible apply kE_R | with_reducible apply kE_O | with_reducible apply kE_G)) (⟨rfl, rfl⟩)

theorem ffX14_7_14 : FF "KeptLight$Spell" 7 14 0 "KeptLight$Spell" := ⟨by decide, by decide, q1466, Or.inl rfl⟩
theorem ffX14_13_14 : FF "KeptLight$Spell" 13 14 1 "KeptLight$Spell" := ⟨by decide, by decide, q1468, Or.inl rfl⟩
set_option maxHeartbeats 800000 in
set_option maxRecDepth 100000 in
theorem c_X14_init (l : Launch) (G : kG) (M : kM) (b : Nat) (r : Nat) (n : Int32) (hb : mK M b = some 14) : Kt l G yX14_init cX14_init 3 none 1 20 [.ref b, .ref r, .int n] M (0) (0) (fun v M2 => v = none ∧ M2 = sI (sR M (fc 14 0) b (some r)) (fc 14 1) b n) := by
  refine Kt.of (own := "KeptLight$Spell") (L := [some (.ref b), some (.ref r), some (.int n)]) (by decide +kernel) rfl (Nat.le_of_ble_eq_true rfl) rfl ?_
  intro pp ee ss mm args below meth cd hmn hret
  refine x_aload_n (n' := 1) dX14_init_0 rfl rfl rfl ?_
  refine x_objInit (n' := 4) dX14_init_1 q1465 ⟨(Nat.le_of_ble_eq_true rfl), (Nat.le_of_ble_eq_true rfl)⟩ (Nat.le_of_ble_eq_true rfl) rfl ?_
  refine x_aload_n (n' := 5) dX14_init_4 rfl rfl rfl ?_
  refine x_aload_n (n' := 6) dX14_init_5 rfl rfl rfl ?_
  refine x_putRF (n' := 9) (v := some (r)) dX14_init_6 (by repeat' (first | with_reducible exact hb | with_reducible apply mK_A | with_reducible apply mK_I | with_reducible apply mK_L | with_reducible apply mK_R | with_reducible apply mK_O | with_reducible apply mK_G | with_reducible refine mK_NA ?_ (by assumption) | with_reducible refine mK_NO ?_ (by assumption))) ffX14_7_14 rfl rfl hmn rfl rfl ?_
  refine x_aload_n (n' := 10) dX14_init_9 rfl rfl rfl ?_
  refine x_iload_n (n' := 11) dX14_init_10 rfl rfl rfl ?_
  refine x_putIF (n' := 14) dX14_init_11 (by repeat' (first | with_reducible exact hb | with_reducible apply mK_A | with_reducible apply mK_I | with_reducible apply mK_L | with_reducible apply mK_R | with_reducible apply mK_O | with_reducible apply mK_G | with_reducible refine mK_NA ?_ (by assumption) | with_reducible refine mK_NO ?_ (by assumption))) ffX14_13_14 rfl (⟨rfl, rfl⟩) rfl hmn rfl rfl ?_
  exact x_vret dX14_init_14 hret (by repeat' (first | with_reducible exact kE.rf | with_reducible apply kE_A | with_reducible apply kE_I | with_reducible apply kE_L | with_reducible apply kE_R | with_reducible apply kE_O | with_reducible apply kE_G)) (⟨rfl, rfl⟩)

theorem ffX7_7_7 : FF "KeptLight$Sight" 7 7 0 "KeptLight$Sight" := ⟨by decide, by decide, q262, Or.inl rfl⟩
theorem ffX7_13_7 : FF "KeptLight$Sight" 13 7 1 "KeptLight$Sight" := ⟨by decide, by decide, q268, Or.inl rfl⟩
set_option maxHeartbeats 800000 in
set_option maxRecDepth 100000 in
theorem c_X7_init (l : Launch) (G : kG) (M : kM) (b : Nat) (r : Nat) (c1 c2 c3 : Prop) [Decidable c1] [Decidable c2] [Decidable c3] (hb : mK M b = some 7) : Kt l G yX7_init cX7_init 5 none 1 20 [.ref b, .ref r, .int (bi c1), .int (bi c2), .int (bi c3)] M (0) (0) (fun v M2 => v = none ∧ M2 = sI (sI (sI (sR M (fc 7 0) b (some r)) (fc 7 1) b (bi c1)) (fc 7 2) b (bi c2)) (fc 7 3) b (bi c3)) := by
  refine Kt.of (own := "KeptLight$Sight") (L := [some (.ref b), some (.ref r), some (.int (bi c1)), some (.int (bi c2)), some (.int (bi c3))]) (by decide +kernel) rfl (Nat.le_of_ble_eq_true rfl) rfl ?_
  intro pp ee ss mm args below meth cd hmn hret
  refine x_aload_n (n' := 1) dX7_init_0 rfl rfl rfl ?_
  refine x_objInit (n' := 4) dX7_init_1 q261 ⟨(Nat.le_of_ble_eq_true rfl), (Nat.le_of_ble_eq_true rfl)⟩ (Nat.le_of_ble_eq_true rfl) rfl ?_
  refine x_aload_n (n' := 5) dX7_init_4 rfl rfl rfl ?_
  refine x_aload_n (n' := 6) dX7_init_5 rfl rfl rfl ?_
  refine x_putRF (n' := 9) (v := some (r)) dX7_init_6 (by repeat' (first | with_reducible exact hb | with_reducible apply mK_A | with_reducible apply mK_I | with_reducible apply mK_L | with_reducible apply mK_R | with_reducible apply mK_O | with_reducible apply mK_G | with_reducible refine mK_NA ?_ (by assumption) | with_reducible refine mK_NO ?_ (by assumption))) ffX7_7_7 rfl rfl hmn rfl rfl ?_
  refine x_aload_n (n' := 10) dX7_init_9 rfl rfl rfl ?_
  refine x_iload_n (n' := 11) dX7_init_10 rfl rfl rfl ?_
  refine x_putIF (n' := 14) dX7_init_11 (by repeat' (first | with_reducible exact hb | with_reducible apply mK_A | with_reducible apply mK_I | with_reducible apply mK_L | with_reducible apply mK_R | with_reducible apply mK_O | with_reducible apply mK_G | with_reducible refine mK_NA ?_ (by assumption) | with_reducible refine mK_NO ?_ (by assumption))) ffX7_13_7 rfl (k_bool (bi_01 _)) rfl hmn rfl rfl ?_
  refine x_aload_n (n' := 15) dX7_init_14 rfl rfl rfl ?_
  refine x_iload_n (n' := 16) dX7_init_15 rfl rfl rfl ?_
  refine x_putIF (n' := 19) dX7_init_16 (by repeat' (first | with_reducible exact hb | with_reducible apply mK_A | with_reducible apply mK_I | with_reducible apply mK_L | with_reducible apply mK_R | with_reducible apply mK_O | with_reducible apply mK_G | with_reducible refine mK_NA ?_ (by assumption) | with_reducible refine mK_NO ?_ (by assumption))) ffX7_17_7 rfl (k_bool (bi_01 _)) rfl hmn rfl rfl ?_
  refine x_aload_n (n' := 20) dX7_init_19 rfl rfl rfl ?_
  refine x_iload (n' := 22) dX7_init_20 rfl rfl ?_
  refine x_putIF (n' := 25) dX7_init_22 (by repeat' (first | with_reducible exact hb | with_reducible apply mK_A | with_reducible apply mK_I | with_reducible apply mK_L | with_reducible apply mK_R | with_reducible apply mK_O | with_reducible apply mK_G | with_reducible refine mK_NA ?_ (by assumption) | with_reducible refine mK_NO ?_ (by assumption))) ffX7_20_7 rfl (k_bool (bi_01 _)) rfl hmn rfl rfl ?_
  exact x_vret dX7_init_25 hret (by repeat' (first | with_reducible exact kE.rf | with_reducible apply kE_A | with_reducible apply kE_I | with_reducible apply kE_L | with_reducible apply kE_R | with_reducible apply kE_O | with_reducible apply kE_G)) (⟨rfl, rfl⟩)

set_option maxHeartbeats 800000 in
set_option maxRecDepth 100000 in
theorem c_X8_init (l : Launch) (G : kG) (M : kM) (b : Nat) : Kt l G yX8_init cX8_init 1 none 1 20 [.ref b] M (0) (0) (fun v M2 => v = none ∧ M2 = M) := by
  refine Kt.of (own := "KeptLight$Sheet") (L := [some (.ref b)]) (by decide +kernel) rfl (Nat.le_of_ble_eq_true rfl) rfl ?_
  intro pp ee ss mm args below meth cd hmn hret
  refine x_aload_n (n' := 1) dX8_init_0 rfl rfl rfl ?_
  refine x_objInit (n' := 4) dX8_init_1 q782 ⟨(Nat.le_of_ble_eq_true rfl), (Nat.le_of_ble_eq_true rfl)⟩ (Nat.le_of_ble_eq_true rfl) rfl ?_
  exact x_vret dX8_init_4 hret (by repeat' (first | with_reducible exact kE.rf | with_reducible apply kE_A | with_reducible apply kE_I | with_reducible apply kE_L | with_reducible apply kE_R | with_reducible apply kE_O | with_reducible apply kE_G)) (⟨rfl, rfl⟩)

set_option maxHeartbeats 800000 in
set_option maxRecDepth 100000 in
theorem c_X3_init (l : Launch) (G : kG) (M : kM) (b : Nat) : Kt l G yX3_init cX3_init 1 none 1 20 [.ref b] M (0) (0) (fun v M2 => v = none ∧ M2 = M) := by
  refine Kt.of (own := "KeptLight$ByRank") (L := [some (.ref b)]) (by decide +kernel) rfl (Nat.le_of_ble_eq_true rfl) rfl ?_
  intro pp ee ss mm args below meth cd hmn hret
  refine x_aload_n (n' := 1) dX3_init_0 rfl rfl rfl ?_
  refine x_objInit (n' := 4) dX3_init_1 q220 ⟨(Nat.le_of_ble_eq_true rfl), (Nat.le_of_ble_eq_true rfl)⟩ (Nat.le_of_ble_eq_true rfl) rfl ?_
  exact x_vret dX3_init_4 hret (by repeat' (first | with_reducible exact kE.rf | with_reducible apply kE_A | with_reducible apply kE_I | with_reducible apply kE_L | with_reducible apply kE_R | with_reducible apply kE_O | with_reducible apply kE_G)) (⟨rfl, rfl⟩)

theorem ffX15_17_15 : FF "KeptLight$Keeper" 17 15 2 "KeptLight$Keeper" := ⟨by decide, by decide, q1972, Or.inl rfl⟩
theorem ffX15_20_15 : FF "KeptLight$Keeper" 20 15 3 "KeptLight$Keeper" := ⟨by decide, by decide, q1975, Or.inl rfl⟩
theorem ffX15_23_15 : FF "KeptLight$Keeper" 23 15 4 "KeptLight$Keeper" := ⟨by decide, by decide, q1978, Or.inl rfl⟩
set_option maxHeartbeats 800000 in
set_option maxRecDepth 100000 in
theorem c_X15_becomes (l : Launch) (G : kG) (M : kM) (b a : Nat) (hb : mK M b = some 15) (ha : mK M a = some 15) : Kt l G yX15_becomes cX15_becomes 2 none 0 0 [.ref b, .ref a] M (0) (0) (fun v M2 => v = none ∧ M2 = sI (sI (sI M (fc 15 2) b (mI M (fc 15 2) a)) (fc 15 3) b (mI M (fc 15 3) a)) (fc 15 4) b (mI M (fc 15 4) a)) := by
  refine Kt.of (own := "KeptLight$Keeper") (L := [some (.ref b), some (.ref a)]) (by decide +kernel) rfl (Nat.le_of_ble_eq_true rfl) rfl ?_
  intro pp ee ss mm args below meth cd hmn hret
  refine x_aload_n (n' := 1) dX15_becomes_0 rfl rfl rfl ?_
  refine x_aload_n (n' := 2) dX15_becomes_1 rfl rfl rfl ?_
  refine x_getI (n' := 5) dX15_becomes_2 (by repeat' (first | with_reducible exact ha | with_reducible apply mK_A | with_reducible apply mK_I | with_reducible apply mK_L | with_reducible apply mK_R | with_reducible apply mK_O | with_reducible apply mK_G | with_reducible refine mK_NA ?_ (by assumption) | with_reducible refine mK_NO ?_ (by assumption))) ffX15_17_15 rfl rfl ?_
  refine x_putI (n' := 8) dX15_becomes_5 (by repeat' (first | with_reducible exact hb | with_reducible apply mK_A | with_reducible apply mK_I | with_reducible apply mK_L | with_reducible apply mK_R | with_reducible apply mK_O | with_reducible apply mK_G | with_reducible refine mK_NA ?_ (by assumption) | with_reducible refine mK_NO ?_ (by assumption))) ffX15_17_15 rfl (⟨rfl, rfl⟩) rfl rfl ?_
  refine x_aload_n (n' := 9) dX15_becomes_8 rfl rfl rfl ?_
  refine x_aload_n (n' := 10) dX15_becomes_9 rfl rfl rfl ?_
  refine x_getI (n' := 13) dX15_becomes_10 (by repeat' (first | with_reducible exact ha | with_reducible apply mK_A | with_reducible apply mK_I | with_reducible apply mK_L | with_reducible apply mK_R | with_reducible apply mK_O | with_reducible apply mK_G | with_reducible refine mK_NA ?_ (by assumption) | with_reducible refine mK_NO ?_ (by assumption))) ffX15_20_15 rfl rfl ?_
  refine x_topv (mI_sI_c (by decide)) ?_
  refine x_putI (n' := 16) dX15_becomes_13 (by repeat' (first | with_reducible exact hb | with_reducible apply mK_A | with_reducible apply mK_I | with_reducible apply mK_L | with_reducible apply mK_R | with_reducible apply mK_O | with_reducible apply mK_G | with_reducible refine mK_NA ?_ (by assumption) | with_reducible refine mK_NO ?_ (by assumption))) ffX15_20_15 rfl (⟨rfl, rfl⟩) rfl rfl ?_
  refine x_aload_n (n' := 17) dX15_becomes_16 rfl rfl rfl ?_
  refine x_aload_n (n' := 18) dX15_becomes_17 rfl rfl rfl ?_
  refine x_getI (n' := 21) dX15_becomes_18 (by repeat' (first | with_reducible exact ha | with_reducible apply mK_A | with_reducible apply mK_I | with_reducible apply mK_L | with_reducible apply mK_R | with_reducible apply mK_O | with_reducible apply mK_G | with_reducible refine mK_NA ?_ (by assumption) | with_reducible refine mK_NO ?_ (by assumption))) ffX15_23_15 rfl rfl ?_
  refine x_topv ((mI_sI_c (by decide)).trans (mI_sI_c (by decide))) ?_
  refine x_putI (n' := 24) dX15_becomes_21 (by repeat' (first | with_reducible exact hb | with_reducible apply mK_A | with_reducible apply mK_I | with_reducible apply mK_L | with_reducible apply mK_R | with_reducible apply mK_O | with_reducible apply mK_G | with_reducible refine mK_NA ?_ (by assumption) | with_reducible refine mK_NO ?_ (by assumption))) ffX15_23_15 rfl (⟨rfl, rfl⟩) rfl rfl ?_
  exact x_vret dX15_becomes_24 hret (by repeat' (first | with_reducible exact kE.rf | with_reducible apply kE_A | with_reducible apply kE_I | with_reducible apply kE_L | with_reducible apply kE_R | with_reducible apply kE_O | with_reducible apply kE_G)) (⟨rfl, rfl⟩)

set_option maxHeartbeats 800000 in
set_option maxRecDepth 100000 in
theorem c_X15_isAsleep (l : Launch) (G : kG) (M : kM) (b i r o : Nat) (ti te sl : Int32) (hkp : KPP G M b i r ti te sl o) : Kt l G yX15_isAsleep cX15_isAsleep 1 (some .boolean) 1 20 [.ref b] M (0) (0) (fun v M2 => v = some (.int (bi (12 - 3 * nI r ≤ ti))) ∧ M2 = M) := by
  refine Kt.of (own := "KeptLight$Keeper") (L := [some (.ref b)]) (by decide +kernel) rfl (Nat.le_of_ble_eq_true rfl) rfl ?_
  intro pp ee ss mm args below meth cd hmn hret
  have hr3 := hkp.2.2.2.2.1
  have hbk : mK M b = some 15 := hkp.1
  have hrk : mK M (G.2.2.2 (3 + r)) = some (203 + r) := hkp.2.2.2.2.2.1
  have hrr : mR M (fc 15 1) b = some (G.2.2.2 (3 + r)) := hkp.2.2.2.1
  refine x_aload_n (n' := 1) dX15_isAsleep_0 rfl rfl rfl ?_
  refine x_getI (n' := 4) dX15_isAsleep_1 (by repeat' (first | with_reducible exact hbk | with_reducible apply mK_A | with_reducible apply mK_I | with_reducible apply mK_L | with_reducible apply mK_R | with_reducible apply mK_O | with_reducible apply mK_G | with_reducible refine mK_NA ?_ (by assumption) | with_reducible refine mK_NO ?_ (by assumption))) ffX15_17_15 rfl rfl ?_
  refine x_topv hkp.2.2.2.2.2.2.1 ?_
  refine x_aload_n (n' := 5) dX15_isAsleep_4 rfl rfl rfl ?_
  refine x_getRs (n' := 8) (b := (G.2.2.2 (3 + r))) dX15_isAsleep_5 (by repeat' (first | with_reducible exact hbk | with_reducible apply mK_A | with_reducible apply mK_I | with_reducible apply mK_L | with_reducible apply mK_R | with_reducible apply mK_O | with_reducible apply mK_G | with_reducible refine mK_NA ?_ (by assumption) | with_reducible refine mK_NO ?_ (by assumption))) ffX15_13_15 rfl (by repeat' (first | with_reducible exact hrr | with_reducible apply mR_A | with_reducible apply mR_I | with_reducible apply mR_L | with_reducible apply mR_R | with_reducible apply mR_O | with_reducible apply mR_G | with_reducible refine mR_NA ?_ (by assumption) (by assumption))) rfl ?_
  refine x_disp3k (by repeat' (first | with_reducible exact hrk | with_reducible apply mK_A | with_reducible apply mK_I | with_reducible apply mK_L | with_reducible apply mK_R | with_reducible apply mK_O | with_reducible apply mK_G | with_reducible refine mK_NA ?_ (by assumption) | with_reducible refine mK_NO ?_ (by assumption))) (ra_k hr3) (fun e8 hk8 k8 => x_callK (n' := 11) (K := 203) (v := 12) (x := ⟨"KeptLight$Rank", "lasts", "()I"⟩) (y := yX30_lasts) (owner := "KeptLight$Rank") dX15_isAsleep_8 hk8 rfl q2589 q2591 (Or.inl q2590) (by decide) q2592 q2593 q2594 (by decide +kernel) (by decide +kernel) (Or.inr ⟨_, dX30_lasts_0, rfl, dX30_lasts_2⟩) (by decide +kernel) ⟨(Nat.le_of_ble_eq_true rfl), (Nat.le_of_ble_eq_true rfl)⟩ (Nat.le_of_ble_eq_true rfl) rfl (x_topv (ra_l (r := r) (i := 0) (by decide) e8 (by decide)) k8)) (fun e8 hk8 k8 => x_callK (n' := 11) (K := 204) (v := 9) (x := ⟨"KeptLight$Rank", "lasts", "()I"⟩) (y := yX31_lasts) (owner := "KeptLight$Rank") dX15_isAsleep_8 hk8 rfl q2589 q2591 (Or.inl q2590) (by decide) q2595 q2596 q2597 (by decide +kernel) (by decide +kernel) (Or.inr ⟨_, dX31_lasts_0, rfl, dX31_lasts_2⟩) (by decide +kernel) ⟨(Nat.le_of_ble_eq_true rfl), (Nat.le_of_ble_eq_true rfl)⟩ (Nat.le_of_ble_eq_true rfl) rfl (x_topv (ra_l (r := r) (i := 1) (by decide) e8 (by decide)) k8)) (fun e8 hk8 k8 => x_callK (n' := 11) (K := 205) (v := 6) (x := ⟨"KeptLight$Rank", "lasts", "()I"⟩) (y := yX32_lasts) (owner := "KeptLight$Rank") dX15_isAsleep_8 hk8 rfl q2589 q2591 (Or.inl q2590) (by decide) q2598 q2599 q2600 (by decide +kernel) (by decide +kernel) (Or.inr ⟨_, dX32_lasts_0, rfl, dX32_lasts_2⟩) (by decide +kernel) ⟨(Nat.le_of_ble_eq_true rfl), (Nat.le_of_ble_eq_true rfl)⟩ (Nat.le_of_ble_eq_true rfl) rfl (x_topv (ra_l (r := r) (i := 2) (by decide) e8 (by decide)) k8)) ?_
  refine x_fork (J := 19) (x_icmp_lt (n' := 14) (tgt := 18) dX15_isAsleep_11 (by decide) rfl) (v1 := ?v1_f11_1) (v2 := ?v2_f11_1) (fun c_f11_1 j_f11_1 => ?b1_f11_1) (fun c_f11_1 j_f11_1 => ?b2_f11_1) ?k_f11_1
  case b1_f11_1 =>
    refine x_iconst (n' := 19) (v := 0) dX15_isAsleep_18 (by decide) rfl ?_
    exact j_f11_1
  case b2_f11_1 =>
    refine x_iconst (n' := 15) (v := 1) dX15_isAsleep_14 (by decide) rfl ?_
    refine x_goto (tgt := 19) dX15_isAsleep_15 (by decide) ?_
    exact j_f11_1
  refine x_topv (y := bi (12 - 3 * nI r ≤ ti)) (by exact as_eq) ?_
  exact x_zret dX15_isAsleep_19 hret (k_zn (bi_01 _)) (by repeat' (first | with_reducible exact kE.rf | with_reducible apply kE_A | with_reducible apply kE_I | with_reducible apply kE_L | with_reducible apply kE_R | with_reducible apply kE_O | with_reducible apply kE_G)) (⟨rfl, rfl⟩)

set_option maxHeartbeats 800000 in
set_option maxRecDepth 100000 in
theorem c_X25_isOfLamp (l : Launch) (G : kG) (M : kM) (b : Nat) (h s x k : Int32) (he : ENP M b h s x k) : Kt l G yX25_isOfLamp cX25_isOfLamp 1 (some .boolean) 0 0 [.ref b] M (0) (0) (fun v M2 => v = some (.int (bi (s ≤ 2))) ∧ M2 = M) := by
  refine Kt.of (own := "KeptLight$Entry") (L := [some (.ref b)]) (by decide +kernel) rfl (Nat.le_of_ble_eq_true rfl) rfl ?_
  intro pp ee ss mm args below meth cd hmn hret
  have hbk : mK M b = some 25 := he.1
  refine x_aload_n (n' := 1) dX25_isOfLamp_0 rfl rfl rfl ?_
  refine x_getI (n' := 4) dX25_isOfLamp_1 (by repeat' (first | with_reducible exact hbk | with_reducible apply mK_A | with_reducible apply mK_I | with_reducible apply mK_L | with_reducible apply mK_R | with_reducible apply mK_O | with_reducible apply mK_G | with_reducible refine mK_NA ?_ (by assumption) | with_reducible refine mK_NO ?_ (by assumption))) ffX25_15_25 rfl rfl ?_
  refine x_topv he.2.2.2.1 ?_
  refine x_iconst (n' := 5) (v := 2) dX25_isOfLamp_4 (by decide) rfl ?_
  refine x_fork (J := 13) (x_icmp_gt (n' := 8) (tgt := 12) dX25_isOfLamp_5 (by decide) rfl) (v1 := ?v1_f5_1) (v2 := ?v2_f5_1) (fun c_f5_1 j_f5_1 => ?b1_f5_1) (fun c_f5_1 j_f5_1 => ?b2_f5_1) ?k_f5_1
  case b1_f5_1 =>
    refine x_iconst (n' := 13) (v := 0) dX25_isOfLamp_12 (by decide) rfl ?_
    exact j_f5_1
  case b2_f5_1 =>
    refine x_iconst (n' := 9) (v := 1) dX25_isOfLamp_8 (by decide) rfl ?_
    refine x_goto (tgt := 13) dX25_isOfLamp_9 (by decide) ?_
    exact j_f5_1
  refine x_topv (y := bi (s ≤ 2)) (by exact le2_eq) ?_
  exact x_zret dX25_isOfLamp_13 hret (k_zn (bi_01 _)) (by repeat' (first | with_reducible exact kE.rf | with_reducible apply kE_A | with_reducible apply kE_I | with_reducible apply kE_L | with_reducible apply kE_R | with_reducible apply kE_O | with_reducible apply kE_G)) (⟨rfl, rfl⟩)

set_option maxHeartbeats 800000 in
set_option maxRecDepth 100000 in
theorem c_X0_isIn (l : Launch) (G : kG) (M : kM) (z a b : Int32) : Kt l G yX0_isIn cX0_isIn 3 (some .boolean) 0 0 [.int z, .int a, .int b] M (0) (0) (fun v M2 => v = some (.int (bi (a ≤ z ∧ z ≤ b))) ∧ M2 = M) := by
  refine Kt.of (own := "KeptLight") (L := [some (.int z), some (.int a), some (.int b)]) (by decide +kernel) rfl (Nat.le_of_ble_eq_true rfl) rfl ?_
  intro pp ee ss mm args below meth cd hmn hret
  refine x_iload_n (n' := 1) dX0_isIn_0 rfl rfl rfl ?_
  refine x_iload_n (n' := 2) dX0_isIn_1 rfl rfl rfl ?_
  refine x_fork (J := 15) (x_icmp_lt (n' := 5) (tgt := 14) dX0_isIn_2 (by decide) rfl) (v1 := ?v1_f2_1) (v2 := ?v2_f2_1) (fun c_f2_1 j_f2_1 => ?b1_f2_1) (fun c_f2_1 j_f2_1 => ?b2_f2_1) ?k_f2_1
  case b1_f2_1 =>
    refine x_iconst (n' := 15) (v := 0) dX0_isIn_14 (by decide) rfl ?_
    exact j_f2_1
  case b2_f2_1 =>
    refine x_iload_n (n' := 6) dX0_isIn_5 rfl rfl rfl ?_
    refine x_iload_n (n' := 7) dX0_isIn_6 rfl rfl rfl ?_
    refine x_fork (J := 15) (x_icmp_gt (n' := 10) (tgt := 14) dX0_isIn_7 (by decide) rfl) (v1 := ?v1_f7_2) (v2 := ?v2_f7_2) (fun c_f7_2 j_f7_2 => ?b1_f7_2) (fun c_f7_2 j_f7_2 => ?b2_f7_2) ?k_f7_2
    case b1_f7_2 =>
      refine x_iconst (n' := 15) (v := 0) dX0_isIn_14 (by decide) rfl ?_
      exact j_f7_2
    case b2_f7_2 =>
      refine x_iconst (n' := 11) (v := 1) dX0_isIn_10 (by decide) rfl ?_
      refine x_goto (tgt := 15) dX0_isIn_11 (by decide) ?_
      exact j_f7_2
    exact j_f2_1
  refine x_topv (y := bi (a ≤ z ∧ z ≤ b)) (by exact in_eq3) ?_
  exact x_zret dX0_isIn_15 hret (k_zn (bi_01 _)) (by repeat' (first | with_reducible exact kE.rf | with_reducible apply kE_A | with_reducible apply kE_I | with_reducible apply kE_L | with_reducible apply kE_R | with_reducible apply kE_O | with_reducible apply kE_G)) (⟨rfl, rfl⟩)

set_option maxHeartbeats 800000 in
set_option maxRecDepth 100000 in
theorem c_X0_rank (l : Launch) (G : kG) (M : kM) (r : Int32) (hr : 0 ≤ r ∧ r ≤ 2) : Kt l G yX0_rank cX0_rank 1 (some (.object "KeptLight$Rank")) 0 0 [.int r] M (0) (0) (fun v M2 => v = some (.ref (G.2.2.2 (3 + nn r))) ∧ M2 = M) := by
  refine Kt.of (own := "KeptLight") (L := [some (.int r)]) (by decide +kernel) rfl (Nat.le_of_ble_eq_true rfl) rfl ?_
  intro pp ee ss mm args below meth cd hmn hret
  refine x_iload_n (n' := 1) dX0_rank_0 rfl rfl rfl ?_
  refine x_if_ne (n' := 4) (tgt := 10) dX0_rank_1 (by decide) rfl (fun c1_1 => ?_) (fun c1_1 => ?_)
  · have C1 := c1_1
    refine x_iload_n (n' := 11) dX0_rank_10 rfl rfl rfl ?_
    refine x_iconst (n' := 12) (v := 1) dX0_rank_11 (by decide) rfl ?_
    refine x_icmp_ne (n' := 15) (tgt := 21) dX0_rank_12 (by decide) rfl (fun c12_2 => ?_) (fun c12_2 => ?_)
    · have C12 := c12_2
      refine x_gets (n' := 24) dX0_rank_21 (List.mem_of_getElem? (i := 5) rfl) q1960 rfl ?_
      exact x_aret dX0_rank_24 hret (Or.inl ⟨_, rfl⟩) (by repeat' (first | with_reducible exact kE.rf | with_reducible apply kE_A | with_reducible apply kE_I | with_reducible apply kE_L | with_reducible apply kE_R | with_reducible apply kE_O | with_reducible apply kE_G)) (⟨by first | rw [rk_0 (by assumption)] | rw [rk_1 (by assumption)] | rw [rk_2 hr (by assumption) (by assumption)], rfl⟩)
    · have C12 := c12_2
      refine x_gets (n' := 18) dX0_rank_15 (List.mem_of_getElem? (i := 4) rfl) q1958 rfl ?_
      refine x_goto (tgt := 24) dX0_rank_18 (by decide) ?_
      exact x_aret dX0_rank_24 hret (Or.inl ⟨_, rfl⟩) (by repeat' (first | with_reducible exact kE.rf | with_reducible apply kE_A | with_reducible apply kE_I | with_reducible apply kE_L | with_reducible apply kE_R | with_reducible apply kE_O | with_reducible apply kE_G)) (⟨by first | rw [rk_0 (by assumption)] | rw [rk_1 (by assumption)] | rw [rk_2 hr (by assumption) (by assumption)], rfl⟩)
  · have C1 := c1_1
    refine x_gets (n' := 7) dX0_rank_4 (List.mem_of_getElem? (i := 3) rfl) q1956 rfl ?_
    refine x_goto (tgt := 24) dX0_rank_7 (by decide) ?_
    exact x_aret dX0_rank_24 hret (Or.inl ⟨_, rfl⟩) (by repeat' (first | with_reducible exact kE.rf | with_reducible apply kE_A | with_reducible apply kE_I | with_reducible apply kE_L | with_reducible apply kE_R | with_reducible apply kE_O | with_reducible apply kE_G)) (⟨by first | rw [rk_0 (by assumption)] | rw [rk_1 (by assumption)] | rw [rk_2 hr (by assumption) (by assumption)], rfl⟩)
