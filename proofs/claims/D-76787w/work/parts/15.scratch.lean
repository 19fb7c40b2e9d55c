/-! ===== the model's memory but for its scratch: one former ===== -/
set_option maxRecDepth 100000
abbrev scI (c : Nat) : Prop := c = fc 9 5 ∨ c = fc 9 6 ∨ c = fc 9 7 ∨ c = fc 9 10 ∨ c = fc 9 12
def SC (M : kM) (m : Nat) (ad : Nat → Nat) (g : gT) (sa : Nat → gT) (sf : Nat → Int32) : kM :=
  (mK M, fun c b => if b = m ∧ scI c then sf c else mI M c b, mR M, mN M,
   fun a => if a = ad 0 then g else if a = ad 1 then sa 1 else if a = ad 5 then sa 5 else if a = ad 6 then sa 6 else if a = ad 10 then sa 10 else if a = ad 11 then sa 11 else if a = ad 12 then sa 12 else  mA M a, mL M, mO M, mG M)
theorem SC_SC {M : kM} {m : Nat} {ad : Nat → Nat} {g g' : gT} {sa sa' : Nat → gT} {sf sf' : Nat → Int32} : SC (SC M m ad g sa sf) m ad g' sa' sf' = SC M m ad g' sa' sf' := by
  unfold SC
  have e1 : (fun c b => if b = m ∧ scI c then sf' c else if b = m ∧ scI c then sf c else mI M c b) = (fun c b => if b = m ∧ scI c then sf' c else mI M c b) := by
    funext c b
    by_cases h : b = m ∧ scI c
    · rw [if_pos h, if_pos h]
    · rw [if_neg h, if_neg h, if_neg h]
  have e2 : (fun a => if a = ad 0 then g' else if a = ad 1 then sa' 1 else if a = ad 5 then sa' 5 else if a = ad 6 then sa' 6 else if a = ad 10 then sa' 10 else if a = ad 11 then sa' 11 else if a = ad 12 then sa' 12 else  (if a = ad 0 then g else if a = ad 1 then sa 1 else if a = ad 5 then sa 5 else if a = ad 6 then sa 6 else if a = ad 10 then sa 10 else if a = ad 11 then sa 11 else if a = ad 12 then sa 12 else  mA M a)) = (fun a => if a = ad 0 then g' else if a = ad 1 then sa' 1 else if a = ad 5 then sa' 5 else if a = ad 6 then sa' 6 else if a = ad 10 then sa' 10 else if a = ad 11 then sa' 11 else if a = ad 12 then sa' 12 else  mA M a) := by
    funext a
    by_cases h0 : a = ad 0
    · rw [if_pos h0, if_pos h0]
    by_cases h1 : a = ad 1
    · rw [if_neg h0, if_pos h1, if_neg h0, if_pos h1]
    by_cases h5 : a = ad 5
    · rw [if_neg h0, if_neg h1, if_pos h5, if_neg h0, if_neg h1, if_pos h5]
    by_cases h6 : a = ad 6
    · rw [if_neg h0, if_neg h1, if_neg h5, if_pos h6, if_neg h0, if_neg h1, if_neg h5, if_pos h6]
    by_cases h10 : a = ad 10
    · rw [if_neg h0, if_neg h1, if_neg h5, if_neg h6, if_pos h10, if_neg h0, if_neg h1, if_neg h5, if_neg h6, if_pos h10]
    by_cases h11 : a = ad 11
    · rw [if_neg h0, if_neg h1, if_neg h5, if_neg h6, if_neg h10, if_pos h11, if_neg h0, if_neg h1, if_neg h5, if_neg h6, if_neg h10, if_pos h11]
    by_cases h12 : a = ad 12
    · rw [if_neg h0, if_neg h1, if_neg h5, if_neg h6, if_neg h10, if_neg h11, if_pos h12, if_neg h0, if_neg h1, if_neg h5, if_neg h6, if_neg h10, if_neg h11, if_pos h12]
    rw [if_neg h0, if_neg h1, if_neg h5, if_neg h6, if_neg h10, if_neg h11, if_neg h12, if_neg h0, if_neg h1, if_neg h5, if_neg h6, if_neg h10, if_neg h11, if_neg h12, if_neg h0, if_neg h1, if_neg h5, if_neg h6, if_neg h10, if_neg h11, if_neg h12]
  show (mK M, (fun c b => if b = m ∧ scI c then sf' c else if b = m ∧ scI c then sf c else mI M c b), mR M, mN M, (fun a => if a = ad 0 then g' else if a = ad 1 then sa' 1 else if a = ad 5 then sa' 5 else if a = ad 6 then sa' 6 else if a = ad 10 then sa' 10 else if a = ad 11 then sa' 11 else if a = ad 12 then sa' 12 else  (if a = ad 0 then g else if a = ad 1 then sa 1 else if a = ad 5 then sa 5 else if a = ad 6 then sa 6 else if a = ad 10 then sa 10 else if a = ad 11 then sa 11 else if a = ad 12 then sa 12 else  mA M a)), mL M, mO M, mG M) = _
  rw [e1, e2]
theorem SC_eta {M : kM} {m : Nat} {ad : Nat → Nat} : SC M m ad (mA M (ad 0)) (fun i => mA M (ad i)) (fun c => mI M c m) = M := by
  unfold SC
  have e1 : (fun c b => if b = m ∧ scI c then mI M c m else mI M c b) = mI M := by
    funext c b
    by_cases h : b = m ∧ scI c
    · rw [if_pos h, h.1]
    · rw [if_neg h]
  have e2 : (fun a => if a = ad 0 then mA M (ad 0) else if a = ad 1 then mA M (ad 1) else if a = ad 5 then mA M (ad 5) else if a = ad 6 then mA M (ad 6) else if a = ad 10 then mA M (ad 10) else if a = ad 11 then mA M (ad 11) else if a = ad 12 then mA M (ad 12) else  mA M a) = mA M := by
    funext a
    by_cases h0 : a = ad 0
    · rw [if_pos h0, h0]
    by_cases h1 : a = ad 1
    · rw [if_neg h0, if_pos h1, h1]
    by_cases h5 : a = ad 5
    · rw [if_neg h0, if_neg h1, if_pos h5, h5]
    by_cases h6 : a = ad 6
    · rw [if_neg h0, if_neg h1, if_neg h5, if_pos h6, h6]
    by_cases h10 : a = ad 10
    · rw [if_neg h0, if_neg h1, if_neg h5, if_neg h6, if_pos h10, h10]
    by_cases h11 : a = ad 11
    · rw [if_neg h0, if_neg h1, if_neg h5, if_neg h6, if_neg h10, if_pos h11, h11]
    by_cases h12 : a = ad 12
    · rw [if_neg h0, if_neg h1, if_neg h5, if_neg h6, if_neg h10, if_neg h11, if_pos h12, h12]
    rw [if_neg h0, if_neg h1, if_neg h5, if_neg h6, if_neg h10, if_neg h11, if_neg h12]
  rw [e1, e2]
  rfl
theorem mA_SC0 {M : kM} {m : Nat} {ad : Nat → Nat} {g : gT} {sa : Nat → gT} {sf : Nat → Int32} : mA (SC M m ad g sa sf) (ad 0) = g := if_pos rfl
theorem mA_SC1 {M : kM} {m : Nat} {ad : Nat → Nat} {g : gT} {sa : Nat → gT} {sf : Nat → Int32} (hS : MS M m ad) : mA (SC M m ad g sa sf) (ad 1) = sa 1 := by
  show (if ad 1 = ad 0 then g else if ad 1 = ad 1 then sa 1 else if ad 1 = ad 5 then sa 5 else if ad 1 = ad 6 then sa 6 else if ad 1 = ad 10 then sa 10 else if ad 1 = ad 11 then sa 11 else if ad 1 = ad 12 then sa 12 else  mA M (ad 1)) = _
  rw [if_neg (hS.ne 1 0 (by decide) (by decide) (by decide)), if_pos rfl]
theorem mA_SC5 {M : kM} {m : Nat} {ad : Nat → Nat} {g : gT} {sa : Nat → gT} {sf : Nat → Int32} (hS : MS M m ad) : mA (SC M m ad g sa sf) (ad 5) = sa 5 := by
  show (if ad 5 = ad 0 then g else if ad 5 = ad 1 then sa 1 else if ad 5 = ad 5 then sa 5 else if ad 5 = ad 6 then sa 6 else if ad 5 = ad 10 then sa 10 else if ad 5 = ad 11 then sa 11 else if ad 5 = ad 12 then sa 12 else  mA M (ad 5)) = _
  rw [if_neg (hS.ne 5 0 (by decide) (by decide) (by decide)), if_neg (hS.ne 5 1 (by decide) (by decide) (by decide)), if_pos rfl]
theorem mA_SC6 {M : kM} {m : Nat} {ad : Nat → Nat} {g : gT} {sa : Nat → gT} {sf : Nat → Int32} (hS : MS M m ad) : mA (SC M m ad g sa sf) (ad 6) = sa 6 := by
  show (if ad 6 = ad 0 then g else if ad 6 = ad 1 then sa 1 else if ad 6 = ad 5 then sa 5 else if ad 6 = ad 6 then sa 6 else if ad 6 = ad 10 then sa 10 else if ad 6 = ad 11 then sa 11 else if ad 6 = ad 12 then sa 12 else  mA M (ad 6)) = _
  rw [if_neg (hS.ne 6 0 (by decide) (by decide) (by decide)), if_neg (hS.ne 6 1 (by decide) (by decide) (by decide)), if_neg (hS.ne 6 5 (by decide) (by decide) (by decide)), if_pos rfl]
theorem mA_SC10 {M : kM} {m : Nat} {ad : Nat → Nat} {g : gT} {sa : Nat → gT} {sf : Nat → Int32} (hS : MS M m ad) : mA (SC M m ad g sa sf) (ad 10) = sa 10 := by
  show (if ad 10 = ad 0 then g else if ad 10 = ad 1 then sa 1 else if ad 10 = ad 5 then sa 5 else if ad 10 = ad 6 then sa 6 else if ad 10 = ad 10 then sa 10 else if ad 10 = ad 11 then sa 11 else if ad 10 = ad 12 then sa 12 else  mA M (ad 10)) = _
  rw [if_neg (hS.ne 10 0 (by decide) (by decide) (by decide)), if_neg (hS.ne 10 1 (by decide) (by decide) (by decide)), if_neg (hS.ne 10 5 (by decide) (by decide) (by decide)), if_neg (hS.ne 10 6 (by decide) (by decide) (by decide)), if_pos rfl]
theorem mA_SC11 {M : kM} {m : Nat} {ad : Nat → Nat} {g : gT} {sa : Nat → gT} {sf : Nat → Int32} (hS : MS M m ad) : mA (SC M m ad g sa sf) (ad 11) = sa 11 := by
  show (if ad 11 = ad 0 then g else if ad 11 = ad 1 then sa 1 else if ad 11 = ad 5 then sa 5 else if ad 11 = ad 6 then sa 6 else if ad 11 = ad 10 then sa 10 else if ad 11 = ad 11 then sa 11 else if ad 11 = ad 12 then sa 12 else  mA M (ad 11)) = _
  rw [if_neg (hS.ne 11 0 (by decide) (by decide) (by decide)), if_neg (hS.ne 11 1 (by decide) (by decide) (by decide)), if_neg (hS.ne 11 5 (by decide) (by decide) (by decide)), if_neg (hS.ne 11 6 (by decide) (by decide) (by decide)), if_neg (hS.ne 11 10 (by decide) (by decide) (by decide)), if_pos rfl]
theorem mA_SC12 {M : kM} {m : Nat} {ad : Nat → Nat} {g : gT} {sa : Nat → gT} {sf : Nat → Int32} (hS : MS M m ad) : mA (SC M m ad g sa sf) (ad 12) = sa 12 := by
  show (if ad 12 = ad 0 then g else if ad 12 = ad 1 then sa 1 else if ad 12 = ad 5 then sa 5 else if ad 12 = ad 6 then sa 6 else if ad 12 = ad 10 then sa 10 else if ad 12 = ad 11 then sa 11 else if ad 12 = ad 12 then sa 12 else  mA M (ad 12)) = _
  rw [if_neg (hS.ne 12 0 (by decide) (by decide) (by decide)), if_neg (hS.ne 12 1 (by decide) (by decide) (by decide)), if_neg (hS.ne 12 5 (by decide) (by decide) (by decide)), if_neg (hS.ne 12 6 (by decide) (by decide) (by decide)), if_neg (hS.ne 12 10 (by decide) (by decide) (by decide)), if_neg (hS.ne 12 11 (by decide) (by decide) (by decide)), if_pos rfl]
theorem mA_SCn {M : kM} {m : Nat} {ad : Nat → Nat} {g : gT} {sa : Nat → gT} {sf : Nat → Int32} (hS : MS M m ad) (i : Nat) (hi : i < 14) (hn : i ≠ 0 ∧ i ≠ 1 ∧ i ≠ 5 ∧ i ≠ 6 ∧ i ≠ 10 ∧ i ≠ 11 ∧ i ≠ 12) : mA (SC M m ad g sa sf) (ad i) = mA M (ad i) := by
  show (if ad i = ad 0 then g else if ad i = ad 1 then sa 1 else if ad i = ad 5 then sa 5 else if ad i = ad 6 then sa 6 else if ad i = ad 10 then sa 10 else if ad i = ad 11 then sa 11 else if ad i = ad 12 then sa 12 else  mA M (ad i)) = _
  rw [if_neg (hS.ne i 0 hi (by decide) (by omega)), if_neg (hS.ne i 1 hi (by decide) (by omega)), if_neg (hS.ne i 5 hi (by decide) (by omega)), if_neg (hS.ne i 6 hi (by decide) (by omega)), if_neg (hS.ne i 10 hi (by decide) (by omega)), if_neg (hS.ne i 11 hi (by decide) (by omega)), if_neg (hS.ne i 12 hi (by decide) (by omega))]
theorem mA_SCo {M : kM} {m : Nat} {ad : Nat → Nat} {g : gT} {sa : Nat → gT} {sf : Nat → Int32} {b : Nat} (hb : ∀ i, i < 14 → b ≠ ad i) : mA (SC M m ad g sa sf) b = mA M b := by
  show (if b = ad 0 then g else if b = ad 1 then sa 1 else if b = ad 5 then sa 5 else if b = ad 6 then sa 6 else if b = ad 10 then sa 10 else if b = ad 11 then sa 11 else if b = ad 12 then sa 12 else  mA M b) = _
  rw [if_neg (hb 0 (by decide)), if_neg (hb 1 (by decide)), if_neg (hb 5 (by decide)), if_neg (hb 6 (by decide)), if_neg (hb 10 (by decide)), if_neg (hb 11 (by decide)), if_neg (hb 12 (by decide))]
theorem mI_SC_5 {M : kM} {m : Nat} {ad : Nat → Nat} {g : gT} {sa : Nat → gT} {sf : Nat → Int32} : mI (SC M m ad g sa sf) (fc 9 5) m = sf (fc 9 5) := if_pos ⟨rfl, by unfold scI; decide⟩
theorem mI_SC_6 {M : kM} {m : Nat} {ad : Nat → Nat} {g : gT} {sa : Nat → gT} {sf : Nat → Int32} : mI (SC M m ad g sa sf) (fc 9 6) m = sf (fc 9 6) := if_pos ⟨rfl, by unfold scI; decide⟩
theorem mI_SC_7 {M : kM} {m : Nat} {ad : Nat → Nat} {g : gT} {sa : Nat → gT} {sf : Nat → Int32} : mI (SC M m ad g sa sf) (fc 9 7) m = sf (fc 9 7) := if_pos ⟨rfl, by unfold scI; decide⟩
theorem mI_SC_10 {M : kM} {m : Nat} {ad : Nat → Nat} {g : gT} {sa : Nat → gT} {sf : Nat → Int32} : mI (SC M m ad g sa sf) (fc 9 10) m = sf (fc 9 10) := if_pos ⟨rfl, by unfold scI; decide⟩
theorem mI_SC_12 {M : kM} {m : Nat} {ad : Nat → Nat} {g : gT} {sa : Nat → gT} {sf : Nat → Int32} : mI (SC M m ad g sa sf) (fc 9 12) m = sf (fc 9 12) := if_pos ⟨rfl, by unfold scI; decide⟩
theorem mI_SCn {M : kM} {m : Nat} {ad : Nat → Nat} {g : gT} {sa : Nat → gT} {sf : Nat → Int32} {c b : Nat} (h : ¬ (b = m ∧ scI c)) : mI (SC M m ad g sa sf) c b = mI M c b := if_neg h
theorem MS.sc {M : kM} {m : Nat} {ad : Nat → Nat} {g : gT} {sa : Nat → gT} {sf : Nat → Int32} (h : MS M m ad) : MS (SC M m ad g sa sf) m ad := h
theorem mK_S {M : kM} {m : Nat} {ad : Nat → Nat} {g : gT} {sa : Nat → gT} {sf : Nat → Int32} {b v : Nat} (h : mK M b = some v) : mK (SC M m ad g sa sf) b = some v := h
theorem mN_S {M : kM} {m : Nat} {ad : Nat → Nat} {g : gT} {sa : Nat → gT} {sf : Nat → Int32} {b v : Nat} (h : mN M b = v) : mN (SC M m ad g sa sf) b = v := h
theorem mR_S {M : kM} {m : Nat} {ad : Nat → Nat} {g : gT} {sa : Nat → gT} {sf : Nat → Int32} {c b : Nat} {v : Option Nat} (h : mR M c b = v) : mR (SC M m ad g sa sf) c b = v := h
theorem kE_S {M : kM} {m : Nat} {ad : Nat → Nat} {g : gT} {sa : Nat → gT} {sf : Nat → Int32} {M0 : kM} (h : kE M0 M) : kE M0 (SC M m ad g sa sf) := h
theorem va_u1_5 (sa : Nat → gT) (f : gT) : va_up sa 1 f 5 = sa 5 := va_up_ne _ _ (by decide)
theorem va_u1_6 (sa : Nat → gT) (f : gT) : va_up sa 1 f 6 = sa 6 := va_up_ne _ _ (by decide)
theorem va_u1_10 (sa : Nat → gT) (f : gT) : va_up sa 1 f 10 = sa 10 := va_up_ne _ _ (by decide)
theorem va_u1_11 (sa : Nat → gT) (f : gT) : va_up sa 1 f 11 = sa 11 := va_up_ne _ _ (by decide)
theorem va_u1_12 (sa : Nat → gT) (f : gT) : va_up sa 1 f 12 = sa 12 := va_up_ne _ _ (by decide)
theorem va_u5_1 (sa : Nat → gT) (f : gT) : va_up sa 5 f 1 = sa 1 := va_up_ne _ _ (by decide)
theorem va_u5_6 (sa : Nat → gT) (f : gT) : va_up sa 5 f 6 = sa 6 := va_up_ne _ _ (by decide)
theorem va_u5_10 (sa : Nat → gT) (f : gT) : va_up sa 5 f 10 = sa 10 := va_up_ne _ _ (by decide)
theorem va_u5_11 (sa : Nat → gT) (f : gT) : va_up sa 5 f 11 = sa 11 := va_up_ne _ _ (by decide)
theorem va_u5_12 (sa : Nat → gT) (f : gT) : va_up sa 5 f 12 = sa 12 := va_up_ne _ _ (by decide)
theorem va_u6_1 (sa : Nat → gT) (f : gT) : va_up sa 6 f 1 = sa 1 := va_up_ne _ _ (by decide)
theorem va_u6_5 (sa : Nat → gT) (f : gT) : va_up sa 6 f 5 = sa 5 := va_up_ne _ _ (by decide)
theorem va_u6_10 (sa : Nat → gT) (f : gT) : va_up sa 6 f 10 = sa 10 := va_up_ne _ _ (by decide)
theorem va_u6_11 (sa : Nat → gT) (f : gT) : va_up sa 6 f 11 = sa 11 := va_up_ne _ _ (by decide)
theorem va_u6_12 (sa : Nat → gT) (f : gT) : va_up sa 6 f 12 = sa 12 := va_up_ne _ _ (by decide)
theorem va_u10_1 (sa : Nat → gT) (f : gT) : va_up sa 10 f 1 = sa 1 := va_up_ne _ _ (by decide)
theorem va_u10_5 (sa : Nat → gT) (f : gT) : va_up sa 10 f 5 = sa 5 := va_up_ne _ _ (by decide)
theorem va_u10_6 (sa : Nat → gT) (f : gT) : va_up sa 10 f 6 = sa 6 := va_up_ne _ _ (by decide)
theorem va_u10_11 (sa : Nat → gT) (f : gT) : va_up sa 10 f 11 = sa 11 := va_up_ne _ _ (by decide)
theorem va_u10_12 (sa : Nat → gT) (f : gT) : va_up sa 10 f 12 = sa 12 := va_up_ne _ _ (by decide)
theorem va_u11_1 (sa : Nat → gT) (f : gT) : va_up sa 11 f 1 = sa 1 := va_up_ne _ _ (by decide)
theorem va_u11_5 (sa : Nat → gT) (f : gT) : va_up sa 11 f 5 = sa 5 := va_up_ne _ _ (by decide)
theorem va_u11_6 (sa : Nat → gT) (f : gT) : va_up sa 11 f 6 = sa 6 := va_up_ne _ _ (by decide)
theorem va_u11_10 (sa : Nat → gT) (f : gT) : va_up sa 11 f 10 = sa 10 := va_up_ne _ _ (by decide)
theorem va_u11_12 (sa : Nat → gT) (f : gT) : va_up sa 11 f 12 = sa 12 := va_up_ne _ _ (by decide)
theorem va_u12_1 (sa : Nat → gT) (f : gT) : va_up sa 12 f 1 = sa 1 := va_up_ne _ _ (by decide)
theorem va_u12_5 (sa : Nat → gT) (f : gT) : va_up sa 12 f 5 = sa 5 := va_up_ne _ _ (by decide)
theorem va_u12_6 (sa : Nat → gT) (f : gT) : va_up sa 12 f 6 = sa 6 := va_up_ne _ _ (by decide)
theorem va_u12_10 (sa : Nat → gT) (f : gT) : va_up sa 12 f 10 = sa 10 := va_up_ne _ _ (by decide)
theorem va_u12_11 (sa : Nat → gT) (f : gT) : va_up sa 12 f 11 = sa 11 := va_up_ne _ _ (by decide)
theorem SC_A0 {M : kM} {m : Nat} {ad : Nat → Nat} {g : gT} {sa : Nat → gT} {sf : Nat → Int32} {f : gT} : sA (SC M m ad g sa sf) (ad 0) f = SC M m ad f sa sf := by
  have e2 : va_up (fun a => if a = ad 0 then g else if a = ad 1 then sa 1 else if a = ad 5 then sa 5 else if a = ad 6 then sa 6 else if a = ad 10 then sa 10 else if a = ad 11 then sa 11 else if a = ad 12 then sa 12 else  mA M a) (ad 0) f = (fun a => if a = ad 0 then f else if a = ad 1 then sa 1 else if a = ad 5 then sa 5 else if a = ad 6 then sa 6 else if a = ad 10 then sa 10 else if a = ad 11 then sa 11 else if a = ad 12 then sa 12 else  mA M a) := by
    funext a
    show (if a = ad 0 then f else if a = ad 0 then g else if a = ad 1 then sa 1 else if a = ad 5 then sa 5 else if a = ad 6 then sa 6 else if a = ad 10 then sa 10 else if a = ad 11 then sa 11 else if a = ad 12 then sa 12 else  mA M a) = _
    by_cases h : a = ad 0
    · rw [if_pos h, if_pos h]
    · rw [if_neg h, if_neg h, if_neg h]
  show (mK M, _, mR M, mN M, va_up (fun a => if a = ad 0 then g else if a = ad 1 then sa 1 else if a = ad 5 then sa 5 else if a = ad 6 then sa 6 else if a = ad 10 then sa 10 else if a = ad 11 then sa 11 else if a = ad 12 then sa 12 else  mA M a) (ad 0) f, mL M, mO M, mG M) = _
  rw [e2]
  rfl
theorem SC_A1 {M : kM} {m : Nat} {ad : Nat → Nat} {g : gT} {sa : Nat → gT} {sf : Nat → Int32} {f : gT} (hS : MS M m ad) : sA (SC M m ad g sa sf) (ad 1) f = SC M m ad g (va_up sa 1 f) sf := by
  have e2 : va_up (fun a => if a = ad 0 then g else if a = ad 1 then sa 1 else if a = ad 5 then sa 5 else if a = ad 6 then sa 6 else if a = ad 10 then sa 10 else if a = ad 11 then sa 11 else if a = ad 12 then sa 12 else  mA M a) (ad 1) f = (fun a => if a = ad 0 then g else if a = ad 1 then va_up sa 1 f 1 else if a = ad 5 then va_up sa 1 f 5 else if a = ad 6 then va_up sa 1 f 6 else if a = ad 10 then va_up sa 1 f 10 else if a = ad 11 then va_up sa 1 f 11 else if a = ad 12 then va_up sa 1 f 12 else  mA M a) := by
    funext a
    show (if a = ad 1 then f else if a = ad 0 then g else if a = ad 1 then sa 1 else if a = ad 5 then sa 5 else if a = ad 6 then sa 6 else if a = ad 10 then sa 10 else if a = ad 11 then sa 11 else if a = ad 12 then sa 12 else  mA M a) = _
    by_cases h : a = ad 1
    · rw [if_pos h, if_neg (fun q => hS.ne 1 0 (by decide) (by decide) (by decide) (h.symm.trans q)), if_pos h, va_up_self]
    · rw [if_neg h]
      simp only [h, if_false, va_u1_5 sa f, va_u1_6 sa f, va_u1_10 sa f, va_u1_11 sa f, va_u1_12 sa f]
  show (mK M, _, mR M, mN M, va_up (fun a => if a = ad 0 then g else if a = ad 1 then sa 1 else if a = ad 5 then sa 5 else if a = ad 6 then sa 6 else if a = ad 10 then sa 10 else if a = ad 11 then sa 11 else if a = ad 12 then sa 12 else  mA M a) (ad 1) f, mL M, mO M, mG M) = _
  rw [e2]
  rfl
theorem SC_A5 {M : kM} {m : Nat} {ad : Nat → Nat} {g : gT} {sa : Nat → gT} {sf : Nat → Int32} {f : gT} (hS : MS M m ad) : sA (SC M m ad g sa sf) (ad 5) f = SC M m ad g (va_up sa 5 f) sf := by
  have e2 : va_up (fun a => if a = ad 0 then g else if a = ad 1 then sa 1 else if a = ad 5 then sa 5 else if a = ad 6 then sa 6 else if a = ad 10 then sa 10 else if a = ad 11 then sa 11 else if a = ad 12 then sa 12 else  mA M a) (ad 5) f = (fun a => if a = ad 0 then g else if a = ad 1 then va_up sa 5 f 1 else if a = ad 5 then va_up sa 5 f 5 else if a = ad 6 then va_up sa 5 f 6 else if a = ad 10 then va_up sa 5 f 10 else if a = ad 11 then va_up sa 5 f 11 else if a = ad 12 then va_up sa 5 f 12 else  mA M a) := by
    funext a
    show (if a = ad 5 then f else if a = ad 0 then g else if a = ad 1 then sa 1 else if a = ad 5 then sa 5 else if a = ad 6 then sa 6 else if a = ad 10 then sa 10 else if a = ad 11 then sa 11 else if a = ad 12 then sa 12 else  mA M a) = _
    by_cases h : a = ad 5
    · rw [if_pos h, if_neg (fun q => hS.ne 5 0 (by decide) (by decide) (by decide) (h.symm.trans q)), if_neg (fun q => hS.ne 5 1 (by decide) (by decide) (by decide) (h.symm.trans q)), if_pos h, va_up_self]
    · rw [if_neg h]
      simp only [h, if_false, va_u5_1 sa f, va_u5_6 sa f, va_u5_10 sa f, va_u5_11 sa f, va_u5_12 sa f]
  show (mK M, _, mR M, mN M, va_up (fun a => if a = ad 0 then g else if a = ad 1 then sa 1 else if a = ad 5 then sa 5 else if a = ad 6 then sa 6 else if a = ad 10 then sa 10 else if a = ad 11 then sa 11 else if a = ad 12 then sa 12 else  mA M a) (ad 5) f, mL M, mO M, mG M) = _
  rw [e2]
  rfl
theorem SC_A6 {M : kM} {m : Nat} {ad : Nat → Nat} {g : gT} {sa : Nat → gT} {sf : Nat → Int32} {f : gT} (hS : MS M m ad) : sA (SC M m ad g sa sf) (ad 6) f = SC M m ad g (va_up sa 6 f) sf := by
  have e2 : va_up (fun a => if a = ad 0 then g else if a = ad 1 then sa 1 else if a = ad 5 then sa 5 else if a = ad 6 then sa 6 else if a = ad 10 then sa 10 else if a = ad 11 then sa 11 else if a = ad 12 then sa 12 else  mA M a) (ad 6) f = (fun a => if a = ad 0 then g else if a = ad 1 then va_up sa 6 f 1 else if a = ad 5 then va_up sa 6 f 5 else if a = ad 6 then va_up sa 6 f 6 else if a = ad 10 then va_up sa 6 f 10 else if a = ad 11 then va_up sa 6 f 11 else if a = ad 12 then va_up sa 6 f 12 else  mA M a) := by
    funext a
    show (if a = ad 6 then f else if a = ad 0 then g else if a = ad 1 then sa 1 else if a = ad 5 then sa 5 else if a = ad 6 then sa 6 else if a = ad 10 then sa 10 else if a = ad 11 then sa 11 else if a = ad 12 then sa 12 else  mA M a) = _
    by_cases h : a = ad 6
    · rw [if_pos h, if_neg (fun q => hS.ne 6 0 (by decide) (by decide) (by decide) (h.symm.trans q)), if_neg (fun q => hS.ne 6 1 (by decide) (by decide) (by decide) (h.symm.trans q)), if_neg (fun q => hS.ne 6 5 (by decide) (by decide) (by decide) (h.symm.trans q)), if_pos h, va_up_self]
    · rw [if_neg h]
      simp only [h, if_false, va_u6_1 sa f, va_u6_5 sa f, va_u6_10 sa f, va_u6_11 sa f, va_u6_12 sa f]
  show (mK M, _, mR M, mN M, va_up (fun a => if a = ad 0 then g else if a = ad 1 then sa 1 else if a = ad 5 then sa 5 else if a = ad 6 then sa 6 else if a = ad 10 then sa 10 else if a = ad 11 then sa 11 else if a = ad 12 then sa 12 else  mA M a) (ad 6) f, mL M, mO M, mG M) = _
  rw [e2]
  rfl
theorem SC_A10 {M : kM} {m : Nat} {ad : Nat → Nat} {g : gT} {sa : Nat → gT} {sf : Nat → Int32} {f : gT} (hS : MS M m ad) : sA (SC M m ad g sa sf) (ad 10) f = SC M m ad g (va_up sa 10 f) sf := by
  have e2 : va_up (fun a => if a = ad 0 then g else if a = ad 1 then sa 1 else if a = ad 5 then sa 5 else if a = ad 6 then sa 6 else if a = ad 10 then sa 10 else if a = ad 11 then sa 11 else if a = ad 12 then sa 12 else  mA M a) (ad 10) f = (fun a => if a = ad 0 then g else if a = ad 1 then va_up sa 10 f 1 else if a = ad 5 then va_up sa 10 f 5 else if a = ad 6 then va_up sa 10 f 6 else if a = ad 10 then va_up sa 10 f 10 else if a = ad 11 then va_up sa 10 f 11 else if a = ad 12 then va_up sa 10 f 12 else  mA M a) := by
    funext a
    show (if a = ad 10 then f else if a = ad 0 then g else if a = ad 1 then sa 1 else if a = ad 5 then sa 5 else if a = ad 6 then sa 6 else if a = ad 10 then sa 10 else if a = ad 11 then sa 11 else if a = ad 12 then sa 12 else  mA M a) = _
    by_cases h : a = ad 10
    · rw [if_pos h, if_neg (fun q => hS.ne 10 0 (by decide) (by decide) (by decide) (h.symm.trans q)), if_neg (fun q => hS.ne 10 1 (by decide) (by decide) (by decide) (h.symm.trans q)), if_neg (fun q => hS.ne 10 5 (by decide) (by decide) (by decide) (h.symm.trans q)), if_neg (fun q => hS.ne 10 6 (by decide) (by decide) (by decide) (h.symm.trans q)), if_pos h, va_up_self]
    · rw [if_neg h]
      simp only [h, if_false, va_u10_1 sa f, va_u10_5 sa f, va_u10_6 sa f, va_u10_11 sa f, va_u10_12 sa f]
  show (mK M, _, mR M, mN M, va_up (fun a => if a = ad 0 then g else if a = ad 1 then sa 1 else if a = ad 5 then sa 5 else if a = ad 6 then sa 6 else if a = ad 10 then sa 10 else if a = ad 11 then sa 11 else if a = ad 12 then sa 12 else  mA M a) (ad 10) f, mL M, mO M, mG M) = _
  rw [e2]
  rfl
theorem SC_A11 {M : kM} {m : Nat} {ad : Nat → Nat} {g : gT} {sa : Nat → gT} {sf : Nat → Int32} {f : gT} (hS : MS M m ad) : sA (SC M m ad g sa sf) (ad 11) f = SC M m ad g (va_up sa 11 f) sf := by
  have e2 : va_up (fun a => if a = ad 0 then g else if a = ad 1 then sa 1 else if a = ad 5 then sa 5 else if a = ad 6 then sa 6 else if a = ad 10 then sa 10 else if a = ad 11 then sa 11 else if a = ad 12 then sa 12 else  mA M a) (ad 11) f = (fun a => if a = ad 0 then g else if a = ad 1 then va_up sa 11 f 1 else if a = ad 5 then va_up sa 11 f 5 else if a = ad 6 then va_up sa 11 f 6 else if a = ad 10 then va_up sa 11 f 10 else if a = ad 11 then va_up sa 11 f 11 else if a = ad 12 then va_up sa 11 f 12 else  mA M a) := by
    funext a
    show (if a = ad 11 then f else if a = ad 0 then g else if a = ad 1 then sa 1 else if a = ad 5 then sa 5 else if a = ad 6 then sa 6 else if a = ad 10 then sa 10 else if a = ad 11 then sa 11 else if a = ad 12 then sa 12 else  mA M a) = _
    by_cases h : a = ad 11
    · rw [if_pos h, if_neg (fun q => hS.ne 11 0 (by decide) (by decide) (by decide) (h.symm.trans q)), if_neg (fun q => hS.ne 11 1 (by decide) (by decide) (by decide) (h.symm.trans q)), if_neg (fun q => hS.ne 11 5 (by decide) (by decide) (by decide) (h.symm.trans q)), if_neg (fun q => hS.ne 11 6 (by decide) (by decide) (by decide) (h.symm.trans q)), if_neg (fun q => hS.ne 11 10 (by decide) (by decide) (by decide) (h.symm.trans q)), if_pos h, va_up_self]
    · rw [if_neg h]
      simp only [h, if_false, va_u11_1 sa f, va_u11_5 sa f, va_u11_6 sa f, va_u11_10 sa f, va_u11_12 sa f]
  show (mK M, _, mR M, mN M, va_up (fun a => if a = ad 0 then g else if a = ad 1 then sa 1 else if a = ad 5 then sa 5 else if a = ad 6 then sa 6 else if a = ad 10 then sa 10 else if a = ad 11 then sa 11 else if a = ad 12 then sa 12 else  mA M a) (ad 11) f, mL M, mO M, mG M) = _
  rw [e2]
  rfl
theorem SC_A12 {M : kM} {m : Nat} {ad : Nat → Nat} {g : gT} {sa : Nat → gT} {sf : Nat → Int32} {f : gT} (hS : MS M m ad) : sA (SC M m ad g sa sf) (ad 12) f = SC M m ad g (va_up sa 12 f) sf := by
  have e2 : va_up (fun a => if a = ad 0 then g else if a = ad 1 then sa 1 else if a = ad 5 then sa 5 else if a = ad 6 then sa 6 else if a = ad 10 then sa 10 else if a = ad 11 then sa 11 else if a = ad 12 then sa 12 else  mA M a) (ad 12) f = (fun a => if a = ad 0 then g else if a = ad 1 then va_up sa 12 f 1 else if a = ad 5 then va_up sa 12 f 5 else if a = ad 6 then va_up sa 12 f 6 else if a = ad 10 then va_up sa 12 f 10 else if a = ad 11 then va_up sa 12 f 11 else if a = ad 12 then va_up sa 12 f 12 else  mA M a) := by
    funext a
    show (if a = ad 12 then f else if a = ad 0 then g else if a = ad 1 then sa 1 else if a = ad 5 then sa 5 else if a = ad 6 then sa 6 else if a = ad 10 then sa 10 else if a = ad 11 then sa 11 else if a = ad 12 then sa 12 else  mA M a) = _
    by_cases h : a = ad 12
    · rw [if_pos h, if_neg (fun q => hS.ne 12 0 (by decide) (by decide) (by decide) (h.symm.trans q)), if_neg (fun q => hS.ne 12 1 (by decide) (by decide) (by decide) (h.symm.trans q)), if_neg (fun q => hS.ne 12 5 (by decide) (by decide) (by decide) (h.symm.trans q)), if_neg (fun q => hS.ne 12 6 (by decide) (by decide) (by decide) (h.symm.trans q)), if_neg (fun q => hS.ne 12 10 (by decide) (by decide) (by decide) (h.symm.trans q)), if_neg (fun q => hS.ne 12 11 (by decide) (by decide) (by decide) (h.symm.trans q)), if_pos h, va_up_self]
    · rw [if_neg h]
      simp only [h, if_false, va_u12_1 sa f, va_u12_5 sa f, va_u12_6 sa f, va_u12_10 sa f, va_u12_11 sa f]
  show (mK M, _, mR M, mN M, va_up (fun a => if a = ad 0 then g else if a = ad 1 then sa 1 else if a = ad 5 then sa 5 else if a = ad 6 then sa 6 else if a = ad 10 then sa 10 else if a = ad 11 then sa 11 else if a = ad 12 then sa 12 else  mA M a) (ad 12) f, mL M, mO M, mG M) = _
  rw [e2]
  rfl
theorem SC_I5 {M : kM} {m : Nat} {ad : Nat → Nat} {g : gT} {sa : Nat → gT} {sf : Nat → Int32} {v : Int32} : sI (SC M m ad g sa sf) (fc 9 5) m v = SC M m ad g sa (va_up sf (fc 9 5) v) := by
  have e1 : u2 (fun c b => if b = m ∧ scI c then sf c else mI M c b) (fc 9 5) m v = (fun c b => if b = m ∧ scI c then va_up sf (fc 9 5) v c else mI M c b) := by
    funext c b
    by_cases h : c = fc 9 5 ∧ b = m
    · obtain ⟨rfl, rfl⟩ := h
      rw [u2_s, if_pos ⟨rfl, by unfold scI; decide⟩, va_up_self]
    · by_cases h1 : c = fc 9 5
      · have h2 : b ≠ m := fun q => h ⟨h1, q⟩
        rw [u2_a h2, if_neg (fun q => h2 q.1), if_neg (fun q => h2 q.1)]
      · rw [u2_c h1, va_up_ne _ _ h1]
  show (mK M, u2 (fun c b => if b = m ∧ scI c then sf c else mI M c b) (fc 9 5) m v, mR M, mN M, _, mL M, mO M, mG M) = _
  rw [e1]
  rfl
theorem SC_I6 {M : kM} {m : Nat} {ad : Nat → Nat} {g : gT} {sa : Nat → gT} {sf : Nat → Int32} {v : Int32} : sI (SC M m ad g sa sf) (fc 9 6) m v = SC M m ad g sa (va_up sf (fc 9 6) v) := by
  have e1 : u2 (fun c b => if b = m ∧ scI c then sf c else mI M c b) (fc 9 6) m v = (fun c b => if b = m ∧ scI c then va_up sf (fc 9 6) v c else mI M c b) := by
    funext c b
    by_cases h : c = fc 9 6 ∧ b = m
    · obtain ⟨rfl, rfl⟩ := h
      rw [u2_s, if_pos ⟨rfl, by unfold scI; decide⟩, va_up_self]
    · by_cases h1 : c = fc 9 6
      · have h2 : b ≠ m := fun q => h ⟨h1, q⟩
        rw [u2_a h2, if_neg (fun q => h2 q.1), if_neg (fun q => h2 q.1)]
      · rw [u2_c h1, va_up_ne _ _ h1]
  show (mK M, u2 (fun c b => if b = m ∧ scI c then sf c else mI M c b) (fc 9 6) m v, mR M, mN M, _, mL M, mO M, mG M) = _
  rw [e1]
  rfl
theorem SC_I7 {M : kM} {m : Nat} {ad : Nat → Nat} {g : gT} {sa : Nat → gT} {sf : Nat → Int32} {v : Int32} : sI (SC M m ad g sa sf) (fc 9 7) m v = SC M m ad g sa (va_up sf (fc 9 7) v) := by
  have e1 : u2 (fun c b => if b = m ∧ scI c then sf c else mI M c b) (fc 9 7) m v = (fun c b => if b = m ∧ scI c then va_up sf (fc 9 7) v c else mI M c b) := by
    funext c b
    by_cases h : c = fc 9 7 ∧ b = m
    · obtain ⟨rfl, rfl⟩ := h
      rw [u2_s, if_pos ⟨rfl, by unfold scI; decide⟩, va_up_self]
    · by_cases h1 : c = fc 9 7
      · have h2 : b ≠ m := fun q => h ⟨h1, q⟩
        rw [u2_a h2, if_neg (fun q => h2 q.1), if_neg (fun q => h2 q.1)]
      · rw [u2_c h1, va_up_ne _ _ h1]
  show (mK M, u2 (fun c b => if b = m ∧ scI c then sf c else mI M c b) (fc 9 7) m v, mR M, mN M, _, mL M, mO M, mG M) = _
  rw [e1]
  rfl
theorem SC_I10 {M : kM} {m : Nat} {ad : Nat → Nat} {g : gT} {sa : Nat → gT} {sf : Nat → Int32} {v : Int32} : sI (SC M m ad g sa sf) (fc 9 10) m v = SC M m ad g sa (va_up sf (fc 9 10) v) := by
  have e1 : u2 (fun c b => if b = m ∧ scI c then sf c else mI M c b) (fc 9 10) m v = (fun c b => if b = m ∧ scI c then va_up sf (fc 9 10) v c else mI M c b) := by
    funext c b
    by_cases h : c = fc 9 10 ∧ b = m
    · obtain ⟨rfl, rfl⟩ := h
      rw [u2_s, if_pos ⟨rfl, by unfold scI; decide⟩, va_up_self]
    · by_cases h1 : c = fc 9 10
      · have h2 : b ≠ m := fun q => h ⟨h1, q⟩
        rw [u2_a h2, if_neg (fun q => h2 q.1), if_neg (fun q => h2 q.1)]
      · rw [u2_c h1, va_up_ne _ _ h1]
  show (mK M, u2 (fun c b => if b = m ∧ scI c then sf c else mI M c b) (fc 9 10) m v, mR M, mN M, _, mL M, mO M, mG M) = _
  rw [e1]
  rfl
theorem SC_I12 {M : kM} {m : Nat} {ad : Nat → Nat} {g : gT} {sa : Nat → gT} {sf : Nat → Int32} {v : Int32} : sI (SC M m ad g sa sf) (fc 9 12) m v = SC M m ad g sa (va_up sf (fc 9 12) v) := by
  have e1 : u2 (fun c b => if b = m ∧ scI c then sf c else mI M c b) (fc 9 12) m v = (fun c b => if b = m ∧ scI c then va_up sf (fc 9 12) v c else mI M c b) := by
    funext c b
    by_cases h : c = fc 9 12 ∧ b = m
    · obtain ⟨rfl, rfl⟩ := h
      rw [u2_s, if_pos ⟨rfl, by unfold scI; decide⟩, va_up_self]
    · by_cases h1 : c = fc 9 12
      · have h2 : b ≠ m := fun q => h ⟨h1, q⟩
        rw [u2_a h2, if_neg (fun q => h2 q.1), if_neg (fun q => h2 q.1)]
      · rw [u2_c h1, va_up_ne _ _ h1]
  show (mK M, u2 (fun c b => if b = m ∧ scI c then sf c else mI M c b) (fc 9 12) m v, mR M, mN M, _, mL M, mO M, mG M) = _
  rw [e1]
  rfl
theorem SC_hrM {M : kM} {m : Nat} {ad : Nat → Nat} {g : gT} {sa : Nat → gT} {sf : Nat → Int32} {g' : gT} {b d t : Int32} : hrM (SC M m ad g sa sf) m (ad 0) g' b d t = SC M m ad g' sa (va_up (va_up (va_up sf (fc 9 7) b) (fc 9 5) d) (fc 9 6) t) := by
  unfold hrM
  rw [SC_A0, SC_I7, SC_I5, SC_I6]
theorem SC_sL {M : kM} {m : Nat} {ad : Nat → Nat} {g : gT} {sa : Nat → gT} {sf : Nat → Int32} {a : Nat} {f : Nat → Int64} : sL (SC M m ad g sa sf) a f = SC (sL M a f) m ad g sa sf := rfl
theorem kE_SS {M : kM} {m : Nat} {ad : Nat → Nat} {g g' : gT} {sa sa' : Nat → gT} {sf sf' : Nat → Int32} : kE (SC M m ad g sa sf) (SC M m ad g' sa' sf') := fun _ _ q => q
