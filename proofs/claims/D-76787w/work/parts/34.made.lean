/-! ===== a model being made ===== -/
def IN (M : kM) (m : Nat) (ad : Nat → Nat) (va : Nat → gT) (S : List Nat) : Prop := mK M m = some 9 ∧ (∀ i ∈ S, i < 14 ∧ mR M (fc 9 (mdF i)) m = some (ad i) ∧ mK M (ad i) = some (mdK i) ∧ mN M (ad i) = mdN i) ∧ (∀ i ∈ S, ∀ j ∈ S, ad i = ad j → i = j) ∧ (∀ i ∈ S, i ≠ 13 → mA M (ad i) = va i) ∧ (13 ∈ S → mL M (ad 13) = fun _ => 0)
theorem mdF_inj : ∀ i, i < 14 → ∀ j, j < 14 → mdF i = mdF j → i = j := by decide
theorem fc9_inj {a b : Nat} (h : fc 9 a = fc 9 b) : a = b := by unfold fc at h; omega
theorem mK_nA_n {M : kM} {q K n b : Nat} (h : b ≠ q) : mK (nA M q K n) b = mK M b := va_up_ne _ _ h
theorem mN_nA {M : kM} {q K n : Nat} : mN (nA M q K n) q = n := va_up_self _ _ _
theorem mN_nA_n {M : kM} {q K n b : Nat} (h : b ≠ q) : mN (nA M q K n) b = mN M b := va_up_ne _ _ h
theorem mA_nA {M : kM} {q K n : Nat} : mA (nA M q K n) q = fun _ => 0 := va_up_self _ _ _
theorem mA_nA_n {M : kM} {q K n b : Nat} (h : b ≠ q) : mA (nA M q K n) b = mA M b := va_up_ne _ _ h
theorem mL_nA {M : kM} {q K n : Nat} : mL (nA M q K n) q = fun _ => 0 := va_up_self _ _ _
theorem mL_nA_n {M : kM} {q K n b : Nat} (h : b ≠ q) : mL (nA M q K n) b = mL M b := va_up_ne _ _ h
theorem IN.step {M : kM} {m : Nat} {ad : Nat → Nat} {va : Nat → gT} {S : List Nat} (h : IN M m ad va S) {q i : Nat} {f : gT} (hq : mK M q = none) (hi : i < 14) (hn : i ∉ S) (h13 : i = 13 → f = fun _ => 0) {M1 : kM} (e1 : mK M1 = mK (nA M q (mdK i) (mdN i))) (e2 : mR M1 = u2 (mR M) (fc 9 (mdF i)) m (some q)) (e3 : mN M1 = mN (nA M q (mdK i) (mdN i))) (e4 : mA M1 = va_up (mA M) q f) (e5 : mL M1 = mL (nA M q (mdK i) (mdN i))) : IN M1 m (va_up ad i q) (va_up va i f) (i :: S) := by
  obtain ⟨h1, h2, h3, h4, h5⟩ := h
  have hm : m ≠ q := fun e => by rw [e, hq] at h1; cases h1
  have hS : ∀ j ∈ S, ad j ≠ q := fun j hj e => by have := (h2 j hj).2.2.1; rw [e, hq] at this; cases this
  have hne : ∀ j ∈ S, j ≠ i := fun j hj e => hn (e ▸ hj)
  refine ⟨by rw [e1, mK_nA_n hm]; exact h1, ?_, ?_, ?_, ?_⟩
  · intro j hj
    rcases List.mem_cons.mp hj with rfl | hj
    · rw [va_up_self, e1, e2, e3]
      exact ⟨hi, u2_s, mK_nA, mN_nA⟩
    · have q2 := h2 j hj
      rw [va_up_ne _ _ (hne j hj), e1, e2, e3, u2_c (fun e => hne j hj (mdF_inj j q2.1 i hi (fc9_inj e))), mK_nA_n (hS j hj), mN_nA_n (hS j hj)]
      exact q2
  · intro j hj k hk
    rcases List.mem_cons.mp hj with ej | hj'
    · rcases List.mem_cons.mp hk with ek | hk'
      · intro _; rw [ej, ek]
      · rw [ej, va_up_self, va_up_ne _ _ (hne k hk')]; intro e; exact absurd e.symm (hS k hk')
    · rcases List.mem_cons.mp hk with ek | hk'
      · rw [ek, va_up_self, va_up_ne _ _ (hne j hj')]; intro e; exact absurd e (hS j hj')
      · rw [va_up_ne _ _ (hne j hj'), va_up_ne _ _ (hne k hk')]; exact h3 j hj' k hk'
  · intro j hj hj13
    rcases List.mem_cons.mp hj with rfl | hj
    · rw [va_up_self, va_up_self, e4, va_up_self]
    · rw [va_up_ne _ _ (hne j hj), va_up_ne _ _ (hne j hj), e4, va_up_ne _ _ (hS j hj)]; exact h4 j hj hj13
  · intro hj
    rcases List.mem_cons.mp hj with e | hj
    · subst e; rw [va_up_self, e5]; exact mL_nA
    · rw [va_up_ne _ _ (hne 13 hj), e5, mL_nA_n (hS 13 hj)]; exact h5 hj
theorem IN.new {M : kM} {m : Nat} {ad : Nat → Nat} {va : Nat → gT} {S : List Nat} (h : IN M m ad va S) {q : Nat} (i : Nat) (hq : mK M q = none) (hi : i < 14) (hn : i ∉ S) : IN (sR (nA M q (mdK i) (mdN i)) (fc 9 (mdF i)) m (some q)) m (va_up ad i q) (va_up va i (fun _ => 0)) (i :: S) := h.step hq hi hn (fun _ => rfl) rfl rfl rfl rfl rfl
theorem IN.newA {M : kM} {m : Nat} {ad : Nat → Nat} {va : Nat → gT} {S : List Nat} (h : IN M m ad va S) {q : Nat} {f : gT} (i : Nat) (hq : mK M q = none) (hi : i < 13) (hn : i ∉ S) : IN (sR (sA (nA M q (mdK i) (mdN i)) q f) (fc 9 (mdF i)) m (some q)) m (va_up ad i q) (va_up va i f) (i :: S) := by
  refine h.step hq (by omega) hn (fun e => by omega) rfl rfl rfl ?_ rfl
  show va_up (va_up (mA M) q _) q f = _
  rw [up_up]
theorem IN.sA {M : kM} {m : Nat} {ad : Nat → Nat} {va : Nat → gT} {S : List Nat} (h : IN M m ad va S) {f : gT} (i : Nat) (hi : i ∈ S) (_h13 : i ≠ 13) : IN (sA M (ad i) f) m ad (va_up va i f) S := by
  obtain ⟨h1, h2, h3, h4, h5⟩ := h
  refine ⟨h1, h2, h3, ?_, h5⟩
  intro j hj hj13
  by_cases e : j = i
  · subst e; rw [va_up_self]; exact mA_sA
  · rw [va_up_ne _ _ e, mA_sA_n (fun q => e (h3 j hj i hi q))]; exact h4 j hj hj13
theorem IN.MS {M : kM} {m : Nat} {ad : Nat → Nat} {va : Nat → gT} {S : List Nat} (h : IN M m ad va S) (hS : ∀ i, i < 14 → i ∈ S) : MS M m ad := ⟨h.1, fun i hi => (h.2.1 i (hS i hi)).2, fun i j hi hj => h.2.2.1 i (hS i hi) j (hS j hj)⟩
theorem kE_st {M0 M M1 : kM} {q K n : Nat} (h : kE M0 M) (hq : mK M q = none) (e1 : mK M1 = mK (nA M q K n)) : kE M0 M1 := fun a K' h9 => by rw [e1]; exact kE_nA hq a K' (h a K' h9)
def inG : gT := plB (va_up (va_up (va_up (va_up (va_up (va_up (fun _ => 0) 1 6) 2 18) 3 1) 8 (-1)) 9 168) 19 1) (fun _ => -1) 24
theorem IN.cast {M M1 : kM} {m : Nat} {ad : Nat → Nat} {va : Nat → gT} {S : List Nat} (h : IN M m ad va S) (e : M = M1) : IN M1 m ad va S := e ▸ h
theorem IN_done {M M14 : kM} {m : Nat} {ad : Nat → Nat} {va : Nat → gT} {f : gT} (hI : IN M14 m ad va [9, 13, 8, 7, 6, 12, 11, 10, 5, 4, 3, 2, 1, 0]) (hJ : mI M14 = mI M) (hV : (∀ t, t < 8 → va 7 t = -1) ∧ va 8 = (fun _ => 0) ∧ va 3 = (fun _ => 0) ∧ TD (va 9)) (e : f = inG) :
    mI (sA M14 (ad 0) f) = mI M ∧ ∃ ad', MS (sA M14 (ad 0) f) m ad' ∧ mA (sA M14 (ad 0) f) (ad' 0) = inG ∧ (∀ i, i < 8 → mA (sA M14 (ad 0) f) (ad' 7) i = -1) ∧ mA (sA M14 (ad 0) f) (ad' 8) = (fun _ => 0) ∧ mA (sA M14 (ad 0) f) (ad' 3) = (fun _ => 0) ∧ TD (mA (sA M14 (ad 0) f) (ad' 9)) ∧ mL (sA M14 (ad 0) f) (ad' 13) = (fun _ => 0) := by
  have h9 := hI.sA (f := f) 0 (by decide) (by decide)
  refine ⟨hJ, ad, h9.MS (by decide), mA_sA.trans e, fun t ht => ?_, ?_, ?_, ?_, h9.2.2.2.2 (by decide)⟩
  · rw [h9.2.2.2.1 7 (by decide) (by decide), va_up_ne _ _ (by decide)]; exact hV.1 t ht
  · rw [h9.2.2.2.1 8 (by decide) (by decide), va_up_ne _ _ (by decide)]; exact hV.2.1
  · rw [h9.2.2.2.1 3 (by decide) (by decide), va_up_ne _ _ (by decide)]; exact hV.2.2.1
  · rw [h9.2.2.2.1 9 (by decide) (by decide), va_up_ne _ _ (by decide)]; exact hV.2.2.2
theorem mK_NA {M : kM} {q K n b v : Nat} (h : mK M b = some v) (hq : mK M q = none) : mK (nA M q K n) b = some v := kE_nA hq b v h
theorem mK_NO {M : kM} {q K b v : Nat} (h : mK M b = some v) (hq : mK M q = none) : mK (nO M q K) b = some v := kE_nO hq b v h
theorem mK_G {M : kM} {a o b v : Nat} (h : mK M b = some v) : mK (sG M a o) b = some v := h
theorem mN_G {M : kM} {a o b v : Nat} (h : mN M b = v) : mN (sG M a o) b = v := h
theorem mR_G {M : kM} {a o c b : Nat} {v : Option Nat} (h : mR M c b = v) : mR (sG M a o) c b = v := h
