/-! ===== owners, frames, lists of objects ===== -/
set_option maxRecDepth 100000
theorem kSame.rf {M : kM} {b : Nat} : kSame M M b := ⟨fun _ => rfl, fun _ => rfl, rfl, rfl, rfl, rfl⟩
theorem kSame.tr {M M1 M2 : kM} {b : Nat} (h : kSame M M1 b) (h2 : kSame M1 M2 b) : kSame M M2 b := ⟨fun c => (h2.1 c).trans (h.1 c), fun c => (h2.2.1 c).trans (h.2.1 c), h2.2.2.1.trans h.2.2.1, h2.2.2.2.1.trans h.2.2.2.1, h2.2.2.2.2.1.trans h.2.2.2.2.1, h2.2.2.2.2.2.trans h.2.2.2.2.2⟩
/-- owners are there -/
def GI (M : kM) : Prop := ∀ a, mK M a ≠ none → mG M a = 0 ∨ mK M (mG M a - 1) ≠ none
/-- what S owns may change, the rest stays -/
def Fr (S : Nat → Prop) (M M' : kM) : Prop := (∀ a, mK M a ≠ none → mK M' a = mK M a ∧ mG M' a = mG M a ∧ (¬ S (mG M a) → kSame M M' a)) ∧ (GI M → GI M')
/-- one owner -/
abbrev ow (l : Nat) : Nat → Prop := fun o => o = l + 1
theorem Fr.rf {S : Nat → Prop} {M : kM} : Fr S M M := ⟨fun _ _ => ⟨rfl, rfl, fun _ => kSame.rf⟩, id⟩
theorem Fr.kE {S : Nat → Prop} {M M' : kM} (h : Fr S M M') : kE M M' := fun a K q => by rw [(h.1 a (by rw [q]; exact fun e => by cases e)).1]; exact q
theorem Fr.gi {S : Nat → Prop} {M M' : kM} (h : Fr S M M') (g : GI M) : GI M' := h.2 g
theorem Fr.tr {S : Nat → Prop} {M M1 M2 : kM} (h : Fr S M M1) (h2 : Fr S M1 M2) : Fr S M M2 := by
  refine ⟨fun a ha => ?_, fun q => h2.2 (h.2 q)⟩
  obtain ⟨a1, a2, a3⟩ := h.1 a ha
  obtain ⟨b1, b2, b3⟩ := h2.1 a (by rw [a1]; exact ha)
  exact ⟨b1.trans a1, b2.trans a2, fun q => (a3 q).tr (b3 (by rw [a2]; exact q))⟩
theorem Fr.mono {S S' : Nat → Prop} {M M1 : kM} (h : Fr S M M1) (hs : ∀ o, S o → S' o) : Fr S' M M1 := ⟨fun a ha => ⟨(h.1 a ha).1, (h.1 a ha).2.1, fun q => (h.1 a ha).2.2 (fun w => q (hs _ w))⟩, h.2⟩
/-- a call that changes what is new, or ours -/
theorem Fr.call {S S1 : Nat → Prop} {M M1 M2 : kM} (h : Fr S M M1) (h2 : Fr S1 M1 M2) (hs : ∀ a, mK M a ≠ none → S1 (mG M a) → S (mG M a)) : Fr S M M2 := by
  refine ⟨fun a ha => ?_, fun q => h2.2 (h.2 q)⟩
  obtain ⟨a1, a2, a3⟩ := h.1 a ha
  obtain ⟨b1, b2, b3⟩ := h2.1 a (by rw [a1]; exact ha)
  exact ⟨b1.trans a1, b2.trans a2, fun q => (a3 q).tr (b3 (by rw [a2]; exact fun w => q (hs a ha w)))⟩
theorem GI.no {M : kM} {l a : Nat} (g : GI M) (hl : mK M l = none) (ha : mK M a ≠ none) : mG M a ≠ l + 1 := fun e => by
  rcases g a ha with h | h
  · omega
  · rw [e] at h; exact h hl
theorem Fr.set {S : Nat → Prop} {M M1 M2 : kM} {a : Nat} (h : Fr S M M1) (ha : mK M a = none ∨ S (mG M a)) (e1 : mK M2 = mK M1) (e2 : mG M2 = mG M1) (hs : ∀ b, b ≠ a → kSame M1 M2 b) : Fr S M M2 := by
  refine ⟨fun b hb => ?_, fun q => ?_⟩
  · obtain ⟨a1, a2, a3⟩ := h.1 b hb
    refine ⟨by rw [e1]; exact a1, by rw [e2]; exact a2, fun q => ?_⟩
    have hba : b ≠ a := fun e => by
      subst e
      exact ha.elim hb q
    exact (a3 q).tr (hs b hba)
  · have g := h.2 q
    intro b hb
    rw [e1] at hb
    rw [e1, e2]
    exact g b hb
theorem Fr.I {S : Nat → Prop} {M M1 : kM} {a c : Nat} {v : Int32} (h : Fr S M M1) (ha : mK M a = none ∨ S (mG M a)) : Fr S M (sI M1 c a v) := h.set ha rfl rfl (fun _ hb => sI_same hb)
theorem Fr.R {S : Nat → Prop} {M M1 : kM} {a c : Nat} {v : Option Nat} (h : Fr S M M1) (ha : mK M a = none ∨ S (mG M a)) : Fr S M (sR M1 c a v) := h.set ha rfl rfl (fun _ hb => sR_same hb)
theorem Fr.A {S : Nat → Prop} {M M1 : kM} {a : Nat} {f : Nat → Int32} (h : Fr S M M1) (ha : mK M a = none ∨ S (mG M a)) : Fr S M (sA M1 a f) := h.set ha rfl rfl (fun _ hb => sA_same hb)
theorem Fr.L {S : Nat → Prop} {M M1 : kM} {a : Nat} {f : Nat → Int64} (h : Fr S M M1) (ha : mK M a = none ∨ S (mG M a)) : Fr S M (sL M1 a f) := h.set ha rfl rfl (fun _ hb => sL_same hb)
theorem Fr.O {S : Nat → Prop} {M M1 : kM} {a : Nat} {f : Nat → Option Nat} (h : Fr S M M1) (ha : mK M a = none ∨ S (mG M a)) : Fr S M (sO M1 a f) := h.set ha rfl rfl (fun _ hb => sO_same hb)
theorem Fr.new {S : Nat → Prop} {M M1 M2 : kM} {q o K : Nat} (h : Fr S M M1) (hq : mK M1 q = none) (ho : o = 0 ∨ o = q + 1 ∨ mK M1 (o - 1) ≠ none) (e1 : mK M2 = va_up (mK M1) q (some K)) (e2 : mG M2 = va_up (mG M1) q o) (hs : ∀ b, b ≠ q → kSame M1 M2 b) : Fr S M M2 := by
  refine ⟨fun b hb => ?_, fun g0 => ?_⟩
  · obtain ⟨a1, a2, a3⟩ := h.1 b hb
    have hbq : b ≠ q := fun e => by subst e; rw [a1] at hq; exact hb hq
    exact ⟨by rw [e1, va_up_ne _ _ hbq]; exact a1, by rw [e2, va_up_ne _ _ hbq]; exact a2, fun w => (a3 w).tr (hs b hbq)⟩
  · have g := h.2 g0
    have up : ∀ z, mK M1 z ≠ none → mK M2 z ≠ none := fun z hz => by
      rw [e1]
      by_cases e : z = q
      · subst e; rw [va_up_self]; exact fun w => by cases w
      · rw [va_up_ne _ _ e]; exact hz
    intro b hb
    rw [e1] at hb
    rw [e2]
    by_cases e : b = q
    · subst e
      rw [va_up_self]
      rcases ho with ho | ho | ho
      · exact Or.inl ho
      · refine Or.inr ?_
        rw [ho, Nat.add_sub_cancel, e1, va_up_self]
        exact fun w => by cases w
      · exact Or.inr (up _ ho)
    · rw [va_up_ne _ _ e] at hb ⊢
      exact (g b hb).imp id (up _)
theorem Fr.obj {S : Nat → Prop} {M M1 : kM} {q o K : Nat} (h : Fr S M M1) (hq : mK M1 q = none) (ho : o = 0 ∨ o = q + 1 ∨ mK M1 (o - 1) ≠ none) : Fr S M (sG (nO M1 q K) q o) := h.new hq ho rfl rfl (fun b hb => show kSame M1 (nO M1 q K) b from nO_same hb)
theorem Fr.arr {S : Nat → Prop} {M M1 : kM} {q o K n : Nat} (h : Fr S M M1) (hq : mK M1 q = none) (ho : o = 0 ∨ o = q + 1 ∨ mK M1 (o - 1) ≠ none) : Fr S M (sG (nA M1 q K n) q o) := h.new hq ho rfl rfl (fun b hb => show kSame M1 (nA M1 q K n) b from nA_same hb)
theorem okO.kE {M M' : kM} {y : Nat} (h : okO M y) (hE : kE M M') : okO M' y := by
  obtain ⟨K, h1, h2⟩ := h
  exact ⟨K, hE y K h1, h2⟩
theorem okO.nn {M : kM} {y : Nat} (h : okO M y) : mK M y ≠ none := by
  obtain ⟨K, h1, -⟩ := h
  rw [h1]; exact fun e => by cases e
/-! lists: capacities, contents -/
def CP (c : Nat) : Prop := c ≤ 900 ∧ (c = 0 ∨ 10 ≤ c)
def nc (c : Nat) : Nat := if c = 0 then 10 else c + c / 2
theorem CP_lt {c : Nat} (h : CP c) : c ≤ 900 := h.1
theorem CP_nc {c : Nat} (h : CP c) (h2 : c < 600) : CP (nc c) := by
  unfold nc CP
  rcases h.2 with q | q
  · rw [if_pos q]; exact ⟨by decide, Or.inr (by decide)⟩
  · rw [if_neg (by omega)]; exact ⟨by omega, Or.inr (by omega)⟩
theorem CP_up {c : Nat} (h : CP c) : c < nc c ∧ (c = 0 → nc c = 10) ∧ (c ≠ 0 → nc c = c + c / 2) := by
  unfold nc
  rcases h.2 with q | q
  · rw [if_pos q]; exact ⟨by omega, fun _ => rfl, fun e => absurd q e⟩
  · rw [if_neg (by omega)]; exact ⟨by omega, fun e => by omega, fun _ => rfl⟩
theorem CP_10 {c : Nat} (h : CP c) (h2 : c ≠ 0) : 10 ≤ c := h.2.resolve_left h2
theorem CP_0 : CP 0 := ⟨by decide, Or.inl rfl⟩
/-- the list at l with its array d: n elements f, room c -/
def ALd (G : kG) (M : kM) (l n c d : Nat) (f : Nat → Nat) : Prop := mK M l = some 45 ∧ mG M l = l + 1 ∧ mI M (fc 45 2) l = nI n ∧ n ≤ c ∧ CP c ∧ mR M (fc 45 1) l = some d ∧ (c = 0 → d = G.2.2.2 6) ∧ (c ≠ 0 → mK M d = some 125 ∧ mG M d = l + 1 ∧ mN M d = c) ∧ ∀ i, i < n → mO M d i = some (f i) ∧ okO M (f i)
def AL (G : kG) (M : kM) (l n c : Nat) (f : Nat → Nat) : Prop := ∃ d, ALd G M l n c d f
theorem ALd.k {G : kG} {M : kM} {l n c d : Nat} {f : Nat → Nat} (h : ALd G M l n c d f) : mK M l = some 45 := h.1
theorem ALd.g {G : kG} {M : kM} {l n c d : Nat} {f : Nat → Nat} (h : ALd G M l n c d f) : mG M l = l + 1 := h.2.1
theorem ALd.sz {G : kG} {M : kM} {l n c d : Nat} {f : Nat → Nat} (h : ALd G M l n c d f) : mI M (fc 45 2) l = nI n := h.2.2.1
theorem ALd.le {G : kG} {M : kM} {l n c d : Nat} {f : Nat → Nat} (h : ALd G M l n c d f) : n ≤ c := h.2.2.2.1
theorem ALd.cp {G : kG} {M : kM} {l n c d : Nat} {f : Nat → Nat} (h : ALd G M l n c d f) : CP c := h.2.2.2.2.1
theorem ALd.r {G : kG} {M : kM} {l n c d : Nat} {f : Nat → Nat} (h : ALd G M l n c d f) : mR M (fc 45 1) l = some d := h.2.2.2.2.2.1
theorem ALd.z {G : kG} {M : kM} {l n c d : Nat} {f : Nat → Nat} (h : ALd G M l n c d f) (hc : c = 0) : d = G.2.2.2 6 := h.2.2.2.2.2.2.1 hc
theorem ALd.dk {G : kG} {M : kM} {l n c d : Nat} {f : Nat → Nat} (h : ALd G M l n c d f) (hc : c ≠ 0) : mK M d = some 125 := (h.2.2.2.2.2.2.2.1 hc).1
theorem ALd.dg {G : kG} {M : kM} {l n c d : Nat} {f : Nat → Nat} (h : ALd G M l n c d f) (hc : c ≠ 0) : mG M d = l + 1 := (h.2.2.2.2.2.2.2.1 hc).2.1
theorem ALd.dn {G : kG} {M : kM} {l n c d : Nat} {f : Nat → Nat} (h : ALd G M l n c d f) (hc : c ≠ 0) : mN M d = c := (h.2.2.2.2.2.2.2.1 hc).2.2
theorem ALd.e {G : kG} {M : kM} {l n c d : Nat} {f : Nat → Nat} (h : ALd G M l n c d f) {i : Nat} (hi : i < n) : mO M d i = some (f i) := (h.2.2.2.2.2.2.2.2 i hi).1
theorem ALd.ok {G : kG} {M : kM} {l n c d : Nat} {f : Nat → Nat} (h : ALd G M l n c d f) {i : Nat} (hi : i < n) : okO M (f i) := (h.2.2.2.2.2.2.2.2 i hi).2
theorem ALd.fr {G : kG} {M M' : kM} {l n c d : Nat} {f : Nat → Nat} {S : Nat → Prop} (h : ALd G M l n c d f) (hF : Fr S M M') (hS : ¬ S (l + 1)) : ALd G M' l n c d f := by
  have hl := hF.1 l (by rw [h.k]; exact fun e => by cases e)
  have sl := hl.2.2 (by rw [h.g]; exact hS)
  refine ⟨by rw [hl.1]; exact h.k, by rw [hl.2.1]; exact h.g, by rw [sl.1]; exact h.sz, h.le, h.cp, by rw [sl.2.1]; exact h.r, h.z, fun hc => ?_, fun i hi => ⟨?_, (h.ok hi).kE hF.kE⟩⟩
  · have hd := hF.1 d (by rw [h.dk hc]; exact fun e => by cases e)
    have sd := hd.2.2 (by rw [h.dg hc]; exact hS)
    exact ⟨by rw [hd.1]; exact h.dk hc, by rw [hd.2.1]; exact h.dg hc, by rw [sd.2.2.1]; exact h.dn hc⟩
  · have hc : c ≠ 0 := by have := h.le; omega
    have hd := hF.1 d (by rw [h.dk hc]; exact fun e => by cases e)
    have sd := hd.2.2 (by rw [h.dg hc]; exact hS)
    rw [sd.2.2.2.2.2]; exact h.e hi
theorem AL.fr {G : kG} {M M' : kM} {l n c : Nat} {f : Nat → Nat} {S : Nat → Prop} (h : AL G M l n c f) (hF : Fr S M M') (hS : ¬ S (l + 1)) : AL G M' l n c f := by
  obtain ⟨d, h⟩ := h
  exact ⟨d, h.fr hF hS⟩
theorem kE.ap {M M' : kM} {a K : Nat} (h : kE M M') (q : mK M a = some K) : mK M' a = some K := h a K q
theorem kE_G {M N : kM} {a o : Nat} (h : kE M N) : kE M (sG N a o) := h
theorem kne {M : kM} {a q K : Nat} (h : mK M a = some K) (hq : mK M q = none) : a ≠ q := fun e => by rw [e, hq] at h; cases h
theorem mR_NA {M : kM} {q K n c b : Nat} {v : Option Nat} (h : mR M c b = v) : mR (nA M q K n) c b = v := h
theorem mR_NO {M : kM} {q K c b : Nat} {v : Option Nat} (h : mR M c b = v) (hq : b ≠ q) : mR (nO M q K) c b = v := (if_neg hq).trans h
theorem mN_NA {M : kM} {q K n b v : Nat} (h : mN M b = v) (hq : b ≠ q) : mN (nA M q K n) b = v := (va_up_ne _ _ hq).trans h
theorem mN_NO {M : kM} {q K b v : Nat} (h : mN M b = v) : mN (nO M q K) b = v := h
theorem mI_NA {M : kM} {q K n : Nat} : mI (nA M q K n) = mI M := rfl
theorem mI_NO {M : kM} {q K c b : Nat} (hq : b ≠ q) : mI (nO M q K) c b = mI M c b := if_neg hq
theorem mI_NO0 {M : kM} {q K c : Nat} : mI (nO M q K) c q = 0 := if_pos rfl
theorem mR_NO0 {M : kM} {q K c : Nat} : mR (nO M q K) c q = none := if_pos rfl
theorem mI_G {M : kM} {a o : Nat} : mI (sG M a o) = mI M := rfl
theorem mG_sG {M : kM} {a o : Nat} : mG (sG M a o) a = o := va_up_self _ _ _
theorem mO_nA {M : kM} {q K n : Nat} : mO (nA M q K n) q = fun _ => none := va_up_self _ _ _
theorem mO_nA_n {M : kM} {q K n b : Nat} (h : b ≠ q) : mO (nA M q K n) b = mO M b := va_up_ne _ _ h
theorem AL_new {G : kG} {M : kM} {l : Nat} {f : Nat → Nat} (hk : mK M l = some 45) (hg : mG M l = l + 1) (hs : mI M (fc 45 2) l = 0) (hr : mR M (fc 45 1) l = some (G.2.2.2 6)) : AL G M l 0 0 f :=
  ⟨_, hk, hg, hs, Nat.le_refl _, CP_0, hr, fun _ => rfl, fun h => absurd rfl h, fun i hi => absurd hi (Nat.not_lt_zero i)⟩
