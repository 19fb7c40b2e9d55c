/-! ===== the tree in memory ===== -/
abbrev kT := (Nat → Option Nat) × (Nat → Nat) × (Nat → Nat) × (Nat → Option Nat) × (Nat → Option Nat) × (Nat → Option Nat) × (Nat → Int32) × Option Nat
def tN (T : kT) := T.1
def tK (T : kT) := T.2.1
def tV (T : kT) := T.2.2.1
def tL (T : kT) := T.2.2.2.1
def tR (T : kT) := T.2.2.2.2.1
def tP (T : kT) := T.2.2.2.2.2.1
def tC (T : kT) := T.2.2.2.2.2.2.1
def tr (T : kT) := T.2.2.2.2.2.2.2
def tsK (T : kT) (k : Nat) (v : Nat) : kT := (tN T, va_up (tK T) k v, tV T, tL T, tR T, tP T, tC T, tr T)
def tsV (T : kT) (k : Nat) (v : Nat) : kT := (tN T, tK T, va_up (tV T) k v, tL T, tR T, tP T, tC T, tr T)
def tsL (T : kT) (k : Nat) (v : Option Nat) : kT := (tN T, tK T, tV T, va_up (tL T) k v, tR T, tP T, tC T, tr T)
def tsR (T : kT) (k : Nat) (v : Option Nat) : kT := (tN T, tK T, tV T, tL T, va_up (tR T) k v, tP T, tC T, tr T)
def tsP (T : kT) (k : Nat) (v : Option Nat) : kT := (tN T, tK T, tV T, tL T, tR T, va_up (tP T) k v, tC T, tr T)
def tsC (T : kT) (k : Nat) (v : Int32) : kT := (tN T, tK T, tV T, tL T, tR T, tP T, va_up (tC T) k v, tr T)
def tsr (T : kT) (v : Option Nat) : kT := (tN T, tK T, tV T, tL T, tR T, tP T, tC T, v)
/-- the node a of key k -/
def NP (M : kM) (o asd : Nat) (T : kT) (k a : Nat) : Prop := mK M a = some 88 ∧ mG M a = o ∧ (mR M (fc 88 0) a = some (tK T k) ∧ mK M (tK T k) = some 4 ∧ mG M (tK T k) = o ∧ tK T k ≠ asd) ∧ (mR M (fc 88 1) a = some (tV T k) ∧ mK M (tV T k) = some 45) ∧ mR M (fc 88 2) a = (tL T k).bind (tN T) ∧ mR M (fc 88 3) a = (tR T k).bind (tN T) ∧ mR M (fc 88 4) a = (tP T k).bind (tN T) ∧ mI M (fc 88 5) a = tC T k ∧ (tC T k = 0 ∨ tC T k = 1)
/-- no comparator; the collection of values, if it was asked for -/
def VC (M : kM) (o t : Nat) : Prop := mR M (fc 41 2) t = none ∧ ∀ vs, mR M (fc 41 1) t = some vs → mK M vs = some 90 ∧ mG M vs = o ∧ mR M (fc 90 0) vs = some t
theorem VC.wR {M : kM} {o t c a : Nat} {v : Option Nat} (h : VC M o t) (h1 : fc 41 2 ≠ c) (h2 : fc 41 1 ≠ c) (h3 : fc 90 0 ≠ c) : VC (sR M c a v) o t := ⟨(mR_sR_c h1).trans h.1, fun vs e => by
  have q := h.2 vs ((mR_sR_c h2).symm.trans e)
  exact ⟨q.1, q.2.1, (mR_sR_c h3).trans q.2.2⟩⟩
def PT (M : kM) (o t asd : Nat) (T : kT) : Prop := mK M t = some 41 ∧ mG M t = o ∧ VC M o t ∧ mR M (fc 41 3) t = (tr T).bind (tN T) ∧ (∀ k k' a, tN T k = some a → tN T k' = some a → k = k') ∧ ∀ k a, tN T k = some a → NP M o asd T k a
/-- the keys' hours -/
def KV (M : kM) (T : kT) : Prop := ∀ k a, tN T k = some a → k < BB ∧ mI M (fc 4 0) (tK T k) = nI k
abbrev WTT (T : kT) (lo hi : Nat → Nat) : Prop := WT (fun k => tN T k ≠ none) (tL T) (tR T) (tP T) (tr T) lo hi
def TM (M : kM) (o t asd : Nat) (T : kT) : Prop := PT M o t asd T ∧ KV M T ∧ ∃ lo hi, WTT T lo hi
section
variable {M : kM} {o t asd : Nat} {T : kT}
theorem PT.k (h : PT M o t asd T) : mK M t = some 41 := h.1
theorem PT.g (h : PT M o t asd T) : mG M t = o := h.2.1
theorem PT.vc (h : PT M o t asd T) : VC M o t := h.2.2.1
theorem PT.c (h : PT M o t asd T) : mR M (fc 41 2) t = none := h.2.2.1.1
theorem PT.r (h : PT M o t asd T) : mR M (fc 41 3) t = (tr T).bind (tN T) := h.2.2.2.1
theorem PT.inj (h : PT M o t asd T) {k k' a : Nat} (h1 : tN T k = some a) (h2 : tN T k' = some a) : k = k' := h.2.2.2.2.1 k k' a h1 h2
theorem PT.n (h : PT M o t asd T) {k a : Nat} (h1 : tN T k = some a) : NP M o asd T k a := h.2.2.2.2.2 k a h1
theorem PT.nk (h : PT M o t asd T) {k a : Nat} (h1 : tN T k = some a) : mK M a = some 88 := (h.n h1).1
theorem PT.ng (h : PT M o t asd T) {k a : Nat} (h1 : tN T k = some a) : mG M a = o := (h.n h1).2.1
theorem PT.key (h : PT M o t asd T) {k a : Nat} (h1 : tN T k = some a) : mR M (fc 88 0) a = some (tK T k) := (h.n h1).2.2.1.1
theorem PT.kk (h : PT M o t asd T) {k a : Nat} (h1 : tN T k = some a) : mK M (tK T k) = some 4 := (h.n h1).2.2.1.2.1
theorem PT.val (h : PT M o t asd T) {k a : Nat} (h1 : tN T k = some a) : mR M (fc 88 1) a = some (tV T k) := (h.n h1).2.2.2.1.1
theorem PT.vk (h : PT M o t asd T) {k a : Nat} (h1 : tN T k = some a) : mK M (tV T k) = some 45 := (h.n h1).2.2.2.1.2
theorem PT.l (h : PT M o t asd T) {k a : Nat} (h1 : tN T k = some a) : mR M (fc 88 2) a = (tL T k).bind (tN T) := (h.n h1).2.2.2.2.1
theorem PT.rr (h : PT M o t asd T) {k a : Nat} (h1 : tN T k = some a) : mR M (fc 88 3) a = (tR T k).bind (tN T) := (h.n h1).2.2.2.2.2.1
theorem PT.p (h : PT M o t asd T) {k a : Nat} (h1 : tN T k = some a) : mR M (fc 88 4) a = (tP T k).bind (tN T) := (h.n h1).2.2.2.2.2.2.1
theorem PT.co (h : PT M o t asd T) {k a : Nat} (h1 : tN T k = some a) : mI M (fc 88 5) a = tC T k := (h.n h1).2.2.2.2.2.2.2.1
theorem PT.c01 (h : PT M o t asd T) {k a : Nat} (h1 : tN T k = some a) : tC T k = 0 ∨ tC T k = 1 := (h.n h1).2.2.2.2.2.2.2.2
theorem bind_s {w : Option Nat} {f : Nat → Option Nat} {b : Nat} (h : w.bind f = some b) : ∃ j, w = some j ∧ f j = some b := by
  cases w with
  | none => cases h
  | some j => exact ⟨j, rfl, h⟩
theorem bind_n {w : Option Nat} {f : Nat → Option Nat} (h : w.bind f = none) (h2 : ∀ j, w = some j → f j ≠ none) : w = none := by
  cases w with
  | none => rfl
  | some j => exact absurd h (h2 j rfl)
/-- what a link of a node says -/
theorem PT.ls (h : PT M o t asd T) {k a b : Nat} (h1 : tN T k = some a) (e : mR M (fc 88 2) a = some b) : ∃ j, tL T k = some j ∧ tN T j = some b := bind_s ((h.l h1).symm.trans e)
theorem PT.rs (h : PT M o t asd T) {k a b : Nat} (h1 : tN T k = some a) (e : mR M (fc 88 3) a = some b) : ∃ j, tR T k = some j ∧ tN T j = some b := bind_s ((h.rr h1).symm.trans e)
theorem PT.ps (h : PT M o t asd T) {k a b : Nat} (h1 : tN T k = some a) (e : mR M (fc 88 4) a = some b) : ∃ j, tP T k = some j ∧ tN T j = some b := bind_s ((h.p h1).symm.trans e)
theorem PT.ts (h : PT M o t asd T) {b : Nat} (e : mR M (fc 41 3) t = some b) : ∃ j, tr T = some j ∧ tN T j = some b := bind_s (h.r.symm.trans e)
theorem WT.dl {D L R P rt lo hi} (w : WT D L R P rt lo hi) {k j : Nat} (hk : D k) (h : L k = some j) : D j := (w.2.2.1 k j hk h).1
theorem WT.dr {D L R P rt lo hi} (w : WT D L R P rt lo hi) {k j : Nat} (hk : D k) (h : R k = some j) : D j := (w.2.2.2.2.1 k j hk h).1
theorem WT.dp {D L R P rt lo hi} (w : WT D L R P rt lo hi) {k j : Nat} (hk : D k) (h : P k = some j) : D j := (w.2.2.2.2.2.2.1 k j hk h).1
theorem WT.dt {D L R P rt lo hi} (w : WT D L R P rt lo hi) {j : Nat} (h : rt = some j) : D j := (w.2.2.2.2.2.2.2.2.1 j h).1
theorem nns {w : Option Nat} {a : Nat} (h : w = some a) : w ≠ none := fun e => by rw [e] at h; cases h
theorem PT.ln {lo hi : Nat → Nat} (h : PT M o t asd T) (w : WTT T lo hi) {k a : Nat} (h1 : tN T k = some a) (e : mR M (fc 88 2) a = none) : tL T k = none := bind_n ((h.l h1).symm.trans e) (fun _ q => w.dl (nns h1) q)
theorem PT.rn {lo hi : Nat → Nat} (h : PT M o t asd T) (w : WTT T lo hi) {k a : Nat} (h1 : tN T k = some a) (e : mR M (fc 88 3) a = none) : tR T k = none := bind_n ((h.rr h1).symm.trans e) (fun _ q => w.dr (nns h1) q)
theorem PT.pn {lo hi : Nat → Nat} (h : PT M o t asd T) (w : WTT T lo hi) {k a : Nat} (h1 : tN T k = some a) (e : mR M (fc 88 4) a = none) : tP T k = none := bind_n ((h.p h1).symm.trans e) (fun _ q => w.dp (nns h1) q)
theorem PT.tn {lo hi : Nat → Nat} (h : PT M o t asd T) (w : WTT T lo hi) (e : mR M (fc 41 3) t = none) : tr T = none := bind_n (h.r.symm.trans e) (fun _ q => w.dt q)
/-- equal addresses are equal keys -/
theorem PT.eqk (h : PT M o t asd T) {x y : Option Nat} (hx : ∀ j, x = some j → tN T j ≠ none) (hy : ∀ j, y = some j → tN T j ≠ none) (e : x.bind (tN T) = y.bind (tN T)) : x = y := by
  cases x with
  | none => cases y with
    | none => rfl
    | some j => exact absurd e.symm (hy j rfl)
  | some i => cases y with
    | none => exact absurd e (hx i rfl)
    | some j =>
      cases hi : tN T i with
      | none => exact absurd hi (hx i rfl)
      | some a =>
        have e : tN T i = tN T j := e
        rw [h.inj hi (e.symm.trans hi)]
theorem PT.wL (h : PT M o t asd T) {k a : Nat} {v w : Option Nat} (hk : tN T k = some a) (hv : v = w.bind (tN T)) : PT (sR M (fc 88 2) a v) o t asd (tsL T k w) := by
  refine ⟨h.k, h.g, h.vc.wR (by decide) (by decide) (by decide), (mR_sR_c (by decide)).trans h.r, h.2.2.2.2.1, fun k2 a2 hk2 => ?_⟩
  have hk2 : tN T k2 = some a2 := hk2
  obtain ⟨n1, n2, n3, n4, n5, n6, n7, n8, n9⟩ := h.n hk2
  have hx : mR (sR M (fc 88 2) a v) (fc 88 2) a2 = (va_up (tL T) k w k2).bind (tN T) := by
    by_cases e : k2 = k
    · have e2 : a2 = a := by rw [e] at hk2; exact Option.some.inj (hk2.symm.trans hk)
      rw [e2, e, mR_sR, hv, va_up_self]
    · rw [mR_sR_a (fun z => e (h.inj (hk2.trans (congrArg some z)) hk)), n5, va_up_ne _ _ e]
  exact ⟨n1, n2, ⟨(mR_sR_c (k_fc (by decide))).trans n3.1, n3.2⟩, ⟨(mR_sR_c (k_fc (by decide))).trans n4.1, n4.2⟩,
    hx, (mR_sR_c (k_fc (by decide))).trans n6, (mR_sR_c (k_fc (by decide))).trans n7, n8, n9⟩
theorem PT.wR (h : PT M o t asd T) {k a : Nat} {v w : Option Nat} (hk : tN T k = some a) (hv : v = w.bind (tN T)) : PT (sR M (fc 88 3) a v) o t asd (tsR T k w) := by
  refine ⟨h.k, h.g, h.vc.wR (by decide) (by decide) (by decide), (mR_sR_c (by decide)).trans h.r, h.2.2.2.2.1, fun k2 a2 hk2 => ?_⟩
  have hk2 : tN T k2 = some a2 := hk2
  obtain ⟨n1, n2, n3, n4, n5, n6, n7, n8, n9⟩ := h.n hk2
  have hx : mR (sR M (fc 88 3) a v) (fc 88 3) a2 = (va_up (tR T) k w k2).bind (tN T) := by
    by_cases e : k2 = k
    · have e2 : a2 = a := by rw [e] at hk2; exact Option.some.inj (hk2.symm.trans hk)
      rw [e2, e, mR_sR, hv, va_up_self]
    · rw [mR_sR_a (fun z => e (h.inj (hk2.trans (congrArg some z)) hk)), n6, va_up_ne _ _ e]
  exact ⟨n1, n2, ⟨(mR_sR_c (k_fc (by decide))).trans n3.1, n3.2⟩, ⟨(mR_sR_c (k_fc (by decide))).trans n4.1, n4.2⟩,
    (mR_sR_c (k_fc (by decide))).trans n5, hx, (mR_sR_c (k_fc (by decide))).trans n7, n8, n9⟩
theorem PT.wP (h : PT M o t asd T) {k a : Nat} {v w : Option Nat} (hk : tN T k = some a) (hv : v = w.bind (tN T)) : PT (sR M (fc 88 4) a v) o t asd (tsP T k w) := by
  refine ⟨h.k, h.g, h.vc.wR (by decide) (by decide) (by decide), (mR_sR_c (by decide)).trans h.r, h.2.2.2.2.1, fun k2 a2 hk2 => ?_⟩
  have hk2 : tN T k2 = some a2 := hk2
  obtain ⟨n1, n2, n3, n4, n5, n6, n7, n8, n9⟩ := h.n hk2
  have hx : mR (sR M (fc 88 4) a v) (fc 88 4) a2 = (va_up (tP T) k w k2).bind (tN T) := by
    by_cases e : k2 = k
    · have e2 : a2 = a := by rw [e] at hk2; exact Option.some.inj (hk2.symm.trans hk)
      rw [e2, e, mR_sR, hv, va_up_self]
    · rw [mR_sR_a (fun z => e (h.inj (hk2.trans (congrArg some z)) hk)), n7, va_up_ne _ _ e]
  exact ⟨n1, n2, ⟨(mR_sR_c (k_fc (by decide))).trans n3.1, n3.2⟩, ⟨(mR_sR_c (k_fc (by decide))).trans n4.1, n4.2⟩,
    (mR_sR_c (k_fc (by decide))).trans n5, (mR_sR_c (k_fc (by decide))).trans n6, hx, n8, n9⟩
theorem PT.wt (h : PT M o t asd T) {v w : Option Nat} (hv : v = w.bind (tN T)) : PT (sR M (fc 41 3) t v) o t asd (tsr T w) := by
  refine ⟨h.k, h.g, h.vc.wR (by decide) (by decide) (by decide), mR_sR.trans hv, h.2.2.2.2.1, fun k2 a2 hk2 => ?_⟩
  have hk2 : tN T k2 = some a2 := hk2
  obtain ⟨n1, n2, n3, n4, n5, n6, n7, n8, n9⟩ := h.n hk2
  exact ⟨n1, n2, ⟨(mR_sR_c (by decide)).trans n3.1, n3.2⟩, ⟨(mR_sR_c (by decide)).trans n4.1, n4.2⟩, (mR_sR_c (by decide)).trans n5, (mR_sR_c (by decide)).trans n6, (mR_sR_c (by decide)).trans n7, n8, n9⟩
theorem PT.wC (h : PT M o t asd T) {k a : Nat} {v : Int32} (hk : tN T k = some a) (hv : v = 0 ∨ v = 1) : PT (sI M (fc 88 5) a v) o t asd (tsC T k v) := by
  refine ⟨h.k, h.g, h.vc, h.r, h.2.2.2.2.1, fun k2 a2 hk2 => ?_⟩
  have hk2 : tN T k2 = some a2 := hk2
  obtain ⟨n1, n2, n3, n4, n5, n6, n7, n8, n9⟩ := h.n hk2
  refine ⟨n1, n2, n3, n4, n5, n6, n7, ?_, ?_⟩
  · show mI (sI M (fc 88 5) a v) (fc 88 5) a2 = va_up (tC T) k v k2
    by_cases e : k2 = k
    · have e2 : a2 = a := by rw [e] at hk2; exact Option.some.inj (hk2.symm.trans hk)
      rw [e2, e, mI_sI, va_up_self]
    · rw [mI_sI_a (fun z => e (h.inj (hk2.trans (congrArg some z)) hk)), n8, va_up_ne _ _ e]
  · show va_up (tC T) k v k2 = 0 ∨ va_up (tC T) k v k2 = 1
    by_cases e : k2 = k
    · subst e; rw [va_up_self]; exact hv
    · rw [va_up_ne _ _ e]; exact n9
theorem PT.wI (h : PT M o t asd T) {c a : Nat} {v : Int32} (h5 : c ≠ fc 88 5) : PT (sI M c a v) o t asd T := by
  refine ⟨h.k, h.g, h.vc, h.r, h.2.2.2.2.1, fun k2 a2 hk2 => ?_⟩
  obtain ⟨n1, n2, n3, n4, n5, n6, n7, n8, n9⟩ := h.n hk2
  exact ⟨n1, n2, n3, n4, n5, n6, n7, (mI_sI_c (fun z => h5 z.symm)).trans n8, n9⟩
theorem KV.wR (h : KV M T) {c a : Nat} {v : Option Nat} : KV (sR M c a v) T := h
theorem KV.wI (h : KV M T) {c a : Nat} {v : Int32} (h4 : c ≠ fc 4 0) : KV (sI M c a v) T := fun k b hk => ⟨(h k b hk).1, (mI_sI_c (fun z => h4 z.symm)).trans (h k b hk).2⟩
end
/-- a key's order -/
theorem cmp_lt {a b : Nat} (ha : a < BB) (hb : b < BB) : (nI a - nI b < 0) ↔ a < b := by
  have hB : BB = 2147483648 := rfl
  have h1 := nI_toInt ha
  have h2 := nI_toInt hb
  rw [Int32.lt_iff_toInt_lt, Int32.toInt_sub, h1, h2, Int.bmod_eq_of_le (by omega) (by omega)]
  have : (0 : Int32).toInt = 0 := rfl
  omega
/-- what belongs to o may change; of ints colours alone -/
def FK (o : Nat) (M M' : kM) : Prop := Fr (fun x => x = o) M M' ∧ ∀ c, c ≠ fc 88 5 → mI M' c = mI M c
theorem FK.rf {o : Nat} {M : kM} : FK o M M := ⟨Fr.rf, fun _ _ => rfl⟩
theorem FK.kE {o : Nat} {M M' : kM} (h : FK o M M') : kE M M' := h.1.kE
theorem FK.tr {o : Nat} {M M1 M2 : kM} (h : FK o M M1) (h2 : FK o M1 M2) : FK o M M2 := ⟨h.1.tr h2.1, fun c hc => (h2.2 c hc).trans (h.2 c hc)⟩
theorem FK.R {o : Nat} {M M1 : kM} {a c : Nat} {v : Option Nat} (h : FK o M M1) (ha : mK M a = none ∨ mG M a = o) : FK o M (sR M1 c a v) := ⟨h.1.R ha, h.2⟩
theorem FK.I {o : Nat} {M M1 : kM} {a : Nat} {v : Int32} (h : FK o M M1) (ha : mK M a = none ∨ mG M a = o) : FK o M (sI M1 (fc 88 5) a v) := ⟨h.1.I ha, fun c hc => (funext fun _ => mI_sI_c hc : mI (sI M1 (fc 88 5) a v) c = mI M1 c).trans (h.2 c hc)⟩
theorem FK.kv {o : Nat} {M M' : kM} {T : kT} (h : FK o M M') (q : KV M T) : KV M' T := fun k a hk => ⟨(q k a hk).1, by rw [h.2 _ (by decide)]; exact (q k a hk).2⟩
theorem KV.cg {M : kM} {T T' : kT} (q : KV M T) (h1 : tN T' = tN T) (h2 : tK T' = tK T) : KV M T' := fun k a hk => by rw [h1] at hk; rw [h2]; exact q k a hk
theorem PT.fr {M M' : kM} {o t asd : Nat} {T : kT} {S : Nat → Prop} (h : PT M o t asd T) (hF : Fr S M M') (hS : ¬ S o) : PT M' o t asd T := by
  have g : ∀ b K, mK M b = some K → mG M b = o → mK M' b = some K ∧ mG M' b = o ∧ kSame M M' b := fun b K hb ho => by
    have a := hF.1 b (by rw [hb]; exact fun e => by cases e)
    exact ⟨by rw [a.1]; exact hb, by rw [a.2.1]; exact ho, a.2.2 (by rw [ho]; exact hS)⟩
  have gt := g t 41 h.k h.g
  refine ⟨gt.1, gt.2.1, ⟨by rw [gt.2.2.2.1]; exact h.c, fun vs e => by
    have q := h.vc.2 vs (by rw [← gt.2.2.2.1]; exact e)
    have gv := g vs 90 q.1 q.2.1
    exact ⟨gv.1, gv.2.1, by rw [gv.2.2.2.1]; exact q.2.2⟩⟩, by rw [gt.2.2.2.1]; exact h.r, h.2.2.2.2.1, fun k a hk => ?_⟩
  obtain ⟨n1, n2, n3, n4, n5, n6, n7, n8, n9⟩ := h.n hk
  have ga := g a 88 n1 n2
  have gk := g _ 4 n3.2.1 n3.2.2.1
  exact ⟨ga.1, ga.2.1, ⟨by rw [ga.2.2.2.1]; exact n3.1, gk.1, gk.2.1, n3.2.2.2⟩, ⟨by rw [ga.2.2.2.1]; exact n4.1, hF.kE _ _ n4.2⟩, by rw [ga.2.2.2.1]; exact n5, by rw [ga.2.2.2.1]; exact n6, by rw [ga.2.2.2.1]; exact n7, by rw [ga.2.2.1]; exact n8, n9⟩
theorem TM.fr {M M' : kM} {o t asd : Nat} {T : kT} {S : Nat → Prop} (h : TM M o t asd T) (hF : Fr S M M') (hS : ¬ S o) : TM M' o t asd T := by
  refine ⟨h.1.fr hF hS, fun k b hk => ⟨(h.2.1 k b hk).1, ?_⟩, h.2.2⟩
  have n3 := (h.1.n hk).2.2.1
  have a := hF.1 (tK T k) (by rw [n3.2.1]; exact fun e => by cases e)
  rw [(a.2.2 (by rw [n3.2.2.1]; exact hS)).1]
  exact (h.2.1 k b hk).2
