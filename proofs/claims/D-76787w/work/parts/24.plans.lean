/-! ===== plans in thought ===== -/
set_option maxRecDepth 100000
theorem WF.plan {g : gT} {h nr nk ns : Nat} (w : WF g h nr nk ns) {g' : gT} (ho : ∀ j, (j < 85 ∨ 109 ≤ j) → g' j = g j) (hp : ∀ t, t < 24 → 0 ≤ g' (85 + t) → nn (g' (85 + t)) < 6) : WF g' h nr nk ns := by
  refine ⟨(ho 0 (by omega)).trans w.hh, ⟨(ho 12 (by omega)).trans w.rn.1, w.rn.2.1, fun r hr => ?_⟩, (ho 13 (by omega)).trans w.kk, w.k6, (ho 14 (by omega)).trans w.ss, w.s2, ?_, hp⟩
  · have := w.rn.2.1
    rw [ho (21 + 2 * r + 1) (by omega)]
    exact w.rn.2.2 r hr
  · obtain ⟨n, hn, e⟩ := w.lk
    exact ⟨n, hn, (ho 15 (by omega)).trans e⟩
theorem WF.plan1 {g : gT} {h nr nk ns : Nat} (w : WF g h nr nk ns) {t : Nat} {x : Int32} (ht : t < 24) (hx : 0 ≤ x → nn x < 6) : WF (va_up g (85 + t) x) h nr nk ns := by
  refine w.plan (fun j hj => va_up_ne _ _ (by omega)) (fun s hs => ?_)
  by_cases e : s = t
  · subst e; rw [va_up_self]; exact hx
  · rw [va_up_ne _ _ (by omega)]; exact w.pl s hs
/-- without a keeper -/
def noN (g : gT) (w : Int32) (n : Nat) : gT := fun j => if 85 ≤ j ∧ j < 85 + n then (if g j = w then -1 else g j) else g j
theorem noN_0 (g : gT) (w : Int32) : noN g w 0 = g := by funext j; unfold noN; rw [if_neg (by omega)]
theorem noN_at (g : gT) (w : Int32) (n : Nat) : noN g w n (85 + n) = g (85 + n) := by unfold noN; rw [if_neg (by omega)]
theorem noN_s (g : gT) (w : Int32) (n : Nat) : va_up (noN g w n) (85 + n) (if g (85 + n) = w then -1 else g (85 + n)) = noN g w (n + 1) := by
  funext j
  simp only [noN, va_up]
  by_cases h : j = 85 + n
  · subst h
    have e : 85 ≤ 85 + n ∧ 85 + n < 85 + (n + 1) := ⟨by omega, by omega⟩
    rw [if_pos rfl, if_pos e]
  · rw [if_neg h]
    by_cases h2 : 85 ≤ j ∧ j < 85 + n
    · have e : 85 ≤ j ∧ j < 85 + (n + 1) := ⟨h2.1, by omega⟩
      rw [if_pos h2, if_pos e]
    · have e : ¬ (85 ≤ j ∧ j < 85 + (n + 1)) := fun q => h2 ⟨q.1, by omega⟩
      rw [if_neg h2, if_neg e]
theorem noN_WF {g : gT} {h nr nk ns : Nat} (w : WF g h nr nk ns) (x : Int32) : WF (noN g x 24) h nr nk ns := by
  refine w.plan (fun j hj => if_neg (by omega)) (fun t ht => ?_)
  unfold noN
  rw [if_pos ⟨by omega, by omega⟩]
  split
  · intro q; exact absurd q (by decide)
  · exact w.pl t ht
theorem plB_back {g g' p : gT} (ho : ∀ j, (j < 85 ∨ 109 ≤ j) → g' j = g j) : plB g' (plS p g 24) 24 = g := by
  funext j
  unfold plB
  by_cases h : 85 ≤ j ∧ j < 85 + 24
  · rw [if_pos h]
    unfold plS
    rw [if_pos (by omega), show 85 + (j - 85) = j by omega]
  · rw [if_neg h]; exact ho j (by omega)
theorem noN_back (g p : gT) (w : Int32) : plB (noN g w 24) (plS p g 24) 24 = g := plB_back (fun j hj => if_neg (by omega))
def idS (g : gT) (h nr nk ns n : Nat) : Nat → Int32
  | 0 => 0
  | i + 1 => idS g h nr nk ns n i ||| (if unlG g h nr nk ns n < unlG (noN g (nI i) 24) h nr nk ns n then (0 : Int32) else (1 : Int32) <<< (nI i &&& 31))
/-- the better keeper for an hour of the day -/
def btS (g : gT) (h nr nk ns n t : Nat) : Nat → Int32 × Int32
  | 0 => (unlG g h nr nk ns n, -1)
  | i + 1 => if unlG (va_up g (85 + t) (nI i)) h nr nk ns n < (btS g h nr nk ns n t i).1 then (unlG (va_up g (85 + t) (nI i)) h nr nk ns n, nI i) else btS g h nr nk ns n t i
theorem btS_a {g : gT} {h nr nk ns n t i : Nat} (c : unlG (va_up g (85 + t) (nI i)) h nr nk ns n < (btS g h nr nk ns n t i).1) : btS g h nr nk ns n t (i + 1) = (unlG (va_up g (85 + t) (nI i)) h nr nk ns n, nI i) := if_pos c
theorem btS_b {g : gT} {h nr nk ns n t i : Nat} (c : ¬ unlG (va_up g (85 + t) (nI i)) h nr nk ns n < (btS g h nr nk ns n t i).1) : btS g h nr nk ns n t (i + 1) = btS g h nr nk ns n t i := if_neg c
theorem btS_a1 {g : gT} {h nr nk ns n t i : Nat} (c : ¬ (btS g h nr nk ns n t i).1 ≤ unlG (va_up g (85 + t) (nI i)) h nr nk ns n) : (btS g h nr nk ns n t (i + 1)).1 = unlG (va_up g (85 + t) (nI i)) h nr nk ns n := by rw [btS_a (Int32.not_le.mp c)]
theorem btS_a2 {g : gT} {h nr nk ns n t i : Nat} (c : ¬ (btS g h nr nk ns n t i).1 ≤ unlG (va_up g (85 + t) (nI i)) h nr nk ns n) : (btS g h nr nk ns n t (i + 1)).2 = nI i := by rw [btS_a (Int32.not_le.mp c)]
theorem btS_b1 {g : gT} {h nr nk ns n t i : Nat} (c : (btS g h nr nk ns n t i).1 ≤ unlG (va_up g (85 + t) (nI i)) h nr nk ns n) : (btS g h nr nk ns n t (i + 1)).1 = (btS g h nr nk ns n t i).1 := by rw [btS_b (Int32.not_lt.mpr c)]
theorem btS_b2 {g : gT} {h nr nk ns n t i : Nat} (c : (btS g h nr nk ns n t i).1 ≤ unlG (va_up g (85 + t) (nI i)) h nr nk ns n) : (btS g h nr nk ns n t (i + 1)).2 = (btS g h nr nk ns n t i).2 := by rw [btS_b (Int32.not_lt.mpr c)]
theorem mL_SC {M : kM} {m : Nat} {ad : Nat → Nat} {g : gT} {sa : Nat → gT} {sf : Nat → Int32} : mL (SC M m ad g sa sf) = mL M := rfl
def elP (e : Nat → Int64) (k : Nat) : gT := fun t => (e (40 * k + t)).toInt32
abbrev ipP (e : Nat → Int64) (nk k t : Nat) : Prop := (-1 : Int64) ≤ e (40 * k + t) ∧ e (40 * k + t) ≤ (nI nk - 1).toInt64
abbrev ipA (z : gT) (e : Nat → Int64) (nk k : Nat) : Prop := 24 ≤ z k ∧ ∀ t, t < 24 → ipP e nk k t

def ipG (s z : gT) (e : Nat → Int64) (nk k : Nat) : Int32 := if 4 < s k then -103 else if s k < 0 then -104 else if ipA z e nk k then 0 else -102
theorem ipG_a {s z : gT} {e : Nat → Int64} {nk k : Nat} (c : ¬ s k ≤ 4) : -103 = ipG s z e nk k := by unfold ipG; rw [if_pos (Int32.not_le.mp c)]
theorem ipG_b {s z : gT} {e : Nat → Int64} {nk k : Nat} (c : s k ≤ 4) (d : s k < 0) : -104 = ipG s z e nk k := by unfold ipG; rw [if_neg (Int32.not_lt.mpr c), if_pos d]
theorem ipG_c {s z : gT} {e : Nat → Int64} {nk k : Nat} (c : s k ≤ 4) (d : ¬ s k < 0) (q : ¬ ipA z e nk k) : -102 = ipG s z e nk k := by unfold ipG; rw [if_neg (Int32.not_lt.mpr c), if_neg d, if_neg q]
theorem ipG_d {s z : gT} {e : Nat → Int64} {nk k : Nat} (c : s k ≤ 4) (d : ¬ s k < 0) (q : ipA z e nk k) : 0 = ipG s z e nk k := by unfold ipG; rw [if_neg (Int32.not_lt.mpr c), if_neg d, if_pos q]
/-- which refusal -/
def rxN (r : Int32) : Nat := nn (-r - 102)
theorem rx_102 : (-102 : Int32) = -(nI (102 + rxN (-102))) ∧ rxN (-102) < 5 := by decide +kernel
theorem rx_103 : (-103 : Int32) = -(nI (102 + rxN (-103))) ∧ rxN (-103) < 5 := by decide +kernel
theorem rx_104 : (-104 : Int32) = -(nI (102 + rxN (-104))) ∧ rxN (-104) < 5 := by decide +kernel
theorem ipG_rx {s z : gT} {e : Nat → Int64} {nk k : Nat} {r : Int32} (h : r = ipG s z e nk k) (c : ¬ 0 ≤ r) : r = -(nI (102 + rxN r)) ∧ rxN r < 5 := by
  unfold ipG at h
  split at h
  · subst h; exact rx_103
  · split at h
    · subst h; exact rx_104
    · split at h
      · subst h; exact absurd (by decide) c
      · subst h; exact rx_102
theorem plB_WF {g p : gT} {h nr nk ns : Nat} (w : WF g h nr nk ns) (q : ∀ t, t < 24 → 0 ≤ p t → nn (p t) < 6) : WF (plB g p 24) h nr nk ns := by
  refine w.plan (fun j hj => if_neg (by omega)) (fun t ht => ?_)
  unfold plB
  rw [if_pos ⟨by omega, by omega⟩, Nat.add_sub_cancel_left]
  exact q t ht
theorem plB_back2 (g p q : gT) : plB (plB g q 24) (plS p g 24) 24 = g := plB_back (fun j hj => if_neg (by omega))
theorem ipG_ok {s z : gT} {e : Nat → Int64} {nk k : Nat} {r : Int32} (h : r = ipG s z e nk k) (c : 0 ≤ r) : ipA z e nk k := by
  unfold ipG at h
  split at h
  · subst h; exact absurd c (by decide)
  · split at h
    · subst h; exact absurd c (by decide)
    · split at h
      · assumption
      · subst h; exact absurd c (by decide)
theorem el_lt {x : Int64} {nk : Nat} (h6 : nk ≤ 6) (h : x ≤ (nI nk - 1).toInt64) (h1 : (-1 : Int64) ≤ x) (h0 : 0 ≤ x.toInt32) : nn x.toInt32 < 6 := by
  have e1 : ((nI nk - 1).toInt64).toInt ≤ 5 := by
    have : nk = 0 ∨ nk = 1 ∨ nk = 2 ∨ nk = 3 ∨ nk = 4 ∨ nk = 5 ∨ nk = 6 := by omega
    rcases this with rfl | rfl | rfl | rfl | rfl | rfl | rfl <;> decide +kernel
  have e2 := Int64.le_iff_toInt_le.mp h
  have e3 := Int64.le_iff_toInt_le.mp h1
  have e4 : (-1 : Int64).toInt = -1 := by decide
  rw [e4] at e3
  have e5 : x.toInt32.toInt = x.toInt := by
    rw [Int64.toInt_toInt32]
    exact Int.bmod_eq_of_le (by omega) (by omega)
  unfold nn
  simp only [Int32.toNatClampNeg, e5]
  omega
