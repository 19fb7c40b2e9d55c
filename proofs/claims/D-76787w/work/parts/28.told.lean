/-! ===== what is told, shelves: pure laws ===== -/
set_option maxRecDepth 100000
theorem k_in4 {k : Int32} {h n : Nat} {z : Int64} (hz : z = (nI n).toInt64) (hb : h + n < 2147483648) : bi ((nI h).toInt64 ≤ k.toInt64 ∧ k.toInt64 ≤ (nI h).toInt64 + z) = bi (nI h ≤ k ∧ k ≤ nI (h + n)) := by
  subst hz
  refine bi_c ?_
  have e1 : ((nI h).toInt64 + (nI n).toInt64).toInt = (h : Int) + n := by
    rw [Int64.toInt_add, Int32.toInt_toInt64, Int32.toInt_toInt64, nI_toInt (n := h) (by omega), nI_toInt (n := n) (by omega)]
    exact Int.bmod_eq_of_le (by omega) (by omega)
  rw [Int64.le_iff_toInt_le, Int64.le_iff_toInt_le, Int32.le_iff_toInt_le, Int32.le_iff_toInt_le, Int32.toInt_toInt64, Int32.toInt_toInt64, e1, nI_toInt (n := h + n) hb]
  push_cast
  exact Iff.rfl
abbrev okT (t v : Int32) : Prop := (t = 0 ∧ 0 ≤ v ∧ v ≤ 12) ∨ (t = 1 ∧ 13 ≤ v ∧ v ≤ 24) ∨ (t = 2 ∧ 1 ≤ v ∧ v ≤ 4) ∨ ((3 ≤ t ∧ t ≤ 4) ∧ 0 ≤ v ∧ v ≤ 9999)
theorem okT_t {t v : Int32} (h : okT t v) : 0 ≤ t ∧ t ≤ 4 := by
  rcases h with ⟨h, -⟩ | ⟨h, -⟩ | ⟨h, -⟩ | ⟨⟨h1, h2⟩, -⟩
  · subst h; decide
  · subst h; decide
  · subst h; decide
  · exact ⟨Int32.le_trans (by decide) h1, h2⟩
abbrev okB (h : Nat) (t v : Int32) : Prop := (t = 0 ∧ (v = -1 ∨ (nI h ≤ v ∧ v ≤ nI (h + 9999)))) ∨ (t = 1 ∧ 1 ≤ v ∧ v ≤ 999) ∨ ((2 ≤ t ∧ t ≤ 3) ∧ 0 ≤ v ∧ v ≤ 9999)
theorem okB_t {h : Nat} {t v : Int32} (q : okB h t v) : 0 ≤ t ∧ t ≤ 3 := by
  rcases q with ⟨h, -⟩ | ⟨h, -⟩ | ⟨⟨h1, h2⟩, -⟩
  · subst h; decide
  · subst h; decide
  · exact ⟨Int32.le_trans (by decide) h1, h2⟩
abbrev okH (h : Nat) (k v : Int32) : Prop := (3 ≤ k ∧ k ≤ 7) ∧ (nI h ≤ v ∧ v ≤ nI (h + 999))
/-- of a keeper -/
def kofG (g : gT) (k : Nat) (w : Int32) : Int32 :=
  if w = 0 then g (61 + 4 * k) else if w = 1 then g (61 + 4 * k + 1) else if w = 2 then 12 - 3 * g (61 + 4 * k)
  else if w = 3 then cnt (fun s => g (85 + s) = nI k) 24 else if w = 4 then g (61 + 4 * k + 2) else g (61 + 4 * k + 3)
/-- log lines that differ -/
def dfL (g : gT) (ns n : Nat) : List Nat := (List.range n).filter (fun k => decide (0 ≤ agG g ns k))
theorem dfL_s (g : gT) (ns n : Nat) : dfL g ns (n + 1) = dfL g ns n ++ (if 0 ≤ agG g ns n then [n] else []) := by
  unfold dfL
  rw [List.range_succ, List.filter_append]
  by_cases h : 0 ≤ agG g ns n <;> simp [h]
theorem dfL_len (g : gT) (ns n : Nat) : (dfL g ns n).length ≤ n := by
  unfold dfL
  exact Nat.le_trans (List.length_filter_le _ _) (by rw [List.length_range]; exact Nat.le_refl _)
theorem dfL_pre (g : gT) (ns : Nat) {m n : Nat} (hm : m ≤ n) : ∃ r, dfL g ns n = dfL g ns m ++ r := by
  induction hm with
  | refl => exact ⟨[], by rw [List.append_nil]⟩
  | step h ih =>
    obtain ⟨r, hr⟩ := ih
    exact ⟨_, by rw [dfL_s, hr, List.append_assoc]⟩
theorem dfL_hit {g : gT} {ns n k i : Nat} (hk : k < n) (h : 0 ≤ agG g ns k) (hi : (dfL g ns k).length = i) : (dfL g ns n)[i]? = some k := by
  obtain ⟨r, hr⟩ := dfL_pre g ns (m := k + 1) (n := n) hk
  rw [hr, dfL_s, if_pos h, List.append_assoc, List.getElem?_append_right (by omega), hi]
  simp
theorem dfL_l0 {g : gT} {ns n : Nat} (c : ¬ 0 ≤ agG g ns n) : (dfL g ns (n + 1)).length = (dfL g ns n).length := by rw [dfL_s, if_neg c, List.append_nil]
theorem dfL_l1 {g : gT} {ns n : Nat} (c : 0 ≤ agG g ns n) : (dfL g ns (n + 1)).length = (dfL g ns n).length + 1 := by rw [dfL_s, if_pos c, List.length_append]; rfl
theorem dfL_no {g : gT} {ns n i : Nat} (h : (dfL g ns n).length ≤ i) : (dfL g ns n)[i]? = none := List.getElem?_eq_none h
/-- what is asked of a difference -/
def dffG (g : gT) (ns k : Nat) (w : Int32) : Int32 := if w = 0 then g (909 + 4 * k) else if w = 1 then agG g ns k else g (909 + 4 * k + 3)
def difG (g : gT) (ns nl : Nat) (i w : Int32) : Option Int32 := if (0 ≤ w ∧ w ≤ 2) ∧ 0 ≤ i then ((dfL g ns nl)[nn i]?).map (fun k => dffG g ns k w) else none
theorem difG_a {g : gT} {ns nl : Nat} {i w : Int32} (c : ¬ (0 ≤ w ∧ w ≤ 2)) : difG g ns nl i w = none := if_neg (fun q => c q.1)
theorem difG_b {g : gT} {ns nl : Nat} {i w : Int32} (c : i < 0) : difG g ns nl i w = none := if_neg (fun q => Int32.not_lt.mpr q.2 c)
theorem difG_c {g : gT} {ns nl : Nat} {i w : Int32} (c : 0 ≤ w ∧ w ≤ 2) (d : 0 ≤ i) (h : (dfL g ns nl).length ≤ nn i) : difG g ns nl i w = none := by
  unfold difG
  rw [if_pos ⟨c, d⟩, dfL_no h]; rfl
theorem difG_d {g : gT} {ns nl k : Nat} {i w : Int32} (c : 0 ≤ w ∧ w ≤ 2) (d : 0 ≤ i) (hk : k < nl) (h : 0 ≤ agG g ns k) (hi : (dfL g ns k).length = nn i) : difG g ns nl i w = some (dffG g ns k w) := by
  unfold difG
  rw [if_pos ⟨c, d⟩, dfL_hit hk h hi]; rfl
abbrev dsP (g : gT) (ns : Nat) (w : Int32) (k : Nat) : Prop := 0 ≤ agG g ns k ∧ (w = -1 ∨ g (909 + 4 * k + 3) = w)
theorem dsP_eq {a w x : Int32} : (if a < 0 then (0 : Int32) else if w = -1 then 1 else if x = w then 1 else 0) = bi (0 ≤ a ∧ (w = -1 ∨ x = w)) := by
  unfold bi
  by_cases h : a < 0
  · rw [if_pos h, if_neg (fun q => Int32.not_lt.mpr q.1 h)]
  · have h2 := Int32.not_lt.mp h
    by_cases h3 : w = -1 <;> by_cases h4 : x = w <;> simp [h, h2, h3, h4]
/-- elements of a shelf -/
def elZ (e : Nat → Int64) (k n : Nat) : Nat → Int64 := fun j => if 40 * k ≤ j ∧ j < 40 * k + n then 0 else e j
theorem elZ_0 (e : Nat → Int64) (k : Nat) : elZ e k 0 = e := by funext j; unfold elZ; rw [if_neg (by omega)]
theorem elZ_s (e : Nat → Int64) (k n : Nat) : va_up (elZ e k n) (40 * k + n) 0 = elZ e k (n + 1) := by
  funext j
  by_cases h : j = 40 * k + n
  · subst h; rw [va_up_self]; unfold elZ; rw [if_pos (by omega)]
  · rw [va_up_ne _ _ h]; unfold elZ
    by_cases h2 : 40 * k ≤ j ∧ j < 40 * k + n
    · rw [if_pos h2, if_pos (by omega)]
    · rw [if_neg h2, if_neg (by omega)]
def lowV (s : Int32) (v : Int64) : Int64 :=
  if s = 0 then v.toInt32.toInt8.toInt32.toInt64 else if s = 1 then v.toInt32.toInt16.toInt32.toInt64 else if s = 2 then v.toInt32.toInt64 else if s = 3 then v else if v = 0 then 0 else 1
abbrev shP (k : Int32) : Prop := 0 ≤ k ∧ k ≤ 7
/-- refusals of a shelf that is asked as a row -/
def rcS (k s : Int32) : Nat := if ¬ shP k then 0 else if 4 < s then 1 else if s < 0 then 2 else 0
theorem rcS_a {k s : Int32} (c : ¬ shP k) : rcS k s = 0 := if_pos c
theorem rcS_b {k s : Int32} (c : shP k) (d : ¬ s ≤ 4) : rcS k s = 1 := by unfold rcS; rw [if_neg (fun q => q c), if_pos (Int32.not_le.mp d)]
theorem rcS_c {k s : Int32} (c : shP k) (d : s ≤ 4) (e : s < 0) : rcS k s = 2 := by unfold rcS; rw [if_neg (fun q => q c), if_neg (Int32.not_lt.mpr d), if_pos e]
theorem rcS_d {k s : Int32} (c : shP k) (d : s ≤ 4) (e : ¬ s < 0) : rcS k s = 0 := by unfold rcS; rw [if_neg (fun q => q c), if_neg (Int32.not_lt.mpr d), if_neg e]
/-- sizes of shelves -/
def SZ (z : gT) : Prop := ∀ k, k < 8 → 0 ≤ z k ∧ z k ≤ 40
theorem SZ.n {z : gT} {k : Nat} (h : SZ z) (hk : k < 8) : z k = nI (nn (z k)) ∧ nn (z k) ≤ 40 := ⟨nn_of (h k hk).1, nn_le (n := 40) (h k hk).1 (h k hk).2 (by decide)⟩
/-- what shelves hold -/
def SR (so : gT) (ns : Nat) : Prop := ∀ k, k < 8 → so k = -1 ∨ (0 ≤ so k ∧ so k ≤ 4) ∨ ∃ s, s < ns ∧ so k = nI (10 + s)
abbrev okSet (so z : gT) (k i : Int32) : Prop := shP k ∧ so (nn k) ≤ 4 ∧ 0 ≤ so (nn k) ∧ 0 ≤ i ∧ i < z (nn k)
abbrev cpB (so : gT) (p q : Int32) : Prop := 4 < so (nn p) ∨ 4 < so (nn q) ∨ (0 ≤ so (nn p) ∧ 0 ≤ so (nn q) ∧ so (nn p) ≠ so (nn q))
def rcC (so : gT) (p q : Int32) : Nat := if ¬ (shP p ∧ shP q) then 0 else if cpB so p q then 1 else if so (nn p) < 0 ∨ so (nn q) < 0 then 2 else 0
theorem rcC_a {so : gT} {p q : Int32} (c : ¬ (shP p ∧ shP q)) : rcC so p q = 0 := if_pos c
theorem rcC_b {so : gT} {p q : Int32} (c : shP p ∧ shP q) (d : cpB so p q) : rcC so p q = 1 := by unfold rcC; rw [if_neg (fun q => q c), if_pos d]
theorem rcC_c {so : gT} {p q : Int32} (c : shP p ∧ shP q) (d : ¬ cpB so p q) (e : so (nn p) < 0 ∨ so (nn q) < 0) : rcC so p q = 2 := by unfold rcC; rw [if_neg (fun q => q c), if_neg d, if_pos e]
theorem rcC_d {so : gT} {p q : Int32} (c : shP p ∧ shP q) (d : ¬ cpB so p q) (e : ¬ (so (nn p) < 0 ∨ so (nn q) < 0)) : rcC so p q = 0 := by unfold rcC; rw [if_neg (fun q => q c), if_neg d, if_neg e]
abbrev cpR (z : gT) (p q i j n : Int32) : Prop := 0 ≤ i ∧ 0 ≤ j ∧ 0 ≤ n ∧ i ≤ z (nn p) ∧ j ≤ z (nn q) ∧ n ≤ z (nn p) - i ∧ n ≤ z (nn q) - j
abbrev okCp (so z : gT) (p q i j n : Int32) : Prop := (shP p ∧ shP q) ∧ ¬ cpB so p q ∧ ¬ (so (nn p) < 0 ∨ so (nn q) < 0) ∧ cpR z p q i j n
def cpE (e : Nat → Int64) (p q i j lo hi : Nat) : Nat → Int64 := fun t => if 40 * q + j + lo ≤ t ∧ t < 40 * q + j + hi then e (40 * p + i + (t - (40 * q + j))) else e t
/-- so far, in the order of the copy -/
def cpI (e : Nat → Int64) (p q i j n k : Nat) : Nat → Int64 := if i < j then cpE e p q i j (n - k) n else cpE e p q i j 0 k
def cpX (i j n k : Nat) : Nat := if i < j then n - 1 - k else k
theorem cpE_e (e : Nat → Int64) (p q i j a : Nat) : cpE e p q i j a a = e := by
  funext t; unfold cpE; rw [if_neg (by omega)]
theorem cpI_0 (e : Nat → Int64) (p q i j n : Nat) : cpI e p q i j n 0 = e := by
  unfold cpI
  split
  · exact cpE_e e p q i j n
  · exact cpE_e e p q i j 0
theorem cpI_n (e : Nat → Int64) (p q i j n : Nat) : cpI e p q i j n n = cpE e p q i j 0 n := by
  unfold cpI
  rw [Nat.sub_self]
  split <;> rfl
theorem cpI_at {e : Nat → Int64} {p q i j n k : Nat} (hk : k < n) (hi : i + n ≤ 40) (hj : j + n ≤ 40) : cpI e p q i j n k (40 * p + i + cpX i j n k) = e (40 * p + i + cpX i j n k) := by
  unfold cpI cpX
  split
  · unfold cpE; rw [if_neg]
    rcases Nat.lt_trichotomy p q with h | h | h <;> omega
  · unfold cpE; rw [if_neg]
    rcases Nat.lt_trichotomy p q with h | h | h <;> omega
theorem cpI_s {e : Nat → Int64} {p q i j n k : Nat} (hk : k < n) : va_up (cpI e p q i j n k) (40 * q + j + cpX i j n k) (e (40 * p + i + cpX i j n k)) = cpI e p q i j n (k + 1) := by
  funext t
  unfold cpI cpX
  split
  · by_cases h : t = 40 * q + j + (n - 1 - k)
    · subst h; rw [va_up_self]; unfold cpE; rw [if_pos (by omega)]; congr 1; omega
    · rw [va_up_ne _ _ h]; unfold cpE
      by_cases h2 : 40 * q + j + (n - k) ≤ t ∧ t < 40 * q + j + n
      · rw [if_pos h2, if_pos (by omega)]
      · rw [if_neg h2, if_neg (by omega)]
  · by_cases h : t = 40 * q + j + k
    · subst h; rw [va_up_self]; unfold cpE; rw [if_pos (by omega)]; congr 1; omega
    · rw [va_up_ne _ _ h]; unfold cpE
      by_cases h2 : 40 * q + j + 0 ≤ t ∧ t < 40 * q + j + k
      · rw [if_pos h2, if_pos (by omega)]
      · rw [if_neg h2, if_neg (by omega)]
abbrev okEl (so z : gT) (k i : Int32) : Prop := shP k ∧ (0 ≤ so (nn k) ∧ so (nn k) ≤ 4) ∧ (0 ≤ i ∧ i < z (nn k))
def elG (so z : gT) (e : Nat → Int64) (k i : Int32) : Int64 := if okEl so z k i then e (40 * nn k + nn i) else 0
def sayG (g : gT) (s : Nat) (w : Int32) : Int32 :=
  if w = 0 then g (109 + 4 * s + 1) else if w = 1 then lacksG (g (109 + 4 * s)) 0 0 0 2 else if w = 2 then lacksG (g (109 + 4 * s)) 1 0 0 1
  else if w = 6 then g (109 + 4 * s + 3) else if w = 7 then bi (g (109 + 4 * s + 2) = 2) else g (109 + 4 * s + 2)
def rcY (g so : gT) (k w : Int32) : Nat := if ¬ (shP k ∧ (0 ≤ w ∧ w ≤ 7)) then 0 else if 0 ≤ so (nn k) ∧ so (nn k) ≤ 4 then 1 else if so (nn k) < 0 then 2 else 1
abbrev okY (g so : gT) (k w : Int32) : Prop := (shP k ∧ (0 ≤ w ∧ w ≤ 7)) ∧ ¬ (0 ≤ so (nn k) ∧ so (nn k) ≤ 4) ∧ ¬ so (nn k) < 0 ∧ underP (g (109 + 4 * (nn (so (nn k)) - 10))) w
def jdF (p : Nat → Prop) [DecidablePred p] : Nat → Nat → Int32
  | 0, _ => -1
  | f + 1, k => if p k then jdF p f (k + 1) else nI k
abbrev jdP (g : gT) (e : Nat → Int64) (nl i s k : Nat) : Prop := i + k < nl ∧ e (40 * s + 2 * k) = (g (909 + 4 * (i + k) + 1)).toInt64 ∧ e (40 * s + 2 * k + 1) = (g (909 + 4 * (i + k) + 2)).toInt64
abbrev okJ0 (i k n : Int32) : Prop := 0 ≤ i ∧ shP k ∧ (0 ≤ n ∧ n ≤ 20)
abbrev okJ (so z : gT) (i k n : Int32) : Prop := okJ0 i k n ∧ so (nn k) ≤ 4 ∧ ¬ so (nn k) < 0 ∧ 2 * n ≤ z (nn k)
def rcJ (so : gT) (i k n : Int32) : Nat := if ¬ okJ0 i k n then 0 else if 4 < so (nn k) then 1 else if so (nn k) < 0 then 2 else 0
/-- shelves after an image -/
def bkS (so : gT) (ns n : Nat) : gT := fun t => if t < n then (if nI (10 + ns) ≤ so t then -1 else so t) else so t
theorem bkS_0 (so : gT) (ns : Nat) : bkS so ns 0 = so := by funext t; unfold bkS; rw [if_neg (by omega)]
theorem bkS_at (so : gT) (ns n : Nat) : bkS so ns n n = so n := by unfold bkS; rw [if_neg (by omega)]
theorem bkS_s (so : gT) (ns n : Nat) : va_up (bkS so ns n) n (if nI (10 + ns) ≤ so n then -1 else so n) = bkS so ns (n + 1) := by
  funext t
  by_cases h : t = n
  · subst h; rw [va_up_self]
    show _ = ite (t < t + 1) _ _
    exact (if_pos (Nat.lt_succ_self t)).symm
  · rw [va_up_ne _ _ h]
    show ite (t < n) _ _ = ite (t < n + 1) _ _
    by_cases h2 : t < n
    · rw [if_pos h2, if_pos (Nat.lt_succ_of_lt h2)]
    · rw [if_neg h2, if_neg (by omega)]
def tdI (k : Nat) : Nat := ([0, 4, 5, 6, 7, 13, 14, 15, 16, 8, 12, 18] : List Nat).getD k 0
def TD (td : gT) : Prop := ∀ k, k < 12 → td k = nI (tdI k)
def staG (g so rf : gT) (taped w : Int32) : Int32 := if 0 ≤ w ∧ w ≤ 11 then g (tdI (nn w)) else if 12 ≤ w ∧ w ≤ 16 then rf (nn w - 12) else if w = 17 then taped else if w = 18 then g 19 else if w = 19 then cnt (fun s => 0 ≤ so s) 8 else -1
/-! a day -/
def dyD (g : gT) : gT := va_up g 19 (rndG g)
abbrev dyP (g : gT) (ns : Nat) : Prop := drwG g 3 = 0 ∧ ns < 200
def dyK (g : gT) : Int32 := 3 + drwG (dyD g) 5
def dyH (g : gT) (h : Nat) : Int32 := nI h + drwG (dyD (dyD g)) 24
def dyG (g : gT) (h ns : Nat) : gT := if dyP g ns then cmG (dyD (dyD (dyD g))) (dyK g) (dyH g h) ns else dyD g
def dyN (g : gT) (ns : Nat) : Nat := if dyP g ns then ns + 1 else ns
def dayS (nr nk : Nat) (g : gT) (h ns : Nat) : Nat → gT × Nat
  | 0 => (g, ns)
  | k + 1 => (hourG (dyG (dayS nr nk g h ns k).1 (h + k) (dayS nr nk g h ns k).2) (h + k) nr nk (dyN (dayS nr nk g h ns k).1 (dayS nr nk g h ns k).2), dyN (dayS nr nk g h ns k).1 (dayS nr nk g h ns k).2)
theorem dyD_Sg (g : gT) : ∀ j, j ≠ 19 → dyD g j = g j := fun j h => va_up_ne _ _ h
theorem WF.ofD {g : gT} {h nr nk ns : Nat} (w : WF g h nr nk ns) : WF (dyD g) h nr nk ns := by
  have e : ∀ j, j ≠ 19 → dyD g j = g j := dyD_Sg g
  refine ⟨(e 0 (by decide)).trans w.hh, ⟨(e 12 (by decide)).trans w.rn.1, w.rn.2.1, fun r hr => ?_⟩, (e 13 (by decide)).trans w.kk, w.k6, (e 14 (by decide)).trans w.ss, w.s2, ?_, fun t ht => ?_⟩
  · rw [e _ (by omega)]; exact w.rn.2.2 r hr
  · obtain ⟨n, hn, q⟩ := w.lk; exact ⟨n, hn, (e 15 (by decide)).trans q⟩
  · rw [e _ (by omega)]; exact w.pl t ht
theorem cmG_o {g : gT} {k x : Int32} {ns j : Nat} (h1 : j ≠ 14) (h2 : j < 109 + 4 * ns ∨ 109 + 4 * ns + 3 < j) : cmG g k x ns j = g j := by
  unfold cmG
  rw [va_up_ne _ _ h1, va_up_ne _ _ (by omega), va_up_ne _ _ (by omega), va_up_ne _ _ (by omega), va_up_ne _ _ (by omega)]
theorem WF.ofC {g : gT} {h nr nk ns : Nat} {k x : Int32} (w : WF g h nr nk ns) (hn : ns < 200) : WF (cmG g k x ns) h nr nk (ns + 1) := by
  have e : ∀ j, j ≠ 14 → (j < 109 ∨ 909 ≤ j) → cmG g k x ns j = g j := fun j h1 h2 => cmG_o h1 (by omega)
  refine ⟨(e 0 (by decide) (by omega)).trans w.hh, ⟨(e 12 (by decide) (by omega)).trans w.rn.1, w.rn.2.1, fun r hr => ?_⟩, (e 13 (by decide) (by omega)).trans w.kk, w.k6, ?_, by omega, ?_, fun t ht => ?_⟩
  · have := w.rn.2.1; rw [e _ (by omega) (by omega)]; exact w.rn.2.2 r hr
  · unfold cmG; rw [va_up_self]
  · obtain ⟨n, hn, q⟩ := w.lk; exact ⟨n, hn, (e 15 (by decide) (by omega)).trans q⟩
  · rw [e _ (by omega) (by omega)]; exact w.pl t ht
theorem WF.ofG {g : gT} {h nr nk ns : Nat} (w : WF g h nr nk ns) : WF (dyG g h ns) h nr nk (dyN g ns) := by
  unfold dyG dyN
  by_cases c : dyP g ns
  · rw [if_pos c, if_pos c]; exact w.ofD.ofD.ofD.ofC c.2
  · rw [if_neg c, if_neg c]; exact w.ofD
theorem dyG_16 {g : gT} {h ns : Nat} : dyG g h ns 16 = g 16 := by
  unfold dyG
  split
  · rw [cmG_o (by decide) (by omega), dyD_Sg _ _ (by decide), dyD_Sg _ _ (by decide), dyD_Sg _ _ (by decide)]
  · rw [dyD_Sg _ _ (by decide)]
theorem dayS_WF {g : gT} {h nr nk ns : Nat} (w : WF g h nr nk ns) : ∀ n, WF (dayS nr nk g h ns n).1 (h + n) nr nk (dayS nr nk g h ns n).2
  | 0 => w
  | n + 1 => hourG_WF (dayS_WF w n).ofG
theorem sw_out {w : Int32} {n : Nat} {hi : Int} (e : hi + 1 = n) (hn : n < 2147483648) (h : ∀ j, j < n → ¬ w = nI j) : w.toInt < 0 ∨ hi < w.toInt := by
  apply Classical.byContradiction
  intro c
  have c1 : 0 ≤ w.toInt := by omega
  have c2 : w.toInt ≤ hi := by omega
  have h0 : (0 : Int32) ≤ w := Int32.le_iff_toInt_le.mpr (by simpa using c1)
  have e1 := nn_of h0
  have h2 := nn_lt w
  have e2 : (nn w : Int) = w.toInt := by
    have q := congrArg Int32.toInt e1
    rw [nI_toInt h2] at q
    exact q.symm
  exact h (nn w) (by omega) e1
theorem cp_nat {z i n : Int32} {k : Nat} (hz : 0 ≤ z ∧ z ≤ 40) (hi : 0 ≤ i) (hn : 0 ≤ n) (h1 : i ≤ z) (h2 : n ≤ z - i) : nn i + nn n ≤ nn z ∧ nn z ≤ 40 := by
  have e1 := nn_of hz.1
  have e2 := nn_of hi
  have e3 := nn_of hn
  have l1 := nn_le (n := 40) hz.1 hz.2 (by decide)
  rw [e1, e2] at h1
  have h1' := (nI_leI (nn_lt i) (nn_lt z)).mp h1
  rw [e1, e2, pk_sub h1', e3] at h2
  have h2' := (nI_leI (nn_lt n) (by omega)).mp h2
  exact ⟨by omega, l1⟩
theorem low_0 {s : Int32} {x : Int64} (h : s = 0) : x.toInt32.toInt8.toInt32.toInt64 = lowV s x := by subst h; rfl
theorem low_1 {s : Int32} {x : Int64} (h : s = 1) : x.toInt32.toInt16.toInt32.toInt64 = lowV s x := by subst h; rfl
theorem low_2 {s : Int32} {x : Int64} (h : s = 2) : x.toInt32.toInt64 = lowV s x := by subst h; rfl
theorem low_3 {s : Int32} {x : Int64} (h : s = 3) : x = lowV s x := by subst h; rfl
theorem low_4 {s : Int32} {x : Int64} (a : ¬ s = 0) (b : ¬ s = 1) (c : ¬ s = 2) (d : ¬ s = 3) (h : x = 0) : 0 = lowV s x := by
  unfold lowV; rw [if_neg a, if_neg b, if_neg c, if_neg d, if_pos h]
theorem low_5 {s : Int32} {x : Int64} (a : ¬ s = 0) (b : ¬ s = 1) (c : ¬ s = 2) (d : ¬ s = 3) (h : ¬ x = 0) : 1 = lowV s x := by
  unfold lowV; rw [if_neg a, if_neg b, if_neg c, if_neg d, if_neg h]
theorem rcY_a {g so : gT} {k w : Int32} (c : ¬ (shP k ∧ (0 ≤ w ∧ w ≤ 7))) : rcY g so k w = 0 := if_pos c
theorem rcY_b {g so : gT} {k w : Int32} (c : shP k ∧ (0 ≤ w ∧ w ≤ 7)) (d : 0 ≤ so (nn k) ∧ so (nn k) ≤ 4) : rcY g so k w = 1 := by unfold rcY; rw [if_neg (fun q => q c), if_pos d]
theorem rcY_c {g so : gT} {k w : Int32} (c : shP k ∧ (0 ≤ w ∧ w ≤ 7)) (d : ¬ (0 ≤ so (nn k) ∧ so (nn k) ≤ 4)) (e : so (nn k) < 0) : rcY g so k w = 2 := by unfold rcY; rw [if_neg (fun q => q c), if_neg d, if_pos e]
theorem rcY_d {g so : gT} {k w : Int32} (c : shP k ∧ (0 ≤ w ∧ w ≤ 7)) (d : ¬ (0 ≤ so (nn k) ∧ so (nn k) ≤ 4)) (e : ¬ so (nn k) < 0) : rcY g so k w = 1 := by unfold rcY; rw [if_neg (fun q => q c), if_neg d, if_neg e]
theorem say_n {so : gT} {ns k : Nat} (h : SR so ns) (hn : ns ≤ 200) (hk : k < 8) (c : ¬ (0 ≤ so k ∧ so k ≤ 4)) (d : ¬ so k < 0) : nn (so k) - 10 < ns ∧ so k - 10 = nI (nn (so k) - 10) := by
  rcases h k hk with q | q | ⟨s, hs, q⟩
  · exact absurd (by rw [q]; decide) d
  · exact absurd q c
  · have hl : nn (so k) = 10 + s := by
      have := nn_lt (so k)
      have e := nn_of (Int32.not_lt.mp d)
      have hv := congrArg Int32.toInt (e.symm.trans q)
      rw [nI_toInt this] at hv
      rw [nI_toInt (by omega)] at hv
      omega
    exact ⟨by omega, by rw [hl, q, ← pk_sub (by omega)]; rfl⟩
theorem say_out {w : Int32} (h : ∀ j, j < 8 → ¬ w = nI j) : ¬ (0 ≤ w ∧ w ≤ 7) := fun q => h (nn w) (by have := nn_le (n := 7) q.1 q.2 (by decide); omega) (nn_of q.1)
theorem say_0 {g : gT} {s : Nat} {w : Int32} (h : w = 0) : g (109 + 4 * s + 1) = sayG g s w := by subst h; rfl
theorem say_1 {g : gT} {s : Nat} {w : Int32} (h : w = 1) : lacksG (g (109 + 4 * s + 0)) 0 0 0 2 = sayG g s w := by subst h; rfl
theorem say_2 {g : gT} {s : Nat} {w : Int32} (h : w = 2) : lacksG (g (109 + 4 * s + 0)) 1 0 0 1 = sayG g s w := by subst h; rfl
theorem say_6 {g : gT} {s : Nat} {w : Int32} (h : w = 6) : g (109 + 4 * s + 3) = sayG g s w := by subst h; rfl
theorem say_7 {g : gT} {s : Nat} {w : Int32} (h : w = 7) : bi (g (109 + 4 * s + 2) = 2) = sayG g s w := by subst h; rfl
theorem say_3 {g : gT} {s : Nat} {w : Int32} (h : w = 3 ∨ w = 4 ∨ w = 5) : g (109 + 4 * s + 2) = sayG g s w := by
  rcases h with rfl | rfl | rfl <;> rfl
theorem rcJ_a {so : gT} {i k n : Int32} (c : ¬ okJ0 i k n) : rcJ so i k n = 0 := if_pos c
theorem rcJ_b {so : gT} {i k n : Int32} (c : okJ0 i k n) (d : ¬ so (nn k) ≤ 4) : rcJ so i k n = 1 := by unfold rcJ; rw [if_neg (fun q => q c), if_pos (Int32.not_le.mp d)]
theorem rcJ_c {so : gT} {i k n : Int32} (c : okJ0 i k n) (d : so (nn k) ≤ 4) (e : so (nn k) < 0) : rcJ so i k n = 2 := by unfold rcJ; rw [if_neg (fun q => q c), if_neg (Int32.not_lt.mpr d), if_pos e]
theorem rcJ_d {so : gT} {i k n : Int32} (c : okJ0 i k n) (d : so (nn k) ≤ 4) (e : ¬ so (nn k) < 0) : rcJ so i k n = 0 := by unfold rcJ; rw [if_neg (fun q => q c), if_neg (Int32.not_lt.mpr d), if_neg e]
theorem jd_z {z n : Int32} (hz : 0 ≤ z ∧ z ≤ 40) (h0 : 0 ≤ n) (h2 : n ≤ 20) (h : 2 * n ≤ z) : 2 * nn n ≤ nn z ∧ nn z ≤ 40 := by
  have l1 := nn_le (n := 40) hz.1 hz.2 (by decide)
  have l2 := nn_le (n := 20) h0 h2 (by decide)
  rw [nn_of hz.1, nn_of h0, nl_2, pk_mul] at h
  exact ⟨(nI_leI (by omega) (by omega)).mp h, l1⟩
theorem jd_s {p : Nat → Prop} [DecidablePred p] {n t : Nat} {z : Int32} (c : p t) (h : jdF p (n - t) t = z) (hl : t < n) : jdF p (n - (t + 1)) (t + 1) = z := by
  rw [show n - t = (n - (t + 1)) + 1 by omega] at h
  rw [← h]
  exact (if_pos c).symm
theorem jd_e {p : Nat → Prop} [DecidablePred p] {n t : Nat} {z : Int32} (c : ¬ p t) (h : jdF p (n - t) t = z) (hl : t < n) : nI t = z := by
  rw [show n - t = (n - (t + 1)) + 1 by omega] at h
  rw [← h]
  exact (if_neg c).symm
theorem jd_n {p : Nat → Prop} [DecidablePred p] {n t : Nat} {z : Int32} (h : jdF p (n - t) t = z) (hl : n ≤ t) : -1 = z := by
  rw [show n - t = 0 by omega] at h
  exact h
theorem jd_lt {nl t i : Nat} (hl : nl ≤ 400) (ht : t ≤ 20) (hi : i < 2147483648) (c : ¬ nI nl - nI t ≤ nI i) : i + t < nl := by
  have h := Int32.lt_iff_toInt_lt.mp (Int32.not_le.mp c)
  rw [pk_sub_toInt (by omega) (by omega), nI_toInt hi] at h
  omega
theorem jd_eq {a b c d : Int64} {nl t i : Nat} (hl : nl ≤ 400) (ht : t ≤ 20) (hi : i < 2147483648) : (if nI nl - nI t ≤ nI i then (0 : Int32) else if lg_cmp a b = 0 then (if lg_cmp c d = 0 then 1 else 0) else 0) = bi (i + t < nl ∧ a = b ∧ c = d) := by
  unfold bi
  by_cases h : nI nl - nI t ≤ nI i
  · rw [if_pos h, if_neg]
    rintro ⟨q, -⟩
    have h1 := Int32.le_iff_toInt_le.mp h
    rw [pk_sub_toInt (by omega) (by omega), nI_toInt hi] at h1
    omega
  · have h0 := jd_lt hl ht hi h
    rw [if_neg h]
    by_cases h1 : a = b
    · rw [if_pos (lc_0.mpr h1)]
      by_cases h2 : c = d
      · rw [if_pos (lc_0.mpr h2), if_pos ⟨h0, h1, h2⟩]
      · rw [if_neg (fun q => h2 (lc_0.mp q)), if_neg (fun q => h2 q.2.2)]
    · rw [if_neg (fun q => h1 (lc_0.mp q)), if_neg (fun q => h1 q.2.1)]
theorem tdI_le {k : Nat} (h : k < 12) : tdI k ≤ 18 := by
  rcases (show k = 0 ∨ k = 1 ∨ k = 2 ∨ k = 3 ∨ k = 4 ∨ k = 5 ∨ k = 6 ∨ k = 7 ∨ k = 8 ∨ k = 9 ∨ k = 10 ∨ k = 11 by omega) with rfl | rfl | rfl | rfl | rfl | rfl | rfl | rfl | rfl | rfl | rfl | rfl <;> decide
theorem day_so {a b c : Int32} : (a - b) + (c - a) = c - b := by
  apply Int32.toBitVec_inj.mp
  simp only [Int32.toBitVec_add, Int32.toBitVec_sub]
  apply BitVec.eq_of_toInt_eq
  simp only [BitVec.toInt_add, BitVec.toInt_sub]
  have := a.toBitVec.isLt
  rw [Int.bmod_add_bmod, Int.add_bmod_bmod]
  congr 1; omega
theorem dy_a {g : gT} {h ns : Nat} (c : ¬ drwG g 3 = 0) : dyD g = dyG g h ns := by unfold dyG; rw [if_neg (fun q => c q.1)]
theorem dy_b {g : gT} {h ns : Nat} (c : 200 ≤ ns) : dyD g = dyG g h ns := by unfold dyG; rw [if_neg (fun q => absurd q.2 (by omega))]
theorem dy_c {g : gT} {h ns : Nat} (c : drwG g 3 = 0) (d : ns < 200) : cmG (dyD (dyD (dyD g))) (dyK g) (dyH g h) ns = dyG g h ns := by unfold dyG; rw [if_pos ⟨c, d⟩]
theorem sta_a {g so rf : gT} {t w : Int32} (h : 0 ≤ w ∧ w ≤ 11) : g (tdI (nn w)) = staG g so rf t w := by unfold staG; rw [if_pos h]
theorem sta_b {g so rf : gT} {t w : Int32} (h0 : ¬ (0 ≤ w ∧ w ≤ 11)) (h : 12 ≤ w ∧ w ≤ 16) : rf (nn w - 12) = staG g so rf t w := by unfold staG; rw [if_neg h0, if_pos h]
theorem sta_c {g so rf : gT} {t w : Int32} (h0 : ¬ (0 ≤ w ∧ w ≤ 11)) (h : ¬ (12 ≤ w ∧ w ≤ 16)) (c : w = 17) : t = staG g so rf t w := by unfold staG; rw [if_neg h0, if_neg h, if_pos c]
theorem sta_d {g so rf : gT} {t w : Int32} (h0 : ¬ (0 ≤ w ∧ w ≤ 11)) (h : ¬ (12 ≤ w ∧ w ≤ 16)) (c : ¬ w = 17) (d : w = 18) : g 19 = staG g so rf t w := by unfold staG; rw [if_neg h0, if_neg h, if_neg c, if_pos d]
theorem sta_e {g so rf : gT} {t w : Int32} (h0 : ¬ (0 ≤ w ∧ w ≤ 11)) (h : ¬ (12 ≤ w ∧ w ≤ 16)) (c : ¬ w = 17) (d : ¬ w = 18) (e : w = 19) : cnt (fun s => 0 ≤ so s) 8 = staG g so rf t w := by unfold staG; rw [if_neg h0, if_neg h, if_neg c, if_neg d, if_pos e]
theorem sta_f {g so rf : gT} {t w : Int32} (h0 : ¬ (0 ≤ w ∧ w ≤ 11)) (h : ¬ (12 ≤ w ∧ w ≤ 16)) (c : ¬ w = 17) (d : ¬ w = 18) (e : ¬ w = 19) : -1 = staG g so rf t w := by unfold staG; rw [if_neg h0, if_neg h, if_neg c, if_neg d, if_neg e]
theorem sta_12 {w : Int32} (h : 12 ≤ w ∧ w ≤ 16) : w - 12 = nI (nn w - 12) ∧ nn w - 12 < 5 := by
  have h0 : (0 : Int32) ≤ w := Int32.le_trans (by decide) h.1
  have e := nn_of h0
  have l := nn_le (n := 16) h0 h.2 (by decide)
  have l2 : 12 ≤ nn w := by
    have q := h.1
    rw [e, nl_12] at q
    exact (nI_leI (by decide) (nn_lt w)).mp q
  exact ⟨by rw [← pk_sub l2, ← e]; rfl, by omega⟩
/-! texts -/
def byG (tp : gT) (t p : Nat) : Int32 := if p < t then tp p else -1
abbrev dgP (c : Int32) : Prop := 48 ≤ c ∧ c ≤ 57
abbrev irC (tp : gT) (t p rm : Nat) : Prop := rm ≠ 20 ∧ (byG tp t p = 99 ∨ byG tp t p = 102 ∨ byG tp t p = 115)
def irN (tp : gT) (t p : Nat) : Nat := if ¬ dgP (byG tp t (p + 1)) then 0 else if ¬ dgP (byG tp t (p + 1 + 1)) then 1 else 2
def irV (tp : gT) (t p : Nat) : Nat → Int32
  | 0 => 0
  | n + 1 => 10 * irV tp t p n + byG tp t (p + 1 + n) - 48
def irK (c : Int32) : Int32 := if c = 99 then 0 else if c = 102 then 1 else 2
/-- one run read: good, place, how many, the runs -/
def skR (tp : gT) (t p rm : Nat) (rd : gT) : Bool × Nat × Nat × gT :=
  if irC tp t p rm then
    if irN tp t p = 0 ∨ irV tp t p (irN tp t p) = 0 then (false, p + 1, rm, rd)
    else (true, p + 1 + irN tp t p, rm + 1, va_up (va_up rd (2 * rm) (irK (byG tp t p))) (2 * rm + 1) (irV tp t p (irN tp t p)))
  else (false, p, rm, rd)
def skL (tp : gT) (t : Nat) : Nat → Bool × Nat × Nat × gT → Bool × Nat × Nat × gT
  | 0, s => s
  | f + 1, s => if s.1 = true ∧ s.2.1 < t then (if byG tp t s.2.1 = 32 then skL tp t f (skR tp t (s.2.1 + 1) s.2.2.1 s.2.2.2) else (false, s.2.1, s.2.2.1, s.2.2.2)) else s
def skA (tp : gT) (t : Nat) (rd : gT) : Bool × Nat × Nat × gT := skL tp t 20 (skR tp t 0 0 rd)
/-- the sky as read -/
def skG (g rd : gT) (n : Nat) : Nat → gT := fun k j => if j = 12 then nI n else if 21 ≤ j ∧ j < 21 + k then rd (j - 21) else g j
theorem skG_0 (g rd : gT) (n : Nat) : va_up g 12 (nI n) = skG g rd n 0 := by
  funext j
  by_cases h : j = 12
  · subst h; rw [va_up_self]; rfl
  · rw [va_up_ne _ _ h]; unfold skG; rw [if_neg h, if_neg (by omega)]
theorem skG_s (g rd : gT) (n k : Nat) : va_up (skG g rd n k) (21 + k) (rd k) = skG g rd n (k + 1) := by
  funext j
  by_cases h : j = 21 + k
  · subst h; rw [va_up_self]; unfold skG; rw [if_neg (by omega), if_pos (by omega)]; congr 1; omega
  · rw [va_up_ne _ _ h]; unfold skG
    by_cases h2 : j = 12
    · rw [if_pos h2, if_pos h2]
    · rw [if_neg h2, if_neg h2]
      by_cases h3 : 21 ≤ j ∧ j < 21 + k
      · rw [if_pos h3, if_pos (by omega)]
      · rw [if_neg h3, if_neg (by omega)]
theorem irN_e {tp : gT} {t p n : Nat} (h2 : n ≤ 2) (h3 : ∀ j, j < n → dgP (byG tp t (p + 1 + j))) (h : n = 2 ∨ ¬ dgP (byG tp t (p + 1 + n))) : irN tp t p = n := by
  unfold irN
  rcases (show n = 0 ∨ n = 1 ∨ n = 2 by omega) with rfl | rfl | rfl
  · rw [if_pos (h.resolve_left (by decide))]
  · rw [if_neg (fun q => q (h3 0 (by decide))), if_pos (h.resolve_left (by decide))]
  · rw [if_neg (fun q => q (h3 0 (by decide))), if_neg (fun q => q (h3 1 (by decide)))]
theorem skR_a {tp : gT} {t p rm : Nat} {rd : gT} (c : ¬ irC tp t p rm) : skR tp t p rm rd = (false, p, rm, rd) := if_neg c
theorem skR_b {tp : gT} {t p rm : Nat} {rd : gT} (c : irC tp t p rm) (d : irN tp t p = 0 ∨ irV tp t p (irN tp t p) = 0) : skR tp t p rm rd = (false, p + 1, rm, rd) := by
  unfold skR; rw [if_pos c, if_pos d]
theorem skR_c {tp : gT} {t p rm : Nat} {rd : gT} (c : irC tp t p rm) (d : ¬ (irN tp t p = 0 ∨ irV tp t p (irN tp t p) = 0)) : skR tp t p rm rd = (true, p + 1 + irN tp t p, rm + 1, va_up (va_up rd (2 * rm) (irK (byG tp t p))) (2 * rm + 1) (irV tp t p (irN tp t p))) := by
  unfold skR; rw [if_pos c, if_neg d]
theorem byG_lt {tp : gT} {t p : Nat} {k : Int32} (h : byG tp t p = k) (hk : k ≠ -1) : p < t := by
  unfold byG at h
  by_cases c : p < t
  · exact c
  · rw [if_neg c] at h; exact absurd h.symm hk
theorem dgP_lt {tp : gT} {t p : Nat} (h : dgP (byG tp t p)) : p < t := by
  apply Classical.byContradiction
  intro c
  unfold byG at h
  rw [if_neg c] at h
  exact absurd h (by decide)
theorem irN_bd {tp : gT} {t p : Nat} (h : p < t) : p + 1 + irN tp t p ≤ t := by
  unfold irN
  by_cases c : dgP (byG tp t (p + 1))
  · rw [if_neg (fun q => q c)]
    have := dgP_lt c
    by_cases d : dgP (byG tp t (p + 1 + 1))
    · rw [if_neg (fun q => q d)]; have := dgP_lt d; omega
    · rw [if_pos d]; omega
  · rw [if_pos c]; omega
theorem irC_lt {tp : gT} {t p rm : Nat} (h : irC tp t p rm) : p < t := by
  rcases h.2 with q | q | q
  · exact byG_lt q (by decide)
  · exact byG_lt q (by decide)
  · exact byG_lt q (by decide)
theorem skR_bd {tp : gT} {t p rm : Nat} {rd : gT} (hp : p ≤ t) (hr : rm ≤ 20) : (skR tp t p rm rd).2.1 ≤ t + 1 ∧ (skR tp t p rm rd).2.2.1 ≤ 20 ∧ ((skR tp t p rm rd).1 = true → (skR tp t p rm rd).2.2.1 = rm + 1) := by
  by_cases c : irC tp t p rm
  · have h1 := irC_lt c
    have h2 := irN_bd (tp := tp) h1
    by_cases d : irN tp t p = 0 ∨ irV tp t p (irN tp t p) = 0
    · rw [skR_b c d]; exact ⟨by show p + 1 ≤ _; omega, hr, fun q => Bool.noConfusion q⟩
    · rw [skR_c c d]; exact ⟨by show p + 1 + _ ≤ _; omega, by have := c.1; show rm + 1 ≤ 20; omega, fun _ => rfl⟩
  · rw [skR_a c]; exact ⟨by show p ≤ _; omega, hr, fun q => Bool.noConfusion q⟩
def skJ (tp : gT) (t : Nat) (A R : Bool × Nat × Nat × gT) : Prop := (R.1 = true → skL tp t (21 - R.2.2.1) R = A) ∧ (¬ R.1 = true → R = A)
theorem skL_f {tp : gT} {t f : Nat} {R : Bool × Nat × Nat × gT} (h : ¬ R.1 = true) : skL tp t f R = R := by
  cases f with
  | zero => rfl
  | succ f => exact if_neg (fun q => h q.1)
theorem skJ_0 (tp : gT) (t : Nat) (rd : gT) : skJ tp t (skA tp t rd) (skR tp t 0 0 rd) := by
  refine ⟨fun h => ?_, fun h => (skL_f h).symm⟩
  have h9 := (skR_bd (tp := tp) (t := t) (p := 0) (rm := 0) (rd := rd) (Nat.zero_le _) (by omega)).2.2 h
  rw [h9]; rfl
theorem skJ_x {tp : gT} {t q rm : Nat} {rd : gT} {A : Bool × Nat × Nat × gT} (h : skJ tp t A (true, q, rm, rd)) (hr : rm ≤ 20) (hq : q < t) (c : ¬ byG tp t q = 32) : skJ tp t A (false, q, rm, rd) := by
  refine ⟨fun h => Bool.noConfusion h, fun _ => ?_⟩
  have h1 := h.1 rfl
  rw [show 21 - (true, q, rm, rd).2.2.1 = (20 - rm) + 1 from by show 21 - rm = _; omega] at h1
  rw [← h1]
  show _ = ite _ _ _
  rw [if_pos ⟨rfl, hq⟩, if_neg c]
theorem skJ_s {tp : gT} {t q rm : Nat} {rd : gT} {A : Bool × Nat × Nat × gT} (h : skJ tp t A (true, q, rm, rd)) (hr : rm ≤ 20) (hq : q < t) (c : byG tp t q = 32) : skJ tp t A (skR tp t (q + 1) rm rd) := by
  have h1 := h.1 rfl
  rw [show 21 - (true, q, rm, rd).2.2.1 = (20 - rm) + 1 from by show 21 - rm = _; omega] at h1
  have h2 : skL tp t (20 - rm) (skR tp t (q + 1) rm rd) = A := by
    rw [← h1]
    show _ = ite _ _ _
    rw [if_pos ⟨rfl, hq⟩, if_pos c]
  refine ⟨fun w => ?_, fun w => ?_⟩
  · have h9 := (skR_bd (tp := tp) (t := t) (p := q + 1) (rm := rm) (rd := rd) hq hr).2.2 w
    rw [h9, show 21 - (rm + 1) = 20 - rm by omega]; exact h2
  · rw [← h2]; exact (skL_f w).symm
theorem skJ_t {tp : gT} {t q rm : Nat} {rd : gT} {A : Bool × Nat × Nat × gT} (h : skJ tp t A (true, q, rm, rd)) (c : t ≤ q) : A = (true, q, rm, rd) := by
  rw [← h.1 rfl]
  cases 21 - (true, q, rm, rd).2.2.1 with
  | zero => rfl
  | succ f => exact if_neg (fun w => absurd w.2 (by show ¬ q < t; omega))
