/-! ===== the model's hour, as a function over its numbers ===== -/
set_option maxRecDepth 100000
/-- indices that an hour leaves alone (0, the hour itself, apart) -/
def kpI (j : Nat) : Prop := (1 ≤ j ∧ j ≤ 3) ∨ (9 ≤ j ∧ j ≤ 14) ∨ j = 19 ∨ (21 ≤ j ∧ j < 61) ∨ (61 ≤ j ∧ j < 85 ∧ (j - 61) % 4 = 0) ∨ (85 ≤ j ∧ j < 109) ∨ (109 ≤ j ∧ j < 909 ∧ (j - 109) % 4 < 2) ∨ 2509 ≤ j
/-- what every stage of an hour keeps -/
def Sg (g g' : gT) : Prop := (∀ j, j = 0 ∨ kpI j → g' j = g j) ∧ (LK g → LK g')
theorem Sg.rf {g : gT} : Sg g g := ⟨fun _ _ => rfl, id⟩
theorem Sg.tr {g g' g2 : gT} (h : Sg g g') (h2 : Sg g' g2) : Sg g g2 := ⟨fun j q => (h2.1 j q).trans (h.1 j q), fun q => h2.2 (h.2 q)⟩
theorem Sg.up {g : gT} {k : Nat} {v : Int32} (h0 : k ≠ 0) (h1 : ¬ kpI k) (h2 : k ≠ 15) : Sg g (va_up g k v) := by
  refine ⟨fun j q => va_up_ne _ _ (fun e => ?_), fun ⟨n, hn, e⟩ => ⟨n, hn, (va_up_ne _ _ (fun q => h2 q.symm)).trans e⟩⟩
  subst e
  rcases q with q | q
  · exact h0 q
  · exact h1 q
theorem Sg.ite {g a b : gT} {c : Prop} [Decidable c] (ha : Sg g a) (hb : Sg g b) : Sg g (if c then a else b) := by split <;> assumption
theorem Sg.tup {g g' : gT} {k : Nat} {v : Int32} (h : Sg g g') (h0 : k ≠ 0) (h1 : ¬ kpI k) (h2 : k ≠ 15) : Sg g (va_up g' k v) := h.tr (Sg.up h0 h1 h2)
theorem logG_Sg {g : gT} {a b c : Int32} {n : Nat} (hn : n < 400) : Sg g (logG g a b c n) := by
  refine ⟨fun j q => ?_, fun _ => ⟨n + 1, by omega, va_up_self _ _ _⟩⟩
  unfold logG
  have : j = 0 ∨ (j < 909 ∧ j ≠ 15) ∨ 2509 ≤ j := by
    rcases q with q | q
    · exact Or.inl q
    · refine Or.inr ?_; unfold kpI at q; omega
  rw [va_up_ne _ _ (by omega), va_up_ne _ _ (by omega), va_up_ne _ _ (by omega), va_up_ne _ _ (by omega), va_up_ne _ _ (by omega)]
theorem logP_Sg {g : gT} {a b c : Int32} : Sg g (logP g a b c) := by
  unfold logP
  split
  · next h => exact logG_Sg h
  · exact Sg.rf
theorem lamp3_Sg {g : gT} {d t : Int32} : Sg g (lamp3 g d t) := by
  unfold lamp3
  exact ((Sg.up (by decide) (by unfold kpI; omega) (by decide)).tup (by decide) (by unfold kpI; omega) (by decide)).tup (by decide) (by unfold kpI; omega) (by decide)
theorem lampG_Sg {g : gT} {d t : Int32} {h : Nat} : Sg g (lampG g d t h) := by
  unfold lampG
  exact Sg.ite ((lamp3_Sg.tup (by decide) (by unfold kpI; omega) (by decide)).tup (by decide) (by unfold kpI; omega) (by decide)) lamp3_Sg
theorem tireG_Sg {g : gT} {who w : Int32} {n : Nat} (hn : n ≤ 6) : Sg g (tireG g who w n) := by
  refine ⟨fun j q => ?_, fun ⟨m, hm, e⟩ => ⟨m, hm, ?_⟩⟩
  · unfold tireG
    rw [if_neg]
    intro h
    rcases q with q | q
    · omega
    · unfold kpI at q; omega
  · unfold tireG
    rw [if_neg (by omega)]
    exact e
/-- ships of an hour -/
def fateP (k l w : Int32) : Int32 := if l = 0 then 0 else if l = 1 ∧ ((k = 3 ∨ k = 4) ∨ w ≠ 2) then 1 else 2
def shF (d t w : Int32) (g : gT) (s : Nat) : Int32 := fateP (g (109 + 4 * s)) (lacksG (g (109 + 4 * s)) d (bi (g 6 = 1)) t w) w
def shU (d t w : Int32) (g : gT) (s : Nat) : gT := va_up (va_up g (109 + 4 * s + 2) (shF d t w g s)) (109 + 4 * s + 3) (g 6 + (if t = 0 then 0 else 2))
def shS (d t w who : Int32) (g : gT) (s : Nat) : gT := if who < 0 then shU d t w g s else logP (shU d t w g s) (4 + shF d t w g s) (nI s) who
def shN (g : gT) (h : Int32) (ns : Nat) (d t w who : Int32) (i : Nat) : gT := ((rk g h ns).take i).foldl (shS d t w who) g
abbrev shAll (g : gT) (h : Int32) (ns : Nat) (d t w who : Int32) : gT := (rk g h ns).foldl (shS d t w who) g
theorem shU_Sg {d t w : Int32} {g : gT} {s : Nat} (hs : s < 200) : Sg g (shU d t w g s) :=
  (Sg.up (by omega) (by unfold kpI; omega) (by omega)).tup (by omega) (by unfold kpI; omega) (by omega)
theorem shS_Sg {d t w who : Int32} {g : gT} {s : Nat} (hs : s < 200) : Sg g (shS d t w who g s) :=
  Sg.ite (shU_Sg hs) ((shU_Sg hs).tr logP_Sg)
theorem rkK_mem {g : gT} {h k : Int32} {n s : Nat} (q : s ∈ rkK g h k n) : s < n := by
  unfold rkK at q
  exact List.mem_range.mp (List.mem_filter.mp q).1
theorem rkT_mem {g : gT} {h : Int32} {n s : Nat} : ∀ t, s ∈ rkT g h n t → s < n
  | 0, q => absurd q (List.not_mem_nil)
  | t + 1, q => by
    rcases List.mem_append.mp q with q | q
    · exact rkT_mem t q
    · exact rkK_mem q
theorem fold_Sg {d t w who : Int32} : ∀ (l : List Nat) (g : gT), (∀ s ∈ l, s < 200) → Sg g (l.foldl (shS d t w who) g)
  | [], _, _ => Sg.rf
  | s :: l, g, h => (shS_Sg (h s (List.mem_cons_self))).tr (fold_Sg l _ (fun x hx => h x (List.mem_cons_of_mem _ hx)))
theorem shN_Sg {g : gT} {h : Int32} {ns : Nat} {d t w who : Int32} {i : Nat} (hn : ns ≤ 200) : Sg g (shN g h ns d t w who i) :=
  fold_Sg _ _ (fun s hs => Nat.lt_of_lt_of_le (rkT_mem 5 (List.mem_of_mem_take hs)) hn)
theorem shAll_Sg {g : gT} {h : Int32} {ns : Nat} {d t w who : Int32} (hn : ns ≤ 200) : Sg g (shAll g h ns d t w who) :=
  fold_Sg _ _ (fun s hs => Nat.lt_of_lt_of_le (rkT_mem 5 hs) hn)
theorem shN_0 {g : gT} {h : Int32} {ns : Nat} {d t w who : Int32} : shN g h ns d t w who 0 = g := rfl
theorem shN_s {g : gT} {h : Int32} {ns : Nat} {d t w who : Int32} {i s : Nat} (hi : (rk g h ns)[i]? = some s) : shN g h ns d t w who (i + 1) = shS d t w who (shN g h ns d t w who i) s := by
  unfold shN
  rw [List.take_add_one, hi, List.foldl_append]
  rfl
theorem shN_all {g : gT} {h : Int32} {ns : Nat} {d t w who : Int32} {i : Nat} (hi : (rk g h ns)[i]? = none) : shN g h ns d t w who i = shAll g h ns d t w who := by
  unfold shN
  rw [List.take_of_length_le (List.getElem?_eq_none_iff.mp hi)]
theorem rkK_cg {g g' : gT} {h k : Int32} {n : Nat} (q : ∀ s, s < n → g' (109 + 4 * s + 1) = g (109 + 4 * s + 1) ∧ g' (109 + 4 * s) = g (109 + 4 * s)) : rkK g' h k n = rkK g h k n := by
  unfold rkK
  refine List.filter_congr (fun s hs => ?_)
  have := q s (List.mem_range.mp hs)
  rw [this.1, this.2]
theorem rkT_cg {g g' : gT} {h : Int32} {n : Nat} (q : ∀ s, s < n → g' (109 + 4 * s + 1) = g (109 + 4 * s + 1) ∧ g' (109 + 4 * s) = g (109 + 4 * s)) : ∀ t, rkT g' h n t = rkT g h n t
  | 0 => rfl
  | t + 1 => by
    unfold rkT
    rw [rkT_cg q t, rkK_cg q]
theorem rkA_cg {g g' : gT} {h : Int32} {n i : Nat} (q : ∀ s, s < n → g' (109 + 4 * s + 1) = g (109 + 4 * s + 1) ∧ g' (109 + 4 * s) = g (109 + 4 * s)) : rkA g' h n i = rkA g h n i := by
  unfold rkA rk
  rw [rkT_cg q]
theorem Sg.ship {g g' : gT} {n : Nat} (h : Sg g g') (hn : n ≤ 200) : ∀ s, s < n → g' (109 + 4 * s + 1) = g (109 + 4 * s + 1) ∧ g' (109 + 4 * s) = g (109 + 4 * s) :=
  fun s hs => ⟨h.1 _ (Or.inr (by unfold kpI; omega)), h.1 _ (Or.inr (by unfold kpI; omega))⟩
theorem rkA_pos {g : gT} {h : Int32} {n i : Nat} (hn : n ≤ 200) (c : ¬ rkA g h n i < 0) : ∃ s, s < n ∧ (rk g h n)[i]? = some s ∧ rkA g h n i = nI s := by
  unfold rkA at c ⊢
  cases e : (rk g h n)[i]? with
  | none => rw [e] at c; exact absurd (by decide) c
  | some s => exact ⟨s, rkT_mem 5 (List.mem_of_getElem? e), rfl, rfl⟩
theorem rkA_neg {g : gT} {h : Int32} {n i : Nat} (hn : n ≤ 200) (c : rkA g h n i < 0) : (rk g h n)[i]? = none := by
  unfold rkA at c
  cases e : (rk g h n)[i]? with
  | none => rfl
  | some s =>
    rw [e] at c
    have hs := rkT_mem (g := g) (h := h) 5 (List.mem_of_getElem? e)
    exact absurd ((nI_ltI (by omega) (by decide)).mp (show nI s < nI 0 from c)) (by omega)
theorem rk_lt {g : gT} {h : Int32} {n i s : Nat} (hn : n ≤ 200) (c : (rk g h n)[i]? = some s) : i < 1000 := by
  have h1 := (List.getElem?_eq_some_iff.mp c).1
  have h2 := rk_len g h n
  omega
theorem bi_n0 {c : Prop} [Decidable c] (h : ¬ bi c = 0) : c := by
  rcases Classical.em c with q | q
  · exact q
  · exact absurd (bi_0.mpr q) h
/-- the keeper of the hour: asleep, tending -/
abbrev fallP (g : gT) (p : Int32) : Prop := 0 ≤ p ∧ 12 - 3 * g (61 + 4 * nn p) ≤ g (61 + 4 * nn p + 1)
abbrev tendP (g : gT) (p : Int32) : Prop := 0 ≤ p ∧ ¬ fallP g p
def fN (c : Prop) [Decidable c] : Nat := if c then 3 else 2
theorem fN_le (c : Prop) [Decidable c] : 2 ≤ fN c ∧ fN c ≤ 3 := by unfold fN; split <;> omega
def hg1 (g : gT) (p : Int32) : gT := if p < 0 then g else va_up (va_up g (61 + 4 * nn p + fN (fallP g p)) (g (61 + 4 * nn p + fN (fallP g p)) + 1)) 20 (g 20 + bi (fallP g p))
abbrev coalP (g : gT) (w t : Int32) : Prop := w = 1 ∧ t ≠ 0 ∧ 1 ≤ g 5
def hg4 (g : gT) (d t p : Int32) : gT := if t ≠ 0 ∧ d ≠ 0 then logP g (if g 6 = 1 then 1 else 2) (-1) p else g
def hg5 (g : gT) (c p : Int32) : gT := if c ≠ 0 then logP g 3 (-1) p else g
def hg6 (g : gT) (f d p : Int32) : gT := if f ≠ 0 ∧ g (61 + 4 * nn p) = 2 ∧ d ≠ 0 then logP g 1 (-1) p else g
def whoV (p t : Int32) : Int32 := if t = 0 then -1 else p
abbrev boatP (g : gT) (h : Nat) (w d : Int32) : Prop := g 8 ≠ -1 ∧ g 8 ≤ nI h ∧ w ≠ 2 ∧ d = 0
def supG (g : gT) (h : Nat) : gT := va_up (va_up (va_up (va_up g 4 (mnI 9999 (g 4 + g 10))) 5 (mnI 9999 (g 5 + g 11))) 8 (nI h + g 9)) 18 (g 18 + 1)
def rstG (g : gT) (n : Nat) : gT := fun j => if 62 ≤ j ∧ (j - 62) % 4 = 0 ∧ (j - 62) / 4 < n then 0 else g j
def hg9 (g : gT) (h nk : Nat) (b : Int32) : gT := if b = 0 then g else rstG (supG g h) nk
abbrev plV (g : gT) (h : Nat) : Int32 := g (85 + h % 24)
abbrev dav (g : gT) (h : Nat) : Int32 := bi (dkG g h)
abbrev fav (g : gT) (h : Nat) : Int32 := bi (fallP g (plV g h))
abbrev tev (g : gT) (h : Nat) : Int32 := bi (tendP g (plV g h))
def s2 (g : gT) (h : Nat) : gT := lampG (hg1 g (plV g h)) (dav g h) (tev g h) h
abbrev coV (g : gT) (h nr : Nat) : Int32 := bi (coalP (s2 g h) (weaG g nr h) (tev g h))
def s3 (g : gT) (h nr : Nat) : gT := va_up (s2 g h) 5 (s2 g h 5 - coV g h nr)
def s4 (g : gT) (h nr : Nat) : gT := hg4 (s3 g h nr) (dav g h) (tev g h) (plV g h)
def s5 (g : gT) (h nr : Nat) : gT := hg5 (s4 g h nr) (coV g h nr) (plV g h)
def s6 (g : gT) (h nr : Nat) : gT := hg6 (s5 g h nr) (fav g h) (dav g h) (plV g h)
abbrev wh (g : gT) (h : Nat) : Int32 := whoV (plV g h) (tev g h)
def s7 (g : gT) (h nr ns : Nat) : gT := shAll (s6 g h nr) (nI h) ns (dav g h) (coV g h nr) (weaG g nr h) (wh g h)
def s8 (g : gT) (h nr nk ns : Nat) : gT := tireG (s7 g h nr ns) (wh g h) (weaG g nr h) nk
abbrev boV (g : gT) (h nr nk ns : Nat) : Int32 := bi (boatP (s8 g h nr nk ns) h (weaG g nr h) (dav g h))
def s9 (g : gT) (h nr nk ns : Nat) : gT := hg9 (s8 g h nr nk ns) h nk (boV g h nr nk ns)
def hourG (g : gT) (h nr nk ns : Nat) : gT := va_up (s9 g h nr nk ns) 0 (nI (h + 1))
/-- what the model's numbers keep to -/
def WF (g : gT) (h nr nk ns : Nat) : Prop := g 0 = nI h ∧ RunsOK g nr ∧ g 13 = nI nk ∧ nk ≤ 6 ∧ g 14 = nI ns ∧ ns ≤ 200 ∧ LK g ∧ ∀ t, t < 24 → 0 ≤ g (85 + t) → nn (g (85 + t)) < 6
theorem WF.hh {g : gT} {h nr nk ns : Nat} (w : WF g h nr nk ns) : g 0 = nI h := w.1
theorem WF.rn {g : gT} {h nr nk ns : Nat} (w : WF g h nr nk ns) : RunsOK g nr := w.2.1
theorem WF.kk {g : gT} {h nr nk ns : Nat} (w : WF g h nr nk ns) : g 13 = nI nk := w.2.2.1
theorem WF.k6 {g : gT} {h nr nk ns : Nat} (w : WF g h nr nk ns) : nk ≤ 6 := w.2.2.2.1
theorem WF.ss {g : gT} {h nr nk ns : Nat} (w : WF g h nr nk ns) : g 14 = nI ns := w.2.2.2.2.1
theorem WF.s2 {g : gT} {h nr nk ns : Nat} (w : WF g h nr nk ns) : ns ≤ 200 := w.2.2.2.2.2.1
theorem WF.lk {g : gT} {h nr nk ns : Nat} (w : WF g h nr nk ns) : LK g := w.2.2.2.2.2.2.1
theorem WF.pl {g : gT} {h nr nk ns : Nat} (w : WF g h nr nk ns) : ∀ t, t < 24 → 0 ≤ g (85 + t) → nn (g (85 + t)) < 6 := w.2.2.2.2.2.2.2
theorem WF.sg {g g' : gT} {h nr nk ns : Nat} (w : WF g h nr nk ns) (q : Sg g g') : WF g' h nr nk ns := by
  have k : ∀ j, kpI j → g' j = g j := fun j z => q.1 j (Or.inr z)
  refine ⟨(q.1 0 (Or.inl rfl)).trans w.hh, ⟨(k 12 (by unfold kpI; omega)).trans w.rn.1, w.rn.2.1, fun r hr => ?_⟩, (k 13 (by unfold kpI; omega)).trans w.kk, w.k6, (k 14 (by unfold kpI; omega)).trans w.ss, w.s2, q.2 w.lk, fun t ht => ?_⟩
  · have := w.rn.2.1
    rw [k (21 + 2 * r + 1) (by unfold kpI; omega)]
    exact w.rn.2.2 r hr
  · rw [k (85 + t) (by unfold kpI; omega)]
    exact w.pl t ht
theorem hg1_Sg {g : gT} {h nr nk ns : Nat} (w : WF g h nr nk ns) : Sg g (hg1 g (plV g h)) := by
  unfold hg1
  split
  · exact Sg.rf
  · next c =>
    have h6 := w.pl (h % 24) (by omega) (Int32.not_lt.mp c)
    have hf := fN_le (fallP g (plV g h))
    exact (Sg.up (by omega) (by unfold kpI; simp only [plV] at h6 hf ⊢; omega) (by omega)).tup (by omega) (by unfold kpI; omega) (by omega)
theorem s2_Sg {g : gT} {h nr nk ns : Nat} (w : WF g h nr nk ns) : Sg g (s2 g h) := (hg1_Sg w).tr lampG_Sg
theorem s3_Sg {g : gT} {h nr nk ns : Nat} (w : WF g h nr nk ns) : Sg g (s3 g h nr) := (s2_Sg w).tup (by omega) (by unfold kpI; omega) (by omega)
theorem s4_Sg {g : gT} {h nr nk ns : Nat} (w : WF g h nr nk ns) : Sg g (s4 g h nr) := by
  unfold s4 hg4
  exact Sg.ite ((s3_Sg w).tr logP_Sg) (s3_Sg w)
theorem s5_Sg {g : gT} {h nr nk ns : Nat} (w : WF g h nr nk ns) : Sg g (s5 g h nr) := by
  unfold s5 hg5
  exact Sg.ite ((s4_Sg w).tr logP_Sg) (s4_Sg w)
theorem s6_Sg {g : gT} {h nr nk ns : Nat} (w : WF g h nr nk ns) : Sg g (s6 g h nr) := by
  unfold s6 hg6
  exact Sg.ite ((s5_Sg w).tr logP_Sg) (s5_Sg w)
theorem s7_Sg {g : gT} {h nr nk ns : Nat} (w : WF g h nr nk ns) : Sg g (s7 g h nr ns) := (s6_Sg w).tr (shAll_Sg w.s2)
theorem s8_Sg {g : gT} {h nr nk ns : Nat} (w : WF g h nr nk ns) : Sg g (s8 g h nr nk ns) := (s7_Sg w).tr (tireG_Sg w.k6)
theorem rstG_Sg {g : gT} {n : Nat} (hn : n ≤ 6) : Sg g (rstG g n) := by
  refine ⟨fun j q => ?_, fun ⟨m, hm, e⟩ => ⟨m, hm, ?_⟩⟩
  · unfold rstG
    rw [if_neg]
    intro h
    rcases q with q | q
    · omega
    · unfold kpI at q; omega
  · unfold rstG
    rw [if_neg (by omega)]
    exact e
theorem supG_Sg {g : gT} {h : Nat} : Sg g (supG g h) :=
  (((Sg.up (by decide) (by unfold kpI; omega) (by decide)).tup (by decide) (by unfold kpI; omega) (by decide)).tup (by decide) (by unfold kpI; omega) (by decide)).tup (by decide) (by unfold kpI; omega) (by decide)
theorem s9_Sg {g : gT} {h nr nk ns : Nat} (w : WF g h nr nk ns) : Sg g (s9 g h nr nk ns) := by
  unfold s9 hg9
  exact Sg.ite (s8_Sg w) (((s8_Sg w).tr supG_Sg).tr (rstG_Sg w.k6))
theorem WF.up0 {g : gT} {h nr nk ns : Nat} (w : WF g h nr nk ns) (h' : Nat) : WF (va_up g 0 (nI h')) h' nr nk ns := by
  have k : ∀ j, j ≠ 0 → va_up g 0 (nI h') j = g j := fun j z => va_up_ne _ _ z
  refine ⟨va_up_self _ _ _, ⟨(k 12 (by omega)).trans w.rn.1, w.rn.2.1, fun r hr => ?_⟩, (k 13 (by omega)).trans w.kk, w.k6, (k 14 (by omega)).trans w.ss, w.s2, ?_, fun t ht => ?_⟩
  · rw [k (21 + 2 * r + 1) (by omega)]
    exact w.rn.2.2 r hr
  · obtain ⟨n, hn, e⟩ := w.lk
    exact ⟨n, hn, (k 15 (by omega)).trans e⟩
  · rw [k (85 + t) (by omega)]
    exact w.pl t ht
theorem hourG_WF {g : gT} {h nr nk ns : Nat} (w : WF g h nr nk ns) : WF (hourG g h nr nk ns) (h + 1) nr nk ns := (w.sg (s9_Sg w)).up0 (h + 1)
theorem rst_0 (g : gT) : rstG g 0 = g := by funext j; simp [rstG]
theorem rst_s (g : gT) (n : Nat) : va_up (rstG g n) (61 + 4 * n + 1) 0 = rstG g (n + 1) := by
  funext j
  simp only [rstG, va_up]
  by_cases h : j = 61 + 4 * n + 1
  · subst h
    have e1 : (61 + 4 * n + 1 - 62) % 4 = 0 := by omega
    have e2 : (61 + 4 * n + 1 - 62) / 4 = n := by omega
    rw [if_pos rfl, if_pos ⟨by omega, e1, by omega⟩]
  · rw [if_neg h]
    by_cases h2 : 62 ≤ j ∧ (j - 62) % 4 = 0 ∧ (j - 62) / 4 < n
    · rw [if_pos h2, if_pos ⟨h2.1, h2.2.1, by omega⟩]
    · rw [if_neg h2, if_neg (fun q => h2 ⟨q.1, q.2.1, by omega⟩)]
/-- the memory after an hour -/
def hrM (M : kM) (m a : Nat) (g : gT) (b d t : Int32) : kM := sI (sI (sI (sA M a g) (fc 9 7) m b) (fc 9 5) m d) (fc 9 6) m t
theorem mA_sI_sA {M : kM} {a c b : Nat} {f : gT} {v : Int32} : mA (sI (sA M a f) c b v) a = f := mA_sA
theorem sA_sI_sA {M : kM} {a c b : Nat} {f h : gT} {v : Int32} : sA (sI (sA M a f) c b v) a h = sI (sA M a h) c b v := by rw [sA_sI, sA_sA]
theorem mA_sI3_sA {M : kM} {a c b c2 b2 c3 b3 : Nat} {f : gT} {v v2 v3 : Int32} : mA (sI (sI (sI (sA M a f) c b v) c2 b2 v2) c3 b3 v3) a = f := mA_sA
theorem sA_sI3_sA {M : kM} {a c b c2 b2 c3 b3 : Nat} {f h : gT} {v v2 v3 : Int32} : sA (sI (sI (sI (sA M a f) c b v) c2 b2 v2) c3 b3 v3) a h = sI (sI (sI (sA M a h) c b v) c2 b2 v2) c3 b3 v3 := by rw [sA_sI, sA_sI, sA_sI, sA_sA]
theorem hg4_a {g : gT} {d t p : Int32} (c : t = 0) : hg4 g d t p = g := if_neg (fun q => q.1 c)
theorem hg4_b {g : gT} {d t p : Int32} (c : d = 0) : hg4 g d t p = g := if_neg (fun q => q.2 c)
theorem hg4_c {g : gT} {d t p : Int32} (c : ¬ t = 0) (c2 : ¬ d = 0) : hg4 g d t p = logP g (if g 6 = 1 then 1 else 2) (-1) p := if_pos ⟨c, c2⟩
theorem hg5_a {g : gT} {t p : Int32} (c : t = 0) : hg5 g t p = g := if_neg (fun q => q c)
theorem hg5_b {g : gT} {t p : Int32} (c : ¬ t = 0) : hg5 g t p = logP g 3 (-1) p := if_pos c
theorem hg6_a {g : gT} {f d p : Int32} (c : f = 0) : hg6 g f d p = g := if_neg (fun q => q.1 c)
theorem hg6_b {g : gT} {f d p : Int32} (c : ¬ g (61 + 4 * nn p) = 2) : hg6 g f d p = g := if_neg (fun q => c q.2.1)
theorem hg6_c {g : gT} {f d p : Int32} (c : d = 0) : hg6 g f d p = g := if_neg (fun q => q.2.2 c)
theorem hg6_d {g : gT} {f d p : Int32} (c : ¬ f = 0) (c2 : g (61 + 4 * nn p) = 2) (c3 : ¬ d = 0) : hg6 g f d p = logP g 1 (-1) p := if_pos ⟨c, c2, c3⟩
theorem hg9_a {g : gT} {h nk : Nat} {b : Int32} (c : b = 0) : hg9 g h nk b = g := if_pos c
theorem hg9_b {g : gT} {h nk : Nat} {b : Int32} (c : ¬ b = 0) : hg9 g h nk b = rstG (supG g h) nk := if_neg c
theorem hg1_a {g : gT} {p : Int32} (c : p < 0) : hg1 g p = g := if_pos c
theorem hg1_b {g : gT} {p : Int32} (c : ¬ p < 0) : hg1 g p = va_up (va_up g (61 + 4 * nn p + fN (fallP g p)) (g (61 + 4 * nn p + fN (fallP g p)) + 1)) 20 (g 20 + bi (fallP g p)) := if_neg c
theorem fall_eq {a x y : Int32} : (if a < 0 then (0 : Int32) else if x < y then 0 else 1) = bi (0 ≤ a ∧ y ≤ x) := by
  unfold bi
  by_cases h : a < 0
  · rw [if_pos h, if_neg (fun q => absurd h (Int32.not_lt.mpr q.1))]
  · rw [if_neg h]
    by_cases h2 : x < y
    · rw [if_pos h2, if_neg (fun q => absurd h2 (Int32.not_lt.mpr q.2))]
    · rw [if_neg h2, if_pos ⟨Int32.not_lt.mp h, Int32.not_lt.mp h2⟩]
theorem tend_eq {a : Int32} {c : Prop} [Decidable c] : (if a < 0 then (0 : Int32) else if bi c = 0 then 1 else 0) = bi (0 ≤ a ∧ ¬ c) := by
  by_cases h : a < 0
  · rw [if_pos h]
    exact (bi_0.mpr (fun q => absurd h (Int32.not_lt.mpr q.1))).symm
  · rw [if_neg h]
    by_cases h2 : bi c = 0
    · rw [if_pos h2]
      unfold bi at h2 ⊢
      rw [if_pos ⟨Int32.not_lt.mp h, bi_0.mp h2⟩]
    · rw [if_neg h2]
      exact (bi_0.mpr (fun q => h2 (bi_0.mpr q.2))).symm
theorem fN_eq {c : Prop} [Decidable c] : (if bi c = 0 then (2 : Int32) else 3) = nI (fN c) := by
  unfold fN
  by_cases h : c
  · rw [if_neg (fun q => bi_0.mp q h), if_pos h]; rfl
  · rw [if_pos (bi_0.mpr h), if_neg h]; rfl
theorem coal_eq {w t x : Int32} : (if w = 1 then (if t = 0 then (0 : Int32) else if x < 1 then 0 else 1) else 0) = bi (w = 1 ∧ t ≠ 0 ∧ 1 ≤ x) := by
  unfold bi
  by_cases h : w = 1
  · rw [if_pos h]
    by_cases h2 : t = 0
    · rw [if_pos h2, if_neg (fun q => q.2.1 h2)]
    · rw [if_neg h2]
      by_cases h3 : x < 1
      · rw [if_pos h3, if_neg (fun q => absurd h3 (Int32.not_lt.mpr q.2.2))]
      · rw [if_neg h3, if_pos ⟨h, h2, Int32.not_lt.mp h3⟩]
  · rw [if_neg h, if_neg (fun q => h q.1)]
theorem boat_eq {a h w d : Int32} : (if a = -1 then (0 : Int32) else if h < a then 0 else if w = 2 then 0 else if d = 0 then 1 else 0) = bi (a ≠ -1 ∧ a ≤ h ∧ w ≠ 2 ∧ d = 0) := by
  unfold bi
  by_cases h1 : a = -1
  · rw [if_pos h1, if_neg (fun q => q.1 h1)]
  · rw [if_neg h1]
    by_cases h2 : h < a
    · rw [if_pos h2, if_neg (fun q => absurd h2 (Int32.not_lt.mpr q.2.1))]
    · rw [if_neg h2]
      by_cases h3 : w = 2
      · rw [if_pos h3, if_neg (fun q => q.2.2.1 h3)]
      · rw [if_neg h3]
        by_cases h4 : d = 0
        · rw [if_pos h4, if_pos ⟨h1, Int32.not_lt.mp h2, h3, h4⟩]
        · rw [if_neg h4, if_neg (fun q => h4 q.2.2.2)]
/-! facts carried over the setters, by lemmas (the kernel must not compare memories) -/
theorem mK_A {M : kM} {b v : Nat} {a : Nat} {f : Nat → Int32} (h : mK M b = some v) : mK (sA M a f) b = some v := h
theorem mK_I {M : kM} {b v : Nat} {c2 a : Nat} {x : Int32} (h : mK M b = some v) : mK (sI M c2 a x) b = some v := h
theorem mK_L {M : kM} {b v : Nat} {a : Nat} {f : Nat → Int64} (h : mK M b = some v) : mK (sL M a f) b = some v := h
theorem mK_O {M : kM} {b v : Nat} {a : Nat} {f : Nat → Option Nat} (h : mK M b = some v) : mK (sO M a f) b = some v := h
theorem mK_R {M : kM} {b v : Nat} {c2 a : Nat} {x : Option Nat} (h : mK M b = some v) : mK (sR M c2 a x) b = some v := h
theorem mN_A {M : kM} {b v : Nat} {a : Nat} {f : Nat → Int32} (h : mN M b = v) : mN (sA M a f) b = v := h
theorem mN_I {M : kM} {b v : Nat} {c2 a : Nat} {x : Int32} (h : mN M b = v) : mN (sI M c2 a x) b = v := h
theorem mN_L {M : kM} {b v : Nat} {a : Nat} {f : Nat → Int64} (h : mN M b = v) : mN (sL M a f) b = v := h
theorem mN_O {M : kM} {b v : Nat} {a : Nat} {f : Nat → Option Nat} (h : mN M b = v) : mN (sO M a f) b = v := h
theorem mN_R {M : kM} {b v : Nat} {c2 a : Nat} {x : Option Nat} (h : mN M b = v) : mN (sR M c2 a x) b = v := h
theorem mR_A {M : kM} {c b : Nat} {v : Option Nat} {a : Nat} {f : Nat → Int32} (h : mR M c b = v) : mR (sA M a f) c b = v := h
theorem mR_I {M : kM} {c b : Nat} {v : Option Nat} {c2 a : Nat} {x : Int32} (h : mR M c b = v) : mR (sI M c2 a x) c b = v := h
theorem mR_L {M : kM} {c b : Nat} {v : Option Nat} {a : Nat} {f : Nat → Int64} (h : mR M c b = v) : mR (sL M a f) c b = v := h
theorem mR_O {M : kM} {c b : Nat} {v : Option Nat} {a : Nat} {f : Nat → Option Nat} (h : mR M c b = v) : mR (sO M a f) c b = v := h
theorem kE_A {M N : kM} {a : Nat} {f : Nat → Int32} (h : kE M N) : kE M (sA N a f) := h
theorem kE_I {M N : kM} {c2 a : Nat} {x : Int32} (h : kE M N) : kE M (sI N c2 a x) := h
theorem kE_L {M N : kM} {a : Nat} {f : Nat → Int64} (h : kE M N) : kE M (sL N a f) := h
theorem kE_O {M N : kM} {a : Nat} {f : Nat → Option Nat} (h : kE M N) : kE M (sO N a f) := h
theorem kE_R {M N : kM} {c2 a : Nat} {x : Option Nat} (h : kE M N) : kE M (sR N c2 a x) := h
/-- many hours -/
def hrsG (g : gT) (h nr nk ns : Nat) : Nat → gT
  | 0 => g
  | n + 1 => hourG (hrsG g h nr nk ns n) (h + n) nr nk ns
theorem hrs_WF {g : gT} {h nr nk ns : Nat} (w : WF g h nr nk ns) : ∀ n, WF (hrsG g h nr nk ns n) (h + n) nr nk ns
  | 0 => w
  | n + 1 => hourG_WF (hrs_WF w n)
theorem hour_keep {g : gT} {h nr nk ns : Nat} (w : WF g h nr nk ns) {j : Nat} (hj : kpI j) (h0 : j ≠ 0) : hourG g h nr nk ns j = g j := by
  unfold hourG
  rw [va_up_ne _ _ h0]
  exact (s9_Sg w).1 j (Or.inr hj)
theorem hrs_keep {g : gT} {h nr nk ns : Nat} (w : WF g h nr nk ns) {j : Nat} (hj : kpI j) (h0 : j ≠ 0) : ∀ n, hrsG g h nr nk ns n j = g j
  | 0 => rfl
  | n + 1 => (hour_keep (hrs_WF w n) hj h0).trans (hrs_keep w hj h0 n)
theorem cpy_back {g X g' : gT} (h : ∀ j, 2509 ≤ j → g' j = g j) : cpy (cpy g X 2509) g' 2509 = g := by
  funext j
  unfold cpy
  by_cases q : j < 2509
  · rw [if_pos q, if_pos q]
  · rw [if_neg q]; exact h j (by omega)
theorem hrs_back {g X : gT} {h nr nk ns : Nat} (w : WF g h nr nk ns) (n : Nat) : cpy (cpy g X 2509) (hrsG g h nr nk ns n) 2509 = g :=
  cpy_back (fun j hj => hrs_keep w (by unfold kpI; omega) (by omega) n)
def unlG (g : gT) (h nr nk ns n : Nat) : Int32 := hrsG g h nr nk ns n 16 - g 16
