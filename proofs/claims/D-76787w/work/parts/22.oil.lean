/-! ===== the least oil ===== -/
set_option maxRecDepth 100000
def arrN (f : Nat → Int32) (b : gT) (n : Nat) : gT := fun j => if j < n then f j else b j
theorem arrN_0 (f : Nat → Int32) (b : gT) : arrN f b 0 = b := by funext j; unfold arrN; rw [if_neg (by omega)]
theorem arrN_s (f : Nat → Int32) (b : gT) (n : Nat) : va_up (arrN f b n) n (f n) = arrN f b (n + 1) := by
  funext j
  simp only [arrN, va_up]
  by_cases h : j = n
  · subst h
    rw [if_pos rfl, if_pos (by omega)]
  · rw [if_neg h]
    by_cases h2 : j < n
    · rw [if_pos h2, if_pos (by omega)]
    · rw [if_neg h2, if_neg (by omega)]
theorem arrN_at {f : Nat → Int32} {b : gT} {n j : Nat} (h : j < n) : arrN f b n j = f j := if_pos h
theorem ubT_cg {g d t b d' t' b' : gT} {o : Int32} {n : Nat} (q : ∀ j, j < n → d j = d' j ∧ t j = t' j ∧ b j = b' j) : ∀ i, i ≤ n → ubT g d t b o i = ubT g d' t' b' o i
  | 0, _ => rfl
  | i + 1, h => by
    have e := ubT_cg (g := g) (o := o) q i (by omega)
    have w := q i (by omega)
    unfold ubT ubO ubL
    rw [e, w.1, w.2.1, w.2.2]
def dF (g : gT) (h nr nk ns : Nat) (j : Nat) : Int32 := dav (hrsG g h nr nk ns j) (h + j)
def tF (g : gT) (h nr nk ns : Nat) (j : Nat) : Int32 := tev (hrsG g h nr nk ns j) (h + j)
def bF (g : gT) (h nr nk ns : Nat) (j : Nat) : Int32 := boV (hrsG g h nr nk ns j) (h + j) nr nk ns
/-- hours unlit of n, with that much oil at first -/
def ublG (g : gT) (h nr nk ns n : Nat) (o : Int32) : Int32 := ubG g (dF g h nr nk ns) (tF g h nr nk ns) (bF g h nr nk ns) o n
theorem ublG_eq {g x y z : gT} {h nr nk ns n : Nat} {o : Int32} : ubG g (arrN (dF g h nr nk ns) x n) (arrN (tF g h nr nk ns) y n) (arrN (bF g h nr nk ns) z n) o n = ublG g h nr nk ns n o := by
  unfold ublG ubG
  rw [ubT_cg (fun j hj => ⟨arrN_at hj, arrN_at hj, arrN_at hj⟩) n (Nat.le_refl _)]
def oilF (p : Nat → Int32) (best : Int32) : Nat → Nat → Int32
  | 0, i => nI i
  | f + 1, i => if p i ≤ best then nI i else oilF p best f (i + 1)
def oilG (g : gT) (h nr nk ns n : Nat) : Int32 := oilF (fun o => ublG g h nr nk ns n (nI o)) (ublG g h nr nk ns n 9999) 9999 0
theorem oilF_s {p : Nat → Int32} {best : Int32} {i : Nat} {z : Int32} (q : oilF p best (9999 - i) i = z) (hi : i ≤ 9999) (c : ¬ p i ≤ best) (he : p 9999 ≤ best) : i < 9999 ∧ oilF p best (9999 - (i + 1)) (i + 1) = z := by
  have h9 : i < 9999 := by
    rcases Nat.lt_or_ge i 9999 with w | w
    · exact w
    · exact absurd (show p i ≤ best by rw [show i = 9999 by omega]; exact he) c
  refine ⟨h9, ?_⟩
  rw [show 9999 - i = (9999 - (i + 1)) + 1 by omega] at q
  unfold oilF at q
  rw [if_neg c] at q
  exact q
theorem oilF_e {p : Nat → Int32} {best : Int32} {i : Nat} {z : Int32} (q : oilF p best (9999 - i) i = z) (c : p i ≤ best) : nI i = z := by
  cases e : 9999 - i with
  | zero => rw [e] at q; exact q
  | succ f =>
    rw [e] at q
    unfold oilF at q
    rw [if_pos c] at q
    exact q
def ofl (i x y z : gT) : Nat → gT := fun k => if k = 10 then x else if k = 11 then y else if k = 12 then z else i
/-- the three rows of thought hours -/
def sa3 (sa : Nat → gT) (x y z : gT) : Nat → gT := va_up (va_up (va_up sa 10 x) 11 y) 12 z
theorem sa3_10 (sa : Nat → gT) (x y z : gT) : sa3 sa x y z 10 = x := by unfold sa3; rw [va_up_ne _ _ (by decide), va_up_ne _ _ (by decide), va_up_self]
theorem sa3_11 (sa : Nat → gT) (x y z : gT) : sa3 sa x y z 11 = y := by unfold sa3; rw [va_up_ne _ _ (by decide), va_up_self]
theorem sa3_12 (sa : Nat → gT) (x y z : gT) : sa3 sa x y z 12 = z := by unfold sa3; rw [va_up_self]
theorem sa3_1 (sa : Nat → gT) (x y z : gT) : sa3 sa x y z 1 = sa 1 := by unfold sa3; rw [va_up_ne _ _ (by decide), va_up_ne _ _ (by decide), va_up_ne _ _ (by decide)]
theorem up_cm {α : Type} (f : Nat → α) {i j : Nat} (h : i ≠ j) (x y : α) : va_up (va_up f i x) j y = va_up (va_up f j y) i x := by
  funext k
  simp only [va_up]
  by_cases h1 : k = i
  · subst h1
    rw [if_neg h, if_pos rfl, if_pos rfl]
  · simp only [h1, if_false]
theorem sa3_u10 (sa : Nat → gT) (x y z w : gT) : va_up (sa3 sa x y z) 10 w = sa3 sa w y z := by
  unfold sa3
  rw [up_cm _ (by decide), up_cm (va_up sa 10 x) (by decide) y w, up_up]
theorem sa3_u11 (sa : Nat → gT) (x y z w : gT) : va_up (sa3 sa x y z) 11 w = sa3 sa x w z := by
  unfold sa3
  rw [up_cm _ (by decide), up_up]
theorem sa3_u12 (sa : Nat → gT) (x y z w : gT) : va_up (sa3 sa x y z) 12 w = sa3 sa x y w := by
  unfold sa3
  rw [up_up]
theorem sa3_eta (sa : Nat → gT) : sa3 sa (sa 10) (sa 11) (sa 12) = sa := by
  unfold sa3
  rw [up_eta, up_eta, up_eta]
