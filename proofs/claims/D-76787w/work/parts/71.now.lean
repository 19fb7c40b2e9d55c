/-! ===== the log, the ships ===== -/
/-- how large the log's array has become, with n in it -/
def lcp (c0 : Nat) : Nat → Nat
  | 0 => c0
  | n + 1 => if n < lcp c0 n then lcp c0 n else nc (lcp c0 n)
/-- what writing took -/
def lgc (c0 : Nat) : Nat → Nat
  | 0 => 0
  | n + 1 => lgc c0 n + (1 + (if n < lcp c0 n then 0 else 1))
def lgs (c0 : Nat) : Nat → Nat
  | 0 => 0
  | n + 1 => lgs c0 n + (4 + (if n < lcp c0 n then 0 else nc (lcp c0 n)))
def lnx (n : Nat) : Nat := if n < 400 then n + 1 else n
theorem lnx_le {n : Nat} : n ≤ lnx n := by unfold lnx; split <;> omega
theorem lnx_4 {n : Nat} (h : n ≤ 400) : lnx n ≤ 400 := by unfold lnx; split <;> omega
theorem lgc_up {c0 n m : Nat} (h : n ≤ m) : lgc c0 n ≤ lgc c0 m := by
  induction m with
  | zero => rw [show n = 0 by omega]; exact Nat.le_refl _
  | succ m ih =>
    by_cases e : n = m + 1
    · rw [e]; exact Nat.le_refl _
    · have := ih (by omega)
      show lgc c0 n ≤ lgc c0 m + _
      omega
theorem lgs_up {c0 n m : Nat} (h : n ≤ m) : lgs c0 n ≤ lgs c0 m := by
  induction m with
  | zero => rw [show n = 0 by omega]; exact Nat.le_refl _
  | succ m ih =>
    by_cases e : n = m + 1
    · rw [e]; exact Nat.le_refl _
    · have := ih (by omega)
      show lgs c0 n ≤ lgs c0 m + _
      omega
theorem lcp_CP {c0 n : Nat} (h : CP c0) (hn : n ≤ 400) : CP (lcp c0 n) ∧ lgc c0 n ≤ n + (lcp c0 n - c0) ∧ lgs c0 n ≤ 4 * n + 4 * (lcp c0 n - c0) ∧ c0 ≤ lcp c0 n := by
  induction n with
  | zero => exact ⟨h, Nat.zero_le _, Nat.zero_le _, Nat.le_refl _⟩
  | succ n ih =>
    obtain ⟨i1, i2, i3, i4⟩ := ih (by omega)
    show CP (if n < lcp c0 n then lcp c0 n else nc (lcp c0 n)) ∧ lgc c0 n + (1 + (if n < lcp c0 n then 0 else 1)) ≤ n + 1 + ((if n < lcp c0 n then lcp c0 n else nc (lcp c0 n)) - c0) ∧ lgs c0 n + (4 + (if n < lcp c0 n then 0 else nc (lcp c0 n))) ≤ 4 * (n + 1) + 4 * ((if n < lcp c0 n then lcp c0 n else nc (lcp c0 n)) - c0) ∧ c0 ≤ (if n < lcp c0 n then lcp c0 n else nc (lcp c0 n))
    by_cases e : n < lcp c0 n
    · rw [if_pos e, if_pos e, if_pos e]; exact ⟨i1, by omega, by omega, i4⟩
    · rw [if_neg e, if_neg e, if_neg e]
      have u := CP_up i1
      have v := i1.2
      refine ⟨CP_nc i1 (by omega), by omega, ?_, by omega⟩
      rcases v with v | v
      · rw [u.2.1 v]; omega
      · rw [u.2.2 (by omega)]; omega
/-- what any writing takes -/
theorem lg_all {c0 n m : Nat} (h : CP c0) (hm : m ≤ 400) : lgc c0 m - lgc c0 n ≤ 1300 ∧ lgs c0 m - lgs c0 n ≤ 5200 := by
  have a := lcp_CP h hm
  have b := a.1.1
  omega
def LB (G : kG) (M : kM) (a ef : Nat → Nat) (g : gT) (nl : Nat) : Prop := AL G M (a 5) nl (lcp (a 43) nl) ef ∧ CP (a 43) ∧ (∀ i, i < nl → ENP M (ef i) (g (909 + 4 * i)) (g (909 + 4 * i + 1)) (g (909 + 4 * i + 2)) (g (909 + 4 * i + 3))) ∧ g 15 = nI nl ∧ nl ≤ 400
def SB (M : kM) (c : Nat) (sa : Nat → Nat) (g : gT) (ns : Nat) : Prop := ∀ s, s < ns → ∃ K, SHP M (sa s) K (nI s) (g (109 + 4 * s + 1)) (g (109 + 4 * s + 2)) (g (109 + 4 * s + 3)) (c + 1) ∧ g (109 + 4 * s) = nI (skd K)
/-- what is kept apart, and apart from each other -/
def EXd (ex : Nat → Prop) (w : Nat) (a : Nat → Nat) : Prop := (ex w ∧ ex (a 0) ∧ ex (a 2) ∧ ex (a 3) ∧ ex (a 4) ∧ ex (a 5) ∧ ex (a 6)) ∧ a 5 ≠ a 0 ∧ a 5 ≠ a 2 ∧ a 5 ≠ a 6 ∧ a 2 ≠ a 0 ∧ a 2 ≠ a 6 ∧ a 0 ≠ a 6
abbrev rlG (g : gT) (ns : Nat) : Nat → List Nat := fun z => rk g (nI z) ns
/-- the world that is -/
def NB (G : kG) (M : kM) (w : Nat) (a kf sf sa ef : Nat → Nat) (T : kT) (ex : Nat → Prop) (g : gT) (nk nr ns nl : Nat) : Prop := WC G M w a kf sf g nk nr ∧ LB G M a ef g nl ∧ SB M (a 3) sa g ns ∧ CM G M (a 3) (a 32) (a 33) T sa (rlG g ns) ex ∧ AL G M (a 2) ns (a 42) sa ∧ EXd ex w a ∧ (nk ≤ 6 ∧ nr ≤ 20 ∧ ns ≤ 200)
section
variable {G : kG} {M M2 : kM} {w : Nat} {a kf sf sa ef : Nat → Nat} {T : kT} {ex S : Nat → Prop} {g g' : gT} {nk nr ns nl : Nat}
theorem LB.fr (h : LB G M a ef g nl) (hF : Fr S M M2) (h0 : ¬ S 0) (h5 : ¬ S (a 5 + 1)) : LB G M2 a ef g nl := ⟨h.1.fr hF h5, h.2.1, fun i hi => (h.2.2.1 i hi).fr hF h0, h.2.2.2⟩
theorem LB.cg (h : LB G M a ef g nl) (e : ∀ j, (j = 15 ∨ (909 ≤ j ∧ j < 2509)) → g' j = g j) : LB G M a ef g' nl := by
  obtain ⟨h1, h2, h3, h4, h5⟩ := h
  refine ⟨h1, h2, fun i hi => ?_, by rw [e 15 (Or.inl rfl)]; exact h4, h5⟩
  rw [e (909 + 4 * i) (by omega), e (909 + 4 * i + 1) (by omega), e (909 + 4 * i + 2) (by omega), e (909 + 4 * i + 3) (by omega)]
  exact h3 i hi
theorem SB.fr {c : Nat} (h : SB M c sa g ns) (hF : Fr S M M2) (hc : ¬ S (c + 1)) : SB M2 c sa g ns := fun s hs => by
  obtain ⟨K, h1, h2⟩ := h s hs
  exact ⟨K, h1.fr hF hc, h2⟩
theorem SB.cg {c : Nat} (h : SB M c sa g ns) (hn : ns ≤ 200) (e : ∀ j, 109 ≤ j → j < 909 → g' j = g j) : SB M c sa g' ns := fun s hs => by
  rw [e (109 + 4 * s) (by omega) (by omega), e (109 + 4 * s + 1) (by omega) (by omega), e (109 + 4 * s + 2) (by omega) (by omega), e (109 + 4 * s + 3) (by omega) (by omega)]
  exact h s hs
theorem SB.nm {c : Nat} (h : SB M c sa g ns) {s : Nat} (hs : s < ns) : NM M c (sa s) s (g (109 + 4 * s)) := by
  obtain ⟨K, h1, h2⟩ := h s hs
  exact ⟨K, h1.1, h1.2.1, h1.2.2.1, h1.2.2.2.1, h2⟩
theorem rlG_lt {z s : Nat} (h : s ∈ rlG g ns z) : s < ns := rkT_mem 5 h
theorem SB.nms {c : Nat} (h : SB M c sa g ns) (z : Nat) (s : Nat) (hs : s ∈ rlG g ns z) : NM M c (sa s) s ((fun s => g (109 + 4 * s)) s) := h.nm (rlG_lt hs)
theorem rlG_cg (e : ∀ s, s < ns → g' (109 + 4 * s + 1) = g (109 + 4 * s + 1) ∧ g' (109 + 4 * s) = g (109 + 4 * s)) : rlG g' ns = rlG g ns := funext fun z => rkT_cg e 5
theorem SB.sinj {c : Nat} (h : SB M c sa g ns) (hn : ns ≤ 200) {s s2 : Nat} (h1 : s < ns) (h2 : s2 < ns) (e : sa s = sa s2) : s = s2 := by
  obtain ⟨_, _, _, _, a1, _⟩ := h.nm h1
  obtain ⟨_, _, _, _, a2, _⟩ := h.nm h2
  rw [e, a2] at a1
  exact ((nI_eq (by omega) (by omega)).mp a1).symm
theorem NB.wc (h : NB G M w a kf sf sa ef T ex g nk nr ns nl) : WC G M w a kf sf g nk nr := h.1
theorem NB.l (h : NB G M w a kf sf sa ef T ex g nk nr ns nl) : LB G M a ef g nl := h.2.1
theorem NB.s (h : NB G M w a kf sf sa ef T ex g nk nr ns nl) : SB M (a 3) sa g ns := h.2.2.1
theorem NB.c (h : NB G M w a kf sf sa ef T ex g nk nr ns nl) : CM G M (a 3) (a 32) (a 33) T sa (rlG g ns) ex := h.2.2.2.1
theorem NB.sl (h : NB G M w a kf sf sa ef T ex g nk nr ns nl) : AL G M (a 2) ns (a 42) sa := h.2.2.2.2.1
theorem NB.x (h : NB G M w a kf sf sa ef T ex g nk nr ns nl) : EXd ex w a := h.2.2.2.2.2.1
theorem NB.b (h : NB G M w a kf sf sa ef T ex g nk nr ns nl) : nk ≤ 6 ∧ nr ≤ 20 ∧ ns ≤ 200 := h.2.2.2.2.2.2
theorem NB.c3 (h : NB G M w a kf sf sa ef T ex g nk nr ns nl) : mK M (a 3) = some 2 := h.c.1.1
theorem nk_ne {x y K L : Nat} (hx : mK M x = some K) (hy : mK M y = some L) (hKL : K ≠ L) : x ≠ y := fun e => hKL (by rw [e, hy] at hx; exact (Option.some.inj hx).symm)
theorem NB.k4 (h : NB G M w a kf sf sa ef T ex g nk nr ns nl) : mK M (a 4) = some 5 := by
  obtain ⟨ar, q⟩ := h.wc.s.2.2.2.2.2
  exact q.1
theorem NB.nil (h : NB G M w a kf sf sa ef T ex g nk nr ns nl) (hF : Fr (fun _ => False) M M2) : NB G M2 w a kf sf sa ef T ex g nk nr ns nl :=
  ⟨h.wc.fr hF id id id id id, h.l.fr hF id id, h.s.fr hF id, h.c.fr hF (fun _ e => e.elim), h.sl.fr hF id, h.x, h.b⟩
/-- of the world's own, all but ships and the log -/
theorem NB.own (h : NB G M w a kf sf sa ef T ex g nk nr ns nl) (hF : Fr (ow w) M M2) (hW : WC G M2 w a kf sf g' nk nr) (hL : ∀ j, (j = 15 ∨ (909 ≤ j ∧ j < 2509)) → g' j = g j) (hS : ∀ j, 109 ≤ j → j < 909 → g' j = g j) : NB G M2 w a kf sf sa ef T ex g' nk nr ns nl := by
  have hn := h.b.2.2
  have ne : ∀ {x K : Nat}, mK M x = some K → K ≠ 1 → ¬ ow w (x + 1) := fun hx hK e => nk_ne hx h.wc.s.k hK (Nat.succ.inj e)
  have er : rlG g' ns = rlG g ns := rlG_cg (fun s hs => ⟨hS _ (by omega) (by omega), hS _ (by omega) (by omega)⟩)
  refine ⟨hW, (h.l.fr hF (fun e => by cases e) (ne h.l.1.kk (by decide))).cg hL, (h.s.fr hF (ne h.c3 (by decide))).cg hn hS, ?_, h.sl.fr hF (ne h.sl.kk (by decide)), h.x, h.b⟩
  rw [er]
  exact h.c.fr hF (fun o e => ⟨w, e, h.x.1.1⟩)
/-- an hour is asked for -/
theorem NB.ask (h : NB G M w a kf sf sa ef T ex g nk nr ns nl) {v : Int32} : NB G (sI M (fc 4 0) (a 33) v) w a kf sf sa ef T ex g nk nr ns nl ∧ Fr (ow (a 33)) M (sI M (fc 4 0) (a 33) v) := by
  have kq := h.c.1.2.2.2.2.2.1
  have hF : Fr (ow (a 33)) M (sI M (fc 4 0) (a 33) v) := Fr.rf.I (Or.inr h.c.1.2.2.2.2.2.2)
  have ne : ∀ {x K : Nat}, mK M x = some K → K ≠ 4 → ¬ ow (a 33) (x + 1) := fun hx hK e => nk_ne hx kq hK (Nat.succ.inj e)
  exact ⟨⟨h.wc.fr hF (ne h.wc.s.k (by decide)) (fun e => by cases e) (ne h.k4 (by decide)) (ne h.wc.kl.kk (by decide)) (ne h.wc.sl.kk (by decide)), h.l.fr hF (fun e => by cases e) (ne h.l.1.kk (by decide)), h.s.fr hF (ne h.c3 (by decide)), h.c.asked, h.sl.fr hF (ne h.sl.kk (by decide)), h.x, h.b⟩, hF⟩
/-- a line is written -/
theorem NB.wr (h : NB G M w a kf sf sa ef T ex g nk nr ns nl) (hF : Fr (ow (a 5)) M M2) {ef' : Nat → Nat} {nl' : Nat} (hL : LB G M2 a ef' g' nl') (e : ∀ j, (j < 909 ∧ j ≠ 15) → g' j = g j) : NB G M2 w a kf sf sa ef' T ex g' nk nr ns nl' := by
  have k5 := h.l.1.kk
  have ne : ∀ {x K : Nat}, mK M x = some K → K ≠ 45 → ¬ ow (a 5) (x + 1) := fun hx hK e => nk_ne hx k5 hK (Nat.succ.inj e)
  have er : rlG g' ns = rlG g ns := rlG_cg (fun s hs => by have := h.b.2.2; exact ⟨e _ (by omega), e _ (by omega)⟩)
  have x := h.x.2
  refine ⟨(h.wc.fr hF (ne h.wc.s.k (by decide)) (fun e => by cases e) (ne h.k4 (by decide)) (fun e => x.1 (Nat.succ.inj e).symm) (fun e => x.2.2.1 (Nat.succ.inj e).symm)).cg h.b.1 h.b.2.1 (fun j hj => ?_), hL, (h.s.fr hF (ne h.c3 (by decide))).cg h.b.2.2 (fun j h1 h2 => e j (by omega)), ?_, h.sl.fr hF (fun e => x.2.1 (Nat.succ.inj e).symm), h.x, h.b⟩
  · exact e j (by unfold wOth at hj; omega)
  · rw [er]; exact h.c.fr hF (fun o e => ⟨a 5, e, h.x.1.2.2.2.2.2.1⟩)
/-- a ship passes -/
theorem NB.pas (h : NB G M w a kf sf sa ef T ex g nk nr ns nl) {s : Nat} (hs : s < ns) {x y : Int32} : NB G (sI (sI M (fc 19 2) (sa s) x) (fc 19 3) (sa s) y) w a kf sf sa ef T ex (va_up (va_up g (109 + 4 * s + 2) x) (109 + 4 * s + 3) y) nk nr ns nl ∧ Fr (fun o => o = a 3 + 1) M (sI (sI M (fc 19 2) (sa s) x) (fc 19 3) (sa s) y) := by
  have hn := h.b.2.2
  obtain ⟨K, q⟩ := h.s s hs
  have hF : Fr (fun o => o = a 3 + 1) M (sI (sI M (fc 19 2) (sa s) x) (fc 19 3) (sa s) y) := (Fr.rf.I (Or.inr q.1.2.2.1)).I (Or.inr q.1.2.2.1)
  have ne : ∀ {x K : Nat}, mK M x = some K → K ≠ 2 → ¬ (x + 1 = a 3 + 1) := fun hx hK e => nk_ne hx h.c3 hK (Nat.succ.inj e)
  have g9 : ∀ j, j ≠ 109 + 4 * s + 2 → j ≠ 109 + 4 * s + 3 → va_up (va_up g (109 + 4 * s + 2) x) (109 + 4 * s + 3) y j = g j := fun j h1 h2 => (va_up_ne _ _ h2).trans (va_up_ne _ _ h1)
  have er : rlG (va_up (va_up g (109 + 4 * s + 2) x) (109 + 4 * s + 3) y) ns = rlG g ns := rlG_cg (fun s2 hs2 => ⟨g9 _ (by omega) (by omega), g9 _ (by omega) (by omega)⟩)
  refine ⟨⟨(h.wc.fr hF (ne h.wc.s.k (by decide)) (fun e => by cases e) (ne h.k4 (by decide)) (ne h.wc.kl.kk (by decide)) (ne h.wc.sl.kk (by decide))).cg h.b.1 h.b.2.1 (fun j hj => g9 j (by unfold wOth at hj; omega) (by unfold wOth at hj; omega)), (h.l.fr hF (fun e => by cases e) (ne h.l.1.kk (by decide))).cg (fun j hj => g9 j (by omega) (by omega)), fun s2 hs2 => ?_, ?_, h.sl.fr hF (ne h.sl.kk (by decide)), h.x, h.b⟩, hF⟩
  · obtain ⟨K2, ⟨q1, q2, q3, q4, q5, q6, q7⟩, q8⟩ := h.s s2 hs2
    rw [g9 (109 + 4 * s2) (by omega) (by omega), g9 (109 + 4 * s2 + 1) (by omega) (by omega)]
    by_cases e : s2 = s
    · subst e
      rw [va_up_self, va_up_ne _ _ (show 109 + 4 * s2 + 2 ≠ 109 + 4 * s2 + 3 by omega), va_up_self]
      exact ⟨K2, ⟨q1, q2, q3, (mI_sI_c (by decide)).trans ((mI_sI_c (by decide)).trans q4), (mI_sI_c (by decide)).trans ((mI_sI_c (by decide)).trans q5), (mI_sI_c (by decide)).trans mI_sI, mI_sI⟩, q8⟩
    · rw [g9 (109 + 4 * s2 + 2) (by omega) (by omega), g9 (109 + 4 * s2 + 3) (by omega) (by omega)]
      have hne : sa s2 ≠ sa s := fun z => e (h.s.sinj hn hs2 hs z)
      exact ⟨K2, ⟨q1, q2, q3, (mI_sI_a hne).trans ((mI_sI_a hne).trans q4), (mI_sI_a hne).trans ((mI_sI_a hne).trans q5), (mI_sI_a hne).trans ((mI_sI_a hne).trans q6), (mI_sI_a hne).trans ((mI_sI_a hne).trans q7)⟩, q8⟩
  · rw [er]; exact h.c.fr hF (fun o e => ⟨a 3, e, h.x.1.2.2.2.1⟩)
end
