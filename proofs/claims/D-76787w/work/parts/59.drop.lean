/-! ===== a node less ===== -/
theorem WT.hiD {D L R P rt lo hi} (w : WT D L R P rt lo hi) : ∀ n k, D k → BB - (hi k - lo k) < n → hi k = BB ∨ D (hi k) := by
  intro n
  induction n with
  | zero => intro k _ h; omega
  | succ n ih =>
    intro k hk h
    cases e : P k with
    | none => exact Or.inl (w.2.2.2.2.2.2.2.2.1 k (w.2.2.2.2.2.1 k hk e)).2.2.1
    | some p =>
      have u := w.up hk e
      have ip := w.1 p u.1
      have ik := w.1 k hk
      rcases (w.2.2.2.2.2.2.1 k p hk e).2 with q | q
      · rw [(w.2.2.1 p k u.1 q).2.2.1]; exact Or.inr u.1
      · rw [(w.2.2.2.2.1 p k u.1 q).2.2.1]; exact ih p u.1 (by omega)
/-- only what the keys say counts -/
theorem WT.cgD {D L R P rt lo hi L' R' P'} (w : WT D L R P rt lo hi) (hL : ∀ k, D k → L' k = L k) (hR : ∀ k, D k → R' k = R k) (hP : ∀ k, D k → P' k = P k) : WT D L' R' P' rt lo hi := by
  obtain ⟨iv, ln, ls, rn, rs, pn, ps, tn, ts, lam⟩ := w
  refine ⟨iv, fun k hk h => ln k hk (by rw [← hL k hk]; exact h), fun k j hk h => ?_, fun k hk h => rn k hk (by rw [← hR k hk]; exact h), fun k j hk h => ?_, fun k hk h => pn k hk (by rw [← hP k hk]; exact h), fun k p hk h => ?_, tn, fun r h => ?_, lam⟩
  · have a := ls k j hk (by rw [← hL k hk]; exact h)
    exact ⟨a.1, a.2.1, a.2.2.1, by rw [hP j a.1]; exact a.2.2.2⟩
  · have a := rs k j hk (by rw [← hR k hk]; exact h)
    exact ⟨a.1, a.2.1, a.2.2.1, by rw [hP j a.1]; exact a.2.2.2⟩
  · have a := ps k p hk (by rw [← hP k hk]; exact h)
    exact ⟨a.1, by rw [hL p a.1, hR p a.1]; exact a.2⟩
  · have a := ts r h
    exact ⟨a.1, a.2.1, a.2.2.1, by rw [hP r a.1]; exact a.2.2.2⟩
theorem WT.del {D L R P rt lo hi} (w : WT D L R P rt lo hi) {q : Nat} {c : Option Nat} (hq : D q) (h : (L q = none ∧ R q = c) ∨ (R q = none ∧ L q = c)) :
    ∃ lo2 hi2, WT (fun k => D k ∧ k ≠ q) (rpl L q c) (rpl R q c) (rpP P q c) (if rt = some q then c else rt) lo2 hi2 := by
  rcases h with h | h
  · exact ⟨_, _, w.delR hq h.1 h.2⟩
  · exact ⟨_, _, w.delL hq h.1 h.2⟩
/-- without the key q -/
def drT (T : kT) (q : Nat) : kT := (va_up (tN T) q none, tK T, tV T, tL T, tR T, tP T, tC T, tr T)
theorem drT_s {T : kT} {q k a : Nat} (h : tN (drT T q) k = some a) : k ≠ q ∧ tN T k = some a := by
  have h : va_up (tN T) q none k = some a := h
  by_cases e : k = q
  · rw [e, va_up_self] at h; cases h
  · rw [va_up_ne _ _ e] at h; exact ⟨e, h⟩
theorem drT_o {T : kT} {q k : Nat} (h : k ≠ q) : tN (drT T q) k = tN T k := va_up_ne _ _ h
theorem drT_D {T : kT} {q k : Nat} : tN (drT T q) k ≠ none ↔ (tN T k ≠ none ∧ k ≠ q) := by
  constructor
  · intro h
    cases e : tN (drT T q) k with
    | none => exact absurd e h
    | some a => have b := drT_s e; exact ⟨nns b.2, b.1⟩
  · intro h; rw [drT_o h.2]; exact h.1
theorem PT.drop {M : kM} {o t asd : Nat} {T : kT} {q : Nat} {lo hi : Nat → Nat} (h : PT M o t asd T) (w : WTT (drT T q) lo hi) : PT M o t asd (drT T q) := by
  have bd : ∀ x : Option Nat, (∀ j, x = some j → tN (drT T q) j ≠ none) → x.bind (tN (drT T q)) = x.bind (tN T) := fun x hx => by
    cases x with
    | none => rfl
    | some j => exact drT_o (drT_D.mp (hx j rfl)).2
  refine ⟨h.k, h.g, h.vc, h.r.trans (bd _ (fun _ e => w.dt e)).symm, fun k k' a h1 h2 => h.inj (drT_s h1).2 (drT_s h2).2, fun k a hk => ?_⟩
  obtain ⟨n1, n2, n3, n4, n5, n6, n7, n8, n9⟩ := h.n (drT_s hk).2
  exact ⟨n1, n2, n3, n4, n5.trans (bd _ (fun _ e => w.dl (nns hk) e)).symm, n6.trans (bd _ (fun _ e => w.dr (nns hk) e)).symm, n7.trans (bd _ (fun _ e => w.dp (nns hk) e)).symm, n8, n9⟩
/-- after a node's child took its place -/
theorem del_W {T T' : kT} {lo hi : Nat → Nat} (w : WTT T lo hi) {q a : Nat} {c : Option Nat} (hq : tN T q = some a) (h : (tL T q = none ∧ tR T q = c) ∨ (tR T q = none ∧ tL T q = c)) (hN : tN T' = tN T)
    (hL : ∀ k, tN T k ≠ none → k ≠ q → tL T' k = rpl (tL T) q c k) (hR : ∀ k, tN T k ≠ none → k ≠ q → tR T' k = rpl (tR T) q c k) (hP : ∀ k, tN T k ≠ none → k ≠ q → tP T' k = rpP (tP T) q c k) (ht : tr T' = if tr T = some q then c else tr T) : ∃ lo2 hi2, WTT (drT T' q) lo2 hi2 := by
  obtain ⟨lo2, hi2, w2⟩ := WT.del w (nns hq) h
  refine ⟨lo2, hi2, ?_⟩
  have w3 := WT.cgD (L' := tL T') (R' := tR T') (P' := tP T') w2 (fun k hk => hL k hk.1 hk.2) (fun k hk => hR k hk.1 hk.2) (fun k hk => hP k hk.1 hk.2)
  have w4 := w3.cg (D' := fun k => tN (drT T' q) k ≠ none) (fun k => by rw [drT_D, hN])
  rw [← ht] at w4
  exact w4
/-- links of what is left -/
theorem rpl_m {F : Nat → Option Nat} {q k : Nat} {c : Option Nat} (h : F k ≠ some q) : F k = rpl F q c k := (if_neg h).symm
section
variable {T : kT} {lo hi : Nat → Nat} {q a r g : Nat}
theorem onlyL (w : WTT T lo hi) (hL : tL T g = some q) (hg : tN T g ≠ none) : (∀ k, tN T k ≠ none → k ≠ g → tL T k ≠ some q) ∧ ∀ k, tN T k ≠ none → tR T k ≠ some q := by
  have e1 := (w.2.2.1 g q hg hL)
  refine ⟨fun k hk hkg e => ?_, fun k hk e => ?_⟩
  · have e2 := (w.2.2.1 k q hk e).2.2.2; rw [e1.2.2.2] at e2; exact hkg (Option.some.inj e2).symm
  · have e2 := w.2.2.2.2.1 k q hk e; have e3 := e1.2.2.2.symm.trans e2.2.2.2; have e4 := Option.some.inj e3; have ig := w.1 g hg; rw [← e4] at e2; have iq := w.1 q e2.1; omega
theorem onlyR (w : WTT T lo hi) (hL : tR T g = some q) (hg : tN T g ≠ none) : (∀ k, tN T k ≠ none → k ≠ g → tR T k ≠ some q) ∧ ∀ k, tN T k ≠ none → tL T k ≠ some q := by
  have e1 := (w.2.2.2.2.1 g q hg hL)
  refine ⟨fun k hk hkg e => ?_, fun k hk e => ?_⟩
  · have e2 := (w.2.2.2.2.1 k q hk e).2.2.2; rw [e1.2.2.2] at e2; exact hkg (Option.some.inj e2).symm
  · have e2 := w.2.2.1 k q hk e; have e3 := e1.2.2.2.symm.trans e2.2.2.2; have e4 := Option.some.inj e3; have ig := w.1 g hg; rw [← e4] at e2; have iq := w.1 q e2.1; omega
theorem onlyT (w : WTT T lo hi) (hP : tP T q = none) (k : Nat) (hk : tN T k ≠ none) : tL T k ≠ some q ∧ tR T k ≠ some q := by
  refine ⟨fun e => ?_, fun e => ?_⟩
  · have e2 := (w.2.2.1 k q hk e).2.2.2; rw [hP] at e2; cases e2
  · have e2 := (w.2.2.2.2.1 k q hk e).2.2.2; rw [hP] at e2; cases e2
/-- a node's place taken by its one child -/
theorem spl_T (w : WTT T lo hi) (hq : tN T q = some a) (h : (tL T q = none ∧ tR T q = some r) ∨ (tR T q = none ∧ tL T q = some r)) (hP : tP T q = none) : ∃ lo2 hi2, WTT (drT (tsr (tsP T r (tP T q)) (some r)) q) lo2 hi2 := by
  refine del_W (c := some r) w hq h rfl (fun k hk _ => rpl_m (onlyT w hP k hk).1) (fun k hk _ => rpl_m (onlyT w hP k hk).2) (fun k hk _ => ?_) ?_
  · show va_up (tP T) r (tP T q) k = rpP (tP T) q (some r) k
    unfold va_up rpP
    by_cases e : k = r
    · rw [if_pos e, if_pos (by rw [e])]
    · rw [if_neg e, if_neg (fun z => e (Option.some.inj z))]
  · show some r = _
    rw [if_pos (w.2.2.2.2.2.1 q (nns hq) hP)]
theorem spl_p {k : Nat} : va_up (tP T) r (tP T q) k = rpP (tP T) q (some r) k := by
  unfold va_up rpP
  by_cases e : k = r
  · rw [if_pos e, if_pos (by rw [e])]
  · rw [if_neg e, if_neg (fun z => e (Option.some.inj z))]
theorem spl_r (w : WTT T lo hi) (hP : tP T q = some g) : tr T ≠ some q := fun e => by
  have a := (w.2.2.2.2.2.2.2.2.1 q e).2.2.2; rw [hP] at a; cases a
theorem spl_f {F : Nat → Option Nat} {k : Nat} {c : Option Nat} (h : F g = some q) (h2 : k ≠ g → F k ≠ some q) : va_up F g c k = rpl F q c k := by
  by_cases e : k = g
  · rw [e, va_up_self, rpl_s h]
  · rw [va_up_ne _ _ e]; exact rpl_m (h2 e)
theorem spl_L (w : WTT T lo hi) (hq : tN T q = some a) (h : (tL T q = none ∧ tR T q = some r) ∨ (tR T q = none ∧ tL T q = some r)) (hP : tP T q = some g) (hL : tL T g = some q) (hg : tN T g ≠ none) : ∃ lo2 hi2, WTT (drT (tsL (tsP T r (tP T q)) g (some r)) q) lo2 hi2 :=
  del_W (c := some r) w hq h rfl (fun k hk _ => spl_f hL (fun e => (onlyL w hL hg).1 k hk e)) (fun k hk _ => rpl_m ((onlyL w hL hg).2 k hk)) (fun k hk _ => spl_p) (if_neg (spl_r w hP)).symm
theorem spl_R (w : WTT T lo hi) (hq : tN T q = some a) (h : (tL T q = none ∧ tR T q = some r) ∨ (tR T q = none ∧ tL T q = some r)) (hP : tP T q = some g) (hL : tR T g = some q) (hg : tN T g ≠ none) : ∃ lo2 hi2, WTT (drT (tsR (tsP T r (tP T q)) g (some r)) q) lo2 hi2 :=
  del_W (c := some r) w hq h rfl (fun k hk _ => rpl_m ((onlyR w hL hg).2 k hk)) (fun k hk _ => spl_f hL (fun e => (onlyR w hL hg).1 k hk e)) (fun k hk _ => spl_p) (if_neg (spl_r w hP)).symm
theorem cut_T (w : WTT T lo hi) (hq : tN T q = some a) (h : tL T q = none ∧ tR T q = none) (hP : tP T q = none) : ∃ lo2 hi2, WTT (drT (tsr T none) q) lo2 hi2 :=
  del_W (c := none) w hq (Or.inl h) rfl (fun k hk _ => rpl_m (onlyT w hP k hk).1) (fun k hk _ => rpl_m (onlyT w hP k hk).2) (fun k hk _ => (rpP_o (fun e => by cases e)).symm) (if_pos (w.2.2.2.2.2.1 q (nns hq) hP)).symm
theorem cut_L (w : WTT T lo hi) (hq : tN T q = some a) (h : tL T q = none ∧ tR T q = none) (hP : tP T q = some g) (hL : tL T g = some q) (hg : tN T g ≠ none) : ∃ lo2 hi2, WTT (drT (tsP (tsL T g none) q none) q) lo2 hi2 :=
  del_W (c := none) w hq (Or.inl h) rfl (fun k hk _ => spl_f hL (fun e => (onlyL w hL hg).1 k hk e)) (fun k hk _ => rpl_m ((onlyL w hL hg).2 k hk)) (fun k hk e => (va_up_ne _ _ e).trans (rpP_o (fun e => by cases e)).symm) (if_neg (spl_r w hP)).symm
theorem cut_R (w : WTT T lo hi) (hq : tN T q = some a) (h : tL T q = none ∧ tR T q = none) (hP : tP T q = some g) (hL : tR T g = some q) (hg : tN T g ≠ none) : ∃ lo2 hi2, WTT (drT (tsP (tsR T g none) q none) q) lo2 hi2 :=
  del_W (c := none) w hq (Or.inl h) rfl (fun k hk _ => rpl_m ((onlyR w hL hg).2 k hk)) (fun k hk _ => spl_f hL (fun e => (onlyR w hL hg).1 k hk e)) (fun k hk e => (va_up_ne _ _ e).trans (rpP_o (fun e => by cases e)).symm) (if_neg (spl_r w hP)).symm
/-- what the dropped node links to does not count -/
theorem drT_nul (w : WTT (drT T q) lo hi) : WTT (drT (tsL (tsR (tsP T q none) q none) q none) q) lo hi :=
  WT.cgD w (fun k hk => va_up_ne _ _ (drT_D.mp hk).2) (fun k hk => va_up_ne _ _ (drT_D.mp hk).2) (fun k hk => va_up_ne _ _ (drT_D.mp hk).2)
/-- a leaf without a parent is alone -/
theorem leaf_p (w : WTT T lo hi) (hq : tN T q = some a) (h : tL T q = none ∧ tR T q = none) {k : Nat} (hk : tN T k ≠ none) (hn : k ≠ q) : ∃ g, tP T q = some g := by
  cases e : tP T q with
  | some g => exact ⟨g, rfl⟩
  | none =>
    have t := w.2.2.2.2.2.2.2.2.1 q (w.2.2.2.2.2.1 q (nns hq) e)
    have ik := w.1 k hk
    rcases Nat.lt_or_gt_of_ne hn with z | z
    · exact absurd hk (w.2.1 q (nns hq) h.1 k (by omega) z)
    · exact absurd hk (w.2.2.2.1 q (nns hq) h.2 k z (by omega))
end
/-- the node of key p is now that of key s -/
def rnT (T : kT) (p s : Nat) : kT := (fun k => if k = s then tN T p else if k = p then none else tN T k, fun k => if k = s then tK T p else tK T k, fun k => if k = s then tV T p else tV T k, rnF (tL T) p s, rnF (tR T) p s, rnF (tP T) p s, fun k => if k = s then tC T p else tC T k, (tr T).map (fun j => if j = p then s else j))
theorem rnT_D {T : kT} {p s : Nat} (hp : tN T p ≠ none) (hps : p ≠ s) (k : Nat) : tN (rnT T p s) k ≠ none ↔ (k = s ∨ (tN T k ≠ none ∧ k ≠ p)) := by
  show (if k = s then tN T p else if k = p then none else tN T k) ≠ none ↔ _
  by_cases e : k = s
  · rw [if_pos e]; exact ⟨fun _ => Or.inl e, fun _ => hp⟩
  · rw [if_neg e]
    by_cases e2 : k = p
    · rw [if_pos e2]; exact ⟨fun h => absurd rfl h, fun h => by rcases h with h | h; exact absurd h e; exact absurd e2 h.2⟩
    · rw [if_neg e2]; exact ⟨fun h => Or.inr ⟨h, e2⟩, fun h => by rcases h with h | h; exact absurd h e; exact h.1⟩
theorem rnT_W {T : kT} {lo hi : Nat → Nat} (w : WTT T lo hi) {p s : Nat} (hp : tN T p ≠ none) (h1 : p < s) (hs : s < BB) (h3 : ∀ x, p < x → x ≤ s → ¬ tN T x ≠ none) : WTT (rnT T p s) (rnLo lo p s) (rnHi lo hi p s) := by
  have h2 : s < hi p := by
    rcases w.hiD (BB + 1) p hp (by omega) with e | e
    · omega
    · have := (w.1 p hp).2.1
      by_cases z : s < hi p
      · exact z
      · exact absurd e (h3 (hi p) this (by omega))
  exact (w.ren hp h1 h2 h3).cg (fun k => rnT_D hp (by omega) k)
theorem rnT_P {M : kM} {o t asd : Nat} {T : kT} {lo hi : Nat → Nat} (h : PT M o t asd T) (w : WTT T lo hi) {p s : Nat} (hp : tN T p ≠ none) (hps : p ≠ s) (hs : tN T s = none) : PT M o t asd (rnT T p s) := by
  have bd : ∀ x : Option Nat, (∀ j, x = some j → tN T j ≠ none) → (x.map (fun j => if j = p then s else j)).bind (tN (rnT T p s)) = x.bind (tN T) := fun x hx => by
    cases x with
    | none => rfl
    | some j =>
      show (if (if j = p then s else j) = s then tN T p else if (if j = p then s else j) = p then none else tN T (if j = p then s else j)) = tN T j
      by_cases e : j = p
      · rw [if_pos e, if_pos rfl, e]
      · have e2 : j ≠ s := fun z => hx j rfl (by rw [z]; exact hs)
        rw [if_neg e, if_neg e2, if_neg e]
  have cs : ∀ k a, tN (rnT T p s) k = some a → (k = s ∧ tN T p = some a) ∨ (k ≠ s ∧ k ≠ p ∧ tN T k = some a) := fun k a hk => by
    have hk : (if k = s then tN T p else if k = p then none else tN T k) = some a := hk
    by_cases e : k = s
    · rw [if_pos e] at hk; exact Or.inl ⟨e, hk⟩
    · rw [if_neg e] at hk
      by_cases e2 : k = p
      · rw [if_pos e2] at hk; cases hk
      · rw [if_neg e2] at hk; exact Or.inr ⟨e, e2, hk⟩
  refine ⟨h.k, h.g, h.vc, h.r.trans (bd _ (fun _ e => w.dt e)).symm, fun k k' a h1 h2 => ?_, fun k a hk => ?_⟩
  · rcases cs k a h1 with z | z <;> rcases cs k' a h2 with y | y
    · rw [z.1, y.1]
    · exact absurd (h.inj y.2.2 z.2) y.2.1
    · exact absurd (h.inj z.2.2 y.2) z.2.1
    · exact h.inj z.2.2 y.2.2
  · rcases cs k a hk with z | z
    · obtain ⟨n1, n2, n3, n4, n5, n6, n7, n8, n9⟩ := h.n z.2
      have u : ∀ {α : Type} (f : Nat → α), (if k = s then f p else f k) = f p := fun f => if_pos z.1
      have v : ∀ F : Nat → Option Nat, rnF F p s k = (F p).map (fun j => if j = p then s else j) := fun F => by rw [z.1]; exact rnF_s
      refine ⟨n1, n2, ?_, ?_, ?_, ?_, ?_, n8.trans (u (tC T)).symm, ?_⟩
      · show mR M (fc 88 0) a = some (if k = s then tK T p else tK T k) ∧ mK M (if k = s then tK T p else tK T k) = some 4 ∧ mG M (if k = s then tK T p else tK T k) = o ∧ (if k = s then tK T p else tK T k) ≠ asd
        rw [u (tK T)]; exact n3
      · show mR M (fc 88 1) a = some (if k = s then tV T p else tV T k) ∧ mK M (if k = s then tV T p else tV T k) = some 45
        rw [u (tV T)]; exact n4
      · exact n5.trans (by show _ = (rnF (tL T) p s k).bind _; rw [v]; exact (bd _ (fun _ e => w.dl hp e)).symm)
      · exact n6.trans (by show _ = (rnF (tR T) p s k).bind _; rw [v]; exact (bd _ (fun _ e => w.dr hp e)).symm)
      · exact n7.trans (by show _ = (rnF (tP T) p s k).bind _; rw [v]; exact (bd _ (fun _ e => w.dp hp e)).symm)
      · show (if k = s then tC T p else tC T k) = 0 ∨ (if k = s then tC T p else tC T k) = 1
        rw [u (tC T)]; exact n9
    · obtain ⟨n1, n2, n3, n4, n5, n6, n7, n8, n9⟩ := h.n z.2.2
      have u : ∀ {α : Type} (f : Nat → α), (if k = s then f p else f k) = f k := fun f => if_neg z.1
      have v : ∀ F : Nat → Option Nat, rnF F p s k = (F k).map (fun j => if j = p then s else j) := fun F => rnF_o z.1
      refine ⟨n1, n2, ?_, ?_, ?_, ?_, ?_, n8.trans (u (tC T)).symm, ?_⟩
      · show mR M (fc 88 0) a = some (if k = s then tK T p else tK T k) ∧ mK M (if k = s then tK T p else tK T k) = some 4 ∧ mG M (if k = s then tK T p else tK T k) = o ∧ (if k = s then tK T p else tK T k) ≠ asd
        rw [u (tK T)]; exact n3
      · show mR M (fc 88 1) a = some (if k = s then tV T p else tV T k) ∧ mK M (if k = s then tV T p else tV T k) = some 45
        rw [u (tV T)]; exact n4
      · exact n5.trans (by show _ = (rnF (tL T) p s k).bind _; rw [v]; exact (bd _ (fun _ e => w.dl (nns z.2.2) e)).symm)
      · exact n6.trans (by show _ = (rnF (tR T) p s k).bind _; rw [v]; exact (bd _ (fun _ e => w.dr (nns z.2.2) e)).symm)
      · exact n7.trans (by show _ = (rnF (tP T) p s k).bind _; rw [v]; exact (bd _ (fun _ e => w.dp (nns z.2.2) e)).symm)
      · show (if k = s then tC T p else tC T k) = 0 ∨ (if k = s then tC T p else tC T k) = 1
        rw [u (tC T)]; exact n9
/-- other keys, other lists -/
theorem PT.sK {M : kM} {o t asd : Nat} {T : kT} (h : PT M o t asd T) {k a q : Nat} (hk : tN T k = some a) (hq : mK M q = some 4 ∧ mG M q = o ∧ q ≠ asd) : PT (sR M (fc 88 0) a (some q)) o t asd (tsK T k q) := by
  refine ⟨h.k, h.g, h.vc.wR (by decide) (by decide) (by decide), (mR_sR_c (by decide)).trans h.r, h.2.2.2.2.1, fun k2 a2 hk2 => ?_⟩
  have hk2 : tN T k2 = some a2 := hk2
  obtain ⟨n1, n2, n3, n4, n5, n6, n7, n8, n9⟩ := h.n hk2
  refine ⟨n1, n2, ?_, ⟨(mR_sR_c (k_fc (by decide))).trans n4.1, n4.2⟩, (mR_sR_c (k_fc (by decide))).trans n5, (mR_sR_c (k_fc (by decide))).trans n6, (mR_sR_c (k_fc (by decide))).trans n7, n8, n9⟩
  show mR (sR M (fc 88 0) a (some q)) (fc 88 0) a2 = some (va_up (tK T) k q k2) ∧ mK M (va_up (tK T) k q k2) = some 4 ∧ mG M (va_up (tK T) k q k2) = o ∧ va_up (tK T) k q k2 ≠ asd
  by_cases e : k2 = k
  · have e2 : a2 = a := by rw [e] at hk2; exact Option.some.inj (hk2.symm.trans hk)
    rw [e2, e, mR_sR, va_up_self]; exact ⟨rfl, hq⟩
  · rw [mR_sR_a (fun z => e (h.inj (hk2.trans (congrArg some z)) hk)), va_up_ne _ _ e]; exact n3
theorem PT.sV {M : kM} {o t asd : Nat} {T : kT} (h : PT M o t asd T) {k a v : Nat} (hk : tN T k = some a) (hv : mK M v = some 45) : PT (sR M (fc 88 1) a (some v)) o t asd (tsV T k v) := by
  refine ⟨h.k, h.g, h.vc.wR (by decide) (by decide) (by decide), (mR_sR_c (by decide)).trans h.r, h.2.2.2.2.1, fun k2 a2 hk2 => ?_⟩
  have hk2 : tN T k2 = some a2 := hk2
  obtain ⟨n1, n2, n3, n4, n5, n6, n7, n8, n9⟩ := h.n hk2
  refine ⟨n1, n2, ⟨(mR_sR_c (k_fc (by decide))).trans n3.1, n3.2⟩, ?_, (mR_sR_c (k_fc (by decide))).trans n5, (mR_sR_c (k_fc (by decide))).trans n6, (mR_sR_c (k_fc (by decide))).trans n7, n8, n9⟩
  show mR (sR M (fc 88 1) a (some v)) (fc 88 1) a2 = some (va_up (tV T) k v k2) ∧ mK M (va_up (tV T) k v k2) = some 45
  by_cases e : k2 = k
  · have e2 : a2 = a := by rw [e] at hk2; exact Option.some.inj (hk2.symm.trans hk)
    rw [e2, e, mR_sR, va_up_self]; exact ⟨rfl, hv⟩
  · rw [mR_sR_a (fun z => e (h.inj (hk2.trans (congrArg some z)) hk)), va_up_ne _ _ e]; exact n4
/-- what a deletion leaves -/
def DPQ (M1 : kM) (o t asd : Nat) (T1 : kT) (q : Nat) (M2 : kM) : Prop := ∃ T2 lo2 hi2, PT M2 o t asd T2 ∧ WTT T2 lo2 hi2 ∧ tN T2 = va_up (tN T1) q none ∧ tK T2 = tK T1 ∧ tV T2 = tV T1 ∧ FK o M1 M2
def DP (M : kM) (o t asd : Nat) (T : kT) (p ap : Nat) (M2 : kM) : Prop := ∃ T2, TM M2 o t asd T2 ∧ tN T2 p = none ∧ (∀ k, k ≠ p → (tN T2 k).map (fun _ => tV T2 k) = (tN T k).map (fun _ => tV T k)) ∧
  (∀ s, NXF T (p + 1) (some s) → tN T2 s = if tL T p ≠ none ∧ tR T p ≠ none then some ap else tN T s) ∧ Fr (fun x => x = o) M M2
theorem DP_1 {M M1 M2 : kM} {o t asd : Nat} {T : kT} {p ap : Nat} (hV : KV M T) (hp : tN T p = some ap) (h1 : tL T p = none ∨ tR T p = none) (hI : ∀ a, mI M1 (fc 4 0) a = mI M (fc 4 0) a) (hF : Fr (fun x => x = o) M M1) (h : DPQ M1 o t asd T p M2) : DP M o t asd T p ap M2 := by
  obtain ⟨T2, lo2, hi2, hP, hW, hN, hK, hv, hF2⟩ := h
  have ho : ∀ k, k ≠ p → tN T2 k = tN T k := fun k hk => by rw [hN]; exact va_up_ne _ _ hk
  refine ⟨T2, ⟨hP, fun k a hk => ?_, lo2, hi2, hW⟩, by rw [hN]; exact va_up_self _ _ _, fun k hk => by rw [ho k hk, hv], fun s hs => ?_, hF.tr hF2.1⟩
  · have hkp : k ≠ p := fun e => by rw [e, hN, va_up_self] at hk; cases hk
    rw [ho k hkp] at hk
    rw [hK, hF2.2 _ (by decide), hI]
    exact hV k a hk
  · rw [if_neg (fun e => h1.elim e.1 e.2)]
    have := (hs.2 s rfl).2.1
    exact ho s (by omega)
theorem nx_s {T : kT} {m s x : Nat} (h : NXF T m (some s)) (h2 : NXF T m (some x)) : s = x := by
  have a := h.2 s rfl
  have b := h2.2 x rfl
  rcases Nat.lt_trichotomy s x with z | z | z
  · exact absurd (b.2.2 s a.2.1 z) a.1
  · exact z
  · exact absurd (a.2.2 x b.2.1 z) b.1
theorem DP_2 {M M1 M2 : kM} {o t asd : Nat} {T T1 : kT} {lo hi : Nat → Nat} {p ap s : Nat} (hV : KV M T) (hW : WTT T lo hi) (hp : tN T p = some ap) (h1 : tL T p ≠ none ∧ tR T p ≠ none) (hs : NXF T (p + 1) (some s)) (hN1 : tN T1 = tN T) (hK1 : tK T1 = va_up (tK T) p (tK T s)) (hV1 : tV T1 = va_up (tV T) p (tV T s))
    (hI : ∀ a, mI M1 (fc 4 0) a = mI M (fc 4 0) a) (hF : Fr (fun x => x = o) M M1) (h : DPQ M1 o t asd T1 s M2) : DP M o t asd T p ap M2 := by
  obtain ⟨T2, lo2, hi2, hP, hW2, hN, hK, hv, hF2⟩ := h
  obtain ⟨a1, a2, a3⟩ := hs.2 s rfl
  have hps : p ≠ s := by omega
  have hN : tN T2 = va_up (tN T) s none := by rw [hN, hN1]
  have hp2 : tN T2 p = some ap := by rw [hN, va_up_ne _ _ hps]; exact hp
  have hs2 : tN T2 s = none := by rw [hN]; exact va_up_self _ _ _
  have hsB : s < BB := by have := hW.1 s a1; omega
  have gap : ∀ x, p < x → x ≤ s → ¬ tN T2 x ≠ none := fun x q1 q2 e => by
    by_cases z : x = s
    · exact e (by rw [z]; exact hs2)
    · exact e (by rw [hN, va_up_ne _ _ z]; exact a3 x (by omega) (by omega))
  obtain ⟨as9, hs9⟩ : ∃ a, tN T s = some a := rot_r a1
  have ns : tN (rnT T2 p s) s = some ap := (if_pos rfl).trans hp2
  have no : ∀ k, k ≠ s → k ≠ p → tN (rnT T2 p s) k = tN T k := fun k e1 e2 => (if_neg e1).trans ((if_neg e2).trans (by rw [hN, va_up_ne _ _ e1]))
  refine ⟨rnT T2 p s, ⟨rnT_P hP hW2 (nns hp2) hps hs2, fun k a hk => ?_, _, _, rnT_W hW2 (nns hp2) (by omega) hsB gap⟩, (if_neg hps).trans (if_pos rfl), fun k hk => ?_, fun s2 q => ?_, hF.tr hF2.1⟩
  · rw [hF2.2 _ (by decide), hI]
    by_cases e1 : k = s
    · subst e1
      refine ⟨hsB, ?_⟩
      show mI M (fc 4 0) (if k = k then tK T2 p else tK T2 k) = nI k
      rw [if_pos rfl, hK, hK1, va_up_self]
      exact (hV k as9 hs9).2
    · by_cases e2 : k = p
      · rw [e2] at hk; rw [show tN (rnT T2 p s) p = none from (if_neg hps).trans (if_pos rfl)] at hk; cases hk
      · rw [no k e1 e2] at hk
        refine ⟨(hV k a hk).1, ?_⟩
        show mI M (fc 4 0) (if k = s then tK T2 p else tK T2 k) = nI k
        rw [if_neg e1, hK, hK1, va_up_ne _ _ e2]
        exact (hV k a hk).2
  · by_cases e1 : k = s
    · subst e1
      rw [ns, hs9]
      show some (if k = k then tV T2 p else tV T2 k) = some (tV T k)
      rw [if_pos rfl, hv, hV1, va_up_self]
    · rw [no k e1 hk]
      cases e : tN T k with
      | none => rfl
      | some a =>
        show some (if k = s then tV T2 p else tV T2 k) = some (tV T k)
        rw [if_neg e1, hv, hV1, va_up_ne _ _ hk]
  · rw [if_pos h1, ← nx_s hs q]; exact ns
/-- what comes next below has no left child -/
theorem nx_l {T : kT} {lo hi : Nat → Nat} {p s : Nat} (hW : WTT T lo hi) (hp : tN T p ≠ none) (h1 : tR T p ≠ none) (hs : NXF T (p + 1) (some s)) : tL T s = none := by
  obtain ⟨a1, a2, a3⟩ := hs.2 s rfl
  obtain ⟨j, hj⟩ := rot_r h1
  have hr := hW.2.2.2.2.1 p j hp hj
  have ij := hW.1 j hr.1
  have hsj : s ≤ j := Nat.not_lt.mp (fun z => absurd (a3 j (by omega) z) hr.1)
  have is := hW.1 s a1
  have ip := hW.1 p hp
  have hlo : p < lo s := by
    rcases hW.2.2.2.2.2.2.2.2.2 p s hp a1 (by omega) with z | z | z | z | z | z <;> omega
  cases e : tL T s with
  | none => rfl
  | some i =>
    have hl := hW.2.2.1 s i a1 e
    have ii := hW.1 i hl.1
    exact absurd (a3 i (by omega) (by omega)) hl.1
theorem nx_r {T : kT} {lo hi : Nat → Nat} {p : Nat} {x : Option Nat} (hW : WTT T lo hi) (hp : tN T p ≠ none) (h1 : tR T p ≠ none) (hs : NXF T (p + 1) x) : ∃ s, x = some s := by
  cases x with
  | some s => exact ⟨s, rfl⟩
  | none =>
    obtain ⟨j, hj⟩ := rot_r h1
    have hr := hW.2.2.2.2.1 p j hp hj
    have ij := hW.1 j hr.1
    exact absurd (hs.1 rfl j (by omega)) hr.1
