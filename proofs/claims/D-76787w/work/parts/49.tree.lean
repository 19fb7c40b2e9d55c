/-! ===== search trees by intervals ===== -/
abbrev BB : Nat := 2147483648
/-- the shape of a search tree by intervals -/
def WT (D : Nat → Prop) (L R P : Nat → Option Nat) (rt : Option Nat) (lo hi : Nat → Nat) : Prop :=
  (∀ k, D k → lo k ≤ k ∧ k < hi k ∧ hi k ≤ BB) ∧
  (∀ k, D k → L k = none → ∀ x, lo k ≤ x → x < k → ¬ D x) ∧
  (∀ k j, D k → L k = some j → D j ∧ lo j = lo k ∧ hi j = k ∧ P j = some k) ∧
  (∀ k, D k → R k = none → ∀ x, k < x → x < hi k → ¬ D x) ∧
  (∀ k j, D k → R k = some j → D j ∧ lo j = k + 1 ∧ hi j = hi k ∧ P j = some k) ∧
  (∀ k, D k → P k = none → rt = some k) ∧
  (∀ k p, D k → P k = some p → D p ∧ (L p = some k ∨ R p = some k)) ∧
  (rt = none → ∀ x, ¬ D x) ∧
  (∀ r, rt = some r → D r ∧ lo r = 0 ∧ hi r = BB ∧ P r = none) ∧
  (∀ i k, D i → D k → i ≠ k → (lo i ≤ lo k ∧ hi k ≤ i) ∨ (i < lo k ∧ hi k ≤ hi i) ∨ (lo k ≤ lo i ∧ hi i ≤ k) ∨ (k < lo i ∧ hi i ≤ hi k) ∨ hi i ≤ lo k ∨ hi k ≤ lo i)
def rlL (L P : Nat → Option Nat) (p r : Nat) : Nat → Option Nat :=
  va_up (match P p with | none => L | some q => if L q = some p then va_up L q (some r) else L) r (some p)
def rlR (L R P : Nat → Option Nat) (p r : Nat) : Nat → Option Nat :=
  (match P p with | none => va_up R p (L r) | some q => if L q = some p then va_up R p (L r) else va_up (va_up R p (L r)) q (some r))
def rlP (L P : Nat → Option Nat) (p r : Nat) : Nat → Option Nat :=
  va_up (va_up (match L r with | none => P | some c => va_up P c (some p)) r (P p)) p (some r)
def rlT (P : Nat → Option Nat) (rt : Option Nat) (p r : Nat) : Option Nat := match P p with | none => some r | some _ => rt

theorem WT.rotL {D L R P rt lo hi} (w : WT D L R P rt lo hi) {p r : Nat} (hp : D p) (hr : R p = some r) :
    WT D (rlL L P p r) (rlR L R P p r) (rlP L P p r) (rlT P rt p r) (va_up lo r (lo p)) (va_up (va_up hi r (hi p)) p r) := by
  obtain ⟨iv, ln, ls, rn, rs, pn, ps, tn, ts, lam⟩ := w
  have h1 := rs p r hp hr
  have i1 := iv p hp
  have i2 := iv r h1.1
  have hne : p ≠ r := by omega
  have hpar : ∀ q, P p = some q → D q ∧ (L q = some p ∨ R q = some p) := fun q h => ps p q hp h
  have hq1 : ∀ q, P p = some q → q ≠ p ∧ q ≠ r := fun q h => by
    have a := hpar q h
    rcases a.2 with b | b
    · have c := ls q p a.1 b; have := iv q a.1; exact ⟨by omega, by intro e; subst e; omega⟩
    · have c := rs q p a.1 b; have := iv q a.1; exact ⟨by omega, by intro e; subst e; omega⟩
  have hLu : ∀ k, D k → L k = some p → P p = some k := fun k hk h => (ls k p hk h).2.2.2
  have hRu : ∀ k, D k → R k = some p → P p = some k := fun k hk h => (rs k p hk h).2.2.2
  have hLr : ∀ k, D k → L k = some r → k = p := fun k hk h => by have := (ls k r hk h).2.2.2; rw [h1.2.2.2] at this; cases this; rfl
  have hRr : ∀ k, D k → R k = some r → k = p := fun k hk h => by have := (rs k r hk h).2.2.2; rw [h1.2.2.2] at this; cases this; rfl
  refine ⟨?_, ?_, ?_, ?_, ?_, ?_, ?_, ?_, ?_, ?_⟩
  · clear ln ls rn rs pn ps tn ts lam hpar hq1 hLu hRu hLr hRr
    intro k hk; have := iv k hk; unfold va_up; split <;> split <;> omega
  · clear ls rn rs pn ps tn ts lam
    intro k hk; unfold rlL; cases hP : P p with
    | none => have := ln k hk; unfold va_up; grind
    | some q =>
      have b := hq1 q hP
      have hk' := ln k hk
      intro h x hx1 hx2
      have e : va_up lo r (lo p) k = if k = r then lo p else lo k := rfl
      have : k ≠ r := fun e2 => by subst e2; unfold va_up at h; rw [if_pos rfl] at h; cases h
      rw [e, if_neg this] at hx1
      refine hk' ?_ x hx1 hx2
      unfold va_up at h
      dsimp only at h
      rw [if_neg this] at h
      by_cases hL : L q = some p
      · rw [if_pos hL] at h
        by_cases e3 : k = q
        · rw [if_pos e3] at h; cases h
        · rw [if_neg e3] at h; exact h
      · rw [if_neg hL] at h; exact h
  · clear ln rn pn tn ts lam
    intro k j hk; unfold rlL rlP; cases hP : P p with
    | none => cases hL : L r with
      | none => unfold va_up; grind
      | some c => have := ls r c h1.1 hL; unfold va_up; grind
    | some q =>
      have a := hpar q hP
      have b := hq1 q hP
      by_cases hLq : L q = some p
      · simp only [hLq, if_true]; cases hL : L r with
        | none => unfold va_up; grind
        | some c => have := ls r c h1.1 hL; unfold va_up; grind
      · simp only [hLq, if_false]; cases hL : L r with
        | none => unfold va_up; grind
        | some c => have := ls r c h1.1 hL; unfold va_up; grind
  · clear ls rs pn ps tn ts lam
    intro k hk; unfold rlR; cases hP : P p with
    | none => have := rn k hk; have := ln r h1.1; unfold va_up; grind
    | some q =>
      have b := hq1 q hP
      have hk' := rn k hk
      have hr' := ln r h1.1
      by_cases hL : L q = some p
      · simp only [hL, if_true]; unfold va_up; grind
      · simp only [hL, if_false]; unfold va_up; grind
  · clear ln rn pn tn ts lam
    intro k j hk; unfold rlR rlP; cases hP : P p with
    | none => cases hL : L r with
      | none => unfold va_up; grind
      | some c => have := ls r c h1.1 hL; unfold va_up; grind
    | some q =>
      have a := hpar q hP
      have b := hq1 q hP
      by_cases hLq : L q = some p
      · simp only [hLq, if_true]; cases hL : L r with
        | none => unfold va_up; grind
        | some c => have := ls r c h1.1 hL; unfold va_up; grind
      · simp only [hLq, if_false]; cases hL : L r with
        | none => unfold va_up; grind
        | some c => have := ls r c h1.1 hL; unfold va_up; grind
  · clear ln rn tn ts lam
    intro k hk; unfold rlP rlT; cases hP : P p with
    | none => cases hL : L r with
      | none => unfold va_up; grind
      | some c => unfold va_up; grind
    | some q => cases hL : L r with
      | none => unfold va_up; grind
      | some c => unfold va_up; grind
  · clear ln rn pn tn ts lam
    intro k x hk; unfold rlL rlR rlP; cases hP : P p with
    | none => cases hL : L r with
      | none => unfold va_up; grind
      | some c => have := ls r c h1.1 hL; unfold va_up; grind
    | some q =>
      have a := hpar q hP
      have b := hq1 q hP
      by_cases hLq : L q = some p
      · simp only [hLq, if_true]; cases hL : L r with
        | none => unfold va_up; grind
        | some c => have := ls r c h1.1 hL; unfold va_up; grind
      · simp only [hLq, if_false]; cases hL : L r with
        | none => unfold va_up; grind
        | some c => have := ls r c h1.1 hL; unfold va_up; grind
  · clear ln ls rn rs pn ps ts lam
    unfold rlT; grind
  · clear ln rn tn lam
    intro x; unfold rlT rlP; cases hP : P p with
    | none => have := pn p hp hP; cases hL : L r with
      | none => unfold va_up; grind
      | some c => have := ls r c h1.1 hL; unfold va_up; grind
    | some q =>
      have a := hpar q hP
      have b := hq1 q hP
      by_cases hLq : L q = some p
      · simp only [hLq, if_true]; cases hL : L r with
        | none => unfold va_up; grind
        | some c => have := ls r c h1.1 hL; unfold va_up; grind
      · simp only [hLq, if_false]; cases hL : L r with
        | none => unfold va_up; grind
        | some c => have := ls r c h1.1 hL; unfold va_up; grind
  · clear ln ls rn rs pn ps tn ts hpar hq1 hLu hRu hLr hRr
    have key : ∀ i k, D i → D k → i ≠ k → i ≠ p → i ≠ r → (lo i ≤ va_up lo r (lo p) k ∧ va_up (va_up hi r (hi p)) p r k ≤ i) ∨ (i < va_up lo r (lo p) k ∧ va_up (va_up hi r (hi p)) p r k ≤ hi i) ∨ (va_up lo r (lo p) k ≤ lo i ∧ hi i ≤ k) ∨ (k < lo i ∧ hi i ≤ va_up (va_up hi r (hi p)) p r k) ∨ hi i ≤ va_up lo r (lo p) k ∨ va_up (va_up hi r (hi p)) p r k ≤ lo i := by
      intro i k hi' hk hne' ip ir
      have a := lam i k hi' hk hne'; have b := lam i p hi' hp ip; have c := lam i r hi' h1.1 ir; have d := iv i hi'; have e := iv k hk
      unfold va_up
      clear lam iv
      split <;> split <;> (subst_vars; omega)
    have el : ∀ j, j ≠ r → va_up lo r (lo p) j = lo j := fun j h => if_neg h
    have eh : ∀ j, j ≠ p → j ≠ r → va_up (va_up hi r (hi p)) p r j = hi j := fun j h h' => (if_neg h).trans (if_neg h')
    have er : va_up lo r (lo p) r = lo p := if_pos rfl
    have ehr : va_up (va_up hi r (hi p)) p r r = hi p := (if_neg (fun e => hne e.symm)).trans (if_pos rfl)
    have ehp : va_up (va_up hi r (hi p)) p r p = r := if_pos rfl
    intro i k hi' hk hne'
    by_cases ii : i = p ∨ i = r
    · by_cases kk : k = p ∨ k = r
      · rcases ii with rfl | rfl <;> rcases kk with rfl | rfl
        · exact absurd rfl hne'
        · rw [er, ehr, ehp, el _ hne]; omega
        · rw [er, ehr, ehp, el _ hne]; omega
        · exact absurd rfl hne'
      · have a := key k i hk hi' (fun e => hne' e.symm) (fun e => kk (Or.inl e)) (fun e => kk (Or.inr e))
        rw [el k (fun e => kk (Or.inr e)), eh k (fun e => kk (Or.inl e)) (fun e => kk (Or.inr e))]
        omega
    · have a := key i k hi' hk hne' (fun e => ii (Or.inl e)) (fun e => ii (Or.inr e))
      rw [el i (fun e => ii (Or.inr e)), eh i (fun e => ii (Or.inl e)) (fun e => ii (Or.inr e))]
      exact a
def rrR (R P : Nat → Option Nat) (p r : Nat) : Nat → Option Nat :=
  va_up (match P p with | none => R | some q => if R q = some p then va_up R q (some r) else R) r (some p)
def rrL (L R P : Nat → Option Nat) (p r : Nat) : Nat → Option Nat :=
  (match P p with | none => va_up L p (R r) | some q => if R q = some p then va_up L p (R r) else va_up (va_up L p (R r)) q (some r))
def rrP (R P : Nat → Option Nat) (p r : Nat) : Nat → Option Nat :=
  va_up (va_up (match R r with | none => P | some c => va_up P c (some p)) r (P p)) p (some r)
def rrT (P : Nat → Option Nat) (rt : Option Nat) (p r : Nat) : Option Nat := match P p with | none => some r | some _ => rt

theorem WT.rotR {D L R P rt lo hi} (w : WT D L R P rt lo hi) {p r : Nat} (hp : D p) (hr : L p = some r) :
    WT D (rrL L R P p r) (rrR R P p r) (rrP R P p r) (rrT P rt p r) (va_up lo p (r + 1)) (va_up hi r (hi p)) := by
  obtain ⟨iv, ln, ls, rn, rs, pn, ps, tn, ts, lam⟩ := w
  have h1 := ls p r hp hr
  have i1 := iv p hp
  have i2 := iv r h1.1
  have hne : p ≠ r := by omega
  have hpar : ∀ q, P p = some q → D q ∧ (R q = some p ∨ L q = some p) := fun q h => ⟨(ps p q hp h).1, (ps p q hp h).2.symm⟩
  have hq1 : ∀ q, P p = some q → q ≠ p ∧ q ≠ r := fun q h => by
    have a := hpar q h
    rcases a.2 with b | b
    · have c := rs q p a.1 b; have := iv q a.1; exact ⟨by omega, by intro e; subst e; omega⟩
    · have c := ls q p a.1 b; have := iv q a.1; exact ⟨by omega, by intro e; subst e; omega⟩
  have hRu : ∀ k, D k → R k = some p → P p = some k := fun k hk h => (rs k p hk h).2.2.2
  have hLu : ∀ k, D k → L k = some p → P p = some k := fun k hk h => (ls k p hk h).2.2.2
  have hRr : ∀ k, D k → R k = some r → k = p := fun k hk h => by have := (rs k r hk h).2.2.2; rw [h1.2.2.2] at this; cases this; rfl
  have hLr : ∀ k, D k → L k = some r → k = p := fun k hk h => by have := (ls k r hk h).2.2.2; rw [h1.2.2.2] at this; cases this; rfl
  refine ⟨?g1, ?g4, ?g5, ?g2, ?g3, ?g6, ?g7, ?g8, ?g9, ?g10⟩
  case g1 =>
    clear rn rs ln ls pn ps tn ts lam hpar hq1 hRu hLu hRr hLr
    intro k hk; have := iv k hk; unfold va_up; split <;> split <;> omega
  case g2 =>
    clear rs ln ls pn ps tn ts lam
    intro k hk; unfold rrR; cases hP : P p with
    | none => have := rn k hk; unfold va_up; grind
    | some q =>
      have b := hq1 q hP
      have hk' := rn k hk
      intro h x hx1 hx2
      have e : va_up hi r (hi p) k = if k = r then hi p else hi k := rfl
      have : k ≠ r := fun e2 => by subst e2; unfold va_up at h; rw [if_pos rfl] at h; cases h
      rw [e, if_neg this] at hx2
      refine hk' ?_ x hx1 hx2
      unfold va_up at h
      dsimp only at h
      rw [if_neg this] at h
      by_cases hR : R q = some p
      · rw [if_pos hR] at h
        by_cases e3 : k = q
        · rw [if_pos e3] at h; cases h
        · rw [if_neg e3] at h; exact h
      · rw [if_neg hR] at h; exact h
  case g3 =>
    clear rn ln pn tn ts lam
    intro k j hk; unfold rrR rrP; cases hP : P p with
    | none => cases hR : R r with
      | none => unfold va_up; grind
      | some c => have := rs r c h1.1 hR; unfold va_up; grind
    | some q =>
      have a := hpar q hP
      have b := hq1 q hP
      by_cases hRq : R q = some p
      · simp only [hRq, if_true]; cases hR : R r with
        | none => unfold va_up; grind
        | some c => have := rs r c h1.1 hR; unfold va_up; grind
      · simp only [hRq, if_false]; cases hR : R r with
        | none => unfold va_up; grind
        | some c => have := rs r c h1.1 hR; unfold va_up; grind
  case g4 =>
    clear rs ls pn ps tn ts lam
    intro k hk; unfold rrL; cases hP : P p with
    | none => have := ln k hk; have := rn r h1.1; unfold va_up; grind
    | some q =>
      have b := hq1 q hP
      have hk' := ln k hk
      have hr' := rn r h1.1
      by_cases hR : R q = some p
      · simp only [hR, if_true]; unfold va_up; grind
      · simp only [hR, if_false]; unfold va_up; grind
  case g5 =>
    clear rn ln pn tn ts lam
    intro k j hk; unfold rrL rrP; cases hP : P p with
    | none => cases hR : R r with
      | none => unfold va_up; grind
      | some c => have := rs r c h1.1 hR; unfold va_up; grind
    | some q =>
      have a := hpar q hP
      have b := hq1 q hP
      by_cases hRq : R q = some p
      · simp only [hRq, if_true]; cases hR : R r with
        | none => unfold va_up; grind
        | some c => have := rs r c h1.1 hR; unfold va_up; grind
      · simp only [hRq, if_false]; cases hR : R r with
        | none => unfold va_up; grind
        | some c => have := rs r c h1.1 hR; unfold va_up; grind
  case g6 =>
    clear rn ln tn ts lam
    intro k hk; unfold rrP rrT; cases hP : P p with
    | none => cases hR : R r with
      | none => unfold va_up; grind
      | some c => unfold va_up; grind
    | some q => cases hR : R r with
      | none => unfold va_up; grind
      | some c => unfold va_up; grind
  case g7 =>
    clear rn ln pn tn ts lam
    intro k x hk; unfold rrR rrL rrP; cases hP : P p with
    | none => cases hR : R r with
      | none => unfold va_up; grind
      | some c => have := rs r c h1.1 hR; unfold va_up; grind
    | some q =>
      have a := hpar q hP
      have b := hq1 q hP
      by_cases hRq : R q = some p
      · simp only [hRq, if_true]; cases hR : R r with
        | none => unfold va_up; grind
        | some c => have := rs r c h1.1 hR; unfold va_up; grind
      · simp only [hRq, if_false]; cases hR : R r with
        | none => unfold va_up; grind
        | some c => have := rs r c h1.1 hR; unfold va_up; grind
  case g8 =>
    clear rn rs ln ls pn ps ts lam
    unfold rrT; grind
  case g9 =>
    clear rn ln tn lam
    intro x; unfold rrT rrP; cases hP : P p with
    | none => have := pn p hp hP; cases hR : R r with
      | none => unfold va_up; grind
      | some c => have := rs r c h1.1 hR; unfold va_up; grind
    | some q =>
      have a := hpar q hP
      have b := hq1 q hP
      by_cases hRq : R q = some p
      · simp only [hRq, if_true]; cases hR : R r with
        | none => unfold va_up; grind
        | some c => have := rs r c h1.1 hR; unfold va_up; grind
      · simp only [hRq, if_false]; cases hR : R r with
        | none => unfold va_up; grind
        | some c => have := rs r c h1.1 hR; unfold va_up; grind
  case g10 =>
    clear rn rs ln ls pn ps tn ts hpar hq1 hRu hLu hRr hLr
    have key : ∀ i k, D i → D k → i ≠ k → i ≠ p → i ≠ r → (lo i ≤ va_up lo p (r + 1) k ∧ va_up hi r (hi p) k ≤ i) ∨ (i < va_up lo p (r + 1) k ∧ va_up hi r (hi p) k ≤ hi i) ∨ (va_up lo p (r + 1) k ≤ lo i ∧ hi i ≤ k) ∨ (k < lo i ∧ hi i ≤ va_up hi r (hi p) k) ∨ hi i ≤ va_up lo p (r + 1) k ∨ va_up hi r (hi p) k ≤ lo i := by
      intro i k hi' hk hne' ip ir
      have a := lam i k hi' hk hne'; have b := lam i p hi' hp ip; have c := lam i r hi' h1.1 ir; have d := iv i hi'; have e := iv k hk
      unfold va_up
      clear lam iv
      split <;> split <;> (subst_vars; omega)
    have el : ∀ j, j ≠ p → va_up lo p (r + 1) j = lo j := fun j h => if_neg h
    have eh : ∀ j, j ≠ r → va_up hi r (hi p) j = hi j := fun j h => if_neg h
    have er : va_up lo p (r + 1) p = r + 1 := if_pos rfl
    have ehr : va_up hi r (hi p) r = hi p := if_pos rfl
    intro i k hi' hk hne'
    by_cases ii : i = p ∨ i = r
    · by_cases kk : k = p ∨ k = r
      · rcases ii with rfl | rfl <;> rcases kk with rfl | rfl
        · exact absurd rfl hne'
        · rw [er, ehr, eh _ hne, el _ (fun e => hne e.symm)]; omega
        · rw [er, ehr, eh _ hne, el _ (fun e => hne e.symm)]; omega
        · exact absurd rfl hne'
      · have a := key k i hk hi' (fun e => hne' e.symm) (fun e => kk (Or.inl e)) (fun e => kk (Or.inr e))
        rw [el k (fun e => kk (Or.inl e)), eh k (fun e => kk (Or.inr e))]
        omega
    · have a := key i k hi' hk hne' (fun e => ii (Or.inl e)) (fun e => ii (Or.inr e))
      rw [el i (fun e => ii (Or.inl e)), eh i (fun e => ii (Or.inr e))]
      exact a

theorem WT.insL {D L R P rt lo hi} (w : WT D L R P rt lo hi) {i z : Nat} (hi' : D i) (hl : L i = none) (h1 : lo i ≤ z) (h2 : z < i) :
    WT (fun k => k = z ∨ D k) (va_up (va_up L i (some z)) z none) (va_up R z none) (va_up P z (some i)) rt (va_up lo z (lo i)) (va_up hi z i) := by
  obtain ⟨iv, ln, ls, rn, rs, pn, ps, tn, ts, lam⟩ := w
  have i1 := iv i hi'
  have hz := ln i hi' hl
  have hDz := hz z h1 h2
  have hzi : z ≠ i := by omega
  have sl : ∀ k, D k → k ≠ i → lo k ≤ z → z < hi k → (L k = none → ¬ z < k) ∧ (R k = none → ¬ k < z) := by
    intro k hk hne ha hb
    have a := lam i k hi' hk (fun e => hne e.symm)
    have b := iv k hk
    constructor
    · intro e1 e2
      have c := ln k hk e1 i
      have d := hz k
      by_cases q : lo k ≤ i ∧ i < k
      · exact c q.1 q.2 hi'
      · by_cases q2 : lo i ≤ k ∧ k < i
        · exact d q2.1 q2.2 hk
        · omega
    · intro e1 e2
      have c := rn k hk e1 i
      have d := hz k
      by_cases q : k < i ∧ i < hi k
      · exact c q.1 q.2 hi'
      · by_cases q2 : lo i ≤ k ∧ k < i
        · exact d q2.1 q2.2 hk
        · omega
  refine ⟨?_, ?_, ?_, ?_, ?_, ?_, ?_, ?_, ?_, ?_⟩
  · intro k hk; clear sl lam ln ls rn rs pn ps tn ts; unfold va_up; rcases hk with rfl | hk
    · rw [if_pos rfl, if_pos rfl]; omega
    · have := iv k hk; have : k ≠ z := fun e => hDz (e ▸ hk); rw [if_neg this, if_neg this]; omega
  · intro k hk hn x hx1 hx2 hx
    rcases hk with rfl | hk
    · unfold va_up at hx1; rw [if_pos rfl] at hx1
      rcases hx with rfl | hx
      · omega
      · exact hz x (by omega) (by omega) hx
    · have e : k ≠ z := fun e => hDz (e ▸ hk)
      unfold va_up at hx1 hn; rw [if_neg e] at hx1 hn
      by_cases e2 : k = i
      · rw [if_pos e2] at hn; cases hn
      · rw [if_neg e2] at hn
        rcases hx with rfl | hx
        · have := iv k hk; exact (sl k hk e2 hx1 (by omega)).1 hn hx2
        · exact ln k hk hn x hx1 hx2 hx
  · intro k j hk hn; clear sl lam ln rn rs pn ps tn ts
    rcases hk with rfl | hk
    · unfold va_up at hn; rw [if_pos rfl] at hn; cases hn
    · have e : k ≠ z := fun e => hDz (e ▸ hk)
      unfold va_up at hn; rw [if_neg e] at hn
      by_cases e2 : k = i
      · subst e2; rw [if_pos rfl] at hn; cases hn
        unfold va_up; rw [if_pos rfl, if_pos rfl, if_pos rfl, if_neg e]; exact ⟨Or.inl rfl, rfl, rfl, rfl⟩
      · rw [if_neg e2] at hn
        have a := ls k j hk hn
        have e3 : j ≠ z := fun q => hDz (q ▸ a.1)
        unfold va_up; rw [if_neg e3, if_neg e3, if_neg e3, if_neg e]; exact ⟨Or.inr a.1, a.2⟩
  · intro k hk hn x hx1 hx2 hx
    rcases hk with rfl | hk
    · unfold va_up at hx2; rw [if_pos rfl] at hx2
      rcases hx with rfl | hx
      · omega
      · exact hz x (by omega) (by omega) hx
    · have e : k ≠ z := fun e => hDz (e ▸ hk)
      unfold va_up at hx2 hn; rw [if_neg e] at hx2 hn
      rcases hx with rfl | hx
      · have := iv k hk
        by_cases e2 : k = i
        · omega
        · exact (sl k hk e2 (by omega) hx2).2 hn hx1
      · exact rn k hk hn x hx1 hx2 hx
  · intro k j hk hn; clear sl lam ln rn ls pn ps tn ts
    rcases hk with rfl | hk
    · unfold va_up at hn; rw [if_pos rfl] at hn; cases hn
    · have e : k ≠ z := fun e => hDz (e ▸ hk)
      unfold va_up at hn; rw [if_neg e] at hn
      have a := rs k j hk hn
      have e3 : j ≠ z := fun q => hDz (q ▸ a.1)
      unfold va_up; rw [if_neg e3, if_neg e3, if_neg e3, if_neg e]; exact ⟨Or.inr a.1, a.2⟩
  · intro k hk hn
    rcases hk with rfl | hk
    · unfold va_up at hn; rw [if_pos rfl] at hn; cases hn
    · have e : k ≠ z := fun e => hDz (e ▸ hk)
      unfold va_up at hn; rw [if_neg e] at hn
      exact pn k hk hn
  · intro k p hk hn
    rcases hk with rfl | hk
    · unfold va_up at hn; rw [if_pos rfl] at hn; cases hn
      refine ⟨Or.inr hi', Or.inl ?_⟩
      unfold va_up; rw [if_neg (fun q => hzi q.symm), if_pos rfl]
    · have e : k ≠ z := fun e => hDz (e ▸ hk)
      unfold va_up at hn; rw [if_neg e] at hn
      have a := ps k p hk hn
      have e3 : p ≠ z := fun q => hDz (q ▸ a.1)
      refine ⟨Or.inr a.1, ?_⟩
      unfold va_up; rw [if_neg e3, if_neg e3]
      by_cases e4 : p = i
      · subst e4; rw [hl] at a; rw [if_pos rfl]; rcases a.2 with q | q
        · cases q
        · exact Or.inr q
      · rw [if_neg e4]; exact a.2
  · intro e x; exact fun _ => tn e i hi'
  · intro r e
    have a := ts r e
    have e3 : r ≠ z := fun q => hDz (q ▸ a.1)
    unfold va_up; rw [if_neg e3, if_neg e3, if_neg e3]; exact ⟨Or.inr a.1, a.2⟩
  · have key : ∀ k, D k → (lo k ≤ lo i ∧ i ≤ k) ∨ (k < lo i ∧ i ≤ hi k) ∨ i ≤ lo k ∨ hi k ≤ lo i := by
      intro k hk
      by_cases e : k = i
      · subst e; left; omega
      · have a := lam i k hi' hk (fun q => e q.symm); have b := iv k hk; have d := hz k
        by_cases q2 : lo i ≤ k ∧ k < i
        · exact absurd hk (d q2.1 q2.2)
        · omega
    intro a b ha hb hab
    unfold va_up
    rcases ha with rfl | ha
    · rcases hb with rfl | hb
      · exact absurd rfl hab
      · rw [if_pos rfl, if_pos rfl, if_neg (fun q => hab q.symm), if_neg (fun q => hab q.symm)]
        have := key b hb; omega
    · have e : a ≠ z := fun e => hDz (e ▸ ha)
      rw [if_neg e, if_neg e]
      rcases hb with rfl | hb
      · rw [if_pos rfl, if_pos rfl]; have := key a ha; omega
      · have e2 : b ≠ z := fun e => hDz (e ▸ hb)
        rw [if_neg e2, if_neg e2]; exact lam a b ha hb hab

theorem WT.insR {D L R P rt lo hi} (w : WT D L R P rt lo hi) {i z : Nat} (hi' : D i) (hl : R i = none) (h1 : i < z) (h2 : z < hi i) :
    WT (fun k => k = z ∨ D k) (va_up L z none) (va_up (va_up R i (some z)) z none) (va_up P z (some i)) rt (va_up lo z (i + 1)) (va_up hi z (hi i)) := by
  obtain ⟨iv, ln, ls, rn, rs, pn, ps, tn, ts, lam⟩ := w
  have i1 := iv i hi'
  have hz := rn i hi' hl
  have hDz := hz z h1 h2
  have hzi : z ≠ i := by omega
  have sl : ∀ k, D k → k ≠ i → lo k ≤ z → z < hi k → (L k = none → ¬ z < k) ∧ (R k = none → ¬ k < z) := by
    intro k hk hne ha hb
    have a := lam i k hi' hk (fun e => hne e.symm)
    have b := iv k hk
    constructor
    · intro e1 e2
      have c := ln k hk e1 i
      have d := hz k
      by_cases q : lo k ≤ i ∧ i < k
      · exact c q.1 q.2 hi'
      · by_cases q2 : i < k ∧ k < hi i
        · exact d q2.1 q2.2 hk
        · omega
    · intro e1 e2
      have c := rn k hk e1 i
      have d := hz k
      by_cases q : k < i ∧ i < hi k
      · exact c q.1 q.2 hi'
      · by_cases q2 : i < k ∧ k < hi i
        · exact d q2.1 q2.2 hk
        · omega
  refine ⟨?_, ?_, ?_, ?_, ?_, ?_, ?_, ?_, ?_, ?_⟩
  · intro k hk; clear sl lam ln ls rn rs pn ps tn ts; unfold va_up; rcases hk with rfl | hk
    · rw [if_pos rfl, if_pos rfl]; omega
    · have := iv k hk; have : k ≠ z := fun e => hDz (e ▸ hk); rw [if_neg this, if_neg this]; omega
  · intro k hk hn x hx1 hx2 hx
    rcases hk with rfl | hk
    · unfold va_up at hx1; rw [if_pos rfl] at hx1
      rcases hx with rfl | hx
      · omega
      · exact hz x (by omega) (by omega) hx
    · have e : k ≠ z := fun e => hDz (e ▸ hk)
      unfold va_up at hx1 hn; rw [if_neg e] at hx1 hn
      rcases hx with rfl | hx
      · have := iv k hk
        by_cases e2 : k = i
        · omega
        · exact (sl k hk e2 hx1 (by omega)).1 hn hx2
      · exact ln k hk hn x hx1 hx2 hx
  · intro k j hk hn; clear sl lam ln rn rs pn ps tn ts
    rcases hk with rfl | hk
    · unfold va_up at hn; rw [if_pos rfl] at hn; cases hn
    · have e : k ≠ z := fun e => hDz (e ▸ hk)
      unfold va_up at hn; rw [if_neg e] at hn
      have a := ls k j hk hn
      have e3 : j ≠ z := fun q => hDz (q ▸ a.1)
      unfold va_up; rw [if_neg e3, if_neg e3, if_neg e3, if_neg e]; exact ⟨Or.inr a.1, a.2⟩
  · intro k hk hn x hx1 hx2 hx
    rcases hk with rfl | hk
    · unfold va_up at hx2; rw [if_pos rfl] at hx2
      rcases hx with rfl | hx
      · omega
      · exact hz x (by omega) (by omega) hx
    · have e : k ≠ z := fun e => hDz (e ▸ hk)
      unfold va_up at hx2 hn; rw [if_neg e] at hx2 hn
      by_cases e2 : k = i
      · rw [if_pos e2] at hn; cases hn
      · rw [if_neg e2] at hn
        rcases hx with rfl | hx
        · have := iv k hk; exact (sl k hk e2 (by omega) hx2).2 hn hx1
        · exact rn k hk hn x hx1 hx2 hx
  · intro k j hk hn; clear sl lam ln rn ls pn ps tn ts
    rcases hk with rfl | hk
    · unfold va_up at hn; rw [if_pos rfl] at hn; cases hn
    · have e : k ≠ z := fun e => hDz (e ▸ hk)
      unfold va_up at hn; rw [if_neg e] at hn
      by_cases e2 : k = i
      · subst e2; rw [if_pos rfl] at hn; cases hn
        unfold va_up; rw [if_pos rfl, if_pos rfl, if_pos rfl, if_neg e]; exact ⟨Or.inl rfl, rfl, rfl, rfl⟩
      · rw [if_neg e2] at hn
        have a := rs k j hk hn
        have e3 : j ≠ z := fun q => hDz (q ▸ a.1)
        unfold va_up; rw [if_neg e3, if_neg e3, if_neg e3, if_neg e]; exact ⟨Or.inr a.1, a.2⟩
  · intro k hk hn
    rcases hk with rfl | hk
    · unfold va_up at hn; rw [if_pos rfl] at hn; cases hn
    · have e : k ≠ z := fun e => hDz (e ▸ hk)
      unfold va_up at hn; rw [if_neg e] at hn
      exact pn k hk hn
  · intro k p hk hn
    rcases hk with rfl | hk
    · unfold va_up at hn; rw [if_pos rfl] at hn; cases hn
      refine ⟨Or.inr hi', Or.inr ?_⟩
      unfold va_up; rw [if_neg (fun q => hzi q.symm), if_pos rfl]
    · have e : k ≠ z := fun e => hDz (e ▸ hk)
      unfold va_up at hn; rw [if_neg e] at hn
      have a := ps k p hk hn
      have e3 : p ≠ z := fun q => hDz (q ▸ a.1)
      refine ⟨Or.inr a.1, ?_⟩
      unfold va_up; rw [if_neg e3, if_neg e3]
      by_cases e4 : p = i
      · subst e4; rw [hl] at a; rw [if_pos rfl]; rcases a.2 with q | q
        · exact Or.inl q
        · cases q
      · rw [if_neg e4]; exact a.2
  · intro e x; exact fun _ => tn e i hi'
  · intro r e
    have a := ts r e
    have e3 : r ≠ z := fun q => hDz (q ▸ a.1)
    unfold va_up; rw [if_neg e3, if_neg e3, if_neg e3]; exact ⟨Or.inr a.1, a.2⟩
  · have key : ∀ k, D k → (lo k ≤ i + 1 ∧ hi i ≤ k) ∨ (k < i + 1 ∧ hi i ≤ hi k) ∨ hi i ≤ lo k ∨ hi k ≤ i + 1 := by
      intro k hk
      by_cases e : k = i
      · subst e; omega
      · have a := lam i k hi' hk (fun q => e q.symm); have b := iv k hk; have d := hz k
        by_cases q2 : i < k ∧ k < hi i
        · exact absurd hk (d q2.1 q2.2)
        · omega
    intro a b ha hb hab
    unfold va_up
    rcases ha with rfl | ha
    · rcases hb with rfl | hb
      · exact absurd rfl hab
      · rw [if_pos rfl, if_pos rfl, if_neg (fun q => hab q.symm), if_neg (fun q => hab q.symm)]
        have := key b hb; omega
    · have e : a ≠ z := fun e => hDz (e ▸ ha)
      rw [if_neg e, if_neg e]
      rcases hb with rfl | hb
      · rw [if_pos rfl, if_pos rfl]; have := key a ha; omega
      · have e2 : b ≠ z := fun e => hDz (e ▸ hb)
        rw [if_neg e2, if_neg e2]; exact lam a b ha hb hab

theorem WT.one {D : Nat → Prop} {L R P : Nat → Option Nat} {z : Nat} (hD : ∀ k, ¬ D k) (hz : z < BB) : WT (fun k => k = z ∨ D k) (va_up L z none) (va_up R z none) (va_up P z none) (some z) (fun _ => 0) (fun _ => BB) := by
  have h : ∀ k, (k = z ∨ D k) → k = z := fun k q => q.resolve_right (hD k)
  refine ⟨?_, ?_, ?_, ?_, ?_, ?_, ?_, ?_, ?_, ?_⟩
  · intro k hk; have := h k hk; exact ⟨Nat.zero_le _, by subst this; exact hz, Nat.le_refl _⟩
  · intro k hk _ x _ hx2 hx; have := h k hk; have := h x hx; omega
  · intro k j hk hn; rw [h k hk] at hn; unfold va_up at hn; rw [if_pos rfl] at hn; cases hn
  · intro k hk _ x hx2 _ hx; have := h k hk; have := h x hx; omega
  · intro k j hk hn; rw [h k hk] at hn; unfold va_up at hn; rw [if_pos rfl] at hn; cases hn
  · intro k hk _; rw [h k hk]
  · intro k p hk hn; rw [h k hk] at hn; unfold va_up at hn; rw [if_pos rfl] at hn; cases hn
  · intro e; cases e
  · intro r e; cases e; exact ⟨Or.inl rfl, rfl, rfl, if_pos rfl⟩
  · intro a b ha hb hab; exact absurd ((h a ha).trans (h b hb).symm) hab

def rpl (F : Nat → Option Nat) (q : Nat) (c : Option Nat) : Nat → Option Nat := fun k => if F k = some q then c else F k
def rpP (P : Nat → Option Nat) (q : Nat) (c : Option Nat) : Nat → Option Nat := fun k => if some k = c then P q else P k
theorem rpl_c {F : Nat → Option Nat} {q k j : Nat} {c : Option Nat} (h : rpl F q c k = some j) : (F k = some q ∧ c = some j) ∨ (F k = some j ∧ j ≠ q) := by
  unfold rpl at h
  split at h
  · next e => exact Or.inl ⟨e, h⟩
  · next e => exact Or.inr ⟨h, fun z => e (z ▸ h)⟩
theorem rpl_n {F : Nat → Option Nat} {q k : Nat} {c : Option Nat} (h : rpl F q c k = none) : (F k = some q ∧ c = none) ∨ F k = none := by
  unfold rpl at h
  split at h
  · next e => exact Or.inl ⟨e, h⟩
  · exact Or.inr h
theorem rpl_s {F : Nat → Option Nat} {q k : Nat} {c : Option Nat} (h : F k = some q) : rpl F q c k = c := if_pos h
theorem rpl_o {F : Nat → Option Nat} {q k j : Nat} {c : Option Nat} (h : F k = some j) (e : j ≠ q) : rpl F q c k = some j := (if_neg (fun z => e (by rw [h] at z; cases z; rfl))).trans h
theorem rpP_s {P : Nat → Option Nat} {q k : Nat} : rpP P q (some k) k = P q := if_pos rfl
theorem rpP_o {P : Nat → Option Nat} {q k : Nat} {c : Option Nat} (h : some k ≠ c) : rpP P q c k = P k := if_neg h

/-- taking out a key that has no left child -/
theorem WT.delR {D L R P rt lo hi} (w : WT D L R P rt lo hi) {q : Nat} {c : Option Nat} (hq : D q) (hl : L q = none) (hr : R q = c) :
    WT (fun k => D k ∧ k ≠ q) (rpl L q c) (rpl R q c) (rpP P q c) (if rt = some q then c else rt) (fun k => if lo k = q + 1 ∧ k < hi q then lo q else lo k) (hi) := by
  obtain ⟨iv, ln, ls, rn, rs, pn, ps, tn, ts, lam⟩ := w
  have iq := iv q hq
  have hz := ln q hq hl
  have hch : ∀ j, c = some j → D j ∧ lo j = q + 1 ∧ hi j = hi q ∧ P j = some q ∧ j ≠ q := fun j e => by
    have a := rs q j hq (hr.trans e)
    have b := iv j a.1
    exact ⟨a.1, a.2.1, a.2.2.1, a.2.2.2, by omega⟩
  have hno : c = none → ∀ x, lo q ≤ x → x < hi q → x ≠ q → ¬ D x := fun e x h1 h2 h3 => by
    by_cases z : x < q
    · exact ln q hq hl x h1 z
    · exact rn q hq (hr.trans e) x (by omega) h2
  have hPc : ∀ k j, P j = some k → k ≠ q → some j ≠ c := fun k j e n z => by
    have := (hch j z.symm).2.2.2.1
    rw [this] at e; cases e; exact n rfl
  have hl0 : ∀ k, lo k = lo q → (if lo k = q + 1 ∧ k < hi q then lo q else lo k) = lo k := fun k e => if_neg (by omega)
  refine ⟨?_, ?_, ?_, ?_, ?_, ?_, ?_, ?_, ?_, ?_⟩
  · intro k hk
    have a := lam k q hk.1 hq hk.2; have b := iv k hk.1
    show (if lo k = q + 1 ∧ k < hi q then lo q else lo k) ≤ k ∧ k < hi k ∧ hi k ≤ BB
    clear lam iv ln ls rn rs pn ps tn ts hz hch hno hPc hl0
    split <;> omega
  · intro k hk hn x hx1 hx2 hx
    have a := lam k q hk.1 hq hk.2; have b := iv k hk.1
    have hx1 : (if lo k = q + 1 ∧ k < hi q then lo q else lo k) ≤ x := hx1
    rcases rpl_n hn with e | e
    · have c1 := ls k q hk.1 e.1
      refine hno e.2 x ?_ (by omega) hx.2 hx.1
      rw [if_neg (by omega)] at hx1; omega
    · by_cases e2 : lo k = q + 1 ∧ k < hi q
      · rw [if_pos e2] at hx1
        by_cases e3 : x < q
        · exact hz x hx1 e3 hx.1
        · have := hx.2; exact ln k hk.1 e x (by omega) hx2 hx.1
      · rw [if_neg e2] at hx1; exact ln k hk.1 e x hx1 hx2 hx.1
  · intro k j hk hn
    have b := iv k hk.1
    show (D j ∧ j ≠ q) ∧ (if lo j = q + 1 ∧ j < hi q then lo q else lo j) = (if lo k = q + 1 ∧ k < hi q then lo q else lo k) ∧ hi j = k ∧ rpP P q c j = some k
    rcases rpl_c hn with e | e
    · have c1 := ls k q hk.1 e.1
      have c2 := hch j e.2; have b2 := iv j c2.1
      refine ⟨⟨c2.1, c2.2.2.2.2⟩, ?_, ?_, by rw [e.2, rpP_s]; exact c1.2.2.2⟩
      · rw [if_pos (by omega), if_neg (by omega)]; omega
      · omega
    · have c1 := ls k j hk.1 e.1
      refine ⟨⟨c1.1, e.2⟩, ?_, ?_, (rpP_o (hPc k j c1.2.2.2 hk.2)).trans c1.2.2.2⟩
      · have b2 := iv j c1.1; have a9 := lam k q hk.1 hq hk.2; split <;> split <;> omega
      · exact c1.2.2.1
  · intro k hk hn x hx1 hx2 hx
    have a := lam k q hk.1 hq hk.2; have b := iv k hk.1
    have hx2 : x < hi k := hx2
    rcases rpl_n hn with e | e
    · have c1 := rs k q hk.1 e.1
      refine hno e.2 x (by omega) ?_ hx.2 hx.1
      omega
    · exact rn k hk.1 e x hx1 hx2 hx.1
  · intro k j hk hn
    have b := iv k hk.1
    show (D j ∧ j ≠ q) ∧ (if lo j = q + 1 ∧ j < hi q then lo q else lo j) = k + 1 ∧ hi j = hi k ∧ rpP P q c j = some k
    rcases rpl_c hn with e | e
    · have c1 := rs k q hk.1 e.1
      have c2 := hch j e.2; have b2 := iv j c2.1
      refine ⟨⟨c2.1, c2.2.2.2.2⟩, ?_, ?_, by rw [e.2, rpP_s]; exact c1.2.2.2⟩
      · rw [if_pos (by omega)]; omega
      · omega
    · have c1 := rs k j hk.1 e.1
      refine ⟨⟨c1.1, e.2⟩, ?_, ?_, (rpP_o (hPc k j c1.2.2.2 hk.2)).trans c1.2.2.2⟩
      · rw [if_neg (fun z => hk.2 (by omega))]; exact c1.2.1
      · exact c1.2.2.1
  · intro k hk hn
    by_cases e : some k = c
    · rw [← e, rpP_s] at hn
      rw [if_pos (pn q hq hn), e]
    · rw [rpP_o e] at hn
      have a := pn k hk.1 hn
      rw [if_neg (fun z => hk.2 (by rw [a] at z; cases z; rfl))]; exact a
  · intro k p hk hn
    by_cases e : some k = c
    · rw [← e, rpP_s] at hn
      have a := ps q p hq hn
      have n1 : p ≠ q := fun z => by
        subst z
        rcases a.2 with d | d
        · have := ls p p hq d; omega
        · have := rs p p hq d; omega
      exact ⟨⟨a.1, n1⟩, a.2.imp (fun d => (rpl_s d).trans e.symm) (fun d => (rpl_s d).trans e.symm)⟩
    · rw [rpP_o e] at hn
      have a := ps k p hk.1 hn
      have n1 : p ≠ q := fun z => by
        subst z
        rcases a.2 with d | d
        · rw [hl] at d; cases d
        · exact e (d.symm.trans hr)
      exact ⟨⟨a.1, n1⟩, a.2.imp (fun d => rpl_o d hk.2) (fun d => rpl_o d hk.2)⟩
  · intro e x hx
    by_cases z : rt = some q
    · rw [if_pos z] at e
      have a := ts q z
      have b := iv x hx.1
      exact hno e x (by omega) (by omega) hx.2 hx.1
    · rw [if_neg z] at e; exact tn e q hq
  · intro r e
    show (D r ∧ r ≠ q) ∧ (if lo r = q + 1 ∧ r < hi q then lo q else lo r) = 0 ∧ hi r = BB ∧ rpP P q c r = none
    by_cases z : rt = some q
    · rw [if_pos z] at e
      have a := ts q z
      have c2 := hch r e; have b2 := iv r c2.1
      refine ⟨⟨c2.1, c2.2.2.2.2⟩, ?_, ?_, by rw [e, rpP_s]; exact a.2.2.2⟩
      · rw [if_pos (by omega)]; omega
      · omega
    · rw [if_neg z] at e
      have a := ts r e
      refine ⟨⟨a.1, fun y => z (y ▸ e)⟩, ?_, ?_, (rpP_o (fun y => ?_)).trans a.2.2.2⟩
      · rw [if_neg (by omega)]; exact a.2.1
      · exact a.2.2.1
      · have := (hch r y.symm).2.2.2.1; rw [this] at a; cases a.2.2.2
  · intro i k hi2 hk hik
    have a := lam i k hi2.1 hk.1 hik
    have b := lam i q hi2.1 hq hi2.2
    have c1 := lam k q hk.1 hq hk.2
    have d1 := iv i hi2.1
    have d2 := iv k hk.1
    have z1 : ¬ (lo q ≤ i ∧ i < q) := fun z => hz i z.1 z.2 hi2.1
    have z2 : ¬ (lo q ≤ k ∧ k < q) := fun z => hz k z.1 z.2 hk.1
    clear ln ls rn rs pn ps tn ts lam iv hz hch hno hPc hl0
    show ((if lo i = q + 1 ∧ i < hi q then lo q else lo i) ≤ (if lo k = q + 1 ∧ k < hi q then lo q else lo k) ∧ hi k ≤ i) ∨ (i < (if lo k = q + 1 ∧ k < hi q then lo q else lo k) ∧ hi k ≤ hi i) ∨ ((if lo k = q + 1 ∧ k < hi q then lo q else lo k) ≤ (if lo i = q + 1 ∧ i < hi q then lo q else lo i) ∧ hi i ≤ k) ∨ (k < (if lo i = q + 1 ∧ i < hi q then lo q else lo i) ∧ hi i ≤ hi k) ∨ hi i ≤ (if lo k = q + 1 ∧ k < hi q then lo q else lo k) ∨ hi k ≤ (if lo i = q + 1 ∧ i < hi q then lo q else lo i)
    split <;> split <;> omega

/-- taking out a key that has no right child -/
theorem WT.delL {D L R P rt lo hi} (w : WT D L R P rt lo hi) {q : Nat} {c : Option Nat} (hq : D q) (hl : R q = none) (hr : L q = c) :
    WT (fun k => D k ∧ k ≠ q) (rpl L q c) (rpl R q c) (rpP P q c) (if rt = some q then c else rt) (lo) (fun k => if hi k = q ∧ lo q ≤ k then hi q else hi k) := by
  obtain ⟨iv, ln, ls, rn, rs, pn, ps, tn, ts, lam⟩ := w
  have iq := iv q hq
  have hz := rn q hq hl
  have hch : ∀ j, c = some j → D j ∧ lo j = lo q ∧ hi j = q ∧ P j = some q ∧ j ≠ q := fun j e => by
    have a := ls q j hq (hr.trans e)
    have b := iv j a.1
    exact ⟨a.1, a.2.1, a.2.2.1, a.2.2.2, by omega⟩
  have hno : c = none → ∀ x, lo q ≤ x → x < hi q → x ≠ q → ¬ D x := fun e x h1 h2 h3 => by
    by_cases z : x < q
    · exact ln q hq (hr.trans e) x h1 z
    · exact rn q hq hl x (by omega) h2
  have hPc : ∀ k j, P j = some k → k ≠ q → some j ≠ c := fun k j e n z => by
    have := (hch j z.symm).2.2.2.1
    rw [this] at e; cases e; exact n rfl
  have hl0 : ∀ k, lo k = lo q → lo k = lo k := fun k e => rfl
  refine ⟨?_, ?_, ?_, ?_, ?_, ?_, ?_, ?_, ?_, ?_⟩
  · intro k hk
    have a := lam k q hk.1 hq hk.2; have b := iv k hk.1
    show lo k ≤ k ∧ k < (if hi k = q ∧ lo q ≤ k then hi q else hi k) ∧ (if hi k = q ∧ lo q ≤ k then hi q else hi k) ≤ BB
    clear lam iv ln ls rn rs pn ps tn ts hz hch hno hPc hl0
    split <;> omega
  · intro k hk hn x hx1 hx2 hx
    have a := lam k q hk.1 hq hk.2; have b := iv k hk.1
    have hx1 : lo k ≤ x := hx1
    rcases rpl_n hn with e | e
    · have c1 := ls k q hk.1 e.1
      refine hno e.2 x ?_ (by omega) hx.2 hx.1
      omega
    · exact ln k hk.1 e x hx1 hx2 hx.1
  · intro k j hk hn
    have b := iv k hk.1
    show (D j ∧ j ≠ q) ∧ lo j = lo k ∧ (if hi j = q ∧ lo q ≤ j then hi q else hi j) = k ∧ rpP P q c j = some k
    rcases rpl_c hn with e | e
    · have c1 := ls k q hk.1 e.1
      have c2 := hch j e.2; have b2 := iv j c2.1
      refine ⟨⟨c2.1, c2.2.2.2.2⟩, ?_, ?_, by rw [e.2, rpP_s]; exact c1.2.2.2⟩
      · omega
      · rw [if_pos (by omega)]; omega
    · have c1 := ls k j hk.1 e.1
      refine ⟨⟨c1.1, e.2⟩, ?_, ?_, (rpP_o (hPc k j c1.2.2.2 hk.2)).trans c1.2.2.2⟩
      · exact c1.2.1
      · rw [if_neg (fun z => hk.2 (by omega))]; exact c1.2.2.1
  · intro k hk hn x hx1 hx2 hx
    have a := lam k q hk.1 hq hk.2; have b := iv k hk.1
    have hx2 : x < (if hi k = q ∧ lo q ≤ k then hi q else hi k) := hx2
    rcases rpl_n hn with e | e
    · have c1 := rs k q hk.1 e.1
      refine hno e.2 x (by omega) ?_ hx.2 hx.1
      rw [if_neg (by omega)] at hx2; omega
    · by_cases e2 : hi k = q ∧ lo q ≤ k
      · rw [if_pos e2] at hx2
        by_cases e3 : q < x
        · exact hz x e3 hx2 hx.1
        · have := hx.2; exact rn k hk.1 e x hx1 (by omega) hx.1
      · rw [if_neg e2] at hx2; exact rn k hk.1 e x hx1 hx2 hx.1
  · intro k j hk hn
    have b := iv k hk.1
    show (D j ∧ j ≠ q) ∧ lo j = k + 1 ∧ (if hi j = q ∧ lo q ≤ j then hi q else hi j) = (if hi k = q ∧ lo q ≤ k then hi q else hi k) ∧ rpP P q c j = some k
    rcases rpl_c hn with e | e
    · have c1 := rs k q hk.1 e.1
      have c2 := hch j e.2; have b2 := iv j c2.1
      refine ⟨⟨c2.1, c2.2.2.2.2⟩, ?_, ?_, by rw [e.2, rpP_s]; exact c1.2.2.2⟩
      · omega
      · rw [if_pos (by omega), if_neg (by omega)]; omega
    · have c1 := rs k j hk.1 e.1
      refine ⟨⟨c1.1, e.2⟩, ?_, ?_, (rpP_o (hPc k j c1.2.2.2 hk.2)).trans c1.2.2.2⟩
      · exact c1.2.1
      · have b2 := iv j c1.1; have a9 := lam k q hk.1 hq hk.2; split <;> split <;> omega
  · intro k hk hn
    by_cases e : some k = c
    · rw [← e, rpP_s] at hn
      rw [if_pos (pn q hq hn), e]
    · rw [rpP_o e] at hn
      have a := pn k hk.1 hn
      rw [if_neg (fun z => hk.2 (by rw [a] at z; cases z; rfl))]; exact a
  · intro k p hk hn
    by_cases e : some k = c
    · rw [← e, rpP_s] at hn
      have a := ps q p hq hn
      have n1 : p ≠ q := fun z => by
        subst z
        rcases a.2 with d | d
        · have := ls p p hq d; omega
        · have := rs p p hq d; omega
      exact ⟨⟨a.1, n1⟩, a.2.imp (fun d => (rpl_s d).trans e.symm) (fun d => (rpl_s d).trans e.symm)⟩
    · rw [rpP_o e] at hn
      have a := ps k p hk.1 hn
      have n1 : p ≠ q := fun z => by
        subst z
        rcases a.2 with d | d
        · exact e (d.symm.trans hr)
        · rw [hl] at d; cases d
      exact ⟨⟨a.1, n1⟩, a.2.imp (fun d => rpl_o d hk.2) (fun d => rpl_o d hk.2)⟩
  · intro e x hx
    by_cases z : rt = some q
    · rw [if_pos z] at e
      have a := ts q z
      have b := iv x hx.1
      exact hno e x (by omega) (by omega) hx.2 hx.1
    · rw [if_neg z] at e; exact tn e q hq
  · intro r e
    show (D r ∧ r ≠ q) ∧ lo r = 0 ∧ (if hi r = q ∧ lo q ≤ r then hi q else hi r) = BB ∧ rpP P q c r = none
    by_cases z : rt = some q
    · rw [if_pos z] at e
      have a := ts q z
      have c2 := hch r e; have b2 := iv r c2.1
      refine ⟨⟨c2.1, c2.2.2.2.2⟩, ?_, ?_, by rw [e, rpP_s]; exact a.2.2.2⟩
      · omega
      · rw [if_pos (by omega)]; omega
    · rw [if_neg z] at e
      have a := ts r e
      refine ⟨⟨a.1, fun y => z (y ▸ e)⟩, ?_, ?_, (rpP_o (fun y => ?_)).trans a.2.2.2⟩
      · exact a.2.1
      · rw [if_neg (by omega)]; exact a.2.2.1
      · have := (hch r y.symm).2.2.2.1; rw [this] at a; cases a.2.2.2
  · intro i k hi2 hk hik
    have a := lam i k hi2.1 hk.1 hik
    have b := lam i q hi2.1 hq hi2.2
    have c1 := lam k q hk.1 hq hk.2
    have d1 := iv i hi2.1
    have d2 := iv k hk.1
    have z1 : ¬ (q < i ∧ i < hi q) := fun z => hz i z.1 z.2 hi2.1
    have z2 : ¬ (q < k ∧ k < hi q) := fun z => hz k z.1 z.2 hk.1
    clear ln ls rn rs pn ps tn ts lam iv hz hch hno hPc hl0
    show (lo i ≤ lo k ∧ (if hi k = q ∧ lo q ≤ k then hi q else hi k) ≤ i) ∨ (i < lo k ∧ (if hi k = q ∧ lo q ≤ k then hi q else hi k) ≤ (if hi i = q ∧ lo q ≤ i then hi q else hi i)) ∨ (lo k ≤ lo i ∧ (if hi i = q ∧ lo q ≤ i then hi q else hi i) ≤ k) ∨ (k < lo i ∧ (if hi i = q ∧ lo q ≤ i then hi q else hi i) ≤ (if hi k = q ∧ lo q ≤ k then hi q else hi k)) ∨ (if hi i = q ∧ lo q ≤ i then hi q else hi i) ≤ lo k ∨ (if hi k = q ∧ lo q ≤ k then hi q else hi k) ≤ lo i
    split <;> split <;> omega

/-- one key p for another s that comes next -/
def rnF (F : Nat → Option Nat) (p s : Nat) : Nat → Option Nat := fun k => (F (if k = s then p else k)).map (fun j => if j = p then s else j)
theorem rnF_s {F : Nat → Option Nat} {p s : Nat} : rnF F p s s = (F p).map (fun j => if j = p then s else j) := by unfold rnF; rw [if_pos rfl]
theorem rnF_o {F : Nat → Option Nat} {p s k : Nat} (h : k ≠ s) : rnF F p s k = (F k).map (fun j => if j = p then s else j) := by unfold rnF; rw [if_neg h]
theorem rn_n {o : Option Nat} {p s : Nat} (h : o.map (fun j => if j = p then s else j) = none) : o = none := by cases o with | none => rfl | some x => cases h
theorem rn_c {o : Option Nat} {p s j : Nat} (h : o.map (fun j => if j = p then s else j) = some j) : (o = some p ∧ j = s) ∨ (o = some j ∧ j ≠ p) := by
  cases o with
  | none => cases h
  | some x =>
    have h : (if x = p then s else x) = j := Option.some.inj h
    by_cases e : x = p
    · rw [if_pos e] at h; exact Or.inl ⟨by rw [e], h.symm⟩
    · rw [if_neg e] at h; exact Or.inr ⟨by rw [h], h ▸ e⟩
theorem rn_p {p s : Nat} : (some p).map (fun j => if j = p then s else j) = some s := congrArg some (if_pos rfl)
theorem rn_q {p s k : Nat} (h : k ≠ p) : (some k).map (fun j => if j = p then s else j) = some k := congrArg some (if_neg h)
def rnLo (lo : Nat → Nat) (p s : Nat) : Nat → Nat := fun k => if k = s then lo p else if p < lo k ∧ lo k ≤ s then s + 1 else lo k
def rnHi (lo hi : Nat → Nat) (p s : Nat) : Nat → Nat := fun k => if k = s then hi p else if hi k = p ∧ lo p ≤ k then s else hi k
theorem WT.ren {D L R P rt lo hi} (w : WT D L R P rt lo hi) {p s : Nat} (hp : D p) (h1 : p < s) (h2 : s < hi p) (h3 : ∀ x, p < x → x ≤ s → ¬ D x) :
    WT (fun k => k = s ∨ (D k ∧ k ≠ p)) (rnF L p s) (rnF R p s) (rnF P p s) (rt.map (fun j => if j = p then s else j)) (rnLo lo p s) (rnHi lo hi p s) := by
  obtain ⟨iv, ln, ls, rn, rs, pn, ps, tn, ts, lam⟩ := w
  have ip := iv p hp
  have ns : ∀ k, D k → k ≠ s := fun k hk e => h3 k (by omega) (by omega) hk
  have gap : ∀ k, D k → ¬ (p < k ∧ k ≤ s) := fun k hk e => h3 k e.1 e.2 hk
  have los : rnLo lo p s s = lo p := if_pos rfl
  have his : rnHi lo hi p s s = hi p := if_pos rfl
  have loo : ∀ k, D k → rnLo lo p s k = if p < lo k ∧ lo k ≤ s then s + 1 else lo k := fun k hk => if_neg (ns k hk)
  have hio : ∀ k, D k → rnHi lo hi p s k = if hi k = p ∧ lo p ≤ k then s else hi k := fun k hk => if_neg (ns k hk)
  refine ⟨?_, ?_, ?_, ?_, ?_, ?_, ?_, ?_, ?_, ?_⟩
  · intro k hk
    rcases hk with rfl | hk
    · rw [los, his]; omega
    · have a := iv k hk.1; have b := gap k hk.1; have c := hk.2
      rw [loo k hk.1, hio k hk.1]
      clear ln ls rn rs pn ps tn ts lam iv ns gap loo hio los his h3
      split <;> split <;> omega
  · intro k hk hn x hx1 hx2 hx
    rcases hk with rfl | hk
    · rw [los] at hx1; rw [rnF_s] at hn
      rcases hx with rfl | hx
      · omega
      · have := gap x hx.1; have := hx.2; exact ln p hp (rn_n hn) x hx1 (by omega) hx.1
    · rw [loo k hk.1] at hx1; rw [rnF_o (ns k hk.1)] at hn
      have e := rn_n hn
      have g := gap k hk.1
      rcases hx with rfl | hx
      · by_cases z : p < lo k ∧ lo k ≤ x
        · rw [if_pos z] at hx1; omega
        · rw [if_neg z] at hx1; exact ln k hk.1 e p (by omega) (by omega) hp
      · have g2 := gap x hx.1
        have hx3 := hx.2
        refine ln k hk.1 e x ?_ hx2 hx.1
        revert hx1; split <;> omega
  · intro k j hk hn
    rcases hk with rfl | hk
    · rw [rnF_s] at hn
      rcases rn_c hn with e | e
      · have a := ls p p hp e.1; omega
      · have a := ls p j hp e.1; have b := iv j a.1
        refine ⟨Or.inr ⟨a.1, e.2⟩, ?_, ?_, ?_⟩
        · rw [los, loo j a.1, if_neg (by omega)]; exact a.2.1
        · rw [hio j a.1, if_pos (by omega)]
        · rw [rnF_o (ns j a.1), a.2.2.2, rn_p]
    · rw [rnF_o (ns k hk.1)] at hn
      have b := iv k hk.1
      rcases rn_c hn with e | e
      · have a := ls k p hk.1 e.1
        have e2 := e.2; subst e2
        refine ⟨Or.inl rfl, ?_, ?_, ?_⟩
        · rw [los, loo k hk.1, if_neg (by omega)]; exact a.2.1
        · rw [his]; exact a.2.2.1
        · rw [rnF_s, a.2.2.2, rn_q hk.2]
      · have a := ls k j hk.1 e.1
        refine ⟨Or.inr ⟨a.1, e.2⟩, ?_, ?_, ?_⟩
        · rw [loo k hk.1, loo j a.1, a.2.1]
        · rw [hio j a.1, if_neg (fun z => hk.2 (by omega))]; exact a.2.2.1
        · rw [rnF_o (ns j a.1), a.2.2.2, rn_q hk.2]
  · intro k hk hn x hx1 hx2 hx
    rcases hk with rfl | hk
    · rw [his] at hx2; rw [rnF_s] at hn
      rcases hx with rfl | hx
      · omega
      · exact rn p hp (rn_n hn) x (by omega) hx2 hx.1
    · rw [hio k hk.1] at hx2; rw [rnF_o (ns k hk.1)] at hn
      have e := rn_n hn
      have g := gap k hk.1
      have g9 := hk.2
      have la := lam k p hk.1 hp hk.2
      have ivk := iv k hk.1
      rcases hx with rfl | hx
      · by_cases z : hi k = p ∧ lo p ≤ k
        · rw [if_pos z] at hx2; omega
        · rw [if_neg z] at hx2; exact rn k hk.1 e p (by omega) (by omega) hp
      · have g2 := gap x hx.1
        have hx3 := hx.2
        refine rn k hk.1 e x hx1 ?_ hx.1
        revert hx2; split <;> omega
  · intro k j hk hn
    rcases hk with rfl | hk
    · rw [rnF_s] at hn
      rcases rn_c hn with e | e
      · have a := rs p p hp e.1; omega
      · have a := rs p j hp e.1; have b := iv j a.1
        refine ⟨Or.inr ⟨a.1, e.2⟩, ?_, ?_, ?_⟩
        · rw [loo j a.1, if_pos (by omega)]
        · rw [his, hio j a.1, if_neg (by omega)]; exact a.2.2.1
        · rw [rnF_o (ns j a.1), a.2.2.2, rn_p]
    · rw [rnF_o (ns k hk.1)] at hn
      have b := iv k hk.1
      have g := gap k hk.1
      have g9 := hk.2
      rcases rn_c hn with e | e
      · have a := rs k p hk.1 e.1
        have e2 := e.2; subst e2
        refine ⟨Or.inl rfl, ?_, ?_, ?_⟩
        · rw [los]; exact a.2.1
        · rw [his, hio k hk.1, if_neg (by omega)]; exact a.2.2.1
        · rw [rnF_s, a.2.2.2, rn_q hk.2]
      · have a := rs k j hk.1 e.1; have b2 := iv j a.1
        have la := lam k p hk.1 hp hk.2
        have la2 := lam j p a.1 hp e.2
        refine ⟨Or.inr ⟨a.1, e.2⟩, ?_, ?_, ?_⟩
        · rw [loo j a.1, if_neg (by omega)]; exact a.2.1
        · rw [hio k hk.1, hio j a.1]
          clear ln ls rn rs pn ps tn ts lam iv ns gap loo hio los his h3
          split <;> split <;> omega
        · rw [rnF_o (ns j a.1), a.2.2.2, rn_q hk.2]
  · intro k hk hn
    rcases hk with rfl | hk
    · rw [rnF_s] at hn; rw [pn p hp (rn_n hn), rn_p]
    · rw [rnF_o (ns k hk.1)] at hn; rw [pn k hk.1 (rn_n hn), rn_q hk.2]
  · have fin : ∀ k p', D k → D p' → P k = some p' → ((if p' = p then s else p') = s ∨ (D (if p' = p then s else p') ∧ (if p' = p then s else p') ≠ p)) ∧ (rnF L p s (if p' = p then s else p') = some (if k = p then s else k) ∨ rnF R p s (if p' = p then s else p') = some (if k = p then s else k)) := by
      intro k p' hk hp' e
      have a := ps k p' hk e
      by_cases z : p' = p
      · subst z
        rw [if_pos rfl, rnF_s, rnF_s]
        refine ⟨Or.inl rfl, a.2.imp (fun d => by rw [d]; rfl) (fun d => by rw [d]; rfl)⟩
      · rw [if_neg z, rnF_o (ns p' hp'), rnF_o (ns p' hp')]
        exact ⟨Or.inr ⟨hp', z⟩, a.2.imp (fun d => by rw [d]; rfl) (fun d => by rw [d]; rfl)⟩
    intro k p' hk hn
    rcases hk with rfl | hk
    · rw [rnF_s] at hn
      rcases rn_c hn with e | e
      · have a := fin p p hp hp e.1; rw [if_pos rfl] at a; rw [e.2]; exact a
      · have a := fin p p' hp (ps p p' hp e.1).1 e.1; rw [if_pos (rfl : p = p), if_neg e.2] at a; exact a
    · rw [rnF_o (ns k hk.1)] at hn
      rcases rn_c hn with e | e
      · have a := fin k p hk.1 hp e.1; rw [if_pos rfl, if_neg hk.2] at a; rw [e.2]; exact a
      · have a := fin k p' hk.1 (ps k p' hk.1 e.1).1 e.1; rw [if_neg e.2, if_neg hk.2] at a; exact a
  · intro e x _; exact tn (rn_n e) p hp
  · intro r e
    rcases rn_c e with e | e
    · have a := ts p e.1
      rw [e.2, los, his, rnF_s, a.2.2.2]; exact ⟨Or.inl rfl, a.2.1, a.2.2.1, rfl⟩
    · have a := ts r e.1
      refine ⟨Or.inr ⟨a.1, e.2⟩, ?_, ?_, ?_⟩
      · rw [loo r a.1, if_neg (by omega)]; exact a.2.1
      · rw [hio r a.1, if_neg (by omega)]; exact a.2.2.1
      · rw [rnF_o (ns r a.1), a.2.2.2]; rfl
  · have key : ∀ i k, D i → i ≠ p → D k → k ≠ p → i ≠ k → (rnLo lo p s i ≤ rnLo lo p s k ∧ rnHi lo hi p s k ≤ i) ∨ (i < rnLo lo p s k ∧ rnHi lo hi p s k ≤ rnHi lo hi p s i) ∨ (rnLo lo p s k ≤ rnLo lo p s i ∧ rnHi lo hi p s i ≤ k) ∨ (k < rnLo lo p s i ∧ rnHi lo hi p s i ≤ rnHi lo hi p s k) ∨ rnHi lo hi p s i ≤ rnLo lo p s k ∨ rnHi lo hi p s k ≤ rnLo lo p s i := by
      intro i k hi1 hip hk hkp hik
      have a := lam i k hi1 hk hik; have b := lam i p hi1 hp hip; have c := lam k p hk hp hkp
      have d1 := iv i hi1; have d2 := iv k hk; have g1 := gap i hi1; have g2 := gap k hk
      rw [loo i hi1, hio i hi1, loo k hk, hio k hk]
      clear ln ls rn rs pn ps tn ts lam iv ns gap loo hio los his h3
      split <;> split <;> split <;> split <;> omega
    have key2 : ∀ k, D k → k ≠ p → (lo p ≤ rnLo lo p s k ∧ rnHi lo hi p s k ≤ s) ∨ (s < rnLo lo p s k ∧ rnHi lo hi p s k ≤ hi p) ∨ (rnLo lo p s k ≤ lo p ∧ hi p ≤ k) ∨ (k < lo p ∧ hi p ≤ rnHi lo hi p s k) ∨ hi p ≤ rnLo lo p s k ∨ rnHi lo hi p s k ≤ lo p := by
      intro k hk hkp
      have c := lam k p hk hp hkp
      have d2 := iv k hk; have g2 := gap k hk
      rw [loo k hk, hio k hk]
      clear ln ls rn rs pn ps tn ts lam iv ns gap loo hio los his h3 key
      split <;> split <;> omega
    intro i k hi1 hk hik
    rcases hi1 with rfl | hi1
    · rcases hk with rfl | hk
      · exact absurd rfl hik
      · rw [los, his]; exact key2 k hk.1 hk.2
    · rcases hk with rfl | hk
      · rw [los, his]; have := key2 i hi1.1 hi1.2; omega
      · exact key i k hi1.1 hi1.2 hk.1 hk.2 hik
