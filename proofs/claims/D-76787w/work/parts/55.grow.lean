/-! ===== a node more ===== -/
theorem va_up_comm {α : Type} {f : Nat → α} {a b : Nat} {x y : α} (h : a ≠ b) : va_up (va_up f a x) b y = va_up (va_up f b y) a x := by
  funext j
  unfold va_up
  by_cases e : j = b
  · subst e; rw [if_pos rfl, if_neg (fun z => h z.symm), if_pos rfl]
  · rw [if_neg e]
    by_cases e2 : j = a
    · rw [if_pos e2, if_pos e2]
    · rw [if_neg e2, if_neg e2, if_neg e]
theorem WT.cg {D D' L R P rt lo hi} (w : WT D L R P rt lo hi) (h : ∀ k, D' k ↔ D k) : WT D' L R P rt lo hi := by
  have e : D' = D := funext fun k => propext (h k)
  rw [e]; exact w
/-- the node z, without a place yet -/
def adT (T : kT) (z e q v : Nat) (p : Option Nat) : kT := (va_up (tN T) z (some e), va_up (tK T) z q, va_up (tV T) z v, va_up (tL T) z none, va_up (tR T) z none, va_up (tP T) z p, va_up (tC T) z 1, tr T)
theorem PT.add {M : kM} {o t asd : Nat} {T : kT} {lo hi : Nat → Nat} (h : PT M o t asd T) (w : WTT T lo hi) {z e q v : Nat} {p : Option Nat} (hz : tN T z = none) (hp : ∀ j, p = some j → tN T j ≠ none)
    (hn : ∀ k, tN T k ≠ some e) (h1 : mK M e = some 88) (h2 : mG M e = o) (h3 : mR M (fc 88 0) e = some q ∧ mK M q = some 4 ∧ mG M q = o ∧ q ≠ asd) (h4 : mR M (fc 88 1) e = some v ∧ mK M v = some 45)
    (h5 : mR M (fc 88 2) e = none) (h6 : mR M (fc 88 3) e = none) (h7 : mR M (fc 88 4) e = p.bind (tN T)) (h8 : mI M (fc 88 5) e = 1) : PT M o t asd (adT T z e q v p) := by
  have nz : ∀ k a, tN T k = some a → k ≠ z := fun k a hk e => by rw [e, hz] at hk; cases hk
  have bd : ∀ x : Option Nat, (∀ j, x = some j → tN T j ≠ none) → x.bind (tN (adT T z e q v p)) = x.bind (tN T) := fun x hx => by
    cases x with
    | none => rfl
    | some j =>
      have hj : j ≠ z := fun e => hx j rfl (by rw [e]; exact hz)
      exact va_up_ne _ _ hj
  have old : ∀ k, k ≠ z → tN (adT T z e q v p) k = tN T k := fun k hk => va_up_ne _ _ hk
  have new : tN (adT T z e q v p) z = some e := va_up_self _ _ _
  refine ⟨h.k, h.g, h.vc, h.r.trans (bd _ (fun _ q => w.dt q)).symm, fun k k' a hk hk' => ?_, fun k a hk => ?_⟩
  · by_cases e1 : k = z
    · by_cases e2 : k' = z
      · rw [e1, e2]
      · rw [e1, new] at hk; rw [old _ e2] at hk'; cases hk; exact absurd hk' (hn k')
    · rw [old _ e1] at hk
      by_cases e2 : k' = z
      · rw [e2, new] at hk'; cases hk'; exact absurd hk (hn k)
      · rw [old _ e2] at hk'; exact h.inj hk hk'
  · by_cases e1 : k = z
    · rw [e1, new] at hk; cases hk
      have u : ∀ {α : Type} (f : Nat → α) (x : α), va_up f z x k = x := fun f x => by rw [e1]; exact va_up_self _ _ _
      refine ⟨h1, h2, ⟨h3.1.trans (congrArg some (u _ _).symm), ?_, ?_, ?_⟩, ⟨h4.1.trans (congrArg some (u _ _).symm), ?_⟩, ?_, ?_, ?_, h8.trans (u _ _).symm, ?_⟩
      · show mK M (va_up (tK T) z q k) = some 4; rw [u]; exact h3.2.1
      · show mG M (va_up (tK T) z q k) = o; rw [u]; exact h3.2.2.1
      · show va_up (tK T) z q k ≠ asd; rw [u]; exact h3.2.2.2
      · show mK M (va_up (tV T) z v k) = some 45; rw [u]; exact h4.2
      · show _ = (va_up (tL T) z none k).bind _; rw [u]; exact h5
      · show _ = (va_up (tR T) z none k).bind _; rw [u]; exact h6
      · show _ = (va_up (tP T) z p k).bind _; rw [u, bd p hp]; exact h7
      · show va_up (tC T) z 1 k = 0 ∨ va_up (tC T) z 1 k = 1; rw [u]; exact Or.inr rfl
    · rw [old _ e1] at hk
      obtain ⟨n1, n2, n3, n4, n5, n6, n7, n8, n9⟩ := h.n hk
      have u : ∀ {α : Type} (f : Nat → α) (x : α), va_up f z x k = f k := fun f x => va_up_ne _ _ e1
      refine ⟨n1, n2, ?_, ?_, ?_, ?_, ?_, n8.trans (u _ _).symm, ?_⟩
      · show mR M (fc 88 0) a = some (va_up (tK T) z q k) ∧ mK M (va_up (tK T) z q k) = some 4 ∧ mG M (va_up (tK T) z q k) = o ∧ va_up (tK T) z q k ≠ asd; rw [u]; exact n3
      · show mR M (fc 88 1) a = some (va_up (tV T) z v k) ∧ mK M (va_up (tV T) z v k) = some 45; rw [u]; exact n4
      · show _ = (va_up (tL T) z none k).bind _; rw [u, bd _ (fun _ q => w.dl (nns hk) q)]; exact n5
      · show _ = (va_up (tR T) z none k).bind _; rw [u, bd _ (fun _ q => w.dr (nns hk) q)]; exact n6
      · show _ = (va_up (tP T) z p k).bind _; rw [u, bd _ (fun _ q => w.dp (nns hk) q)]; exact n7
      · show va_up (tC T) z 1 k = 0 ∨ va_up (tC T) z 1 k = 1; rw [u]; exact n9
theorem adT_WL {T : kT} {lo hi : Nat → Nat} (w : WTT T lo hi) {i z e q v a : Nat} (hi' : tN T i = some a) (hl : tL T i = none) (h1 : lo i ≤ z) (h2 : z < i) : WTT (tsL (adT T z e q v (some i)) i (some z)) (va_up lo z (lo i)) (va_up hi z i) := by
  have hne : z ≠ i := by omega
  have e1 : tL (tsL (adT T z e q v (some i)) i (some z)) = va_up (va_up (tL T) i (some z)) z none := va_up_comm hne
  show WT _ (tL (tsL (adT T z e q v (some i)) i (some z))) _ _ _ _ _
  rw [e1]
  refine (w.insL (nns hi') hl h1 h2).cg (fun k => ?_)
  show va_up (tN T) z (some e) k ≠ none ↔ _
  unfold va_up
  by_cases ek : k = z
  · rw [if_pos ek]; exact ⟨fun _ => Or.inl ek, fun _ q => by cases q⟩
  · rw [if_neg ek]; exact ⟨Or.inr, fun q => q.resolve_left ek⟩
theorem adT_WR {T : kT} {lo hi : Nat → Nat} (w : WTT T lo hi) {i z e q v a : Nat} (hi' : tN T i = some a) (hl : tR T i = none) (h1 : i < z) (h2 : z < hi i) : WTT (tsR (adT T z e q v (some i)) i (some z)) (va_up lo z (i + 1)) (va_up hi z (hi i)) := by
  have hne : z ≠ i := by omega
  have e1 : tR (tsR (adT T z e q v (some i)) i (some z)) = va_up (va_up (tR T) i (some z)) z none := va_up_comm hne
  show WT _ _ (tR (tsR (adT T z e q v (some i)) i (some z))) _ _ _ _
  rw [e1]
  refine (w.insR (nns hi') hl h1 h2).cg (fun k => ?_)
  show va_up (tN T) z (some e) k ≠ none ↔ _
  unfold va_up
  by_cases ek : k = z
  · rw [if_pos ek]; exact ⟨fun _ => Or.inl ek, fun _ q => by cases q⟩
  · rw [if_neg ek]; exact ⟨Or.inr, fun q => q.resolve_left ek⟩
theorem adT_W1 {T : kT} {lo hi : Nat → Nat} (w : WTT T lo hi) (hr : tr T = none) {z e q v : Nat} (hz : z < BB) : WTT (tsr (adT T z e q v none) (some z)) (fun _ => 0) (fun _ => BB) := by
  refine (WT.one (L := tL T) (R := tR T) (P := tP T) (fun k => w.2.2.2.2.2.2.2.1 hr k) hz).cg (fun k => ?_)
  show va_up (tN T) z (some e) k ≠ none ↔ _
  unfold va_up
  by_cases ek : k = z
  · rw [if_pos ek]; exact ⟨fun _ => Or.inl ek, fun _ q => by cases q⟩
  · rw [if_neg ek]; exact ⟨Or.inr, fun q => q.resolve_left ek⟩
/-- a new node's memory -/
def enM (M : kM) (e o q v : Nat) (p : Option Nat) : kM := sR (sR (sR (sI (sG (nO M e 88) e o) (fc 88 5) e 1) (fc 88 0) e (some q)) (fc 88 1) e (some v)) (fc 88 4) e p
theorem enM_fr {S : Nat → Prop} {M : kM} {e o q v : Nat} {p : Option Nat} (hq : mK M e = none) (ho : o = 0 ∨ o = e + 1 ∨ mK M (o - 1) ≠ none) : Fr S M (enM M e o q v p) := ((((Fr.rf.obj hq ho).I (Or.inl hq)).R (Or.inl hq)).R (Or.inl hq)).R (Or.inl hq)
theorem PT.new {M : kM} {o t asd : Nat} {T : kT} {lo hi : Nat → Nat} (h : PT M o t asd T) (w : WTT T lo hi) {z e q v : Nat} {p : Option Nat} (ho : o = 0 ∨ mK M (o - 1) ≠ none) (hz : tN T z = none) (hp : ∀ j, p = some j → tN T j ≠ none)
    (he : mK M e = none) (hq : mK M q = some 4 ∧ mG M q = o ∧ q ≠ asd) (hv : mK M v = some 45) : PT (enM M e o q v (p.bind (tN T))) o t asd (adT T z e q v p) := by
  have hF : Fr (fun _ => False) M (enM M e o q v (p.bind (tN T))) := enM_fr he (ho.elim Or.inl (fun q => Or.inr (Or.inr q)))
  have n1 : mK (enM M e o q v (p.bind (tN T))) e = some 88 := mK_nO (M := M)
  have fq := hF.1 q (by rw [hq.1]; exact fun e => by cases e)
  refine (h.fr hF id).add w hz hp (fun k hk => ?_) n1 (mG_sG (M := nO M e 88)) ⟨?_, hF.kE _ _ hq.1, fq.2.1.trans hq.2.1, hq.2.2⟩ ⟨?_, hF.kE _ _ hv⟩ ?_ ?_ ?_ ?_
  · have := h.nk hk; rw [he] at this; cases this
  · unfold enM; rw [mR_sR_c (by decide), mR_sR_c (by decide), mR_sR]
  · unfold enM; rw [mR_sR_c (by decide), mR_sR]
  · unfold enM; rw [mR_sR_c (by decide), mR_sR_c (by decide), mR_sR_c (by decide)]; exact mR_NO0 (M := M) (K := 88)
  · unfold enM; rw [mR_sR_c (by decide), mR_sR_c (by decide), mR_sR_c (by decide)]; exact mR_NO0 (M := M) (K := 88)
  · unfold enM; rw [mR_sR]
  · unfold enM; rw [mI_sR, mI_sR, mI_sR, mI_sI]
