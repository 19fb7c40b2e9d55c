/-! ===== ships by their hours ===== -/
def mT (T : kT) (z : Nat) : Option Nat := (tN T z).map (fun _ => tV T z)
theorem mT_s {T : kT} {z l : Nat} (h : mT T z = some l) : ∃ a, tN T z = some a ∧ tV T z = l := by
  unfold mT at h
  cases e : tN T z with
  | none => rw [e] at h; cases h
  | some a => rw [e] at h; exact ⟨a, rfl, Option.some.inj h⟩
theorem mT_n {T : kT} {z : Nat} : mT T z = none ↔ tN T z = none := by
  unfold mT
  cases tN T z <;> simp
theorem mT_i {T : kT} {z a : Nat} (h : tN T z = some a) : mT T z = some (tV T z) := by unfold mT; rw [h]; rfl
theorem AL.cg {G : kG} {M : kM} {l n c : Nat} {f f' : Nat → Nat} (h : AL G M l n c f) (e : ∀ i, i < n → f' i = f i) : AL G M l n c f' := by
  obtain ⟨d, h⟩ := h
  exact ⟨d, h.k, h.g, h.sz, h.le, h.cp, h.r, h.z, h.2.2.2.2.2.2.2.1, fun i hi => by rw [e i hi]; exact ⟨h.e hi, h.ok hi⟩⟩
theorem AL.kk {G : kG} {M : kM} {l n c : Nat} {f : Nat → Nat} (h : AL G M l n c f) : mK M l = some 45 := by obtain ⟨d, h⟩ := h; exact h.k
theorem AL.gg {G : kG} {M : kM} {l n c : Nat} {f : Nat → Nat} (h : AL G M l n c f) : mG M l = l + 1 := by obtain ⟨d, h⟩ := h; exact h.g
theorem AL.lec {G : kG} {M : kM} {l n c : Nat} {f : Nat → Nat} (h : AL G M l n c f) : n ≤ c := by obtain ⟨d, h⟩ := h; exact h.le
/-- a list of ships -/
def LSS (G : kG) (M : kM) (l : Nat) (L : List Nat) (sa : Nat → Nat) : Prop := ∃ cp, AL G M l L.length cp (fun j => sa (L.getD j 0))
theorem LSS.k {G : kG} {M : kM} {l : Nat} {L : List Nat} {sa : Nat → Nat} (h : LSS G M l L sa) : mK M l = some 45 := by obtain ⟨_, h⟩ := h; exact h.kk
theorem LSS.g {G : kG} {M : kM} {l : Nat} {L : List Nat} {sa : Nat → Nat} (h : LSS G M l L sa) : mG M l = l + 1 := by obtain ⟨_, h⟩ := h; exact h.gg
theorem LSS.fr {G : kG} {M M' : kM} {l : Nat} {L : List Nat} {sa : Nat → Nat} {S : Nat → Prop} (h : LSS G M l L sa) (hF : Fr S M M') (hS : ¬ S (l + 1)) : LSS G M' l L sa := by
  obtain ⟨cp, h⟩ := h
  exact ⟨cp, h.fr hF hS⟩
theorem LSS.nil {G : kG} {M : kM} {l : Nat} {sa f : Nat → Nat} (h : AL G M l 0 0 f) : LSS G M l [] sa := ⟨0, h.cg (fun _ q => absurd q (Nat.not_lt_zero _))⟩
theorem LSS.ins {G : kG} {M : kM} {l k x cp : Nat} {L : List Nat} {sa : Nat → Nat} (hk : k ≤ L.length) (h : AL G M l (L.length + 1) cp (insF (fun j => sa (L.getD j 0)) k (sa x))) : LSS G M l (L.insertIdx k x) sa := by
  refine ⟨cp, ?_⟩
  rw [List.length_insertIdx_of_le_length hk]
  refine h.cg (fun i hi => ?_)
  unfold insF
  rw [List.getD_eq_getElem?_getD, List.getElem?_insertIdx]
  by_cases e1 : i < k
  · rw [if_pos e1, if_pos e1]; exact congrArg sa List.getD_eq_getElem?_getD.symm
  · rw [if_neg e1, if_neg e1]
    by_cases e2 : i = k
    · rw [if_pos e2, if_pos e2, if_pos (by omega)]; rfl
    · rw [if_neg e2, if_neg e2]; exact congrArg sa List.getD_eq_getElem?_getD.symm
theorem LSS.del {G : kG} {M : kM} {l k cp : Nat} {L : List Nat} {sa : Nat → Nat} (hk : k < L.length) (h : AL G M l (L.length - 1) cp (delF (fun j => sa (L.getD j 0)) k)) : LSS G M l (L.eraseIdx k) sa := by
  refine ⟨cp, ?_⟩
  rw [List.length_eraseIdx_of_lt hk]
  refine h.cg (fun i hi => ?_)
  unfold delF
  rw [List.getD_eq_getElem?_getD, List.getElem?_eraseIdx]
  by_cases e1 : i < k
  · rw [if_pos e1, if_pos e1]; exact congrArg sa List.getD_eq_getElem?_getD.symm
  · rw [if_neg e1, if_neg e1]; exact congrArg sa List.getD_eq_getElem?_getD.symm
/-- what is not kept apart -/
def EX (ex : Nat → Prop) : Nat → Prop := fun o => ∃ x, o = x + 1 ∧ ¬ ex x
def CMo (M : kM) (c t q : Nat) : Prop := mK M c = some 2 ∧ mG M c = 0 ∧ mR M (fc 2 0) c = some t ∧ (∃ b, mR M (fc 2 1) c = some b ∧ mK M b = some 3) ∧ mR M (fc 2 2) c = some q ∧ mK M q = some 4 ∧ mG M q = q + 1
/-- the ships to come: by hour a list -/
def CM (G : kG) (M : kM) (c t q : Nat) (T : kT) (sa : Nat → Nat) (rl : Nat → List Nat) (ex : Nat → Prop) : Prop := CMo M c t q ∧ TM M (t + 1) t q T ∧ (¬ ex t ∧ ¬ ex q) ∧ (∀ z, z < BB → mT T z = none → rl z = []) ∧ (∀ z l, mT T z = some l → LSS G M l (rl z) sa ∧ ¬ ex l) ∧ (∀ z z' l, mT T z = some l → mT T z' = some l → z = z')
/-- a ship by its number and kind -/
def NM (M : kM) (c b n : Nat) (k : Int32) : Prop := ∃ K, mK M b = some K ∧ shC K ∧ mG M b = c + 1 ∧ mI M (fc 19 0) b = nI n ∧ k = nI (skd K)
theorem NM.sm {M M' : kM} {c b n : Nat} {k : Int32} {S : Nat → Prop} (h : NM M c b n k) (hF : Fr S M M') (hS : ¬ S (c + 1)) : kSame M M' b := by
  obtain ⟨K, h1, h2, h3, h4⟩ := h
  exact (hF.1 b (by rw [h1]; exact fun e => by cases e)).2.2 (by rw [h3]; exact hS)
theorem NM.fr {M M' : kM} {c b n : Nat} {k : Int32} {S : Nat → Prop} (h : NM M c b n k) (hF : Fr S M M') (hS : ¬ S (c + 1)) : NM M' c b n k := by
  obtain ⟨K, h1, h2, h3, h4, h5⟩ := h
  have a := hF.1 b (by rw [h1]; exact fun e => by cases e)
  have s := a.2.2 (by rw [h3]; exact hS)
  exact ⟨K, by rw [a.1]; exact h1, h2, by rw [a.2.1]; exact h3, by rw [s.1]; exact h4, h5⟩
/-- ranks compared -/
def crG (kd : Nat → Int32) (kb : Int32) (n s : Nat) : Int32 := cmpR (kd s) (nI s) kb (nI n)
section
variable {G : kG} {M M2 : kM} {c t q : Nat} {T : kT} {sa : Nat → Nat} {rl : Nat → List Nat} {ex S : Nat → Prop}
theorem CMo.fr (h : CMo M c t q) (hF : Fr S M M2) (h0 : ¬ S 0) (hq : ¬ S (q + 1)) : CMo M2 c t q := by
  obtain ⟨h1, h2, h3, ⟨b, h4, h5⟩, h6, h7, h8⟩ := h
  have a := hF.1 c (by rw [h1]; exact fun e => by cases e)
  have s := a.2.2 (by rw [h2]; exact h0)
  have a2 := hF.1 q (by rw [h7]; exact fun e => by cases e)
  exact ⟨by rw [a.1]; exact h1, by rw [a.2.1]; exact h2, by rw [s.2.1]; exact h3, ⟨b, by rw [s.2.1]; exact h4, hF.kE _ _ h5⟩, by rw [s.2.1]; exact h6, by rw [a2.1]; exact h7, by rw [a2.2.1]; exact h8⟩
theorem CM.fr0 (h : CM G M c t q T sa rl ex) (hF : Fr S M M2) (h0 : ¬ S 0) (ht : ¬ S (t + 1)) (hq : ¬ S (q + 1)) (hl : ∀ z l, mT T z = some l → ¬ S (l + 1)) : CM G M2 c t q T sa rl ex :=
  ⟨h.1.fr hF h0 hq, h.2.1.fr hF ht, h.2.2.1, h.2.2.2.1, fun z l e => ⟨(h.2.2.2.2.1 z l e).1.fr hF (hl z l e), (h.2.2.2.2.1 z l e).2⟩, h.2.2.2.2.2⟩
theorem CM.fr (h : CM G M c t q T sa rl ex) (hF : Fr S M M2) (hS : ∀ o, S o → ∃ x, o = x + 1 ∧ ex x) : CM G M2 c t q T sa rl ex := by
  have n : ∀ x, ¬ ex x → ¬ S (x + 1) := fun x hx e => by
    obtain ⟨y, e1, e2⟩ := hS _ e
    have : x = y := by omega
    exact hx (this ▸ e2)
  refine h.fr0 hF (fun e => ?_) (n t h.2.2.1.1) (n q h.2.2.1.2) (fun z l e => n l (h.2.2.2.2.1 z l e).2)
  obtain ⟨y, e1, -⟩ := hS _ e
  omega
theorem CM.lk (h : CM G M c t q T sa rl ex) {z l : Nat} (e : mT T z = some l) : mK M l = some 45 := (h.2.2.2.2.1 z l e).1.k
theorem CM.tl (h : CM G M c t q T sa rl ex) {z l : Nat} (e : mT T z = some l) : t ≠ l := fun w => by
  have a := h.lk e; rw [← w, h.2.1.1.k] at a; exact absurd a (by decide)
theorem CM.ql (h : CM G M c t q T sa rl ex) {z l : Nat} (e : mT T z = some l) : q ≠ l := fun w => by
  have a := h.lk e; rw [← w, h.1.2.2.2.2.2.1] at a; exact absurd a (by decide)
theorem TM.wq {M : kM} {o t q : Nat} {T : kT} {v : Int32} (h : TM M o t q T) : TM (sI M (fc 4 0) q v) o t q T := ⟨h.1.wI (by decide), fun k a hk => ⟨(h.2.1 k a hk).1, (mI_sI_a (h.1.n hk).2.2.1.2.2.2).trans (h.2.1 k a hk).2⟩, h.2.2⟩
theorem CM.asked {v : Int32} (h : CM G M c t q T sa rl ex) : CM G (sI M (fc 4 0) q v) c t q T sa rl ex := by
  have hF : Fr (ow q) M (sI M (fc 4 0) q v) := Fr.rf.I (Or.inr h.1.2.2.2.2.2.2)
  exact ⟨h.1, h.2.1.wq, h.2.2.1, h.2.2.2.1, fun z l e => ⟨(h.2.2.2.2.1 z l e).1.fr hF (fun w => h.ql e (by omega)), (h.2.2.2.2.1 z l e).2⟩, h.2.2.2.2.2⟩
theorem CM.askF {v : Int32} (h : CM G M c t q T sa rl ex) : Fr (EX ex) M (sI M (fc 4 0) q v) := Fr.rf.I (Or.inr ⟨q, h.1.2.2.2.2.2.2, h.2.2.1.2⟩)
/-- a list of another content -/
theorem CM.rep (h : CM G M c t q T sa rl ex) {z l : Nat} {L2 : List Nat} (hl : mT T z = some l) (hF : Fr (ow l) M M2) (hA : LSS G M2 l L2 sa) : CM G M2 c t q T sa (va_up rl z L2) ex := by
  have hlt := h.tl hl
  have hlq := h.ql hl
  refine ⟨h.1.fr hF (fun e => by cases e) (fun e => hlq (Nat.succ.inj e)), h.2.1.fr hF (fun e => hlt (Nat.succ.inj e)), h.2.2.1, fun y hy e => ?_, fun y l2 e => ?_, h.2.2.2.2.2⟩
  · rw [va_up_ne _ _ (fun w => by rw [w, hl] at e; cases e)]; exact h.2.2.2.1 y hy e
  · by_cases w : y = z
    · rw [w, hl] at e; cases e
      rw [w, va_up_self]; exact ⟨hA, (h.2.2.2.2.1 z l hl).2⟩
    · rw [va_up_ne _ _ w]
      exact ⟨(h.2.2.2.2.1 y l2 e).1.fr hF (fun e2 => w (h.2.2.2.2.2 y z l (by rw [e, Nat.succ.inj e2]) hl)), (h.2.2.2.2.1 y l2 e).2⟩
theorem CM.repF (h : CM G M c t q T sa rl ex) {z l : Nat} (hl : mT T z = some l) : ∀ o, ow l o → EX ex o := fun _ e => ⟨l, e, (h.2.2.2.2.1 z l hl).2⟩
/-- an hour more -/
theorem CM.grow (h : CM G M c t q T sa rl ex) {Mp : kM} {T2 : kT} {z l e : Nat} {f : Nat → Nat} (hF : Fr (fun _ => False) M Mp) (hq : mK M l = none) (hA : AL G Mp l 0 0 f) (hex : ¬ ex l) (hz : z < BB) (hn : mT T z = none) (hT : TM M2 (t + 1) t q T2) (hN : tN T2 = va_up (tN T) z (some e)) (hV : tV T2 = va_up (tV T) z l) (hF2 : Fr (fun o => o = t + 1) Mp M2) :
    CM G M2 c t q T2 sa rl ex ∧ mT T2 z = some l ∧ Fr (EX ex) M M2 := by
  have hz2 : mT T2 z = some l := by unfold mT; rw [hN, hV, va_up_self, va_up_self]; rfl
  have ho : ∀ y, y ≠ z → mT T2 y = mT T y := fun y hy => by unfold mT; rw [hN, hV, va_up_ne _ _ hy, va_up_ne _ _ hy]
  have nl : ∀ y l2, mT T y = some l2 → l2 ≠ l := fun y l2 e2 w => by have a := h.lk e2; rw [w, hq] at a; cases a
  have hlt : t ≠ l := fun w => by have a := h.2.1.1.k; rw [w, hq] at a; cases a
  have htq : q ≠ t := fun w => by have a := h.2.1.1.k; rw [← w, h.1.2.2.2.2.2.1] at a; exact absurd a (by decide)
  refine ⟨⟨(h.1.fr hF id id).fr hF2 (fun w => by cases w) (fun w => htq (Nat.succ.inj w)), hT, h.2.2.1, fun y hy e2 => ?_, fun y l2 e2 => ?_, fun y y2 l2 e1 e2 => ?_⟩, hz2, (hF.mono (fun _ w => w.elim)).tr (hF2.mono (fun _ w => ⟨t, w, h.2.2.1.1⟩))⟩
  · by_cases w : y = z
    · rw [w, hz2] at e2; cases e2
    · rw [ho y w] at e2; exact h.2.2.2.1 y hy e2
  · by_cases w : y = z
    · rw [w, hz2] at e2; cases e2
      rw [w, h.2.2.2.1 z hz hn]
      exact ⟨(LSS.nil hA).fr hF2 (fun e3 => hlt (Nat.succ.inj e3).symm), hex⟩
    · rw [ho y w] at e2
      exact ⟨((h.2.2.2.2.1 y l2 e2).1.fr hF id).fr hF2 (fun e3 => h.tl e2 (Nat.succ.inj e3).symm), (h.2.2.2.2.1 y l2 e2).2⟩
  · by_cases w : y = z
    · by_cases w2 : y2 = z
      · rw [w, w2]
      · rw [w, hz2] at e1; cases e1; rw [ho y2 w2] at e2; exact absurd rfl (nl y2 _ e2)
    · rw [ho y w] at e1
      by_cases w2 : y2 = z
      · rw [w2, hz2] at e2; cases e2; exact absurd rfl (nl y _ e1)
      · rw [ho y2 w2] at e2; exact h.2.2.2.2.2 y y2 l2 e1 e2
/-- an hour less -/
theorem CM.less (h : CM G M c t q T sa rl ex) {T2 : kT} {k it : Nat} (hk : rl k = []) (hit : mK M it = some 84) (hT : TM M2 (t + 1) t q T2) (hn : tN T2 k = none) (hm : ∀ j, j ≠ k → mT T2 j = mT T j) (hF : Fr (fun z => z = t + 1 ∨ z = it + 1) M M2) : CM G M2 c t q T2 sa rl ex := by
  have hqt : q ≠ t := fun w => by have a := h.2.1.1.k; rw [← w, h.1.2.2.2.2.2.1] at a; exact absurd a (by decide)
  have hqi : q ≠ it := fun w => by rw [← w, h.1.2.2.2.2.2.1] at hit; exact absurd hit (by decide)
  have hk2 : mT T2 k = none := mT_n.mpr hn
  have li : ∀ y l, mT T y = some l → l ≠ it := fun y l e w => by have a := h.lk e; rw [w, hit] at a; exact absurd a (by decide)
  refine ⟨h.1.fr hF (fun w => by rcases w with w | w <;> cases w) (fun w => by rcases w with w | w; exact hqt (Nat.succ.inj w); exact hqi (Nat.succ.inj w)), hT, h.2.2.1, fun y hy e => ?_, fun y l e => ?_, fun y y2 l e1 e2 => ?_⟩
  · by_cases w : y = k
    · rw [w]; exact hk
    · rw [hm y w] at e; exact h.2.2.2.1 y hy e
  · by_cases w : y = k
    · rw [w, hk2] at e; cases e
    · rw [hm y w] at e
      exact ⟨(h.2.2.2.2.1 y l e).1.fr hF (fun w => by rcases w with w | w; exact h.tl e (Nat.succ.inj w).symm; exact li y l e (Nat.succ.inj w)), (h.2.2.2.2.1 y l e).2⟩
  · by_cases w : y = k
    · rw [w, hk2] at e1; cases e1
    · by_cases w2 : y2 = k
      · rw [w2, hk2] at e2; cases e2
      · rw [hm y w] at e1; rw [hm y2 w2] at e2; exact h.2.2.2.2.2 y y2 l e1 e2
end
/-- the ships to come, and a ship b that comes -/
def AB (G : kG) (M : kM) (c t q : Nat) (T : kT) (sa : Nat → Nat) (rl : Nat → List Nat) (ex : Nat → Prop) (kd : Nat → Int32) (b n : Nat) (kb : Int32) (z : Nat) : Prop := CM G M c t q T sa rl ex ∧ (∀ y, ∀ s ∈ rl y, NM M c (sa s) s (kd s)) ∧ NM M c b n kb ∧ mI M (fc 19 1) b = nI z
theorem AB.to {G : kG} {M M2 : kM} {c t q : Nat} {T T2 : kT} {sa : Nat → Nat} {rl : Nat → List Nat} {ex S : Nat → Prop} {kd : Nat → Int32} {b n z : Nat} {kb : Int32} (h : AB G M c t q T sa rl ex kd b n kb z) (hC : CM G M2 c t q T2 sa rl ex) (hF : Fr S M M2) (hS : ¬ S (c + 1)) : AB G M2 c t q T2 sa rl ex kd b n kb z :=
  ⟨hC, fun y s hs => (h.2.1 y s hs).fr hF hS, h.2.2.1.fr hF hS, by rw [(h.2.2.1.sm hF hS).1]; exact h.2.2.2⟩
theorem AB.fr {G : kG} {M M2 : kM} {c t q : Nat} {T : kT} {sa : Nat → Nat} {rl : Nat → List Nat} {ex : Nat → Prop} {kd : Nat → Int32} {b n z : Nat} {kb : Int32} (h : AB G M c t q T sa rl ex kd b n kb z) (hF : Fr (fun _ => False) M M2) : AB G M2 c t q T sa rl ex kd b n kb z := h.to (h.1.fr hF (fun _ w => w.elim)) hF id
theorem EX.c {ex : Nat → Prop} {c : Nat} (h : ex c) : ¬ EX ex (c + 1) := fun e => by
  obtain ⟨x, e1, e2⟩ := e
  exact e2 (Nat.succ.inj e1 ▸ h)
theorem gD_mem {L : List Nat} {k : Nat} (h : k < L.length) : L.getD k 0 ∈ L := by
  rw [List.getD_eq_getElem?_getD, List.getElem?_eq_getElem h]; exact List.getElem_mem h
/-! forgetting, from the last on -/
def fgL (L : List Nat) (fr i : Nat) : List Nat := L.take i ++ (L.drop i).filter (fun s => decide (s < fr))
theorem fgL_0 {L : List Nat} {fr : Nat} : fgL L fr 0 = L.filter (fun s => decide (s < fr)) := rfl
theorem fgL_n {L : List Nat} {fr : Nat} : fgL L fr L.length = L := by unfold fgL; rw [List.take_length, List.drop_length]; exact List.append_nil L
theorem fgL_d {L : List Nat} {fr i : Nat} (hi : i < L.length) : fgL L fr (i + 1) = L.take i ++ L[i] :: (L.drop (i + 1)).filter (fun s => decide (s < fr)) := by
  unfold fgL
  rw [List.take_succ_eq_append_getElem hi, List.append_assoc]; rfl
theorem fgL_g {L : List Nat} {fr i : Nat} (hi : i < L.length) : (fgL L fr (i + 1)).getD i 0 = L.getD i 0 := by
  rw [fgL_d hi, List.getD_eq_getElem?_getD, List.getD_eq_getElem?_getD, List.getElem?_append_right (by rw [List.length_take]; omega), List.length_take, show i - min i L.length = 0 by omega, List.getElem?_eq_getElem hi]; rfl
theorem fgL_l {L : List Nat} {fr i : Nat} (hi : i < L.length) : i < (fgL L fr (i + 1)).length := by
  rw [fgL_d hi, List.length_append, List.length_take, List.length_cons]; omega
theorem fgL_k {L : List Nat} {fr i : Nat} (hi : i < L.length) (h : L.getD i 0 < fr) : fgL L fr i = fgL L fr (i + 1) := by
  rw [List.getD_eq_getElem?_getD, List.getElem?_eq_getElem hi] at h
  have h : L[i] < fr := h
  rw [fgL_d hi]
  unfold fgL
  rw [List.drop_eq_getElem_cons hi, List.filter_cons, if_pos (decide_eq_true h)]
theorem fgL_x {L : List Nat} {fr i : Nat} (hi : i < L.length) (h : ¬ L.getD i 0 < fr) : fgL L fr i = (fgL L fr (i + 1)).eraseIdx i := by
  rw [List.getD_eq_getElem?_getD, List.getElem?_eq_getElem hi] at h
  have h : ¬ L[i] < fr := h
  rw [fgL_d hi]
  unfold fgL
  rw [List.drop_eq_getElem_cons hi, List.filter_cons, if_neg (fun q => h (of_decide_eq_true q)), List.eraseIdx_append_of_length_le (by rw [List.length_take]; omega), List.length_take, show i - min i L.length = 0 by omega]; rfl
