/-! ===== the component's hour and the model's ===== -/
set_option maxRecDepth 100000
/-- alike, how often all slept apart -/
def E20 (g g' : gT) : Prop := ∀ j, j ≠ 20 → g' j = g j
theorem E20.rf {g : gT} : E20 g g := fun _ _ => rfl
theorem E20.tr {g g1 g2 : gT} (h : E20 g g1) (h2 : E20 g1 g2) : E20 g g2 := fun j hj => (h2 j hj).trans (h j hj)
theorem E20.up {g g' : gT} (h : E20 g g') {i : Nat} {v v' : Int32} (e : v' = v) : E20 (va_up g i v) (va_up g' i v') := fun j hj => by
  subst e
  by_cases q : j = i
  · rw [q, va_up_self, va_up_self]
  · rw [va_up_ne _ _ q, va_up_ne _ _ q]; exact h j hj
theorem E20.pl {g g' : gT} (h : E20 g g') {a b c : Int32} : E20 (logP g a b c) (logP g' a b c) := by
  have e := h 15 (by decide)
  unfold logP
  rw [e]
  split
  · unfold logG
    exact ((((h.up (h 0 (by decide))).up rfl).up rfl).up rfl).up rfl
  · exact h
theorem E20.p4 {g g' : gT} (h : E20 g g') {d t p : Int32} : E20 (hg4 g d t p) (hg4 g' d t p) := by
  unfold hg4
  rw [h 6 (by decide)]
  split
  · exact h.pl
  · exact h
theorem E20.p5 {g g' : gT} (h : E20 g g') {c p : Int32} : E20 (hg5 g c p) (hg5 g' c p) := by
  unfold hg5
  split
  · exact h.pl
  · exact h
theorem E20.p6 {g g' : gT} (h : E20 g g') {f d p : Int32} : E20 (hg6 g f d p) (hg6 g' f d p) := by
  unfold hg6
  rw [h (61 + 4 * nn p) (by omega)]
  split
  · exact h.pl
  · exact h
theorem E20.pF {g g' : gT} (h : E20 g g') {d t w : Int32} {s : Nat} : shF d t w g' s = shF d t w g s := by
  unfold shF
  rw [h (109 + 4 * s) (by omega), h 6 (by decide)]
theorem E20.pS {g g' : gT} (h : E20 g g') {d t w who : Int32} {s : Nat} : E20 (shS d t w who g s) (shS d t w who g' s) := by
  have a : E20 (shU d t w g s) (shU d t w g' s) := by
    unfold shU
    exact (h.up h.pF).up (by rw [h 6 (by decide)])
  unfold shS
  rw [h.pF]
  split
  · exact a
  · exact a.pl
theorem E20.pfold {d t w who : Int32} (l : List Nat) {g g' : gT} (h : E20 g g') : E20 (l.foldl (shS d t w who) g) (l.foldl (shS d t w who) g') := by
  induction l generalizing g g' with
  | nil => exact h
  | cons s l ih => exact ih h.pS
theorem E20.pA {g g' : gT} (h : E20 g g') {x : Int32} {ns : Nat} {d t w who : Int32} : E20 (shAll g x ns d t w who) (shAll g' x ns d t w who) := by
  have e : rk g' x ns = rk g x ns := rkT_cg (fun s _ => ⟨h _ (by omega), h _ (by omega)⟩) 5
  show E20 ((rk g x ns).foldl _ g) ((rk g' x ns).foldl _ g')
  rw [e]
  exact E20.pfold _ h
theorem E20.pt {g g' : gT} (h : E20 g g') {who w : Int32} {n : Nat} : E20 (tireG g who w n) (tireG g' who w n) := fun j hj => by
  unfold tireG
  split
  · unfold tireV; rw [h _ (by omega)]
  · exact h j hj
theorem E20.p9 {g g' : gT} (h : E20 g g') {x nk : Nat} {b : Int32} : E20 (hg9 g x nk b) (hg9 g' x nk b) := by
  unfold hg9
  split
  · exact h
  · intro j hj
    unfold rstG
    split
    · rfl
    · unfold supG
      exact (((h.up (by rw [h 4 (by decide), h 10 (by decide)])).up (by rw [h 5 (by decide), h 11 (by decide)])).up (by rw [h 9 (by decide)])).up (by rw [h 18 (by decide)]) j hj
/-- the lamp and other numbers -/
theorem lampG_up {g : gT} {i : Nat} {v d t : Int32} {h : Nat} (hi : 61 ≤ i) : lampG (va_up g i v) d t h = va_up (lampG g d t h) i v := by
  have e : ∀ k, k < 61 → va_up g i v k = g k := fun k hk => va_up_ne _ _ (by omega)
  have e3 : lamp3 (va_up g i v) d t = va_up (lamp3 g d t) i v := by
    unfold lamp3
    simp only [show lampP (va_up g i v) d t = lampP g d t from by unfold lampP; rw [e 6 (by omega), e 7 (by omega), e 3 (by omega), e 4 (by omega)]]
    rw [e 4 (by omega), e 3 (by omega), up_cm g (show i ≠ 6 by omega), up_cm (va_up g 6 _) (show i ≠ 4 by omega), up_cm (va_up (va_up g 6 _) 4 _) (show i ≠ 7 by omega)]
  unfold lampG
  rw [e3]
  simp only [show lampP (va_up g i v) d t = lampP g d t from by unfold lampP; rw [e 6 (by omega), e 7 (by omega), e 3 (by omega), e 4 (by omega)]]
  split
  · rw [e 16 (by omega), e 17 (by omega), up_cm (lamp3 g d t) (show i ≠ 16 by omega), up_cm (va_up (lamp3 g d t) 16 _) (show i ≠ 17 by omega)]
  · rfl
/-- the keeper of the hour, as the component counts -/
def hgC (g : gT) (k : Nat) (f : Prop) [Decidable f] : gT := va_up (va_up g (61 + 4 * k + 2) (g (61 + 4 * k + 2) + bi (¬ f))) (61 + 4 * k + 3) (g (61 + 4 * k + 3) + bi f)
theorem hgC_E {g : gT} {p : Int32} (hp : ¬ p < 0) (f : Prop) [Decidable f] (hf : f = fallP g p) : E20 (hgC g (nn p) f) (hg1 g p) := fun j hj => by
  unfold hgC hg1
  rw [if_neg hp, va_up_ne _ _ hj]
  by_cases q : f
  · have q2 : fallP g p := hf ▸ q
    rw [bi_t q, bi_f (fun z => z q), show fN (fallP g p) = 3 from if_pos q2]
    by_cases j3 : j = 61 + 4 * nn p + 3
    · rw [j3, va_up_self, va_up_self]
    · rw [va_up_ne _ _ j3, va_up_ne _ _ j3]
      by_cases j2 : j = 61 + 4 * nn p + 2
      · rw [j2, va_up_self, Int32.add_zero]
      · rw [va_up_ne _ _ j2]
  · have q2 : ¬ fallP g p := hf ▸ q
    rw [bi_f q, bi_t (show ¬ f from q), show fN (fallP g p) = 2 from if_neg q2]
    by_cases j3 : j = 61 + 4 * nn p + 3
    · rw [j3, va_up_self, va_up_ne _ _ (by omega), Int32.add_zero]
    · rw [va_up_ne _ _ j3]
theorem lamp_hgC {g : gT} {d t : Int32} {h k : Nat} {f : Prop} [Decidable f] : lampG (hgC g k f) d t h = hgC (lampG g d t h) k f := by
  have e : ∀ j, 61 ≤ j → lampG g d t h j = g j := fun j hj => by
    unfold lampG lamp3
    split
    · rw [va_up_ne _ _ (by omega), va_up_ne _ _ (by omega), va_up_ne _ _ (by omega), va_up_ne _ _ (by omega), va_up_ne _ _ (by omega)]
    · rw [va_up_ne _ _ (by omega), va_up_ne _ _ (by omega), va_up_ne _ _ (by omega)]
  unfold hgC
  rw [lampG_up (by omega), lampG_up (by omega), e _ (by omega), e _ (by omega)]
theorem E20.pm {g g' : gT} (h : E20 g g') {d t : Int32} {x : Nat} : E20 (lampG g d t x) (lampG g' d t x) := by
  have hp : lampP g' d t = lampP g d t := by unfold lampP; rw [h 6 (by decide), h 7 (by decide), h 3 (by decide), h 4 (by decide)]
  have h3 : E20 (lamp3 g d t) (lamp3 g' d t) := by
    unfold lamp3
    simp only [hp]
    exact ((h.up rfl).up (by rw [h 4 (by decide), h 3 (by decide)])).up rfl
  unfold lampG
  simp only [hp]
  split
  · exact (h3.up (by rw [h 16 (by decide)])).up (by rw [h 17 (by decide)])
  · exact h3
/-- after lamp, coal and keeper: the component's numbers -/
def cC3 (g : gT) (h nr : Nat) : gT := va_up (if plV g h < 0 then lampG g (dav g h) (tev g h) h else lampG (hgC g (nn (plV g h)) (fallP g (plV g h))) (dav g h) (tev g h) h) 5 (g 5 - coV g h nr)
theorem lamp_5 {g : gT} {d t : Int32} {h : Nat} : lampG g d t h 5 = g 5 := by
  unfold lampG lamp3
  split
  · rw [va_up_ne _ _ (by decide), va_up_ne _ _ (by decide), va_up_ne _ _ (by decide), va_up_ne _ _ (by decide), va_up_ne _ _ (by decide)]
  · rw [va_up_ne _ _ (by decide), va_up_ne _ _ (by decide), va_up_ne _ _ (by decide)]
theorem hg1_5 {g : gT} {p : Int32} : hg1 g p 5 = g 5 := by
  unfold hg1
  split
  · rfl
  · rw [va_up_ne _ _ (by decide), va_up_ne _ _ (by omega)]
theorem s2_5 {g : gT} {h : Nat} : s2 g h 5 = g 5 := lamp_5.trans hg1_5
theorem cC3_E {g : gT} {h nr : Nat} : E20 (cC3 g h nr) (s3 g h nr) := by
  unfold cC3 s3
  refine E20.up ?_ (by rw [s2_5])
  unfold s2
  by_cases q : plV g h < 0
  · rw [if_pos q]
    exact E20.pm (by rw [hg1_a q]; exact E20.rf)
  · rw [if_neg q]
    exact E20.pm (hgC_E q _ rfl)
/-! a line written and ships that pass unseen -/
theorem shU_logP {g : gT} {d t w x y z : Int32} {s : Nat} (hs : s < 200) : shU d t w (logP g x y z) s = logP (shU d t w g s) x y z := by
  have l : ∀ j, j < 909 ∧ j ≠ 15 → logP g x y z j = g j := fun j hj => logP_low hj
  have eF : shF d t w (logP g x y z) s = shF d t w g s := by
    unfold shF; rw [l (109 + 4 * s) (by omega), l 6 (by decide)]
  have e15 : shU d t w g s 15 = g 15 := shU_15
  have e0 : shU d t w g s 0 = g 0 := shU_low (by decide)
  show va_up (va_up (logP g x y z) (109 + 4 * s + 2) (shF d t w (logP g x y z) s)) (109 + 4 * s + 3) (logP g x y z 6 + (if t = 0 then 0 else 2)) = _
  rw [eF, l 6 (by decide)]
  unfold logP
  rw [e15]
  split
  · unfold logG
    rw [e0]
    unfold shU
    rw [up_cm _ (show 15 ≠ 109 + 4 * s + 2 by omega), up_cm _ (show 909 + 4 * nn (g 15) + 3 ≠ 109 + 4 * s + 2 by omega), up_cm _ (show 909 + 4 * nn (g 15) + 2 ≠ 109 + 4 * s + 2 by omega), up_cm _ (show 909 + 4 * nn (g 15) + 1 ≠ 109 + 4 * s + 2 by omega), up_cm g (show 909 + 4 * nn (g 15) ≠ 109 + 4 * s + 2 by omega),
      up_cm _ (show 15 ≠ 109 + 4 * s + 3 by omega), up_cm _ (show 909 + 4 * nn (g 15) + 3 ≠ 109 + 4 * s + 3 by omega), up_cm _ (show 909 + 4 * nn (g 15) + 2 ≠ 109 + 4 * s + 3 by omega), up_cm _ (show 909 + 4 * nn (g 15) + 1 ≠ 109 + 4 * s + 3 by omega), up_cm (va_up g (109 + 4 * s + 2) _) (show 909 + 4 * nn (g 15) ≠ 109 + 4 * s + 3 by omega)]
  · rfl
theorem fold_logP {d t w x y z : Int32} (l : List Nat) (hl : ∀ s ∈ l, s < 200) (g : gT) : l.foldl (shS d t w (-1)) (logP g x y z) = logP (l.foldl (shS d t w (-1)) g) x y z := by
  induction l generalizing g with
  | nil => rfl
  | cons s l ih =>
    have e : ∀ g, shS d t w (-1) g s = shU d t w g s := fun g => if_pos (by decide)
    show l.foldl _ (shS d t w (-1) (logP g x y z) s) = logP (l.foldl _ (shS d t w (-1) g s)) x y z
    rw [e, e, shU_logP (hl s (List.mem_cons_self))]
    exact ih (fun s2 h2 => hl s2 (List.mem_cons_of_mem _ h2)) _
theorem shAll_hg6 {g : gT} {x : Int32} {ns : Nat} {d t w f d2 p : Int32} (hn : ns ≤ 200) (hp : nn p < 6) : shAll (hg6 g f d2 p) x ns d t w (-1) = hg6 (shAll g x ns d t w (-1)) f d2 p := by
  have el : ∀ (gg : gT) j, j < 109 ∧ j ≠ 15 → shAll gg x ns d t w (-1) j = gg j := fun gg j hj => fold_low hj _ _
  unfold hg6
  rw [el g (61 + 4 * nn p) (by omega)]
  split
  · have e : rk (logP g 1 (-1) p) x ns = rk g x ns := rkT_cg (fun s hs => ⟨logP_low (by omega), logP_low (by omega)⟩) 5
    show (rk (logP g 1 (-1) p) x ns).foldl _ _ = logP ((rk g x ns).foldl _ g) 1 (-1) p
    rw [e]
    exact fold_logP _ (fun s hs => Nat.lt_of_lt_of_le (rkT_mem 5 hs) hn) g
  · rfl
