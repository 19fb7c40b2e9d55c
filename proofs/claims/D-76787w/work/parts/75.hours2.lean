/-! ===== the hour: which way it goes ===== -/
set_option maxRecDepth 100000
theorem NB.e20 {G : kG} {M : kM} {w : Nat} {a kf sf sa ef : Nat → Nat} {T : kT} {ex : Nat → Prop} {g g' : gT} {nk nr ns nl : Nat} (h : NB G M w a kf sf sa ef T ex g nk nr ns nl) (e : E20 g g') : NB G M w a kf sf sa ef T ex g' nk nr ns nl := by
  have er : rlG g' ns = rlG g ns := rlG_cg (fun s hs => ⟨e _ (by omega), e _ (by omega)⟩)
  refine ⟨h.wc.cg h.b.1 h.b.2.1 (fun j hj => e j (by unfold wOth at hj; omega)), h.l.cg (fun j hj => e j (by omega)), h.s.cg h.b.2.2 (fun j h1 h2 => e j (by omega)), ?_, h.sl, h.x, h.b⟩
  rw [er]; exact h.c
theorem hgC_5 {g : gT} {k : Nat} {f : Prop} [Decidable f] {v : Int32} : hgC (va_up g 5 v) k f = va_up (hgC g k f) 5 v := by
  unfold hgC
  rw [va_up_ne _ _ (show 61 + 4 * k + 2 ≠ 5 by omega), va_up_ne _ _ (show 61 + 4 * k + 3 ≠ 5 by omega), up_cm g (show 5 ≠ 61 + 4 * k + 2 by omega), up_cm (va_up g (61 + 4 * k + 2) _) (show 5 ≠ 61 + 4 * k + 3 by omega)]
theorem lamp_hi {g : gT} {d t : Int32} {h j : Nat} (hj : 18 ≤ j) : lampG g d t h j = g j := by
  unfold lampG lamp3
  split
  · rw [va_up_ne _ _ (by omega), va_up_ne _ _ (by omega), va_up_ne _ _ (by omega), va_up_ne _ _ (by omega), va_up_ne _ _ (by omega)]
  · rw [va_up_ne _ _ (by omega), va_up_ne _ _ (by omega), va_up_ne _ _ (by omega)]
theorem lamp_15 {g : gT} {d t : Int32} {h : Nat} : lampG g d t h 15 = g 15 := by
  unfold lampG lamp3
  split
  · rw [va_up_ne _ _ (by decide), va_up_ne _ _ (by decide), va_up_ne _ _ (by decide), va_up_ne _ _ (by decide), va_up_ne _ _ (by decide)]
  · rw [va_up_ne _ _ (by decide), va_up_ne _ _ (by decide), va_up_ne _ _ (by decide)]
theorem lamp_0 {g : gT} {d t : Int32} {h : Nat} : lampG g d t h 0 = g 0 := by
  unfold lampG lamp3
  split
  · rw [va_up_ne _ _ (by decide), va_up_ne _ _ (by decide), va_up_ne _ _ (by decide), va_up_ne _ _ (by decide), va_up_ne _ _ (by decide)]
  · rw [va_up_ne _ _ (by decide), va_up_ne _ _ (by decide), va_up_ne _ _ (by decide)]
/-- what the component's lamp, coal and keeper leave -/
theorem cC3_hi {g : gT} {h nr j : Nat} (hp : 0 ≤ plV g h → nn (plV g h) < 6) (hj : j = 0 ∨ j = 15 ∨ 85 ≤ j) : cC3 g h nr j = g j := by
  unfold cC3
  rw [va_up_ne _ _ (by omega)]
  have hl : ∀ (gg : gT), lampG gg (dav g h) (tev g h) h j = gg j := fun gg => by
    rcases hj with e | e | e
    · subst e; exact lamp_0
    · subst e; exact lamp_15
    · exact lamp_hi (by omega)
  by_cases q : plV g h < 0
  · rw [if_pos q, hl]
  · rw [if_neg q, hl]
    have := hp (Int32.not_lt.mp q)
    unfold hgC
    rw [va_up_ne _ _ (by omega), va_up_ne _ _ (by omega)]
/-- nobody tends -/
abbrev hC7 (g : gT) (h nr ns : Nat) : gT := hg6 (shAll (cC3 g h nr) (nI h) ns (dav g h) (coV g h nr) (weaG g nr h) (-1)) (fav g h) (dav g h) (plV g h)
/-- somebody does -/
abbrev hD7 (g : gT) (h nr ns : Nat) : gT := shAll (hg5 (hg4 (cC3 g h nr) (dav g h) 1 (plV g h)) (coV g h nr) (plV g h)) (nI h) ns (dav g h) (coV g h nr) (weaG g nr h) (plV g h)
abbrev hEnd (x : gT) (g : gT) (h nr nk : Nat) (who : Int32) : gT := va_up (hg9 (tireG x who (weaG g nr h) nk) h nk (bi (boatP (tireG x who (weaG g nr h) nk) h (weaG g nr h) (dav g h)))) 0 (nI (h + 1))
theorem hEnd_E {x x' g : gT} {h nr nk : Nat} {who : Int32} (e : E20 x x') : E20 (hEnd x g h nr nk who) (hEnd x' g h nr nk who) := by
  have a := e.pt (who := who) (w := weaG g nr h) (n := nk)
  have b : boatP (tireG x' who (weaG g nr h) nk) h (weaG g nr h) (dav g h) = boatP (tireG x who (weaG g nr h) nk) h (weaG g nr h) (dav g h) := by
    unfold boatP; rw [a 8 (by decide)]
  unfold hEnd
  simp only [b]
  exact a.p9.up rfl
theorem hour_C {g : gT} {h nr nk ns : Nat} (hns : ns ≤ 200) (hp : 0 ≤ plV g h → nn (plV g h) < 6) (ht : tev g h = 0) : E20 (hEnd (hC7 g h nr ns) g h nr nk (-1)) (hourG g h nr nk ns) := by
  have hp6 : nn (plV g h) < 6 := by
    by_cases q : plV g h < 0
    · have e : nn (plV g h) = 0 := by
        unfold nn
        have := Int32.lt_iff_toInt_lt.mp q
        have z : (0 : Int32).toInt = 0 := rfl
        show (plV g h).toInt.toNat = 0
        omega
      omega
    · exact hp (Int32.not_lt.mp q)
  have co : coV g h nr = 0 := bi_f (fun q => q.2.1 ht)
  have w1 : wh g h = -1 := by show whoV _ _ = _; unfold whoV; rw [if_pos ht]
  have e7 : E20 (hC7 g h nr ns) (s7 g h nr ns) := by
    have e : s7 g h nr ns = hg6 (shAll (s3 g h nr) (nI h) ns (dav g h) (coV g h nr) (weaG g nr h) (-1)) (fav g h) (dav g h) (plV g h) := by
      unfold s7 s6 s5 s4
      rw [w1, hg4_a ht, hg5_a co, shAll_hg6 hns hp6]
    rw [e]
    exact (cC3_E.pA).p6
  have e8 : s8 g h nr nk ns = tireG (s7 g h nr ns) (-1) (weaG g nr h) nk := by unfold s8; rw [w1]
  have eh : hourG g h nr nk ns = hEnd (s7 g h nr ns) g h nr nk (-1) := by
    show va_up (hg9 (s8 g h nr nk ns) h nk (bi (boatP (s8 g h nr nk ns) h (weaG g nr h) (dav g h)))) 0 (nI (h + 1)) = _
    simp only [e8]
  rw [eh]
  exact hEnd_E e7
theorem hour_D {g : gT} {h nr nk ns : Nat} (ht : tev g h = 1) : E20 (hEnd (hD7 g h nr ns) g h nr nk (plV g h)) (hourG g h nr nk ns) := by
  have h0 : ¬ tev g h = 0 := by rw [ht]; decide
  have w1 : wh g h = plV g h := by show whoV _ _ = _; unfold whoV; rw [if_neg h0]
  have f0 : fav g h = 0 := bi_f (fun q => (bi_n0 h0).2 q)
  have e7 : E20 (hD7 g h nr ns) (s7 g h nr ns) := by
    have e : s7 g h nr ns = shAll (hg5 (hg4 (s3 g h nr) (dav g h) 1 (plV g h)) (coV g h nr) (plV g h)) (nI h) ns (dav g h) (coV g h nr) (weaG g nr h) (plV g h) := by
      unfold s7 s6 s5 s4
      rw [w1, hg6_a f0, ht]
    rw [e]
    exact ((cC3_E.p4).p5).pA
  have e8 : s8 g h nr nk ns = tireG (s7 g h nr ns) (plV g h) (weaG g nr h) nk := by unfold s8; rw [w1]
  have eh : hourG g h nr nk ns = hEnd (s7 g h nr ns) g h nr nk (plV g h) := by
    show va_up (hg9 (s8 g h nr nk ns) h nk (bi (boatP (s8 g h nr nk ns) h (weaG g nr h) (dav g h)))) 0 (nI (h + 1)) = _
    simp only [e8]
  rw [eh]
  exact hEnd_E e7
theorem tire_15 {g : gT} {who w : Int32} {n : Nat} : tireG g who w n 15 = g 15 := by unfold tireG; exact if_neg (fun q => by omega)
theorem hg9_15 {g : gT} {h nk : Nat} {b : Int32} : hg9 g h nk b 15 = g 15 := by
  unfold hg9
  split
  · rfl
  · unfold rstG
    rw [if_neg (by omega)]
    unfold supG
    rw [va_up_ne _ _ (by decide), va_up_ne _ _ (by decide), va_up_ne _ _ (by decide), va_up_ne _ _ (by decide)]
theorem hEnd_15 {x g : gT} {h nr nk : Nat} {who : Int32} : hEnd x g h nr nk who 15 = x 15 := (va_up_ne _ _ (by decide)).trans (hg9_15.trans tire_15)
theorem wea_n {g : gT} {h nr : Nat} (hr : RunsOK g nr) (hw : ∀ r, r < nr → g (21 + 2 * r) = nI (nn (g (21 + 2 * r))) ∧ nn (g (21 + 2 * r)) < 3) : weaG g nr h = nI (nn (weaG g nr h)) ∧ nn (weaG g nr h) < 3 := by
  unfold weaG
  by_cases q : nr = 0
  · rw [if_pos q]; exact ⟨rfl, by decide⟩
  · rw [if_neg q]
    have h1 := sumN_pos nr (Nat.pos_of_ne_zero q) (fun r q => (hr.du q).2.1)
    have lt : ∀ f r z, r + f = nr → r < nr → z + sumN (duG g) r < sumN (duG g) nr → wIx (duG g) f r z < nr := by
      intro f
      induction f with
      | zero => intro r z e1 e2 _; omega
      | succ f ih =>
        intro r z e1 e2 e3
        unfold wIx
        by_cases c : z < duG g r
        · rw [if_pos c]; exact e2
        · rw [if_neg c]
          have e4 : sumN (duG g) (r + 1) = sumN (duG g) r + duG g r := rfl
          have e5 : r + 1 < nr := by
            rcases Nat.lt_or_ge (r + 1) nr with w | w
            · exact w
            · have e6 : nr = r + 1 := by omega
              rw [e6, e4] at e3
              omega
          exact ih (r + 1) _ (by omega) e5 (by rw [e4]; omega)
    exact hw _ (lt nr 0 _ (by omega) (Nat.pos_of_ne_zero q) (by show _ + 0 < _; have := Nat.mod_lt h h1; omega))
