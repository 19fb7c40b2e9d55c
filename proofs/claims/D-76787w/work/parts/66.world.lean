/-! ===== a world ===== -/
def WRl : List Nat := [0, 1, 2, 3, 4, 5, 6, 8, 10, 11, 20, 21]
def WAl : List Nat := [1, 10, 11, 20, 21]
def WAn (i : Nat) : Nat := if i = 1 then 24 else if i = 10 then 5 else if i = 11 then 4 else 200
def WIl : List Nat := [9, 12, 13, 14, 15, 16]
def WIx (f : Nat) : Nat := if f = 9 then 0 else if f = 12 then 6 else if f = 13 then 7 else if f = 14 then 16 else if f = 15 then 18 else 19
/-- what is made with a world and stays -/
def WS (G : kG) (M : kM) (w : Nat) (a : Nat → Nat) : Prop := mK M w = some 1 ∧ mG M w = w + 1 ∧ (∀ i, i ∈ WRl → mR M (fc 1 i) w = some (a i)) ∧ (∀ i, i ∈ WAl → mK M (a i) = some 120 ∧ mN M (a i) = WAn i ∧ mG M (a i) = w + 1) ∧ a 20 ≠ a 21 ∧ SGS G M (a 4)
/-- its numbers -/
def WN (M : kM) (w : Nat) (a : Nat → Nat) (g : gT) : Prop := (∀ f, f ∈ WIl → mI M (fc 1 f) w = g (WIx f)) ∧ (∀ i, i < 5 → mA M (a 10) i = g (1 + i)) ∧ (∀ i, i < 4 → mA M (a 11) i = g (8 + i)) ∧ (∀ i, i < 24 → mA M (a 1) i = g (85 + i)) ∧ BT M (a 8) (a 30) (w + 1) (g 17) ∧ (g 6 = 0 ∨ g 6 = 1)
/-- its keepers -/
def WK9 (G : kG) (M : kM) (w : Nat) (kf : Nat → Nat) (g : gT) (nk : Nat) : Prop := ∀ k, k < nk → KPP G M (kf k) k (nn (g (61 + 4 * k))) (g (61 + 4 * k + 1)) (g (61 + 4 * k + 2)) (g (61 + 4 * k + 3)) (w + 1) ∧ g (61 + 4 * k) = nI (nn (g (61 + 4 * k)))
/-- its sky -/
def WY9 (G : kG) (M : kM) (w : Nat) (sf : Nat → Nat) (g : gT) (nr : Nat) : Prop := (∀ r, r < nr → SPP G M (sf r) (nn (g (21 + 2 * r))) (g (21 + 2 * r + 1)) ∧ g (21 + 2 * r) = nI (nn (g (21 + 2 * r)))) ∧ mI M (fc 1 7) w = nI (sumN (duG g) nr)
def WC (G : kG) (M : kM) (w : Nat) (a : Nat → Nat) (kf sf : Nat → Nat) (g : gT) (nk nr : Nat) : Prop := WS G M w a ∧ WN M w a g ∧ (AL G M (a 0) nk (a 40) kf ∧ WK9 G M w kf g nk) ∧ (AL G M (a 6) nr (a 41) sf ∧ WY9 G M w sf g nr)
section
variable {G : kG} {M M2 : kM} {w : Nat} {a : Nat → Nat} {kf sf : Nat → Nat} {g g' : gT} {nk nr : Nat} {S : Nat → Prop}
theorem WS.k (h : WS G M w a) : mK M w = some 1 := h.1
theorem WS.gg (h : WS G M w a) : mG M w = w + 1 := h.2.1
theorem WS.r (h : WS G M w a) (i : Nat) (hi : i ∈ WRl) : mR M (fc 1 i) w = some (a i) := h.2.2.1 i hi
theorem WS.ak (h : WS G M w a) (i : Nat) (hi : i ∈ WAl) : mK M (a i) = some 120 := (h.2.2.2.1 i hi).1
theorem WS.an (h : WS G M w a) (i : Nat) (hi : i ∈ WAl) : mN M (a i) = WAn i := (h.2.2.2.1 i hi).2.1
theorem WS.ag (h : WS G M w a) (i : Nat) (hi : i ∈ WAl) : mG M (a i) = w + 1 := (h.2.2.2.1 i hi).2.2
theorem WS.ane (h : WS G M w a) (i j : Nat) (hi : i ∈ WAl) (hj : j ∈ WAl) (hij : WAn i ≠ WAn j) : a i ≠ a j := fun e => hij (by rw [← h.an i hi, ← h.an j hj, e])
theorem WC.s (h : WC G M w a kf sf g nk nr) : WS G M w a := h.1
theorem WC.n (h : WC G M w a kf sf g nk nr) : WN M w a g := h.2.1
theorem WC.i (h : WC G M w a kf sf g nk nr) (f : Nat) (hf : f ∈ WIl) : mI M (fc 1 f) w = g (WIx f) := h.2.1.1 f hf
theorem WC.told (h : WC G M w a kf sf g nk nr) (i : Nat) (hi : i < 5) : mA M (a 10) i = g (1 + i) := h.2.1.2.1 i hi
theorem WC.boat (h : WC G M w a kf sf g nk nr) (i : Nat) (hi : i < 4) : mA M (a 11) i = g (8 + i) := h.2.1.2.2.1 i hi
theorem WC.plan (h : WC G M w a kf sf g nk nr) (i : Nat) (hi : i < 24) : mA M (a 1) i = g (85 + i) := h.2.1.2.2.2.1 i hi
theorem WC.bt (h : WC G M w a kf sf g nk nr) : BT M (a 8) (a 30) (w + 1) (g 17) := h.2.1.2.2.2.2.1
theorem WC.lit (h : WC G M w a kf sf g nk nr) : g 6 = 0 ∨ g 6 = 1 := h.2.1.2.2.2.2.2
theorem WC.kl (h : WC G M w a kf sf g nk nr) : AL G M (a 0) nk (a 40) kf := h.2.2.1.1
theorem WC.kp (h : WC G M w a kf sf g nk nr) {k : Nat} (hk : k < nk) : KPP G M (kf k) k (nn (g (61 + 4 * k))) (g (61 + 4 * k + 1)) (g (61 + 4 * k + 2)) (g (61 + 4 * k + 3)) (w + 1) := (h.2.2.1.2 k hk).1
theorem WC.rk (h : WC G M w a kf sf g nk nr) {k : Nat} (hk : k < nk) : g (61 + 4 * k) = nI (nn (g (61 + 4 * k))) := (h.2.2.1.2 k hk).2
theorem WC.sl (h : WC G M w a kf sf g nk nr) : AL G M (a 6) nr (a 41) sf := h.2.2.2.1
theorem WC.sp (h : WC G M w a kf sf g nk nr) {r : Nat} (hr : r < nr) : SPP G M (sf r) (nn (g (21 + 2 * r))) (g (21 + 2 * r + 1)) := (h.2.2.2.2.1 r hr).1
theorem WC.sw (h : WC G M w a kf sf g nk nr) {r : Nat} (hr : r < nr) : g (21 + 2 * r) = nI (nn (g (21 + 2 * r))) := (h.2.2.2.2.1 r hr).2
theorem WC.rd (h : WC G M w a kf sf g nk nr) : mI M (fc 1 7) w = nI (sumN (duG g) nr) := h.2.2.2.2.2
theorem AL.n900 {l n c : Nat} {f : Nat → Nat} (h : AL G M l n c f) : n ≤ 900 := by
  obtain ⟨d, h⟩ := h
  exact Nat.le_trans h.le h.cp.1
theorem WC.k9 (h : WC G M w a kf sf g nk nr) : nk ≤ 900 := h.kl.n900
theorem WC.kinj (h : WC G M w a kf sf g nk nr) {j k : Nat} (hj : j < nk) (hk : k < nk) (e : kf j = kf k) : j = k := by
  have h9 := h.k9
  have a1 := (h.kp hj).2.2.1
  have a2 := (h.kp hk).2.2.1
  rw [e, a2] at a1
  exact ((nI_eq (by omega) (by omega)).mp a1).symm
theorem WC.kne (h : WC G M w a kf sf g nk nr) {l n c : Nat} {f : Nat → Nat} (hl : AL G M l n c f) : l ≠ w := fun e => by
  have a1 := hl.kk; rw [e, h.s.k] at a1; exact absurd a1 (by decide)
/-! other numbers that count the same -/
theorem WN.cg (h : WN M w a g) (e : ∀ j, (j ≤ 11 ∨ (16 ≤ j ∧ j ≤ 19) ∨ (85 ≤ j ∧ j < 109)) → g' j = g j) : WN M w a g' := by
  obtain ⟨h1, h2, h3, h4, h5, h6⟩ := h
  have b : ∀ f, f ∈ WIl → WIx f ≤ 11 ∨ (16 ≤ WIx f ∧ WIx f ≤ 19) := by decide
  refine ⟨fun f hf => (h1 f hf).trans (e _ (by have := b f hf; omega)).symm, fun i hi => (h2 i hi).trans (e _ (by omega)).symm, fun i hi => (h3 i hi).trans (e _ (by omega)).symm, fun i hi => (h4 i hi).trans (e _ (by omega)).symm, by rw [e 17 (by omega)]; exact h5, by rw [e 6 (by omega)]; exact h6⟩
theorem WK9.cg (h : WK9 G M w kf g nk) (hn : nk ≤ 6) (e : ∀ j, 61 ≤ j → j < 85 → g' j = g j) : WK9 G M w kf g' nk := fun k hk => by
  rw [e (61 + 4 * k) (by omega) (by omega), e (61 + 4 * k + 1) (by omega) (by omega), e (61 + 4 * k + 2) (by omega) (by omega), e (61 + 4 * k + 3) (by omega) (by omega)]
  exact h k hk
theorem du_cg (hn : nr ≤ 20) (e : ∀ j, 21 ≤ j → j < 61 → g' j = g j) (n : Nat) (h : n ≤ nr) : sumN (duG g') n = sumN (duG g) n := by
  induction n with
  | zero => exact Eq.trans (show sumN (duG g') 0 = 0 from rfl) (show 0 = sumN (duG g) 0 from rfl)
  | succ n ih =>
    have e1 : duG g' n = duG g n := by unfold duG; rw [e _ (by omega) (by omega)]
    exact Eq.trans (show sumN (duG g') (n + 1) = sumN (duG g') n + duG g' n from rfl) (Eq.trans (by rw [ih (by omega), e1]) (show sumN (duG g) n + duG g n = sumN (duG g) (n + 1) from rfl))
theorem WY9.cg (h : WY9 G M w sf g nr) (hn : nr ≤ 20) (e : ∀ j, 21 ≤ j → j < 61 → g' j = g j) : WY9 G M w sf g' nr := by
  refine ⟨fun r hr => ?_, by rw [du_cg hn e nr (Nat.le_refl _)]; exact h.2⟩
  rw [e (21 + 2 * r) (by omega) (by omega), e (21 + 2 * r + 1) (by omega) (by omega)]
  exact h.1 r hr
/-- numbers that no world keeps apart from ships and the log -/
def wOth (j : Nat) : Prop := (12 ≤ j ∧ j < 16) ∨ j = 20 ∨ 109 ≤ j
theorem WC.cg (h : WC G M w a kf sf g nk nr) (h6 : nk ≤ 6) (h20 : nr ≤ 20) (e : ∀ j, ¬ wOth j → g' j = g j) : WC G M w a kf sf g' nk nr :=
  ⟨h.1, h.2.1.cg (fun j hj => e j (by unfold wOth; omega)), ⟨h.2.2.1.1, h.2.2.1.2.cg h6 (fun j h1 h2 => e j (by unfold wOth; omega))⟩, ⟨h.2.2.2.1, h.2.2.2.2.cg h20 (fun j h1 h2 => e j (by unfold wOth; omega))⟩⟩
/-- of the world's own; not whether it is thought, nor what is counted in thought -/
def FX (w : Nat) (M M2 : kM) : Prop := Fr (ow w) M M2 ∧ ∀ f, f ∈ [17, 18, 19] → mI M2 (fc 1 f) w = mI M (fc 1 f) w
theorem FX.rf {w : Nat} {M : kM} : FX w M M := ⟨Fr.rf, fun _ _ => rfl⟩
theorem FX.kE {w : Nat} {M M2 : kM} (h : FX w M M2) : kE M M2 := h.1.kE
theorem FX.tr {w : Nat} {M M1 M2 : kM} (h : FX w M M1) (h2 : FX w M1 M2) : FX w M M2 := ⟨h.1.tr h2.1, fun f hf => (h2.2 f hf).trans (h.2 f hf)⟩
/-! changes elsewhere -/
theorem WS.fr (h : WS G M w a) (hF : Fr S M M2) (hw : ¬ S (w + 1)) (h4 : ¬ S (a 4 + 1)) : WS G M2 w a := by
  have b := hF.1 w (by rw [h.k]; exact fun e => by cases e)
  have s := b.2.2 (by rw [h.gg]; exact hw)
  refine ⟨by rw [b.1]; exact h.k, by rw [b.2.1]; exact h.gg, fun i hi => by rw [s.2.1]; exact h.r i hi, fun i hi => ?_, h.2.2.2.2.1, h.2.2.2.2.2.fr hF h4⟩
  have b2 := hF.1 (a i) (by rw [h.ak i hi]; exact fun e => by cases e)
  have s2 := b2.2.2 (by rw [h.ag i hi]; exact hw)
  exact ⟨by rw [b2.1]; exact h.ak i hi, by rw [s2.2.2.1]; exact h.an i hi, by rw [b2.2.1]; exact h.ag i hi⟩
theorem WC.fr (h : WC G M w a kf sf g nk nr) (hF : Fr S M M2) (hw : ¬ S (w + 1)) (h0 : ¬ S 0) (h4 : ¬ S (a 4 + 1)) (h5 : ¬ S (a 0 + 1)) (h6 : ¬ S (a 6 + 1)) : WC G M2 w a kf sf g nk nr := by
  have b := hF.1 w (by rw [h.s.k]; exact fun e => by cases e)
  have s := b.2.2 (by rw [h.s.gg]; exact hw)
  have sa : ∀ i, i ∈ WAl → mA M2 (a i) = mA M (a i) := fun i hi => ((hF.1 (a i) (by rw [h.s.ak i hi]; exact fun e => by cases e)).2.2 (by rw [h.s.ag i hi]; exact hw)).2.2.2.1
  refine ⟨h.s.fr hF hw h4, ⟨fun f hf => by rw [s.1]; exact h.i f hf, fun i hi => by rw [sa 10 (by decide)]; exact h.told i hi, fun i hi => by rw [sa 11 (by decide)]; exact h.boat i hi, fun i hi => by rw [sa 1 (by decide)]; exact h.plan i hi, h.bt.fr hF hw, h.lit⟩, ⟨h.kl.fr hF h5, fun k hk => ⟨(h.kp hk).fr hF hw, h.rk hk⟩⟩, ⟨h.sl.fr hF h6, fun r hr => ⟨(h.sp hr).fr hF h0, h.sw hr⟩, by rw [s.1]; exact h.rd⟩⟩
/-! a world's own numbers told anew -/
theorem KPP.cI {b i r o c x : Nat} {ti te sl v : Int32} (h : KPP G M b i r ti te sl o) (hc : fc 15 0 ≠ c ∧ fc 15 2 ≠ c ∧ fc 15 3 ≠ c ∧ fc 15 4 ≠ c) : KPP G (sI M c x v) b i r ti te sl o := by
  obtain ⟨q1, q2, q3, q4, q5, q6, q7, q8, q9⟩ := h
  exact ⟨q1, q2, (mI_sI_c hc.1).trans q3, q4, q5, q6, (mI_sI_c hc.2.1).trans q7, (mI_sI_c hc.2.2.1).trans q8, (mI_sI_c hc.2.2.2).trans q9⟩
theorem BT.cI {b d o c x : Nat} {v y : Int32} (h : BT M b d o v) (hc : fc 46 1 ≠ c) : BT (sI M c x y) b d o v := by
  obtain ⟨h1, h2, h3, h4, h5, h6, h7, h8⟩ := h
  exact ⟨h1, h2, h3, h4, h5, h6, (mI_sI_c hc).trans h7, h8⟩
theorem WC.stp (h : WC G M w a kf sf g nk nr) (hF : Fr (ow w) M M2) (e1 : mK M2 = mK M) (e2 : mG M2 = mG M) (e3 : mR M2 = mR M) (e4 : mN M2 = mN M) (h4 : a 4 ≠ w) (hN : WN M2 w a g') (hK : WK9 G M2 w kf g' nk) (h7 : mI M2 (fc 1 7) w = mI M (fc 1 7) w) (h20 : nr ≤ 20) (hg : ∀ j, 21 ≤ j → j < 61 → g' j = g j) : WC G M2 w a kf sf g' nk nr := by
  refine ⟨⟨by rw [e1]; exact h.s.k, by rw [e2]; exact h.s.gg, fun i hi => by rw [e3]; exact h.s.r i hi, fun i hi => by rw [e1, e2, e4]; exact h.s.2.2.2.1 i hi, h.s.2.2.2.2.1, h.s.2.2.2.2.2.fr hF (fun e => h4 (Nat.succ.inj e))⟩, hN, ⟨h.kl.fr hF (fun e => h.kne h.kl (Nat.succ.inj e)), hK⟩, ⟨h.sl.fr hF (fun e => h.kne h.sl (Nat.succ.inj e)), WY9.cg (g := g) ⟨fun r hr => ⟨(h.sp hr).fr hF (fun e => by cases e), h.sw hr⟩, by rw [h7]; exact h.rd⟩ h20 hg⟩⟩
theorem WC.s4 (h : WC G M w a kf sf g nk nr) : a 4 ≠ w := fun e => by
  obtain ⟨ar, q⟩ := h.s.2.2.2.2.2
  have a1 := q.1; rw [e, h.s.k] at a1; exact absurd a1 (by decide)
theorem WN.I (h : WN M w a g) {f : Nat} {v : Int32} (hf : f ∈ WIl) (h12 : f = 12 → v = 0 ∨ v = 1) : WN (sI M (fc 1 f) w v) w a (va_up g (WIx f) v) := by
  obtain ⟨h1, h2, h3, h4, h5, h6⟩ := h
  have b : ∀ f, f ∈ WIl → ∀ i, i < 5 → 1 + i ≠ WIx f ∨ f = 12 := by decide
  have inj : ∀ f, f ∈ WIl → ∀ f', f' ∈ WIl → f' ≠ f → WIx f' ≠ WIx f ∧ fc 1 f' ≠ fc 1 f := by decide
  have b5 : ∀ f, f ∈ WIl → (∀ i, i < 5 → 1 + i ≠ WIx f) ∧ (∀ i, i < 4 → 8 + i ≠ WIx f) ∧ (∀ i, i < 24 → 85 + i ≠ WIx f) ∧ 17 ≠ WIx f ∧ fc 46 1 ≠ fc 1 f ∧ (6 = WIx f → f = 12) := by decide
  have q := b5 f hf
  refine ⟨fun f' hf' => ?_, fun i hi => (h2 i hi).trans (va_up_ne _ _ (q.1 i hi)).symm, fun i hi => (h3 i hi).trans (va_up_ne _ _ (q.2.1 i hi)).symm, fun i hi => (h4 i hi).trans (va_up_ne _ _ (q.2.2.1 i hi)).symm, ?_, ?_⟩
  · by_cases e : f' = f
    · rw [e, va_up_self]; exact mI_sI
    · have z := inj f hf f' hf' e
      rw [va_up_ne _ _ z.1]; exact (mI_sI_c z.2).trans (h1 f' hf')
  · rw [va_up_ne _ _ q.2.2.2.1]; exact h5.cI q.2.2.2.2.1
  · by_cases e : 6 = WIx f
    · rw [← e, va_up_self]; exact h12 (q.2.2.2.2.2 e)
    · rw [va_up_ne _ _ e]; exact h6
theorem WC.setI (h : WC G M w a kf sf g nk nr) (h6 : nk ≤ 6) (h20 : nr ≤ 20) (f : Nat) {v : Int32} (hf : f ∈ WIl) (h12 : f = 12 → v = 0 ∨ v = 1) : WC G (sI M (fc 1 f) w v) w a kf sf (va_up g (WIx f) v) nk nr := by
  have b : ∀ f, f ∈ WIl → WIx f < 21 ∧ fc 1 7 ≠ fc 1 f ∧ fc 15 0 ≠ fc 1 f ∧ fc 15 2 ≠ fc 1 f ∧ fc 15 3 ≠ fc 1 f ∧ fc 15 4 ≠ fc 1 f := by decide
  have q := b f hf
  refine h.stp (Fr.rf.I (Or.inr h.s.gg)) rfl rfl rfl rfl h.s4 (h.n.I hf h12) ?_ (mI_sI_c q.2.1) h20 (fun j h1 _ => va_up_ne _ _ (by omega))
  exact WK9.cg (g := g) (fun k hk => ⟨(h.kp hk).cI q.2.2, h.rk hk⟩) h6 (fun j h1 _ => va_up_ne _ _ (by omega))
theorem WC.setIF (h : WC G M w a kf sf g nk nr) (f : Nat) {v : Int32} (hf : f ∈ WIl := by decide) : FX w M (sI M (fc 1 f) w v) := ⟨Fr.rf.I (Or.inr h.s.gg), fun f2 h2 => mI_sI_c ((by decide : ∀ f, f ∈ WIl → ∀ f2, f2 ∈ [17, 18, 19] → fc 1 f2 ≠ fc 1 f) f hf f2 h2)⟩
theorem WC.setTold (h : WC G M w a kf sf g nk nr) (h6 : nk ≤ 6) (h20 : nr ≤ 20) {i : Nat} {v : Int32} (hi : i < 5) : WC G (sA M (a 10) (va_up (mA M (a 10)) i v)) w a kf sf (va_up g (1 + i) v) nk nr := by
  have n1 : a 11 ≠ a 10 := h.s.ane 11 10 (by decide) (by decide) (by decide)
  have n2 : a 1 ≠ a 10 := h.s.ane 1 10 (by decide) (by decide) (by decide)
  have b : ∀ f, f ∈ WIl → ∀ i, i < 5 → WIx f ≠ 1 + i := by decide
  refine h.stp (Fr.rf.A (Or.inr (h.s.ag 10 (by decide)))) rfl rfl rfl rfl h.s4 ⟨fun f hf => (h.i f hf).trans (va_up_ne _ _ (b f hf i hi)).symm, fun j hj => ?_, fun j hj => ?_, fun j hj => ?_, ?_, ?_⟩ ?_ rfl h20 (fun j h1 _ => va_up_ne _ _ (by omega))
  · rw [mA_sA]
    by_cases e : j = i
    · rw [e, va_up_self, va_up_self]
    · rw [va_up_ne _ _ e, va_up_ne _ _ (by omega)]; exact h.told j hj
  · rw [mA_sA_n n1, va_up_ne _ _ (by omega)]; exact h.boat j hj
  · rw [mA_sA_n n2, va_up_ne _ _ (by omega)]; exact h.plan j hj
  · rw [va_up_ne _ _ (by omega)]; exact h.bt
  · rw [va_up_ne _ _ (by omega)]; exact h.lit
  · exact WK9.cg (g := g) (M := sA M (a 10) _) (fun k hk => ⟨h.kp hk, h.rk hk⟩) h6 (fun j h1 _ => va_up_ne _ _ (by omega))
theorem WC.setBoat (h : WC G M w a kf sf g nk nr) (h6 : nk ≤ 6) (h20 : nr ≤ 20) {i : Nat} {v : Int32} (hi : i < 4) : WC G (sA M (a 11) (va_up (mA M (a 11)) i v)) w a kf sf (va_up g (8 + i) v) nk nr := by
  have n1 : a 10 ≠ a 11 := h.s.ane 10 11 (by decide) (by decide) (by decide)
  have n2 : a 1 ≠ a 11 := h.s.ane 1 11 (by decide) (by decide) (by decide)
  have b : ∀ f, f ∈ WIl → ∀ i, i < 4 → WIx f ≠ 8 + i := by decide
  refine h.stp (Fr.rf.A (Or.inr (h.s.ag 11 (by decide)))) rfl rfl rfl rfl h.s4 ⟨fun f hf => (h.i f hf).trans (va_up_ne _ _ (b f hf i hi)).symm, fun j hj => ?_, fun j hj => ?_, fun j hj => ?_, ?_, ?_⟩ ?_ rfl h20 (fun j h1 _ => va_up_ne _ _ (by omega))
  · rw [mA_sA_n n1, va_up_ne _ _ (by omega)]; exact h.told j hj
  · rw [mA_sA]
    by_cases e : j = i
    · rw [e, va_up_self, va_up_self]
    · rw [va_up_ne _ _ e, va_up_ne _ _ (by omega)]; exact h.boat j hj
  · rw [mA_sA_n n2, va_up_ne _ _ (by omega)]; exact h.plan j hj
  · rw [va_up_ne _ _ (by omega)]; exact h.bt
  · rw [va_up_ne _ _ (by omega)]; exact h.lit
  · exact WK9.cg (g := g) (M := sA M (a 11) _) (fun k hk => ⟨h.kp hk, h.rk hk⟩) h6 (fun j h1 _ => va_up_ne _ _ (by omega))
theorem WC.setPlan (h : WC G M w a kf sf g nk nr) (h6 : nk ≤ 6) (h20 : nr ≤ 20) {i : Nat} {v : Int32} (hi : i < 24) : WC G (sA M (a 1) (va_up (mA M (a 1)) i v)) w a kf sf (va_up g (85 + i) v) nk nr := by
  have n1 : a 10 ≠ a 1 := h.s.ane 10 1 (by decide) (by decide) (by decide)
  have n2 : a 11 ≠ a 1 := h.s.ane 11 1 (by decide) (by decide) (by decide)
  have b : ∀ f, f ∈ WIl → WIx f < 21 := by decide
  refine h.stp (Fr.rf.A (Or.inr (h.s.ag 1 (by decide)))) rfl rfl rfl rfl h.s4 ⟨fun f hf => (h.i f hf).trans (va_up_ne _ _ (by have := b f hf; omega)).symm, fun j hj => ?_, fun j hj => ?_, fun j hj => ?_, ?_, ?_⟩ ?_ rfl h20 (fun j h1 _ => va_up_ne _ _ (by omega))
  · rw [mA_sA_n n1, va_up_ne _ _ (by omega)]; exact h.told j hj
  · rw [mA_sA_n n2, va_up_ne _ _ (by omega)]; exact h.boat j hj
  · rw [mA_sA]
    by_cases e : j = i
    · rw [e, va_up_self, va_up_self]
    · rw [va_up_ne _ _ e, va_up_ne _ _ (by omega)]; exact h.plan j hj
  · rw [va_up_ne _ _ (by omega)]; exact h.bt
  · rw [va_up_ne _ _ (by omega)]; exact h.lit
  · exact WK9.cg (g := g) (M := sA M (a 1) _) (fun k hk => ⟨h.kp hk, h.rk hk⟩) h6 (fun j h1 _ => va_up_ne _ _ (by omega))
theorem WC.setA (h : WC G M w a kf sf g nk nr) (i : Nat) (hi : i ∈ WAl) {f : Nat → Int32} : FX w M (sA M (a i) f) := ⟨Fr.rf.A (Or.inr (h.s.ag i hi)), fun _ _ => rfl⟩
theorem WC.setBF (h : WC G M w a kf sf g nk nr) {v : Int32} : FX w M (bsM M (a 8) (a 30) v) := ⟨bs_fr h.bt, fun f hf => (mI_sI_c ((by decide : ∀ f, f ∈ [17, 18, 19] → fc 1 f ≠ fc 46 1) f hf) : mI (sI M (fc 46 1) (a 8) _) (fc 1 f) w = _)⟩
theorem WC.setBits (h : WC G M w a kf sf g nk nr) (h6 : nk ≤ 6) (h20 : nr ≤ 20) {v : Int32} : WC G (bsM M (a 8) (a 30) v) w a kf sf (va_up g 17 v) nk nr := by
  have b : ∀ f, f ∈ WIl → WIx f ≠ 17 ∧ fc 1 f ≠ fc 46 1 := by decide
  have ei : ∀ c x, c ≠ fc 46 1 → mI (bsM M (a 8) (a 30) v) c x = mI M c x := fun c x hc => (mI_sI_c hc : mI (sI M (fc 46 1) (a 8) _) c x = _)
  refine h.stp (bs_fr h.bt) rfl rfl rfl rfl h.s4 ⟨fun f hf => ?_, fun j hj => (h.told j hj).trans (va_up_ne _ _ (by omega)).symm, fun j hj => (h.boat j hj).trans (va_up_ne _ _ (by omega)).symm, fun j hj => (h.plan j hj).trans (va_up_ne _ _ (by omega)).symm, ?_, ?_⟩ ?_ (ei _ _ (by decide)) h20 (fun j h1 _ => va_up_ne _ _ (by omega))
  · rw [va_up_ne _ _ (b f hf).1]; exact (ei _ _ (b f hf).2).trans (h.i f hf)
  · rw [va_up_self]; exact h.bt.bs
  · rw [va_up_ne _ _ (by decide)]; exact h.lit
  · exact WK9.cg (g := g) (fun k hk => ⟨(h.kp hk).cI (c := fc 46 1) (x := a 8) (v := if v = 0 then 0 else 1) (by decide), h.rk hk⟩) h6 (fun j h1 _ => va_up_ne _ _ (by omega))
/-- tired, tended, slept: j is 2, 3, 4 -/
theorem WC.setK (h : WC G M w a kf sf g nk nr) (h6 : nk ≤ 6) (h20 : nr ≤ 20) {k : Nat} (j : Nat) {v : Int32} (hk : k < nk) (hj : j = 2 ∨ j = 3 ∨ j = 4) : WC G (sI M (fc 15 j) (kf k) v) w a kf sf (va_up g (61 + 4 * k + (j - 1)) v) nk nr := by
  have b : ∀ f, f ∈ WIl → WIx f < 21 ∧ ∀ j, (j = 2 ∨ j = 3 ∨ j = 4) → fc 1 f ≠ fc 15 j := by
    intro f hf
    refine ⟨(by decide : ∀ f, f ∈ WIl → WIx f < 21) f hf, fun j hj => ?_⟩
    rcases hj with rfl | rfl | rfl
    · exact (by decide : ∀ f, f ∈ WIl → fc 1 f ≠ fc 15 2) f hf
    · exact (by decide : ∀ f, f ∈ WIl → fc 1 f ≠ fc 15 3) f hf
    · exact (by decide : ∀ f, f ∈ WIl → fc 1 f ≠ fc 15 4) f hf
  have c46 : fc 46 1 ≠ fc 15 j ∧ fc 1 7 ≠ fc 15 j := by rcases hj with rfl | rfl | rfl <;> decide
  refine h.stp (Fr.rf.I (Or.inr (h.kp hk).2.1)) rfl rfl rfl rfl h.s4 ⟨fun f hf => ?_, fun i hi => (h.told i hi).trans (va_up_ne _ _ (by omega)).symm, fun i hi => (h.boat i hi).trans (va_up_ne _ _ (by omega)).symm, fun i hi => (h.plan i hi).trans (va_up_ne _ _ (by omega)).symm, ?_, ?_⟩ ?_ (mI_sI_c c46.2) h20 (fun j h1 _ => va_up_ne _ _ (by omega))
  · rw [va_up_ne _ _ (by have := (b f hf).1; omega)]; exact (mI_sI_c ((b f hf).2 j hj)).trans (h.i f hf)
  · rw [va_up_ne _ _ (by omega)]; exact h.bt.cI c46.1
  · rw [va_up_ne _ _ (by omega)]; exact h.lit
  · intro i hi
    obtain ⟨q1, q2, q3, q4, q5, q6, q7, q8, q9⟩ := h.kp hi
    by_cases e : i = k
    · subst e
      rcases hj with rfl | rfl | rfl
      · rw [va_up_ne _ _ (by omega), va_up_ne g _ (show 61 + 4 * i + 2 ≠ 61 + 4 * i + (2 - 1) by omega), va_up_ne g _ (show 61 + 4 * i + 3 ≠ 61 + 4 * i + (2 - 1) by omega), va_up_self]
        exact ⟨⟨q1, q2, (mI_sI_c (by decide)).trans q3, q4, q5, q6, mI_sI, (mI_sI_c (by decide)).trans q8, (mI_sI_c (by decide)).trans q9⟩, h.rk hi⟩
      · rw [va_up_ne _ _ (by omega), va_up_ne g _ (show 61 + 4 * i + 1 ≠ 61 + 4 * i + (3 - 1) by omega), va_up_ne g _ (show 61 + 4 * i + 3 ≠ 61 + 4 * i + (3 - 1) by omega), va_up_self]
        exact ⟨⟨q1, q2, (mI_sI_c (by decide)).trans q3, q4, q5, q6, (mI_sI_c (by decide)).trans q7, mI_sI, (mI_sI_c (by decide)).trans q9⟩, h.rk hi⟩
      · rw [va_up_ne _ _ (by omega), va_up_ne g _ (show 61 + 4 * i + 1 ≠ 61 + 4 * i + (4 - 1) by omega), va_up_ne g _ (show 61 + 4 * i + 2 ≠ 61 + 4 * i + (4 - 1) by omega), va_up_self]
        exact ⟨⟨q1, q2, (mI_sI_c (by decide)).trans q3, q4, q5, q6, (mI_sI_c (by decide)).trans q7, (mI_sI_c (by decide)).trans q8, mI_sI⟩, h.rk hi⟩
    · have hne : kf i ≠ kf k := fun z => e (h.kinj hi hk z)
      rw [va_up_ne _ _ (by omega), va_up_ne g _ (show 61 + 4 * i + 1 ≠ 61 + 4 * k + (j - 1) by omega), va_up_ne g _ (show 61 + 4 * i + 2 ≠ 61 + 4 * k + (j - 1) by omega), va_up_ne g _ (show 61 + 4 * i + 3 ≠ 61 + 4 * k + (j - 1) by omega)]
      exact ⟨⟨q1, q2, (mI_sI_a hne).trans q3, q4, q5, q6, (mI_sI_a hne).trans q7, (mI_sI_a hne).trans q8, (mI_sI_a hne).trans q9⟩, h.rk hi⟩
theorem WC.setKF (h : WC G M w a kf sf g nk nr) {k j : Nat} {v : Int32} (hk : k < nk) (hj : j = 2 ∨ j = 3 ∨ j = 4 := by decide) : FX w M (sI M (fc 15 j) (kf k) v) := ⟨Fr.rf.I (Or.inr (h.kp hk).2.1), fun f hf => mI_sI_c (by rcases hj with rfl | rfl | rfl; exact (by decide : ∀ f, f ∈ [17, 18, 19] → fc 1 f ≠ fc 15 2) f hf; exact (by decide : ∀ f, f ∈ [17, 18, 19] → fc 1 f ≠ fc 15 3) f hf; exact (by decide : ∀ f, f ∈ [17, 18, 19] → fc 1 f ≠ fc 15 4) f hf)⟩
/-- misses, wrecks and the like -/
theorem WC.setX (h : WC G M w a kf sf g nk nr) (h6 : nk ≤ 6) (h20 : nr ≤ 20) (f : Nat) {v : Int32} (hf : f ∈ [18, 19]) : WC G (sI M (fc 1 f) w v) w a kf sf g nk nr := by
  have b : ∀ f, f ∈ [18, 19] → (∀ f', f' ∈ WIl → fc 1 f' ≠ fc 1 f) ∧ fc 46 1 ≠ fc 1 f ∧ fc 1 7 ≠ fc 1 f ∧ fc 15 0 ≠ fc 1 f ∧ fc 15 2 ≠ fc 1 f ∧ fc 15 3 ≠ fc 1 f ∧ fc 15 4 ≠ fc 1 f := by decide
  have q := b f hf
  exact h.stp (Fr.rf.I (Or.inr h.s.gg)) rfl rfl rfl rfl h.s4 ⟨fun f' hf' => (mI_sI_c (q.1 f' hf')).trans (h.i f' hf'), h.told, h.boat, h.plan, h.bt.cI q.2.1, h.lit⟩ (fun k hk => ⟨(h.kp hk).cI q.2.2.2, h.rk hk⟩) (mI_sI_c q.2.2.1) h20 (fun _ _ _ => rfl)
end
