/-! ===== counts, the random number, the ship that a log line is about ===== -/
set_option maxRecDepth 100000
def cnt (p : Nat → Prop) [DecidablePred p] : Nat → Int32
  | 0 => 0
  | n + 1 => cnt p n + bi (p n)
theorem cnt_s (p : Nat → Prop) [DecidablePred p] (n : Nat) : cnt p n + bi (p n) = cnt p (n + 1) := rfl
theorem bi_ge {x : Int32} : (if x < 0 then (0 : Int32) else 1) = bi (0 ≤ x) := by
  unfold bi
  by_cases h : x < 0
  · rw [if_pos h, if_neg (Int32.not_le.mpr h)]
  · rw [if_neg h, if_pos (Int32.not_lt.mp h)]
def rndG (g : gT) : Int32 := g 19 * 1103515245 + 12345
def drwG (g : gT) (n : Int32) : Int32 := (((rndG g).toUInt32 >>> (Int32.toUInt32 16 &&& Int32.toUInt32 31)).toInt32) - (((rndG g).toUInt32 >>> (Int32.toUInt32 16 &&& Int32.toUInt32 31)).toInt32) / n * n
/-- a new ship -/
def cmG (g : gT) (k h : Int32) (ns : Nat) : gT := va_up (va_up (va_up (va_up (va_up g (109 + 4 * ns) k) (109 + 4 * ns + 1) h) (109 + 4 * ns + 2) (-1)) (109 + 4 * ns + 3) (-1)) 14 (nI (ns + 1))
/-- the ship of a log line -/
abbrev agP (g : gT) (what : Int32) (s : Nat) : Prop := 0 ≤ g (109 + 4 * s + 3) ∧ bi (g (109 + 4 * s + 3) &&& 1 = 1) = bi (what = 2)
def agL (g : gT) (what : Int32) : List Nat → Int32
  | [] => -1
  | s :: l => if agP g what s then nI s else agL g what l
def agI (g : gT) (what h : Int32) (ns i : Nat) : Int32 := agL g what ((rk g h ns).drop i)
def agG (g : gT) (ns i : Nat) : Int32 := if 2 < g (909 + 4 * i + 1) then -1 else agI g (g (909 + 4 * i + 1)) (g (909 + 4 * i)) ns 0
theorem agI_n {g : gT} {what h : Int32} {ns i : Nat} (c : (rk g h ns)[i]? = none) : agI g what h ns i = -1 := by
  unfold agI
  rw [List.drop_of_length_le (List.getElem?_eq_none_iff.mp c)]
  rfl
theorem agI_s {g : gT} {what h : Int32} {ns i s : Nat} (c : (rk g h ns)[i]? = some s) : agI g what h ns i = if agP g what s then nI s else agI g what h ns (i + 1) := by
  unfold agI
  obtain ⟨hl, e⟩ := List.getElem?_eq_some_iff.mp c
  rw [List.drop_eq_getElem_cons hl, e]
  rfl
theorem sL_sL {M : kM} {a : Nat} {f h : Nat → Int64} : sL (sL M a f) a h = sL M a h := by
  show (mK M, mI M, mR M, mN M, mA M, va_up (va_up (mL M) a f) a h, mO M, mG M) = _
  rw [up_up]
  rfl
theorem sL_eta {M : kM} {a : Nat} : sL M a (mL M a) = M := by
  show (mK M, mI M, mR M, mN M, mA M, va_up (mL M) a (mL M a), mO M, mG M) = _
  rw [up_eta]
  rfl
section WK
variable {p : Program} {l : Launch} {e : Env} {R : Room} {s : State} {m : MethodId} {args : Array Value} {below : List Frame} {meth : Method} {c : Code} {own : String} {cc : ByteArray} {nL : Nat} {G : kG} {Q : State → Prop}
variable {pc : Nat} {L : List (Option Value)} {st : List Value} {M : kM} {cb sb : Nat}
theorem x_bldk {a k N : Nat} {i v : Int32} (d : decode cc pc = .ok (.baload, 1)) (hk : mK M a = some 121) (hN : mN M a = N) (hx : i = nI k) (hlt : k < N) (hb : N < 2 ^ 31) (hv : mA M a k = v) {n' : Nat} (hn : pc + 1 = n') (k9 : Wx p l e R s m args below meth c own cc nL G Q n' L (.int v :: st) M cb sb) : Wx p l e R s m args below meth c own cc nL G Q pc L (.int i :: .ref a :: st) M cb sb := by
  subst hx; subst hv
  exact x_bald d hk (by rw [hN]; exact vp_in_nI hlt hb) hn (by rw [nI_clamp (by omega)]; exact k9)
theorem x_sldk {a k N : Nat} {i v : Int32} (d : decode cc pc = .ok (.saload, 1)) (hk : mK M a = some 122) (hN : mN M a = N) (hx : i = nI k) (hlt : k < N) (hb : N < 2 ^ 31) (hv : mA M a k = v) {n' : Nat} (hn : pc + 1 = n') (k9 : Wx p l e R s m args below meth c own cc nL G Q n' L (.int v :: st) M cb sb) : Wx p l e R s m args below meth c own cc nL G Q pc L (.int i :: .ref a :: st) M cb sb := by
  subst hx; subst hv
  exact x_sald d hk (by rw [hN]; exact vp_in_nI hlt hb) hn (by rw [nI_clamp (by omega)]; exact k9)
theorem x_zldk {a k N : Nat} {i v : Int32} (d : decode cc pc = .ok (.baload, 1)) (hk : mK M a = some 123) (hN : mN M a = N) (hx : i = nI k) (hlt : k < N) (hb : N < 2 ^ 31) (hv : mA M a k = v) {n' : Nat} (hn : pc + 1 = n') (k9 : Wx p l e R s m args below meth c own cc nL G Q n' L (.int v :: st) M cb sb) : Wx p l e R s m args below meth c own cc nL G Q pc L (.int i :: .ref a :: st) M cb sb := by
  subst hx; subst hv
  exact x_zald d hk (by rw [hN]; exact vp_in_nI hlt hb) hn (by rw [nI_clamp (by omega)]; exact k9)
theorem x_lldk {a k N : Nat} {i : Int32} {v : Int64} (d : decode cc pc = .ok (.laload, 1)) (hk : mK M a = some 124) (hN : mN M a = N) (hx : i = nI k) (hlt : k < N) (hb : N < 2 ^ 31) (hv : mL M a k = v) {n' : Nat} (hn : pc + 1 = n') (k9 : Wx p l e R s m args below meth c own cc nL G Q n' L (.long v :: st) M cb sb) : Wx p l e R s m args below meth c own cc nL G Q pc L (.int i :: .ref a :: st) M cb sb := by
  subst hx; subst hv
  exact x_lald d hk (by rw [hN]; exact vp_in_nI hlt hb) hn (by rw [nI_clamp (by omega)]; exact k9)
theorem x_bastk {a k N : Nat} {i x y : Int32} {g0 : Nat → Int32} {M2 : kM} (d : decode cc pc = .ok (.bastore, 1)) (hk : mK M a = some 121) (hN : mN M a = N) (hx : i = nI k) (hlt : k < N) (hb : N < 2 ^ 31) (hz : vp_nar .byte x = y) (hg : mA M a = g0) (hM : sA M a (va_up g0 k y) = M2) {n' : Nat} (hn : pc + 1 = n') (k9 : Wx p l e R s m args below meth c own cc nL G Q n' L st M2 cb sb) : Wx p l e R s m args below meth c own cc nL G Q pc L (.int x :: .int i :: .ref a :: st) M cb sb := by
  subst hx; subst hg; subst hz; subst hM
  exact x_bast d hk (by rw [hN]; exact vp_in_nI hlt hb) hn (by rw [nI_clamp (by omega)]; exact k9)
theorem x_sastk {a k N : Nat} {i x y : Int32} {g0 : Nat → Int32} {M2 : kM} (d : decode cc pc = .ok (.sastore, 1)) (hk : mK M a = some 122) (hN : mN M a = N) (hx : i = nI k) (hlt : k < N) (hb : N < 2 ^ 31) (hz : vp_nar .short x = y) (hg : mA M a = g0) (hM : sA M a (va_up g0 k y) = M2) {n' : Nat} (hn : pc + 1 = n') (k9 : Wx p l e R s m args below meth c own cc nL G Q n' L st M2 cb sb) : Wx p l e R s m args below meth c own cc nL G Q pc L (.int x :: .int i :: .ref a :: st) M cb sb := by
  subst hx; subst hg; subst hz; subst hM
  exact x_sast d hk (by rw [hN]; exact vp_in_nI hlt hb) hn (by rw [nI_clamp (by omega)]; exact k9)
theorem x_zastk {a k N : Nat} {i x y : Int32} {g0 : Nat → Int32} {M2 : kM} (d : decode cc pc = .ok (.bastore, 1)) (hk : mK M a = some 123) (hN : mN M a = N) (hx : i = nI k) (hlt : k < N) (hb : N < 2 ^ 31) (hz : vp_nar .boolean x = y) (hg : mA M a = g0) (hM : sA M a (va_up g0 k y) = M2) {n' : Nat} (hn : pc + 1 = n') (k9 : Wx p l e R s m args below meth c own cc nL G Q n' L st M2 cb sb) : Wx p l e R s m args below meth c own cc nL G Q pc L (.int x :: .int i :: .ref a :: st) M cb sb := by
  subst hx; subst hg; subst hz; subst hM
  exact x_zast d hk (by rw [hN]; exact vp_in_nI hlt hb) hn (by rw [nI_clamp (by omega)]; exact k9)
theorem x_lastk {a k N : Nat} {i : Int32} {x : Int64} {g0 : Nat → Int64} {M2 : kM} (d : decode cc pc = .ok (.lastore, 1)) (hk : mK M a = some 124) (hN : mN M a = N) (hx : i = nI k) (hlt : k < N) (hb : N < 2 ^ 31) (hg : mL M a = g0) (hM : sL M a (va_up g0 k x) = M2) {n' : Nat} (hn : pc + 1 = n') (k9 : Wx p l e R s m args below meth c own cc nL G Q n' L st M2 cb sb) : Wx p l e R s m args below meth c own cc nL G Q pc L (.long x :: .int i :: .ref a :: st) M cb sb := by
  subst hx; subst hg; subst hM
  exact x_last d hk (by rw [hN]; exact vp_in_nI hlt hb) hn (by rw [nI_clamp (by omega)]; exact k9)
end WK
/-- plans -/
def plB (g p : gT) (n : Nat) : gT := fun j => if 85 ≤ j ∧ j < 85 + n then p (j - 85) else g j
def plS (p g : gT) (n : Nat) : gT := fun j => if j < n then g (85 + j) else p j
theorem plB_0 (g p : gT) : plB g p 0 = g := by funext j; unfold plB; rw [if_neg (by omega)]
theorem plS_0 (g p : gT) : plS p g 0 = p := by funext j; unfold plS; rw [if_neg (by omega)]
theorem plB_s (g p : gT) (n : Nat) : va_up (plB g p n) (85 + n) (p n) = plB g p (n + 1) := by
  funext j
  simp only [plB, va_up]
  by_cases h : j = 85 + n
  · subst h
    rw [if_pos rfl, if_pos ⟨by omega, by omega⟩, Nat.add_sub_cancel_left]
  · rw [if_neg h]
    by_cases h2 : 85 ≤ j ∧ j < 85 + n
    · rw [if_pos h2, if_pos ⟨h2.1, by omega⟩]
    · rw [if_neg h2, if_neg (fun q => h2 ⟨q.1, by omega⟩)]
theorem plS_s (g p : gT) (n : Nat) : va_up (plS p g n) n (g (85 + n)) = plS p g (n + 1) := by
  funext j
  simp only [plS, va_up]
  by_cases h : j = n
  · subst h
    rw [if_pos rfl, if_pos (by omega)]
  · rw [if_neg h]
    by_cases h2 : j < n
    · rw [if_pos h2, if_pos (by omega)]
    · rw [if_neg h2, if_neg (by omega)]
/-- hours unlit with that much oil -/
def ubL (g da ta : gT) (i : Nat) (o l u : Int32) : Int32 := bi (da i ≠ 0 ∧ (ta i ≠ 0 ∨ (l ≠ 0 ∧ u = 0)) ∧ g 3 ≤ o)
def ubO (g ba : gT) (i : Nat) (o L : Int32) : Int32 := if ba i = 0 then o - (if L = 0 then 0 else g 3) else mnI 9999 (o - (if L = 0 then 0 else g 3) + g 10)
/-- oil, lit, untended, unlit, after i hours -/
def ubT (g da ta ba : gT) (o : Int32) : Nat → Int32 × Int32 × Int32 × Int32
  | 0 => (o, bi (g 6 = 1), bi (0 < g 7), 0)
  | i + 1 =>
    (ubO g ba i (ubT g da ta ba o i).1 (ubL g da ta i (ubT g da ta ba o i).1 (ubT g da ta ba o i).2.1 (ubT g da ta ba o i).2.2.1),
     ubL g da ta i (ubT g da ta ba o i).1 (ubT g da ta ba o i).2.1 (ubT g da ta ba o i).2.2.1,
     bi (ubL g da ta i (ubT g da ta ba o i).1 (ubT g da ta ba o i).2.1 (ubT g da ta ba o i).2.2.1 ≠ 0 ∧ ta i = 0),
     (ubT g da ta ba o i).2.2.2 + bi (da i ≠ 0 ∧ ubL g da ta i (ubT g da ta ba o i).1 (ubT g da ta ba o i).2.1 (ubT g da ta ba o i).2.2.1 = 0))
def ubG (g da ta ba : gT) (o : Int32) (n : Nat) : Int32 := (ubT g da ta ba o n).2.2.2
theorem bi_gt {x : Int32} : (if x ≤ 0 then (0 : Int32) else 1) = bi (0 < x) := by
  unfold bi
  by_cases h : x ≤ 0
  · rw [if_pos h, if_neg (Int32.not_lt.mpr h)]
  · rw [if_neg h, if_pos (Int32.not_le.mp h)]
theorem ubL_eq {d t l u o b : Int32} : (if d = 0 then (0 : Int32) else if t = 0 then (if l = 0 then 0 else if u = 0 then (if o < b then 0 else 1) else 0) else (if o < b then 0 else 1)) = bi (d ≠ 0 ∧ (t ≠ 0 ∨ (l ≠ 0 ∧ u = 0)) ∧ b ≤ o) := by
  have h : b ≤ o ↔ ¬ o < b := Int32.not_lt.symm
  unfold bi
  by_cases h1 : d = 0 <;> by_cases h2 : t = 0 <;> by_cases h3 : l = 0 <;> by_cases h4 : u = 0 <;> by_cases h5 : o < b <;> simp [h1, h2, h3, h4, h5, h]
theorem bi_nn {d e : Int32} : (if d = 0 then (0 : Int32) else if e = 0 then 1 else 0) = bi (d ≠ 0 ∧ e = 0) := by
  unfold bi
  by_cases h1 : d = 0 <;> by_cases h2 : e = 0 <;> simp [h1, h2]
theorem vp_nz {v : Int32} (h : v = 0 ∨ v = 1) : vp_nar .boolean v = v := by
  rcases h with rfl | rfl <;> decide +kernel
