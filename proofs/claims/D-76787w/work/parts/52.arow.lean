/-! ===== one memory for another of which all is known that counts ===== -/
section WC
variable {p : Program} {l : Launch} {e : Env} {R : Room} {s : State} {m : MethodId} {args : Array Value} {below : List Frame} {meth : Method} {c : Code} {own : String} {cc : ByteArray} {nL : Nat} {G : kG} {Q : State → Prop}
variable {pc : Nat} {L : List (Option Value)} {st : List Value} {M : kM} {cb sb : Nat}
theorem x_gen {X : kM → Prop} (h8 : X M) (k9 : ∀ M', X M' → Wx p l e R s m args below meth c own cc nL G Q pc L st M' cb sb) : Wx p l e R s m args below meth c own cc nL G Q pc L st M cb sb := k9 M h8
theorem x_topr {r : Option Nat} {b : Nat} (h8 : r = some b) (k9 : Wx p l e R s m args below meth c own cc nL G Q pc L (.ref b :: st) M cb sb) : Wx p l e R s m args below meth c own cc nL G Q pc L (va_rf r :: st) M cb sb := by subst h8; exact k9
theorem x_topn {r : Option Nat} (h8 : r = none) (k9 : Wx p l e R s m args below meth c own cc nL G Q pc L (.null :: st) M cb sb) : Wx p l e R s m args below meth c own cc nL G Q pc L (va_rf r :: st) M cb sb := by subst h8; exact k9
end WC
def rotLT (T : kT) (p r : Nat) : kT := (tN T, tK T, tV T, rlL (tL T) (tP T) p r, rlR (tL T) (tR T) (tP T) p r, rlP (tL T) (tP T) p r, tC T, rlT (tP T) (tr T) p r)
def rotRT (T : kT) (p r : Nat) : kT := (tN T, tK T, tV T, rrL (tL T) (tR T) (tP T) p r, rrR (tR T) (tP T) p r, rrP (tR T) (tP T) p r, tC T, rrT (tP T) (tr T) p r)
theorem rotLT_W {T : kT} {lo hi : Nat → Nat} (w : WTT T lo hi) {p r a : Nat} (hp : tN T p = some a) (hr : tR T p = some r) : WTT (rotLT T p r) (va_up lo r (lo p)) (va_up (va_up hi r (hi p)) p r) := WT.rotL w (nns hp) hr
theorem rotRT_W {T : kT} {lo hi : Nat → Nat} (w : WTT T lo hi) {p r a : Nat} (hp : tN T p = some a) (hr : tL T p = some r) : WTT (rotRT T p r) (va_up lo p (r + 1)) (va_up hi r (hi p)) := WT.rotR w (nns hp) hr
theorem bn_n {x w : Option Nat} {f : Nat → Option Nat} (h : x = w.bind f) (e : x = none) (h2 : ∀ j, w = some j → f j ≠ none) : w = none := bind_n (h.symm.trans e) h2
theorem bn_s {x w : Option Nat} {f : Nat → Option Nat} {b : Nat} (h : x = w.bind f) (e : x = some b) : ∃ j, w = some j ∧ f j = some b := bind_s (h.symm.trans e)
