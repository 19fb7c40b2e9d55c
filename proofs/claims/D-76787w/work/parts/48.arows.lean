/-! ===== fields of a ship of any class ===== -/
section WC
variable {p : Program} {l : Launch} {e : Env} {R : Room} {s : State} {m : MethodId} {args : Array Value} {below : List Frame} {meth : Method} {c : Code} {own : String} {cc : ByteArray} {nL : Nat} {G : kG} {Q : State → Prop}
variable {pc : Nat} {L : List (Option Value)} {st : List Value} {M : kM} {cb sb : Nat}
theorem shY {K k : Nat} (h : shC K) (hk : k < 4) : (cY K k).isReference = false := by
  rcases (show k = 0 ∨ k = 1 ∨ k = 2 ∨ k = 3 by omega) with rfl | rfl | rfl | rfl <;> rcases h with rfl | rfl | rfl | rfl | rfl <;> rfl
theorem shI9 {K k : Nat} (h : shC K) (hk : k < 4) : cY K k = .int := by
  rcases (show k = 0 ∨ k = 1 ∨ k = 2 ∨ k = 3 by omega) with rfl | rfl | rfl | rfl <;> rcases h with rfl | rfl | rfl | rfl | rfl <;> rfl
theorem shW {K k : Nat} (h : shC K) (hk : 2 ≤ k ∧ k < 4) : (cT K k).2.2.2 = false := by
  rcases (show k = 2 ∨ k = 3 by omega) with rfl | rfl <;> rcases h with rfl | rfl | rfl | rfl | rfl <;> rfl
theorem fcS {K k : Nat} (h : shC K) : fc K k = fc 19 k := by
  rcases h with rfl | rfl | rfl | rfl | rfl <;> rfl
theorem x_getIS {a K k idx : Nat} {ref : String} (d : decode cc pc = .ok (.getfield idx, 3)) (hk : mK M a = some K) (hC : shC K) (hf : ∀ K, shC K → FF own idx K k ref) (h4 : k < 4) {n' : Nat} (hn : pc + 3 = n') (k9 : Wx p l e R s m args below meth c own cc nL G Q n' L (.int (mI M (fc 19 k) a) :: st) M cb sb) : Wx p l e R s m args below meth c own cc nL G Q pc L (.ref a :: st) M cb sb :=
  x_getI d hk (hf K hC) (shY hC h4) hn (by rw [fcS hC]; exact k9)
theorem x_putIS {a K k idx : Nat} {ref : String} {v : Int32} (d : decode cc pc = .ok (.putfield idx, 3)) (hk : mK M a = some K) (hC : shC K) (hf : ∀ K, shC K → FF own idx K k ref) (h4 : 2 ≤ k ∧ k < 4) {n' : Nat} (hn : pc + 3 = n') (k9 : Wx p l e R s m args below meth c own cc nL G Q n' L st (sI M (fc 19 k) a v) cb sb) : Wx p l e R s m args below meth c own cc nL G Q pc L (Value.int v :: .ref a :: st) M cb sb :=
  x_putI d hk (hf K hC) (shY hC h4.2) (by rw [shI9 hC h4.2]; exact ⟨rfl, rfl⟩) (shW hC h4) hn (by rw [fcS hC]; exact k9)
end WC
