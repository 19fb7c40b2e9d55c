/-! ===== one more row ===== -/
section WC
variable {p : Program} {l : Launch} {e : Env} {R : Room} {s : State} {m : MethodId} {args : Array Value} {below : List Frame} {meth : Method} {c : Code} {own : String} {cc : ByteArray} {nL : Nat} {G : kG} {Q : State → Prop}
variable {pc : Nat} {L : List (Option Value)} {st : List Value} {M : kM} {cb sb : Nat}
theorem x_aastE {a v K KV : Nat} {T : String} {i : Int32} (d : decode cc pc = .ok (.aastore, 1)) (hk : mK M a = some K) (h1 : 125 ≤ K) (h2 : K < 128) (hT : aty K = .object T) (hv : mK M v = some KV) (hca : kname KV = T) (hi : vp_in i (mN M a)) {n' : Nat} (hn : pc + 1 = n') (k9 : Wx p l e R s m args below meth c own cc nL G Q n' L st (sO M a (va_up (mO M a) i.toNatClampNeg (some v))) cb sb) : Wx p l e R s m args below meth c own cc nL G Q pc L (.ref v :: .int i :: .ref a :: st) M cb sb := by
  intro C H locs ls cells slots hl hm hs z1 z2
  subst hn
  have hlt : i.toNatClampNeg < mN M a := Nat.not_le.mp fun q => hi (Or.inr q)
  have h0 : ¬ i < 0 := fun q => hi (Or.inl q)
  obtain ⟨hB, hc⟩ := k_arr hm hk (by omega) h2
  have hac : acell G M a K = vp_cell (G.2.1 K) (mN M a, .inr (.inr (.inr (.inr (mO M a))))) := by
    unfold acell
    rw [if_neg (by omega), if_neg (by omega)]
  rw [hac] at hc
  obtain ⟨cellV, g1, g2, g3⟩ := k_rcv C.2.2.2.2.2.2.2 hm hs hv
  have ra := (C.2.2.2.2.2.2.2.2.1 K (by omega) h2).2
  rw [hT] at ra
  obtain ⟨kA, comp, k1, k2, k3, -⟩ := ra
  rw [hca] at g3
  cases g3.symm.trans k3
  obtain ⟨ks, hks, -⟩ := Vm.findClass_spec g3
  obtain ⟨kt, hkt, -⟩ := Vm.findClass_spec k3
  refine W.aast C.1 C.2.1 hc (fun q h => by cases h) (fun h => by cases h) k1 k2 rfl hkt ⟨h0, by show _ < (arrV _ _ _).slots.size; rw [arrV_size]; exact hlt⟩ g1 (fun q h => by rw [h] at g2; cases g2) hks (Vm.assignable_self _ _) rfl rfl d fun H1 e z oq => ?_
  exact k9 C H1 _ ls cells slots hl (k_aaTail (r := some v) hm hk h1 h2 hB e oq) (hs.put z oq hB) z1 z2
end WC
