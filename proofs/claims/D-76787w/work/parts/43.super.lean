/-! ===== a row wanting: super's method, declared further up; dispatch by cases ===== -/
set_option maxRecDepth 100000
theorem k_sub1 {vm : Vm} {c p : ClassId} {k : Class} (hk : vm.classes[c]? = some k) (hp : k.super = some p) (hz : 1 ≤ vm.classes.size) : vm.isSubclass c p = true := by
  unfold Vm.isSubclass
  obtain ⟨n, hn⟩ : ∃ n, vm.classes.size + 1 = n + 1 + 1 := ⟨vm.classes.size - 1, by omega⟩
  rw [hn]
  simp [Vm.isSubclassAux, hk, hp]
theorem k_sub2 {vm : Vm} {c p q : ClassId} {k kp : Class} (hk : vm.classes[c]? = some k) (hp : k.super = some p) (hkp : vm.classes[p]? = some kp) (hq : kp.super = some q) (hz : 2 ≤ vm.classes.size) : vm.isSubclass c q = true := by
  unfold Vm.isSubclass
  obtain ⟨n, hn⟩ : ∃ n, vm.classes.size + 1 = n + 1 + 1 + 1 := ⟨vm.classes.size - 2, by omega⟩
  rw [hn]
  simp [Vm.isSubclassAux, hk, hp, hkp, hq]
theorem k_szne {vm : Vm} {c p : ClassId} {k kp : Class} (hk : vm.classes[c]? = some k) (hp : vm.classes[p]? = some kp) (hne : c ≠ p) : 2 ≤ vm.classes.size := by
  have h1 := (Array.getElem?_eq_some_iff.mp hk).1
  have h2 := (Array.getElem?_eq_some_iff.mp hp).1
  have h3 : (c : Nat) ≠ (p : Nat) := hne
  change (c : Nat) < _ at h1
  change (p : Nat) < _ at h2
  apply Classical.byContradiction
  intro q
  exact h3 (by have e1 := Nat.lt_of_lt_of_le h1 (Nat.le_of_lt_succ (Nat.lt_of_not_le q)); have e2 := Nat.lt_of_lt_of_le h2 (Nat.le_of_lt_succ (Nat.lt_of_not_le q)); rw [Nat.lt_one_iff.mp e1, Nat.lt_one_iff.mp e2])
section WS
variable {p : Program} {l : Launch} {e : Env} {R : Room} {s : State} {m : MethodId} {args : Array Value} {below : List Frame} {meth : Method} {c : Code} {own : String} {cc : ByteArray} {nL : Nat} {G : kG} {Q : State → Prop}
variable {pc : Nat} {L : List (Option Value)} {st : List Value} {M : kM} {cb sb : Nat}
/-- that own's superclass is sup, and sup's method is owner's -/
def kUp (own sup owner : String) (s : State) : Prop := ∀ cO : ClassId, s.vm.findClass own = some cO → ∃ (dk : Class) (cn co : ClassId), s.vm.classes[cO]? = some dk ∧ dk.isInterface = false ∧ dk.super = some cn ∧ s.vm.findClass sup = some cn ∧ s.vm.findClass owner = some co ∧ s.vm.isSubclass cn co = true
theorem kUp1 {own sup owner : String} {args : Array Value} {s : State} (h1 : (Cond.superclass own sup).before args s = true) (h2 : (Cond.superclass sup owner).before args s = true) : kUp own sup owner s := by
  intro cO hO
  obtain ⟨ps, dk, kp, hps, hdk, hkp, hsuper, -, -, hnid⟩ := Cond.superclass_spec hO h1
  obtain ⟨ps2, dk2, kp2, hps2, hdk2, hkp2, hsuper2, -, -, hnid2⟩ := Cond.superclass_spec hps h2
  refine ⟨dk, ps, ps2, hdk, hnid, hsuper, hps, hps2, k_sub1 hdk2 hsuper2 ?_⟩
  have := (Array.getElem?_eq_some_iff.mp hdk2).1
  omega
theorem kUp2 {own sup mid owner : String} {args : Array Value} {s : State} (h1 : (Cond.superclass own sup).before args s = true) (h2 : (Cond.superclass sup mid).before args s = true) (h3 : (Cond.superclass mid owner).before args s = true) (hne : sup ≠ mid) : kUp own sup owner s := by
  intro cO hO
  obtain ⟨ps, dk, kp, hps, hdk, hkp, hsuper, -, -, hnid⟩ := Cond.superclass_spec hO h1
  obtain ⟨ps2, dk2, kp2, hps2, hdk2, hkp2, hsuper2, -, -, hnid2⟩ := Cond.superclass_spec hps h2
  obtain ⟨ps3, dk3, kp3, hps3, hdk3, hkp3, hsuper3, -, -, hnid3⟩ := Cond.superclass_spec hps2 h3
  refine ⟨dk, ps, ps3, hdk, hnid, hsuper, hps, hps3, k_sub2 hdk2 hsuper2 hdk3 hsuper3 (k_szne hdk2 hdk3 ?_)⟩
  intro e
  subst e
  obtain ⟨k1, q1, n1⟩ := Vm.findClass_spec hps
  obtain ⟨k2, q2, n2⟩ := Vm.findClass_spec hps2
  cases q1.symm.trans q2
  exact hne (n1.symm.trans n2)
theorem x_callSUx {y : MethodName} {sup : String} {bytes : ByteArray} {maxL fr lo mc ms n idx : Nat} {ret : Option FieldType} {Qp : Option Value → kM → Prop} {b K : Nat} {As st0 : List Value} (hM : Kt l G y bytes maxL ret fr lo (.ref b :: As) M mc ms Qp) (d : decode cc pc = .ok (.invokespecial idx, 3)) (hk : mK M b = some K) (hK : okK K) (w : GoodIn lw_all (ws_ y bytes maxL ret)) (ql : Cond.methodLink own idx ⟨sup, y.name, y.desc⟩ ∈ lw_all) (qs : Cond.sameMethod sup y.cls y.name y.desc ∈ lw_all) (qu : ∀ s : State, (∀ w ∈ lw_all, w.before args s = true) → kUp own sup y.cls s) (qm : Cond.instanceMethod y ∈ lw_all) (qi : Cond.initialized y.cls ∈ lw_all) (hd : y.name ≠ "<init>" ∧ (parseMethodDescriptor y.desc).map (fun d => d.parameters.length) = some n) (hR : fr + 1 ≤ R.frames ∧ 8 + (maxL + 11) + lo ≤ R.locals) (hn : As.length = n) (hst : st0 = As.reverse ++ .ref b :: st) (hW : (st.map fun v => v.category).sum ≤ 8) (h1 : mc ≤ cb) (h2 : ms ≤ sb) {n' : Nat} (hn2 : pc + 3 = n') (k9 : ∀ v M', Qp v M' → kE M M' → Wx p l e R s m args below meth c own cc nL G Q n' L (kv v st) M' (cb - mc) (sb - ms)) : Wx p l e R s m args below meth c own cc nL G Q pc L st0 M cb sb := by
  intro C H locs ls cells slots hl hm hs z1 z2
  have hcode : (Cond.code y bytes maxL ret).before args s = true := C.2.2.2.2.1 _ (w _ (by simp [ws_])).1
  have hinst := C.2.2.2.2.1 _ qm
  obtain ⟨mk, methM, hnamed, hmethM, hstM, habM⟩ := Cond.instanceMethod_spec hinst
  obtain ⟨methM', cM, hmethM', -, -, -, -, -, -, hsigM⟩ := Cond.code_spec hnamed hcode
  cases hmethM.symm.trans hmethM'
  obtain ⟨dk, cn, co, hdk, hnid, hsuper, hcn, hco, hsub⟩ := qu s C.2.2.2.2.1 m.cls C.2.2.2.1
  have hpm : co = mk.cls := Option.some.inj (hco.symm.trans (findClass_of_methodNamed hnamed))
  have hK9 : Back l R p e below s args y 3 8 (PreOf R mc ms _) (PostOf (KQ G M Qp) mc ms (kA G)) := back_of (bytes := bytes) (maxL := maxL) (ret := ret) hM Kt.blind rfl rfl hR.1 hR.2 (pay_in C.2.2.2.2.1 w) List.mem_cons_self (fun a' U hW => word_at hW (Or.inl (by first | rfl | simp [Cond.onTables, Cond.keeps, Cond.steady])) (C.2.2.2.2.1 _ qi))
  obtain ⟨cellB, hcB, hoB, hclB⟩ := k_rcv C.2.2.2.2.2.2.2 hm hs hk
  obtain ⟨hfc, kB, hkB, -⟩ := k_cls C.2.2.2.2.2.2.2 hK
  have eC : G.1.1 K = cellB.cls := Option.some.inj (hfc.symm.trans hclB)
  rw [eC] at hkB
  have hlen : As.length = methM.sig.parameters.length := by
    have h9 := hd.2
    rw [hsigM] at h9
    exact hn.trans (Option.some.inj h9).symm
  have hPc := Kt.pre (av := .ref b :: As) C hm hs
  refine x_goes (a1 := (Value.ref b :: As).toArray) ?_ hn2 C hl hs z1 z2 h1 h2 k9
  intro T hT X
  obtain ⟨vm₁, X₁, hstep₁⟩ := X.invokespecialUp C.1 C.2.2.2.1 (C.2.2.2.2.1 _ ql) (C.2.2.2.2.1 _ qs) hnamed hmethM hstM habM hd.1 hdk hnid hcn hsuper (hpm ▸ hsub) (a := b) (cell := cellB) (by rw [hT]; exact hcB) (fun z h => by rw [h] at hoB; cases hoB) hkB (g := F0 m pc ls st0) rfl (argsL := As) (rest := st) hlen (by rw [hst]) (by rw [C.2.1]; exact d)
  obtain ⟨v, ⟨U', l2, c2, s2⟩, X', ⟨g', mk2, t, L2, e1, e2, hq, g1, hL, g2, g3⟩, hsteps⟩ := hK9 m meth c ⟨T.setVm vm₁, locs, cells, slots⟩ { F0 m pc ls st0 with stack := st } (.invokespecial idx) mk (Value.ref b :: As).toArray X₁ rfl (by rw [C.2.2.1]; exact hl.1) (by rw [C.2.1]; exact d) (lv_room hW) (X₁.named hnamed) ⟨(show cells + mc ≤ R.cells by omega), (show slots + ms ≤ R.slots by omega), hPc (T.setVm vm₁) hT X₁.warmed⟩
  dsimp only [Pt.U, Pt.locs, Pt.cells, Pt.slots] at X' e1 e2 g1 g2 g3 hsteps
  subst g1; subst g2; subst g3
  exact ⟨v, (T.setVm vm₁).calling g' mk2 (Value.ref b :: As).toArray, t, U', L2, hT, X', hL, e1, e2, hq, fun target h => hstep₁ _ (by rw [doInvoke_state]; exact hsteps.trans h)⟩
end WS
/-- a call whose receiver is of one of some classes -/
theorem x_disp5 {W1 : Prop} {Qp : Option Value → kM → Prop} {M : kM} {Wn : Option Value → kM → Prop} {b K : Nat} (hk : mK M b = some K) (hK : K = 19 ∨ K = 20 ∨ K = 22 ∨ K = 23 ∨ K = 24) (a1 : K = 19 → mK M b = some 19 → (∀ v M', Qp v M' → kE M M' → Wn v M') → W1) (a2 : K = 20 → mK M b = some 20 → (∀ v M', Qp v M' → kE M M' → Wn v M') → W1) (a3 : K = 22 → mK M b = some 22 → (∀ v M', Qp v M' → kE M M' → Wn v M') → W1) (a4 : K = 23 → mK M b = some 23 → (∀ v M', Qp v M' → kE M M' → Wn v M') → W1) (a5 : K = 24 → mK M b = some 24 → (∀ v M', Qp v M' → kE M M' → Wn v M') → W1) (k9 : ∀ v M', Qp v M' → kE M M' → Wn v M') : W1 := by
  rcases hK with h | h | h | h | h
  · exact a1 h (h ▸ hk) k9
  · exact a2 h (h ▸ hk) k9
  · exact a3 h (h ▸ hk) k9
  · exact a4 h (h ▸ hk) k9
  · exact a5 h (h ▸ hk) k9
theorem x_disp3 {W1 : Prop} {Qp : Option Value → kM → Prop} {M : kM} {Wn : Option Value → kM → Prop} {b K B : Nat} (hk : mK M b = some K) (hK : K = B ∨ K = B + 1 ∨ K = B + 2) (a1 : K = B → mK M b = some B → (∀ v M', Qp v M' → kE M M' → Wn v M') → W1) (a2 : K = B + 1 → mK M b = some (B + 1) → (∀ v M', Qp v M' → kE M M' → Wn v M') → W1) (a3 : K = B + 2 → mK M b = some (B + 2) → (∀ v M', Qp v M' → kE M M' → Wn v M') → W1) (k9 : ∀ v M', Qp v M' → kE M M' → Wn v M') : W1 := by
  rcases hK with h | h | h
  · exact a1 h (h ▸ hk) k9
  · exact a2 h (h ▸ hk) k9
  · exact a3 h (h ▸ hk) k9
theorem x_disp5i {W1 : Prop} {z : Int32} {M : kM} {Wn : Option Value → kM → Prop} {b K : Nat} (hk : mK M b = some K) (hK : K = 19 ∨ K = 20 ∨ K = 22 ∨ K = 23 ∨ K = 24) (a1 : K = 19 → mK M b = some 19 → (∀ v M', (v = some (.int z) ∧ M' = M) → kE M M' → Wn v M') → W1) (a2 : K = 20 → mK M b = some 20 → (∀ v M', (v = some (.int z) ∧ M' = M) → kE M M' → Wn v M') → W1) (a3 : K = 22 → mK M b = some 22 → (∀ v M', (v = some (.int z) ∧ M' = M) → kE M M' → Wn v M') → W1) (a4 : K = 23 → mK M b = some 23 → (∀ v M', (v = some (.int z) ∧ M' = M) → kE M M' → Wn v M') → W1) (a5 : K = 24 → mK M b = some 24 → (∀ v M', (v = some (.int z) ∧ M' = M) → kE M M' → Wn v M') → W1) (k9 : ∀ v M', (v = some (.int z) ∧ M' = M) → kE M M' → Wn v M') : W1 := x_disp5 (Qp := fun v M' => v = some (.int z) ∧ M' = M) hk hK a1 a2 a3 a4 a5 k9
theorem x_disp3i {W1 : Prop} {z : Int32} {M : kM} {Wn : Option Value → kM → Prop} {b K B : Nat} (hk : mK M b = some K) (hK : K = B ∨ K = B + 1 ∨ K = B + 2) (a1 : K = B → mK M b = some B → (∀ v M', (v = some (.int z) ∧ M' = M) → kE M M' → Wn v M') → W1) (a2 : K = B + 1 → mK M b = some (B + 1) → (∀ v M', (v = some (.int z) ∧ M' = M) → kE M M' → Wn v M') → W1) (a3 : K = B + 2 → mK M b = some (B + 2) → (∀ v M', (v = some (.int z) ∧ M' = M) → kE M M' → Wn v M') → W1) (k9 : ∀ v M', (v = some (.int z) ∧ M' = M) → kE M M' → Wn v M') : W1 := x_disp3 (Qp := fun v M' => v = some (.int z) ∧ M' = M) hk hK a1 a2 a3 k9
