/-! ===== a call of a method that answers a constant, of a class that nothing says is initialised (an enum's constants' own classes) ===== -/
set_option maxRecDepth 100000
theorem k_runK {p : Program} {e : Env} {below : List Frame} {U : State} {g : JFrame} {c : Code} (h : At U g.method c below) (hexec : p.tables.exec = Jvm.exec) {mk : MethodId} {methM : Method} {cM : Code} (hmM : U.vm.method? mk = some methM) (hcM : methM.code = some cM) (hlocks : methM.locks = false) (hplain : U.plainMethod mk) {ty : FieldType} {n : Int} {v : Int32} (hret : methM.sig.returnType = some ty) (hnar : narrow ty (.int v) = .int v)
    (hfull : e.platform.stackFull (((U.setTop g).threads[(U.setTop g).cur]?).getD { frames := [] }) (U.setTop g).frames cM.maxLocals = false) {args : Array Value} (d0 : decode cM.code 0 = .ok (.iconst n, 1)) (hv : Int32.ofInt n = v) (d1 : decode cM.code 1 = .ok (.ireturn, 1)) {ig : Instr} {len : Nat} (hdg : decode c.code g.pc = .ok (ig, len)) {target : State}
    (hrest : Steps p.tables e below (U.setTop { g with pc := g.pc + len, stack := .int v :: g.stack }) target) : Steps p.tables e below (doInvoke e (U.setTop g) [] mk args).1 target := by
  obtain ⟨mid, hmid⟩ := h.above
  obtain ⟨g0, hg0⟩ := Option.isSome_iff_exists.mp h.top
  obtain ⟨r, hr⟩ := State.topJava?_eq_some.mp hg0
  have hrt : U.frames.tail = r := by rw [hr]; rfl
  have hcur : U.cur < U.threads.size := State.cur_lt_of_top h.top
  have eU : U.setTop g = U.setFrames (.java g :: r) := State.setTop_of_frames g hr
  have hFU : (U.setTop g).frames = .java g :: r := by rw [eU]; exact State.frames_setFrames _ hcur
  rw [(doInvoke_java (s := U.setTop g) (e := e) (acts := []) (m := mk) (args := args) (by rw [eU]; exact hmM) hcM hlocks hfull).1]
  generalize hf0 : ({ method := mk, pc := 0, locals := argsToLocals args cM.maxLocals, stack := [], locked := none } : JFrame) = f0
  have eV : (U.setTop g).pushFrame (.java f0) = U.setFrames (.java f0 :: .java g :: r) := by
    rw [State.pushFrame, hFU, eU, State.setFrames_setFrames]
  rw [eV]
  have hFV : (U.setFrames (.java f0 :: .java g :: r)).frames = .java f0 :: .java g :: r := State.frames_setFrames _ hcur
  have ht := State.topJava?_of_frames hFV
  have hAt : At (U.setFrames (.java f0 :: .java g :: r)) mk cM below := ⟨by rw [ht]; rfl, ⟨.java g :: mid, by rw [hFV, ← hrt, hmid]; rfl⟩, h.running, by simpa using h.runnable, by simpa using h.alone, by rw [State.code?_eq]; simp [State.setFrames, hmM, hcM], hplain⟩
  have hmV : (U.setFrames (.java f0 :: .java g :: r)).vm.method? mk = some methM := hmM
  have hho : handOver (U.setFrames (.java f0 :: .java g :: r)) (some (.int v)) (.java g :: r) = some (.java { g with pc := g.pc + len, stack := .int v :: g.stack } :: r) := by
    have hcd : (U.setFrames (.java f0 :: .java g :: r)).code? g.method = some c := by
      rw [State.code?_eq]
      have h9 := h.code
      rw [State.code?_eq] at h9
      exact h9
    simp [handOver, hcd, hdg]
    exact ⟨ig, rfl⟩
  have hret9 := fun acts f (hm : f.method = mk) (hl : f.locked = none) (he : f.entered = []) => ret_to (e := e) (t := U.setFrames (.java f0 :: .java g :: r)) (f := f) (f₀ := f0) (below := .java g :: r) (v := some (.int v)) hFV (by rw [hm]; exact hmM) hlocks hl he hho acts
  rw [← State.setTop_self ht]
  have hend : (U.setFrames (.java f0 :: .java g :: r)).setFrames (.java { g with pc := g.pc + len, stack := .int v :: g.stack } :: r) = U.setTop { g with pc := g.pc + len, stack := .int v :: g.stack } := by
    rw [State.setFrames_setFrames, State.setTop_of_frames _ hr]
  subst hf0
  subst hv
  jvm_step hAt [hAt.top, hexec, d0]
  jvm_step hAt [hAt.top, hexec, d1, hmV, hret, hnar]
  refine ⟨methM, hmM, ty, hret, fun acts => ?_⟩
  rw [hnar, hret9 acts _ rfl rfl rfl, hend]
  exact hrest
theorem k_runB {p : Program} {e : Env} {below : List Frame} {U : State} {g : JFrame} {c : Code} (h : At U g.method c below) (hexec : p.tables.exec = Jvm.exec) {mk : MethodId} {methM : Method} {cM : Code} (hmM : U.vm.method? mk = some methM) (hcM : methM.code = some cM) (hlocks : methM.locks = false) (hplain : U.plainMethod mk) {ty : FieldType} {n : Int} {v : Int32} (hret : methM.sig.returnType = some ty) (hnar : narrow ty (.int v) = .int v)
    (hfull : e.platform.stackFull (((U.setTop g).threads[(U.setTop g).cur]?).getD { frames := [] }) (U.setTop g).frames cM.maxLocals = false) {args : Array Value} (d0 : decode cM.code 0 = .ok (.bipush n, 2)) (hv : (Int8.ofInt n).toInt32 = v) (d1 : decode cM.code 2 = .ok (.ireturn, 1)) {ig : Instr} {len : Nat} (hdg : decode c.code g.pc = .ok (ig, len)) {target : State}
    (hrest : Steps p.tables e below (U.setTop { g with pc := g.pc + len, stack := .int v :: g.stack }) target) : Steps p.tables e below (doInvoke e (U.setTop g) [] mk args).1 target := by
  obtain ⟨mid, hmid⟩ := h.above
  obtain ⟨g0, hg0⟩ := Option.isSome_iff_exists.mp h.top
  obtain ⟨r, hr⟩ := State.topJava?_eq_some.mp hg0
  have hrt : U.frames.tail = r := by rw [hr]; rfl
  have hcur : U.cur < U.threads.size := State.cur_lt_of_top h.top
  have eU : U.setTop g = U.setFrames (.java g :: r) := State.setTop_of_frames g hr
  have hFU : (U.setTop g).frames = .java g :: r := by rw [eU]; exact State.frames_setFrames _ hcur
  rw [(doInvoke_java (s := U.setTop g) (e := e) (acts := []) (m := mk) (args := args) (by rw [eU]; exact hmM) hcM hlocks hfull).1]
  generalize hf0 : ({ method := mk, pc := 0, locals := argsToLocals args cM.maxLocals, stack := [], locked := none } : JFrame) = f0
  have eV : (U.setTop g).pushFrame (.java f0) = U.setFrames (.java f0 :: .java g :: r) := by
    rw [State.pushFrame, hFU, eU, State.setFrames_setFrames]
  rw [eV]
  have hFV : (U.setFrames (.java f0 :: .java g :: r)).frames = .java f0 :: .java g :: r := State.frames_setFrames _ hcur
  have ht := State.topJava?_of_frames hFV
  have hAt : At (U.setFrames (.java f0 :: .java g :: r)) mk cM below := ⟨by rw [ht]; rfl, ⟨.java g :: mid, by rw [hFV, ← hrt, hmid]; rfl⟩, h.running, by simpa using h.runnable, by simpa using h.alone, by rw [State.code?_eq]; simp [State.setFrames, hmM, hcM], hplain⟩
  have hmV : (U.setFrames (.java f0 :: .java g :: r)).vm.method? mk = some methM := hmM
  have hho : handOver (U.setFrames (.java f0 :: .java g :: r)) (some (.int v)) (.java g :: r) = some (.java { g with pc := g.pc + len, stack := .int v :: g.stack } :: r) := by
    have hcd : (U.setFrames (.java f0 :: .java g :: r)).code? g.method = some c := by
      rw [State.code?_eq]
      have h9 := h.code
      rw [State.code?_eq] at h9
      exact h9
    simp [handOver, hcd, hdg]
    exact ⟨ig, rfl⟩
  have hret9 := fun acts f (hm : f.method = mk) (hl : f.locked = none) (he : f.entered = []) => ret_to (e := e) (t := U.setFrames (.java f0 :: .java g :: r)) (f := f) (f₀ := f0) (below := .java g :: r) (v := some (.int v)) hFV (by rw [hm]; exact hmM) hlocks hl he hho acts
  rw [← State.setTop_self ht]
  have hend : (U.setFrames (.java f0 :: .java g :: r)).setFrames (.java { g with pc := g.pc + len, stack := .int v :: g.stack } :: r) = U.setTop { g with pc := g.pc + len, stack := .int v :: g.stack } := by
    rw [State.setFrames_setFrames, State.setTop_of_frames _ hr]
  subst hf0
  subst hv
  jvm_step hAt [hAt.top, hexec, d0]
  jvm_step hAt [hAt.top, hexec, d1, hmV, hret, hnar]
  refine ⟨methM, hmM, ty, hret, fun acts => ?_⟩
  rw [hnar, hret9 acts _ rfl rfl rfl, hend]
  exact hrest
section WK
variable {p : Program} {l : Launch} {e : Env} {R : Room} {s : State} {m : MethodId} {args : Array Value} {below : List Frame} {meth : Method} {c : Code} {own : String} {cc : ByteArray} {nL : Nat} {G : kG} {Q : State → Prop}
variable {pc : Nat} {L : List (Option Value)} {st : List Value} {M : kM} {cb sb : Nat}
/-- the body answers a constant -/
def kBody (bytes : ByteArray) (v : Int32) : Prop := (∃ n : Int, decode bytes 0 = .ok (.iconst n, 1) ∧ Int32.ofInt n = v ∧ decode bytes 1 = .ok (.ireturn, 1)) ∨ (∃ n : Int, decode bytes 0 = .ok (.bipush n, 2) ∧ (Int8.ofInt n).toInt32 = v ∧ decode bytes 2 = .ok (.ireturn, 1))
theorem x_callK {b K idx : Nat} {x y : MethodName} {owner : String} {bytes : ByteArray} {maxL : Nat} {ty : FieldType} {v : Int32} {Cn : String}
    (d : decode cc pc = .ok (.invokevirtual idx, 3)) (hk : mK M b = some K) (hC : kname K = Cn) (ql : Cond.methodLink own idx x ∈ lw_all) (qs : Cond.sameMethod x.cls owner x.name x.desc ∈ lw_all) (qd : Cond.declares ⟨owner, x.name, x.desc⟩ ∈ lw_tbl ∨ (Cond.instanceMethod ⟨owner, x.name, x.desc⟩ ∈ lw_all ∧ ∃ b m r, Cond.code ⟨owner, x.name, x.desc⟩ b m r ∈ lw_all)) (ho : owner ≠ "java/lang/invoke/MethodHandle" ∧ owner ≠ "java/lang/invoke/VarHandle")
    (qe : Cond.selects Cn x y ∈ lw_all) (qm : Cond.instanceMethod y ∈ lw_all) (qc : Cond.code y bytes maxL (some ty) ∈ lw_all) (hp : (parseMethodDescriptor x.desc).map (fun d => d.parameters.length) = some 0) (hpl : plainName y.cls = true) (dk : kBody bytes v) (hnar : narrow ty (.int v) = .int v) (hR : 1 ≤ R.frames ∧ 8 + (maxL + 11) ≤ R.locals) (hW : (st.map fun v => v.category).sum ≤ 8) {n' : Nat} (hn2 : pc + 3 = n')
    (k9 : Wx p l e R s m args below meth c own cc nL G Q n' L (.int v :: st) M cb sb) : Wx p l e R s m args below meth c own cc nL G Q pc L (.ref b :: st) M cb sb := by
  intro C H locs ls cells slots hl hm hs z1 z2
  subst hn2
  obtain ⟨cellB, hcB, hoB, hclB⟩ := k_rcv C.2.2.2.2.2.2.2 hm hs hk
  rw [hC] at hclB
  have hd0 : va_Decl s ⟨owner, x.name, x.desc⟩ := by
    rcases qd with q | ⟨q1, b0, m0, r0, q2⟩
    · exact va_Decl.abs (C.2.2.2.2.2.2.2.2.2.2.2.2.2.2.1 _ q)
    · exact va_Decl.of (C.2.2.2.2.1 _ q1) (C.2.2.2.2.1 _ q2)
  obtain ⟨r0, r, hn, hrm, hstR, hsigR⟩ := hd0
  obtain ⟨cn, ck, r1, hcn, hck, hni, hf, hn1⟩ := Cond.sameMethod_found (C.2.2.2.2.1 _ qs)
  cases hn.symm.trans hn1
  obtain ⟨mk, methM, hnamed, hmethM, -, habM⟩ := Cond.instanceMethod_spec (C.2.2.2.2.1 _ qm)
  obtain ⟨methM', cM, hmethM', hcM, hbytes, hmax, hret, hlocks, -, -⟩ := Cond.code_spec hnamed (C.2.2.2.2.1 _ qc)
  cases hmethM.symm.trans hmethM'
  obtain ⟨c2, r2, m2, q1, q2, q3, q4, kP, hkP, hkPi⟩ := Cond.selects_spec (C.2.2.2.2.1 _ qe)
  cases hclB.symm.trans q1
  cases hf.symm.trans q2
  cases hnamed.symm.trans q3
  intro T hT X
  have hselP : selectMethod e.platform s.vm cellB.cls r0 = .method mk := by rw [Launch.admits_selectMethod X.admits]; exact q4
  have hlen : ([] : List Value).length = r.sig.parameters.length := by
    have h9 := hp
    rw [hsigR] at h9
    exact (Option.some.inj h9).symm
  obtain ⟨vm₁, X₁, hstep₁⟩ := X.invokevirtualUp C.1 C.2.2.2.1 (C.2.2.2.2.1 _ ql) (C.2.2.2.2.1 _ qs) ho hn hrm hstR (a := b) (cell := cellB) (by rw [hT]; exact hcB)
    (fun z h => by rw [h] at hoB; cases hoB) hselP hmethM habM hkP hkPi (g := F0 m pc ls (.ref b :: st)) rfl (argsL := []) (rest := st) hlen rfl (by rw [C.2.1]; exact d)
  obtain ⟨t, a1, b1⟩ := k9 C H locs ls cells slots hl hm hs z1 z2 (T.setVm vm₁) hT X₁
  refine ⟨t, hstep₁ _ (fun acts => ?_), b1⟩
  rw [doInvoke_state]
  have hmM : (T.setVm vm₁).vm.method? mk = some methM := by
    rw [X₁.warmed.alike.method?]
    exact hmethM
  have hpM : (T.setVm vm₁).plainMethod mk := State.plainMethod.of_named (x := y) (plainFor_of_name hpl) (X₁.named hnamed) hmM
  have hfull := X₁.notFull (g := { F0 m pc ls (.ref b :: st) with stack := st }) (by rw [C.2.2.1]; exact hl.1) (vars := cM.maxLocals) hR.1 (by
    have h9 : 2 * (F0 m pc ls st).monitorRoom + (st.map fun v => v.category).sum ≤ 8 := lv_room hW
    rw [hmax]
    exact Nat.le_trans (Nat.add_le_add_right h9 _) hR.2)
  have hAt : At (T.setVm vm₁) (F0 m pc ls (.ref b :: st)).method c below := X₁.here
  rcases dk with ⟨n, d0, hv, d1⟩ | ⟨n, d0, hv, d1⟩
  · exact k_runK (g := { F0 m pc ls (.ref b :: st) with stack := st }) hAt C.1 hmM hcM hlocks hpM hret hnar hfull (by rw [hbytes]; exact d0) hv (by rw [hbytes]; exact d1) (by rw [C.2.1]; exact d) a1
  · exact k_runB (g := { F0 m pc ls (.ref b :: st) with stack := st }) hAt C.1 hmM hcM hlocks hpM hret hnar hfull (by rw [hbytes]; exact d0) hv (by rw [hbytes]; exact d1) (by rw [C.2.1]; exact d) a1
end WK
theorem x_disp3k {W1 A : Prop} {M : kM} {b K B : Nat} (hk : mK M b = some K) (hK : K = B ∨ K = B + 1 ∨ K = B + 2) (a1 : K = B → mK M b = some B → A → W1) (a2 : K = B + 1 → mK M b = some (B + 1) → A → W1) (a3 : K = B + 2 → mK M b = some (B + 2) → A → W1) (k9 : A) : W1 := by
  rcases hK with h | h | h
  · exact a1 h (h ▸ hk) k9
  · exact a2 h (h ▸ hk) k9
  · exact a3 h (h ▸ hk) k9
