/-! ===== THE LAYER Wx, third part: odds and ends ===== -/
set_option maxRecDepth 100000
theorem mK_nO_of {M : kM} {a K : Nat} (_h : kE M (nO M a K)) : mK (nO M a K) a = some K := va_up_self _ _ _
theorem mK_nA_of {M : kM} {a K n : Nat} (_h : kE M (nA M a K n)) : mK (nA M a K n) a = some K := va_up_self _ _ _
theorem lw_SU5 {own : String} {idx : Nat} {y : MethodName} {b : ByteArray} {L : Nat} {r : Option FieldType} (h1 : Cond.methodLink own idx y ∈ lw_all) (h2 : Cond.sameMethod y.cls y.cls y.name y.desc ∈ lw_all) (h3 : Cond.superclass own y.cls ∈ lw_all) (h4 : Cond.instanceMethod y ∈ lw_all) (h5 : Cond.initialized y.cls ∈ lw_all) (h6 : Cond.code y b L r ∈ lw_all) : GoodIn lw_all (va_wsSU own idx y (ws_ y b L r)) := by
  refine lw_app ?_ (lw_meth h6)
  intro w hw
  simp only [List.mem_cons, List.not_mem_nil, or_false] at hw
  rcases hw with e | e | e | e | e
  · rw [e]; exact h1
  · rw [e]; exact h2
  · rw [e]; exact h3
  · rw [e]; exact h4
  · rw [e]; exact h5
theorem lw_U5 {own : String} {idx : Nat} {C owner : String} {x y : MethodName} {b : ByteArray} {L : Nat} {r : Option FieldType} (h1 : Cond.methodLink own idx x ∈ lw_all) (h2 : Cond.sameMethod x.cls owner x.name x.desc ∈ lw_all) (h3 : Cond.selects C x y ∈ lw_all) (h4 : Cond.instanceMethod y ∈ lw_all) (h5 : Cond.initialized y.cls ∈ lw_all) (h6 : Cond.code y b L r ∈ lw_all) : GoodIn lw_all (va_wsU own idx C owner x y (ws_ y b L r)) := by
  refine lw_app ?_ (lw_meth h6)
  intro w hw
  simp only [List.mem_cons, List.not_mem_nil, or_false] at hw
  rcases hw with e | e | e | e | e
  · rw [e]; exact h1
  · rw [e]; exact h2
  · rw [e]; exact h3
  · rw [e]; exact h4
  · rw [e]; exact h5
theorem lw_O6 {own : String} {idx : Nat} {C owner : String} {x y : MethodName} {b : ByteArray} {L : Nat} {r : Option FieldType} (h1 : Cond.methodLink own idx x ∈ lw_all) (h2 : Cond.sameMethod x.cls owner x.name x.desc ∈ lw_all) (h0 : Cond.instanceMethod ⟨owner, x.name, x.desc⟩ ∈ lw_all) (h3 : Cond.selects C x y ∈ lw_all) (h4 : Cond.instanceMethod y ∈ lw_all) (h5 : Cond.initialized y.cls ∈ lw_all) (h6 : Cond.code y b L r ∈ lw_all) : GoodIn lw_all (va_wsO own idx C owner x y (ws_ y b L r)) := by
  refine lw_app ?_ (lw_meth h6)
  intro w hw
  simp only [List.mem_cons, List.not_mem_nil, or_false] at hw
  rcases hw with e | e | e | e | e | e
  · rw [e]; exact h1
  · rw [e]; exact h2
  · rw [e]; exact h0
  · rw [e]; exact h3
  · rw [e]; exact h4
  · rw [e]; exact h5
theorem lw_F4 {own : String} {idx : Nat} {C : String} {x y : MethodName} {b : ByteArray} {L : Nat} {r : Option FieldType} (h1 : Cond.methodLink own idx x ∈ lw_all) (h3 : Cond.selects C x y ∈ lw_all) (h4 : Cond.instanceMethod y ∈ lw_all) (h5 : Cond.initialized y.cls ∈ lw_all) (h6 : Cond.code y b L r ∈ lw_all) : GoodIn lw_all (va_wsF own idx C x y (ws_ y b L r)) := by
  refine lw_app ?_ (lw_meth h6)
  intro w hw
  simp only [List.mem_cons, List.not_mem_nil, or_false] at hw
  rcases hw with e | e | e | e
  · rw [e]; exact h1
  · rw [e]; exact h3
  · rw [e]; exact h4
  · rw [e]; exact h5
theorem k_bool {v : Int32} (h : v = 0 ∨ v = 1) : narrow .boolean (.int v) = .int v ∧ fits .boolean (.int v) = true := by
  rcases h with rfl | rfl <;> exact ⟨by decide +kernel, by decide +kernel⟩
theorem k_zn {v : Int32} (h : v = 0 ∨ v = 1) : narrow .boolean (.int v) = .int v := (k_bool h).1
/-- a truth as an int -/
def bi (c : Prop) [Decidable c] : Int32 := if c then 1 else 0
theorem bi_01 (c : Prop) [Decidable c] : bi c = 0 ∨ bi c = 1 := by
  unfold bi; split
  · exact Or.inr rfl
  · exact Or.inl rfl
theorem bi_0 {c : Prop} [Decidable c] : bi c = 0 ↔ ¬ c := by
  unfold bi
  constructor
  · intro h k
    rw [if_pos k] at h
    exact absurd h (by decide)
  · intro k
    rw [if_neg k]
theorem bi_1 {c : Prop} [Decidable c] : bi c = 1 ↔ c := by
  unfold bi
  constructor
  · intro h
    apply Classical.byContradiction
    intro k
    rw [if_neg k] at h
    exact absurd h (by decide)
  · intro k
    rw [if_pos k]
theorem bi_t {c : Prop} [Decidable c] (h : c) : bi c = 1 := if_pos h
theorem bi_f {c : Prop} [Decidable c] (h : ¬ c) : bi c = 0 := if_neg h
section WZ
variable {p : Program} {l : Launch} {e : Env} {R : Room} {s : State} {m : MethodId} {args : Array Value} {below : List Frame} {meth : Method} {c : Code} {own : String} {cc : ByteArray} {nL : Nat} {G : kG} {Q : State → Prop}
variable {pc : Nat} {L : List (Option Value)} {st : List Value} {M : kM} {cb sb : Nat}
theorem x_objInit {a idx : Nat} (d : decode cc pc = .ok (.invokespecial idx, 3)) (q : Cond.methodLink own idx Lib.objectInit ∈ lw_all) (hR : 1 ≤ R.frames ∧ 20 ≤ R.locals) (hW : (st.map fun v => v.category).sum ≤ 8) {n' : Nat} (hn : pc + 3 = n') (k9 : Wx p l e R s m args below meth c own cc nL G Q n' L st M cb sb) : Wx p l e R s m args below meth c own cc nL G Q pc L (.ref a :: st) M cb sb := fun C H locs ls cells slots hl hm hs z1 z2 => W.objInit C.1 C.2.1 C.2.2.2.1 (C.2.2.2.2.1 _ q) (C.2.2.2.2.1 _ q167) (C.2.2.2.2.1 _ (show Cond.code Lib.objectInit ⟨#[0xb1]⟩ 1 none ∈ lw_all from q168)) rfl (by rw [C.2.2.1]; exact hl.1) rfl d hR.1 (by have h9 : 2 * (F0 m pc ls st).monitorRoom + (st.map fun v => v.category).sum ≤ 8 := lv_room hW; exact Nat.le_trans (Nat.add_le_add_right h9 12) hR.2) (by subst hn; exact k9 C H locs ls cells slots hl hm hs z1 z2)
theorem x_alenC (d : decode cc pc = .ok (.arraylength, 1)) {n' : Nat} (hn : pc + 1 = n') (k9 : Wx p l e R s m args below meth c own cc nL G Q n' L (.int 0 :: st) M cb sb) : Wx p l e R s m args below meth c own cc nL G Q pc L (.ref (G.2.2.2 6) :: st) M cb sb := by
  intro C H locs ls cells slots hl hm hs z1 z2
  obtain ⟨cell, h1, h2, h3, h4, h5, -⟩ := C.2.2.2.2.2.2.2.2.2.2.2.2.2.2.2.2.2.2.1.kept hs.2.1
  subst hn
  exact W.alen (n := 0) C.1 C.2.1 h1 h2 (h5.trans (by decide)) rfl rfl d (k9 C H locs ls cells slots hl hm hs z1 z2)
theorem x_aload_nq {k : Fin 4} {i : Nat} {r : Option Nat} (d : decode cc pc = .ok (.aload_n k, 1)) (hi : (k : Nat) = i) (hv : L[i]? = some (some (va_rf r))) {n' : Nat} (hn : pc + 1 = n') (k9 : Wx p l e R s m args below meth c own cc nL G Q n' L (va_rf r :: st) M cb sb) : Wx p l e R s m args below meth c own cc nL G Q pc L st M cb sb := by
  cases r with
  | none => exact x_aload_nN d hi hv hn k9
  | some a => exact x_aload_n d hi hv hn k9
theorem x_aloadq {i : Nat} {r : Option Nat} (d : decode cc pc = .ok (.aload i, 2)) (hv : L[i]? = some (some (va_rf r))) {n' : Nat} (hn : pc + 2 = n') (k9 : Wx p l e R s m args below meth c own cc nL G Q n' L (va_rf r :: st) M cb sb) : Wx p l e R s m args below meth c own cc nL G Q pc L st M cb sb := by
  cases r with
  | none => exact x_aloadN d hv hn k9
  | some a => exact x_aload d hv hn k9
theorem x_astore_nq {k : Fin 4} {i : Nat} {r : Option Nat} {L' : List (Option Value)} (d : decode cc pc = .ok (.astore_n k, 1)) (hi : (k : Nat) = i) (hb : i < nL) (ho : k1ok L i = true) (hL : (L.set i (some (va_rf r))) = L') {n' : Nat} (hn : pc + 1 = n') (k9 : Wx p l e R s m args below meth c own cc nL G Q n' L' st M cb sb) : Wx p l e R s m args below meth c own cc nL G Q pc L (va_rf r :: st) M cb sb := by
  cases r with
  | none => exact x_astore_nN d hi hb ho hL hn k9
  | some a => exact x_astore_n d hi hb ho hL hn k9
theorem x_astoreq {i : Nat} {r : Option Nat} {L' : List (Option Value)} (d : decode cc pc = .ok (.astore i, 2)) (hb : i < nL) (ho : k1ok L i = true) (hL : (L.set i (some (va_rf r))) = L') {n' : Nat} (hn : pc + 2 = n') (k9 : Wx p l e R s m args below meth c own cc nL G Q n' L' st M cb sb) : Wx p l e R s m args below meth c own cc nL G Q pc L (va_rf r :: st) M cb sb := by
  cases r with
  | none => exact x_astoreN d hb ho hL hn k9
  | some a => exact x_astore d hb ho hL hn k9
/-- what lies on the stack is looked at: null, or not -/
theorem x_topq {r : Option Nat} (kn : r = none → Wx p l e R s m args below meth c own cc nL G Q pc L (.null :: st) M cb sb) (ks : ∀ b, r = some b → Wx p l e R s m args below meth c own cc nL G Q pc L (.ref b :: st) M cb sb) : Wx p l e R s m args below meth c own cc nL G Q pc L (va_rf r :: st) M cb sb := by
  cases hr : r with
  | none => exact kn hr
  | some b => exact ks b hr
theorem x_topv {x y : Int32} (h8 : x = y) (k9 : Wx p l e R s m args below meth c own cc nL G Q pc L (.int y :: st) M cb sb) : Wx p l e R s m args below meth c own cc nL G Q pc L (.int x :: st) M cb sb := h8 ▸ k9
theorem x_topi {x : Int32} (k9 : ∀ y : Int32, y = x → Wx p l e R s m args below meth c own cc nL G Q pc L (.int y :: st) M cb sb) : Wx p l e R s m args below meth c own cc nL G Q pc L (.int x :: st) M cb sb := k9 x rfl
theorem x_val {L' : List (Option Value)} {st' : List Value} {M' : kM} (hL : L = L') (hs : st = st') (hM : M = M') (k9 : Wx p l e R s m args below meth c own cc nL G Q pc L' st' M' cb sb) : Wx p l e R s m args below meth c own cc nL G Q pc L st M cb sb := by
  subst hL; subst hs; subst hM; exact k9
/-- a truth computed by branches: both ways meet at one place -/
theorem x_fork {q : Prop} [Decidable q] {t n J : Nat} {st2 : List Value} {v1 v2 : Int32} (br : (q → Wx p l e R s m args below meth c own cc nL G Q t L st M cb sb) → (¬ q → Wx p l e R s m args below meth c own cc nL G Q n L st M cb sb) → Wx p l e R s m args below meth c own cc nL G Q pc L st2 M cb sb) (b1 : q → Wx p l e R s m args below meth c own cc nL G Q J L (.int v1 :: st) M cb sb → Wx p l e R s m args below meth c own cc nL G Q t L st M cb sb) (b2 : ¬ q → Wx p l e R s m args below meth c own cc nL G Q J L (.int v2 :: st) M cb sb → Wx p l e R s m args below meth c own cc nL G Q n L st M cb sb) (k9 : Wx p l e R s m args below meth c own cc nL G Q J L (.int (if q then v1 else v2) :: st) M cb sb) : Wx p l e R s m args below meth c own cc nL G Q pc L st2 M cb sb := br (fun h => b1 h (by rw [if_pos h] at k9; exact k9)) (fun h => b2 h (by rw [if_neg h] at k9; exact k9))
theorem x_forkN {q : Prop} [Decidable q] {t n J : Nat} {st2 : List Value} {v1 v2 : Int32} (br : (¬ q → Wx p l e R s m args below meth c own cc nL G Q t L st M cb sb) → (q → Wx p l e R s m args below meth c own cc nL G Q n L st M cb sb) → Wx p l e R s m args below meth c own cc nL G Q pc L st2 M cb sb) (b1 : ¬ q → Wx p l e R s m args below meth c own cc nL G Q J L (.int v1 :: st) M cb sb → Wx p l e R s m args below meth c own cc nL G Q t L st M cb sb) (b2 : q → Wx p l e R s m args below meth c own cc nL G Q J L (.int v2 :: st) M cb sb → Wx p l e R s m args below meth c own cc nL G Q n L st M cb sb) (k9 : Wx p l e R s m args below meth c own cc nL G Q J L (.int (if q then v2 else v1) :: st) M cb sb) : Wx p l e R s m args below meth c own cc nL G Q pc L st2 M cb sb := br (fun h => b1 h (by rw [if_neg h] at k9; exact k9)) (fun h => b2 h (by rw [if_pos h] at k9; exact k9))
theorem x_iastk {a k N : Nat} {i x : Int32} {g0 : Nat → Int32} {M2 : kM} (d : decode cc pc = .ok (.iastore, 1)) (hk : mK M a = some 120) (hN : mN M a = N) (hx : i = nI k) (hlt : k < N) (hb : N < 2 ^ 31) (hg : mA M a = g0) (hM : sA M a (va_up g0 k x) = M2) {n' : Nat} (hn : pc + 1 = n') (k9 : Wx p l e R s m args below meth c own cc nL G Q n' L st M2 cb sb) : Wx p l e R s m args below meth c own cc nL G Q pc L (.int x :: .int i :: .ref a :: st) M cb sb := by
  subst hx; subst hg; subst hM
  exact x_iast d hk (by rw [hN]; exact vp_in_nI hlt hb) hn (by rw [nI_clamp (by omega)]; exact k9)
theorem x_ildk {a k N : Nat} {i v : Int32} (d : decode cc pc = .ok (.iaload, 1)) (hk : mK M a = some 120) (hN : mN M a = N) (hx : i = nI k) (hlt : k < N) (hb : N < 2 ^ 31) (hv : mA M a k = v) {n' : Nat} (hn : pc + 1 = n') (k9 : Wx p l e R s m args below meth c own cc nL G Q n' L (.int v :: st) M cb sb) : Wx p l e R s m args below meth c own cc nL G Q pc L (.int i :: .ref a :: st) M cb sb := by
  subst hx; subst hv
  exact x_iald d hk (by rw [hN]; exact vp_in_nI hlt hb) hn (by rw [nI_clamp (by omega)]; exact k9)
theorem i_add {x y : Int32} {a b : Nat} (h1 : x = nI a) (h2 : y = nI b) : x + y = nI (a + b) := by rw [h1, h2, nI_add]
theorem i_mul {x y : Int32} {a b : Nat} (h1 : x = nI a) (h2 : y = nI b) : x * y = nI (a * b) := by rw [h1, h2, pk_mul]
theorem cv_le {x y : Int32} {a b : Nat} (h1 : x = nI a) (h2 : y = nI b) (ha : a < 2 ^ 31) (hb : b < 2 ^ 31) : x ≤ y ↔ a ≤ b := by rw [h1, h2]; exact nI_leI ha hb
theorem cv_lt {x y : Int32} {a b : Nat} (h1 : x = nI a) (h2 : y = nI b) (ha : a < 2 ^ 31) (hb : b < 2 ^ 31) : x < y ↔ a < b := by rw [h1, h2]; exact nI_ltI ha hb
theorem cv_eq {x y : Int32} {a b : Nat} (h1 : x = nI a) (h2 : y = nI b) (ha : a < 2 ^ 31) (hb : b < 2 ^ 31) : x = y ↔ a = b := by rw [h1, h2]; exact nI_eq ha hb
theorem x_iastv {a : Nat} {i x : Int32} {f : Nat → Int32} (d : decode cc pc = .ok (.iastore, 1)) (hk : mK M a = some 120) (hi : vp_in i (mN M a)) (hv : va_up (mA M a) i.toNatClampNeg x = f) {n' : Nat} (hn : pc + 1 = n') (k9 : Wx p l e R s m args below meth c own cc nL G Q n' L st (sA M a f) cb sb) : Wx p l e R s m args below meth c own cc nL G Q pc L (.int x :: .int i :: .ref a :: st) M cb sb := x_iast d hk hi hn (by rw [hv]; exact k9)
theorem x_mmax {x y : Int32} {idx : Nat} (d : decode cc pc = .ok (.invokestatic idx, 3)) (q1 : Cond.methodLink own idx Lib.Math.max.name ∈ lw_all) (q2 : Cond.static Lib.Math.max.name ∈ lw_all) (q3 : Cond.initialized "java/lang/Math" ∈ lw_all) (q4 : Cond.code Lib.Math.max.name Lib.Math.max.code 2 (some .int) ∈ lw_all) (hR : 1 ≤ R.frames ∧ 21 ≤ R.locals) (hW : (st.map fun v => v.category).sum ≤ 8) {n' : Nat} (hn : pc + 3 = n') (k9 : Wx p l e R s m args below meth c own cc nL G Q n' L (.int (if x < y then y else x) :: st) M cb sb) : Wx p l e R s m args below meth c own cc nL G Q pc L (.int y :: .int x :: st) M cb sb := fun C H locs ls cells slots hl hm hs z1 z2 => va_mmax C.1 C.2.1 (by rw [C.2.2.1]; exact hl.1.symm) C.2.2.2.1 (C.2.2.2.2.1 _ q1) (C.2.2.2.2.1 _ q2) (C.2.2.2.2.1 _ q3) (C.2.2.2.2.1 _ q4) hR.1 (by omega) (by omega) (by omega) d (by subst hn; exact k9 C H locs ls cells slots hl hm hs z1 z2)
theorem x_mmin {x y : Int32} {idx : Nat} (d : decode cc pc = .ok (.invokestatic idx, 3)) (q1 : Cond.methodLink own idx Lib.Math.min.name ∈ lw_all) (q2 : Cond.static Lib.Math.min.name ∈ lw_all) (q3 : Cond.initialized "java/lang/Math" ∈ lw_all) (q4 : Cond.code Lib.Math.min.name Lib.Math.min.code 2 (some .int) ∈ lw_all) (hR : 1 ≤ R.frames ∧ 21 ≤ R.locals) (hW : (st.map fun v => v.category).sum ≤ 8) {n' : Nat} (hn : pc + 3 = n') (k9 : Wx p l e R s m args below meth c own cc nL G Q n' L (.int (if y < x then y else x) :: st) M cb sb) : Wx p l e R s m args below meth c own cc nL G Q pc L (.int y :: .int x :: st) M cb sb := fun C H locs ls cells slots hl hm hs z1 z2 => va_mmin C.1 C.2.1 (by rw [C.2.2.1]; exact hl.1.symm) C.2.2.2.1 (C.2.2.2.2.1 _ q1) (C.2.2.2.2.1 _ q2) (C.2.2.2.2.1 _ q3) (C.2.2.2.2.1 _ q4) hR.1 (by omega) (by omega) (by omega) d (by subst hn; exact k9 C H locs ls cells slots hl hm hs z1 z2)
theorem x_loc {i : Nat} {x y : Int32} {L' : List (Option Value)} (hv : L[i]? = some (some (.int x))) (h : x = y) (hL : L.set i (some (.int y)) = L') (k9 : Wx p l e R s m args below meth c own cc nL G Q pc L' st M cb sb) : Wx p l e R s m args below meth c own cc nL G Q pc L st M cb sb := by
  subst h; subst hL
  have e : L.set i (some (.int x)) = L := by
    apply List.ext_getElem?
    intro j
    by_cases hj : i = j
    · subst hj
      rw [List.getElem?_set_self (List.getElem?_eq_some_iff.mp hv).1, hv]
    · rw [List.getElem?_set_ne hj]
  rw [e] at k9
  exact k9
end WZ
