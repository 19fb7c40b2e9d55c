/-! ===== rows wanting: System.arraycopy, getClass, a class constant ===== -/
set_option maxRecDepth 100000
theorem k_nn {z : Int32} (hz : ¬ z < 0) : z.toInt = (z.toNatClampNeg : Int) := by
  have hz0 : (0 : Int) ≤ z.toInt := by
    have := Int32.not_lt.mp hz
    simpa using Int32.le_iff_toInt_le.mp this
  show z.toInt = ((z.toInt.toNat : Nat) : Int)
  omega
theorem k_n0 {n : Nat} (h : n < 2 ^ 31) : ¬ nI n < 0 := nI_pos h
/-- an object that may lie in an Object[] -/
def okO (M : kM) (y : Nat) : Prop := ∃ K, mK M y = some K ∧ Cond.castable (kname K) "java/lang/Object" ∈ lw_tbl
section WC
variable {p : Program} {l : Launch} {e : Env} {R : Room} {s : State} {m : MethodId} {args : Array Value} {below : List Frame} {meth : Method} {c : Code} {own : String} {cc : ByteArray} {nL : Nat} {G : kG} {Q : State → Prop}
variable {pc : Nat} {L : List (Option Value)} {st : List Value} {M : kM} {cb sb : Nat}
theorem x_copyO {a0 a sp dp n idx : Nat} (d : decode cc pc = .ok (.invokestatic idx, 3)) (ql : Cond.methodLink own idx arraycopyName ∈ lw_all) (qn : Cond.native arraycopyName ∈ lw_all) (qs : Cond.static arraycopyName ∈ lw_all) (qi : Cond.initialized "java/lang/System" ∈ lw_all)
    (hk0 : mK M a0 = some 125) (hk : mK M a = some 125) (b1 : sp < 2 ^ 31) (b2 : dp < 2 ^ 31) (b3 : n < 2 ^ 31) (h4 : sp + n ≤ mN M a0) (h5 : dp + n ≤ mN M a) (hel : ∀ i, i < n → ∀ y, mO M a0 (sp + i) = some y → okO M y)
    (hR : 1 ≤ R.frames ∧ 8 + (nativeFrameWords "java/lang/System" "arraycopy" 5 + 11) ≤ R.locals) (hW : (st.map fun v => v.category).sum ≤ 8) {n' : Nat} (hn : pc + 3 = n') (k9 : Wx p l e R s m args below meth c own cc nL G Q n' L st (sO M a (va_cpy (mO M a0) (mO M a) sp dp n)) cb sb) : Wx p l e R s m args below meth c own cc nL G Q pc L (.int (nI n) :: .int (nI dp) :: .ref a :: .int (nI sp) :: .ref a0 :: st) M cb sb := by
  intro C H locs ls cells slots hl hm hs z1 z2
  subst hn
  obtain ⟨hB0, hc0⟩ := k_arr hm hk0 (by decide) (by decide)
  obtain ⟨hB, hc1⟩ := k_arr hm hk (by decide) (by decide)
  have hz : (C.2.2.2.2.2.2.2.2.1 125 (by decide) (by decide)).1 = (C.2.2.2.2.2.2.2.2.1 125 (by decide) (by decide)).1 := rfl
  have hac : ∀ b, acell G M b 125 = vp_cell (G.2.1 125) (mN M b, .inr (.inr (.inr (.inr (mO M b))))) := fun b => by
    unfold acell
    rw [if_neg (by omega), if_neg (by omega)]
  rw [hac] at hc0 hc1
  have eSp : (nI sp).toNatClampNeg = sp := nI_clamp b1
  have eDp : (nI dp).toNatClampNeg = dp := nI_clamp b2
  have eN : (nI n).toNatClampNeg = n := nI_clamp b3
  intro T hT X
  obtain ⟨-, k0, hkk0, cm0, hk0'⟩ := (C.2.2.2.2.2.2.2.2.1 125 (by decide) (by decide)).1 (mN M a0) (fun j => va_rf (mO M a0 j))
  obtain ⟨-, k1, hkk1, cm1, hk1'⟩ := (C.2.2.2.2.2.2.2.2.1 125 (by decide) (by decide)).1 (mN M a) (fun j => va_rf (mO M a j))
  obtain ⟨vm', X', step⟩ := X.arraycopy C.1 C.2.2.2.1 (C.2.2.2.2.1 _ ql) (C.2.2.2.2.1 _ qn) (C.2.2.2.2.1 _ qs) (C.2.2.2.2.1 _ qi) (src := a0) (dst := a) (cs := vp_cell (G.2.1 125) (mN M a0, .inr (.inr (.inr (.inr (mO M a0)))))) (cd := vp_cell (G.2.1 125) (mN M a, .inr (.inr (.inr (.inr (mO M a)))))) (srcPos := nI sp) (destPos := nI dp) (n := nI n) (by rw [hT]; exact hc0) (by rw [hT]; exact hc1)
    (fun _ h => by cases h) (fun _ h => by cases h) (fun h => by cases h) (fun h => by cases h) hkk0 hkk1 hk0' hk1' rfl (k_n0 b1) (k_n0 b2) (k_n0 b3)
    (by rw [k_nn (k_n0 b1), k_nn (k_n0 b3), eSp, eN]; show ¬ _ > ((arrV (G.2.1 125) (mN M a0) (fun j => va_rf (mO M a0 j))).slots.size : Int); rw [arrV_size]; omega)
    (by rw [k_nn (k_n0 b2), k_nn (k_n0 b3), eDp, eN]; show ¬ _ > ((arrV (G.2.1 125) (mN M a) (fun j => va_rf (mO M a j))).slots.size : Int); rw [arrV_size]; omega)
    (fun vm₁ hal i hi => by
      rw [eN] at hi
      have e9 : (vp_cell (G.2.1 125) (mN M a0, .inr (.inr (.inr (.inr (mO M a0)))))).slots.getD ((nI sp).toNatClampNeg + i) .null = va_rf (mO M a0 (sp + i)) := by
        show (arrV (G.2.1 125) (mN M a0) (fun j => va_rf (mO M a0 j))).slots.getD _ _ = _
        rw [eSp, Array.getD_eq_getD_getElem?, arrV_read _ _ (by omega)]
        rfl
      rw [e9]
      cases hy : mO M a0 (sp + i) with
      | none => exact ⟨rfl, trivial⟩
      | some y =>
        obtain ⟨KV, hKV, hca⟩ := hel i hi y hy
        obtain ⟨cellV, g1, g2, g3⟩ := k_rcv C.2.2.2.2.2.2.2 hm hs hKV
        obtain ⟨c0, t1, f1, f2, f3⟩ := Cond.castable_spec (va_Nw.use (A := #[]) rfl (C.2.2.2.2.2.2.2.2.2.1 _ _ hca))
        cases g3.symm.trans f1
        obtain ⟨kA, comp, r1, r2, r3, -⟩ := (C.2.2.2.2.2.2.2.2.1 125 (by decide) (by decide)).2
        cases hkk1.symm.trans r1
        cases hk1'.symm.trans r2
        cases r3.symm.trans f2
        obtain ⟨kC, hkC, -⟩ := Vm.findClass_spec g3
        obtain ⟨kE, hkE, -⟩ := Vm.findClass_spec r3
        obtain ⟨kC', hkC', -⟩ := hal.2.2 _ _ hkC
        obtain ⟨kE', hkE', -⟩ := hal.2.2 _ _ hkE
        refine ⟨rfl, cellV, (show T.heap[y]? = some cellV by rw [hT]; exact g1), (fun q h => by rw [h] at g2; cases g2), ⟨kC', hkC'⟩, ?_, ?_⟩
        · exact ⟨kE', hkE'⟩
        · show vm₁.assignable _ _ = true
          rw [hal.assignable]
          exact f3)
    (g := F0 m pc ls (.int (nI n) :: .int (nI dp) :: .ref a :: .int (nI sp) :: .ref a0 :: st)) rfl (by rw [C.2.2.1]; exact hl.1) (rest := st) rfl (by rw [C.2.1]; exact d) hR.1 (by show 2 * 0 + _ + _ ≤ _; omega)
  have e1 : copied (vp_cell (G.2.1 125) (mN M a0, .inr (.inr (.inr (.inr (mO M a0)))))) (vp_cell (G.2.1 125) (mN M a, .inr (.inr (.inr (.inr (mO M a)))))) (nI sp) (nI dp) (nI n) = vp_cell (G.2.1 125) (mN M a, .inr (.inr (.inr (.inr (va_cpy (mO M a0) (mO M a) (nI sp).toNatClampNeg (nI dp).toNatClampNeg (nI n).toNatClampNeg))))) := by
    rw [vp_cell_q, vp_cell_q, vp_cell_q]
    exact va_copied (fun z => va_rf z) (G.2.1 125) (G.2.1 125) (mO M a0) (mO M a) (by rw [eSp, eN]; exact h4)
  rw [eSp, eDp, eN] at e1
  rw [e1] at X' step
  have hl1 : a < H.size := (Array.getElem?_eq_some_iff.mp hc1).1
  have hheap : ((T.setVm vm').setCell a (vp_cell (G.2.1 125) (mN M a, .inr (.inr (.inr (.inr (va_cpy (mO M a0) (mO M a) sp dp n))))))).heap = H.setIfInBounds a (vp_cell (G.2.1 125) (mN M a, .inr (.inr (.inr (.inr (va_cpy (mO M a0) (mO M a) sp dp n)))))) := by rw [← hT]; rfl
  have oq : ∀ q : Nat, q ≠ a → (H.setIfInBounds a (vp_cell (G.2.1 125) (mN M a, .inr (.inr (.inr (.inr (va_cpy (mO M a0) (mO M a) sp dp n)))))))[q]? = H[q]? := fun q hq => by simp [Array.getElem?_setIfInBounds, Ne.symm hq]
  have hm1 : Hm G (sO M a (va_cpy (mO M a0) (mO M a) sp dp n)) (H.setIfInBounds a (vp_cell (G.2.1 125) (mN M a, .inr (.inr (.inr (.inr (va_cpy (mO M a0) (mO M a) sp dp n))))))) := by
    refine hm.set oq rfl (fun b hb => sO_same hb) (fun K' hK' => ?_)
    cases hK'.symm.trans hk
    refine ⟨fun q => absurd q (by decide), fun _ _ => ⟨by decide, hB, ?_⟩, fun q => absurd q (by decide)⟩
    rw [show acell G (sO M a (va_cpy (mO M a0) (mO M a) sp dp n)) a 125 = vp_cell (G.2.1 125) (mN M a, .inr (.inr (.inr (.inr (va_cpy (mO M a0) (mO M a) sp dp n))))) from by
      unfold acell
      rw [if_neg (by omega), if_neg (by omega)]
      rw [show mO (sO M a (va_cpy (mO M a0) (mO M a) sp dp n)) a = va_cpy (mO M a0) (mO M a) sp dp n from va_up_self _ _ _]
      rfl]
    simp [Array.getElem?_setIfInBounds, hl1]
  obtain ⟨t, a1, b9⟩ := k9 C _ _ ls cells slots hl hm1 ⟨by simp; exact hs.1, fun q g1 g2 => by
      rw [oq q (fun e => g2 (by rw [e]; exact hB))]
      exact hs.2.1 q g1 g2, fun q hq => by
      rcases List.mem_append.mp hq with h | h
      · exact hs.2.2 q h
      · obtain ⟨z, -, hz⟩ := List.mem_map.mp h
        rw [← hz]
        exact hB⟩ z1 z2 _ hheap X'
  exact ⟨t, step t a1, b9⟩
theorem x_copyI {a0 a sp dp n idx K : Nat} (d : decode cc pc = .ok (.invokestatic idx, 3)) (ql : Cond.methodLink own idx arraycopyName ∈ lw_all) (qn : Cond.native arraycopyName ∈ lw_all) (qs : Cond.static arraycopyName ∈ lw_all) (qi : Cond.initialized "java/lang/System" ∈ lw_all)
    (hK1 : 120 ≤ K) (hK2 : K < 124) (hk0 : mK M a0 = some K) (hk : mK M a = some K) (b1 : sp < 2 ^ 31) (b2 : dp < 2 ^ 31) (b3 : n < 2 ^ 31) (h4 : sp + n ≤ mN M a0) (h5 : dp + n ≤ mN M a) (hfit : ∀ i, i < n → fits (aty K) (.int (mA M a0 (sp + i))) = true)
    (hR : 1 ≤ R.frames ∧ 8 + (nativeFrameWords "java/lang/System" "arraycopy" 5 + 11) ≤ R.locals) (hW : (st.map fun v => v.category).sum ≤ 8) {n' : Nat} (hn : pc + 3 = n') (k9 : Wx p l e R s m args below meth c own cc nL G Q n' L st (sA M a (va_cpy (mA M a0) (mA M a) sp dp n)) cb sb) : Wx p l e R s m args below meth c own cc nL G Q pc L (.int (nI n) :: .int (nI dp) :: .ref a :: .int (nI sp) :: .ref a0 :: st) M cb sb := by
  intro C H locs ls cells slots hl hm hs z1 z2
  subst hn
  have hK3 : K < 128 := by omega
  have hprim : refKind (aty K) = false := by
    rcases (show K = 120 ∨ K = 121 ∨ K = 122 ∨ K = 123 by omega) with rfl | rfl | rfl | rfl <;> rfl
  obtain ⟨hB0, hc0⟩ := k_arr hm hk0 hK1 hK3
  obtain ⟨hB, hc1⟩ := k_arr hm hk hK1 hK3
  have hz : (C.2.2.2.2.2.2.2.2.1 K hK1 hK3).1 = (C.2.2.2.2.2.2.2.2.1 K hK1 hK3).1 := rfl
  have hac : ∀ b, acell G M b K = vp_cell (G.2.1 K) (mN M b, .inl (mA M b)) := fun b => by
    unfold acell
    rw [if_neg (by omega), if_pos (by omega)]
  rw [hac] at hc0 hc1
  have eSp : (nI sp).toNatClampNeg = sp := nI_clamp b1
  have eDp : (nI dp).toNatClampNeg = dp := nI_clamp b2
  have eN : (nI n).toNatClampNeg = n := nI_clamp b3
  intro T hT X
  obtain ⟨-, k0, hkk0, cm0, hk0'⟩ := (C.2.2.2.2.2.2.2.2.1 K hK1 hK3).1 (mN M a0) (fun j => .int (mA M a0 j))
  obtain ⟨-, k1, hkk1, cm1, hk1'⟩ := (C.2.2.2.2.2.2.2.2.1 K hK1 hK3).1 (mN M a) (fun j => .int (mA M a j))
  obtain ⟨vm', X', step⟩ := X.arraycopy C.1 C.2.2.2.1 (C.2.2.2.2.1 _ ql) (C.2.2.2.2.1 _ qn) (C.2.2.2.2.1 _ qs) (C.2.2.2.2.1 _ qi) (src := a0) (dst := a) (cs := vp_cell (G.2.1 K) (mN M a0, .inl (mA M a0))) (cd := vp_cell (G.2.1 K) (mN M a, .inl (mA M a))) (srcPos := nI sp) (destPos := nI dp) (n := nI n) (by rw [hT]; exact hc0) (by rw [hT]; exact hc1)
    (fun _ h => by cases h) (fun _ h => by cases h) (fun h => by cases h) (fun h => by cases h) hkk0 hkk1 hk0' hk1' (by simp [hprim]) (k_n0 b1) (k_n0 b2) (k_n0 b3)
    (by rw [k_nn (k_n0 b1), k_nn (k_n0 b3), eSp, eN]; show ¬ _ > ((arrV (G.2.1 K) (mN M a0) (fun j => .int (mA M a0 j))).slots.size : Int); rw [arrV_size]; omega)
    (by rw [k_nn (k_n0 b2), k_nn (k_n0 b3), eDp, eN]; show ¬ _ > ((arrV (G.2.1 K) (mN M a) (fun j => .int (mA M a j))).slots.size : Int); rw [arrV_size]; omega)
    (fun vm₁ hal i hi => by
      rw [eN] at hi
      have e9 : (vp_cell (G.2.1 K) (mN M a0, .inl (mA M a0))).slots.getD ((nI sp).toNatClampNeg + i) .null = .int (mA M a0 (sp + i)) := by
        show (arrV (G.2.1 K) (mN M a0) (fun j => .int (mA M a0 j))).slots.getD _ _ = _
        rw [eSp, Array.getD_eq_getD_getElem?, arrV_read _ _ (by omega)]
        rfl
      rw [e9]
      exact ⟨hfit i hi, trivial⟩)
    (g := F0 m pc ls (.int (nI n) :: .int (nI dp) :: .ref a :: .int (nI sp) :: .ref a0 :: st)) rfl (by rw [C.2.2.1]; exact hl.1) (rest := st) rfl (by rw [C.2.1]; exact d) hR.1 (by show 2 * 0 + _ + _ ≤ _; omega)
  have e1 : copied (vp_cell (G.2.1 K) (mN M a0, .inl (mA M a0))) (vp_cell (G.2.1 K) (mN M a, .inl (mA M a))) (nI sp) (nI dp) (nI n) = vp_cell (G.2.1 K) (mN M a, .inl (va_cpy (mA M a0) (mA M a) (nI sp).toNatClampNeg (nI dp).toNatClampNeg (nI n).toNatClampNeg)) := by
    rw [vp_cell_i, vp_cell_i, vp_cell_i]
    exact va_copied (fun z => .int z) (G.2.1 K) (G.2.1 K) (mA M a0) (mA M a) (by rw [eSp, eN]; exact h4)
  rw [eSp, eDp, eN] at e1
  rw [e1] at X' step
  have hl1 : a < H.size := (Array.getElem?_eq_some_iff.mp hc1).1
  have hheap : ((T.setVm vm').setCell a (vp_cell (G.2.1 K) (mN M a, .inl (va_cpy (mA M a0) (mA M a) sp dp n)))).heap = H.setIfInBounds a (vp_cell (G.2.1 K) (mN M a, .inl (va_cpy (mA M a0) (mA M a) sp dp n))) := by rw [← hT]; rfl
  have oq : ∀ q : Nat, q ≠ a → (H.setIfInBounds a (vp_cell (G.2.1 K) (mN M a, .inl (va_cpy (mA M a0) (mA M a) sp dp n))))[q]? = H[q]? := fun q hq => by simp [Array.getElem?_setIfInBounds, Ne.symm hq]
  have hm1 : Hm G (sA M a (va_cpy (mA M a0) (mA M a) sp dp n)) (H.setIfInBounds a (vp_cell (G.2.1 K) (mN M a, .inl (va_cpy (mA M a0) (mA M a) sp dp n)))) := by
    refine hm.set oq rfl (fun b hb => sA_same hb) (fun K' hK' => ?_)
    cases hK'.symm.trans hk
    refine ⟨fun q => absurd q (by omega), fun _ _ => ⟨by omega, hB, ?_⟩, fun q => absurd q (by omega)⟩
    rw [show acell G (sA M a (va_cpy (mA M a0) (mA M a) sp dp n)) a K = vp_cell (G.2.1 K) (mN M a, .inl (va_cpy (mA M a0) (mA M a) sp dp n)) from by
      unfold acell
      rw [if_neg (by omega), if_pos (by omega)]
      rw [show mA (sA M a (va_cpy (mA M a0) (mA M a) sp dp n)) a = va_cpy (mA M a0) (mA M a) sp dp n from va_up_self _ _ _]
      rfl]
    simp [Array.getElem?_setIfInBounds, hl1]
  obtain ⟨t, a1, b9⟩ := k9 C _ _ ls cells slots hl hm1 ⟨by simp; exact hs.1, fun q g1 g2 => by
      rw [oq q (fun e => g2 (by rw [e]; exact hB))]
      exact hs.2.1 q g1 g2, fun q hq => by
      rcases List.mem_append.mp hq with h | h
      · exact hs.2.2 q h
      · obtain ⟨z, -, hz⟩ := List.mem_map.mp h
        rw [← hz]
        exact hB⟩ z1 z2 _ hheap X'
  exact ⟨t, step t a1, b9⟩
theorem x_copyL {a0 a sp dp n idx : Nat} (d : decode cc pc = .ok (.invokestatic idx, 3)) (ql : Cond.methodLink own idx arraycopyName ∈ lw_all) (qn : Cond.native arraycopyName ∈ lw_all) (qs : Cond.static arraycopyName ∈ lw_all) (qi : Cond.initialized "java/lang/System" ∈ lw_all)
    (hk0 : mK M a0 = some 124) (hk : mK M a = some 124) (b1 : sp < 2 ^ 31) (b2 : dp < 2 ^ 31) (b3 : n < 2 ^ 31) (h4 : sp + n ≤ mN M a0) (h5 : dp + n ≤ mN M a)
    (hR : 1 ≤ R.frames ∧ 8 + (nativeFrameWords "java/lang/System" "arraycopy" 5 + 11) ≤ R.locals) (hW : (st.map fun v => v.category).sum ≤ 8) {n' : Nat} (hn : pc + 3 = n') (k9 : Wx p l e R s m args below meth c own cc nL G Q n' L st (sL M a (va_cpy (mL M a0) (mL M a) sp dp n)) cb sb) : Wx p l e R s m args below meth c own cc nL G Q pc L (.int (nI n) :: .int (nI dp) :: .ref a :: .int (nI sp) :: .ref a0 :: st) M cb sb := by
  intro C H locs ls cells slots hl hm hs z1 z2
  subst hn
  obtain ⟨hB0, hc0⟩ := k_arr hm hk0 (by decide) (by decide)
  obtain ⟨hB, hc1⟩ := k_arr hm hk (by decide) (by decide)
  have hz : (C.2.2.2.2.2.2.2.2.1 124 (by decide) (by decide)).1 = (C.2.2.2.2.2.2.2.2.1 124 (by decide) (by decide)).1 := rfl
  have hac : ∀ b, acell G M b 124 = vp_cell (G.2.1 124) (mN M b, .inr (.inl (mL M b))) := fun b => by
    unfold acell
    rw [if_pos rfl]
  rw [hac] at hc0 hc1
  have eSp : (nI sp).toNatClampNeg = sp := nI_clamp b1
  have eDp : (nI dp).toNatClampNeg = dp := nI_clamp b2
  have eN : (nI n).toNatClampNeg = n := nI_clamp b3
  intro T hT X
  obtain ⟨-, k0, hkk0, cm0, hk0'⟩ := (C.2.2.2.2.2.2.2.2.1 124 (by decide) (by decide)).1 (mN M a0) (fun j => .long (mL M a0 j))
  obtain ⟨-, k1, hkk1, cm1, hk1'⟩ := (C.2.2.2.2.2.2.2.2.1 124 (by decide) (by decide)).1 (mN M a) (fun j => .long (mL M a j))
  obtain ⟨vm', X', step⟩ := X.arraycopy C.1 C.2.2.2.1 (C.2.2.2.2.1 _ ql) (C.2.2.2.2.1 _ qn) (C.2.2.2.2.1 _ qs) (C.2.2.2.2.1 _ qi) (src := a0) (dst := a) (cs := vp_cell (G.2.1 124) (mN M a0, .inr (.inl (mL M a0)))) (cd := vp_cell (G.2.1 124) (mN M a, .inr (.inl (mL M a)))) (srcPos := nI sp) (destPos := nI dp) (n := nI n) (by rw [hT]; exact hc0) (by rw [hT]; exact hc1)
    (fun _ h => by cases h) (fun _ h => by cases h) (fun h => by cases h) (fun h => by cases h) hkk0 hkk1 hk0' hk1' (by simp [show refKind (aty 124) = false from rfl]) (k_n0 b1) (k_n0 b2) (k_n0 b3)
    (by rw [k_nn (k_n0 b1), k_nn (k_n0 b3), eSp, eN]; show ¬ _ > ((arrV (G.2.1 124) (mN M a0) (fun j => .long (mL M a0 j))).slots.size : Int); rw [arrV_size]; omega)
    (by rw [k_nn (k_n0 b2), k_nn (k_n0 b3), eDp, eN]; show ¬ _ > ((arrV (G.2.1 124) (mN M a) (fun j => .long (mL M a j))).slots.size : Int); rw [arrV_size]; omega)
    (fun vm₁ hal i hi => by
      rw [eN] at hi
      have e9 : (vp_cell (G.2.1 124) (mN M a0, .inr (.inl (mL M a0)))).slots.getD ((nI sp).toNatClampNeg + i) .null = .long (mL M a0 (sp + i)) := by
        show (arrV (G.2.1 124) (mN M a0) (fun j => .long (mL M a0 j))).slots.getD _ _ = _
        rw [eSp, Array.getD_eq_getD_getElem?, arrV_read _ _ (by omega)]
        rfl
      rw [e9]
      exact ⟨rfl, trivial⟩)
    (g := F0 m pc ls (.int (nI n) :: .int (nI dp) :: .ref a :: .int (nI sp) :: .ref a0 :: st)) rfl (by rw [C.2.2.1]; exact hl.1) (rest := st) rfl (by rw [C.2.1]; exact d) hR.1 (by show 2 * 0 + _ + _ ≤ _; omega)
  have e1 : copied (vp_cell (G.2.1 124) (mN M a0, .inr (.inl (mL M a0)))) (vp_cell (G.2.1 124) (mN M a, .inr (.inl (mL M a)))) (nI sp) (nI dp) (nI n) = vp_cell (G.2.1 124) (mN M a, .inr (.inl (va_cpy (mL M a0) (mL M a) (nI sp).toNatClampNeg (nI dp).toNatClampNeg (nI n).toNatClampNeg))) := by
    rw [vp_cell_l, vp_cell_l, vp_cell_l]
    exact va_copied (fun z => .long z) (G.2.1 124) (G.2.1 124) (mL M a0) (mL M a) (by rw [eSp, eN]; exact h4)
  rw [eSp, eDp, eN] at e1
  rw [e1] at X' step
  have hl1 : a < H.size := (Array.getElem?_eq_some_iff.mp hc1).1
  have hheap : ((T.setVm vm').setCell a (vp_cell (G.2.1 124) (mN M a, .inr (.inl (va_cpy (mL M a0) (mL M a) sp dp n))))).heap = H.setIfInBounds a (vp_cell (G.2.1 124) (mN M a, .inr (.inl (va_cpy (mL M a0) (mL M a) sp dp n)))) := by rw [← hT]; rfl
  have oq : ∀ q : Nat, q ≠ a → (H.setIfInBounds a (vp_cell (G.2.1 124) (mN M a, .inr (.inl (va_cpy (mL M a0) (mL M a) sp dp n)))))[q]? = H[q]? := fun q hq => by simp [Array.getElem?_setIfInBounds, Ne.symm hq]
  have hm1 : Hm G (sL M a (va_cpy (mL M a0) (mL M a) sp dp n)) (H.setIfInBounds a (vp_cell (G.2.1 124) (mN M a, .inr (.inl (va_cpy (mL M a0) (mL M a) sp dp n))))) := by
    refine hm.set oq rfl (fun b hb => sL_same hb) (fun K' hK' => ?_)
    cases hK'.symm.trans hk
    refine ⟨fun q => absurd q (by decide), fun _ _ => ⟨by decide, hB, ?_⟩, fun q => absurd q (by decide)⟩
    rw [show acell G (sL M a (va_cpy (mL M a0) (mL M a) sp dp n)) a 124 = vp_cell (G.2.1 124) (mN M a, .inr (.inl (va_cpy (mL M a0) (mL M a) sp dp n))) from by
      unfold acell
      rw [if_pos rfl]
      rw [show mL (sL M a (va_cpy (mL M a0) (mL M a) sp dp n)) a = va_cpy (mL M a0) (mL M a) sp dp n from va_up_self _ _ _]
      rfl]
    simp [Array.getElem?_setIfInBounds, hl1]
  obtain ⟨t, a1, b9⟩ := k9 C _ _ ls cells slots hl hm1 ⟨by simp; exact hs.1, fun q g1 g2 => by
      rw [oq q (fun e => g2 (by rw [e]; exact hB))]
      exact hs.2.1 q g1 g2, fun q hq => by
      rcases List.mem_append.mp hq with h | h
      · exact hs.2.2 q h
      · obtain ⟨z, -, hz⟩ := List.mem_map.mp h
        rw [← hz]
        exact hB⟩ z1 z2 _ hheap X'
  exact ⟨t, step t a1, b9⟩
theorem x_getC {a idx : Nat} (d : decode cc pc = .ok (.invokevirtual idx, 3)) (hk : mK M a = some 125) (ql : Cond.methodLink own idx ⟨"java/lang/Object", "getClass", "()Ljava/lang/Class;"⟩ ∈ lw_all) (qd : Cond.declares ⟨"java/lang/Object", "getClass", "()Ljava/lang/Class;"⟩ ∈ lw_tbl) (qs : Cond.selects "[Ljava/lang/Object;" ⟨"java/lang/Object", "getClass", "()Ljava/lang/Class;"⟩ ⟨"java/lang/Object", "getClass", "()Ljava/lang/Class;"⟩ ∈ lw_all) (qi : Cond.instanceMethod ⟨"java/lang/Object", "getClass", "()Ljava/lang/Class;"⟩ ∈ lw_all) (qn : Cond.native ⟨"java/lang/Object", "getClass", "()Ljava/lang/Class;"⟩ ∈ lw_all) (hR : 1 ≤ R.frames ∧ 22 ≤ R.locals) (hW : (st.map fun v => v.category).sum ≤ 8) {n' : Nat} (hn : pc + 3 = n') (k9 : Wx p l e R s m args below meth c own cc nL G Q n' L (.ref (G.2.2.2 12) :: st) M cb sb) : Wx p l e R s m args below meth c own cc nL G Q pc L (.ref a :: st) M cb sb := fun C H locs ls cells slots hl hm hs z1 z2 => va_getC C.1 C.2.1 (by rw [C.2.2.1]; exact hl.1.symm) C.2.2.2.1 (C.2.2.2.2.1 _ ql) (va_Nw.use rfl (C.2.2.2.2.2.2.2.2.2.2.2.2.2.2.1 _ qd)) (C.2.2.2.2.1 _ qs) (C.2.2.2.2.1 _ qi) (C.2.2.2.2.1 _ qn) C.2.2.2.2.2.2.2.2.2.2.2.2.2.2.2.2.2.2.2.2.2.2.2.2.2.2 (k_rcv (K := 125) C.2.2.2.2.2.2.2 hm hs hk) hR.1 (by omega) d (by subst hn; exact k9 C H locs ls cells slots hl hm hs z1 z2)
theorem x_ldcM {idx : Nat} (q : Cond.classLink own idx "[Ljava/lang/Object;" ∈ lw_all) (d : decode cc pc = .ok (.ldc idx, 2)) {n' : Nat} (hn : pc + 2 = n') (k9 : Wx p l e R s m args below meth c own cc nL G Q n' L (.ref (G.2.2.2 12) :: st) M cb sb) : Wx p l e R s m args below meth c own cc nL G Q pc L st M cb sb := fun C H locs ls cells slots hl hm hs z1 z2 => va_ldcM C.1 C.2.1 C.2.2.2.1 (C.2.2.2.2.1 _ q) C.2.2.2.2.2.2.2.2.2.2.2.2.2.2.2.2.2.2.2.2.2.2.2.2.2.2 d (by subst hn; exact k9 C H locs ls cells slots hl hm hs z1 z2)
end WC
