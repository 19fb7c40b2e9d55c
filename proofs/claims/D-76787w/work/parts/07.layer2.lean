/-! ===== THE LAYER Wx, second half: heap rows, calls, contracts (written by gen/mklayer2.py) ===== -/
set_option maxRecDepth 100000
theorem k_dv : ∀ K, okK K → ∀ k, k < cN K → defaultValue (cY K k) = (if (cY K k).isReference = true then .null else .int 0) := by
  intro K h
  simp only [okK, kKs, List.mem_cons, List.not_mem_nil, or_false] at h
  rcases h with rfl | rfl | rfl | rfl | rfl | rfl | rfl | rfl | rfl | rfl | rfl | rfl | rfl | rfl | rfl | rfl | rfl | rfl | rfl | rfl | rfl | rfl | rfl | rfl | rfl | rfl | rfl | rfl | rfl | rfl | rfl | rfl | rfl | rfl
  · intro k _; simp only [cY, tyX0]; split <;> rfl
  · intro k _; simp only [cY, tyX1]; split <;> rfl
  · intro k _; simp only [cY, tyX2]; split <;> rfl
  · intro k _; rfl
  · intro k _; rfl
  · intro k _; rfl
  · intro k _; simp only [cY, tyX7]; split <;> rfl
  · intro k _; rfl
  · intro k _; simp only [cY, tyX9]; split <;> rfl
  · intro k _; simp only [cY, tyX10]; split <;> rfl
  · intro k _; simp only [cY, tyX11]; split <;> rfl
  · intro k _; simp only [cY, tyX12]; split <;> rfl
  · intro k _; simp only [cY, tyX13]; split <;> rfl
  · intro k _; simp only [cY, tyX14]; split <;> rfl
  · intro k _; simp only [cY, tyX15]; split <;> rfl
  · intro k _; simp only [cY, tyX19]; split <;> rfl
  · intro k _; simp only [cY, tyX20]; split <;> rfl
  · intro k _; simp only [cY, tyX22]; split <;> rfl
  · intro k _; simp only [cY, tyX23]; split <;> rfl
  · intro k _; simp only [cY, tyX24]; split <;> rfl
  · intro k _; simp only [cY, tyX25]; split <;> rfl
  · intro k _; simp only [cY, tyX26]; split <;> rfl
  · intro k _; simp only [cY, tyJ1]; split <;> rfl
  · intro k _; simp only [cY, tyJ5]; split <;> rfl
  · intro k _; simp only [cY, tyJ6]; split <;> rfl
  · intro k _; rfl
  · intro k _; simp only [cY, tyJ29]; split <;> rfl
  · intro k _; simp only [cY, tyJ36]; split <;> rfl
  · intro k _; simp only [cY, tyJ37]; split <;> rfl
  · intro k _; simp only [cY, tyJ38]; split <;> rfl
  · intro k _; simp only [cY, tyJ42]; split <;> rfl
  · intro k _; simp only [cY, tyJ44]; split <;> rfl
  · intro k _; simp only [cY, tyJ48]; split <;> rfl
  · intro k _; rfl
def kSame (M M' : kM) (b : Nat) : Prop := (∀ c, mI M' c b = mI M c b) ∧ (∀ c, mR M' c b = mR M c b) ∧ mN M' b = mN M b ∧ mA M' b = mA M b ∧ mL M' b = mL M b ∧ mO M' b = mO M b
theorem fv_same {M M' : kM} {K k b : Nat} (h : kSame M M' b) : fv M' K k b = fv M K k b := by
  unfold fv
  rw [h.1, h.2.1]
theorem acell_same {G : kG} {M M' : kM} {K b : Nat} (h : kSame M M' b) : acell G M' b K = acell G M b K := by
  unfold acell
  rw [h.2.2.1, h.2.2.2.1, h.2.2.2.2.1, h.2.2.2.2.2]
theorem hE.keep {G : kG} {M M' : kM} {H H' : Heap} {b K : Nat} (h : hE G M H b K) (hs : kSame M M' b) (hq : H'[b]? = H[b]?) : hE G M' H' b K := by
  obtain ⟨h1, h2, h3⟩ := h
  refine ⟨fun k => ?_, fun k k2 => ?_, h3⟩
  · obtain ⟨a1, a2, a3⟩ := h1 k
    exact ⟨a1, a2, (a3.kept hq).to (fun j _ => (fv_same hs).symm)⟩
  · obtain ⟨a1, a2, a3⟩ := h2 k k2
    exact ⟨a1, a2, by rw [hq, acell_same hs]; exact a3⟩
theorem hE.lt {G : kG} {M : kM} {H : Heap} {b K : Nat} (h : hE G M H b K) (hB : G.2.2.1.1 ≤ H.size) : b < H.size := by
  obtain ⟨h1, h2, h3⟩ := h
  by_cases k : K < 120
  · obtain ⟨-, -, cell, q, -⟩ := h1 k
    exact (Array.getElem?_eq_some_iff.mp q).1
  · by_cases k2 : K < 200
    · exact (Array.getElem?_eq_some_iff.mp (h2 (by omega) k2).2.2).1
    · have := (h3 (by omega)).1
      omega
theorem Hm.set {G : kG} {M M' : kM} {H H' : Heap} {a : Nat} (hm : Hm G M H) (o : ∀ q : Nat, q ≠ a → H'[q]? = H[q]?) (hk : mK M' = mK M) (hb : ∀ b, b ≠ a → kSame M M' b) (ha : ∀ K, mK M a = some K → hE G M' H' a K) : Hm G M' H' := by
  intro b K hbK
  rw [hk] at hbK
  by_cases e : b = a
  · subst e
    exact ha K hbK
  · exact (hm b K hbK).keep (hb b e) (o b e)
theorem Hm.push {G : kG} {M M' : kM} {H H' : Heap} {a K0 : Nat} (hm : Hm G M H) (hB : G.2.2.1.1 ≤ H.size) (hz : H.size = a) (o : ∀ q : Nat, q < a → H'[q]? = H[q]?) (hk : mK M' = va_up (mK M) a (some K0)) (hb : ∀ b, b ≠ a → kSame M M' b) (ha : hE G M' H' a K0) : Hm G M' H' := by
  intro b K hbK
  rw [hk] at hbK
  by_cases e : b = a
  · subst e
    rw [va_up_self] at hbK
    cases hbK
    exact ha
  · rw [va_up_ne _ _ e] at hbK
    have hl := (hm b K hbK).lt hB
    exact (hm b K hbK).keep (hb b e) (o b (by omega))
theorem Hm.fresh {G : kG} {M : kM} {H : Heap} (hm : Hm G M H) (hB : G.2.2.1.1 ≤ H.size) : mK M H.size = none := by
  cases h : mK M H.size with
  | none => rfl
  | some K =>
    have := (hm _ K h).lt hB
    omega
theorem sI_same {M : kM} {c a b : Nat} {v : Int32} (h : b ≠ a) : kSame M (sI M c a v) b := ⟨fun _ => u2_a h, fun _ => rfl, rfl, rfl, rfl, rfl⟩
theorem sR_same {M : kM} {c a b : Nat} {v : Option Nat} (h : b ≠ a) : kSame M (sR M c a v) b := ⟨fun _ => rfl, fun _ => u2_a h, rfl, rfl, rfl, rfl⟩
theorem sA_same {M : kM} {a b : Nat} {f : Nat → Int32} (h : b ≠ a) : kSame M (sA M a f) b := ⟨fun _ => rfl, fun _ => rfl, rfl, va_up_ne _ _ h, rfl, rfl⟩
theorem sL_same {M : kM} {a b : Nat} {f : Nat → Int64} (h : b ≠ a) : kSame M (sL M a f) b := ⟨fun _ => rfl, fun _ => rfl, rfl, rfl, va_up_ne _ _ h, rfl⟩
theorem sO_same {M : kM} {a b : Nat} {f : Nat → Option Nat} (h : b ≠ a) : kSame M (sO M a f) b := ⟨fun _ => rfl, fun _ => rfl, rfl, rfl, rfl, va_up_ne _ _ h⟩
theorem nO_same {M : kM} {a K b : Nat} (h : b ≠ a) : kSame M (nO M a K) b := ⟨fun _ => if_neg h, fun _ => if_neg h, rfl, rfl, rfl, rfl⟩
theorem nA_same {M : kM} {a K n b : Nat} (h : b ≠ a) : kSame M (nA M a K n) b := ⟨fun _ => rfl, fun _ => rfl, va_up_ne _ _ h, va_up_ne _ _ h, va_up_ne _ _ h, va_up_ne _ _ h⟩
theorem kE_nO {M : kM} {a K : Nat} (h : mK M a = none) : kE M (nO M a K) := fun b K' hb => by
  have e : b ≠ a := fun e => by subst e; rw [h] at hb; cases hb
  exact (va_up_ne _ _ e).trans hb
theorem kE_nA {M : kM} {a K n : Nat} (h : mK M a = none) : kE M (nA M a K n) := fun b K' hb => by
  have e : b ≠ a := fun e => by subst e; rw [h] at hb; cases hb
  exact (va_up_ne _ _ e).trans hb
theorem mK_nO {M : kM} {a K : Nat} : mK (nO M a K) a = some K := va_up_self _ _ _
theorem mK_nA {M : kM} {a K n : Nat} : mK (nA M a K n) a = some K := va_up_self _ _ _
/-- a field's link, from a class by an index -/
def FF (own : String) (idx K k : Nat) (ref : String) : Prop := okK K ∧ k < cN K ∧ Cond.fieldLink own idx ref (cT K k).2.1 (cT K k).2.2.1 ∈ lw_all ∧ (ref = (cT K k).1 ∨ Cond.sameField ref (cT K k).1 (cT K k).2.1 (cT K k).2.2.1 ∈ lw_all)
def FFN (own : String) (idx K k : Nat) (ref host : String) : Prop := okK K ∧ k < cN K ∧ Cond.fieldLinkNest own idx ref (cT K k).2.1 (cT K k).2.2.1 host ∈ lw_tbl ∧ ref = (cT K k).1
theorem k_fc {K j k : Nat} (h : j ≠ k) : fc K j ≠ fc K k := by unfold fc; omega
theorem kKn {G : kG} {U : State} {H : Heap} {K : Nat} (h : GS G U H) (hK : okK K) : va_K (fun _ => G.1.1 K, fun _ => G.1.2 K) [(cC K, cT K, cN K)] [] U := by
  refine ⟨fun c q hq => ?_, fun k q hq => by simp at hq⟩
  have hz : c < 1 := (List.getElem?_eq_some_iff.mp hq).1
  rw [show c = 0 by omega] at hq
  cases hq
  exact h.1 K hK
theorem kKa {G : kG} {U : State} {H : Heap} {K : Nat} (h : GS G U H) (h1 : 120 ≤ K) (h2 : K < 128) (D : va_G) : va_K D [] [(G.2.1 K, aty K)] U := by
  refine ⟨fun c q hq => by simp at hq, fun k q hq => ?_⟩
  have hz : k < 1 := (List.getElem?_eq_some_iff.mp hq).1
  rw [show k = 0 by omega] at hq
  cases hq
  exact h.2.1 K h1 h2
/-- the class of what stands at an address of a kind -/
theorem k_rcv {G : kG} {U : State} {H0 H : Heap} {locs : List Loc} {M : kM} {a K : Nat} (hG : GS G U H0) (hm : Hm G M H) (hS : va_S (kA G) H0 H locs) (hk : mK M a = some K) : ∃ cell : Cell, H[a]? = some cell ∧ cell.vm.isStatics = false ∧ U.vm.findClass (kname K) = some cell.cls := by
  have kp : ∀ q : Nat, q < H0.size → ¬ kA G q → H[q]? = H0[q]? := hS.2.1
  obtain ⟨h1, h2, h3⟩ := hm a K hk
  by_cases k : K < 120
  · obtain ⟨ho, -, cell, q1, q2, q3, -⟩ := h1 k
    exact ⟨cell, q1, by rw [q3]; rfl, by rw [q2, k_nameK K ho]; exact (hG.1 K ho).2.1⟩
  · by_cases k2 : K < 200
    · obtain ⟨k3, -, q⟩ := h2 (by omega) k2
      have ra := (hG.2.1 K (by omega) k3).2
      have hvm : (acell G M a K).vm = .none := by
        unfold acell; split
        · rfl
        · split <;> rfl
      have hcl : (acell G M a K).cls = G.2.1 K := by
        unfold acell; split
        · rfl
        · split <;> rfl
      refine ⟨_, q, by rw [hvm]; rfl, ?_⟩
      rw [hcl]
      have hK : K = 120 ∨ K = 121 ∨ K = 122 ∨ K = 123 ∨ K = 124 ∨ K = 125 ∨ K = 126 ∨ K = 127 := by omega
      rcases hK with rfl | rfl | rfl | rfl | rfl | rfl | rfl | rfl
      · exact ra
      · exact ra
      · exact ra
      · exact ra
      · exact ra
      · obtain ⟨_, _, _, _, _, r⟩ := ra; exact r
      · obtain ⟨_, _, _, _, _, r⟩ := ra; exact r
      · obtain ⟨_, _, _, _, _, r⟩ := ra; exact r
    · obtain ⟨-, c1, c2, c3, c5⟩ := h3 (by omega)
      have fin : ∀ {E : String} {t : Nat}, va_O E t (kA G) U H0 → a = t → kname K = E → ∃ cell : Cell, H[a]? = some cell ∧ cell.vm.isStatics = false ∧ U.vm.findClass (kname K) = some cell.cls := by
        intro E t hO e1 e2
        obtain ⟨cell, q1, q2, q3, -⟩ := hO.kept kp
        exact ⟨cell, by rw [e1]; exact q1, q2, by rw [e2]; exact q3⟩
      have hK : K = 200 ∨ K = 201 ∨ K = 202 ∨ K = 203 ∨ K = 204 ∨ K = 205 ∨ K = 206 ∨ K = 207 ∨ K = 208 := by omega
      rcases hK with rfl | rfl | rfl | rfl | rfl | rfl | rfl | rfl | rfl
      · exact fin (hG.2.2.2.2.2.2.2.2.2.2.1 0 _ rfl) (c1 (by omega)) rfl
      · exact fin (hG.2.2.2.2.2.2.2.2.2.2.1 1 _ rfl) (c1 (by omega)) rfl
      · exact fin (hG.2.2.2.2.2.2.2.2.2.2.1 2 _ rfl) (c1 (by omega)) rfl
      · exact fin (hG.2.2.2.2.2.2.2.2.2.2.1 3 _ rfl) (c1 (by omega)) rfl
      · exact fin (hG.2.2.2.2.2.2.2.2.2.2.1 4 _ rfl) (c1 (by omega)) rfl
      · exact fin (hG.2.2.2.2.2.2.2.2.2.2.1 5 _ rfl) (c1 (by omega)) rfl
      · exact fin hG.2.2.2.2.2.2.2.2.2.2.2.2.2.2.2.2.2.2.1 (c1 (by omega)) rfl
      · obtain ⟨j, hj, e⟩ := c2 rfl
        exact fin (hG.2.2.2.2.2.2.2.2.2.2.2.2.2.1.1 j hj) e rfl
      · exact fin (hG.2.2.2.2.2.2.2.2.2.2.2.2.2.2.2.1.1 0 (by omega)).1 (c3 rfl) rfl
/-- the receiver's class, where it is one of ours -/
theorem k_cls {G : kG} {U : State} {H : Heap} {K : Nat} (hG : GS G U H) (hK : okK K) : ClassAt U (kname K) (G.1.1 K) := by
  rw [k_nameK K hK]
  exact (hG.1 K hK).2
section WY
variable {p : Program} {l : Launch} {e : Env} {R : Room} {s : State} {m : MethodId} {args : Array Value} {below : List Frame} {meth : Method} {c : Code} {own : String} {cc : ByteArray} {nL : Nat} {G : kG} {Q : State → Prop}
variable {pc : Nat} {L : List (Option Value)} {st : List Value} {M : kM} {cb sb : Nat}
theorem va_S.sz {A : Nat → Prop} {H0 H : Heap} {locs : List Loc} (h : va_S A H0 H locs) : H0.size ≤ H.size := h.1
theorem va_S.grow {A : Nat → Prop} {H0 H H1 : Heap} {locs : List Loc} (h : va_S A H0 H locs) (z : H.size ≤ H1.size) (o : ∀ q : Nat, q < H.size → H1[q]? = H[q]?) : va_S A H0 H1 locs := ⟨Nat.le_trans h.1 z, fun q h1 h2 => (o q (Nat.lt_of_lt_of_le h1 h.1)).trans (h.2.1 q h1 h2), h.2.2⟩
theorem x_getI {a K k idx : Nat} {ref : String} (d : decode cc pc = .ok (.getfield idx, 3)) (hk : mK M a = some K) (hf : FF own idx K k ref) (ht : (cY K k).isReference = false) {n' : Nat} (hn : pc + 3 = n') (k9 : Wx p l e R s m args below meth c own cc nL G Q n' L (.int (mI M (fc K k) a) :: st) M cb sb) : Wx p l e R s m args below meth c own cc nL G Q pc L (.ref a :: st) M cb sb := by
  intro C H locs ls cells slots hl hm hs z1 z2
  obtain ⟨ho, hB, cell, g1, g2, g3, g4⟩ := (hm a K hk).1 (k_lt K hf.1).1
  obtain ⟨hS, hfc, kC, hkC, hkind⟩ := C.2.2.2.2.2.2.2.1 K hf.1
  obtain ⟨cf, kf, fi, f, hi, hsl⟩ := hS k hf.2.1
  have hsame : s.fieldFound? ref (cT K k).2.1 (cT K k).2.2.1 = some (cf, kf, fi, f) := by
    rcases hf.2.2.2 with e | e
    · rw [e]; exact hi
    · exact u_same (C.2.2.2.2.1 _ e) _ hi
  refine W.getf C.1 C.2.1 C.2.2.2.1 (C.2.2.2.2.1 _ hf.2.2.1) hsame (u_facts hfc hkC (u_lays C.2.2.2.2.1 (k_in K hf.1) hf.2.1) hi).1 g1 (by rw [g3]; exact fun h => by cases h) (v := .int (mI M (fc K k) a)) ?_ rfl rfl d (by subst hn; exact k9 C H locs ls cells slots hl hm hs z1 z2)
  · rw [hsl, g4 k hf.2.1]
    show some (fv M K k a) = _
    unfold fv
    rw [if_neg (by rw [ht]; decide)]
theorem x_getR {a K k idx : Nat} {ref : String} (d : decode cc pc = .ok (.getfield idx, 3)) (hk : mK M a = some K) (hf : FF own idx K k ref) (ht : (cY K k).isReference = true) {n' : Nat} (hn : pc + 3 = n') (k9 : Wx p l e R s m args below meth c own cc nL G Q n' L (va_rf (mR M (fc K k) a) :: st) M cb sb) : Wx p l e R s m args below meth c own cc nL G Q pc L (.ref a :: st) M cb sb := by
  intro C H locs ls cells slots hl hm hs z1 z2
  obtain ⟨ho, hB, cell, g1, g2, g3, g4⟩ := (hm a K hk).1 (k_lt K hf.1).1
  obtain ⟨hS, hfc, kC, hkC, hkind⟩ := C.2.2.2.2.2.2.2.1 K hf.1
  obtain ⟨cf, kf, fi, f, hi, hsl⟩ := hS k hf.2.1
  have hsame : s.fieldFound? ref (cT K k).2.1 (cT K k).2.2.1 = some (cf, kf, fi, f) := by
    rcases hf.2.2.2 with e | e
    · rw [e]; exact hi
    · exact u_same (C.2.2.2.2.1 _ e) _ hi
  refine W.getf C.1 C.2.1 C.2.2.2.1 (C.2.2.2.2.1 _ hf.2.2.1) hsame (u_facts hfc hkC (u_lays C.2.2.2.2.1 (k_in K hf.1) hf.2.1) hi).1 g1 (by rw [g3]; exact fun h => by cases h) (v := va_rf (mR M (fc K k) a)) ?_ rfl rfl d (by subst hn; exact k9 C H locs ls cells slots hl hm hs z1 z2)
  · rw [hsl, g4 k hf.2.1]
    show some (fv M K k a) = _
    unfold fv
    rw [if_pos ht]
theorem x_getIN {a K k idx : Nat} {ref : String} {host : String} (d : decode cc pc = .ok (.getfield idx, 3)) (hk : mK M a = some K) (hf : FFN own idx K k ref host) (ht : (cY K k).isReference = false) {n' : Nat} (hn : pc + 3 = n') (k9 : Wx p l e R s m args below meth c own cc nL G Q n' L (.int (mI M (fc K k) a) :: st) M cb sb) : Wx p l e R s m args below meth c own cc nL G Q pc L (.ref a :: st) M cb sb := by
  intro C H locs ls cells slots hl hm hs z1 z2
  obtain ⟨ho, hB, cell, g1, g2, g3, g4⟩ := (hm a K hk).1 (k_lt K hf.1).1
  obtain ⟨hS, hfc, kC, hkC, hkind⟩ := C.2.2.2.2.2.2.2.1 K hf.1
  obtain ⟨cf, kf, fi, f, hi, hsl⟩ := hS k hf.2.1
  have hsame : s.fieldFound? ref (cT K k).2.1 (cT K k).2.2.1 = some (cf, kf, fi, f) := by
    rw [hf.2.2.2]; exact hi
  refine va_Wgetf C.1 C.2.1 C.2.2.2.1 (va_Nw.use rfl (C.2.2.2.2.2.2.2.2.2.2.2.1 _ _ _ _ _ _ hf.2.2.1)) hsame (u_facts hfc hkC (u_lays C.2.2.2.2.1 (k_in K hf.1) hf.2.1) hi).1 g1 (by rw [g3]; exact fun h => by cases h) (v := .int (mI M (fc K k) a)) ?_ rfl rfl d (by subst hn; exact k9 C H locs ls cells slots hl hm hs z1 z2)
  · rw [hsl, g4 k hf.2.1]
    show some (fv M K k a) = _
    unfold fv
    rw [if_neg (by rw [ht]; decide)]
theorem x_getRN {a K k idx : Nat} {ref : String} {host : String} (d : decode cc pc = .ok (.getfield idx, 3)) (hk : mK M a = some K) (hf : FFN own idx K k ref host) (ht : (cY K k).isReference = true) {n' : Nat} (hn : pc + 3 = n') (k9 : Wx p l e R s m args below meth c own cc nL G Q n' L (va_rf (mR M (fc K k) a) :: st) M cb sb) : Wx p l e R s m args below meth c own cc nL G Q pc L (.ref a :: st) M cb sb := by
  intro C H locs ls cells slots hl hm hs z1 z2
  obtain ⟨ho, hB, cell, g1, g2, g3, g4⟩ := (hm a K hk).1 (k_lt K hf.1).1
  obtain ⟨hS, hfc, kC, hkC, hkind⟩ := C.2.2.2.2.2.2.2.1 K hf.1
  obtain ⟨cf, kf, fi, f, hi, hsl⟩ := hS k hf.2.1
  have hsame : s.fieldFound? ref (cT K k).2.1 (cT K k).2.2.1 = some (cf, kf, fi, f) := by
    rw [hf.2.2.2]; exact hi
  refine va_Wgetf C.1 C.2.1 C.2.2.2.1 (va_Nw.use rfl (C.2.2.2.2.2.2.2.2.2.2.2.1 _ _ _ _ _ _ hf.2.2.1)) hsame (u_facts hfc hkC (u_lays C.2.2.2.2.1 (k_in K hf.1) hf.2.1) hi).1 g1 (by rw [g3]; exact fun h => by cases h) (v := va_rf (mR M (fc K k) a)) ?_ rfl rfl d (by subst hn; exact k9 C H locs ls cells slots hl hm hs z1 z2)
  · rw [hsl, g4 k hf.2.1]
    show some (fv M K k a) = _
    unfold fv
    rw [if_pos ht]
theorem x_getRs {a K k idx b : Nat} {ref : String} (d : decode cc pc = .ok (.getfield idx, 3)) (hk : mK M a = some K) (hf : FF own idx K k ref) (ht : (cY K k).isReference = true) (hr : mR M (fc K k) a = some b) {n' : Nat} (hn : pc + 3 = n') (k9 : Wx p l e R s m args below meth c own cc nL G Q n' L (.ref b :: st) M cb sb) : Wx p l e R s m args below meth c own cc nL G Q pc L (.ref a :: st) M cb sb := x_getR d hk hf ht hn (by rw [hr]; exact k9)
theorem x_getRn {a K k idx : Nat} {ref : String} (d : decode cc pc = .ok (.getfield idx, 3)) (hk : mK M a = some K) (hf : FF own idx K k ref) (ht : (cY K k).isReference = true) (hr : mR M (fc K k) a = none) {n' : Nat} (hn : pc + 3 = n') (k9 : Wx p l e R s m args below meth c own cc nL G Q n' L (.null :: st) M cb sb) : Wx p l e R s m args below meth c own cc nL G Q pc L (.ref a :: st) M cb sb := x_getR d hk hf ht hn (by rw [hr]; exact k9)
theorem x_getRc {a K k idx : Nat} {ref : String} (d : decode cc pc = .ok (.getfield idx, 3)) (hk : mK M a = some K) (hf : FF own idx K k ref) (ht : (cY K k).isReference = true) {n' : Nat} (hn : pc + 3 = n') (kn : mR M (fc K k) a = none → Wx p l e R s m args below meth c own cc nL G Q n' L (.null :: st) M cb sb) (ks : ∀ b, mR M (fc K k) a = some b → Wx p l e R s m args below meth c own cc nL G Q n' L (.ref b :: st) M cb sb) : Wx p l e R s m args below meth c own cc nL G Q pc L (.ref a :: st) M cb sb := x_getR d hk hf ht hn (by cases hr : mR M (fc K k) a with
  | none => exact kn hr
  | some b => exact ks b hr)
theorem x_getRNs {a K k idx b : Nat} {ref : String} {host : String} (d : decode cc pc = .ok (.getfield idx, 3)) (hk : mK M a = some K) (hf : FFN own idx K k ref host) (ht : (cY K k).isReference = true) (hr : mR M (fc K k) a = some b) {n' : Nat} (hn : pc + 3 = n') (k9 : Wx p l e R s m args below meth c own cc nL G Q n' L (.ref b :: st) M cb sb) : Wx p l e R s m args below meth c own cc nL G Q pc L (.ref a :: st) M cb sb := x_getRN d hk hf ht hn (by rw [hr]; exact k9)
theorem x_getRNn {a K k idx : Nat} {ref : String} {host : String} (d : decode cc pc = .ok (.getfield idx, 3)) (hk : mK M a = some K) (hf : FFN own idx K k ref host) (ht : (cY K k).isReference = true) (hr : mR M (fc K k) a = none) {n' : Nat} (hn : pc + 3 = n') (k9 : Wx p l e R s m args below meth c own cc nL G Q n' L (.null :: st) M cb sb) : Wx p l e R s m args below meth c own cc nL G Q pc L (.ref a :: st) M cb sb := x_getRN d hk hf ht hn (by rw [hr]; exact k9)
theorem x_getRNc {a K k idx : Nat} {ref : String} {host : String} (d : decode cc pc = .ok (.getfield idx, 3)) (hk : mK M a = some K) (hf : FFN own idx K k ref host) (ht : (cY K k).isReference = true) {n' : Nat} (hn : pc + 3 = n') (kn : mR M (fc K k) a = none → Wx p l e R s m args below meth c own cc nL G Q n' L (.null :: st) M cb sb) (ks : ∀ b, mR M (fc K k) a = some b → Wx p l e R s m args below meth c own cc nL G Q n' L (.ref b :: st) M cb sb) : Wx p l e R s m args below meth c own cc nL G Q pc L (.ref a :: st) M cb sb := x_getRN d hk hf ht hn (by cases hr : mR M (fc K k) a with
  | none => exact kn hr
  | some b => exact ks b hr)
theorem k_nr {ty : FieldType} {v : Option Nat} (h : ty.isReference = true) : narrow ty (va_rf v) = va_rf v := by
  cases v <;> cases ty <;> first | rfl | (simp [FieldType.isReference] at h)
theorem k_ft {ty : FieldType} {v : Option Nat} (h : ty.isReference = true) : fits ty (va_rf v) = true := by
  cases v <;> cases ty <;> first | rfl | (simp [FieldType.isReference] at h)
theorem x_putI {a K k idx : Nat} {ref : String} {v : Int32} (d : decode cc pc = .ok (.putfield idx, 3)) (hk : mK M a = some K) (hf : FF own idx K k ref) (ht : (cY K k).isReference = false) (hv : narrow (cY K k) (.int v) = .int v ∧ fits (cY K k) (.int v) = true) (hfin : (cT K k).2.2.2 = false) {n' : Nat} (hn : pc + 3 = n') (k9 : Wx p l e R s m args below meth c own cc nL G Q n' L st (sI M (fc K k) a v) cb sb) : Wx p l e R s m args below meth c own cc nL G Q pc L (Value.int v :: .ref a :: st) M cb sb := by
  intro C H locs ls cells slots hl hm hs z1 z2
  obtain ⟨ho, hB, cell, g1, g2, g3, g4⟩ := (hm a K hk).1 (k_lt K hf.1).1
  have hap := va_apart (own := own) C.2.2.2.2.1 (k_in K hf.1) (cY K) (k_ty K hf.1) (k_nm K hf.1) (kKn C.2.2.2.2.2.2.2 hf.1) (ci := 0) rfl
  obtain ⟨hS, hfc, kC, hkC, hkind⟩ := C.2.2.2.2.2.2.2.1 K hf.1
  obtain ⟨cf, kf, fi, f, hi, hsl⟩ := hS k hf.2.1
  have hsame : s.fieldFound? ref (cT K k).2.1 (cT K k).2.2.1 = some (cf, kf, fi, f) := by
    rcases hf.2.2.2 with e | e
    · rw [e]; exact hi
    · exact u_same (C.2.2.2.2.1 _ e) _ hi
  have hst := (u_facts hfc hkC (u_lays C.2.2.2.2.1 (k_in K hf.1) hf.2.1) hi).1
  have hlay := C.2.2.2.2.1 _ (k_in K hf.1 _ (u_in_lay hf.2.1))
  unfold u_lay at hlay
  rw [if_neg (by rw [hfin]; decide)] at hlay
  have h6 := u_store hfc hkC hkind hlay hi (k_ty K hf.1 k hf.2.1) hv.1 hv.2
  refine W.putK C.1 C.2.1 (f := f) ⟨C.2.2.2.1, (C.2.2.2.2.1 _ hf.2.2.1), ⟨_, _, _, hsame⟩, hst⟩ (by rw [g2]; exact h6) g1 g3 (by rw [hsl]; exact k2_hasslot (g4 k hf.2.1)) rfl rfl d fun H' e1 e2 e3 => ?_
  rw [hsl] at e1 ⊢
  subst hn
  refine k9 C H' _ ls cells slots hl (hm.set e3 rfl (fun b hb => sI_same hb) (fun K' hK' => ?_)) (hs.put e2 e3 hB) z1 z2
  cases hK'.symm.trans hk
  refine ⟨fun _ => ⟨ho, hB, _, e1, g2, g3, fun j hj => ?_⟩, fun q => absurd (k_lt K hf.1).1 (by omega), fun q => absurd (k_lt K hf.1).1 (by omega)⟩
  have e9 := t_set (V := fun k => fv M K k a) g4 hap hf.2.1 (Value.int v) j hj
  refine e9.trans (congrArg some ?_)
  by_cases hj : j = k
  · subst hj
    show updV _ j (.int v) j = fv (sI M (fc K j) a v) K j a
    unfold fv
    rw [if_neg (by rw [ht]; decide)]
    show (if j = j then (.int v : Value) else _) = .int (u2 (mI M) (fc K j) a v (fc K j) a)
    rw [if_pos rfl, u2_s]
  · show (if j = k then _ else fv M K j a) = fv (sI M (fc K k) a v) K j a
    rw [if_neg hj]
    unfold fv
    show (if _ then va_rf (mR M (fc K j) a) else .int (mI M (fc K j) a)) = (if _ then va_rf (mR M (fc K j) a) else .int (u2 (mI M) (fc K k) a v (fc K j) a))
    rw [u2_c (k_fc hj)]
theorem x_putR {a K k idx : Nat} {ref : String} {v : Option Nat} (d : decode cc pc = .ok (.putfield idx, 3)) (hk : mK M a = some K) (hf : FF own idx K k ref) (ht : (cY K k).isReference = true) (hfin : (cT K k).2.2.2 = false) {n' : Nat} (hn : pc + 3 = n') (k9 : Wx p l e R s m args below meth c own cc nL G Q n' L st (sR M (fc K k) a v) cb sb) : Wx p l e R s m args below meth c own cc nL G Q pc L (va_rf v :: .ref a :: st) M cb sb := by
  intro C H locs ls cells slots hl hm hs z1 z2
  obtain ⟨ho, hB, cell, g1, g2, g3, g4⟩ := (hm a K hk).1 (k_lt K hf.1).1
  have hap := va_apart (own := own) C.2.2.2.2.1 (k_in K hf.1) (cY K) (k_ty K hf.1) (k_nm K hf.1) (kKn C.2.2.2.2.2.2.2 hf.1) (ci := 0) rfl
  obtain ⟨hS, hfc, kC, hkC, hkind⟩ := C.2.2.2.2.2.2.2.1 K hf.1
  obtain ⟨cf, kf, fi, f, hi, hsl⟩ := hS k hf.2.1
  have hsame : s.fieldFound? ref (cT K k).2.1 (cT K k).2.2.1 = some (cf, kf, fi, f) := by
    rcases hf.2.2.2 with e | e
    · rw [e]; exact hi
    · exact u_same (C.2.2.2.2.1 _ e) _ hi
  have hst := (u_facts hfc hkC (u_lays C.2.2.2.2.1 (k_in K hf.1) hf.2.1) hi).1
  have hlay := C.2.2.2.2.1 _ (k_in K hf.1 _ (u_in_lay hf.2.1))
  unfold u_lay at hlay
  rw [if_neg (by rw [hfin]; decide)] at hlay
  have h6 := u_store hfc hkC hkind hlay hi (k_ty K hf.1 k hf.2.1) (k_nr (v := v) ht) (k_ft (v := v) ht)
  refine W.putK C.1 C.2.1 (f := f) ⟨C.2.2.2.1, (C.2.2.2.2.1 _ hf.2.2.1), ⟨_, _, _, hsame⟩, hst⟩ (by rw [g2]; exact h6) g1 g3 (by rw [hsl]; exact k2_hasslot (g4 k hf.2.1)) rfl rfl d fun H' e1 e2 e3 => ?_
  rw [hsl] at e1 ⊢
  subst hn
  refine k9 C H' _ ls cells slots hl (hm.set e3 rfl (fun b hb => sR_same hb) (fun K' hK' => ?_)) (hs.put e2 e3 hB) z1 z2
  cases hK'.symm.trans hk
  refine ⟨fun _ => ⟨ho, hB, _, e1, g2, g3, fun j hj => ?_⟩, fun q => absurd (k_lt K hf.1).1 (by omega), fun q => absurd (k_lt K hf.1).1 (by omega)⟩
  have e9 := t_set (V := fun k => fv M K k a) g4 hap hf.2.1 (va_rf v) j hj
  refine e9.trans (congrArg some ?_)
  by_cases hj : j = k
  · subst hj
    show updV _ j (va_rf v) j = fv (sR M (fc K j) a v) K j a
    unfold fv
    rw [if_pos ht]
    show (if j = j then (va_rf v : Value) else _) = va_rf (u2 (mR M) (fc K j) a v (fc K j) a)
    rw [if_pos rfl, u2_s]
  · show (if j = k then _ else fv M K j a) = fv (sR M (fc K k) a v) K j a
    rw [if_neg hj]
    unfold fv
    show (if _ then va_rf (mR M (fc K j) a) else .int (mI M (fc K j) a)) = (if _ then va_rf (u2 (mR M) (fc K k) a v (fc K j) a) else .int (mI M (fc K j) a))
    rw [u2_c (k_fc hj)]
theorem x_putIN {a K k idx : Nat} {ref : String} {host : String} {v : Int32} (d : decode cc pc = .ok (.putfield idx, 3)) (hk : mK M a = some K) (hf : FFN own idx K k ref host) (ht : (cY K k).isReference = false) (hv : narrow (cY K k) (.int v) = .int v ∧ fits (cY K k) (.int v) = true) (hfin : (cT K k).2.2.2 = false) {n' : Nat} (hn : pc + 3 = n') (k9 : Wx p l e R s m args below meth c own cc nL G Q n' L st (sI M (fc K k) a v) cb sb) : Wx p l e R s m args below meth c own cc nL G Q pc L (Value.int v :: .ref a :: st) M cb sb := by
  intro C H locs ls cells slots hl hm hs z1 z2
  obtain ⟨ho, hB, cell, g1, g2, g3, g4⟩ := (hm a K hk).1 (k_lt K hf.1).1
  have hap := va_apart (own := own) C.2.2.2.2.1 (k_in K hf.1) (cY K) (k_ty K hf.1) (k_nm K hf.1) (kKn C.2.2.2.2.2.2.2 hf.1) (ci := 0) rfl
  obtain ⟨hS, hfc, kC, hkC, hkind⟩ := C.2.2.2.2.2.2.2.1 K hf.1
  obtain ⟨cf, kf, fi, f, hi, hsl⟩ := hS k hf.2.1
  have hsame : s.fieldFound? ref (cT K k).2.1 (cT K k).2.2.1 = some (cf, kf, fi, f) := by
    rw [hf.2.2.2]; exact hi
  have hst := (u_facts hfc hkC (u_lays C.2.2.2.2.1 (k_in K hf.1) hf.2.1) hi).1
  have hlay := C.2.2.2.2.1 _ (k_in K hf.1 _ (u_in_lay hf.2.1))
  unfold u_lay at hlay
  rw [if_neg (by rw [hfin]; decide)] at hlay
  have h6 := u_store hfc hkC hkind hlay hi (k_ty K hf.1 k hf.2.1) hv.1 hv.2
  refine va_WputK C.1 C.2.1 C.2.2.2.1 (va_Nw.use rfl (C.2.2.2.2.2.2.2.2.2.2.2.1 _ _ _ _ _ _ hf.2.2.1)) hsame hst (by rw [g2]; exact h6) g1 g3 (by rw [hsl]; exact k2_hasslot (g4 k hf.2.1)) rfl rfl d fun H' e1 e2 e3 => ?_
  rw [hsl] at e1 ⊢
  subst hn
  refine k9 C H' _ ls cells slots hl (hm.set e3 rfl (fun b hb => sI_same hb) (fun K' hK' => ?_)) (hs.put e2 e3 hB) z1 z2
  cases hK'.symm.trans hk
  refine ⟨fun _ => ⟨ho, hB, _, e1, g2, g3, fun j hj => ?_⟩, fun q => absurd (k_lt K hf.1).1 (by omega), fun q => absurd (k_lt K hf.1).1 (by omega)⟩
  have e9 := t_set (V := fun k => fv M K k a) g4 hap hf.2.1 (Value.int v) j hj
  refine e9.trans (congrArg some ?_)
  by_cases hj : j = k
  · subst hj
    show updV _ j (.int v) j = fv (sI M (fc K j) a v) K j a
    unfold fv
    rw [if_neg (by rw [ht]; decide)]
    show (if j = j then (.int v : Value) else _) = .int (u2 (mI M) (fc K j) a v (fc K j) a)
    rw [if_pos rfl, u2_s]
  · show (if j = k then _ else fv M K j a) = fv (sI M (fc K k) a v) K j a
    rw [if_neg hj]
    unfold fv
    show (if _ then va_rf (mR M (fc K j) a) else .int (mI M (fc K j) a)) = (if _ then va_rf (mR M (fc K j) a) else .int (u2 (mI M) (fc K k) a v (fc K j) a))
    rw [u2_c (k_fc hj)]
theorem x_putRN {a K k idx : Nat} {ref : String} {host : String} {v : Option Nat} (d : decode cc pc = .ok (.putfield idx, 3)) (hk : mK M a = some K) (hf : FFN own idx K k ref host) (ht : (cY K k).isReference = true) (hfin : (cT K k).2.2.2 = false) {n' : Nat} (hn : pc + 3 = n') (k9 : Wx p l e R s m args below meth c own cc nL G Q n' L st (sR M (fc K k) a v) cb sb) : Wx p l e R s m args below meth c own cc nL G Q pc L (va_rf v :: .ref a :: st) M cb sb := by
  intro C H locs ls cells slots hl hm hs z1 z2
  obtain ⟨ho, hB, cell, g1, g2, g3, g4⟩ := (hm a K hk).1 (k_lt K hf.1).1
  have hap := va_apart (own := own) C.2.2.2.2.1 (k_in K hf.1) (cY K) (k_ty K hf.1) (k_nm K hf.1) (kKn C.2.2.2.2.2.2.2 hf.1) (ci := 0) rfl
  obtain ⟨hS, hfc, kC, hkC, hkind⟩ := C.2.2.2.2.2.2.2.1 K hf.1
  obtain ⟨cf, kf, fi, f, hi, hsl⟩ := hS k hf.2.1
  have hsame : s.fieldFound? ref (cT K k).2.1 (cT K k).2.2.1 = some (cf, kf, fi, f) := by
    rw [hf.2.2.2]; exact hi
  have hst := (u_facts hfc hkC (u_lays C.2.2.2.2.1 (k_in K hf.1) hf.2.1) hi).1
  have hlay := C.2.2.2.2.1 _ (k_in K hf.1 _ (u_in_lay hf.2.1))
  unfold u_lay at hlay
  rw [if_neg (by rw [hfin]; decide)] at hlay
  have h6 := u_store hfc hkC hkind hlay hi (k_ty K hf.1 k hf.2.1) (k_nr (v := v) ht) (k_ft (v := v) ht)
  refine va_WputK C.1 C.2.1 C.2.2.2.1 (va_Nw.use rfl (C.2.2.2.2.2.2.2.2.2.2.2.1 _ _ _ _ _ _ hf.2.2.1)) hsame hst (by rw [g2]; exact h6) g1 g3 (by rw [hsl]; exact k2_hasslot (g4 k hf.2.1)) rfl rfl d fun H' e1 e2 e3 => ?_
  rw [hsl] at e1 ⊢
  subst hn
  refine k9 C H' _ ls cells slots hl (hm.set e3 rfl (fun b hb => sR_same hb) (fun K' hK' => ?_)) (hs.put e2 e3 hB) z1 z2
  cases hK'.symm.trans hk
  refine ⟨fun _ => ⟨ho, hB, _, e1, g2, g3, fun j hj => ?_⟩, fun q => absurd (k_lt K hf.1).1 (by omega), fun q => absurd (k_lt K hf.1).1 (by omega)⟩
  have e9 := t_set (V := fun k => fv M K k a) g4 hap hf.2.1 (va_rf v) j hj
  refine e9.trans (congrArg some ?_)
  by_cases hj : j = k
  · subst hj
    show updV _ j (va_rf v) j = fv (sR M (fc K j) a v) K j a
    unfold fv
    rw [if_pos ht]
    show (if j = j then (va_rf v : Value) else _) = va_rf (u2 (mR M) (fc K j) a v (fc K j) a)
    rw [if_pos rfl, u2_s]
  · show (if j = k then _ else fv M K j a) = fv (sR M (fc K k) a v) K j a
    rw [if_neg hj]
    unfold fv
    show (if _ then va_rf (mR M (fc K j) a) else .int (mI M (fc K j) a)) = (if _ then va_rf (u2 (mR M) (fc K k) a v (fc K j) a) else .int (mI M (fc K j) a))
    rw [u2_c (k_fc hj)]
theorem x_putIF {a K k idx : Nat} {ref : String} {v : Int32} (d : decode cc pc = .ok (.putfield idx, 3)) (hk : mK M a = some K) (hf : FF own idx K k ref) (ht : (cY K k).isReference = false) (hv : narrow (cY K k) (.int v) = .int v ∧ fits (cY K k) (.int v) = true) (hfin : (cT K k).2.2.2 = true) (hin2 : meth.name = "<init>") (hdecl : (cT K k).1 = own) {n' : Nat} (hn : pc + 3 = n') (k9 : Wx p l e R s m args below meth c own cc nL G Q n' L st (sI M (fc K k) a v) cb sb) : Wx p l e R s m args below meth c own cc nL G Q pc L (Value.int v :: .ref a :: st) M cb sb := by
  intro C H locs ls cells slots hl hm hs z1 z2
  obtain ⟨ho, hB, cell, g1, g2, g3, g4⟩ := (hm a K hk).1 (k_lt K hf.1).1
  have hap := va_apart (own := own) C.2.2.2.2.1 (k_in K hf.1) (cY K) (k_ty K hf.1) (k_nm K hf.1) (kKn C.2.2.2.2.2.2.2 hf.1) (ci := 0) rfl
  obtain ⟨hS, hfc, kC, hkC, hkind⟩ := C.2.2.2.2.2.2.2.1 K hf.1
  obtain ⟨cf, kf, fi, f, hi, hsl⟩ := hS k hf.2.1
  have hsame : s.fieldFound? ref (cT K k).2.1 (cT K k).2.2.1 = some (cf, kf, fi, f) := by
    rcases hf.2.2.2 with e | e
    · rw [e]; exact hi
    · exact u_same (C.2.2.2.2.1 _ e) _ hi
  have hst := (u_facts hfc hkC (u_lays C.2.2.2.2.1 (k_in K hf.1) hf.2.1) hi).1
  have hlay := C.2.2.2.2.1 _ (k_in K hf.1 _ (u_in_lay hf.2.1))
  unfold u_lay at hlay
  rw [if_pos hfin] at hlay
  have hcf : m.cls = cf := by
    obtain ⟨_, _, c', _, _, _, -, -, hf', -, -, -, hown2, -⟩ := Cond.laysFinal_spec hlay
    have e1 : c' = cf := by have := hi.symm.trans hf'; simp at this; exact this.1.symm
    rw [← e1]
    rw [hdecl] at hown2
    exact Option.some.inj (C.2.2.2.1.symm.trans hown2)
  have h6 := u_fits hfc hkC hkind (Or.inr hlay) hi (k_ty K hf.1 k hf.2.1) hv.1 hv.2
  refine W.putFinK C.1 C.2.1 C.2.2.2.1 (C.2.2.2.2.1 _ hf.2.2.1) hsame hst hcf hin2 (by rw [g2]; exact h6) g1 g3 (by rw [hsl]; exact k2_hasslot (g4 k hf.2.1)) rfl rfl d fun H' e1 e2 e3 => ?_
  rw [hsl] at e1 ⊢
  subst hn
  refine k9 C H' _ ls cells slots hl (hm.set e3 rfl (fun b hb => sI_same hb) (fun K' hK' => ?_)) (hs.put e2 e3 hB) z1 z2
  cases hK'.symm.trans hk
  refine ⟨fun _ => ⟨ho, hB, _, e1, g2, g3, fun j hj => ?_⟩, fun q => absurd (k_lt K hf.1).1 (by omega), fun q => absurd (k_lt K hf.1).1 (by omega)⟩
  have e9 := t_set (V := fun k => fv M K k a) g4 hap hf.2.1 (Value.int v) j hj
  refine e9.trans (congrArg some ?_)
  by_cases hj : j = k
  · subst hj
    show updV _ j (.int v) j = fv (sI M (fc K j) a v) K j a
    unfold fv
    rw [if_neg (by rw [ht]; decide)]
    show (if j = j then (.int v : Value) else _) = .int (u2 (mI M) (fc K j) a v (fc K j) a)
    rw [if_pos rfl, u2_s]
  · show (if j = k then _ else fv M K j a) = fv (sI M (fc K k) a v) K j a
    rw [if_neg hj]
    unfold fv
    show (if _ then va_rf (mR M (fc K j) a) else .int (mI M (fc K j) a)) = (if _ then va_rf (mR M (fc K j) a) else .int (u2 (mI M) (fc K k) a v (fc K j) a))
    rw [u2_c (k_fc hj)]
theorem x_putRF {a K k idx : Nat} {ref : String} {v : Option Nat} (d : decode cc pc = .ok (.putfield idx, 3)) (hk : mK M a = some K) (hf : FF own idx K k ref) (ht : (cY K k).isReference = true) (hfin : (cT K k).2.2.2 = true) (hin2 : meth.name = "<init>") (hdecl : (cT K k).1 = own) {n' : Nat} (hn : pc + 3 = n') (k9 : Wx p l e R s m args below meth c own cc nL G Q n' L st (sR M (fc K k) a v) cb sb) : Wx p l e R s m args below meth c own cc nL G Q pc L (va_rf v :: .ref a :: st) M cb sb := by
  intro C H locs ls cells slots hl hm hs z1 z2
  obtain ⟨ho, hB, cell, g1, g2, g3, g4⟩ := (hm a K hk).1 (k_lt K hf.1).1
  have hap := va_apart (own := own) C.2.2.2.2.1 (k_in K hf.1) (cY K) (k_ty K hf.1) (k_nm K hf.1) (kKn C.2.2.2.2.2.2.2 hf.1) (ci := 0) rfl
  obtain ⟨hS, hfc, kC, hkC, hkind⟩ := C.2.2.2.2.2.2.2.1 K hf.1
  obtain ⟨cf, kf, fi, f, hi, hsl⟩ := hS k hf.2.1
  have hsame : s.fieldFound? ref (cT K k).2.1 (cT K k).2.2.1 = some (cf, kf, fi, f) := by
    rcases hf.2.2.2 with e | e
    · rw [e]; exact hi
    · exact u_same (C.2.2.2.2.1 _ e) _ hi
  have hst := (u_facts hfc hkC (u_lays C.2.2.2.2.1 (k_in K hf.1) hf.2.1) hi).1
  have hlay := C.2.2.2.2.1 _ (k_in K hf.1 _ (u_in_lay hf.2.1))
  unfold u_lay at hlay
  rw [if_pos hfin] at hlay
  have hcf : m.cls = cf := by
    obtain ⟨_, _, c', _, _, _, -, -, hf', -, -, -, hown2, -⟩ := Cond.laysFinal_spec hlay
    have e1 : c' = cf := by have := hi.symm.trans hf'; simp at this; exact this.1.symm
    rw [← e1]
    rw [hdecl] at hown2
    exact Option.some.inj (C.2.2.2.1.symm.trans hown2)
  have h6 := u_fits hfc hkC hkind (Or.inr hlay) hi (k_ty K hf.1 k hf.2.1) (k_nr (v := v) ht) (k_ft (v := v) ht)
  refine W.putFinK C.1 C.2.1 C.2.2.2.1 (C.2.2.2.2.1 _ hf.2.2.1) hsame hst hcf hin2 (by rw [g2]; exact h6) g1 g3 (by rw [hsl]; exact k2_hasslot (g4 k hf.2.1)) rfl rfl d fun H' e1 e2 e3 => ?_
  rw [hsl] at e1 ⊢
  subst hn
  refine k9 C H' _ ls cells slots hl (hm.set e3 rfl (fun b hb => sR_same hb) (fun K' hK' => ?_)) (hs.put e2 e3 hB) z1 z2
  cases hK'.symm.trans hk
  refine ⟨fun _ => ⟨ho, hB, _, e1, g2, g3, fun j hj => ?_⟩, fun q => absurd (k_lt K hf.1).1 (by omega), fun q => absurd (k_lt K hf.1).1 (by omega)⟩
  have e9 := t_set (V := fun k => fv M K k a) g4 hap hf.2.1 (va_rf v) j hj
  refine e9.trans (congrArg some ?_)
  by_cases hj : j = k
  · subst hj
    show updV _ j (va_rf v) j = fv (sR M (fc K j) a v) K j a
    unfold fv
    rw [if_pos ht]
    show (if j = j then (va_rf v : Value) else _) = va_rf (u2 (mR M) (fc K j) a v (fc K j) a)
    rw [if_pos rfl, u2_s]
  · show (if j = k then _ else fv M K j a) = fv (sR M (fc K k) a v) K j a
    rw [if_neg hj]
    unfold fv
    show (if _ then va_rf (mR M (fc K j) a) else .int (mI M (fc K j) a)) = (if _ then va_rf (u2 (mR M) (fc K k) a v (fc K j) a) else .int (mI M (fc K j) a))
    rw [u2_c (k_fc hj)]
theorem x_new {K idx : Nat} (d : decode cc pc = .ok (.new idx, 3)) (hK : okK K) (q1 : Cond.classLink own idx (cC K) ∈ lw_all) (q2 : Cond.instantiable (cC K) (cN K) ∈ lw_all) (q3 : Cond.initialized (cC K) ∈ lw_all) (h8 : 1 ≤ cb) (h9 : cN K ≤ sb) {n' : Nat} (hn : pc + 3 = n') (k9 : ∀ q, mK M q = none → kA G q → Wx p l e R s m args below meth c own cc nL G Q n' L (.ref q :: st) (nO M q K) (cb - 1) (sb - cN K)) : Wx p l e R s m args below meth c own cc nL G Q pc L st M cb sb := by
  intro C H locs ls cells slots hl hm hs z1 z2
  have hB : kB G H.size := C.2.2.2.2.2.2.1.mono hs.1
  have hA := hB.2 _ (Nat.le_refl _)
  have hKn := C.2.2.2.2.2.2.2.1 K hK
  refine W.newcK C.1 C.2.1 C.2.2.2.1 (C.2.2.2.2.1 _ q1) (C.2.2.2.2.1 _ q2) (C.2.2.2.2.1 _ q3) rfl d (by omega) (by omega) hKn.2.1 rfl fun H1 kC hkC e1 z3 o1 => ?_
  subst hn
  refine k9 H.size (hm.fresh hB.1) hA C H1 locs ls (cells + 1) (slots + cN K) hl (hm.push hB.1 rfl o1 rfl (fun b hb => nO_same hb) ?_) (hs.grow (by omega) o1) (by omega) (by omega)
  refine ⟨fun _ => ⟨hK, hA, (u_born (cY K) C.2.2.2.2.1 (k_in K hK) hKn hkC e1 (k_ty K hK)).to (fun j hj => ?_)⟩, fun q => absurd (k_lt K hK).1 (by omega), fun q => absurd (k_lt K hK).1 (by omega)⟩
  show defaultValue (cY K j) = fv (nO M H.size K) K j H.size
  rw [k_dv K hK j hj]
  unfold fv
  show _ = (if _ then va_rf (if H.size = H.size then none else _) else .int (if H.size = H.size then 0 else _))
  rw [if_pos rfl, if_pos rfl]
  rfl
theorem k_cb (t : ArrayType) : componentBytes (newarray.typeOf t) ≤ 8 := by cases t <;> decide
theorem x_newarr {K N : Nat} {atype : ArrayType} {n : Int32} (d : decode cc pc = .ok (.newarray atype, 2)) (h1 : 120 ≤ K) (h2 : K < 125) (hty : newarray.typeOf atype = aty K) (q : Cond.arrayClass (newarray.typeOf atype) ∈ lw_all) (h0 : ¬ n < 0) (hN : n.toNatClampNeg = N) (hby : N ≤ 67108864) (h8 : 1 ≤ cb) (h9 : N ≤ sb) {n' : Nat} (hn : pc + 2 = n') (k9 : ∀ q, mK M q = none → kA G q → Wx p l e R s m args below meth c own cc nL G Q n' L (.ref q :: st) (nA M q K N) (cb - 1) (sb - N)) : Wx p l e R s m args below meth c own cc nL G Q pc L (.int n :: st) M cb sb := by
  intro C H locs ls cells slots hl hm hs z1 z2
  have hB : kB G H.size := C.2.2.2.2.2.2.1.mono hs.1
  have hA := hB.2 _ (Nat.le_refl _)
  refine va_newaK C.1 C.2.1 (C.2.2.2.2.1 _ q) rfl d rfl h0 hN (Nat.le_trans (Nat.mul_le_mul hby (k_cb atype)) (Nat.le_of_ble_eq_true rfl)) (by omega) (by omega) rfl fun H1 cA e1 z3 o1 hAr hNm => ?_
  subst hn
  have hcA : cA = G.2.1 K := by
    have ra := (C.2.2.2.2.2.2.2.2.1 K h1 (by omega)).2
    rw [hty] at hNm
    have hK : K = 120 ∨ K = 121 ∨ K = 122 ∨ K = 123 ∨ K = 124 := by omega
    rcases hK with rfl | rfl | rfl | rfl | rfl <;> exact Option.some.inj (hNm.symm.trans ra)
  refine k9 H.size (hm.fresh hB.1) hA C H1 locs ls (cells + 1) (slots + N) hl (hm.push hB.1 rfl o1 rfl (fun b hb => nA_same hb) ?_) (hs.grow (by omega) o1) (by omega) (by omega)
  refine ⟨fun q => absurd q (by omega), fun _ _ => ⟨by omega, hA, ?_⟩, fun q => absurd q (by omega)⟩
  rw [e1, hcA, hty]
  unfold acell
  have n1 : mN (nA M H.size K N) H.size = N := va_up_self _ _ _
  have n2 : mA (nA M H.size K N) H.size = fun _ => 0 := va_up_self _ _ _
  have n3 : mL (nA M H.size K N) H.size = fun _ => 0 := va_up_self _ _ _
  rw [n1, n2, n3]
  have hK : K = 120 ∨ K = 121 ∨ K = 122 ∨ K = 123 ∨ K = 124 := by omega
  rcases hK with rfl | rfl | rfl | rfl | rfl <;> rfl
theorem x_anewarr {K N idx : Nat} {T : String} {n : Int32} (d : decode cc pc = .ok (.anewarray idx, 3)) (h1 : 125 ≤ K) (h2 : K < 128) (hty : aty K = .object T) (q : Cond.classLink own idx T ∈ lw_all) (qo : Cond.arrayOver (.object T) ∈ lw_tbl) (h0 : ¬ n < 0) (hN : n.toNatClampNeg = N) (hby : N ≤ 67108864) (h8 : 1 ≤ cb) (h9 : N ≤ sb) {n' : Nat} (hn : pc + 3 = n') (k9 : ∀ q, mK M q = none → kA G q → Wx p l e R s m args below meth c own cc nL G Q n' L (.ref q :: st) (nA M q K N) (cb - 1) (sb - N)) : Wx p l e R s m args below meth c own cc nL G Q pc L (.int n :: st) M cb sb := by
  intro C H locs ls cells slots hl hm hs z1 z2
  have hB : kB G H.size := C.2.2.2.2.2.2.1.mono hs.1
  have hA := hB.2 _ (Nat.le_refl _)
  subst hN
  refine W.anew C.1 C.2.1 C.2.2.2.1 (C.2.2.2.2.1 _ q) (va_AO.use (C.2.2.2.2.2.2.2.2.2.2.2.2.2.1 T qo)) rfl d rfl h0 (by omega) (by omega) (by omega) fun cA kA comp f1 f2 f3 f4 => ?_
  generalize hH1 : H.push ({ cls := cA, slots := Array.replicate n.toNatClampNeg .null, vm := .none } : Cell) = H1
  have z3 : H1.size = H.size + 1 := by rw [← hH1, Array.size_push]
  have e1 : H1[H.size]? = some (arrV cA n.toNatClampNeg (fun _ => .null)) := by rw [← hH1, Array.getElem?_push_size, ← arrV_new]
  have o1 : ∀ q : Nat, q < H.size → H1[q]? = H[q]? := fun q hq => by rw [← hH1, Array.getElem?_push, if_neg (Nat.ne_of_lt hq)]
  subst hn
  have hcA : cA = G.2.1 K := by
    have ra := (C.2.2.2.2.2.2.2.2.1 K (by omega) (by omega)).2
    rw [hty] at ra
    obtain ⟨_, _, _, _, _, r⟩ := ra
    exact Option.some.inj (f1.symm.trans r)
  refine k9 H.size (hm.fresh hB.1) hA C H1 locs ls (cells + 1) (slots + n.toNatClampNeg) hl (hm.push hB.1 rfl o1 rfl (fun b hb => nA_same hb) ?_) (hs.grow (by omega) o1) (by omega) (by omega)
  refine ⟨fun q => absurd q (by omega), fun _ _ => ⟨by omega, hA, ?_⟩, fun q => absurd q (by omega)⟩
  rw [e1, hcA]
  unfold acell
  rw [if_neg (by omega), if_neg (by omega)]
  have n1 : mN (nA M H.size K n.toNatClampNeg) H.size = n.toNatClampNeg := va_up_self _ _ _
  have n2 : mO (nA M H.size K n.toNatClampNeg) H.size = fun _ => none := va_up_self _ _ _
  rw [n1, n2]
  rfl
theorem k_arr {H : Heap} {a K : Nat} (hm : Hm G M H) (hk : mK M a = some K) (h1 : 120 ≤ K) (h2 : K < 128) : kA G a ∧ H[a]? = some (acell G M a K) := ((hm a K hk).2.1 h1 (by omega)).2
theorem k_arrP {H : Heap} {a K : Nat} {x : vp_A} (hm : Hm G M H) (hk : mK M a = some K) (h1 : 120 ≤ K) (h2 : K < 128) (hx : acell G M a K = vp_cell (G.2.1 K) x) (D : va_G) : va_P D [] [(a, .inl (G.2.1 K, x))] H := by
  intro k q hq
  have hz : k < 1 := (List.getElem?_eq_some_iff.mp hq).1
  rw [show k = 0 by omega] at hq
  cases hq
  show H[a]? = _
  rw [← hx]
  exact (k_arr hm hk h1 h2).2
theorem x_alen {a K : Nat} (d : decode cc pc = .ok (.arraylength, 1)) (hk : mK M a = some K) (h1 : 120 ≤ K) (h2 : K < 128) {n' : Nat} (hn : pc + 1 = n') (k9 : Wx p l e R s m args below meth c own cc nL G Q n' L (.int (nI (mN M a)) :: st) M cb sb) : Wx p l e R s m args below meth c own cc nL G Q pc L (.ref a :: st) M cb sb := by
  intro C H locs ls cells slots hl hm hs z1 z2
  subst hn
  have D : va_G := G.1
  by_cases e1 : K = 124
  · exact va_alen (x := (mN M a, .inr (.inl (mL M a)))) C.1 C.2.1 (kKa C.2.2.2.2.2.2.2 h1 h2 D) (k_arrP hm hk h1 h2 (if_pos e1) D) 0 0 rfl rfl rfl d (k9 C H locs ls cells slots hl hm hs z1 z2)
  · by_cases e2 : K < 125
    · exact va_alen (x := (mN M a, .inl (mA M a))) C.1 C.2.1 (kKa C.2.2.2.2.2.2.2 h1 h2 D) (k_arrP hm hk h1 h2 ((if_neg e1).trans (if_pos e2)) D) 0 0 rfl rfl rfl d (k9 C H locs ls cells slots hl hm hs z1 z2)
    · exact va_alen (x := (mN M a, .inr (.inr (.inr (.inr (mO M a)))))) C.1 C.2.1 (kKa C.2.2.2.2.2.2.2 h1 h2 D) (k_arrP hm hk h1 h2 ((if_neg e1).trans (if_neg e2)) D) 0 0 rfl rfl rfl d (k9 C H locs ls cells slots hl hm hs z1 z2)
theorem x_iald {a : Nat} {i : Int32} (d : decode cc pc = .ok (.iaload, 1)) (hk : mK M a = some 120) (hi : vp_in i (mN M a)) {n' : Nat} (hn : pc + 1 = n') (k9 : Wx p l e R s m args below meth c own cc nL G Q n' L (.int (mA M a i.toNatClampNeg) :: st) M cb sb) : Wx p l e R s m args below meth c own cc nL G Q pc L (.int i :: .ref a :: st) M cb sb := fun C H locs ls cells slots hl hm hs z1 z2 => va_iald C.1 C.2.1 (kKa (K := 120) C.2.2.2.2.2.2.2 (by decide) (by decide) G.1) (k_arrP (K := 120) (x := (mN M a, .inl (mA M a))) hm hk (by decide) (by decide) rfl G.1) 0 0 rfl rfl hi d (by subst hn; exact k9 C H locs ls cells slots hl hm hs z1 z2)
theorem x_bald {a : Nat} {i : Int32} (d : decode cc pc = .ok (.baload, 1)) (hk : mK M a = some 121) (hi : vp_in i (mN M a)) {n' : Nat} (hn : pc + 1 = n') (k9 : Wx p l e R s m args below meth c own cc nL G Q n' L (.int (mA M a i.toNatClampNeg) :: st) M cb sb) : Wx p l e R s m args below meth c own cc nL G Q pc L (.int i :: .ref a :: st) M cb sb := fun C H locs ls cells slots hl hm hs z1 z2 => va_bald C.1 C.2.1 (kKa (K := 121) C.2.2.2.2.2.2.2 (by decide) (by decide) G.1) (k_arrP (K := 121) (x := (mN M a, .inl (mA M a))) hm hk (by decide) (by decide) rfl G.1) 0 0 rfl rfl hi d (by subst hn; exact k9 C H locs ls cells slots hl hm hs z1 z2)
theorem x_sald {a : Nat} {i : Int32} (d : decode cc pc = .ok (.saload, 1)) (hk : mK M a = some 122) (hi : vp_in i (mN M a)) {n' : Nat} (hn : pc + 1 = n') (k9 : Wx p l e R s m args below meth c own cc nL G Q n' L (.int (mA M a i.toNatClampNeg) :: st) M cb sb) : Wx p l e R s m args below meth c own cc nL G Q pc L (.int i :: .ref a :: st) M cb sb := fun C H locs ls cells slots hl hm hs z1 z2 => va_sald C.1 C.2.1 (kKa (K := 122) C.2.2.2.2.2.2.2 (by decide) (by decide) G.1) (k_arrP (K := 122) (x := (mN M a, .inl (mA M a))) hm hk (by decide) (by decide) rfl G.1) 0 0 rfl rfl hi d (by subst hn; exact k9 C H locs ls cells slots hl hm hs z1 z2)
theorem x_zald {a : Nat} {i : Int32} (d : decode cc pc = .ok (.baload, 1)) (hk : mK M a = some 123) (hi : vp_in i (mN M a)) {n' : Nat} (hn : pc + 1 = n') (k9 : Wx p l e R s m args below meth c own cc nL G Q n' L (.int (mA M a i.toNatClampNeg) :: st) M cb sb) : Wx p l e R s m args below meth c own cc nL G Q pc L (.int i :: .ref a :: st) M cb sb := fun C H locs ls cells slots hl hm hs z1 z2 => va_zald C.1 C.2.1 (kKa (K := 123) C.2.2.2.2.2.2.2 (by decide) (by decide) G.1) (k_arrP (K := 123) (x := (mN M a, .inl (mA M a))) hm hk (by decide) (by decide) rfl G.1) 0 0 rfl rfl hi d (by subst hn; exact k9 C H locs ls cells slots hl hm hs z1 z2)
theorem x_lald {a : Nat} {i : Int32} (d : decode cc pc = .ok (.laload, 1)) (hk : mK M a = some 124) (hi : vp_in i (mN M a)) {n' : Nat} (hn : pc + 1 = n') (k9 : Wx p l e R s m args below meth c own cc nL G Q n' L (.long (mL M a i.toNatClampNeg) :: st) M cb sb) : Wx p l e R s m args below meth c own cc nL G Q pc L (.int i :: .ref a :: st) M cb sb := fun C H locs ls cells slots hl hm hs z1 z2 => va_lald C.1 C.2.1 (kKa (K := 124) C.2.2.2.2.2.2.2 (by decide) (by decide) G.1) (k_arrP (K := 124) (x := (mN M a, .inr (.inl (mL M a)))) hm hk (by decide) (by decide) rfl G.1) 0 0 rfl rfl hi d (by subst hn; exact k9 C H locs ls cells slots hl hm hs z1 z2)
theorem x_aald {a K : Nat} {i : Int32} (d : decode cc pc = .ok (.aaload, 1)) (hk : mK M a = some K) (h1 : 125 ≤ K) (h2 : K < 128) (hi : vp_in i (mN M a)) {n' : Nat} (hn : pc + 1 = n') (k9 : Wx p l e R s m args below meth c own cc nL G Q n' L (va_rf (mO M a i.toNatClampNeg) :: st) M cb sb) : Wx p l e R s m args below meth c own cc nL G Q pc L (.int i :: .ref a :: st) M cb sb := by
  intro C H locs ls cells slots hl hm hs z1 z2
  subst hn
  have hK : K = 125 ∨ K = 126 ∨ K = 127 := by omega
  rcases hK with rfl | rfl | rfl
  · exact va_aldq C.1 C.2.1 (kKa (K := 125) C.2.2.2.2.2.2.2 (by decide) (by decide) G.1) (k_arrP (K := 125) (x := (mN M a, .inr (.inr (.inr (.inr (mO M a)))))) hm hk (by decide) (by decide) rfl G.1) 0 0 rfl rfl hi d (k9 C H locs ls cells slots hl hm hs z1 z2)
  · exact va_aldq C.1 C.2.1 (kKa (K := 126) C.2.2.2.2.2.2.2 (by decide) (by decide) G.1) (k_arrP (K := 126) (x := (mN M a, .inr (.inr (.inr (.inr (mO M a)))))) hm hk (by decide) (by decide) rfl G.1) 0 0 rfl rfl hi d (k9 C H locs ls cells slots hl hm hs z1 z2)
  · exact va_aldq C.1 C.2.1 (kKa (K := 127) C.2.2.2.2.2.2.2 (by decide) (by decide) G.1) (k_arrP (K := 127) (x := (mN M a, .inr (.inr (.inr (.inr (mO M a)))))) hm hk (by decide) (by decide) rfl G.1) 0 0 rfl rfl hi d (k9 C H locs ls cells slots hl hm hs z1 z2)
theorem x_aalds {a K b : Nat} {i : Int32} (d : decode cc pc = .ok (.aaload, 1)) (hk : mK M a = some K) (h1 : 125 ≤ K) (h2 : K < 128) (hi : vp_in i (mN M a)) (hr : mO M a i.toNatClampNeg = some b) {n' : Nat} (hn : pc + 1 = n') (k9 : Wx p l e R s m args below meth c own cc nL G Q n' L (.ref b :: st) M cb sb) : Wx p l e R s m args below meth c own cc nL G Q pc L (.int i :: .ref a :: st) M cb sb := x_aald d hk h1 h2 hi hn (by rw [hr]; exact k9)
theorem x_iast {a : Nat} {i : Int32} {x : Int32} (d : decode cc pc = .ok (.iastore, 1)) (hk : mK M a = some 120) (hi : vp_in i (mN M a)) {n' : Nat} (hn : pc + 1 = n') (k9 : Wx p l e R s m args below meth c own cc nL G Q n' L st (sA M a (va_up (mA M a) i.toNatClampNeg x)) cb sb) : Wx p l e R s m args below meth c own cc nL G Q pc L (.int x :: .int i :: .ref a :: st) M cb sb := by
  intro C H locs ls cells slots hl hm hs z1 z2
  have hc : H[a]? = some (arrV (G.2.1 120) (mN M a) (fun j => .int (mA M a j))) := (k_arr (K := 120) hm hk (by decide) (by decide)).2
  have hB := (k_arr (K := 120) hm hk (by decide) (by decide)).1
  refine W.iast C.1 C.2.1 hc ((C.2.2.2.2.2.2.2.2.1 120 (by decide) (by decide)).1 (mN M a) (fun j => .int (mA M a j))) (fun q => by cases q) (by rw [arrV_size]; exact hi) rfl rfl d fun H1 e z oq => ?_
  subst hn
  refine k9 C H1 _ ls cells slots hl (hm.set oq rfl (fun b hb => sA_same hb) (fun K' hK' => ?_)) (hs.put z oq hB) z1 z2
  cases hK'.symm.trans hk
  refine ⟨fun q => absurd q (by decide), fun _ _ => ⟨by decide, hB, ?_⟩, fun q => absurd q (by decide)⟩
  rw [e, arrV_store]
  show some (arrV _ _ _) = some (arrV (G.2.1 120) (mN M a) (fun j => .int (mA (sA M a (va_up (mA M a) i.toNatClampNeg x)) a j)))
  congr 2
  funext j
  have n1 : mA (sA M a (va_up (mA M a) i.toNatClampNeg x)) a = va_up (mA M a) i.toNatClampNeg x := va_up_self _ _ _
  rw [n1]
  by_cases hj : j = i.toNatClampNeg
  · subst hj
    simp [updV, va_up]
    try rfl
  · simp [updV, va_up, hj]
theorem x_bast {a : Nat} {i : Int32} {x : Int32} (d : decode cc pc = .ok (.bastore, 1)) (hk : mK M a = some 121) (hi : vp_in i (mN M a)) {n' : Nat} (hn : pc + 1 = n') (k9 : Wx p l e R s m args below meth c own cc nL G Q n' L st (sA M a (va_up (mA M a) i.toNatClampNeg (vp_nar .byte x))) cb sb) : Wx p l e R s m args below meth c own cc nL G Q pc L (.int x :: .int i :: .ref a :: st) M cb sb := by
  intro C H locs ls cells slots hl hm hs z1 z2
  have hc : H[a]? = some (arrV (G.2.1 121) (mN M a) (fun j => .int (mA M a j))) := (k_arr (K := 121) hm hk (by decide) (by decide)).2
  have hB := (k_arr (K := 121) hm hk (by decide) (by decide)).1
  refine W.bast C.1 C.2.1 hc ((C.2.2.2.2.2.2.2.2.1 121 (by decide) (by decide)).1 (mN M a) (fun j => .int (mA M a j))) (fun q => by cases q) (by rw [arrV_size]; exact hi) rfl rfl d fun H1 e z oq => ?_
  subst hn
  refine k9 C H1 _ ls cells slots hl (hm.set oq rfl (fun b hb => sA_same hb) (fun K' hK' => ?_)) (hs.put z oq hB) z1 z2
  cases hK'.symm.trans hk
  refine ⟨fun q => absurd q (by decide), fun _ _ => ⟨by decide, hB, ?_⟩, fun q => absurd q (by decide)⟩
  rw [e, arrV_store]
  show some (arrV _ _ _) = some (arrV (G.2.1 121) (mN M a) (fun j => .int (mA (sA M a (va_up (mA M a) i.toNatClampNeg (vp_nar .byte x))) a j)))
  congr 2
  funext j
  have n1 : mA (sA M a (va_up (mA M a) i.toNatClampNeg (vp_nar .byte x))) a = va_up (mA M a) i.toNatClampNeg (vp_nar .byte x) := va_up_self _ _ _
  rw [n1]
  by_cases hj : j = i.toNatClampNeg
  · subst hj
    simp [updV, va_up, vp_nar]
    try rfl
  · simp [updV, va_up, hj]
theorem x_sast {a : Nat} {i : Int32} {x : Int32} (d : decode cc pc = .ok (.sastore, 1)) (hk : mK M a = some 122) (hi : vp_in i (mN M a)) {n' : Nat} (hn : pc + 1 = n') (k9 : Wx p l e R s m args below meth c own cc nL G Q n' L st (sA M a (va_up (mA M a) i.toNatClampNeg (vp_nar .short x))) cb sb) : Wx p l e R s m args below meth c own cc nL G Q pc L (.int x :: .int i :: .ref a :: st) M cb sb := by
  intro C H locs ls cells slots hl hm hs z1 z2
  have hc : H[a]? = some (arrV (G.2.1 122) (mN M a) (fun j => .int (mA M a j))) := (k_arr (K := 122) hm hk (by decide) (by decide)).2
  have hB := (k_arr (K := 122) hm hk (by decide) (by decide)).1
  refine W.sast C.1 C.2.1 hc ((C.2.2.2.2.2.2.2.2.1 122 (by decide) (by decide)).1 (mN M a) (fun j => .int (mA M a j))) (fun q => by cases q) (by rw [arrV_size]; exact hi) rfl rfl d fun H1 e z oq => ?_
  subst hn
  refine k9 C H1 _ ls cells slots hl (hm.set oq rfl (fun b hb => sA_same hb) (fun K' hK' => ?_)) (hs.put z oq hB) z1 z2
  cases hK'.symm.trans hk
  refine ⟨fun q => absurd q (by decide), fun _ _ => ⟨by decide, hB, ?_⟩, fun q => absurd q (by decide)⟩
  rw [e, arrV_store]
  show some (arrV _ _ _) = some (arrV (G.2.1 122) (mN M a) (fun j => .int (mA (sA M a (va_up (mA M a) i.toNatClampNeg (vp_nar .short x))) a j)))
  congr 2
  funext j
  have n1 : mA (sA M a (va_up (mA M a) i.toNatClampNeg (vp_nar .short x))) a = va_up (mA M a) i.toNatClampNeg (vp_nar .short x) := va_up_self _ _ _
  rw [n1]
  by_cases hj : j = i.toNatClampNeg
  · subst hj
    simp [updV, va_up, vp_nar]
    try rfl
  · simp [updV, va_up, hj]
theorem x_zast {a : Nat} {i : Int32} {x : Int32} (d : decode cc pc = .ok (.bastore, 1)) (hk : mK M a = some 123) (hi : vp_in i (mN M a)) {n' : Nat} (hn : pc + 1 = n') (k9 : Wx p l e R s m args below meth c own cc nL G Q n' L st (sA M a (va_up (mA M a) i.toNatClampNeg (vp_nar .boolean x))) cb sb) : Wx p l e R s m args below meth c own cc nL G Q pc L (.int x :: .int i :: .ref a :: st) M cb sb := by
  intro C H locs ls cells slots hl hm hs z1 z2
  have hc : H[a]? = some (arrV (G.2.1 123) (mN M a) (fun j => .int (mA M a j))) := (k_arr (K := 123) hm hk (by decide) (by decide)).2
  have hB := (k_arr (K := 123) hm hk (by decide) (by decide)).1
  refine W.zast C.1 C.2.1 hc ((C.2.2.2.2.2.2.2.2.1 123 (by decide) (by decide)).1 (mN M a) (fun j => .int (mA M a j))) (fun q => by cases q) (by rw [arrV_size]; exact hi) rfl rfl d fun H1 e z oq => ?_
  subst hn
  refine k9 C H1 _ ls cells slots hl (hm.set oq rfl (fun b hb => sA_same hb) (fun K' hK' => ?_)) (hs.put z oq hB) z1 z2
  cases hK'.symm.trans hk
  refine ⟨fun q => absurd q (by decide), fun _ _ => ⟨by decide, hB, ?_⟩, fun q => absurd q (by decide)⟩
  rw [e, arrV_store]
  show some (arrV _ _ _) = some (arrV (G.2.1 123) (mN M a) (fun j => .int (mA (sA M a (va_up (mA M a) i.toNatClampNeg (vp_nar .boolean x))) a j)))
  congr 2
  funext j
  have n1 : mA (sA M a (va_up (mA M a) i.toNatClampNeg (vp_nar .boolean x))) a = va_up (mA M a) i.toNatClampNeg (vp_nar .boolean x) := va_up_self _ _ _
  rw [n1]
  by_cases hj : j = i.toNatClampNeg
  · subst hj
    simp [updV, va_up, vp_nar]
    try rfl
  · simp [updV, va_up, hj]
theorem x_last {a : Nat} {i : Int32} {x : Int64} (d : decode cc pc = .ok (.lastore, 1)) (hk : mK M a = some 124) (hi : vp_in i (mN M a)) {n' : Nat} (hn : pc + 1 = n') (k9 : Wx p l e R s m args below meth c own cc nL G Q n' L st (sL M a (va_up (mL M a) i.toNatClampNeg x)) cb sb) : Wx p l e R s m args below meth c own cc nL G Q pc L (.long x :: .int i :: .ref a :: st) M cb sb := by
  intro C H locs ls cells slots hl hm hs z1 z2
  have hc : H[a]? = some (arrV (G.2.1 124) (mN M a) (fun j => .long (mL M a j))) := (k_arr (K := 124) hm hk (by decide) (by decide)).2
  have hB := (k_arr (K := 124) hm hk (by decide) (by decide)).1
  refine W.last C.1 C.2.1 hc ((C.2.2.2.2.2.2.2.2.1 124 (by decide) (by decide)).1 (mN M a) (fun j => .long (mL M a j))) (fun q => by cases q) (by rw [arrV_size]; exact hi) rfl rfl d fun H1 e z oq => ?_
  subst hn
  refine k9 C H1 _ ls cells slots hl (hm.set oq rfl (fun b hb => sL_same hb) (fun K' hK' => ?_)) (hs.put z oq hB) z1 z2
  cases hK'.symm.trans hk
  refine ⟨fun q => absurd q (by decide), fun _ _ => ⟨by decide, hB, ?_⟩, fun q => absurd q (by decide)⟩
  rw [e, arrV_store]
  show some (arrV _ _ _) = some (arrV (G.2.1 124) (mN M a) (fun j => .long (mL (sL M a (va_up (mL M a) i.toNatClampNeg x)) a j)))
  congr 2
  funext j
  have n1 : mL (sL M a (va_up (mL M a) i.toNatClampNeg x)) a = va_up (mL M a) i.toNatClampNeg x := va_up_self _ _ _
  rw [n1]
  by_cases hj : j = i.toNatClampNeg
  · subst hj
    simp [updV, va_up]
    try rfl
  · simp [updV, va_up, hj]
theorem k_aaTail {a K : Nat} {i : Int32} {r : Option Nat} {H H1 : Heap} (hm : Hm G M H) (hk : mK M a = some K) (h1 : 125 ≤ K) (h2 : K < 128) (hB : kA G a) (e : H1[a]? = some ((vp_cell (G.2.1 K) (mN M a, .inr (.inr (.inr (.inr (mO M a)))))).setSlot i.toNatClampNeg (va_rf r))) (oq : ∀ q : Nat, q ≠ a → H1[q]? = H[q]?) : Hm G (sO M a (va_up (mO M a) i.toNatClampNeg r)) H1 := by
  refine hm.set oq rfl (fun b hb => sO_same hb) (fun K' hK' => ?_)
  cases hK'.symm.trans hk
  refine ⟨fun q => absurd q (by omega), fun _ _ => ⟨h2, hB, ?_⟩, fun q => absurd q (by omega)⟩
  rw [e, vp_cell_q, arrV_store]
  unfold acell
  rw [if_neg (by omega), if_neg (by omega), vp_cell_q]
  show some (arrV _ _ _) = some (arrV (G.2.1 K) (mN M a) _)
  congr 2
  funext j
  have n1 : mO (sO M a (va_up (mO M a) i.toNatClampNeg r)) a = va_up (mO M a) i.toNatClampNeg r := va_up_self _ _ _
  rw [n1]
  by_cases hj : j = i.toNatClampNeg
  · subst hj
    simp [updV, va_up]
  · simp [updV, va_up, hj]
theorem x_aast {a v K KV : Nat} {T : String} {i : Int32} (d : decode cc pc = .ok (.aastore, 1)) (hk : mK M a = some K) (h1 : 125 ≤ K) (h2 : K < 128) (hT : aty K = .object T) (hv : mK M v = some KV) (hca : Cond.castable (kname KV) T ∈ lw_tbl) (hi : vp_in i (mN M a)) {n' : Nat} (hn : pc + 1 = n') (k9 : Wx p l e R s m args below meth c own cc nL G Q n' L st (sO M a (va_up (mO M a) i.toNatClampNeg (some v))) cb sb) : Wx p l e R s m args below meth c own cc nL G Q pc L (.ref v :: .int i :: .ref a :: st) M cb sb := by
  intro C H locs ls cells slots hl hm hs z1 z2
  subst hn
  have hlt : i.toNatClampNeg < mN M a := Nat.not_le.mp fun q => hi (Or.inr q)
  have h0 : ¬ i < 0 := fun q => hi (Or.inl q)
  obtain ⟨hB, hc⟩ := k_arr hm hk (by omega) h2
  have hac : acell G M a K = vp_cell (G.2.1 K) (mN M a, .inr (.inr (.inr (.inr (mO M a))))) := by
    unfold acell
    rw [if_neg (by omega), if_neg (by omega)]
  rw [hac] at hc
  obtain ⟨cellV, g1, g2, g3⟩ := k_rcv C.2.2.2.2.2.2.2 hm hs hv
  have ra := (C.2.2.2.2.2.2.2.2.1 K (by omega) h2).2
  rw [hT] at ra
  obtain ⟨kA, comp, k1, k2, k3, -⟩ := ra
  obtain ⟨c0, t1, f1, f2, f3⟩ := Cond.castable_spec (va_Nw.use (A := #[]) rfl (C.2.2.2.2.2.2.2.2.2.1 _ _ hca))
  cases g3.symm.trans f1
  cases k3.symm.trans f2
  obtain ⟨ks, hks, -⟩ := Vm.findClass_spec g3
  obtain ⟨kt, hkt, -⟩ := Vm.findClass_spec k3
  refine W.aast C.1 C.2.1 hc (fun q h => by cases h) (fun h => by cases h) k1 k2 rfl hkt ⟨h0, by show _ < (arrV _ _ _).slots.size; rw [arrV_size]; exact hlt⟩ g1 (fun q h => by rw [h] at g2; cases g2) hks f3 rfl rfl d fun H1 e z oq => ?_
  exact k9 C H1 _ ls cells slots hl (k_aaTail (r := some v) hm hk h1 h2 hB e oq) (hs.put z oq hB) z1 z2
theorem x_aastN {a K : Nat} {i : Int32} (d : decode cc pc = .ok (.aastore, 1)) (hk : mK M a = some K) (h1 : 125 ≤ K) (h2 : K < 128) (hi : vp_in i (mN M a)) {n' : Nat} (hn : pc + 1 = n') (k9 : Wx p l e R s m args below meth c own cc nL G Q n' L st (sO M a (va_up (mO M a) i.toNatClampNeg none)) cb sb) : Wx p l e R s m args below meth c own cc nL G Q pc L (.null :: .int i :: .ref a :: st) M cb sb := by
  intro C H locs ls cells slots hl hm hs z1 z2
  subst hn
  obtain ⟨hB, hc⟩ := k_arr hm hk (by omega) h2
  have hac : acell G M a K = vp_cell (G.2.1 K) (mN M a, .inr (.inr (.inr (.inr (mO M a))))) := by
    unfold acell
    rw [if_neg (by omega), if_neg (by omega)]
  rw [hac] at hc
  have ha := (C.2.2.2.2.2.2.2.2.1 K (by omega) h2).1 (mN M a) (fun j => va_rf (mO M a j))
  have hty : ∃ T, aty K = .object T := by
    have hK : K = 125 ∨ K = 126 ∨ K = 127 := by omega
    rcases hK with rfl | rfl | rfl <;> exact ⟨_, rfl⟩
  obtain ⟨T, hT⟩ := hty
  rw [hT] at ha
  refine va_WaastN (C := T) C.1 C.2.1 hc ha (fun h => by cases h) (by show ¬ (i < 0 ∨ (arrV _ _ _).slots.size ≤ _); rw [arrV_size]; exact hi) rfl rfl d fun H1 e z oq => ?_
  exact k9 C H1 _ ls cells slots hl (k_aaTail (r := none) hm hk h1 h2 hB e oq) (hs.put z oq hB) z1 z2
theorem x_gets {idx : Nat} {C n dd : String} {v : Value} (d : decode cc pc = .ok (.getstatic idx, 3)) (hz : (C, n, dd, v) ∈ kZs G) (q : Cond.fieldLink own idx C n dd ∈ lw_all) {n' : Nat} (hn : pc + 3 = n') (k9 : Wx p l e R s m args below meth c own cc nL G Q n' L (v :: st) M cb sb) : Wx p l e R s m args below meth c own cc nL G Q pc L st M cb sb := fun K H locs ls cells slots hl hm hs z1 z2 => va_gets K.1 K.2.1 (K.2.2.2.2.2.2.2.2.2.2.2.2.2.2.2.2.1 _ hz) hs K.2.2.2.1 (K.2.2.2.2.1 _ q) (fun _ h => h) d (by subst hn; exact k9 K H locs ls cells slots hl hm hs z1 z2)
theorem x_castY {a K idx : Nat} {T : String} (d : decode cc pc = .ok (.checkcast idx, 3)) (hk : mK M a = some K) (q : Cond.classLink own idx T ∈ lw_all) (hc : Cond.castable (kname K) T ∈ lw_tbl) {n' : Nat} (hn : pc + 3 = n') (k9 : Wx p l e R s m args below meth c own cc nL G Q n' L (.ref a :: st) M cb sb) : Wx p l e R s m args below meth c own cc nL G Q pc L (.ref a :: st) M cb sb := fun C H locs ls cells slots hl hm hs z1 z2 => va_castY C.1 C.2.1 C.2.2.2.1 (C.2.2.2.2.1 _ q) (C.2.2.2.2.2.2.2.2.2.1 _ _ hc) (k_rcv C.2.2.2.2.2.2.2 hm hs hk) d (by subst hn; exact k9 C H locs ls cells slots hl hm hs z1 z2)
theorem x_castE {a K idx : Nat} {T : String} (d : decode cc pc = .ok (.checkcast idx, 3)) (hk : mK M a = some K) (hT : kname K = T) (q : Cond.classLink own idx T ∈ lw_all) {n' : Nat} (hn : pc + 3 = n') (k9 : Wx p l e R s m args below meth c own cc nL G Q n' L (.ref a :: st) M cb sb) : Wx p l e R s m args below meth c own cc nL G Q pc L (.ref a :: st) M cb sb := fun C H locs ls cells slots hl hm hs z1 z2 => va_castE C.1 C.2.1 C.2.2.2.1 (C.2.2.2.2.1 _ q) (hT ▸ k_rcv C.2.2.2.2.2.2.2 hm hs hk) d (by subst hn; exact k9 C H locs ls cells slots hl hm hs z1 z2)
theorem x_instY {a K idx : Nat} {T : String} (d : decode cc pc = .ok (.instanceof idx, 3)) (hk : mK M a = some K) (q : Cond.classLink own idx T ∈ lw_all) (hc : Cond.castable (kname K) T ∈ lw_tbl) {n' : Nat} (hn : pc + 3 = n') (k9 : Wx p l e R s m args below meth c own cc nL G Q n' L (.int 1 :: st) M cb sb) : Wx p l e R s m args below meth c own cc nL G Q pc L (.ref a :: st) M cb sb := fun C H locs ls cells slots hl hm hs z1 z2 => va_instY C.1 C.2.1 C.2.2.2.1 (C.2.2.2.2.1 _ q) (C.2.2.2.2.2.2.2.2.2.1 _ _ hc) (k_rcv C.2.2.2.2.2.2.2 hm hs hk) d (by subst hn; exact k9 C H locs ls cells slots hl hm hs z1 z2)
theorem x_instE {a K idx : Nat} {T : String} (d : decode cc pc = .ok (.instanceof idx, 3)) (hk : mK M a = some K) (hT : kname K = T) (q : Cond.classLink own idx T ∈ lw_all) {n' : Nat} (hn : pc + 3 = n') (k9 : Wx p l e R s m args below meth c own cc nL G Q n' L (.int 1 :: st) M cb sb) : Wx p l e R s m args below meth c own cc nL G Q pc L (.ref a :: st) M cb sb := fun C H locs ls cells slots hl hm hs z1 z2 => va_instE C.1 C.2.1 C.2.2.2.1 (C.2.2.2.2.1 _ q) (hT ▸ k_rcv C.2.2.2.2.2.2.2 hm hs hk) d (by subst hn; exact k9 C H locs ls cells slots hl hm hs z1 z2)
theorem x_instNo {a K idx : Nat} {T : String} (d : decode cc pc = .ok (.instanceof idx, 3)) (hk : mK M a = some K) (q : Cond.classLink own idx T ∈ lw_all) (hc : (kname K, T) ∈ kNc) {n' : Nat} (hn : pc + 3 = n') (k9 : Wx p l e R s m args below meth c own cc nL G Q n' L (.int 0 :: st) M cb sb) : Wx p l e R s m args below meth c own cc nL G Q pc L (.ref a :: st) M cb sb := fun C H locs ls cells slots hl hm hs z1 z2 => va_instNo C.1 C.2.1 C.2.2.2.1 (C.2.2.2.2.1 _ q) (C.2.2.2.2.2.2.2.2.2.2.2.2.2.2.2.1 _ hc) (k_rcv C.2.2.2.2.2.2.2 hm hs hk) d (by subst hn; exact k9 C H locs ls cells slots hl hm hs z1 z2)
/-- the answer on the stack -/
def kv (v : Option Value) (st : List Value) : List Value := match v with
  | none => st
  | some x => x :: st
/-- how a method ends: it returns v and leaves M' -/
def KQ (G : kG) (M : kM) (Qp : Option Value → kM → Prop) : Array Value → State → Outcome → State → Prop := fun _ st o t => (∃ v M', o = .returned v ∧ Qp v M' ∧ kE M M' ∧ Hm G M' t.heap) ∧ va_F (kA G) st t
/-- A CONTRACT: from arguments av and memory M the method y returns with Qp, making at most mc cells of ms slots -/
def Kt (l : Launch) (G : kG) (y : MethodName) (cb : ByteArray) (nL : Nat) (ret : Option FieldType) (fr lo : Nat) (av : List Value) (M : kM) (mc ms : Nat) (Qp : Option Value → kM → Prop) : Prop :=
  Met l y (ws_ y cb nL ret) { frames := fr, cells := mc, slots := ms, locals := lo } (va_Pc av (fun U => kB G U.heap.size ∧ GS G U U.heap ∧ Hm G M U.heap)) (KQ G M Qp) mc ms (kA G)
theorem Kt.blind {G : kG} {av : List Value} {M : kM} : FrameBlind (va_Pc av (fun U => kB G U.heap.size ∧ GS G U U.heap ∧ Hm G M U.heap)) := fun a U g mk h => ⟨h.1, h.2.1, h.2.2.1.call, h.2.2.2⟩
theorem Kt.pre {H : Heap} {locs : List Loc} {av : List Value} (C : kC p s m args meth c own cc nL G) (hm : Hm G M H) (hs : va_S (kA G) s.heap H locs) : ∀ U : State, U.heap = H → s.WarmedH U.vm → va_Pc av (fun U => kB G U.heap.size ∧ GS G U U.heap ∧ Hm G M U.heap) av.toArray U := by
  intro U hU hW
  exact ⟨rfl, by rw [hU]; exact C.2.2.2.2.2.2.1.mono hs.1, C.2.2.2.2.2.2.2.warm hW (fun a h1 h2 => by rw [hU]; exact hs.2.1 a h1 h2), by rw [hU]; exact hm⟩
/-- behind a call's run -/
theorem x_goes {n' : Nat} {a1 : Array Value} {H : Heap} {locs : List Loc} {ls : Array Slot} {cells slots mc ms : Nat} {st0 : List Value} {Qp : Option Value → kM → Prop} (hr : va_Run p l e R s m args below meth c H locs cells slots mc ms (F0 m pc ls st0) st (KQ G M Qp a1) (kA G)) (hn : pc + 3 = n') (C : kC p s m args meth c own cc nL G) (hl : kL ls nL L) (hs : va_S (kA G) s.heap H locs) (z1 : cells + cb ≤ R.cells) (z2 : slots + sb ≤ R.slots) (h1 : mc ≤ cb) (h2 : ms ≤ sb) (k9 : ∀ v M', Qp v M' → kE M M' → Wx p l e R s m args below meth c own cc nL G Q n' L (kv v st) M' (cb - mc) (sb - ms)) : W p l e R s m args below meth c H locs cells slots Q (F0 m pc ls st0) := by
  intro T hT X
  obtain ⟨v, st₀, t, T', L', h0, X', hL, e1, e2, ⟨⟨w, M', hv, hq, hE, hm'⟩, hz, hk⟩, stp⟩ := hr T hT X
  cases hv
  rw [h0] at hz hk
  have hs' : va_S (kA G) s.heap T'.heap (locs ++ L') := ⟨Nat.le_trans hs.1 (by rw [e1]; exact hz), fun q h1 h2 => by rw [e1, hk q (Nat.lt_of_lt_of_le h1 hs.1) h2]; exact hs.2.1 q h1 h2, fun q hq => by
      rcases List.mem_append.mp hq with h | h
      · exact hs.2.2 q h
      · exact hL q h⟩
  subst hn
  obtain ⟨t2, a1, b1⟩ := k9 v M' hq hE C T'.heap (locs ++ L') ls (cells + mc) (slots + ms) hl (by rw [e1]; exact hm') hs' (by omega) (by omega) T' rfl X'
  refine ⟨t2, stp t2 ?_, b1⟩
  cases v <;> exact a1
theorem x_goes5 {n' : Nat} {a1 : Array Value} {H : Heap} {locs : List Loc} {ls : Array Slot} {cells slots mc ms : Nat} {st0 : List Value} {Qp : Option Value → kM → Prop} (hr : va_Run5 p l e R s m args below meth c H locs cells slots mc ms (F0 m pc ls st0) st (KQ G M Qp a1) (kA G)) (hn : pc + 5 = n') (C : kC p s m args meth c own cc nL G) (hl : kL ls nL L) (hs : va_S (kA G) s.heap H locs) (z1 : cells + cb ≤ R.cells) (z2 : slots + sb ≤ R.slots) (h1 : mc ≤ cb) (h2 : ms ≤ sb) (k9 : ∀ v M', Qp v M' → kE M M' → Wx p l e R s m args below meth c own cc nL G Q n' L (kv v st) M' (cb - mc) (sb - ms)) : W p l e R s m args below meth c H locs cells slots Q (F0 m pc ls st0) := by
  intro T hT X
  obtain ⟨v, st₀, t, T', L', h0, X', hL, e1, e2, ⟨⟨w, M', hv, hq, hE, hm'⟩, hz, hk⟩, stp⟩ := hr T hT X
  cases hv
  rw [h0] at hz hk
  have hs' : va_S (kA G) s.heap T'.heap (locs ++ L') := ⟨Nat.le_trans hs.1 (by rw [e1]; exact hz), fun q h1 h2 => by rw [e1, hk q (Nat.lt_of_lt_of_le h1 hs.1) h2]; exact hs.2.1 q h1 h2, fun q hq => by
      rcases List.mem_append.mp hq with h | h
      · exact hs.2.2 q h
      · exact hL q h⟩
  subst hn
  obtain ⟨t2, a1, b1⟩ := k9 v M' hq hE C T'.heap (locs ++ L') ls (cells + mc) (slots + ms) hl (by rw [e1]; exact hm') hs' (by omega) (by omega) T' rfl X'
  refine ⟨t2, stp t2 ?_, b1⟩
  cases v <;> exact a1
theorem x_callV {y : MethodName} {bytes : ByteArray} {maxL fr lo mc ms n idx : Nat} {ret : Option FieldType} {Qp : Option Value → kM → Prop} {b K : Nat} {As st0 : List Value} {Cn : String} (hM : Kt l G y bytes maxL ret fr lo (.ref b :: As) M mc ms Qp) (d : decode cc pc = .ok (.invokevirtual idx, 3)) (hk : mK M b = some K) (hC : kname K = Cn) (w : GoodIn lw_all (wsV own idx Cn y (ws_ y bytes maxL ret))) (hd : y.cls = Cn ∧ y.cls ≠ "java/lang/invoke/MethodHandle" ∧ y.cls ≠ "java/lang/invoke/VarHandle" ∧ (parseMethodDescriptor y.desc).map (fun d => d.parameters.length) = some n) (hR : fr + 1 ≤ R.frames ∧ 8 + (maxL + 11) + lo ≤ R.locals) (hn : As.length = n) (hst : st0 = As.reverse ++ .ref b :: st) (hW : (st.map fun v => v.category).sum ≤ 8) (h1 : mc ≤ cb) (h2 : ms ≤ sb) {n' : Nat} (hn2 : pc + 3 = n') (k9 : ∀ v M', Qp v M' → kE M M' → Wx p l e R s m args below meth c own cc nL G Q n' L (kv v st) M' (cb - mc) (sb - ms)) : Wx p l e R s m args below meth c own cc nL G Q pc L st0 M cb sb := fun C H locs ls cells slots hl hm hs z1 z2 => x_goes (va_runV ⟨C.1, C.2.1, C.2.2.1, C.2.2.2.1, C.2.2.2.2.1⟩ hM (cwV n C.2.2.2.2.1 w rfl rfl rfl hd hR) ⟨Kt.blind, hC ▸ k_rcv C.2.2.2.2.2.2.2 hm hs hk, Kt.pre C hm hs⟩ rfl hn hl.1 (by rw [hst]) (lv_room hW) d ⟨by omega, by omega⟩) hn2 C hl hs z1 z2 h1 h2 k9
theorem x_callS {y : MethodName} {bytes : ByteArray} {maxL fr lo mc ms n idx : Nat} {ret : Option FieldType} {Qp : Option Value → kM → Prop} {As st0 : List Value} (hM : Kt l G y bytes maxL ret fr lo As M mc ms Qp) (d : decode cc pc = .ok (.invokestatic idx, 3)) (w : GoodIn lw_all (va_wsS own idx y (ws_ y bytes maxL ret))) (hd : y.cls ≠ "java/lang/invoke/MethodHandle" ∧ y.cls ≠ "java/lang/invoke/VarHandle" ∧ (parseMethodDescriptor y.desc).map (fun d => d.parameters.length) = some n) (hR : fr + 1 ≤ R.frames ∧ 8 + (maxL + 11) + lo ≤ R.locals) (hn : As.length = n) (hst : st0 = As.reverse ++ st) (hW : (st.map fun v => v.category).sum ≤ 8) (h1 : mc ≤ cb) (h2 : ms ≤ sb) {n' : Nat} (hn2 : pc + 3 = n') (k9 : ∀ v M', Qp v M' → kE M M' → Wx p l e R s m args below meth c own cc nL G Q n' L (kv v st) M' (cb - mc) (sb - ms)) : Wx p l e R s m args below meth c own cc nL G Q pc L st0 M cb sb := fun C H locs ls cells slots hl hm hs z1 z2 => x_goes (va_runS ⟨C.1, C.2.1, C.2.2.1, C.2.2.2.1, C.2.2.2.2.1⟩ hM (va_cwS n C.2.2.2.2.1 w rfl rfl rfl hd hR) ⟨Kt.blind, Kt.pre C hm hs⟩ rfl hn hl.1 (by rw [hst]) (lv_room hW) d ⟨by omega, by omega⟩) hn2 C hl hs z1 z2 h1 h2 k9
theorem x_callI {y : MethodName} {bytes : ByteArray} {maxL fr lo mc ms n idx : Nat} {ret : Option FieldType} {Qp : Option Value → kM → Prop} {b : Nat} {As st0 : List Value} (hM : Kt l G y bytes maxL none fr lo (.ref b :: As) M mc ms Qp) (d : decode cc pc = .ok (.invokespecial idx, 3)) (w : GoodIn lw_all (ws_ y bytes maxL none)) (qi : Cond.initialized y.cls ∈ lw_all) (ql : Cond.methodLink own idx y ∈ lw_all) (qm : Cond.instanceMethod y ∈ lw_all) (hy : y.name = "<init>") (hd : y.cls ≠ "java/lang/invoke/MethodHandle" ∧ y.cls ≠ "java/lang/invoke/VarHandle" ∧ (parseMethodDescriptor y.desc).map (fun d => d.parameters.length) = some n) (hR : fr + 1 ≤ R.frames ∧ 8 + (maxL + 11) + lo ≤ R.locals) (hn : As.length = n) (hst : st0 = As.reverse ++ .ref b :: st) (hW : (st.map fun v => v.category).sum ≤ 8) (h1 : mc ≤ cb) (h2 : ms ≤ sb) {n' : Nat} (hn2 : pc + 3 = n') (k9 : ∀ v M', Qp v M' → kE M M' → Wx p l e R s m args below meth c own cc nL G Q n' L (kv v st) M' (cb - mc) (sb - ms)) : Wx p l e R s m args below meth c own cc nL G Q pc L st0 M cb sb := fun C H locs ls cells slots hl hm hs z1 z2 => x_goes (va_runI ⟨C.1, C.2.1, C.2.2.1, C.2.2.2.1, C.2.2.2.2.1⟩ hM (cwI n C.2.2.2.2.1 w rfl rfl rfl (C.2.2.2.2.1 _ qi) (C.2.2.2.2.1 _ ql) (C.2.2.2.2.1 _ qm) hy hd hR) ⟨Kt.blind, Kt.pre C hm hs⟩ rfl hn hl.1 (by rw [hst]) (lv_room hW) d ⟨by omega, by omega⟩) hn2 C hl hs z1 z2 h1 h2 k9
theorem x_callU {y : MethodName} {bytes : ByteArray} {maxL fr lo mc ms n idx : Nat} {ret : Option FieldType} {Qp : Option Value → kM → Prop} {x : MethodName} {owner : String} {b K : Nat} {As st0 : List Value} {Cn : String} (hM : Kt l G y bytes maxL ret fr lo (.ref b :: As) M mc ms Qp) (d : decode cc pc = .ok (.invokevirtual idx, 3)) (hk : mK M b = some K) (hC : kname K = Cn) (w : GoodIn lw_all (va_wsU own idx Cn owner x y (ws_ y bytes maxL ret))) (hyx : y = ⟨owner, x.name, x.desc⟩) (hd : owner ≠ "java/lang/invoke/MethodHandle" ∧ owner ≠ "java/lang/invoke/VarHandle" ∧ (parseMethodDescriptor x.desc).map (fun d => d.parameters.length) = some n) (hR : fr + 1 ≤ R.frames ∧ 8 + (maxL + 11) + lo ≤ R.locals) (hn : As.length = n) (hst : st0 = As.reverse ++ .ref b :: st) (hW : (st.map fun v => v.category).sum ≤ 8) (h1 : mc ≤ cb) (h2 : ms ≤ sb) {n' : Nat} (hn2 : pc + 3 = n') (k9 : ∀ v M', Qp v M' → kE M M' → Wx p l e R s m args below meth c own cc nL G Q n' L (kv v st) M' (cb - mc) (sb - ms)) : Wx p l e R s m args below meth c own cc nL G Q pc L st0 M cb sb := fun C H locs ls cells slots hl hm hs z1 z2 => x_goes (va_runU ⟨C.1, C.2.1, C.2.2.1, C.2.2.2.1, C.2.2.2.2.1⟩ hM (va_cwU n C.2.2.2.2.1 w rfl rfl rfl hyx hd hR) ⟨Kt.blind, hC ▸ k_rcv C.2.2.2.2.2.2.2 hm hs hk, Kt.pre C hm hs⟩ rfl hn hl.1 (by rw [hst]) (lv_room hW) d ⟨by omega, by omega⟩) hn2 C hl hs z1 z2 h1 h2 k9
theorem x_callA {y : MethodName} {bytes : ByteArray} {maxL fr lo mc ms n idx : Nat} {ret : Option FieldType} {Qp : Option Value → kM → Prop} {x : MethodName} {owner : String} {b K : Nat} {As st0 : List Value} {Cn : String} (hM : Kt l G y bytes maxL ret fr lo (.ref b :: As) M mc ms Qp) (d : decode cc pc = .ok (.invokevirtual idx, 3)) (hk : mK M b = some K) (hC : kname K = Cn) (w : GoodIn lw_all (va_wsU own idx Cn owner x y (ws_ y bytes maxL ret))) (qd : Cond.declares ⟨owner, x.name, x.desc⟩ ∈ lw_tbl) (hd : owner ≠ "java/lang/invoke/MethodHandle" ∧ owner ≠ "java/lang/invoke/VarHandle" ∧ (parseMethodDescriptor x.desc).map (fun d => d.parameters.length) = some n) (hR : fr + 1 ≤ R.frames ∧ 8 + (maxL + 11) + lo ≤ R.locals) (hn : As.length = n) (hst : st0 = As.reverse ++ .ref b :: st) (hW : (st.map fun v => v.category).sum ≤ 8) (h1 : mc ≤ cb) (h2 : ms ≤ sb) {n' : Nat} (hn2 : pc + 3 = n') (k9 : ∀ v M', Qp v M' → kE M M' → Wx p l e R s m args below meth c own cc nL G Q n' L (kv v st) M' (cb - mc) (sb - ms)) : Wx p l e R s m args below meth c own cc nL G Q pc L st0 M cb sb := fun C H locs ls cells slots hl hm hs z1 z2 => x_goes (va_runU ⟨C.1, C.2.1, C.2.2.1, C.2.2.2.1, C.2.2.2.2.1⟩ hM (va_cwA n C.2.2.2.2.1 w rfl rfl rfl (C.2.2.2.2.2.2.2.2.2.2.2.2.2.2.1 _ qd) hd hR) ⟨Kt.blind, hC ▸ k_rcv C.2.2.2.2.2.2.2 hm hs hk, Kt.pre C hm hs⟩ rfl hn hl.1 (by rw [hst]) (lv_room hW) d ⟨by omega, by omega⟩) hn2 C hl hs z1 z2 h1 h2 k9
theorem x_callO {y : MethodName} {bytes : ByteArray} {maxL fr lo mc ms n idx : Nat} {ret : Option FieldType} {Qp : Option Value → kM → Prop} {x : MethodName} {owner : String} {b K : Nat} {As st0 : List Value} {Cn : String} {b0 : ByteArray} {m0 : Nat} {r0 : Option FieldType} (hM : Kt l G y bytes maxL ret fr lo (.ref b :: As) M mc ms Qp) (d : decode cc pc = .ok (.invokevirtual idx, 3)) (hk : mK M b = some K) (hC : kname K = Cn) (w : GoodIn lw_all (va_wsO own idx Cn owner x y (ws_ y bytes maxL ret))) (q0 : Cond.code ⟨owner, x.name, x.desc⟩ b0 m0 r0 ∈ lw_all) (hd : owner ≠ "java/lang/invoke/MethodHandle" ∧ owner ≠ "java/lang/invoke/VarHandle" ∧ (parseMethodDescriptor x.desc).map (fun d => d.parameters.length) = some n) (hR : fr + 1 ≤ R.frames ∧ 8 + (maxL + 11) + lo ≤ R.locals) (hn : As.length = n) (hst : st0 = As.reverse ++ .ref b :: st) (hW : (st.map fun v => v.category).sum ≤ 8) (h1 : mc ≤ cb) (h2 : ms ≤ sb) {n' : Nat} (hn2 : pc + 3 = n') (k9 : ∀ v M', Qp v M' → kE M M' → Wx p l e R s m args below meth c own cc nL G Q n' L (kv v st) M' (cb - mc) (sb - ms)) : Wx p l e R s m args below meth c own cc nL G Q pc L st0 M cb sb := fun C H locs ls cells slots hl hm hs z1 z2 => x_goes (va_runU ⟨C.1, C.2.1, C.2.2.1, C.2.2.2.1, C.2.2.2.2.1⟩ hM (va_cwO n C.2.2.2.2.1 w rfl rfl rfl q0 hd hR) ⟨Kt.blind, hC ▸ k_rcv C.2.2.2.2.2.2.2 hm hs hk, Kt.pre C hm hs⟩ rfl hn hl.1 (by rw [hst]) (lv_room hW) d ⟨by omega, by omega⟩) hn2 C hl hs z1 z2 h1 h2 k9
theorem x_callSU {y : MethodName} {bytes : ByteArray} {maxL fr lo mc ms n idx : Nat} {ret : Option FieldType} {Qp : Option Value → kM → Prop} {b K : Nat} {As st0 : List Value} (hM : Kt l G y bytes maxL ret fr lo (.ref b :: As) M mc ms Qp) (d : decode cc pc = .ok (.invokespecial idx, 3)) (hk : mK M b = some K) (hK : okK K) (w : GoodIn lw_all (va_wsSU own idx y (ws_ y bytes maxL ret))) (hd : y.name ≠ "<init>" ∧ (parseMethodDescriptor y.desc).map (fun d => d.parameters.length) = some n) (hR : fr + 1 ≤ R.frames ∧ 8 + (maxL + 11) + lo ≤ R.locals) (hn : As.length = n) (hst : st0 = As.reverse ++ .ref b :: st) (hW : (st.map fun v => v.category).sum ≤ 8) (h1 : mc ≤ cb) (h2 : ms ≤ sb) {n' : Nat} (hn2 : pc + 3 = n') (k9 : ∀ v M', Qp v M' → kE M M' → Wx p l e R s m args below meth c own cc nL G Q n' L (kv v st) M' (cb - mc) (sb - ms)) : Wx p l e R s m args below meth c own cc nL G Q pc L st0 M cb sb := fun C H locs ls cells slots hl hm hs z1 z2 => x_goes (va_runSU (k_cls C.2.2.2.2.2.2.2 hK) ⟨C.1, C.2.1, C.2.2.1, C.2.2.2.1, C.2.2.2.2.1⟩ hM (va_cwSU n C.2.2.2.2.1 w rfl rfl rfl hd hR) ⟨Kt.blind,  k_rcv C.2.2.2.2.2.2.2 hm hs hk, Kt.pre C hm hs⟩ rfl hn hl.1 (by rw [hst]) (lv_room hW) d ⟨by omega, by omega⟩) hn2 C hl hs z1 z2 h1 h2 k9
theorem x_callVN {y : MethodName} {bytes : ByteArray} {maxL fr lo mc ms n idx : Nat} {ret : Option FieldType} {Qp : Option Value → kM → Prop} {host : String} {b K : Nat} {As st0 : List Value} {Cn : String} (hM : Kt l G y bytes maxL ret fr lo (.ref b :: As) M mc ms Qp) (d : decode cc pc = .ok (.invokevirtual idx, 3)) (hk : mK M b = some K) (hC : kname K = Cn) (w : GoodIn lw_all (ws_ y bytes maxL ret)) (ql : Cond.methodLinkNest own idx y host ∈ lw_tbl) (qi : Cond.initialized y.cls ∈ lw_all) (qm : Cond.instanceMethod y ∈ lw_all) (qs : Cond.selects Cn y y ∈ lw_all) (hd : y.cls ≠ "java/lang/invoke/MethodHandle" ∧ y.cls ≠ "java/lang/invoke/VarHandle" ∧ (parseMethodDescriptor y.desc).map (fun d => d.parameters.length) = some n) (hR : fr + 1 ≤ R.frames ∧ 8 + (maxL + 11) + lo ≤ R.locals) (hn : As.length = n) (hst : st0 = As.reverse ++ .ref b :: st) (hW : (st.map fun v => v.category).sum ≤ 8) (h1 : mc ≤ cb) (h2 : ms ≤ sb) {n' : Nat} (hn2 : pc + 3 = n') (k9 : ∀ v M', Qp v M' → kE M M' → Wx p l e R s m args below meth c own cc nL G Q n' L (kv v st) M' (cb - mc) (sb - ms)) : Wx p l e R s m args below meth c own cc nL G Q pc L st0 M cb sb := fun C H locs ls cells slots hl hm hs z1 z2 => x_goes (va_runVN ⟨C.1, C.2.1, C.2.2.1, C.2.2.2.1, C.2.2.2.2.1⟩ hM ⟨(va_cnB n C.2.2.2.2.1 w rfl rfl rfl (C.2.2.2.2.2.2.2.2.2.2.1 _ _ _ _ ql) (C.2.2.2.2.1 _ qi) hd hR), C.2.2.2.2.1 _ qm, C.2.2.2.2.1 _ qs⟩ ⟨Kt.blind, hC ▸ k_rcv C.2.2.2.2.2.2.2 hm hs hk, Kt.pre C hm hs⟩ rfl hn hl.1 (by rw [hst]) (lv_room hW) d ⟨by omega, by omega⟩) hn2 C hl hs z1 z2 h1 h2 k9
theorem x_callSN {y : MethodName} {bytes : ByteArray} {maxL fr lo mc ms n idx : Nat} {ret : Option FieldType} {Qp : Option Value → kM → Prop} {host : String} {As st0 : List Value} (hM : Kt l G y bytes maxL ret fr lo As M mc ms Qp) (d : decode cc pc = .ok (.invokestatic idx, 3)) (w : GoodIn lw_all (ws_ y bytes maxL ret)) (ql : Cond.methodLinkNest own idx y host ∈ lw_tbl) (qi : Cond.initialized y.cls ∈ lw_all) (qm : Cond.static y ∈ lw_all) (hd : y.cls ≠ "java/lang/invoke/MethodHandle" ∧ y.cls ≠ "java/lang/invoke/VarHandle" ∧ (parseMethodDescriptor y.desc).map (fun d => d.parameters.length) = some n) (hR : fr + 1 ≤ R.frames ∧ 8 + (maxL + 11) + lo ≤ R.locals) (hn : As.length = n) (hst : st0 = As.reverse ++ st) (hW : (st.map fun v => v.category).sum ≤ 8) (h1 : mc ≤ cb) (h2 : ms ≤ sb) {n' : Nat} (hn2 : pc + 3 = n') (k9 : ∀ v M', Qp v M' → kE M M' → Wx p l e R s m args below meth c own cc nL G Q n' L (kv v st) M' (cb - mc) (sb - ms)) : Wx p l e R s m args below meth c own cc nL G Q pc L st0 M cb sb := fun C H locs ls cells slots hl hm hs z1 z2 => x_goes (va_runSN ⟨C.1, C.2.1, C.2.2.1, C.2.2.2.1, C.2.2.2.2.1⟩ hM ⟨(va_cnB n C.2.2.2.2.1 w rfl rfl rfl (C.2.2.2.2.2.2.2.2.2.2.1 _ _ _ _ ql) (C.2.2.2.2.1 _ qi) hd hR), C.2.2.2.2.1 _ qm, trivial⟩ ⟨Kt.blind, Kt.pre C hm hs⟩ rfl hn hl.1 (by rw [hst]) (lv_room hW) d ⟨by omega, by omega⟩) hn2 C hl hs z1 z2 h1 h2 k9
theorem x_callIN {y : MethodName} {bytes : ByteArray} {maxL fr lo mc ms n idx : Nat} {ret : Option FieldType} {Qp : Option Value → kM → Prop} {host : String} {b : Nat} {As st0 : List Value} (hM : Kt l G y bytes maxL none fr lo (.ref b :: As) M mc ms Qp) (d : decode cc pc = .ok (.invokespecial idx, 3)) (w : GoodIn lw_all (ws_ y bytes maxL none)) (ql : Cond.methodLinkNest own idx y host ∈ lw_tbl) (qi : Cond.initialized y.cls ∈ lw_all) (qm : Cond.instanceMethod y ∈ lw_all) (hy : y.name = "<init>") (hd : y.cls ≠ "java/lang/invoke/MethodHandle" ∧ y.cls ≠ "java/lang/invoke/VarHandle" ∧ (parseMethodDescriptor y.desc).map (fun d => d.parameters.length) = some n) (hR : fr + 1 ≤ R.frames ∧ 8 + (maxL + 11) + lo ≤ R.locals) (hn : As.length = n) (hst : st0 = As.reverse ++ .ref b :: st) (hW : (st.map fun v => v.category).sum ≤ 8) (h1 : mc ≤ cb) (h2 : ms ≤ sb) {n' : Nat} (hn2 : pc + 3 = n') (k9 : ∀ v M', Qp v M' → kE M M' → Wx p l e R s m args below meth c own cc nL G Q n' L (kv v st) M' (cb - mc) (sb - ms)) : Wx p l e R s m args below meth c own cc nL G Q pc L st0 M cb sb := fun C H locs ls cells slots hl hm hs z1 z2 => x_goes (va_runIN ⟨C.1, C.2.1, C.2.2.1, C.2.2.2.1, C.2.2.2.2.1⟩ hM ⟨(va_cnB n C.2.2.2.2.1 w rfl rfl rfl (C.2.2.2.2.2.2.2.2.2.2.1 _ _ _ _ ql) (C.2.2.2.2.1 _ qi) hd hR), hy, C.2.2.2.2.1 _ qm⟩ ⟨Kt.blind, Kt.pre C hm hs⟩ rfl hn hl.1 (by rw [hst]) (lv_room hW) d ⟨by omega, by omega⟩) hn2 C hl hs z1 z2 h1 h2 k9
theorem x_callF {y : MethodName} {bytes : ByteArray} {maxL fr lo mc ms n idx : Nat} {ret : Option FieldType} {Qp : Option Value → kM → Prop} {x : MethodName} {b K count : Nat} {As st0 : List Value} {Cn : String} (hM : Kt l G y bytes maxL ret fr lo (.ref b :: As) M mc ms Qp) (d : decode cc pc = .ok (.invokeinterface idx count, 5)) (hk : mK M b = some K) (hK : okK K) (hC : kname K = Cn) (w : GoodIn lw_all (va_wsF own idx Cn x y (ws_ y bytes maxL ret))) (hF : FwW Cn x y) (hd : x.cls ≠ "java/lang/invoke/MethodHandle" ∧ x.cls ≠ "java/lang/invoke/VarHandle" ∧ (parseMethodDescriptor x.desc).map (fun d => d.parameters.length) = some n) (hR : fr + 1 ≤ R.frames ∧ 8 + (maxL + 11) + lo ≤ R.locals) (hn : As.length = n) (hst : st0 = As.reverse ++ .ref b :: st) (hW : (st.map fun v => v.category).sum ≤ 8) (h1 : mc ≤ cb) (h2 : ms ≤ sb) {n' : Nat} (hn2 : pc + 5 = n') (k9 : ∀ v M', Qp v M' → kE M M' → Wx p l e R s m args below meth c own cc nL G Q n' L (kv v st) M' (cb - mc) (sb - ms)) : Wx p l e R s m args below meth c own cc nL G Q pc L st0 M cb sb := fun C H locs ls cells slots hl hm hs z1 z2 => x_goes5 (va_runF (C := Cn) (hC ▸ k_cls C.2.2.2.2.2.2.2 hK) ⟨C.1, C.2.1, C.2.2.1, C.2.2.2.1, C.2.2.2.2.1⟩ hM (va_cwF n C.2.2.2.2.1 w rfl rfl rfl (C.2.2.2.2.2.2.2.2.2.2.2.2.1 _ _ _ hF) hd hR) ⟨Kt.blind, hC ▸ k_rcv C.2.2.2.2.2.2.2 hm hs hk, Kt.pre C hm hs⟩ rfl hn hl.1 (by rw [hst]) (lv_room hW) d ⟨by omega, by omega⟩) hn2 C hl hs z1 z2 h1 h2 k9
theorem x_iret {v : Int32} {M0 : kM} {mc ms fr lo : Nat} {Qp : Option Value → kM → Prop} (d : decode cc pc = .ok (.ireturn, 1)) (hr : meth.sig.returnType = some .int) (hE : kE M0 M) (hq : Qp (some (.int v)) M) : Wx p l e { frames := fr, cells := mc, slots := ms, locals := lo } s m args below meth c own cc nL G (MQ below (KQ G M0 Qp) args s mc ms (kA G)) pc L [.int v] M cb sb := fun C H locs ls cells slots hl hm hs z1 z2 => by
  refine W.widen (k := mc) (n := ms) (by dsimp only at z1; omega) (by dsimp only at z2; omega) ?_
  exact W.iret C.1 C.2.1 hr (fun t ht hW => ⟨⟨_, M, rfl, hq, hE, by rw [ht]; exact hm⟩, hs.F ht⟩) hs.2.2 d (hlocks := C.2.2.2.2.2.1)
theorem x_zret {v : Int32} {M0 : kM} {mc ms fr lo : Nat} {Qp : Option Value → kM → Prop} (d : decode cc pc = .ok (.ireturn, 1)) {ty : FieldType} (hr : meth.sig.returnType = some ty) (hv : narrow ty (.int v) = .int v) (hE : kE M0 M) (hq : Qp (some (.int v)) M) : Wx p l e { frames := fr, cells := mc, slots := ms, locals := lo } s m args below meth c own cc nL G (MQ below (KQ G M0 Qp) args s mc ms (kA G)) pc L [.int v] M cb sb := fun C H locs ls cells slots hl hm hs z1 z2 => by
  refine W.widen (k := mc) (n := ms) (by dsimp only at z1; omega) (by dsimp only at z2; omega) ?_
  exact W.zret C.1 C.2.1 hr hv (fun t ht hW => ⟨⟨_, M, rfl, hq, hE, by rw [ht]; exact hm⟩, hs.F ht⟩) hs.2.2 d (hlocks := C.2.2.2.2.2.1)
theorem x_lret {v : Int64} {M0 : kM} {mc ms fr lo : Nat} {Qp : Option Value → kM → Prop} (d : decode cc pc = .ok (.lreturn, 1)) (hr : meth.sig.returnType = some .long) (hE : kE M0 M) (hq : Qp (some (.long v)) M) : Wx p l e { frames := fr, cells := mc, slots := ms, locals := lo } s m args below meth c own cc nL G (MQ below (KQ G M0 Qp) args s mc ms (kA G)) pc L [.long v] M cb sb := fun C H locs ls cells slots hl hm hs z1 z2 => by
  refine W.widen (k := mc) (n := ms) (by dsimp only at z1; omega) (by dsimp only at z2; omega) ?_
  exact W.lret C.1 C.2.1 hr (fun t ht hW => ⟨⟨_, M, rfl, hq, hE, by rw [ht]; exact hm⟩, hs.F ht⟩) hs.2.2 d (hlocks := C.2.2.2.2.2.1)
theorem x_vret  {M0 : kM} {mc ms fr lo : Nat} {Qp : Option Value → kM → Prop} (d : decode cc pc = .ok (.return_, 1)) (hr : meth.sig.returnType = none) (hE : kE M0 M) (hq : Qp none M) : Wx p l e { frames := fr, cells := mc, slots := ms, locals := lo } s m args below meth c own cc nL G (MQ below (KQ G M0 Qp) args s mc ms (kA G)) pc L [] M cb sb := fun C H locs ls cells slots hl hm hs z1 z2 => by
  refine W.widen (k := mc) (n := ms) (by dsimp only at z1; omega) (by dsimp only at z2; omega) ?_
  exact W.vret C.1 C.2.1 hr (fun t ht hW => ⟨⟨_, M, rfl, hq, hE, by rw [ht]; exact hm⟩, hs.F ht⟩) hs.2.2 d (hlocks := C.2.2.2.2.2.1)
theorem x_aret {v : Nat} {M0 : kM} {mc ms fr lo : Nat} {Qp : Option Value → kM → Prop} (d : decode cc pc = .ok (.areturn, 1)) {rt : FieldType} (hr : meth.sig.returnType = some rt) (hrt : (∃ n, rt = .object n) ∨ ∃ t, rt = .array t) (hE : kE M0 M) (hq : Qp (some (.ref v)) M) : Wx p l e { frames := fr, cells := mc, slots := ms, locals := lo } s m args below meth c own cc nL G (MQ below (KQ G M0 Qp) args s mc ms (kA G)) pc L [.ref v] M cb sb := fun C H locs ls cells slots hl hm hs z1 z2 => by
  refine W.widen (k := mc) (n := ms) (by dsimp only at z1; omega) (by dsimp only at z2; omega) ?_
  exact W.aret C.1 C.2.1 hr hrt (Or.inr ⟨v, rfl⟩) (fun t ht hW => ⟨⟨_, M, rfl, hq, hE, by rw [ht]; exact hm⟩, hs.F ht⟩) hs.2.2 d (hlocks := C.2.2.2.2.2.1)
theorem x_aretN  {M0 : kM} {mc ms fr lo : Nat} {Qp : Option Value → kM → Prop} (d : decode cc pc = .ok (.areturn, 1)) {rt : FieldType} (hr : meth.sig.returnType = some rt) (hrt : (∃ n, rt = .object n) ∨ ∃ t, rt = .array t) (hE : kE M0 M) (hq : Qp (some .null) M) : Wx p l e { frames := fr, cells := mc, slots := ms, locals := lo } s m args below meth c own cc nL G (MQ below (KQ G M0 Qp) args s mc ms (kA G)) pc L [.null] M cb sb := fun C H locs ls cells slots hl hm hs z1 z2 => by
  refine W.widen (k := mc) (n := ms) (by dsimp only at z1; omega) (by dsimp only at z2; omega) ?_
  exact W.aret C.1 C.2.1 hr hrt (Or.inl rfl) (fun t ht hW => ⟨⟨_, M, rfl, hq, hE, by rw [ht]; exact hm⟩, hs.F ht⟩) hs.2.2 d (hlocks := C.2.2.2.2.2.1)
theorem x_aretq {v : Option Nat} {M0 : kM} {mc ms fr lo : Nat} {Qp : Option Value → kM → Prop} (d : decode cc pc = .ok (.areturn, 1)) {rt : FieldType} (hr : meth.sig.returnType = some rt) (hrt : (∃ n, rt = .object n) ∨ ∃ t, rt = .array t) (hE : kE M0 M) (hq : Qp (some (va_rf v)) M) : Wx p l e { frames := fr, cells := mc, slots := ms, locals := lo } s m args below meth c own cc nL G (MQ below (KQ G M0 Qp) args s mc ms (kA G)) pc L [va_rf v] M cb sb := fun C H locs ls cells slots hl hm hs z1 z2 => by
  refine W.widen (k := mc) (n := ms) (by dsimp only at z1; omega) (by dsimp only at z2; omega) ?_
  exact W.aret C.1 C.2.1 hr hrt (by cases v with | none => exact Or.inl rfl | some a => exact Or.inr ⟨a, rfl⟩) (fun t ht hW => ⟨⟨_, M, rfl, hq, hE, by rw [ht]; exact hm⟩, hs.F ht⟩) hs.2.2 d (hlocks := C.2.2.2.2.2.1)
end WY
/-- the locals at a method's entry -/
def kargs : List Value → List (Option Value)
  | [] => []
  | .long x :: t => some (.long x) :: none :: kargs t
  | .double x :: t => some (.double x) :: none :: kargs t
  | v :: t => some v :: kargs t
theorem kargs_in : ∀ (av : List Value) (k i : Nat) (v : Value), (kargs av)[i]? = some (some v) → (k + i, v) ∈ lv_args k av
  | [], k, i, v, h => by simp [kargs] at h
  | .long x :: t, k, i, v, h => by
    match i, h with
    | 0, h => simp [kargs] at h; subst h; simp [lv_args]
    | 1, h => simp [kargs] at h
    | i + 2, h =>
      simp only [kargs, List.getElem?_cons_succ] at h
      have := kargs_in t (k + 2) i v h
      simp only [lv_args, List.mem_cons]
      exact Or.inr (by simpa [Value.category, Nat.add_assoc, Nat.add_comm, Nat.add_left_comm] using this)
  | .double x :: t, k, i, v, h => by
    match i, h with
    | 0, h => simp [kargs] at h; subst h; simp [lv_args]
    | 1, h => simp [kargs] at h
    | i + 2, h =>
      simp only [kargs, List.getElem?_cons_succ] at h
      have := kargs_in t (k + 2) i v h
      simp only [lv_args, List.mem_cons]
      exact Or.inr (by simpa [Value.category, Nat.add_assoc, Nat.add_comm, Nat.add_left_comm] using this)
  | .int x :: t, k, i, v, h => by
    match i, h with
    | 0, h => simp [kargs] at h; subst h; simp [lv_args]
    | i + 1, h =>
      simp only [kargs, List.getElem?_cons_succ] at h
      have := kargs_in t (k + 1) i v h
      simp only [lv_args, List.mem_cons]
      exact Or.inr (by simpa [Value.category, Nat.add_assoc, Nat.add_comm, Nat.add_left_comm] using this)
  | .float x :: t, k, i, v, h => by
    match i, h with
    | 0, h => simp [kargs] at h; subst h; simp [lv_args]
    | i + 1, h =>
      simp only [kargs, List.getElem?_cons_succ] at h
      have := kargs_in t (k + 1) i v h
      simp only [lv_args, List.mem_cons]
      exact Or.inr (by simpa [Value.category, Nat.add_assoc, Nat.add_comm, Nat.add_left_comm] using this)
  | .ref x :: t, k, i, v, h => by
    match i, h with
    | 0, h => simp [kargs] at h; subst h; simp [lv_args]
    | i + 1, h =>
      simp only [kargs, List.getElem?_cons_succ] at h
      have := kargs_in t (k + 1) i v h
      simp only [lv_args, List.mem_cons]
      exact Or.inr (by simpa [Value.category, Nat.add_assoc, Nat.add_comm, Nat.add_left_comm] using this)
  | .null :: t, k, i, v, h => by
    match i, h with
    | 0, h => simp [kargs] at h; subst h; simp [lv_args]
    | i + 1, h =>
      simp only [kargs, List.getElem?_cons_succ] at h
      have := kargs_in t (k + 1) i v h
      simp only [lv_args, List.mem_cons]
      exact Or.inr (by simpa [Value.category, Nat.add_assoc, Nat.add_comm, Nat.add_left_comm] using this)
  | .retAddr x :: t, k, i, v, h => by
    match i, h with
    | 0, h => simp [kargs] at h; subst h; simp [lv_args]
    | i + 1, h =>
      simp only [kargs, List.getElem?_cons_succ] at h
      have := kargs_in t (k + 1) i v h
      simp only [lv_args, List.mem_cons]
      exact Or.inr (by simpa [Value.category, Nat.add_assoc, Nat.add_comm, Nat.add_left_comm] using this)
/-- A CONTRACT OUT OF A WALK -/
theorem Kt.of {l : Launch} {G : kG} {y : MethodName} {cc : ByteArray} {nL : Nat} {ret : Option FieldType} {fr lo : Nat} {av : List Value} {M : kM} {mc ms : Nat} {Qp : Option Value → kM → Prop} {own : String} {L : List (Option Value)} (hy : plainName y.cls = true) (hown : y.cls = own) (hn : (lg_sl av).length ≤ nL) (hL : kargs av ++ List.replicate (nL - (lg_sl av).length) none = L)
    (body : ∀ (p : Program) (e : Env) (s : State) (m : MethodId) (args : Array Value) (below : List Frame) (meth : Method) (c : Code), meth.name = y.name → meth.sig.returnType = ret →
      Wx p l e { frames := fr, cells := mc, slots := ms, locals := lo } s m args below meth c own cc nL G (MQ below (KQ G M Qp) args s mc ms (kA G)) 0 L [] M mc ms) : Kt l G y cc nL ret fr lo av M mc ms Qp := by
  subst hown
  refine Met.ofW (cc := cc) (maxL := nL) (ret := ret) hy rfl ?_
  intro p e s m args below meth c s₁ B hml hv
  obtain ⟨rfl, hB, hG, hm⟩ := hv
  have hts := atoms_spec (ws := ws_ y cc nL ret) B.pre
  have hts : ∀ w ∈ lw_all, w.before _ s = true := fun w h => hts w (List.mem_cons_of_mem _ h)
  have hown : s.vm.findClass y.cls = some m.cls := findClass_of_methodNamed B.named
  have hl := lv_entry av (n := nL) hn
  rw [lg_entry_eq]
  generalize (lg_sl av ++ List.replicate (nL - (lg_sl av).length) Slot.unset).toArray = ls at hl ⊢
  refine body p e s m _ below meth c (name_of_methodNamed B.named B.method).1 B.returns ⟨B.exec, B.bytes, hml, hown, hts, B.notSynchronized, hB, hG⟩ s.heap [] ls 0 0 ⟨hl.1, hl.2.1, fun i v hv => ?_⟩ hm va_S.rf (by simp) (by simp)
  subst hL
  by_cases hi : i < (kargs av).length
  · rw [List.getElem?_append_left hi] at hv
    have := kargs_in av 0 i v hv
    rw [Nat.zero_add] at this
    exact hl.2.2 (i, v) this
  · rw [List.getElem?_append_right (by omega), List.getElem?_replicate] at hv
    split at hv <;> cases hv
