/-! ===== THE LAYER Wx: an abstract memory, its relation to the heap, one row an instruction (written by gen/mklayer.py) ===== -/
set_option maxRecDepth 100000
theorem k_no0 (T : u_T) : ∀ w ∈ u_ws "KeptLight$ByRank" T 0, w ∈ lw_all := fun w h => absurd h (by simp [u_ws])
def kKs : List Nat := [0, 1, 2, 3, 4, 5, 7, 8, 9, 10, 11, 12, 13, 14, 15, 19, 20, 22, 23, 24, 25, 26, 41, 45, 46, 61, 69, 76, 77, 78, 82, 84, 88, 90]
def cC : Nat → String := fun K => match K with
  | 0 => "KeptLight"
  | 1 => "KeptLight$World"
  | 2 => "KeptLight$Coming"
  | 3 => "KeptLight$ByRank"
  | 4 => "KeptLight$Hour"
  | 5 => "KeptLight$Sights"
  | 7 => "KeptLight$Sight"
  | 8 => "KeptLight$Sheet"
  | 9 => "KeptLightModel"
  | 10 => "KeptLight$Refused"
  | 11 => "KeptLight$Reader"
  | 12 => "KeptLight$Crowd"
  | 13 => "KeptLight$Fault"
  | 14 => "KeptLight$Spell"
  | 15 => "KeptLight$Keeper"
  | 19 => "KeptLight$Fisher"
  | 20 => "KeptLight$Pilot"
  | 22 => "KeptLight$Coaster"
  | 23 => "KeptLight$Liner"
  | 24 => "KeptLight$Mail"
  | 25 => "KeptLight$Entry"
  | 26 => "KeptLight$Difference"
  | 41 => "java/util/TreeMap"
  | 45 => "java/util/ArrayList"
  | 46 => "java/util/BitSet"
  | 61 => "java/lang/Integer"
  | 69 => "java/util/LinkedList"
  | 76 => "java/util/ImmutableCollections$ListN"
  | 77 => "java/util/LinkedList$Node"
  | 78 => "java/util/ArrayList$Itr"
  | 82 => "java/util/LinkedList$ListItr"
  | 84 => "java/util/TreeMap$ValueIterator"
  | 88 => "java/util/TreeMap$Entry"
  | 90 => "java/util/TreeMap$Values"
  | _ => ""
def cT : Nat → u_T := fun K => match K with
  | 0 => TX0
  | 1 => TX1
  | 2 => TX2
  | 4 => TX4
  | 5 => TX5
  | 7 => TX7
  | 8 => TX8
  | 9 => TX9
  | 10 => TX10
  | 11 => TX11
  | 12 => TX12
  | 13 => TX13
  | 14 => TX14
  | 15 => TX15
  | 19 => TX19
  | 20 => TX20
  | 22 => TX22
  | 23 => TX23
  | 24 => TX24
  | 25 => TX25
  | 26 => TX26
  | 41 => TJ1
  | 45 => TJ5
  | 46 => TJ6
  | 61 => TJ21
  | 69 => TJ29
  | 76 => TJ36
  | 77 => TJ37
  | 78 => TJ38
  | 82 => TJ42
  | 84 => TJ44
  | 88 => TJ48
  | 90 => TJ50
  | _ => fun _ => ("", "", "", false)
def cN : Nat → Nat := fun K => match K with
  | 0 => 8
  | 1 => 22
  | 2 => 3
  | 3 => 0
  | 4 => 1
  | 5 => 1
  | 7 => 4
  | 8 => 1
  | 9 => 21
  | 10 => 7
  | 11 => 2
  | 12 => 7
  | 13 => 7
  | 14 => 2
  | 15 => 5
  | 19 => 4
  | 20 => 4
  | 22 => 4
  | 23 => 4
  | 24 => 4
  | 25 => 4
  | 26 => 2
  | 41 => 9
  | 45 => 3
  | 46 => 3
  | 61 => 1
  | 69 => 4
  | 76 => 2
  | 77 => 3
  | 78 => 4
  | 82 => 5
  | 84 => 4
  | 88 => 6
  | 90 => 1
  | _ => 0
def cY : Nat → Nat → FieldType := fun K => match K with
  | 0 => tyX0
  | 1 => tyX1
  | 2 => tyX2
  | 4 => tyX4
  | 5 => tyX5
  | 7 => tyX7
  | 8 => tyX8
  | 9 => tyX9
  | 10 => tyX10
  | 11 => tyX11
  | 12 => tyX12
  | 13 => tyX13
  | 14 => tyX14
  | 15 => tyX15
  | 19 => tyX19
  | 20 => tyX20
  | 22 => tyX22
  | 23 => tyX23
  | 24 => tyX24
  | 25 => tyX25
  | 26 => tyX26
  | 41 => tyJ1
  | 45 => tyJ5
  | 46 => tyJ6
  | 61 => tyJ21
  | 69 => tyJ29
  | 76 => tyJ36
  | 77 => tyJ37
  | 78 => tyJ38
  | 82 => tyJ42
  | 84 => tyJ44
  | 88 => tyJ48
  | 90 => tyJ50
  | _ => fun _ => .int
def aty : Nat → FieldType := fun K => match K with
  | 120 => .int
  | 121 => .byte
  | 122 => .short
  | 123 => .boolean
  | 124 => .long
  | 125 => .object "java/lang/Object"
  | 126 => .object "KeptLight$Sight"
  | 127 => .object "KeptLight$Sheet"
  | _ => .int
def kname : Nat → String := fun K => match K with
  | 0 => "KeptLight"
  | 1 => "KeptLight$World"
  | 2 => "KeptLight$Coming"
  | 3 => "KeptLight$ByRank"
  | 4 => "KeptLight$Hour"
  | 5 => "KeptLight$Sights"
  | 7 => "KeptLight$Sight"
  | 8 => "KeptLight$Sheet"
  | 9 => "KeptLightModel"
  | 10 => "KeptLight$Refused"
  | 11 => "KeptLight$Reader"
  | 12 => "KeptLight$Crowd"
  | 13 => "KeptLight$Fault"
  | 14 => "KeptLight$Spell"
  | 15 => "KeptLight$Keeper"
  | 19 => "KeptLight$Fisher"
  | 20 => "KeptLight$Pilot"
  | 22 => "KeptLight$Coaster"
  | 23 => "KeptLight$Liner"
  | 24 => "KeptLight$Mail"
  | 25 => "KeptLight$Entry"
  | 26 => "KeptLight$Difference"
  | 41 => "java/util/TreeMap"
  | 45 => "java/util/ArrayList"
  | 46 => "java/util/BitSet"
  | 61 => "java/lang/Integer"
  | 69 => "java/util/LinkedList"
  | 76 => "java/util/ImmutableCollections$ListN"
  | 77 => "java/util/LinkedList$Node"
  | 78 => "java/util/ArrayList$Itr"
  | 82 => "java/util/LinkedList$ListItr"
  | 84 => "java/util/TreeMap$ValueIterator"
  | 88 => "java/util/TreeMap$Entry"
  | 90 => "java/util/TreeMap$Values"
  | 120 => "[I"
  | 121 => "[B"
  | 122 => "[S"
  | 123 => "[Z"
  | 124 => "[J"
  | 125 => "[Ljava/lang/Object;"
  | 126 => "[LKeptLight$Sight;"
  | 127 => "[LKeptLight$Sheet;"
  | 200 => "KeptLight$Weather$1"
  | 201 => "KeptLight$Weather$2"
  | 202 => "KeptLight$Weather$3"
  | 203 => "KeptLight$Rank$1"
  | 204 => "KeptLight$Rank$2"
  | 205 => "KeptLight$Rank$3"
  | 206 => "[Ljava/lang/Object;"
  | 207 => "java/lang/Integer"
  | 208 => "java/lang/String"
  | _ => ""
/-- fields of the ships' classes have common names -/
def kgr : Nat → Nat := fun K => match K with
  | 20 => 19
  | 22 => 19
  | 23 => 19
  | 24 => 19
  | K => K
def fc (K k : Nat) : Nat := 32 * kgr K + k
abbrev okK (K : Nat) : Prop := K ∈ kKs
theorem k_in : ∀ K, okK K → ∀ w ∈ u_ws (cC K) (cT K) (cN K), w ∈ lw_all := by
  intro K h
  simp only [okK, kKs, List.mem_cons, List.not_mem_nil, or_false] at h
  rcases h with rfl | rfl | rfl | rfl | rfl | rfl | rfl | rfl | rfl | rfl | rfl | rfl | rfl | rfl | rfl | rfl | rfl | rfl | rfl | rfl | rfl | rfl | rfl | rfl | rfl | rfl | rfl | rfl | rfl | rfl | rfl | rfl | rfl | rfl
  · exact in_X0
  · exact in_X1
  · exact in_X2
  · exact k_no0 _
  · exact in_X4
  · exact in_X5
  · exact in_X7
  · exact in_X8
  · exact in_X9
  · exact in_X10
  · exact in_X11
  · exact in_X12
  · exact in_X13
  · exact in_X14
  · exact in_X15
  · exact in_X19
  · exact in_X20
  · exact in_X22
  · exact in_X23
  · exact in_X24
  · exact in_X25
  · exact in_X26
  · exact in_J1
  · exact in_J5
  · exact in_J6
  · exact in_J21
  · exact in_J29
  · exact in_J36
  · exact in_J37
  · exact in_J38
  · exact in_J42
  · exact in_J44
  · exact in_J48
  · exact in_J50
theorem k_ty : ∀ K, okK K → ∀ k, k < cN K → parseFieldDescriptor (cT K k).2.2.1 = some (cY K k) := by
  intro K h
  simp only [okK, kKs, List.mem_cons, List.not_mem_nil, or_false] at h
  rcases h with rfl | rfl | rfl | rfl | rfl | rfl | rfl | rfl | rfl | rfl | rfl | rfl | rfl | rfl | rfl | rfl | rfl | rfl | rfl | rfl | rfl | rfl | rfl | rfl | rfl | rfl | rfl | rfl | rfl | rfl | rfl | rfl | rfl | rfl
  · exact tyX0_ok
  · exact tyX1_ok
  · exact tyX2_ok
  · exact fun k h => absurd h (Nat.not_lt_zero k)
  · exact tyX4_ok
  · exact tyX5_ok
  · exact tyX7_ok
  · exact tyX8_ok
  · exact tyX9_ok
  · exact tyX10_ok
  · exact tyX11_ok
  · exact tyX12_ok
  · exact tyX13_ok
  · exact tyX14_ok
  · exact tyX15_ok
  · exact tyX19_ok
  · exact tyX20_ok
  · exact tyX22_ok
  · exact tyX23_ok
  · exact tyX24_ok
  · exact tyX25_ok
  · exact tyX26_ok
  · exact tyJ1_ok
  · exact tyJ5_ok
  · exact tyJ6_ok
  · exact tyJ21_ok
  · exact tyJ29_ok
  · exact tyJ36_ok
  · exact tyJ37_ok
  · exact tyJ38_ok
  · exact tyJ42_ok
  · exact tyJ44_ok
  · exact tyJ48_ok
  · exact tyJ50_ok
theorem k_nm : ∀ K, okK K → ∀ a, a < cN K → ∀ b, b < cN K → a ≠ b → (cT K a).2.1 ≠ (cT K b).2.1 := by
  intro K h
  simp only [okK, kKs, List.mem_cons, List.not_mem_nil, or_false] at h
  rcases h with rfl | rfl | rfl | rfl | rfl | rfl | rfl | rfl | rfl | rfl | rfl | rfl | rfl | rfl | rfl | rfl | rfl | rfl | rfl | rfl | rfl | rfl | rfl | rfl | rfl | rfl | rfl | rfl | rfl | rfl | rfl | rfl | rfl | rfl
  · exact nmX0
  · exact nmX1
  · exact nmX2
  · exact fun k h => absurd h (Nat.not_lt_zero k)
  · exact nmX4
  · exact nmX5
  · exact nmX7
  · exact nmX8
  · exact nmX9
  · exact nmX10
  · exact nmX11
  · exact nmX12
  · exact nmX13
  · exact nmX14
  · exact nmX15
  · exact nmX19
  · exact nmX20
  · exact nmX22
  · exact nmX23
  · exact nmX24
  · exact nmX25
  · exact nmX26
  · exact nmJ1
  · exact nmJ5
  · exact nmJ6
  · exact nmJ21
  · exact nmJ29
  · exact nmJ36
  · exact nmJ37
  · exact nmJ38
  · exact nmJ42
  · exact nmJ44
  · exact nmJ48
  · exact nmJ50
theorem k_lt : ∀ K, okK K → K < 120 ∧ cN K ≤ 22 := by
  intro K h
  simp only [okK, kKs, List.mem_cons, List.not_mem_nil, or_false] at h
  rcases h with rfl | rfl | rfl | rfl | rfl | rfl | rfl | rfl | rfl | rfl | rfl | rfl | rfl | rfl | rfl | rfl | rfl | rfl | rfl | rfl | rfl | rfl | rfl | rfl | rfl | rfl | rfl | rfl | rfl | rfl | rfl | rfl | rfl | rfl <;> decide
theorem k_nameK : ∀ K, okK K → kname K = cC K := by
  intro K h
  simp only [okK, kKs, List.mem_cons, List.not_mem_nil, or_false] at h
  rcases h with rfl | rfl | rfl | rfl | rfl | rfl | rfl | rfl | rfl | rfl | rfl | rfl | rfl | rfl | rfl | rfl | rfl | rfl | rfl | rfl | rfl | rfl | rfl | rfl | rfl | rfl | rfl | rfl | rfl | rfl | rfl | rfl | rfl | rfl <;> rfl
/-! the abstract memory: kinds of addresses, int fields, reference fields, lengths, int arrays (byte, short, boolean too), long arrays, arrays of references, ghost owners -/
abbrev kM : Type := (Nat → Option Nat) × (Nat → Nat → Int32) × (Nat → Nat → Option Nat) × (Nat → Nat) × (Nat → Nat → Int32) × (Nat → Nat → Int64) × (Nat → Nat → Option Nat) × (Nat → Nat)
def mK (M : kM) : Nat → Option Nat := M.1
def mI (M : kM) : Nat → Nat → Int32 := M.2.1
def mR (M : kM) : Nat → Nat → Option Nat := M.2.2.1
def mN (M : kM) : Nat → Nat := M.2.2.2.1
def mA (M : kM) : Nat → Nat → Int32 := M.2.2.2.2.1
def mL (M : kM) : Nat → Nat → Int64 := M.2.2.2.2.2.1
def mO (M : kM) : Nat → Nat → Option Nat := M.2.2.2.2.2.2.1
def mG (M : kM) : Nat → Nat := M.2.2.2.2.2.2.2
def u2 {α : Type} (f : Nat → Nat → α) (c a : Nat) (v : α) : Nat → Nat → α := fun c' a' => if c' = c ∧ a' = a then v else f c' a'
def sI (M : kM) (c a : Nat) (v : Int32) : kM := (mK M, u2 (mI M) c a v, mR M, mN M, mA M, mL M, mO M, mG M)
def sR (M : kM) (c a : Nat) (v : Option Nat) : kM := (mK M, mI M, u2 (mR M) c a v, mN M, mA M, mL M, mO M, mG M)
def sA (M : kM) (a : Nat) (f : Nat → Int32) : kM := (mK M, mI M, mR M, mN M, va_up (mA M) a f, mL M, mO M, mG M)
def sL (M : kM) (a : Nat) (f : Nat → Int64) : kM := (mK M, mI M, mR M, mN M, mA M, va_up (mL M) a f, mO M, mG M)
def sO (M : kM) (a : Nat) (f : Nat → Option Nat) : kM := (mK M, mI M, mR M, mN M, mA M, mL M, va_up (mO M) a f, mG M)
def sG (M : kM) (a o : Nat) : kM := (mK M, mI M, mR M, mN M, mA M, mL M, mO M, va_up (mG M) a o)
/-- a new object: its fields are 0 and null -/
def nO (M : kM) (a K : Nat) : kM := (va_up (mK M) a (some K), (fun c b => if b = a then 0 else mI M c b), (fun c b => if b = a then none else mR M c b), mN M, mA M, mL M, mO M, mG M)
/-- a new array -/
def nA (M : kM) (a K n : Nat) : kM := (va_up (mK M) a (some K), mI M, mR M, va_up (mN M) a n, va_up (mA M) a (fun _ => 0), va_up (mL M) a (fun _ => 0), va_up (mO M) a (fun _ => none), mG M)
theorem u2_s {α : Type} {f : Nat → Nat → α} {c a : Nat} {v : α} : u2 f c a v c a = v := if_pos ⟨rfl, rfl⟩
theorem u2_c {α : Type} {f : Nat → Nat → α} {c a c' a' : Nat} {v : α} (h : c' ≠ c) : u2 f c a v c' a' = f c' a' := if_neg (fun q => h q.1)
theorem u2_a {α : Type} {f : Nat → Nat → α} {c a c' a' : Nat} {v : α} (h : a' ≠ a) : u2 f c a v c' a' = f c' a' := if_neg (fun q => h q.2)
abbrev kG : Type := va_G × (Nat → ClassId) × (Nat × (Nat → Prop)) × (Nat → Nat)
/-- addresses that may be written -/
def kA (G : kG) : Nat → Prop := G.2.2.1.2
/-- so many cells that all new ones may be written -/
def kB (G : kG) (n : Nat) : Prop := G.2.2.1.1 ≤ n ∧ ∀ q, n ≤ q → kA G q
theorem kB.mono {G : kG} {n k : Nat} (h : kB G n) (hk : n ≤ k) : kB G k := ⟨Nat.le_trans h.1 hk, fun q hq => h.2 q (Nat.le_trans hk hq)⟩
/-- the value of a field, by its type -/
def fv (M : kM) (K k a : Nat) : Value := if (cY K k).isReference = true then va_rf (mR M (fc K k) a) else .int (mI M (fc K k) a)
def acell (G : kG) (M : kM) (a K : Nat) : Cell := if K = 124 then vp_cell (G.2.1 K) (mN M a, .inr (.inl (mL M a))) else if K < 125 then vp_cell (G.2.1 K) (mN M a, .inl (mA M a)) else vp_cell (G.2.1 K) (mN M a, .inr (.inr (.inr (.inr (mO M a)))))
/-- what the heap holds at an address of a kind -/
def hE (G : kG) (M : kM) (H : Heap) (a K : Nat) : Prop := (K < 120 → okK K ∧ kA G a ∧ t_OB a (G.1.1 K) (cN K) (G.1.2 K) H (fun k => fv M K k a)) ∧ (120 ≤ K → K < 200 → K < 128 ∧ kA G a ∧ H[a]? = some (acell G M a K)) ∧ (200 ≤ K → a < G.2.2.1.1 ∧ ((K < 207 → a = G.2.2.2 (K - 200)) ∧ (K = 207 → ∃ j, j < 256 ∧ a = G.2.2.2 (100 + j)) ∧ (K = 208 → a = G.2.2.2 8) ∧ K < 209))
def Hm (G : kG) (M : kM) (H : Heap) : Prop := ∀ a K, mK M a = some K → hE G M H a K
/-- kinds stay -/
def kE (M M' : kM) : Prop := ∀ a K, mK M a = some K → mK M' a = some K
theorem kE.rf {M : kM} : kE M M := fun _ _ h => h
theorem kE.tr {M M1 M2 : kM} (h : kE M M1) (h2 : kE M1 M2) : kE M M2 := fun a K q => h2 a K (h a K q)
def kNc : List (String × String) := [("KeptLight$Coaster", "KeptLight$Fisher"), ("KeptLight$Coaster", "KeptLight$Liner"), ("KeptLight$Coaster", "KeptLight$Mail"), ("KeptLight$Coaster", "KeptLight$Pilot"), ("KeptLight$Coaster", "KeptLight$Small"), ("KeptLight$Coaster", "[B"), ("KeptLight$Coaster", "[I"), ("KeptLight$Coaster", "[J"), ("KeptLight$Coaster", "[S"), ("KeptLight$Coaster", "[Z"), ("KeptLight$Crowd", "KeptLight$Fault"), ("KeptLight$Crowd", "KeptLight$Refused"), ("KeptLight$Crowd", "java/lang/ArrayIndexOutOfBoundsException"), ("KeptLight$Crowd", "java/lang/ArrayStoreException"), ("KeptLight$Crowd", "java/lang/ClassCastException"), ("KeptLight$Crowd", "java/lang/IndexOutOfBoundsException"), ("KeptLight$Crowd", "java/lang/NegativeArraySizeException"), ("KeptLight$Crowd", "java/lang/NullPointerException"), ("KeptLight$Fault", "KeptLight$Crowd"), ("KeptLight$Fault", "KeptLight$Refused"), ("KeptLight$Fault", "java/lang/ArrayIndexOutOfBoundsException"), ("KeptLight$Fault", "java/lang/ArrayStoreException"), ("KeptLight$Fault", "java/lang/ClassCastException"), ("KeptLight$Fault", "java/lang/IndexOutOfBoundsException"), ("KeptLight$Fault", "java/lang/NegativeArraySizeException"), ("KeptLight$Fault", "java/lang/NullPointerException"), ("KeptLight$Fisher", "KeptLight$Coaster"), ("KeptLight$Fisher", "KeptLight$Great"), ("KeptLight$Fisher", "KeptLight$Liner"), ("KeptLight$Fisher", "KeptLight$Mail"), ("KeptLight$Fisher", "KeptLight$Pilot"), ("KeptLight$Fisher", "[B"), ("KeptLight$Fisher", "[I"), ("KeptLight$Fisher", "[J"), ("KeptLight$Fisher", "[S"), ("KeptLight$Fisher", "[Z"), ("KeptLight$Liner", "KeptLight$Coaster"), ("KeptLight$Liner", "KeptLight$Fisher"), ("KeptLight$Liner", "KeptLight$Mail"), ("KeptLight$Liner", "KeptLight$Pilot"), ("KeptLight$Liner", "KeptLight$Small"), ("KeptLight$Liner", "[B"), ("KeptLight$Liner", "[I"), ("KeptLight$Liner", "[J"), ("KeptLight$Liner", "[S"), ("KeptLight$Liner", "[Z"), ("KeptLight$Mail", "KeptLight$Coaster"), ("KeptLight$Mail", "KeptLight$Fisher"), ("KeptLight$Mail", "KeptLight$Pilot"), ("KeptLight$Mail", "KeptLight$Small"), ("KeptLight$Mail", "[B"), ("KeptLight$Mail", "[I"), ("KeptLight$Mail", "[J"), ("KeptLight$Mail", "[S"), ("KeptLight$Mail", "[Z"), ("KeptLight$Pilot", "KeptLight$Coaster"), ("KeptLight$Pilot", "KeptLight$Fisher"), ("KeptLight$Pilot", "KeptLight$Great"), ("KeptLight$Pilot", "KeptLight$Liner"), ("KeptLight$Pilot", "KeptLight$Mail"), ("KeptLight$Pilot", "[B"), ("KeptLight$Pilot", "[I"), ("KeptLight$Pilot", "[J"), ("KeptLight$Pilot", "[S"), ("KeptLight$Pilot", "[Z"), ("KeptLight$Refused", "KeptLight$Crowd"), ("KeptLight$Refused", "KeptLight$Fault"), ("KeptLight$Refused", "java/lang/ArrayIndexOutOfBoundsException"), ("KeptLight$Refused", "java/lang/ArrayStoreException"), ("KeptLight$Refused", "java/lang/ClassCastException"), ("KeptLight$Refused", "java/lang/IndexOutOfBoundsException"), ("KeptLight$Refused", "java/lang/NegativeArraySizeException"), ("KeptLight$Refused", "java/lang/NullPointerException"), ("[B", "KeptLight$Coaster"), ("[B", "KeptLight$Fisher"), ("[B", "KeptLight$Great"), ("[B", "KeptLight$Liner"), ("[B", "KeptLight$Mail"), ("[B", "KeptLight$Pilot"), ("[B", "KeptLight$Ship"), ("[B", "KeptLight$Small"), ("[B", "[I"), ("[B", "[J"), ("[B", "[S"), ("[B", "[Z"), ("[I", "KeptLight$Coaster"), ("[I", "KeptLight$Fisher"), ("[I", "KeptLight$Great"), ("[I", "KeptLight$Liner"), ("[I", "KeptLight$Mail"), ("[I", "KeptLight$Pilot"), ("[I", "KeptLight$Ship"), ("[I", "KeptLight$Small"), ("[I", "[B"), ("[I", "[J"), ("[I", "[S"), ("[I", "[Z"), ("[J", "KeptLight$Coaster"), ("[J", "KeptLight$Fisher"), ("[J", "KeptLight$Great"), ("[J", "KeptLight$Liner"), ("[J", "KeptLight$Mail"), ("[J", "KeptLight$Pilot"), ("[J", "KeptLight$Ship"), ("[J", "KeptLight$Small"), ("[J", "[B"), ("[J", "[I"), ("[J", "[S"), ("[J", "[Z"), ("[S", "KeptLight$Coaster"), ("[S", "KeptLight$Fisher"), ("[S", "KeptLight$Great"), ("[S", "KeptLight$Liner"), ("[S", "KeptLight$Mail"), ("[S", "KeptLight$Pilot"), ("[S", "KeptLight$Ship"), ("[S", "KeptLight$Small"), ("[S", "[B"), ("[S", "[I"), ("[S", "[J"), ("[S", "[Z"), ("[Z", "KeptLight$Coaster"), ("[Z", "KeptLight$Fisher"), ("[Z", "KeptLight$Great"), ("[Z", "KeptLight$Liner"), ("[Z", "KeptLight$Mail"), ("[Z", "KeptLight$Pilot"), ("[Z", "KeptLight$Ship"), ("[Z", "KeptLight$Small"), ("[Z", "[B"), ("[Z", "[I"), ("[Z", "[J"), ("[Z", "[S"), ("java/lang/ArrayIndexOutOfBoundsException", "KeptLight$Crowd"), ("java/lang/ArrayIndexOutOfBoundsException", "KeptLight$Fault"), ("java/lang/ArrayIndexOutOfBoundsException", "KeptLight$Refused"), ("java/lang/ArrayIndexOutOfBoundsException", "java/lang/ArrayStoreException"), ("java/lang/ArrayIndexOutOfBoundsException", "java/lang/ClassCastException"), ("java/lang/ArrayIndexOutOfBoundsException", "java/lang/NegativeArraySizeException"), ("java/lang/ArrayIndexOutOfBoundsException", "java/lang/NullPointerException"), ("java/lang/ArrayStoreException", "KeptLight$Crowd"), ("java/lang/ArrayStoreException", "KeptLight$Fault"), ("java/lang/ArrayStoreException", "KeptLight$Refused"), ("java/lang/ArrayStoreException", "java/lang/ArrayIndexOutOfBoundsException"), ("java/lang/ArrayStoreException", "java/lang/ClassCastException"), ("java/lang/ArrayStoreException", "java/lang/IndexOutOfBoundsException"), ("java/lang/ArrayStoreException", "java/lang/NegativeArraySizeException"), ("java/lang/ArrayStoreException", "java/lang/NullPointerException"), ("java/lang/ClassCastException", "KeptLight$Crowd"), ("java/lang/ClassCastException", "KeptLight$Fault"), ("java/lang/ClassCastException", "KeptLight$Refused"), ("java/lang/ClassCastException", "java/lang/ArrayIndexOutOfBoundsException"), ("java/lang/ClassCastException", "java/lang/ArrayStoreException"), ("java/lang/ClassCastException", "java/lang/IndexOutOfBoundsException"), ("java/lang/ClassCastException", "java/lang/NegativeArraySizeException"), ("java/lang/ClassCastException", "java/lang/NullPointerException"), ("java/lang/IndexOutOfBoundsException", "KeptLight$Crowd"), ("java/lang/IndexOutOfBoundsException", "KeptLight$Fault"), ("java/lang/IndexOutOfBoundsException", "KeptLight$Refused"), ("java/lang/IndexOutOfBoundsException", "java/lang/ArrayIndexOutOfBoundsException"), ("java/lang/IndexOutOfBoundsException", "java/lang/ArrayStoreException"), ("java/lang/IndexOutOfBoundsException", "java/lang/ClassCastException"), ("java/lang/IndexOutOfBoundsException", "java/lang/NegativeArraySizeException"), ("java/lang/IndexOutOfBoundsException", "java/lang/NullPointerException"), ("java/lang/NegativeArraySizeException", "KeptLight$Crowd"), ("java/lang/NegativeArraySizeException", "KeptLight$Fault"), ("java/lang/NegativeArraySizeException", "KeptLight$Refused"), ("java/lang/NegativeArraySizeException", "java/lang/ArrayIndexOutOfBoundsException"), ("java/lang/NegativeArraySizeException", "java/lang/ArrayStoreException"), ("java/lang/NegativeArraySizeException", "java/lang/ClassCastException"), ("java/lang/NegativeArraySizeException", "java/lang/IndexOutOfBoundsException"), ("java/lang/NegativeArraySizeException", "java/lang/NullPointerException"), ("java/lang/NullPointerException", "KeptLight$Crowd"), ("java/lang/NullPointerException", "KeptLight$Fault"), ("java/lang/NullPointerException", "KeptLight$Refused"), ("java/lang/NullPointerException", "java/lang/ArrayIndexOutOfBoundsException"), ("java/lang/NullPointerException", "java/lang/ArrayStoreException"), ("java/lang/NullPointerException", "java/lang/ClassCastException"), ("java/lang/NullPointerException", "java/lang/IndexOutOfBoundsException"), ("java/lang/NullPointerException", "java/lang/NegativeArraySizeException")]
/-- what an interface's call asks of the tables -/
def FwW (C : String) (x y : MethodName) : Prop := Cond.declares x ∈ lw_tbl ∧ Cond.interfaceMethod x.cls x.cls x.name x.desc ∈ lw_tbl ∧ Cond.publicMethod y ∈ lw_tbl ∧ Cond.unhidden C x.name x.desc ∈ lw_tbl ∧ Cond.castable C x.cls ∈ lw_tbl ∧ (x.cls ≠ "java/lang/invoke/MethodHandle" ∧ x.cls ≠ "java/lang/invoke/VarHandle")
/-- statics: class, name, descriptor, value -/
def kZs (G : kG) : List (String × String × String × Value) := [("KeptLight$Weather", "CLEAR", "LKeptLight$Weather;", .ref (G.2.2.2 0)), ("KeptLight$Weather", "FOG", "LKeptLight$Weather;", .ref (G.2.2.2 1)), ("KeptLight$Weather", "STORM", "LKeptLight$Weather;", .ref (G.2.2.2 2)), ("KeptLight$Rank", "HEAD", "LKeptLight$Rank;", .ref (G.2.2.2 3)), ("KeptLight$Rank", "HAND", "LKeptLight$Rank;", .ref (G.2.2.2 4)), ("KeptLight$Rank", "BOY", "LKeptLight$Rank;", .ref (G.2.2.2 5)), ("java/util/ArrayList", "DEFAULTCAPACITY_EMPTY_ELEMENTDATA", "[Ljava/lang/Object;", .ref (G.2.2.2 6)), ("java/util/BitSet", "$assertionsDisabled", "Z", .int 1), ("java/lang/String", "COMPACT_STRINGS", "Z", .int 1), ("java/util/ImmutableCollections", "EMPTY", "Ljava/lang/Object;", .ref (G.2.2.2 10)), ("java/lang/Integer$IntegerCache", "high", "I", .int 127), ("java/lang/Integer$IntegerCache", "cache", "[Ljava/lang/Integer;", .ref (G.2.2.2 7))]
def kCs : List String := ["KeptLight$Weather$1", "KeptLight$Weather$2", "KeptLight$Weather$3", "KeptLight$Rank$1", "KeptLight$Rank$2", "KeptLight$Rank$3"]
/-- what the tables and the statics say, from the law's start on -/
def GS (G : kG) (U : State) (H : Heap) : Prop :=
  (∀ K, okK K → u_Kn U (cC K) (cT K) (cN K) (G.1.1 K) (G.1.2 K)) ∧
  (∀ K, 120 ≤ K → K < 128 → ArrOfT U (G.2.1 K) (aty K) ∧ va_RA U (G.2.1 K) (aty K)) ∧
  (∀ C T, Cond.castable C T ∈ lw_tbl → va_Nw (.castable C T) U) ∧
  (∀ a i x h, Cond.methodLinkNest a i x h ∈ lw_tbl → va_Nw (.methodLinkNest a i x h) U) ∧
  (∀ a i b n d h, Cond.fieldLinkNest a i b n d h ∈ lw_tbl → va_Nw (.fieldLinkNest a i b n d h) U) ∧
  (∀ C x y, FwW C x y → va_Fw C x y U) ∧
  (∀ C, Cond.arrayOver (.object C) ∈ lw_tbl → va_AO C U) ∧
  (∀ x, Cond.declares x ∈ lw_tbl → va_Nw (.declares x) U) ∧
  (∀ q ∈ kNc, va_Nc q.1 q.2 U) ∧
  (∀ z ∈ kZs G, va_Z z.1 z.2.1 z.2.2.1 z.2.2.2 (kA G) U H) ∧
  (∀ (i : Nat) (C : String), kCs[i]? = some C → va_O C (G.2.2.2 i) (kA G) U H) ∧
  va_T (.object "java/lang/Object") (G.2.2.2 6) 0 (fun _ => .null) (kA G) U H ∧
  va_T (.object "java/lang/Integer") (G.2.2.2 7) 256 (fun j => .ref (G.2.2.2 (100 + j))) (kA G) U H ∧
  vb_C (fun j => G.2.2.2 (100 + j)) (kA G) U H ∧
  vk_R "KeptLight$Reader" 53 "cfs" (G.2.2.2 8) U ∧
  vk_S 1 [3] [[99, 102, 115]] (fun _ => G.2.2.2 8) (fun _ => G.2.2.2 9) (kA G) U H ∧
  vx_Zq "java/lang/Throwable" "UNASSIGNED_STACK" "[Ljava/lang/StackTraceElement;" (kA G) U H ∧
  vx_Zq "java/lang/Throwable" "SUPPRESSED_SENTINEL" "Ljava/util/List;" (kA G) U H ∧
  va_O "[Ljava/lang/Object;" (G.2.2.2 6) (kA G) U H ∧
  va_Mi "[Ljava/lang/Object;" (G.2.2.2 12) U
/-- the constants are different objects -/
def kInj (G : kG) : Prop := ∀ i j, i < 6 → j < 6 → G.2.2.2 i = G.2.2.2 j → i = j
theorem GS.warm {G : kG} {s U : State} {H : Heap} (hW : s.WarmedH U.vm) (hH : ∀ a : Nat, a < H.size → ¬ kA G a → U.heap[a]? = H[a]?) (h : GS G s H) : GS G U U.heap := by
  obtain ⟨h1, h2, h3, h4, h5, h6, h7, h8, h9, h10, h11, h12, h13, h14, h15, h16, h17, h18, h19, h20⟩ := h
  exact ⟨fun K k => u_Kn_moved hW.alike (h1 K k), fun K a b => ⟨arrOfT_moved hW.alike (h2 K a b).1, (h2 K a b).2.moved hW.alike⟩, fun C T k => va_Nw.warmC hW (h3 C T k), fun a i x h k => va_Nw.warmM hW (h4 a i x h k), fun a i b n d h k => va_Nw.warmF hW (h5 a i b n d h k), fun C x y k => va_Fw.moved k.2.2.2.2.2 hW.alike (h6 C x y k), fun C k => va_AO.moved hW.alike (h7 C k), fun x k => va_Nw.warmD hW (h8 x k), fun q k => va_Nc.moved hW.alike (h9 q k), fun z k => (va_Z.moved hW.alike (h10 z k)).kept hH, fun i C k => (va_O.moved hW.alike (h11 i C k)).kept hH, (va_T.moved hW.alike h12).kept hH, (va_T.moved hW.alike h13).kept hH, (vb_C.moved hW.alike h14).kept hH, vk_R.warm hW h15, (vk_S.moved hW.alike h16).kept hH, (vx_Zq.moved hW.alike h17).kept hH, (vx_Zq.moved hW.alike h18).kept hH, (va_O.moved hW.alike h19).kept hH, h20.moved hW.alike⟩
theorem GS.call {G : kG} {U : State} {g : JFrame} {mk : MethodId} {a : Array Value} (h : GS G U U.heap) : GS G (U.calling g mk a) (U.calling g mk a).heap := by
  obtain ⟨h1, h2, h3, h4, h5, h6, h7, h8, h9, h10, h11, h12, h13, h14, h15, h16, h17, h18, h19, h20⟩ := h
  have al : U.vm.Alike (U.calling g mk a).vm := Vm.Alike.refl U.vm
  exact ⟨fun K k => u_Kn_moved al (h1 K k), fun K a b => ⟨arrOfT_moved al (h2 K a b).1, (h2 K a b).2.moved al⟩, fun C T k => va_Nw.same rfl rfl (h3 C T k), fun a i x h k => va_Nw.same rfl rfl (h4 a i x h k), fun a i b n d h k => va_Nw.same rfl rfl (h5 a i b n d h k), fun C x y k => va_Fw.moved k.2.2.2.2.2 al (h6 C x y k), fun C k => va_AO.moved al (h7 C k), fun x k => va_Nw.same rfl rfl (h8 x k), fun q k => va_Nc.moved al (h9 q k), fun z k => va_Z.moved al (h10 z k), fun i C k => va_O.moved al (h11 i C k), va_T.moved al h12, va_T.moved al h13, vb_C.moved al h14, vk_R.same rfl h15, vk_S.moved al h16, vx_Zq.moved al h17, vx_Zq.moved al h18, va_O.moved al h19, h20.moved al⟩
/-! locals: a list of what is known -/
def kL (ls : Array Slot) (nL : Nat) (L : List (Option Value)) : Prop := ls.size = nL ∧ lv_wf ls ∧ ∀ (i : Nat) (v : Value), L[i]? = some (some v) → ls[i]? = some (.val v)
def kl (L : List (Option Value)) : List (Nat × Value) := (List.range L.length).filterMap (fun i => (L[i]?.join).map (fun v => (i, v)))
theorem kl_mem {L : List (Option Value)} {q : Nat × Value} : q ∈ kl L ↔ L[q.1]? = some (some q.2) := by
  obtain ⟨i, v⟩ := q
  simp only [kl, List.mem_filterMap, List.mem_range, Option.map_eq_some_iff, Option.join_eq_some_iff, Prod.mk.injEq]
  constructor
  · rintro ⟨j, hj, w, hw, rfl, rfl⟩
    exact hw
  · intro h
    exact ⟨i, (List.getElem?_eq_some_iff.mp h).1, v, h, rfl, rfl⟩
theorem kL.has {ls : Array Slot} {nL : Nat} {L : List (Option Value)} (h : kL ls nL L) : lv_has ls nL (kl L) := ⟨h.1, h.2.1, fun q hq => h.2.2 q.1 q.2 (kl_mem.mp hq)⟩
theorem kL.of {ls : Array Slot} {nL : Nat} {L : List (Option Value)} (h : lv_has ls nL (kl L)) : kL ls nL L := ⟨h.1, h.2.1, fun i v hv => h.2.2 (i, v) (kl_mem.mpr hv)⟩
/-- the local before i is no long -/
def k1ok (L : List (Option Value)) (i : Nat) : Bool := match i with
  | 0 => true
  | n + 1 => match L[n]? with
    | some (some (.long _)) => false
    | some (some (.double _)) => false
    | _ => true
theorem k1ok_cat {L : List (Option Value)} {i n : Nat} {v : Value} (h : k1ok L i = true) (hn : n + 1 = i) (hv : L[n]? = some (some v)) : v.category ≠ 2 := by
  subst hn
  unfold k1ok at h
  simp only [hv] at h
  cases v <;> simp_all [Value.category]
theorem kL.st1 {ls : Array Slot} {nL : Nat} {L : List (Option Value)} {i : Nat} {v : Value} (hi : k1ok L i = true) (h : lv_has ls nL ((i, v) :: (kl L).filter (fun q => !(q.1 == i) && !(q.1 + 1 == i && q.2.category == 2)))) : kL ls nL (L.set i (some v)) := by
  refine ⟨h.1, h.2.1, fun j w hw => ?_⟩
  by_cases hj : i = j
  · subst hj
    by_cases hl : i < L.length
    · rw [List.getElem?_set_self hl] at hw
      cases hw
      exact h.2.2 (i, v) List.mem_cons_self
    · rw [List.getElem?_eq_none (by simp; omega)] at hw
      cases hw
  · rw [List.getElem?_set_ne hj] at hw
    refine h.2.2 (j, w) (List.mem_cons_of_mem _ (List.mem_filter.mpr ⟨kl_mem.mpr hw, ?_⟩))
    have h1 : ¬ j = i := fun q => hj q.symm
    have h2 : j + 1 = i → w.category ≠ 2 := fun q => k1ok_cat hi q hw
    by_cases h3 : j + 1 = i
    · simp [h1, h3, h2 h3]
    · simp [h1, h3]
theorem kL.st2 {ls : Array Slot} {nL : Nat} {L : List (Option Value)} {i : Nat} {v : Value} (hi : k1ok L i = true) (h : lv_has ls nL ((i, v) :: (kl L).filter (fun q => !(q.1 == i) && (!(q.1 == i + 1) && !(q.1 + 1 == i && q.2.category == 2))))) : kL ls nL ((L.set i (some v)).set (i + 1) none) := by
  refine ⟨h.1, h.2.1, fun j w hw => ?_⟩
  by_cases hk : i + 1 = j
  · subst hk
    by_cases hl : i + 1 < (L.set i (some v)).length
    · rw [List.getElem?_set_self hl] at hw
      cases hw
    · rw [List.getElem?_eq_none (by simp only [List.length_set] at hl ⊢; omega)] at hw
      cases hw
  · rw [List.getElem?_set_ne hk] at hw
    by_cases hj : i = j
    · subst hj
      by_cases hl : i < L.length
      · rw [List.getElem?_set_self hl] at hw
        cases hw
        exact h.2.2 (i, v) List.mem_cons_self
      · rw [List.getElem?_eq_none (by simp; omega)] at hw
        cases hw
    · rw [List.getElem?_set_ne hj] at hw
      refine h.2.2 (j, w) (List.mem_cons_of_mem _ (List.mem_filter.mpr ⟨kl_mem.mpr hw, ?_⟩))
      have h0 : ¬ j = i + 1 := fun q => hk q.symm
      have h1 : ¬ j = i := fun q => hj q.symm
      have h2 : j + 1 = i → w.category ≠ 2 := fun q => k1ok_cat hi q hw
      by_cases h3 : j + 1 = i
      · simp [h1, h3, h2 h3]; omega
      · simp [h0, h1, h3]
theorem kL.sub {ls : Array Slot} {nL : Nat} {L L' : List (Option Value)} (h : kL ls nL L) (hs : ∀ (i : Nat) (v : Value), L'[i]? = some (some v) → L[i]? = some (some v)) : kL ls nL L' := ⟨h.1, h.2.1, fun i v hv => h.2.2 i v (hs i v hv)⟩
/-- what holds all through a method's walk -/
def kC (p : Program) (s : State) (m : MethodId) (args : Array Value) (meth : Method) (c : Code) (own : String) (cc : ByteArray) (nL : Nat) (G : kG) : Prop :=
  p.tables.exec = Jvm.exec ∧ c.code = cc ∧ c.maxLocals = nL ∧ s.vm.findClass own = some m.cls ∧ (∀ w ∈ lw_all, w.before args s = true) ∧ meth.locks = false ∧ kB G s.heap.size ∧ GS G s s.heap
/-- the machine stands at pc, with locals L, stack st, the heap holds M; cb cells and sb slots may still be made -/
def Wx (p : Program) (l : Launch) (e : Env) (R : Room) (s : State) (m : MethodId) (args : Array Value) (below : List Frame) (meth : Method) (c : Code) (own : String) (cc : ByteArray) (nL : Nat) (G : kG) (Q : State → Prop) (pc : Nat) (L : List (Option Value)) (st : List Value) (M : kM) (cb sb : Nat) : Prop :=
  kC p s m args meth c own cc nL G → ∀ (H : Heap) (locs : List Loc) (ls : Array Slot) (cells slots : Nat), kL ls nL L → Hm G M H → va_S (kA G) s.heap H locs → cells + cb ≤ R.cells → slots + sb ≤ R.slots → W p l e R s m args below meth c H locs cells slots Q (F0 m pc ls st)
section WX
variable {p : Program} {l : Launch} {e : Env} {R : Room} {s : State} {m : MethodId} {args : Array Value} {below : List Frame} {meth : Method} {c : Code} {own : String} {cc : ByteArray} {nL : Nat} {G : kG} {Q : State → Prop}
variable {pc : Nat} {L : List (Option Value)} {st : List Value} {M : kM} {cb sb : Nat}
theorem x_iconst {n : Int} {v : Int32} (hdg : decode cc pc = .ok (.iconst n, 1)) (hv : Int32.ofInt n = v) {n' : Nat} (hn : pc + 1 = n') (k : Wx p l e R s m args below meth c own cc nL G Q n' L (.int v :: st) M cb sb) : Wx p l e R s m args below meth c own cc nL G Q pc L st M cb sb := fun C H locs ls cells slots hl hm hs z1 z2 => lv_iconst C.1 C.2.1 hdg hv (by rw [hn]; exact k C H locs ls cells slots hl hm hs z1 z2)
theorem x_bipush {n : Int} {v : Int32} (hdg : decode cc pc = .ok (.bipush n, 2)) (hv : (Int8.ofInt n).toInt32 = v) {n' : Nat} (hn : pc + 2 = n') (k : Wx p l e R s m args below meth c own cc nL G Q n' L (.int v :: st) M cb sb) : Wx p l e R s m args below meth c own cc nL G Q pc L st M cb sb := fun C H locs ls cells slots hl hm hs z1 z2 => lv_bipush C.1 C.2.1 hdg hv (by rw [hn]; exact k C H locs ls cells slots hl hm hs z1 z2)
theorem x_sipush {n : Int} {v : Int32} (hdg : decode cc pc = .ok (.sipush n, 3)) (hv : (Int16.ofInt n).toInt32 = v) {n' : Nat} (hn : pc + 3 = n') (k : Wx p l e R s m args below meth c own cc nL G Q n' L (.int v :: st) M cb sb) : Wx p l e R s m args below meth c own cc nL G Q pc L st M cb sb := fun C H locs ls cells slots hl hm hs z1 z2 => lv_sipush C.1 C.2.1 hdg hv (by rw [hn]; exact k C H locs ls cells slots hl hm hs z1 z2)
theorem x_lconst {n : Fin 2} {v : Int64} (hdg : decode cc pc = .ok (.lconst n, 1)) (hv : Int64.ofNat (n : Nat) = v) {n' : Nat} (hn : pc + 1 = n') (k : Wx p l e R s m args below meth c own cc nL G Q n' L (.long v :: st) M cb sb) : Wx p l e R s m args below meth c own cc nL G Q pc L st M cb sb := fun C H locs ls cells slots hl hm hs z1 z2 => lv_lconst C.1 C.2.1 hdg hv (by rw [hn]; exact k C H locs ls cells slots hl hm hs z1 z2)
theorem x_iadd {x y : Int32} (hdg : decode cc pc = .ok (.iadd, 1)) {n' : Nat} (hn : pc + 1 = n') (k : Wx p l e R s m args below meth c own cc nL G Q n' L (.int (x + y) :: st) M cb sb) : Wx p l e R s m args below meth c own cc nL G Q pc L (.int y :: .int x :: st) M cb sb := fun C H locs ls cells slots hl hm hs z1 z2 => lv_iadd C.1 C.2.1 hdg (by rw [hn]; exact k C H locs ls cells slots hl hm hs z1 z2)
theorem x_isub {x y : Int32} (hdg : decode cc pc = .ok (.isub, 1)) {n' : Nat} (hn : pc + 1 = n') (k : Wx p l e R s m args below meth c own cc nL G Q n' L (.int (x - y) :: st) M cb sb) : Wx p l e R s m args below meth c own cc nL G Q pc L (.int y :: .int x :: st) M cb sb := fun C H locs ls cells slots hl hm hs z1 z2 => lv_isub C.1 C.2.1 hdg (by rw [hn]; exact k C H locs ls cells slots hl hm hs z1 z2)
theorem x_imul {x y : Int32} (hdg : decode cc pc = .ok (.imul, 1)) {n' : Nat} (hn : pc + 1 = n') (k : Wx p l e R s m args below meth c own cc nL G Q n' L (.int (x * y) :: st) M cb sb) : Wx p l e R s m args below meth c own cc nL G Q pc L (.int y :: .int x :: st) M cb sb := fun C H locs ls cells slots hl hm hs z1 z2 => lv_imul C.1 C.2.1 hdg (by rw [hn]; exact k C H locs ls cells slots hl hm hs z1 z2)
theorem x_iand {x y : Int32} (hdg : decode cc pc = .ok (.iand, 1)) {n' : Nat} (hn : pc + 1 = n') (k : Wx p l e R s m args below meth c own cc nL G Q n' L (.int (x &&& y) :: st) M cb sb) : Wx p l e R s m args below meth c own cc nL G Q pc L (.int y :: .int x :: st) M cb sb := fun C H locs ls cells slots hl hm hs z1 z2 => lv_iand C.1 C.2.1 hdg (by rw [hn]; exact k C H locs ls cells slots hl hm hs z1 z2)
theorem x_ior {x y : Int32} (hdg : decode cc pc = .ok (.ior, 1)) {n' : Nat} (hn : pc + 1 = n') (k : Wx p l e R s m args below meth c own cc nL G Q n' L (.int (x ||| y) :: st) M cb sb) : Wx p l e R s m args below meth c own cc nL G Q pc L (.int y :: .int x :: st) M cb sb := fun C H locs ls cells slots hl hm hs z1 z2 => lv_ior C.1 C.2.1 hdg (by rw [hn]; exact k C H locs ls cells slots hl hm hs z1 z2)
theorem x_ixor {x y : Int32} (hdg : decode cc pc = .ok (.ixor, 1)) {n' : Nat} (hn : pc + 1 = n') (k : Wx p l e R s m args below meth c own cc nL G Q n' L (.int (x ^^^ y) :: st) M cb sb) : Wx p l e R s m args below meth c own cc nL G Q pc L (.int y :: .int x :: st) M cb sb := fun C H locs ls cells slots hl hm hs z1 z2 => lv_ixor C.1 C.2.1 hdg (by rw [hn]; exact k C H locs ls cells slots hl hm hs z1 z2)
theorem x_idiv {x y : Int32} (hdg : decode cc pc = .ok (.idiv, 1)) (hne : ¬ y = 0) {n' : Nat} (hn : pc + 1 = n') (k : Wx p l e R s m args below meth c own cc nL G Q n' L (.int (x / y) :: st) M cb sb) : Wx p l e R s m args below meth c own cc nL G Q pc L (.int y :: .int x :: st) M cb sb := fun C H locs ls cells slots hl hm hs z1 z2 => lv_idiv C.1 C.2.1 hdg hne (by rw [hn]; exact k C H locs ls cells slots hl hm hs z1 z2)
theorem x_irem {x y : Int32} (hdg : decode cc pc = .ok (.irem, 1)) (hne : ¬ y = 0) {n' : Nat} (hn : pc + 1 = n') (k : Wx p l e R s m args below meth c own cc nL G Q n' L (.int (x - x / y * y) :: st) M cb sb) : Wx p l e R s m args below meth c own cc nL G Q pc L (.int y :: .int x :: st) M cb sb := fun C H locs ls cells slots hl hm hs z1 z2 => lv_irem C.1 C.2.1 hdg hne (by rw [hn]; exact k C H locs ls cells slots hl hm hs z1 z2)
theorem x_ineg {x : Int32} (hdg : decode cc pc = .ok (.ineg, 1)) {n' : Nat} (hn : pc + 1 = n') (k : Wx p l e R s m args below meth c own cc nL G Q n' L (.int (-x) :: st) M cb sb) : Wx p l e R s m args below meth c own cc nL G Q pc L (.int x :: st) M cb sb := fun C H locs ls cells slots hl hm hs z1 z2 => lv_ineg C.1 C.2.1 hdg (by rw [hn]; exact k C H locs ls cells slots hl hm hs z1 z2)
theorem x_ladd {x y : Int64} (hdg : decode cc pc = .ok (.ladd, 1)) {n' : Nat} (hn : pc + 1 = n') (k : Wx p l e R s m args below meth c own cc nL G Q n' L (.long (x + y) :: st) M cb sb) : Wx p l e R s m args below meth c own cc nL G Q pc L (.long y :: .long x :: st) M cb sb := fun C H locs ls cells slots hl hm hs z1 z2 => lv_ladd C.1 C.2.1 hdg (by rw [hn]; exact k C H locs ls cells slots hl hm hs z1 z2)
theorem x_lsub {x y : Int64} (hdg : decode cc pc = .ok (.lsub, 1)) {n' : Nat} (hn : pc + 1 = n') (k : Wx p l e R s m args below meth c own cc nL G Q n' L (.long (x - y) :: st) M cb sb) : Wx p l e R s m args below meth c own cc nL G Q pc L (.long y :: .long x :: st) M cb sb := fun C H locs ls cells slots hl hm hs z1 z2 => lv_lsub C.1 C.2.1 hdg (by rw [hn]; exact k C H locs ls cells slots hl hm hs z1 z2)
theorem x_lmul {x y : Int64} (hdg : decode cc pc = .ok (.lmul, 1)) {n' : Nat} (hn : pc + 1 = n') (k : Wx p l e R s m args below meth c own cc nL G Q n' L (.long (x * y) :: st) M cb sb) : Wx p l e R s m args below meth c own cc nL G Q pc L (.long y :: .long x :: st) M cb sb := fun C H locs ls cells slots hl hm hs z1 z2 => lv_lmul C.1 C.2.1 hdg (by rw [hn]; exact k C H locs ls cells slots hl hm hs z1 z2)
theorem x_land {x y : Int64} (hdg : decode cc pc = .ok (.land, 1)) {n' : Nat} (hn : pc + 1 = n') (k : Wx p l e R s m args below meth c own cc nL G Q n' L (.long (x &&& y) :: st) M cb sb) : Wx p l e R s m args below meth c own cc nL G Q pc L (.long y :: .long x :: st) M cb sb := fun C H locs ls cells slots hl hm hs z1 z2 => lv_land C.1 C.2.1 hdg (by rw [hn]; exact k C H locs ls cells slots hl hm hs z1 z2)
theorem x_lor {x y : Int64} (hdg : decode cc pc = .ok (.lor, 1)) {n' : Nat} (hn : pc + 1 = n') (k : Wx p l e R s m args below meth c own cc nL G Q n' L (.long (x ||| y) :: st) M cb sb) : Wx p l e R s m args below meth c own cc nL G Q pc L (.long y :: .long x :: st) M cb sb := fun C H locs ls cells slots hl hm hs z1 z2 => lv_lor C.1 C.2.1 hdg (by rw [hn]; exact k C H locs ls cells slots hl hm hs z1 z2)
theorem x_lxor {x y : Int64} (hdg : decode cc pc = .ok (.lxor, 1)) {n' : Nat} (hn : pc + 1 = n') (k : Wx p l e R s m args below meth c own cc nL G Q n' L (.long (x ^^^ y) :: st) M cb sb) : Wx p l e R s m args below meth c own cc nL G Q pc L (.long y :: .long x :: st) M cb sb := fun C H locs ls cells slots hl hm hs z1 z2 => lv_lxor C.1 C.2.1 hdg (by rw [hn]; exact k C H locs ls cells slots hl hm hs z1 z2)
theorem x_ishl {x y : Int32} (hdg : decode cc pc = .ok (.ishl, 1)) {n' : Nat} (hn : pc + 1 = n') (k : Wx p l e R s m args below meth c own cc nL G Q n' L (.int (x <<< (y &&& 31)) :: st) M cb sb) : Wx p l e R s m args below meth c own cc nL G Q pc L (.int y :: .int x :: st) M cb sb := fun C H locs ls cells slots hl hm hs z1 z2 => lv_ishl C.1 C.2.1 hdg (by rw [hn]; exact k C H locs ls cells slots hl hm hs z1 z2)
theorem x_ishr {x y : Int32} (hdg : decode cc pc = .ok (.ishr, 1)) {n' : Nat} (hn : pc + 1 = n') (k : Wx p l e R s m args below meth c own cc nL G Q n' L (.int (x >>> (y &&& 31)) :: st) M cb sb) : Wx p l e R s m args below meth c own cc nL G Q pc L (.int y :: .int x :: st) M cb sb := fun C H locs ls cells slots hl hm hs z1 z2 => lv_ishr C.1 C.2.1 hdg (by rw [hn]; exact k C H locs ls cells slots hl hm hs z1 z2)
theorem x_i2l {x : Int32} {v : Int64} (hdg : decode cc pc = .ok (.i2l, 1)) (hv : x.toInt64 = v) {n' : Nat} (hn : pc + 1 = n') (k : Wx p l e R s m args below meth c own cc nL G Q n' L (.long v :: st) M cb sb) : Wx p l e R s m args below meth c own cc nL G Q pc L (.int x :: st) M cb sb := fun C H locs ls cells slots hl hm hs z1 z2 => lv_i2l C.1 C.2.1 hdg hv (by rw [hn]; exact k C H locs ls cells slots hl hm hs z1 z2)
theorem x_l2i {x : Int64} {v : Int32} (hdg : decode cc pc = .ok (.l2i, 1)) (hv : x.toInt32 = v) {n' : Nat} (hn : pc + 1 = n') (k : Wx p l e R s m args below meth c own cc nL G Q n' L (.int v :: st) M cb sb) : Wx p l e R s m args below meth c own cc nL G Q pc L (.long x :: st) M cb sb := fun C H locs ls cells slots hl hm hs z1 z2 => lv_l2i C.1 C.2.1 hdg hv (by rw [hn]; exact k C H locs ls cells slots hl hm hs z1 z2)
theorem x_i2b {x : Int32} {v : Int32} (hdg : decode cc pc = .ok (.i2b, 1)) (hv : x.toInt8.toInt32 = v) {n' : Nat} (hn : pc + 1 = n') (k : Wx p l e R s m args below meth c own cc nL G Q n' L (.int v :: st) M cb sb) : Wx p l e R s m args below meth c own cc nL G Q pc L (.int x :: st) M cb sb := fun C H locs ls cells slots hl hm hs z1 z2 => lv_i2b C.1 C.2.1 hdg hv (by rw [hn]; exact k C H locs ls cells slots hl hm hs z1 z2)
theorem x_i2s {x : Int32} {v : Int32} (hdg : decode cc pc = .ok (.i2s, 1)) (hv : x.toInt16.toInt32 = v) {n' : Nat} (hn : pc + 1 = n') (k : Wx p l e R s m args below meth c own cc nL G Q n' L (.int v :: st) M cb sb) : Wx p l e R s m args below meth c own cc nL G Q pc L (.int x :: st) M cb sb := fun C H locs ls cells slots hl hm hs z1 z2 => lv_i2s C.1 C.2.1 hdg hv (by rw [hn]; exact k C H locs ls cells slots hl hm hs z1 z2)
theorem x_i2c {x : Int32} {v : Int32} (hdg : decode cc pc = .ok (.i2c, 1)) (hv : (x.toUInt32 % 65536).toInt32 = v) {n' : Nat} (hn : pc + 1 = n') (k : Wx p l e R s m args below meth c own cc nL G Q n' L (.int v :: st) M cb sb) : Wx p l e R s m args below meth c own cc nL G Q pc L (.int x :: st) M cb sb := fun C H locs ls cells slots hl hm hs z1 z2 => lv_i2c C.1 C.2.1 hdg hv (by rw [hn]; exact k C H locs ls cells slots hl hm hs z1 z2)
theorem x_iushr {x y v : Int32} (hdg : decode cc pc = .ok (.iushr, 1)) (hv : (x.toUInt32 >>> (y.toUInt32 &&& Int32.toUInt32 31)).toInt32 = v) {n' : Nat} (hn : pc + 1 = n') (k : Wx p l e R s m args below meth c own cc nL G Q n' L (.int v :: st) M cb sb) : Wx p l e R s m args below meth c own cc nL G Q pc L (.int y :: .int x :: st) M cb sb := fun C H locs ls cells slots hl hm hs z1 z2 => lv_iushr C.1 C.2.1 hdg hv (by rw [hn]; exact k C H locs ls cells slots hl hm hs z1 z2)
theorem x_lushr {x v : Int64} {y : Int32} (hdg : decode cc pc = .ok (.lushr, 1)) (hv : (x.toUInt64 >>> (y.toInt64.toUInt64 &&& Int64.toUInt64 63)).toInt64 = v) {n' : Nat} (hn : pc + 1 = n') (k : Wx p l e R s m args below meth c own cc nL G Q n' L (.long v :: st) M cb sb) : Wx p l e R s m args below meth c own cc nL G Q pc L (.int y :: .long x :: st) M cb sb := fun C H locs ls cells slots hl hm hs z1 z2 => lv_lushr C.1 C.2.1 hdg hv (by rw [hn]; exact k C H locs ls cells slots hl hm hs z1 z2)
theorem x_lshl {x v : Int64} {y : Int32} (hdg : decode cc pc = .ok (.lshl, 1)) (hv : x <<< (y.toInt64 &&& 63) = v) {n' : Nat} (hn : pc + 1 = n') (k : Wx p l e R s m args below meth c own cc nL G Q n' L (.long v :: st) M cb sb) : Wx p l e R s m args below meth c own cc nL G Q pc L (.int y :: .long x :: st) M cb sb := fun C H locs ls cells slots hl hm hs z1 z2 => lv_lshl C.1 C.2.1 hdg hv (by rw [hn]; exact k C H locs ls cells slots hl hm hs z1 z2)
theorem x_lshr {x v : Int64} {y : Int32} (hdg : decode cc pc = .ok (.lshr, 1)) (hv : x >>> (y.toInt64 &&& 63) = v) {n' : Nat} (hn : pc + 1 = n') (k : Wx p l e R s m args below meth c own cc nL G Q n' L (.long v :: st) M cb sb) : Wx p l e R s m args below meth c own cc nL G Q pc L (.int y :: .long x :: st) M cb sb := fun C H locs ls cells slots hl hm hs z1 z2 => lv_lshr C.1 C.2.1 hdg hv (by rw [hn]; exact k C H locs ls cells slots hl hm hs z1 z2)
theorem x_dup {va : Value} (hdg : decode cc pc = .ok (.dup, 1)) (hva : va.category = 1) {n' : Nat} (hn : pc + 1 = n') (k : Wx p l e R s m args below meth c own cc nL G Q n' L (va :: va :: st) M cb sb) : Wx p l e R s m args below meth c own cc nL G Q pc L (va :: st) M cb sb := fun C H locs ls cells slots hl hm hs z1 z2 => lv_dup C.1 C.2.1 hdg hva (by rw [hn]; exact k C H locs ls cells slots hl hm hs z1 z2)
theorem x_pop {va : Value} (hdg : decode cc pc = .ok (.pop, 1)) (hva : va.category = 1) {n' : Nat} (hn : pc + 1 = n') (k : Wx p l e R s m args below meth c own cc nL G Q n' L st M cb sb) : Wx p l e R s m args below meth c own cc nL G Q pc L (va :: st) M cb sb := fun C H locs ls cells slots hl hm hs z1 z2 => lv_pop C.1 C.2.1 hdg hva (by rw [hn]; exact k C H locs ls cells slots hl hm hs z1 z2)
theorem x_dup_x1 {va vb : Value} (hdg : decode cc pc = .ok (.dup_x1, 1)) (hva : va.category = 1) (hvb : vb.category = 1) {n' : Nat} (hn : pc + 1 = n') (k : Wx p l e R s m args below meth c own cc nL G Q n' L (va :: vb :: va :: st) M cb sb) : Wx p l e R s m args below meth c own cc nL G Q pc L (va :: vb :: st) M cb sb := fun C H locs ls cells slots hl hm hs z1 z2 => lv_dup_x1 C.1 C.2.1 hdg hva hvb (by rw [hn]; exact k C H locs ls cells slots hl hm hs z1 z2)
theorem x_dup2_11 {va vb : Value} (hdg : decode cc pc = .ok (.dup2, 1)) (hva : va.category = 1) (hvb : vb.category = 1) {n' : Nat} (hn : pc + 1 = n') (k : Wx p l e R s m args below meth c own cc nL G Q n' L (va :: vb :: va :: vb :: st) M cb sb) : Wx p l e R s m args below meth c own cc nL G Q pc L (va :: vb :: st) M cb sb := fun C H locs ls cells slots hl hm hs z1 z2 => lv_dup2_11 C.1 C.2.1 hdg hva hvb (by rw [hn]; exact k C H locs ls cells slots hl hm hs z1 z2)
theorem x_dup2_2 {va : Value} (hdg : decode cc pc = .ok (.dup2, 1)) (hva : va.category = 2) {n' : Nat} (hn : pc + 1 = n') (k : Wx p l e R s m args below meth c own cc nL G Q n' L (va :: va :: st) M cb sb) : Wx p l e R s m args below meth c own cc nL G Q pc L (va :: st) M cb sb := fun C H locs ls cells slots hl hm hs z1 z2 => lv_dup2_2 C.1 C.2.1 hdg hva (by rw [hn]; exact k C H locs ls cells slots hl hm hs z1 z2)
theorem x_if_eq {x : Int32} {off : Int} {tgt : Nat} (hdg : decode cc pc = .ok (.ifCond .eq off, 3)) (ht : (pc : Int) + off = (tgt : Int)) {n' : Nat} (hn : pc + 3 = n') (kt : x = 0 → Wx p l e R s m args below meth c own cc nL G Q tgt L st M cb sb) (kf : ¬ x = 0 → Wx p l e R s m args below meth c own cc nL G Q n' L st M cb sb) : Wx p l e R s m args below meth c own cc nL G Q pc L (.int x :: st) M cb sb := fun C H locs ls cells slots hl hm hs z1 z2 => lv_if_eq C.1 C.2.1 hdg ht (fun q => (kt q) C H locs ls cells slots hl hm hs z1 z2) (fun q => by rw [hn]; exact (kf q) C H locs ls cells slots hl hm hs z1 z2)
theorem x_icmp_eq {x y : Int32} {off : Int} {tgt : Nat} (hdg : decode cc pc = .ok (.if_icmp .eq off, 3)) (ht : (pc : Int) + off = (tgt : Int)) {n' : Nat} (hn : pc + 3 = n') (kt : x = y → Wx p l e R s m args below meth c own cc nL G Q tgt L st M cb sb) (kf : ¬ x = y → Wx p l e R s m args below meth c own cc nL G Q n' L st M cb sb) : Wx p l e R s m args below meth c own cc nL G Q pc L (.int y :: .int x :: st) M cb sb := fun C H locs ls cells slots hl hm hs z1 z2 => lv_icmp_eq C.1 C.2.1 hdg ht (fun q => (kt q) C H locs ls cells slots hl hm hs z1 z2) (fun q => by rw [hn]; exact (kf q) C H locs ls cells slots hl hm hs z1 z2)
theorem x_if_ne {x : Int32} {off : Int} {tgt : Nat} (hdg : decode cc pc = .ok (.ifCond .ne off, 3)) (ht : (pc : Int) + off = (tgt : Int)) {n' : Nat} (hn : pc + 3 = n') (kt : ¬ x = 0 → Wx p l e R s m args below meth c own cc nL G Q tgt L st M cb sb) (kf : x = 0 → Wx p l e R s m args below meth c own cc nL G Q n' L st M cb sb) : Wx p l e R s m args below meth c own cc nL G Q pc L (.int x :: st) M cb sb := fun C H locs ls cells slots hl hm hs z1 z2 => lv_if_ne C.1 C.2.1 hdg ht (fun q => (kt q) C H locs ls cells slots hl hm hs z1 z2) (fun q => by rw [hn]; exact (kf q) C H locs ls cells slots hl hm hs z1 z2)
theorem x_icmp_ne {x y : Int32} {off : Int} {tgt : Nat} (hdg : decode cc pc = .ok (.if_icmp .ne off, 3)) (ht : (pc : Int) + off = (tgt : Int)) {n' : Nat} (hn : pc + 3 = n') (kt : ¬ x = y → Wx p l e R s m args below meth c own cc nL G Q tgt L st M cb sb) (kf : x = y → Wx p l e R s m args below meth c own cc nL G Q n' L st M cb sb) : Wx p l e R s m args below meth c own cc nL G Q pc L (.int y :: .int x :: st) M cb sb := fun C H locs ls cells slots hl hm hs z1 z2 => lv_icmp_ne C.1 C.2.1 hdg ht (fun q => (kt q) C H locs ls cells slots hl hm hs z1 z2) (fun q => by rw [hn]; exact (kf q) C H locs ls cells slots hl hm hs z1 z2)
theorem x_if_lt {x : Int32} {off : Int} {tgt : Nat} (hdg : decode cc pc = .ok (.ifCond .lt off, 3)) (ht : (pc : Int) + off = (tgt : Int)) {n' : Nat} (hn : pc + 3 = n') (kt : x < 0 → Wx p l e R s m args below meth c own cc nL G Q tgt L st M cb sb) (kf : ¬ x < 0 → Wx p l e R s m args below meth c own cc nL G Q n' L st M cb sb) : Wx p l e R s m args below meth c own cc nL G Q pc L (.int x :: st) M cb sb := fun C H locs ls cells slots hl hm hs z1 z2 => lv_if_lt C.1 C.2.1 hdg ht (fun q => (kt q) C H locs ls cells slots hl hm hs z1 z2) (fun q => by rw [hn]; exact (kf q) C H locs ls cells slots hl hm hs z1 z2)
theorem x_icmp_lt {x y : Int32} {off : Int} {tgt : Nat} (hdg : decode cc pc = .ok (.if_icmp .lt off, 3)) (ht : (pc : Int) + off = (tgt : Int)) {n' : Nat} (hn : pc + 3 = n') (kt : x < y → Wx p l e R s m args below meth c own cc nL G Q tgt L st M cb sb) (kf : ¬ x < y → Wx p l e R s m args below meth c own cc nL G Q n' L st M cb sb) : Wx p l e R s m args below meth c own cc nL G Q pc L (.int y :: .int x :: st) M cb sb := fun C H locs ls cells slots hl hm hs z1 z2 => lv_icmp_lt C.1 C.2.1 hdg ht (fun q => (kt q) C H locs ls cells slots hl hm hs z1 z2) (fun q => by rw [hn]; exact (kf q) C H locs ls cells slots hl hm hs z1 z2)
theorem x_if_ge {x : Int32} {off : Int} {tgt : Nat} (hdg : decode cc pc = .ok (.ifCond .ge off, 3)) (ht : (pc : Int) + off = (tgt : Int)) {n' : Nat} (hn : pc + 3 = n') (kt : 0 ≤ x → Wx p l e R s m args below meth c own cc nL G Q tgt L st M cb sb) (kf : ¬ 0 ≤ x → Wx p l e R s m args below meth c own cc nL G Q n' L st M cb sb) : Wx p l e R s m args below meth c own cc nL G Q pc L (.int x :: st) M cb sb := fun C H locs ls cells slots hl hm hs z1 z2 => lv_if_ge C.1 C.2.1 hdg ht (fun q => (kt q) C H locs ls cells slots hl hm hs z1 z2) (fun q => by rw [hn]; exact (kf q) C H locs ls cells slots hl hm hs z1 z2)
theorem x_icmp_ge {x y : Int32} {off : Int} {tgt : Nat} (hdg : decode cc pc = .ok (.if_icmp .ge off, 3)) (ht : (pc : Int) + off = (tgt : Int)) {n' : Nat} (hn : pc + 3 = n') (kt : y ≤ x → Wx p l e R s m args below meth c own cc nL G Q tgt L st M cb sb) (kf : ¬ y ≤ x → Wx p l e R s m args below meth c own cc nL G Q n' L st M cb sb) : Wx p l e R s m args below meth c own cc nL G Q pc L (.int y :: .int x :: st) M cb sb := fun C H locs ls cells slots hl hm hs z1 z2 => lv_icmp_ge C.1 C.2.1 hdg ht (fun q => (kt q) C H locs ls cells slots hl hm hs z1 z2) (fun q => by rw [hn]; exact (kf q) C H locs ls cells slots hl hm hs z1 z2)
theorem x_if_gt {x : Int32} {off : Int} {tgt : Nat} (hdg : decode cc pc = .ok (.ifCond .gt off, 3)) (ht : (pc : Int) + off = (tgt : Int)) {n' : Nat} (hn : pc + 3 = n') (kt : 0 < x → Wx p l e R s m args below meth c own cc nL G Q tgt L st M cb sb) (kf : ¬ 0 < x → Wx p l e R s m args below meth c own cc nL G Q n' L st M cb sb) : Wx p l e R s m args below meth c own cc nL G Q pc L (.int x :: st) M cb sb := fun C H locs ls cells slots hl hm hs z1 z2 => lv_if_gt C.1 C.2.1 hdg ht (fun q => (kt q) C H locs ls cells slots hl hm hs z1 z2) (fun q => by rw [hn]; exact (kf q) C H locs ls cells slots hl hm hs z1 z2)
theorem x_icmp_gt {x y : Int32} {off : Int} {tgt : Nat} (hdg : decode cc pc = .ok (.if_icmp .gt off, 3)) (ht : (pc : Int) + off = (tgt : Int)) {n' : Nat} (hn : pc + 3 = n') (kt : y < x → Wx p l e R s m args below meth c own cc nL G Q tgt L st M cb sb) (kf : ¬ y < x → Wx p l e R s m args below meth c own cc nL G Q n' L st M cb sb) : Wx p l e R s m args below meth c own cc nL G Q pc L (.int y :: .int x :: st) M cb sb := fun C H locs ls cells slots hl hm hs z1 z2 => lv_icmp_gt C.1 C.2.1 hdg ht (fun q => (kt q) C H locs ls cells slots hl hm hs z1 z2) (fun q => by rw [hn]; exact (kf q) C H locs ls cells slots hl hm hs z1 z2)
theorem x_if_le {x : Int32} {off : Int} {tgt : Nat} (hdg : decode cc pc = .ok (.ifCond .le off, 3)) (ht : (pc : Int) + off = (tgt : Int)) {n' : Nat} (hn : pc + 3 = n') (kt : x ≤ 0 → Wx p l e R s m args below meth c own cc nL G Q tgt L st M cb sb) (kf : ¬ x ≤ 0 → Wx p l e R s m args below meth c own cc nL G Q n' L st M cb sb) : Wx p l e R s m args below meth c own cc nL G Q pc L (.int x :: st) M cb sb := fun C H locs ls cells slots hl hm hs z1 z2 => lv_if_le C.1 C.2.1 hdg ht (fun q => (kt q) C H locs ls cells slots hl hm hs z1 z2) (fun q => by rw [hn]; exact (kf q) C H locs ls cells slots hl hm hs z1 z2)
theorem x_icmp_le {x y : Int32} {off : Int} {tgt : Nat} (hdg : decode cc pc = .ok (.if_icmp .le off, 3)) (ht : (pc : Int) + off = (tgt : Int)) {n' : Nat} (hn : pc + 3 = n') (kt : x ≤ y → Wx p l e R s m args below meth c own cc nL G Q tgt L st M cb sb) (kf : ¬ x ≤ y → Wx p l e R s m args below meth c own cc nL G Q n' L st M cb sb) : Wx p l e R s m args below meth c own cc nL G Q pc L (.int y :: .int x :: st) M cb sb := fun C H locs ls cells slots hl hm hs z1 z2 => lv_icmp_le C.1 C.2.1 hdg ht (fun q => (kt q) C H locs ls cells slots hl hm hs z1 z2) (fun q => by rw [hn]; exact (kf q) C H locs ls cells slots hl hm hs z1 z2)
theorem x_goto {off : Int} {tgt : Nat} (hdg : decode cc pc = .ok (.goto off, 3)) (ht : (pc : Int) + off = (tgt : Int)) (k : Wx p l e R s m args below meth c own cc nL G Q tgt L st M cb sb) : Wx p l e R s m args below meth c own cc nL G Q pc L st M cb sb := fun C H locs ls cells slots hl hm hs z1 z2 => lv_goto C.1 C.2.1 hdg ht (k C H locs ls cells slots hl hm hs z1 z2)
theorem x_ifnonnull {x : Nat} {off : Int} {tgt : Nat} (hdg : decode cc pc = .ok (.ifnonnull off, 3)) (ht : (pc : Int) + off = (tgt : Int)) (k : Wx p l e R s m args below meth c own cc nL G Q tgt L st M cb sb) : Wx p l e R s m args below meth c own cc nL G Q pc L (.ref x :: st) M cb sb := fun C H locs ls cells slots hl hm hs z1 z2 => lv_ifnonnull C.1 C.2.1 hdg ht (k C H locs ls cells slots hl hm hs z1 z2)
theorem x_ifnull {x : Nat} {off : Int} (hdg : decode cc pc = .ok (.ifnull off, 3)) {n' : Nat} (hn : pc + 3 = n') (k : Wx p l e R s m args below meth c own cc nL G Q n' L st M cb sb) : Wx p l e R s m args below meth c own cc nL G Q pc L (.ref x :: st) M cb sb := fun C H locs ls cells slots hl hm hs z1 z2 => lv_ifnull C.1 C.2.1 hdg (by rw [hn]; exact k C H locs ls cells slots hl hm hs z1 z2)
theorem x_null (hdg : decode cc pc = .ok (.aconst_null, 1)) {n' : Nat} (hn : pc + 1 = n') (k : Wx p l e R s m args below meth c own cc nL G Q n' L (.null :: st) M cb sb) : Wx p l e R s m args below meth c own cc nL G Q pc L st M cb sb := fun C H locs ls cells slots hl hm hs z1 z2 => lv_null C.1 C.2.1 hdg (by rw [hn]; exact k C H locs ls cells slots hl hm hs z1 z2)
theorem x_ifnullN {off : Int} {tgt : Nat} (hdg : decode cc pc = .ok (.ifnull off, 3)) (ht : (pc : Int) + off = (tgt : Int)) (k : Wx p l e R s m args below meth c own cc nL G Q tgt L st M cb sb) : Wx p l e R s m args below meth c own cc nL G Q pc L (.null :: st) M cb sb := fun C H locs ls cells slots hl hm hs z1 z2 => lv_ifnullN C.1 C.2.1 hdg ht (k C H locs ls cells slots hl hm hs z1 z2)
theorem x_ifnonnullN {off : Int} (hdg : decode cc pc = .ok (.ifnonnull off, 3)) {n' : Nat} (hn : pc + 3 = n') (k : Wx p l e R s m args below meth c own cc nL G Q n' L st M cb sb) : Wx p l e R s m args below meth c own cc nL G Q pc L (.null :: st) M cb sb := fun C H locs ls cells slots hl hm hs z1 z2 => lv_ifnonnullN C.1 C.2.1 hdg (by rw [hn]; exact k C H locs ls cells slots hl hm hs z1 z2)
theorem x_castN {index : Nat} (hdg : decode cc pc = .ok (.checkcast index, 3)) {n' : Nat} (hn : pc + 3 = n') (k : Wx p l e R s m args below meth c own cc nL G Q n' L (.null :: st) M cb sb) : Wx p l e R s m args below meth c own cc nL G Q pc L (.null :: st) M cb sb := fun C H locs ls cells slots hl hm hs z1 z2 => lv_castN C.1 C.2.1 hdg (by rw [hn]; exact k C H locs ls cells slots hl hm hs z1 z2)
theorem x_instN {index : Nat} (hdg : decode cc pc = .ok (.instanceof index, 3)) {n' : Nat} (hn : pc + 3 = n') (k : Wx p l e R s m args below meth c own cc nL G Q n' L (.int 0 :: st) M cb sb) : Wx p l e R s m args below meth c own cc nL G Q pc L (.null :: st) M cb sb := fun C H locs ls cells slots hl hm hs z1 z2 => lv_instN C.1 C.2.1 hdg (by rw [hn]; exact k C H locs ls cells slots hl hm hs z1 z2)
theorem x_tableIn {dflt lo hi : Int} {offs : Array Int} {len : Nat} {x : Int32} {off : Int} {tgt : Nat} (hdg : decode cc pc = .ok (.tableswitch dflt lo hi offs, len)) (h1 : ¬ x.toInt < lo) (h2 : ¬ hi < x.toInt) (ho : offs[(x.toInt - lo).toNat]? = some off) (ht : (pc : Int) + off = (tgt : Int)) (k : Wx p l e R s m args below meth c own cc nL G Q tgt L st M cb sb) : Wx p l e R s m args below meth c own cc nL G Q pc L (.int x :: st) M cb sb := fun C H locs ls cells slots hl hm hs z1 z2 => lv_tableIn C.1 C.2.1 hdg h1 h2 ho ht (k C H locs ls cells slots hl hm hs z1 z2)
theorem x_tableOut {dflt lo hi : Int} {offs : Array Int} {len : Nat} {x : Int32} {tgt : Nat} (hdg : decode cc pc = .ok (.tableswitch dflt lo hi offs, len)) (h : x.toInt < lo ∨ hi < x.toInt) (ht : (pc : Int) + dflt = (tgt : Int)) (k : Wx p l e R s m args below meth c own cc nL G Q tgt L st M cb sb) : Wx p l e R s m args below meth c own cc nL G Q pc L (.int x :: st) M cb sb := fun C H locs ls cells slots hl hm hs z1 z2 => lv_tableOut C.1 C.2.1 hdg h ht (k C H locs ls cells slots hl hm hs z1 z2)
theorem x_lookup {dflt : Int} {ps : Array (Int × Int)} {len : Nat} {x : Int32} {off : Int} {tgt : Nat} (hdg : decode cc pc = .ok (.lookupswitch dflt ps, len)) (hp : (ps.toList.zip (ps.toList.drop 1)).all (fun (a, next) => a.1 < next.1) = true) (ho : Op.lookupswitch.offset ps.toList dflt x.toInt = off) (ht : (pc : Int) + off = (tgt : Int)) (k : Wx p l e R s m args below meth c own cc nL G Q tgt L st M cb sb) : Wx p l e R s m args below meth c own cc nL G Q pc L (.int x :: st) M cb sb := fun C H locs ls cells slots hl hm hs z1 z2 => lv_lookup C.1 C.2.1 hdg hp ho ht (k C H locs ls cells slots hl hm hs z1 z2)
theorem x_acmp_eq {rx ry : Option Nat} {off : Int} {tgt : Nat} (hdg : decode cc pc = .ok (.if_acmp .eq off, 3)) (ht : (pc : Int) + off = (tgt : Int)) {n' : Nat} (hn : pc + 3 = n') (kt : rx = ry → Wx p l e R s m args below meth c own cc nL G Q tgt L st M cb sb) (kf : ¬ rx = ry → Wx p l e R s m args below meth c own cc nL G Q n' L st M cb sb) : Wx p l e R s m args below meth c own cc nL G Q pc L (va_rf ry :: va_rf rx :: st) M cb sb := fun C H locs ls cells slots hl hm hs z1 z2 => lv_acmp_eq C.1 C.2.1 hdg ht (fun q => (kt q) C H locs ls cells slots hl hm hs z1 z2) (fun q => by rw [hn]; exact (kf q) C H locs ls cells slots hl hm hs z1 z2)
theorem x_acmp_ne {rx ry : Option Nat} {off : Int} {tgt : Nat} (hdg : decode cc pc = .ok (.if_acmp .ne off, 3)) (ht : (pc : Int) + off = (tgt : Int)) {n' : Nat} (hn : pc + 3 = n') (kt : ¬ rx = ry → Wx p l e R s m args below meth c own cc nL G Q tgt L st M cb sb) (kf : rx = ry → Wx p l e R s m args below meth c own cc nL G Q n' L st M cb sb) : Wx p l e R s m args below meth c own cc nL G Q pc L (va_rf ry :: va_rf rx :: st) M cb sb := fun C H locs ls cells slots hl hm hs z1 z2 => lv_acmp_ne C.1 C.2.1 hdg ht (fun q => (kt q) C H locs ls cells slots hl hm hs z1 z2) (fun q => by rw [hn]; exact (kf q) C H locs ls cells slots hl hm hs z1 z2)
theorem x_iload_n {k : Fin 4} {i : Nat} {x : Int32} (d : decode cc pc = .ok (.iload_n k, 1)) (hi : (k : Nat) = i) (hv : L[i]? = some (some (.int x))) {n' : Nat} (hn : pc + 1 = n') (k9 : Wx p l e R s m args below meth c own cc nL G Q n' L (.int x :: st) M cb sb) : Wx p l e R s m args below meth c own cc nL G Q pc L st M cb sb := fun C H locs ls cells slots hl hm hs z1 z2 => lv_iload_n C.1 C.2.1 d hi (hl.2.2 i _ hv) (by rw [hn]; exact k9 C H locs ls cells slots hl hm hs z1 z2)
theorem x_iload {i : Nat} {x : Int32} (d : decode cc pc = .ok (.iload i, 2)) (hv : L[i]? = some (some (.int x))) {n' : Nat} (hn : pc + 2 = n') (k9 : Wx p l e R s m args below meth c own cc nL G Q n' L (.int x :: st) M cb sb) : Wx p l e R s m args below meth c own cc nL G Q pc L st M cb sb := fun C H locs ls cells slots hl hm hs z1 z2 => lv_iload C.1 C.2.1 d (hl.2.2 i _ hv) (by rw [hn]; exact k9 C H locs ls cells slots hl hm hs z1 z2)
theorem x_lload_n {k : Fin 4} {i : Nat} {x : Int64} (d : decode cc pc = .ok (.lload_n k, 1)) (hi : (k : Nat) = i) (hv : L[i]? = some (some (.long x))) {n' : Nat} (hn : pc + 1 = n') (k9 : Wx p l e R s m args below meth c own cc nL G Q n' L (.long x :: st) M cb sb) : Wx p l e R s m args below meth c own cc nL G Q pc L st M cb sb := fun C H locs ls cells slots hl hm hs z1 z2 => lv_lload_n C.1 C.2.1 d hi (hl.2.2 i _ hv) (by rw [hn]; exact k9 C H locs ls cells slots hl hm hs z1 z2)
theorem x_lload {i : Nat} {x : Int64} (d : decode cc pc = .ok (.lload i, 2)) (hv : L[i]? = some (some (.long x))) {n' : Nat} (hn : pc + 2 = n') (k9 : Wx p l e R s m args below meth c own cc nL G Q n' L (.long x :: st) M cb sb) : Wx p l e R s m args below meth c own cc nL G Q pc L st M cb sb := fun C H locs ls cells slots hl hm hs z1 z2 => lv_lload C.1 C.2.1 d (hl.2.2 i _ hv) (by rw [hn]; exact k9 C H locs ls cells slots hl hm hs z1 z2)
theorem x_aload_n {k : Fin 4} {i : Nat} {x : Nat} (d : decode cc pc = .ok (.aload_n k, 1)) (hi : (k : Nat) = i) (hv : L[i]? = some (some (.ref x))) {n' : Nat} (hn : pc + 1 = n') (k9 : Wx p l e R s m args below meth c own cc nL G Q n' L (.ref x :: st) M cb sb) : Wx p l e R s m args below meth c own cc nL G Q pc L st M cb sb := fun C H locs ls cells slots hl hm hs z1 z2 => lv_aload_n C.1 C.2.1 d hi (hl.2.2 i _ hv) (by rw [hn]; exact k9 C H locs ls cells slots hl hm hs z1 z2)
theorem x_aload {i : Nat} {x : Nat} (d : decode cc pc = .ok (.aload i, 2)) (hv : L[i]? = some (some (.ref x))) {n' : Nat} (hn : pc + 2 = n') (k9 : Wx p l e R s m args below meth c own cc nL G Q n' L (.ref x :: st) M cb sb) : Wx p l e R s m args below meth c own cc nL G Q pc L st M cb sb := fun C H locs ls cells slots hl hm hs z1 z2 => lv_aload C.1 C.2.1 d (hl.2.2 i _ hv) (by rw [hn]; exact k9 C H locs ls cells slots hl hm hs z1 z2)
theorem x_aload_nN {k : Fin 4} {i : Nat} (d : decode cc pc = .ok (.aload_n k, 1)) (hi : (k : Nat) = i) (hv : L[i]? = some (some (.null))) {n' : Nat} (hn : pc + 1 = n') (k9 : Wx p l e R s m args below meth c own cc nL G Q n' L (.null :: st) M cb sb) : Wx p l e R s m args below meth c own cc nL G Q pc L st M cb sb := fun C H locs ls cells slots hl hm hs z1 z2 => lv_aload_nN C.1 C.2.1 d hi (hl.2.2 i _ hv) (by rw [hn]; exact k9 C H locs ls cells slots hl hm hs z1 z2)
theorem x_aloadN {i : Nat} (d : decode cc pc = .ok (.aload i, 2)) (hv : L[i]? = some (some (.null))) {n' : Nat} (hn : pc + 2 = n') (k9 : Wx p l e R s m args below meth c own cc nL G Q n' L (.null :: st) M cb sb) : Wx p l e R s m args below meth c own cc nL G Q pc L st M cb sb := fun C H locs ls cells slots hl hm hs z1 z2 => lv_aloadN C.1 C.2.1 d (hl.2.2 i _ hv) (by rw [hn]; exact k9 C H locs ls cells slots hl hm hs z1 z2)
theorem x_istore_n {k : Fin 4} {i : Nat} {x : Int32} {L' : List (Option Value)} (d : decode cc pc = .ok (.istore_n k, 1)) (hi : (k : Nat) = i) (hb : i < nL) (ho : k1ok L i = true) (hL : (L.set i (some (.int x))) = L') {n' : Nat} (hn : pc + 1 = n') (k9 : Wx p l e R s m args below meth c own cc nL G Q n' L' st M cb sb) : Wx p l e R s m args below meth c own cc nL G Q pc L (.int x :: st) M cb sb := fun C H locs ls cells slots hl hm hs z1 z2 => lv_istore_n C.1 C.2.1 d hi hl.has hb rfl (fun ls2 hl2 => by rw [hn]; exact k9 C H locs ls2 cells slots (hL ▸ kL.st1 ho hl2) hm hs z1 z2)
theorem x_istore {i : Nat} {x : Int32} {L' : List (Option Value)} (d : decode cc pc = .ok (.istore i, 2)) (hb : i < nL) (ho : k1ok L i = true) (hL : (L.set i (some (.int x))) = L') {n' : Nat} (hn : pc + 2 = n') (k9 : Wx p l e R s m args below meth c own cc nL G Q n' L' st M cb sb) : Wx p l e R s m args below meth c own cc nL G Q pc L (.int x :: st) M cb sb := fun C H locs ls cells slots hl hm hs z1 z2 => lv_istore C.1 C.2.1 d hl.has hb rfl (fun ls2 hl2 => by rw [hn]; exact k9 C H locs ls2 cells slots (hL ▸ kL.st1 ho hl2) hm hs z1 z2)
theorem x_astore_n {k : Fin 4} {i : Nat} {x : Nat} {L' : List (Option Value)} (d : decode cc pc = .ok (.astore_n k, 1)) (hi : (k : Nat) = i) (hb : i < nL) (ho : k1ok L i = true) (hL : (L.set i (some (.ref x))) = L') {n' : Nat} (hn : pc + 1 = n') (k9 : Wx p l e R s m args below meth c own cc nL G Q n' L' st M cb sb) : Wx p l e R s m args below meth c own cc nL G Q pc L (.ref x :: st) M cb sb := fun C H locs ls cells slots hl hm hs z1 z2 => lv_astore_n C.1 C.2.1 d hi hl.has hb rfl (fun ls2 hl2 => by rw [hn]; exact k9 C H locs ls2 cells slots (hL ▸ kL.st1 ho hl2) hm hs z1 z2)
theorem x_astore {i : Nat} {x : Nat} {L' : List (Option Value)} (d : decode cc pc = .ok (.astore i, 2)) (hb : i < nL) (ho : k1ok L i = true) (hL : (L.set i (some (.ref x))) = L') {n' : Nat} (hn : pc + 2 = n') (k9 : Wx p l e R s m args below meth c own cc nL G Q n' L' st M cb sb) : Wx p l e R s m args below meth c own cc nL G Q pc L (.ref x :: st) M cb sb := fun C H locs ls cells slots hl hm hs z1 z2 => lv_astore C.1 C.2.1 d hl.has hb rfl (fun ls2 hl2 => by rw [hn]; exact k9 C H locs ls2 cells slots (hL ▸ kL.st1 ho hl2) hm hs z1 z2)
theorem x_astore_nN {k : Fin 4} {i : Nat} {L' : List (Option Value)} (d : decode cc pc = .ok (.astore_n k, 1)) (hi : (k : Nat) = i) (hb : i < nL) (ho : k1ok L i = true) (hL : (L.set i (some (.null))) = L') {n' : Nat} (hn : pc + 1 = n') (k9 : Wx p l e R s m args below meth c own cc nL G Q n' L' st M cb sb) : Wx p l e R s m args below meth c own cc nL G Q pc L (.null :: st) M cb sb := fun C H locs ls cells slots hl hm hs z1 z2 => lv_astore_nN C.1 C.2.1 d hi hl.has hb rfl (fun ls2 hl2 => by rw [hn]; exact k9 C H locs ls2 cells slots (hL ▸ kL.st1 ho hl2) hm hs z1 z2)
theorem x_astoreN {i : Nat} {L' : List (Option Value)} (d : decode cc pc = .ok (.astore i, 2)) (hb : i < nL) (ho : k1ok L i = true) (hL : (L.set i (some (.null))) = L') {n' : Nat} (hn : pc + 2 = n') (k9 : Wx p l e R s m args below meth c own cc nL G Q n' L' st M cb sb) : Wx p l e R s m args below meth c own cc nL G Q pc L (.null :: st) M cb sb := fun C H locs ls cells slots hl hm hs z1 z2 => lv_astoreN C.1 C.2.1 d hl.has hb rfl (fun ls2 hl2 => by rw [hn]; exact k9 C H locs ls2 cells slots (hL ▸ kL.st1 ho hl2) hm hs z1 z2)
theorem x_lstore_n {k : Fin 4} {i : Nat} {x : Int64} {L' : List (Option Value)} (d : decode cc pc = .ok (.lstore_n k, 1)) (hi : (k : Nat) = i) (hb : i + 1 < nL) (ho : k1ok L i = true) (hL : ((L.set i (some (.long x))).set (i + 1) none) = L') {n' : Nat} (hn : pc + 1 = n') (k9 : Wx p l e R s m args below meth c own cc nL G Q n' L' st M cb sb) : Wx p l e R s m args below meth c own cc nL G Q pc L (.long x :: st) M cb sb := fun C H locs ls cells slots hl hm hs z1 z2 => lv_lstore_n C.1 C.2.1 d hi hl.has hb rfl (fun ls2 hl2 => by rw [hn]; exact k9 C H locs ls2 cells slots (hL ▸ kL.st2 ho hl2) hm hs z1 z2)
theorem x_lstore {i : Nat} {x : Int64} {L' : List (Option Value)} (d : decode cc pc = .ok (.lstore i, 2)) (hb : i + 1 < nL) (ho : k1ok L i = true) (hL : ((L.set i (some (.long x))).set (i + 1) none) = L') {n' : Nat} (hn : pc + 2 = n') (k9 : Wx p l e R s m args below meth c own cc nL G Q n' L' st M cb sb) : Wx p l e R s m args below meth c own cc nL G Q pc L (.long x :: st) M cb sb := fun C H locs ls cells slots hl hm hs z1 z2 => lv_lstore C.1 C.2.1 d hl.has hb rfl (fun ls2 hl2 => by rw [hn]; exact k9 C H locs ls2 cells slots (hL ▸ kL.st2 ho hl2) hm hs z1 z2)
theorem x_iinc {i : Nat} {n : Int} {x v : Int32} {L' : List (Option Value)} (d : decode cc pc = .ok (.iinc i n, 3)) (hx : L[i]? = some (some (.int x))) (hv : x + Int32.ofInt n = v) (hb : i < nL) (ho : k1ok L i = true) (hL : L.set i (some (.int v)) = L') {n' : Nat} (hn : pc + 3 = n') (k9 : Wx p l e R s m args below meth c own cc nL G Q n' L' st M cb sb) : Wx p l e R s m args below meth c own cc nL G Q pc L st M cb sb := by
  intro C H locs ls cells slots hl hm hs z1 z2
  obtain ⟨j, hj⟩ := List.getElem?_of_mem (kl_mem (q := (i, Value.int x)).mpr hx)
  exact lv_iinc C.1 C.2.1 d hl.has hj hv hb rfl (fun ls2 hl2 => by rw [hn]; exact k9 C H locs ls2 cells slots (hL ▸ kL.st1 ho hl2) hm hs z1 z2)
theorem x_sub {L' : List (Option Value)} (hs : ∀ (i : Nat) (v : Value), L'[i]? = some (some v) → L[i]? = some (some v)) (k9 : Wx p l e R s m args below meth c own cc nL G Q pc L' st M cb sb) : Wx p l e R s m args below meth c own cc nL G Q pc L st M cb sb := fun C H locs ls cells slots hl hm h3 h1 h2 => k9 C H locs ls cells slots (hl.sub hs) hm h3 h1 h2
def ksub : List (Option Value) → List (Option Value) → Prop
  | [], _ => True
  | none :: t, _ :: t' => ksub t t'
  | some v :: t, w :: t' => w = some v ∧ ksub t t'
  | _ :: _, [] => False
theorem ksub_in : ∀ (L' L : List (Option Value)), ksub L' L → ∀ (i : Nat) (v : Value), L'[i]? = some (some v) → L[i]? = some (some v)
  | [], _, _, i, v, h => by simp at h
  | none :: t, _ :: t', k, 0, v, h => by simp at h
  | none :: t, _ :: t', k, i + 1, v, h => by
    simp only [List.getElem?_cons_succ] at h ⊢
    exact ksub_in t t' k i v h
  | some w :: t, _ :: t', k, 0, v, h => by
    simp only [List.getElem?_cons_zero, Option.some.injEq] at h ⊢
    subst h
    exact k.1
  | some w :: t, _ :: t', k, i + 1, v, h => by
    simp only [List.getElem?_cons_succ] at h ⊢
    exact ksub_in t t' k.2 i v h
  | none :: _, [], k, i, v, h => k.elim
  | some _ :: _, [], k, i, v, h => k.elim
theorem x_drop {L' : List (Option Value)} (k9 : Wx p l e R s m args below meth c own cc nL G Q pc L' st M cb sb) (hs : ksub L' L) : Wx p l e R s m args below meth c own cc nL G Q pc L st M cb sb := x_sub (ksub_in L' L hs) k9
theorem x_nameM (k9 : ∀ M2, M = M2 → Wx p l e R s m args below meth c own cc nL G Q pc L st M2 cb sb) : Wx p l e R s m args below meth c own cc nL G Q pc L st M cb sb := k9 M rfl
theorem x_room {cb2 sb2 : Nat} (h8 : cb2 ≤ cb) (h9 : sb2 ≤ sb) (k9 : Wx p l e R s m args below meth c own cc nL G Q pc L st M cb2 sb2) : Wx p l e R s m args below meth c own cc nL G Q pc L st M cb sb := fun C H locs ls cells slots hl hm h3 h1 h2 => k9 C H locs ls cells slots hl hm h3 (by omega) (by omega)
theorem x_mem {M2 : kM} (h8 : M = M2) (k9 : Wx p l e R s m args below meth c own cc nL G Q pc L st M2 cb sb) : Wx p l e R s m args below meth c own cc nL G Q pc L st M cb sb := h8 ▸ k9
theorem x_ghost (a o : Nat) (k9 : Wx p l e R s m args below meth c own cc nL G Q pc L st (sG M a o) cb sb) : Wx p l e R s m args below meth c own cc nL G Q pc L st M cb sb := fun C H locs ls cells slots hl hm h3 h1 h2 => k9 C H locs ls cells slots hl (fun b K hb => hm b K hb) h3 h1 h2
theorem x_lcmp {x y : Int64} (d : decode cc pc = .ok (.lcmp, 1)) {n' : Nat} (hn : pc + 1 = n') (k9 : Wx p l e R s m args below meth c own cc nL G Q n' L (.int (lg_cmp x y) :: st) M cb sb) : Wx p l e R s m args below meth c own cc nL G Q pc L (.long y :: .long x :: st) M cb sb := fun C H locs ls cells slots hl hm hs z1 z2 => W.lcmp C.1 C.2.1 d (by rw [hn]; exact k9 C H locs ls cells slots hl hm hs z1 z2)
theorem x_ldc {i : Nat} {v : Int32} (q : Cond.constant own i v ∈ lw_all) (d : decode cc pc = .ok (.ldc i, 2)) {n' : Nat} (hn : pc + 2 = n') (k9 : Wx p l e R s m args below meth c own cc nL G Q n' L (.int v :: st) M cb sb) : Wx p l e R s m args below meth c own cc nL G Q pc L st M cb sb := fun C H locs ls cells slots hl hm hs z1 z2 => lv_ldc C.1 C.2.1 C.2.2.2.1 (C.2.2.2.2.1 _ q) d (by rw [hn]; exact k9 C H locs ls cells slots hl hm hs z1 z2)
theorem x_ldcw {i : Nat} {v : Int32} (q : Cond.constant own i v ∈ lw_all) (d : decode cc pc = .ok (.ldc_w i, 3)) {n' : Nat} (hn : pc + 3 = n') (k9 : Wx p l e R s m args below meth c own cc nL G Q n' L (.int v :: st) M cb sb) : Wx p l e R s m args below meth c own cc nL G Q pc L st M cb sb := fun C H locs ls cells slots hl hm hs z1 z2 => lv_ldcw C.1 C.2.1 C.2.2.2.1 (C.2.2.2.2.1 _ q) d (by rw [hn]; exact k9 C H locs ls cells slots hl hm hs z1 z2)
theorem x_ldc2 {i : Nat} {v : Int64} (q : Cond.constantLong own i v ∈ lw_all) (d : decode cc pc = .ok (.ldc2_w i, 3)) {n' : Nat} (hn : pc + 3 = n') (k9 : Wx p l e R s m args below meth c own cc nL G Q n' L (.long v :: st) M cb sb) : Wx p l e R s m args below meth c own cc nL G Q pc L st M cb sb := fun C H locs ls cells slots hl hm hs z1 z2 => lv_ldc2 C.1 C.2.1 C.2.2.2.1 (C.2.2.2.2.1 _ q) d (by rw [hn]; exact k9 C H locs ls cells slots hl hm hs z1 z2)
end WX
