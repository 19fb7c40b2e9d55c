/-! ===== numbers, memory laws, the model's memory ===== -/
set_option maxRecDepth 100000
theorem nl_0 : (0 : Int32) = nI 0 := rfl
theorem nl_1 : (1 : Int32) = nI 1 := rfl
theorem nl_2 : (2 : Int32) = nI 2 := rfl
theorem nl_3 : (3 : Int32) = nI 3 := rfl
theorem nl_4 : (4 : Int32) = nI 4 := rfl
theorem nl_5 : (5 : Int32) = nI 5 := rfl
theorem nl_6 : (6 : Int32) = nI 6 := rfl
theorem nl_7 : (7 : Int32) = nI 7 := rfl
theorem nl_8 : (8 : Int32) = nI 8 := rfl
theorem nl_9 : (9 : Int32) = nI 9 := rfl
theorem nl_10 : (10 : Int32) = nI 10 := rfl
theorem nl_11 : (11 : Int32) = nI 11 := rfl
theorem nl_12 : (12 : Int32) = nI 12 := rfl
theorem nl_13 : (13 : Int32) = nI 13 := rfl
theorem nl_14 : (14 : Int32) = nI 14 := rfl
theorem nl_15 : (15 : Int32) = nI 15 := rfl
theorem nl_16 : (16 : Int32) = nI 16 := rfl
theorem nl_17 : (17 : Int32) = nI 17 := rfl
theorem nl_18 : (18 : Int32) = nI 18 := rfl
theorem nl_19 : (19 : Int32) = nI 19 := rfl
theorem nl_20 : (20 : Int32) = nI 20 := rfl
theorem nl_21 : (21 : Int32) = nI 21 := rfl
theorem nl_22 : (22 : Int32) = nI 22 := rfl
theorem nl_23 : (23 : Int32) = nI 23 := rfl
theorem nl_24 : (24 : Int32) = nI 24 := rfl
theorem nl_32 : (32 : Int32) = nI 32 := rfl
theorem nl_40 : (40 : Int32) = nI 40 := rfl
theorem nl_48 : (48 : Int32) = nI 48 := rfl
theorem nl_57 : (57 : Int32) = nI 57 := rfl
theorem nl_61 : (61 : Int32) = nI 61 := rfl
theorem nl_85 : (85 : Int32) = nI 85 := rfl
theorem nl_97 : (97 : Int32) = nI 97 := rfl
theorem nl_99 : (99 : Int32) = nI 99 := rfl
theorem nl_100 : (100 : Int32) = nI 100 := rfl
theorem nl_102 : (102 : Int32) = nI 102 := rfl
theorem nl_109 : (109 : Int32) = nI 109 := rfl
theorem nl_115 : (115 : Int32) = nI 115 := rfl
theorem nl_160 : (160 : Int32) = nI 160 := rfl
theorem nl_163 : (163 : Int32) = nI 163 := rfl
theorem nl_168 : (168 : Int32) = nI 168 := rfl
theorem nl_200 : (200 : Int32) = nI 200 := rfl
theorem nl_250 : (250 : Int32) = nI 250 := rfl
theorem nl_255 : (255 : Int32) = nI 255 := rfl
theorem nl_400 : (400 : Int32) = nI 400 := rfl
theorem nl_909 : (909 : Int32) = nI 909 := rfl
theorem nl_999 : (999 : Int32) = nI 999 := rfl
theorem nl_2509 : (2509 : Int32) = nI 2509 := rfl
theorem nl_9999 : (9999 : Int32) = nI 9999 := rfl
theorem nl_12345 : (12345 : Int32) = nI 12345 := rfl
theorem nl_31 : (31 : Int32) = nI 31 := rfl
theorem nl_45 : (45 : Int32) = nI 45 := rfl
theorem nl_56 : (56 : Int32) = nI 56 := rfl
theorem nl_60 : (60 : Int32) = nI 60 := rfl
theorem nl_63 : (63 : Int32) = nI 63 := rfl
theorem nl_64 : (64 : Int32) = nI 64 := rfl
theorem nl_108 : (108 : Int32) = nI 108 := rfl
theorem nl_110 : (110 : Int32) = nI 110 := rfl
theorem nl_117 : (117 : Int32) = nI 117 := rfl
theorem nl_128 : (128 : Int32) = nI 128 := rfl
theorem nl_256 : (256 : Int32) = nI 256 := rfl
theorem nl_320 : (320 : Int32) = nI 320 := rfl
theorem nl_1023 : (1023 : Int32) = nI 1023 := rfl
theorem nI_inc (i : Nat) : nI i + Int32.ofInt 1 = nI (i + 1) := nI_1 i
theorem nI_decp {i : Nat} (h : 1 ≤ i) : nI i + Int32.ofInt (-1) = nI (i - 1) := by
  obtain ⟨j, rfl⟩ : ∃ j, i = j + 1 := ⟨i - 1, by omega⟩
  exact pk_m1 j
theorem up_s {α : Type} {f : Nat → α} {k : Nat} {v : α} : va_up f k v k = v := va_up_self _ _ _
theorem up_n {α : Type} {f : Nat → α} {k j : Nat} {v : α} (h : j ≠ k) : va_up f k v j = f j := va_up_ne _ _ h
theorem nI_dec (i : Nat) : nI (i + 1) + Int32.ofInt (-1) = nI i := pk_m1 i
theorem i_inc (x : Int32) : x + Int32.ofInt 1 = x + 1 := rfl
theorem mA_sA {M : kM} {a : Nat} {f : Nat → Int32} : mA (sA M a f) a = f := va_up_self _ _ _
theorem mA_sA_n {M : kM} {a b : Nat} {f : Nat → Int32} (h : b ≠ a) : mA (sA M a f) b = mA M b := va_up_ne _ _ h
theorem mA_sI {M : kM} {c a : Nat} {v : Int32} : mA (sI M c a v) = mA M := rfl
theorem mA_sR {M : kM} {c a : Nat} {v : Option Nat} : mA (sR M c a v) = mA M := rfl
theorem mA_sL {M : kM} {a : Nat} {v : Nat → Int64} : mA (sL M a v) = mA M := rfl
theorem mA_sO {M : kM} {a : Nat} {v : Nat → Option Nat} : mA (sO M a v) = mA M := rfl
theorem mL_sL {M : kM} {a : Nat} {f : Nat → Int64} : mL (sL M a f) a = f := va_up_self _ _ _
theorem mL_sL_n {M : kM} {a b : Nat} {f : Nat → Int64} (h : b ≠ a) : mL (sL M a f) b = mL M b := va_up_ne _ _ h
theorem mL_sA {M : kM} {a : Nat} {f : Nat → Int32} : mL (sA M a f) = mL M := rfl
theorem mL_sI {M : kM} {c a : Nat} {v : Int32} : mL (sI M c a v) = mL M := rfl
theorem mO_sO {M : kM} {a : Nat} {f : Nat → Option Nat} : mO (sO M a f) a = f := va_up_self _ _ _
theorem mO_sO_n {M : kM} {a b : Nat} {f : Nat → Option Nat} (h : b ≠ a) : mO (sO M a f) b = mO M b := va_up_ne _ _ h
theorem mO_sI {M : kM} {c a : Nat} {v : Int32} : mO (sI M c a v) = mO M := rfl
theorem mO_sR {M : kM} {c a : Nat} {v : Option Nat} : mO (sR M c a v) = mO M := rfl
theorem mO_sA {M : kM} {a : Nat} {f : Nat → Int32} : mO (sA M a f) = mO M := rfl
theorem mI_sI {M : kM} {c a : Nat} {v : Int32} : mI (sI M c a v) c a = v := u2_s
theorem mI_sI_c {M : kM} {c a c' a' : Nat} {v : Int32} (h : c' ≠ c) : mI (sI M c a v) c' a' = mI M c' a' := u2_c h
theorem mI_sI_a {M : kM} {c a c' a' : Nat} {v : Int32} (h : a' ≠ a) : mI (sI M c a v) c' a' = mI M c' a' := u2_a h
theorem mI_sA {M : kM} {a : Nat} {f : Nat → Int32} : mI (sA M a f) = mI M := rfl
theorem mI_sL {M : kM} {a : Nat} {f : Nat → Int64} : mI (sL M a f) = mI M := rfl
theorem mI_sO {M : kM} {a : Nat} {f : Nat → Option Nat} : mI (sO M a f) = mI M := rfl
theorem mI_sR {M : kM} {c a : Nat} {v : Option Nat} : mI (sR M c a v) = mI M := rfl
theorem mR_sR {M : kM} {c a : Nat} {v : Option Nat} : mR (sR M c a v) c a = v := u2_s
theorem mR_sR_c {M : kM} {c a c' a' : Nat} {v : Option Nat} (h : c' ≠ c) : mR (sR M c a v) c' a' = mR M c' a' := u2_c h
theorem mR_sR_a {M : kM} {c a c' a' : Nat} {v : Option Nat} (h : a' ≠ a) : mR (sR M c a v) c' a' = mR M c' a' := u2_a h
theorem mR_sA {M : kM} {a : Nat} {f : Nat → Int32} : mR (sA M a f) = mR M := rfl
theorem mR_sI {M : kM} {c a : Nat} {v : Int32} : mR (sI M c a v) = mR M := rfl
theorem mR_sL {M : kM} {a : Nat} {f : Nat → Int64} : mR (sL M a f) = mR M := rfl
theorem mR_sO {M : kM} {a : Nat} {f : Nat → Option Nat} : mR (sO M a f) = mR M := rfl
theorem mN_sA {M : kM} {a : Nat} {f : Nat → Int32} : mN (sA M a f) = mN M := rfl
theorem mN_sI {M : kM} {c a : Nat} {v : Int32} : mN (sI M c a v) = mN M := rfl
theorem mN_sR {M : kM} {c a : Nat} {v : Option Nat} : mN (sR M c a v) = mN M := rfl
theorem mN_sL {M : kM} {a : Nat} {f : Nat → Int64} : mN (sL M a f) = mN M := rfl
theorem mN_sO {M : kM} {a : Nat} {f : Nat → Option Nat} : mN (sO M a f) = mN M := rfl
theorem up_up {α : Type} (f : Nat → α) (k : Nat) (v w : α) : va_up (va_up f k v) k w = va_up f k w := by
  funext j
  unfold va_up
  split <;> rfl
theorem up_eta {α : Type} (f : Nat → α) (k : Nat) : va_up f k (f k) = f := by
  funext j
  unfold va_up
  split
  · rename_i h; rw [h]
  · rfl
theorem sA_sA {M : kM} {a : Nat} {f h : Nat → Int32} : sA (sA M a f) a h = sA M a h := by
  unfold sA
  simp only [mA, up_up]
  rfl
theorem sA_eta {M : kM} {a : Nat} : sA M a (mA M a) = M := by
  unfold sA
  rw [up_eta]
  rfl
theorem sI_sI {M : kM} {c a : Nat} {v w : Int32} : sI (sI M c a v) c a w = sI M c a w := by
  have h : u2 (u2 (mI M) c a v) c a w = u2 (mI M) c a w := by
    funext c' a'
    unfold u2
    split <;> rfl
  unfold sI
  show (mK M, u2 (u2 (mI M) c a v) c a w, _) = _
  rw [h]
  rfl
theorem sA_sI {M : kM} {a c b : Nat} {f : Nat → Int32} {v : Int32} : sA (sI M c b v) a f = sI (sA M a f) c b v := rfl
/-- the model's arrays: 0 g, 1 was, 2 kept, 3 refusals, 4 tape, 5 read, 6 hadPlan, 7 sorts, 8 sizes, 9 told, 10 darkAt, 11 tendedAt, 12 boatAt, 13 elements -/
def mdF : Nat → Nat := fun i => ([0, 1, 2, 4, 8, 11, 16, 17, 18, 20, 13, 14, 15, 19] : List Nat).getD i 0
def mdK : Nat → Nat := fun i => if i < 10 then 120 else if i < 13 then 123 else 124
def mdN : Nat → Nat := fun i => ([2509, 2509, 2509, 5, 250, 40, 24, 8, 8, 12, 200, 200, 200, 320] : List Nat).getD i 0
def MS (M : kM) (m : Nat) (ad : Nat → Nat) : Prop := mK M m = some 9 ∧ (∀ i, i < 14 → mR M (fc 9 (mdF i)) m = some (ad i) ∧ mK M (ad i) = some (mdK i) ∧ mN M (ad i) = mdN i) ∧ ∀ i j, i < 14 → j < 14 → ad i = ad j → i = j
theorem MS.ne {M : kM} {m : Nat} {ad : Nat → Nat} (h : MS M m ad) (i j : Nat) (hi : i < 14) (hj : j < 14) (hn : i ≠ j) : ad i ≠ ad j := fun e => hn (h.2.2 i j hi hj e)
theorem MS.eqf {M : kM} {m : Nat} {ad : Nat → Nat} (h : MS M m ad) (i j : Nat) (hi : i < 14) (hj : j < 14) (hn : i ≠ j) : (ad i = ad j) = False := eq_false (h.ne i j hi hj hn)
abbrev gT : Type := Nat → Int32
theorem MS.sA {M : kM} {m a : Nat} {ad : Nat → Nat} {f : Nat → Int32} (h : MS M m ad) : MS (sA M a f) m ad := h
theorem MS.sI {M : kM} {m a c : Nat} {ad : Nat → Nat} {v : Int32} (h : MS M m ad) : MS (sI M c a v) m ad := h
theorem MS.sL {M : kM} {m a : Nat} {ad : Nat → Nat} {f : Nat → Int64} (h : MS M m ad) : MS (sL M a f) m ad := h
theorem mK_sA {M : kM} {a b K : Nat} {f : Nat → Int32} (h : mK M b = some K) : mK (sA M a f) b = some K := h
theorem mK_sI {M : kM} {a b K c : Nat} {v : Int32} (h : mK M b = some K) : mK (sI M c a v) b = some K := h
/-- how two longs compare -/
theorem lc_lt {x y : Int64} : lg_cmp x y < 0 ↔ x < y := by
  unfold lg_cmp
  simp only [gt_iff_lt, Int64.lt_iff_toInt_lt, ← Int64.toInt_inj]
  repeat' split
  · exact ⟨fun h => absurd h (by decide), fun h => by omega⟩
  · exact ⟨fun h => absurd h (by decide), fun h => by omega⟩
  · exact ⟨fun _ => by omega, fun _ => by decide⟩
theorem lc_gt {x y : Int64} : 0 < lg_cmp x y ↔ y < x := by
  unfold lg_cmp
  simp only [gt_iff_lt, Int64.lt_iff_toInt_lt, ← Int64.toInt_inj]
  repeat' split
  · exact ⟨fun _ => by omega, fun _ => by decide⟩
  · exact ⟨fun h => absurd h (by decide), fun h => by omega⟩
  · exact ⟨fun h => absurd h (by decide), fun h => by omega⟩
theorem lc_0 {x y : Int64} : lg_cmp x y = 0 ↔ x = y := by
  unfold lg_cmp
  simp only [gt_iff_lt, Int64.lt_iff_toInt_lt, ← Int64.toInt_inj]
  repeat' split
  · exact ⟨fun h => absurd h (by decide), fun h => by omega⟩
  · exact ⟨fun _ => by omega, fun _ => rfl⟩
  · exact ⟨fun h => absurd h (by decide), fun h => by omega⟩
/-! ===== the model's pure functions, over its row of numbers ===== -/
def cpy (f g : gT) (n : Nat) : gT := fun j => if j < n then f j else g j
theorem cpy_0 (f g : gT) : cpy f g 0 = g := by funext j; simp [cpy]
theorem cpy_s (f g : gT) (n : Nat) : va_up (cpy f g n) n (f n) = cpy f g (n + 1) := by
  funext j
  simp only [cpy, va_up]
  by_cases h : j = n
  · subst h; simp
  · by_cases h2 : j < n
    · simp [h, h2, Nat.lt_succ_of_lt h2]
    · have : ¬ j < n + 1 := by omega
      simp [h, h2, this]
/-- is an hour dark -/
abbrev dkG (g : gT) (n : Nat) : Prop := nI (n % 24) < g 1 ∨ g 2 ≤ nI (n % 24)
def logG (g : gT) (what ship who : Int32) (n : Nat) : gT := va_up (va_up (va_up (va_up (va_up g (909 + 4 * n) (g 0)) (909 + 4 * n + 1) what) (909 + 4 * n + 2) ship) (909 + 4 * n + 3) who) 15 (nI (n + 1))
/-- the lamp -/
abbrev lampP (g : gT) (d t : Int32) : Prop := d ≠ 0 ∧ (t ≠ 0 ∨ (g 6 = 1 ∧ g 7 = 0)) ∧ g 3 ≤ g 4
theorem bi_c {c d : Prop} [Decidable c] [Decidable d] (h : c ↔ d) : bi c = bi d := by
  unfold bi
  by_cases hc : c
  · rw [if_pos hc, if_pos (h.mp hc)]
  · rw [if_neg hc, if_neg (fun q => hc (h.mpr q))]
theorem k_in2 (k : Int32) {z : Int64} {y : Int32} (hz : z = y.toInt64) : bi ((0 : Int64) ≤ k.toInt64 ∧ k.toInt64 ≤ z) = bi (0 ≤ k ∧ k ≤ y) := by
  subst hz
  refine bi_c ?_
  simp only [Int64.le_iff_toInt_le, Int32.le_iff_toInt_le, Int32.toInt_toInt64]
  exact Iff.rfl
theorem k_in1 (k : Int32) {n : Nat} (h : n < 5000) : bi ((0 : Int64) ≤ k.toInt64 ∧ k.toInt64 ≤ (nI n - 1).toInt64) = bi (0 ≤ k ∧ k < nI n) := by
  refine bi_c ?_
  have h1 : (nI n - 1).toInt = (n : Int) - 1 := pk_sub_toInt (a := n) (b := 1) (by omega) (by omega)
  simp only [Int64.le_iff_toInt_le, Int32.le_iff_toInt_le, Int32.lt_iff_toInt_lt, Int32.toInt_toInt64, h1, nI_toInt (n := n) (by omega)]
  constructor
  · intro q
    exact ⟨q.1, by have := q.2; omega⟩
  · intro q
    exact ⟨q.1, by have := q.2; omega⟩
theorem k_neg2 (k : Nat) (h : k < 5) : -(-(nI (102 + k))) - nI 102 = nI k := by
  have : k = 0 ∨ k = 1 ∨ k = 2 ∨ k = 3 ∨ k = 4 := by omega
  rcases this with rfl | rfl | rfl | rfl | rfl <;> decide
theorem bi_if {c : Prop} [Decidable c] : (if bi c = 0 then (0 : Int32) else 1) = bi c := by
  by_cases h : c
  · rw [bi_t h]; rfl
  · rw [bi_f h]; rfl
theorem bi_e {c : Prop} [Decidable c] : (bi c = 0) = ¬ c := propext bi_0
abbrev lightP (k d l w : Int32) : Prop := (k ≠ 4 ∧ d ≠ 0 ∧ l = 0) ∨ (k = 7 ∧ d = 0 ∧ w = 2)
abbrev soundP (k s w : Int32) : Prop := k ≠ 3 ∧ w = 1 ∧ s = 0
abbrev roomP (k w : Int32) : Prop := (k = 3 ∨ k = 4) ∧ w = 2
def lacksG (k d l s w : Int32) : Int32 := bi (lightP k d l w) + bi (soundP k s w) + bi (roomP k w)
abbrev underP (kind k : Int32) : Prop := k = 0 ∨ kind = k ∨ (k = 1 ∧ (kind = 3 ∨ kind = 4)) ∨ (k = 2 ∧ 5 ≤ kind) ∨ (k = 6 ∧ kind = 7)
def lamp3 (g : gT) (d t : Int32) : gT := va_up (va_up (va_up g 6 (bi (lampP g d t))) 4 (g 4 - (if lampP g d t then g 3 else 0))) 7 (bi (lampP g d t ∧ t = 0))
theorem bi_ite {c : Prop} [Decidable c] {x : Int32} : (if bi c = 0 then (0 : Int32) else x) = (if c then x else 0) := by
  by_cases h : c
  · rw [bi_t h, if_pos h]; rfl
  · rw [bi_f h, if_neg h]; rfl
theorem bi_and {c d : Prop} [Decidable c] [Decidable d] : (if c then (if d then (1 : Int32) else 0) else 0) = bi (c ∧ d) := by
  unfold bi
  by_cases h : c <;> by_cases h2 : d <;> simp [h, h2]
def lampG (g : gT) (d t : Int32) (h : Nat) : gT := if d ≠ 0 ∧ ¬ lampP g d t then va_up (va_up (lamp3 g d t) 16 (g 16 + 1)) 17 (g 17 ||| ((1 : Int32) <<< (nI (h % 24) &&& 31))) else lamp3 g d t
theorem lamp_a {g : gT} {d t : Int32} {h : Nat} (c : d = 0) : lampG g d t h = lamp3 g d t := if_neg (fun q => q.1 c)
theorem lamp_b {g : gT} {d t : Int32} {h : Nat} (c : ¬ bi (lampP g d t) = 0) : lampG g d t h = lamp3 g d t := if_neg (fun q => c (bi_0.mpr q.2))
theorem lamp_c {g : gT} {d t : Int32} {h : Nat} (c0 : ¬ d = 0) (c : bi (lampP g d t) = 0) : lampG g d t h = va_up (va_up (lamp3 g d t) 16 (g 16 + 1)) 17 (g 17 ||| ((1 : Int32) <<< (nI (h % 24) &&& 31))) := if_pos ⟨c0, bi_0.mp c⟩
def mxI (a b : Int32) : Int32 := if a < b then b else a
def mnI (a b : Int32) : Int32 := if b < a then b else a
def tireV (g : gT) (who w : Int32) (k : Nat) : Int32 := if nI k = who then g (61 + 4 * k + 1) + (if w = 2 then 2 else 1) else mxI 0 (g (61 + 4 * k + 1) - 2)
def tireG (g : gT) (who w : Int32) (n : Nat) : gT := fun j => if 62 ≤ j ∧ (j - 62) % 4 = 0 ∧ (j - 62) / 4 < n then tireV g who w ((j - 62) / 4) else g j
theorem tire_0 (g : gT) (who w : Int32) : tireG g who w 0 = g := by funext j; simp [tireG]
theorem tire_s (g : gT) (who w : Int32) (n : Nat) : va_up (tireG g who w n) (61 + 4 * n + 1) (tireV g who w n) = tireG g who w (n + 1) := by
  funext j
  simp only [tireG, va_up]
  by_cases h : j = 61 + 4 * n + 1
  · subst h
    have e1 : (61 + 4 * n + 1 - 62) % 4 = 0 := by omega
    have e2 : (61 + 4 * n + 1 - 62) / 4 = n := by omega
    rw [if_pos rfl, if_pos ⟨by omega, e1, by omega⟩, e2]
  · rw [if_neg h]
    by_cases h2 : 62 ≤ j ∧ (j - 62) % 4 = 0 ∧ (j - 62) / 4 < n
    · rw [if_pos h2, if_pos ⟨h2.1, h2.2.1, by omega⟩]
    · rw [if_neg h2, if_neg (fun q => h2 ⟨q.1, q.2.1, by omega⟩)]
theorem tire_at (g : gT) (who w : Int32) (n k : Nat) (h : n ≤ k) : tireG g who w n (61 + 4 * k + 1) = g (61 + 4 * k + 1) := by
  simp only [tireG]
  rw [if_neg (fun q => by omega)]
/-- runs of weather: how long, which stands at an hour -/
def duG (g : gT) (r : Nat) : Nat := (g (21 + 2 * r + 1)).toNatClampNeg
def sumN (f : Nat → Nat) : Nat → Nat
  | 0 => 0
  | n + 1 => sumN f n + f n
def wIx (du : Nat → Nat) : Nat → Nat → Nat → Nat
  | 0, r, _ => r
  | f + 1, r, at' => if at' < du r then r else wIx du f (r + 1) (at' - du r)
/-- the runs are right: nr of them, of 1 to 99 hours -/
def RunsOK (g : gT) (nr : Nat) : Prop := g 12 = nI nr ∧ nr ≤ 20 ∧ ∀ r, r < nr → ∃ x, g (21 + 2 * r + 1) = nI x ∧ 1 ≤ x ∧ x ≤ 99
theorem RunsOK.du {g : gT} {nr r : Nat} (h : RunsOK g nr) (hr : r < nr) : g (21 + 2 * r + 1) = nI (duG g r) ∧ 1 ≤ duG g r ∧ duG g r ≤ 99 := by
  obtain ⟨x, e, h1, h2⟩ := h.2.2 r hr
  have : duG g r = x := by unfold duG; rw [e, nI_clamp (by omega)]
  rw [this]
  exact ⟨e, h1, h2⟩
theorem sumN_le {f : Nat → Nat} {c : Nat} : ∀ n, (∀ r, r < n → f r ≤ c) → sumN f n ≤ c * n
  | 0, _ => by simp [sumN]
  | n + 1, h => by
    have := sumN_le n (fun r hr => h r (by omega))
    have h2 := h n (by omega)
    simp only [sumN, Nat.mul_add]
    omega
theorem sumN_pos {f : Nat → Nat} : ∀ n, 0 < n → (∀ r, r < n → 1 ≤ f r) → 1 ≤ sumN f n
  | n + 1, _, h => by
    have := h n (by omega)
    simp only [sumN]
    omega
/-- the number of the weather at an hour -/
def weaG (g : gT) (nr n : Nat) : Int32 := if nr = 0 then 0 else g (21 + 2 * wIx (duG g) nr 0 (n % sumN (duG g) nr))
/-- ships of an hour and a kind; of an hour, by rank -/
def rkK (g : gT) (h k : Int32) (n : Nat) : List Nat := (List.range n).filter (fun s => decide (g (109 + 4 * s + 1) = h ∧ g (109 + 4 * s) = k))
def rkT (g : gT) (h : Int32) (n : Nat) : Nat → List Nat
  | 0 => []
  | t + 1 => rkT g h n t ++ rkK g h (nI (7 - t)) n
abbrev rk (g : gT) (h : Int32) (n : Nat) : List Nat := rkT g h n 5
def rkA (g : gT) (h : Int32) (n i : Nat) : Int32 := match (rk g h n)[i]? with
  | some s => nI s
  | none => -1
theorem rkK_0 (g : gT) (h k : Int32) : rkK g h k 0 = [] := rfl
theorem rkK_s (g : gT) (h k : Int32) (n : Nat) : rkK g h k (n + 1) = rkK g h k n ++ (if g (109 + 4 * n + 1) = h ∧ g (109 + 4 * n) = k then [n] else []) := by
  simp only [rkK, List.range_succ, List.filter_append, List.filter_cons, List.filter_nil]
  by_cases c : g (109 + 4 * n + 1) = h ∧ g (109 + 4 * n) = k
  · simp [c]
  · simp [c]
theorem rkK_pre (g : gT) (h k : Int32) {m n : Nat} (hm : m ≤ n) : ∃ r, rkK g h k n = rkK g h k m ++ r := by
  induction n with
  | zero => exact ⟨[], by have : m = 0 := by omega
                          subst this; simp⟩
  | succ n ih =>
    by_cases e : m = n + 1
    · subst e; exact ⟨[], by simp⟩
    · obtain ⟨r, hr⟩ := ih (by omega)
      exact ⟨r ++ (if g (109 + 4 * n + 1) = h ∧ g (109 + 4 * n) = k then [n] else []), by rw [rkK_s, hr, List.append_assoc]⟩
theorem rkT_pre (g : gT) (h : Int32) (n : Nat) {a b : Nat} (hm : a ≤ b) : ∃ r, rkT g h n b = rkT g h n a ++ r := by
  induction b with
  | zero => exact ⟨[], by have : a = 0 := by omega
                          subst this; simp⟩
  | succ b ih =>
    by_cases e : a = b + 1
    · subst e; exact ⟨[], by simp⟩
    · obtain ⟨r, hr⟩ := ih (by omega)
      exact ⟨r ++ rkK g h (nI (7 - b)) n, by show rkT g h n b ++ _ = _; rw [hr, List.append_assoc]⟩
/-- a ship that is found in its turn -/
theorem rk_hit {g : gT} {h : Int32} {n t s i : Nat} (ht : t < 5) (hs : s < n) (h1 : g (109 + 4 * s + 1) = h) (h2 : g (109 + 4 * s) = nI (7 - t)) (hi : (rkT g h n t ++ rkK g h (nI (7 - t)) s).length = i) : (rk g h n)[i]? = some s := by
  obtain ⟨r1, e1⟩ := rkT_pre g h n (a := t + 1) (b := 5) (by omega)
  obtain ⟨r2, e2⟩ := rkK_pre g h (nI (7 - t)) (m := s + 1) (n := n) (by omega)
  have e3 : rk g h n = (rkT g h n t ++ rkK g h (nI (7 - t)) s) ++ s :: (r2 ++ r1) := by
    show rkT g h n 5 = _
    rw [e1]
    show (rkT g h n t ++ rkK g h (nI (7 - t)) n) ++ r1 = _
    rw [e2, rkK_s, if_pos ⟨h1, h2⟩]
    simp [List.append_assoc]
  rw [e3, List.getElem?_append_right (by omega), hi, Nat.sub_self]
  rfl
theorem rkA_hit {g : gT} {h : Int32} {n t s i : Nat} (ht : t < 5) (hs : s < n) (h1 : g (109 + 4 * s + 1) = h) (h2 : g (109 + 4 * s) = nI (7 - t)) (hi : (rkT g h n t ++ rkK g h (nI (7 - t)) s).length = i) : rkA g h n i = nI s := by
  unfold rkA
  rw [rk_hit ht hs h1 h2 hi]
theorem rkA_no {g : gT} {h : Int32} {n i : Nat} (hi : (rk g h n).length ≤ i) : rkA g h n i = -1 := by
  unfold rkA
  rw [List.getElem?_eq_none hi]
theorem rk_l0 {g : gT} {h k : Int32} {n : Nat} (X : List Nat) (c : ¬ (g (109 + 4 * n + 1) = h ∧ g (109 + 4 * n) = k)) : (X ++ rkK g h k (n + 1)).length = (X ++ rkK g h k n).length := by
  rw [rkK_s, if_neg c, List.append_nil]
theorem rk_la {g : gT} {h k : Int32} {n : Nat} (X : List Nat) (c : ¬ g (109 + 4 * n + 1) = h) : (X ++ rkK g h k (n + 1)).length = (X ++ rkK g h k n).length := rk_l0 X (fun q => c q.1)
theorem rk_lb {g : gT} {h k : Int32} {n : Nat} (X : List Nat) (c : ¬ g (109 + 4 * n) = k) : (X ++ rkK g h k (n + 1)).length = (X ++ rkK g h k n).length := rk_l0 X (fun q => c q.2)
theorem rk_l1 {g : gT} {h k : Int32} {n : Nat} (X : List Nat) (c : g (109 + 4 * n + 1) = h) (d : g (109 + 4 * n) = k) : (X ++ rkK g h k (n + 1)).length = (X ++ rkK g h k n).length + 1 := by
  rw [rkK_s, if_pos ⟨c, d⟩, ← List.append_assoc, List.length_append (bs := [n])]
  rfl
theorem rkK_len (g : gT) (h k : Int32) (n : Nat) : (rkK g h k n).length ≤ n := by
  have := List.length_filter_le (fun s => decide (g (109 + 4 * s + 1) = h ∧ g (109 + 4 * s) = k)) (List.range n)
  rw [List.length_range] at this
  exact this
theorem rkT_len (g : gT) (h : Int32) (n : Nat) : ∀ t, (rkT g h n t).length ≤ t * n
  | 0 => by simp [rkT]
  | t + 1 => by
    have h1 := rkT_len g h n t
    have h2 := rkK_len g h (nI (7 - t)) n
    simp only [rkT, List.length_append, Nat.succ_mul]
    omega
theorem rk_len (g : gT) (h : Int32) (n : Nat) : (rk g h n).length ≤ 5 * n := rkT_len g h n 5
theorem wRun_next {du : Nat → Nat} {nr r a : Nat} (h3 : sumN du r + a < sumN du nr) (h2 : r < nr) (hn : ¬ a < du r) : r + 1 < nr := by
  rcases Nat.lt_or_ge (r + 1) nr with q | q
  · exact q
  · exfalso
    have e : nr = r + 1 := by omega
    rw [e] at h3
    simp only [sumN] at h3
    omega
theorem hr_pos {f : Nat → Nat} {nr : Nat} (c : ¬ nI (sumN f nr) = 0) : 0 < nr := by
  rcases Nat.eq_zero_or_pos nr with q | q
  · subst q; exact absurd rfl c
  · exact q
theorem weaG_0 {g : gT} {nr n : Nat} (hr : RunsOK g nr) (c : nI (sumN (duG g) nr) = 0) : (0 : Int32) = weaG g nr n := by
  have h1 : ∀ r, r < nr → 1 ≤ duG g r ∧ duG g r ≤ 99 := fun r q => (hr.du q).2
  have h2 := sumN_le nr (fun r q => (h1 r q).2)
  have h3 := hr.2.1
  unfold weaG
  rw [if_pos]
  rcases Nat.eq_zero_or_pos nr with q | q
  · exact q
  · exact absurd c (nI_ne0 (sumN_pos nr q (fun r q => (h1 r q).1)) (by omega))
theorem weaG_1 {g : gT} {nr n r a : Nat} (h4 : wIx (duG g) (nr - r) r a = wIx (duG g) nr 0 (n % sumN (duG g) nr)) (h2 : r < nr) (hn : a < duG g r) : g (21 + 2 * r) = weaG g nr n := by
  unfold weaG
  rw [if_neg (by omega), ← h4, show nr - r = (nr - r - 1) + 1 by omega]
  unfold wIx
  rw [if_pos hn]
theorem wIx_next {du : Nat → Nat} {nr r a z : Nat} (h4 : wIx du (nr - r) r a = z) (h2 : r < nr) (hn : ¬ a < du r) : wIx du (nr - (r + 1)) (r + 1) (a - du r) = z := by
  rw [← h4, show nr - r = (nr - (r + 1)) + 1 by omega]
  exact (if_neg hn).symm
/-- the number an int stands for -/
def nn (x : Int32) : Nat := x.toNatClampNeg
theorem nn_nI {n : Nat} (h : n < 2 ^ 31) : nn (nI n) = n := nI_clamp h
theorem nn_lt (x : Int32) : nn x < 2147483648 := by
  unfold nn
  have := x.toInt_lt
  simp only [Int32.toNatClampNeg]
  omega
theorem nn_of {x : Int32} (h : 0 ≤ x) : x = nI (nn x) := by
  apply Int32.toInt_inj.mp
  have h1 : 0 ≤ x.toInt := by have := Int32.le_iff_toInt_le.mp h; simpa using this
  have h2 : nn x < 2147483648 := nn_lt x
  have h3 : (nn x : Int) = x.toInt := by unfold nn; simp only [Int32.toNatClampNeg]; omega
  rw [← h3]
  unfold nI
  rw [Int32.toInt_ofNat', show Int32.size = 4294967296 from rfl]
  exact (Int.bmod_eq_of_le (by omega) (by omega)).symm
/-- the log has room for its count -/
def LK (g : gT) : Prop := ∃ n, n ≤ 400 ∧ g 15 = nI n
def logP (g : gT) (what ship who : Int32) : gT := if nn (g 15) < 400 then logG g what ship who (nn (g 15)) else g
theorem logP_a {g : gT} {a b c : Int32} {n : Nat} (hn : g 15 = nI n) (h : n < 400) : logP g a b c = logG g a b c n := by
  have e : nn (g 15) = n := by rw [hn]; exact nn_nI (by omega)
  unfold logP
  rw [e, if_pos h]
theorem logP_b {g : gT} {a b c : Int32} {n : Nat} (hn : g 15 = nI n) (hb : n ≤ 400) (h : 400 ≤ n) : logP g a b c = g := by
  have e : nn (g 15) = n := by rw [hn]; exact nn_nI (by omega)
  unfold logP
  rw [e, if_neg (by omega)]
