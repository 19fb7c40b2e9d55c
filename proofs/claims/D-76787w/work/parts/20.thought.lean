/-! ===== the model's questions: what an hour, a plan, more oil would bring ===== -/
set_option maxRecDepth 100000
def rfM (M : kM) (ad : Nat → Nat) (k : Nat) : kM := sA M (ad 3) (va_up (mA M (ad 3)) k (mA M (ad 3) k + 1))
theorem k_in3 {k x y : Int32} {a b : Int64} (ha : a = x.toInt64) (hb : b = y.toInt64) : bi (a ≤ k.toInt64 ∧ k.toInt64 ≤ b) = bi (x ≤ k ∧ k ≤ y) := by
  subst ha; subst hb
  refine bi_c ?_
  rw [Int64.le_iff_toInt_le, Int64.le_iff_toInt_le, Int32.le_iff_toInt_le, Int32.le_iff_toInt_le, Int32.toInt_toInt64, Int32.toInt_toInt64, Int32.toInt_toInt64]
theorem nn_le {x : Int32} {n : Nat} (h0 : 0 ≤ x) (h : x ≤ nI n) (hn : n < 2147483648) : nn x ≤ n := by
  have h1 := nn_lt x
  rw [nn_of h0] at h
  exact (nI_leI h1 hn).mp h
/-- ships with a fate -/
abbrev bcG (g : gT) (k : Int32) (ns : Nat) : Int32 := cnt (fun s => g (109 + 4 * s + 2) = k) ns
def wldG (g : gT) (h nr nk ns n : Nat) (k : Int32) : Int32 :=
  if k = 0 then unlG g h nr nk ns n
  else if k = 1 then hrsG g h nr nk ns n 4
  else if k = 2 then hrsG g h nr nk ns n 5
  else if k = 3 then bcG (hrsG g h nr nk ns n) 1 ns - bcG g 1 ns
  else if k = 4 then bcG (hrsG g h nr nk ns n) 2 ns - bcG g 2 ns
  else hrsG g h nr nk ns n 20 - g 20
/-- the hour when the boat comes; when the lamp first fails -/
def comF (nr nk ns : Nat) : Nat → gT → Nat → Int32
  | 0, _, _ => -1
  | n + 1, g, h => if boV g h nr nk ns = 0 then comF nr nk ns n (hourG g h nr nk ns) (h + 1) else nI h
def falF (nr nk ns : Nat) : Nat → gT → Nat → Int32
  | 0, _, _ => -1
  | n + 1, g, h => if 0 < hourG g h nr nk ns 16 - g 16 then nI h else falF nr nk ns n (hourG g h nr nk ns) (h + 1)
theorem sf_7 (sf : Nat → Int32) (b d t : Int32) : va_up (va_up (va_up sf (fc 9 7) b) (fc 9 5) d) (fc 9 6) t (fc 9 7) = b := by
  rw [va_up_ne _ _ (by decide), va_up_ne _ _ (by decide), va_up_self]
theorem sf_5 (sf : Nat → Int32) (b d t : Int32) : va_up (va_up (va_up sf (fc 9 7) b) (fc 9 5) d) (fc 9 6) t (fc 9 5) = d := by
  rw [va_up_ne _ _ (by decide), va_up_self]
theorem sf_6 (sf : Nat → Int32) (b d t : Int32) : va_up (va_up (va_up sf (fc 9 7) b) (fc 9 5) d) (fc 9 6) t (fc 9 6) = t := va_up_self _ _ _
theorem nI_prd (n : Nat) : nI (n + 1) - 1 = nI n := by
  rw [← nI_1, Int32.add_sub_cancel]
theorem nI_nn {n : Nat} (h : n < 2147483648) : (0 : Int32) ≤ nI n := (nI_leI (a := 0) (by decide) h).mpr (Nat.zero_le n)
def comI (g : gT) (h nr nk ns i : Nat) (r : Int32) : Prop := (r = -1 ∧ comF nr nk ns (400 - i) (hrsG g h nr nk ns i) (h + i) = comF nr nk ns 400 g h) ∨ (0 ≤ r ∧ r = comF nr nk ns 400 g h)
theorem comI_0 (g : gT) (h nr nk ns : Nat) : comI g h nr nk ns 0 (-1) := Or.inl ⟨rfl, rfl⟩
theorem comI_s {g : gT} {h nr nk ns i : Nat} {r : Int32} (q : comI g h nr nk ns i r) (hi : i < 400) (c : ¬ 0 ≤ r) (hb : h + i < 2147483648) : comI g h nr nk ns (i + 1) (if boV (hrsG g h nr nk ns i) (h + i) nr nk ns = 0 then -1 else nI (h + i)) := by
  rcases q with ⟨e, q⟩ | ⟨q, _⟩
  · rw [show 400 - i = (400 - (i + 1)) + 1 by omega] at q
    unfold comF at q
    by_cases z : boV (hrsG g h nr nk ns i) (h + i) nr nk ns = 0
    · rw [if_pos z] at q ⊢
      exact Or.inl ⟨rfl, q⟩
    · rw [if_neg z] at q ⊢
      exact Or.inr ⟨nI_nn hb, q⟩
  · exact absurd q c
theorem comI_e {g : gT} {h nr nk ns i : Nat} {r : Int32} (q : comI g h nr nk ns i r) (hi : 400 ≤ i ∨ 0 ≤ r) : r = comF nr nk ns 400 g h := by
  rcases q with ⟨e, q⟩ | ⟨_, q⟩
  · rcases hi with hi | hi
    · rw [show 400 - i = 0 by omega] at q
      rw [e, ← q]; rfl
    · rw [e] at hi; exact absurd hi (by decide)
  · exact q
def falI (g : gT) (h nr nk ns i : Nat) (r : Int32) : Prop := (r = -1 ∧ falF nr nk ns (200 - i) (hrsG g h nr nk ns i) (h + i) = falF nr nk ns 200 g h) ∨ (0 ≤ r ∧ r = falF nr nk ns 200 g h)
theorem falI_0 (g : gT) (h nr nk ns : Nat) : falI g h nr nk ns 0 (-1) := Or.inl ⟨rfl, rfl⟩
theorem falI_s {g : gT} {h nr nk ns i : Nat} {r : Int32} (q : falI g h nr nk ns i r) (hi : i < 200) (c : ¬ 0 ≤ r) (hb : h + i < 2147483648) : falI g h nr nk ns (i + 1) (if unlG (hrsG g h nr nk ns i) (h + i) nr nk ns 1 ≤ 0 then -1 else nI (h + i)) := by
  have e9 : unlG (hrsG g h nr nk ns i) (h + i) nr nk ns 1 = hourG (hrsG g h nr nk ns i) (h + i) nr nk ns 16 - hrsG g h nr nk ns i 16 := rfl
  rcases q with ⟨e, q⟩ | ⟨q, _⟩
  · rw [show 200 - i = (200 - (i + 1)) + 1 by omega] at q
    unfold falF at q
    by_cases z : unlG (hrsG g h nr nk ns i) (h + i) nr nk ns 1 ≤ 0
    · rw [if_neg (Int32.not_lt.mpr (e9 ▸ z))] at q
      rw [if_pos z]
      exact Or.inl ⟨rfl, q⟩
    · rw [if_pos (Int32.not_le.mp (e9 ▸ z))] at q
      rw [if_neg z]
      exact Or.inr ⟨nI_nn hb, q⟩
  · exact absurd q c
theorem falI_e {g : gT} {h nr nk ns i : Nat} {r : Int32} (q : falI g h nr nk ns i r) (hi : 200 ≤ i ∨ 0 ≤ r) : r = falF nr nk ns 200 g h := by
  rcases q with ⟨e, q⟩ | ⟨_, q⟩
  · rcases hi with hi | hi
    · rw [show 200 - i = 0 by omega] at q
      rw [e, ← q]; rfl
    · rw [e] at hi; exact absurd hi (by decide)
  · exact q
