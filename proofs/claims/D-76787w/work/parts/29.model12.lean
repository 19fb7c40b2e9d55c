theorem nn_ltn {x : Int32} {n : Nat} (h0 : 0 ≤ x) (h : x < nI n) (hn : n < 2147483648) : nn x < n := by
  have h1 := nn_lt x
  rw [nn_of h0] at h
  exact (nI_ltI h1 hn).mp h
theorem kof_sub {w : Int32} (h0 : 0 ≤ w) (a0 : ¬ w = 0) (a1 : ¬ w = 1) : w - 2 = nI (nn w - 2) := by
  have e := nn_of h0
  have l := nn_lt w
  have b0 : nn w ≠ 0 := fun q => a0 (by rw [e, q]; rfl)
  have b1 : nn w ≠ 1 := fun q => a1 (by rw [e, q]; rfl)
  have := pk_sub (a := nn w) (b := 2) (by omega)
  rw [← this, ← e]; rfl
theorem kof_a {g : gT} {k : Nat} {w : Int32} (h : w = 0 ∨ w = 1) : g (61 + 4 * k + nn w) = kofG g k w := by
  unfold kofG
  rcases h with rfl | rfl
  · rw [if_pos rfl]; rfl
  · rw [if_neg (by decide), if_pos rfl]; rfl
theorem kof_b {g : gT} {k : Nat} {w : Int32} (h : w = 2) : 12 - 3 * g (61 + 4 * k) = kofG g k w := by
  subst h; unfold kofG
  rw [if_neg (by decide), if_neg (by decide), if_pos rfl]
theorem kof_c {g : gT} {k : Nat} {w : Int32} (h : w = 3) : cnt (fun s => g (85 + s) = nI k) 24 = kofG g k w := by
  subst h; unfold kofG
  rw [if_neg (by decide), if_neg (by decide), if_neg (by decide), if_pos rfl]
theorem kof_d {g : gT} {k : Nat} {w : Int32} (h0 : 0 ≤ w) (h5 : w ≤ 5) (a0 : ¬ w = 0) (a1 : ¬ w = 1) (a2 : ¬ w = 2) (a3 : ¬ w = 3) : g (61 + 4 * k + (nn w - 2)) = kofG g k w := by
  have e := nn_of h0
  have l := nn_le (n := 5) h0 h5 (by decide)
  have b0 : nn w ≠ 0 := fun q => a0 (by rw [e, q]; rfl)
  have b1 : nn w ≠ 1 := fun q => a1 (by rw [e, q]; rfl)
  have b2 : nn w ≠ 2 := fun q => a2 (by rw [e, q]; rfl)
  have b3 : nn w ≠ 3 := fun q => a3 (by rw [e, q]; rfl)
  unfold kofG
  rw [if_neg a0, if_neg a1, if_neg a2, if_neg a3]
  rcases (show nn w = 4 ∨ nn w = 5 by omega) with q | q
  · rw [if_pos (by rw [e, q]; rfl), q]
  · rw [if_neg (by rw [e, q]; decide), q]
theorem dif_ret {o : Option Int32} {z y : Int32} {M : kM} {A : Prop} (h : o = some z) (e : y = z) : (∀ x, o = some x → some (Value.int y) = some (.int x) ∧ M = M) ∧ (o = none → A) :=
  ⟨fun x q => ⟨by rw [h] at q; cases q; rw [e], rfl⟩, fun q => by rw [h] at q; cases q⟩
set_option maxHeartbeats 4000000 in
set_option maxRecDepth 100000 in
theorem c_X9_tell (l : Launch) (G : kG) (M : kM) (m : Nat) (ad : Nat → Nat) (hS : MS M m ad) (t x : Int32)  : Kt l G yX9_tell cX9_tell 5 (some .int) 1 25 [.ref m, .int t, .int x] M (0) (0) (fun v M2 => (okT t x → v = some (.int ((mA M (ad 0)) (1 + nn t))) ∧ M2 = sA M (ad 0) (va_up (mA M (ad 0)) (1 + nn t) x)) ∧ (¬ (okT t x) → v = some (.int (-(nI 102))) ∧ M2 = rfM M ad 0)) := by
  refine Kt.of (own := "KeptLightModel") (L := [some (.ref m), some (.int t), some (.int x), none, none]) (by decide +kernel) rfl (Nat.le_of_ble_eq_true rfl) rfl ?_
  intro pp ee ss mm args below meth cd hmn hret
  have km := hS.1
  obtain ⟨hr_g, kk_g, hn_g⟩ := hS.2.1 0 (by decide)
  have hr_g : mR M (fc 9 0) m = some (ad 0) := hr_g
  have hn_g : mN M (ad 0) = 2509 := hn_g
  have kk_g : mK M (ad 0) = some 120 := kk_g
  refine x_iload_n (n' := 1) dX9_tell_0 rfl rfl rfl ?_
  refine x_forkN (J := 83) (x_if_ne (n' := 4) (tgt := 16) dX9_tell_1 (by decide) rfl) (v1 := ?v1_f1_1) (v2 := ?v2_f1_1) (fun c_f1_1 j_f1_1 => ?b1_f1_1) (fun c_f1_1 j_f1_1 => ?b2_f1_1) ?k_f1_1
  case b1_f1_1 =>
    refine x_iload_n (n' := 17) dX9_tell_16 rfl rfl rfl ?_
    refine x_iconst (n' := 18) (v := 1) dX9_tell_17 (by decide) rfl ?_
    refine x_forkN (J := 83) (x_icmp_ne (n' := 21) (tgt := 35) dX9_tell_18 (by decide) rfl) (v1 := ?v1_f18_2) (v2 := ?v2_f18_2) (fun c_f18_2 j_f18_2 => ?b1_f18_2) (fun c_f18_2 j_f18_2 => ?b2_f18_2) ?k_f18_2
    case b1_f18_2 =>
      refine x_iload_n (n' := 36) dX9_tell_35 rfl rfl rfl ?_
      refine x_iconst (n' := 37) (v := 2) dX9_tell_36 (by decide) rfl ?_
      refine x_forkN (J := 83) (x_icmp_ne (n' := 40) (tgt := 52) dX9_tell_37 (by decide) rfl) (v1 := ?v1_f37_3) (v2 := ?v2_f37_3) (fun c_f37_3 j_f37_3 => ?b1_f37_3) (fun c_f37_3 j_f37_3 => ?b2_f37_3) ?k_f37_3
      case b1_f37_3 =>
        refine x_iload_n (n' := 53) dX9_tell_52 rfl rfl rfl ?_
        refine x_i2l (n' := 54) dX9_tell_53 rfl rfl ?_
        refine x_ldc2 (n' := 57) q3385 dX9_tell_54 rfl ?_
        refine x_ldc2 (n' := 60) q3384 dX9_tell_57 rfl ?_
        refine x_callS (n' := 63) (n := 3) (c_X9_in l G _ _ _ _) dX9_tell_60 (lw_S q3321 q3322 q109 q3323) (by decide +kernel) ⟨(Nat.le_of_ble_eq_true rfl), (Nat.le_of_ble_eq_true rfl)⟩ rfl rfl (Nat.le_of_ble_eq_true rfl) (by first | exact Nat.le_of_ble_eq_true rfl | omega) (by first | exact Nat.le_of_ble_eq_true rfl | omega) rfl (fun v_4 M_5 h_7 hE_6 => ?_)
        obtain ⟨rfl, hMs⟩ := h_7
        have hMs := hMs.symm
        subst hMs
        rw [k_in3 (x := 3) (y := 4) (by decide) (by decide)]
        refine x_fork (J := 83) (x_if_eq (n' := 66) (tgt := 82) dX9_tell_63 (by decide) rfl) (v1 := ?v1_f63_8) (v2 := ?v2_f63_8) (fun c_f63_8 j_f63_8 => ?b1_f63_8) (fun c_f63_8 j_f63_8 => ?b2_f63_8) ?k_f63_8
        case b1_f63_8 =>
          refine x_iconst (n' := 83) (v := 0) dX9_tell_82 (by decide) rfl ?_
          exact j_f63_8
        case b2_f63_8 =>
          refine x_iload_n (n' := 67) dX9_tell_66 rfl rfl rfl ?_
          refine x_i2l (n' := 68) dX9_tell_67 rfl rfl ?_
          refine x_lconst (n' := 69) (v := 0) dX9_tell_68 (by decide) rfl ?_
          refine x_ldc2 (n' := 72) q3386 dX9_tell_69 rfl ?_
          refine x_callS (n' := 75) (n := 3) (c_X9_in l G _ _ _ _) dX9_tell_72 (lw_S q3321 q3322 q109 q3323) (by decide +kernel) ⟨(Nat.le_of_ble_eq_true rfl), (Nat.le_of_ble_eq_true rfl)⟩ rfl rfl (Nat.le_of_ble_eq_true rfl) (by first | exact Nat.le_of_ble_eq_true rfl | omega) (by first | exact Nat.le_of_ble_eq_true rfl | omega) rfl (fun v_9 M_10 h_12 hE_11 => ?_)
          obtain ⟨rfl, hMs⟩ := h_12
          have hMs := hMs.symm
          subst hMs
          rw [k_in3 (x := 0) (y := 9999) (by decide) (by decide)]
          refine x_fork (J := 83) (x_if_eq (n' := 78) (tgt := 82) dX9_tell_75 (by decide) rfl) (v1 := ?v1_f75_13) (v2 := ?v2_f75_13) (fun c_f75_13 j_f75_13 => ?b1_f75_13) (fun c_f75_13 j_f75_13 => ?b2_f75_13) ?k_f75_13
          case b1_f75_13 =>
            refine x_iconst (n' := 83) (v := 0) dX9_tell_82 (by decide) rfl ?_
            exact j_f75_13
          case b2_f75_13 =>
            refine x_iconst (n' := 79) (v := 1) dX9_tell_78 (by decide) rfl ?_
            refine x_goto (tgt := 83) dX9_tell_79 (by decide) ?_
            exact j_f75_13
          exact j_f63_8
        exact j_f37_3
      case b2_f37_3 =>
        refine x_iload_n (n' := 41) dX9_tell_40 rfl rfl rfl ?_
        refine x_i2l (n' := 42) dX9_tell_41 rfl rfl ?_
        refine x_lconst (n' := 43) (v := 1) dX9_tell_42 (by decide) rfl ?_
        refine x_ldc2 (n' := 46) q3384 dX9_tell_43 rfl ?_
        refine x_callS (n' := 49) (n := 3) (c_X9_in l G _ _ _ _) dX9_tell_46 (lw_S q3321 q3322 q109 q3323) (by decide +kernel) ⟨(Nat.le_of_ble_eq_true rfl), (Nat.le_of_ble_eq_true rfl)⟩ rfl rfl (Nat.le_of_ble_eq_true rfl) (by first | exact Nat.le_of_ble_eq_true rfl | omega) (by first | exact Nat.le_of_ble_eq_true rfl | omega) rfl (fun v_14 M_15 h_17 hE_16 => ?_)
        obtain ⟨rfl, hMs⟩ := h_17
        have hMs := hMs.symm
        subst hMs
        rw [k_in3 (x := 1) (y := 4) (by decide) (by decide)]
        refine x_forkN (J := 83) (x_if_ne (n' := 52) (tgt := 78) dX9_tell_49 (by decide) rfl) (v1 := ?v1_f49_18) (v2 := ?v2_f49_18) (fun c_f49_18 j_f49_18 => ?b1_f49_18) (fun c_f49_18 j_f49_18 => ?b2_f49_18) ?k_f49_18
        case b1_f49_18 =>
          refine x_iconst (n' := 79) (v := 1) dX9_tell_78 (by decide) rfl ?_
          refine x_goto (tgt := 83) dX9_tell_79 (by decide) ?_
          exact j_f49_18
        case b2_f49_18 =>
          refine x_iload_n (n' := 53) dX9_tell_52 rfl rfl rfl ?_
          refine x_i2l (n' := 54) dX9_tell_53 rfl rfl ?_
          refine x_ldc2 (n' := 57) q3385 dX9_tell_54 rfl ?_
          refine x_ldc2 (n' := 60) q3384 dX9_tell_57 rfl ?_
          refine x_callS (n' := 63) (n := 3) (c_X9_in l G _ _ _ _) dX9_tell_60 (lw_S q3321 q3322 q109 q3323) (by decide +kernel) ⟨(Nat.le_of_ble_eq_true rfl), (Nat.le_of_ble_eq_true rfl)⟩ rfl rfl (Nat.le_of_ble_eq_true rfl) (by first | exact Nat.le_of_ble_eq_true rfl | omega) (by first | exact Nat.le_of_ble_eq_true rfl | omega) rfl (fun v_19 M_20 h_22 hE_21 => ?_)
          obtain ⟨rfl, hMs⟩ := h_22
          have hMs := hMs.symm
          subst hMs
          rw [k_in3 (x := 3) (y := 4) (by decide) (by decide)]
          refine x_fork (J := 83) (x_if_eq (n' := 66) (tgt := 82) dX9_tell_63 (by decide) rfl) (v1 := ?v1_f63_23) (v2 := ?v2_f63_23) (fun c_f63_23 j_f63_23 => ?b1_f63_23) (fun c_f63_23 j_f63_23 => ?b2_f63_23) ?k_f63_23
          case b1_f63_23 =>
            refine x_iconst (n' := 83) (v := 0) dX9_tell_82 (by decide) rfl ?_
            exact j_f63_23
          case b2_f63_23 =>
            refine x_iload_n (n' := 67) dX9_tell_66 rfl rfl rfl ?_
            refine x_i2l (n' := 68) dX9_tell_67 rfl rfl ?_
            refine x_lconst (n' := 69) (v := 0) dX9_tell_68 (by decide) rfl ?_
            refine x_ldc2 (n' := 72) q3386 dX9_tell_69 rfl ?_
            refine x_callS (n' := 75) (n := 3) (c_X9_in l G _ _ _ _) dX9_tell_72 (lw_S q3321 q3322 q109 q3323) (by decide +kernel) ⟨(Nat.le_of_ble_eq_true rfl), (Nat.le_of_ble_eq_true rfl)⟩ rfl rfl (Nat.le_of_ble_eq_true rfl) (by first | exact Nat.le_of_ble_eq_true rfl | omega) (by first | exact Nat.le_of_ble_eq_true rfl | omega) rfl (fun v_24 M_25 h_27 hE_26 => ?_)
            obtain ⟨rfl, hMs⟩ := h_27
            have hMs := hMs.symm
            subst hMs
            rw [k_in3 (x := 0) (y := 9999) (by decide) (by decide)]
            refine x_fork (J := 83) (x_if_eq (n' := 78) (tgt := 82) dX9_tell_75 (by decide) rfl) (v1 := ?v1_f75_28) (v2 := ?v2_f75_28) (fun c_f75_28 j_f75_28 => ?b1_f75_28) (fun c_f75_28 j_f75_28 => ?b2_f75_28) ?k_f75_28
            case b1_f75_28 =>
              refine x_iconst (n' := 83) (v := 0) dX9_tell_82 (by decide) rfl ?_
              exact j_f75_28
            case b2_f75_28 =>
              refine x_iconst (n' := 79) (v := 1) dX9_tell_78 (by decide) rfl ?_
              refine x_goto (tgt := 83) dX9_tell_79 (by decide) ?_
              exact j_f75_28
            exact j_f63_23
          exact j_f49_18
        exact j_f37_3
      exact j_f18_2
    case b2_f18_2 =>
      refine x_iload_n (n' := 22) dX9_tell_21 rfl rfl rfl ?_
      refine x_i2l (n' := 23) dX9_tell_22 rfl rfl ?_
      refine x_ldc2 (n' := 26) q3382 dX9_tell_23 rfl ?_
      refine x_ldc2 (n' := 29) q3383 dX9_tell_26 rfl ?_
      refine x_callS (n' := 32) (n := 3) (c_X9_in l G _ _ _ _) dX9_tell_29 (lw_S q3321 q3322 q109 q3323) (by decide +kernel) ⟨(Nat.le_of_ble_eq_true rfl), (Nat.le_of_ble_eq_true rfl)⟩ rfl rfl (Nat.le_of_ble_eq_true rfl) (by first | exact Nat.le_of_ble_eq_true rfl | omega) (by first | exact Nat.le_of_ble_eq_true rfl | omega) rfl (fun v_29 M_30 h_32 hE_31 => ?_)
      obtain ⟨rfl, hMs⟩ := h_32
      have hMs := hMs.symm
      subst hMs
      rw [k_in3 (x := 13) (y := 24) (by decide) (by decide)]
      refine x_forkN (J := 83) (x_if_ne (n' := 35) (tgt := 78) dX9_tell_32 (by decide) rfl) (v1 := ?v1_f32_33) (v2 := ?v2_f32_33) (fun c_f32_33 j_f32_33 => ?b1_f32_33) (fun c_f32_33 j_f32_33 => ?b2_f32_33) ?k_f32_33
      case b1_f32_33 =>
        refine x_iconst (n' := 79) (v := 1) dX9_tell_78 (by decide) rfl ?_
        refine x_goto (tgt := 83) dX9_tell_79 (by decide) ?_
        exact j_f32_33
      case b2_f32_33 =>
        refine x_iload_n (n' := 36) dX9_tell_35 rfl rfl rfl ?_
        refine x_iconst (n' := 37) (v := 2) dX9_tell_36 (by decide) rfl ?_
        refine x_forkN (J := 83) (x_icmp_ne (n' := 40) (tgt := 52) dX9_tell_37 (by decide) rfl) (v1 := ?v1_f37_34) (v2 := ?v2_f37_34) (fun c_f37_34 j_f37_34 => ?b1_f37_34) (fun c_f37_34 j_f37_34 => ?b2_f37_34) ?k_f37_34
        case b1_f37_34 =>
          refine x_iload_n (n' := 53) dX9_tell_52 rfl rfl rfl ?_
          refine x_i2l (n' := 54) dX9_tell_53 rfl rfl ?_
          refine x_ldc2 (n' := 57) q3385 dX9_tell_54 rfl ?_
          refine x_ldc2 (n' := 60) q3384 dX9_tell_57 rfl ?_
          refine x_callS (n' := 63) (n := 3) (c_X9_in l G _ _ _ _) dX9_tell_60 (lw_S q3321 q3322 q109 q3323) (by decide +kernel) ⟨(Nat.le_of_ble_eq_true rfl), (Nat.le_of_ble_eq_true rfl)⟩ rfl rfl (Nat.le_of_ble_eq_true rfl) (by first | exact Nat.le_of_ble_eq_true rfl | omega) (by first | exact Nat.le_of_ble_eq_true rfl | omega) rfl (fun v_35 M_36 h_38 hE_37 => ?_)
          obtain ⟨rfl, hMs⟩ := h_38
          have hMs := hMs.symm
          subst hMs
          rw [k_in3 (x := 3) (y := 4) (by decide) (by decide)]
          refine x_fork (J := 83) (x_if_eq (n' := 66) (tgt := 82) dX9_tell_63 (by decide) rfl) (v1 := ?v1_f63_39) (v2 := ?v2_f63_39) (fun c_f63_39 j_f63_39 => ?b1_f63_39) (fun c_f63_39 j_f63_39 => ?b2_f63_39) ?k_f63_39
          case b1_f63_39 =>
            refine x_iconst (n' := 83) (v := 0) dX9_tell_82 (by decide) rfl ?_
            exact j_f63_39
          case b2_f63_39 =>
            refine x_iload_n (n' := 67) dX9_tell_66 rfl rfl rfl ?_
            refine x_i2l (n' := 68) dX9_tell_67 rfl rfl ?_
            refine x_lconst (n' := 69) (v := 0) dX9_tell_68 (by decide) rfl ?_
            refine x_ldc2 (n' := 72) q3386 dX9_tell_69 rfl ?_
            refine x_callS (n' := 75) (n := 3) (c_X9_in l G _ _ _ _) dX9_tell_72 (lw_S q3321 q3322 q109 q3323) (by decide +kernel) ⟨(Nat.le_of_ble_eq_true rfl), (Nat.le_of_ble_eq_true rfl)⟩ rfl rfl (Nat.le_of_ble_eq_true rfl) (by first | exact Nat.le_of_ble_eq_true rfl | omega) (by first | exact Nat.le_of_ble_eq_true rfl | omega) rfl (fun v_40 M_41 h_43 hE_42 => ?_)
            obtain ⟨rfl, hMs⟩ := h_43
            have hMs := hMs.symm
            subst hMs
            rw [k_in3 (x := 0) (y := 9999) (by decide) (by decide)]
            refine x_fork (J := 83) (x_if_eq (n' := 78) (tgt := 82) dX9_tell_75 (by decide) rfl) (v1 := ?v1_f75_44) (v2 := ?v2_f75_44) (fun c_f75_44 j_f75_44 => ?b1_f75_44) (fun c_f75_44 j_f75_44 => ?b2_f75_44) ?k_f75_44
            case b1_f75_44 =>
              refine x_iconst (n' := 83) (v := 0) dX9_tell_82 (by decide) rfl ?_
              exact j_f75_44
            case b2_f75_44 =>
              refine x_iconst (n' := 79) (v := 1) dX9_tell_78 (by decide) rfl ?_
              refine x_goto (tgt := 83) dX9_tell_79 (by decide) ?_
              exact j_f75_44
            exact j_f63_39
          exact j_f37_34
        case b2_f37_34 =>
          refine x_iload_n (n' := 41) dX9_tell_40 rfl rfl rfl ?_
          refine x_i2l (n' := 42) dX9_tell_41 rfl rfl ?_
          refine x_lconst (n' := 43) (v := 1) dX9_tell_42 (by decide) rfl ?_
          refine x_ldc2 (n' := 46) q3384 dX9_tell_43 rfl ?_
          refine x_callS (n' := 49) (n := 3) (c_X9_in l G _ _ _ _) dX9_tell_46 (lw_S q3321 q3322 q109 q3323) (by decide +kernel) ⟨(Nat.le_of_ble_eq_true rfl), (Nat.le_of_ble_eq_true rfl)⟩ rfl rfl (Nat.le_of_ble_eq_true rfl) (by first | exact Nat.le_of_ble_eq_true rfl | omega) (by first | exact Nat.le_of_ble_eq_true rfl | omega) rfl (fun v_45 M_46 h_48 hE_47 => ?_)
          obtain ⟨rfl, hMs⟩ := h_48
          have hMs := hMs.symm
          subst hMs
          rw [k_in3 (x := 1) (y := 4) (by decide) (by decide)]
          refine x_forkN (J := 83) (x_if_ne (n' := 52) (tgt := 78) dX9_tell_49 (by decide) rfl) (v1 := ?v1_f49_49) (v2 := ?v2_f49_49) (fun c_f49_49 j_f49_49 => ?b1_f49_49) (fun c_f49_49 j_f49_49 => ?b2_f49_49) ?k_f49_49
          case b1_f49_49 =>
            refine x_iconst (n' := 79) (v := 1) dX9_tell_78 (by decide) rfl ?_
            refine x_goto (tgt := 83) dX9_tell_79 (by decide) ?_
            exact j_f49_49
          case b2_f49_49 =>
            refine x_iload_n (n' := 53) dX9_tell_52 rfl rfl rfl ?_
            refine x_i2l (n' := 54) dX9_tell_53 rfl rfl ?_
            refine x_ldc2 (n' := 57) q3385 dX9_tell_54 rfl ?_
            refine x_ldc2 (n' := 60) q3384 dX9_tell_57 rfl ?_
            refine x_callS (n' := 63) (n := 3) (c_X9_in l G _ _ _ _) dX9_tell_60 (lw_S q3321 q3322 q109 q3323) (by decide +kernel) ⟨(Nat.le_of_ble_eq_true rfl), (Nat.le_of_ble_eq_true rfl)⟩ rfl rfl (Nat.le_of_ble_eq_true rfl) (by first | exact Nat.le_of_ble_eq_true rfl | omega) (by first | exact Nat.le_of_ble_eq_true rfl | omega) rfl (fun v_50 M_51 h_53 hE_52 => ?_)
            obtain ⟨rfl, hMs⟩ := h_53
            have hMs := hMs.symm
            subst hMs
            rw [k_in3 (x := 3) (y := 4) (by decide) (by decide)]
            refine x_fork (J := 83) (x_if_eq (n' := 66) (tgt := 82) dX9_tell_63 (by decide) rfl) (v1 := ?v1_f63_54) (v2 := ?v2_f63_54) (fun c_f63_54 j_f63_54 => ?b1_f63_54) (fun c_f63_54 j_f63_54 => ?b2_f63_54) ?k_f63_54
            case b1_f63_54 =>
              refine x_iconst (n' := 83) (v := 0) dX9_tell_82 (by decide) rfl ?_
              exact j_f63_54
            case b2_f63_54 =>
              refine x_iload_n (n' := 67) dX9_tell_66 rfl rfl rfl ?_
              refine x_i2l (n' := 68) dX9_tell_67 rfl rfl ?_
              refine x_lconst (n' := 69) (v := 0) dX9_tell_68 (by decide) rfl ?_
              refine x_ldc2 (n' := 72) q3386 dX9_tell_69 rfl ?_
              refine x_callS (n' := 75) (n := 3) (c_X9_in l G _ _ _ _) dX9_tell_72 (lw_S q3321 q3322 q109 q3323) (by decide +kernel) ⟨(Nat.le_of_ble_eq_true rfl), (Nat.le_of_ble_eq_true rfl)⟩ rfl rfl (Nat.le_of_ble_eq_true rfl) (by first | exact Nat.le_of_ble_eq_true rfl | omega) (by first | exact Nat.le_of_ble_eq_true rfl | omega) rfl (fun v_55 M_56 h_58 hE_57 => ?_)
              obtain ⟨rfl, hMs⟩ := h_58
              have hMs := hMs.symm
              subst hMs
              rw [k_in3 (x := 0) (y := 9999) (by decide) (by decide)]
              refine x_fork (J := 83) (x_if_eq (n' := 78) (tgt := 82) dX9_tell_75 (by decide) rfl) (v1 := ?v1_f75_59) (v2 := ?v2_f75_59) (fun c_f75_59 j_f75_59 => ?b1_f75_59) (fun c_f75_59 j_f75_59 => ?b2_f75_59) ?k_f75_59
              case b1_f75_59 =>
                refine x_iconst (n' := 83) (v := 0) dX9_tell_82 (by decide) rfl ?_
                exact j_f75_59
              case b2_f75_59 =>
                refine x_iconst (n' := 79) (v := 1) dX9_tell_78 (by decide) rfl ?_
                refine x_goto (tgt := 83) dX9_tell_79 (by decide) ?_
                exact j_f75_59
              exact j_f63_54
            exact j_f49_49
          exact j_f37_34
        exact j_f32_33
      exact j_f18_2
    exact j_f1_1
  case b2_f1_1 =>
    refine x_iload_n (n' := 5) dX9_tell_4 rfl rfl rfl ?_
    refine x_i2l (n' := 6) dX9_tell_5 rfl rfl ?_
    refine x_lconst (n' := 7) (v := 0) dX9_tell_6 (by decide) rfl ?_
    refine x_ldc2 (n' := 10) q3381 dX9_tell_7 rfl ?_
    refine x_callS (n' := 13) (n := 3) (c_X9_in l G _ _ _ _) dX9_tell_10 (lw_S q3321 q3322 q109 q3323) (by decide +kernel) ⟨(Nat.le_of_ble_eq_true rfl), (Nat.le_of_ble_eq_true rfl)⟩ rfl rfl (Nat.le_of_ble_eq_true rfl) (by first | exact Nat.le_of_ble_eq_true rfl | omega) (by first | exact Nat.le_of_ble_eq_true rfl | omega) rfl (fun v_60 M_61 h_63 hE_62 => ?_)
    obtain ⟨rfl, hMs⟩ := h_63
    have hMs := hMs.symm
    subst hMs
    rw [k_in3 (x := 0) (y := 12) (by decide) (by decide)]
    refine x_forkN (J := 83) (x_if_ne (n' := 16) (tgt := 78) dX9_tell_13 (by decide) rfl) (v1 := ?v1_f13_64) (v2 := ?v2_f13_64) (fun c_f13_64 j_f13_64 => ?b1_f13_64) (fun c_f13_64 j_f13_64 => ?b2_f13_64) ?k_f13_64
    case b1_f13_64 =>
      refine x_iconst (n' := 79) (v := 1) dX9_tell_78 (by decide) rfl ?_
      refine x_goto (tgt := 83) dX9_tell_79 (by decide) ?_
      exact j_f13_64
    case b2_f13_64 =>
      refine x_iload_n (n' := 17) dX9_tell_16 rfl rfl rfl ?_
      refine x_iconst (n' := 18) (v := 1) dX9_tell_17 (by decide) rfl ?_
      refine x_forkN (J := 83) (x_icmp_ne (n' := 21) (tgt := 35) dX9_tell_18 (by decide) rfl) (v1 := ?v1_f18_65) (v2 := ?v2_f18_65) (fun c_f18_65 j_f18_65 => ?b1_f18_65) (fun c_f18_65 j_f18_65 => ?b2_f18_65) ?k_f18_65
      case b1_f18_65 =>
        refine x_iload_n (n' := 36) dX9_tell_35 rfl rfl rfl ?_
        refine x_iconst (n' := 37) (v := 2) dX9_tell_36 (by decide) rfl ?_
        refine x_forkN (J := 83) (x_icmp_ne (n' := 40) (tgt := 52) dX9_tell_37 (by decide) rfl) (v1 := ?v1_f37_66) (v2 := ?v2_f37_66) (fun c_f37_66 j_f37_66 => ?b1_f37_66) (fun c_f37_66 j_f37_66 => ?b2_f37_66) ?k_f37_66
        case b1_f37_66 =>
          refine x_iload_n (n' := 53) dX9_tell_52 rfl rfl rfl ?_
          refine x_i2l (n' := 54) dX9_tell_53 rfl rfl ?_
          refine x_ldc2 (n' := 57) q3385 dX9_tell_54 rfl ?_
          refine x_ldc2 (n' := 60) q3384 dX9_tell_57 rfl ?_
          refine x_callS (n' := 63) (n := 3) (c_X9_in l G _ _ _ _) dX9_tell_60 (lw_S q3321 q3322 q109 q3323) (by decide +kernel) ⟨(Nat.le_of_ble_eq_true rfl), (Nat.le_of_ble_eq_true rfl)⟩ rfl rfl (Nat.le_of_ble_eq_true rfl) (by first | exact Nat.le_of_ble_eq_true rfl | omega) (by first | exact Nat.le_of_ble_eq_true rfl | omega) rfl (fun v_67 M_68 h_70 hE_69 => ?_)
          obtain ⟨rfl, hMs⟩ := h_70
          have hMs := hMs.symm
          subst hMs
          rw [k_in3 (x := 3) (y := 4) (by decide) (by decide)]
          refine x_fork (J := 83) (x_if_eq (n' := 66) (tgt := 82) dX9_tell_63 (by decide) rfl) (v1 := ?v1_f63_71) (v2 := ?v2_f63_71) (fun c_f63_71 j_f63_71 => ?b1_f63_71) (fun c_f63_71 j_f63_71 => ?b2_f63_71) ?k_f63_71
          case b1_f63_71 =>
            refine x_iconst (n' := 83) (v := 0) dX9_tell_82 (by decide) rfl ?_
            exact j_f63_71
          case b2_f63_71 =>
            refine x_iload_n (n' := 67) dX9_tell_66 rfl rfl rfl ?_
            refine x_i2l (n' := 68) dX9_tell_67 rfl rfl ?_
            refine x_lconst (n' := 69) (v := 0) dX9_tell_68 (by decide) rfl ?_
            refine x_ldc2 (n' := 72) q3386 dX9_tell_69 rfl ?_
            refine x_callS (n' := 75) (n := 3) (c_X9_in l G _ _ _ _) dX9_tell_72 (lw_S q3321 q3322 q109 q3323) (by decide +kernel) ⟨(Nat.le_of_ble_eq_true rfl), (Nat.le_of_ble_eq_true rfl)⟩ rfl rfl (Nat.le_of_ble_eq_true rfl) (by first | exact Nat.le_of_ble_eq_true rfl | omega) (by first | exact Nat.le_of_ble_eq_true rfl | omega) rfl (fun v_72 M_73 h_75 hE_74 => ?_)
            obtain ⟨rfl, hMs⟩ := h_75
            have hMs := hMs.symm
            subst hMs
            rw [k_in3 (x := 0) (y := 9999) (by decide) (by decide)]
            refine x_fork (J := 83) (x_if_eq (n' := 78) (tgt := 82) dX9_tell_75 (by decide) rfl) (v1 := ?v1_f75_76) (v2 := ?v2_f75_76) (fun c_f75_76 j_f75_76 => ?b1_f75_76) (fun c_f75_76 j_f75_76 => ?b2_f75_76) ?k_f75_76
            case b1_f75_76 =>
              refine x_iconst (n' := 83) (v := 0) dX9_tell_82 (by decide) rfl ?_
              exact j_f75_76
            case b2_f75_76 =>
              refine x_iconst (n' := 79) (v := 1) dX9_tell_78 (by decide) rfl ?_
              refine x_goto (tgt := 83) dX9_tell_79 (by decide) ?_
              exact j_f75_76
            exact j_f63_71
          exact j_f37_66
        case b2_f37_66 =>
          refine x_iload_n (n' := 41) dX9_tell_40 rfl rfl rfl ?_
          refine x_i2l (n' := 42) dX9_tell_41 rfl rfl ?_
          refine x_lconst (n' := 43) (v := 1) dX9_tell_42 (by decide) rfl ?_
          refine x_ldc2 (n' := 46) q3384 dX9_tell_43 rfl ?_
          refine x_callS (n' := 49) (n := 3) (c_X9_in l G _ _ _ _) dX9_tell_46 (lw_S q3321 q3322 q109 q3323) (by decide +kernel) ⟨(Nat.le_of_ble_eq_true rfl), (Nat.le_of_ble_eq_true rfl)⟩ rfl rfl (Nat.le_of_ble_eq_true rfl) (by first | exact Nat.le_of_ble_eq_true rfl | omega) (by first | exact Nat.le_of_ble_eq_true rfl | omega) rfl (fun v_77 M_78 h_80 hE_79 => ?_)
          obtain ⟨rfl, hMs⟩ := h_80
          have hMs := hMs.symm
          subst hMs
          rw [k_in3 (x := 1) (y := 4) (by decide) (by decide)]
          refine x_forkN (J := 83) (x_if_ne (n' := 52) (tgt := 78) dX9_tell_49 (by decide) rfl) (v1 := ?v1_f49_81) (v2 := ?v2_f49_81) (fun c_f49_81 j_f49_81 => ?b1_f49_81) (fun c_f49_81 j_f49_81 => ?b2_f49_81) ?k_f49_81
          case b1_f49_81 =>
            refine x_iconst (n' := 79) (v := 1) dX9_tell_78 (by decide) rfl ?_
            refine x_goto (tgt := 83) dX9_tell_79 (by decide) ?_
            exact j_f49_81
          case b2_f49_81 =>
            refine x_iload_n (n' := 53) dX9_tell_52 rfl rfl rfl ?_
            refine x_i2l (n' := 54) dX9_tell_53 rfl rfl ?_
            refine x_ldc2 (n' := 57) q3385 dX9_tell_54 rfl ?_
            refine x_ldc2 (n' := 60) q3384 dX9_tell_57 rfl ?_
            refine x_callS (n' := 63) (n := 3) (c_X9_in l G _ _ _ _) dX9_tell_60 (lw_S q3321 q3322 q109 q3323) (by decide +kernel) ⟨(Nat.le_of_ble_eq_true rfl), (Nat.le_of_ble_eq_true rfl)⟩ rfl rfl (Nat.le_of_ble_eq_true rfl) (by first | exact Nat.le_of_ble_eq_true rfl | omega) (by first | exact Nat.le_of_ble_eq_true rfl | omega) rfl (fun v_82 M_83 h_85 hE_84 => ?_)
            obtain ⟨rfl, hMs⟩ := h_85
            have hMs := hMs.symm
            subst hMs
            rw [k_in3 (x := 3) (y := 4) (by decide) (by decide)]
            refine x_fork (J := 83) (x_if_eq (n' := 66) (tgt := 82) dX9_tell_63 (by decide) rfl) (v1 := ?v1_f63_86) (v2 := ?v2_f63_86) (fun c_f63_86 j_f63_86 => ?b1_f63_86) (fun c_f63_86 j_f63_86 => ?b2_f63_86) ?k_f63_86
            case b1_f63_86 =>
              refine x_iconst (n' := 83) (v := 0) dX9_tell_82 (by decide) rfl ?_
              exact j_f63_86
            case b2_f63_86 =>
              refine x_iload_n (n' := 67) dX9_tell_66 rfl rfl rfl ?_
              refine x_i2l (n' := 68) dX9_tell_67 rfl rfl ?_
              refine x_lconst (n' := 69) (v := 0) dX9_tell_68 (by decide) rfl ?_
              refine x_ldc2 (n' := 72) q3386 dX9_tell_69 rfl ?_
              refine x_callS (n' := 75) (n := 3) (c_X9_in l G _ _ _ _) dX9_tell_72 (lw_S q3321 q3322 q109 q3323) (by decide +kernel) ⟨(Nat.le_of_ble_eq_true rfl), (Nat.le_of_ble_eq_true rfl)⟩ rfl rfl (Nat.le_of_ble_eq_true rfl) (by first | exact Nat.le_of_ble_eq_true rfl | omega) (by first | exact Nat.le_of_ble_eq_true rfl | omega) rfl (fun v_87 M_88 h_90 hE_89 => ?_)
              obtain ⟨rfl, hMs⟩ := h_90
              have hMs := hMs.symm
              subst hMs
              rw [k_in3 (x := 0) (y := 9999) (by decide) (by decide)]
              refine x_fork (J := 83) (x_if_eq (n' := 78) (tgt := 82) dX9_tell_75 (by decide) rfl) (v1 := ?v1_f75_91) (v2 := ?v2_f75_91) (fun c_f75_91 j_f75_91 => ?b1_f75_91) (fun c_f75_91 j_f75_91 => ?b2_f75_91) ?k_f75_91
              case b1_f75_91 =>
                refine x_iconst (n' := 83) (v := 0) dX9_tell_82 (by decide) rfl ?_
                exact j_f75_91
              case b2_f75_91 =>
                refine x_iconst (n' := 79) (v := 1) dX9_tell_78 (by decide) rfl ?_
                refine x_goto (tgt := 83) dX9_tell_79 (by decide) ?_
                exact j_f75_91
              exact j_f63_86
            exact j_f49_81
          exact j_f37_66
        exact j_f18_65
      case b2_f18_65 =>
        refine x_iload_n (n' := 22) dX9_tell_21 rfl rfl rfl ?_
        refine x_i2l (n' := 23) dX9_tell_22 rfl rfl ?_
        refine x_ldc2 (n' := 26) q3382 dX9_tell_23 rfl ?_
        refine x_ldc2 (n' := 29) q3383 dX9_tell_26 rfl ?_
        refine x_callS (n' := 32) (n := 3) (c_X9_in l G _ _ _ _) dX9_tell_29 (lw_S q3321 q3322 q109 q3323) (by decide +kernel) ⟨(Nat.le_of_ble_eq_true rfl), (Nat.le_of_ble_eq_true rfl)⟩ rfl rfl (Nat.le_of_ble_eq_true rfl) (by first | exact Nat.le_of_ble_eq_true rfl | omega) (by first | exact Nat.le_of_ble_eq_true rfl | omega) rfl (fun v_92 M_93 h_95 hE_94 => ?_)
        obtain ⟨rfl, hMs⟩ := h_95
        have hMs := hMs.symm
        subst hMs
        rw [k_in3 (x := 13) (y := 24) (by decide) (by decide)]
        refine x_forkN (J := 83) (x_if_ne (n' := 35) (tgt := 78) dX9_tell_32 (by decide) rfl) (v1 := ?v1_f32_96) (v2 := ?v2_f32_96) (fun c_f32_96 j_f32_96 => ?b1_f32_96) (fun c_f32_96 j_f32_96 => ?b2_f32_96) ?k_f32_96
        case b1_f32_96 =>
          refine x_iconst (n' := 79) (v := 1) dX9_tell_78 (by decide) rfl ?_
          refine x_goto (tgt := 83) dX9_tell_79 (by decide) ?_
          exact j_f32_96
        case b2_f32_96 =>
          refine x_iload_n (n' := 36) dX9_tell_35 rfl rfl rfl ?_
          refine x_iconst (n' := 37) (v := 2) dX9_tell_36 (by decide) rfl ?_
          refine x_forkN (J := 83) (x_icmp_ne (n' := 40) (tgt := 52) dX9_tell_37 (by decide) rfl) (v1 := ?v1_f37_97) (v2 := ?v2_f37_97) (fun c_f37_97 j_f37_97 => ?b1_f37_97) (fun c_f37_97 j_f37_97 => ?b2_f37_97) ?k_f37_97
          case b1_f37_97 =>
            refine x_iload_n (n' := 53) dX9_tell_52 rfl rfl rfl ?_
            refine x_i2l (n' := 54) dX9_tell_53 rfl rfl ?_
            refine x_ldc2 (n' := 57) q3385 dX9_tell_54 rfl ?_
            refine x_ldc2 (n' := 60) q3384 dX9_tell_57 rfl ?_
            refine x_callS (n' := 63) (n := 3) (c_X9_in l G _ _ _ _) dX9_tell_60 (lw_S q3321 q3322 q109 q3323) (by decide +kernel) ⟨(Nat.le_of_ble_eq_true rfl), (Nat.le_of_ble_eq_true rfl)⟩ rfl rfl (Nat.le_of_ble_eq_true rfl) (by first | exact Nat.le_of_ble_eq_true rfl | omega) (by first | exact Nat.le_of_ble_eq_true rfl | omega) rfl (fun v_98 M_99 h_101 hE_100 => ?_)
            obtain ⟨rfl, hMs⟩ := h_101
            have hMs := hMs.symm
            subst hMs
            rw [k_in3 (x := 3) (y := 4) (by decide) (by decide)]
            refine x_fork (J := 83) (x_if_eq (n' := 66) (tgt := 82) dX9_tell_63 (by decide) rfl) (v1 := ?v1_f63_102) (v2 := ?v2_f63_102) (fun c_f63_102 j_f63_102 => ?b1_f63_102) (fun c_f63_102 j_f63_102 => ?b2_f63_102) ?k_f63_102
            case b1_f63_102 =>
              refine x_iconst (n' := 83) (v := 0) dX9_tell_82 (by decide) rfl ?_
              exact j_f63_102
            case b2_f63_102 =>
              refine x_iload_n (n' := 67) dX9_tell_66 rfl rfl rfl ?_
              refine x_i2l (n' := 68) dX9_tell_67 rfl rfl ?_
              refine x_lconst (n' := 69) (v := 0) dX9_tell_68 (by decide) rfl ?_
              refine x_ldc2 (n' := 72) q3386 dX9_tell_69 rfl ?_
              refine x_callS (n' := 75) (n := 3) (c_X9_in l G _ _ _ _) dX9_tell_72 (lw_S q3321 q3322 q109 q3323) (by decide +kernel) ⟨(Nat.le_of_ble_eq_true rfl), (Nat.le_of_ble_eq_true rfl)⟩ rfl rfl (Nat.le_of_ble_eq_true rfl) (by first | exact Nat.le_of_ble_eq_true rfl | omega) (by first | exact Nat.le_of_ble_eq_true rfl | omega) rfl (fun v_103 M_104 h_106 hE_105 => ?_)
              obtain ⟨rfl, hMs⟩ := h_106
              have hMs := hMs.symm
              subst hMs
              rw [k_in3 (x := 0) (y := 9999) (by decide) (by decide)]
              refine x_fork (J := 83) (x_if_eq (n' := 78) (tgt := 82) dX9_tell_75 (by decide) rfl) (v1 := ?v1_f75_107) (v2 := ?v2_f75_107) (fun c_f75_107 j_f75_107 => ?b1_f75_107) (fun c_f75_107 j_f75_107 => ?b2_f75_107) ?k_f75_107
              case b1_f75_107 =>
                refine x_iconst (n' := 83) (v := 0) dX9_tell_82 (by decide) rfl ?_
                exact j_f75_107
              case b2_f75_107 =>
                refine x_iconst (n' := 79) (v := 1) dX9_tell_78 (by decide) rfl ?_
                refine x_goto (tgt := 83) dX9_tell_79 (by decide) ?_
                exact j_f75_107
              exact j_f63_102
            exact j_f37_97
          case b2_f37_97 =>
            refine x_iload_n (n' := 41) dX9_tell_40 rfl rfl rfl ?_
            refine x_i2l (n' := 42) dX9_tell_41 rfl rfl ?_
            refine x_lconst (n' := 43) (v := 1) dX9_tell_42 (by decide) rfl ?_
            refine x_ldc2 (n' := 46) q3384 dX9_tell_43 rfl ?_
            refine x_callS (n' := 49) (n := 3) (c_X9_in l G _ _ _ _) dX9_tell_46 (lw_S q3321 q3322 q109 q3323) (by decide +kernel) ⟨(Nat.le_of_ble_eq_true rfl), (Nat.le_of_ble_eq_true rfl)⟩ rfl rfl (Nat.le_of_ble_eq_true rfl) (by first | exact Nat.le_of_ble_eq_true rfl | omega) (by first | exact Nat.le_of_ble_eq_true rfl | omega) rfl (fun v_108 M_109 h_111 hE_110 => ?_)
            obtain ⟨rfl, hMs⟩ := h_111
            have hMs := hMs.symm
            subst hMs
            rw [k_in3 (x := 1) (y := 4) (by decide) (by decide)]
            refine x_forkN (J := 83) (x_if_ne (n' := 52) (tgt := 78) dX9_tell_49 (by decide) rfl) (v1 := ?v1_f49_112) (v2 := ?v2_f49_112) (fun c_f49_112 j_f49_112 => ?b1_f49_112) (fun c_f49_112 j_f49_112 => ?b2_f49_112) ?k_f49_112
            case b1_f49_112 =>
              refine x_iconst (n' := 79) (v := 1) dX9_tell_78 (by decide) rfl ?_
              refine x_goto (tgt := 83) dX9_tell_79 (by decide) ?_
              exact j_f49_112
            case b2_f49_112 =>
              refine x_iload_n (n' := 53) dX9_tell_52 rfl rfl rfl ?_
              refine x_i2l (n' := 54) dX9_tell_53 rfl rfl ?_
              refine x_ldc2 (n' := 57) q3385 dX9_tell_54 rfl ?_
              refine x_ldc2 (n' := 60) q3384 dX9_tell_57 rfl ?_
              refine x_callS (n' := 63) (n := 3) (c_X9_in l G _ _ _ _) dX9_tell_60 (lw_S q3321 q3322 q109 q3323) (by decide +kernel) ⟨(Nat.le_of_ble_eq_true rfl), (Nat.le_of_ble_eq_true rfl)⟩ rfl rfl (Nat.le_of_ble_eq_true rfl) (by first | exact Nat.le_of_ble_eq_true rfl | omega) (by first | exact Nat.le_of_ble_eq_true rfl | omega) rfl (fun v_113 M_114 h_116 hE_115 => ?_)
              obtain ⟨rfl, hMs⟩ := h_116
              have hMs := hMs.symm
              subst hMs
              rw [k_in3 (x := 3) (y := 4) (by decide) (by decide)]
              refine x_fork (J := 83) (x_if_eq (n' := 66) (tgt := 82) dX9_tell_63 (by decide) rfl) (v1 := ?v1_f63_117) (v2 := ?v2_f63_117) (fun c_f63_117 j_f63_117 => ?b1_f63_117) (fun c_f63_117 j_f63_117 => ?b2_f63_117) ?k_f63_117
              case b1_f63_117 =>
                refine x_iconst (n' := 83) (v := 0) dX9_tell_82 (by decide) rfl ?_
                exact j_f63_117
              case b2_f63_117 =>
                refine x_iload_n (n' := 67) dX9_tell_66 rfl rfl rfl ?_
                refine x_i2l (n' := 68) dX9_tell_67 rfl rfl ?_
                refine x_lconst (n' := 69) (v := 0) dX9_tell_68 (by decide) rfl ?_
                refine x_ldc2 (n' := 72) q3386 dX9_tell_69 rfl ?_
                refine x_callS (n' := 75) (n := 3) (c_X9_in l G _ _ _ _) dX9_tell_72 (lw_S q3321 q3322 q109 q3323) (by decide +kernel) ⟨(Nat.le_of_ble_eq_true rfl), (Nat.le_of_ble_eq_true rfl)⟩ rfl rfl (Nat.le_of_ble_eq_true rfl) (by first | exact Nat.le_of_ble_eq_true rfl | omega) (by first | exact Nat.le_of_ble_eq_true rfl | omega) rfl (fun v_118 M_119 h_121 hE_120 => ?_)
                obtain ⟨rfl, hMs⟩ := h_121
                have hMs := hMs.symm
                subst hMs
                rw [k_in3 (x := 0) (y := 9999) (by decide) (by decide)]
                refine x_fork (J := 83) (x_if_eq (n' := 78) (tgt := 82) dX9_tell_75 (by decide) rfl) (v1 := ?v1_f75_122) (v2 := ?v2_f75_122) (fun c_f75_122 j_f75_122 => ?b1_f75_122) (fun c_f75_122 j_f75_122 => ?b2_f75_122) ?k_f75_122
                case b1_f75_122 =>
                  refine x_iconst (n' := 83) (v := 0) dX9_tell_82 (by decide) rfl ?_
                  exact j_f75_122
                case b2_f75_122 =>
                  refine x_iconst (n' := 79) (v := 1) dX9_tell_78 (by decide) rfl ?_
                  refine x_goto (tgt := 83) dX9_tell_79 (by decide) ?_
                  exact j_f75_122
                exact j_f63_117
              exact j_f49_112
            exact j_f37_97
          exact j_f32_96
        exact j_f18_65
      exact j_f13_64
    exact j_f1_1
  refine x_topv (y := bi (okT t x)) (by unfold bi; grind) ?_
  refine x_istore_n (n' := 84) dX9_tell_83 rfl (Nat.le_of_ble_eq_true rfl) rfl (by dsimp only [List.set] <;> rfl) rfl ?_
  refine x_iload_n (n' := 85) dX9_tell_84 rfl rfl rfl ?_
  refine x_if_ne (n' := 88) (tgt := 95) dX9_tell_85 (by decide) rfl (fun c85_123 => ?_) (fun c85_123 => ?_)
  · have C85 := c85_123
    have hok : okT t x := bi_n0 C85
    have hn8 := nn_le (n := 4) (okT_t hok).1 (okT_t hok).2 (by decide)
    refine x_loc (i := 1) rfl (nn_of (okT_t hok).1) (by dsimp only [List.set] <;> rfl) ?_
    refine x_aload_n (n' := 96) dX9_tell_95 rfl rfl rfl ?_
    refine x_getRs (n' := 99) (b := (ad 0)) dX9_tell_96 (by repeat' (first | with_reducible exact km | with_reducible apply mK_A | with_reducible apply mK_I | with_reducible apply mK_L | with_reducible apply mK_R | with_reducible apply mK_O | with_reducible apply mK_S)) ffX9_9_9 rfl (by repeat' (first | with_reducible exact hr_g | with_reducible apply mR_A | with_reducible apply mR_I | with_reducible apply mR_L | with_reducible apply mR_S)) rfl ?_
    refine x_iconst (n' := 100) (v := 1) dX9_tell_99 (by decide) rfl ?_
    refine x_iload_n (n' := 101) dX9_tell_100 rfl rfl rfl ?_
    refine x_iadd (n' := 102) dX9_tell_101 rfl ?_
    refine x_ildk (n' := 103) (N := 2509) dX9_tell_102 (by repeat' (first | with_reducible exact kk_g | with_reducible apply mK_A | with_reducible apply mK_I | with_reducible apply mK_L | with_reducible apply mK_R | with_reducible apply mK_O | with_reducible apply mK_S)) (by repeat' (first | with_reducible exact hn_g | with_reducible apply mN_A | with_reducible apply mN_I | with_reducible apply mN_L | with_reducible apply mN_R | with_reducible apply mN_O | with_reducible apply mN_S)) (by repeat' (first | with_reducible exact nl_0 | with_reducible exact nl_1 | with_reducible exact nl_2 | with_reducible exact rfl | apply i_add | apply i_mul)) (by omega) (by decide) (by first | (simp (disch := omega) only [mA_sA, mA_sI, mA_SC0, mA_SC1 hS, mA_SC5 hS, mA_SC6 hS, mA_SC10 hS, mA_SC11 hS, mA_SC12 hS, up_s, up_n, if_false] <;> rfl) | rfl) rfl ?_
    refine x_istore (n' := 105) dX9_tell_103 (Nat.le_of_ble_eq_true rfl) rfl (by dsimp only [List.set] <;> rfl) rfl ?_
    refine x_aload_n (n' := 106) dX9_tell_105 rfl rfl rfl ?_
    refine x_getRs (n' := 109) (b := (ad 0)) dX9_tell_106 (by repeat' (first | with_reducible exact km | with_reducible apply mK_A | with_reducible apply mK_I | with_reducible apply mK_L | with_reducible apply mK_R | with_reducible apply mK_O | with_reducible apply mK_S)) ffX9_9_9 rfl (by repeat' (first | with_reducible exact hr_g | with_reducible apply mR_A | with_reducible apply mR_I | with_reducible apply mR_L | with_reducible apply mR_S)) rfl ?_
    refine x_iconst (n' := 110) (v := 1) dX9_tell_109 (by decide) rfl ?_
    refine x_iload_n (n' := 111) dX9_tell_110 rfl rfl rfl ?_
    refine x_iadd (n' := 112) dX9_tell_111 rfl ?_
    refine x_iload_n (n' := 113) dX9_tell_112 rfl rfl rfl ?_
    refine x_iastk (n' := 114) (N := 2509) dX9_tell_113 (by repeat' (first | with_reducible exact kk_g | with_reducible apply mK_A | with_reducible apply mK_I | with_reducible apply mK_L | with_reducible apply mK_R | with_reducible apply mK_O | with_reducible apply mK_S)) (by repeat' (first | with_reducible exact hn_g | with_reducible apply mN_A | with_reducible apply mN_I | with_reducible apply mN_L | with_reducible apply mN_R | with_reducible apply mN_O | with_reducible apply mN_S)) (by repeat' (first | with_reducible exact nl_0 | with_reducible exact nl_1 | with_reducible exact nl_2 | with_reducible exact rfl | apply i_add | apply i_mul)) (by omega) (by decide) (by first | with_reducible exact mA_sA | with_reducible exact mA_SC0 | with_reducible exact mA_SC1 hS | with_reducible exact mA_SC5 hS | with_reducible exact mA_SC6 hS | with_reducible exact mA_SC10 hS | with_reducible exact mA_SC11 hS | with_reducible exact mA_SC12 hS | with_reducible exact mA_sI_sA | with_reducible exact mA_sI3_sA | rfl) (by first | with_reducible exact SC_A0 | with_reducible exact SC_A1 hS | with_reducible exact SC_A5 hS | with_reducible exact SC_A6 hS | with_reducible exact SC_A10 hS | with_reducible exact SC_A11 hS | with_reducible exact SC_A12 hS | with_reducible exact sA_sA | with_reducible exact sA_sI_sA | with_reducible exact sA_sI3_sA | rfl) rfl ?_
    refine x_iload (n' := 116) dX9_tell_114 rfl rfl ?_
    exact x_iret dX9_tell_116 hret (by repeat' (first | with_reducible exact kE.rf | with_reducible exact kE_SS | with_reducible apply kE_A | with_reducible apply kE_I | with_reducible apply kE_L | with_reducible apply kE_R | with_reducible apply kE_O | with_reducible apply kE_S)) (⟨fun _ => ⟨rfl, rfl⟩, fun q => absurd hok q⟩)
  · have C85 := c85_123
    refine x_aload_n (n' := 89) dX9_tell_88 rfl rfl rfl ?_
    refine x_bipush (n' := 91) (v := -102) dX9_tell_89 (by decide) rfl ?_
    refine x_topv (y := -(nI (102 + 0))) (by decide) ?_
    refine x_callV (n' := 94) (n := 1) (K := 9) (c_X9_refused l G _ m ad hS 0 (by decide)) dX9_tell_91 (by repeat' (first | with_reducible exact km | with_reducible apply mK_A | with_reducible apply mK_I | with_reducible apply mK_L | with_reducible apply mK_R | with_reducible apply mK_O | with_reducible apply mK_S)) rfl (lw_V q3324 q3326 qs48 q109 q3327) (by decide +kernel) ⟨(Nat.le_of_ble_eq_true rfl), (Nat.le_of_ble_eq_true rfl)⟩ rfl rfl (Nat.le_of_ble_eq_true rfl) (by first | exact Nat.le_of_ble_eq_true rfl | omega) (by first | exact Nat.le_of_ble_eq_true rfl | omega) rfl (fun v_124 M_125 h_127 hE_126 => ?_)
    obtain ⟨rfl, hMs⟩ := h_127
    have hMs := hMs.symm
    subst hMs
    exact x_iret dX9_tell_94 hret (by repeat' (first | with_reducible exact kE.rf | with_reducible exact kE_SS | with_reducible apply kE_A | with_reducible apply kE_I | with_reducible apply kE_L | with_reducible apply kE_R | with_reducible apply kE_O | with_reducible apply kE_S)) (⟨fun q => absurd q (by exact fun q => bi_0.mp C85 q), fun _ => ⟨rfl, rfl⟩⟩)

set_option maxHeartbeats 4000000 in
set_option maxRecDepth 100000 in
theorem c_X9_boat (l : Launch) (G : kG) (M : kM) (m : Nat) (ad : Nat → Nat) (hS : MS M m ad) (t x : Int32) (h : Nat) (hh : mA M (ad 0) 0 = nI h) (hb : h + 10000 < 2147483648) : Kt l G yX9_boat cX9_boat 5 (some .int) 1 25 [.ref m, .int t, .int x] M (0) (0) (fun v M2 => (okB h t x → v = some (.int ((mA M (ad 0)) (8 + nn t))) ∧ M2 = sA M (ad 0) (va_up (mA M (ad 0)) (8 + nn t) x)) ∧ (¬ (okB h t x) → v = some (.int (-(nI 102))) ∧ M2 = rfM M ad 0)) := by
  refine Kt.of (own := "KeptLightModel") (L := [some (.ref m), some (.int t), some (.int x), none, none]) (by decide +kernel) rfl (Nat.le_of_ble_eq_true rfl) rfl ?_
  intro pp ee ss mm args below meth cd hmn hret
  have km := hS.1
  obtain ⟨hr_g, kk_g, hn_g⟩ := hS.2.1 0 (by decide)
  have hr_g : mR M (fc 9 0) m = some (ad 0) := hr_g
  have hn_g : mN M (ad 0) = 2509 := hn_g
  have kk_g : mK M (ad 0) = some 120 := kk_g
  refine x_iload_n (n' := 1) dX9_boat_0 rfl rfl rfl ?_
  refine x_forkN (J := 83) (x_if_ne (n' := 4) (tgt := 35) dX9_boat_1 (by decide) rfl) (v1 := ?v1_f1_1) (v2 := ?v2_f1_1) (fun c_f1_1 j_f1_1 => ?b1_f1_1) (fun c_f1_1 j_f1_1 => ?b2_f1_1) ?k_f1_1
  case b1_f1_1 =>
    refine x_iload_n (n' := 36) dX9_boat_35 rfl rfl rfl ?_
    refine x_iconst (n' := 37) (v := 1) dX9_boat_36 (by decide) rfl ?_
    refine x_forkN (J := 83) (x_icmp_ne (n' := 40) (tgt := 52) dX9_boat_37 (by decide) rfl) (v1 := ?v1_f37_2) (v2 := ?v2_f37_2) (fun c_f37_2 j_f37_2 => ?b1_f37_2) (fun c_f37_2 j_f37_2 => ?b2_f37_2) ?k_f37_2
    case b1_f37_2 =>
      refine x_iload_n (n' := 53) dX9_boat_52 rfl rfl rfl ?_
      refine x_i2l (n' := 54) dX9_boat_53 rfl rfl ?_
      refine x_ldc2 (n' := 57) q3350 dX9_boat_54 rfl ?_
      refine x_ldc2 (n' := 60) q3385 dX9_boat_57 rfl ?_
      refine x_callS (n' := 63) (n := 3) (c_X9_in l G _ _ _ _) dX9_boat_60 (lw_S q3321 q3322 q109 q3323) (by decide +kernel) ⟨(Nat.le_of_ble_eq_true rfl), (Nat.le_of_ble_eq_true rfl)⟩ rfl rfl (Nat.le_of_ble_eq_true rfl) (by first | exact Nat.le_of_ble_eq_true rfl | omega) (by first | exact Nat.le_of_ble_eq_true rfl | omega) rfl (fun v_3 M_4 h_6 hE_5 => ?_)
      obtain ⟨rfl, hMs⟩ := h_6
      have hMs := hMs.symm
      subst hMs
      rw [k_in3 (x := 2) (y := 3) (by decide) (by decide)]
      refine x_fork (J := 83) (x_if_eq (n' := 66) (tgt := 82) dX9_boat_63 (by decide) rfl) (v1 := ?v1_f63_7) (v2 := ?v2_f63_7) (fun c_f63_7 j_f63_7 => ?b1_f63_7) (fun c_f63_7 j_f63_7 => ?b2_f63_7) ?k_f63_7
      case b1_f63_7 =>
        refine x_iconst (n' := 83) (v := 0) dX9_boat_82 (by decide) rfl ?_
        exact j_f63_7
      case b2_f63_7 =>
        refine x_iload_n (n' := 67) dX9_boat_66 rfl rfl rfl ?_
        refine x_i2l (n' := 68) dX9_boat_67 rfl rfl ?_
        refine x_lconst (n' := 69) (v := 0) dX9_boat_68 (by decide) rfl ?_
        refine x_ldc2 (n' := 72) q3386 dX9_boat_69 rfl ?_
        refine x_callS (n' := 75) (n := 3) (c_X9_in l G _ _ _ _) dX9_boat_72 (lw_S q3321 q3322 q109 q3323) (by decide +kernel) ⟨(Nat.le_of_ble_eq_true rfl), (Nat.le_of_ble_eq_true rfl)⟩ rfl rfl (Nat.le_of_ble_eq_true rfl) (by first | exact Nat.le_of_ble_eq_true rfl | omega) (by first | exact Nat.le_of_ble_eq_true rfl | omega) rfl (fun v_8 M_9 h_11 hE_10 => ?_)
        obtain ⟨rfl, hMs⟩ := h_11
        have hMs := hMs.symm
        subst hMs
        rw [k_in3 (x := 0) (y := 9999) (by decide) (by decide)]
        refine x_fork (J := 83) (x_if_eq (n' := 78) (tgt := 82) dX9_boat_75 (by decide) rfl) (v1 := ?v1_f75_12) (v2 := ?v2_f75_12) (fun c_f75_12 j_f75_12 => ?b1_f75_12) (fun c_f75_12 j_f75_12 => ?b2_f75_12) ?k_f75_12
        case b1_f75_12 =>
          refine x_iconst (n' := 83) (v := 0) dX9_boat_82 (by decide) rfl ?_
          exact j_f75_12
        case b2_f75_12 =>
          refine x_iconst (n' := 79) (v := 1) dX9_boat_78 (by decide) rfl ?_
          refine x_goto (tgt := 83) dX9_boat_79 (by decide) ?_
          exact j_f75_12
        exact j_f63_7
      exact j_f37_2
    case b2_f37_2 =>
      refine x_iload_n (n' := 41) dX9_boat_40 rfl rfl rfl ?_
      refine x_i2l (n' := 42) dX9_boat_41 rfl rfl ?_
      refine x_lconst (n' := 43) (v := 1) dX9_boat_42 (by decide) rfl ?_
      refine x_ldc2 (n' := 46) q3391 dX9_boat_43 rfl ?_
      refine x_callS (n' := 49) (n := 3) (c_X9_in l G _ _ _ _) dX9_boat_46 (lw_S q3321 q3322 q109 q3323) (by decide +kernel) ⟨(Nat.le_of_ble_eq_true rfl), (Nat.le_of_ble_eq_true rfl)⟩ rfl rfl (Nat.le_of_ble_eq_true rfl) (by first | exact Nat.le_of_ble_eq_true rfl | omega) (by first | exact Nat.le_of_ble_eq_true rfl | omega) rfl (fun v_13 M_14 h_16 hE_15 => ?_)
      obtain ⟨rfl, hMs⟩ := h_16
      have hMs := hMs.symm
      subst hMs
      rw [k_in3 (x := 1) (y := 999) (by decide) (by decide)]
      refine x_forkN (J := 83) (x_if_ne (n' := 52) (tgt := 78) dX9_boat_49 (by decide) rfl) (v1 := ?v1_f49_17) (v2 := ?v2_f49_17) (fun c_f49_17 j_f49_17 => ?b1_f49_17) (fun c_f49_17 j_f49_17 => ?b2_f49_17) ?k_f49_17
      case b1_f49_17 =>
        refine x_iconst (n' := 79) (v := 1) dX9_boat_78 (by decide) rfl ?_
        refine x_goto (tgt := 83) dX9_boat_79 (by decide) ?_
        exact j_f49_17
      case b2_f49_17 =>
        refine x_iload_n (n' := 53) dX9_boat_52 rfl rfl rfl ?_
        refine x_i2l (n' := 54) dX9_boat_53 rfl rfl ?_
        refine x_ldc2 (n' := 57) q3350 dX9_boat_54 rfl ?_
        refine x_ldc2 (n' := 60) q3385 dX9_boat_57 rfl ?_
        refine x_callS (n' := 63) (n := 3) (c_X9_in l G _ _ _ _) dX9_boat_60 (lw_S q3321 q3322 q109 q3323) (by decide +kernel) ⟨(Nat.le_of_ble_eq_true rfl), (Nat.le_of_ble_eq_true rfl)⟩ rfl rfl (Nat.le_of_ble_eq_true rfl) (by first | exact Nat.le_of_ble_eq_true rfl | omega) (by first | exact Nat.le_of_ble_eq_true rfl | omega) rfl (fun v_18 M_19 h_21 hE_20 => ?_)
        obtain ⟨rfl, hMs⟩ := h_21
        have hMs := hMs.symm
        subst hMs
        rw [k_in3 (x := 2) (y := 3) (by decide) (by decide)]
        refine x_fork (J := 83) (x_if_eq (n' := 66) (tgt := 82) dX9_boat_63 (by decide) rfl) (v1 := ?v1_f63_22) (v2 := ?v2_f63_22) (fun c_f63_22 j_f63_22 => ?b1_f63_22) (fun c_f63_22 j_f63_22 => ?b2_f63_22) ?k_f63_22
        case b1_f63_22 =>
          refine x_iconst (n' := 83) (v := 0) dX9_boat_82 (by decide) rfl ?_
          exact j_f63_22
        case b2_f63_22 =>
          refine x_iload_n (n' := 67) dX9_boat_66 rfl rfl rfl ?_
          refine x_i2l (n' := 68) dX9_boat_67 rfl rfl ?_
          refine x_lconst (n' := 69) (v := 0) dX9_boat_68 (by decide) rfl ?_
          refine x_ldc2 (n' := 72) q3386 dX9_boat_69 rfl ?_
          refine x_callS (n' := 75) (n := 3) (c_X9_in l G _ _ _ _) dX9_boat_72 (lw_S q3321 q3322 q109 q3323) (by decide +kernel) ⟨(Nat.le_of_ble_eq_true rfl), (Nat.le_of_ble_eq_true rfl)⟩ rfl rfl (Nat.le_of_ble_eq_true rfl) (by first | exact Nat.le_of_ble_eq_true rfl | omega) (by first | exact Nat.le_of_ble_eq_true rfl | omega) rfl (fun v_23 M_24 h_26 hE_25 => ?_)
          obtain ⟨rfl, hMs⟩ := h_26
          have hMs := hMs.symm
          subst hMs
          rw [k_in3 (x := 0) (y := 9999) (by decide) (by decide)]
          refine x_fork (J := 83) (x_if_eq (n' := 78) (tgt := 82) dX9_boat_75 (by decide) rfl) (v1 := ?v1_f75_27) (v2 := ?v2_f75_27) (fun c_f75_27 j_f75_27 => ?b1_f75_27) (fun c_f75_27 j_f75_27 => ?b2_f75_27) ?k_f75_27
          case b1_f75_27 =>
            refine x_iconst (n' := 83) (v := 0) dX9_boat_82 (by decide) rfl ?_
            exact j_f75_27
          case b2_f75_27 =>
            refine x_iconst (n' := 79) (v := 1) dX9_boat_78 (by decide) rfl ?_
            refine x_goto (tgt := 83) dX9_boat_79 (by decide) ?_
            exact j_f75_27
          exact j_f63_22
        exact j_f49_17
      exact j_f37_2
    exact j_f1_1
  case b2_f1_1 =>
    refine x_iload_n (n' := 5) dX9_boat_4 rfl rfl rfl ?_
    refine x_iconst (n' := 6) (v := -1) dX9_boat_5 (by decide) rfl ?_
    refine x_fork (J := 83) (x_icmp_eq (n' := 9) (tgt := 78) dX9_boat_6 (by decide) rfl) (v1 := ?v1_f6_28) (v2 := ?v2_f6_28) (fun c_f6_28 j_f6_28 => ?b1_f6_28) (fun c_f6_28 j_f6_28 => ?b2_f6_28) ?k_f6_28
    case b1_f6_28 =>
      refine x_iconst (n' := 79) (v := 1) dX9_boat_78 (by decide) rfl ?_
      refine x_goto (tgt := 83) dX9_boat_79 (by decide) ?_
      exact j_f6_28
    case b2_f6_28 =>
      refine x_iload_n (n' := 10) dX9_boat_9 rfl rfl rfl ?_
      refine x_i2l (n' := 11) dX9_boat_10 rfl rfl ?_
      refine x_aload_n (n' := 12) dX9_boat_11 rfl rfl rfl ?_
      refine x_getRs (n' := 15) (b := (ad 0)) dX9_boat_12 (by repeat' (first | with_reducible exact km | with_reducible apply mK_A | with_reducible apply mK_I | with_reducible apply mK_L | with_reducible apply mK_R | with_reducible apply mK_O | with_reducible apply mK_S)) ffX9_9_9 rfl (by repeat' (first | with_reducible exact hr_g | with_reducible apply mR_A | with_reducible apply mR_I | with_reducible apply mR_L | with_reducible apply mR_S)) rfl ?_
      refine x_iconst (n' := 16) (v := 0) dX9_boat_15 (by decide) rfl ?_
      refine x_ildk (n' := 17) (N := 2509) dX9_boat_16 (by repeat' (first | with_reducible exact kk_g | with_reducible apply mK_A | with_reducible apply mK_I | with_reducible apply mK_L | with_reducible apply mK_R | with_reducible apply mK_O | with_reducible apply mK_S)) (by repeat' (first | with_reducible exact hn_g | with_reducible apply mN_A | with_reducible apply mN_I | with_reducible apply mN_L | with_reducible apply mN_R | with_reducible apply mN_O | with_reducible apply mN_S)) (by repeat' (first | with_reducible exact nl_0 | with_reducible exact nl_1 | with_reducible exact nl_8 | with_reducible exact rfl | apply i_add | apply i_mul)) (by omega) (by decide) (by first | with_reducible exact hh | (simp (disch := omega) only [mA_sA, mA_sI, mA_SC0, mA_SC1 hS, mA_SC5 hS, mA_SC6 hS, mA_SC10 hS, mA_SC11 hS, mA_SC12 hS, up_s, up_n, hh, if_false] <;> rfl) | rfl) rfl ?_
      refine x_i2l (n' := 18) dX9_boat_17 rfl rfl ?_
      refine x_aload_n (n' := 19) dX9_boat_18 rfl rfl rfl ?_
      refine x_getRs (n' := 22) (b := (ad 0)) dX9_boat_19 (by repeat' (first | with_reducible exact km | with_reducible apply mK_A | with_reducible apply mK_I | with_reducible apply mK_L | with_reducible apply mK_R | with_reducible apply mK_O | with_reducible apply mK_S)) ffX9_9_9 rfl (by repeat' (first | with_reducible exact hr_g | with_reducible apply mR_A | with_reducible apply mR_I | with_reducible apply mR_L | with_reducible apply mR_S)) rfl ?_
      refine x_iconst (n' := 23) (v := 0) dX9_boat_22 (by decide) rfl ?_
      refine x_ildk (n' := 24) (N := 2509) dX9_boat_23 (by repeat' (first | with_reducible exact kk_g | with_reducible apply mK_A | with_reducible apply mK_I | with_reducible apply mK_L | with_reducible apply mK_R | with_reducible apply mK_O | with_reducible apply mK_S)) (by repeat' (first | with_reducible exact hn_g | with_reducible apply mN_A | with_reducible apply mN_I | with_reducible apply mN_L | with_reducible apply mN_R | with_reducible apply mN_O | with_reducible apply mN_S)) (by repeat' (first | with_reducible exact nl_0 | with_reducible exact nl_1 | with_reducible exact nl_8 | with_reducible exact rfl | apply i_add | apply i_mul)) (by omega) (by decide) (by first | with_reducible exact hh | (simp (disch := omega) only [mA_sA, mA_sI, mA_SC0, mA_SC1 hS, mA_SC5 hS, mA_SC6 hS, mA_SC10 hS, mA_SC11 hS, mA_SC12 hS, up_s, up_n, hh, if_false] <;> rfl) | rfl) rfl ?_
      refine x_i2l (n' := 25) dX9_boat_24 rfl rfl ?_
      refine x_ldc2 (n' := 28) q3386 dX9_boat_25 rfl ?_
      refine x_ladd (n' := 29) dX9_boat_28 rfl ?_
      refine x_callS (n' := 32) (n := 3) (c_X9_in l G _ _ _ _) dX9_boat_29 (lw_S q3321 q3322 q109 q3323) (by decide +kernel) ⟨(Nat.le_of_ble_eq_true rfl), (Nat.le_of_ble_eq_true rfl)⟩ rfl rfl (Nat.le_of_ble_eq_true rfl) (by first | exact Nat.le_of_ble_eq_true rfl | omega) (by first | exact Nat.le_of_ble_eq_true rfl | omega) rfl (fun v_29 M_30 h_32 hE_31 => ?_)
      obtain ⟨rfl, hMs⟩ := h_32
      have hMs := hMs.symm
      subst hMs
      rw [k_in4 (n := 9999) (by decide) (by omega)]
      refine x_forkN (J := 83) (x_if_ne (n' := 35) (tgt := 78) dX9_boat_32 (by decide) rfl) (v1 := ?v1_f32_33) (v2 := ?v2_f32_33) (fun c_f32_33 j_f32_33 => ?b1_f32_33) (fun c_f32_33 j_f32_33 => ?b2_f32_33) ?k_f32_33
      case b1_f32_33 =>
        refine x_iconst (n' := 79) (v := 1) dX9_boat_78 (by decide) rfl ?_
        refine x_goto (tgt := 83) dX9_boat_79 (by decide) ?_
        exact j_f32_33
      case b2_f32_33 =>
        refine x_iload_n (n' := 36) dX9_boat_35 rfl rfl rfl ?_
        refine x_iconst (n' := 37) (v := 1) dX9_boat_36 (by decide) rfl ?_
        refine x_forkN (J := 83) (x_icmp_ne (n' := 40) (tgt := 52) dX9_boat_37 (by decide) rfl) (v1 := ?v1_f37_34) (v2 := ?v2_f37_34) (fun c_f37_34 j_f37_34 => ?b1_f37_34) (fun c_f37_34 j_f37_34 => ?b2_f37_34) ?k_f37_34
        case b1_f37_34 =>
          refine x_iload_n (n' := 53) dX9_boat_52 rfl rfl rfl ?_
          refine x_i2l (n' := 54) dX9_boat_53 rfl rfl ?_
          refine x_ldc2 (n' := 57) q3350 dX9_boat_54 rfl ?_
          refine x_ldc2 (n' := 60) q3385 dX9_boat_57 rfl ?_
          refine x_callS (n' := 63) (n := 3) (c_X9_in l G _ _ _ _) dX9_boat_60 (lw_S q3321 q3322 q109 q3323) (by decide +kernel) ⟨(Nat.le_of_ble_eq_true rfl), (Nat.le_of_ble_eq_true rfl)⟩ rfl rfl (Nat.le_of_ble_eq_true rfl) (by first | exact Nat.le_of_ble_eq_true rfl | omega) (by first | exact Nat.le_of_ble_eq_true rfl | omega) rfl (fun v_35 M_36 h_38 hE_37 => ?_)
          obtain ⟨rfl, hMs⟩ := h_38
          have hMs := hMs.symm
          subst hMs
          rw [k_in3 (x := 2) (y := 3) (by decide) (by decide)]
          refine x_fork (J := 83) (x_if_eq (n' := 66) (tgt := 82) dX9_boat_63 (by decide) rfl) (v1 := ?v1_f63_39) (v2 := ?v2_f63_39) (fun c_f63_39 j_f63_39 => ?b1_f63_39) (fun c_f63_39 j_f63_39 => ?b2_f63_39) ?k_f63_39
          case b1_f63_39 =>
            refine x_iconst (n' := 83) (v := 0) dX9_boat_82 (by decide) rfl ?_
            exact j_f63_39
          case b2_f63_39 =>
            refine x_iload_n (n' := 67) dX9_boat_66 rfl rfl rfl ?_
            refine x_i2l (n' := 68) dX9_boat_67 rfl rfl ?_
            refine x_lconst (n' := 69) (v := 0) dX9_boat_68 (by decide) rfl ?_
            refine x_ldc2 (n' := 72) q3386 dX9_boat_69 rfl ?_
            refine x_callS (n' := 75) (n := 3) (c_X9_in l G _ _ _ _) dX9_boat_72 (lw_S q3321 q3322 q109 q3323) (by decide +kernel) ⟨(Nat.le_of_ble_eq_true rfl), (Nat.le_of_ble_eq_true rfl)⟩ rfl rfl (Nat.le_of_ble_eq_true rfl) (by first | exact Nat.le_of_ble_eq_true rfl | omega) (by first | exact Nat.le_of_ble_eq_true rfl | omega) rfl (fun v_40 M_41 h_43 hE_42 => ?_)
            obtain ⟨rfl, hMs⟩ := h_43
            have hMs := hMs.symm
            subst hMs
            rw [k_in3 (x := 0) (y := 9999) (by decide) (by decide)]
            refine x_fork (J := 83) (x_if_eq (n' := 78) (tgt := 82) dX9_boat_75 (by decide) rfl) (v1 := ?v1_f75_44) (v2 := ?v2_f75_44) (fun c_f75_44 j_f75_44 => ?b1_f75_44) (fun c_f75_44 j_f75_44 => ?b2_f75_44) ?k_f75_44
            case b1_f75_44 =>
              refine x_iconst (n' := 83) (v := 0) dX9_boat_82 (by decide) rfl ?_
              exact j_f75_44
            case b2_f75_44 =>
              refine x_iconst (n' := 79) (v := 1) dX9_boat_78 (by decide) rfl ?_
              refine x_goto (tgt := 83) dX9_boat_79 (by decide) ?_
              exact j_f75_44
            exact j_f63_39
          exact j_f37_34
        case b2_f37_34 =>
          refine x_iload_n (n' := 41) dX9_boat_40 rfl rfl rfl ?_
          refine x_i2l (n' := 42) dX9_boat_41 rfl rfl ?_
          refine x_lconst (n' := 43) (v := 1) dX9_boat_42 (by decide) rfl ?_
          refine x_ldc2 (n' := 46) q3391 dX9_boat_43 rfl ?_
          refine x_callS (n' := 49) (n := 3) (c_X9_in l G _ _ _ _) dX9_boat_46 (lw_S q3321 q3322 q109 q3323) (by decide +kernel) ⟨(Nat.le_of_ble_eq_true rfl), (Nat.le_of_ble_eq_true rfl)⟩ rfl rfl (Nat.le_of_ble_eq_true rfl) (by first | exact Nat.le_of_ble_eq_true rfl | omega) (by first | exact Nat.le_of_ble_eq_true rfl | omega) rfl (fun v_45 M_46 h_48 hE_47 => ?_)
          obtain ⟨rfl, hMs⟩ := h_48
          have hMs := hMs.symm
          subst hMs
          rw [k_in3 (x := 1) (y := 999) (by decide) (by decide)]
          refine x_forkN (J := 83) (x_if_ne (n' := 52) (tgt := 78) dX9_boat_49 (by decide) rfl) (v1 := ?v1_f49_49) (v2 := ?v2_f49_49) (fun c_f49_49 j_f49_49 => ?b1_f49_49) (fun c_f49_49 j_f49_49 => ?b2_f49_49) ?k_f49_49
          case b1_f49_49 =>
            refine x_iconst (n' := 79) (v := 1) dX9_boat_78 (by decide) rfl ?_
            refine x_goto (tgt := 83) dX9_boat_79 (by decide) ?_
            exact j_f49_49
          case b2_f49_49 =>
            refine x_iload_n (n' := 53) dX9_boat_52 rfl rfl rfl ?_
            refine x_i2l (n' := 54) dX9_boat_53 rfl rfl ?_
            refine x_ldc2 (n' := 57) q3350 dX9_boat_54 rfl ?_
            refine x_ldc2 (n' := 60) q3385 dX9_boat_57 rfl ?_
            refine x_callS (n' := 63) (n := 3) (c_X9_in l G _ _ _ _) dX9_boat_60 (lw_S q3321 q3322 q109 q3323) (by decide +kernel) ⟨(Nat.le_of_ble_eq_true rfl), (Nat.le_of_ble_eq_true rfl)⟩ rfl rfl (Nat.le_of_ble_eq_true rfl) (by first | exact Nat.le_of_ble_eq_true rfl | omega) (by first | exact Nat.le_of_ble_eq_true rfl | omega) rfl (fun v_50 M_51 h_53 hE_52 => ?_)
            obtain ⟨rfl, hMs⟩ := h_53
            have hMs := hMs.symm
            subst hMs
            rw [k_in3 (x := 2) (y := 3) (by decide) (by decide)]
            refine x_fork (J := 83) (x_if_eq (n' := 66) (tgt := 82) dX9_boat_63 (by decide) rfl) (v1 := ?v1_f63_54) (v2 := ?v2_f63_54) (fun c_f63_54 j_f63_54 => ?b1_f63_54) (fun c_f63_54 j_f63_54 => ?b2_f63_54) ?k_f63_54
            case b1_f63_54 =>
              refine x_iconst (n' := 83) (v := 0) dX9_boat_82 (by decide) rfl ?_
              exact j_f63_54
            case b2_f63_54 =>
              refine x_iload_n (n' := 67) dX9_boat_66 rfl rfl rfl ?_
              refine x_i2l (n' := 68) dX9_boat_67 rfl rfl ?_
              refine x_lconst (n' := 69) (v := 0) dX9_boat_68 (by decide) rfl ?_
              refine x_ldc2 (n' := 72) q3386 dX9_boat_69 rfl ?_
              refine x_callS (n' := 75) (n := 3) (c_X9_in l G _ _ _ _) dX9_boat_72 (lw_S q3321 q3322 q109 q3323) (by decide +kernel) ⟨(Nat.le_of_ble_eq_true rfl), (Nat.le_of_ble_eq_true rfl)⟩ rfl rfl (Nat.le_of_ble_eq_true rfl) (by first | exact Nat.le_of_ble_eq_true rfl | omega) (by first | exact Nat.le_of_ble_eq_true rfl | omega) rfl (fun v_55 M_56 h_58 hE_57 => ?_)
              obtain ⟨rfl, hMs⟩ := h_58
              have hMs := hMs.symm
              subst hMs
              rw [k_in3 (x := 0) (y := 9999) (by decide) (by decide)]
              refine x_fork (J := 83) (x_if_eq (n' := 78) (tgt := 82) dX9_boat_75 (by decide) rfl) (v1 := ?v1_f75_59) (v2 := ?v2_f75_59) (fun c_f75_59 j_f75_59 => ?b1_f75_59) (fun c_f75_59 j_f75_59 => ?b2_f75_59) ?k_f75_59
              case b1_f75_59 =>
                refine x_iconst (n' := 83) (v := 0) dX9_boat_82 (by decide) rfl ?_
                exact j_f75_59
              case b2_f75_59 =>
                refine x_iconst (n' := 79) (v := 1) dX9_boat_78 (by decide) rfl ?_
                refine x_goto (tgt := 83) dX9_boat_79 (by decide) ?_
                exact j_f75_59
              exact j_f63_54
            exact j_f49_49
          exact j_f37_34
        exact j_f32_33
      exact j_f6_28
    exact j_f1_1
  refine x_topv (y := bi (okB h t x)) (by unfold bi; grind) ?_
  refine x_istore_n (n' := 84) dX9_boat_83 rfl (Nat.le_of_ble_eq_true rfl) rfl (by dsimp only [List.set] <;> rfl) rfl ?_
  refine x_iload_n (n' := 85) dX9_boat_84 rfl rfl rfl ?_
  refine x_if_ne (n' := 88) (tgt := 95) dX9_boat_85 (by decide) rfl (fun c85_60 => ?_) (fun c85_60 => ?_)
  · have C85 := c85_60
    have hok : okB h t x := bi_n0 C85
    have hn8 := nn_le (n := 3) (okB_t hok).1 (okB_t hok).2 (by decide)
    refine x_loc (i := 1) rfl (nn_of (okB_t hok).1) (by dsimp only [List.set] <;> rfl) ?_
    refine x_aload_n (n' := 96) dX9_boat_95 rfl rfl rfl ?_
    refine x_getRs (n' := 99) (b := (ad 0)) dX9_boat_96 (by repeat' (first | with_reducible exact km | with_reducible apply mK_A | with_reducible apply mK_I | with_reducible apply mK_L | with_reducible apply mK_R | with_reducible apply mK_O | with_reducible apply mK_S)) ffX9_9_9 rfl (by repeat' (first | with_reducible exact hr_g | with_reducible apply mR_A | with_reducible apply mR_I | with_reducible apply mR_L | with_reducible apply mR_S)) rfl ?_
    refine x_bipush (n' := 101) (v := 8) dX9_boat_99 (by decide) rfl ?_
    refine x_iload_n (n' := 102) dX9_boat_101 rfl rfl rfl ?_
    refine x_iadd (n' := 103) dX9_boat_102 rfl ?_
    refine x_ildk (n' := 104) (N := 2509) dX9_boat_103 (by repeat' (first | with_reducible exact kk_g | with_reducible apply mK_A | with_reducible apply mK_I | with_reducible apply mK_L | with_reducible apply mK_R | with_reducible apply mK_O | with_reducible apply mK_S)) (by repeat' (first | with_reducible exact hn_g | with_reducible apply mN_A | with_reducible apply mN_I | with_reducible apply mN_L | with_reducible apply mN_R | with_reducible apply mN_O | with_reducible apply mN_S)) (by repeat' (first | with_reducible exact nl_0 | with_reducible exact nl_1 | with_reducible exact nl_8 | with_reducible exact rfl | apply i_add | apply i_mul)) (by omega) (by decide) (by first | with_reducible exact hh | (simp (disch := omega) only [mA_sA, mA_sI, mA_SC0, mA_SC1 hS, mA_SC5 hS, mA_SC6 hS, mA_SC10 hS, mA_SC11 hS, mA_SC12 hS, up_s, up_n, hh, if_false] <;> rfl) | rfl) rfl ?_
    refine x_istore (n' := 106) dX9_boat_104 (Nat.le_of_ble_eq_true rfl) rfl (by dsimp only [List.set] <;> rfl) rfl ?_
    refine x_aload_n (n' := 107) dX9_boat_106 rfl rfl rfl ?_
    refine x_getRs (n' := 110) (b := (ad 0)) dX9_boat_107 (by repeat' (first | with_reducible exact km | with_reducible apply mK_A | with_reducible apply mK_I | with_reducible apply mK_L | with_reducible apply mK_R | with_reducible apply mK_O | with_reducible apply mK_S)) ffX9_9_9 rfl (by repeat' (first | with_reducible exact hr_g | with_reducible apply mR_A | with_reducible apply mR_I | with_reducible apply mR_L | with_reducible apply mR_S)) rfl ?_
    refine x_bipush (n' := 112) (v := 8) dX9_boat_110 (by decide) rfl ?_
    refine x_iload_n (n' := 113) dX9_boat_112 rfl rfl rfl ?_
    refine x_iadd (n' := 114) dX9_boat_113 rfl ?_
    refine x_iload_n (n' := 115) dX9_boat_114 rfl rfl rfl ?_
    refine x_iastk (n' := 116) (N := 2509) dX9_boat_115 (by repeat' (first | with_reducible exact kk_g | with_reducible apply mK_A | with_reducible apply mK_I | with_reducible apply mK_L | with_reducible apply mK_R | with_reducible apply mK_O | with_reducible apply mK_S)) (by repeat' (first | with_reducible exact hn_g | with_reducible apply mN_A | with_reducible apply mN_I | with_reducible apply mN_L | with_reducible apply mN_R | with_reducible apply mN_O | with_reducible apply mN_S)) (by repeat' (first | with_reducible exact nl_0 | with_reducible exact nl_1 | with_reducible exact nl_8 | with_reducible exact rfl | apply i_add | apply i_mul)) (by omega) (by decide) (by first | with_reducible exact mA_sA | with_reducible exact mA_SC0 | with_reducible exact mA_SC1 hS | with_reducible exact mA_SC5 hS | with_reducible exact mA_SC6 hS | with_reducible exact mA_SC10 hS | with_reducible exact mA_SC11 hS | with_reducible exact mA_SC12 hS | with_reducible exact mA_sI_sA | with_reducible exact mA_sI3_sA | rfl) (by first | with_reducible exact SC_A0 | with_reducible exact SC_A1 hS | with_reducible exact SC_A5 hS | with_reducible exact SC_A6 hS | with_reducible exact SC_A10 hS | with_reducible exact SC_A11 hS | with_reducible exact SC_A12 hS | with_reducible exact sA_sA | with_reducible exact sA_sI_sA | with_reducible exact sA_sI3_sA | rfl) rfl ?_
    refine x_iload (n' := 118) dX9_boat_116 rfl rfl ?_
    exact x_iret dX9_boat_118 hret (by repeat' (first | with_reducible exact kE.rf | with_reducible exact kE_SS | with_reducible apply kE_A | with_reducible apply kE_I | with_reducible apply kE_L | with_reducible apply kE_R | with_reducible apply kE_O | with_reducible apply kE_S)) (⟨fun _ => ⟨rfl, rfl⟩, fun q => absurd hok q⟩)
  · have C85 := c85_60
    refine x_aload_n (n' := 89) dX9_boat_88 rfl rfl rfl ?_
    refine x_bipush (n' := 91) (v := -102) dX9_boat_89 (by decide) rfl ?_
    refine x_topv (y := -(nI (102 + 0))) (by decide) ?_
    refine x_callV (n' := 94) (n := 1) (K := 9) (c_X9_refused l G _ m ad hS 0 (by decide)) dX9_boat_91 (by repeat' (first | with_reducible exact km | with_reducible apply mK_A | with_reducible apply mK_I | with_reducible apply mK_L | with_reducible apply mK_R | with_reducible apply mK_O | with_reducible apply mK_S)) rfl (lw_V q3324 q3326 qs48 q109 q3327) (by decide +kernel) ⟨(Nat.le_of_ble_eq_true rfl), (Nat.le_of_ble_eq_true rfl)⟩ rfl rfl (Nat.le_of_ble_eq_true rfl) (by first | exact Nat.le_of_ble_eq_true rfl | omega) (by first | exact Nat.le_of_ble_eq_true rfl | omega) rfl (fun v_61 M_62 h_64 hE_63 => ?_)
    obtain ⟨rfl, hMs⟩ := h_64
    have hMs := hMs.symm
    subst hMs
    exact x_iret dX9_boat_94 hret (by repeat' (first | with_reducible exact kE.rf | with_reducible exact kE_SS | with_reducible apply kE_A | with_reducible apply kE_I | with_reducible apply kE_L | with_reducible apply kE_R | with_reducible apply kE_O | with_reducible apply kE_S)) (⟨fun q => absurd q (by exact fun q => bi_0.mp C85 q), fun _ => ⟨rfl, rfl⟩⟩)

set_option maxHeartbeats 4000000 in
set_option maxRecDepth 100000 in
theorem c_X9_ship (l : Launch) (G : kG) (M : kM) (m : Nat) (ad : Nat → Nat) (hS : MS M m ad) (k x : Int32) (h ns : Nat) (hh : mA M (ad 0) 0 = nI h) (hb : h + 10000 < 2147483648) (hs : mA M (ad 0) 14 = nI ns) (hn : ns ≤ 200) : Kt l G yX9_ship cX9_ship 3 (some .int) 1 25 [.ref m, .int k, .int x] M (0) (0) (fun v M2 => (okH h k x → ns < 200 → v = some (.int (nI ns)) ∧ M2 = sA M (ad 0) (cmG (mA M (ad 0)) k x ns)) ∧ (okH h k x → ns = 200 → v = some (.int (-(nI 106))) ∧ M2 = rfM M ad 4) ∧ (¬ okH h k x → v = some (.int (-(nI 102))) ∧ M2 = rfM M ad 0)) := by
  refine Kt.of (own := "KeptLightModel") (L := [some (.ref m), some (.int k), some (.int x)]) (by decide +kernel) rfl (Nat.le_of_ble_eq_true rfl) rfl ?_
  intro pp ee ss mm args below meth cd hmn hret
  have km := hS.1
  obtain ⟨hr_g, kk_g, hn_g⟩ := hS.2.1 0 (by decide)
  have hr_g : mR M (fc 9 0) m = some (ad 0) := hr_g
  have hn_g : mN M (ad 0) = 2509 := hn_g
  have kk_g : mK M (ad 0) = some 120 := kk_g
  refine x_iload_n (n' := 1) dX9_ship_0 rfl rfl rfl ?_
  refine x_i2l (n' := 2) dX9_ship_1 rfl rfl ?_
  refine x_ldc2 (n' := 5) q3385 dX9_ship_2 rfl ?_
  refine x_ldc2 (n' := 8) q3367 dX9_ship_5 rfl ?_
  refine x_callS (n' := 11) (n := 3) (c_X9_in l G _ _ _ _) dX9_ship_8 (lw_S q3321 q3322 q109 q3323) (by decide +kernel) ⟨(Nat.le_of_ble_eq_true rfl), (Nat.le_of_ble_eq_true rfl)⟩ rfl rfl (Nat.le_of_ble_eq_true rfl) (by first | exact Nat.le_of_ble_eq_true rfl | omega) (by first | exact Nat.le_of_ble_eq_true rfl | omega) rfl (fun v_1 M_2 h_4 hE_3 => ?_)
  obtain ⟨rfl, hMs⟩ := h_4
  have hMs := hMs.symm
  subst hMs
  rw [k_in3 (x := 3) (y := 7) (by decide) (by decide)]
  refine x_if_eq (n' := 14) (tgt := 40) dX9_ship_11 (by decide) rfl (fun c11_5 => ?_) (fun c11_5 => ?_)
  · have C11 := c11_5
    refine x_aload_n (n' := 41) dX9_ship_40 rfl rfl rfl ?_
    refine x_bipush (n' := 43) (v := -102) dX9_ship_41 (by decide) rfl ?_
    refine x_topv (y := -(nI (102 + 0))) (by decide) ?_
    refine x_callV (n' := 46) (n := 1) (K := 9) (c_X9_refused l G _ m ad (by repeat' (first | with_reducible exact hS | with_reducible apply MS.sA | with_reducible apply MS.sI | with_reducible apply MS.sL | with_reducible apply MS.sc)) 0 (by decide)) dX9_ship_43 (by repeat' (first | with_reducible exact km | with_reducible apply mK_A | with_reducible apply mK_I | with_reducible apply mK_L | with_reducible apply mK_R | with_reducible apply mK_O | with_reducible apply mK_S)) rfl (lw_V q3324 q3326 qs48 q109 q3327) (by decide +kernel) ⟨(Nat.le_of_ble_eq_true rfl), (Nat.le_of_ble_eq_true rfl)⟩ rfl rfl (Nat.le_of_ble_eq_true rfl) (by first | exact Nat.le_of_ble_eq_true rfl | omega) (by first | exact Nat.le_of_ble_eq_true rfl | omega) rfl (fun v_6 M_7 h_9 hE_8 => ?_)
    obtain ⟨rfl, hMs⟩ := h_9
    have hMs := hMs.symm
    subst hMs
    exact x_iret dX9_ship_46 hret (by repeat' (first | with_reducible exact kE.rf | with_reducible exact kE_SS | with_reducible apply kE_A | with_reducible apply kE_I | with_reducible apply kE_L | with_reducible apply kE_R | with_reducible apply kE_O | with_reducible apply kE_S)) (⟨fun q => absurd q (by first | exact fun q => bi_0.mp C11 q.1 | exact fun q => bi_0.mp C37 q.2), fun q => absurd q (by first | exact fun q => bi_0.mp C11 q.1 | exact fun q => bi_0.mp C37 q.2), fun _ => ⟨rfl, rfl⟩⟩)
  · have C11 := c11_5
    refine x_iload_n (n' := 15) dX9_ship_14 rfl rfl rfl ?_
    refine x_i2l (n' := 16) dX9_ship_15 rfl rfl ?_
    refine x_aload_n (n' := 17) dX9_ship_16 rfl rfl rfl ?_
    refine x_getRs (n' := 20) (b := (ad 0)) dX9_ship_17 (by repeat' (first | with_reducible exact km | with_reducible apply mK_A | with_reducible apply mK_I | with_reducible apply mK_L | with_reducible apply mK_R | with_reducible apply mK_O | with_reducible apply mK_S)) ffX9_9_9 rfl (by repeat' (first | with_reducible exact hr_g | with_reducible apply mR_A | with_reducible apply mR_I | with_reducible apply mR_L | with_reducible apply mR_S)) rfl ?_
    refine x_iconst (n' := 21) (v := 0) dX9_ship_20 (by decide) rfl ?_
    refine x_ildk (n' := 22) (N := 2509) dX9_ship_21 (by repeat' (first | with_reducible exact kk_g | with_reducible apply mK_A | with_reducible apply mK_I | with_reducible apply mK_L | with_reducible apply mK_R | with_reducible apply mK_O | with_reducible apply mK_S)) (by repeat' (first | with_reducible exact hn_g | with_reducible apply mN_A | with_reducible apply mN_I | with_reducible apply mN_L | with_reducible apply mN_R | with_reducible apply mN_O | with_reducible apply mN_S)) (by repeat' (first | with_reducible exact nl_0 | with_reducible exact nl_14 | with_reducible exact nl_200 | with_reducible exact rfl | apply i_add | apply i_mul)) (by omega) (by decide) (by first | with_reducible exact hh | with_reducible exact hs | (simp (disch := omega) only [mA_sA, mA_sI, mA_SC0, mA_SC1 hS, mA_SC5 hS, mA_SC6 hS, mA_SC10 hS, mA_SC11 hS, mA_SC12 hS, up_s, up_n, hh, hs, if_false] <;> rfl) | rfl) rfl ?_
    refine x_i2l (n' := 23) dX9_ship_22 rfl rfl ?_
    refine x_aload_n (n' := 24) dX9_ship_23 rfl rfl rfl ?_
    refine x_getRs (n' := 27) (b := (ad 0)) dX9_ship_24 (by repeat' (first | with_reducible exact km | with_reducible apply mK_A | with_reducible apply mK_I | with_reducible apply mK_L | with_reducible apply mK_R | with_reducible apply mK_O | with_reducible apply mK_S)) ffX9_9_9 rfl (by repeat' (first | with_reducible exact hr_g | with_reducible apply mR_A | with_reducible apply mR_I | with_reducible apply mR_L | with_reducible apply mR_S)) rfl ?_
    refine x_iconst (n' := 28) (v := 0) dX9_ship_27 (by decide) rfl ?_
    refine x_ildk (n' := 29) (N := 2509) dX9_ship_28 (by repeat' (first | with_reducible exact kk_g | with_reducible apply mK_A | with_reducible apply mK_I | with_reducible apply mK_L | with_reducible apply mK_R | with_reducible apply mK_O | with_reducible apply mK_S)) (by repeat' (first | with_reducible exact hn_g | with_reducible apply mN_A | with_reducible apply mN_I | with_reducible apply mN_L | with_reducible apply mN_R | with_reducible apply mN_O | with_reducible apply mN_S)) (by repeat' (first | with_reducible exact nl_0 | with_reducible exact nl_14 | with_reducible exact nl_200 | with_reducible exact rfl | apply i_add | apply i_mul)) (by omega) (by decide) (by first | with_reducible exact hh | with_reducible exact hs | (simp (disch := omega) only [mA_sA, mA_sI, mA_SC0, mA_SC1 hS, mA_SC5 hS, mA_SC6 hS, mA_SC10 hS, mA_SC11 hS, mA_SC12 hS, up_s, up_n, hh, hs, if_false] <;> rfl) | rfl) rfl ?_
    refine x_i2l (n' := 30) dX9_ship_29 rfl rfl ?_
    refine x_ldc2 (n' := 33) q3391 dX9_ship_30 rfl ?_
    refine x_ladd (n' := 34) dX9_ship_33 rfl ?_
    refine x_callS (n' := 37) (n := 3) (c_X9_in l G _ _ _ _) dX9_ship_34 (lw_S q3321 q3322 q109 q3323) (by decide +kernel) ⟨(Nat.le_of_ble_eq_true rfl), (Nat.le_of_ble_eq_true rfl)⟩ rfl rfl (Nat.le_of_ble_eq_true rfl) (by first | exact Nat.le_of_ble_eq_true rfl | omega) (by first | exact Nat.le_of_ble_eq_true rfl | omega) rfl (fun v_10 M_11 h_13 hE_12 => ?_)
    obtain ⟨rfl, hMs⟩ := h_13
    have hMs := hMs.symm
    subst hMs
    rw [k_in4 (n := 999) (by decide) (by omega)]
    refine x_if_ne (n' := 40) (tgt := 47) dX9_ship_37 (by decide) rfl (fun c37_14 => ?_) (fun c37_14 => ?_)
    · have C37 := c37_14
      have hok : okH h k x := ⟨bi_n0 C11, bi_n0 C37⟩
      refine x_aload_n (n' := 48) dX9_ship_47 rfl rfl rfl ?_
      refine x_getRs (n' := 51) (b := (ad 0)) dX9_ship_48 (by repeat' (first | with_reducible exact km | with_reducible apply mK_A | with_reducible apply mK_I | with_reducible apply mK_L | with_reducible apply mK_R | with_reducible apply mK_O | with_reducible apply mK_S)) ffX9_9_9 rfl (by repeat' (first | with_reducible exact hr_g | with_reducible apply mR_A | with_reducible apply mR_I | with_reducible apply mR_L | with_reducible apply mR_S)) rfl ?_
      refine x_bipush (n' := 53) (v := 14) dX9_ship_51 (by decide) rfl ?_
      refine x_ildk (n' := 54) (N := 2509) dX9_ship_53 (by repeat' (first | with_reducible exact kk_g | with_reducible apply mK_A | with_reducible apply mK_I | with_reducible apply mK_L | with_reducible apply mK_R | with_reducible apply mK_O | with_reducible apply mK_S)) (by repeat' (first | with_reducible exact hn_g | with_reducible apply mN_A | with_reducible apply mN_I | with_reducible apply mN_L | with_reducible apply mN_R | with_reducible apply mN_O | with_reducible apply mN_S)) (by repeat' (first | with_reducible exact nl_0 | with_reducible exact nl_14 | with_reducible exact nl_200 | with_reducible exact rfl | apply i_add | apply i_mul)) (by omega) (by decide) (by first | with_reducible exact hh | with_reducible exact hs | (simp (disch := omega) only [mA_sA, mA_sI, mA_SC0, mA_SC1 hS, mA_SC5 hS, mA_SC6 hS, mA_SC10 hS, mA_SC11 hS, mA_SC12 hS, up_s, up_n, hh, hs, if_false] <;> rfl) | rfl) rfl ?_
      refine x_sipush (n' := 57) (v := 200) dX9_ship_54 (by decide) rfl ?_
      refine x_icmp_ne (n' := 60) (tgt := 69) dX9_ship_57 (by decide) rfl (fun c57_15 => ?_) (fun c57_15 => ?_)
      · have C57 := c57_15
        have N57 := (not_congr (cv_eq (by repeat' (first | with_reducible exact nl_0 | with_reducible exact nl_14 | with_reducible exact nl_200 | with_reducible exact rfl | apply i_add | apply i_mul)) (by repeat' (first | with_reducible exact nl_0 | with_reducible exact nl_14 | with_reducible exact nl_200 | with_reducible exact rfl | apply i_add | apply i_mul)) (by omega) (by omega))).mp c57_15
        refine x_aload_n (n' := 70) dX9_ship_69 rfl rfl rfl ?_
        refine x_iload_n (n' := 71) dX9_ship_70 rfl rfl rfl ?_
        refine x_iload_n (n' := 72) dX9_ship_71 rfl rfl rfl ?_
        refine x_callV (n' := 75) (n := 2) (K := 9) (c_X9_comesShip l G _ m ad hS k x ns hs (by omega)) dX9_ship_72 (by repeat' (first | with_reducible exact km | with_reducible apply mK_A | with_reducible apply mK_I | with_reducible apply mK_L | with_reducible apply mK_R | with_reducible apply mK_O | with_reducible apply mK_S)) rfl (lw_V q3396 q3398 qs54 q109 q3399) (by decide +kernel) ⟨(Nat.le_of_ble_eq_true rfl), (Nat.le_of_ble_eq_true rfl)⟩ rfl rfl (Nat.le_of_ble_eq_true rfl) (by first | exact Nat.le_of_ble_eq_true rfl | omega) (by first | exact Nat.le_of_ble_eq_true rfl | omega) rfl (fun v_16 M_17 h_19 hE_18 => ?_)
        obtain ⟨rfl, hMs⟩ := h_19
        have hMs := hMs.symm
        subst hMs
        exact x_iret dX9_ship_75 hret (by repeat' (first | with_reducible exact kE.rf | with_reducible exact kE_SS | with_reducible apply kE_A | with_reducible apply kE_I | with_reducible apply kE_L | with_reducible apply kE_R | with_reducible apply kE_O | with_reducible apply kE_S)) (by first | exact ⟨fun _ q => absurd q (by omega), fun _ _ => ⟨rfl, rfl⟩, fun q => absurd hok q⟩ | exact ⟨fun _ _ => ⟨rfl, rfl⟩, fun _ q => absurd q (by omega), fun q => absurd hok q⟩)
      · have C57 := c57_15
        have N57 := (cv_eq (by repeat' (first | with_reducible exact nl_0 | with_reducible exact nl_14 | with_reducible exact nl_200 | with_reducible exact rfl | apply i_add | apply i_mul)) (by repeat' (first | with_reducible exact nl_0 | with_reducible exact nl_14 | with_reducible exact nl_200 | with_reducible exact rfl | apply i_add | apply i_mul)) (by omega) (by omega)).mp c57_15
        refine x_aload_n (n' := 61) dX9_ship_60 rfl rfl rfl ?_
        refine x_bipush (n' := 63) (v := -106) dX9_ship_61 (by decide) rfl ?_
        refine x_topv (y := -(nI (102 + 4))) (by decide) ?_
        refine x_callV (n' := 66) (n := 1) (K := 9) (c_X9_refused l G _ m ad (by repeat' (first | with_reducible exact hS | with_reducible apply MS.sA | with_reducible apply MS.sI | with_reducible apply MS.sL | with_reducible apply MS.sc)) 4 (by decide)) dX9_ship_63 (by repeat' (first | with_reducible exact km | with_reducible apply mK_A | with_reducible apply mK_I | with_reducible apply mK_L | with_reducible apply mK_R | with_reducible apply mK_O | with_reducible apply mK_S)) rfl (lw_V q3324 q3326 qs48 q109 q3327) (by decide +kernel) ⟨(Nat.le_of_ble_eq_true rfl), (Nat.le_of_ble_eq_true rfl)⟩ rfl rfl (Nat.le_of_ble_eq_true rfl) (by first | exact Nat.le_of_ble_eq_true rfl | omega) (by first | exact Nat.le_of_ble_eq_true rfl | omega) rfl (fun v_20 M_21 h_23 hE_22 => ?_)
        obtain ⟨rfl, hMs⟩ := h_23
        have hMs := hMs.symm
        subst hMs
        refine x_goto (tgt := 75) dX9_ship_66 (by decide) ?_
        exact x_iret dX9_ship_75 hret (by repeat' (first | with_reducible exact kE.rf | with_reducible exact kE_SS | with_reducible apply kE_A | with_reducible apply kE_I | with_reducible apply kE_L | with_reducible apply kE_R | with_reducible apply kE_O | with_reducible apply kE_S)) (by first | exact ⟨fun _ q => absurd q (by omega), fun _ _ => ⟨rfl, rfl⟩, fun q => absurd hok q⟩ | exact ⟨fun _ _ => ⟨rfl, rfl⟩, fun _ q => absurd q (by omega), fun q => absurd hok q⟩)
    · have C37 := c37_14
      refine x_aload_n (n' := 41) dX9_ship_40 rfl rfl rfl ?_
      refine x_bipush (n' := 43) (v := -102) dX9_ship_41 (by decide) rfl ?_
      refine x_topv (y := -(nI (102 + 0))) (by decide) ?_
      refine x_callV (n' := 46) (n := 1) (K := 9) (c_X9_refused l G _ m ad (by repeat' (first | with_reducible exact hS | with_reducible apply MS.sA | with_reducible apply MS.sI | with_reducible apply MS.sL | with_reducible apply MS.sc)) 0 (by decide)) dX9_ship_43 (by repeat' (first | with_reducible exact km | with_reducible apply mK_A | with_reducible apply mK_I | with_reducible apply mK_L | with_reducible apply mK_R | with_reducible apply mK_O | with_reducible apply mK_S)) rfl (lw_V q3324 q3326 qs48 q109 q3327) (by decide +kernel) ⟨(Nat.le_of_ble_eq_true rfl), (Nat.le_of_ble_eq_true rfl)⟩ rfl rfl (Nat.le_of_ble_eq_true rfl) (by first | exact Nat.le_of_ble_eq_true rfl | omega) (by first | exact Nat.le_of_ble_eq_true rfl | omega) rfl (fun v_24 M_25 h_27 hE_26 => ?_)
      obtain ⟨rfl, hMs⟩ := h_27
      have hMs := hMs.symm
      subst hMs
      exact x_iret dX9_ship_46 hret (by repeat' (first | with_reducible exact kE.rf | with_reducible exact kE_SS | with_reducible apply kE_A | with_reducible apply kE_I | with_reducible apply kE_L | with_reducible apply kE_R | with_reducible apply kE_O | with_reducible apply kE_S)) (⟨fun q => absurd q (by first | exact fun q => bi_0.mp C11 q.1 | exact fun q => bi_0.mp C37 q.2), fun q => absurd q (by first | exact fun q => bi_0.mp C11 q.1 | exact fun q => bi_0.mp C37 q.2), fun _ => ⟨rfl, rfl⟩⟩)

set_option maxHeartbeats 4000000 in
set_option maxRecDepth 100000 in
theorem c_X9_log (l : Launch) (G : kG) (M : kM) (m : Nat) (ad : Nat → Nat) (hS : MS M m ad) (k w : Int32) (nl : Nat) (hs : mA M (ad 0) 15 = nI nl) (hb : nl ≤ 400) : Kt l G yX9_log cX9_log 3 (some .int) 1 25 [.ref m, .int k, .int w] M (0) (0) (fun v M2 => ((0 ≤ k ∧ k < nI nl) ∧ (0 ≤ w ∧ w ≤ 3) → v = some (.int ((mA M (ad 0)) (909 + 4 * nn k + nn w))) ∧ M2 = M) ∧ (¬ ((0 ≤ k ∧ k < nI nl) ∧ (0 ≤ w ∧ w ≤ 3)) → v = some (.int (-(nI 102))) ∧ M2 = rfM M ad 0)) := by
  refine Kt.of (own := "KeptLightModel") (L := [some (.ref m), some (.int k), some (.int w)]) (by decide +kernel) rfl (Nat.le_of_ble_eq_true rfl) rfl ?_
  intro pp ee ss mm args below meth cd hmn hret
  have km := hS.1
  obtain ⟨hr_g, kk_g, hn_g⟩ := hS.2.1 0 (by decide)
  have hr_g : mR M (fc 9 0) m = some (ad 0) := hr_g
  have hn_g : mN M (ad 0) = 2509 := hn_g
  have kk_g : mK M (ad 0) = some 120 := kk_g
  refine x_iload_n (n' := 1) dX9_log_0 rfl rfl rfl ?_
  refine x_i2l (n' := 2) dX9_log_1 rfl rfl ?_
  refine x_lconst (n' := 3) (v := 0) dX9_log_2 (by decide) rfl ?_
  refine x_aload_n (n' := 4) dX9_log_3 rfl rfl rfl ?_
  refine x_getRs (n' := 7) (b := (ad 0)) dX9_log_4 (by repeat' (first | with_reducible exact km | with_reducible apply mK_A | with_reducible apply mK_I | with_reducible apply mK_L | with_reducible apply mK_R | with_reducible apply mK_O | with_reducible apply mK_S)) ffX9_9_9 rfl (by repeat' (first | with_reducible exact hr_g | with_reducible apply mR_A | with_reducible apply mR_I | with_reducible apply mR_L | with_reducible apply mR_S)) rfl ?_
  refine x_bipush (n' := 9) (v := 15) dX9_log_7 (by decide) rfl ?_
  refine x_ildk (n' := 10) (N := 2509) dX9_log_9 (by repeat' (first | with_reducible exact kk_g | with_reducible apply mK_A | with_reducible apply mK_I | with_reducible apply mK_L | with_reducible apply mK_R | with_reducible apply mK_O | with_reducible apply mK_S)) (by repeat' (first | with_reducible exact hn_g | with_reducible apply mN_A | with_reducible apply mN_I | with_reducible apply mN_L | with_reducible apply mN_R | with_reducible apply mN_O | with_reducible apply mN_S)) (by repeat' (first | with_reducible exact nl_0 | with_reducible exact nl_1 | with_reducible exact nl_4 | with_reducible exact nl_15 | with_reducible exact nl_909 | with_reducible exact rfl | apply i_add | apply i_mul)) (by omega) (by decide) (by first | with_reducible exact hs | (simp (disch := omega) only [mA_sA, mA_sI, mA_SC0, mA_SC1 hS, mA_SC5 hS, mA_SC6 hS, mA_SC10 hS, mA_SC11 hS, mA_SC12 hS, up_s, up_n, hs, if_false] <;> rfl) | rfl) rfl ?_
  refine x_iconst (n' := 11) (v := 1) dX9_log_10 (by decide) rfl ?_
  refine x_isub (n' := 12) dX9_log_11 rfl ?_
  refine x_i2l (n' := 13) dX9_log_12 rfl rfl ?_
  refine x_callS (n' := 16) (n := 3) (c_X9_in l G _ _ _ _) dX9_log_13 (lw_S q3321 q3322 q109 q3323) (by decide +kernel) ⟨(Nat.le_of_ble_eq_true rfl), (Nat.le_of_ble_eq_true rfl)⟩ rfl rfl (Nat.le_of_ble_eq_true rfl) (by first | exact Nat.le_of_ble_eq_true rfl | omega) (by first | exact Nat.le_of_ble_eq_true rfl | omega) rfl (fun v_1 M_2 h_4 hE_3 => ?_)
  obtain ⟨rfl, hMs⟩ := h_4
  have hMs := hMs.symm
  subst hMs
  rw [k_in1 k (n := nl) (by omega)]
  refine x_if_eq (n' := 19) (tgt := 48) dX9_log_16 (by decide) rfl (fun c16_5 => ?_) (fun c16_5 => ?_)
  · have C16 := c16_5
    refine x_aload_n (n' := 49) dX9_log_48 rfl rfl rfl ?_
    refine x_bipush (n' := 51) (v := -102) dX9_log_49 (by decide) rfl ?_
    refine x_topv (y := -(nI (102 + 0))) (by decide) ?_
    refine x_callV (n' := 54) (n := 1) (K := 9) (c_X9_refused l G _ m ad (by repeat' (first | with_reducible exact hS | with_reducible apply MS.sA | with_reducible apply MS.sI | with_reducible apply MS.sL | with_reducible apply MS.sc)) 0 (by decide)) dX9_log_51 (by repeat' (first | with_reducible exact km | with_reducible apply mK_A | with_reducible apply mK_I | with_reducible apply mK_L | with_reducible apply mK_R | with_reducible apply mK_O | with_reducible apply mK_S)) rfl (lw_V q3324 q3326 qs48 q109 q3327) (by decide +kernel) ⟨(Nat.le_of_ble_eq_true rfl), (Nat.le_of_ble_eq_true rfl)⟩ rfl rfl (Nat.le_of_ble_eq_true rfl) (by first | exact Nat.le_of_ble_eq_true rfl | omega) (by first | exact Nat.le_of_ble_eq_true rfl | omega) rfl (fun v_6 M_7 h_9 hE_8 => ?_)
    obtain ⟨rfl, hMs⟩ := h_9
    have hMs := hMs.symm
    subst hMs
    exact x_iret dX9_log_54 hret (by repeat' (first | with_reducible exact kE.rf | with_reducible exact kE_SS | with_reducible apply kE_A | with_reducible apply kE_I | with_reducible apply kE_L | with_reducible apply kE_R | with_reducible apply kE_O | with_reducible apply kE_S)) (by first | exact ⟨fun _ => ⟨rfl, rfl⟩, fun q => absurd hok q⟩ | exact ⟨fun q => absurd q.1 (bi_0.mp C16), fun _ => ⟨rfl, rfl⟩⟩ | exact ⟨fun q => absurd q.2 (bi_0.mp C28), fun _ => ⟨rfl, rfl⟩⟩)
  · have C16 := c16_5
    refine x_iload_n (n' := 20) dX9_log_19 rfl rfl rfl ?_
    refine x_i2l (n' := 21) dX9_log_20 rfl rfl ?_
    refine x_lconst (n' := 22) (v := 0) dX9_log_21 (by decide) rfl ?_
    refine x_ldc2 (n' := 25) q3385 dX9_log_22 rfl ?_
    refine x_callS (n' := 28) (n := 3) (c_X9_in l G _ _ _ _) dX9_log_25 (lw_S q3321 q3322 q109 q3323) (by decide +kernel) ⟨(Nat.le_of_ble_eq_true rfl), (Nat.le_of_ble_eq_true rfl)⟩ rfl rfl (Nat.le_of_ble_eq_true rfl) (by first | exact Nat.le_of_ble_eq_true rfl | omega) (by first | exact Nat.le_of_ble_eq_true rfl | omega) rfl (fun v_10 M_11 h_13 hE_12 => ?_)
    obtain ⟨rfl, hMs⟩ := h_13
    have hMs := hMs.symm
    subst hMs
    rw [k_in3 (x := 0) (y := 3) (by decide) (by decide)]
    refine x_if_eq (n' := 31) (tgt := 48) dX9_log_28 (by decide) rfl (fun c28_14 => ?_) (fun c28_14 => ?_)
    · have C28 := c28_14
      refine x_aload_n (n' := 49) dX9_log_48 rfl rfl rfl ?_
      refine x_bipush (n' := 51) (v := -102) dX9_log_49 (by decide) rfl ?_
      refine x_topv (y := -(nI (102 + 0))) (by decide) ?_
      refine x_callV (n' := 54) (n := 1) (K := 9) (c_X9_refused l G _ m ad (by repeat' (first | with_reducible exact hS | with_reducible apply MS.sA | with_reducible apply MS.sI | with_reducible apply MS.sL | with_reducible apply MS.sc)) 0 (by decide)) dX9_log_51 (by repeat' (first | with_reducible exact km | with_reducible apply mK_A | with_reducible apply mK_I | with_reducible apply mK_L | with_reducible apply mK_R | with_reducible apply mK_O | with_reducible apply mK_S)) rfl (lw_V q3324 q3326 qs48 q109 q3327) (by decide +kernel) ⟨(Nat.le_of_ble_eq_true rfl), (Nat.le_of_ble_eq_true rfl)⟩ rfl rfl (Nat.le_of_ble_eq_true rfl) (by first | exact Nat.le_of_ble_eq_true rfl | omega) (by first | exact Nat.le_of_ble_eq_true rfl | omega) rfl (fun v_15 M_16 h_18 hE_17 => ?_)
      obtain ⟨rfl, hMs⟩ := h_18
      have hMs := hMs.symm
      subst hMs
      exact x_iret dX9_log_54 hret (by repeat' (first | with_reducible exact kE.rf | with_reducible exact kE_SS | with_reducible apply kE_A | with_reducible apply kE_I | with_reducible apply kE_L | with_reducible apply kE_R | with_reducible apply kE_O | with_reducible apply kE_S)) (by first | exact ⟨fun _ => ⟨rfl, rfl⟩, fun q => absurd hok q⟩ | exact ⟨fun q => absurd q.1 (bi_0.mp C16), fun _ => ⟨rfl, rfl⟩⟩ | exact ⟨fun q => absurd q.2 (bi_0.mp C28), fun _ => ⟨rfl, rfl⟩⟩)
    · have C28 := c28_14
      have hok : (0 ≤ k ∧ k < nI nl) ∧ (0 ≤ w ∧ w ≤ 3) := ⟨bi_n0 C16, bi_n0 C28⟩
      have hn8 := nn_le (n := 3) hok.2.1 hok.2.2 (by decide)
      have hn7 := nn_ltn hok.1.1 hok.1.2 (by omega)
      refine x_loc (i := 1) rfl (nn_of hok.1.1) (by dsimp only [List.set] <;> rfl) ?_
      refine x_loc (i := 2) rfl (nn_of hok.2.1) (by dsimp only [List.set] <;> rfl) ?_
      refine x_aload_n (n' := 32) dX9_log_31 rfl rfl rfl ?_
      refine x_getRs (n' := 35) (b := (ad 0)) dX9_log_32 (by repeat' (first | with_reducible exact km | with_reducible apply mK_A | with_reducible apply mK_I | with_reducible apply mK_L | with_reducible apply mK_R | with_reducible apply mK_O | with_reducible apply mK_S)) ffX9_9_9 rfl (by repeat' (first | with_reducible exact hr_g | with_reducible apply mR_A | with_reducible apply mR_I | with_reducible apply mR_L | with_reducible apply mR_S)) rfl ?_
      refine x_sipush (n' := 38) (v := 909) dX9_log_35 (by decide) rfl ?_
      refine x_iconst (n' := 39) (v := 4) dX9_log_38 (by decide) rfl ?_
      refine x_iload_n (n' := 40) dX9_log_39 rfl rfl rfl ?_
      refine x_imul (n' := 41) dX9_log_40 rfl ?_
      refine x_iadd (n' := 42) dX9_log_41 rfl ?_
      refine x_iload_n (n' := 43) dX9_log_42 rfl rfl rfl ?_
      refine x_iadd (n' := 44) dX9_log_43 rfl ?_
      refine x_ildk (n' := 45) (N := 2509) dX9_log_44 (by repeat' (first | with_reducible exact kk_g | with_reducible apply mK_A | with_reducible apply mK_I | with_reducible apply mK_L | with_reducible apply mK_R | with_reducible apply mK_O | with_reducible apply mK_S)) (by repeat' (first | with_reducible exact hn_g | with_reducible apply mN_A | with_reducible apply mN_I | with_reducible apply mN_L | with_reducible apply mN_R | with_reducible apply mN_O | with_reducible apply mN_S)) (by repeat' (first | with_reducible exact nl_0 | with_reducible exact nl_1 | with_reducible exact nl_4 | with_reducible exact nl_15 | with_reducible exact nl_909 | with_reducible exact rfl | apply i_add | apply i_mul)) (by omega) (by decide) (by first | with_reducible exact hs | (simp (disch := omega) only [mA_sA, mA_sI, mA_SC0, mA_SC1 hS, mA_SC5 hS, mA_SC6 hS, mA_SC10 hS, mA_SC11 hS, mA_SC12 hS, up_s, up_n, hs, if_false] <;> rfl) | rfl) rfl ?_
      refine x_goto (tgt := 54) dX9_log_45 (by decide) ?_
      exact x_iret dX9_log_54 hret (by repeat' (first | with_reducible exact kE.rf | with_reducible exact kE_SS | with_reducible apply kE_A | with_reducible apply kE_I | with_reducible apply kE_L | with_reducible apply kE_R | with_reducible apply kE_O | with_reducible apply kE_S)) (by first | exact ⟨fun _ => ⟨rfl, rfl⟩, fun q => absurd hok q⟩ | exact ⟨fun q => absurd q.1 (bi_0.mp C16), fun _ => ⟨rfl, rfl⟩⟩ | exact ⟨fun q => absurd q.2 (bi_0.mp C28), fun _ => ⟨rfl, rfl⟩⟩)

set_option maxHeartbeats 4000000 in
set_option maxRecDepth 100000 in
theorem c_X9_keeperOf (l : Launch) (G : kG) (M : kM) (m : Nat) (ad : Nat → Nat) (hS : MS M m ad) (k w : Int32) (nk : Nat) (hnk : mA M (ad 0) 13 = nI nk) (h6 : nk ≤ 6) : Kt l G yX9_keeperOf cX9_keeperOf 3 (some .int) 2 46 [.ref m, .int k, .int w] M (0) (0) (fun v M2 => ((0 ≤ k ∧ k < nI nk) ∧ (0 ≤ w ∧ w ≤ 5) → v = some (.int (kofG (mA M (ad 0)) (nn k) w)) ∧ M2 = M) ∧ (¬ ((0 ≤ k ∧ k < nI nk) ∧ (0 ≤ w ∧ w ≤ 5)) → v = some (.int (-(nI 102))) ∧ M2 = rfM M ad 0)) := by
  refine Kt.of (own := "KeptLightModel") (L := [some (.ref m), some (.int k), some (.int w)]) (by decide +kernel) rfl (Nat.le_of_ble_eq_true rfl) rfl ?_
  intro pp ee ss mm args below meth cd hmn hret
  have km := hS.1
  refine x_aload_n (n' := 1) dX9_keeperOf_0 rfl rfl rfl ?_
  refine x_iload_n (n' := 2) dX9_keeperOf_1 rfl rfl rfl ?_
  refine x_callV (n' := 5) (n := 1) (K := 9) (c_X9_isKeeper l G _ m ad hS k nk hnk (by omega)) dX9_keeperOf_2 (by repeat' (first | with_reducible exact km | with_reducible apply mK_A | with_reducible apply mK_I | with_reducible apply mK_L | with_reducible apply mK_R | with_reducible apply mK_O | with_reducible apply mK_S)) rfl (lw_V q3356 q3358 qs51 q109 q3359) (by decide +kernel) ⟨(Nat.le_of_ble_eq_true rfl), (Nat.le_of_ble_eq_true rfl)⟩ rfl rfl (Nat.le_of_ble_eq_true rfl) (by first | exact Nat.le_of_ble_eq_true rfl | omega) (by first | exact Nat.le_of_ble_eq_true rfl | omega) rfl (fun v_1 M_2 h_4 hE_3 => ?_)
  obtain ⟨rfl, hMs⟩ := h_4
  have hMs := hMs.symm
  subst hMs
  refine x_if_eq (n' := 8) (tgt := 20) dX9_keeperOf_5 (by decide) rfl (fun c5_5 => ?_) (fun c5_5 => ?_)
  · have C5 := c5_5
    refine x_aload_n (n' := 21) dX9_keeperOf_20 rfl rfl rfl ?_
    refine x_bipush (n' := 23) (v := -102) dX9_keeperOf_21 (by decide) rfl ?_
    refine x_topv (y := -(nI (102 + 0))) (by decide) ?_
    refine x_callV (n' := 26) (n := 1) (K := 9) (c_X9_refused l G _ m ad hS 0 (by decide)) dX9_keeperOf_23 (by repeat' (first | with_reducible exact km | with_reducible apply mK_A | with_reducible apply mK_I | with_reducible apply mK_L | with_reducible apply mK_R | with_reducible apply mK_O | with_reducible apply mK_S)) rfl (lw_V q3324 q3326 qs48 q109 q3327) (by decide +kernel) ⟨(Nat.le_of_ble_eq_true rfl), (Nat.le_of_ble_eq_true rfl)⟩ rfl rfl (Nat.le_of_ble_eq_true rfl) (by first | exact Nat.le_of_ble_eq_true rfl | omega) (by first | exact Nat.le_of_ble_eq_true rfl | omega) rfl (fun v_6 M_7 h_9 hE_8 => ?_)
    obtain ⟨rfl, hMs⟩ := h_9
    have hMs := hMs.symm
    subst hMs
    exact x_iret dX9_keeperOf_26 hret (by repeat' (first | with_reducible exact kE.rf | with_reducible exact kE_SS | with_reducible apply kE_A | with_reducible apply kE_I | with_reducible apply kE_L | with_reducible apply kE_R | with_reducible apply kE_O | with_reducible apply kE_S)) (⟨fun q => absurd q (by first | exact fun q => bi_0.mp C5 q.1 | exact fun q => bi_0.mp C17 q.2), fun _ => ⟨rfl, rfl⟩⟩)
  · have C5 := c5_5
    refine x_iload_n (n' := 9) dX9_keeperOf_8 rfl rfl rfl ?_
    refine x_i2l (n' := 10) dX9_keeperOf_9 rfl rfl ?_
    refine x_lconst (n' := 11) (v := 0) dX9_keeperOf_10 (by decide) rfl ?_
    refine x_ldc2 (n' := 14) q3473 dX9_keeperOf_11 rfl ?_
    refine x_callS (n' := 17) (n := 3) (c_X9_in l G _ _ _ _) dX9_keeperOf_14 (lw_S q3321 q3322 q109 q3323) (by decide +kernel) ⟨(Nat.le_of_ble_eq_true rfl), (Nat.le_of_ble_eq_true rfl)⟩ rfl rfl (Nat.le_of_ble_eq_true rfl) (by first | exact Nat.le_of_ble_eq_true rfl | omega) (by first | exact Nat.le_of_ble_eq_true rfl | omega) rfl (fun v_10 M_11 h_13 hE_12 => ?_)
    obtain ⟨rfl, hMs⟩ := h_13
    have hMs := hMs.symm
    subst hMs
    rw [k_in3 (x := 0) (y := 5) (by decide) (by decide)]
    refine x_if_ne (n' := 20) (tgt := 27) dX9_keeperOf_17 (by decide) rfl (fun c17_14 => ?_) (fun c17_14 => ?_)
    · have C17 := c17_14
      have hok : (0 ≤ k ∧ k < nI nk) ∧ (0 ≤ w ∧ w ≤ 5) := ⟨bi_n0 C5, bi_n0 C17⟩
      have hn8 := nn_le (n := 5) hok.2.1 hok.2.2 (by decide)
      have hn7 := nn_ltn hok.1.1 hok.1.2 (by omega)
      refine x_loc (i := 1) rfl (nn_of hok.1.1) (by dsimp only [List.set] <;> rfl) ?_
      refine x_iload_n (n' := 28) dX9_keeperOf_27 rfl rfl rfl ?_
      by_cases c28_16 : w = 0
      · refine x_tableIn (off := 32) (tgt := 60) dX9_keeperOf_28 (by rw [c28_16]; decide) (by rw [c28_16]; decide) (by rw [c28_16]; decide) (by decide) ?_
        refine x_aload_n (n' := 61) dX9_keeperOf_60 rfl rfl rfl ?_
        refine x_iload_n (n' := 62) dX9_keeperOf_61 rfl rfl rfl ?_
        refine x_iload_n (n' := 63) dX9_keeperOf_62 rfl rfl rfl ?_
        refine x_topv (nn_of hok.2.1) ?_
        refine x_callV (n' := 66) (n := 2) (K := 9) (c_X9_ofKeeper l G _ m ad hS (nn k) (nn w) (by omega)) dX9_keeperOf_63 (by repeat' (first | with_reducible exact km | with_reducible apply mK_A | with_reducible apply mK_I | with_reducible apply mK_L | with_reducible apply mK_R | with_reducible apply mK_O | with_reducible apply mK_S)) rfl (lw_V q3421 q3423 qs59 q109 q3424) (by decide +kernel) ⟨(Nat.le_of_ble_eq_true rfl), (Nat.le_of_ble_eq_true rfl)⟩ rfl rfl (Nat.le_of_ble_eq_true rfl) (by first | exact Nat.le_of_ble_eq_true rfl | omega) (by first | exact Nat.le_of_ble_eq_true rfl | omega) rfl (fun v_17 M_18 h_20 hE_19 => ?_)
        obtain ⟨rfl, hMs⟩ := h_20
        have hMs := hMs.symm
        subst hMs
        exact x_iret dX9_keeperOf_66 hret (by repeat' (first | with_reducible exact kE.rf | with_reducible exact kE_SS | with_reducible apply kE_A | with_reducible apply kE_I | with_reducible apply kE_L | with_reducible apply kE_R | with_reducible apply kE_O | with_reducible apply kE_S)) (⟨fun _ => ⟨congrArg (fun z => some (Value.int z)) (kof_a (by first | exact Or.inl (by assumption) | exact Or.inr (by assumption))), rfl⟩, fun q => absurd hok q⟩)
      by_cases c28_21 : w = 1
      · refine x_tableIn (off := 32) (tgt := 60) dX9_keeperOf_28 (by rw [c28_21]; decide) (by rw [c28_21]; decide) (by rw [c28_21]; decide) (by decide) ?_
        refine x_aload_n (n' := 61) dX9_keeperOf_60 rfl rfl rfl ?_
        refine x_iload_n (n' := 62) dX9_keeperOf_61 rfl rfl rfl ?_
        refine x_iload_n (n' := 63) dX9_keeperOf_62 rfl rfl rfl ?_
        refine x_topv (nn_of hok.2.1) ?_
        refine x_callV (n' := 66) (n := 2) (K := 9) (c_X9_ofKeeper l G _ m ad hS (nn k) (nn w) (by omega)) dX9_keeperOf_63 (by repeat' (first | with_reducible exact km | with_reducible apply mK_A | with_reducible apply mK_I | with_reducible apply mK_L | with_reducible apply mK_R | with_reducible apply mK_O | with_reducible apply mK_S)) rfl (lw_V q3421 q3423 qs59 q109 q3424) (by decide +kernel) ⟨(Nat.le_of_ble_eq_true rfl), (Nat.le_of_ble_eq_true rfl)⟩ rfl rfl (Nat.le_of_ble_eq_true rfl) (by first | exact Nat.le_of_ble_eq_true rfl | omega) (by first | exact Nat.le_of_ble_eq_true rfl | omega) rfl (fun v_22 M_23 h_25 hE_24 => ?_)
        obtain ⟨rfl, hMs⟩ := h_25
        have hMs := hMs.symm
        subst hMs
        exact x_iret dX9_keeperOf_66 hret (by repeat' (first | with_reducible exact kE.rf | with_reducible exact kE_SS | with_reducible apply kE_A | with_reducible apply kE_I | with_reducible apply kE_L | with_reducible apply kE_R | with_reducible apply kE_O | with_reducible apply kE_S)) (⟨fun _ => ⟨congrArg (fun z => some (Value.int z)) (kof_a (by first | exact Or.inl (by assumption) | exact Or.inr (by assumption))), rfl⟩, fun q => absurd hok q⟩)
      by_cases c28_26 : w = 2
      · refine x_tableIn (off := 39) (tgt := 67) dX9_keeperOf_28 (by rw [c28_26]; decide) (by rw [c28_26]; decide) (by rw [c28_26]; decide) (by decide) ?_
        refine x_aload_n (n' := 68) dX9_keeperOf_67 rfl rfl rfl ?_
        refine x_iload_n (n' := 69) dX9_keeperOf_68 rfl rfl rfl ?_
        refine x_callV (n' := 72) (n := 1) (K := 9) (c_X9_lasts l G _ m ad hS (nn k) (by omega)) dX9_keeperOf_69 (by repeat' (first | with_reducible exact km | with_reducible apply mK_A | with_reducible apply mK_I | with_reducible apply mK_L | with_reducible apply mK_R | with_reducible apply mK_O | with_reducible apply mK_S)) rfl (lw_V q3425 q3427 qs60 q109 q3428) (by decide +kernel) ⟨(Nat.le_of_ble_eq_true rfl), (Nat.le_of_ble_eq_true rfl)⟩ rfl rfl (Nat.le_of_ble_eq_true rfl) (by first | exact Nat.le_of_ble_eq_true rfl | omega) (by first | exact Nat.le_of_ble_eq_true rfl | omega) rfl (fun v_27 M_28 h_30 hE_29 => ?_)
        obtain ⟨rfl, hMs⟩ := h_30
        have hMs := hMs.symm
        subst hMs
        exact x_iret dX9_keeperOf_72 hret (by repeat' (first | with_reducible exact kE.rf | with_reducible exact kE_SS | with_reducible apply kE_A | with_reducible apply kE_I | with_reducible apply kE_L | with_reducible apply kE_R | with_reducible apply kE_O | with_reducible apply kE_S)) (⟨fun _ => ⟨congrArg (fun z => some (Value.int z)) (kof_b (by assumption)), rfl⟩, fun q => absurd hok q⟩)
      by_cases c28_31 : w = 3
      · refine x_tableIn (off := 45) (tgt := 73) dX9_keeperOf_28 (by rw [c28_31]; decide) (by rw [c28_31]; decide) (by rw [c28_31]; decide) (by decide) ?_
        refine x_aload_n (n' := 74) dX9_keeperOf_73 rfl rfl rfl ?_
        refine x_iload_n (n' := 75) dX9_keeperOf_74 rfl rfl rfl ?_
        refine x_callV (n' := 78) (n := 1) (K := 9) (c_X9_hoursOf l G _ m ad hS (nI (nn k))) dX9_keeperOf_75 (by repeat' (first | with_reducible exact km | with_reducible apply mK_A | with_reducible apply mK_I | with_reducible apply mK_L | with_reducible apply mK_R | with_reducible apply mK_O | with_reducible apply mK_S)) rfl (lw_V q3474 q3476 qs67 q109 q3477) (by decide +kernel) ⟨(Nat.le_of_ble_eq_true rfl), (Nat.le_of_ble_eq_true rfl)⟩ rfl rfl (Nat.le_of_ble_eq_true rfl) (by first | exact Nat.le_of_ble_eq_true rfl | omega) (by first | exact Nat.le_of_ble_eq_true rfl | omega) rfl (fun v_32 M_33 h_35 hE_34 => ?_)
        obtain ⟨rfl, hMs⟩ := h_35
        have hMs := hMs.symm
        subst hMs
        exact x_iret dX9_keeperOf_78 hret (by repeat' (first | with_reducible exact kE.rf | with_reducible exact kE_SS | with_reducible apply kE_A | with_reducible apply kE_I | with_reducible apply kE_L | with_reducible apply kE_R | with_reducible apply kE_O | with_reducible apply kE_S)) (⟨fun _ => ⟨congrArg (fun z => some (Value.int z)) (kof_c (by assumption)), rfl⟩, fun q => absurd hok q⟩)
      refine x_tableOut (tgt := 79) dX9_keeperOf_28 (sw_out (n := 4) (by decide) (by decide) (fun j hj => by rcases (show j = 0 ∨ j = 1 ∨ j = 2 ∨ j = 3 by omega) with rfl | rfl | rfl | rfl <;> assumption)) (by decide) ?_
      refine x_aload_n (n' := 80) dX9_keeperOf_79 rfl rfl rfl ?_
      refine x_iload_n (n' := 81) dX9_keeperOf_80 rfl rfl rfl ?_
      refine x_iload_n (n' := 82) dX9_keeperOf_81 rfl rfl rfl ?_
      refine x_iconst (n' := 83) (v := 2) dX9_keeperOf_82 (by decide) rfl ?_
      refine x_isub (n' := 84) dX9_keeperOf_83 rfl ?_
      refine x_topv (y := nI (nn w - 2)) (kof_sub hok.2.1 (by assumption) (by assumption)) ?_
      refine x_callV (n' := 87) (n := 2) (K := 9) (c_X9_ofKeeper l G _ m ad hS (nn k) (nn w - 2) (by omega)) dX9_keeperOf_84 (by repeat' (first | with_reducible exact km | with_reducible apply mK_A | with_reducible apply mK_I | with_reducible apply mK_L | with_reducible apply mK_R | with_reducible apply mK_O | with_reducible apply mK_S)) rfl (lw_V q3421 q3423 qs59 q109 q3424) (by decide +kernel) ⟨(Nat.le_of_ble_eq_true rfl), (Nat.le_of_ble_eq_true rfl)⟩ rfl rfl (Nat.le_of_ble_eq_true rfl) (by first | exact Nat.le_of_ble_eq_true rfl | omega) (by first | exact Nat.le_of_ble_eq_true rfl | omega) rfl (fun v_36 M_37 h_39 hE_38 => ?_)
      obtain ⟨rfl, hMs⟩ := h_39
      have hMs := hMs.symm
      subst hMs
      exact x_iret dX9_keeperOf_87 hret (by repeat' (first | with_reducible exact kE.rf | with_reducible exact kE_SS | with_reducible apply kE_A | with_reducible apply kE_I | with_reducible apply kE_L | with_reducible apply kE_R | with_reducible apply kE_O | with_reducible apply kE_S)) (⟨fun _ => ⟨congrArg (fun z => some (Value.int z)) (kof_d hok.2.1 hok.2.2 (by assumption) (by assumption) (by assumption) (by assumption)), rfl⟩, fun q => absurd hok q⟩)
    · have C17 := c17_14
      refine x_aload_n (n' := 21) dX9_keeperOf_20 rfl rfl rfl ?_
      refine x_bipush (n' := 23) (v := -102) dX9_keeperOf_21 (by decide) rfl ?_
      refine x_topv (y := -(nI (102 + 0))) (by decide) ?_
      refine x_callV (n' := 26) (n := 1) (K := 9) (c_X9_refused l G _ m ad hS 0 (by decide)) dX9_keeperOf_23 (by repeat' (first | with_reducible exact km | with_reducible apply mK_A | with_reducible apply mK_I | with_reducible apply mK_L | with_reducible apply mK_R | with_reducible apply mK_O | with_reducible apply mK_S)) rfl (lw_V q3324 q3326 qs48 q109 q3327) (by decide +kernel) ⟨(Nat.le_of_ble_eq_true rfl), (Nat.le_of_ble_eq_true rfl)⟩ rfl rfl (Nat.le_of_ble_eq_true rfl) (by first | exact Nat.le_of_ble_eq_true rfl | omega) (by first | exact Nat.le_of_ble_eq_true rfl | omega) rfl (fun v_40 M_41 h_43 hE_42 => ?_)
      obtain ⟨rfl, hMs⟩ := h_43
      have hMs := hMs.symm
      subst hMs
      exact x_iret dX9_keeperOf_26 hret (by repeat' (first | with_reducible exact kE.rf | with_reducible exact kE_SS | with_reducible apply kE_A | with_reducible apply kE_I | with_reducible apply kE_L | with_reducible apply kE_R | with_reducible apply kE_O | with_reducible apply kE_S)) (⟨fun q => absurd q (by first | exact fun q => bi_0.mp C5 q.1 | exact fun q => bi_0.mp C17 q.2), fun _ => ⟨rfl, rfl⟩⟩)

set_option maxHeartbeats 4000000 in
set_option maxRecDepth 100000 in
theorem c_X9_difference (l : Launch) (G : kG) (M : kM) (m : Nat) (ad : Nat → Nat) (hS : MS M m ad) (a w : Int32) (ns nl : Nat) (hs : mA M (ad 0) 14 = nI ns) (hb : ns ≤ 200) (hl : mA M (ad 0) 15 = nI nl) (hb2 : nl ≤ 400) : Kt l G yX9_difference cX9_difference 6 (some .int) 3 73 [.ref m, .int a, .int w] M (0) (0) (fun v M2 => (∀ y, (difG (mA M (ad 0)) ns nl a w) = some y → v = some (.int y) ∧ M2 = M) ∧ ((difG (mA M (ad 0)) ns nl a w) = none → v = some (.int (-(nI 102))) ∧ M2 = rfM M ad 0)) := by
  refine Kt.of (own := "KeptLightModel") (L := [some (.ref m), some (.int a), some (.int w), none, none, none]) (by decide +kernel) rfl (Nat.le_of_ble_eq_true rfl) rfl ?_
  intro pp ee ss mm args below meth cd hmn hret
  have km := hS.1
  obtain ⟨hr_g, kk_g, hn_g⟩ := hS.2.1 0 (by decide)
  have hr_g : mR M (fc 9 0) m = some (ad 0) := hr_g
  have hn_g : mN M (ad 0) = 2509 := hn_g
  have kk_g : mK M (ad 0) = some 120 := kk_g
  have cut28 : ∀ (fuel : Nat) (k : Nat) (h1 : nl - k < fuel) (h2 : k ≤ nl) (h3 : (dfL (mA M (ad 0)) ns k).length ≤ nn a) (hw : 0 ≤ w ∧ w ≤ 2) (ha : 0 ≤ a), Wx pp l ee { frames := 3, cells := 0, slots := 0, locals := 73 } ss mm args below meth cd "KeptLightModel" cX9_difference 6 G (MQ below (KQ G M (fun v M2 => (∀ y, (difG (mA M (ad 0)) ns nl a w) = some y → v = some (.int y) ∧ M2 = M) ∧ ((difG (mA M (ad 0)) ns nl a w) = none → v = some (.int (-(nI 102))) ∧ M2 = rfM M ad 0))) args ss (0) (0) (kA G)) 28 [some (.ref m), some (.int (nI (nn a))), some (.int w), some (.int (nI (dfL (mA M (ad 0)) ns k).length)), some (.int (nI k)), none] [] (M) (0) (0) := by
    intro fuel
    induction fuel with
    | zero => intro k h1 h2 h3 hw ha; omega
    | succ fuel ih =>
      intro k h1 h2 h3 hw ha
      have hn9 := nn_lt a
      have hl9 := dfL_len (mA M (ad 0)) ns k
      refine x_iload (n' := 30) dX9_difference_28 rfl rfl ?_
      refine x_aload_n (n' := 31) dX9_difference_30 rfl rfl rfl ?_
      refine x_getRs (n' := 34) (b := (ad 0)) dX9_difference_31 (by repeat' (first | with_reducible exact km | with_reducible apply mK_A | with_reducible apply mK_I | with_reducible apply mK_L | with_reducible apply mK_R | with_reducible apply mK_O | with_reducible apply mK_S)) ffX9_9_9 rfl (by repeat' (first | with_reducible exact hr_g | with_reducible apply mR_A | with_reducible apply mR_I | with_reducible apply mR_L | with_reducible apply mR_S)) rfl ?_
      refine x_bipush (n' := 36) (v := 15) dX9_difference_34 (by decide) rfl ?_
      refine x_ildk (n' := 37) (N := 2509) dX9_difference_36 (by repeat' (first | with_reducible exact kk_g | with_reducible apply mK_A | with_reducible apply mK_I | with_reducible apply mK_L | with_reducible apply mK_R | with_reducible apply mK_O | with_reducible apply mK_S)) (by repeat' (first | with_reducible exact hn_g | with_reducible apply mN_A | with_reducible apply mN_I | with_reducible apply mN_L | with_reducible apply mN_R | with_reducible apply mN_O | with_reducible apply mN_S)) (by repeat' (first | with_reducible exact nl_0 | with_reducible exact nl_1 | with_reducible exact nl_3 | with_reducible exact nl_4 | with_reducible exact nl_15 | with_reducible exact nl_909 | with_reducible exact rfl | apply i_add | apply i_mul)) (by omega) (by decide) (by first | with_reducible exact hl | with_reducible exact hs | (simp (disch := omega) only [mA_sA, mA_sI, mA_SC0, mA_SC1 hS, mA_SC5 hS, mA_SC6 hS, mA_SC10 hS, mA_SC11 hS, mA_SC12 hS, up_s, up_n, hl, hs, if_false] <;> rfl) | rfl) rfl ?_
      refine x_icmp_ge (n' := 40) (tgt := 113) dX9_difference_37 (by decide) rfl (fun c37_1 => ?_) (fun c37_1 => ?_)
      · have n_c37_1 := (cv_le (by repeat' (first | with_reducible exact nl_0 | with_reducible exact nl_1 | with_reducible exact nl_3 | with_reducible exact nl_4 | with_reducible exact nl_15 | with_reducible exact nl_909 | with_reducible exact rfl | apply i_add | apply i_mul)) (by repeat' (first | with_reducible exact nl_0 | with_reducible exact nl_1 | with_reducible exact nl_3 | with_reducible exact nl_4 | with_reducible exact nl_15 | with_reducible exact nl_909 | with_reducible exact rfl | apply i_add | apply i_mul)) (by omega) (by omega)).mp c37_1
        refine x_aload_n (n' := 114) dX9_difference_113 rfl rfl rfl ?_
        refine x_bipush (n' := 116) (v := -102) dX9_difference_114 (by decide) rfl ?_
        refine x_topv (y := -(nI (102 + 0))) (by decide) ?_
        refine x_callV (n' := 119) (n := 1) (K := 9) (c_X9_refused l G _ m ad (by repeat' (first | with_reducible exact hS | with_reducible apply MS.sA | with_reducible apply MS.sI | with_reducible apply MS.sL | with_reducible apply MS.sc)) 0 (by decide)) dX9_difference_116 (by repeat' (first | with_reducible exact km | with_reducible apply mK_A | with_reducible apply mK_I | with_reducible apply mK_L | with_reducible apply mK_R | with_reducible apply mK_O | with_reducible apply mK_S)) rfl (lw_V q3324 q3326 qs48 q109 q3327) (by decide +kernel) ⟨(Nat.le_of_ble_eq_true rfl), (Nat.le_of_ble_eq_true rfl)⟩ rfl rfl (Nat.le_of_ble_eq_true rfl) (by first | exact Nat.le_of_ble_eq_true rfl | omega) (by first | exact Nat.le_of_ble_eq_true rfl | omega) rfl (fun v_2 M_3 h_5 hE_4 => ?_)
        obtain ⟨rfl, hMs⟩ := h_5
        have hMs := hMs.symm
        subst hMs
        exact x_iret dX9_difference_119 hret (by repeat' (first | with_reducible exact kE.rf | with_reducible exact kE_SS | with_reducible apply kE_A | with_reducible apply kE_I | with_reducible apply kE_L | with_reducible apply kE_R | with_reducible apply kE_O | with_reducible apply kE_S)) (⟨fun y q => (by rw [difG_c hw ha (by rw [show nl = k by omega]; exact h3)] at q; exact nomatch q), fun _ => ⟨rfl, rfl⟩⟩)
      · have n_c37_1 := (not_congr (cv_le (by repeat' (first | with_reducible exact nl_0 | with_reducible exact nl_1 | with_reducible exact nl_3 | with_reducible exact nl_4 | with_reducible exact nl_15 | with_reducible exact nl_909 | with_reducible exact rfl | apply i_add | apply i_mul)) (by repeat' (first | with_reducible exact nl_0 | with_reducible exact nl_1 | with_reducible exact nl_3 | with_reducible exact nl_4 | with_reducible exact nl_15 | with_reducible exact nl_909 | with_reducible exact rfl | apply i_add | apply i_mul)) (by omega) (by omega))).mp c37_1
        refine x_aload_n (n' := 41) dX9_difference_40 rfl rfl rfl ?_
        refine x_iload (n' := 43) dX9_difference_41 rfl rfl ?_
        refine x_callV (n' := 46) (n := 1) (K := 9) (c_X9_shipAgainst l G _ m ad hS k ns (by omega) hs hb) dX9_difference_43 (by repeat' (first | with_reducible exact km | with_reducible apply mK_A | with_reducible apply mK_I | with_reducible apply mK_L | with_reducible apply mK_R | with_reducible apply mK_O | with_reducible apply mK_S)) rfl (lw_V q3510 q3512 qs69 q109 q3513) (by decide +kernel) ⟨(Nat.le_of_ble_eq_true rfl), (Nat.le_of_ble_eq_true rfl)⟩ rfl rfl (Nat.le_of_ble_eq_true rfl) (by first | exact Nat.le_of_ble_eq_true rfl | omega) (by first | exact Nat.le_of_ble_eq_true rfl | omega) rfl (fun v_6 M_7 h_9 hE_8 => ?_)
        obtain ⟨rfl, hMs⟩ := h_9
        have hMs := hMs.symm
        subst hMs
        refine x_istore (n' := 48) dX9_difference_46 (Nat.le_of_ble_eq_true rfl) rfl (by dsimp only [List.set] <;> rfl) rfl ?_
        refine x_iload (n' := 50) dX9_difference_48 rfl rfl ?_
        refine x_if_lt (n' := 53) (tgt := 107) dX9_difference_50 (by decide) rfl (fun c50_10 => ?_) (fun c50_10 => ?_)
        · have C50 := c50_10
          refine x_iinc (n' := 110) dX9_difference_107 rfl (by first | exact nI_inc _ | exact nI_decp (by omega) | exact i_inc _ | rfl) (Nat.le_of_ble_eq_true rfl) rfl (by dsimp only [List.set] <;> rfl) rfl ?_
          refine x_goto (tgt := 28) dX9_difference_110 (by decide) ?_
          have h9 : (dfL (mA M (ad 0)) ns (k + 1)).length ≤ nn a := by first | (rw [dfL_l0 (Int32.not_le.mpr C50)]; exact h3) | (rw [dfL_l1 (Int32.not_lt.mp C50)]; omega)
          first | rw [← dfL_l0 (Int32.not_le.mpr C50)] | rw [← dfL_l1 (Int32.not_lt.mp C50)]
          exact x_drop (ih (k + 1) (by omega) (by omega) h9 hw ha) ⟨rfl, ⟨rfl, ⟨rfl, ⟨rfl, ⟨rfl, trivial⟩⟩⟩⟩⟩
        · have C50 := c50_10
          refine x_iload_n (n' := 54) dX9_difference_53 rfl rfl rfl ?_
          refine x_iload_n (n' := 55) dX9_difference_54 rfl rfl rfl ?_
          refine x_icmp_ne (n' := 58) (tgt := 104) dX9_difference_55 (by decide) rfl (fun c55_11 => ?_) (fun c55_11 => ?_)
          · have C55 := c55_11
            have N55 := (not_congr (cv_eq (by repeat' (first | with_reducible exact nl_0 | with_reducible exact nl_1 | with_reducible exact nl_3 | with_reducible exact nl_4 | with_reducible exact nl_15 | with_reducible exact nl_909 | with_reducible exact rfl | apply i_add | apply i_mul)) (by repeat' (first | with_reducible exact nl_0 | with_reducible exact nl_1 | with_reducible exact nl_3 | with_reducible exact nl_4 | with_reducible exact nl_15 | with_reducible exact nl_909 | with_reducible exact rfl | apply i_add | apply i_mul)) (by omega) (by omega))).mp c55_11
            refine x_iinc (n' := 107) dX9_difference_104 rfl (by first | exact nI_inc _ | exact nI_decp (by omega) | exact i_inc _ | rfl) (Nat.le_of_ble_eq_true rfl) rfl (by dsimp only [List.set] <;> rfl) rfl ?_
            refine x_iinc (n' := 110) dX9_difference_107 rfl (by first | exact nI_inc _ | exact nI_decp (by omega) | exact i_inc _ | rfl) (Nat.le_of_ble_eq_true rfl) rfl (by dsimp only [List.set] <;> rfl) rfl ?_
            refine x_goto (tgt := 28) dX9_difference_110 (by decide) ?_
            have h9 : (dfL (mA M (ad 0)) ns (k + 1)).length ≤ nn a := by first | (rw [dfL_l0 (Int32.not_le.mpr C50)]; exact h3) | (rw [dfL_l1 (Int32.not_lt.mp C50)]; omega)
            first | rw [← dfL_l0 (Int32.not_le.mpr C50)] | rw [← dfL_l1 (Int32.not_lt.mp C50)]
            exact x_drop (ih (k + 1) (by omega) (by omega) h9 hw ha) ⟨rfl, ⟨rfl, ⟨rfl, ⟨rfl, ⟨rfl, trivial⟩⟩⟩⟩⟩
          · have C55 := c55_11
            have N55 := (cv_eq (by repeat' (first | with_reducible exact nl_0 | with_reducible exact nl_1 | with_reducible exact nl_3 | with_reducible exact nl_4 | with_reducible exact nl_15 | with_reducible exact nl_909 | with_reducible exact rfl | apply i_add | apply i_mul)) (by repeat' (first | with_reducible exact nl_0 | with_reducible exact nl_1 | with_reducible exact nl_3 | with_reducible exact nl_4 | with_reducible exact nl_15 | with_reducible exact nl_909 | with_reducible exact rfl | apply i_add | apply i_mul)) (by omega) (by omega)).mp c55_11
            refine x_iload_n (n' := 59) dX9_difference_58 rfl rfl rfl ?_
            refine x_if_ne (n' := 62) (tgt := 78) dX9_difference_59 (by decide) rfl (fun c59_12 => ?_) (fun c59_12 => ?_)
            · have C59 := c59_12
              refine x_iload_n (n' := 79) dX9_difference_78 rfl rfl rfl ?_
              refine x_iconst (n' := 80) (v := 1) dX9_difference_79 (by decide) rfl ?_
              refine x_icmp_ne (n' := 83) (tgt := 88) dX9_difference_80 (by decide) rfl (fun c80_13 => ?_) (fun c80_13 => ?_)
              · have C80 := c80_13
                refine x_aload_n (n' := 89) dX9_difference_88 rfl rfl rfl ?_
                refine x_getRs (n' := 92) (b := (ad 0)) dX9_difference_89 (by repeat' (first | with_reducible exact km | with_reducible apply mK_A | with_reducible apply mK_I | with_reducible apply mK_L | with_reducible apply mK_R | with_reducible apply mK_O | with_reducible apply mK_S)) ffX9_9_9 rfl (by repeat' (first | with_reducible exact hr_g | with_reducible apply mR_A | with_reducible apply mR_I | with_reducible apply mR_L | with_reducible apply mR_S)) rfl ?_
                refine x_sipush (n' := 95) (v := 909) dX9_difference_92 (by decide) rfl ?_
                refine x_iconst (n' := 96) (v := 4) dX9_difference_95 (by decide) rfl ?_
                refine x_iload (n' := 98) dX9_difference_96 rfl rfl ?_
                refine x_imul (n' := 99) dX9_difference_98 rfl ?_
                refine x_iadd (n' := 100) dX9_difference_99 rfl ?_
                refine x_iconst (n' := 101) (v := 3) dX9_difference_100 (by decide) rfl ?_
                refine x_iadd (n' := 102) dX9_difference_101 rfl ?_
                refine x_ildk (n' := 103) (N := 2509) dX9_difference_102 (by repeat' (first | with_reducible exact kk_g | with_reducible apply mK_A | with_reducible apply mK_I | with_reducible apply mK_L | with_reducible apply mK_R | with_reducible apply mK_O | with_reducible apply mK_S)) (by repeat' (first | with_reducible exact hn_g | with_reducible apply mN_A | with_reducible apply mN_I | with_reducible apply mN_L | with_reducible apply mN_R | with_reducible apply mN_O | with_reducible apply mN_S)) (by repeat' (first | with_reducible exact nl_0 | with_reducible exact nl_1 | with_reducible exact nl_3 | with_reducible exact nl_4 | with_reducible exact nl_15 | with_reducible exact nl_909 | with_reducible exact rfl | apply i_add | apply i_mul)) (by omega) (by decide) (by first | with_reducible exact hl | with_reducible exact hs | (simp (disch := omega) only [mA_sA, mA_sI, mA_SC0, mA_SC1 hS, mA_SC5 hS, mA_SC6 hS, mA_SC10 hS, mA_SC11 hS, mA_SC12 hS, up_s, up_n, hl, hs, if_false] <;> rfl) | rfl) rfl ?_
                exact x_iret dX9_difference_103 hret (by repeat' (first | with_reducible exact kE.rf | with_reducible exact kE_SS | with_reducible apply kE_A | with_reducible apply kE_I | with_reducible apply kE_L | with_reducible apply kE_R | with_reducible apply kE_O | with_reducible apply kE_S)) (dif_ret (difG_d hw ha (by omega) (Int32.not_lt.mp C50) (by omega)) (by unfold dffG; first | rw [if_pos C59] | rw [if_neg C59, if_pos C80] | rw [if_neg C59, if_neg C80]))
              · have C80 := c80_13
                refine x_iload (n' := 85) dX9_difference_83 rfl rfl ?_
                refine x_goto (tgt := 103) dX9_difference_85 (by decide) ?_
                exact x_iret dX9_difference_103 hret (by repeat' (first | with_reducible exact kE.rf | with_reducible exact kE_SS | with_reducible apply kE_A | with_reducible apply kE_I | with_reducible apply kE_L | with_reducible apply kE_R | with_reducible apply kE_O | with_reducible apply kE_S)) (dif_ret (difG_d hw ha (by omega) (Int32.not_lt.mp C50) (by omega)) (by unfold dffG; first | rw [if_pos C59] | rw [if_neg C59, if_pos C80] | rw [if_neg C59, if_neg C80]))
            · have C59 := c59_12
              refine x_aload_n (n' := 63) dX9_difference_62 rfl rfl rfl ?_
              refine x_getRs (n' := 66) (b := (ad 0)) dX9_difference_63 (by repeat' (first | with_reducible exact km | with_reducible apply mK_A | with_reducible apply mK_I | with_reducible apply mK_L | with_reducible apply mK_R | with_reducible apply mK_O | with_reducible apply mK_S)) ffX9_9_9 rfl (by repeat' (first | with_reducible exact hr_g | with_reducible apply mR_A | with_reducible apply mR_I | with_reducible apply mR_L | with_reducible apply mR_S)) rfl ?_
              refine x_sipush (n' := 69) (v := 909) dX9_difference_66 (by decide) rfl ?_
              refine x_iconst (n' := 70) (v := 4) dX9_difference_69 (by decide) rfl ?_
              refine x_iload (n' := 72) dX9_difference_70 rfl rfl ?_
              refine x_imul (n' := 73) dX9_difference_72 rfl ?_
              refine x_iadd (n' := 74) dX9_difference_73 rfl ?_
              refine x_ildk (n' := 75) (N := 2509) dX9_difference_74 (by repeat' (first | with_reducible exact kk_g | with_reducible apply mK_A | with_reducible apply mK_I | with_reducible apply mK_L | with_reducible apply mK_R | with_reducible apply mK_O | with_reducible apply mK_S)) (by repeat' (first | with_reducible exact hn_g | with_reducible apply mN_A | with_reducible apply mN_I | with_reducible apply mN_L | with_reducible apply mN_R | with_reducible apply mN_O | with_reducible apply mN_S)) (by repeat' (first | with_reducible exact nl_0 | with_reducible exact nl_1 | with_reducible exact nl_3 | with_reducible exact nl_4 | with_reducible exact nl_15 | with_reducible exact nl_909 | with_reducible exact rfl | apply i_add | apply i_mul)) (by omega) (by decide) (by first | with_reducible exact hl | with_reducible exact hs | (simp (disch := omega) only [mA_sA, mA_sI, mA_SC0, mA_SC1 hS, mA_SC5 hS, mA_SC6 hS, mA_SC10 hS, mA_SC11 hS, mA_SC12 hS, up_s, up_n, hl, hs, if_false] <;> rfl) | rfl) rfl ?_
              refine x_goto (tgt := 103) dX9_difference_75 (by decide) ?_
              exact x_iret dX9_difference_103 hret (by repeat' (first | with_reducible exact kE.rf | with_reducible exact kE_SS | with_reducible apply kE_A | with_reducible apply kE_I | with_reducible apply kE_L | with_reducible apply kE_R | with_reducible apply kE_O | with_reducible apply kE_S)) (dif_ret (difG_d hw ha (by omega) (Int32.not_lt.mp C50) (by omega)) (by unfold dffG; first | rw [if_pos C59] | rw [if_neg C59, if_pos C80] | rw [if_neg C59, if_neg C80]))
  refine x_iload_n (n' := 1) dX9_difference_0 rfl rfl rfl ?_
  refine x_i2l (n' := 2) dX9_difference_1 rfl rfl ?_
  refine x_lconst (n' := 3) (v := 0) dX9_difference_2 (by decide) rfl ?_
  refine x_ldc2 (n' := 6) q3350 dX9_difference_3 rfl ?_
  refine x_callS (n' := 9) (n := 3) (c_X9_in l G _ _ _ _) dX9_difference_6 (lw_S q3321 q3322 q109 q3323) (by decide +kernel) ⟨(Nat.le_of_ble_eq_true rfl), (Nat.le_of_ble_eq_true rfl)⟩ rfl rfl (Nat.le_of_ble_eq_true rfl) (by first | exact Nat.le_of_ble_eq_true rfl | omega) (by first | exact Nat.le_of_ble_eq_true rfl | omega) rfl (fun v_14 M_15 h_17 hE_16 => ?_)
  obtain ⟨rfl, hMs⟩ := h_17
  have hMs := hMs.symm
  subst hMs
  rw [k_in3 (x := 0) (y := 2) (by decide) (by decide)]
  refine x_if_eq (n' := 12) (tgt := 16) dX9_difference_9 (by decide) rfl (fun c9_18 => ?_) (fun c9_18 => ?_)
  · have C9 := c9_18
    refine x_aload_n (n' := 17) dX9_difference_16 rfl rfl rfl ?_
    refine x_bipush (n' := 19) (v := -102) dX9_difference_17 (by decide) rfl ?_
    refine x_topv (y := -(nI (102 + 0))) (by decide) ?_
    refine x_callV (n' := 22) (n := 1) (K := 9) (c_X9_refused l G _ m ad (by repeat' (first | with_reducible exact hS | with_reducible apply MS.sA | with_reducible apply MS.sI | with_reducible apply MS.sL | with_reducible apply MS.sc)) 0 (by decide)) dX9_difference_19 (by repeat' (first | with_reducible exact km | with_reducible apply mK_A | with_reducible apply mK_I | with_reducible apply mK_L | with_reducible apply mK_R | with_reducible apply mK_O | with_reducible apply mK_S)) rfl (lw_V q3324 q3326 qs48 q109 q3327) (by decide +kernel) ⟨(Nat.le_of_ble_eq_true rfl), (Nat.le_of_ble_eq_true rfl)⟩ rfl rfl (Nat.le_of_ble_eq_true rfl) (by first | exact Nat.le_of_ble_eq_true rfl | omega) (by first | exact Nat.le_of_ble_eq_true rfl | omega) rfl (fun v_19 M_20 h_22 hE_21 => ?_)
    obtain ⟨rfl, hMs⟩ := h_22
    have hMs := hMs.symm
    subst hMs
    exact x_iret dX9_difference_22 hret (by repeat' (first | with_reducible exact kE.rf | with_reducible exact kE_SS | with_reducible apply kE_A | with_reducible apply kE_I | with_reducible apply kE_L | with_reducible apply kE_R | with_reducible apply kE_O | with_reducible apply kE_S)) (⟨fun y q => (by first | (rw [difG_a (bi_0.mp C9)] at q; cases q) | (rw [difG_b (Int32.not_le.mp C13)] at q; cases q)), fun _ => ⟨rfl, rfl⟩⟩)
  · have C9 := c9_18
    refine x_iload_n (n' := 13) dX9_difference_12 rfl rfl rfl ?_
    refine x_if_ge (n' := 16) (tgt := 23) dX9_difference_13 (by decide) rfl (fun c13_23 => ?_) (fun c13_23 => ?_)
    · have C13 := c13_23
      refine x_loc (i := 1) rfl (nn_of C13) (by dsimp only [List.set] <;> rfl) ?_
      refine x_iconst (n' := 24) (v := 0) dX9_difference_23 (by decide) rfl ?_
      refine x_istore_n (n' := 25) dX9_difference_24 rfl (Nat.le_of_ble_eq_true rfl) rfl (by dsimp only [List.set] <;> rfl) rfl ?_
      refine x_iconst (n' := 26) (v := 0) dX9_difference_25 (by decide) rfl ?_
      refine x_istore (n' := 28) dX9_difference_26 (Nat.le_of_ble_eq_true rfl) rfl (by dsimp only [List.set] <;> rfl) rfl ?_
      exact x_drop (cut28 (nl + 1) 0 (by omega) (by omega) (Nat.zero_le _) (bi_n0 C9) C13) ⟨rfl, ⟨rfl, ⟨rfl, ⟨rfl, ⟨rfl, trivial⟩⟩⟩⟩⟩
    · have C13 := c13_23
      refine x_aload_n (n' := 17) dX9_difference_16 rfl rfl rfl ?_
      refine x_bipush (n' := 19) (v := -102) dX9_difference_17 (by decide) rfl ?_
      refine x_topv (y := -(nI (102 + 0))) (by decide) ?_
      refine x_callV (n' := 22) (n := 1) (K := 9) (c_X9_refused l G _ m ad (by repeat' (first | with_reducible exact hS | with_reducible apply MS.sA | with_reducible apply MS.sI | with_reducible apply MS.sL | with_reducible apply MS.sc)) 0 (by decide)) dX9_difference_19 (by repeat' (first | with_reducible exact km | with_reducible apply mK_A | with_reducible apply mK_I | with_reducible apply mK_L | with_reducible apply mK_R | with_reducible apply mK_O | with_reducible apply mK_S)) rfl (lw_V q3324 q3326 qs48 q109 q3327) (by decide +kernel) ⟨(Nat.le_of_ble_eq_true rfl), (Nat.le_of_ble_eq_true rfl)⟩ rfl rfl (Nat.le_of_ble_eq_true rfl) (by first | exact Nat.le_of_ble_eq_true rfl | omega) (by first | exact Nat.le_of_ble_eq_true rfl | omega) rfl (fun v_24 M_25 h_27 hE_26 => ?_)
      obtain ⟨rfl, hMs⟩ := h_27
      have hMs := hMs.symm
      subst hMs
      exact x_iret dX9_difference_22 hret (by repeat' (first | with_reducible exact kE.rf | with_reducible exact kE_SS | with_reducible apply kE_A | with_reducible apply kE_I | with_reducible apply kE_L | with_reducible apply kE_R | with_reducible apply kE_O | with_reducible apply kE_S)) (⟨fun y q => (by first | (rw [difG_a (bi_0.mp C9)] at q; cases q) | (rw [difG_b (Int32.not_le.mp C13)] at q; cases q)), fun _ => ⟨rfl, rfl⟩⟩)

set_option maxHeartbeats 4000000 in
set_option maxRecDepth 100000 in
theorem c_X9_differences (l : Launch) (G : kG) (M : kM) (m : Nat) (ad : Nat → Nat) (hS : MS M m ad) (w : Int32) (ns nk nl : Nat) (hs : mA M (ad 0) 14 = nI ns) (hb : ns ≤ 200) (hl : mA M (ad 0) 15 = nI nl) (hb2 : nl ≤ 400) (hnk : mA M (ad 0) 13 = nI nk) (h6 : nk ≤ 6) : Kt l G yX9_differences cX9_differences 4 (some .int) 3 73 [.ref m, .int w] M (0) (0) (fun v M2 => (w = -1 ∨ (0 ≤ w ∧ w < nI nk) → v = some (.int (cnt (fun s => dsP (mA M (ad 0)) ns w s) nl)) ∧ M2 = M) ∧ (¬ (w = -1 ∨ (0 ≤ w ∧ w < nI nk)) → v = some (.int (-(nI 102))) ∧ M2 = rfM M ad 0)) := by
  refine Kt.of (own := "KeptLightModel") (L := [some (.ref m), some (.int w), none, none]) (by decide +kernel) rfl (Nat.le_of_ble_eq_true rfl) rfl ?_
  intro pp ee ss mm args below meth cd hmn hret
  have km := hS.1
  obtain ⟨hr_g, kk_g, hn_g⟩ := hS.2.1 0 (by decide)
  have hr_g : mR M (fc 9 0) m = some (ad 0) := hr_g
  have hn_g : mN M (ad 0) = 2509 := hn_g
  have kk_g : mK M (ad 0) = some 120 := kk_g
  have cut24 : ∀ (fuel : Nat) (i : Nat) (h1 : nl - i < fuel) (h2 : i ≤ nl) (hok : w = -1 ∨ (0 ≤ w ∧ w < nI nk)), Wx pp l ee { frames := 3, cells := 0, slots := 0, locals := 73 } ss mm args below meth cd "KeptLightModel" cX9_differences 4 G (MQ below (KQ G M (fun v M2 => (w = -1 ∨ (0 ≤ w ∧ w < nI nk) → v = some (.int (cnt (fun s => dsP (mA M (ad 0)) ns w s) nl)) ∧ M2 = M) ∧ (¬ (w = -1 ∨ (0 ≤ w ∧ w < nI nk)) → v = some (.int (-(nI 102))) ∧ M2 = rfM M ad 0))) args ss (0) (0) (kA G)) 24 [some (.ref m), some (.int w), some (.int (cnt (fun s => dsP (mA M (ad 0)) ns w s) i)), some (.int (nI i))] [] (M) (0) (0) := by
    intro fuel
    induction fuel with
    | zero => intro i h1 h2 hok; omega
    | succ fuel ih =>
      intro i h1 h2 hok
      refine x_iload_n (n' := 25) dX9_differences_24 rfl rfl rfl ?_
      refine x_aload_n (n' := 26) dX9_differences_25 rfl rfl rfl ?_
      refine x_getRs (n' := 29) (b := (ad 0)) dX9_differences_26 (by repeat' (first | with_reducible exact km | with_reducible apply mK_A | with_reducible apply mK_I | with_reducible apply mK_L | with_reducible apply mK_R | with_reducible apply mK_O | with_reducible apply mK_S)) ffX9_9_9 rfl (by repeat' (first | with_reducible exact hr_g | with_reducible apply mR_A | with_reducible apply mR_I | with_reducible apply mR_L | with_reducible apply mR_S)) rfl ?_
      refine x_bipush (n' := 31) (v := 15) dX9_differences_29 (by decide) rfl ?_
      refine x_ildk (n' := 32) (N := 2509) dX9_differences_31 (by repeat' (first | with_reducible exact kk_g | with_reducible apply mK_A | with_reducible apply mK_I | with_reducible apply mK_L | with_reducible apply mK_R | with_reducible apply mK_O | with_reducible apply mK_S)) (by repeat' (first | with_reducible exact hn_g | with_reducible apply mN_A | with_reducible apply mN_I | with_reducible apply mN_L | with_reducible apply mN_R | with_reducible apply mN_O | with_reducible apply mN_S)) (by repeat' (first | with_reducible exact nl_0 | with_reducible exact nl_1 | with_reducible exact nl_3 | with_reducible exact nl_4 | with_reducible exact nl_15 | with_reducible exact nl_909 | with_reducible exact rfl | apply i_add | apply i_mul)) (by omega) (by decide) (by first | with_reducible exact hl | with_reducible exact hs | with_reducible exact hnk | (simp (disch := omega) only [mA_sA, mA_sI, mA_SC0, mA_SC1 hS, mA_SC5 hS, mA_SC6 hS, mA_SC10 hS, mA_SC11 hS, mA_SC12 hS, up_s, up_n, hl, hs, hnk, if_false] <;> rfl) | rfl) rfl ?_
      refine x_icmp_ge (n' := 35) (tgt := 80) dX9_differences_32 (by decide) rfl (fun c32_1 => ?_) (fun c32_1 => ?_)
      · have n_c32_1 := (cv_le (by repeat' (first | with_reducible exact nl_0 | with_reducible exact nl_1 | with_reducible exact nl_3 | with_reducible exact nl_4 | with_reducible exact nl_15 | with_reducible exact nl_909 | with_reducible exact rfl | apply i_add | apply i_mul)) (by repeat' (first | with_reducible exact nl_0 | with_reducible exact nl_1 | with_reducible exact nl_3 | with_reducible exact nl_4 | with_reducible exact nl_15 | with_reducible exact nl_909 | with_reducible exact rfl | apply i_add | apply i_mul)) (by omega) (by omega)).mp c32_1
        refine x_iload_n (n' := 81) dX9_differences_80 rfl rfl rfl ?_
        exact x_iret dX9_differences_81 hret (by repeat' (first | with_reducible exact kE.rf | with_reducible exact kE_SS | with_reducible apply kE_A | with_reducible apply kE_I | with_reducible apply kE_L | with_reducible apply kE_R | with_reducible apply kE_O | with_reducible apply kE_S)) (⟨fun _ => by rw [show i = nl by omega]; exact ⟨rfl, rfl⟩, fun q => absurd hok q⟩)
      · have n_c32_1 := (not_congr (cv_le (by repeat' (first | with_reducible exact nl_0 | with_reducible exact nl_1 | with_reducible exact nl_3 | with_reducible exact nl_4 | with_reducible exact nl_15 | with_reducible exact nl_909 | with_reducible exact rfl | apply i_add | apply i_mul)) (by repeat' (first | with_reducible exact nl_0 | with_reducible exact nl_1 | with_reducible exact nl_3 | with_reducible exact nl_4 | with_reducible exact nl_15 | with_reducible exact nl_909 | with_reducible exact rfl | apply i_add | apply i_mul)) (by omega) (by omega))).mp c32_1
        refine x_iload_n (n' := 36) dX9_differences_35 rfl rfl rfl ?_
        refine x_aload_n (n' := 37) dX9_differences_36 rfl rfl rfl ?_
        refine x_iload_n (n' := 38) dX9_differences_37 rfl rfl rfl ?_
        refine x_callV (n' := 41) (n := 1) (K := 9) (c_X9_shipAgainst l G _ m ad hS i ns (by omega) hs hb) dX9_differences_38 (by repeat' (first | with_reducible exact km | with_reducible apply mK_A | with_reducible apply mK_I | with_reducible apply mK_L | with_reducible apply mK_R | with_reducible apply mK_O | with_reducible apply mK_S)) rfl (lw_V q3510 q3512 qs69 q109 q3513) (by decide +kernel) ⟨(Nat.le_of_ble_eq_true rfl), (Nat.le_of_ble_eq_true rfl)⟩ rfl rfl (Nat.le_of_ble_eq_true rfl) (by first | exact Nat.le_of_ble_eq_true rfl | omega) (by first | exact Nat.le_of_ble_eq_true rfl | omega) rfl (fun v_2 M_3 h_5 hE_4 => ?_)
        obtain ⟨rfl, hMs⟩ := h_5
        have hMs := hMs.symm
        subst hMs
        refine x_fork (J := 72) (x_if_lt (n' := 44) (tgt := 71) dX9_differences_41 (by decide) rfl) (v1 := ?v1_f41_6) (v2 := ?v2_f41_6) (fun c_f41_6 j_f41_6 => ?b1_f41_6) (fun c_f41_6 j_f41_6 => ?b2_f41_6) ?k_f41_6
        case b1_f41_6 =>
          refine x_iconst (n' := 72) (v := 0) dX9_differences_71 (by decide) rfl ?_
          exact j_f41_6
        case b2_f41_6 =>
          refine x_iload_n (n' := 45) dX9_differences_44 rfl rfl rfl ?_
          refine x_iconst (n' := 46) (v := -1) dX9_differences_45 (by decide) rfl ?_
          refine x_fork (J := 72) (x_icmp_eq (n' := 49) (tgt := 67) dX9_differences_46 (by decide) rfl) (v1 := ?v1_f46_7) (v2 := ?v2_f46_7) (fun c_f46_7 j_f46_7 => ?b1_f46_7) (fun c_f46_7 j_f46_7 => ?b2_f46_7) ?k_f46_7
          case b1_f46_7 =>
            refine x_iconst (n' := 68) (v := 1) dX9_differences_67 (by decide) rfl ?_
            refine x_goto (tgt := 72) dX9_differences_68 (by decide) ?_
            exact j_f46_7
          case b2_f46_7 =>
            refine x_aload_n (n' := 50) dX9_differences_49 rfl rfl rfl ?_
            refine x_getRs (n' := 53) (b := (ad 0)) dX9_differences_50 (by repeat' (first | with_reducible exact km | with_reducible apply mK_A | with_reducible apply mK_I | with_reducible apply mK_L | with_reducible apply mK_R | with_reducible apply mK_O | with_reducible apply mK_S)) ffX9_9_9 rfl (by repeat' (first | with_reducible exact hr_g | with_reducible apply mR_A | with_reducible apply mR_I | with_reducible apply mR_L | with_reducible apply mR_S)) rfl ?_
            refine x_sipush (n' := 56) (v := 909) dX9_differences_53 (by decide) rfl ?_
            refine x_iconst (n' := 57) (v := 4) dX9_differences_56 (by decide) rfl ?_
            refine x_iload_n (n' := 58) dX9_differences_57 rfl rfl rfl ?_
            refine x_imul (n' := 59) dX9_differences_58 rfl ?_
            refine x_iadd (n' := 60) dX9_differences_59 rfl ?_
            refine x_iconst (n' := 61) (v := 3) dX9_differences_60 (by decide) rfl ?_
            refine x_iadd (n' := 62) dX9_differences_61 rfl ?_
            refine x_ildk (n' := 63) (N := 2509) dX9_differences_62 (by repeat' (first | with_reducible exact kk_g | with_reducible apply mK_A | with_reducible apply mK_I | with_reducible apply mK_L | with_reducible apply mK_R | with_reducible apply mK_O | with_reducible apply mK_S)) (by repeat' (first | with_reducible exact hn_g | with_reducible apply mN_A | with_reducible apply mN_I | with_reducible apply mN_L | with_reducible apply mN_R | with_reducible apply mN_O | with_reducible apply mN_S)) (by repeat' (first | with_reducible exact nl_0 | with_reducible exact nl_1 | with_reducible exact nl_3 | with_reducible exact nl_4 | with_reducible exact nl_15 | with_reducible exact nl_909 | with_reducible exact rfl | apply i_add | apply i_mul)) (by omega) (by decide) (by first | with_reducible exact hl | with_reducible exact hs | with_reducible exact hnk | (simp (disch := omega) only [mA_sA, mA_sI, mA_SC0, mA_SC1 hS, mA_SC5 hS, mA_SC6 hS, mA_SC10 hS, mA_SC11 hS, mA_SC12 hS, up_s, up_n, hl, hs, hnk, if_false] <;> rfl) | rfl) rfl ?_
            refine x_iload_n (n' := 64) dX9_differences_63 rfl rfl rfl ?_
            refine x_forkN (J := 72) (x_icmp_ne (n' := 67) (tgt := 71) dX9_differences_64 (by decide) rfl) (v1 := ?v1_f64_8) (v2 := ?v2_f64_8) (fun c_f64_8 j_f64_8 => ?b1_f64_8) (fun c_f64_8 j_f64_8 => ?b2_f64_8) ?k_f64_8
            case b1_f64_8 =>
              refine x_iconst (n' := 72) (v := 0) dX9_differences_71 (by decide) rfl ?_
              exact j_f64_8
            case b2_f64_8 =>
              refine x_iconst (n' := 68) (v := 1) dX9_differences_67 (by decide) rfl ?_
              refine x_goto (tgt := 72) dX9_differences_68 (by decide) ?_
              exact j_f64_8
            exact j_f46_7
          exact j_f41_6
        refine x_topv (y := bi (dsP (mA M (ad 0)) ns w i)) (by exact dsP_eq) ?_
        refine x_iadd (n' := 73) dX9_differences_72 rfl ?_
        refine x_istore_n (n' := 74) dX9_differences_73 rfl (Nat.le_of_ble_eq_true rfl) rfl (by dsimp only [List.set] <;> rfl) rfl ?_
        refine x_iinc (n' := 77) dX9_differences_74 rfl (by first | exact nI_inc _ | exact nI_decp (by omega) | exact i_inc _ | rfl) (Nat.le_of_ble_eq_true rfl) rfl (by dsimp only [List.set] <;> rfl) rfl ?_
        refine x_goto (tgt := 24) dX9_differences_77 (by decide) ?_
        exact x_drop (ih (i + 1) (by omega) (by omega) hok) ⟨rfl, ⟨rfl, ⟨rfl, ⟨rfl, trivial⟩⟩⟩⟩
  refine x_iload_n (n' := 1) dX9_differences_0 rfl rfl rfl ?_
  refine x_iconst (n' := 2) (v := -1) dX9_differences_1 (by decide) rfl ?_
  refine x_icmp_eq (n' := 5) (tgt := 20) dX9_differences_2 (by decide) rfl (fun c2_9 => ?_) (fun c2_9 => ?_)
  · have C2 := c2_9
    have hok : w = -1 ∨ (0 ≤ w ∧ w < nI nk) := by first | exact Or.inl C2 | exact Or.inr (bi_n0 C10)
    refine x_iconst (n' := 21) (v := 0) dX9_differences_20 (by decide) rfl ?_
    refine x_istore_n (n' := 22) dX9_differences_21 rfl (Nat.le_of_ble_eq_true rfl) rfl (by dsimp only [List.set] <;> rfl) rfl ?_
    refine x_iconst (n' := 23) (v := 0) dX9_differences_22 (by decide) rfl ?_
    refine x_istore_n (n' := 24) dX9_differences_23 rfl (Nat.le_of_ble_eq_true rfl) rfl (by dsimp only [List.set] <;> rfl) rfl ?_
    exact x_drop (cut24 (nl + 1) 0 (by omega) (by omega) hok) ⟨rfl, ⟨rfl, ⟨rfl, ⟨rfl, trivial⟩⟩⟩⟩
  · have C2 := c2_9
    refine x_aload_n (n' := 6) dX9_differences_5 rfl rfl rfl ?_
    refine x_iload_n (n' := 7) dX9_differences_6 rfl rfl rfl ?_
    refine x_callV (n' := 10) (n := 1) (K := 9) (c_X9_isKeeper l G _ m ad hS w nk hnk (by omega)) dX9_differences_7 (by repeat' (first | with_reducible exact km | with_reducible apply mK_A | with_reducible apply mK_I | with_reducible apply mK_L | with_reducible apply mK_R | with_reducible apply mK_O | with_reducible apply mK_S)) rfl (lw_V q3356 q3358 qs51 q109 q3359) (by decide +kernel) ⟨(Nat.le_of_ble_eq_true rfl), (Nat.le_of_ble_eq_true rfl)⟩ rfl rfl (Nat.le_of_ble_eq_true rfl) (by first | exact Nat.le_of_ble_eq_true rfl | omega) (by first | exact Nat.le_of_ble_eq_true rfl | omega) rfl (fun v_10 M_11 h_13 hE_12 => ?_)
    obtain ⟨rfl, hMs⟩ := h_13
    have hMs := hMs.symm
    subst hMs
    refine x_if_ne (n' := 13) (tgt := 20) dX9_differences_10 (by decide) rfl (fun c10_14 => ?_) (fun c10_14 => ?_)
    · have C10 := c10_14
      have hok : w = -1 ∨ (0 ≤ w ∧ w < nI nk) := by first | exact Or.inl C2 | exact Or.inr (bi_n0 C10)
      refine x_iconst (n' := 21) (v := 0) dX9_differences_20 (by decide) rfl ?_
      refine x_istore_n (n' := 22) dX9_differences_21 rfl (Nat.le_of_ble_eq_true rfl) rfl (by dsimp only [List.set] <;> rfl) rfl ?_
      refine x_iconst (n' := 23) (v := 0) dX9_differences_22 (by decide) rfl ?_
      refine x_istore_n (n' := 24) dX9_differences_23 rfl (Nat.le_of_ble_eq_true rfl) rfl (by dsimp only [List.set] <;> rfl) rfl ?_
      exact x_drop (cut24 (nl + 1) 0 (by omega) (by omega) hok) ⟨rfl, ⟨rfl, ⟨rfl, ⟨rfl, trivial⟩⟩⟩⟩
    · have C10 := c10_14
      refine x_aload_n (n' := 14) dX9_differences_13 rfl rfl rfl ?_
      refine x_bipush (n' := 16) (v := -102) dX9_differences_14 (by decide) rfl ?_
      refine x_topv (y := -(nI (102 + 0))) (by decide) ?_
      refine x_callV (n' := 19) (n := 1) (K := 9) (c_X9_refused l G _ m ad hS 0 (by decide)) dX9_differences_16 (by repeat' (first | with_reducible exact km | with_reducible apply mK_A | with_reducible apply mK_I | with_reducible apply mK_L | with_reducible apply mK_R | with_reducible apply mK_O | with_reducible apply mK_S)) rfl (lw_V q3324 q3326 qs48 q109 q3327) (by decide +kernel) ⟨(Nat.le_of_ble_eq_true rfl), (Nat.le_of_ble_eq_true rfl)⟩ rfl rfl (Nat.le_of_ble_eq_true rfl) (by first | exact Nat.le_of_ble_eq_true rfl | omega) (by first | exact Nat.le_of_ble_eq_true rfl | omega) rfl (fun v_15 M_16 h_18 hE_17 => ?_)
      obtain ⟨rfl, hMs⟩ := h_18
      have hMs := hMs.symm
      subst hMs
      exact x_iret dX9_differences_19 hret (by repeat' (first | with_reducible exact kE.rf | with_reducible exact kE_SS | with_reducible apply kE_A | with_reducible apply kE_I | with_reducible apply kE_L | with_reducible apply kE_R | with_reducible apply kE_O | with_reducible apply kE_S)) (⟨fun q => absurd q (by exact fun q => q.elim C2 (fun q => bi_0.mp C10 q)), fun _ => ⟨rfl, rfl⟩⟩)
