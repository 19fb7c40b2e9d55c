set_option maxHeartbeats 4000000 in
set_option maxRecDepth 100000 in
theorem c_X9_lacks (l : Launch) (G : kG) (M : kM) (k d lt sg w : Int32) : Kt l G yX9_lacks cX9_lacks 8 (some .int) 1 20 [.int k, .int d, .int lt, .int sg, .int w] M (0) (0) (fun v M2 => v = some (.int (lacksG k d lt sg w)) ∧ M2 = M) := by
  refine Kt.of (own := "KeptLightModel") (L := [some (.int k), some (.int d), some (.int lt), some (.int sg), some (.int w), none, none, none]) (by decide +kernel) rfl (Nat.le_of_ble_eq_true rfl) rfl ?_
  intro pp ee ss mm args below meth cd hmn hret
  have hE0 : kE M M := kE.rf
  refine x_iload_n (n' := 1) dX9_lacks_0 rfl rfl rfl ?_
  refine x_iconst (n' := 2) (v := 4) dX9_lacks_1 (by decide) rfl ?_
  refine x_fork (J := 34) (x_icmp_eq (n' := 5) (tgt := 13) dX9_lacks_2 (by decide) rfl) (v1 := ?v1_f2_1) (v2 := ?v2_f2_1) (fun c_f2_1 j_f2_1 => ?b1_f2_1) (fun c_f2_1 j_f2_1 => ?b2_f2_1) ?k_f2_1
  case b1_f2_1 =>
    refine x_iload_n (n' := 14) dX9_lacks_13 rfl rfl rfl ?_
    refine x_bipush (n' := 16) (v := 7) dX9_lacks_14 (by decide) rfl ?_
    refine x_forkN (J := 34) (x_icmp_ne (n' := 19) (tgt := 33) dX9_lacks_16 (by decide) rfl) (v1 := ?v1_f16_2) (v2 := ?v2_f16_2) (fun c_f16_2 j_f16_2 => ?b1_f16_2) (fun c_f16_2 j_f16_2 => ?b2_f16_2) ?k_f16_2
    case b1_f16_2 =>
      refine x_iconst (n' := 34) (v := 0) dX9_lacks_33 (by decide) rfl ?_
      exact j_f16_2
    case b2_f16_2 =>
      refine x_iload_n (n' := 20) dX9_lacks_19 rfl rfl rfl ?_
      refine x_forkN (J := 34) (x_if_ne (n' := 23) (tgt := 33) dX9_lacks_20 (by decide) rfl) (v1 := ?v1_f20_3) (v2 := ?v2_f20_3) (fun c_f20_3 j_f20_3 => ?b1_f20_3) (fun c_f20_3 j_f20_3 => ?b2_f20_3) ?k_f20_3
      case b1_f20_3 =>
        refine x_iconst (n' := 34) (v := 0) dX9_lacks_33 (by decide) rfl ?_
        exact j_f20_3
      case b2_f20_3 =>
        refine x_iload (n' := 25) dX9_lacks_23 rfl rfl ?_
        refine x_iconst (n' := 26) (v := 2) dX9_lacks_25 (by decide) rfl ?_
        refine x_forkN (J := 34) (x_icmp_ne (n' := 29) (tgt := 33) dX9_lacks_26 (by decide) rfl) (v1 := ?v1_f26_4) (v2 := ?v2_f26_4) (fun c_f26_4 j_f26_4 => ?b1_f26_4) (fun c_f26_4 j_f26_4 => ?b2_f26_4) ?k_f26_4
        case b1_f26_4 =>
          refine x_iconst (n' := 34) (v := 0) dX9_lacks_33 (by decide) rfl ?_
          exact j_f26_4
        case b2_f26_4 =>
          refine x_iconst (n' := 30) (v := 1) dX9_lacks_29 (by decide) rfl ?_
          refine x_goto (tgt := 34) dX9_lacks_30 (by decide) ?_
          exact j_f26_4
        exact j_f20_3
      exact j_f16_2
    exact j_f2_1
  case b2_f2_1 =>
    refine x_iload_n (n' := 6) dX9_lacks_5 rfl rfl rfl ?_
    refine x_fork (J := 34) (x_if_eq (n' := 9) (tgt := 13) dX9_lacks_6 (by decide) rfl) (v1 := ?v1_f6_5) (v2 := ?v2_f6_5) (fun c_f6_5 j_f6_5 => ?b1_f6_5) (fun c_f6_5 j_f6_5 => ?b2_f6_5) ?k_f6_5
    case b1_f6_5 =>
      refine x_iload_n (n' := 14) dX9_lacks_13 rfl rfl rfl ?_
      refine x_bipush (n' := 16) (v := 7) dX9_lacks_14 (by decide) rfl ?_
      refine x_forkN (J := 34) (x_icmp_ne (n' := 19) (tgt := 33) dX9_lacks_16 (by decide) rfl) (v1 := ?v1_f16_6) (v2 := ?v2_f16_6) (fun c_f16_6 j_f16_6 => ?b1_f16_6) (fun c_f16_6 j_f16_6 => ?b2_f16_6) ?k_f16_6
      case b1_f16_6 =>
        refine x_iconst (n' := 34) (v := 0) dX9_lacks_33 (by decide) rfl ?_
        exact j_f16_6
      case b2_f16_6 =>
        refine x_iload_n (n' := 20) dX9_lacks_19 rfl rfl rfl ?_
        refine x_forkN (J := 34) (x_if_ne (n' := 23) (tgt := 33) dX9_lacks_20 (by decide) rfl) (v1 := ?v1_f20_7) (v2 := ?v2_f20_7) (fun c_f20_7 j_f20_7 => ?b1_f20_7) (fun c_f20_7 j_f20_7 => ?b2_f20_7) ?k_f20_7
        case b1_f20_7 =>
          refine x_iconst (n' := 34) (v := 0) dX9_lacks_33 (by decide) rfl ?_
          exact j_f20_7
        case b2_f20_7 =>
          refine x_iload (n' := 25) dX9_lacks_23 rfl rfl ?_
          refine x_iconst (n' := 26) (v := 2) dX9_lacks_25 (by decide) rfl ?_
          refine x_forkN (J := 34) (x_icmp_ne (n' := 29) (tgt := 33) dX9_lacks_26 (by decide) rfl) (v1 := ?v1_f26_8) (v2 := ?v2_f26_8) (fun c_f26_8 j_f26_8 => ?b1_f26_8) (fun c_f26_8 j_f26_8 => ?b2_f26_8) ?k_f26_8
          case b1_f26_8 =>
            refine x_iconst (n' := 34) (v := 0) dX9_lacks_33 (by decide) rfl ?_
            exact j_f26_8
          case b2_f26_8 =>
            refine x_iconst (n' := 30) (v := 1) dX9_lacks_29 (by decide) rfl ?_
            refine x_goto (tgt := 34) dX9_lacks_30 (by decide) ?_
            exact j_f26_8
          exact j_f20_7
        exact j_f16_6
      exact j_f6_5
    case b2_f6_5 =>
      refine x_iload_n (n' := 10) dX9_lacks_9 rfl rfl rfl ?_
      refine x_fork (J := 34) (x_if_eq (n' := 13) (tgt := 29) dX9_lacks_10 (by decide) rfl) (v1 := ?v1_f10_9) (v2 := ?v2_f10_9) (fun c_f10_9 j_f10_9 => ?b1_f10_9) (fun c_f10_9 j_f10_9 => ?b2_f10_9) ?k_f10_9
      case b1_f10_9 =>
        refine x_iconst (n' := 30) (v := 1) dX9_lacks_29 (by decide) rfl ?_
        refine x_goto (tgt := 34) dX9_lacks_30 (by decide) ?_
        exact j_f10_9
      case b2_f10_9 =>
        refine x_iload_n (n' := 14) dX9_lacks_13 rfl rfl rfl ?_
        refine x_bipush (n' := 16) (v := 7) dX9_lacks_14 (by decide) rfl ?_
        refine x_forkN (J := 34) (x_icmp_ne (n' := 19) (tgt := 33) dX9_lacks_16 (by decide) rfl) (v1 := ?v1_f16_10) (v2 := ?v2_f16_10) (fun c_f16_10 j_f16_10 => ?b1_f16_10) (fun c_f16_10 j_f16_10 => ?b2_f16_10) ?k_f16_10
        case b1_f16_10 =>
          refine x_iconst (n' := 34) (v := 0) dX9_lacks_33 (by decide) rfl ?_
          exact j_f16_10
        case b2_f16_10 =>
          refine x_iload_n (n' := 20) dX9_lacks_19 rfl rfl rfl ?_
          refine x_forkN (J := 34) (x_if_ne (n' := 23) (tgt := 33) dX9_lacks_20 (by decide) rfl) (v1 := ?v1_f20_11) (v2 := ?v2_f20_11) (fun c_f20_11 j_f20_11 => ?b1_f20_11) (fun c_f20_11 j_f20_11 => ?b2_f20_11) ?k_f20_11
          case b1_f20_11 =>
            refine x_iconst (n' := 34) (v := 0) dX9_lacks_33 (by decide) rfl ?_
            exact j_f20_11
          case b2_f20_11 =>
            refine x_iload (n' := 25) dX9_lacks_23 rfl rfl ?_
            refine x_iconst (n' := 26) (v := 2) dX9_lacks_25 (by decide) rfl ?_
            refine x_forkN (J := 34) (x_icmp_ne (n' := 29) (tgt := 33) dX9_lacks_26 (by decide) rfl) (v1 := ?v1_f26_12) (v2 := ?v2_f26_12) (fun c_f26_12 j_f26_12 => ?b1_f26_12) (fun c_f26_12 j_f26_12 => ?b2_f26_12) ?k_f26_12
            case b1_f26_12 =>
              refine x_iconst (n' := 34) (v := 0) dX9_lacks_33 (by decide) rfl ?_
              exact j_f26_12
            case b2_f26_12 =>
              refine x_iconst (n' := 30) (v := 1) dX9_lacks_29 (by decide) rfl ?_
              refine x_goto (tgt := 34) dX9_lacks_30 (by decide) ?_
              exact j_f26_12
            exact j_f20_11
          exact j_f16_10
        exact j_f10_9
      exact j_f6_5
    exact j_f2_1
  refine x_topv (y := bi (lightP k d lt w)) (by unfold bi; grind) ?_
  refine x_istore (n' := 36) dX9_lacks_34 (Nat.le_of_ble_eq_true rfl) rfl (by dsimp only [List.set] <;> rfl) rfl ?_
  refine x_iload_n (n' := 37) dX9_lacks_36 rfl rfl rfl ?_
  refine x_iconst (n' := 38) (v := 3) dX9_lacks_37 (by decide) rfl ?_
  refine x_fork (J := 56) (x_icmp_eq (n' := 41) (tgt := 55) dX9_lacks_38 (by decide) rfl) (v1 := ?v1_f38_13) (v2 := ?v2_f38_13) (fun c_f38_13 j_f38_13 => ?b1_f38_13) (fun c_f38_13 j_f38_13 => ?b2_f38_13) ?k_f38_13
  case b1_f38_13 =>
    refine x_iconst (n' := 56) (v := 0) dX9_lacks_55 (by decide) rfl ?_
    exact j_f38_13
  case b2_f38_13 =>
    refine x_iload (n' := 43) dX9_lacks_41 rfl rfl ?_
    refine x_iconst (n' := 44) (v := 1) dX9_lacks_43 (by decide) rfl ?_
    refine x_forkN (J := 56) (x_icmp_ne (n' := 47) (tgt := 55) dX9_lacks_44 (by decide) rfl) (v1 := ?v1_f44_14) (v2 := ?v2_f44_14) (fun c_f44_14 j_f44_14 => ?b1_f44_14) (fun c_f44_14 j_f44_14 => ?b2_f44_14) ?k_f44_14
    case b1_f44_14 =>
      refine x_iconst (n' := 56) (v := 0) dX9_lacks_55 (by decide) rfl ?_
      exact j_f44_14
    case b2_f44_14 =>
      refine x_iload_n (n' := 48) dX9_lacks_47 rfl rfl rfl ?_
      refine x_forkN (J := 56) (x_if_ne (n' := 51) (tgt := 55) dX9_lacks_48 (by decide) rfl) (v1 := ?v1_f48_15) (v2 := ?v2_f48_15) (fun c_f48_15 j_f48_15 => ?b1_f48_15) (fun c_f48_15 j_f48_15 => ?b2_f48_15) ?k_f48_15
      case b1_f48_15 =>
        refine x_iconst (n' := 56) (v := 0) dX9_lacks_55 (by decide) rfl ?_
        exact j_f48_15
      case b2_f48_15 =>
        refine x_iconst (n' := 52) (v := 1) dX9_lacks_51 (by decide) rfl ?_
        refine x_goto (tgt := 56) dX9_lacks_52 (by decide) ?_
        exact j_f48_15
      exact j_f44_14
    exact j_f38_13
  refine x_topv (y := bi (soundP k sg w)) (by unfold bi; grind) ?_
  refine x_istore (n' := 58) dX9_lacks_56 (Nat.le_of_ble_eq_true rfl) rfl (by dsimp only [List.set] <;> rfl) rfl ?_
  refine x_iload_n (n' := 59) dX9_lacks_58 rfl rfl rfl ?_
  refine x_callS (n' := 62) (n := 1) (c_X9_isSmall l G _ k) dX9_lacks_59 (lw_S q3452 q3453 q109 q3454) (by decide +kernel) ⟨(Nat.le_of_ble_eq_true rfl), (Nat.le_of_ble_eq_true rfl)⟩ rfl rfl (Nat.le_of_ble_eq_true rfl) (by first | exact Nat.le_of_ble_eq_true rfl | omega) (by first | exact Nat.le_of_ble_eq_true rfl | omega) rfl (fun v_16 M_17 h_19 hE_18 => ?_)
  have hE0 : kE M _ := fun a K q9 => hE_18 a K (hE0 a K q9)
  obtain ⟨rfl, hMs⟩ := h_19
  have hMs := hMs.symm
  subst hMs
  refine x_fork (J := 76) (x_if_eq (n' := 65) (tgt := 75) dX9_lacks_62 (by decide) rfl) (v1 := ?v1_f62_20) (v2 := ?v2_f62_20) (fun c_f62_20 j_f62_20 => ?b1_f62_20) (fun c_f62_20 j_f62_20 => ?b2_f62_20) ?k_f62_20
  case b1_f62_20 =>
    refine x_iconst (n' := 76) (v := 0) dX9_lacks_75 (by decide) rfl ?_
    exact j_f62_20
  case b2_f62_20 =>
    refine x_iload (n' := 67) dX9_lacks_65 rfl rfl ?_
    refine x_iconst (n' := 68) (v := 2) dX9_lacks_67 (by decide) rfl ?_
    refine x_forkN (J := 76) (x_icmp_ne (n' := 71) (tgt := 75) dX9_lacks_68 (by decide) rfl) (v1 := ?v1_f68_21) (v2 := ?v2_f68_21) (fun c_f68_21 j_f68_21 => ?b1_f68_21) (fun c_f68_21 j_f68_21 => ?b2_f68_21) ?k_f68_21
    case b1_f68_21 =>
      refine x_iconst (n' := 76) (v := 0) dX9_lacks_75 (by decide) rfl ?_
      exact j_f68_21
    case b2_f68_21 =>
      refine x_iconst (n' := 72) (v := 1) dX9_lacks_71 (by decide) rfl ?_
      refine x_goto (tgt := 76) dX9_lacks_72 (by decide) ?_
      exact j_f68_21
    exact j_f62_20
  refine x_topv (y := bi (roomP k w)) (by unfold bi; grind) ?_
  refine x_istore (n' := 78) dX9_lacks_76 (Nat.le_of_ble_eq_true rfl) rfl (by dsimp only [List.set] <;> rfl) rfl ?_
  refine x_iload (n' := 80) dX9_lacks_78 rfl rfl ?_
  refine x_fork (J := 88) (x_if_eq (n' := 83) (tgt := 87) dX9_lacks_80 (by decide) rfl) (v1 := ?v1_f80_22) (v2 := ?v2_f80_22) (fun c_f80_22 j_f80_22 => ?b1_f80_22) (fun c_f80_22 j_f80_22 => ?b2_f80_22) ?k_f80_22
  case b1_f80_22 =>
    refine x_iconst (n' := 88) (v := 0) dX9_lacks_87 (by decide) rfl ?_
    exact j_f80_22
  case b2_f80_22 =>
    refine x_iconst (n' := 84) (v := 1) dX9_lacks_83 (by decide) rfl ?_
    refine x_goto (tgt := 88) dX9_lacks_84 (by decide) ?_
    exact j_f80_22
  refine x_iload (n' := 90) dX9_lacks_88 rfl rfl ?_
  refine x_fork (J := 98) (x_if_eq (n' := 93) (tgt := 97) dX9_lacks_90 (by decide) rfl) (v1 := ?v1_f90_23) (v2 := ?v2_f90_23) (fun c_f90_23 j_f90_23 => ?b1_f90_23) (fun c_f90_23 j_f90_23 => ?b2_f90_23) ?k_f90_23
  case b1_f90_23 =>
    refine x_iconst (n' := 98) (v := 0) dX9_lacks_97 (by decide) rfl ?_
    exact j_f90_23
  case b2_f90_23 =>
    refine x_iconst (n' := 94) (v := 1) dX9_lacks_93 (by decide) rfl ?_
    refine x_goto (tgt := 98) dX9_lacks_94 (by decide) ?_
    exact j_f90_23
  refine x_iadd (n' := 99) dX9_lacks_98 rfl ?_
  refine x_iload (n' := 101) dX9_lacks_99 rfl rfl ?_
  refine x_fork (J := 109) (x_if_eq (n' := 104) (tgt := 108) dX9_lacks_101 (by decide) rfl) (v1 := ?v1_f101_24) (v2 := ?v2_f101_24) (fun c_f101_24 j_f101_24 => ?b1_f101_24) (fun c_f101_24 j_f101_24 => ?b2_f101_24) ?k_f101_24
  case b1_f101_24 =>
    refine x_iconst (n' := 109) (v := 0) dX9_lacks_108 (by decide) rfl ?_
    exact j_f101_24
  case b2_f101_24 =>
    refine x_iconst (n' := 105) (v := 1) dX9_lacks_104 (by decide) rfl ?_
    refine x_goto (tgt := 109) dX9_lacks_105 (by decide) ?_
    exact j_f101_24
  refine x_iadd (n' := 110) dX9_lacks_109 rfl ?_
  exact x_iret dX9_lacks_110 hret hE0 (by rw [bi_if, bi_if, bi_if]; exact ⟨rfl, rfl⟩)

set_option maxHeartbeats 4000000 in
set_option maxRecDepth 100000 in
theorem c_X9_isUnder (l : Launch) (G : kG) (M : kM) (kind k : Int32) : Kt l G yX9_isUnder cX9_isUnder 2 (some .boolean) 1 20 [.int kind, .int k] M (0) (0) (fun v M2 => v = some (.int (bi (underP kind k))) ∧ M2 = M) := by
  refine Kt.of (own := "KeptLightModel") (L := [some (.int kind), some (.int k)]) (by decide +kernel) rfl (Nat.le_of_ble_eq_true rfl) rfl ?_
  intro pp ee ss mm args below meth cd hmn hret
  have hE0 : kE M M := kE.rf
  refine x_iload_n (n' := 1) dX9_isUnder_0 rfl rfl rfl ?_
  refine x_fork (J := 48) (x_if_eq (n' := 4) (tgt := 43) dX9_isUnder_1 (by decide) rfl) (v1 := ?v1_f1_1) (v2 := ?v2_f1_1) (fun c_f1_1 j_f1_1 => ?b1_f1_1) (fun c_f1_1 j_f1_1 => ?b2_f1_1) ?k_f1_1
  case b1_f1_1 =>
    refine x_iconst (n' := 44) (v := 1) dX9_isUnder_43 (by decide) rfl ?_
    refine x_goto (tgt := 48) dX9_isUnder_44 (by decide) ?_
    exact j_f1_1
  case b2_f1_1 =>
    refine x_iload_n (n' := 5) dX9_isUnder_4 rfl rfl rfl ?_
    refine x_iload_n (n' := 6) dX9_isUnder_5 rfl rfl rfl ?_
    refine x_fork (J := 48) (x_icmp_eq (n' := 9) (tgt := 43) dX9_isUnder_6 (by decide) rfl) (v1 := ?v1_f6_2) (v2 := ?v2_f6_2) (fun c_f6_2 j_f6_2 => ?b1_f6_2) (fun c_f6_2 j_f6_2 => ?b2_f6_2) ?k_f6_2
    case b1_f6_2 =>
      refine x_iconst (n' := 44) (v := 1) dX9_isUnder_43 (by decide) rfl ?_
      refine x_goto (tgt := 48) dX9_isUnder_44 (by decide) ?_
      exact j_f6_2
    case b2_f6_2 =>
      refine x_iload_n (n' := 10) dX9_isUnder_9 rfl rfl rfl ?_
      refine x_iconst (n' := 11) (v := 1) dX9_isUnder_10 (by decide) rfl ?_
      refine x_forkN (J := 48) (x_icmp_ne (n' := 14) (tgt := 21) dX9_isUnder_11 (by decide) rfl) (v1 := ?v1_f11_3) (v2 := ?v2_f11_3) (fun c_f11_3 j_f11_3 => ?b1_f11_3) (fun c_f11_3 j_f11_3 => ?b2_f11_3) ?k_f11_3
      case b1_f11_3 =>
        refine x_iload_n (n' := 22) dX9_isUnder_21 rfl rfl rfl ?_
        refine x_iconst (n' := 23) (v := 2) dX9_isUnder_22 (by decide) rfl ?_
        refine x_forkN (J := 48) (x_icmp_ne (n' := 26) (tgt := 31) dX9_isUnder_23 (by decide) rfl) (v1 := ?v1_f23_4) (v2 := ?v2_f23_4) (fun c_f23_4 j_f23_4 => ?b1_f23_4) (fun c_f23_4 j_f23_4 => ?b2_f23_4) ?k_f23_4
        case b1_f23_4 =>
          refine x_iload_n (n' := 32) dX9_isUnder_31 rfl rfl rfl ?_
          refine x_bipush (n' := 34) (v := 6) dX9_isUnder_32 (by decide) rfl ?_
          refine x_forkN (J := 48) (x_icmp_ne (n' := 37) (tgt := 47) dX9_isUnder_34 (by decide) rfl) (v1 := ?v1_f34_5) (v2 := ?v2_f34_5) (fun c_f34_5 j_f34_5 => ?b1_f34_5) (fun c_f34_5 j_f34_5 => ?b2_f34_5) ?k_f34_5
          case b1_f34_5 =>
            refine x_iconst (n' := 48) (v := 0) dX9_isUnder_47 (by decide) rfl ?_
            exact j_f34_5
          case b2_f34_5 =>
            refine x_iload_n (n' := 38) dX9_isUnder_37 rfl rfl rfl ?_
            refine x_bipush (n' := 40) (v := 7) dX9_isUnder_38 (by decide) rfl ?_
            refine x_forkN (J := 48) (x_icmp_ne (n' := 43) (tgt := 47) dX9_isUnder_40 (by decide) rfl) (v1 := ?v1_f40_6) (v2 := ?v2_f40_6) (fun c_f40_6 j_f40_6 => ?b1_f40_6) (fun c_f40_6 j_f40_6 => ?b2_f40_6) ?k_f40_6
            case b1_f40_6 =>
              refine x_iconst (n' := 48) (v := 0) dX9_isUnder_47 (by decide) rfl ?_
              exact j_f40_6
            case b2_f40_6 =>
              refine x_iconst (n' := 44) (v := 1) dX9_isUnder_43 (by decide) rfl ?_
              refine x_goto (tgt := 48) dX9_isUnder_44 (by decide) ?_
              exact j_f40_6
            exact j_f34_5
          exact j_f23_4
        case b2_f23_4 =>
          refine x_iload_n (n' := 27) dX9_isUnder_26 rfl rfl rfl ?_
          refine x_iconst (n' := 28) (v := 5) dX9_isUnder_27 (by decide) rfl ?_
          refine x_fork (J := 48) (x_icmp_ge (n' := 31) (tgt := 43) dX9_isUnder_28 (by decide) rfl) (v1 := ?v1_f28_7) (v2 := ?v2_f28_7) (fun c_f28_7 j_f28_7 => ?b1_f28_7) (fun c_f28_7 j_f28_7 => ?b2_f28_7) ?k_f28_7
          case b1_f28_7 =>
            refine x_iconst (n' := 44) (v := 1) dX9_isUnder_43 (by decide) rfl ?_
            refine x_goto (tgt := 48) dX9_isUnder_44 (by decide) ?_
            exact j_f28_7
          case b2_f28_7 =>
            refine x_iload_n (n' := 32) dX9_isUnder_31 rfl rfl rfl ?_
            refine x_bipush (n' := 34) (v := 6) dX9_isUnder_32 (by decide) rfl ?_
            refine x_forkN (J := 48) (x_icmp_ne (n' := 37) (tgt := 47) dX9_isUnder_34 (by decide) rfl) (v1 := ?v1_f34_8) (v2 := ?v2_f34_8) (fun c_f34_8 j_f34_8 => ?b1_f34_8) (fun c_f34_8 j_f34_8 => ?b2_f34_8) ?k_f34_8
            case b1_f34_8 =>
              refine x_iconst (n' := 48) (v := 0) dX9_isUnder_47 (by decide) rfl ?_
              exact j_f34_8
            case b2_f34_8 =>
              refine x_iload_n (n' := 38) dX9_isUnder_37 rfl rfl rfl ?_
              refine x_bipush (n' := 40) (v := 7) dX9_isUnder_38 (by decide) rfl ?_
              refine x_forkN (J := 48) (x_icmp_ne (n' := 43) (tgt := 47) dX9_isUnder_40 (by decide) rfl) (v1 := ?v1_f40_9) (v2 := ?v2_f40_9) (fun c_f40_9 j_f40_9 => ?b1_f40_9) (fun c_f40_9 j_f40_9 => ?b2_f40_9) ?k_f40_9
              case b1_f40_9 =>
                refine x_iconst (n' := 48) (v := 0) dX9_isUnder_47 (by decide) rfl ?_
                exact j_f40_9
              case b2_f40_9 =>
                refine x_iconst (n' := 44) (v := 1) dX9_isUnder_43 (by decide) rfl ?_
                refine x_goto (tgt := 48) dX9_isUnder_44 (by decide) ?_
                exact j_f40_9
              exact j_f34_8
            exact j_f28_7
          exact j_f23_4
        exact j_f11_3
      case b2_f11_3 =>
        refine x_iload_n (n' := 15) dX9_isUnder_14 rfl rfl rfl ?_
        refine x_callS (n' := 18) (n := 1) (c_X9_isSmall l G _ kind) dX9_isUnder_15 (lw_S q3452 q3453 q109 q3454) (by decide +kernel) ⟨(Nat.le_of_ble_eq_true rfl), (Nat.le_of_ble_eq_true rfl)⟩ rfl rfl (Nat.le_of_ble_eq_true rfl) (by first | exact Nat.le_of_ble_eq_true rfl | omega) (by first | exact Nat.le_of_ble_eq_true rfl | omega) rfl (fun v_10 M_11 h_13 hE_12 => ?_)
        have hE0 : kE M _ := fun a K q9 => hE_12 a K (hE0 a K q9)
        obtain ⟨rfl, hMs⟩ := h_13
        have hMs := hMs.symm
        subst hMs
        refine x_forkN (J := 48) (x_if_ne (n' := 21) (tgt := 43) dX9_isUnder_18 (by decide) rfl) (v1 := ?v1_f18_14) (v2 := ?v2_f18_14) (fun c_f18_14 j_f18_14 => ?b1_f18_14) (fun c_f18_14 j_f18_14 => ?b2_f18_14) ?k_f18_14
        case b1_f18_14 =>
          refine x_iconst (n' := 44) (v := 1) dX9_isUnder_43 (by decide) rfl ?_
          refine x_goto (tgt := 48) dX9_isUnder_44 (by decide) ?_
          exact j_f18_14
        case b2_f18_14 =>
          refine x_iload_n (n' := 22) dX9_isUnder_21 rfl rfl rfl ?_
          refine x_iconst (n' := 23) (v := 2) dX9_isUnder_22 (by decide) rfl ?_
          refine x_forkN (J := 48) (x_icmp_ne (n' := 26) (tgt := 31) dX9_isUnder_23 (by decide) rfl) (v1 := ?v1_f23_15) (v2 := ?v2_f23_15) (fun c_f23_15 j_f23_15 => ?b1_f23_15) (fun c_f23_15 j_f23_15 => ?b2_f23_15) ?k_f23_15
          case b1_f23_15 =>
            refine x_iload_n (n' := 32) dX9_isUnder_31 rfl rfl rfl ?_
            refine x_bipush (n' := 34) (v := 6) dX9_isUnder_32 (by decide) rfl ?_
            refine x_forkN (J := 48) (x_icmp_ne (n' := 37) (tgt := 47) dX9_isUnder_34 (by decide) rfl) (v1 := ?v1_f34_16) (v2 := ?v2_f34_16) (fun c_f34_16 j_f34_16 => ?b1_f34_16) (fun c_f34_16 j_f34_16 => ?b2_f34_16) ?k_f34_16
            case b1_f34_16 =>
              refine x_iconst (n' := 48) (v := 0) dX9_isUnder_47 (by decide) rfl ?_
              exact j_f34_16
            case b2_f34_16 =>
              refine x_iload_n (n' := 38) dX9_isUnder_37 rfl rfl rfl ?_
              refine x_bipush (n' := 40) (v := 7) dX9_isUnder_38 (by decide) rfl ?_
              refine x_forkN (J := 48) (x_icmp_ne (n' := 43) (tgt := 47) dX9_isUnder_40 (by decide) rfl) (v1 := ?v1_f40_17) (v2 := ?v2_f40_17) (fun c_f40_17 j_f40_17 => ?b1_f40_17) (fun c_f40_17 j_f40_17 => ?b2_f40_17) ?k_f40_17
              case b1_f40_17 =>
                refine x_iconst (n' := 48) (v := 0) dX9_isUnder_47 (by decide) rfl ?_
                exact j_f40_17
              case b2_f40_17 =>
                refine x_iconst (n' := 44) (v := 1) dX9_isUnder_43 (by decide) rfl ?_
                refine x_goto (tgt := 48) dX9_isUnder_44 (by decide) ?_
                exact j_f40_17
              exact j_f34_16
            exact j_f23_15
          case b2_f23_15 =>
            refine x_iload_n (n' := 27) dX9_isUnder_26 rfl rfl rfl ?_
            refine x_iconst (n' := 28) (v := 5) dX9_isUnder_27 (by decide) rfl ?_
            refine x_fork (J := 48) (x_icmp_ge (n' := 31) (tgt := 43) dX9_isUnder_28 (by decide) rfl) (v1 := ?v1_f28_18) (v2 := ?v2_f28_18) (fun c_f28_18 j_f28_18 => ?b1_f28_18) (fun c_f28_18 j_f28_18 => ?b2_f28_18) ?k_f28_18
            case b1_f28_18 =>
              refine x_iconst (n' := 44) (v := 1) dX9_isUnder_43 (by decide) rfl ?_
              refine x_goto (tgt := 48) dX9_isUnder_44 (by decide) ?_
              exact j_f28_18
            case b2_f28_18 =>
              refine x_iload_n (n' := 32) dX9_isUnder_31 rfl rfl rfl ?_
              refine x_bipush (n' := 34) (v := 6) dX9_isUnder_32 (by decide) rfl ?_
              refine x_forkN (J := 48) (x_icmp_ne (n' := 37) (tgt := 47) dX9_isUnder_34 (by decide) rfl) (v1 := ?v1_f34_19) (v2 := ?v2_f34_19) (fun c_f34_19 j_f34_19 => ?b1_f34_19) (fun c_f34_19 j_f34_19 => ?b2_f34_19) ?k_f34_19
              case b1_f34_19 =>
                refine x_iconst (n' := 48) (v := 0) dX9_isUnder_47 (by decide) rfl ?_
                exact j_f34_19
              case b2_f34_19 =>
                refine x_iload_n (n' := 38) dX9_isUnder_37 rfl rfl rfl ?_
                refine x_bipush (n' := 40) (v := 7) dX9_isUnder_38 (by decide) rfl ?_
                refine x_forkN (J := 48) (x_icmp_ne (n' := 43) (tgt := 47) dX9_isUnder_40 (by decide) rfl) (v1 := ?v1_f40_20) (v2 := ?v2_f40_20) (fun c_f40_20 j_f40_20 => ?b1_f40_20) (fun c_f40_20 j_f40_20 => ?b2_f40_20) ?k_f40_20
                case b1_f40_20 =>
                  refine x_iconst (n' := 48) (v := 0) dX9_isUnder_47 (by decide) rfl ?_
                  exact j_f40_20
                case b2_f40_20 =>
                  refine x_iconst (n' := 44) (v := 1) dX9_isUnder_43 (by decide) rfl ?_
                  refine x_goto (tgt := 48) dX9_isUnder_44 (by decide) ?_
                  exact j_f40_20
                exact j_f34_19
              exact j_f28_18
            exact j_f23_15
          exact j_f18_14
        exact j_f11_3
      exact j_f6_2
    exact j_f1_1
  refine x_topv (y := bi (underP kind k)) (by unfold bi; grind) ?_
  exact x_zret dX9_isUnder_48 hret (k_zn (bi_01 _)) hE0 (⟨rfl, rfl⟩)

set_option maxHeartbeats 4000000 in
set_option maxRecDepth 100000 in
theorem c_X9_logs (l : Launch) (G : kG) (M : kM) (m : Nat) (ad : Nat → Nat) (hS : MS M m ad) (what ship who : Int32) (hL : LK (mA M (ad 0))) : Kt l G yX9_logs cX9_logs 5 none 0 0 [.ref m, .int what, .int ship, .int who] M (0) (0) (fun v M2 => v = none ∧ M2 = sA M (ad 0) (logP (mA M (ad 0)) what ship who)) := by
  refine Kt.of (own := "KeptLightModel") (L := [some (.ref m), some (.int what), some (.int ship), some (.int who), none]) (by decide +kernel) rfl (Nat.le_of_ble_eq_true rfl) rfl ?_
  intro pp ee ss mm args below meth cd hmn hret
  have hE0 : kE M M := kE.rf
  have km := hS.1
  obtain ⟨hr_g, kk_g, hn_g⟩ := hS.2.1 0 (by decide)
  have hn_g : mN M (ad 0) = 2509 := hn_g
  have kk_g : mK M (ad 0) = some 120 := kk_g
  obtain ⟨n, hb, hn⟩ := hL
  refine x_aload_n (n' := 1) dX9_logs_0 rfl rfl rfl ?_
  refine x_getRs (n' := 4) (b := (ad 0)) dX9_logs_1 km ffX9_9_9 rfl hr_g rfl ?_
  refine x_bipush (n' := 6) (v := 15) dX9_logs_4 (by decide) rfl ?_
  refine x_ildk (n' := 7) dX9_logs_6 kk_g hn_g (by repeat' (first | with_reducible exact nl_0 | with_reducible exact nl_1 | with_reducible exact nl_2 | with_reducible exact nl_3 | with_reducible exact nl_4 | with_reducible exact nl_15 | with_reducible exact nl_400 | with_reducible exact nl_909 | with_reducible exact rfl | apply i_add | apply i_mul)) (by omega) (by decide) (by first | exact hn | (simp (disch := omega) only [mA_sA, up_s, up_n, hn, if_false] <;> rfl) | rfl) rfl ?_
  refine x_istore (n' := 9) dX9_logs_7 (Nat.le_of_ble_eq_true rfl) rfl (by dsimp only [List.set] <;> rfl) rfl ?_
  refine x_iload (n' := 11) dX9_logs_9 rfl rfl ?_
  refine x_sipush (n' := 14) (v := 400) dX9_logs_11 (by decide) rfl ?_
  refine x_icmp_ge (n' := 17) (tgt := 95) dX9_logs_14 (by decide) rfl (fun c14_1 => ?_) (fun c14_1 => ?_)
  · have n_c14_1 := (cv_le (by repeat' (first | with_reducible exact nl_0 | with_reducible exact nl_1 | with_reducible exact nl_2 | with_reducible exact nl_3 | with_reducible exact nl_4 | with_reducible exact nl_15 | with_reducible exact nl_400 | with_reducible exact nl_909 | with_reducible exact rfl | apply i_add | apply i_mul)) (by repeat' (first | with_reducible exact nl_0 | with_reducible exact nl_1 | with_reducible exact nl_2 | with_reducible exact nl_3 | with_reducible exact nl_4 | with_reducible exact nl_15 | with_reducible exact nl_400 | with_reducible exact nl_909 | with_reducible exact rfl | apply i_add | apply i_mul)) (by omega) (by omega)).mp c14_1
    exact x_vret dX9_logs_95 hret hE0 (by first | (rw [logP_b hn hb (by omega), sA_eta]; exact ⟨rfl, rfl⟩) | (rw [logP_a hn (by omega)]; unfold logG; rw [← nI_1]; exact ⟨rfl, rfl⟩))
  · have n_c14_1 := (not_congr (cv_le (by repeat' (first | with_reducible exact nl_0 | with_reducible exact nl_1 | with_reducible exact nl_2 | with_reducible exact nl_3 | with_reducible exact nl_4 | with_reducible exact nl_15 | with_reducible exact nl_400 | with_reducible exact nl_909 | with_reducible exact rfl | apply i_add | apply i_mul)) (by repeat' (first | with_reducible exact nl_0 | with_reducible exact nl_1 | with_reducible exact nl_2 | with_reducible exact nl_3 | with_reducible exact nl_4 | with_reducible exact nl_15 | with_reducible exact nl_400 | with_reducible exact nl_909 | with_reducible exact rfl | apply i_add | apply i_mul)) (by omega) (by omega))).mp c14_1
    refine x_aload_n (n' := 18) dX9_logs_17 rfl rfl rfl ?_
    refine x_getRs (n' := 21) (b := (ad 0)) dX9_logs_18 km ffX9_9_9 rfl hr_g rfl ?_
    refine x_sipush (n' := 24) (v := 909) dX9_logs_21 (by decide) rfl ?_
    refine x_iconst (n' := 25) (v := 4) dX9_logs_24 (by decide) rfl ?_
    refine x_iload (n' := 27) dX9_logs_25 rfl rfl ?_
    refine x_imul (n' := 28) dX9_logs_27 rfl ?_
    refine x_iadd (n' := 29) dX9_logs_28 rfl ?_
    refine x_aload_n (n' := 30) dX9_logs_29 rfl rfl rfl ?_
    refine x_getRs (n' := 33) (b := (ad 0)) dX9_logs_30 km ffX9_9_9 rfl hr_g rfl ?_
    refine x_iconst (n' := 34) (v := 0) dX9_logs_33 (by decide) rfl ?_
    refine x_ildk (n' := 35) dX9_logs_34 kk_g hn_g (by repeat' (first | with_reducible exact nl_0 | with_reducible exact nl_1 | with_reducible exact nl_2 | with_reducible exact nl_3 | with_reducible exact nl_4 | with_reducible exact nl_15 | with_reducible exact nl_400 | with_reducible exact nl_909 | with_reducible exact rfl | apply i_add | apply i_mul)) (by omega) (by decide) (by first | exact hn | (simp (disch := omega) only [mA_sA, up_s, up_n, hn, if_false] <;> rfl) | rfl) rfl ?_
    refine x_iastk (n' := 36) dX9_logs_35 kk_g hn_g (by repeat' (first | with_reducible exact nl_0 | with_reducible exact nl_1 | with_reducible exact nl_2 | with_reducible exact nl_3 | with_reducible exact nl_4 | with_reducible exact nl_15 | with_reducible exact nl_400 | with_reducible exact nl_909 | with_reducible exact rfl | apply i_add | apply i_mul)) (by omega) (by decide) (by first | exact mA_sA | rfl) (by first | exact sA_sA | rfl) rfl ?_
    refine x_aload_n (n' := 37) dX9_logs_36 rfl rfl rfl ?_
    refine x_getRs (n' := 40) (b := (ad 0)) dX9_logs_37 km ffX9_9_9 rfl hr_g rfl ?_
    refine x_sipush (n' := 43) (v := 909) dX9_logs_40 (by decide) rfl ?_
    refine x_iconst (n' := 44) (v := 4) dX9_logs_43 (by decide) rfl ?_
    refine x_iload (n' := 46) dX9_logs_44 rfl rfl ?_
    refine x_imul (n' := 47) dX9_logs_46 rfl ?_
    refine x_iadd (n' := 48) dX9_logs_47 rfl ?_
    refine x_iconst (n' := 49) (v := 1) dX9_logs_48 (by decide) rfl ?_
    refine x_iadd (n' := 50) dX9_logs_49 rfl ?_
    refine x_iload_n (n' := 51) dX9_logs_50 rfl rfl rfl ?_
    refine x_iastk (n' := 52) dX9_logs_51 kk_g hn_g (by repeat' (first | with_reducible exact nl_0 | with_reducible exact nl_1 | with_reducible exact nl_2 | with_reducible exact nl_3 | with_reducible exact nl_4 | with_reducible exact nl_15 | with_reducible exact nl_400 | with_reducible exact nl_909 | with_reducible exact rfl | apply i_add | apply i_mul)) (by omega) (by decide) (by first | exact mA_sA | rfl) (by first | exact sA_sA | rfl) rfl ?_
    refine x_aload_n (n' := 53) dX9_logs_52 rfl rfl rfl ?_
    refine x_getRs (n' := 56) (b := (ad 0)) dX9_logs_53 km ffX9_9_9 rfl hr_g rfl ?_
    refine x_sipush (n' := 59) (v := 909) dX9_logs_56 (by decide) rfl ?_
    refine x_iconst (n' := 60) (v := 4) dX9_logs_59 (by decide) rfl ?_
    refine x_iload (n' := 62) dX9_logs_60 rfl rfl ?_
    refine x_imul (n' := 63) dX9_logs_62 rfl ?_
    refine x_iadd (n' := 64) dX9_logs_63 rfl ?_
    refine x_iconst (n' := 65) (v := 2) dX9_logs_64 (by decide) rfl ?_
    refine x_iadd (n' := 66) dX9_logs_65 rfl ?_
    refine x_iload_n (n' := 67) dX9_logs_66 rfl rfl rfl ?_
    refine x_iastk (n' := 68) dX9_logs_67 kk_g hn_g (by repeat' (first | with_reducible exact nl_0 | with_reducible exact nl_1 | with_reducible exact nl_2 | with_reducible exact nl_3 | with_reducible exact nl_4 | with_reducible exact nl_15 | with_reducible exact nl_400 | with_reducible exact nl_909 | with_reducible exact rfl | apply i_add | apply i_mul)) (by omega) (by decide) (by first | exact mA_sA | rfl) (by first | exact sA_sA | rfl) rfl ?_
    refine x_aload_n (n' := 69) dX9_logs_68 rfl rfl rfl ?_
    refine x_getRs (n' := 72) (b := (ad 0)) dX9_logs_69 km ffX9_9_9 rfl hr_g rfl ?_
    refine x_sipush (n' := 75) (v := 909) dX9_logs_72 (by decide) rfl ?_
    refine x_iconst (n' := 76) (v := 4) dX9_logs_75 (by decide) rfl ?_
    refine x_iload (n' := 78) dX9_logs_76 rfl rfl ?_
    refine x_imul (n' := 79) dX9_logs_78 rfl ?_
    refine x_iadd (n' := 80) dX9_logs_79 rfl ?_
    refine x_iconst (n' := 81) (v := 3) dX9_logs_80 (by decide) rfl ?_
    refine x_iadd (n' := 82) dX9_logs_81 rfl ?_
    refine x_iload_n (n' := 83) dX9_logs_82 rfl rfl rfl ?_
    refine x_iastk (n' := 84) dX9_logs_83 kk_g hn_g (by repeat' (first | with_reducible exact nl_0 | with_reducible exact nl_1 | with_reducible exact nl_2 | with_reducible exact nl_3 | with_reducible exact nl_4 | with_reducible exact nl_15 | with_reducible exact nl_400 | with_reducible exact nl_909 | with_reducible exact rfl | apply i_add | apply i_mul)) (by omega) (by decide) (by first | exact mA_sA | rfl) (by first | exact sA_sA | rfl) rfl ?_
    refine x_aload_n (n' := 85) dX9_logs_84 rfl rfl rfl ?_
    refine x_getRs (n' := 88) (b := (ad 0)) dX9_logs_85 km ffX9_9_9 rfl hr_g rfl ?_
    refine x_bipush (n' := 90) (v := 15) dX9_logs_88 (by decide) rfl ?_
    refine x_iload (n' := 92) dX9_logs_90 rfl rfl ?_
    refine x_iconst (n' := 93) (v := 1) dX9_logs_92 (by decide) rfl ?_
    refine x_iadd (n' := 94) dX9_logs_93 rfl ?_
    refine x_iastk (n' := 95) dX9_logs_94 kk_g hn_g (by repeat' (first | with_reducible exact nl_0 | with_reducible exact nl_1 | with_reducible exact nl_2 | with_reducible exact nl_3 | with_reducible exact nl_4 | with_reducible exact nl_15 | with_reducible exact nl_400 | with_reducible exact nl_909 | with_reducible exact rfl | apply i_add | apply i_mul)) (by omega) (by decide) (by first | exact mA_sA | rfl) (by first | exact sA_sA | rfl) rfl ?_
    exact x_vret dX9_logs_95 hret hE0 (by first | (rw [logP_b hn hb (by omega), sA_eta]; exact ⟨rfl, rfl⟩) | (rw [logP_a hn (by omega)]; unfold logG; rw [← nI_1]; exact ⟨rfl, rfl⟩))

set_option maxHeartbeats 4000000 in
set_option maxRecDepth 100000 in
theorem c_X9_passesLamp (l : Launch) (G : kG) (M : kM) (m : Nat) (ad : Nat → Nat) (hS : MS M m ad) (d t : Int32) (h : Nat) (hh : mA M (ad 0) 0 = nI h) (hb : h < 2147483648) : Kt l G yX9_passesLamp cX9_passesLamp 4 none 0 0 [.ref m, .int d, .int t] M (0) (0) (fun v M2 => v = none ∧ M2 = sA M (ad 0) (lampG (mA M (ad 0)) d t h)) := by
  refine Kt.of (own := "KeptLightModel") (L := [some (.ref m), some (.int d), some (.int t), none]) (by decide +kernel) rfl (Nat.le_of_ble_eq_true rfl) rfl ?_
  intro pp ee ss mm args below meth cd hmn hret
  have hE0 : kE M M := kE.rf
  have km := hS.1
  obtain ⟨hr_g, kk_g, hn_g⟩ := hS.2.1 0 (by decide)
  have hn_g : mN M (ad 0) = 2509 := hn_g
  have kk_g : mK M (ad 0) = some 120 := kk_g
  refine x_iload_n (n' := 1) dX9_passesLamp_0 rfl rfl rfl ?_
  refine x_fork (J := 49) (x_if_eq (n' := 4) (tgt := 48) dX9_passesLamp_1 (by decide) rfl) (v1 := ?v1_f1_1) (v2 := ?v2_f1_1) (fun c_f1_1 j_f1_1 => ?b1_f1_1) (fun c_f1_1 j_f1_1 => ?b2_f1_1) ?k_f1_1
  case b1_f1_1 =>
    refine x_iconst (n' := 49) (v := 0) dX9_passesLamp_48 (by decide) rfl ?_
    exact j_f1_1
  case b2_f1_1 =>
    refine x_iload_n (n' := 5) dX9_passesLamp_4 rfl rfl rfl ?_
    refine x_forkN (J := 49) (x_if_ne (n' := 8) (tgt := 29) dX9_passesLamp_5 (by decide) rfl) (v1 := ?v1_f5_2) (v2 := ?v2_f5_2) (fun c_f5_2 j_f5_2 => ?b1_f5_2) (fun c_f5_2 j_f5_2 => ?b2_f5_2) ?k_f5_2
    case b1_f5_2 =>
      refine x_aload_n (n' := 30) dX9_passesLamp_29 rfl rfl rfl ?_
      refine x_getRs (n' := 33) (b := (ad 0)) dX9_passesLamp_30 km ffX9_9_9 rfl hr_g rfl ?_
      refine x_iconst (n' := 34) (v := 4) dX9_passesLamp_33 (by decide) rfl ?_
      refine x_ildk (n' := 35) dX9_passesLamp_34 kk_g hn_g (by repeat' (first | with_reducible exact nl_0 | with_reducible exact nl_1 | with_reducible exact nl_3 | with_reducible exact nl_4 | with_reducible exact nl_6 | with_reducible exact nl_7 | with_reducible exact nl_16 | with_reducible exact nl_17 | with_reducible exact nl_24 | with_reducible exact rfl | apply i_add | apply i_mul)) (by omega) (by decide) (by first | exact hh | (simp (disch := omega) only [mA_sA, up_s, up_n, hh, if_false] <;> rfl) | rfl) rfl ?_
      refine x_aload_n (n' := 36) dX9_passesLamp_35 rfl rfl rfl ?_
      refine x_getRs (n' := 39) (b := (ad 0)) dX9_passesLamp_36 km ffX9_9_9 rfl hr_g rfl ?_
      refine x_iconst (n' := 40) (v := 3) dX9_passesLamp_39 (by decide) rfl ?_
      refine x_ildk (n' := 41) dX9_passesLamp_40 kk_g hn_g (by repeat' (first | with_reducible exact nl_0 | with_reducible exact nl_1 | with_reducible exact nl_3 | with_reducible exact nl_4 | with_reducible exact nl_6 | with_reducible exact nl_7 | with_reducible exact nl_16 | with_reducible exact nl_17 | with_reducible exact nl_24 | with_reducible exact rfl | apply i_add | apply i_mul)) (by omega) (by decide) (by first | exact hh | (simp (disch := omega) only [mA_sA, up_s, up_n, hh, if_false] <;> rfl) | rfl) rfl ?_
      refine x_fork (J := 49) (x_icmp_lt (n' := 44) (tgt := 48) dX9_passesLamp_41 (by decide) rfl) (v1 := ?v1_f41_3) (v2 := ?v2_f41_3) (fun c_f41_3 j_f41_3 => ?b1_f41_3) (fun c_f41_3 j_f41_3 => ?b2_f41_3) ?k_f41_3
      case b1_f41_3 =>
        refine x_iconst (n' := 49) (v := 0) dX9_passesLamp_48 (by decide) rfl ?_
        exact j_f41_3
      case b2_f41_3 =>
        refine x_iconst (n' := 45) (v := 1) dX9_passesLamp_44 (by decide) rfl ?_
        refine x_goto (tgt := 49) dX9_passesLamp_45 (by decide) ?_
        exact j_f41_3
      exact j_f5_2
    case b2_f5_2 =>
      refine x_aload_n (n' := 9) dX9_passesLamp_8 rfl rfl rfl ?_
      refine x_getRs (n' := 12) (b := (ad 0)) dX9_passesLamp_9 km ffX9_9_9 rfl hr_g rfl ?_
      refine x_bipush (n' := 14) (v := 6) dX9_passesLamp_12 (by decide) rfl ?_
      refine x_ildk (n' := 15) dX9_passesLamp_14 kk_g hn_g (by repeat' (first | with_reducible exact nl_0 | with_reducible exact nl_1 | with_reducible exact nl_3 | with_reducible exact nl_4 | with_reducible exact nl_6 | with_reducible exact nl_7 | with_reducible exact nl_16 | with_reducible exact nl_17 | with_reducible exact nl_24 | with_reducible exact rfl | apply i_add | apply i_mul)) (by omega) (by decide) (by first | exact hh | (simp (disch := omega) only [mA_sA, up_s, up_n, hh, if_false] <;> rfl) | rfl) rfl ?_
      refine x_iconst (n' := 16) (v := 1) dX9_passesLamp_15 (by decide) rfl ?_
      refine x_forkN (J := 49) (x_icmp_ne (n' := 19) (tgt := 48) dX9_passesLamp_16 (by decide) rfl) (v1 := ?v1_f16_4) (v2 := ?v2_f16_4) (fun c_f16_4 j_f16_4 => ?b1_f16_4) (fun c_f16_4 j_f16_4 => ?b2_f16_4) ?k_f16_4
      case b1_f16_4 =>
        refine x_iconst (n' := 49) (v := 0) dX9_passesLamp_48 (by decide) rfl ?_
        exact j_f16_4
      case b2_f16_4 =>
        refine x_aload_n (n' := 20) dX9_passesLamp_19 rfl rfl rfl ?_
        refine x_getRs (n' := 23) (b := (ad 0)) dX9_passesLamp_20 km ffX9_9_9 rfl hr_g rfl ?_
        refine x_bipush (n' := 25) (v := 7) dX9_passesLamp_23 (by decide) rfl ?_
        refine x_ildk (n' := 26) dX9_passesLamp_25 kk_g hn_g (by repeat' (first | with_reducible exact nl_0 | with_reducible exact nl_1 | with_reducible exact nl_3 | with_reducible exact nl_4 | with_reducible exact nl_6 | with_reducible exact nl_7 | with_reducible exact nl_16 | with_reducible exact nl_17 | with_reducible exact nl_24 | with_reducible exact rfl | apply i_add | apply i_mul)) (by omega) (by decide) (by first | exact hh | (simp (disch := omega) only [mA_sA, up_s, up_n, hh, if_false] <;> rfl) | rfl) rfl ?_
        refine x_forkN (J := 49) (x_if_ne (n' := 29) (tgt := 48) dX9_passesLamp_26 (by decide) rfl) (v1 := ?v1_f26_5) (v2 := ?v2_f26_5) (fun c_f26_5 j_f26_5 => ?b1_f26_5) (fun c_f26_5 j_f26_5 => ?b2_f26_5) ?k_f26_5
        case b1_f26_5 =>
          refine x_iconst (n' := 49) (v := 0) dX9_passesLamp_48 (by decide) rfl ?_
          exact j_f26_5
        case b2_f26_5 =>
          refine x_aload_n (n' := 30) dX9_passesLamp_29 rfl rfl rfl ?_
          refine x_getRs (n' := 33) (b := (ad 0)) dX9_passesLamp_30 km ffX9_9_9 rfl hr_g rfl ?_
          refine x_iconst (n' := 34) (v := 4) dX9_passesLamp_33 (by decide) rfl ?_
          refine x_ildk (n' := 35) dX9_passesLamp_34 kk_g hn_g (by repeat' (first | with_reducible exact nl_0 | with_reducible exact nl_1 | with_reducible exact nl_3 | with_reducible exact nl_4 | with_reducible exact nl_6 | with_reducible exact nl_7 | with_reducible exact nl_16 | with_reducible exact nl_17 | with_reducible exact nl_24 | with_reducible exact rfl | apply i_add | apply i_mul)) (by omega) (by decide) (by first | exact hh | (simp (disch := omega) only [mA_sA, up_s, up_n, hh, if_false] <;> rfl) | rfl) rfl ?_
          refine x_aload_n (n' := 36) dX9_passesLamp_35 rfl rfl rfl ?_
          refine x_getRs (n' := 39) (b := (ad 0)) dX9_passesLamp_36 km ffX9_9_9 rfl hr_g rfl ?_
          refine x_iconst (n' := 40) (v := 3) dX9_passesLamp_39 (by decide) rfl ?_
          refine x_ildk (n' := 41) dX9_passesLamp_40 kk_g hn_g (by repeat' (first | with_reducible exact nl_0 | with_reducible exact nl_1 | with_reducible exact nl_3 | with_reducible exact nl_4 | with_reducible exact nl_6 | with_reducible exact nl_7 | with_reducible exact nl_16 | with_reducible exact nl_17 | with_reducible exact nl_24 | with_reducible exact rfl | apply i_add | apply i_mul)) (by omega) (by decide) (by first | exact hh | (simp (disch := omega) only [mA_sA, up_s, up_n, hh, if_false] <;> rfl) | rfl) rfl ?_
          refine x_fork (J := 49) (x_icmp_lt (n' := 44) (tgt := 48) dX9_passesLamp_41 (by decide) rfl) (v1 := ?v1_f41_6) (v2 := ?v2_f41_6) (fun c_f41_6 j_f41_6 => ?b1_f41_6) (fun c_f41_6 j_f41_6 => ?b2_f41_6) ?k_f41_6
          case b1_f41_6 =>
            refine x_iconst (n' := 49) (v := 0) dX9_passesLamp_48 (by decide) rfl ?_
            exact j_f41_6
          case b2_f41_6 =>
            refine x_iconst (n' := 45) (v := 1) dX9_passesLamp_44 (by decide) rfl ?_
            refine x_goto (tgt := 49) dX9_passesLamp_45 (by decide) ?_
            exact j_f41_6
          exact j_f26_5
        exact j_f16_4
      exact j_f5_2
    exact j_f1_1
  refine x_topv (y := bi (lampP (mA M (ad 0)) d t)) (by unfold bi; grind) ?_
  refine x_istore_n (n' := 50) dX9_passesLamp_49 rfl (Nat.le_of_ble_eq_true rfl) rfl (by dsimp only [List.set] <;> rfl) rfl ?_
  refine x_aload_n (n' := 51) dX9_passesLamp_50 rfl rfl rfl ?_
  refine x_getRs (n' := 54) (b := (ad 0)) dX9_passesLamp_51 km ffX9_9_9 rfl hr_g rfl ?_
  refine x_bipush (n' := 56) (v := 6) dX9_passesLamp_54 (by decide) rfl ?_
  refine x_iload_n (n' := 57) dX9_passesLamp_56 rfl rfl rfl ?_
  refine x_fork (J := 65) (x_if_eq (n' := 60) (tgt := 64) dX9_passesLamp_57 (by decide) rfl) (v1 := ?v1_f57_7) (v2 := ?v2_f57_7) (fun c_f57_7 j_f57_7 => ?b1_f57_7) (fun c_f57_7 j_f57_7 => ?b2_f57_7) ?k_f57_7
  case b1_f57_7 =>
    refine x_iconst (n' := 65) (v := 0) dX9_passesLamp_64 (by decide) rfl ?_
    exact j_f57_7
  case b2_f57_7 =>
    refine x_iconst (n' := 61) (v := 1) dX9_passesLamp_60 (by decide) rfl ?_
    refine x_goto (tgt := 65) dX9_passesLamp_61 (by decide) ?_
    exact j_f57_7
  refine x_topv bi_if ?_
  refine x_iastk (n' := 66) dX9_passesLamp_65 kk_g hn_g (by repeat' (first | with_reducible exact nl_0 | with_reducible exact nl_1 | with_reducible exact nl_3 | with_reducible exact nl_4 | with_reducible exact nl_6 | with_reducible exact nl_7 | with_reducible exact nl_16 | with_reducible exact nl_17 | with_reducible exact nl_24 | with_reducible exact rfl | apply i_add | apply i_mul)) (by omega) (by decide) (by first | exact mA_sA | rfl) (by first | exact sA_sA | rfl) rfl ?_
  refine x_aload_n (n' := 67) dX9_passesLamp_66 rfl rfl rfl ?_
  refine x_getRs (n' := 70) (b := (ad 0)) dX9_passesLamp_67 km ffX9_9_9 rfl hr_g rfl ?_
  refine x_iconst (n' := 71) (v := 4) dX9_passesLamp_70 (by decide) rfl ?_
  refine x_dup2_11 (n' := 72) dX9_passesLamp_71 rfl rfl rfl ?_
  refine x_ildk (n' := 73) dX9_passesLamp_72 kk_g hn_g (by repeat' (first | with_reducible exact nl_0 | with_reducible exact nl_1 | with_reducible exact nl_3 | with_reducible exact nl_4 | with_reducible exact nl_6 | with_reducible exact nl_7 | with_reducible exact nl_16 | with_reducible exact nl_17 | with_reducible exact nl_24 | with_reducible exact rfl | apply i_add | apply i_mul)) (by omega) (by decide) (by first | exact hh | (simp (disch := omega) only [mA_sA, up_s, up_n, hh, if_false] <;> rfl) | rfl) rfl ?_
  refine x_iload_n (n' := 74) dX9_passesLamp_73 rfl rfl rfl ?_
  refine x_fork (J := 87) (x_if_eq (n' := 77) (tgt := 86) dX9_passesLamp_74 (by decide) rfl) (v1 := ?v1_f74_8) (v2 := ?v2_f74_8) (fun c_f74_8 j_f74_8 => ?b1_f74_8) (fun c_f74_8 j_f74_8 => ?b2_f74_8) ?k_f74_8
  case b1_f74_8 =>
    refine x_iconst (n' := 87) (v := 0) dX9_passesLamp_86 (by decide) rfl ?_
    exact j_f74_8
  case b2_f74_8 =>
    refine x_aload_n (n' := 78) dX9_passesLamp_77 rfl rfl rfl ?_
    refine x_getRs (n' := 81) (b := (ad 0)) dX9_passesLamp_78 km ffX9_9_9 rfl hr_g rfl ?_
    refine x_iconst (n' := 82) (v := 3) dX9_passesLamp_81 (by decide) rfl ?_
    refine x_ildk (n' := 83) dX9_passesLamp_82 kk_g hn_g (by repeat' (first | with_reducible exact nl_0 | with_reducible exact nl_1 | with_reducible exact nl_3 | with_reducible exact nl_4 | with_reducible exact nl_6 | with_reducible exact nl_7 | with_reducible exact nl_16 | with_reducible exact nl_17 | with_reducible exact nl_24 | with_reducible exact rfl | apply i_add | apply i_mul)) (by omega) (by decide) (by first | exact hh | (simp (disch := omega) only [mA_sA, up_s, up_n, hh, if_false] <;> rfl) | rfl) rfl ?_
    refine x_goto (tgt := 87) dX9_passesLamp_83 (by decide) ?_
    exact j_f74_8
  refine x_topv bi_ite ?_
  refine x_isub (n' := 88) dX9_passesLamp_87 rfl ?_
  refine x_iastk (n' := 89) dX9_passesLamp_88 kk_g hn_g (by repeat' (first | with_reducible exact nl_0 | with_reducible exact nl_1 | with_reducible exact nl_3 | with_reducible exact nl_4 | with_reducible exact nl_6 | with_reducible exact nl_7 | with_reducible exact nl_16 | with_reducible exact nl_17 | with_reducible exact nl_24 | with_reducible exact rfl | apply i_add | apply i_mul)) (by omega) (by decide) (by first | exact mA_sA | rfl) (by first | exact sA_sA | rfl) rfl ?_
  refine x_aload_n (n' := 90) dX9_passesLamp_89 rfl rfl rfl ?_
  refine x_getRs (n' := 93) (b := (ad 0)) dX9_passesLamp_90 km ffX9_9_9 rfl hr_g rfl ?_
  refine x_bipush (n' := 95) (v := 7) dX9_passesLamp_93 (by decide) rfl ?_
  refine x_iload_n (n' := 96) dX9_passesLamp_95 rfl rfl rfl ?_
  refine x_fork (J := 108) (x_if_eq (n' := 99) (tgt := 107) dX9_passesLamp_96 (by decide) rfl) (v1 := ?v1_f96_9) (v2 := ?v2_f96_9) (fun c_f96_9 j_f96_9 => ?b1_f96_9) (fun c_f96_9 j_f96_9 => ?b2_f96_9) ?k_f96_9
  case b1_f96_9 =>
    refine x_iconst (n' := 108) (v := 0) dX9_passesLamp_107 (by decide) rfl ?_
    exact j_f96_9
  case b2_f96_9 =>
    refine x_iload_n (n' := 100) dX9_passesLamp_99 rfl rfl rfl ?_
    refine x_forkN (J := 108) (x_if_ne (n' := 103) (tgt := 107) dX9_passesLamp_100 (by decide) rfl) (v1 := ?v1_f100_10) (v2 := ?v2_f100_10) (fun c_f100_10 j_f100_10 => ?b1_f100_10) (fun c_f100_10 j_f100_10 => ?b2_f100_10) ?k_f100_10
    case b1_f100_10 =>
      refine x_iconst (n' := 108) (v := 0) dX9_passesLamp_107 (by decide) rfl ?_
      exact j_f100_10
    case b2_f100_10 =>
      refine x_iconst (n' := 104) (v := 1) dX9_passesLamp_103 (by decide) rfl ?_
      refine x_goto (tgt := 108) dX9_passesLamp_104 (by decide) ?_
      exact j_f100_10
    exact j_f96_9
  refine x_topv (bi_ite.trans bi_and) ?_
  refine x_iastk (n' := 109) dX9_passesLamp_108 kk_g hn_g (by repeat' (first | with_reducible exact nl_0 | with_reducible exact nl_1 | with_reducible exact nl_3 | with_reducible exact nl_4 | with_reducible exact nl_6 | with_reducible exact nl_7 | with_reducible exact nl_16 | with_reducible exact nl_17 | with_reducible exact nl_24 | with_reducible exact rfl | apply i_add | apply i_mul)) (by omega) (by decide) (by first | exact mA_sA | rfl) (by first | exact sA_sA | rfl) rfl ?_
  refine x_iload_n (n' := 110) dX9_passesLamp_109 rfl rfl rfl ?_
  refine x_if_eq (n' := 113) (tgt := 149) dX9_passesLamp_110 (by decide) rfl (fun c110_11 => ?_) (fun c110_11 => ?_)
  · have C110 := c110_11
    exact x_vret dX9_passesLamp_149 hret hE0 (⟨rfl, congrArg (sA M (ad 0)) (by first | exact (lamp_a C110).symm | exact (lamp_b C114).symm | exact (lamp_c C110 C114).symm)⟩)
  · have C110 := c110_11
    refine x_iload_n (n' := 114) dX9_passesLamp_113 rfl rfl rfl ?_
    refine x_if_ne (n' := 117) (tgt := 149) dX9_passesLamp_114 (by decide) rfl (fun c114_12 => ?_) (fun c114_12 => ?_)
    · have C114 := c114_12
      exact x_vret dX9_passesLamp_149 hret hE0 (⟨rfl, congrArg (sA M (ad 0)) (by first | exact (lamp_a C110).symm | exact (lamp_b C114).symm | exact (lamp_c C110 C114).symm)⟩)
    · have C114 := c114_12
      refine x_aload_n (n' := 118) dX9_passesLamp_117 rfl rfl rfl ?_
      refine x_getRs (n' := 121) (b := (ad 0)) dX9_passesLamp_118 km ffX9_9_9 rfl hr_g rfl ?_
      refine x_bipush (n' := 123) (v := 16) dX9_passesLamp_121 (by decide) rfl ?_
      refine x_dup2_11 (n' := 124) dX9_passesLamp_123 rfl rfl rfl ?_
      refine x_ildk (n' := 125) dX9_passesLamp_124 kk_g hn_g (by repeat' (first | with_reducible exact nl_0 | with_reducible exact nl_1 | with_reducible exact nl_3 | with_reducible exact nl_4 | with_reducible exact nl_6 | with_reducible exact nl_7 | with_reducible exact nl_16 | with_reducible exact nl_17 | with_reducible exact nl_24 | with_reducible exact rfl | apply i_add | apply i_mul)) (by omega) (by decide) (by first | exact hh | (simp (disch := omega) only [mA_sA, up_s, up_n, hh, if_false] <;> rfl) | rfl) rfl ?_
      refine x_iconst (n' := 126) (v := 1) dX9_passesLamp_125 (by decide) rfl ?_
      refine x_iadd (n' := 127) dX9_passesLamp_126 rfl ?_
      refine x_iastk (n' := 128) dX9_passesLamp_127 kk_g hn_g (by repeat' (first | with_reducible exact nl_0 | with_reducible exact nl_1 | with_reducible exact nl_3 | with_reducible exact nl_4 | with_reducible exact nl_6 | with_reducible exact nl_7 | with_reducible exact nl_16 | with_reducible exact nl_17 | with_reducible exact nl_24 | with_reducible exact rfl | apply i_add | apply i_mul)) (by omega) (by decide) (by first | exact mA_sA | rfl) (by first | exact sA_sA | rfl) rfl ?_
      refine x_aload_n (n' := 129) dX9_passesLamp_128 rfl rfl rfl ?_
      refine x_getRs (n' := 132) (b := (ad 0)) dX9_passesLamp_129 km ffX9_9_9 rfl hr_g rfl ?_
      refine x_bipush (n' := 134) (v := 17) dX9_passesLamp_132 (by decide) rfl ?_
      refine x_dup2_11 (n' := 135) dX9_passesLamp_134 rfl rfl rfl ?_
      refine x_ildk (n' := 136) dX9_passesLamp_135 kk_g hn_g (by repeat' (first | with_reducible exact nl_0 | with_reducible exact nl_1 | with_reducible exact nl_3 | with_reducible exact nl_4 | with_reducible exact nl_6 | with_reducible exact nl_7 | with_reducible exact nl_16 | with_reducible exact nl_17 | with_reducible exact nl_24 | with_reducible exact rfl | apply i_add | apply i_mul)) (by omega) (by decide) (by first | exact hh | (simp (disch := omega) only [mA_sA, up_s, up_n, hh, if_false] <;> rfl) | rfl) rfl ?_
      refine x_iconst (n' := 137) (v := 1) dX9_passesLamp_136 (by decide) rfl ?_
      refine x_aload_n (n' := 138) dX9_passesLamp_137 rfl rfl rfl ?_
      refine x_getRs (n' := 141) (b := (ad 0)) dX9_passesLamp_138 km ffX9_9_9 rfl hr_g rfl ?_
      refine x_iconst (n' := 142) (v := 0) dX9_passesLamp_141 (by decide) rfl ?_
      refine x_ildk (n' := 143) dX9_passesLamp_142 kk_g hn_g (by repeat' (first | with_reducible exact nl_0 | with_reducible exact nl_1 | with_reducible exact nl_3 | with_reducible exact nl_4 | with_reducible exact nl_6 | with_reducible exact nl_7 | with_reducible exact nl_16 | with_reducible exact nl_17 | with_reducible exact nl_24 | with_reducible exact rfl | apply i_add | apply i_mul)) (by omega) (by decide) (by first | exact hh | (simp (disch := omega) only [mA_sA, up_s, up_n, hh, if_false] <;> rfl) | rfl) rfl ?_
      refine x_bipush (n' := 145) (v := 24) dX9_passesLamp_143 (by decide) rfl ?_
      refine x_irem (n' := 146) dX9_passesLamp_145 (by decide) rfl ?_
      refine x_topv (y := nI (h % 24)) (pk_rem (d := 24) (by omega) (by decide) (by decide)) ?_
      refine x_ishl (n' := 147) dX9_passesLamp_146 rfl ?_
      refine x_ior (n' := 148) dX9_passesLamp_147 rfl ?_
      refine x_iastk (n' := 149) dX9_passesLamp_148 kk_g hn_g (by repeat' (first | with_reducible exact nl_0 | with_reducible exact nl_1 | with_reducible exact nl_3 | with_reducible exact nl_4 | with_reducible exact nl_6 | with_reducible exact nl_7 | with_reducible exact nl_16 | with_reducible exact nl_17 | with_reducible exact nl_24 | with_reducible exact rfl | apply i_add | apply i_mul)) (by omega) (by decide) (by first | exact mA_sA | rfl) (by first | exact sA_sA | rfl) rfl ?_
      exact x_vret dX9_passesLamp_149 hret hE0 (⟨rfl, congrArg (sA M (ad 0)) (by first | exact (lamp_a C110).symm | exact (lamp_b C114).symm | exact (lamp_c C110 C114).symm)⟩)

set_option maxHeartbeats 4000000 in
set_option maxRecDepth 100000 in
theorem c_X9_tires (l : Launch) (G : kG) (M : kM) (m : Nat) (ad : Nat → Nat) (hS : MS M m ad) (who w : Int32) (nk : Nat) (hn : mA M (ad 0) 13 = nI nk) (hb : nk ≤ 6) : Kt l G yX9_tires cX9_tires 5 none 1 22 [.ref m, .int who, .int w] M (0) (0) (fun v M2 => v = none ∧ M2 = sA M (ad 0) (tireG (mA M (ad 0)) who w nk)) := by
  refine Kt.of (own := "KeptLightModel") (L := [some (.ref m), some (.int who), some (.int w), none, none]) (by decide +kernel) rfl (Nat.le_of_ble_eq_true rfl) rfl ?_
  intro pp ee ss mm args below meth cd hmn hret
  have hE0 : kE M M := kE.rf
  have km := hS.1
  obtain ⟨hr_g, kk_g, hn_g⟩ := hS.2.1 0 (by decide)
  have hn_g : mN M (ad 0) = 2509 := hn_g
  have kk_g : mK M (ad 0) = some 120 := kk_g
  have t13 : ∀ n, n ≤ nk → tireG (mA M (ad 0)) who w n 13 = nI nk := fun n _ => by unfold tireG; rw [if_neg (by omega), hn]
  have cut2 : ∀ (fuel : Nat) (i : Nat) (h1 : nk - i < fuel) (h2 : i ≤ nk) (hE0 : kE M M), Wx pp l ee { frames := 1, cells := 0, slots := 0, locals := 22 } ss mm args below meth cd "KeptLightModel" cX9_tires 5 G (MQ below (KQ G M (fun v M2 => v = none ∧ M2 = sA M (ad 0) (tireG (mA M (ad 0)) who w nk))) args ss (0) (0) (kA G)) 2 [some (.ref m), some (.int who), some (.int w), some (.int (nI i)), none] [] (sA M (ad 0) (tireG (mA M (ad 0)) who w i)) (0) (0) := by
    intro fuel
    induction fuel with
    | zero => intro i h1 h2 hE0; omega
    | succ fuel ih =>
      intro i h1 h2 hE0
      refine x_iload_n (n' := 3) dX9_tires_2 rfl rfl rfl ?_
      refine x_aload_n (n' := 4) dX9_tires_3 rfl rfl rfl ?_
      refine x_getRs (n' := 7) (b := (ad 0)) dX9_tires_4 km ffX9_9_9 rfl hr_g rfl ?_
      refine x_bipush (n' := 9) (v := 13) dX9_tires_7 (by decide) rfl ?_
      refine x_ildk (n' := 10) dX9_tires_9 kk_g hn_g (by repeat' (first | with_reducible exact nl_0 | with_reducible exact nl_1 | with_reducible exact nl_2 | with_reducible exact nl_4 | with_reducible exact nl_13 | with_reducible exact nl_61 | with_reducible exact rfl | apply i_add | apply i_mul)) (by omega) (by decide) ((congrFun mA_sA 13).trans (t13 i h2)) rfl ?_
      refine x_icmp_ge (n' := 13) (tgt := 69) dX9_tires_10 (by decide) rfl (fun c10_1 => ?_) (fun c10_1 => ?_)
      · have n_c10_1 := (cv_le (by repeat' (first | with_reducible exact nl_0 | with_reducible exact nl_1 | with_reducible exact nl_2 | with_reducible exact nl_4 | with_reducible exact nl_13 | with_reducible exact nl_61 | with_reducible exact rfl | apply i_add | apply i_mul)) (by repeat' (first | with_reducible exact nl_0 | with_reducible exact nl_1 | with_reducible exact nl_2 | with_reducible exact nl_4 | with_reducible exact nl_13 | with_reducible exact nl_61 | with_reducible exact rfl | apply i_add | apply i_mul)) (by omega) (by omega)).mp c10_1
        exact x_vret dX9_tires_69 hret hE0 (⟨rfl, by rw [show i = nk by omega]⟩)
      · have n_c10_1 := (not_congr (cv_le (by repeat' (first | with_reducible exact nl_0 | with_reducible exact nl_1 | with_reducible exact nl_2 | with_reducible exact nl_4 | with_reducible exact nl_13 | with_reducible exact nl_61 | with_reducible exact rfl | apply i_add | apply i_mul)) (by repeat' (first | with_reducible exact nl_0 | with_reducible exact nl_1 | with_reducible exact nl_2 | with_reducible exact nl_4 | with_reducible exact nl_13 | with_reducible exact nl_61 | with_reducible exact rfl | apply i_add | apply i_mul)) (by omega) (by omega))).mp c10_1
        refine x_aload_n (n' := 14) dX9_tires_13 rfl rfl rfl ?_
        refine x_iload_n (n' := 15) dX9_tires_14 rfl rfl rfl ?_
        refine x_iconst (n' := 16) (v := 1) dX9_tires_15 (by decide) rfl ?_
        refine x_callV (n' := 19) (n := 2) (c_X9_ofKeeper l G _ m ad hS.sA i 1 (by omega)) dX9_tires_16 km rfl (lw_V q3421 q3423 qs59 q109 q3424) (by decide +kernel) ⟨(Nat.le_of_ble_eq_true rfl), (Nat.le_of_ble_eq_true rfl)⟩ rfl rfl (Nat.le_of_ble_eq_true rfl) (by first | exact Nat.le_of_ble_eq_true rfl | omega) (by first | exact Nat.le_of_ble_eq_true rfl | omega) rfl (fun v_2 M_3 h_5 hE_4 => ?_)
        have kk_g := hE_4 _ _ kk_g
        have km := hE_4 _ _ km
        have hE0 : kE M _ := fun a K q9 => hE_4 a K (hE0 a K q9)
        obtain ⟨rfl, hMs⟩ := h_5
        have hMs := hMs.symm
        subst hMs
        rw [mA_sA, tire_at _ _ _ _ _ (Nat.le_refl _)]
        refine x_istore (n' := 21) dX9_tires_19 (Nat.le_of_ble_eq_true rfl) rfl (by dsimp only [List.set] <;> rfl) rfl ?_
        refine x_aload_n (n' := 22) dX9_tires_21 rfl rfl rfl ?_
        refine x_getRs (n' := 25) (b := (ad 0)) dX9_tires_22 km ffX9_9_9 rfl hr_g rfl ?_
        refine x_bipush (n' := 27) (v := 61) dX9_tires_25 (by decide) rfl ?_
        refine x_iconst (n' := 28) (v := 4) dX9_tires_27 (by decide) rfl ?_
        refine x_iload_n (n' := 29) dX9_tires_28 rfl rfl rfl ?_
        refine x_imul (n' := 30) dX9_tires_29 rfl ?_
        refine x_iadd (n' := 31) dX9_tires_30 rfl ?_
        refine x_iconst (n' := 32) (v := 1) dX9_tires_31 (by decide) rfl ?_
        refine x_iadd (n' := 33) dX9_tires_32 rfl ?_
        refine x_iload_n (n' := 34) dX9_tires_33 rfl rfl rfl ?_
        refine x_iload_n (n' := 35) dX9_tires_34 rfl rfl rfl ?_
        refine x_icmp_ne (n' := 38) (tgt := 54) dX9_tires_35 (by decide) rfl (fun c35_6 => ?_) (fun c35_6 => ?_)
        · have C35 := c35_6
          refine x_iconst (n' := 55) (v := 0) dX9_tires_54 (by decide) rfl ?_
          refine x_iload (n' := 57) dX9_tires_55 rfl rfl ?_
          refine x_iconst (n' := 58) (v := 2) dX9_tires_57 (by decide) rfl ?_
          refine x_isub (n' := 59) dX9_tires_58 rfl ?_
          refine x_mmax (n' := 62) dX9_tires_59 q3459 q478 q101 q479 ⟨(Nat.le_of_ble_eq_true rfl), (Nat.le_of_ble_eq_true rfl)⟩ (Nat.le_of_ble_eq_true rfl) rfl ?_
          refine x_topv (y := tireV (mA M (ad 0)) who w i) (by unfold tireV; first | rw [if_pos C35] | (rw [if_neg C35]; rfl)) ?_
          refine x_iastk (n' := 63) dX9_tires_62 kk_g hn_g (by repeat' (first | with_reducible exact nl_0 | with_reducible exact nl_1 | with_reducible exact nl_2 | with_reducible exact nl_4 | with_reducible exact nl_13 | with_reducible exact nl_61 | with_reducible exact rfl | apply i_add | apply i_mul)) (by omega) (by decide) (by first | exact mA_sA | rfl) (by first | exact sA_sA | rfl) rfl ?_
          refine x_iinc (n' := 66) dX9_tires_63 rfl (by first | exact nI_inc _ | exact nI_decp (by omega) | exact i_inc _ | rfl) (Nat.le_of_ble_eq_true rfl) rfl (by dsimp only [List.set] <;> rfl) rfl ?_
          refine x_goto (tgt := 2) dX9_tires_66 (by decide) ?_
          rw [tire_s]
          exact x_drop (ih (i + 1) (by omega) (by omega) hE0) ⟨rfl, ⟨rfl, ⟨rfl, ⟨rfl, trivial⟩⟩⟩⟩
        · have C35 := c35_6
          refine x_iload (n' := 40) dX9_tires_38 rfl rfl ?_
          refine x_iload_n (n' := 41) dX9_tires_40 rfl rfl rfl ?_
          refine x_iconst (n' := 42) (v := 2) dX9_tires_41 (by decide) rfl ?_
          refine x_forkN (J := 50) (x_icmp_ne (n' := 45) (tgt := 49) dX9_tires_42 (by decide) rfl) (v1 := ?v1_f42_7) (v2 := ?v2_f42_7) (fun c_f42_7 j_f42_7 => ?b1_f42_7) (fun c_f42_7 j_f42_7 => ?b2_f42_7) ?k_f42_7
          case b1_f42_7 =>
            refine x_iconst (n' := 50) (v := 1) dX9_tires_49 (by decide) rfl ?_
            exact j_f42_7
          case b2_f42_7 =>
            refine x_iconst (n' := 46) (v := 2) dX9_tires_45 (by decide) rfl ?_
            refine x_goto (tgt := 50) dX9_tires_46 (by decide) ?_
            exact j_f42_7
          refine x_iadd (n' := 51) dX9_tires_50 rfl ?_
          refine x_goto (tgt := 62) dX9_tires_51 (by decide) ?_
          refine x_topv (y := tireV (mA M (ad 0)) who w i) (by unfold tireV; first | rw [if_pos C35] | (rw [if_neg C35]; rfl)) ?_
          refine x_iastk (n' := 63) dX9_tires_62 kk_g hn_g (by repeat' (first | with_reducible exact nl_0 | with_reducible exact nl_1 | with_reducible exact nl_2 | with_reducible exact nl_4 | with_reducible exact nl_13 | with_reducible exact nl_61 | with_reducible exact rfl | apply i_add | apply i_mul)) (by omega) (by decide) (by first | exact mA_sA | rfl) (by first | exact sA_sA | rfl) rfl ?_
          refine x_iinc (n' := 66) dX9_tires_63 rfl (by first | exact nI_inc _ | exact nI_decp (by omega) | exact i_inc _ | rfl) (Nat.le_of_ble_eq_true rfl) rfl (by dsimp only [List.set] <;> rfl) rfl ?_
          refine x_goto (tgt := 2) dX9_tires_66 (by decide) ?_
          rw [tire_s]
          exact x_drop (ih (i + 1) (by omega) (by omega) hE0) ⟨rfl, ⟨rfl, ⟨rfl, ⟨rfl, trivial⟩⟩⟩⟩
  refine x_iconst (n' := 1) (v := 0) dX9_tires_0 (by decide) rfl ?_
  refine x_istore_n (n' := 2) dX9_tires_1 rfl (Nat.le_of_ble_eq_true rfl) rfl (by dsimp only [List.set] <;> rfl) rfl ?_
  refine x_mem (M2 := sA M (ad 0) (tireG (mA M (ad 0)) who w 0)) (by rw [tire_0, sA_eta]) ?_
  exact x_drop (cut2 (nk + 1) 0 (by omega) (by omega) hE0) ⟨rfl, ⟨rfl, ⟨rfl, ⟨rfl, trivial⟩⟩⟩⟩

set_option maxHeartbeats 4000000 in
set_option maxRecDepth 100000 in
theorem c_X9_weatherOf (l : Launch) (G : kG) (M : kM) (m : Nat) (ad : Nat → Nat) (hS : MS M m ad) (n nr : Nat) (hr : RunsOK (mA M (ad 0)) nr) (hb : n < 2147483648) : Kt l G yX9_weatherOf cX9_weatherOf 5 (some .int) 0 0 [.ref m, .int (nI n)] M (0) (0) (fun v M2 => v = some (.int (weaG (mA M (ad 0)) nr n)) ∧ M2 = M) := by
  refine Kt.of (own := "KeptLightModel") (L := [some (.ref m), some (.int (nI n)), none, none, none]) (by decide +kernel) rfl (Nat.le_of_ble_eq_true rfl) rfl ?_
  intro pp ee ss mm args below meth cd hmn hret
  have hE0 : kE M M := kE.rf
  have km := hS.1
  obtain ⟨hr_g, kk_g, hn_g⟩ := hS.2.1 0 (by decide)
  have hn_g : mN M (ad 0) = 2509 := hn_g
  have kk_g : mK M (ad 0) = some 120 := kk_g
  have hnr := hr.1
  have hr20 := hr.2.1
  have hsl : ∀ r, r ≤ nr → sumN (duG (mA M (ad 0))) r ≤ 99 * r := fun r q => sumN_le r (fun j hj => (hr.du (by omega)).2.2)
  have hS1 := hsl nr (Nat.le_refl _)
  have hS2 : 0 < nr → 1 ≤ (sumN (duG (mA M (ad 0))) nr) := fun q => sumN_pos nr q (fun r q => (hr.du q).2.1)
  have cut50 : ∀ (fuel : Nat) (r a : Nat) (h1 : nr - r < fuel) (h2 : r < nr) (h3 : sumN (duG (mA M (ad 0))) r + a < (sumN (duG (mA M (ad 0))) nr)) (h4 : wIx (duG (mA M (ad 0))) (nr - r) r a = wIx (duG (mA M (ad 0))) nr 0 (n % (sumN (duG (mA M (ad 0))) nr))), Wx pp l ee { frames := 0, cells := 0, slots := 0, locals := 0 } ss mm args below meth cd "KeptLightModel" cX9_weatherOf 5 G (MQ below (KQ G M (fun v M2 => v = some (.int (weaG (mA M (ad 0)) nr n)) ∧ M2 = M)) args ss (0) (0) (kA G)) 50 [some (.ref m), some (.int (nI n)), none, some (.int (nI a)), some (.int (nI r))] [] (M) (0) (0) := by
    intro fuel
    induction fuel with
    | zero => intro r a h1 h2 h3 h4; omega
    | succ fuel ih =>
      intro r a h1 h2 h3 h4
      have q2 := hr.du h2
      have q3 := q2.2
      have q5 := hsl r (by omega)
      have q4 : sumN (duG (mA M (ad 0))) (r + 1) = sumN (duG (mA M (ad 0))) r + duG (mA M (ad 0)) r := rfl
      refine x_iload_n (n' := 51) dX9_weatherOf_50 rfl rfl rfl ?_
      refine x_aload_n (n' := 52) dX9_weatherOf_51 rfl rfl rfl ?_
      refine x_getRs (n' := 55) (b := (ad 0)) dX9_weatherOf_52 km ffX9_9_9 rfl hr_g rfl ?_
      refine x_bipush (n' := 57) (v := 21) dX9_weatherOf_55 (by decide) rfl ?_
      refine x_iconst (n' := 58) (v := 2) dX9_weatherOf_57 (by decide) rfl ?_
      refine x_iload (n' := 60) dX9_weatherOf_58 rfl rfl ?_
      refine x_imul (n' := 61) dX9_weatherOf_60 rfl ?_
      refine x_iadd (n' := 62) dX9_weatherOf_61 rfl ?_
      refine x_iconst (n' := 63) (v := 1) dX9_weatherOf_62 (by decide) rfl ?_
      refine x_iadd (n' := 64) dX9_weatherOf_63 rfl ?_
      refine x_ildk (n' := 65) dX9_weatherOf_64 kk_g hn_g (by repeat' (first | with_reducible exact nl_0 | with_reducible exact nl_1 | with_reducible exact nl_2 | with_reducible exact nl_12 | with_reducible exact nl_21 | with_reducible exact rfl | apply i_add | apply i_mul)) (by omega) (by decide) q2.1 rfl ?_
      refine x_icmp_lt (n' := 68) (tgt := 91) dX9_weatherOf_65 (by decide) rfl (fun c65_1 => ?_) (fun c65_1 => ?_)
      · have C65 := c65_1
        have N65 := (cv_lt (by repeat' (first | with_reducible exact nl_0 | with_reducible exact nl_1 | with_reducible exact nl_2 | with_reducible exact nl_12 | with_reducible exact nl_21 | with_reducible exact rfl | apply i_add | apply i_mul)) (by repeat' (first | with_reducible exact nl_0 | with_reducible exact nl_1 | with_reducible exact nl_2 | with_reducible exact nl_12 | with_reducible exact nl_21 | with_reducible exact rfl | apply i_add | apply i_mul)) (by omega) (by omega)).mp c65_1
        refine x_aload_n (n' := 92) dX9_weatherOf_91 rfl rfl rfl ?_
        refine x_getRs (n' := 95) (b := (ad 0)) dX9_weatherOf_92 km ffX9_9_9 rfl hr_g rfl ?_
        refine x_bipush (n' := 97) (v := 21) dX9_weatherOf_95 (by decide) rfl ?_
        refine x_iconst (n' := 98) (v := 2) dX9_weatherOf_97 (by decide) rfl ?_
        refine x_iload (n' := 100) dX9_weatherOf_98 rfl rfl ?_
        refine x_imul (n' := 101) dX9_weatherOf_100 rfl ?_
        refine x_iadd (n' := 102) dX9_weatherOf_101 rfl ?_
        refine x_ildk (n' := 103) dX9_weatherOf_102 kk_g hn_g (by repeat' (first | with_reducible exact nl_0 | with_reducible exact nl_1 | with_reducible exact nl_2 | with_reducible exact nl_12 | with_reducible exact nl_21 | with_reducible exact rfl | apply i_add | apply i_mul)) (by omega) (by decide) (by first | exact hnr | (simp (disch := omega) only [mA_sA, up_s, up_n, hnr, if_false] <;> rfl) | rfl) rfl ?_
        exact x_iret dX9_weatherOf_103 hret hE0 (⟨congrArg (fun z => some (Value.int z)) (weaG_1 h4 h2 N65), rfl⟩)
      · have C65 := c65_1
        have N65 := (not_congr (cv_lt (by repeat' (first | with_reducible exact nl_0 | with_reducible exact nl_1 | with_reducible exact nl_2 | with_reducible exact nl_12 | with_reducible exact nl_21 | with_reducible exact rfl | apply i_add | apply i_mul)) (by repeat' (first | with_reducible exact nl_0 | with_reducible exact nl_1 | with_reducible exact nl_2 | with_reducible exact nl_12 | with_reducible exact nl_21 | with_reducible exact rfl | apply i_add | apply i_mul)) (by omega) (by omega))).mp c65_1
        refine x_iload_n (n' := 69) dX9_weatherOf_68 rfl rfl rfl ?_
        refine x_aload_n (n' := 70) dX9_weatherOf_69 rfl rfl rfl ?_
        refine x_getRs (n' := 73) (b := (ad 0)) dX9_weatherOf_70 km ffX9_9_9 rfl hr_g rfl ?_
        refine x_bipush (n' := 75) (v := 21) dX9_weatherOf_73 (by decide) rfl ?_
        refine x_iconst (n' := 76) (v := 2) dX9_weatherOf_75 (by decide) rfl ?_
        refine x_iload (n' := 78) dX9_weatherOf_76 rfl rfl ?_
        refine x_imul (n' := 79) dX9_weatherOf_78 rfl ?_
        refine x_iadd (n' := 80) dX9_weatherOf_79 rfl ?_
        refine x_iconst (n' := 81) (v := 1) dX9_weatherOf_80 (by decide) rfl ?_
        refine x_iadd (n' := 82) dX9_weatherOf_81 rfl ?_
        refine x_ildk (n' := 83) dX9_weatherOf_82 kk_g hn_g (by repeat' (first | with_reducible exact nl_0 | with_reducible exact nl_1 | with_reducible exact nl_2 | with_reducible exact nl_12 | with_reducible exact nl_21 | with_reducible exact rfl | apply i_add | apply i_mul)) (by omega) (by decide) q2.1 rfl ?_
        refine x_isub (n' := 84) dX9_weatherOf_83 rfl ?_
        refine x_topv (pk_sub (Nat.not_lt.mp N65)) ?_
        refine x_istore_n (n' := 85) dX9_weatherOf_84 rfl (Nat.le_of_ble_eq_true rfl) rfl (by dsimp only [List.set] <;> rfl) rfl ?_
        refine x_iinc (n' := 88) dX9_weatherOf_85 rfl (by first | exact nI_inc _ | exact nI_decp (by omega) | exact i_inc _ | rfl) (Nat.le_of_ble_eq_true rfl) rfl (by dsimp only [List.set] <;> rfl) rfl ?_
        refine x_goto (tgt := 50) dX9_weatherOf_88 (by decide) ?_
        exact x_drop (ih (r + 1) _ (by omega) (wRun_next h3 h2 N65) (by rw [q4]; omega) (wIx_next h4 h2 N65)) ⟨rfl, ⟨rfl, ⟨rfl, ⟨rfl, trivial⟩⟩⟩⟩
  have cut4 : ∀ (fuel : Nat) (i : Nat) (h1 : nr - i < fuel) (h2 : i ≤ nr), Wx pp l ee { frames := 0, cells := 0, slots := 0, locals := 0 } ss mm args below meth cd "KeptLightModel" cX9_weatherOf 5 G (MQ below (KQ G M (fun v M2 => v = some (.int (weaG (mA M (ad 0)) nr n)) ∧ M2 = M)) args ss (0) (0) (kA G)) 4 [some (.ref m), some (.int (nI n)), some (.int (nI (sumN (duG (mA M (ad 0))) i))), some (.int (nI i)), none] [] (M) (0) (0) := by
    intro fuel
    induction fuel with
    | zero => intro i h1 h2; omega
    | succ fuel ih =>
      intro i h1 h2
      refine x_iload_n (n' := 5) dX9_weatherOf_4 rfl rfl rfl ?_
      refine x_aload_n (n' := 6) dX9_weatherOf_5 rfl rfl rfl ?_
      refine x_getRs (n' := 9) (b := (ad 0)) dX9_weatherOf_6 km ffX9_9_9 rfl hr_g rfl ?_
      refine x_bipush (n' := 11) (v := 12) dX9_weatherOf_9 (by decide) rfl ?_
      refine x_ildk (n' := 12) dX9_weatherOf_11 kk_g hn_g (by repeat' (first | with_reducible exact nl_0 | with_reducible exact nl_1 | with_reducible exact nl_2 | with_reducible exact nl_12 | with_reducible exact nl_21 | with_reducible exact rfl | apply i_add | apply i_mul)) (by omega) (by decide) (by first | exact hnr | (simp (disch := omega) only [mA_sA, up_s, up_n, hnr, if_false] <;> rfl) | rfl) rfl ?_
      refine x_icmp_ge (n' := 15) (tgt := 37) dX9_weatherOf_12 (by decide) rfl (fun c12_2 => ?_) (fun c12_2 => ?_)
      · have n_c12_2 := (cv_le (by repeat' (first | with_reducible exact nl_0 | with_reducible exact nl_1 | with_reducible exact nl_2 | with_reducible exact nl_12 | with_reducible exact nl_21 | with_reducible exact rfl | apply i_add | apply i_mul)) (by repeat' (first | with_reducible exact nl_0 | with_reducible exact nl_1 | with_reducible exact nl_2 | with_reducible exact nl_12 | with_reducible exact nl_21 | with_reducible exact rfl | apply i_add | apply i_mul)) (by omega) (by omega)).mp c12_2
        rw [show i = nr by omega]
        refine x_iload_n (n' := 38) dX9_weatherOf_37 rfl rfl rfl ?_
        refine x_if_ne (n' := 41) (tgt := 43) dX9_weatherOf_38 (by decide) rfl (fun c38_3 => ?_) (fun c38_3 => ?_)
        · have C38 := c38_3
          have hpos := hr_pos C38
          refine x_iload_n (n' := 44) dX9_weatherOf_43 rfl rfl rfl ?_
          refine x_iload_n (n' := 45) dX9_weatherOf_44 rfl rfl rfl ?_
          refine x_irem (n' := 46) dX9_weatherOf_45 C38 rfl ?_
          refine x_topv (pk_rem hb (by have := hS2 hpos; omega) (by omega)) ?_
          refine x_istore_n (n' := 47) dX9_weatherOf_46 rfl (Nat.le_of_ble_eq_true rfl) rfl (by dsimp only [List.set] <;> rfl) rfl ?_
          refine x_iconst (n' := 48) (v := 0) dX9_weatherOf_47 (by decide) rfl ?_
          refine x_istore (n' := 50) dX9_weatherOf_48 (Nat.le_of_ble_eq_true rfl) rfl (by dsimp only [List.set] <;> rfl) rfl ?_
          exact x_drop (cut50 (nr + 1) 0 _ (by omega) hpos (by have := Nat.mod_lt n (hS2 hpos); show 0 + _ < _; omega) rfl) ⟨rfl, ⟨rfl, ⟨rfl, ⟨rfl, trivial⟩⟩⟩⟩
        · have C38 := c38_3
          refine x_iconst (n' := 42) (v := 0) dX9_weatherOf_41 (by decide) rfl ?_
          exact x_iret dX9_weatherOf_42 hret hE0 (⟨congrArg (fun z => some (Value.int z)) (weaG_0 hr C38), rfl⟩)
      · have n_c12_2 := (not_congr (cv_le (by repeat' (first | with_reducible exact nl_0 | with_reducible exact nl_1 | with_reducible exact nl_2 | with_reducible exact nl_12 | with_reducible exact nl_21 | with_reducible exact rfl | apply i_add | apply i_mul)) (by repeat' (first | with_reducible exact nl_0 | with_reducible exact nl_1 | with_reducible exact nl_2 | with_reducible exact nl_12 | with_reducible exact nl_21 | with_reducible exact rfl | apply i_add | apply i_mul)) (by omega) (by omega))).mp c12_2
        refine x_iload_n (n' := 16) dX9_weatherOf_15 rfl rfl rfl ?_
        refine x_aload_n (n' := 17) dX9_weatherOf_16 rfl rfl rfl ?_
        refine x_getRs (n' := 20) (b := (ad 0)) dX9_weatherOf_17 km ffX9_9_9 rfl hr_g rfl ?_
        refine x_bipush (n' := 22) (v := 21) dX9_weatherOf_20 (by decide) rfl ?_
        refine x_iconst (n' := 23) (v := 2) dX9_weatherOf_22 (by decide) rfl ?_
        refine x_iload_n (n' := 24) dX9_weatherOf_23 rfl rfl rfl ?_
        refine x_imul (n' := 25) dX9_weatherOf_24 rfl ?_
        refine x_iadd (n' := 26) dX9_weatherOf_25 rfl ?_
        refine x_iconst (n' := 27) (v := 1) dX9_weatherOf_26 (by decide) rfl ?_
        refine x_iadd (n' := 28) dX9_weatherOf_27 rfl ?_
        refine x_ildk (n' := 29) dX9_weatherOf_28 kk_g hn_g (by repeat' (first | with_reducible exact nl_0 | with_reducible exact nl_1 | with_reducible exact nl_2 | with_reducible exact nl_12 | with_reducible exact nl_21 | with_reducible exact rfl | apply i_add | apply i_mul)) (by omega) (by decide) (hr.du (by omega)).1 rfl ?_
        refine x_iadd (n' := 30) dX9_weatherOf_29 rfl ?_
        refine x_istore_n (n' := 31) dX9_weatherOf_30 rfl (Nat.le_of_ble_eq_true rfl) rfl (by dsimp only [List.set] <;> rfl) rfl ?_
        refine x_iinc (n' := 34) dX9_weatherOf_31 rfl (by first | exact nI_inc _ | exact nI_decp (by omega) | exact i_inc _ | rfl) (Nat.le_of_ble_eq_true rfl) rfl (by dsimp only [List.set] <;> rfl) rfl ?_
        refine x_goto (tgt := 4) dX9_weatherOf_34 (by decide) ?_
        rw [nI_add]
        exact x_drop (ih (i + 1) (by omega) (by omega)) ⟨rfl, ⟨rfl, ⟨rfl, ⟨rfl, trivial⟩⟩⟩⟩
  refine x_iconst (n' := 1) (v := 0) dX9_weatherOf_0 (by decide) rfl ?_
  refine x_istore_n (n' := 2) dX9_weatherOf_1 rfl (Nat.le_of_ble_eq_true rfl) rfl (by dsimp only [List.set] <;> rfl) rfl ?_
  refine x_iconst (n' := 3) (v := 0) dX9_weatherOf_2 (by decide) rfl ?_
  refine x_istore_n (n' := 4) dX9_weatherOf_3 rfl (Nat.le_of_ble_eq_true rfl) rfl (by dsimp only [List.set] <;> rfl) rfl ?_
  exact x_drop (cut4 (nr + 1) 0 (by omega) (by omega)) ⟨rfl, ⟨rfl, ⟨rfl, ⟨rfl, trivial⟩⟩⟩⟩

set_option maxHeartbeats 4000000 in
set_option maxRecDepth 100000 in
theorem c_X9_rankedAt (l : Launch) (G : kG) (M : kM) (m : Nat) (ad : Nat → Nat) (hS : MS M m ad) (h : Int32) (i ns : Nat) (hs : mA M (ad 0) 14 = nI ns) (hb : ns ≤ 200) (hi : i < 2147483648) : Kt l G yX9_rankedAt cX9_rankedAt 6 (some .int) 1 22 [.ref m, .int h, .int (nI i)] M (0) (0) (fun v M2 => v = some (.int (rkA (mA M (ad 0)) h ns i)) ∧ M2 = M) := by
  refine Kt.of (own := "KeptLightModel") (L := [some (.ref m), some (.int h), some (.int (nI i)), none, none, none]) (by decide +kernel) rfl (Nat.le_of_ble_eq_true rfl) rfl ?_
  intro pp ee ss mm args below meth cd hmn hret
  have hE0 : kE M M := kE.rf
  have km := hS.1
  obtain ⟨hr_g, kk_g, hn_g⟩ := hS.2.1 0 (by decide)
  have hn_g : mN M (ad 0) = 2509 := hn_g
  have kk_g : mK M (ad 0) = some 120 := kk_g
  have cv6 : ∀ t, t ≤ 5 → (nI (7 - t) < 3 ↔ t = 5) := fun t q => (cv_lt rfl nl_3 (by omega) (by omega)).trans (by omega)
  have cut15 : ∀ (fuel : Nat) (t s9 : Nat) (ht : t < 5) (h1 : ns - s9 < fuel) (h2 : s9 ≤ ns) (h3 : (rkT (mA M (ad 0)) h ns t ++ rkK (mA M (ad 0)) h (nI (7 - t)) s9).length ≤ i) (hK : (rkT (mA M (ad 0)) h ns (t + 1)).length ≤ i → Wx pp l ee { frames := 1, cells := 0, slots := 0, locals := 22 } ss mm args below meth cd "KeptLightModel" cX9_rankedAt 6 G (MQ below (KQ G M (fun v M2 => v = some (.int (rkA (mA M (ad 0)) h ns i)) ∧ M2 = M)) args ss (0) (0) (kA G)) 6 [some (.ref m), some (.int h), some (.int (nI i)), some (.int (nI (rkT (mA M (ad 0)) h ns (t + 1)).length)), some (.int (nI (7 - (t + 1)))), none] [] (M) (0) (0)), Wx pp l ee { frames := 1, cells := 0, slots := 0, locals := 22 } ss mm args below meth cd "KeptLightModel" cX9_rankedAt 6 G (MQ below (KQ G M (fun v M2 => v = some (.int (rkA (mA M (ad 0)) h ns i)) ∧ M2 = M)) args ss (0) (0) (kA G)) 15 [some (.ref m), some (.int h), some (.int (nI i)), some (.int (nI (rkT (mA M (ad 0)) h ns t ++ rkK (mA M (ad 0)) h (nI (7 - t)) s9).length)), some (.int (nI (7 - t))), some (.int (nI s9))] [] (M) (0) (0) := by
    intro fuel
    induction fuel with
    | zero => intro t s9 ht h1 h2 h3 hK; omega
    | succ fuel ih =>
      intro t s9 ht h1 h2 h3 hK
      refine x_iload (n' := 17) dX9_rankedAt_15 rfl rfl ?_
      refine x_aload_n (n' := 18) dX9_rankedAt_17 rfl rfl rfl ?_
      refine x_getRs (n' := 21) (b := (ad 0)) dX9_rankedAt_18 km ffX9_9_9 rfl hr_g rfl ?_
      refine x_bipush (n' := 23) (v := 14) dX9_rankedAt_21 (by decide) rfl ?_
      refine x_ildk (n' := 24) dX9_rankedAt_23 kk_g hn_g (by repeat' (first | with_reducible exact nl_0 | with_reducible exact nl_1 | with_reducible exact nl_3 | with_reducible exact nl_7 | with_reducible exact nl_14 | with_reducible exact rfl | apply i_add | apply i_mul)) (by omega) (by decide) (by first | exact hs | (simp (disch := omega) only [mA_sA, up_s, up_n, hs, if_false] <;> rfl) | rfl) rfl ?_
      refine x_icmp_ge (n' := 27) (tgt := 67) dX9_rankedAt_24 (by decide) rfl (fun c24_1 => ?_) (fun c24_1 => ?_)
      · have C24 := c24_1
        have N24 := (cv_le (by repeat' (first | with_reducible exact nl_0 | with_reducible exact nl_1 | with_reducible exact nl_3 | with_reducible exact nl_7 | with_reducible exact nl_14 | with_reducible exact rfl | apply i_add | apply i_mul)) (by repeat' (first | with_reducible exact nl_0 | with_reducible exact nl_1 | with_reducible exact nl_3 | with_reducible exact nl_7 | with_reducible exact nl_14 | with_reducible exact rfl | apply i_add | apply i_mul)) (by omega) (by omega)).mp c24_1
        refine x_iinc (n' := 70) dX9_rankedAt_67 rfl (nI_decp (by omega)) (Nat.le_of_ble_eq_true rfl) rfl (by dsimp only [List.set] <;> rfl) rfl ?_
        refine x_goto (tgt := 6) dX9_rankedAt_70 (by decide) ?_
        rw [show s9 = ns by omega] at h3
        rw [show (rkT (mA M (ad 0)) h ns t ++ rkK (mA M (ad 0)) h (nI (7 - t)) s9).length = (rkT (mA M (ad 0)) h ns (t + 1)).length from by rw [show s9 = ns by omega]; rfl]
        exact x_drop (hK h3) ⟨rfl, ⟨rfl, ⟨rfl, ⟨rfl, ⟨rfl, trivial⟩⟩⟩⟩⟩
      · have C24 := c24_1
        have N24 := (not_congr (cv_le (by repeat' (first | with_reducible exact nl_0 | with_reducible exact nl_1 | with_reducible exact nl_3 | with_reducible exact nl_7 | with_reducible exact nl_14 | with_reducible exact rfl | apply i_add | apply i_mul)) (by repeat' (first | with_reducible exact nl_0 | with_reducible exact nl_1 | with_reducible exact nl_3 | with_reducible exact nl_7 | with_reducible exact nl_14 | with_reducible exact rfl | apply i_add | apply i_mul)) (by omega) (by omega))).mp c24_1
        refine x_aload_n (n' := 28) dX9_rankedAt_27 rfl rfl rfl ?_
        refine x_iload (n' := 30) dX9_rankedAt_28 rfl rfl ?_
        refine x_iconst (n' := 31) (v := 1) dX9_rankedAt_30 (by decide) rfl ?_
        refine x_callV (n' := 34) (n := 2) (c_X9_ofShip l G _ m ad hS s9 1 (by omega)) dX9_rankedAt_31 km rfl (lw_V q3445 q3447 qs65 q109 q3448) (by decide +kernel) ⟨(Nat.le_of_ble_eq_true rfl), (Nat.le_of_ble_eq_true rfl)⟩ rfl rfl (Nat.le_of_ble_eq_true rfl) (by first | exact Nat.le_of_ble_eq_true rfl | omega) (by first | exact Nat.le_of_ble_eq_true rfl | omega) rfl (fun v_2 M_3 h_5 hE_4 => ?_)
        have kk_g := hE_4 _ _ kk_g
        have km := hE_4 _ _ km
        have hE0 : kE M _ := fun a K q9 => hE_4 a K (hE0 a K q9)
        obtain ⟨rfl, hMs⟩ := h_5
        have hMs := hMs.symm
        subst hMs
        refine x_iload_n (n' := 35) dX9_rankedAt_34 rfl rfl rfl ?_
        refine x_icmp_ne (n' := 38) (tgt := 61) dX9_rankedAt_35 (by decide) rfl (fun c35_6 => ?_) (fun c35_6 => ?_)
        · have C35 := c35_6
          refine x_iinc (n' := 64) dX9_rankedAt_61 rfl (by first | exact nI_inc _ | exact nI_decp (by omega) | exact i_inc _ | rfl) (Nat.le_of_ble_eq_true rfl) rfl (by dsimp only [List.set] <;> rfl) rfl ?_
          refine x_goto (tgt := 15) dX9_rankedAt_64 (by decide) ?_
          have h8 : (rkT (mA M (ad 0)) h ns t ++ rkK (mA M (ad 0)) h (nI (7 - t)) (s9 + 1)).length ≤ i := by
            first | (rw [rk_la _ C35]; exact h3) | (rw [rk_lb _ C47]; exact h3) | (rw [rk_l1 _ C35 C47]; omega)
          first | rw [← rk_la _ C35] | rw [← rk_lb _ C47] | rw [← rk_l1 _ C35 C47]
          exact x_drop (ih t (s9 + 1) ht (by omega) (by omega) h8 hK) ⟨rfl, ⟨rfl, ⟨rfl, ⟨rfl, ⟨rfl, ⟨rfl, trivial⟩⟩⟩⟩⟩⟩
        · have C35 := c35_6
          refine x_aload_n (n' := 39) dX9_rankedAt_38 rfl rfl rfl ?_
          refine x_iload (n' := 41) dX9_rankedAt_39 rfl rfl ?_
          refine x_iconst (n' := 42) (v := 0) dX9_rankedAt_41 (by decide) rfl ?_
          refine x_callV (n' := 45) (n := 2) (c_X9_ofShip l G _ m ad hS s9 0 (by omega)) dX9_rankedAt_42 km rfl (lw_V q3445 q3447 qs65 q109 q3448) (by decide +kernel) ⟨(Nat.le_of_ble_eq_true rfl), (Nat.le_of_ble_eq_true rfl)⟩ rfl rfl (Nat.le_of_ble_eq_true rfl) (by first | exact Nat.le_of_ble_eq_true rfl | omega) (by first | exact Nat.le_of_ble_eq_true rfl | omega) rfl (fun v_7 M_8 h_10 hE_9 => ?_)
          have kk_g := hE_9 _ _ kk_g
          have km := hE_9 _ _ km
          have hE0 : kE M _ := fun a K q9 => hE_9 a K (hE0 a K q9)
          obtain ⟨rfl, hMs⟩ := h_10
          have hMs := hMs.symm
          subst hMs
          refine x_iload (n' := 47) dX9_rankedAt_45 rfl rfl ?_
          refine x_icmp_ne (n' := 50) (tgt := 61) dX9_rankedAt_47 (by decide) rfl (fun c47_11 => ?_) (fun c47_11 => ?_)
          · have C47 := c47_11
            refine x_iinc (n' := 64) dX9_rankedAt_61 rfl (by first | exact nI_inc _ | exact nI_decp (by omega) | exact i_inc _ | rfl) (Nat.le_of_ble_eq_true rfl) rfl (by dsimp only [List.set] <;> rfl) rfl ?_
            refine x_goto (tgt := 15) dX9_rankedAt_64 (by decide) ?_
            have h8 : (rkT (mA M (ad 0)) h ns t ++ rkK (mA M (ad 0)) h (nI (7 - t)) (s9 + 1)).length ≤ i := by
              first | (rw [rk_la _ C35]; exact h3) | (rw [rk_lb _ C47]; exact h3) | (rw [rk_l1 _ C35 C47]; omega)
            first | rw [← rk_la _ C35] | rw [← rk_lb _ C47] | rw [← rk_l1 _ C35 C47]
            exact x_drop (ih t (s9 + 1) ht (by omega) (by omega) h8 hK) ⟨rfl, ⟨rfl, ⟨rfl, ⟨rfl, ⟨rfl, ⟨rfl, trivial⟩⟩⟩⟩⟩⟩
          · have C47 := c47_11
            refine x_iload_n (n' := 51) dX9_rankedAt_50 rfl rfl rfl ?_
            refine x_iload_n (n' := 52) dX9_rankedAt_51 rfl rfl rfl ?_
            refine x_icmp_ne (n' := 55) (tgt := 58) dX9_rankedAt_52 (by decide) rfl (fun c52_12 => ?_) (fun c52_12 => ?_)
            · have C52 := c52_12
              have N52 := (not_congr (cv_eq (by repeat' (first | with_reducible exact nl_0 | with_reducible exact nl_1 | with_reducible exact nl_3 | with_reducible exact nl_7 | with_reducible exact nl_14 | with_reducible exact rfl | apply i_add | apply i_mul)) (by repeat' (first | with_reducible exact nl_0 | with_reducible exact nl_1 | with_reducible exact nl_3 | with_reducible exact nl_7 | with_reducible exact nl_14 | with_reducible exact rfl | apply i_add | apply i_mul)) (by omega) (by omega))).mp c52_12
              refine x_iinc (n' := 61) dX9_rankedAt_58 rfl (by first | exact nI_inc _ | exact nI_decp (by omega) | exact i_inc _ | rfl) (Nat.le_of_ble_eq_true rfl) rfl (by dsimp only [List.set] <;> rfl) rfl ?_
              refine x_iinc (n' := 64) dX9_rankedAt_61 rfl (by first | exact nI_inc _ | exact nI_decp (by omega) | exact i_inc _ | rfl) (Nat.le_of_ble_eq_true rfl) rfl (by dsimp only [List.set] <;> rfl) rfl ?_
              refine x_goto (tgt := 15) dX9_rankedAt_64 (by decide) ?_
              have h8 : (rkT (mA M (ad 0)) h ns t ++ rkK (mA M (ad 0)) h (nI (7 - t)) (s9 + 1)).length ≤ i := by
                first | (rw [rk_la _ C35]; exact h3) | (rw [rk_lb _ C47]; exact h3) | (rw [rk_l1 _ C35 C47]; omega)
              first | rw [← rk_la _ C35] | rw [← rk_lb _ C47] | rw [← rk_l1 _ C35 C47]
              exact x_drop (ih t (s9 + 1) ht (by omega) (by omega) h8 hK) ⟨rfl, ⟨rfl, ⟨rfl, ⟨rfl, ⟨rfl, ⟨rfl, trivial⟩⟩⟩⟩⟩⟩
            · have C52 := c52_12
              have N52 := (cv_eq (by repeat' (first | with_reducible exact nl_0 | with_reducible exact nl_1 | with_reducible exact nl_3 | with_reducible exact nl_7 | with_reducible exact nl_14 | with_reducible exact rfl | apply i_add | apply i_mul)) (by repeat' (first | with_reducible exact nl_0 | with_reducible exact nl_1 | with_reducible exact nl_3 | with_reducible exact nl_7 | with_reducible exact nl_14 | with_reducible exact rfl | apply i_add | apply i_mul)) (by omega) (by omega)).mp c52_12
              refine x_iload (n' := 57) dX9_rankedAt_55 rfl rfl ?_
              exact x_iret dX9_rankedAt_57 hret hE0 (⟨congrArg (fun z => some (Value.int z)) (rkA_hit ht (by omega) C35 C47 N52).symm, rfl⟩)
  have cut6 : ∀ (fuel : Nat) (t : Nat) (h1 : 5 - t < fuel) (h2 : t ≤ 5) (h3 : (rkT (mA M (ad 0)) h ns t).length ≤ i), Wx pp l ee { frames := 1, cells := 0, slots := 0, locals := 22 } ss mm args below meth cd "KeptLightModel" cX9_rankedAt 6 G (MQ below (KQ G M (fun v M2 => v = some (.int (rkA (mA M (ad 0)) h ns i)) ∧ M2 = M)) args ss (0) (0) (kA G)) 6 [some (.ref m), some (.int h), some (.int (nI i)), some (.int (nI (rkT (mA M (ad 0)) h ns t).length)), some (.int (nI (7 - t))), none] [] (M) (0) (0) := by
    intro fuel
    induction fuel with
    | zero => intro t h1 h2 h3; omega
    | succ fuel ih =>
      intro t h1 h2 h3
      refine x_iload (n' := 8) dX9_rankedAt_6 rfl rfl ?_
      refine x_iconst (n' := 9) (v := 3) dX9_rankedAt_8 (by decide) rfl ?_
      refine x_icmp_lt (n' := 12) (tgt := 73) dX9_rankedAt_9 (by decide) rfl (fun c9_13 => ?_) (fun c9_13 => ?_)
      · have C9 := c9_13
        refine x_iconst (n' := 74) (v := -1) dX9_rankedAt_73 (by decide) rfl ?_
        exact x_iret dX9_rankedAt_74 hret hE0 (⟨congrArg (fun z => some (Value.int z)) (rkA_no (by have q8 := (cv6 t h2).mp C9; subst q8; exact h3)).symm, rfl⟩)
      · have C9 := c9_13
        refine x_iconst (n' := 13) (v := 0) dX9_rankedAt_12 (by decide) rfl ?_
        refine x_istore (n' := 15) dX9_rankedAt_13 (Nat.le_of_ble_eq_true rfl) rfl (by dsimp only [List.set] <;> rfl) rfl ?_
        have ht5 : t < 5 := by
          have q9 := not_congr (cv6 t h2)
          have q8 := q9.mp C9
          omega
        rw [show (rkT (mA M (ad 0)) h ns t).length = (rkT (mA M (ad 0)) h ns t ++ rkK (mA M (ad 0)) h (nI (7 - t)) 0).length from by rw [rkK_0, List.append_nil]]
        exact x_drop (cut15 (ns + 1) t 0 ht5 (by omega) (by omega) (by rw [rkK_0, List.append_nil]; exact h3) (fun h6 => ih (t + 1) (by omega) (by omega) h6)) ⟨rfl, ⟨rfl, ⟨rfl, ⟨rfl, ⟨rfl, ⟨rfl, trivial⟩⟩⟩⟩⟩⟩
  refine x_iconst (n' := 1) (v := 0) dX9_rankedAt_0 (by decide) rfl ?_
  refine x_istore_n (n' := 2) dX9_rankedAt_1 rfl (Nat.le_of_ble_eq_true rfl) rfl (by dsimp only [List.set] <;> rfl) rfl ?_
  refine x_bipush (n' := 4) (v := 7) dX9_rankedAt_2 (by decide) rfl ?_
  refine x_istore (n' := 6) dX9_rankedAt_4 (Nat.le_of_ble_eq_true rfl) rfl (by dsimp only [List.set] <;> rfl) rfl ?_
  exact x_drop (cut6 6 0 (by omega) (by omega) (Nat.zero_le _)) ⟨rfl, ⟨rfl, ⟨rfl, ⟨rfl, ⟨rfl, trivial⟩⟩⟩⟩⟩
