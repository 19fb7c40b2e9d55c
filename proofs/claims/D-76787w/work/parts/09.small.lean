theorem ffX4_7_4 : FF "KeptLight$Hour" 7 4 0 "KeptLight$Hour" := ⟨by decide, by decide, q228, Or.inl rfl⟩
set_option maxHeartbeats 4000000 in
set_option maxRecDepth 100000 in
theorem c_X4_compareTo_2 (l : Launch) (G : kG) (M : kM) (a b : Nat) (ha : mK M a = some 4) (hb : mK M b = some 4) : Kt l G yX4_compareTo_2 cX4_compareTo_2 2 (some .int) 0 0 [.ref a, .ref b] M (0) (0) (fun v M2 => v = some (.int (mI M (fc 4 0) a - mI M (fc 4 0) b)) ∧ M2 = M) := by
  refine Kt.of (own := "KeptLight$Hour") (L := [some (.ref a), some (.ref b)]) (by decide +kernel) rfl (Nat.le_of_ble_eq_true rfl) rfl ?_
  intro pp ee ss mm args below meth cd hmn hret
  have hE0 : kE M M := kE.rf
  refine x_aload_n (n' := 1) dX4_compareTo_2_0 rfl rfl rfl ?_
  refine x_getI (n' := 4) dX4_compareTo_2_1 ha ffX4_7_4 rfl rfl ?_
  refine x_aload_n (n' := 5) dX4_compareTo_2_4 rfl rfl rfl ?_
  refine x_getI (n' := 8) dX4_compareTo_2_5 hb ffX4_7_4 rfl rfl ?_
  refine x_isub (n' := 9) dX4_compareTo_2_8 rfl ?_
  exact x_iret dX4_compareTo_2_9 hret hE0 (⟨rfl, rfl⟩)

set_option maxHeartbeats 4000000 in
set_option maxRecDepth 100000 in
theorem c_X4_compareTo (l : Launch) (G : kG) (M : kM) (a b : Nat) (ha : mK M a = some 4) (hb : mK M b = some 4) : Kt l G yX4_compareTo cX4_compareTo 2 (some .int) 1 21 [.ref a, .ref b] M (0) (0) (fun v M2 => v = some (.int (mI M (fc 4 0) a - mI M (fc 4 0) b)) ∧ M2 = M) := by
  refine Kt.of (own := "KeptLight$Hour") (L := [some (.ref a), some (.ref b)]) (by decide +kernel) rfl (Nat.le_of_ble_eq_true rfl) rfl ?_
  intro pp ee ss mm args below meth cd hmn hret
  have hE0 : kE M M := kE.rf
  refine x_aload_n (n' := 1) dX4_compareTo_0 rfl rfl rfl ?_
  refine x_aload_n (n' := 2) dX4_compareTo_1 rfl rfl rfl ?_
  refine x_castE (n' := 5) dX4_compareTo_2 hb rfl q2222 rfl ?_
  refine x_callV (n' := 8) (n := 1) (c_X4_compareTo_2 l G _ a b ha hb) dX4_compareTo_5 ha rfl (lw_V q2223 q2224 q2225 q83 q2226) (by decide +kernel) ⟨(Nat.le_of_ble_eq_true rfl), (Nat.le_of_ble_eq_true rfl)⟩ rfl rfl (Nat.le_of_ble_eq_true rfl) (by first | exact Nat.le_of_ble_eq_true rfl | omega) (by first | exact Nat.le_of_ble_eq_true rfl | omega) rfl (fun v_1 M_2 h_4 hE_3 => ?_)
  have ha := hE_3 _ _ ha
  have hb := hE_3 _ _ hb
  have hE0 : kE M _ := fun a K q9 => hE_3 a K (hE0 a K q9)
  obtain ⟨rfl, rfl⟩ := h_4
  exact x_iret dX4_compareTo_8 hret hE0 (⟨rfl, rfl⟩)

set_option maxHeartbeats 4000000 in
set_option maxRecDepth 100000 in
theorem c_X4_init (l : Launch) (G : kG) (M : kM) (a : Nat) (x : Int32) (ha : mK M a = some 4) : Kt l G yX4_init cX4_init 2 none 1 20 [.ref a, .int x] M (0) (0) (fun v M2 => v = none ∧ M2 = sI M (fc 4 0) a x) := by
  refine Kt.of (own := "KeptLight$Hour") (L := [some (.ref a), some (.int x)]) (by decide +kernel) rfl (Nat.le_of_ble_eq_true rfl) rfl ?_
  intro pp ee ss mm args below meth cd hmn hret
  have hE0 : kE M M := kE.rf
  refine x_aload_n (n' := 1) dX4_init_0 rfl rfl rfl ?_
  refine x_objInit (n' := 4) dX4_init_1 q227 ⟨(Nat.le_of_ble_eq_true rfl), (Nat.le_of_ble_eq_true rfl)⟩ (Nat.le_of_ble_eq_true rfl) rfl ?_
  refine x_aload_n (n' := 5) dX4_init_4 rfl rfl rfl ?_
  refine x_iload_n (n' := 6) dX4_init_5 rfl rfl rfl ?_
  refine x_putI (n' := 9) dX4_init_6 ha ffX4_7_4 rfl (⟨rfl, rfl⟩) rfl rfl ?_
  exact x_vret dX4_init_9 hret hE0 (⟨rfl, rfl⟩)
