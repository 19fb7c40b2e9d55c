theorem DP.kE {M M2 : kM} {o t asd : Nat} {T : kT} {p ap : Nat} (h : DP M o t asd T p ap M2) : kE M M2 := by
  obtain ⟨_, _, _, _, _, hF⟩ := h
  exact hF.kE
theorem spl_P {M : kM} {o t asd : Nat} {T : kT} {q r a : Nat} (h : PT M o t asd (tsP T r (tP T q))) (hq : tN T q = some a) (hrq : r ≠ q) : mR M (fc 88 4) a = (tP T q).bind (tN T) :=
  (h.p hq).trans (by show (va_up (tP T) r (tP T q) q).bind (tN T) = _; rw [va_up_ne _ _ (fun e => hrq e.symm)])
theorem key_q {M : kM} {o t asd : Nat} {T : kT} (h : PT M o t asd T) {q a b : Nat} {w x : Option Nat} (hq : tN T q = some a) (hx : x = w.bind (tN T)) (e : some a = x) : w = some q := by
  obtain ⟨j, h1, h2⟩ := bind_s (hx.symm.trans e.symm)
  rw [h1, h.inj h2 hq]
set_option maxHeartbeats 4000000 in
set_option maxRecDepth 100000 in
theorem k192_c_J1_deleteEntry (l : Launch) (G : kG) (M : kM) (o t asd : Nat) (T : kT) (p ap : Nat) (lo hi : Nat → Nat) (hP : PT M o t asd T) (hV : KV M T) (hW : WTT T lo hi) (hp : tN T p = some ap) (pp : Program) (ee : Env) (ss : State) (mm : MethodId) (args : Array Value) (below : List Frame) (meth : Method) (cd : Code) (hmn : meth.name = yJ1_deleteEntry.name) (hret : meth.sig.returnType = none) : ∀ (q aq : Nat) (T1 T5 : kT) (lo5 hi5 : Nat → Nat) (M1 M5 : kM) (hq : tN T5 q = some aq) (hlf : tL T5 q = none ∧ tR T5 q = none) (hg0 : ∃ g, tP T5 q = some g) (hNN : tN T5 = tN T1 ∧ tK T5 = tK T1 ∧ tV T5 = tV T1) (hP : PT M5 o t asd T5) (hW : WTT T5 lo5 hi5) (hF : FK o M1 M5) (hfin : ∀ M2, DPQ M1 o t asd T1 q M2 → DP M o t asd T p ap M2), Wx pp l ee { frames := 2, cells := 0, slots := 0, locals := 44 } ss mm args below meth cd "java/util/TreeMap" cJ1_deleteEntry 3 G (MQ below (KQ G M (fun v M2 => v = none ∧ DP M o t asd T p ap M2)) args ss (0) (0) (kA G)) 192 [some (.ref t), some (.ref aq), none] [] (M5) (0) (0) := by
  have hV0 := hV
  intro q aq T1 T5 lo5 hi5 M1 M5 hq hlf hg0 hNN hP hW hF hfin
  obtain ⟨g, hg⟩ := hg0
  obtain ⟨ag, hag⟩ : ∃ a, tN T5 g = some a := rot_r (hW.dp (nns hq) hg)
  refine x_aload_n (n' := 193) dJ1_deleteEntry_192 rfl rfl rfl ?_
  refine x_getRs (n' := 196) (b := ag) dJ1_deleteEntry_193 (hP.nk hq) ffJ1_124_88 rfl ((hP.p hq).trans (lk_s hg hag)) rfl ?_
  refine x_ifnull (n' := 199) dJ1_deleteEntry_196 rfl ?_
  refine x_aload_n (n' := 200) dJ1_deleteEntry_199 rfl rfl rfl ?_
  refine x_aload_n (n' := 201) dJ1_deleteEntry_200 rfl rfl rfl ?_
  refine x_getRs (n' := 204) (b := ag) dJ1_deleteEntry_201 (hP.nk hq) ffJ1_124_88 rfl ((hP.p hq).trans (lk_s hg hag)) rfl ?_
  refine x_getR (n' := 207) dJ1_deleteEntry_204 (hP.nk hag) ffJ1_111_88 rfl rfl ?_
  refine x_acmp_ne (n' := 210) (rx := some (aq)) (ry := (mR _ (fc 88 2) ag)) (tgt := 221) dJ1_deleteEntry_207 (by decide) rfl (fun c207_1 => ?_) (fun c207_1 => ?_)
  · have hgr : tR T5 g = some q := hW.sideL (nns hq) hg (fun e => absurd ((hP.l hag).trans (lk_s e hq)).symm (by assumption))
    refine x_aload_n (n' := 222) dJ1_deleteEntry_221 rfl rfl rfl ?_
    refine x_aload_n (n' := 223) dJ1_deleteEntry_222 rfl rfl rfl ?_
    refine x_getRs (n' := 226) (b := ag) dJ1_deleteEntry_223 (hP.nk hq) ffJ1_124_88 rfl ((hP.p hq).trans (lk_s hg hag)) rfl ?_
    refine x_getR (n' := 229) dJ1_deleteEntry_226 (hP.nk hag) ffJ1_114_88 rfl rfl ?_
    refine x_acmp_ne (n' := 232) (rx := some (aq)) (ry := (mR _ (fc 88 3) ag)) (tgt := 240) dJ1_deleteEntry_229 (by decide) rfl (fun c229_2 => absurd ((hP.rr hag).trans (lk_s hgr hq)).symm c229_2) (fun c229_2 => ?_)
    refine x_aload_n (n' := 233) dJ1_deleteEntry_232 rfl rfl rfl ?_
    refine x_getRs (n' := 236) (b := ag) dJ1_deleteEntry_233 (hP.nk hq) ffJ1_124_88 rfl ((hP.p hq).trans (lk_s hg hag)) rfl ?_
    refine x_null (n' := 237) dJ1_deleteEntry_236 rfl ?_
    refine x_putR (n' := 240) (v := none) dJ1_deleteEntry_237 (hP.nk hag) ffJ1_114_88 rfl rfl rfl ?_
    refine x_gen (X := fun M9 => PT M9 o t asd (tsR T5 g none) ∧ FK o M1 M9) ⟨hP.wR hag rfl, hF.tr (FK.rf.R (Or.inr (hP.ng hag)))⟩ (fun M_3 hM9 => ?_)
    obtain ⟨hP, hF⟩ := hM9
    obtain ⟨lo6, hi6, hW6⟩ := cut_R hW hq hlf hg hgr (nns hag)
    refine x_aload_n (n' := 241) dJ1_deleteEntry_240 rfl rfl rfl ?_
    refine x_null (n' := 242) dJ1_deleteEntry_241 rfl ?_
    refine x_putR (n' := 245) (v := none) dJ1_deleteEntry_242 (hP.nk hq) ffJ1_124_88 rfl rfl rfl ?_
    have hD9 : DP M o t asd T p ap _ := hfin _ (⟨drT (tsP (tsR T5 g none) q none) q, lo6, hi6, (hP.wP hq (v := none) (w := none) rfl).drop hW6, hW6, by show va_up (tN T5) q none = _; rw [hNN.1], hNN.2.1, hNN.2.2, hF.tr (FK.rf.R (Or.inr (hP.ng hq)))⟩)
    exact x_vret dJ1_deleteEntry_245 hret hD9.kE (⟨rfl, hD9⟩)
  · have hgl : tL T5 g = some q := key_q (b := 0) hP hq (hP.l hag) (by assumption)
    refine x_aload_n (n' := 211) dJ1_deleteEntry_210 rfl rfl rfl ?_
    refine x_getRs (n' := 214) (b := ag) dJ1_deleteEntry_211 (hP.nk hq) ffJ1_124_88 rfl ((hP.p hq).trans (lk_s hg hag)) rfl ?_
    refine x_null (n' := 215) dJ1_deleteEntry_214 rfl ?_
    refine x_putR (n' := 218) (v := none) dJ1_deleteEntry_215 (hP.nk hag) ffJ1_111_88 rfl rfl rfl ?_
    refine x_goto (tgt := 240) dJ1_deleteEntry_218 (by decide) ?_
    refine x_gen (X := fun M9 => PT M9 o t asd (tsL T5 g none) ∧ FK o M1 M9) ⟨hP.wL hag rfl, hF.tr (FK.rf.R (Or.inr (hP.ng hag)))⟩ (fun M_4 hM9 => ?_)
    obtain ⟨hP, hF⟩ := hM9
    obtain ⟨lo6, hi6, hW6⟩ := cut_L hW hq hlf hg hgl (nns hag)
    refine x_aload_n (n' := 241) dJ1_deleteEntry_240 rfl rfl rfl ?_
    refine x_null (n' := 242) dJ1_deleteEntry_241 rfl ?_
    refine x_putR (n' := 245) (v := none) dJ1_deleteEntry_242 (hP.nk hq) ffJ1_124_88 rfl rfl rfl ?_
    have hD9 : DP M o t asd T p ap _ := hfin _ (⟨drT (tsP (tsL T5 g none) q none) q, lo6, hi6, (hP.wP hq (v := none) (w := none) rfl).drop hW6, hW6, by show va_up (tN T5) q none = _; rw [hNN.1], hNN.2.1, hNN.2.2, hF.tr (FK.rf.R (Or.inr (hP.ng hq)))⟩)
    exact x_vret dJ1_deleteEntry_245 hret hD9.kE (⟨rfl, hD9⟩)
set_option maxHeartbeats 4000000 in
set_option maxRecDepth 100000 in
theorem k133_c_J1_deleteEntry (l : Launch) (G : kG) (M : kM) (o t asd : Nat) (T : kT) (p ap : Nat) (lo hi : Nat → Nat) (hP : PT M o t asd T) (hV : KV M T) (hW : WTT T lo hi) (hp : tN T p = some ap) (pp : Program) (ee : Env) (ss : State) (mm : MethodId) (args : Array Value) (below : List Frame) (meth : Method) (cd : Code) (hmn : meth.name = yJ1_deleteEntry.name) (hret : meth.sig.returnType = none) : ∀ (q aq r ar : Nat) (T1 T5 : kT) (lo5 hi5 : Nat → Nat) (M1 M5 : kM) (hq : tN T5 q = some aq) (har : tN T5 r = some ar) (hrq : r ≠ q) (hNN : tN T5 = tN T1 ∧ tK T5 = tK T1 ∧ tV T5 = tV T1) (hP : PT M5 o t asd T5) (hW : WTT (drT T5 q) lo5 hi5) (hF : FK o M1 M5) (hfin : ∀ M2, DPQ M1 o t asd T1 q M2 → DP M o t asd T p ap M2), Wx pp l ee { frames := 2, cells := 0, slots := 0, locals := 44 } ss mm args below meth cd "java/util/TreeMap" cJ1_deleteEntry 3 G (MQ below (KQ G M (fun v M2 => v = none ∧ DP M o t asd T p ap M2)) args ss (0) (0) (kA G)) 133 [some (.ref t), some (.ref aq), some (.ref ar)] [] (M5) (0) (0) := by
  have hV0 := hV
  have cut192 := k192_c_J1_deleteEntry l G M o t asd T p ap lo hi hP hV hW hp pp ee ss mm args below meth cd hmn hret
  intro q aq r ar T1 T5 lo5 hi5 M1 M5 hq har hrq hNN hP hW hF hfin
  refine x_aload_n (n' := 134) dJ1_deleteEntry_133 rfl rfl rfl ?_
  refine x_aload_n (n' := 135) dJ1_deleteEntry_134 rfl rfl rfl ?_
  refine x_aload_n (n' := 136) dJ1_deleteEntry_135 rfl rfl rfl ?_
  refine x_null (n' := 137) dJ1_deleteEntry_136 rfl ?_
  refine x_dup_x1 (n' := 138) dJ1_deleteEntry_137 rfl rfl rfl ?_
  refine x_putR (n' := 141) (v := none) dJ1_deleteEntry_138 (hP.nk hq) ffJ1_124_88 rfl rfl rfl ?_
  refine x_dup_x1 (n' := 142) dJ1_deleteEntry_141 rfl rfl rfl ?_
  refine x_putR (n' := 145) (v := none) dJ1_deleteEntry_142 (hP.nk hq) ffJ1_114_88 rfl rfl rfl ?_
  refine x_putR (n' := 148) (v := none) dJ1_deleteEntry_145 (hP.nk hq) ffJ1_111_88 rfl rfl rfl ?_
  refine x_gen (X := fun M9 => PT M9 o t asd (drT (tsL (tsR (tsP T5 q none) q none) q none) q) ∧ FK o M1 M9 ∧ mK M9 aq = some 88) ⟨(((hP.wP hq (v := none) (w := none) rfl).wR hq (v := none) (w := none) rfl).wL hq (v := none) (w := none) rfl).drop (drT_nul hW), hF.tr (((FK.rf.R (Or.inr (hP.ng hq))).R (Or.inr (hP.ng hq))).R (Or.inr (hP.ng hq))), hP.nk hq⟩ (fun M_5 hM9 => ?_)
  have hP0 := hP
  obtain ⟨hP, hF, hk9⟩ := hM9
  refine x_aload_n (n' := 149) dJ1_deleteEntry_148 rfl rfl rfl ?_
  refine x_getI (n' := 152) dJ1_deleteEntry_149 (hk9) ffJ1_290_88 rfl rfl ?_
  refine x_iconst (n' := 153) (v := 1) dJ1_deleteEntry_152 (by decide) rfl ?_
  refine x_icmp_ne (n' := 156) (tgt := 245) dJ1_deleteEntry_153 (by decide) rfl (fun c153_6 => ?_) (fun c153_6 => ?_)
  · have hD9 : DP M o t asd T p ap _ := hfin _ (⟨_, lo5, hi5, hP, drT_nul hW, by show va_up (tN T5) q none = _; rw [hNN.1], hNN.2.1, hNN.2.2, hF⟩)
    exact x_vret dJ1_deleteEntry_245 hret hD9.kE (⟨rfl, hD9⟩)
  · refine x_aload_n (n' := 157) dJ1_deleteEntry_156 rfl rfl rfl ?_
    refine x_aload_n (n' := 158) dJ1_deleteEntry_157 rfl rfl rfl ?_
    refine x_callV (n' := 161) (n := 1) (K := 41) (c_J1_fixAfterDeletion l G _ o t asd (drT (tsL (tsR (tsP T5 q none) q none) q none) q) r ar 0 False lo5 hi5 hP (drT_nul hW) ((drT_o hrq).trans har) (fun h => h.elim)) dJ1_deleteEntry_158 (hP.k) rfl (lw_V q3234 q3236 qs46 q81 q3237) (by decide +kernel) ⟨(Nat.le_of_ble_eq_true rfl), (Nat.le_of_ble_eq_true rfl)⟩ rfl rfl (Nat.le_of_ble_eq_true rfl) (by first | exact Nat.le_of_ble_eq_true rfl | omega) (by first | exact Nat.le_of_ble_eq_true rfl | omega) rfl (fun v_7 M_8 h_10 hE_9 => ?_)
    obtain ⟨rfl, T3, lo3, hi3, hP3, hW3, hN3, hF9, -⟩ := h_10
    refine x_goto (tgt := 245) dJ1_deleteEntry_161 (by decide) ?_
    have hD9 : DP M o t asd T p ap _ := hfin _ (⟨T3, lo3, hi3, hP3, hW3, hN3.1.trans (by show va_up (tN T5) q none = _; rw [hNN.1]), hN3.2.1.trans hNN.2.1, hN3.2.2.trans hNN.2.2, hF.tr hF9⟩)
    exact x_vret dJ1_deleteEntry_245 hret hD9.kE (⟨rfl, hD9⟩)
set_option maxHeartbeats 4000000 in
set_option maxRecDepth 100000 in
theorem k57_c_J1_deleteEntry (l : Launch) (G : kG) (M : kM) (o t asd : Nat) (T : kT) (p ap : Nat) (lo hi : Nat → Nat) (hP : PT M o t asd T) (hV : KV M T) (hW : WTT T lo hi) (hp : tN T p = some ap) (pp : Program) (ee : Env) (ss : State) (mm : MethodId) (args : Array Value) (below : List Frame) (meth : Method) (cd : Code) (hmn : meth.name = yJ1_deleteEntry.name) (hret : meth.sig.returnType = none) : ∀ (q aq : Nat) (T1 : kT) (lo1 hi1 : Nat → Nat) (M1 : kM) (hq : tN T1 q = some aq) (h1 : tL T1 q = none ∨ tR T1 q = none) (hP : PT M1 o t asd T1) (hW : WTT T1 lo1 hi1) (hfin : ∀ M2, DPQ M1 o t asd T1 q M2 → DP M o t asd T p ap M2), Wx pp l ee { frames := 2, cells := 0, slots := 0, locals := 44 } ss mm args below meth cd "java/util/TreeMap" cJ1_deleteEntry 3 G (MQ below (KQ G M (fun v M2 => v = none ∧ DP M o t asd T p ap M2)) args ss (0) (0) (kA G)) 57 [some (.ref t), some (.ref aq), none] [] (M1) (0) (0) := by
  have hV0 := hV
  have cut192 := k192_c_J1_deleteEntry l G M o t asd T p ap lo hi hP hV hW hp pp ee ss mm args below meth cd hmn hret
  have cut133 := k133_c_J1_deleteEntry l G M o t asd T p ap lo hi hP hV hW hp pp ee ss mm args below meth cd hmn hret
  intro q aq T1 lo1 hi1 M1 hq h1 hP hW hfin
  refine x_aload_n (n' := 58) dJ1_deleteEntry_57 rfl rfl rfl ?_
  refine x_getRc (n' := 61) dJ1_deleteEntry_58 (hP.nk hq) ffJ1_111_88 rfl rfl (fun e58_11 => ?_) (fun bl e58_11 => ?_)
  · refine x_ifnullN (tgt := 71) dJ1_deleteEntry_61 (by decide) ?_
    refine x_aload_n (n' := 72) dJ1_deleteEntry_71 rfl rfl rfl ?_
    refine x_getRc (n' := 75) dJ1_deleteEntry_72 (hP.nk hq) ffJ1_114_88 rfl rfl (fun e72_12 => ?_) (fun br e72_12 => ?_)
    · refine x_astore_nN (n' := 76) dJ1_deleteEntry_75 rfl (Nat.le_of_ble_eq_true rfl) rfl (by dsimp only [List.set] <;> rfl) rfl ?_
      have hlf : tL T1 q = none ∧ tR T1 q = none := ⟨hP.ln hW hq (by assumption), hP.rn hW hq (by assumption)⟩
      refine x_aload_nN (n' := 77) dJ1_deleteEntry_76 rfl rfl rfl ?_
      refine x_ifnullN (tgt := 164) dJ1_deleteEntry_77 (by decide) ?_
      refine x_aload_n (n' := 165) dJ1_deleteEntry_164 rfl rfl rfl ?_
      refine x_getRc (n' := 168) dJ1_deleteEntry_165 (hP.nk hq) ffJ1_124_88 rfl rfl (fun e165_13 => ?_) (fun bp e165_13 => ?_)
      · refine x_ifnonnullN (n' := 171) dJ1_deleteEntry_168 rfl ?_
        have hpn : tP T1 q = none := hP.pn hW hq (by assumption)
        refine x_aload_n (n' := 172) dJ1_deleteEntry_171 rfl rfl rfl ?_
        refine x_null (n' := 173) dJ1_deleteEntry_172 rfl ?_
        refine x_putR (n' := 176) (v := none) dJ1_deleteEntry_173 (hP.k) ffJ1_101_41 rfl rfl rfl ?_
        refine x_gen (X := fun M9 => PT M9 o t asd (tsr T1 none) ∧ FK o M1 M9) ⟨hP.wt (w := none) rfl, FK.rf.R (Or.inr hP.g)⟩ (fun M_14 hM9 => ?_)
        obtain ⟨hP, hF⟩ := hM9
        obtain ⟨lo6, hi6, hW6⟩ := cut_T hW hq hlf hpn
        refine x_goto (tgt := 245) dJ1_deleteEntry_176 (by decide) ?_
        have hD9 : DP M o t asd T p ap _ := hfin _ (⟨drT (tsr T1 none) q, lo6, hi6, hP.drop hW6, hW6, rfl, rfl, rfl, hF⟩)
        exact x_vret dJ1_deleteEntry_245 hret hD9.kE (⟨rfl, hD9⟩)
      · have k_bp : mK _ bp = some 88 := (by obtain ⟨j, -, h⟩ := hP.ps hq e165_13; exact hP.nk h)
        refine x_ifnonnull (tgt := 179) dJ1_deleteEntry_168 (by decide) ?_
        obtain ⟨g, hg, hag⟩ := hP.ps hq (b := bp) (by assumption)
        refine x_aload_n (n' := 180) dJ1_deleteEntry_179 rfl rfl rfl ?_
        refine x_getI (n' := 183) dJ1_deleteEntry_180 (hP.nk hq) ffJ1_290_88 rfl rfl ?_
        refine x_iconst (n' := 184) (v := 1) dJ1_deleteEntry_183 (by decide) rfl ?_
        refine x_icmp_ne (n' := 187) (tgt := 192) dJ1_deleteEntry_184 (by decide) rfl (fun c184_15 => ?_) (fun c184_15 => ?_)
        · exact x_drop (cut192 q aq T1 T1 lo1 hi1 M1 _ hq hlf ⟨g, hg⟩ ⟨rfl, rfl, rfl⟩ hP hW FK.rf hfin) ⟨rfl, ⟨rfl, trivial⟩⟩
        · refine x_aload_n (n' := 188) dJ1_deleteEntry_187 rfl rfl rfl ?_
          refine x_aload_n (n' := 189) dJ1_deleteEntry_188 rfl rfl rfl ?_
          refine x_callV (n' := 192) (n := 1) (K := 41) (c_J1_fixAfterDeletion l G _ o t asd T1 q aq q True lo1 hi1 hP hW hq (fun _ => ⟨hlf, (hW.1 q (nns hq)).1, (hW.1 q (nns hq)).2.1, nns hq⟩)) dJ1_deleteEntry_189 (hP.k) rfl (lw_V q3234 q3236 qs46 q81 q3237) (by decide +kernel) ⟨(Nat.le_of_ble_eq_true rfl), (Nat.le_of_ble_eq_true rfl)⟩ rfl rfl (Nat.le_of_ble_eq_true rfl) (by first | exact Nat.le_of_ble_eq_true rfl | omega) (by first | exact Nat.le_of_ble_eq_true rfl | omega) rfl (fun v_16 M_17 h_19 hE_18 => ?_)
          obtain ⟨rfl, T3, lo3, hi3, hP3, hW3, hN3, hF9, hlf3⟩ := h_19
          exact x_drop (cut192 q aq T1 T3 lo3 hi3 M1 _ (hN3.1 ▸ hq) (hlf3 trivial) (leaf_p hW3 (hN3.1 ▸ hq) (hlf3 trivial) (k := g) (by rw [hN3.1]; exact nns hag) (fun e => (hW.up (nns hq) hg).2.1 e.symm)) hN3 hP3 hW3 hF9 hfin) ⟨rfl, ⟨rfl, trivial⟩⟩
    · have k_br : mK _ br = some 88 := (by obtain ⟨j, -, h⟩ := hP.rs hq e72_12; exact hP.nk h)
      refine x_astore_n (n' := 76) dJ1_deleteEntry_75 rfl (Nat.le_of_ble_eq_true rfl) rfl (by dsimp only [List.set] <;> rfl) rfl ?_
      obtain ⟨r, hr1, har⟩ := hP.rs hq (b := br) (by assumption)
      have hch : (tL T1 q = none ∧ tR T1 q = some r) ∨ (tR T1 q = none ∧ tL T1 q = some r) := Or.inl ⟨hP.ln hW hq (by assumption), hr1⟩
      have hrq : r ≠ q := (by have z1 := hW.2.2.2.2.1 q r (nns hq) hr1; have z2 := hW.1 r z1.1; omega)
      refine x_aload_n (n' := 77) dJ1_deleteEntry_76 rfl rfl rfl ?_
      refine x_ifnull (n' := 80) dJ1_deleteEntry_77 rfl ?_
      refine x_aload_n (n' := 81) dJ1_deleteEntry_80 rfl rfl rfl ?_
      refine x_aload_n (n' := 82) dJ1_deleteEntry_81 rfl rfl rfl ?_
      refine x_getR (n' := 85) dJ1_deleteEntry_82 (hP.nk hq) ffJ1_124_88 rfl rfl ?_
      refine x_putR (n' := 88) (v := (mR _ (fc 88 4) aq)) dJ1_deleteEntry_85 (hP.nk har) ffJ1_124_88 rfl rfl rfl ?_
      refine x_gen (X := fun M9 => PT M9 o t asd (tsP T1 r (tP T1 q)) ∧ FK o M1 M9) ⟨hP.wP har (hP.p hq), FK.rf.R (Or.inr (hP.ng har))⟩ (fun M_20 hM9 => ?_)
      have hP0 := hP
      obtain ⟨hP, hF⟩ := hM9
      refine x_aload_n (n' := 89) dJ1_deleteEntry_88 rfl rfl rfl ?_
      refine x_getRc (n' := 92) dJ1_deleteEntry_89 (hP.nk hq) ffJ1_124_88 rfl rfl (fun e89_21 => ?_) (fun bp e89_21 => ?_)
      · refine x_ifnonnullN (n' := 95) dJ1_deleteEntry_92 rfl ?_
        have hpn : tP T1 q = none := bind_n ((spl_P hP hq hrq).symm.trans (by assumption)) (fun _ z => hW.dp (nns hq) z)
        refine x_aload_n (n' := 96) dJ1_deleteEntry_95 rfl rfl rfl ?_
        refine x_aload_n (n' := 97) dJ1_deleteEntry_96 rfl rfl rfl ?_
        refine x_putR (n' := 100) (v := some (br)) dJ1_deleteEntry_97 (hP.k) ffJ1_101_41 rfl rfl rfl ?_
        refine x_gen (X := fun M9 => PT M9 o t asd (tsr (tsP T1 r (tP T1 q)) (some r)) ∧ FK o M1 M9) ⟨hP.wt (w := some r) har.symm, hF.tr (FK.rf.R (Or.inr hP.g))⟩ (fun M_22 hM9 => ?_)
        obtain ⟨hP, hF⟩ := hM9
        refine x_goto (tgt := 133) dJ1_deleteEntry_100 (by decide) ?_
        obtain ⟨lo5, hi5, hW5⟩ := spl_T hW hq hch hpn
        exact x_drop (cut133 q aq r br T1 (tsr (tsP T1 r (tP T1 q)) (some r)) lo5 hi5 M1 _ hq har hrq ⟨rfl, rfl, rfl⟩ hP hW5 hF hfin) ⟨rfl, ⟨rfl, ⟨rfl, trivial⟩⟩⟩
      · have k_bp : mK _ bp = some 88 := (by obtain ⟨j, -, h⟩ := hP.ps hq e89_21; exact hP.nk h)
        refine x_ifnonnull (tgt := 103) dJ1_deleteEntry_92 (by decide) ?_
        obtain ⟨g, hg, hag⟩ := bind_s ((spl_P hP hq hrq).symm.trans (by assumption))
        refine x_aload_n (n' := 104) dJ1_deleteEntry_103 rfl rfl rfl ?_
        refine x_aload_n (n' := 105) dJ1_deleteEntry_104 rfl rfl rfl ?_
        refine x_getRs (n' := 108) (b := bp) dJ1_deleteEntry_105 (hP.nk hq) ffJ1_124_88 rfl ((by assumption)) rfl ?_
        refine x_getR (n' := 111) dJ1_deleteEntry_108 (by repeat' (first | with_reducible exact k_bp | with_reducible apply mK_A | with_reducible apply mK_I | with_reducible apply mK_L | with_reducible apply mK_R | with_reducible apply mK_O | with_reducible apply mK_G | with_reducible refine mK_NA ?_ (by assumption) | with_reducible refine mK_NO ?_ (by assumption))) ffJ1_111_88 rfl rfl ?_
        refine x_acmp_ne (n' := 114) (rx := some (aq)) (ry := (mR _ (fc 88 2) bp)) (tgt := 125) dJ1_deleteEntry_111 (by decide) rfl (fun c111_23 => ?_) (fun c111_23 => ?_)
        · have hgr : tR T1 g = some q := hW.sideL (nns hq) hg (fun e => absurd ((hP.l hag).trans (lk_s e hq)).symm (by assumption))
          refine x_aload_n (n' := 126) dJ1_deleteEntry_125 rfl rfl rfl ?_
          refine x_getRs (n' := 129) (b := bp) dJ1_deleteEntry_126 (hP.nk hq) ffJ1_124_88 rfl ((by assumption)) rfl ?_
          refine x_aload_n (n' := 130) dJ1_deleteEntry_129 rfl rfl rfl ?_
          refine x_putR (n' := 133) (v := some (br)) dJ1_deleteEntry_130 (by repeat' (first | with_reducible exact k_bp | with_reducible apply mK_A | with_reducible apply mK_I | with_reducible apply mK_L | with_reducible apply mK_R | with_reducible apply mK_O | with_reducible apply mK_G | with_reducible refine mK_NA ?_ (by assumption) | with_reducible refine mK_NO ?_ (by assumption))) ffJ1_114_88 rfl rfl rfl ?_
          refine x_gen (X := fun M9 => PT M9 o t asd (tsR (tsP T1 r (tP T1 q)) g (some r)) ∧ FK o M1 M9) ⟨hP.wR hag har.symm, hF.tr (FK.rf.R (Or.inr (hP.ng hag)))⟩ (fun M_24 hM9 => ?_)
          obtain ⟨hP, hF⟩ := hM9
          obtain ⟨lo5, hi5, hW5⟩ := spl_R hW hq hch hg hgr (nns hag)
          exact x_drop (cut133 q aq r br T1 (tsR (tsP T1 r (tP T1 q)) g (some r)) lo5 hi5 M1 _ hq har hrq ⟨rfl, rfl, rfl⟩ hP hW5 hF hfin) ⟨rfl, ⟨rfl, ⟨rfl, trivial⟩⟩⟩
        · have hgl : tL T1 g = some q := key_q (b := 0) hP hq (hP.l hag) (by assumption)
          refine x_aload_n (n' := 115) dJ1_deleteEntry_114 rfl rfl rfl ?_
          refine x_getRs (n' := 118) (b := bp) dJ1_deleteEntry_115 (hP.nk hq) ffJ1_124_88 rfl ((by assumption)) rfl ?_
          refine x_aload_n (n' := 119) dJ1_deleteEntry_118 rfl rfl rfl ?_
          refine x_putR (n' := 122) (v := some (br)) dJ1_deleteEntry_119 (by repeat' (first | with_reducible exact k_bp | with_reducible apply mK_A | with_reducible apply mK_I | with_reducible apply mK_L | with_reducible apply mK_R | with_reducible apply mK_O | with_reducible apply mK_G | with_reducible refine mK_NA ?_ (by assumption) | with_reducible refine mK_NO ?_ (by assumption))) ffJ1_111_88 rfl rfl rfl ?_
          refine x_gen (X := fun M9 => PT M9 o t asd (tsL (tsP T1 r (tP T1 q)) g (some r)) ∧ FK o M1 M9) ⟨hP.wL hag har.symm, hF.tr (FK.rf.R (Or.inr (hP.ng hag)))⟩ (fun M_25 hM9 => ?_)
          obtain ⟨hP, hF⟩ := hM9
          refine x_goto (tgt := 133) dJ1_deleteEntry_122 (by decide) ?_
          obtain ⟨lo5, hi5, hW5⟩ := spl_L hW hq hch hg hgl (nns hag)
          exact x_drop (cut133 q aq r br T1 (tsL (tsP T1 r (tP T1 q)) g (some r)) lo5 hi5 M1 _ hq har hrq ⟨rfl, rfl, rfl⟩ hP hW5 hF hfin) ⟨rfl, ⟨rfl, ⟨rfl, trivial⟩⟩⟩
  · have k_bl : mK _ bl = some 88 := (by obtain ⟨j, -, h⟩ := hP.ls hq e58_11; exact hP.nk h)
    refine x_ifnull (n' := 64) dJ1_deleteEntry_61 rfl ?_
    refine x_aload_n (n' := 65) dJ1_deleteEntry_64 rfl rfl rfl ?_
    refine x_getRs (n' := 68) (b := bl) dJ1_deleteEntry_65 (hP.nk hq) ffJ1_111_88 rfl ((by assumption)) rfl ?_
    refine x_goto (tgt := 75) dJ1_deleteEntry_68 (by decide) ?_
    refine x_astore_n (n' := 76) dJ1_deleteEntry_75 rfl (Nat.le_of_ble_eq_true rfl) rfl (by dsimp only [List.set] <;> rfl) rfl ?_
    obtain ⟨r, hr1, har⟩ := hP.ls hq (b := bl) (by assumption)
    have hch : (tL T1 q = none ∧ tR T1 q = some r) ∨ (tR T1 q = none ∧ tL T1 q = some r) := Or.inr ⟨h1.resolve_left (nns hr1), hr1⟩
    have hrq : r ≠ q := (by have z1 := hW.2.2.1 q r (nns hq) hr1; have z2 := hW.1 r z1.1; omega)
    refine x_aload_n (n' := 77) dJ1_deleteEntry_76 rfl rfl rfl ?_
    refine x_ifnull (n' := 80) dJ1_deleteEntry_77 rfl ?_
    refine x_aload_n (n' := 81) dJ1_deleteEntry_80 rfl rfl rfl ?_
    refine x_aload_n (n' := 82) dJ1_deleteEntry_81 rfl rfl rfl ?_
    refine x_getR (n' := 85) dJ1_deleteEntry_82 (hP.nk hq) ffJ1_124_88 rfl rfl ?_
    refine x_putR (n' := 88) (v := (mR _ (fc 88 4) aq)) dJ1_deleteEntry_85 (hP.nk har) ffJ1_124_88 rfl rfl rfl ?_
    refine x_gen (X := fun M9 => PT M9 o t asd (tsP T1 r (tP T1 q)) ∧ FK o M1 M9) ⟨hP.wP har (hP.p hq), FK.rf.R (Or.inr (hP.ng har))⟩ (fun M_26 hM9 => ?_)
    have hP0 := hP
    obtain ⟨hP, hF⟩ := hM9
    refine x_aload_n (n' := 89) dJ1_deleteEntry_88 rfl rfl rfl ?_
    refine x_getRc (n' := 92) dJ1_deleteEntry_89 (hP.nk hq) ffJ1_124_88 rfl rfl (fun e89_27 => ?_) (fun bp e89_27 => ?_)
    · refine x_ifnonnullN (n' := 95) dJ1_deleteEntry_92 rfl ?_
      have hpn : tP T1 q = none := bind_n ((spl_P hP hq hrq).symm.trans (by assumption)) (fun _ z => hW.dp (nns hq) z)
      refine x_aload_n (n' := 96) dJ1_deleteEntry_95 rfl rfl rfl ?_
      refine x_aload_n (n' := 97) dJ1_deleteEntry_96 rfl rfl rfl ?_
      refine x_putR (n' := 100) (v := some (bl)) dJ1_deleteEntry_97 (hP.k) ffJ1_101_41 rfl rfl rfl ?_
      refine x_gen (X := fun M9 => PT M9 o t asd (tsr (tsP T1 r (tP T1 q)) (some r)) ∧ FK o M1 M9) ⟨hP.wt (w := some r) har.symm, hF.tr (FK.rf.R (Or.inr hP.g))⟩ (fun M_28 hM9 => ?_)
      obtain ⟨hP, hF⟩ := hM9
      refine x_goto (tgt := 133) dJ1_deleteEntry_100 (by decide) ?_
      obtain ⟨lo5, hi5, hW5⟩ := spl_T hW hq hch hpn
      exact x_drop (cut133 q aq r bl T1 (tsr (tsP T1 r (tP T1 q)) (some r)) lo5 hi5 M1 _ hq har hrq ⟨rfl, rfl, rfl⟩ hP hW5 hF hfin) ⟨rfl, ⟨rfl, ⟨rfl, trivial⟩⟩⟩
    · have k_bp : mK _ bp = some 88 := (by obtain ⟨j, -, h⟩ := hP.ps hq e89_27; exact hP.nk h)
      refine x_ifnonnull (tgt := 103) dJ1_deleteEntry_92 (by decide) ?_
      obtain ⟨g, hg, hag⟩ := bind_s ((spl_P hP hq hrq).symm.trans (by assumption))
      refine x_aload_n (n' := 104) dJ1_deleteEntry_103 rfl rfl rfl ?_
      refine x_aload_n (n' := 105) dJ1_deleteEntry_104 rfl rfl rfl ?_
      refine x_getRs (n' := 108) (b := bp) dJ1_deleteEntry_105 (hP.nk hq) ffJ1_124_88 rfl ((by assumption)) rfl ?_
      refine x_getR (n' := 111) dJ1_deleteEntry_108 (by repeat' (first | with_reducible exact k_bp | with_reducible apply mK_A | with_reducible apply mK_I | with_reducible apply mK_L | with_reducible apply mK_R | with_reducible apply mK_O | with_reducible apply mK_G | with_reducible refine mK_NA ?_ (by assumption) | with_reducible refine mK_NO ?_ (by assumption))) ffJ1_111_88 rfl rfl ?_
      refine x_acmp_ne (n' := 114) (rx := some (aq)) (ry := (mR _ (fc 88 2) bp)) (tgt := 125) dJ1_deleteEntry_111 (by decide) rfl (fun c111_29 => ?_) (fun c111_29 => ?_)
      · have hgr : tR T1 g = some q := hW.sideL (nns hq) hg (fun e => absurd ((hP.l hag).trans (lk_s e hq)).symm (by assumption))
        refine x_aload_n (n' := 126) dJ1_deleteEntry_125 rfl rfl rfl ?_
        refine x_getRs (n' := 129) (b := bp) dJ1_deleteEntry_126 (hP.nk hq) ffJ1_124_88 rfl ((by assumption)) rfl ?_
        refine x_aload_n (n' := 130) dJ1_deleteEntry_129 rfl rfl rfl ?_
        refine x_putR (n' := 133) (v := some (bl)) dJ1_deleteEntry_130 (by repeat' (first | with_reducible exact k_bp | with_reducible apply mK_A | with_reducible apply mK_I | with_reducible apply mK_L | with_reducible apply mK_R | with_reducible apply mK_O | with_reducible apply mK_G | with_reducible refine mK_NA ?_ (by assumption) | with_reducible refine mK_NO ?_ (by assumption))) ffJ1_114_88 rfl rfl rfl ?_
        refine x_gen (X := fun M9 => PT M9 o t asd (tsR (tsP T1 r (tP T1 q)) g (some r)) ∧ FK o M1 M9) ⟨hP.wR hag har.symm, hF.tr (FK.rf.R (Or.inr (hP.ng hag)))⟩ (fun M_30 hM9 => ?_)
        obtain ⟨hP, hF⟩ := hM9
        obtain ⟨lo5, hi5, hW5⟩ := spl_R hW hq hch hg hgr (nns hag)
        exact x_drop (cut133 q aq r bl T1 (tsR (tsP T1 r (tP T1 q)) g (some r)) lo5 hi5 M1 _ hq har hrq ⟨rfl, rfl, rfl⟩ hP hW5 hF hfin) ⟨rfl, ⟨rfl, ⟨rfl, trivial⟩⟩⟩
      · have hgl : tL T1 g = some q := key_q (b := 0) hP hq (hP.l hag) (by assumption)
        refine x_aload_n (n' := 115) dJ1_deleteEntry_114 rfl rfl rfl ?_
        refine x_getRs (n' := 118) (b := bp) dJ1_deleteEntry_115 (hP.nk hq) ffJ1_124_88 rfl ((by assumption)) rfl ?_
        refine x_aload_n (n' := 119) dJ1_deleteEntry_118 rfl rfl rfl ?_
        refine x_putR (n' := 122) (v := some (bl)) dJ1_deleteEntry_119 (by repeat' (first | with_reducible exact k_bp | with_reducible apply mK_A | with_reducible apply mK_I | with_reducible apply mK_L | with_reducible apply mK_R | with_reducible apply mK_O | with_reducible apply mK_G | with_reducible refine mK_NA ?_ (by assumption) | with_reducible refine mK_NO ?_ (by assumption))) ffJ1_111_88 rfl rfl rfl ?_
        refine x_gen (X := fun M9 => PT M9 o t asd (tsL (tsP T1 r (tP T1 q)) g (some r)) ∧ FK o M1 M9) ⟨hP.wL hag har.symm, hF.tr (FK.rf.R (Or.inr (hP.ng hag)))⟩ (fun M_31 hM9 => ?_)
        obtain ⟨hP, hF⟩ := hM9
        refine x_goto (tgt := 133) dJ1_deleteEntry_122 (by decide) ?_
        obtain ⟨lo5, hi5, hW5⟩ := spl_L hW hq hch hg hgl (nns hag)
        exact x_drop (cut133 q aq r bl T1 (tsL (tsP T1 r (tP T1 q)) g (some r)) lo5 hi5 M1 _ hq har hrq ⟨rfl, rfl, rfl⟩ hP hW5 hF hfin) ⟨rfl, ⟨rfl, ⟨rfl, trivial⟩⟩⟩
set_option maxHeartbeats 4000000 in
set_option maxRecDepth 100000 in
theorem c_J1_deleteEntry (l : Launch) (G : kG) (M : kM) (o t asd : Nat) (T : kT) (p ap : Nat) (lo hi : Nat → Nat) (hP : PT M o t asd T) (hV : KV M T) (hW : WTT T lo hi) (hp : tN T p = some ap) : Kt l G yJ1_deleteEntry cJ1_deleteEntry 3 none 2 44 [.ref t, .ref ap] M (0) (0) (fun v M2 => v = none ∧ DP M o t asd T p ap M2) := by
  refine Kt.of (own := "java/util/TreeMap") (L := [some (.ref t), some (.ref ap), none]) (by decide +kernel) rfl (Nat.le_of_ble_eq_true rfl) rfl ?_
  intro pp ee ss mm args below meth cd hmn hret
  have hV0 := hV
  have cut192 := k192_c_J1_deleteEntry l G M o t asd T p ap lo hi hP hV hW hp pp ee ss mm args below meth cd hmn hret
  have cut133 := k133_c_J1_deleteEntry l G M o t asd T p ap lo hi hP hV hW hp pp ee ss mm args below meth cd hmn hret
  have cut57 := k57_c_J1_deleteEntry l G M o t asd T p ap lo hi hP hV hW hp pp ee ss mm args below meth cd hmn hret
  refine x_aload_n (n' := 1) dJ1_deleteEntry_0 rfl rfl rfl ?_
  refine x_dup (n' := 2) dJ1_deleteEntry_1 rfl rfl ?_
  refine x_getI (n' := 5) dJ1_deleteEntry_2 (hP.k) ffJ1_13_41 rfl rfl ?_
  refine x_iconst (n' := 6) (v := 1) dJ1_deleteEntry_5 (by decide) rfl ?_
  refine x_iadd (n' := 7) dJ1_deleteEntry_6 rfl ?_
  refine x_putI (n' := 10) dJ1_deleteEntry_7 (hP.k) ffJ1_13_41 rfl (⟨rfl, rfl⟩) rfl rfl ?_
  refine x_aload_n (n' := 11) dJ1_deleteEntry_10 rfl rfl rfl ?_
  refine x_dup (n' := 12) dJ1_deleteEntry_11 rfl rfl ?_
  refine x_getI (n' := 15) dJ1_deleteEntry_12 (hP.k) ffJ1_7_41 rfl rfl ?_
  refine x_iconst (n' := 16) (v := 1) dJ1_deleteEntry_15 (by decide) rfl ?_
  refine x_isub (n' := 17) dJ1_deleteEntry_16 rfl ?_
  refine x_putI (n' := 20) dJ1_deleteEntry_17 (hP.k) ffJ1_7_41 rfl (⟨rfl, rfl⟩) rfl rfl ?_
  refine x_gen (X := fun M9 => PT M9 o t asd T ∧ Fr (fun x => x = o) M M9 ∧ (∀ a, mI M9 (fc 4 0) a = mI M (fc 4 0) a)) ⟨(hP.wI (by decide)).wI (by decide), (Fr.rf.I (Or.inr hP.g)).I (Or.inr hP.g), fun a => (mI_sI_c (by decide)).trans (mI_sI_c (by decide))⟩ (fun M_32 hM9 => ?_)
  have hP0 := hP
  obtain ⟨hP, hFr, hI⟩ := hM9
  refine x_aload_n (n' := 21) dJ1_deleteEntry_20 rfl rfl rfl ?_
  refine x_getRc (n' := 24) dJ1_deleteEntry_21 (hP.nk hp) ffJ1_111_88 rfl rfl (fun e21_33 => ?_) (fun bl e21_33 => ?_)
  · refine x_ifnullN (tgt := 57) dJ1_deleteEntry_24 (by decide) ?_
    exact x_drop (cut57 p ap T lo hi _ hp (Or.inl (hP.ln hW hp (by assumption))) hP hW (fun M2 h => DP_1 hV0 hp (Or.inl (hP.ln hW hp (by assumption))) hI hFr h)) ⟨rfl, ⟨rfl, trivial⟩⟩
  · have k_bl : mK _ bl = some 88 := (by obtain ⟨j, -, h⟩ := hP.ls hp e21_33; exact hP.nk h)
    refine x_ifnull (n' := 27) dJ1_deleteEntry_24 rfl ?_
    refine x_aload_n (n' := 28) dJ1_deleteEntry_27 rfl rfl rfl ?_
    refine x_getRc (n' := 31) dJ1_deleteEntry_28 (hP.nk hp) ffJ1_114_88 rfl rfl (fun e28_34 => ?_) (fun br e28_34 => ?_)
    · refine x_ifnullN (tgt := 57) dJ1_deleteEntry_31 (by decide) ?_
      exact x_drop (cut57 p ap T lo hi _ hp (Or.inr (hP.rn hW hp (by assumption))) hP hW (fun M2 h => DP_1 hV0 hp (Or.inr (hP.rn hW hp (by assumption))) hI hFr h)) ⟨rfl, ⟨rfl, trivial⟩⟩
    · have k_br : mK _ br = some 88 := (by obtain ⟨j, -, h⟩ := hP.rs hp e28_34; exact hP.nk h)
      refine x_ifnull (n' := 34) dJ1_deleteEntry_31 rfl ?_
      refine x_aload_n (n' := 35) dJ1_deleteEntry_34 rfl rfl rfl ?_
      refine x_callS (n' := 38) (n := 1) (c_J1_successor l G _ o t asd T p ap lo hi hP hW hp) dJ1_deleteEntry_35 (lw_S q3233 q1920 q81 q1921) (by decide +kernel) ⟨(Nat.le_of_ble_eq_true rfl), (Nat.le_of_ble_eq_true rfl)⟩ rfl rfl (Nat.le_of_ble_eq_true rfl) (by first | exact Nat.le_of_ble_eq_true rfl | omega) (by first | exact Nat.le_of_ble_eq_true rfl | omega) rfl (fun v_35 M_36 h_38 hE_37 => ?_)
      obtain ⟨x, rfl, hMs, hx⟩ := h_38
      have hMs := hMs.symm
      subst hMs
      obtain ⟨jl, hL9, -⟩ := hP.ls hp (b := bl) (by assumption)
      obtain ⟨jr, hR9, -⟩ := hP.rs hp (b := br) (by assumption)
      obtain ⟨s, rfl⟩ := nx_r hW (nns hp) (nns hR9) hx
      obtain ⟨as9, hs⟩ : ∃ a, tN T s = some a := rot_r (hx.2 s rfl).1
      refine x_topr (show (some s).bind (tN T) = some as9 from hs) ?_
      refine x_astore_n (n' := 39) dJ1_deleteEntry_38 rfl (Nat.le_of_ble_eq_true rfl) rfl (by dsimp only [List.set] <;> rfl) rfl ?_
      refine x_aload_n (n' := 40) dJ1_deleteEntry_39 rfl rfl rfl ?_
      refine x_aload_n (n' := 41) dJ1_deleteEntry_40 rfl rfl rfl ?_
      refine x_getRs (n' := 44) (b := (tK T s)) dJ1_deleteEntry_41 (hP.nk hs) ffJ1_105_88 rfl (hP.key hs) rfl ?_
      refine x_putR (n' := 47) (v := some ((tK T s))) dJ1_deleteEntry_44 (hP.nk hp) ffJ1_105_88 rfl rfl rfl ?_
      refine x_gen (X := fun M9 => PT M9 o t asd (tsK T p (tK T s)) ∧ Fr (fun x => x = o) M M9 ∧ (∀ a, mI M9 (fc 4 0) a = mI M (fc 4 0) a)) ⟨hP.sK hp (hP.n hs).2.2.1.2, hFr.R (Or.inr (hP0.ng hp)), hI⟩ (fun M_39 hM9 => ?_)
      obtain ⟨hP, hFr, hI⟩ := hM9
      refine x_aload_n (n' := 48) dJ1_deleteEntry_47 rfl rfl rfl ?_
      refine x_aload_n (n' := 49) dJ1_deleteEntry_48 rfl rfl rfl ?_
      refine x_getRs (n' := 52) (b := (tV T s)) dJ1_deleteEntry_49 (hP.nk hs) ffJ1_58_88 rfl (hP.val hs) rfl ?_
      refine x_putR (n' := 55) (v := some ((tV T s))) dJ1_deleteEntry_52 (hP.nk hp) ffJ1_58_88 rfl rfl rfl ?_
      refine x_gen (X := fun M9 => PT M9 o t asd (tsV (tsK T p (tK T s)) p (tV T s)) ∧ Fr (fun x => x = o) M M9 ∧ (∀ a, mI M9 (fc 4 0) a = mI M (fc 4 0) a)) ⟨hP.sV hp (hP.n hs).2.2.2.1.2, hFr.R (Or.inr (hP0.ng hp)), hI⟩ (fun M_40 hM9 => ?_)
      obtain ⟨hP, hFr, hI⟩ := hM9
      refine x_aload_n (n' := 56) dJ1_deleteEntry_55 rfl rfl rfl ?_
      refine x_astore_n (n' := 57) dJ1_deleteEntry_56 rfl (Nat.le_of_ble_eq_true rfl) rfl (by dsimp only [List.set] <;> rfl) rfl ?_
      exact x_drop (cut57 s as9 (tsV (tsK T p (tK T s)) p (tV T s)) lo hi _ hs (Or.inl (nx_l hW (nns hp) (nns hR9) hx)) hP hW (fun M2 h => DP_2 (T1 := tsV (tsK T p (tK T s)) p (tV T s)) hV0 hW hp ⟨nns hL9, nns hR9⟩ hx rfl rfl rfl hI hFr h)) ⟨rfl, ⟨rfl, trivial⟩⟩
