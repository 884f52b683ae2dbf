set_option maxHeartbeats 4000000 in
theorem tX5_villageLine (l : Launch) (G : GG) (ad : Nat → Nat) (σ : St) (t : Int → Int) (n : Int) (Z : PS) (hm : MP σ t n Z) (hrd : 0 ≤ Z.2.2 0 ∧ Z.2.2 0 ≤ 8) : Met l yX5_villageLine (ws_ yX5_villageLine cX5_villageLine 8 none) ⟨7, 0, 0, 158⟩ (wPre G shM ad σ (fun _ => True) [.ref (ad 0)]) (qS G shM ad (aM ad) (rV (fun σ' => (MP σ' t n (viS t n Z)) ∧ (MSr σ σ')))) 0 0 (aM ad) := by
  refine wStart (by decide) (Nat.le_of_ble_eq_true rfl) (fun k hk => ⟨k, hk, rfl⟩) (fun p e s m below meth c S hr hlk _ _ ls hW hl => ?_)
  have hl : lv_has ls 8 [(0, .ref (ad 0))] := hl
  have fz := MP_at hm
  have hd9 := viD_rng (t := t) (n := n) (S := Z)
  have ho9 := viO_rng (t := t) (n := n) (S := Z)
  refine lv_aload_n S.1 S.2.1 dX5_villageLine_0 rfl (lv_at hl 0 rfl) ?_
  refine w_geti S hW in_X5 0 rfl rfl 4 (by decide) q1655 rfl rfl dX5_villageLine_1 ?_
  refine lv_istore_n (lv' := [(1, .int (iI (σ 4 0))), (0, .ref (ad 0))]) S.1 S.2.1 dX5_villageLine_4 rfl hl (by decide) rfl (fun ls hl => ?_)
  refine lv_aload_n S.1 S.2.1 dX5_villageLine_5 rfl (lv_at hl 1 rfl) ?_
  refine r_bipush S dX5_villageLine_6 (by decide) ?_
  refine r_bipush S dX5_villageLine_8 (by decide) ?_
  refine c_VSi S hW (tX5_takes l G ad σ 21 24 t n ((Z).1) ((Z).2.1) (hm.1) (by omega)) (cw_X5_156 S.2.2.2.2 ⟨Nat.le_of_ble_eq_true rfl, Nat.le_of_ble_eq_true rfl⟩) eBlind_T (fun _ _ _ => trivial) (w_recv hW (q0 := 0) rfl rfl) rfl hl.1 (rest := []) rfl (Nat.le_of_ble_eq_true rfl) dX5_villageLine_10 ⟨Nat.le_of_ble_eq_true rfl, Nat.le_of_ble_eq_true rfl⟩ (fun r10 σ10 H locs q10 hW => ?_)
  obtain ⟨rfl, q10_ms, q10_a, q10_sm⟩ := q10
  have m10 := MP_tk hm q10_ms q10_sm
  have w10 := MSr_tr MSr_rf q10_a q10_sm
  have f10 := MP_at m10
  have r10 : σ10 9 0 = Z.2.2 0 := by rw [m10.2]; rfl
  have hvv := tkVl_rng (t := t) (n := n) (p := Z.1) (e := Z.2.1) (lo := 21) (hi := 24) (by omega)
  refine r_bipush S dX5_villageLine_13 (by decide) ?_
  refine r_isub S dX5_villageLine_15 ?_
  refine r_as (viD t n Z) (rfl) ?_
  refine lv_istore_n (lv' := [(2, .int (iI (viD t n Z))), (1, .int (iI (σ 4 0))), (0, .ref (ad 0))]) S.1 S.2.1 dX5_villageLine_16 rfl hl (by decide) rfl (fun ls hl => ?_)
  have cut_33 : ∀ (H : Heap) (locs : List Loc) (ls : Array Slot), WD G shM ad (aM ad) s s.heap σ10 H locs → lv_has ls 8 [(2, .int (iI (viD t n Z))), (1, .int (iI (σ 4 0))), (0, .ref (ad 0))] → W p l e (⟨7, 0, 0, 158⟩ : Room) s m ([.ref (ad 0)] : List Value).toArray below meth c H locs 0 0 (MQ below (qS G shM ad (aM ad) (rV (fun σ' => (MP σ' t n (viS t n Z)) ∧ (MSr σ σ')))) ([.ref (ad 0)] : List Value).toArray s 0 0 (aM ad)) (F0 m 33 ls [.int (iI (b2i (dP (Z.2.2 0 < 8))))]) := by
    intro H locs ls hW hl
    refine lv_istore_n (lv' := [(3, .int (iI (b2i (dP (Z.2.2 0 < 8))))), (2, .int (iI (viD t n Z))), (1, .int (iI (σ 4 0))), (0, .ref (ad 0))]) S.1 S.2.1 dX5_villageLine_33 rfl hl (by decide) rfl (fun ls hl => ?_)
    have cut_51 : ∀  (σ1 : St) (H : Heap) (locs : List Loc) (ls : Array Slot), (MP σ1 t n (viA t n Z)) → (MSr σ σ1) → WD G shM ad (aM ad) s s.heap σ1 H locs → lv_has ls 8 [(3, .int (iI (b2i (dP (Z.2.2 0 < 8))))), (2, .int (iI (viD t n Z))), (1, .int (iI (σ 4 0))), (0, .ref (ad 0))] → W p l e (⟨7, 0, 0, 158⟩ : Room) s m ([.ref (ad 0)] : List Value).toArray below meth c H locs 0 0 (MQ below (qS G shM ad (aM ad) (rV (fun σ' => (MP σ' t n (viS t n Z)) ∧ (MSr σ σ')))) ([.ref (ad 0)] : List Value).toArray s 0 0 (aM ad)) (F0 m 51 ls []) := by
      intro σ1 H locs ls m51 w51 hW hl
      have f51 := MP_at m51
      have f51b := MP_5 m51
      have r51 : σ1 9 0 = Z.2.2 0 := by rw [m51.2, viA_rd]
      refine lv_aload_n S.1 S.2.1 dX5_villageLine_51 rfl (lv_at hl 3 rfl) ?_
      have cut_93 : ∀  (σ2 : St) (H : Heap) (locs : List Loc) (ls : Array Slot), (MP σ2 t n (viB t n Z)) → (MSr σ σ2) → WD G shM ad (aM ad) s s.heap σ2 H locs → lv_has ls 8 [(3, .int (iI (b2i (dP (Z.2.2 0 < 8))))), (2, .int (iI (viD t n Z))), (1, .int (iI (σ 4 0))), (0, .ref (ad 0))] → W p l e (⟨7, 0, 0, 158⟩ : Room) s m ([.ref (ad 0)] : List Value).toArray below meth c H locs 0 0 (MQ below (qS G shM ad (aM ad) (rV (fun σ' => (MP σ' t n (viS t n Z)) ∧ (MSr σ σ')))) ([.ref (ad 0)] : List Value).toArray s 0 0 (aM ad)) (F0 m 93 ls []) := by
        intro σ2 H locs ls m93 w93 hW hl
        refine lv_aload_n S.1 S.2.1 dX5_villageLine_93 rfl (lv_at hl 3 rfl) ?_
        refine r_iconst S dX5_villageLine_94 ?_
        refine r_bipush S dX5_villageLine_95 (by decide) ?_
        refine c_VSi S hW (tX5_numbered l G ad σ2 0 8 t n (((viB t n Z)).1) (((viB t n Z)).2.1) (m93.1) (by omega)) (cw_X5_160 S.2.2.2.2 ⟨Nat.le_of_ble_eq_true rfl, Nat.le_of_ble_eq_true rfl⟩) eBlind_T (fun _ _ _ => trivial) (w_recv hW (q0 := 0) rfl rfl) rfl hl.1 (rest := []) rfl (Nat.le_of_ble_eq_true rfl) dX5_villageLine_97 ⟨Nat.le_of_ble_eq_true rfl, Nat.le_of_ble_eq_true rfl⟩ (fun r97 σ97 H locs q97 hW => ?_)
        obtain ⟨rfl, q97_ms, q97_a, q97_sm⟩ := q97
        have m97 := MP_nm m93 q97_ms q97_sm
        have w97 := MSr_tr w93 q97_a q97_sm
        have m97c : MP σ97 t n (viC t n Z) := m97
        have hpv := nmV_rng (t := t) (n := n) (p := (viB t n Z).1) (e := (viB t n Z).2.1) (lo := 0) (hi := 8) (by omega)
        have f97 := MP_at m97
        refine r_as (viP t n Z) (rfl) ?_
        refine lv_istore (lv' := [(4, .int (iI (viP t n Z))), (3, .int (iI (b2i (dP (Z.2.2 0 < 8))))), (2, .int (iI (viD t n Z))), (1, .int (iI (σ 4 0))), (0, .ref (ad 0))]) S.1 S.2.1 dX5_villageLine_100 hl (by decide) rfl (fun ls hl => ?_)
        refine r_iconst S dX5_villageLine_102 ?_
        refine lv_istore (lv' := [(5, .int (iI (-1))), (4, .int (iI (viP t n Z))), (3, .int (iI (b2i (dP (Z.2.2 0 < 8))))), (2, .int (iI (viD t n Z))), (1, .int (iI (σ 4 0))), (0, .ref (ad 0))]) S.1 S.2.1 dX5_villageLine_103 hl (by decide) rfl (fun ls hl => ?_)
        refine r_iconst S dX5_villageLine_105 ?_
        refine r_name (fun two_ e_two_ => ?_)
        refine lv_istore (lv' := [(6, .int (iI two_)), (5, .int (iI (-1))), (4, .int (iI (viP t n Z))), (3, .int (iI (b2i (dP (Z.2.2 0 < 8))))), (2, .int (iI (viD t n Z))), (1, .int (iI (σ 4 0))), (0, .ref (ad 0))]) S.1 S.2.1 dX5_villageLine_106 hl (by decide) rfl (fun ls hl => ?_)
        have cut_137 : ∀  (σ3 : St) (H : Heap) (locs : List Loc) (ls : Array Slot), (MP σ3 t n (viE t n Z)) → (MSr σ σ3) → WD G shM ad (aM ad) s s.heap σ3 H locs → lv_has ls 8 [(6, .int (iI two_)), (5, .int (iI (viO t n Z))), (4, .int (iI (viP t n Z))), (3, .int (iI (b2i (dP (Z.2.2 0 < 8))))), (2, .int (iI (viD t n Z))), (1, .int (iI (σ 4 0))), (0, .ref (ad 0))] → W p l e (⟨7, 0, 0, 158⟩ : Room) s m ([.ref (ad 0)] : List Value).toArray below meth c H locs 0 0 (MQ below (qS G shM ad (aM ad) (rV (fun σ' => (MP σ' t n (viS t n Z)) ∧ (MSr σ σ')))) ([.ref (ad 0)] : List Value).toArray s 0 0 (aM ad)) (F0 m 137 ls []) := by
          intro σ3 H locs ls m137 w137 hW hl
          have f137 := MP_at m137
          have cut_176 : ∀  (σ5 : St) (H : Heap) (locs : List Loc) (ls : Array Slot), (MP σ5 t n (viG t n Z)) → (MSr σ σ5) → WD G shM ad (aM ad) s s.heap σ5 H locs → lv_has ls 8 [(6, .int (iI (viT t n Z))), (5, .int (iI (viO t n Z))), (4, .int (iI (viP t n Z))), (3, .int (iI (b2i (dP (Z.2.2 0 < 8))))), (2, .int (iI (viD t n Z))), (1, .int (iI (σ 4 0))), (0, .ref (ad 0))] → W p l e (⟨7, 0, 0, 158⟩ : Room) s m ([.ref (ad 0)] : List Value).toArray below meth c H locs 0 0 (MQ below (qS G shM ad (aM ad) (rV (fun σ' => (MP σ' t n (viS t n Z)) ∧ (MSr σ σ')))) ([.ref (ad 0)] : List Value).toArray s 0 0 (aM ad)) (F0 m 176 ls []) := by
            intro σ5 H locs ls m176 w176 hW hl
            have r176 : σ5 9 0 = Z.2.2 0 := by rw [m176.2, viG_rd]
            refine lv_iload_n S.1 S.2.1 dX5_villageLine_176 rfl (lv_at hl 3 rfl) ?_
            have cut_243 : ∀  (σ0 : St) (H : Heap) (locs : List Loc) (ls : Array Slot), (MP σ0 t n (viH t n Z)) → (MSr σ σ0) → WD G shM ad (aM ad) s s.heap σ0 H locs → lv_has ls 8 [(6, .int (iI (viT t n Z))), (5, .int (iI (viO t n Z))), (4, .int (iI (viP t n Z))), (3, .int (iI (b2i (dP (Z.2.2 0 < 8))))), (2, .int (iI (viD t n Z))), (1, .int (iI (σ 4 0))), (0, .ref (ad 0))] → W p l e (⟨7, 0, 0, 158⟩ : Room) s m ([.ref (ad 0)] : List Value).toArray below meth c H locs 0 0 (MQ below (qS G shM ad (aM ad) (rV (fun σ' => (MP σ' t n (viS t n Z)) ∧ (MSr σ σ')))) ([.ref (ad 0)] : List Value).toArray s 0 0 (aM ad)) (F0 m 243 ls []) := by
              intro σ0 H locs ls m243 w243 hW hl
              refine lv_aload_n S.1 S.2.1 dX5_villageLine_243 rfl (lv_at hl 6 rfl) ?_
              refine c_VSv S hW (tX5_endsLine l G ad σ0 t n ((viH t n Z).1) ((viH t n Z).2.1) (m243.1)) (cw_X5_177 S.2.2.2.2 ⟨Nat.le_of_ble_eq_true rfl, Nat.le_of_ble_eq_true rfl⟩) eBlind_T (fun _ _ _ => trivial) (w_recv hW (q0 := 0) rfl rfl) rfl hl.1 (rest := []) rfl (Nat.le_of_ble_eq_true rfl) dX5_villageLine_244 ⟨Nat.le_of_ble_eq_true rfl, Nat.le_of_ble_eq_true rfl⟩ (fun σ244 H locs q244 hW => ?_)
              obtain ⟨q244_ms, q244_a, q244_sm⟩ := q244
              have m244 := MP_el m243 q244_ms q244_sm
              have w244 := MSr_tr w243 q244_a q244_sm
              exact e_vS S hr hlk hW ⟨rfl, ⟨(m244), (w244)⟩⟩ dX5_villageLine_247
            refine r_ifeq_p S (tgt := 243) dX5_villageLine_177 rfl (fun c_177 => ?_) (fun c_177 => ?_)
            ·
              exact cut_243 σ5 H _ _ (by unfold viH; first | (rw [if_pos c_177, r9, e_σ9, e_σ8, e_σ7, e_σ6, r176]; exact MP_u (MP_u (MP_u (MP_u (MP_u m176))))) | (rw [if_neg c_177]; exact m176)) (by first | exact w176 | (rw [e_σ9, e_σ8, e_σ7, e_σ6]; exact MSr_u (MSr_u (MSr_u (MSr_u (MSr_u w176)))))) hW (lv_sub hl [0, 1, 2, 3, 4, 5, 6] rfl)
            ·
              refine r_iconst S dX5_villageLine_180 ?_
              refine r_iconst S dX5_villageLine_181 ?_
              refine lv_aload_n S.1 S.2.1 dX5_villageLine_182 rfl (lv_at hl 6 rfl) ?_
              refine w_getr S hW in_X5 0 rfl rfl 9 (by decide) q1660 rfl rfl dX5_villageLine_183 ?_
              refine r_iconst S dX5_villageLine_186 ?_
              refine w_ald S hW 3 0 rfl rfl (by omega) dX5_villageLine_187 ?_
              refine r_imul S dX5_villageLine_188 ?_
              refine r_iadd S dX5_villageLine_189 ?_
              refine lv_istore (lv' := [(7, .int (iI (1 + (4 * (σ5 9 0))))), (6, .int (iI (viT t n Z))), (5, .int (iI (viO t n Z))), (4, .int (iI (viP t n Z))), (3, .int (iI (b2i (dP (Z.2.2 0 < 8))))), (2, .int (iI (viD t n Z))), (1, .int (iI (σ 4 0))), (0, .ref (ad 0))]) S.1 S.2.1 dX5_villageLine_190 hl (by decide) rfl (fun ls hl => ?_)
              refine lv_aload_n S.1 S.2.1 dX5_villageLine_192 rfl (lv_at hl 7 rfl) ?_
              refine w_getr S hW in_X5 0 rfl rfl 9 (by decide) q1660 rfl rfl dX5_villageLine_193 ?_
              refine lv_iload S.1 S.2.1 dX5_villageLine_196 (lv_at hl 0 rfl) ?_
              refine lv_iload S.1 S.2.1 dX5_villageLine_198 (lv_at hl 3 rfl) ?_
              refine w_ast S hW 3 0 rfl rfl rfl (z := (viP t n Z)) (by omega) dX5_villageLine_200 (fun H locs hW => ?_)
              obtain ⟨σ6, e_σ6⟩ : ∃ z, z = (up σ5 9 (1 + (4 * (σ5 9 0))) (viP t n Z)) := ⟨_, rfl⟩
              rw [← e_σ6] at hW
              refine lv_aload_n S.1 S.2.1 dX5_villageLine_201 rfl (lv_at hl 7 rfl) ?_
              refine w_getr S hW in_X5 0 rfl rfl 9 (by decide) q1660 rfl rfl dX5_villageLine_202 ?_
              refine lv_iload S.1 S.2.1 dX5_villageLine_205 (lv_at hl 0 rfl) ?_
              refine r_iconst S dX5_villageLine_207 ?_
              refine r_iadd S dX5_villageLine_208 ?_
              refine lv_iload_n S.1 S.2.1 dX5_villageLine_209 rfl (lv_at hl 5 rfl) ?_
              refine w_ast S hW 3 0 rfl rfl rfl (z := (viD t n Z)) (by omega) dX5_villageLine_210 (fun H locs hW => ?_)
              obtain ⟨σ7, e_σ7⟩ : ∃ z, z = (up σ6 9 ((1 + (4 * (σ5 9 0))) + 1) (viD t n Z)) := ⟨_, rfl⟩
              rw [← e_σ7] at hW
              refine lv_aload_n S.1 S.2.1 dX5_villageLine_211 rfl (lv_at hl 7 rfl) ?_
              refine w_getr S hW in_X5 0 rfl rfl 9 (by decide) q1660 rfl rfl dX5_villageLine_212 ?_
              refine lv_iload S.1 S.2.1 dX5_villageLine_215 (lv_at hl 0 rfl) ?_
              refine r_iconst S dX5_villageLine_217 ?_
              refine r_iadd S dX5_villageLine_218 ?_
              refine lv_iload S.1 S.2.1 dX5_villageLine_219 (lv_at hl 2 rfl) ?_
              refine w_ast S hW 3 0 rfl rfl rfl (z := (viO t n Z)) (by omega) dX5_villageLine_221 (fun H locs hW => ?_)
              obtain ⟨σ8, e_σ8⟩ : ∃ z, z = (up σ7 9 ((1 + (4 * (σ5 9 0))) + 2) (viO t n Z)) := ⟨_, rfl⟩
              rw [← e_σ8] at hW
              refine lv_aload_n S.1 S.2.1 dX5_villageLine_222 rfl (lv_at hl 7 rfl) ?_
              refine w_getr S hW in_X5 0 rfl rfl 9 (by decide) q1660 rfl rfl dX5_villageLine_223 ?_
              refine lv_iload S.1 S.2.1 dX5_villageLine_226 (lv_at hl 0 rfl) ?_
              refine r_iconst S dX5_villageLine_228 ?_
              refine r_iadd S dX5_villageLine_229 ?_
              refine lv_iload S.1 S.2.1 dX5_villageLine_230 (lv_at hl 1 rfl) ?_
              refine w_ast S hW 3 0 rfl rfl rfl (z := (viT t n Z)) (by omega) dX5_villageLine_232 (fun H locs hW => ?_)
              obtain ⟨σ9, e_σ9⟩ : ∃ z, z = (up σ8 9 ((1 + (4 * (σ5 9 0))) + 3) (viT t n Z)) := ⟨_, rfl⟩
              rw [← e_σ9] at hW
              have r9 : σ9 9 0 = Z.2.2 0 := by rw [e_σ9, up_nei (by omega), e_σ8, up_nei (by omega), e_σ7, up_nei (by omega), e_σ6, up_nei (by omega)]; exact r176
              refine lv_aload_n S.1 S.2.1 dX5_villageLine_233 rfl (lv_at hl 7 rfl) ?_
              refine w_getr S hW in_X5 0 rfl rfl 9 (by decide) q1660 rfl rfl dX5_villageLine_234 ?_
              refine r_iconst S dX5_villageLine_237 ?_
              refine lv_dup2_11 S.1 S.2.1 dX5_villageLine_238 rfl rfl ?_
              refine w_ald S hW 3 0 rfl rfl (by omega) dX5_villageLine_239 ?_
              refine r_iconst S dX5_villageLine_240 ?_
              refine r_iadd S dX5_villageLine_241 ?_
              refine w_ast S hW 3 0 rfl rfl rfl (z := ((σ9 9 0) + 1)) (by omega) dX5_villageLine_242 (fun H locs hW => ?_)
              exact cut_243 (up σ9 9 0 ((σ9 9 0) + 1)) H _ _ (by unfold viH; first | (rw [if_pos c_177, r9, e_σ9, e_σ8, e_σ7, e_σ6, r176]; exact MP_u (MP_u (MP_u (MP_u (MP_u m176))))) | (rw [if_neg c_177]; exact m176)) (by first | exact w176 | (rw [e_σ9, e_σ8, e_σ7, e_σ6]; exact MSr_u (MSr_u (MSr_u (MSr_u (MSr_u w176)))))) hW (lv_sub hl [1, 2, 3, 4, 5, 6, 7] rfl)
          refine lv_iload_n S.1 S.2.1 dX5_villageLine_137 rfl (lv_at hl 4 rfl) ?_
          refine r_iconst S dX5_villageLine_138 ?_
          refine r_icmp_ne S (tgt := 176) dX5_villageLine_139 rfl (by omega) (fun c_139 => ?_) (fun c_139 => ?_)
          ·
            rw [show two_ = (viT t n Z) from by unfold viT; first | rw [if_pos (by omega)]; rfl | (rw [if_neg (by omega)]; exact e_two_)] at hl
            exact cut_176 σ3 H _ _ (by unfold viG; first | (rw [if_pos (by omega)]; exact m171) | (rw [if_neg (by omega)]; exact m137)) (by first | exact w171 | exact w137) hW (lv_sub hl [0, 1, 2, 3, 4, 5, 6] rfl)
          ·
            have cut_170 : ∀  (σ4 : St) (H : Heap) (locs : List Loc) (ls : Array Slot), (MP σ4 t n (viF t n Z)) → (MSr σ σ4) → WD G shM ad (aM ad) s s.heap σ4 H locs → lv_has ls 8 [(6, .int (iI two_)), (5, .int (iI (viO t n Z))), (4, .int (iI (viP t n Z))), (3, .int (iI (b2i (dP (Z.2.2 0 < 8))))), (2, .int (iI (viD t n Z))), (1, .int (iI (σ 4 0))), (0, .ref (ad 0))] → W p l e (⟨7, 0, 0, 158⟩ : Room) s m ([.ref (ad 0)] : List Value).toArray below meth c H locs 0 0 (MQ below (qS G shM ad (aM ad) (rV (fun σ' => (MP σ' t n (viS t n Z)) ∧ (MSr σ σ')))) ([.ref (ad 0)] : List Value).toArray s 0 0 (aM ad)) (F0 m 170 ls []) := by
              intro σ4 H locs ls m170 w170 hW hl
              refine lv_aload_n S.1 S.2.1 dX5_villageLine_170 rfl (lv_at hl 6 rfl) ?_
              refine c_VSi S hW (tX5_beatTold l G ad σ4 t n (((viF t n Z)).1) (((viF t n Z)).2.1) (m170.1)) (cw_X5_171 S.2.2.2.2 ⟨Nat.le_of_ble_eq_true rfl, Nat.le_of_ble_eq_true rfl⟩) eBlind_T (fun _ _ _ => trivial) (w_recv hW (q0 := 0) rfl rfl) rfl hl.1 (rest := []) rfl (Nat.le_of_ble_eq_true rfl) dX5_villageLine_171 ⟨Nat.le_of_ble_eq_true rfl, Nat.le_of_ble_eq_true rfl⟩ (fun r171 σ171 H locs q171 hW => ?_)
              obtain ⟨rfl, q171_ms, q171_a, q171_sm⟩ := q171
              have m171 := MP_tk m170 q171_ms q171_sm
              have w171 := MSr_tr w170 q171_a q171_sm
              refine lv_istore (lv' := [(6, .int (iI (tkVl t n (((viF t n Z)).1) (((viF t n Z)).2.1) 10 13 - 10))), (5, .int (iI (viO t n Z))), (4, .int (iI (viP t n Z))), (3, .int (iI (b2i (dP (Z.2.2 0 < 8))))), (2, .int (iI (viD t n Z))), (1, .int (iI (σ 4 0))), (0, .ref (ad 0))]) S.1 S.2.1 dX5_villageLine_174 hl (by decide) rfl (fun ls hl => ?_)
              rw [show (tkVl t n (((viF t n Z)).1) (((viF t n Z)).2.1) 10 13 - 10) = (viT t n Z) from by unfold viT; first | rw [if_pos (by omega)]; rfl | (rw [if_neg (by omega)]; exact e_two_)] at hl
              exact cut_176 σ171 H _ _ (by unfold viG; first | (rw [if_pos (by omega)]; exact m171) | (rw [if_neg (by omega)]; exact m137)) (by first | exact w171 | exact w137) hW (lv_sub hl [0, 1, 2, 3, 4, 5, 6] rfl)
            refine lv_aload_n S.1 S.2.1 dX5_villageLine_142 rfl (lv_at hl 6 rfl) ?_
            refine c_VP S hW (tX5_isBeat l G ad σ3 t n (((viE t n Z)).1) (((viE t n Z)).2.1) (m137.1)) (cw_X5_167 S.2.2.2.2 ⟨Nat.le_of_ble_eq_true rfl, Nat.le_of_ble_eq_true rfl⟩) eBlind_T (fun _ _ _ => trivial) (w_recv hW (q0 := 0) rfl rfl) rfl hl.1 (rest := []) rfl (Nat.le_of_ble_eq_true rfl) dX5_villageLine_143 ⟨Nat.le_of_ble_eq_true rfl, Nat.le_of_ble_eq_true rfl⟩ (fun locs hW => ?_)
            refine r_ifeq_p S (tgt := 170) dX5_villageLine_146 rfl (fun c_146 => ?_) (fun c_146 => ?_)
            ·
              exact cut_170 σ3 H _ _ (by unfold viF; first | (rw [if_pos (dP_t.mpr ⟨c_146, by omega⟩)]; exact m167) | (rw [if_neg (fun z => absurd (dP_t.mp z) (fun z => by first | exact c_146 z.1 | omega))]; exact m137)) (by first | exact w167 | exact w137) hW (lv_sub hl [0, 1, 2, 3, 4, 5, 6] rfl)
            ·
              have z7 := f137.2.2.2.2.2.2.2.2.1 c_146.2.1
              refine lv_aload_n S.1 S.2.1 dX5_villageLine_149 rfl (lv_at hl 6 rfl) ?_
              refine w_geti S hW in_X5 0 rfl rfl 7 (by decide) q1658 rfl rfl dX5_villageLine_150 ?_
              refine r_bipush S dX5_villageLine_153 (by decide) ?_
              refine r_isub S dX5_villageLine_155 ?_
              refine lv_iload S.1 S.2.1 dX5_villageLine_156 (lv_at hl 1 rfl) ?_
              refine r_icmp_ne S (tgt := 170) dX5_villageLine_158 rfl (by omega) (fun c_158 => ?_) (fun c_158 => ?_)
              ·
                exact cut_170 σ3 H _ _ (by unfold viF; first | (rw [if_pos (dP_t.mpr ⟨c_146, by omega⟩)]; exact m167) | (rw [if_neg (fun z => absurd (dP_t.mp z) (fun z => by first | exact c_146 z.1 | omega))]; exact m137)) (by first | exact w167 | exact w137) hW (lv_sub hl [0, 1, 2, 3, 4, 5, 6] rfl)
              ·
                refine lv_aload_n S.1 S.2.1 dX5_villageLine_161 rfl (lv_at hl 6 rfl) ?_
                refine r_iconst S dX5_villageLine_162 ?_
                refine lv_aload_n S.1 S.2.1 dX5_villageLine_163 rfl (lv_at hl 6 rfl) ?_
                refine w_geti S hW in_X5 0 rfl rfl 4 (by decide) q1655 rfl rfl dX5_villageLine_164 ?_
                refine c_VSv S hW (tX5_also l G ad σ3 4 (σ3 4 0) (((viE t n Z)).2.1) (m137.1.2.2.2.1) (m137.1.2.2.2.2) (by omega)) (cw_X5_149 S.2.2.2.2 ⟨Nat.le_of_ble_eq_true rfl, Nat.le_of_ble_eq_true rfl⟩) eBlind_T (fun _ _ _ => trivial) (w_recv hW (q0 := 0) rfl rfl) rfl hl.1 (rest := []) rfl (Nat.le_of_ble_eq_true rfl) dX5_villageLine_167 ⟨Nat.le_of_ble_eq_true rfl, Nat.le_of_ble_eq_true rfl⟩ (fun σ167 H locs q167 hW => ?_)
                obtain ⟨q167_e, q167_a, q167_sm⟩ := q167
                have m167 := MP_also m137 q167_e (by omega) (by omega) q167_a q167_sm
                rw [f137.2.2.1] at m167
                have w167 := MSr_a w137 q167_a q167_sm
                exact cut_170 σ167 H _ _ (by unfold viF; first | (rw [if_pos (dP_t.mpr ⟨c_146, by omega⟩)]; exact m167) | (rw [if_neg (fun z => absurd (dP_t.mp z) (fun z => by first | exact c_146 z.1 | omega))]; exact m137)) (by first | exact w167 | exact w137) hW (lv_sub hl [0, 1, 2, 3, 4, 5, 6] rfl)
        refine lv_iload_n S.1 S.2.1 dX5_villageLine_108 rfl (lv_at hl 4 rfl) ?_
        refine r_if_ne S (tgt := 121) dX5_villageLine_109 rfl (by omega) (fun c_109 => ?_) (fun c_109 => ?_)
        ·
          refine lv_iload_n S.1 S.2.1 dX5_villageLine_121 rfl (lv_at hl 4 rfl) ?_
          refine r_iconst S dX5_villageLine_122 ?_
          refine r_icmp_eq S (tgt := 131) dX5_villageLine_123 rfl (by omega) (fun c_123 => ?_) (fun c_123 => ?_)
          ·
            refine lv_aload_n S.1 S.2.1 dX5_villageLine_131 rfl (lv_at hl 6 rfl) ?_
            refine c_VSi S hW (tX5_beatTold l G ad σ97 t n ((viC t n Z).1) ((viC t n Z).2.1) (by first | exact m97c.1 | (exfalso; omega))) (cw_X5_171 S.2.2.2.2 ⟨Nat.le_of_ble_eq_true rfl, Nat.le_of_ble_eq_true rfl⟩) eBlind_T (fun _ _ _ => trivial) (w_recv hW (q0 := 0) rfl rfl) rfl hl.1 (rest := []) rfl (Nat.le_of_ble_eq_true rfl) dX5_villageLine_132 ⟨Nat.le_of_ble_eq_true rfl, Nat.le_of_ble_eq_true rfl⟩ (fun r132 σ132 H locs q132 hW => ?_)
            obtain ⟨rfl, q132_ms, q132_a, q132_sm⟩ := q132
            have m132 : MP σ132 t n (sTk t n 10 13 (viC t n Z)) := by first | exact MP_tk m97c q132_ms q132_sm | (exfalso; omega)
            have w132 : MSr σ σ132 := by first | exact MSr_tr w97 q132_a q132_sm | (exfalso; omega)
            refine lv_istore (lv' := [(5, .int (iI (tkVl t n ((viC t n Z).1) ((viC t n Z).2.1) 10 13 - 10))), (6, .int (iI two_)), (4, .int (iI (viP t n Z))), (3, .int (iI (b2i (dP (Z.2.2 0 < 8))))), (2, .int (iI (viD t n Z))), (1, .int (iI (σ 4 0))), (0, .ref (ad 0))]) S.1 S.2.1 dX5_villageLine_135 hl (by decide) rfl (fun ls hl => ?_)
            rw [show (tkVl t n ((viC t n Z).1) ((viC t n Z).2.1) 10 13 - 10) = (viO t n Z) from by unfold viO; first | rw [if_pos (by omega)]; rfl | (rw [if_neg (by omega), if_pos (by omega)]; rfl) | (rw [if_neg (by omega), if_neg (by omega)]) | (exfalso; omega)] at hl
            exact cut_137 σ132 H _ _ (by unfold viE; first | (rw [if_pos (by omega)]; exact m116) | (rw [if_neg (by omega), if_pos (by omega)]; exact m132) | (rw [if_neg (by omega), if_neg (by omega)]; exact m97c) | (exfalso; omega)) (by first | exact w116 | exact w132 | exact w97) hW (lv_sub hl [1, 0, 2, 3, 4, 5, 6] rfl)
          ·
            refine lv_iload_n S.1 S.2.1 dX5_villageLine_126 rfl (lv_at hl 4 rfl) ?_
            refine r_iconst S dX5_villageLine_127 ?_
            refine r_icmp_ne S (tgt := 137) dX5_villageLine_128 rfl (by omega) (fun c_128 => ?_) (fun c_128 => ?_)
            ·
              rw [show (-1) = (viO t n Z) from by unfold viO; first | rw [if_pos (by omega)]; rfl | (rw [if_neg (by omega), if_pos (by omega)]; rfl) | (rw [if_neg (by omega), if_neg (by omega)]) | (exfalso; omega)] at hl
              exact cut_137 σ97 H _ _ (by unfold viE; first | (rw [if_pos (by omega)]; exact m116) | (rw [if_neg (by omega), if_pos (by omega)]; exact m132) | (rw [if_neg (by omega), if_neg (by omega)]; exact m97c) | (exfalso; omega)) (by first | exact w116 | exact w132 | exact w97) hW (lv_sub hl [0, 1, 2, 3, 4, 5, 6] rfl)
            ·
              refine lv_aload_n S.1 S.2.1 dX5_villageLine_131 rfl (lv_at hl 6 rfl) ?_
              refine c_VSi S hW (tX5_beatTold l G ad σ97 t n ((viC t n Z).1) ((viC t n Z).2.1) (by first | exact m97c.1 | (exfalso; omega))) (cw_X5_171 S.2.2.2.2 ⟨Nat.le_of_ble_eq_true rfl, Nat.le_of_ble_eq_true rfl⟩) eBlind_T (fun _ _ _ => trivial) (w_recv hW (q0 := 0) rfl rfl) rfl hl.1 (rest := []) rfl (Nat.le_of_ble_eq_true rfl) dX5_villageLine_132 ⟨Nat.le_of_ble_eq_true rfl, Nat.le_of_ble_eq_true rfl⟩ (fun r132 σ132 H locs q132 hW => ?_)
              obtain ⟨rfl, q132_ms, q132_a, q132_sm⟩ := q132
              have m132 : MP σ132 t n (sTk t n 10 13 (viC t n Z)) := by first | exact MP_tk m97c q132_ms q132_sm | (exfalso; omega)
              have w132 : MSr σ σ132 := by first | exact MSr_tr w97 q132_a q132_sm | (exfalso; omega)
              refine lv_istore (lv' := [(5, .int (iI (tkVl t n ((viC t n Z).1) ((viC t n Z).2.1) 10 13 - 10))), (6, .int (iI two_)), (4, .int (iI (viP t n Z))), (3, .int (iI (b2i (dP (Z.2.2 0 < 8))))), (2, .int (iI (viD t n Z))), (1, .int (iI (σ 4 0))), (0, .ref (ad 0))]) S.1 S.2.1 dX5_villageLine_135 hl (by decide) rfl (fun ls hl => ?_)
              rw [show (tkVl t n ((viC t n Z).1) ((viC t n Z).2.1) 10 13 - 10) = (viO t n Z) from by unfold viO; first | rw [if_pos (by omega)]; rfl | (rw [if_neg (by omega), if_pos (by omega)]; rfl) | (rw [if_neg (by omega), if_neg (by omega)]) | (exfalso; omega)] at hl
              exact cut_137 σ132 H _ _ (by unfold viE; first | (rw [if_pos (by omega)]; exact m116) | (rw [if_neg (by omega), if_pos (by omega)]; exact m132) | (rw [if_neg (by omega), if_neg (by omega)]; exact m97c) | (exfalso; omega)) (by first | exact w116 | exact w132 | exact w97) hW (lv_sub hl [1, 0, 2, 3, 4, 5, 6] rfl)
        ·
          refine lv_aload_n S.1 S.2.1 dX5_villageLine_112 rfl (lv_at hl 6 rfl) ?_
          refine r_iconst S dX5_villageLine_113 ?_
          refine r_bipush S dX5_villageLine_114 (by decide) ?_
          refine c_VSi S hW (tX5_numbered l G ad σ97 1 9 t n (((viC t n Z)).1) (((viC t n Z)).2.1) (m97c.1) (by omega)) (cw_X5_160 S.2.2.2.2 ⟨Nat.le_of_ble_eq_true rfl, Nat.le_of_ble_eq_true rfl⟩) eBlind_T (fun _ _ _ => trivial) (w_recv hW (q0 := 0) rfl rfl) rfl hl.1 (rest := []) rfl (Nat.le_of_ble_eq_true rfl) dX5_villageLine_116 ⟨Nat.le_of_ble_eq_true rfl, Nat.le_of_ble_eq_true rfl⟩ (fun r116 σ116 H locs q116 hW => ?_)
          obtain ⟨rfl, q116_ms, q116_a, q116_sm⟩ := q116
          have m116 := MP_nm m97c q116_ms q116_sm
          have w116 := MSr_tr w97 q116_a q116_sm
          refine lv_istore (lv' := [(5, .int (iI (nmV t n (((viC t n Z)).1) (((viC t n Z)).2.1) 1 9))), (6, .int (iI two_)), (4, .int (iI (viP t n Z))), (3, .int (iI (b2i (dP (Z.2.2 0 < 8))))), (2, .int (iI (viD t n Z))), (1, .int (iI (σ 4 0))), (0, .ref (ad 0))]) S.1 S.2.1 dX5_villageLine_119 hl (by decide) rfl (fun ls hl => ?_)
          refine lv_iload_n S.1 S.2.1 dX5_villageLine_121 rfl (lv_at hl 4 rfl) ?_
          refine r_iconst S dX5_villageLine_122 ?_
          refine r_icmp_eq S (tgt := 131) dX5_villageLine_123 rfl (by omega) (fun c_123 => ?_) (fun c_123 => ?_)
          ·
            refine lv_aload_n S.1 S.2.1 dX5_villageLine_131 rfl (lv_at hl 6 rfl) ?_
            refine c_VSi S hW (tX5_beatTold l G ad σ116 t n ((viC t n Z).1) ((viC t n Z).2.1) (by first | exact m97c.1 | (exfalso; omega))) (cw_X5_171 S.2.2.2.2 ⟨Nat.le_of_ble_eq_true rfl, Nat.le_of_ble_eq_true rfl⟩) eBlind_T (fun _ _ _ => trivial) (w_recv hW (q0 := 0) rfl rfl) rfl hl.1 (rest := []) rfl (Nat.le_of_ble_eq_true rfl) dX5_villageLine_132 ⟨Nat.le_of_ble_eq_true rfl, Nat.le_of_ble_eq_true rfl⟩ (fun r132 σ132 H locs q132 hW => ?_)
            obtain ⟨rfl, q132_ms, q132_a, q132_sm⟩ := q132
            have m132 : MP σ132 t n (sTk t n 10 13 (viC t n Z)) := by first | exact MP_tk m97c q132_ms q132_sm | (exfalso; omega)
            have w132 : MSr σ σ132 := by first | exact MSr_tr w97 q132_a q132_sm | (exfalso; omega)
            refine lv_istore (lv' := [(5, .int (iI (tkVl t n ((viC t n Z).1) ((viC t n Z).2.1) 10 13 - 10))), (6, .int (iI two_)), (4, .int (iI (viP t n Z))), (3, .int (iI (b2i (dP (Z.2.2 0 < 8))))), (2, .int (iI (viD t n Z))), (1, .int (iI (σ 4 0))), (0, .ref (ad 0))]) S.1 S.2.1 dX5_villageLine_135 hl (by decide) rfl (fun ls hl => ?_)
            rw [show (tkVl t n ((viC t n Z).1) ((viC t n Z).2.1) 10 13 - 10) = (viO t n Z) from by unfold viO; first | rw [if_pos (by omega)]; rfl | (rw [if_neg (by omega), if_pos (by omega)]; rfl) | (rw [if_neg (by omega), if_neg (by omega)]) | (exfalso; omega)] at hl
            exact cut_137 σ132 H _ _ (by unfold viE; first | (rw [if_pos (by omega)]; exact m116) | (rw [if_neg (by omega), if_pos (by omega)]; exact m132) | (rw [if_neg (by omega), if_neg (by omega)]; exact m97c) | (exfalso; omega)) (by first | exact w116 | exact w132 | exact w97) hW (lv_sub hl [1, 0, 2, 3, 4, 5, 6] rfl)
          ·
            refine lv_iload_n S.1 S.2.1 dX5_villageLine_126 rfl (lv_at hl 4 rfl) ?_
            refine r_iconst S dX5_villageLine_127 ?_
            refine r_icmp_ne S (tgt := 137) dX5_villageLine_128 rfl (by omega) (fun c_128 => ?_) (fun c_128 => ?_)
            ·
              rw [show (nmV t n (((viC t n Z)).1) (((viC t n Z)).2.1) 1 9) = (viO t n Z) from by unfold viO; first | rw [if_pos (by omega)]; rfl | (rw [if_neg (by omega), if_pos (by omega)]; rfl) | (rw [if_neg (by omega), if_neg (by omega)]) | (exfalso; omega)] at hl
              exact cut_137 σ116 H _ _ (by unfold viE; first | (rw [if_pos (by omega)]; exact m116) | (rw [if_neg (by omega), if_pos (by omega)]; exact m132) | (rw [if_neg (by omega), if_neg (by omega)]; exact m97c) | (exfalso; omega)) (by first | exact w116 | exact w132 | exact w97) hW (lv_sub hl [1, 0, 2, 3, 4, 5, 6] rfl)
            ·
              refine lv_aload_n S.1 S.2.1 dX5_villageLine_131 rfl (lv_at hl 6 rfl) ?_
              refine c_VSi S hW (tX5_beatTold l G ad σ116 t n ((viC t n Z).1) ((viC t n Z).2.1) (by first | exact m97c.1 | (exfalso; omega))) (cw_X5_171 S.2.2.2.2 ⟨Nat.le_of_ble_eq_true rfl, Nat.le_of_ble_eq_true rfl⟩) eBlind_T (fun _ _ _ => trivial) (w_recv hW (q0 := 0) rfl rfl) rfl hl.1 (rest := []) rfl (Nat.le_of_ble_eq_true rfl) dX5_villageLine_132 ⟨Nat.le_of_ble_eq_true rfl, Nat.le_of_ble_eq_true rfl⟩ (fun r132 σ132 H locs q132 hW => ?_)
              obtain ⟨rfl, q132_ms, q132_a, q132_sm⟩ := q132
              have m132 : MP σ132 t n (sTk t n 10 13 (viC t n Z)) := by first | exact MP_tk m97c q132_ms q132_sm | (exfalso; omega)
              have w132 : MSr σ σ132 := by first | exact MSr_tr w97 q132_a q132_sm | (exfalso; omega)
              refine lv_istore (lv' := [(5, .int (iI (tkVl t n ((viC t n Z).1) ((viC t n Z).2.1) 10 13 - 10))), (6, .int (iI two_)), (4, .int (iI (viP t n Z))), (3, .int (iI (b2i (dP (Z.2.2 0 < 8))))), (2, .int (iI (viD t n Z))), (1, .int (iI (σ 4 0))), (0, .ref (ad 0))]) S.1 S.2.1 dX5_villageLine_135 hl (by decide) rfl (fun ls hl => ?_)
              rw [show (tkVl t n ((viC t n Z).1) ((viC t n Z).2.1) 10 13 - 10) = (viO t n Z) from by unfold viO; first | rw [if_pos (by omega)]; rfl | (rw [if_neg (by omega), if_pos (by omega)]; rfl) | (rw [if_neg (by omega), if_neg (by omega)]) | (exfalso; omega)] at hl
              exact cut_137 σ132 H _ _ (by unfold viE; first | (rw [if_pos (by omega)]; exact m116) | (rw [if_neg (by omega), if_pos (by omega)]; exact m132) | (rw [if_neg (by omega), if_neg (by omega)]; exact m97c) | (exfalso; omega)) (by first | exact w116 | exact w132 | exact w97) hW (lv_sub hl [1, 0, 2, 3, 4, 5, 6] rfl)
      refine w_geti S hW in_X5 0 rfl rfl 8 (by decide) q1659 rfl rfl dX5_villageLine_52 ?_
      refine r_if_ne S (tgt := 93) dX5_villageLine_55 rfl (by omega) (fun c_55 => ?_) (fun c_55 => ?_)
      ·
        exact cut_93 σ1 H _ _ (by unfold viB; first | (rw [if_pos (dP_t.mpr ⟨by omega, by omega, by rw [z6] at c_81; omega⟩)]; exact m90) | (rw [if_neg (fun z => absurd (dP_t.mp z) (fun z => by first | omega | (rw [z6] at c_81; omega)))]; exact m51)) (by first | exact w90 | exact w51) hW (lv_sub hl [0, 1, 2, 3] rfl)
      ·
        refine lv_aload_n S.1 S.2.1 dX5_villageLine_58 rfl (lv_at hl 3 rfl) ?_
        refine w_geti S hW in_X5 0 rfl rfl 5 (by decide) q1656 rfl rfl dX5_villageLine_59 ?_
        refine r_iconst S dX5_villageLine_62 ?_
        refine r_icmp_ne S (tgt := 93) dX5_villageLine_63 rfl (by omega) (fun c_63 => ?_) (fun c_63 => ?_)
        ·
          exact cut_93 σ1 H _ _ (by unfold viB; first | (rw [if_pos (dP_t.mpr ⟨by omega, by omega, by rw [z6] at c_81; omega⟩)]; exact m90) | (rw [if_neg (fun z => absurd (dP_t.mp z) (fun z => by first | omega | (rw [z6] at c_81; omega)))]; exact m51)) (by first | exact w90 | exact w51) hW (lv_sub hl [0, 1, 2, 3] rfl)
        ·
          have z6 := f51.2.2.2.2.2.2.2.1 (by omega)
          refine lv_aload_n S.1 S.2.1 dX5_villageLine_66 rfl (lv_at hl 3 rfl) ?_
          refine w_geti S hW in_X5 0 rfl rfl 6 (by decide) q1657 rfl rfl dX5_villageLine_67 ?_
          refine lv_aload_n S.1 S.2.1 dX5_villageLine_70 rfl (lv_at hl 3 rfl) ?_
          refine w_getr S hW in_X5 0 rfl rfl 9 (by decide) q1660 rfl rfl dX5_villageLine_71 ?_
          refine r_iconst S dX5_villageLine_74 ?_
          refine w_ald S hW 3 0 rfl rfl (by omega) dX5_villageLine_75 ?_
          refine r_bipush S dX5_villageLine_76 (by decide) ?_
          refine c_SPw S hW (tX5_isIn l (σ1 6 0) (σ1 9 0) 7 (by omega)) (cw_X5_145 S.2.2.2.2 ⟨Nat.le_of_ble_eq_true rfl, Nat.le_of_ble_eq_true rfl⟩) rfl hl.1 (rest := []) rfl (Nat.le_of_ble_eq_true rfl) dX5_villageLine_78 ⟨Nat.le_of_ble_eq_true rfl, Nat.le_of_ble_eq_true rfl⟩ (fun locs hW => ?_)
          refine r_ifeq_p S (tgt := 93) dX5_villageLine_81 rfl (fun c_81 => ?_) (fun c_81 => ?_)
          ·
            exact cut_93 σ1 H _ _ (by unfold viB; first | (rw [if_pos (dP_t.mpr ⟨by omega, by omega, by rw [z6] at c_81; omega⟩)]; exact m90) | (rw [if_neg (fun z => absurd (dP_t.mp z) (fun z => by first | omega | (rw [z6] at c_81; omega)))]; exact m51)) (by first | exact w90 | exact w51) hW (lv_sub hl [0, 1, 2, 3] rfl)
          ·
            refine lv_aload_n S.1 S.2.1 dX5_villageLine_84 rfl (lv_at hl 3 rfl) ?_
            refine r_iconst S dX5_villageLine_85 ?_
            refine lv_aload_n S.1 S.2.1 dX5_villageLine_86 rfl (lv_at hl 3 rfl) ?_
            refine w_geti S hW in_X5 0 rfl rfl 4 (by decide) q1655 rfl rfl dX5_villageLine_87 ?_
            refine c_VSv S hW (tX5_also l G ad σ1 2 (σ1 4 0) (((viA t n Z)).2.1) (m51.1.2.2.2.1) (m51.1.2.2.2.2) (by omega)) (cw_X5_149 S.2.2.2.2 ⟨Nat.le_of_ble_eq_true rfl, Nat.le_of_ble_eq_true rfl⟩) eBlind_T (fun _ _ _ => trivial) (w_recv hW (q0 := 0) rfl rfl) rfl hl.1 (rest := []) rfl (Nat.le_of_ble_eq_true rfl) dX5_villageLine_90 ⟨Nat.le_of_ble_eq_true rfl, Nat.le_of_ble_eq_true rfl⟩ (fun σ90 H locs q90 hW => ?_)
            obtain ⟨q90_e, q90_a, q90_sm⟩ := q90
            have m90 := MP_also m51 q90_e (by omega) (by omega) q90_a q90_sm
            rw [f51.2.2.1] at m90
            have w90 := MSr_a w51 q90_a q90_sm
            exact cut_93 σ90 H _ _ (by unfold viB; first | (rw [if_pos (dP_t.mpr ⟨by omega, by omega, by rw [z6] at c_81; omega⟩)]; exact m90) | (rw [if_neg (fun z => absurd (dP_t.mp z) (fun z => by first | omega | (rw [z6] at c_81; omega)))]; exact m51)) (by first | exact w90 | exact w51) hW (lv_sub hl [0, 1, 2, 3] rfl)
    refine lv_aload_n S.1 S.2.1 dX5_villageLine_34 rfl (lv_at hl 3 rfl) ?_
    refine w_geti S hW in_X5 0 rfl rfl 8 (by decide) q1659 rfl rfl dX5_villageLine_35 ?_
    refine r_if_ne S (tgt := 51) dX5_villageLine_38 rfl (by omega) (fun c_38 => ?_) (fun c_38 => ?_)
    ·
      exact cut_51 σ10 H _ _ (by unfold viA; first | (rw [if_pos (dP_t.mpr ⟨by omega, c_42⟩), ← fz.2.2.1]; exact m48) | (rw [if_neg (fun z => absurd (dP_t.mp z) (fun z => by first | exact z.2 c_42 | omega))]; exact m10)) (by first | exact w48 | exact w10) hW (lv_sub hl [0, 1, 2, 3] rfl)
    ·
      refine lv_iload_n S.1 S.2.1 dX5_villageLine_41 rfl (lv_at hl 0 rfl) ?_
      refine r_ifne_p S (tgt := 51) dX5_villageLine_42 rfl (fun c_42 => ?_) (fun c_42 => ?_)
      ·
        exact cut_51 σ10 H _ _ (by unfold viA; first | (rw [if_pos (dP_t.mpr ⟨by omega, c_42⟩), ← fz.2.2.1]; exact m48) | (rw [if_neg (fun z => absurd (dP_t.mp z) (fun z => by first | exact z.2 c_42 | omega))]; exact m10)) (by first | exact w48 | exact w10) hW (lv_sub hl [0, 1, 2, 3] rfl)
      ·
        refine lv_aload_n S.1 S.2.1 dX5_villageLine_45 rfl (lv_at hl 3 rfl) ?_
        refine r_iconst S dX5_villageLine_46 ?_
        refine lv_iload_n S.1 S.2.1 dX5_villageLine_47 rfl (lv_at hl 2 rfl) ?_
        refine c_VSv S hW (tX5_also l G ad σ10 3 (σ 4 0) (((sTk t n 21 24 Z)).2.1) (m10.1.2.2.2.1) (m10.1.2.2.2.2) (by omega)) (cw_X5_149 S.2.2.2.2 ⟨Nat.le_of_ble_eq_true rfl, Nat.le_of_ble_eq_true rfl⟩) eBlind_T (fun _ _ _ => trivial) (w_recv hW (q0 := 0) rfl rfl) rfl hl.1 (rest := []) rfl (Nat.le_of_ble_eq_true rfl) dX5_villageLine_48 ⟨Nat.le_of_ble_eq_true rfl, Nat.le_of_ble_eq_true rfl⟩ (fun σ48 H locs q48 hW => ?_)
        obtain ⟨q48_e, q48_a, q48_sm⟩ := q48
        have m48 := MP_also m10 q48_e (by omega) (by omega) q48_a q48_sm
        have w48 := MSr_a w10 q48_a q48_sm
        exact cut_51 σ48 H _ _ (by unfold viA; first | (rw [if_pos (dP_t.mpr ⟨by omega, c_42⟩), ← fz.2.2.1]; exact m48) | (rw [if_neg (fun z => absurd (dP_t.mp z) (fun z => by first | exact z.2 c_42 | omega))]; exact m10)) (by first | exact w48 | exact w10) hW (lv_sub hl [0, 1, 2, 3] rfl)
  refine lv_aload_n S.1 S.2.1 dX5_villageLine_17 rfl (lv_at hl 2 rfl) ?_
  refine w_getr S hW in_X5 0 rfl rfl 9 (by decide) q1660 rfl rfl dX5_villageLine_18 ?_
  refine r_iconst S dX5_villageLine_21 ?_
  refine w_ald S hW 3 0 rfl rfl (by omega) dX5_villageLine_22 ?_
  refine r_bipush S dX5_villageLine_23 (by decide) ?_
  refine r_icmp_ge S (tgt := 32) dX5_villageLine_25 rfl (by omega) (fun c_25 => ?_) (fun c_25 => ?_)
  ·
    refine r_iconst S dX5_villageLine_32 ?_
    refine r_as (b2i (dP (Z.2.2 0 < 8))) (by first | exact dP_1 (by omega) | exact dP_0 (by omega)) ?_
    exact cut_33 H _ _ hW (lv_sub hl [0, 1, 2] rfl)
  ·
    refine r_iconst S dX5_villageLine_28 ?_
    refine lv_goto (tgt := 33) S.1 S.2.1 dX5_villageLine_29 rfl ?_
    refine r_as (b2i (dP (Z.2.2 0 < 8))) (by first | exact dP_1 (by omega) | exact dP_0 (by omega)) ?_
    exact cut_33 H _ _ hW (lv_sub hl [0, 1, 2] rfl)
