theorem orK_rng {t : Int → Int} {n : Int} {Z : PS} (hG : 0 ≤ orG t n Z ∧ orG t n Z ≤ 1) (h : 0 ≤ Z.2.2 (15 + orG t n Z)) : 17 ≤ orK t n Z ∧ orK t n Z ≤ 83 := by
  unfold orK
  split
  · rename_i z
    have := (dP_t.mp z).2
    omega
  · omega
set_option maxHeartbeats 4000000 in
theorem tX5_orderLine (l : Launch) (G : GG) (ad : Nat → Nat) (σ : St) (t : Int → Int) (n : Int) (Z : PS) (hm : MP σ t n Z) (hrd : ∀ x : Int, 0 ≤ x → x ≤ 1 → 0 ≤ Z.2.2 (15 + x) ∧ Z.2.2 (15 + x) ≤ 6) : Met l yX5_orderLine (ws_ yX5_orderLine cX5_orderLine 9 none) ⟨7, 0, 0, 158⟩ (wPre G shM ad σ (fun _ => True) [.ref (ad 0)]) (qS G shM ad (aM ad) (rV (fun σ' => (MP σ' t n (orS t n Z)) ∧ (MSr σ σ')))) 0 0 (aM ad) := by
  refine wStart (by decide) (Nat.le_of_ble_eq_true rfl) (fun k hk => ⟨k, hk, rfl⟩) (fun p e s m below meth c S hr hlk _ _ ls hW hl => ?_)
  have hl : lv_has ls 9 [(0, .ref (ad 0))] := hl
  have fz := MP_at hm
  refine lv_aload_n S.1 S.2.1 dX5_orderLine_0 rfl (lv_at hl 0 rfl) ?_
  refine w_geti S hW in_X5 0 rfl rfl 4 (by decide) q1655 rfl rfl dX5_orderLine_1 ?_
  refine lv_istore_n (lv' := [(1, .int (iI (σ 4 0))), (0, .ref (ad 0))]) S.1 S.2.1 dX5_orderLine_4 rfl hl (by decide) rfl (fun ls hl => ?_)
  refine lv_aload_n S.1 S.2.1 dX5_orderLine_5 rfl (lv_at hl 1 rfl) ?_
  refine r_bipush S dX5_orderLine_6 (by decide) ?_
  refine r_bipush S dX5_orderLine_8 (by decide) ?_
  refine c_VSi S hW (tX5_takes l G ad σ 9 9 t n ((Z).1) ((Z).2.1) (hm.1) (by omega)) (cw_X5_156 S.2.2.2.2 ⟨Nat.le_of_ble_eq_true rfl, Nat.le_of_ble_eq_true rfl⟩) eBlind_T (fun _ _ _ => trivial) (w_recv hW (q0 := 0) rfl rfl) rfl hl.1 (rest := []) rfl (Nat.le_of_ble_eq_true rfl) dX5_orderLine_10 ⟨Nat.le_of_ble_eq_true rfl, Nat.le_of_ble_eq_true rfl⟩ (fun r10 σ10 H locs q10 hW => ?_)
  obtain ⟨rfl, q10_ms, q10_a, q10_sm⟩ := q10
  have m10 : MP σ10 t n (orA t n Z) := MP_tk hm q10_ms q10_sm
  have w10 := MSr_tr MSr_rf q10_a q10_sm
  have f10 := MP_at m10
  have f10b := MP_5 m10
  refine lv_pop S.1 S.2.1 dX5_orderLine_13 rfl ?_
  have cut_46 : ∀ (H : Heap) (locs : List Loc) (ls : Array Slot), WD G shM ad (aM ad) s s.heap σ10 H locs → lv_has ls 9 [(1, .int (iI (σ 4 0))), (0, .ref (ad 0))] → W p l e (⟨7, 0, 0, 158⟩ : Room) s m ([.ref (ad 0)] : List Value).toArray below meth c H locs 0 0 (MQ below (qS G shM ad (aM ad) (rV (fun σ' => (MP σ' t n (orS t n Z)) ∧ (MSr σ σ')))) ([.ref (ad 0)] : List Value).toArray s 0 0 (aM ad)) (F0 m 46 ls [.int (iI (b2i (dP (orI9 t n (orA t n Z)))))]) := by
    intro H locs ls hW hl
    refine lv_istore_n (lv' := [(2, .int (iI (b2i (dP (orI9 t n (orA t n Z)))))), (1, .int (iI (σ 4 0))), (0, .ref (ad 0))]) S.1 S.2.1 dX5_orderLine_46 rfl hl (by decide) rfl (fun ls hl => ?_)
    refine lv_aload_n S.1 S.2.1 dX5_orderLine_47 rfl (lv_at hl 2 rfl) ?_
    refine c_VSi S hW (tX5_armyTold l G ad σ10 t n ((orA t n Z).1) ((orA t n Z).2.1) (m10.1)) (cw_X5_163 S.2.2.2.2 ⟨Nat.le_of_ble_eq_true rfl, Nat.le_of_ble_eq_true rfl⟩) eBlind_T (fun _ _ _ => trivial) (w_recv hW (q0 := 0) rfl rfl) rfl hl.1 (rest := []) rfl (Nat.le_of_ble_eq_true rfl) dX5_orderLine_48 ⟨Nat.le_of_ble_eq_true rfl, Nat.le_of_ble_eq_true rfl⟩ (fun r48 σ48 H locs q48 hW => ?_)
    obtain ⟨rfl, q48_ms, q48_a, q48_sm⟩ := q48
    have m48 : MP σ48 t n (orB t n Z) := MP_nm m10 q48_ms q48_sm
    have w48 := MSr_tr w10 q48_a q48_sm
    have hG : 0 ≤ (orG t n Z) ∧ (orG t n Z) ≤ 1 := nmV_rng (by omega)
    have hx := hrd (orG t n Z) hG.1 hG.2
    have f48 := MP_at m48
    have r48 : σ48 9 (15 + (orG t n Z)) = Z.2.2 (15 + (orG t n Z)) := by rw [m48.2]; rfl
    have hK := orK_rng hG hx.1
    refine r_as (orG t n Z) (rfl) ?_
    refine lv_istore_n (lv' := [(3, .int (iI (orG t n Z))), (2, .int (iI (b2i (dP (orI9 t n (orA t n Z)))))), (1, .int (iI (σ 4 0))), (0, .ref (ad 0))]) S.1 S.2.1 dX5_orderLine_51 rfl hl (by decide) rfl (fun ls hl => ?_)
    have cut_75 : ∀ (H : Heap) (locs : List Loc) (ls : Array Slot), WD G shM ad (aM ad) s s.heap σ48 H locs → lv_has ls 9 [(3, .int (iI (orG t n Z))), (2, .int (iI (b2i (dP (orI9 t n (orA t n Z)))))), (1, .int (iI (σ 4 0))), (0, .ref (ad 0))] → W p l e (⟨7, 0, 0, 158⟩ : Room) s m ([.ref (ad 0)] : List Value).toArray below meth c H locs 0 0 (MQ below (qS G shM ad (aM ad) (rV (fun σ' => (MP σ' t n (orS t n Z)) ∧ (MSr σ σ')))) ([.ref (ad 0)] : List Value).toArray s 0 0 (aM ad)) (F0 m 75 ls [.int (iI (b2i (dP (orM t n Z))))]) := by
      intro H locs ls hW hl
      refine lv_istore (lv' := [(4, .int (iI (b2i (dP (orM t n Z))))), (3, .int (iI (orG t n Z))), (2, .int (iI (b2i (dP (orI9 t n (orA t n Z)))))), (1, .int (iI (σ 4 0))), (0, .ref (ad 0))]) S.1 S.2.1 dX5_orderLine_75 hl (by decide) rfl (fun ls hl => ?_)
      have cut_99 : ∀  (σ1 : St) (H : Heap) (locs : List Loc) (ls : Array Slot), (MP σ1 t n (orC t n Z)) → (MSr σ σ1) → WD G shM ad (aM ad) s s.heap σ1 H locs → lv_has ls 9 [(4, .int (iI (b2i (dP (orM t n Z))))), (3, .int (iI (orG t n Z))), (2, .int (iI (b2i (dP (orI9 t n (orA t n Z)))))), (1, .int (iI (σ 4 0))), (0, .ref (ad 0))] → W p l e (⟨7, 0, 0, 158⟩ : Room) s m ([.ref (ad 0)] : List Value).toArray below meth c H locs 0 0 (MQ below (qS G shM ad (aM ad) (rV (fun σ' => (MP σ' t n (orS t n Z)) ∧ (MSr σ σ')))) ([.ref (ad 0)] : List Value).toArray s 0 0 (aM ad)) (F0 m 99 ls []) := by
        intro σ1 H locs ls m99 w99 hW hl
        have r99 : σ1 9 (15 + (orG t n Z)) = Z.2.2 (15 + (orG t n Z)) := by rw [m99.2, orC_rd]
        have cut_126 : ∀ (H : Heap) (locs : List Loc) (ls : Array Slot), WD G shM ad (aM ad) s s.heap σ1 H locs → lv_has ls 9 [(4, .int (iI (b2i (dP (orM t n Z))))), (3, .int (iI (orG t n Z))), (2, .int (iI (b2i (dP (orI9 t n (orA t n Z)))))), (1, .int (iI (σ 4 0))), (0, .ref (ad 0))] → W p l e (⟨7, 0, 0, 158⟩ : Room) s m ([.ref (ad 0)] : List Value).toArray below meth c H locs 0 0 (MQ below (qS G shM ad (aM ad) (rV (fun σ' => (MP σ' t n (orS t n Z)) ∧ (MSr σ σ')))) ([.ref (ad 0)] : List Value).toArray s 0 0 (aM ad)) (F0 m 126 ls [.int (iI (if dP (orM t n Z) = true then Z.2.2 (15 + (orG t n Z)) else 0)), .int (iI 6), .int (iI (17 + 36 * (orG t n Z)))]) := by
          intro H locs ls hW hl
          refine r_imul S dX5_orderLine_126 ?_
          refine r_iadd S dX5_orderLine_127 ?_
          refine r_as (orK t n Z) (rfl) ?_
          refine lv_istore (lv' := [(5, .int (iI (orK t n Z))), (4, .int (iI (b2i (dP (orM t n Z))))), (3, .int (iI (orG t n Z))), (2, .int (iI (b2i (dP (orI9 t n (orA t n Z)))))), (1, .int (iI (σ 4 0))), (0, .ref (ad 0))]) S.1 S.2.1 dX5_orderLine_128 hl (by decide) rfl (fun ls hl => ?_)
          refine lv_aload_n S.1 S.2.1 dX5_orderLine_130 rfl (lv_at hl 5 rfl) ?_
          refine r_bipush S dX5_orderLine_131 (by decide) ?_
          refine r_bipush S dX5_orderLine_133 (by decide) ?_
          refine c_VSi S hW (tX5_takes l G ad σ1 14 18 t n ((orC t n Z).1) ((orC t n Z).2.1) (m99.1) (by omega)) (cw_X5_156 S.2.2.2.2 ⟨Nat.le_of_ble_eq_true rfl, Nat.le_of_ble_eq_true rfl⟩) eBlind_T (fun _ _ _ => trivial) (w_recv hW (q0 := 0) rfl rfl) rfl hl.1 (rest := []) rfl (Nat.le_of_ble_eq_true rfl) dX5_orderLine_135 ⟨Nat.le_of_ble_eq_true rfl, Nat.le_of_ble_eq_true rfl⟩ (fun r135 σ135 H locs q135 hW => ?_)
          obtain ⟨rfl, q135_ms, q135_a, q135_sm⟩ := q135
          have m135 := MP_tk m99 q135_ms q135_sm
          have w135 := MSr_tr w99 q135_a q135_sm
          have f135 := MP_at m135
          have hv := tkVl_rng (t := t) (n := n) (p := (orC t n Z).1) (e := (orC t n Z).2.1) (lo := 14) (hi := 18) (by omega)
          refine r_bipush S dX5_orderLine_138 (by decide) ?_
          refine r_isub S dX5_orderLine_140 ?_
          refine r_as (orV t n Z) (rfl) ?_
          refine lv_istore (lv' := [(6, .int (iI (orV t n Z))), (5, .int (iI (orK t n Z))), (4, .int (iI (b2i (dP (orM t n Z))))), (3, .int (iI (orG t n Z))), (2, .int (iI (b2i (dP (orI9 t n (orA t n Z)))))), (1, .int (iI (σ 4 0))), (0, .ref (ad 0))]) S.1 S.2.1 dX5_orderLine_141 hl (by decide) rfl (fun ls hl => ?_)
          have cut_161 : ∀  (σ2 : St) (H : Heap) (locs : List Loc) (ls : Array Slot), (MP σ2 t n (orD t n Z)) → (MSr σ σ2) → WD G shM ad (aM ad) s s.heap σ2 H locs → lv_has ls 9 [(6, .int (iI (orV t n Z))), (5, .int (iI (orK t n Z))), (4, .int (iI (b2i (dP (orM t n Z))))), (3, .int (iI (orG t n Z))), (2, .int (iI (b2i (dP (orI9 t n (orA t n Z)))))), (1, .int (iI (σ 4 0))), (0, .ref (ad 0))] → W p l e (⟨7, 0, 0, 158⟩ : Room) s m ([.ref (ad 0)] : List Value).toArray below meth c H locs 0 0 (MQ below (qS G shM ad (aM ad) (rV (fun σ' => (MP σ' t n (orS t n Z)) ∧ (MSr σ σ')))) ([.ref (ad 0)] : List Value).toArray s 0 0 (aM ad)) (F0 m 161 ls []) := by
            intro σ2 H locs ls m161 w161 hW hl
            refine r_iconst S dX5_orderLine_161 ?_
            refine lv_istore (lv' := [(7, .int (iI 0)), (6, .int (iI (orV t n Z))), (5, .int (iI (orK t n Z))), (4, .int (iI (b2i (dP (orM t n Z))))), (3, .int (iI (orG t n Z))), (2, .int (iI (b2i (dP (orI9 t n (orA t n Z)))))), (1, .int (iI (σ 4 0))), (0, .ref (ad 0))]) S.1 S.2.1 dX5_orderLine_162 hl (by decide) rfl (fun ls hl => ?_)
            have cut_164 : ∀ (N_164 : Nat) (Q : PS) (m_ : Int) (σ3 : St) (H : Heap) (locs : List Loc) (ls : Array Slot), (MP σ3 t n Q) → (0 ≤ m_ ∧ m_ ≤ Q.1) → (∀ j : Int, j < 17 → Q.2.2 j = Z.2.2 j) → (gL t n 10 13 4 ((orK t n Z) + 2) (orM t n Z) (Q, m_) = orL t n Z) → (MSr σ σ3) → ((602 - Q.1).toNat) < N_164 → WD G shM ad (aM ad) s s.heap σ3 H locs → lv_has ls 9 [(7, .int (iI m_)), (6, .int (iI (orV t n Z))), (5, .int (iI (orK t n Z))), (4, .int (iI (b2i (dP (orM t n Z))))), (3, .int (iI (orG t n Z))), (2, .int (iI (b2i (dP (orI9 t n (orA t n Z)))))), (1, .int (iI (σ 4 0))), (0, .ref (ad 0))] → W p l e (⟨7, 0, 0, 158⟩ : Room) s m ([.ref (ad 0)] : List Value).toArray below meth c H locs 0 0 (MQ below (qS G shM ad (aM ad) (rV (fun σ' => (MP σ' t n (orS t n Z)) ∧ (MSr σ σ')))) ([.ref (ad 0)] : List Value).toArray s 0 0 (aM ad)) (F0 m 164 ls []) := by
              intro N_164
              induction N_164 with
              | zero =>
                intro Q m_ σ3 H locs ls hq hb hr7 hit tq hμ_164 hW hl
                exact absurd hμ_164 (by omega)
              | succ N_164 ih_164 =>
                intro Q m_ σ3 H locs ls hq hb hr7 hit tq hμ_164 hW hl
                have fq := MP_at hq
                refine lv_aload_n S.1 S.2.1 dX5_orderLine_164 rfl (lv_at hl 7 rfl) ?_
                refine c_VP S hW (tX5_isBeat l G ad σ3 t n ((Q).1) ((Q).2.1) (hq.1)) (cw_X5_167 S.2.2.2.2 ⟨Nat.le_of_ble_eq_true rfl, Nat.le_of_ble_eq_true rfl⟩) eBlind_T (fun _ _ _ => trivial) (w_recv hW (q0 := 0) rfl rfl) rfl hl.1 (rest := []) rfl (Nat.le_of_ble_eq_true rfl) dX5_orderLine_165 ⟨Nat.le_of_ble_eq_true rfl, Nat.le_of_ble_eq_true rfl⟩ (fun locs hW => ?_)
                refine r_ifeq_p S (tgt := 223) dX5_orderLine_168 rfl (fun c_168 => ?_) (fun c_168 => ?_)
                ·
                  have hc : ¬ sIs t n 10 13 Q := c_168
                  refine lv_iload S.1 S.2.1 dX5_orderLine_223 (lv_at hl 3 rfl) ?_
                  refine r_ifne_p S (tgt := 229) dX5_orderLine_225 rfl (fun c_225 => ?_) (fun c_225 => ?_)
                  ·
                    refine lv_aload_n S.1 S.2.1 dX5_orderLine_229 rfl (lv_at hl 7 rfl) ?_
                    refine w_getr S hW in_X5 0 rfl rfl 9 (by decide) q1660 rfl rfl dX5_orderLine_230 ?_
                    refine lv_iload S.1 S.2.1 dX5_orderLine_233 (lv_at hl 2 rfl) ?_
                    refine lv_iload S.1 S.2.1 dX5_orderLine_235 (lv_at hl 1 rfl) ?_
                    refine w_ast S hW 3 0 rfl rfl rfl (z := (orV t n Z)) (by omega) dX5_orderLine_237 (fun H locs hW => ?_)
                    obtain ⟨σ7, e_σ7⟩ : ∃ z, z = (up σ3 9 (orK t n Z) (orV t n Z)) := ⟨_, rfl⟩
                    rw [← e_σ7] at hW
                    refine lv_aload_n S.1 S.2.1 dX5_orderLine_238 rfl (lv_at hl 7 rfl) ?_
                    refine w_getr S hW in_X5 0 rfl rfl 9 (by decide) q1660 rfl rfl dX5_orderLine_239 ?_
                    refine lv_iload S.1 S.2.1 dX5_orderLine_242 (lv_at hl 2 rfl) ?_
                    refine r_iconst S dX5_orderLine_244 ?_
                    refine r_iadd S dX5_orderLine_245 ?_
                    refine lv_iload S.1 S.2.1 dX5_orderLine_246 (lv_at hl 0 rfl) ?_
                    refine r_iconst S dX5_orderLine_248 ?_
                    refine r_icmp_ge S (tgt := 257) dX5_orderLine_249 rfl (by omega) (fun c_249 => ?_) (fun c_249 => ?_)
                    ·
                      refine r_iconst S dX5_orderLine_257 ?_
                      refine r_as (min m_ 4) (by omega) ?_
                      refine w_ast S hW 3 0 rfl rfl rfl (z := (min m_ 4)) (by omega) dX5_orderLine_258 (fun H locs hW => ?_)
                      obtain ⟨σ8, e_σ8⟩ : ∃ z, z = (up σ7 9 ((orK t n Z) + 1) (min m_ 4)) := ⟨_, rfl⟩
                      rw [← e_σ8] at hW
                      have r8 : σ8 9 (15 + (orG t n Z)) = Z.2.2 (15 + (orG t n Z)) := by rw [e_σ8, up_nei (by omega), e_σ7, up_nei (by omega), hq.2]; exact hr7 _ (by omega)
                      refine lv_aload_n S.1 S.2.1 dX5_orderLine_259 rfl (lv_at hl 7 rfl) ?_
                      refine w_getr S hW in_X5 0 rfl rfl 9 (by decide) q1660 rfl rfl dX5_orderLine_260 ?_
                      refine r_bipush S dX5_orderLine_263 (by decide) ?_
                      refine lv_iload_n S.1 S.2.1 dX5_orderLine_265 rfl (lv_at hl 4 rfl) ?_
                      refine r_iadd S dX5_orderLine_266 ?_
                      refine lv_dup2_11 S.1 S.2.1 dX5_orderLine_267 rfl rfl ?_
                      refine w_ald S hW 3 0 rfl rfl (by omega) dX5_orderLine_268 ?_
                      refine r_iconst S dX5_orderLine_269 ?_
                      refine r_iadd S dX5_orderLine_270 ?_
                      refine w_ast S hW 3 0 rfl rfl rfl (z := ((σ8 9 (15 + (orG t n Z))) + 1)) (by omega) dX5_orderLine_271 (fun H locs hW => ?_)
                      exact e_vS S hr hlk hW ⟨rfl, ⟨(by unfold orS; rw [if_pos (dP_t.mpr c_225), ← hit, gL_n hc, r8, e_σ8, e_σ7]; exact MP_u (MP_u (MP_u hq))), (by rw [e_σ8, e_σ7]; exact MSr_u (MSr_u (MSr_u tq)))⟩⟩ dX5_orderLine_272
                    ·
                      refine lv_iload S.1 S.2.1 dX5_orderLine_252 (lv_at hl 0 rfl) ?_
                      refine lv_goto (tgt := 258) S.1 S.2.1 dX5_orderLine_254 rfl ?_
                      refine r_as (min m_ 4) (by omega) ?_
                      refine w_ast S hW 3 0 rfl rfl rfl (z := (min m_ 4)) (by omega) dX5_orderLine_258 (fun H locs hW => ?_)
                      obtain ⟨σ8, e_σ8⟩ : ∃ z, z = (up σ7 9 ((orK t n Z) + 1) (min m_ 4)) := ⟨_, rfl⟩
                      rw [← e_σ8] at hW
                      have r8 : σ8 9 (15 + (orG t n Z)) = Z.2.2 (15 + (orG t n Z)) := by rw [e_σ8, up_nei (by omega), e_σ7, up_nei (by omega), hq.2]; exact hr7 _ (by omega)
                      refine lv_aload_n S.1 S.2.1 dX5_orderLine_259 rfl (lv_at hl 7 rfl) ?_
                      refine w_getr S hW in_X5 0 rfl rfl 9 (by decide) q1660 rfl rfl dX5_orderLine_260 ?_
                      refine r_bipush S dX5_orderLine_263 (by decide) ?_
                      refine lv_iload_n S.1 S.2.1 dX5_orderLine_265 rfl (lv_at hl 4 rfl) ?_
                      refine r_iadd S dX5_orderLine_266 ?_
                      refine lv_dup2_11 S.1 S.2.1 dX5_orderLine_267 rfl rfl ?_
                      refine w_ald S hW 3 0 rfl rfl (by omega) dX5_orderLine_268 ?_
                      refine r_iconst S dX5_orderLine_269 ?_
                      refine r_iadd S dX5_orderLine_270 ?_
                      refine w_ast S hW 3 0 rfl rfl rfl (z := ((σ8 9 (15 + (orG t n Z))) + 1)) (by omega) dX5_orderLine_271 (fun H locs hW => ?_)
                      exact e_vS S hr hlk hW ⟨rfl, ⟨(by unfold orS; rw [if_pos (dP_t.mpr c_225), ← hit, gL_n hc, r8, e_σ8, e_σ7]; exact MP_u (MP_u (MP_u hq))), (by rw [e_σ8, e_σ7]; exact MSr_u (MSr_u (MSr_u tq)))⟩⟩ dX5_orderLine_272
                  ·
                    exact e_vS S hr hlk hW ⟨rfl, ⟨(by unfold orS; rw [if_neg (fun z => c_225 (dP_t.mp z)), ← hit, gL_n hc]; exact hq), (tq)⟩⟩ dX5_orderLine_228
                ·
                  have hc : sIs t n 10 13 Q := c_168
                  refine lv_iload S.1 S.2.1 dX5_orderLine_171 (lv_at hl 0 rfl) ?_
                  refine r_iconst S dX5_orderLine_173 ?_
                  refine r_icmp_lt S (tgt := 186) dX5_orderLine_174 rfl (by omega) (fun c_174 => ?_) (fun c_174 => ?_)
                  ·
                    have cc : m_ < 4 := by omega
                    refine lv_aload_n S.1 S.2.1 dX5_orderLine_186 rfl (lv_at hl 7 rfl) ?_
                    refine c_VSi S hW (tX5_beatTold l G ad σ3 t n ((if m_ < 4 then Q else sNo 3 (tkW t n Q.1) Q).1) ((if m_ < 4 then Q else sNo 3 (tkW t n Q.1) Q).2.1) (by first | (rw [if_pos cc]; exact hq.1) | (rw [if_neg cc]; exact m183.1))) (cw_X5_171 S.2.2.2.2 ⟨Nat.le_of_ble_eq_true rfl, Nat.le_of_ble_eq_true rfl⟩) eBlind_T (fun _ _ _ => trivial) (w_recv hW (q0 := 0) rfl rfl) rfl hl.1 (rest := []) rfl (Nat.le_of_ble_eq_true rfl) dX5_orderLine_187 ⟨Nat.le_of_ble_eq_true rfl, Nat.le_of_ble_eq_true rfl⟩ (fun r187 σ187 H locs q187 hW => ?_)
                    obtain ⟨rfl, q187_ms, q187_a, q187_sm⟩ := q187
                    have m187 : MP σ187 t n (sTk t n 10 13 (if m_ < 4 then Q else sNo 3 (tkW t n Q.1) Q)) := by first | exact MP_tk (by rw [if_pos cc]; exact hq) q187_ms q187_sm | exact MP_tk (by rw [if_neg cc]; exact m183) q187_ms q187_sm
                    have w187 : MSr σ σ187 := by first | exact MSr_tr tq q187_a q187_sm | exact MSr_tr w183 q187_a q187_sm
                    have hv := tkVl_rng (t := t) (n := n) (p := (if m_ < 4 then Q else sNo 3 (tkW t n Q.1) Q).1) (e := (if m_ < 4 then Q else sNo 3 (tkW t n Q.1) Q).2.1) (lo := 10) (hi := 13) (by omega)
                    refine r_name (fun b_ e_b_ => ?_)
                    refine lv_istore (lv' := [(8, .int (iI b_)), (7, .int (iI m_)), (6, .int (iI (orV t n Z))), (5, .int (iI (orK t n Z))), (4, .int (iI (b2i (dP (orM t n Z))))), (3, .int (iI (orG t n Z))), (2, .int (iI (b2i (dP (orI9 t n (orA t n Z)))))), (1, .int (iI (σ 4 0))), (0, .ref (ad 0))]) S.1 S.2.1 dX5_orderLine_190 hl (by decide) rfl (fun ls hl => ?_)
                    refine lv_iload S.1 S.2.1 dX5_orderLine_192 (lv_at hl 1 rfl) ?_
                    refine r_iconst S dX5_orderLine_194 ?_
                    refine r_icmp_ge S (tgt := 217) dX5_orderLine_195 rfl (by omega) (fun c_195 => ?_) (fun c_195 => ?_)
                    ·
                      refine lv_iinc (v := iI (m_ + 1)) (lv' := [(7, .int (iI (m_ + 1))), (8, .int (iI b_)), (6, .int (iI (orV t n Z))), (5, .int (iI (orK t n Z))), (4, .int (iI (b2i (dP (orM t n Z))))), (3, .int (iI (orG t n Z))), (2, .int (iI (b2i (dP (orI9 t n (orA t n Z)))))), (1, .int (iI (σ 4 0))), (0, .ref (ad 0))]) S.1 S.2.1 dX5_orderLine_217 hl (k := 1) rfl (iI_add _ _) (by decide) rfl (fun ls hl => ?_)
                      refine lv_goto (tgt := 164) S.1 S.2.1 dX5_orderLine_220 rfl ?_
                      exact ih_164 ((gB t n 10 13 4 ((orK t n Z) + 2) (orM t n Z) (Q, m_)).1) (m_ + 1) σ187 H _ _ (by unfold gB; show MP _ t n (if m_ < 4 then _ else _); first | (rw [if_neg cc]; rw [if_neg cc] at m187; exact m187) | (rw [if_pos cc, if_pos (dP_t.mpr c_200), e_b_]; simp only [if_pos cc] at m187 ⊢; exact MP_u m187) | (rw [if_pos cc, if_neg (fun z => c_200 (dP_t.mp z))]; simp only [if_pos cc] at m187 ⊢; exact m187) | (exfalso; omega)) (by have := gB_go (room := 4) (base := (orK t n Z) + 2) (mo := (orM t n Z)) (Q, m_) ⟨⟨fq.2.2.2.1.1, fq.2.2.2.2.1.2⟩, hc⟩ fq.2.2.2.1.2; have e9 : ((Q, m_) : PS × Int).1.1 = Q.1 := rfl; omega) (fun j j1 => (gB_rd (x := (Q, m_)) hb.1 (Or.inl (by omega))).trans (hr7 j j1)) ((gL_y (x := (Q, m_)) fq.2.2.2.2.1.2 fq.2.2.2.1 hc).symm.trans hit) (by first | exact w187 | exact MSr_u w187) (by have := gB_go (room := 4) (base := (orK t n Z) + 2) (mo := (orM t n Z)) (Q, m_) ⟨⟨fq.2.2.2.1.1, fq.2.2.2.2.1.2⟩, hc⟩ fq.2.2.2.1.2; have e9 : ((Q, m_) : PS × Int).1.1 = Q.1 := rfl; omega) hW (lv_sub hl [0, 2, 3, 4, 5, 6, 7, 8] rfl)
                    ·
                      refine lv_iload S.1 S.2.1 dX5_orderLine_198 (lv_at hl 4 rfl) ?_
                      refine r_ifeq_p S (tgt := 217) dX5_orderLine_200 rfl (fun c_200 => ?_) (fun c_200 => ?_)
                      ·
                        refine lv_iinc (v := iI (m_ + 1)) (lv' := [(7, .int (iI (m_ + 1))), (8, .int (iI b_)), (6, .int (iI (orV t n Z))), (5, .int (iI (orK t n Z))), (4, .int (iI (b2i (dP (orM t n Z))))), (3, .int (iI (orG t n Z))), (2, .int (iI (b2i (dP (orI9 t n (orA t n Z)))))), (1, .int (iI (σ 4 0))), (0, .ref (ad 0))]) S.1 S.2.1 dX5_orderLine_217 hl (k := 1) rfl (iI_add _ _) (by decide) rfl (fun ls hl => ?_)
                        refine lv_goto (tgt := 164) S.1 S.2.1 dX5_orderLine_220 rfl ?_
                        exact ih_164 ((gB t n 10 13 4 ((orK t n Z) + 2) (orM t n Z) (Q, m_)).1) (m_ + 1) σ187 H _ _ (by unfold gB; show MP _ t n (if m_ < 4 then _ else _); first | (rw [if_neg cc]; rw [if_neg cc] at m187; exact m187) | (rw [if_pos cc, if_pos (dP_t.mpr c_200), e_b_]; simp only [if_pos cc] at m187 ⊢; exact MP_u m187) | (rw [if_pos cc, if_neg (fun z => c_200 (dP_t.mp z))]; simp only [if_pos cc] at m187 ⊢; exact m187) | (exfalso; omega)) (by have := gB_go (room := 4) (base := (orK t n Z) + 2) (mo := (orM t n Z)) (Q, m_) ⟨⟨fq.2.2.2.1.1, fq.2.2.2.2.1.2⟩, hc⟩ fq.2.2.2.1.2; have e9 : ((Q, m_) : PS × Int).1.1 = Q.1 := rfl; omega) (fun j j1 => (gB_rd (x := (Q, m_)) hb.1 (Or.inl (by omega))).trans (hr7 j j1)) ((gL_y (x := (Q, m_)) fq.2.2.2.2.1.2 fq.2.2.2.1 hc).symm.trans hit) (by first | exact w187 | exact MSr_u w187) (by have := gB_go (room := 4) (base := (orK t n Z) + 2) (mo := (orM t n Z)) (Q, m_) ⟨⟨fq.2.2.2.1.1, fq.2.2.2.2.1.2⟩, hc⟩ fq.2.2.2.1.2; have e9 : ((Q, m_) : PS × Int).1.1 = Q.1 := rfl; omega) hW (lv_sub hl [0, 2, 3, 4, 5, 6, 7, 8] rfl)
                      ·
                        refine lv_aload_n S.1 S.2.1 dX5_orderLine_203 rfl (lv_at hl 8 rfl) ?_
                        refine w_getr S hW in_X5 0 rfl rfl 9 (by decide) q1660 rfl rfl dX5_orderLine_204 ?_
                        refine lv_iload S.1 S.2.1 dX5_orderLine_207 (lv_at hl 3 rfl) ?_
                        refine r_iconst S dX5_orderLine_209 ?_
                        refine r_iadd S dX5_orderLine_210 ?_
                        refine lv_iload S.1 S.2.1 dX5_orderLine_211 (lv_at hl 1 rfl) ?_
                        refine r_iadd S dX5_orderLine_213 ?_
                        refine lv_iload S.1 S.2.1 dX5_orderLine_214 (lv_at hl 0 rfl) ?_
                        refine w_ast S hW 3 0 rfl rfl rfl (z := b_) (by omega) dX5_orderLine_216 (fun H locs hW => ?_)
                        refine lv_iinc (v := iI (m_ + 1)) (lv' := [(7, .int (iI (m_ + 1))), (8, .int (iI b_)), (6, .int (iI (orV t n Z))), (5, .int (iI (orK t n Z))), (4, .int (iI (b2i (dP (orM t n Z))))), (3, .int (iI (orG t n Z))), (2, .int (iI (b2i (dP (orI9 t n (orA t n Z)))))), (1, .int (iI (σ 4 0))), (0, .ref (ad 0))]) S.1 S.2.1 dX5_orderLine_217 hl (k := 1) rfl (iI_add _ _) (by decide) rfl (fun ls hl => ?_)
                        refine lv_goto (tgt := 164) S.1 S.2.1 dX5_orderLine_220 rfl ?_
                        exact ih_164 ((gB t n 10 13 4 ((orK t n Z) + 2) (orM t n Z) (Q, m_)).1) (m_ + 1) (up σ187 9 (((orK t n Z) + 2) + m_) b_) H _ _ (by unfold gB; show MP _ t n (if m_ < 4 then _ else _); first | (rw [if_neg cc]; rw [if_neg cc] at m187; exact m187) | (rw [if_pos cc, if_pos (dP_t.mpr c_200), e_b_]; simp only [if_pos cc] at m187 ⊢; exact MP_u m187) | (rw [if_pos cc, if_neg (fun z => c_200 (dP_t.mp z))]; simp only [if_pos cc] at m187 ⊢; exact m187) | (exfalso; omega)) (by have := gB_go (room := 4) (base := (orK t n Z) + 2) (mo := (orM t n Z)) (Q, m_) ⟨⟨fq.2.2.2.1.1, fq.2.2.2.2.1.2⟩, hc⟩ fq.2.2.2.1.2; have e9 : ((Q, m_) : PS × Int).1.1 = Q.1 := rfl; omega) (fun j j1 => (gB_rd (x := (Q, m_)) hb.1 (Or.inl (by omega))).trans (hr7 j j1)) ((gL_y (x := (Q, m_)) fq.2.2.2.2.1.2 fq.2.2.2.1 hc).symm.trans hit) (by first | exact w187 | exact MSr_u w187) (by have := gB_go (room := 4) (base := (orK t n Z) + 2) (mo := (orM t n Z)) (Q, m_) ⟨⟨fq.2.2.2.1.1, fq.2.2.2.2.1.2⟩, hc⟩ fq.2.2.2.1.2; have e9 : ((Q, m_) : PS × Int).1.1 = Q.1 := rfl; omega) hW (lv_sub hl [0, 2, 3, 4, 5, 6, 7, 8] rfl)
                  ·
                    have cc : ¬ (m_ < 4) := by omega
                    refine lv_aload_n S.1 S.2.1 dX5_orderLine_177 rfl (lv_at hl 7 rfl) ?_
                    refine r_iconst S dX5_orderLine_178 ?_
                    refine lv_aload_n S.1 S.2.1 dX5_orderLine_179 rfl (lv_at hl 7 rfl) ?_
                    refine w_geti S hW in_X5 0 rfl rfl 4 (by decide) q1655 rfl rfl dX5_orderLine_180 ?_
                    refine c_VSv S hW (tX5_also l G ad σ3 3 (σ3 4 0) ((Q).2.1) (hq.1.2.2.2.1) (hq.1.2.2.2.2) (by omega)) (cw_X5_149 S.2.2.2.2 ⟨Nat.le_of_ble_eq_true rfl, Nat.le_of_ble_eq_true rfl⟩) eBlind_T (fun _ _ _ => trivial) (w_recv hW (q0 := 0) rfl rfl) rfl hl.1 (rest := []) rfl (Nat.le_of_ble_eq_true rfl) dX5_orderLine_183 ⟨Nat.le_of_ble_eq_true rfl, Nat.le_of_ble_eq_true rfl⟩ (fun σ183 H locs q183 hW => ?_)
                    obtain ⟨q183_e, q183_a, q183_sm⟩ := q183
                    have m183 := MP_also hq q183_e (by omega) (by omega) q183_a q183_sm
                    rw [fq.2.2.1] at m183
                    have w183 := MSr_a tq q183_a q183_sm
                    refine lv_aload_n S.1 S.2.1 dX5_orderLine_186 rfl (lv_at hl 7 rfl) ?_
                    refine c_VSi S hW (tX5_beatTold l G ad σ183 t n ((if m_ < 4 then Q else sNo 3 (tkW t n Q.1) Q).1) ((if m_ < 4 then Q else sNo 3 (tkW t n Q.1) Q).2.1) (by first | (rw [if_pos cc]; exact hq.1) | (rw [if_neg cc]; exact m183.1))) (cw_X5_171 S.2.2.2.2 ⟨Nat.le_of_ble_eq_true rfl, Nat.le_of_ble_eq_true rfl⟩) eBlind_T (fun _ _ _ => trivial) (w_recv hW (q0 := 0) rfl rfl) rfl hl.1 (rest := []) rfl (Nat.le_of_ble_eq_true rfl) dX5_orderLine_187 ⟨Nat.le_of_ble_eq_true rfl, Nat.le_of_ble_eq_true rfl⟩ (fun r187 σ187 H locs q187 hW => ?_)
                    obtain ⟨rfl, q187_ms, q187_a, q187_sm⟩ := q187
                    have m187 : MP σ187 t n (sTk t n 10 13 (if m_ < 4 then Q else sNo 3 (tkW t n Q.1) Q)) := by first | exact MP_tk (by rw [if_pos cc]; exact hq) q187_ms q187_sm | exact MP_tk (by rw [if_neg cc]; exact m183) q187_ms q187_sm
                    have w187 : MSr σ σ187 := by first | exact MSr_tr tq q187_a q187_sm | exact MSr_tr w183 q187_a q187_sm
                    have hv := tkVl_rng (t := t) (n := n) (p := (if m_ < 4 then Q else sNo 3 (tkW t n Q.1) Q).1) (e := (if m_ < 4 then Q else sNo 3 (tkW t n Q.1) Q).2.1) (lo := 10) (hi := 13) (by omega)
                    refine r_name (fun b_ e_b_ => ?_)
                    refine lv_istore (lv' := [(8, .int (iI b_)), (7, .int (iI m_)), (6, .int (iI (orV t n Z))), (5, .int (iI (orK t n Z))), (4, .int (iI (b2i (dP (orM t n Z))))), (3, .int (iI (orG t n Z))), (2, .int (iI (b2i (dP (orI9 t n (orA t n Z)))))), (1, .int (iI (σ 4 0))), (0, .ref (ad 0))]) S.1 S.2.1 dX5_orderLine_190 hl (by decide) rfl (fun ls hl => ?_)
                    refine lv_iload S.1 S.2.1 dX5_orderLine_192 (lv_at hl 1 rfl) ?_
                    refine r_iconst S dX5_orderLine_194 ?_
                    refine r_icmp_ge S (tgt := 217) dX5_orderLine_195 rfl (by omega) (fun c_195 => ?_) (fun c_195 => ?_)
                    ·
                      refine lv_iinc (v := iI (m_ + 1)) (lv' := [(7, .int (iI (m_ + 1))), (8, .int (iI b_)), (6, .int (iI (orV t n Z))), (5, .int (iI (orK t n Z))), (4, .int (iI (b2i (dP (orM t n Z))))), (3, .int (iI (orG t n Z))), (2, .int (iI (b2i (dP (orI9 t n (orA t n Z)))))), (1, .int (iI (σ 4 0))), (0, .ref (ad 0))]) S.1 S.2.1 dX5_orderLine_217 hl (k := 1) rfl (iI_add _ _) (by decide) rfl (fun ls hl => ?_)
                      refine lv_goto (tgt := 164) S.1 S.2.1 dX5_orderLine_220 rfl ?_
                      exact ih_164 ((gB t n 10 13 4 ((orK t n Z) + 2) (orM t n Z) (Q, m_)).1) (m_ + 1) σ187 H _ _ (by unfold gB; show MP _ t n (if m_ < 4 then _ else _); first | (rw [if_neg cc]; rw [if_neg cc] at m187; exact m187) | (rw [if_pos cc, if_pos (dP_t.mpr c_200), e_b_]; simp only [if_pos cc] at m187 ⊢; exact MP_u m187) | (rw [if_pos cc, if_neg (fun z => c_200 (dP_t.mp z))]; simp only [if_pos cc] at m187 ⊢; exact m187) | (exfalso; omega)) (by have := gB_go (room := 4) (base := (orK t n Z) + 2) (mo := (orM t n Z)) (Q, m_) ⟨⟨fq.2.2.2.1.1, fq.2.2.2.2.1.2⟩, hc⟩ fq.2.2.2.1.2; have e9 : ((Q, m_) : PS × Int).1.1 = Q.1 := rfl; omega) (fun j j1 => (gB_rd (x := (Q, m_)) hb.1 (Or.inl (by omega))).trans (hr7 j j1)) ((gL_y (x := (Q, m_)) fq.2.2.2.2.1.2 fq.2.2.2.1 hc).symm.trans hit) (by first | exact w187 | exact MSr_u w187) (by have := gB_go (room := 4) (base := (orK t n Z) + 2) (mo := (orM t n Z)) (Q, m_) ⟨⟨fq.2.2.2.1.1, fq.2.2.2.2.1.2⟩, hc⟩ fq.2.2.2.1.2; have e9 : ((Q, m_) : PS × Int).1.1 = Q.1 := rfl; omega) hW (lv_sub hl [0, 2, 3, 4, 5, 6, 7, 8] rfl)
                    ·
                      refine lv_iload S.1 S.2.1 dX5_orderLine_198 (lv_at hl 4 rfl) ?_
                      refine r_ifeq_p S (tgt := 217) dX5_orderLine_200 rfl (fun c_200 => ?_) (fun c_200 => ?_)
                      ·
                        refine lv_iinc (v := iI (m_ + 1)) (lv' := [(7, .int (iI (m_ + 1))), (8, .int (iI b_)), (6, .int (iI (orV t n Z))), (5, .int (iI (orK t n Z))), (4, .int (iI (b2i (dP (orM t n Z))))), (3, .int (iI (orG t n Z))), (2, .int (iI (b2i (dP (orI9 t n (orA t n Z)))))), (1, .int (iI (σ 4 0))), (0, .ref (ad 0))]) S.1 S.2.1 dX5_orderLine_217 hl (k := 1) rfl (iI_add _ _) (by decide) rfl (fun ls hl => ?_)
                        refine lv_goto (tgt := 164) S.1 S.2.1 dX5_orderLine_220 rfl ?_
                        exact ih_164 ((gB t n 10 13 4 ((orK t n Z) + 2) (orM t n Z) (Q, m_)).1) (m_ + 1) σ187 H _ _ (by unfold gB; show MP _ t n (if m_ < 4 then _ else _); first | (rw [if_neg cc]; rw [if_neg cc] at m187; exact m187) | (rw [if_pos cc, if_pos (dP_t.mpr c_200), e_b_]; simp only [if_pos cc] at m187 ⊢; exact MP_u m187) | (rw [if_pos cc, if_neg (fun z => c_200 (dP_t.mp z))]; simp only [if_pos cc] at m187 ⊢; exact m187) | (exfalso; omega)) (by have := gB_go (room := 4) (base := (orK t n Z) + 2) (mo := (orM t n Z)) (Q, m_) ⟨⟨fq.2.2.2.1.1, fq.2.2.2.2.1.2⟩, hc⟩ fq.2.2.2.1.2; have e9 : ((Q, m_) : PS × Int).1.1 = Q.1 := rfl; omega) (fun j j1 => (gB_rd (x := (Q, m_)) hb.1 (Or.inl (by omega))).trans (hr7 j j1)) ((gL_y (x := (Q, m_)) fq.2.2.2.2.1.2 fq.2.2.2.1 hc).symm.trans hit) (by first | exact w187 | exact MSr_u w187) (by have := gB_go (room := 4) (base := (orK t n Z) + 2) (mo := (orM t n Z)) (Q, m_) ⟨⟨fq.2.2.2.1.1, fq.2.2.2.2.1.2⟩, hc⟩ fq.2.2.2.1.2; have e9 : ((Q, m_) : PS × Int).1.1 = Q.1 := rfl; omega) hW (lv_sub hl [0, 2, 3, 4, 5, 6, 7, 8] rfl)
                      ·
                        refine lv_aload_n S.1 S.2.1 dX5_orderLine_203 rfl (lv_at hl 8 rfl) ?_
                        refine w_getr S hW in_X5 0 rfl rfl 9 (by decide) q1660 rfl rfl dX5_orderLine_204 ?_
                        refine lv_iload S.1 S.2.1 dX5_orderLine_207 (lv_at hl 3 rfl) ?_
                        refine r_iconst S dX5_orderLine_209 ?_
                        refine r_iadd S dX5_orderLine_210 ?_
                        refine lv_iload S.1 S.2.1 dX5_orderLine_211 (lv_at hl 1 rfl) ?_
                        refine r_iadd S dX5_orderLine_213 ?_
                        refine lv_iload S.1 S.2.1 dX5_orderLine_214 (lv_at hl 0 rfl) ?_
                        refine w_ast S hW 3 0 rfl rfl rfl (z := b_) (by omega) dX5_orderLine_216 (fun H locs hW => ?_)
                        refine lv_iinc (v := iI (m_ + 1)) (lv' := [(7, .int (iI (m_ + 1))), (8, .int (iI b_)), (6, .int (iI (orV t n Z))), (5, .int (iI (orK t n Z))), (4, .int (iI (b2i (dP (orM t n Z))))), (3, .int (iI (orG t n Z))), (2, .int (iI (b2i (dP (orI9 t n (orA t n Z)))))), (1, .int (iI (σ 4 0))), (0, .ref (ad 0))]) S.1 S.2.1 dX5_orderLine_217 hl (k := 1) rfl (iI_add _ _) (by decide) rfl (fun ls hl => ?_)
                        refine lv_goto (tgt := 164) S.1 S.2.1 dX5_orderLine_220 rfl ?_
                        exact ih_164 ((gB t n 10 13 4 ((orK t n Z) + 2) (orM t n Z) (Q, m_)).1) (m_ + 1) (up σ187 9 (((orK t n Z) + 2) + m_) b_) H _ _ (by unfold gB; show MP _ t n (if m_ < 4 then _ else _); first | (rw [if_neg cc]; rw [if_neg cc] at m187; exact m187) | (rw [if_pos cc, if_pos (dP_t.mpr c_200), e_b_]; simp only [if_pos cc] at m187 ⊢; exact MP_u m187) | (rw [if_pos cc, if_neg (fun z => c_200 (dP_t.mp z))]; simp only [if_pos cc] at m187 ⊢; exact m187) | (exfalso; omega)) (by have := gB_go (room := 4) (base := (orK t n Z) + 2) (mo := (orM t n Z)) (Q, m_) ⟨⟨fq.2.2.2.1.1, fq.2.2.2.2.1.2⟩, hc⟩ fq.2.2.2.1.2; have e9 : ((Q, m_) : PS × Int).1.1 = Q.1 := rfl; omega) (fun j j1 => (gB_rd (x := (Q, m_)) hb.1 (Or.inl (by omega))).trans (hr7 j j1)) ((gL_y (x := (Q, m_)) fq.2.2.2.2.1.2 fq.2.2.2.1 hc).symm.trans hit) (by first | exact w187 | exact MSr_u w187) (by have := gB_go (room := 4) (base := (orK t n Z) + 2) (mo := (orM t n Z)) (Q, m_) ⟨⟨fq.2.2.2.1.1, fq.2.2.2.2.1.2⟩, hc⟩ fq.2.2.2.1.2; have e9 : ((Q, m_) : PS × Int).1.1 = Q.1 := rfl; omega) hW (lv_sub hl [0, 2, 3, 4, 5, 6, 7, 8] rfl)
            exact cut_164 _ (orD t n Z) 0 σ2 H _ _ (m161) (by have : 0 ≤ (orD t n Z).1 ∧ _ := m161.1.2.2.1; omega) (fun j _ => by rw [orD_rd]) (rfl) (w161) (Nat.lt_succ_self _) hW (lv_sub hl [0, 1, 2, 3, 4, 5, 6, 7] rfl)
          refine lv_aload_n S.1 S.2.1 dX5_orderLine_143 rfl (lv_at hl 6 rfl) ?_
          refine w_geti S hW in_X5 0 rfl rfl 8 (by decide) q1659 rfl rfl dX5_orderLine_144 ?_
          refine r_if_ne S (tgt := 161) dX5_orderLine_147 rfl (by omega) (fun c_147 => ?_) (fun c_147 => ?_)
          ·
            exact cut_161 σ135 H _ _ (by unfold orD sWn; first | (rw [if_pos (dP_t.mpr ⟨by omega, c_154⟩)]; exact m158) | (rw [if_neg (fun z => absurd (dP_t.mp z) (fun z => by first | exact z.2 c_154 | omega))]; exact m135)) (by first | exact w158 | exact w135) hW (lv_sub hl [0, 1, 2, 3, 4, 5, 6] rfl)
          ·
            refine lv_aload_n S.1 S.2.1 dX5_orderLine_150 rfl (lv_at hl 6 rfl) ?_
            refine c_VP S hW (tX5_isBeat l G ad σ135 t n (((sTk t n 14 18 (orC t n Z))).1) (((sTk t n 14 18 (orC t n Z))).2.1) (m135.1)) (cw_X5_167 S.2.2.2.2 ⟨Nat.le_of_ble_eq_true rfl, Nat.le_of_ble_eq_true rfl⟩) eBlind_T (fun _ _ _ => trivial) (w_recv hW (q0 := 0) rfl rfl) rfl hl.1 (rest := []) rfl (Nat.le_of_ble_eq_true rfl) dX5_orderLine_151 ⟨Nat.le_of_ble_eq_true rfl, Nat.le_of_ble_eq_true rfl⟩ (fun locs hW => ?_)
            refine r_ifne_p S (tgt := 161) dX5_orderLine_154 rfl (fun c_154 => ?_) (fun c_154 => ?_)
            ·
              exact cut_161 σ135 H _ _ (by unfold orD sWn; first | (rw [if_pos (dP_t.mpr ⟨by omega, c_154⟩)]; exact m158) | (rw [if_neg (fun z => absurd (dP_t.mp z) (fun z => by first | exact z.2 c_154 | omega))]; exact m135)) (by first | exact w158 | exact w135) hW (lv_sub hl [0, 1, 2, 3, 4, 5, 6] rfl)
            ·
              refine lv_aload_n S.1 S.2.1 dX5_orderLine_157 rfl (lv_at hl 6 rfl) ?_
              refine c_VSv S hW (tX5_ends l G ad σ135 (((sTk t n 14 18 (orC t n Z))).2.1) (m135.1.2.2.2.1) (m135.1.2.2.2.2)) (cw_X5_142 S.2.2.2.2 ⟨Nat.le_of_ble_eq_true rfl, Nat.le_of_ble_eq_true rfl⟩) eBlind_T (fun _ _ _ => trivial) (w_recv hW (q0 := 0) rfl rfl) rfl hl.1 (rest := []) rfl (Nat.le_of_ble_eq_true rfl) dX5_orderLine_158 ⟨Nat.le_of_ble_eq_true rfl, Nat.le_of_ble_eq_true rfl⟩ (fun σ158 H locs q158 hW => ?_)
              obtain ⟨q158_e, q158_a, q158_sm⟩ := q158
              have m158 := MP_ends m135 q158_e q158_a q158_sm
              have w158 := MSr_e w135 q158_a q158_sm
              exact cut_161 σ158 H _ _ (by unfold orD sWn; first | (rw [if_pos (dP_t.mpr ⟨by omega, c_154⟩)]; exact m158) | (rw [if_neg (fun z => absurd (dP_t.mp z) (fun z => by first | exact z.2 c_154 | omega))]; exact m135)) (by first | exact w158 | exact w135) hW (lv_sub hl [0, 1, 2, 3, 4, 5, 6] rfl)
        refine r_bipush S dX5_orderLine_99 (by decide) ?_
        refine r_bipush S dX5_orderLine_101 (by decide) ?_
        refine lv_iload_n S.1 S.2.1 dX5_orderLine_103 rfl (lv_at hl 1 rfl) ?_
        refine r_imul S dX5_orderLine_104 ?_
        refine r_iadd S dX5_orderLine_105 ?_
        refine r_bipush S dX5_orderLine_106 (by decide) ?_
        refine lv_iload S.1 S.2.1 dX5_orderLine_108 (lv_at hl 0 rfl) ?_
        refine r_ifeq_p S (tgt := 125) dX5_orderLine_110 rfl (fun c_110 => ?_) (fun c_110 => ?_)
        ·
          refine r_iconst S dX5_orderLine_125 ?_
          refine r_as (if dP (orM t n Z) = true then Z.2.2 (15 + (orG t n Z)) else 0) (by first | (rw [if_pos (dP_t.mpr c_110)]; exact r99) | rw [if_neg (fun z => c_110 (dP_t.mp z))]) ?_
          exact cut_126 H _ _ hW (lv_sub hl [0, 1, 2, 3, 4] rfl)
        ·
          refine lv_aload_n S.1 S.2.1 dX5_orderLine_113 rfl (lv_at hl 4 rfl) ?_
          refine w_getr S hW in_X5 0 rfl rfl 9 (by decide) q1660 rfl rfl dX5_orderLine_114 ?_
          refine r_bipush S dX5_orderLine_117 (by decide) ?_
          refine lv_iload_n S.1 S.2.1 dX5_orderLine_119 rfl (lv_at hl 1 rfl) ?_
          refine r_iadd S dX5_orderLine_120 ?_
          refine w_ald S hW 3 0 rfl rfl (by omega) dX5_orderLine_121 ?_
          refine lv_goto (tgt := 126) S.1 S.2.1 dX5_orderLine_122 rfl ?_
          refine r_as (if dP (orM t n Z) = true then Z.2.2 (15 + (orG t n Z)) else 0) (by first | (rw [if_pos (dP_t.mpr c_110)]; exact r99) | rw [if_neg (fun z => c_110 (dP_t.mp z))]) ?_
          exact cut_126 H _ _ hW (lv_sub hl [0, 1, 2, 3, 4] rfl)
      refine lv_aload_n S.1 S.2.1 dX5_orderLine_77 rfl (lv_at hl 4 rfl) ?_
      refine w_geti S hW in_X5 0 rfl rfl 8 (by decide) q1659 rfl rfl dX5_orderLine_78 ?_
      refine r_if_ne S (tgt := 99) dX5_orderLine_81 rfl (by omega) (fun c_81 => ?_) (fun c_81 => ?_)
      ·
        exact cut_99 σ48 H _ _ (by unfold orC; first | (rw [if_pos (dP_t.mpr ⟨by omega, c_85, c_90⟩), ← fz.2.2.1]; exact m96) | (rw [if_neg (fun z => absurd (dP_t.mp z) (fun z => by first | exact z.2.2 c_90 | exact c_85 z.2.1 | omega))]; exact m48)) (by first | exact w96 | exact w48) hW (lv_sub hl [0, 1, 2, 3, 4] rfl)
      ·
        refine lv_iload_n S.1 S.2.1 dX5_orderLine_84 rfl (lv_at hl 2 rfl) ?_
        refine r_ifeq_p S (tgt := 99) dX5_orderLine_85 rfl (fun c_85 => ?_) (fun c_85 => ?_)
        ·
          exact cut_99 σ48 H _ _ (by unfold orC; first | (rw [if_pos (dP_t.mpr ⟨by omega, c_85, c_90⟩), ← fz.2.2.1]; exact m96) | (rw [if_neg (fun z => absurd (dP_t.mp z) (fun z => by first | exact z.2.2 c_90 | exact c_85 z.2.1 | omega))]; exact m48)) (by first | exact w96 | exact w48) hW (lv_sub hl [0, 1, 2, 3, 4] rfl)
        ·
          refine lv_iload S.1 S.2.1 dX5_orderLine_88 (lv_at hl 0 rfl) ?_
          refine r_ifne_p S (tgt := 99) dX5_orderLine_90 rfl (fun c_90 => ?_) (fun c_90 => ?_)
          ·
            exact cut_99 σ48 H _ _ (by unfold orC; first | (rw [if_pos (dP_t.mpr ⟨by omega, c_85, c_90⟩), ← fz.2.2.1]; exact m96) | (rw [if_neg (fun z => absurd (dP_t.mp z) (fun z => by first | exact z.2.2 c_90 | exact c_85 z.2.1 | omega))]; exact m48)) (by first | exact w96 | exact w48) hW (lv_sub hl [0, 1, 2, 3, 4] rfl)
          ·
            refine lv_aload_n S.1 S.2.1 dX5_orderLine_93 rfl (lv_at hl 4 rfl) ?_
            refine r_iconst S dX5_orderLine_94 ?_
            refine lv_iload_n S.1 S.2.1 dX5_orderLine_95 rfl (lv_at hl 3 rfl) ?_
            refine c_VSv S hW (tX5_also l G ad σ48 3 (σ 4 0) (((orB t n Z)).2.1) (m48.1.2.2.2.1) (m48.1.2.2.2.2) (by omega)) (cw_X5_149 S.2.2.2.2 ⟨Nat.le_of_ble_eq_true rfl, Nat.le_of_ble_eq_true rfl⟩) eBlind_T (fun _ _ _ => trivial) (w_recv hW (q0 := 0) rfl rfl) rfl hl.1 (rest := []) rfl (Nat.le_of_ble_eq_true rfl) dX5_orderLine_96 ⟨Nat.le_of_ble_eq_true rfl, Nat.le_of_ble_eq_true rfl⟩ (fun σ96 H locs q96 hW => ?_)
            obtain ⟨q96_e, q96_a, q96_sm⟩ := q96
            have m96 := MP_also m48 q96_e (by omega) (by omega) q96_a q96_sm
            have w96 := MSr_a w48 q96_a q96_sm
            exact cut_99 σ96 H _ _ (by unfold orC; first | (rw [if_pos (dP_t.mpr ⟨by omega, c_85, c_90⟩), ← fz.2.2.1]; exact m96) | (rw [if_neg (fun z => absurd (dP_t.mp z) (fun z => by first | exact z.2.2 c_90 | exact c_85 z.2.1 | omega))]; exact m48)) (by first | exact w96 | exact w48) hW (lv_sub hl [0, 1, 2, 3, 4] rfl)
    refine lv_iload_n S.1 S.2.1 dX5_orderLine_52 rfl (lv_at hl 1 rfl) ?_
    refine r_ifeq_p S (tgt := 74) dX5_orderLine_53 rfl (fun c_53 => ?_) (fun c_53 => ?_)
    ·
      refine r_iconst S dX5_orderLine_74 ?_
      refine r_as (b2i (dP (orM t n Z))) (by first | exact dP_1 ⟨c_53, by omega⟩ | exact dP_0 (fun z => by first | exact c_53 z.1 | (have := z.2; omega))) ?_
      exact cut_75 H _ _ hW (lv_sub hl [0, 1, 2, 3] rfl)
    ·
      refine lv_aload_n S.1 S.2.1 dX5_orderLine_56 rfl (lv_at hl 3 rfl) ?_
      refine w_getr S hW in_X5 0 rfl rfl 9 (by decide) q1660 rfl rfl dX5_orderLine_57 ?_
      refine r_bipush S dX5_orderLine_60 (by decide) ?_
      refine lv_iload_n S.1 S.2.1 dX5_orderLine_62 rfl (lv_at hl 0 rfl) ?_
      refine r_iadd S dX5_orderLine_63 ?_
      refine w_ald S hW 3 0 rfl rfl (by omega) dX5_orderLine_64 ?_
      refine r_bipush S dX5_orderLine_65 (by decide) ?_
      refine r_icmp_ge S (tgt := 74) dX5_orderLine_67 rfl (by omega) (fun c_67 => ?_) (fun c_67 => ?_)
      ·
        refine r_iconst S dX5_orderLine_74 ?_
        refine r_as (b2i (dP (orM t n Z))) (by first | exact dP_1 ⟨c_53, by omega⟩ | exact dP_0 (fun z => by first | exact c_53 z.1 | (have := z.2; omega))) ?_
        exact cut_75 H _ _ hW (lv_sub hl [0, 1, 2, 3] rfl)
      ·
        refine r_iconst S dX5_orderLine_70 ?_
        refine lv_goto (tgt := 75) S.1 S.2.1 dX5_orderLine_71 rfl ?_
        refine r_as (b2i (dP (orM t n Z))) (by first | exact dP_1 ⟨c_53, by omega⟩ | exact dP_0 (fun z => by first | exact c_53 z.1 | (have := z.2; omega))) ?_
        exact cut_75 H _ _ hW (lv_sub hl [0, 1, 2, 3] rfl)
  refine lv_aload_n S.1 S.2.1 dX5_orderLine_14 rfl (lv_at hl 1 rfl) ?_
  refine w_geti S hW in_X5 0 rfl rfl 8 (by decide) q1659 rfl rfl dX5_orderLine_15 ?_
  refine r_if_ne S (tgt := 45) dX5_orderLine_18 rfl (by omega) (fun c_18 => ?_) (fun c_18 => ?_)
  ·
    refine r_iconst S dX5_orderLine_45 ?_
    refine r_as (b2i (dP (orI9 t n (orA t n Z)))) (by first | exact dP_1 (by unfold orI9; have z := f10.2.2.2.2.2.2.2.1 (by omega); rw [z] at c_38; omega) | exact dP_0 (by unfold orI9; first | omega | (have z := f10.2.2.2.2.2.2.2.1 (by omega); rw [z] at c_38; omega))) ?_
    exact cut_46 H _ _ hW (lv_sub hl [0, 1] rfl)
  ·
    refine lv_aload_n S.1 S.2.1 dX5_orderLine_21 rfl (lv_at hl 1 rfl) ?_
    refine w_geti S hW in_X5 0 rfl rfl 5 (by decide) q1656 rfl rfl dX5_orderLine_22 ?_
    refine r_iconst S dX5_orderLine_25 ?_
    refine r_icmp_ne S (tgt := 45) dX5_orderLine_26 rfl (by omega) (fun c_26 => ?_) (fun c_26 => ?_)
    ·
      refine r_iconst S dX5_orderLine_45 ?_
      refine r_as (b2i (dP (orI9 t n (orA t n Z)))) (by first | exact dP_1 (by unfold orI9; have z := f10.2.2.2.2.2.2.2.1 (by omega); rw [z] at c_38; omega) | exact dP_0 (by unfold orI9; first | omega | (have z := f10.2.2.2.2.2.2.2.1 (by omega); rw [z] at c_38; omega))) ?_
      exact cut_46 H _ _ hW (lv_sub hl [0, 1] rfl)
    ·
      refine lv_aload_n S.1 S.2.1 dX5_orderLine_29 rfl (lv_at hl 1 rfl) ?_
      refine w_geti S hW in_X5 0 rfl rfl 6 (by decide) q1657 rfl rfl dX5_orderLine_30 ?_
      refine r_iconst S dX5_orderLine_33 ?_
      refine r_iconst S dX5_orderLine_34 ?_
      refine c_SPw S hW (tX5_isIn l (σ10 6 0) 0 1 (by omega)) (cw_X5_145 S.2.2.2.2 ⟨Nat.le_of_ble_eq_true rfl, Nat.le_of_ble_eq_true rfl⟩) rfl hl.1 (rest := []) rfl (Nat.le_of_ble_eq_true rfl) dX5_orderLine_35 ⟨Nat.le_of_ble_eq_true rfl, Nat.le_of_ble_eq_true rfl⟩ (fun locs hW => ?_)
      refine r_ifeq_p S (tgt := 45) dX5_orderLine_38 rfl (fun c_38 => ?_) (fun c_38 => ?_)
      ·
        refine r_iconst S dX5_orderLine_45 ?_
        refine r_as (b2i (dP (orI9 t n (orA t n Z)))) (by first | exact dP_1 (by unfold orI9; have z := f10.2.2.2.2.2.2.2.1 (by omega); rw [z] at c_38; omega) | exact dP_0 (by unfold orI9; first | omega | (have z := f10.2.2.2.2.2.2.2.1 (by omega); rw [z] at c_38; omega))) ?_
        exact cut_46 H _ _ hW (lv_sub hl [0, 1] rfl)
      ·
        refine r_iconst S dX5_orderLine_41 ?_
        refine lv_goto (tgt := 46) S.1 S.2.1 dX5_orderLine_42 rfl ?_
        refine r_as (b2i (dP (orI9 t n (orA t n Z)))) (by first | exact dP_1 (by unfold orI9; have z := f10.2.2.2.2.2.2.2.1 (by omega); rw [z] at c_38; omega) | exact dP_0 (by unfold orI9; first | omega | (have z := f10.2.2.2.2.2.2.2.1 (by omega); rw [z] at c_38; omega))) ?_
        exact cut_46 H _ _ hW (lv_sub hl [0, 1] rfl)
