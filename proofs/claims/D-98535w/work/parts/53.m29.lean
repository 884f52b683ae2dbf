theorem hd_X5_armyTold : yX5_armyTold.cls = RX5 ∧ yX5_armyTold.cls ≠ "java/lang/invoke/MethodHandle" ∧ yX5_armyTold.cls ≠ "java/lang/invoke/VarHandle" ∧ (parseMethodDescriptor yX5_armyTold.desc).map (fun d => d.parameters.length) = some 0 := by decide +kernel
theorem cw_X5_163 {R : Room} {s : State} {args : Array Value} (ht : ∀ w ∈ lw_all, w.before args s = true) (hR : 6 + 1 ≤ R.frames ∧ 8 + (1 + 11) + 138 ≤ R.locals) : CallW R s args "OneDrumModel" RX5 163 yX5_armyTold cX5_armyTold 1 (some .int) (ws_ yX5_armyTold cX5_armyTold 1 (some .int)) ⟨6, 0, 0, 138⟩ 0 0 0 := cwV 0 ht (lw_V q1834 q1836 qs58 q126 q1837) rfl rfl rfl hd_X5_armyTold hR
theorem hd_X5_isMove : yX5_isMove.cls = RX5 ∧ yX5_isMove.cls ≠ "java/lang/invoke/MethodHandle" ∧ yX5_isMove.cls ≠ "java/lang/invoke/VarHandle" ∧ (parseMethodDescriptor yX5_isMove.desc).map (fun d => d.parameters.length) = some 0 := by decide +kernel
theorem cw_X5_180 {R : Room} {s : State} {args : Array Value} (ht : ∀ w ∈ lw_all, w.before args s = true) (hR : 1 + 1 ≤ R.frames ∧ 8 + (1 + 11) + 22 ≤ R.locals) : CallW R s args "OneDrumModel" RX5 180 yX5_isMove cX5_isMove 1 (some .boolean) (ws_ yX5_isMove cX5_isMove 1 (some .boolean)) ⟨1, 0, 0, 22⟩ 0 0 0 := cwV 0 ht (lw_V q1866 q1868 qs66 q126 q1869) rfl rfl rfl hd_X5_isMove hR
set_option maxHeartbeats 4000000 in
theorem tX5_hearingLine (l : Launch) (G : GG) (ad : Nat → Nat) (σ : St) (t : Int → Int) (n : Int) (Z : PS) (hm : MP σ t n Z) : Met l yX5_hearingLine (ws_ yX5_hearingLine cX5_hearingLine 4 none) ⟨7, 0, 0, 158⟩ (wPre G shM ad σ (fun _ => True) [.ref (ad 0)]) (qS G shM ad (aM ad) (rV (fun σ' => (MP σ' t n (heS t n Z)) ∧ (MSr σ σ')))) 0 0 (aM ad) := by
  refine wStart (by decide) (Nat.le_of_ble_eq_true rfl) (fun k hk => ⟨k, hk, rfl⟩) (fun p e s m below meth c S hr hlk _ _ ls hW hl => ?_)
  have hl : lv_has ls 4 [(0, .ref (ad 0))] := hl
  refine lv_aload_n S.1 S.2.1 dX5_hearingLine_0 rfl (lv_at hl 0 rfl) ?_
  refine r_bipush S dX5_hearingLine_1 (by decide) ?_
  refine r_bipush S dX5_hearingLine_3 (by decide) ?_
  refine c_VSi S hW (tX5_takes l G ad σ 20 20 t n ((Z).1) ((Z).2.1) (hm.1) (by omega)) (cw_X5_156 S.2.2.2.2 ⟨Nat.le_of_ble_eq_true rfl, Nat.le_of_ble_eq_true rfl⟩) eBlind_T (fun _ _ _ => trivial) (w_recv hW (q0 := 0) rfl rfl) rfl hl.1 (rest := []) rfl (Nat.le_of_ble_eq_true rfl) dX5_hearingLine_5 ⟨Nat.le_of_ble_eq_true rfl, Nat.le_of_ble_eq_true rfl⟩ (fun r5 σ5 H locs q5 hW => ?_)
  obtain ⟨rfl, q5_ms, q5_a, q5_sm⟩ := q5
  have m5 := MP_tk hm q5_ms q5_sm
  have w5 := MSr_tr MSr_rf q5_a q5_sm
  refine lv_pop S.1 S.2.1 dX5_hearingLine_8 rfl ?_
  refine lv_aload_n S.1 S.2.1 dX5_hearingLine_9 rfl (lv_at hl 0 rfl) ?_
  refine c_VSi S hW (tX5_armyTold l G ad σ5 t n (((sTk t n 20 20 Z)).1) (((sTk t n 20 20 Z)).2.1) (m5.1)) (cw_X5_163 S.2.2.2.2 ⟨Nat.le_of_ble_eq_true rfl, Nat.le_of_ble_eq_true rfl⟩) eBlind_T (fun _ _ _ => trivial) (w_recv hW (q0 := 0) rfl rfl) rfl hl.1 (rest := []) rfl (Nat.le_of_ble_eq_true rfl) dX5_hearingLine_10 ⟨Nat.le_of_ble_eq_true rfl, Nat.le_of_ble_eq_true rfl⟩ (fun r10 σ10 H locs q10 hW => ?_)
  obtain ⟨rfl, q10_ms, q10_a, q10_sm⟩ := q10
  have m10 := MP_nm m5 q10_ms q10_sm
  have w10 := MSr_tr w5 q10_a q10_sm
  have hG : 0 ≤ (heG t n Z) ∧ (heG t n Z) ≤ 1 := nmV_rng (by omega)
  refine r_as (heG t n Z) (rfl) ?_
  refine lv_istore_n (lv' := [(1, .int (iI (heG t n Z))), (0, .ref (ad 0))]) S.1 S.2.1 dX5_hearingLine_13 rfl hl (by decide) rfl (fun ls hl => ?_)
  refine r_iconst S dX5_hearingLine_14 ?_
  refine lv_istore_n (lv' := [(2, .int (iI 0)), (1, .int (iI (heG t n Z))), (0, .ref (ad 0))]) S.1 S.2.1 dX5_hearingLine_15 rfl hl (by decide) rfl (fun ls hl => ?_)
  have cut_16 : ∀ (N_16 : Nat) (Q : PS) (m_ : Int) (σ1 : St) (H : Heap) (locs : List Loc) (ls : Array Slot), (MP σ1 t n Q) → (0 ≤ m_ ∧ m_ ≤ Q.1) → (gL t n 14 18 6 (2 + 6 * (heG t n Z)) True (Q, m_) = heL t n Z) → (MSr σ σ1) → ((602 - Q.1).toNat) < N_16 → WD G shM ad (aM ad) s s.heap σ1 H locs → lv_has ls 4 [(2, .int (iI m_)), (1, .int (iI (heG t n Z))), (0, .ref (ad 0))] → W p l e (⟨7, 0, 0, 158⟩ : Room) s m ([.ref (ad 0)] : List Value).toArray below meth c H locs 0 0 (MQ below (qS G shM ad (aM ad) (rV (fun σ' => (MP σ' t n (heS t n Z)) ∧ (MSr σ σ')))) ([.ref (ad 0)] : List Value).toArray s 0 0 (aM ad)) (F0 m 16 ls []) := by
    intro N_16
    induction N_16 with
    | zero =>
      intro Q m_ σ1 H locs ls hq hb hit tq hμ_16 hW hl
      exact absurd hμ_16 (by omega)
    | succ N_16 ih_16 =>
      intro Q m_ σ1 H locs ls hq hb hit tq hμ_16 hW hl
      have fq := MP_at hq
      refine lv_aload_n S.1 S.2.1 dX5_hearingLine_16 rfl (lv_at hl 2 rfl) ?_
      refine c_VP S hW (tX5_isMove l G ad σ1 t n ((Q).1) ((Q).2.1) (hq.1)) (cw_X5_180 S.2.2.2.2 ⟨Nat.le_of_ble_eq_true rfl, Nat.le_of_ble_eq_true rfl⟩) eBlind_T (fun _ _ _ => trivial) (w_recv hW (q0 := 0) rfl rfl) rfl hl.1 (rest := []) rfl (Nat.le_of_ble_eq_true rfl) dX5_hearingLine_17 ⟨Nat.le_of_ble_eq_true rfl, Nat.le_of_ble_eq_true rfl⟩ (fun locs hW => ?_)
      refine r_ifeq_p S (tgt := 76) dX5_hearingLine_20 rfl (fun c_20 => ?_) (fun c_20 => ?_)
      ·
        have hc : ¬ sIs t n 14 18 Q := c_20
        refine lv_aload_n S.1 S.2.1 dX5_hearingLine_76 rfl (lv_at hl 2 rfl) ?_
        refine w_getr S hW in_X5 0 rfl rfl 9 (by decide) q1660 rfl rfl dX5_hearingLine_77 ?_
        refine lv_iload_n S.1 S.2.1 dX5_hearingLine_80 rfl (lv_at hl 1 rfl) ?_
        refine lv_iload_n S.1 S.2.1 dX5_hearingLine_81 rfl (lv_at hl 0 rfl) ?_
        refine r_bipush S dX5_hearingLine_82 (by decide) ?_
        refine r_icmp_ge S (tgt := 91) dX5_hearingLine_84 rfl (by omega) (fun c_84 => ?_) (fun c_84 => ?_)
        ·
          refine r_bipush S dX5_hearingLine_91 (by decide) ?_
          refine r_as (min m_ 6) (by omega) ?_
          refine w_ast S hW 3 0 rfl rfl rfl (z := (min m_ 6)) (by omega) dX5_hearingLine_93 (fun H locs hW => ?_)
          obtain ⟨σ8, e_σ8⟩ : ∃ z, z = (up σ1 9 (heG t n Z) (min m_ 6)) := ⟨_, rfl⟩
          rw [← e_σ8] at hW
          have h93 : MP σ8 t n (sSt (heG t n Z) (min m_ 6) Q) := by rw [e_σ8]; exact MP_u hq
          have w93 : MSr σ σ8 := by rw [e_σ8]; exact MSr_u tq
          refine lv_aload_n S.1 S.2.1 dX5_hearingLine_94 rfl (lv_at hl 2 rfl) ?_
          refine c_VSv S hW (tX5_endsLine l G ad σ8 t n ((sSt (heG t n Z) (min m_ 6) Q).1) ((sSt (heG t n Z) (min m_ 6) Q).2.1) (h93.1)) (cw_X5_177 S.2.2.2.2 ⟨Nat.le_of_ble_eq_true rfl, Nat.le_of_ble_eq_true rfl⟩) eBlind_T (fun _ _ _ => trivial) (w_recv hW (q0 := 0) rfl rfl) rfl hl.1 (rest := []) rfl (Nat.le_of_ble_eq_true rfl) dX5_hearingLine_95 ⟨Nat.le_of_ble_eq_true rfl, Nat.le_of_ble_eq_true rfl⟩ (fun σ95 H locs q95 hW => ?_)
          obtain ⟨q95_ms, q95_a, q95_sm⟩ := q95
          have m95 := MP_el h93 q95_ms q95_sm
          have w95 := MSr_tr w93 q95_a q95_sm
          exact e_vS S hr hlk hW ⟨rfl, ⟨(by unfold heS; rw [← hit, gL_n hc]; exact m95), (w95)⟩⟩ dX5_hearingLine_98
        ·
          refine lv_iload_n S.1 S.2.1 dX5_hearingLine_87 rfl (lv_at hl 0 rfl) ?_
          refine lv_goto (tgt := 93) S.1 S.2.1 dX5_hearingLine_88 rfl ?_
          refine r_as (min m_ 6) (by omega) ?_
          refine w_ast S hW 3 0 rfl rfl rfl (z := (min m_ 6)) (by omega) dX5_hearingLine_93 (fun H locs hW => ?_)
          obtain ⟨σ8, e_σ8⟩ : ∃ z, z = (up σ1 9 (heG t n Z) (min m_ 6)) := ⟨_, rfl⟩
          rw [← e_σ8] at hW
          have h93 : MP σ8 t n (sSt (heG t n Z) (min m_ 6) Q) := by rw [e_σ8]; exact MP_u hq
          have w93 : MSr σ σ8 := by rw [e_σ8]; exact MSr_u tq
          refine lv_aload_n S.1 S.2.1 dX5_hearingLine_94 rfl (lv_at hl 2 rfl) ?_
          refine c_VSv S hW (tX5_endsLine l G ad σ8 t n ((sSt (heG t n Z) (min m_ 6) Q).1) ((sSt (heG t n Z) (min m_ 6) Q).2.1) (h93.1)) (cw_X5_177 S.2.2.2.2 ⟨Nat.le_of_ble_eq_true rfl, Nat.le_of_ble_eq_true rfl⟩) eBlind_T (fun _ _ _ => trivial) (w_recv hW (q0 := 0) rfl rfl) rfl hl.1 (rest := []) rfl (Nat.le_of_ble_eq_true rfl) dX5_hearingLine_95 ⟨Nat.le_of_ble_eq_true rfl, Nat.le_of_ble_eq_true rfl⟩ (fun σ95 H locs q95 hW => ?_)
          obtain ⟨q95_ms, q95_a, q95_sm⟩ := q95
          have m95 := MP_el h93 q95_ms q95_sm
          have w95 := MSr_tr w93 q95_a q95_sm
          exact e_vS S hr hlk hW ⟨rfl, ⟨(by unfold heS; rw [← hit, gL_n hc]; exact m95), (w95)⟩⟩ dX5_hearingLine_98
      ·
        have hc : sIs t n 14 18 Q := c_20
        refine lv_iload_n S.1 S.2.1 dX5_hearingLine_23 rfl (lv_at hl 0 rfl) ?_
        refine r_bipush S dX5_hearingLine_24 (by decide) ?_
        refine r_icmp_lt S (tgt := 38) dX5_hearingLine_26 rfl (by omega) (fun c_26 => ?_) (fun c_26 => ?_)
        ·
          have cc : m_ < 6 := by omega
          refine lv_aload_n S.1 S.2.1 dX5_hearingLine_38 rfl (lv_at hl 2 rfl) ?_
          refine r_bipush S dX5_hearingLine_39 (by decide) ?_
          refine r_bipush S dX5_hearingLine_41 (by decide) ?_
          refine c_VSi S hW (tX5_takes l G ad σ1 14 18 t n ((if m_ < 6 then Q else sNo 3 (tkW t n Q.1) Q).1) ((if m_ < 6 then Q else sNo 3 (tkW t n Q.1) Q).2.1) (by first | (rw [if_pos cc]; exact hq.1) | (rw [if_neg cc]; exact m35.1)) (by omega)) (cw_X5_156 S.2.2.2.2 ⟨Nat.le_of_ble_eq_true rfl, Nat.le_of_ble_eq_true rfl⟩) eBlind_T (fun _ _ _ => trivial) (w_recv hW (q0 := 0) rfl rfl) rfl hl.1 (rest := []) rfl (Nat.le_of_ble_eq_true rfl) dX5_hearingLine_43 ⟨Nat.le_of_ble_eq_true rfl, Nat.le_of_ble_eq_true rfl⟩ (fun r43 σ43 H locs q43 hW => ?_)
          obtain ⟨rfl, q43_ms, q43_a, q43_sm⟩ := q43
          have m43 : MP σ43 t n (sTk t n 14 18 (if m_ < 6 then Q else sNo 3 (tkW t n Q.1) Q)) := by first | exact MP_tk (by rw [if_pos cc]; exact hq) q43_ms q43_sm | exact MP_tk (by rw [if_neg cc]; exact m35) q43_ms q43_sm
          have w43 : MSr σ σ43 := by first | exact MSr_tr tq q43_a q43_sm | exact MSr_tr w35 q43_a q43_sm
          have hv := tkVl_rng (t := t) (n := n) (p := (if m_ < 6 then Q else sNo 3 (tkW t n Q.1) Q).1) (e := (if m_ < 6 then Q else sNo 3 (tkW t n Q.1) Q).2.1) (lo := 14) (hi := 18) (by omega)
          refine r_bipush S dX5_hearingLine_46 (by decide) ?_
          refine r_isub S dX5_hearingLine_48 ?_
          refine r_name (fun b_ e_b_ => ?_)
          refine lv_istore_n (lv' := [(3, .int (iI b_)), (2, .int (iI m_)), (1, .int (iI (heG t n Z))), (0, .ref (ad 0))]) S.1 S.2.1 dX5_hearingLine_49 rfl hl (by decide) rfl (fun ls hl => ?_)
          refine lv_iload_n S.1 S.2.1 dX5_hearingLine_50 rfl (lv_at hl 1 rfl) ?_
          refine r_bipush S dX5_hearingLine_51 (by decide) ?_
          refine r_icmp_ge S (tgt := 70) dX5_hearingLine_53 rfl (by omega) (fun c_53 => ?_) (fun c_53 => ?_)
          ·
            refine lv_iinc (v := iI (m_ + 1)) (lv' := [(2, .int (iI (m_ + 1))), (3, .int (iI b_)), (1, .int (iI (heG t n Z))), (0, .ref (ad 0))]) S.1 S.2.1 dX5_hearingLine_70 hl (k := 1) rfl (iI_add _ _) (by decide) rfl (fun ls hl => ?_)
            refine lv_goto (tgt := 16) S.1 S.2.1 dX5_hearingLine_73 rfl ?_
            exact ih_16 ((gB t n 14 18 6 (2 + 6 * (heG t n Z)) True (Q, m_)).1) (m_ + 1) σ43 H _ _ (by unfold gB; first | (show MP _ t n (if m_ < 6 then _ else _); rw [if_neg cc]; rw [if_neg cc] at m43; exact m43) | (show MP _ t n (if m_ < 6 then _ else _); rw [if_pos cc, if_pos (dP_t.mpr trivial), e_b_]; simp only [if_pos cc] at m43 ⊢; exact MP_u m43) | (exfalso; omega)) (by have := gB_go (room := 6) (base := 2 + 6 * (heG t n Z)) (mo := True) (Q, m_) ⟨⟨fq.2.2.2.1.1, fq.2.2.2.2.1.2⟩, hc⟩ fq.2.2.2.1.2; have e9 : ((Q, m_) : PS × Int).1.1 = Q.1 := rfl; omega) ((gL_y (x := (Q, m_)) fq.2.2.2.2.1.2 fq.2.2.2.1 hc).symm.trans hit) (by first | exact w43 | exact MSr_u w43) (by have := gB_go (room := 6) (base := 2 + 6 * (heG t n Z)) (mo := True) (Q, m_) ⟨⟨fq.2.2.2.1.1, fq.2.2.2.2.1.2⟩, hc⟩ fq.2.2.2.1.2; have e9 : ((Q, m_) : PS × Int).1.1 = Q.1 := rfl; omega) hW (lv_sub hl [0, 2, 3] rfl)
          ·
            refine lv_aload_n S.1 S.2.1 dX5_hearingLine_56 rfl (lv_at hl 3 rfl) ?_
            refine w_getr S hW in_X5 0 rfl rfl 9 (by decide) q1660 rfl rfl dX5_hearingLine_57 ?_
            refine r_iconst S dX5_hearingLine_60 ?_
            refine r_bipush S dX5_hearingLine_61 (by decide) ?_
            refine lv_iload_n S.1 S.2.1 dX5_hearingLine_63 rfl (lv_at hl 2 rfl) ?_
            refine r_imul S dX5_hearingLine_64 ?_
            refine r_iadd S dX5_hearingLine_65 ?_
            refine lv_iload_n S.1 S.2.1 dX5_hearingLine_66 rfl (lv_at hl 1 rfl) ?_
            refine r_iadd S dX5_hearingLine_67 ?_
            refine lv_iload_n S.1 S.2.1 dX5_hearingLine_68 rfl (lv_at hl 0 rfl) ?_
            refine w_ast S hW 3 0 rfl rfl rfl (z := b_) (by omega) dX5_hearingLine_69 (fun H locs hW => ?_)
            refine lv_iinc (v := iI (m_ + 1)) (lv' := [(2, .int (iI (m_ + 1))), (3, .int (iI b_)), (1, .int (iI (heG t n Z))), (0, .ref (ad 0))]) S.1 S.2.1 dX5_hearingLine_70 hl (k := 1) rfl (iI_add _ _) (by decide) rfl (fun ls hl => ?_)
            refine lv_goto (tgt := 16) S.1 S.2.1 dX5_hearingLine_73 rfl ?_
            exact ih_16 ((gB t n 14 18 6 (2 + 6 * (heG t n Z)) True (Q, m_)).1) (m_ + 1) (up σ43 9 ((2 + (6 * (heG t n Z))) + m_) b_) H _ _ (by unfold gB; first | (show MP _ t n (if m_ < 6 then _ else _); rw [if_neg cc]; rw [if_neg cc] at m43; exact m43) | (show MP _ t n (if m_ < 6 then _ else _); rw [if_pos cc, if_pos (dP_t.mpr trivial), e_b_]; simp only [if_pos cc] at m43 ⊢; exact MP_u m43) | (exfalso; omega)) (by have := gB_go (room := 6) (base := 2 + 6 * (heG t n Z)) (mo := True) (Q, m_) ⟨⟨fq.2.2.2.1.1, fq.2.2.2.2.1.2⟩, hc⟩ fq.2.2.2.1.2; have e9 : ((Q, m_) : PS × Int).1.1 = Q.1 := rfl; omega) ((gL_y (x := (Q, m_)) fq.2.2.2.2.1.2 fq.2.2.2.1 hc).symm.trans hit) (by first | exact w43 | exact MSr_u w43) (by have := gB_go (room := 6) (base := 2 + 6 * (heG t n Z)) (mo := True) (Q, m_) ⟨⟨fq.2.2.2.1.1, fq.2.2.2.2.1.2⟩, hc⟩ fq.2.2.2.1.2; have e9 : ((Q, m_) : PS × Int).1.1 = Q.1 := rfl; omega) hW (lv_sub hl [0, 2, 3] rfl)
        ·
          have cc : ¬ (m_ < 6) := by omega
          refine lv_aload_n S.1 S.2.1 dX5_hearingLine_29 rfl (lv_at hl 2 rfl) ?_
          refine r_iconst S dX5_hearingLine_30 ?_
          refine lv_aload_n S.1 S.2.1 dX5_hearingLine_31 rfl (lv_at hl 2 rfl) ?_
          refine w_geti S hW in_X5 0 rfl rfl 4 (by decide) q1655 rfl rfl dX5_hearingLine_32 ?_
          refine c_VSv S hW (tX5_also l G ad σ1 3 (σ1 4 0) ((Q).2.1) (hq.1.2.2.2.1) (hq.1.2.2.2.2) (by omega)) (cw_X5_149 S.2.2.2.2 ⟨Nat.le_of_ble_eq_true rfl, Nat.le_of_ble_eq_true rfl⟩) eBlind_T (fun _ _ _ => trivial) (w_recv hW (q0 := 0) rfl rfl) rfl hl.1 (rest := []) rfl (Nat.le_of_ble_eq_true rfl) dX5_hearingLine_35 ⟨Nat.le_of_ble_eq_true rfl, Nat.le_of_ble_eq_true rfl⟩ (fun σ35 H locs q35 hW => ?_)
          obtain ⟨q35_e, q35_a, q35_sm⟩ := q35
          have m35 := MP_also hq q35_e (by omega) (by omega) q35_a q35_sm
          rw [fq.2.2.1] at m35
          have w35 := MSr_a tq q35_a q35_sm
          refine lv_aload_n S.1 S.2.1 dX5_hearingLine_38 rfl (lv_at hl 2 rfl) ?_
          refine r_bipush S dX5_hearingLine_39 (by decide) ?_
          refine r_bipush S dX5_hearingLine_41 (by decide) ?_
          refine c_VSi S hW (tX5_takes l G ad σ35 14 18 t n ((if m_ < 6 then Q else sNo 3 (tkW t n Q.1) Q).1) ((if m_ < 6 then Q else sNo 3 (tkW t n Q.1) Q).2.1) (by first | (rw [if_pos cc]; exact hq.1) | (rw [if_neg cc]; exact m35.1)) (by omega)) (cw_X5_156 S.2.2.2.2 ⟨Nat.le_of_ble_eq_true rfl, Nat.le_of_ble_eq_true rfl⟩) eBlind_T (fun _ _ _ => trivial) (w_recv hW (q0 := 0) rfl rfl) rfl hl.1 (rest := []) rfl (Nat.le_of_ble_eq_true rfl) dX5_hearingLine_43 ⟨Nat.le_of_ble_eq_true rfl, Nat.le_of_ble_eq_true rfl⟩ (fun r43 σ43 H locs q43 hW => ?_)
          obtain ⟨rfl, q43_ms, q43_a, q43_sm⟩ := q43
          have m43 : MP σ43 t n (sTk t n 14 18 (if m_ < 6 then Q else sNo 3 (tkW t n Q.1) Q)) := by first | exact MP_tk (by rw [if_pos cc]; exact hq) q43_ms q43_sm | exact MP_tk (by rw [if_neg cc]; exact m35) q43_ms q43_sm
          have w43 : MSr σ σ43 := by first | exact MSr_tr tq q43_a q43_sm | exact MSr_tr w35 q43_a q43_sm
          have hv := tkVl_rng (t := t) (n := n) (p := (if m_ < 6 then Q else sNo 3 (tkW t n Q.1) Q).1) (e := (if m_ < 6 then Q else sNo 3 (tkW t n Q.1) Q).2.1) (lo := 14) (hi := 18) (by omega)
          refine r_bipush S dX5_hearingLine_46 (by decide) ?_
          refine r_isub S dX5_hearingLine_48 ?_
          refine r_name (fun b_ e_b_ => ?_)
          refine lv_istore_n (lv' := [(3, .int (iI b_)), (2, .int (iI m_)), (1, .int (iI (heG t n Z))), (0, .ref (ad 0))]) S.1 S.2.1 dX5_hearingLine_49 rfl hl (by decide) rfl (fun ls hl => ?_)
          refine lv_iload_n S.1 S.2.1 dX5_hearingLine_50 rfl (lv_at hl 1 rfl) ?_
          refine r_bipush S dX5_hearingLine_51 (by decide) ?_
          refine r_icmp_ge S (tgt := 70) dX5_hearingLine_53 rfl (by omega) (fun c_53 => ?_) (fun c_53 => ?_)
          ·
            refine lv_iinc (v := iI (m_ + 1)) (lv' := [(2, .int (iI (m_ + 1))), (3, .int (iI b_)), (1, .int (iI (heG t n Z))), (0, .ref (ad 0))]) S.1 S.2.1 dX5_hearingLine_70 hl (k := 1) rfl (iI_add _ _) (by decide) rfl (fun ls hl => ?_)
            refine lv_goto (tgt := 16) S.1 S.2.1 dX5_hearingLine_73 rfl ?_
            exact ih_16 ((gB t n 14 18 6 (2 + 6 * (heG t n Z)) True (Q, m_)).1) (m_ + 1) σ43 H _ _ (by unfold gB; first | (show MP _ t n (if m_ < 6 then _ else _); rw [if_neg cc]; rw [if_neg cc] at m43; exact m43) | (show MP _ t n (if m_ < 6 then _ else _); rw [if_pos cc, if_pos (dP_t.mpr trivial), e_b_]; simp only [if_pos cc] at m43 ⊢; exact MP_u m43) | (exfalso; omega)) (by have := gB_go (room := 6) (base := 2 + 6 * (heG t n Z)) (mo := True) (Q, m_) ⟨⟨fq.2.2.2.1.1, fq.2.2.2.2.1.2⟩, hc⟩ fq.2.2.2.1.2; have e9 : ((Q, m_) : PS × Int).1.1 = Q.1 := rfl; omega) ((gL_y (x := (Q, m_)) fq.2.2.2.2.1.2 fq.2.2.2.1 hc).symm.trans hit) (by first | exact w43 | exact MSr_u w43) (by have := gB_go (room := 6) (base := 2 + 6 * (heG t n Z)) (mo := True) (Q, m_) ⟨⟨fq.2.2.2.1.1, fq.2.2.2.2.1.2⟩, hc⟩ fq.2.2.2.1.2; have e9 : ((Q, m_) : PS × Int).1.1 = Q.1 := rfl; omega) hW (lv_sub hl [0, 2, 3] rfl)
          ·
            refine lv_aload_n S.1 S.2.1 dX5_hearingLine_56 rfl (lv_at hl 3 rfl) ?_
            refine w_getr S hW in_X5 0 rfl rfl 9 (by decide) q1660 rfl rfl dX5_hearingLine_57 ?_
            refine r_iconst S dX5_hearingLine_60 ?_
            refine r_bipush S dX5_hearingLine_61 (by decide) ?_
            refine lv_iload_n S.1 S.2.1 dX5_hearingLine_63 rfl (lv_at hl 2 rfl) ?_
            refine r_imul S dX5_hearingLine_64 ?_
            refine r_iadd S dX5_hearingLine_65 ?_
            refine lv_iload_n S.1 S.2.1 dX5_hearingLine_66 rfl (lv_at hl 1 rfl) ?_
            refine r_iadd S dX5_hearingLine_67 ?_
            refine lv_iload_n S.1 S.2.1 dX5_hearingLine_68 rfl (lv_at hl 0 rfl) ?_
            refine w_ast S hW 3 0 rfl rfl rfl (z := b_) (by omega) dX5_hearingLine_69 (fun H locs hW => ?_)
            refine lv_iinc (v := iI (m_ + 1)) (lv' := [(2, .int (iI (m_ + 1))), (3, .int (iI b_)), (1, .int (iI (heG t n Z))), (0, .ref (ad 0))]) S.1 S.2.1 dX5_hearingLine_70 hl (k := 1) rfl (iI_add _ _) (by decide) rfl (fun ls hl => ?_)
            refine lv_goto (tgt := 16) S.1 S.2.1 dX5_hearingLine_73 rfl ?_
            exact ih_16 ((gB t n 14 18 6 (2 + 6 * (heG t n Z)) True (Q, m_)).1) (m_ + 1) (up σ43 9 ((2 + (6 * (heG t n Z))) + m_) b_) H _ _ (by unfold gB; first | (show MP _ t n (if m_ < 6 then _ else _); rw [if_neg cc]; rw [if_neg cc] at m43; exact m43) | (show MP _ t n (if m_ < 6 then _ else _); rw [if_pos cc, if_pos (dP_t.mpr trivial), e_b_]; simp only [if_pos cc] at m43 ⊢; exact MP_u m43) | (exfalso; omega)) (by have := gB_go (room := 6) (base := 2 + 6 * (heG t n Z)) (mo := True) (Q, m_) ⟨⟨fq.2.2.2.1.1, fq.2.2.2.2.1.2⟩, hc⟩ fq.2.2.2.1.2; have e9 : ((Q, m_) : PS × Int).1.1 = Q.1 := rfl; omega) ((gL_y (x := (Q, m_)) fq.2.2.2.2.1.2 fq.2.2.2.1 hc).symm.trans hit) (by first | exact w43 | exact MSr_u w43) (by have := gB_go (room := 6) (base := 2 + 6 * (heG t n Z)) (mo := True) (Q, m_) ⟨⟨fq.2.2.2.1.1, fq.2.2.2.2.1.2⟩, hc⟩ fq.2.2.2.1.2; have e9 : ((Q, m_) : PS × Int).1.1 = Q.1 := rfl; omega) hW (lv_sub hl [0, 2, 3] rfl)
  exact cut_16 _ (heA t n Z) 0 σ10 H _ _ (m10) (by have : 0 ≤ (heA t n Z).1 ∧ _ := m10.1.2.2.1; omega) (rfl) (w10) (Nat.lt_succ_self _) hW (lv_sub hl [0, 1, 2] rfl)
