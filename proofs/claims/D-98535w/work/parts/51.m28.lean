theorem hd_X5_beatTold : yX5_beatTold.cls = RX5 ∧ yX5_beatTold.cls ≠ "java/lang/invoke/MethodHandle" ∧ yX5_beatTold.cls ≠ "java/lang/invoke/VarHandle" ∧ (parseMethodDescriptor yX5_beatTold.desc).map (fun d => d.parameters.length) = some 0 := by decide +kernel
theorem cw_X5_171 {R : Room} {s : State} {args : Array Value} (ht : ∀ w ∈ lw_all, w.before args s = true) (hR : 6 + 1 ≤ R.frames ∧ 8 + (1 + 11) + 138 ≤ R.locals) : CallW R s args "OneDrumModel" RX5 171 yX5_beatTold cX5_beatTold 1 (some .int) (ws_ yX5_beatTold cX5_beatTold 1 (some .int)) ⟨6, 0, 0, 138⟩ 0 0 0 := cwV 0 ht (lw_V q1850 q1852 qs62 q126 q1853) rfl rfl rfl hd_X5_beatTold hR
theorem hd_X5_endsLine : yX5_endsLine.cls = RX5 ∧ yX5_endsLine.cls ≠ "java/lang/invoke/MethodHandle" ∧ yX5_endsLine.cls ≠ "java/lang/invoke/VarHandle" ∧ (parseMethodDescriptor yX5_endsLine.desc).map (fun d => d.parameters.length) = some 0 := by decide +kernel
theorem cw_X5_177 {R : Room} {s : State} {args : Array Value} (ht : ∀ w ∈ lw_all, w.before args s = true) (hR : 5 + 1 ≤ R.frames ∧ 8 + (1 + 11) + 115 ≤ R.locals) : CallW R s args "OneDrumModel" RX5 177 yX5_endsLine cX5_endsLine 1 none (ws_ yX5_endsLine cX5_endsLine 1 none) ⟨5, 0, 0, 115⟩ 0 0 0 := cwV 0 ht (lw_V q1854 q1856 qs63 q126 q1857) rfl rfl rfl hd_X5_endsLine hR
theorem hd_X5_isBeat : yX5_isBeat.cls = RX5 ∧ yX5_isBeat.cls ≠ "java/lang/invoke/MethodHandle" ∧ yX5_isBeat.cls ≠ "java/lang/invoke/VarHandle" ∧ (parseMethodDescriptor yX5_isBeat.desc).map (fun d => d.parameters.length) = some 0 := by decide +kernel
theorem cw_X5_167 {R : Room} {s : State} {args : Array Value} (ht : ∀ w ∈ lw_all, w.before args s = true) (hR : 1 + 1 ≤ R.frames ∧ 8 + (1 + 11) + 22 ≤ R.locals) : CallW R s args "OneDrumModel" RX5 167 yX5_isBeat cX5_isBeat 1 (some .boolean) (ws_ yX5_isBeat cX5_isBeat 1 (some .boolean)) ⟨1, 0, 0, 22⟩ 0 0 0 := cwV 0 ht (lw_V q1846 q1848 qs61 q126 q1849) rfl rfl rfl hd_X5_isBeat hR
set_option maxHeartbeats 4000000 in
theorem tX5_scoreLine (l : Launch) (G : GG) (ad : Nat → Nat) (σ : St) (t : Int → Int) (n : Int) (Z : PS) (hm : MP σ t n Z) (hrd : ∀ x : Int, 0 ≤ x → x ≤ 1 → 0 ≤ Z.2.2 x ∧ Z.2.2 x ≤ 12) : Met l yX5_scoreLine (ws_ yX5_scoreLine cX5_scoreLine 4 none) ⟨7, 0, 0, 158⟩ (wPre G shM ad σ (fun _ => True) [.ref (ad 0)]) (qS G shM ad (aM ad) (rV (fun σ' => (MP σ' t n (scS t n Z)) ∧ (MSr σ σ')))) 0 0 (aM ad) := by
  refine wStart (by decide) (Nat.le_of_ble_eq_true rfl) (fun k hk => ⟨k, hk, rfl⟩) (fun p e s m below meth c S hr hlk _ _ ls hW hl => ?_)
  have hl : lv_has ls 4 [(0, .ref (ad 0))] := hl
  refine lv_aload_n S.1 S.2.1 dX5_scoreLine_0 rfl (lv_at hl 0 rfl) ?_
  refine r_bipush S dX5_scoreLine_1 (by decide) ?_
  refine r_bipush S dX5_scoreLine_3 (by decide) ?_
  refine c_VSi S hW (tX5_takes l G ad σ 19 19 t n ((Z).1) ((Z).2.1) (hm.1) (by omega)) (cw_X5_156 S.2.2.2.2 ⟨Nat.le_of_ble_eq_true rfl, Nat.le_of_ble_eq_true rfl⟩) eBlind_T (fun _ _ _ => trivial) (w_recv hW (q0 := 0) rfl rfl) rfl hl.1 (rest := []) rfl (Nat.le_of_ble_eq_true rfl) dX5_scoreLine_5 ⟨Nat.le_of_ble_eq_true rfl, Nat.le_of_ble_eq_true rfl⟩ (fun r5 σ5 H locs q5 hW => ?_)
  obtain ⟨rfl, q5_ms, q5_a, q5_sm⟩ := q5
  have m5 := MP_tk hm q5_ms q5_sm
  have w5 := MSr_tr MSr_rf q5_a q5_sm
  refine lv_pop S.1 S.2.1 dX5_scoreLine_8 rfl ?_
  refine lv_aload_n S.1 S.2.1 dX5_scoreLine_9 rfl (lv_at hl 0 rfl) ?_
  refine r_iconst S dX5_scoreLine_10 ?_
  refine r_iconst S dX5_scoreLine_11 ?_
  refine c_VSi S hW (tX5_numbered l G ad σ5 0 1 t n (((sTk t n 19 19 Z)).1) (((sTk t n 19 19 Z)).2.1) (m5.1) (by omega)) (cw_X5_160 S.2.2.2.2 ⟨Nat.le_of_ble_eq_true rfl, Nat.le_of_ble_eq_true rfl⟩) eBlind_T (fun _ _ _ => trivial) (w_recv hW (q0 := 0) rfl rfl) rfl hl.1 (rest := []) rfl (Nat.le_of_ble_eq_true rfl) dX5_scoreLine_12 ⟨Nat.le_of_ble_eq_true rfl, Nat.le_of_ble_eq_true rfl⟩ (fun r12 σ12 H locs q12 hW => ?_)
  obtain ⟨rfl, q12_ms, q12_a, q12_sm⟩ := q12
  have m12 := MP_nm m5 q12_ms q12_sm
  have w12 := MSr_tr w5 q12_a q12_sm
  have hG : 0 ≤ (scG t n Z) ∧ (scG t n Z) ≤ 1 := nmV_rng (by omega)
  have f12 := MP_at m12
  refine r_as (scG t n Z) (rfl) ?_
  refine lv_istore_n (lv' := [(1, .int (iI (scG t n Z))), (0, .ref (ad 0))]) S.1 S.2.1 dX5_scoreLine_15 rfl hl (by decide) rfl (fun ls hl => ?_)
  refine lv_aload_n S.1 S.2.1 dX5_scoreLine_16 rfl (lv_at hl 1 rfl) ?_
  refine w_geti S hW in_X5 0 rfl rfl 8 (by decide) q1659 rfl rfl dX5_scoreLine_17 ?_
  refine r_if_ne S (tgt := 34) dX5_scoreLine_20 rfl (by omega) (fun c_20 => ?_) (fun c_20 => ?_)
  ·
    have cut_34 : ∀ (N_34 : Nat) (Q : PS) (σ1 : St) (H : Heap) (locs : List Loc) (ls : Array Slot), (MP σ1 t n Q) → (∀ x : Int, 0 ≤ x → x ≤ 1 → 0 ≤ Q.2.2 x ∧ Q.2.2 x ≤ 12) → (scL t n (scG t n Z) Q = scL t n (scG t n Z) (scA t n Z)) → (MSr σ σ1) → ((602 - Q.1).toNat) < N_34 → WD G shM ad (aM ad) s s.heap σ1 H locs → lv_has ls 4 [(1, .int (iI (scG t n Z))), (0, .ref (ad 0))] → W p l e (⟨7, 0, 0, 158⟩ : Room) s m ([.ref (ad 0)] : List Value).toArray below meth c H locs 0 0 (MQ below (qS G shM ad (aM ad) (rV (fun σ' => (MP σ' t n (scS t n Z)) ∧ (MSr σ σ')))) ([.ref (ad 0)] : List Value).toArray s 0 0 (aM ad)) (F0 m 34 ls []) := by
      intro N_34
      induction N_34 with
      | zero =>
        intro Q σ1 H locs ls hq hrs hit tq hμ_34 hW hl
        exact absurd hμ_34 (by omega)
      | succ N_34 ih_34 =>
        intro Q σ1 H locs ls hq hrs hit tq hμ_34 hW hl
        have fq := MP_at hq
        have hx := hrs (scG t n Z) hG.1 hG.2
        have r9g : σ1 9 (scG t n Z) = Q.2.2 (scG t n Z) := by rw [hq.2]
        refine lv_aload_n S.1 S.2.1 dX5_scoreLine_34 rfl (lv_at hl 1 rfl) ?_
        refine c_VP S hW (tX5_isBeat l G ad σ1 t n ((Q).1) ((Q).2.1) (hq.1)) (cw_X5_167 S.2.2.2.2 ⟨Nat.le_of_ble_eq_true rfl, Nat.le_of_ble_eq_true rfl⟩) eBlind_T (fun _ _ _ => trivial) (w_recv hW (q0 := 0) rfl rfl) rfl hl.1 (rest := []) rfl (Nat.le_of_ble_eq_true rfl) dX5_scoreLine_35 ⟨Nat.le_of_ble_eq_true rfl, Nat.le_of_ble_eq_true rfl⟩ (fun locs hW => ?_)
        refine r_ifeq_p S (tgt := 115) dX5_scoreLine_38 rfl (fun c_38 => ?_) (fun c_38 => ?_)
        ·
          have hc : ¬ sIs t n 10 13 Q := c_38
          refine lv_aload_n S.1 S.2.1 dX5_scoreLine_115 rfl (lv_at hl 1 rfl) ?_
          refine c_VSv S hW (tX5_endsLine l G ad σ1 t n ((Q).1) ((Q).2.1) (hq.1)) (cw_X5_177 S.2.2.2.2 ⟨Nat.le_of_ble_eq_true rfl, Nat.le_of_ble_eq_true rfl⟩) eBlind_T (fun _ _ _ => trivial) (w_recv hW (q0 := 0) rfl rfl) rfl hl.1 (rest := []) rfl (Nat.le_of_ble_eq_true rfl) dX5_scoreLine_116 ⟨Nat.le_of_ble_eq_true rfl, Nat.le_of_ble_eq_true rfl⟩ (fun σ116 H locs q116 hW => ?_)
          obtain ⟨q116_ms, q116_a, q116_sm⟩ := q116
          have m116 := MP_el hq q116_ms q116_sm
          have w116 := MSr_tr tq q116_a q116_sm
          exact e_vS S hr hlk hW ⟨rfl, ⟨(by unfold scS; rw [← hit, scL_n hc]; exact m116), (w116)⟩⟩ dX5_scoreLine_119
        ·
          have hc : sIs t n 10 13 Q := c_38
          refine lv_aload_n S.1 S.2.1 dX5_scoreLine_41 rfl (lv_at hl 1 rfl) ?_
          refine w_getr S hW in_X5 0 rfl rfl 9 (by decide) q1660 rfl rfl dX5_scoreLine_42 ?_
          refine lv_iload_n S.1 S.2.1 dX5_scoreLine_45 rfl (lv_at hl 0 rfl) ?_
          refine w_ald S hW 3 0 rfl rfl (by omega) dX5_scoreLine_46 ?_
          refine r_bipush S dX5_scoreLine_47 (by decide) ?_
          refine r_icmp_ge S (tgt := 56) dX5_scoreLine_49 rfl (by omega) (fun c_49 => ?_) (fun c_49 => ?_)
          ·
            have cc : ¬ (Q.2.2 (scG t n Z) < 12) := by rw [hq.2] at c_49; omega
            refine r_iconst S dX5_scoreLine_56 ?_
            refine lv_istore_n (lv' := [(2, .int (iI 0)), (1, .int (iI (scG t n Z))), (0, .ref (ad 0))]) S.1 S.2.1 dX5_scoreLine_57 rfl hl (by decide) rfl (fun ls hl => ?_)
            refine lv_iload_n S.1 S.2.1 dX5_scoreLine_58 rfl (lv_at hl 0 rfl) ?_
            refine r_if_ne S (tgt := 71) dX5_scoreLine_59 rfl (by omega) (fun c_59 => ?_) (fun c_59 => ?_)
            ·
              exact absurd c_59 (by omega)
            ·
              refine lv_aload_n S.1 S.2.1 dX5_scoreLine_62 rfl (lv_at hl 2 rfl) ?_
              refine r_iconst S dX5_scoreLine_63 ?_
              refine lv_aload_n S.1 S.2.1 dX5_scoreLine_64 rfl (lv_at hl 2 rfl) ?_
              refine w_geti S hW in_X5 0 rfl rfl 4 (by decide) q1655 rfl rfl dX5_scoreLine_65 ?_
              refine c_VSv S hW (tX5_also l G ad σ1 3 (σ1 4 0) ((Q).2.1) (hq.1.2.2.2.1) (hq.1.2.2.2.2) (by omega)) (cw_X5_149 S.2.2.2.2 ⟨Nat.le_of_ble_eq_true rfl, Nat.le_of_ble_eq_true rfl⟩) eBlind_T (fun _ _ _ => trivial) (w_recv hW (q0 := 0) rfl rfl) rfl hl.1 (rest := []) rfl (Nat.le_of_ble_eq_true rfl) dX5_scoreLine_68 ⟨Nat.le_of_ble_eq_true rfl, Nat.le_of_ble_eq_true rfl⟩ (fun σ68 H locs q68 hW => ?_)
              obtain ⟨q68_e, q68_a, q68_sm⟩ := q68
              have m68 := MP_also hq q68_e (by omega) (by omega) q68_a q68_sm
              rw [fq.2.2.1] at m68
              have w68 := MSr_a tq q68_a q68_sm
              refine lv_aload_n S.1 S.2.1 dX5_scoreLine_71 rfl (lv_at hl 2 rfl) ?_
              refine c_VSi S hW (tX5_beatTold l G ad σ68 t n ((if Q.2.2 (scG t n Z) < 12 then Q else sNo 3 (tkW t n Q.1) Q).1) ((if Q.2.2 (scG t n Z) < 12 then Q else sNo 3 (tkW t n Q.1) Q).2.1) (by first | (rw [if_pos cc]; exact hq.1) | (rw [if_neg cc]; exact m68.1))) (cw_X5_171 S.2.2.2.2 ⟨Nat.le_of_ble_eq_true rfl, Nat.le_of_ble_eq_true rfl⟩) eBlind_T (fun _ _ _ => trivial) (w_recv hW (q0 := 0) rfl rfl) rfl hl.1 (rest := []) rfl (Nat.le_of_ble_eq_true rfl) dX5_scoreLine_72 ⟨Nat.le_of_ble_eq_true rfl, Nat.le_of_ble_eq_true rfl⟩ (fun r72 σ72 H locs q72 hW => ?_)
              obtain ⟨rfl, q72_ms, q72_a, q72_sm⟩ := q72
              have m72 : MP σ72 t n (sTk t n 10 13 (if Q.2.2 (scG t n Z) < 12 then Q else sNo 3 (tkW t n Q.1) Q)) := by first | exact MP_tk (by rw [if_pos cc]; exact hq) q72_ms q72_sm | exact MP_tk (by rw [if_neg cc]; exact m68) q72_ms q72_sm
              have w72 : MSr σ σ72 := by first | exact MSr_tr tq q72_a q72_sm | exact MSr_tr w68 q72_a q72_sm
              have e72 : σ72 9 = Q.2.2 := by rw [m72.2]; first | rw [if_pos cc]; rfl | rw [if_neg cc]; rfl
              have e72g : σ72 9 (scG t n Z) = Q.2.2 (scG t n Z) := by rw [e72]
              have hv : -10 ≤ tkVl t n (if Q.2.2 (scG t n Z) < 12 then Q else sNo 3 (tkW t n Q.1) Q).1 (if Q.2.2 (scG t n Z) < 12 then Q else sNo 3 (tkW t n Q.1) Q).2.1 10 13 - 10 ∧ tkVl t n (if Q.2.2 (scG t n Z) < 12 then Q else sNo 3 (tkW t n Q.1) Q).1 (if Q.2.2 (scG t n Z) < 12 then Q else sNo 3 (tkW t n Q.1) Q).2.1 10 13 - 10 ≤ 3 := by have := tkVl_rng (t := t) (n := n) (p := (if Q.2.2 (scG t n Z) < 12 then Q else sNo 3 (tkW t n Q.1) Q).1) (e := (if Q.2.2 (scG t n Z) < 12 then Q else sNo 3 (tkW t n Q.1) Q).2.1) (lo := 10) (hi := 13) (by omega); omega
              refine r_name (fun b_ e_b_ => ?_)
              refine lv_istore_n (lv' := [(3, .int (iI b_)), (2, .int (iI 0)), (1, .int (iI (scG t n Z))), (0, .ref (ad 0))]) S.1 S.2.1 dX5_scoreLine_75 rfl hl (by decide) rfl (fun ls hl => ?_)
              refine lv_iload_n S.1 S.2.1 dX5_scoreLine_76 rfl (lv_at hl 1 rfl) ?_
              refine r_if_ne S (tgt := 83) dX5_scoreLine_77 rfl (by omega) (fun c_77 => ?_) (fun c_77 => ?_)
              ·
                exact absurd c_77 (by omega)
              ·
                refine lv_goto (tgt := 34) S.1 S.2.1 dX5_scoreLine_80 rfl ?_
                exact ih_34 (scB t n (scG t n Z) Q) σ72 H _ _ (by unfold scB; first | (rw [if_neg cc]; rw [if_neg cc] at m72; exact m72) | (rw [if_pos cc]; rw [if_pos cc] at m72; rw [e8g, e_σ8, e72g, e_b_]; simp only [if_pos cc]; exact MP_u (MP_u m72))) (fun x x0 x1 => by unfold scB; first | (rw [if_neg cc]; exact hrs x x0 x1) | (rw [if_pos cc]; show 0 ≤ fu (fu Q.2.2 _ _) _ _ x ∧ fu (fu Q.2.2 _ _) _ _ x ≤ 12; by_cases hxg : x = (scG t n Z); (rw [hxg, fu_at]; omega); (rw [fu_ne hxg, fu_ne (by omega)]; exact hrs x x0 x1))) ((scL_y fq.2.2.2.2.1.2 fq.2.2.2.1 hc).symm.trans hit) (by first | exact w72 | (rw [e_σ8]; exact MSr_u (MSr_u w72))) (by have := scB_go (g := (scG t n Z)) Q ⟨⟨fq.2.2.2.1.1, fq.2.2.2.2.1.2⟩, hc⟩ fq.2.2.2.1.2; omega) hW (lv_sub hl [2, 3] rfl)
          ·
            have cc : Q.2.2 (scG t n Z) < 12 := by rw [hq.2] at c_49; omega
            refine r_iconst S dX5_scoreLine_52 ?_
            refine lv_goto (tgt := 57) S.1 S.2.1 dX5_scoreLine_53 rfl ?_
            refine lv_istore_n (lv' := [(2, .int (iI 1)), (1, .int (iI (scG t n Z))), (0, .ref (ad 0))]) S.1 S.2.1 dX5_scoreLine_57 rfl hl (by decide) rfl (fun ls hl => ?_)
            refine lv_iload_n S.1 S.2.1 dX5_scoreLine_58 rfl (lv_at hl 0 rfl) ?_
            refine r_if_ne S (tgt := 71) dX5_scoreLine_59 rfl (by omega) (fun c_59 => ?_) (fun c_59 => ?_)
            ·
              refine lv_aload_n S.1 S.2.1 dX5_scoreLine_71 rfl (lv_at hl 2 rfl) ?_
              refine c_VSi S hW (tX5_beatTold l G ad σ1 t n ((if Q.2.2 (scG t n Z) < 12 then Q else sNo 3 (tkW t n Q.1) Q).1) ((if Q.2.2 (scG t n Z) < 12 then Q else sNo 3 (tkW t n Q.1) Q).2.1) (by first | (rw [if_pos cc]; exact hq.1) | (rw [if_neg cc]; exact m68.1))) (cw_X5_171 S.2.2.2.2 ⟨Nat.le_of_ble_eq_true rfl, Nat.le_of_ble_eq_true rfl⟩) eBlind_T (fun _ _ _ => trivial) (w_recv hW (q0 := 0) rfl rfl) rfl hl.1 (rest := []) rfl (Nat.le_of_ble_eq_true rfl) dX5_scoreLine_72 ⟨Nat.le_of_ble_eq_true rfl, Nat.le_of_ble_eq_true rfl⟩ (fun r72 σ72 H locs q72 hW => ?_)
              obtain ⟨rfl, q72_ms, q72_a, q72_sm⟩ := q72
              have m72 : MP σ72 t n (sTk t n 10 13 (if Q.2.2 (scG t n Z) < 12 then Q else sNo 3 (tkW t n Q.1) Q)) := by first | exact MP_tk (by rw [if_pos cc]; exact hq) q72_ms q72_sm | exact MP_tk (by rw [if_neg cc]; exact m68) q72_ms q72_sm
              have w72 : MSr σ σ72 := by first | exact MSr_tr tq q72_a q72_sm | exact MSr_tr w68 q72_a q72_sm
              have e72 : σ72 9 = Q.2.2 := by rw [m72.2]; first | rw [if_pos cc]; rfl | rw [if_neg cc]; rfl
              have e72g : σ72 9 (scG t n Z) = Q.2.2 (scG t n Z) := by rw [e72]
              have hv : -10 ≤ tkVl t n (if Q.2.2 (scG t n Z) < 12 then Q else sNo 3 (tkW t n Q.1) Q).1 (if Q.2.2 (scG t n Z) < 12 then Q else sNo 3 (tkW t n Q.1) Q).2.1 10 13 - 10 ∧ tkVl t n (if Q.2.2 (scG t n Z) < 12 then Q else sNo 3 (tkW t n Q.1) Q).1 (if Q.2.2 (scG t n Z) < 12 then Q else sNo 3 (tkW t n Q.1) Q).2.1 10 13 - 10 ≤ 3 := by have := tkVl_rng (t := t) (n := n) (p := (if Q.2.2 (scG t n Z) < 12 then Q else sNo 3 (tkW t n Q.1) Q).1) (e := (if Q.2.2 (scG t n Z) < 12 then Q else sNo 3 (tkW t n Q.1) Q).2.1) (lo := 10) (hi := 13) (by omega); omega
              refine r_name (fun b_ e_b_ => ?_)
              refine lv_istore_n (lv' := [(3, .int (iI b_)), (2, .int (iI 1)), (1, .int (iI (scG t n Z))), (0, .ref (ad 0))]) S.1 S.2.1 dX5_scoreLine_75 rfl hl (by decide) rfl (fun ls hl => ?_)
              refine lv_iload_n S.1 S.2.1 dX5_scoreLine_76 rfl (lv_at hl 1 rfl) ?_
              refine r_if_ne S (tgt := 83) dX5_scoreLine_77 rfl (by omega) (fun c_77 => ?_) (fun c_77 => ?_)
              ·
                refine lv_aload_n S.1 S.2.1 dX5_scoreLine_83 rfl (lv_at hl 3 rfl) ?_
                refine w_getr S hW in_X5 0 rfl rfl 9 (by decide) q1660 rfl rfl dX5_scoreLine_84 ?_
                refine r_iconst S dX5_scoreLine_87 ?_
                refine r_bipush S dX5_scoreLine_88 (by decide) ?_
                refine lv_iload_n S.1 S.2.1 dX5_scoreLine_90 rfl (lv_at hl 2 rfl) ?_
                refine r_imul S dX5_scoreLine_91 ?_
                refine r_iadd S dX5_scoreLine_92 ?_
                refine lv_aload_n S.1 S.2.1 dX5_scoreLine_93 rfl (lv_at hl 3 rfl) ?_
                refine w_getr S hW in_X5 0 rfl rfl 9 (by decide) q1660 rfl rfl dX5_scoreLine_94 ?_
                refine lv_iload_n S.1 S.2.1 dX5_scoreLine_97 rfl (lv_at hl 2 rfl) ?_
                refine w_ald S hW 3 0 rfl rfl (by omega) dX5_scoreLine_98 ?_
                refine r_iadd S dX5_scoreLine_99 ?_
                refine lv_iload_n S.1 S.2.1 dX5_scoreLine_100 rfl (lv_at hl 0 rfl) ?_
                refine w_ast S hW 3 0 rfl rfl rfl (z := b_) (by omega) dX5_scoreLine_101 (fun H locs hW => ?_)
                obtain ⟨σ8, e_σ8⟩ : ∃ z, z = (up σ72 9 ((2 + (12 * (scG t n Z))) + (σ72 9 (scG t n Z))) b_) := ⟨_, rfl⟩
                rw [← e_σ8] at hW
                have e8g : σ8 9 (scG t n Z) = Q.2.2 (scG t n Z) := by rw [e_σ8, up_nei (by omega)]; exact e72g
                refine lv_aload_n S.1 S.2.1 dX5_scoreLine_102 rfl (lv_at hl 3 rfl) ?_
                refine w_getr S hW in_X5 0 rfl rfl 9 (by decide) q1660 rfl rfl dX5_scoreLine_103 ?_
                refine lv_iload_n S.1 S.2.1 dX5_scoreLine_106 rfl (lv_at hl 2 rfl) ?_
                refine lv_dup2_11 S.1 S.2.1 dX5_scoreLine_107 rfl rfl ?_
                refine w_ald S hW 3 0 rfl rfl (by omega) dX5_scoreLine_108 ?_
                refine r_iconst S dX5_scoreLine_109 ?_
                refine r_iadd S dX5_scoreLine_110 ?_
                refine w_ast S hW 3 0 rfl rfl rfl (z := ((σ8 9 (scG t n Z)) + 1)) (by omega) dX5_scoreLine_111 (fun H locs hW => ?_)
                refine lv_goto (tgt := 34) S.1 S.2.1 dX5_scoreLine_112 rfl ?_
                exact ih_34 (scB t n (scG t n Z) Q) (up σ8 9 (scG t n Z) ((σ8 9 (scG t n Z)) + 1)) H _ _ (by unfold scB; first | (rw [if_neg cc]; rw [if_neg cc] at m72; exact m72) | (rw [if_pos cc]; rw [if_pos cc] at m72; rw [e8g, e_σ8, e72g, e_b_]; simp only [if_pos cc]; exact MP_u (MP_u m72))) (fun x x0 x1 => by unfold scB; first | (rw [if_neg cc]; exact hrs x x0 x1) | (rw [if_pos cc]; show 0 ≤ fu (fu Q.2.2 _ _) _ _ x ∧ fu (fu Q.2.2 _ _) _ _ x ≤ 12; by_cases hxg : x = (scG t n Z); (rw [hxg, fu_at]; omega); (rw [fu_ne hxg, fu_ne (by omega)]; exact hrs x x0 x1))) ((scL_y fq.2.2.2.2.1.2 fq.2.2.2.1 hc).symm.trans hit) (by first | exact w72 | (rw [e_σ8]; exact MSr_u (MSr_u w72))) (by have := scB_go (g := (scG t n Z)) Q ⟨⟨fq.2.2.2.1.1, fq.2.2.2.2.1.2⟩, hc⟩ fq.2.2.2.1.2; omega) hW (lv_sub hl [2, 3] rfl)
              ·
                exact absurd c_77 (by omega)
            ·
              exact absurd c_59 (by omega)
    exact cut_34 _ (scA t n Z) σ12 H _ _ (by unfold scA sWn; first | (rw [if_pos (dP_t.mpr ⟨by omega, c_27⟩)]; exact m31) | (rw [if_neg (fun z => absurd (dP_t.mp z) (fun z => by first | exact z.2 c_27 | omega))]; exact m12)) (by unfold scA sWn; split <;> exact hrd) (rfl) (by first | exact w31 | exact w12) (Nat.lt_succ_self _) hW (lv_sub hl [0, 1] rfl)
  ·
    refine lv_aload_n S.1 S.2.1 dX5_scoreLine_23 rfl (lv_at hl 1 rfl) ?_
    refine c_VP S hW (tX5_isBeat l G ad σ12 t n (((sNm t n 0 1 (sTk t n 19 19 Z))).1) (((sNm t n 0 1 (sTk t n 19 19 Z))).2.1) (m12.1)) (cw_X5_167 S.2.2.2.2 ⟨Nat.le_of_ble_eq_true rfl, Nat.le_of_ble_eq_true rfl⟩) eBlind_T (fun _ _ _ => trivial) (w_recv hW (q0 := 0) rfl rfl) rfl hl.1 (rest := []) rfl (Nat.le_of_ble_eq_true rfl) dX5_scoreLine_24 ⟨Nat.le_of_ble_eq_true rfl, Nat.le_of_ble_eq_true rfl⟩ (fun locs hW => ?_)
    refine r_ifne_p S (tgt := 34) dX5_scoreLine_27 rfl (fun c_27 => ?_) (fun c_27 => ?_)
    ·
      have cut_34 : ∀ (N_34 : Nat) (Q : PS) (σ1 : St) (H : Heap) (locs : List Loc) (ls : Array Slot), (MP σ1 t n Q) → (∀ x : Int, 0 ≤ x → x ≤ 1 → 0 ≤ Q.2.2 x ∧ Q.2.2 x ≤ 12) → (scL t n (scG t n Z) Q = scL t n (scG t n Z) (scA t n Z)) → (MSr σ σ1) → ((602 - Q.1).toNat) < N_34 → WD G shM ad (aM ad) s s.heap σ1 H locs → lv_has ls 4 [(1, .int (iI (scG t n Z))), (0, .ref (ad 0))] → W p l e (⟨7, 0, 0, 158⟩ : Room) s m ([.ref (ad 0)] : List Value).toArray below meth c H locs 0 0 (MQ below (qS G shM ad (aM ad) (rV (fun σ' => (MP σ' t n (scS t n Z)) ∧ (MSr σ σ')))) ([.ref (ad 0)] : List Value).toArray s 0 0 (aM ad)) (F0 m 34 ls []) := by
        intro N_34
        induction N_34 with
        | zero =>
          intro Q σ1 H locs ls hq hrs hit tq hμ_34 hW hl
          exact absurd hμ_34 (by omega)
        | succ N_34 ih_34 =>
          intro Q σ1 H locs ls hq hrs hit tq hμ_34 hW hl
          have fq := MP_at hq
          have hx := hrs (scG t n Z) hG.1 hG.2
          have r9g : σ1 9 (scG t n Z) = Q.2.2 (scG t n Z) := by rw [hq.2]
          refine lv_aload_n S.1 S.2.1 dX5_scoreLine_34 rfl (lv_at hl 1 rfl) ?_
          refine c_VP S hW (tX5_isBeat l G ad σ1 t n ((Q).1) ((Q).2.1) (hq.1)) (cw_X5_167 S.2.2.2.2 ⟨Nat.le_of_ble_eq_true rfl, Nat.le_of_ble_eq_true rfl⟩) eBlind_T (fun _ _ _ => trivial) (w_recv hW (q0 := 0) rfl rfl) rfl hl.1 (rest := []) rfl (Nat.le_of_ble_eq_true rfl) dX5_scoreLine_35 ⟨Nat.le_of_ble_eq_true rfl, Nat.le_of_ble_eq_true rfl⟩ (fun locs hW => ?_)
          refine r_ifeq_p S (tgt := 115) dX5_scoreLine_38 rfl (fun c_38 => ?_) (fun c_38 => ?_)
          ·
            have hc : ¬ sIs t n 10 13 Q := c_38
            refine lv_aload_n S.1 S.2.1 dX5_scoreLine_115 rfl (lv_at hl 1 rfl) ?_
            refine c_VSv S hW (tX5_endsLine l G ad σ1 t n ((Q).1) ((Q).2.1) (hq.1)) (cw_X5_177 S.2.2.2.2 ⟨Nat.le_of_ble_eq_true rfl, Nat.le_of_ble_eq_true rfl⟩) eBlind_T (fun _ _ _ => trivial) (w_recv hW (q0 := 0) rfl rfl) rfl hl.1 (rest := []) rfl (Nat.le_of_ble_eq_true rfl) dX5_scoreLine_116 ⟨Nat.le_of_ble_eq_true rfl, Nat.le_of_ble_eq_true rfl⟩ (fun σ116 H locs q116 hW => ?_)
            obtain ⟨q116_ms, q116_a, q116_sm⟩ := q116
            have m116 := MP_el hq q116_ms q116_sm
            have w116 := MSr_tr tq q116_a q116_sm
            exact e_vS S hr hlk hW ⟨rfl, ⟨(by unfold scS; rw [← hit, scL_n hc]; exact m116), (w116)⟩⟩ dX5_scoreLine_119
          ·
            have hc : sIs t n 10 13 Q := c_38
            refine lv_aload_n S.1 S.2.1 dX5_scoreLine_41 rfl (lv_at hl 1 rfl) ?_
            refine w_getr S hW in_X5 0 rfl rfl 9 (by decide) q1660 rfl rfl dX5_scoreLine_42 ?_
            refine lv_iload_n S.1 S.2.1 dX5_scoreLine_45 rfl (lv_at hl 0 rfl) ?_
            refine w_ald S hW 3 0 rfl rfl (by omega) dX5_scoreLine_46 ?_
            refine r_bipush S dX5_scoreLine_47 (by decide) ?_
            refine r_icmp_ge S (tgt := 56) dX5_scoreLine_49 rfl (by omega) (fun c_49 => ?_) (fun c_49 => ?_)
            ·
              have cc : ¬ (Q.2.2 (scG t n Z) < 12) := by rw [hq.2] at c_49; omega
              refine r_iconst S dX5_scoreLine_56 ?_
              refine lv_istore_n (lv' := [(2, .int (iI 0)), (1, .int (iI (scG t n Z))), (0, .ref (ad 0))]) S.1 S.2.1 dX5_scoreLine_57 rfl hl (by decide) rfl (fun ls hl => ?_)
              refine lv_iload_n S.1 S.2.1 dX5_scoreLine_58 rfl (lv_at hl 0 rfl) ?_
              refine r_if_ne S (tgt := 71) dX5_scoreLine_59 rfl (by omega) (fun c_59 => ?_) (fun c_59 => ?_)
              ·
                exact absurd c_59 (by omega)
              ·
                refine lv_aload_n S.1 S.2.1 dX5_scoreLine_62 rfl (lv_at hl 2 rfl) ?_
                refine r_iconst S dX5_scoreLine_63 ?_
                refine lv_aload_n S.1 S.2.1 dX5_scoreLine_64 rfl (lv_at hl 2 rfl) ?_
                refine w_geti S hW in_X5 0 rfl rfl 4 (by decide) q1655 rfl rfl dX5_scoreLine_65 ?_
                refine c_VSv S hW (tX5_also l G ad σ1 3 (σ1 4 0) ((Q).2.1) (hq.1.2.2.2.1) (hq.1.2.2.2.2) (by omega)) (cw_X5_149 S.2.2.2.2 ⟨Nat.le_of_ble_eq_true rfl, Nat.le_of_ble_eq_true rfl⟩) eBlind_T (fun _ _ _ => trivial) (w_recv hW (q0 := 0) rfl rfl) rfl hl.1 (rest := []) rfl (Nat.le_of_ble_eq_true rfl) dX5_scoreLine_68 ⟨Nat.le_of_ble_eq_true rfl, Nat.le_of_ble_eq_true rfl⟩ (fun σ68 H locs q68 hW => ?_)
                obtain ⟨q68_e, q68_a, q68_sm⟩ := q68
                have m68 := MP_also hq q68_e (by omega) (by omega) q68_a q68_sm
                rw [fq.2.2.1] at m68
                have w68 := MSr_a tq q68_a q68_sm
                refine lv_aload_n S.1 S.2.1 dX5_scoreLine_71 rfl (lv_at hl 2 rfl) ?_
                refine c_VSi S hW (tX5_beatTold l G ad σ68 t n ((if Q.2.2 (scG t n Z) < 12 then Q else sNo 3 (tkW t n Q.1) Q).1) ((if Q.2.2 (scG t n Z) < 12 then Q else sNo 3 (tkW t n Q.1) Q).2.1) (by first | (rw [if_pos cc]; exact hq.1) | (rw [if_neg cc]; exact m68.1))) (cw_X5_171 S.2.2.2.2 ⟨Nat.le_of_ble_eq_true rfl, Nat.le_of_ble_eq_true rfl⟩) eBlind_T (fun _ _ _ => trivial) (w_recv hW (q0 := 0) rfl rfl) rfl hl.1 (rest := []) rfl (Nat.le_of_ble_eq_true rfl) dX5_scoreLine_72 ⟨Nat.le_of_ble_eq_true rfl, Nat.le_of_ble_eq_true rfl⟩ (fun r72 σ72 H locs q72 hW => ?_)
                obtain ⟨rfl, q72_ms, q72_a, q72_sm⟩ := q72
                have m72 : MP σ72 t n (sTk t n 10 13 (if Q.2.2 (scG t n Z) < 12 then Q else sNo 3 (tkW t n Q.1) Q)) := by first | exact MP_tk (by rw [if_pos cc]; exact hq) q72_ms q72_sm | exact MP_tk (by rw [if_neg cc]; exact m68) q72_ms q72_sm
                have w72 : MSr σ σ72 := by first | exact MSr_tr tq q72_a q72_sm | exact MSr_tr w68 q72_a q72_sm
                have e72 : σ72 9 = Q.2.2 := by rw [m72.2]; first | rw [if_pos cc]; rfl | rw [if_neg cc]; rfl
                have e72g : σ72 9 (scG t n Z) = Q.2.2 (scG t n Z) := by rw [e72]
                have hv : -10 ≤ tkVl t n (if Q.2.2 (scG t n Z) < 12 then Q else sNo 3 (tkW t n Q.1) Q).1 (if Q.2.2 (scG t n Z) < 12 then Q else sNo 3 (tkW t n Q.1) Q).2.1 10 13 - 10 ∧ tkVl t n (if Q.2.2 (scG t n Z) < 12 then Q else sNo 3 (tkW t n Q.1) Q).1 (if Q.2.2 (scG t n Z) < 12 then Q else sNo 3 (tkW t n Q.1) Q).2.1 10 13 - 10 ≤ 3 := by have := tkVl_rng (t := t) (n := n) (p := (if Q.2.2 (scG t n Z) < 12 then Q else sNo 3 (tkW t n Q.1) Q).1) (e := (if Q.2.2 (scG t n Z) < 12 then Q else sNo 3 (tkW t n Q.1) Q).2.1) (lo := 10) (hi := 13) (by omega); omega
                refine r_name (fun b_ e_b_ => ?_)
                refine lv_istore_n (lv' := [(3, .int (iI b_)), (2, .int (iI 0)), (1, .int (iI (scG t n Z))), (0, .ref (ad 0))]) S.1 S.2.1 dX5_scoreLine_75 rfl hl (by decide) rfl (fun ls hl => ?_)
                refine lv_iload_n S.1 S.2.1 dX5_scoreLine_76 rfl (lv_at hl 1 rfl) ?_
                refine r_if_ne S (tgt := 83) dX5_scoreLine_77 rfl (by omega) (fun c_77 => ?_) (fun c_77 => ?_)
                ·
                  exact absurd c_77 (by omega)
                ·
                  refine lv_goto (tgt := 34) S.1 S.2.1 dX5_scoreLine_80 rfl ?_
                  exact ih_34 (scB t n (scG t n Z) Q) σ72 H _ _ (by unfold scB; first | (rw [if_neg cc]; rw [if_neg cc] at m72; exact m72) | (rw [if_pos cc]; rw [if_pos cc] at m72; rw [e8g, e_σ8, e72g, e_b_]; simp only [if_pos cc]; exact MP_u (MP_u m72))) (fun x x0 x1 => by unfold scB; first | (rw [if_neg cc]; exact hrs x x0 x1) | (rw [if_pos cc]; show 0 ≤ fu (fu Q.2.2 _ _) _ _ x ∧ fu (fu Q.2.2 _ _) _ _ x ≤ 12; by_cases hxg : x = (scG t n Z); (rw [hxg, fu_at]; omega); (rw [fu_ne hxg, fu_ne (by omega)]; exact hrs x x0 x1))) ((scL_y fq.2.2.2.2.1.2 fq.2.2.2.1 hc).symm.trans hit) (by first | exact w72 | (rw [e_σ8]; exact MSr_u (MSr_u w72))) (by have := scB_go (g := (scG t n Z)) Q ⟨⟨fq.2.2.2.1.1, fq.2.2.2.2.1.2⟩, hc⟩ fq.2.2.2.1.2; omega) hW (lv_sub hl [2, 3] rfl)
            ·
              have cc : Q.2.2 (scG t n Z) < 12 := by rw [hq.2] at c_49; omega
              refine r_iconst S dX5_scoreLine_52 ?_
              refine lv_goto (tgt := 57) S.1 S.2.1 dX5_scoreLine_53 rfl ?_
              refine lv_istore_n (lv' := [(2, .int (iI 1)), (1, .int (iI (scG t n Z))), (0, .ref (ad 0))]) S.1 S.2.1 dX5_scoreLine_57 rfl hl (by decide) rfl (fun ls hl => ?_)
              refine lv_iload_n S.1 S.2.1 dX5_scoreLine_58 rfl (lv_at hl 0 rfl) ?_
              refine r_if_ne S (tgt := 71) dX5_scoreLine_59 rfl (by omega) (fun c_59 => ?_) (fun c_59 => ?_)
              ·
                refine lv_aload_n S.1 S.2.1 dX5_scoreLine_71 rfl (lv_at hl 2 rfl) ?_
                refine c_VSi S hW (tX5_beatTold l G ad σ1 t n ((if Q.2.2 (scG t n Z) < 12 then Q else sNo 3 (tkW t n Q.1) Q).1) ((if Q.2.2 (scG t n Z) < 12 then Q else sNo 3 (tkW t n Q.1) Q).2.1) (by first | (rw [if_pos cc]; exact hq.1) | (rw [if_neg cc]; exact m68.1))) (cw_X5_171 S.2.2.2.2 ⟨Nat.le_of_ble_eq_true rfl, Nat.le_of_ble_eq_true rfl⟩) eBlind_T (fun _ _ _ => trivial) (w_recv hW (q0 := 0) rfl rfl) rfl hl.1 (rest := []) rfl (Nat.le_of_ble_eq_true rfl) dX5_scoreLine_72 ⟨Nat.le_of_ble_eq_true rfl, Nat.le_of_ble_eq_true rfl⟩ (fun r72 σ72 H locs q72 hW => ?_)
                obtain ⟨rfl, q72_ms, q72_a, q72_sm⟩ := q72
                have m72 : MP σ72 t n (sTk t n 10 13 (if Q.2.2 (scG t n Z) < 12 then Q else sNo 3 (tkW t n Q.1) Q)) := by first | exact MP_tk (by rw [if_pos cc]; exact hq) q72_ms q72_sm | exact MP_tk (by rw [if_neg cc]; exact m68) q72_ms q72_sm
                have w72 : MSr σ σ72 := by first | exact MSr_tr tq q72_a q72_sm | exact MSr_tr w68 q72_a q72_sm
                have e72 : σ72 9 = Q.2.2 := by rw [m72.2]; first | rw [if_pos cc]; rfl | rw [if_neg cc]; rfl
                have e72g : σ72 9 (scG t n Z) = Q.2.2 (scG t n Z) := by rw [e72]
                have hv : -10 ≤ tkVl t n (if Q.2.2 (scG t n Z) < 12 then Q else sNo 3 (tkW t n Q.1) Q).1 (if Q.2.2 (scG t n Z) < 12 then Q else sNo 3 (tkW t n Q.1) Q).2.1 10 13 - 10 ∧ tkVl t n (if Q.2.2 (scG t n Z) < 12 then Q else sNo 3 (tkW t n Q.1) Q).1 (if Q.2.2 (scG t n Z) < 12 then Q else sNo 3 (tkW t n Q.1) Q).2.1 10 13 - 10 ≤ 3 := by have := tkVl_rng (t := t) (n := n) (p := (if Q.2.2 (scG t n Z) < 12 then Q else sNo 3 (tkW t n Q.1) Q).1) (e := (if Q.2.2 (scG t n Z) < 12 then Q else sNo 3 (tkW t n Q.1) Q).2.1) (lo := 10) (hi := 13) (by omega); omega
                refine r_name (fun b_ e_b_ => ?_)
                refine lv_istore_n (lv' := [(3, .int (iI b_)), (2, .int (iI 1)), (1, .int (iI (scG t n Z))), (0, .ref (ad 0))]) S.1 S.2.1 dX5_scoreLine_75 rfl hl (by decide) rfl (fun ls hl => ?_)
                refine lv_iload_n S.1 S.2.1 dX5_scoreLine_76 rfl (lv_at hl 1 rfl) ?_
                refine r_if_ne S (tgt := 83) dX5_scoreLine_77 rfl (by omega) (fun c_77 => ?_) (fun c_77 => ?_)
                ·
                  refine lv_aload_n S.1 S.2.1 dX5_scoreLine_83 rfl (lv_at hl 3 rfl) ?_
                  refine w_getr S hW in_X5 0 rfl rfl 9 (by decide) q1660 rfl rfl dX5_scoreLine_84 ?_
                  refine r_iconst S dX5_scoreLine_87 ?_
                  refine r_bipush S dX5_scoreLine_88 (by decide) ?_
                  refine lv_iload_n S.1 S.2.1 dX5_scoreLine_90 rfl (lv_at hl 2 rfl) ?_
                  refine r_imul S dX5_scoreLine_91 ?_
                  refine r_iadd S dX5_scoreLine_92 ?_
                  refine lv_aload_n S.1 S.2.1 dX5_scoreLine_93 rfl (lv_at hl 3 rfl) ?_
                  refine w_getr S hW in_X5 0 rfl rfl 9 (by decide) q1660 rfl rfl dX5_scoreLine_94 ?_
                  refine lv_iload_n S.1 S.2.1 dX5_scoreLine_97 rfl (lv_at hl 2 rfl) ?_
                  refine w_ald S hW 3 0 rfl rfl (by omega) dX5_scoreLine_98 ?_
                  refine r_iadd S dX5_scoreLine_99 ?_
                  refine lv_iload_n S.1 S.2.1 dX5_scoreLine_100 rfl (lv_at hl 0 rfl) ?_
                  refine w_ast S hW 3 0 rfl rfl rfl (z := b_) (by omega) dX5_scoreLine_101 (fun H locs hW => ?_)
                  obtain ⟨σ8, e_σ8⟩ : ∃ z, z = (up σ72 9 ((2 + (12 * (scG t n Z))) + (σ72 9 (scG t n Z))) b_) := ⟨_, rfl⟩
                  rw [← e_σ8] at hW
                  have e8g : σ8 9 (scG t n Z) = Q.2.2 (scG t n Z) := by rw [e_σ8, up_nei (by omega)]; exact e72g
                  refine lv_aload_n S.1 S.2.1 dX5_scoreLine_102 rfl (lv_at hl 3 rfl) ?_
                  refine w_getr S hW in_X5 0 rfl rfl 9 (by decide) q1660 rfl rfl dX5_scoreLine_103 ?_
                  refine lv_iload_n S.1 S.2.1 dX5_scoreLine_106 rfl (lv_at hl 2 rfl) ?_
                  refine lv_dup2_11 S.1 S.2.1 dX5_scoreLine_107 rfl rfl ?_
                  refine w_ald S hW 3 0 rfl rfl (by omega) dX5_scoreLine_108 ?_
                  refine r_iconst S dX5_scoreLine_109 ?_
                  refine r_iadd S dX5_scoreLine_110 ?_
                  refine w_ast S hW 3 0 rfl rfl rfl (z := ((σ8 9 (scG t n Z)) + 1)) (by omega) dX5_scoreLine_111 (fun H locs hW => ?_)
                  refine lv_goto (tgt := 34) S.1 S.2.1 dX5_scoreLine_112 rfl ?_
                  exact ih_34 (scB t n (scG t n Z) Q) (up σ8 9 (scG t n Z) ((σ8 9 (scG t n Z)) + 1)) H _ _ (by unfold scB; first | (rw [if_neg cc]; rw [if_neg cc] at m72; exact m72) | (rw [if_pos cc]; rw [if_pos cc] at m72; rw [e8g, e_σ8, e72g, e_b_]; simp only [if_pos cc]; exact MP_u (MP_u m72))) (fun x x0 x1 => by unfold scB; first | (rw [if_neg cc]; exact hrs x x0 x1) | (rw [if_pos cc]; show 0 ≤ fu (fu Q.2.2 _ _) _ _ x ∧ fu (fu Q.2.2 _ _) _ _ x ≤ 12; by_cases hxg : x = (scG t n Z); (rw [hxg, fu_at]; omega); (rw [fu_ne hxg, fu_ne (by omega)]; exact hrs x x0 x1))) ((scL_y fq.2.2.2.2.1.2 fq.2.2.2.1 hc).symm.trans hit) (by first | exact w72 | (rw [e_σ8]; exact MSr_u (MSr_u w72))) (by have := scB_go (g := (scG t n Z)) Q ⟨⟨fq.2.2.2.1.1, fq.2.2.2.2.1.2⟩, hc⟩ fq.2.2.2.1.2; omega) hW (lv_sub hl [2, 3] rfl)
                ·
                  exact absurd c_77 (by omega)
              ·
                exact absurd c_59 (by omega)
      exact cut_34 _ (scA t n Z) σ12 H _ _ (by unfold scA sWn; first | (rw [if_pos (dP_t.mpr ⟨by omega, c_27⟩)]; exact m31) | (rw [if_neg (fun z => absurd (dP_t.mp z) (fun z => by first | exact z.2 c_27 | omega))]; exact m12)) (by unfold scA sWn; split <;> exact hrd) (rfl) (by first | exact w31 | exact w12) (Nat.lt_succ_self _) hW (lv_sub hl [0, 1] rfl)
    ·
      refine lv_aload_n S.1 S.2.1 dX5_scoreLine_30 rfl (lv_at hl 1 rfl) ?_
      refine c_VSv S hW (tX5_ends l G ad σ12 (((sNm t n 0 1 (sTk t n 19 19 Z))).2.1) (m12.1.2.2.2.1) (m12.1.2.2.2.2)) (cw_X5_142 S.2.2.2.2 ⟨Nat.le_of_ble_eq_true rfl, Nat.le_of_ble_eq_true rfl⟩) eBlind_T (fun _ _ _ => trivial) (w_recv hW (q0 := 0) rfl rfl) rfl hl.1 (rest := []) rfl (Nat.le_of_ble_eq_true rfl) dX5_scoreLine_31 ⟨Nat.le_of_ble_eq_true rfl, Nat.le_of_ble_eq_true rfl⟩ (fun σ31 H locs q31 hW => ?_)
      obtain ⟨q31_e, q31_a, q31_sm⟩ := q31
      have m31 := MP_ends m12 q31_e q31_a q31_sm
      have w31 := MSr_e w12 q31_a q31_sm
      have cut_34 : ∀ (N_34 : Nat) (Q : PS) (σ1 : St) (H : Heap) (locs : List Loc) (ls : Array Slot), (MP σ1 t n Q) → (∀ x : Int, 0 ≤ x → x ≤ 1 → 0 ≤ Q.2.2 x ∧ Q.2.2 x ≤ 12) → (scL t n (scG t n Z) Q = scL t n (scG t n Z) (scA t n Z)) → (MSr σ σ1) → ((602 - Q.1).toNat) < N_34 → WD G shM ad (aM ad) s s.heap σ1 H locs → lv_has ls 4 [(1, .int (iI (scG t n Z))), (0, .ref (ad 0))] → W p l e (⟨7, 0, 0, 158⟩ : Room) s m ([.ref (ad 0)] : List Value).toArray below meth c H locs 0 0 (MQ below (qS G shM ad (aM ad) (rV (fun σ' => (MP σ' t n (scS t n Z)) ∧ (MSr σ σ')))) ([.ref (ad 0)] : List Value).toArray s 0 0 (aM ad)) (F0 m 34 ls []) := by
        intro N_34
        induction N_34 with
        | zero =>
          intro Q σ1 H locs ls hq hrs hit tq hμ_34 hW hl
          exact absurd hμ_34 (by omega)
        | succ N_34 ih_34 =>
          intro Q σ1 H locs ls hq hrs hit tq hμ_34 hW hl
          have fq := MP_at hq
          have hx := hrs (scG t n Z) hG.1 hG.2
          have r9g : σ1 9 (scG t n Z) = Q.2.2 (scG t n Z) := by rw [hq.2]
          refine lv_aload_n S.1 S.2.1 dX5_scoreLine_34 rfl (lv_at hl 1 rfl) ?_
          refine c_VP S hW (tX5_isBeat l G ad σ1 t n ((Q).1) ((Q).2.1) (hq.1)) (cw_X5_167 S.2.2.2.2 ⟨Nat.le_of_ble_eq_true rfl, Nat.le_of_ble_eq_true rfl⟩) eBlind_T (fun _ _ _ => trivial) (w_recv hW (q0 := 0) rfl rfl) rfl hl.1 (rest := []) rfl (Nat.le_of_ble_eq_true rfl) dX5_scoreLine_35 ⟨Nat.le_of_ble_eq_true rfl, Nat.le_of_ble_eq_true rfl⟩ (fun locs hW => ?_)
          refine r_ifeq_p S (tgt := 115) dX5_scoreLine_38 rfl (fun c_38 => ?_) (fun c_38 => ?_)
          ·
            have hc : ¬ sIs t n 10 13 Q := c_38
            refine lv_aload_n S.1 S.2.1 dX5_scoreLine_115 rfl (lv_at hl 1 rfl) ?_
            refine c_VSv S hW (tX5_endsLine l G ad σ1 t n ((Q).1) ((Q).2.1) (hq.1)) (cw_X5_177 S.2.2.2.2 ⟨Nat.le_of_ble_eq_true rfl, Nat.le_of_ble_eq_true rfl⟩) eBlind_T (fun _ _ _ => trivial) (w_recv hW (q0 := 0) rfl rfl) rfl hl.1 (rest := []) rfl (Nat.le_of_ble_eq_true rfl) dX5_scoreLine_116 ⟨Nat.le_of_ble_eq_true rfl, Nat.le_of_ble_eq_true rfl⟩ (fun σ116 H locs q116 hW => ?_)
            obtain ⟨q116_ms, q116_a, q116_sm⟩ := q116
            have m116 := MP_el hq q116_ms q116_sm
            have w116 := MSr_tr tq q116_a q116_sm
            exact e_vS S hr hlk hW ⟨rfl, ⟨(by unfold scS; rw [← hit, scL_n hc]; exact m116), (w116)⟩⟩ dX5_scoreLine_119
          ·
            have hc : sIs t n 10 13 Q := c_38
            refine lv_aload_n S.1 S.2.1 dX5_scoreLine_41 rfl (lv_at hl 1 rfl) ?_
            refine w_getr S hW in_X5 0 rfl rfl 9 (by decide) q1660 rfl rfl dX5_scoreLine_42 ?_
            refine lv_iload_n S.1 S.2.1 dX5_scoreLine_45 rfl (lv_at hl 0 rfl) ?_
            refine w_ald S hW 3 0 rfl rfl (by omega) dX5_scoreLine_46 ?_
            refine r_bipush S dX5_scoreLine_47 (by decide) ?_
            refine r_icmp_ge S (tgt := 56) dX5_scoreLine_49 rfl (by omega) (fun c_49 => ?_) (fun c_49 => ?_)
            ·
              have cc : ¬ (Q.2.2 (scG t n Z) < 12) := by rw [hq.2] at c_49; omega
              refine r_iconst S dX5_scoreLine_56 ?_
              refine lv_istore_n (lv' := [(2, .int (iI 0)), (1, .int (iI (scG t n Z))), (0, .ref (ad 0))]) S.1 S.2.1 dX5_scoreLine_57 rfl hl (by decide) rfl (fun ls hl => ?_)
              refine lv_iload_n S.1 S.2.1 dX5_scoreLine_58 rfl (lv_at hl 0 rfl) ?_
              refine r_if_ne S (tgt := 71) dX5_scoreLine_59 rfl (by omega) (fun c_59 => ?_) (fun c_59 => ?_)
              ·
                exact absurd c_59 (by omega)
              ·
                refine lv_aload_n S.1 S.2.1 dX5_scoreLine_62 rfl (lv_at hl 2 rfl) ?_
                refine r_iconst S dX5_scoreLine_63 ?_
                refine lv_aload_n S.1 S.2.1 dX5_scoreLine_64 rfl (lv_at hl 2 rfl) ?_
                refine w_geti S hW in_X5 0 rfl rfl 4 (by decide) q1655 rfl rfl dX5_scoreLine_65 ?_
                refine c_VSv S hW (tX5_also l G ad σ1 3 (σ1 4 0) ((Q).2.1) (hq.1.2.2.2.1) (hq.1.2.2.2.2) (by omega)) (cw_X5_149 S.2.2.2.2 ⟨Nat.le_of_ble_eq_true rfl, Nat.le_of_ble_eq_true rfl⟩) eBlind_T (fun _ _ _ => trivial) (w_recv hW (q0 := 0) rfl rfl) rfl hl.1 (rest := []) rfl (Nat.le_of_ble_eq_true rfl) dX5_scoreLine_68 ⟨Nat.le_of_ble_eq_true rfl, Nat.le_of_ble_eq_true rfl⟩ (fun σ68 H locs q68 hW => ?_)
                obtain ⟨q68_e, q68_a, q68_sm⟩ := q68
                have m68 := MP_also hq q68_e (by omega) (by omega) q68_a q68_sm
                rw [fq.2.2.1] at m68
                have w68 := MSr_a tq q68_a q68_sm
                refine lv_aload_n S.1 S.2.1 dX5_scoreLine_71 rfl (lv_at hl 2 rfl) ?_
                refine c_VSi S hW (tX5_beatTold l G ad σ68 t n ((if Q.2.2 (scG t n Z) < 12 then Q else sNo 3 (tkW t n Q.1) Q).1) ((if Q.2.2 (scG t n Z) < 12 then Q else sNo 3 (tkW t n Q.1) Q).2.1) (by first | (rw [if_pos cc]; exact hq.1) | (rw [if_neg cc]; exact m68.1))) (cw_X5_171 S.2.2.2.2 ⟨Nat.le_of_ble_eq_true rfl, Nat.le_of_ble_eq_true rfl⟩) eBlind_T (fun _ _ _ => trivial) (w_recv hW (q0 := 0) rfl rfl) rfl hl.1 (rest := []) rfl (Nat.le_of_ble_eq_true rfl) dX5_scoreLine_72 ⟨Nat.le_of_ble_eq_true rfl, Nat.le_of_ble_eq_true rfl⟩ (fun r72 σ72 H locs q72 hW => ?_)
                obtain ⟨rfl, q72_ms, q72_a, q72_sm⟩ := q72
                have m72 : MP σ72 t n (sTk t n 10 13 (if Q.2.2 (scG t n Z) < 12 then Q else sNo 3 (tkW t n Q.1) Q)) := by first | exact MP_tk (by rw [if_pos cc]; exact hq) q72_ms q72_sm | exact MP_tk (by rw [if_neg cc]; exact m68) q72_ms q72_sm
                have w72 : MSr σ σ72 := by first | exact MSr_tr tq q72_a q72_sm | exact MSr_tr w68 q72_a q72_sm
                have e72 : σ72 9 = Q.2.2 := by rw [m72.2]; first | rw [if_pos cc]; rfl | rw [if_neg cc]; rfl
                have e72g : σ72 9 (scG t n Z) = Q.2.2 (scG t n Z) := by rw [e72]
                have hv : -10 ≤ tkVl t n (if Q.2.2 (scG t n Z) < 12 then Q else sNo 3 (tkW t n Q.1) Q).1 (if Q.2.2 (scG t n Z) < 12 then Q else sNo 3 (tkW t n Q.1) Q).2.1 10 13 - 10 ∧ tkVl t n (if Q.2.2 (scG t n Z) < 12 then Q else sNo 3 (tkW t n Q.1) Q).1 (if Q.2.2 (scG t n Z) < 12 then Q else sNo 3 (tkW t n Q.1) Q).2.1 10 13 - 10 ≤ 3 := by have := tkVl_rng (t := t) (n := n) (p := (if Q.2.2 (scG t n Z) < 12 then Q else sNo 3 (tkW t n Q.1) Q).1) (e := (if Q.2.2 (scG t n Z) < 12 then Q else sNo 3 (tkW t n Q.1) Q).2.1) (lo := 10) (hi := 13) (by omega); omega
                refine r_name (fun b_ e_b_ => ?_)
                refine lv_istore_n (lv' := [(3, .int (iI b_)), (2, .int (iI 0)), (1, .int (iI (scG t n Z))), (0, .ref (ad 0))]) S.1 S.2.1 dX5_scoreLine_75 rfl hl (by decide) rfl (fun ls hl => ?_)
                refine lv_iload_n S.1 S.2.1 dX5_scoreLine_76 rfl (lv_at hl 1 rfl) ?_
                refine r_if_ne S (tgt := 83) dX5_scoreLine_77 rfl (by omega) (fun c_77 => ?_) (fun c_77 => ?_)
                ·
                  exact absurd c_77 (by omega)
                ·
                  refine lv_goto (tgt := 34) S.1 S.2.1 dX5_scoreLine_80 rfl ?_
                  exact ih_34 (scB t n (scG t n Z) Q) σ72 H _ _ (by unfold scB; first | (rw [if_neg cc]; rw [if_neg cc] at m72; exact m72) | (rw [if_pos cc]; rw [if_pos cc] at m72; rw [e8g, e_σ8, e72g, e_b_]; simp only [if_pos cc]; exact MP_u (MP_u m72))) (fun x x0 x1 => by unfold scB; first | (rw [if_neg cc]; exact hrs x x0 x1) | (rw [if_pos cc]; show 0 ≤ fu (fu Q.2.2 _ _) _ _ x ∧ fu (fu Q.2.2 _ _) _ _ x ≤ 12; by_cases hxg : x = (scG t n Z); (rw [hxg, fu_at]; omega); (rw [fu_ne hxg, fu_ne (by omega)]; exact hrs x x0 x1))) ((scL_y fq.2.2.2.2.1.2 fq.2.2.2.1 hc).symm.trans hit) (by first | exact w72 | (rw [e_σ8]; exact MSr_u (MSr_u w72))) (by have := scB_go (g := (scG t n Z)) Q ⟨⟨fq.2.2.2.1.1, fq.2.2.2.2.1.2⟩, hc⟩ fq.2.2.2.1.2; omega) hW (lv_sub hl [2, 3] rfl)
            ·
              have cc : Q.2.2 (scG t n Z) < 12 := by rw [hq.2] at c_49; omega
              refine r_iconst S dX5_scoreLine_52 ?_
              refine lv_goto (tgt := 57) S.1 S.2.1 dX5_scoreLine_53 rfl ?_
              refine lv_istore_n (lv' := [(2, .int (iI 1)), (1, .int (iI (scG t n Z))), (0, .ref (ad 0))]) S.1 S.2.1 dX5_scoreLine_57 rfl hl (by decide) rfl (fun ls hl => ?_)
              refine lv_iload_n S.1 S.2.1 dX5_scoreLine_58 rfl (lv_at hl 0 rfl) ?_
              refine r_if_ne S (tgt := 71) dX5_scoreLine_59 rfl (by omega) (fun c_59 => ?_) (fun c_59 => ?_)
              ·
                refine lv_aload_n S.1 S.2.1 dX5_scoreLine_71 rfl (lv_at hl 2 rfl) ?_
                refine c_VSi S hW (tX5_beatTold l G ad σ1 t n ((if Q.2.2 (scG t n Z) < 12 then Q else sNo 3 (tkW t n Q.1) Q).1) ((if Q.2.2 (scG t n Z) < 12 then Q else sNo 3 (tkW t n Q.1) Q).2.1) (by first | (rw [if_pos cc]; exact hq.1) | (rw [if_neg cc]; exact m68.1))) (cw_X5_171 S.2.2.2.2 ⟨Nat.le_of_ble_eq_true rfl, Nat.le_of_ble_eq_true rfl⟩) eBlind_T (fun _ _ _ => trivial) (w_recv hW (q0 := 0) rfl rfl) rfl hl.1 (rest := []) rfl (Nat.le_of_ble_eq_true rfl) dX5_scoreLine_72 ⟨Nat.le_of_ble_eq_true rfl, Nat.le_of_ble_eq_true rfl⟩ (fun r72 σ72 H locs q72 hW => ?_)
                obtain ⟨rfl, q72_ms, q72_a, q72_sm⟩ := q72
                have m72 : MP σ72 t n (sTk t n 10 13 (if Q.2.2 (scG t n Z) < 12 then Q else sNo 3 (tkW t n Q.1) Q)) := by first | exact MP_tk (by rw [if_pos cc]; exact hq) q72_ms q72_sm | exact MP_tk (by rw [if_neg cc]; exact m68) q72_ms q72_sm
                have w72 : MSr σ σ72 := by first | exact MSr_tr tq q72_a q72_sm | exact MSr_tr w68 q72_a q72_sm
                have e72 : σ72 9 = Q.2.2 := by rw [m72.2]; first | rw [if_pos cc]; rfl | rw [if_neg cc]; rfl
                have e72g : σ72 9 (scG t n Z) = Q.2.2 (scG t n Z) := by rw [e72]
                have hv : -10 ≤ tkVl t n (if Q.2.2 (scG t n Z) < 12 then Q else sNo 3 (tkW t n Q.1) Q).1 (if Q.2.2 (scG t n Z) < 12 then Q else sNo 3 (tkW t n Q.1) Q).2.1 10 13 - 10 ∧ tkVl t n (if Q.2.2 (scG t n Z) < 12 then Q else sNo 3 (tkW t n Q.1) Q).1 (if Q.2.2 (scG t n Z) < 12 then Q else sNo 3 (tkW t n Q.1) Q).2.1 10 13 - 10 ≤ 3 := by have := tkVl_rng (t := t) (n := n) (p := (if Q.2.2 (scG t n Z) < 12 then Q else sNo 3 (tkW t n Q.1) Q).1) (e := (if Q.2.2 (scG t n Z) < 12 then Q else sNo 3 (tkW t n Q.1) Q).2.1) (lo := 10) (hi := 13) (by omega); omega
                refine r_name (fun b_ e_b_ => ?_)
                refine lv_istore_n (lv' := [(3, .int (iI b_)), (2, .int (iI 1)), (1, .int (iI (scG t n Z))), (0, .ref (ad 0))]) S.1 S.2.1 dX5_scoreLine_75 rfl hl (by decide) rfl (fun ls hl => ?_)
                refine lv_iload_n S.1 S.2.1 dX5_scoreLine_76 rfl (lv_at hl 1 rfl) ?_
                refine r_if_ne S (tgt := 83) dX5_scoreLine_77 rfl (by omega) (fun c_77 => ?_) (fun c_77 => ?_)
                ·
                  refine lv_aload_n S.1 S.2.1 dX5_scoreLine_83 rfl (lv_at hl 3 rfl) ?_
                  refine w_getr S hW in_X5 0 rfl rfl 9 (by decide) q1660 rfl rfl dX5_scoreLine_84 ?_
                  refine r_iconst S dX5_scoreLine_87 ?_
                  refine r_bipush S dX5_scoreLine_88 (by decide) ?_
                  refine lv_iload_n S.1 S.2.1 dX5_scoreLine_90 rfl (lv_at hl 2 rfl) ?_
                  refine r_imul S dX5_scoreLine_91 ?_
                  refine r_iadd S dX5_scoreLine_92 ?_
                  refine lv_aload_n S.1 S.2.1 dX5_scoreLine_93 rfl (lv_at hl 3 rfl) ?_
                  refine w_getr S hW in_X5 0 rfl rfl 9 (by decide) q1660 rfl rfl dX5_scoreLine_94 ?_
                  refine lv_iload_n S.1 S.2.1 dX5_scoreLine_97 rfl (lv_at hl 2 rfl) ?_
                  refine w_ald S hW 3 0 rfl rfl (by omega) dX5_scoreLine_98 ?_
                  refine r_iadd S dX5_scoreLine_99 ?_
                  refine lv_iload_n S.1 S.2.1 dX5_scoreLine_100 rfl (lv_at hl 0 rfl) ?_
                  refine w_ast S hW 3 0 rfl rfl rfl (z := b_) (by omega) dX5_scoreLine_101 (fun H locs hW => ?_)
                  obtain ⟨σ8, e_σ8⟩ : ∃ z, z = (up σ72 9 ((2 + (12 * (scG t n Z))) + (σ72 9 (scG t n Z))) b_) := ⟨_, rfl⟩
                  rw [← e_σ8] at hW
                  have e8g : σ8 9 (scG t n Z) = Q.2.2 (scG t n Z) := by rw [e_σ8, up_nei (by omega)]; exact e72g
                  refine lv_aload_n S.1 S.2.1 dX5_scoreLine_102 rfl (lv_at hl 3 rfl) ?_
                  refine w_getr S hW in_X5 0 rfl rfl 9 (by decide) q1660 rfl rfl dX5_scoreLine_103 ?_
                  refine lv_iload_n S.1 S.2.1 dX5_scoreLine_106 rfl (lv_at hl 2 rfl) ?_
                  refine lv_dup2_11 S.1 S.2.1 dX5_scoreLine_107 rfl rfl ?_
                  refine w_ald S hW 3 0 rfl rfl (by omega) dX5_scoreLine_108 ?_
                  refine r_iconst S dX5_scoreLine_109 ?_
                  refine r_iadd S dX5_scoreLine_110 ?_
                  refine w_ast S hW 3 0 rfl rfl rfl (z := ((σ8 9 (scG t n Z)) + 1)) (by omega) dX5_scoreLine_111 (fun H locs hW => ?_)
                  refine lv_goto (tgt := 34) S.1 S.2.1 dX5_scoreLine_112 rfl ?_
                  exact ih_34 (scB t n (scG t n Z) Q) (up σ8 9 (scG t n Z) ((σ8 9 (scG t n Z)) + 1)) H _ _ (by unfold scB; first | (rw [if_neg cc]; rw [if_neg cc] at m72; exact m72) | (rw [if_pos cc]; rw [if_pos cc] at m72; rw [e8g, e_σ8, e72g, e_b_]; simp only [if_pos cc]; exact MP_u (MP_u m72))) (fun x x0 x1 => by unfold scB; first | (rw [if_neg cc]; exact hrs x x0 x1) | (rw [if_pos cc]; show 0 ≤ fu (fu Q.2.2 _ _) _ _ x ∧ fu (fu Q.2.2 _ _) _ _ x ≤ 12; by_cases hxg : x = (scG t n Z); (rw [hxg, fu_at]; omega); (rw [fu_ne hxg, fu_ne (by omega)]; exact hrs x x0 x1))) ((scL_y fq.2.2.2.2.1.2 fq.2.2.2.1 hc).symm.trans hit) (by first | exact w72 | (rw [e_σ8]; exact MSr_u (MSr_u w72))) (by have := scB_go (g := (scG t n Z)) Q ⟨⟨fq.2.2.2.1.1, fq.2.2.2.2.1.2⟩, hc⟩ fq.2.2.2.1.2; omega) hW (lv_sub hl [2, 3] rfl)
                ·
                  exact absurd c_77 (by omega)
              ·
                exact absurd c_59 (by omega)
      exact cut_34 _ (scA t n Z) σ31 H _ _ (by unfold scA sWn; first | (rw [if_pos (dP_t.mpr ⟨by omega, c_27⟩)]; exact m31) | (rw [if_neg (fun z => absurd (dP_t.mp z) (fun z => by first | exact z.2 c_27 | omega))]; exact m12)) (by unfold scA sWn; split <;> exact hrd) (rfl) (by first | exact w31 | exact w12) (Nat.lt_succ_self _) hW (lv_sub hl [0, 1] rfl)
