theorem hd_X5_orderLine : yX5_orderLine.cls = RX5 ∧ yX5_orderLine.cls ≠ "java/lang/invoke/MethodHandle" ∧ yX5_orderLine.cls ≠ "java/lang/invoke/VarHandle" ∧ (parseMethodDescriptor yX5_orderLine.desc).map (fun d => d.parameters.length) = some 0 := by decide +kernel
theorem cw_X5_174 {R : Room} {s : State} {args : Array Value} (ht : ∀ w ∈ lw_all, w.before args s = true) (hR : 7 + 1 ≤ R.frames ∧ 8 + (9 + 11) + 158 ≤ R.locals) : CallW R s args "OneDrumModel" RX5 174 yX5_orderLine cX5_orderLine 9 none (ws_ yX5_orderLine cX5_orderLine 9 none) ⟨7, 0, 0, 158⟩ 0 0 0 := cwV 0 ht (lw_V q1822 q1824 qs55 q126 q1825) rfl rfl rfl hd_X5_orderLine hR
set_option maxHeartbeats 4000000 in
theorem tX5_warLine (l : Launch) (G : GG) (ad : Nat → Nat) (σ : St) (t : Int → Int) (n : Int) (Z : PS) (hm : MP σ t n Z) (hrd : ∀ x : Int, 0 ≤ x → x ≤ 1 → 0 ≤ Z.2.2 (15 + x) ∧ Z.2.2 (15 + x) ≤ 6) : Met l yX5_warLine (ws_ yX5_warLine cX5_warLine 4 none) ⟨8, 0, 0, 186⟩ (wPre G shM ad σ (fun _ => True) [.ref (ad 0)]) (qS G shM ad (aM ad) (rV (fun σ' => (MP σ' t n (waS t n Z)) ∧ (MSr σ σ')))) 0 0 (aM ad) := by
  refine wStart (by decide) (Nat.le_of_ble_eq_true rfl) (fun k hk => ⟨k, hk, rfl⟩) (fun p e s m below meth c S hr hlk _ _ ls hW hl => ?_)
  have hl : lv_has ls 4 [(0, .ref (ad 0))] := hl
  have fz := MP_at hm
  have fz5 := MP_5 hm
  have cut_33 : ∀ (H : Heap) (locs : List Loc) (ls : Array Slot), (¬ sIs t n 9 9 Z) → WD G shM ad (aM ad) s s.heap σ H locs → lv_has ls 4 [(0, .ref (ad 0))] → W p l e (⟨8, 0, 0, 186⟩ : Room) s m ([.ref (ad 0)] : List Value).toArray below meth c H locs 0 0 (MQ below (qS G shM ad (aM ad) (rV (fun σ' => (MP σ' t n (waS t n Z)) ∧ (MSr σ σ')))) ([.ref (ad 0)] : List Value).toArray s 0 0 (aM ad)) (F0 m 33 ls []) := by
    intro H locs ls hno hW hl
    refine lv_aload_n S.1 S.2.1 dX5_warLine_33 rfl (lv_at hl 0 rfl) ?_
    refine r_iconst S dX5_warLine_34 ?_
    refine r_bipush S dX5_warLine_35 (by decide) ?_
    refine c_VSi S hW (tX5_takes l G ad σ 1 8 t n ((Z).1) ((Z).2.1) (hm.1) (by omega)) (cw_X5_156 S.2.2.2.2 ⟨Nat.le_of_ble_eq_true rfl, Nat.le_of_ble_eq_true rfl⟩) eBlind_T (fun _ _ _ => trivial) (w_recv hW (q0 := 0) rfl rfl) rfl hl.1 (rest := []) rfl (Nat.le_of_ble_eq_true rfl) dX5_warLine_37 ⟨Nat.le_of_ble_eq_true rfl, Nat.le_of_ble_eq_true rfl⟩ (fun r37 σ37 H locs q37 hW => ?_)
    obtain ⟨rfl, q37_ms, q37_a, q37_sm⟩ := q37
    have m37 := MP_tk hm q37_ms q37_sm
    have w37 := MSr_tr MSr_rf q37_a q37_sm
    have hd : 0 ≤ (sTv t n 1 8 Z) ∧ (sTv t n 1 8 Z) ≤ 8 := tkVl_rng (by omega)
    refine r_as (sTv t n 1 8 Z) (rfl) ?_
    refine lv_istore_n (lv' := [(1, .int (iI (sTv t n 1 8 Z))), (0, .ref (ad 0))]) S.1 S.2.1 dX5_warLine_40 rfl hl (by decide) rfl (fun ls hl => ?_)
    have cut_257 : ∀  (σ5 : St) (H : Heap) (locs : List Loc) (ls : Array Slot), (MP σ5 t n (waB t n (sTv t n 1 8 Z) (sTk t n 1 8 Z))) → (MSr σ σ5) → WD G shM ad (aM ad) s s.heap σ5 H locs → lv_has ls 4 [(1, .int (iI (sTv t n 1 8 Z))), (0, .ref (ad 0))] → W p l e (⟨8, 0, 0, 186⟩ : Room) s m ([.ref (ad 0)] : List Value).toArray below meth c H locs 0 0 (MQ below (qS G shM ad (aM ad) (rV (fun σ' => (MP σ' t n (waS t n Z)) ∧ (MSr σ σ')))) ([.ref (ad 0)] : List Value).toArray s 0 0 (aM ad)) (F0 m 257 ls []) := by
      intro σ5 H locs ls m257 w257 hW hl
      refine lv_aload_n S.1 S.2.1 dX5_warLine_257 rfl (lv_at hl 1 rfl) ?_
      refine c_VSv S hW (tX5_endsLine l G ad σ5 t n ((waB t n (sTv t n 1 8 Z) (sTk t n 1 8 Z)).1) ((waB t n (sTv t n 1 8 Z) (sTk t n 1 8 Z)).2.1) (m257.1)) (cw_X5_177 S.2.2.2.2 ⟨Nat.le_of_ble_eq_true rfl, Nat.le_of_ble_eq_true rfl⟩) eBlind_T (fun _ _ _ => trivial) (w_recv hW (q0 := 0) rfl rfl) rfl hl.1 (rest := []) rfl (Nat.le_of_ble_eq_true rfl) dX5_warLine_258 ⟨Nat.le_of_ble_eq_true rfl, Nat.le_of_ble_eq_true rfl⟩ (fun σ258 H locs q258 hW => ?_)
      obtain ⟨q258_ms, q258_a, q258_sm⟩ := q258
      have m258 := MP_el m257 q258_ms q258_sm
      have w258 := MSr_tr w257 q258_a q258_sm
      exact e_vS S hr hlk hW ⟨rfl, ⟨(by unfold waS; rw [if_neg (fun z => hno (dP_t.mp z))]; exact m258), (w258)⟩⟩ dX5_warLine_261
    refine lv_iload_n S.1 S.2.1 dX5_warLine_41 rfl (lv_at hl 0 rfl) ?_
    have sw_42 : (sTv t n 1 8 Z) = 1 ∨ (sTv t n 1 8 Z) = 2 ∨ (sTv t n 1 8 Z) = 3 ∨ (sTv t n 1 8 Z) = 4 ∨ (sTv t n 1 8 Z) = 5 ∨ (sTv t n 1 8 Z) = 6 ∨ (sTv t n 1 8 Z) = 7 ∨ (sTv t n 1 8 Z) = 8 ∨ ((sTv t n 1 8 Z) < 1 ∨ 8 < (sTv t n 1 8 Z)) := by omega
    rcases sw_42 with c_42 | c_42 | c_42 | c_42 | c_42 | c_42 | c_42 | c_42 | c_42
    ·
      refine r_tabIn S (tgt := 88) dX5_warLine_42 (by omega) 1 c_42 (by decide) (by decide) rfl rfl ?_
      refine lv_aload_n S.1 S.2.1 dX5_warLine_88 rfl (lv_at hl 1 rfl) ?_
      refine w_getr S hW in_X5 0 rfl rfl 9 (by decide) q1660 rfl rfl dX5_warLine_89 ?_
      refine r_iconst S dX5_warLine_92 ?_
      refine lv_aload_n S.1 S.2.1 dX5_warLine_93 rfl (lv_at hl 1 rfl) ?_
      refine r_iconst S dX5_warLine_94 ?_
      refine r_iconst S dX5_warLine_95 ?_
      refine c_VSi S hW (tX5_numbered l G ad σ37 1 4 t n (((sTk t n 1 8 Z)).1) (((sTk t n 1 8 Z)).2.1) (m37.1) (by omega)) (cw_X5_160 S.2.2.2.2 ⟨Nat.le_of_ble_eq_true rfl, Nat.le_of_ble_eq_true rfl⟩) eBlind_T (fun _ _ _ => trivial) (w_recv hW (q0 := 0) rfl rfl) rfl hl.1 (rest := [.int (iI 0), .ref (ad 3)]) rfl (Nat.le_of_ble_eq_true rfl) dX5_warLine_96 ⟨Nat.le_of_ble_eq_true rfl, Nat.le_of_ble_eq_true rfl⟩ (fun r96 σ96 H locs q96 hW => ?_)
      obtain ⟨rfl, q96_ms, q96_a, q96_sm⟩ := q96
      have m96 := MP_nm m37 q96_ms q96_sm
      have w96 := MSr_tr w37 q96_a q96_sm
      have hv96 := nmV_rng (t := t) (n := n) (p := (sTk t n 1 8 Z).1) (e := (sTk t n 1 8 Z).2.1) (lo := 1) (hi := 4) (by omega)
      refine w_ast S hW 3 0 rfl rfl rfl (z := (nmV t n (((sTk t n 1 8 Z)).1) (((sTk t n 1 8 Z)).2.1) 1 4)) (by omega) dX5_warLine_99 (fun H locs hW => ?_)
      refine lv_goto (tgt := 257) S.1 S.2.1 dX5_warLine_100 rfl ?_
      exact cut_257 (up σ96 9 0 (nmV t n (((sTk t n 1 8 Z)).1) (((sTk t n 1 8 Z)).2.1) 1 4)) H _ _ (by unfold waB; first | (rw [if_pos (by omega)]; exact MP_u m96) | (rw [if_neg (by omega), if_pos (by omega)]; exact MP_u m112) | (rw [if_neg (by omega), if_neg (by omega), if_pos (by omega)]; exact MP_u m128) | (rw [if_neg (by omega), if_neg (by omega), if_neg (by omega), if_neg (by omega), if_pos (by omega)]; exact MP_u m180) | (rw [if_neg (by omega), if_neg (by omega), if_neg (by omega), if_neg (by omega), if_neg (by omega), if_pos (by omega)]; exact MP_u m203) | (rw [if_neg (by omega), if_neg (by omega), if_neg (by omega), if_neg (by omega), if_neg (by omega), if_neg (by omega), if_pos (by omega)]; exact MP_u m226) | (rw [if_neg (by omega), if_neg (by omega), if_neg (by omega), if_neg (by omega), if_neg (by omega), if_neg (by omega), if_neg (by omega), if_pos (by omega)]; exact MP_u m250) | (rw [if_neg (by omega), if_neg (by omega), if_neg (by omega), if_pos (by omega), if_pos (by omega)]; exact MP_u m141) | (rw [if_neg (by omega), if_neg (by omega), if_neg (by omega), if_pos (by omega), if_neg (by omega)]; exact m141) | (rw [if_neg (by omega), if_neg (by omega), if_neg (by omega), if_neg (by omega), if_neg (by omega), if_neg (by omega), if_neg (by omega), if_neg (by omega)]; exact m37)) (by first | exact MSr_u w96 | exact MSr_u w112 | exact MSr_u w128 | exact MSr_u w141 | exact w141 | exact MSr_u w180 | exact MSr_u w203 | exact MSr_u w226 | exact MSr_u w250 | exact w37) hW (lv_sub hl [0, 1] rfl)
    ·
      refine r_tabIn S (tgt := 103) dX5_warLine_42 (by omega) 2 c_42 (by decide) (by decide) rfl rfl ?_
      refine lv_aload_n S.1 S.2.1 dX5_warLine_103 rfl (lv_at hl 1 rfl) ?_
      refine w_getr S hW in_X5 0 rfl rfl 9 (by decide) q1660 rfl rfl dX5_warLine_104 ?_
      refine r_iconst S dX5_warLine_107 ?_
      refine lv_aload_n S.1 S.2.1 dX5_warLine_108 rfl (lv_at hl 1 rfl) ?_
      refine r_iconst S dX5_warLine_109 ?_
      refine r_bipush S dX5_warLine_110 (by decide) ?_
      refine c_VSi S hW (tX5_numbered l G ad σ37 0 9 t n (((sTk t n 1 8 Z)).1) (((sTk t n 1 8 Z)).2.1) (m37.1) (by omega)) (cw_X5_160 S.2.2.2.2 ⟨Nat.le_of_ble_eq_true rfl, Nat.le_of_ble_eq_true rfl⟩) eBlind_T (fun _ _ _ => trivial) (w_recv hW (q0 := 0) rfl rfl) rfl hl.1 (rest := [.int (iI 1), .ref (ad 3)]) rfl (Nat.le_of_ble_eq_true rfl) dX5_warLine_112 ⟨Nat.le_of_ble_eq_true rfl, Nat.le_of_ble_eq_true rfl⟩ (fun r112 σ112 H locs q112 hW => ?_)
      obtain ⟨rfl, q112_ms, q112_a, q112_sm⟩ := q112
      have m112 := MP_nm m37 q112_ms q112_sm
      have w112 := MSr_tr w37 q112_a q112_sm
      have hv112 := nmV_rng (t := t) (n := n) (p := (sTk t n 1 8 Z).1) (e := (sTk t n 1 8 Z).2.1) (lo := 0) (hi := 9) (by omega)
      refine w_ast S hW 3 0 rfl rfl rfl (z := (nmV t n (((sTk t n 1 8 Z)).1) (((sTk t n 1 8 Z)).2.1) 0 9)) (by omega) dX5_warLine_115 (fun H locs hW => ?_)
      refine lv_goto (tgt := 257) S.1 S.2.1 dX5_warLine_116 rfl ?_
      exact cut_257 (up σ112 9 1 (nmV t n (((sTk t n 1 8 Z)).1) (((sTk t n 1 8 Z)).2.1) 0 9)) H _ _ (by unfold waB; first | (rw [if_pos (by omega)]; exact MP_u m96) | (rw [if_neg (by omega), if_pos (by omega)]; exact MP_u m112) | (rw [if_neg (by omega), if_neg (by omega), if_pos (by omega)]; exact MP_u m128) | (rw [if_neg (by omega), if_neg (by omega), if_neg (by omega), if_neg (by omega), if_pos (by omega)]; exact MP_u m180) | (rw [if_neg (by omega), if_neg (by omega), if_neg (by omega), if_neg (by omega), if_neg (by omega), if_pos (by omega)]; exact MP_u m203) | (rw [if_neg (by omega), if_neg (by omega), if_neg (by omega), if_neg (by omega), if_neg (by omega), if_neg (by omega), if_pos (by omega)]; exact MP_u m226) | (rw [if_neg (by omega), if_neg (by omega), if_neg (by omega), if_neg (by omega), if_neg (by omega), if_neg (by omega), if_neg (by omega), if_pos (by omega)]; exact MP_u m250) | (rw [if_neg (by omega), if_neg (by omega), if_neg (by omega), if_pos (by omega), if_pos (by omega)]; exact MP_u m141) | (rw [if_neg (by omega), if_neg (by omega), if_neg (by omega), if_pos (by omega), if_neg (by omega)]; exact m141) | (rw [if_neg (by omega), if_neg (by omega), if_neg (by omega), if_neg (by omega), if_neg (by omega), if_neg (by omega), if_neg (by omega), if_neg (by omega)]; exact m37)) (by first | exact MSr_u w96 | exact MSr_u w112 | exact MSr_u w128 | exact MSr_u w141 | exact w141 | exact MSr_u w180 | exact MSr_u w203 | exact MSr_u w226 | exact MSr_u w250 | exact w37) hW (lv_sub hl [0, 1] rfl)
    ·
      refine r_tabIn S (tgt := 119) dX5_warLine_42 (by omega) 3 c_42 (by decide) (by decide) rfl rfl ?_
      refine lv_aload_n S.1 S.2.1 dX5_warLine_119 rfl (lv_at hl 1 rfl) ?_
      refine w_getr S hW in_X5 0 rfl rfl 9 (by decide) q1660 rfl rfl dX5_warLine_120 ?_
      refine r_iconst S dX5_warLine_123 ?_
      refine lv_aload_n S.1 S.2.1 dX5_warLine_124 rfl (lv_at hl 1 rfl) ?_
      refine r_iconst S dX5_warLine_125 ?_
      refine r_bipush S dX5_warLine_126 (by decide) ?_
      refine c_VSi S hW (tX5_numbered l G ad σ37 0 9 t n (((sTk t n 1 8 Z)).1) (((sTk t n 1 8 Z)).2.1) (m37.1) (by omega)) (cw_X5_160 S.2.2.2.2 ⟨Nat.le_of_ble_eq_true rfl, Nat.le_of_ble_eq_true rfl⟩) eBlind_T (fun _ _ _ => trivial) (w_recv hW (q0 := 0) rfl rfl) rfl hl.1 (rest := [.int (iI 2), .ref (ad 3)]) rfl (Nat.le_of_ble_eq_true rfl) dX5_warLine_128 ⟨Nat.le_of_ble_eq_true rfl, Nat.le_of_ble_eq_true rfl⟩ (fun r128 σ128 H locs q128 hW => ?_)
      obtain ⟨rfl, q128_ms, q128_a, q128_sm⟩ := q128
      have m128 := MP_nm m37 q128_ms q128_sm
      have w128 := MSr_tr w37 q128_a q128_sm
      have hv128 := nmV_rng (t := t) (n := n) (p := (sTk t n 1 8 Z).1) (e := (sTk t n 1 8 Z).2.1) (lo := 0) (hi := 9) (by omega)
      refine w_ast S hW 3 0 rfl rfl rfl (z := (nmV t n (((sTk t n 1 8 Z)).1) (((sTk t n 1 8 Z)).2.1) 0 9)) (by omega) dX5_warLine_131 (fun H locs hW => ?_)
      refine lv_goto (tgt := 257) S.1 S.2.1 dX5_warLine_132 rfl ?_
      exact cut_257 (up σ128 9 2 (nmV t n (((sTk t n 1 8 Z)).1) (((sTk t n 1 8 Z)).2.1) 0 9)) H _ _ (by unfold waB; first | (rw [if_pos (by omega)]; exact MP_u m96) | (rw [if_neg (by omega), if_pos (by omega)]; exact MP_u m112) | (rw [if_neg (by omega), if_neg (by omega), if_pos (by omega)]; exact MP_u m128) | (rw [if_neg (by omega), if_neg (by omega), if_neg (by omega), if_neg (by omega), if_pos (by omega)]; exact MP_u m180) | (rw [if_neg (by omega), if_neg (by omega), if_neg (by omega), if_neg (by omega), if_neg (by omega), if_pos (by omega)]; exact MP_u m203) | (rw [if_neg (by omega), if_neg (by omega), if_neg (by omega), if_neg (by omega), if_neg (by omega), if_neg (by omega), if_pos (by omega)]; exact MP_u m226) | (rw [if_neg (by omega), if_neg (by omega), if_neg (by omega), if_neg (by omega), if_neg (by omega), if_neg (by omega), if_neg (by omega), if_pos (by omega)]; exact MP_u m250) | (rw [if_neg (by omega), if_neg (by omega), if_neg (by omega), if_pos (by omega), if_pos (by omega)]; exact MP_u m141) | (rw [if_neg (by omega), if_neg (by omega), if_neg (by omega), if_pos (by omega), if_neg (by omega)]; exact m141) | (rw [if_neg (by omega), if_neg (by omega), if_neg (by omega), if_neg (by omega), if_neg (by omega), if_neg (by omega), if_neg (by omega), if_neg (by omega)]; exact m37)) (by first | exact MSr_u w96 | exact MSr_u w112 | exact MSr_u w128 | exact MSr_u w141 | exact w141 | exact MSr_u w180 | exact MSr_u w203 | exact MSr_u w226 | exact MSr_u w250 | exact w37) hW (lv_sub hl [0, 1] rfl)
    ·
      refine r_tabIn S (tgt := 135) dX5_warLine_42 (by omega) 4 c_42 (by decide) (by decide) rfl rfl ?_
      refine lv_aload_n S.1 S.2.1 dX5_warLine_135 rfl (lv_at hl 1 rfl) ?_
      refine c_VSi S hW (tX5_beatTold l G ad σ37 t n (((sTk t n 1 8 Z)).1) (((sTk t n 1 8 Z)).2.1) (m37.1)) (cw_X5_171 S.2.2.2.2 ⟨Nat.le_of_ble_eq_true rfl, Nat.le_of_ble_eq_true rfl⟩) eBlind_T (fun _ _ _ => trivial) (w_recv hW (q0 := 0) rfl rfl) rfl hl.1 (rest := []) rfl (Nat.le_of_ble_eq_true rfl) dX5_warLine_136 ⟨Nat.le_of_ble_eq_true rfl, Nat.le_of_ble_eq_true rfl⟩ (fun r136 σ136 H locs q136 hW => ?_)
      obtain ⟨rfl, q136_ms, q136_a, q136_sm⟩ := q136
      have m136 := MP_tk m37 q136_ms q136_sm
      have w136 := MSr_tr w37 q136_a q136_sm
      have hv136 := tkVl_rng (t := t) (n := n) (p := (sTk t n 1 8 Z).1) (e := (sTk t n 1 8 Z).2.1) (lo := 10) (hi := 13) (by omega)
      refine lv_istore_n (lv' := [(2, .int (iI (tkVl t n (((sTk t n 1 8 Z)).1) (((sTk t n 1 8 Z)).2.1) 10 13 - 10))), (1, .int (iI (sTv t n 1 8 Z))), (0, .ref (ad 0))]) S.1 S.2.1 dX5_warLine_139 rfl hl (by decide) rfl (fun ls hl => ?_)
      refine lv_aload_n S.1 S.2.1 dX5_warLine_140 rfl (lv_at hl 2 rfl) ?_
      refine c_VSi S hW (tX5_beatTold l G ad σ136 t n (((sTk t n 10 13 (sTk t n 1 8 Z))).1) (((sTk t n 10 13 (sTk t n 1 8 Z))).2.1) (m136.1)) (cw_X5_171 S.2.2.2.2 ⟨Nat.le_of_ble_eq_true rfl, Nat.le_of_ble_eq_true rfl⟩) eBlind_T (fun _ _ _ => trivial) (w_recv hW (q0 := 0) rfl rfl) rfl hl.1 (rest := []) rfl (Nat.le_of_ble_eq_true rfl) dX5_warLine_141 ⟨Nat.le_of_ble_eq_true rfl, Nat.le_of_ble_eq_true rfl⟩ (fun r141 σ141 H locs q141 hW => ?_)
      obtain ⟨rfl, q141_ms, q141_a, q141_sm⟩ := q141
      have m141 := MP_tk m136 q141_ms q141_sm
      have w141 := MSr_tr w136 q141_a q141_sm
      have hv141 := tkVl_rng (t := t) (n := n) (p := (sTk t n 10 13 (sTk t n 1 8 Z)).1) (e := (sTk t n 10 13 (sTk t n 1 8 Z)).2.1) (lo := 10) (hi := 13) (by omega)
      have f141 := MP_at m141
      refine lv_istore_n (lv' := [(3, .int (iI (tkVl t n (((sTk t n 10 13 (sTk t n 1 8 Z))).1) (((sTk t n 10 13 (sTk t n 1 8 Z))).2.1) 10 13 - 10))), (2, .int (iI (tkVl t n (((sTk t n 1 8 Z)).1) (((sTk t n 1 8 Z)).2.1) 10 13 - 10))), (1, .int (iI (sTv t n 1 8 Z))), (0, .ref (ad 0))]) S.1 S.2.1 dX5_warLine_144 rfl hl (by decide) rfl (fun ls hl => ?_)
      refine lv_aload_n S.1 S.2.1 dX5_warLine_145 rfl (lv_at hl 3 rfl) ?_
      refine w_geti S hW in_X5 0 rfl rfl 8 (by decide) q1659 rfl rfl dX5_warLine_146 ?_
      refine r_if_ne S (tgt := 257) dX5_warLine_149 rfl (by omega) (fun c_149 => ?_) (fun c_149 => ?_)
      ·
        exact cut_257 σ141 H _ _ (by unfold waB; first | (rw [if_pos (by omega)]; exact MP_u m96) | (rw [if_neg (by omega), if_pos (by omega)]; exact MP_u m112) | (rw [if_neg (by omega), if_neg (by omega), if_pos (by omega)]; exact MP_u m128) | (rw [if_neg (by omega), if_neg (by omega), if_neg (by omega), if_neg (by omega), if_pos (by omega)]; exact MP_u m180) | (rw [if_neg (by omega), if_neg (by omega), if_neg (by omega), if_neg (by omega), if_neg (by omega), if_pos (by omega)]; exact MP_u m203) | (rw [if_neg (by omega), if_neg (by omega), if_neg (by omega), if_neg (by omega), if_neg (by omega), if_neg (by omega), if_pos (by omega)]; exact MP_u m226) | (rw [if_neg (by omega), if_neg (by omega), if_neg (by omega), if_neg (by omega), if_neg (by omega), if_neg (by omega), if_neg (by omega), if_pos (by omega)]; exact MP_u m250) | (rw [if_neg (by omega), if_neg (by omega), if_neg (by omega), if_pos (by omega), if_pos (by omega)]; exact MP_u m141) | (rw [if_neg (by omega), if_neg (by omega), if_neg (by omega), if_pos (by omega), if_neg (by omega)]; exact m141) | (rw [if_neg (by omega), if_neg (by omega), if_neg (by omega), if_neg (by omega), if_neg (by omega), if_neg (by omega), if_neg (by omega), if_neg (by omega)]; exact m37)) (by first | exact MSr_u w96 | exact MSr_u w112 | exact MSr_u w128 | exact MSr_u w141 | exact w141 | exact MSr_u w180 | exact MSr_u w203 | exact MSr_u w226 | exact MSr_u w250 | exact w37) hW (lv_sub hl [2, 3] rfl)
      ·
        have hge := tk10_ok m141 (by omega)
        unfold sTv at hge
        refine lv_aload_n S.1 S.2.1 dX5_warLine_152 rfl (lv_at hl 3 rfl) ?_
        refine w_getr S hW in_X5 0 rfl rfl 9 (by decide) q1660 rfl rfl dX5_warLine_153 ?_
        refine r_iconst S dX5_warLine_156 ?_
        refine lv_iload_n S.1 S.2.1 dX5_warLine_157 rfl (lv_at hl 1 rfl) ?_
        refine r_iadd S dX5_warLine_158 ?_
        refine lv_iload_n S.1 S.2.1 dX5_warLine_159 rfl (lv_at hl 0 rfl) ?_
        refine w_ast S hW 3 0 rfl rfl rfl (z := (tkVl t n (((sTk t n 10 13 (sTk t n 1 8 Z))).1) (((sTk t n 10 13 (sTk t n 1 8 Z))).2.1) 10 13 - 10)) (by omega) dX5_warLine_160 (fun H locs hW => ?_)
        refine lv_goto (tgt := 257) S.1 S.2.1 dX5_warLine_161 rfl ?_
        exact cut_257 (up σ141 9 (3 + (tkVl t n (((sTk t n 1 8 Z)).1) (((sTk t n 1 8 Z)).2.1) 10 13 - 10)) (tkVl t n (((sTk t n 10 13 (sTk t n 1 8 Z))).1) (((sTk t n 10 13 (sTk t n 1 8 Z))).2.1) 10 13 - 10)) H _ _ (by unfold waB; first | (rw [if_pos (by omega)]; exact MP_u m96) | (rw [if_neg (by omega), if_pos (by omega)]; exact MP_u m112) | (rw [if_neg (by omega), if_neg (by omega), if_pos (by omega)]; exact MP_u m128) | (rw [if_neg (by omega), if_neg (by omega), if_neg (by omega), if_neg (by omega), if_pos (by omega)]; exact MP_u m180) | (rw [if_neg (by omega), if_neg (by omega), if_neg (by omega), if_neg (by omega), if_neg (by omega), if_pos (by omega)]; exact MP_u m203) | (rw [if_neg (by omega), if_neg (by omega), if_neg (by omega), if_neg (by omega), if_neg (by omega), if_neg (by omega), if_pos (by omega)]; exact MP_u m226) | (rw [if_neg (by omega), if_neg (by omega), if_neg (by omega), if_neg (by omega), if_neg (by omega), if_neg (by omega), if_neg (by omega), if_pos (by omega)]; exact MP_u m250) | (rw [if_neg (by omega), if_neg (by omega), if_neg (by omega), if_pos (by omega), if_pos (by omega)]; exact MP_u m141) | (rw [if_neg (by omega), if_neg (by omega), if_neg (by omega), if_pos (by omega), if_neg (by omega)]; exact m141) | (rw [if_neg (by omega), if_neg (by omega), if_neg (by omega), if_neg (by omega), if_neg (by omega), if_neg (by omega), if_neg (by omega), if_neg (by omega)]; exact m37)) (by first | exact MSr_u w96 | exact MSr_u w112 | exact MSr_u w128 | exact MSr_u w141 | exact w141 | exact MSr_u w180 | exact MSr_u w203 | exact MSr_u w226 | exact MSr_u w250 | exact w37) hW (lv_sub hl [2, 3] rfl)
    ·
      refine r_tabIn S (tgt := 164) dX5_warLine_42 (by omega) 5 c_42 (by decide) (by decide) rfl rfl ?_
      refine lv_aload_n S.1 S.2.1 dX5_warLine_164 rfl (lv_at hl 1 rfl) ?_
      refine c_VSi S hW (tX5_armyTold l G ad σ37 t n (((sTk t n 1 8 Z)).1) (((sTk t n 1 8 Z)).2.1) (m37.1)) (cw_X5_163 S.2.2.2.2 ⟨Nat.le_of_ble_eq_true rfl, Nat.le_of_ble_eq_true rfl⟩) eBlind_T (fun _ _ _ => trivial) (w_recv hW (q0 := 0) rfl rfl) rfl hl.1 (rest := []) rfl (Nat.le_of_ble_eq_true rfl) dX5_warLine_165 ⟨Nat.le_of_ble_eq_true rfl, Nat.le_of_ble_eq_true rfl⟩ (fun r165 σ165 H locs q165 hW => ?_)
      obtain ⟨rfl, q165_ms, q165_a, q165_sm⟩ := q165
      have m165 := MP_nm m37 q165_ms q165_sm
      have w165 := MSr_tr w37 q165_a q165_sm
      have hv165 := nmV_rng (t := t) (n := n) (p := (sTk t n 1 8 Z).1) (e := (sTk t n 1 8 Z).2.1) (lo := 0) (hi := 1) (by omega)
      refine lv_istore_n (lv' := [(2, .int (iI (nmV t n (((sTk t n 1 8 Z)).1) (((sTk t n 1 8 Z)).2.1) 0 1))), (1, .int (iI (sTv t n 1 8 Z))), (0, .ref (ad 0))]) S.1 S.2.1 dX5_warLine_168 rfl hl (by decide) rfl (fun ls hl => ?_)
      refine lv_aload_n S.1 S.2.1 dX5_warLine_169 rfl (lv_at hl 2 rfl) ?_
      refine w_getr S hW in_X5 0 rfl rfl 9 (by decide) q1660 rfl rfl dX5_warLine_170 ?_
      refine r_bipush S dX5_warLine_173 (by decide) ?_
      refine lv_iload_n S.1 S.2.1 dX5_warLine_175 rfl (lv_at hl 0 rfl) ?_
      refine r_iadd S dX5_warLine_176 ?_
      refine lv_aload_n S.1 S.2.1 dX5_warLine_177 rfl (lv_at hl 2 rfl) ?_
      refine r_iconst S dX5_warLine_178 ?_
      refine r_iconst S dX5_warLine_179 ?_
      refine c_VSi S hW (tX5_numbered l G ad σ165 0 3 t n (((sNm t n 0 1 (sTk t n 1 8 Z))).1) (((sNm t n 0 1 (sTk t n 1 8 Z))).2.1) (m165.1) (by omega)) (cw_X5_160 S.2.2.2.2 ⟨Nat.le_of_ble_eq_true rfl, Nat.le_of_ble_eq_true rfl⟩) eBlind_T (fun _ _ _ => trivial) (w_recv hW (q0 := 0) rfl rfl) rfl hl.1 (rest := [.int (iI (7 + (nmV t n (((sTk t n 1 8 Z)).1) (((sTk t n 1 8 Z)).2.1) 0 1))), .ref (ad 3)]) rfl (Nat.le_of_ble_eq_true rfl) dX5_warLine_180 ⟨Nat.le_of_ble_eq_true rfl, Nat.le_of_ble_eq_true rfl⟩ (fun r180 σ180 H locs q180 hW => ?_)
      obtain ⟨rfl, q180_ms, q180_a, q180_sm⟩ := q180
      have m180 := MP_nm m165 q180_ms q180_sm
      have w180 := MSr_tr w165 q180_a q180_sm
      have hv180 := nmV_rng (t := t) (n := n) (p := (sNm t n 0 1 (sTk t n 1 8 Z)).1) (e := (sNm t n 0 1 (sTk t n 1 8 Z)).2.1) (lo := 0) (hi := 3) (by omega)
      refine w_ast S hW 3 0 rfl rfl rfl (z := (nmV t n (((sNm t n 0 1 (sTk t n 1 8 Z))).1) (((sNm t n 0 1 (sTk t n 1 8 Z))).2.1) 0 3)) (by omega) dX5_warLine_183 (fun H locs hW => ?_)
      refine lv_goto (tgt := 257) S.1 S.2.1 dX5_warLine_184 rfl ?_
      exact cut_257 (up σ180 9 (7 + (nmV t n (((sTk t n 1 8 Z)).1) (((sTk t n 1 8 Z)).2.1) 0 1)) (nmV t n (((sNm t n 0 1 (sTk t n 1 8 Z))).1) (((sNm t n 0 1 (sTk t n 1 8 Z))).2.1) 0 3)) H _ _ (by unfold waB; first | (rw [if_pos (by omega)]; exact MP_u m96) | (rw [if_neg (by omega), if_pos (by omega)]; exact MP_u m112) | (rw [if_neg (by omega), if_neg (by omega), if_pos (by omega)]; exact MP_u m128) | (rw [if_neg (by omega), if_neg (by omega), if_neg (by omega), if_neg (by omega), if_pos (by omega)]; exact MP_u m180) | (rw [if_neg (by omega), if_neg (by omega), if_neg (by omega), if_neg (by omega), if_neg (by omega), if_pos (by omega)]; exact MP_u m203) | (rw [if_neg (by omega), if_neg (by omega), if_neg (by omega), if_neg (by omega), if_neg (by omega), if_neg (by omega), if_pos (by omega)]; exact MP_u m226) | (rw [if_neg (by omega), if_neg (by omega), if_neg (by omega), if_neg (by omega), if_neg (by omega), if_neg (by omega), if_neg (by omega), if_pos (by omega)]; exact MP_u m250) | (rw [if_neg (by omega), if_neg (by omega), if_neg (by omega), if_pos (by omega), if_pos (by omega)]; exact MP_u m141) | (rw [if_neg (by omega), if_neg (by omega), if_neg (by omega), if_pos (by omega), if_neg (by omega)]; exact m141) | (rw [if_neg (by omega), if_neg (by omega), if_neg (by omega), if_neg (by omega), if_neg (by omega), if_neg (by omega), if_neg (by omega), if_neg (by omega)]; exact m37)) (by first | exact MSr_u w96 | exact MSr_u w112 | exact MSr_u w128 | exact MSr_u w141 | exact w141 | exact MSr_u w180 | exact MSr_u w203 | exact MSr_u w226 | exact MSr_u w250 | exact w37) hW (lv_sub hl [1, 2] rfl)
    ·
      refine r_tabIn S (tgt := 187) dX5_warLine_42 (by omega) 6 c_42 (by decide) (by decide) rfl rfl ?_
      refine lv_aload_n S.1 S.2.1 dX5_warLine_187 rfl (lv_at hl 1 rfl) ?_
      refine c_VSi S hW (tX5_armyTold l G ad σ37 t n (((sTk t n 1 8 Z)).1) (((sTk t n 1 8 Z)).2.1) (m37.1)) (cw_X5_163 S.2.2.2.2 ⟨Nat.le_of_ble_eq_true rfl, Nat.le_of_ble_eq_true rfl⟩) eBlind_T (fun _ _ _ => trivial) (w_recv hW (q0 := 0) rfl rfl) rfl hl.1 (rest := []) rfl (Nat.le_of_ble_eq_true rfl) dX5_warLine_188 ⟨Nat.le_of_ble_eq_true rfl, Nat.le_of_ble_eq_true rfl⟩ (fun r188 σ188 H locs q188 hW => ?_)
      obtain ⟨rfl, q188_ms, q188_a, q188_sm⟩ := q188
      have m188 := MP_nm m37 q188_ms q188_sm
      have w188 := MSr_tr w37 q188_a q188_sm
      have hv188 := nmV_rng (t := t) (n := n) (p := (sTk t n 1 8 Z).1) (e := (sTk t n 1 8 Z).2.1) (lo := 0) (hi := 1) (by omega)
      refine lv_istore_n (lv' := [(2, .int (iI (nmV t n (((sTk t n 1 8 Z)).1) (((sTk t n 1 8 Z)).2.1) 0 1))), (1, .int (iI (sTv t n 1 8 Z))), (0, .ref (ad 0))]) S.1 S.2.1 dX5_warLine_191 rfl hl (by decide) rfl (fun ls hl => ?_)
      refine lv_aload_n S.1 S.2.1 dX5_warLine_192 rfl (lv_at hl 2 rfl) ?_
      refine w_getr S hW in_X5 0 rfl rfl 9 (by decide) q1660 rfl rfl dX5_warLine_193 ?_
      refine r_bipush S dX5_warLine_196 (by decide) ?_
      refine lv_iload_n S.1 S.2.1 dX5_warLine_198 rfl (lv_at hl 0 rfl) ?_
      refine r_iadd S dX5_warLine_199 ?_
      refine lv_aload_n S.1 S.2.1 dX5_warLine_200 rfl (lv_at hl 2 rfl) ?_
      refine r_iconst S dX5_warLine_201 ?_
      refine r_iconst S dX5_warLine_202 ?_
      refine c_VSi S hW (tX5_numbered l G ad σ188 1 4 t n (((sNm t n 0 1 (sTk t n 1 8 Z))).1) (((sNm t n 0 1 (sTk t n 1 8 Z))).2.1) (m188.1) (by omega)) (cw_X5_160 S.2.2.2.2 ⟨Nat.le_of_ble_eq_true rfl, Nat.le_of_ble_eq_true rfl⟩) eBlind_T (fun _ _ _ => trivial) (w_recv hW (q0 := 0) rfl rfl) rfl hl.1 (rest := [.int (iI (9 + (nmV t n (((sTk t n 1 8 Z)).1) (((sTk t n 1 8 Z)).2.1) 0 1))), .ref (ad 3)]) rfl (Nat.le_of_ble_eq_true rfl) dX5_warLine_203 ⟨Nat.le_of_ble_eq_true rfl, Nat.le_of_ble_eq_true rfl⟩ (fun r203 σ203 H locs q203 hW => ?_)
      obtain ⟨rfl, q203_ms, q203_a, q203_sm⟩ := q203
      have m203 := MP_nm m188 q203_ms q203_sm
      have w203 := MSr_tr w188 q203_a q203_sm
      have hv203 := nmV_rng (t := t) (n := n) (p := (sNm t n 0 1 (sTk t n 1 8 Z)).1) (e := (sNm t n 0 1 (sTk t n 1 8 Z)).2.1) (lo := 1) (hi := 4) (by omega)
      refine w_ast S hW 3 0 rfl rfl rfl (z := (nmV t n (((sNm t n 0 1 (sTk t n 1 8 Z))).1) (((sNm t n 0 1 (sTk t n 1 8 Z))).2.1) 1 4)) (by omega) dX5_warLine_206 (fun H locs hW => ?_)
      refine lv_goto (tgt := 257) S.1 S.2.1 dX5_warLine_207 rfl ?_
      exact cut_257 (up σ203 9 (9 + (nmV t n (((sTk t n 1 8 Z)).1) (((sTk t n 1 8 Z)).2.1) 0 1)) (nmV t n (((sNm t n 0 1 (sTk t n 1 8 Z))).1) (((sNm t n 0 1 (sTk t n 1 8 Z))).2.1) 1 4)) H _ _ (by unfold waB; first | (rw [if_pos (by omega)]; exact MP_u m96) | (rw [if_neg (by omega), if_pos (by omega)]; exact MP_u m112) | (rw [if_neg (by omega), if_neg (by omega), if_pos (by omega)]; exact MP_u m128) | (rw [if_neg (by omega), if_neg (by omega), if_neg (by omega), if_neg (by omega), if_pos (by omega)]; exact MP_u m180) | (rw [if_neg (by omega), if_neg (by omega), if_neg (by omega), if_neg (by omega), if_neg (by omega), if_pos (by omega)]; exact MP_u m203) | (rw [if_neg (by omega), if_neg (by omega), if_neg (by omega), if_neg (by omega), if_neg (by omega), if_neg (by omega), if_pos (by omega)]; exact MP_u m226) | (rw [if_neg (by omega), if_neg (by omega), if_neg (by omega), if_neg (by omega), if_neg (by omega), if_neg (by omega), if_neg (by omega), if_pos (by omega)]; exact MP_u m250) | (rw [if_neg (by omega), if_neg (by omega), if_neg (by omega), if_pos (by omega), if_pos (by omega)]; exact MP_u m141) | (rw [if_neg (by omega), if_neg (by omega), if_neg (by omega), if_pos (by omega), if_neg (by omega)]; exact m141) | (rw [if_neg (by omega), if_neg (by omega), if_neg (by omega), if_neg (by omega), if_neg (by omega), if_neg (by omega), if_neg (by omega), if_neg (by omega)]; exact m37)) (by first | exact MSr_u w96 | exact MSr_u w112 | exact MSr_u w128 | exact MSr_u w141 | exact w141 | exact MSr_u w180 | exact MSr_u w203 | exact MSr_u w226 | exact MSr_u w250 | exact w37) hW (lv_sub hl [1, 2] rfl)
    ·
      refine r_tabIn S (tgt := 210) dX5_warLine_42 (by omega) 7 c_42 (by decide) (by decide) rfl rfl ?_
      refine lv_aload_n S.1 S.2.1 dX5_warLine_210 rfl (lv_at hl 1 rfl) ?_
      refine c_VSi S hW (tX5_armyTold l G ad σ37 t n (((sTk t n 1 8 Z)).1) (((sTk t n 1 8 Z)).2.1) (m37.1)) (cw_X5_163 S.2.2.2.2 ⟨Nat.le_of_ble_eq_true rfl, Nat.le_of_ble_eq_true rfl⟩) eBlind_T (fun _ _ _ => trivial) (w_recv hW (q0 := 0) rfl rfl) rfl hl.1 (rest := []) rfl (Nat.le_of_ble_eq_true rfl) dX5_warLine_211 ⟨Nat.le_of_ble_eq_true rfl, Nat.le_of_ble_eq_true rfl⟩ (fun r211 σ211 H locs q211 hW => ?_)
      obtain ⟨rfl, q211_ms, q211_a, q211_sm⟩ := q211
      have m211 := MP_nm m37 q211_ms q211_sm
      have w211 := MSr_tr w37 q211_a q211_sm
      have hv211 := nmV_rng (t := t) (n := n) (p := (sTk t n 1 8 Z).1) (e := (sTk t n 1 8 Z).2.1) (lo := 0) (hi := 1) (by omega)
      refine lv_istore_n (lv' := [(2, .int (iI (nmV t n (((sTk t n 1 8 Z)).1) (((sTk t n 1 8 Z)).2.1) 0 1))), (1, .int (iI (sTv t n 1 8 Z))), (0, .ref (ad 0))]) S.1 S.2.1 dX5_warLine_214 rfl hl (by decide) rfl (fun ls hl => ?_)
      refine lv_aload_n S.1 S.2.1 dX5_warLine_215 rfl (lv_at hl 2 rfl) ?_
      refine w_getr S hW in_X5 0 rfl rfl 9 (by decide) q1660 rfl rfl dX5_warLine_216 ?_
      refine r_bipush S dX5_warLine_219 (by decide) ?_
      refine lv_iload_n S.1 S.2.1 dX5_warLine_221 rfl (lv_at hl 0 rfl) ?_
      refine r_iadd S dX5_warLine_222 ?_
      refine lv_aload_n S.1 S.2.1 dX5_warLine_223 rfl (lv_at hl 2 rfl) ?_
      refine r_iconst S dX5_warLine_224 ?_
      refine r_iconst S dX5_warLine_225 ?_
      refine c_VSi S hW (tX5_numbered l G ad σ211 0 3 t n (((sNm t n 0 1 (sTk t n 1 8 Z))).1) (((sNm t n 0 1 (sTk t n 1 8 Z))).2.1) (m211.1) (by omega)) (cw_X5_160 S.2.2.2.2 ⟨Nat.le_of_ble_eq_true rfl, Nat.le_of_ble_eq_true rfl⟩) eBlind_T (fun _ _ _ => trivial) (w_recv hW (q0 := 0) rfl rfl) rfl hl.1 (rest := [.int (iI (11 + (nmV t n (((sTk t n 1 8 Z)).1) (((sTk t n 1 8 Z)).2.1) 0 1))), .ref (ad 3)]) rfl (Nat.le_of_ble_eq_true rfl) dX5_warLine_226 ⟨Nat.le_of_ble_eq_true rfl, Nat.le_of_ble_eq_true rfl⟩ (fun r226 σ226 H locs q226 hW => ?_)
      obtain ⟨rfl, q226_ms, q226_a, q226_sm⟩ := q226
      have m226 := MP_nm m211 q226_ms q226_sm
      have w226 := MSr_tr w211 q226_a q226_sm
      have hv226 := nmV_rng (t := t) (n := n) (p := (sNm t n 0 1 (sTk t n 1 8 Z)).1) (e := (sNm t n 0 1 (sTk t n 1 8 Z)).2.1) (lo := 0) (hi := 3) (by omega)
      refine w_ast S hW 3 0 rfl rfl rfl (z := (nmV t n (((sNm t n 0 1 (sTk t n 1 8 Z))).1) (((sNm t n 0 1 (sTk t n 1 8 Z))).2.1) 0 3)) (by omega) dX5_warLine_229 (fun H locs hW => ?_)
      refine lv_goto (tgt := 257) S.1 S.2.1 dX5_warLine_230 rfl ?_
      exact cut_257 (up σ226 9 (11 + (nmV t n (((sTk t n 1 8 Z)).1) (((sTk t n 1 8 Z)).2.1) 0 1)) (nmV t n (((sNm t n 0 1 (sTk t n 1 8 Z))).1) (((sNm t n 0 1 (sTk t n 1 8 Z))).2.1) 0 3)) H _ _ (by unfold waB; first | (rw [if_pos (by omega)]; exact MP_u m96) | (rw [if_neg (by omega), if_pos (by omega)]; exact MP_u m112) | (rw [if_neg (by omega), if_neg (by omega), if_pos (by omega)]; exact MP_u m128) | (rw [if_neg (by omega), if_neg (by omega), if_neg (by omega), if_neg (by omega), if_pos (by omega)]; exact MP_u m180) | (rw [if_neg (by omega), if_neg (by omega), if_neg (by omega), if_neg (by omega), if_neg (by omega), if_pos (by omega)]; exact MP_u m203) | (rw [if_neg (by omega), if_neg (by omega), if_neg (by omega), if_neg (by omega), if_neg (by omega), if_neg (by omega), if_pos (by omega)]; exact MP_u m226) | (rw [if_neg (by omega), if_neg (by omega), if_neg (by omega), if_neg (by omega), if_neg (by omega), if_neg (by omega), if_neg (by omega), if_pos (by omega)]; exact MP_u m250) | (rw [if_neg (by omega), if_neg (by omega), if_neg (by omega), if_pos (by omega), if_pos (by omega)]; exact MP_u m141) | (rw [if_neg (by omega), if_neg (by omega), if_neg (by omega), if_pos (by omega), if_neg (by omega)]; exact m141) | (rw [if_neg (by omega), if_neg (by omega), if_neg (by omega), if_neg (by omega), if_neg (by omega), if_neg (by omega), if_neg (by omega), if_neg (by omega)]; exact m37)) (by first | exact MSr_u w96 | exact MSr_u w112 | exact MSr_u w128 | exact MSr_u w141 | exact w141 | exact MSr_u w180 | exact MSr_u w203 | exact MSr_u w226 | exact MSr_u w250 | exact w37) hW (lv_sub hl [1, 2] rfl)
    ·
      refine r_tabIn S (tgt := 233) dX5_warLine_42 (by omega) 8 c_42 (by decide) (by decide) rfl rfl ?_
      refine lv_aload_n S.1 S.2.1 dX5_warLine_233 rfl (lv_at hl 1 rfl) ?_
      refine c_VSi S hW (tX5_armyTold l G ad σ37 t n (((sTk t n 1 8 Z)).1) (((sTk t n 1 8 Z)).2.1) (m37.1)) (cw_X5_163 S.2.2.2.2 ⟨Nat.le_of_ble_eq_true rfl, Nat.le_of_ble_eq_true rfl⟩) eBlind_T (fun _ _ _ => trivial) (w_recv hW (q0 := 0) rfl rfl) rfl hl.1 (rest := []) rfl (Nat.le_of_ble_eq_true rfl) dX5_warLine_234 ⟨Nat.le_of_ble_eq_true rfl, Nat.le_of_ble_eq_true rfl⟩ (fun r234 σ234 H locs q234 hW => ?_)
      obtain ⟨rfl, q234_ms, q234_a, q234_sm⟩ := q234
      have m234 := MP_nm m37 q234_ms q234_sm
      have w234 := MSr_tr w37 q234_a q234_sm
      have hv234 := nmV_rng (t := t) (n := n) (p := (sTk t n 1 8 Z).1) (e := (sTk t n 1 8 Z).2.1) (lo := 0) (hi := 1) (by omega)
      refine lv_istore_n (lv' := [(2, .int (iI (nmV t n (((sTk t n 1 8 Z)).1) (((sTk t n 1 8 Z)).2.1) 0 1))), (1, .int (iI (sTv t n 1 8 Z))), (0, .ref (ad 0))]) S.1 S.2.1 dX5_warLine_237 rfl hl (by decide) rfl (fun ls hl => ?_)
      refine lv_aload_n S.1 S.2.1 dX5_warLine_238 rfl (lv_at hl 2 rfl) ?_
      refine w_getr S hW in_X5 0 rfl rfl 9 (by decide) q1660 rfl rfl dX5_warLine_239 ?_
      refine r_bipush S dX5_warLine_242 (by decide) ?_
      refine lv_iload_n S.1 S.2.1 dX5_warLine_244 rfl (lv_at hl 0 rfl) ?_
      refine r_iadd S dX5_warLine_245 ?_
      refine lv_aload_n S.1 S.2.1 dX5_warLine_246 rfl (lv_at hl 2 rfl) ?_
      refine r_iconst S dX5_warLine_247 ?_
      refine r_bipush S dX5_warLine_248 (by decide) ?_
      refine c_VSi S hW (tX5_numbered l G ad σ234 0 20 t n (((sNm t n 0 1 (sTk t n 1 8 Z))).1) (((sNm t n 0 1 (sTk t n 1 8 Z))).2.1) (m234.1) (by omega)) (cw_X5_160 S.2.2.2.2 ⟨Nat.le_of_ble_eq_true rfl, Nat.le_of_ble_eq_true rfl⟩) eBlind_T (fun _ _ _ => trivial) (w_recv hW (q0 := 0) rfl rfl) rfl hl.1 (rest := [.int (iI (13 + (nmV t n (((sTk t n 1 8 Z)).1) (((sTk t n 1 8 Z)).2.1) 0 1))), .ref (ad 3)]) rfl (Nat.le_of_ble_eq_true rfl) dX5_warLine_250 ⟨Nat.le_of_ble_eq_true rfl, Nat.le_of_ble_eq_true rfl⟩ (fun r250 σ250 H locs q250 hW => ?_)
      obtain ⟨rfl, q250_ms, q250_a, q250_sm⟩ := q250
      have m250 := MP_nm m234 q250_ms q250_sm
      have w250 := MSr_tr w234 q250_a q250_sm
      have hv250 := nmV_rng (t := t) (n := n) (p := (sNm t n 0 1 (sTk t n 1 8 Z)).1) (e := (sNm t n 0 1 (sTk t n 1 8 Z)).2.1) (lo := 0) (hi := 20) (by omega)
      refine w_ast S hW 3 0 rfl rfl rfl (z := (nmV t n (((sNm t n 0 1 (sTk t n 1 8 Z))).1) (((sNm t n 0 1 (sTk t n 1 8 Z))).2.1) 0 20)) (by omega) dX5_warLine_253 (fun H locs hW => ?_)
      refine lv_goto (tgt := 257) S.1 S.2.1 dX5_warLine_254 rfl ?_
      exact cut_257 (up σ250 9 (13 + (nmV t n (((sTk t n 1 8 Z)).1) (((sTk t n 1 8 Z)).2.1) 0 1)) (nmV t n (((sNm t n 0 1 (sTk t n 1 8 Z))).1) (((sNm t n 0 1 (sTk t n 1 8 Z))).2.1) 0 20)) H _ _ (by unfold waB; first | (rw [if_pos (by omega)]; exact MP_u m96) | (rw [if_neg (by omega), if_pos (by omega)]; exact MP_u m112) | (rw [if_neg (by omega), if_neg (by omega), if_pos (by omega)]; exact MP_u m128) | (rw [if_neg (by omega), if_neg (by omega), if_neg (by omega), if_neg (by omega), if_pos (by omega)]; exact MP_u m180) | (rw [if_neg (by omega), if_neg (by omega), if_neg (by omega), if_neg (by omega), if_neg (by omega), if_pos (by omega)]; exact MP_u m203) | (rw [if_neg (by omega), if_neg (by omega), if_neg (by omega), if_neg (by omega), if_neg (by omega), if_neg (by omega), if_pos (by omega)]; exact MP_u m226) | (rw [if_neg (by omega), if_neg (by omega), if_neg (by omega), if_neg (by omega), if_neg (by omega), if_neg (by omega), if_neg (by omega), if_pos (by omega)]; exact MP_u m250) | (rw [if_neg (by omega), if_neg (by omega), if_neg (by omega), if_pos (by omega), if_pos (by omega)]; exact MP_u m141) | (rw [if_neg (by omega), if_neg (by omega), if_neg (by omega), if_pos (by omega), if_neg (by omega)]; exact m141) | (rw [if_neg (by omega), if_neg (by omega), if_neg (by omega), if_neg (by omega), if_neg (by omega), if_neg (by omega), if_neg (by omega), if_neg (by omega)]; exact m37)) (by first | exact MSr_u w96 | exact MSr_u w112 | exact MSr_u w128 | exact MSr_u w141 | exact w141 | exact MSr_u w180 | exact MSr_u w203 | exact MSr_u w226 | exact MSr_u w250 | exact w37) hW (lv_sub hl [1, 2] rfl)
    ·
      refine r_tabOut S (tgt := 257) dX5_warLine_42 (by omega) c_42 rfl ?_
      exact cut_257 σ37 H _ _ (by unfold waB; first | (rw [if_pos (by omega)]; exact MP_u m96) | (rw [if_neg (by omega), if_pos (by omega)]; exact MP_u m112) | (rw [if_neg (by omega), if_neg (by omega), if_pos (by omega)]; exact MP_u m128) | (rw [if_neg (by omega), if_neg (by omega), if_neg (by omega), if_neg (by omega), if_pos (by omega)]; exact MP_u m180) | (rw [if_neg (by omega), if_neg (by omega), if_neg (by omega), if_neg (by omega), if_neg (by omega), if_pos (by omega)]; exact MP_u m203) | (rw [if_neg (by omega), if_neg (by omega), if_neg (by omega), if_neg (by omega), if_neg (by omega), if_neg (by omega), if_pos (by omega)]; exact MP_u m226) | (rw [if_neg (by omega), if_neg (by omega), if_neg (by omega), if_neg (by omega), if_neg (by omega), if_neg (by omega), if_neg (by omega), if_pos (by omega)]; exact MP_u m250) | (rw [if_neg (by omega), if_neg (by omega), if_neg (by omega), if_pos (by omega), if_pos (by omega)]; exact MP_u m141) | (rw [if_neg (by omega), if_neg (by omega), if_neg (by omega), if_pos (by omega), if_neg (by omega)]; exact m141) | (rw [if_neg (by omega), if_neg (by omega), if_neg (by omega), if_neg (by omega), if_neg (by omega), if_neg (by omega), if_neg (by omega), if_neg (by omega)]; exact m37)) (by first | exact MSr_u w96 | exact MSr_u w112 | exact MSr_u w128 | exact MSr_u w141 | exact w141 | exact MSr_u w180 | exact MSr_u w203 | exact MSr_u w226 | exact MSr_u w250 | exact w37) hW (lv_sub hl [0, 1] rfl)
  refine lv_aload_n S.1 S.2.1 dX5_warLine_0 rfl (lv_at hl 0 rfl) ?_
  refine w_geti S hW in_X5 0 rfl rfl 8 (by decide) q1659 rfl rfl dX5_warLine_1 ?_
  refine r_if_ne S (tgt := 33) dX5_warLine_4 rfl (by omega) (fun c_4 => ?_) (fun c_4 => ?_)
  ·
    exact cut_33 s.heap _ _ (by unfold sIs isC; first | omega | (rw [z7] at c_21; omega)) hW (lv_sub hl [0] rfl)
  ·
    refine lv_aload_n S.1 S.2.1 dX5_warLine_7 rfl (lv_at hl 0 rfl) ?_
    refine w_geti S hW in_X5 0 rfl rfl 5 (by decide) q1656 rfl rfl dX5_warLine_8 ?_
    refine r_iconst S dX5_warLine_11 ?_
    refine r_icmp_ne S (tgt := 33) dX5_warLine_12 rfl (by omega) (fun c_12 => ?_) (fun c_12 => ?_)
    ·
      exact cut_33 s.heap _ _ (by unfold sIs isC; first | omega | (rw [z7] at c_21; omega)) hW (lv_sub hl [0] rfl)
    ·
      have z7 := fz.2.2.2.2.2.2.2.2.1 (by omega)
      refine lv_aload_n S.1 S.2.1 dX5_warLine_15 rfl (lv_at hl 0 rfl) ?_
      refine w_geti S hW in_X5 0 rfl rfl 7 (by decide) q1658 rfl rfl dX5_warLine_16 ?_
      refine r_bipush S dX5_warLine_19 (by decide) ?_
      refine r_icmp_ne S (tgt := 33) dX5_warLine_21 rfl (by omega) (fun c_21 => ?_) (fun c_21 => ?_)
      ·
        exact cut_33 s.heap _ _ (by unfold sIs isC; first | omega | (rw [z7] at c_21; omega)) hW (lv_sub hl [0] rfl)
      ·
        refine lv_aload_n S.1 S.2.1 dX5_warLine_24 rfl (lv_at hl 0 rfl) ?_
        refine c_VSv S hW (tX5_orderLine l G ad σ t n Z (hm) (hrd)) (cw_X5_174 S.2.2.2.2 ⟨Nat.le_of_ble_eq_true rfl, Nat.le_of_ble_eq_true rfl⟩) eBlind_T (fun _ _ _ => trivial) (w_recv hW (q0 := 0) rfl rfl) rfl hl.1 (rest := []) rfl (Nat.le_of_ble_eq_true rfl) dX5_warLine_25 ⟨Nat.le_of_ble_eq_true rfl, Nat.le_of_ble_eq_true rfl⟩ (fun σ25 H locs q25 hW => ?_)
        obtain ⟨q25_mp, q25_ot⟩ := q25
        refine lv_aload_n S.1 S.2.1 dX5_warLine_28 rfl (lv_at hl 0 rfl) ?_
        refine c_VSv S hW (tX5_endsLine l G ad σ25 t n ((orS t n Z).1) ((orS t n Z).2.1) (q25_mp.1)) (cw_X5_177 S.2.2.2.2 ⟨Nat.le_of_ble_eq_true rfl, Nat.le_of_ble_eq_true rfl⟩) eBlind_T (fun _ _ _ => trivial) (w_recv hW (q0 := 0) rfl rfl) rfl hl.1 (rest := []) rfl (Nat.le_of_ble_eq_true rfl) dX5_warLine_29 ⟨Nat.le_of_ble_eq_true rfl, Nat.le_of_ble_eq_true rfl⟩ (fun σ29 H locs q29 hW => ?_)
        obtain ⟨q29_ms, q29_a, q29_sm⟩ := q29
        have m29 := MP_el q25_mp q29_ms q29_sm
        have w29 := MSr_tr q25_ot q29_a q29_sm
        exact e_vS S hr hlk hW ⟨rfl, ⟨(by unfold waS; rw [if_pos (dP_t.mpr (by unfold sIs isC; rw [z7] at c_21; omega))]; exact m29), (w29)⟩⟩ dX5_warLine_32
