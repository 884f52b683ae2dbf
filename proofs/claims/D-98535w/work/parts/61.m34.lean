theorem hd_X5_clears : yX5_clears.cls = RX5 ∧ yX5_clears.cls ≠ "java/lang/invoke/MethodHandle" ∧ yX5_clears.cls ≠ "java/lang/invoke/VarHandle" ∧ (parseMethodDescriptor yX5_clears.desc).map (fun d => d.parameters.length) = some 1 := by decide +kernel
theorem cw_X5_187 {R : Room} {s : State} {args : Array Value} (ht : ∀ w ∈ lw_all, w.before args s = true) (hR : 0 + 1 ≤ R.frames ∧ 8 + (3 + 11) + 0 ≤ R.locals) : CallW R s args "OneDrumModel" RX5 187 yX5_clears cX5_clears 3 none (ws_ yX5_clears cX5_clears 3 none) ⟨0, 0, 0, 0⟩ 0 0 1 := cwV 1 ht (lw_V q1785 q1787 qs51 q126 q1788) rfl rfl rfl hd_X5_clears hR
theorem hd_X5_hearingLine : yX5_hearingLine.cls = RX5 ∧ yX5_hearingLine.cls ≠ "java/lang/invoke/MethodHandle" ∧ yX5_hearingLine.cls ≠ "java/lang/invoke/VarHandle" ∧ (parseMethodDescriptor yX5_hearingLine.desc).map (fun d => d.parameters.length) = some 0 := by decide +kernel
theorem cw_X5_197 {R : Room} {s : State} {args : Array Value} (ht : ∀ w ∈ lw_all, w.before args s = true) (hR : 7 + 1 ≤ R.frames ∧ 8 + (4 + 11) + 158 ≤ R.locals) : CallW R s args "OneDrumModel" RX5 197 yX5_hearingLine cX5_hearingLine 4 none (ws_ yX5_hearingLine cX5_hearingLine 4 none) ⟨7, 0, 0, 158⟩ 0 0 0 := cwV 0 ht (lw_V q1862 q1864 qs65 q126 q1865) rfl rfl rfl hd_X5_hearingLine hR
theorem hd_X5_scoreLine : yX5_scoreLine.cls = RX5 ∧ yX5_scoreLine.cls ≠ "java/lang/invoke/MethodHandle" ∧ yX5_scoreLine.cls ≠ "java/lang/invoke/VarHandle" ∧ (parseMethodDescriptor yX5_scoreLine.desc).map (fun d => d.parameters.length) = some 0 := by decide +kernel
theorem cw_X5_194 {R : Room} {s : State} {args : Array Value} (ht : ∀ w ∈ lw_all, w.before args s = true) (hR : 7 + 1 ≤ R.frames ∧ 8 + (4 + 11) + 158 ≤ R.locals) : CallW R s args "OneDrumModel" RX5 194 yX5_scoreLine cX5_scoreLine 4 none (ws_ yX5_scoreLine cX5_scoreLine 4 none) ⟨7, 0, 0, 158⟩ 0 0 0 := cwV 0 ht (lw_V q1858 q1860 qs64 q126 q1861) rfl rfl rfl hd_X5_scoreLine hR
theorem hd_X5_sizeOf : yX5_sizeOf.cls ≠ "java/lang/invoke/MethodHandle" ∧ yX5_sizeOf.cls ≠ "java/lang/invoke/VarHandle" ∧ (parseMethodDescriptor yX5_sizeOf.desc).map (fun d => d.parameters.length) = some 1 := by decide +kernel
theorem cw_X5_203 {R : Room} {s : State} {args : Array Value} (ht : ∀ w ∈ lw_all, w.before args s = true) (hR : 0 + 1 ≤ R.frames ∧ 8 + (1 + 11) + 0 ≤ R.locals) : CallB R s args "OneDrumModel" 203 yX5_sizeOf cX5_sizeOf 1 (some .int) (ws_ yX5_sizeOf cX5_sizeOf 1 (some .int)) ⟨0, 0, 0, 0⟩ 0 0 1 ∧ (Cond.static yX5_sizeOf).before args s = true := va_cwS 1 ht (lw_S q1874 q1875 q126 q1876) rfl rfl rfl hd_X5_sizeOf hR
theorem hd_X5_villageLine : yX5_villageLine.cls = RX5 ∧ yX5_villageLine.cls ≠ "java/lang/invoke/MethodHandle" ∧ yX5_villageLine.cls ≠ "java/lang/invoke/VarHandle" ∧ (parseMethodDescriptor yX5_villageLine.desc).map (fun d => d.parameters.length) = some 0 := by decide +kernel
theorem cw_X5_200 {R : Room} {s : State} {args : Array Value} (ht : ∀ w ∈ lw_all, w.before args s = true) (hR : 7 + 1 ≤ R.frames ∧ 8 + (8 + 11) + 158 ≤ R.locals) : CallW R s args "OneDrumModel" RX5 200 yX5_villageLine cX5_villageLine 8 none (ws_ yX5_villageLine cX5_villageLine 8 none) ⟨7, 0, 0, 158⟩ 0 0 0 := cwV 0 ht (lw_V q1870 q1872 qs67 q126 q1873) rfl rfl rfl hd_X5_villageLine hR
theorem hd_X5_warLine : yX5_warLine.cls = RX5 ∧ yX5_warLine.cls ≠ "java/lang/invoke/MethodHandle" ∧ yX5_warLine.cls ≠ "java/lang/invoke/VarHandle" ∧ (parseMethodDescriptor yX5_warLine.desc).map (fun d => d.parameters.length) = some 0 := by decide +kernel
theorem cw_X5_191 {R : Room} {s : State} {args : Array Value} (ht : ∀ w ∈ lw_all, w.before args s = true) (hR : 8 + 1 ≤ R.frames ∧ 8 + (4 + 11) + 186 ≤ R.locals) : CallW R s args "OneDrumModel" RX5 191 yX5_warLine cX5_warLine 4 none (ws_ yX5_warLine cX5_warLine 4 none) ⟨8, 0, 0, 186⟩ 0 0 0 := cwV 0 ht (lw_V q1818 q1820 qs54 q126 q1821) rfl rfl rfl hd_X5_warLine hR
set_option maxHeartbeats 4000000 in
theorem tX5_text (l : Launch) (G : GG) (ad : Nat → Nat) (σ : St) (sort : Int) (at_ : Int) (hs : -2147483648 ≤ sort ∧ sort < 2147483648) (ha : -2147483648 ≤ at_ ∧ at_ < 2147483648) (wf : WfDB (σ 0)) : Met l yX5_text (ws_ yX5_text cX5_text 5 (some .int)) ⟨9, 0, 0, 209⟩ (wPre G shM ad σ (fun _ => True) [.ref (ad 0), .int (iI sort), .int (iI at_)]) (qS G shM ad (aM ad) (rI (fun r σ' => (r = sText (σ 0) sort at_) ∧ (σ' 0 = txA (σ 0) sort at_) ∧ (same [0, 2, 3, 4, 5, 6, 7, 8, 9] σ σ')))) 0 0 (aM ad) := by
  refine wStart (by decide) (Nat.le_of_ble_eq_true rfl) (fun k hk => ⟨k, hk, rfl⟩) (fun p e s m below meth c S hr hlk _ _ ls hW hl => ?_)
  have hl : lv_has ls 5 [(0, .ref (ad 0)), (1, .int (iI sort)), (2, .int (iI at_))] := hl
  have wc : ∀ k : Int, 0 ≤ k → k ≤ 3 → 0 ≤ σ 0 k ∧ σ 0 k ≤ 2 := fun k k0 k1 => (by have w0 := wf.1; have w1 := wf.2.1; have w2 := wf.2.2.1; have w3 := wf.2.2.2.1; rcases (show k = 0 ∨ k = 1 ∨ k = 2 ∨ k = 3 by omega) with e | e | e | e <;> subst e <;> assumption)
  have w4 := wf.2.2.2.2.1
  have wt := wf.2.2.2.2.2.2.2.1
  refine lv_aload_n S.1 S.2.1 dX5_text_0 rfl (lv_at hl 0 rfl) ?_
  refine lv_aload_n S.1 S.2.1 dX5_text_1 rfl (lv_at hl 0 rfl) ?_
  refine w_getr S hW in_X5 0 rfl rfl 0 (by decide) q1651 rfl rfl dX5_text_2 ?_
  refine r_iconst S dX5_text_5 ?_
  refine w_ald S hW 1 0 rfl rfl (by omega) dX5_text_6 ?_
  refine w_puti S hW in_X5 tyX5 tyX5_ok nmX5 0 rfl rfl 2 (by decide) q1653 rfl rfl rfl rfl rfl (z := (σ 0 4)) rfl dX5_text_7 (fun H locs hW => ?_)
  obtain ⟨σ1, e_σ1⟩ : ∃ z, z = (up σ 2 0 (σ 0 4)) := ⟨_, rfl⟩
  rw [← e_σ1] at hW
  refine lv_aload_n S.1 S.2.1 dX5_text_10 rfl (lv_at hl 0 rfl) ?_
  refine w_getr S hW in_X5 0 rfl rfl 0 (by decide) q1651 rfl rfl dX5_text_11 ?_
  refine r_iconst S dX5_text_14 ?_
  refine r_iconst S dX5_text_15 ?_
  refine w_ast S hW 1 0 rfl rfl rfl (z := 0) (by omega) dX5_text_16 (fun H locs hW => ?_)
  obtain ⟨σ2, e_σ2⟩ : ∃ z, z = (up σ1 0 4 0) := ⟨_, rfl⟩
  rw [← e_σ2] at hW
  refine lv_aload_n S.1 S.2.1 dX5_text_17 rfl (lv_at hl 0 rfl) ?_
  refine w_getr S hW in_X5 0 rfl rfl 0 (by decide) q1651 rfl rfl dX5_text_18 ?_
  refine r_iconst S dX5_text_21 ?_
  refine r_iconst S dX5_text_22 ?_
  refine w_ast S hW 1 0 rfl rfl rfl (z := 0) (by omega) dX5_text_23 (fun H locs hW => ?_)
  obtain ⟨σ3, e_σ3⟩ : ∃ z, z = (up σ2 0 5 0) := ⟨_, rfl⟩
  rw [← e_σ3] at hW
  refine lv_aload_n S.1 S.2.1 dX5_text_24 rfl (lv_at hl 0 rfl) ?_
  refine w_getr S hW in_X5 0 rfl rfl 0 (by decide) q1651 rfl rfl dX5_text_25 ?_
  refine r_bipush S dX5_text_28 (by decide) ?_
  refine r_iconst S dX5_text_30 ?_
  refine w_ast S hW 1 0 rfl rfl rfl (z := (-1)) (by omega) dX5_text_31 (fun H locs hW => ?_)
  obtain ⟨σ4, e_σ4⟩ : ∃ z, z = (up σ3 0 6 (-1)) := ⟨_, rfl⟩
  rw [← e_σ4] at hW
  have a4 : ∀ j : Int, σ4 0 j = if j = 4 then 0 else if j = 5 then 0 else if j = 6 then -1 else σ 0 j := fun j => by rw [e_σ4, e_σ3, e_σ2, e_σ1]; by_cases h4 : j = 4; (rw [h4, up_nei (by omega), up_nei (by omega), up_self, if_pos rfl]); (by_cases h5 : j = 5; (rw [h5, up_nei (by omega), up_self, if_neg (by omega), if_pos rfl]); (by_cases h6 : j = 6; (rw [h6, up_self, if_neg (by omega), if_neg (by omega), if_pos rfl]); (rw [up_nei h6, up_nei h5, up_nei h4, up_ne (by decide), if_neg h4, if_neg h5, if_neg h6])))
  have s4 : same [0, 2] σ σ4 := by rw [e_σ4, e_σ3, e_σ2, e_σ1]; exact same_up (same_up (same_up (same_up same_rf (by decide)) (by decide)) (by decide)) (by decide)
  have z4 : σ4 2 0 = σ 0 4 := by rw [e_σ4, e_σ3, e_σ2, e_σ1, up_ne (by decide), up_ne (by decide), up_ne (by decide), up_self]
  have c4 : ∀ k : Int, 0 ≤ k → k ≤ 3 → σ4 0 k = σ 0 k := fun k k0 k1 => by rw [a4 k, if_neg (by omega), if_neg (by omega), if_neg (by omega)]
  have cut_68 : ∀ (H : Heap) (locs : List Loc) (ls : Array Slot), (¬ txO (σ 0) sort at_) → WD G shM ad (aM ad) s s.heap σ4 H locs → lv_has ls 5 [(0, .ref (ad 0)), (1, .int (iI sort)), (2, .int (iI at_))] → W p l e (⟨9, 0, 0, 209⟩ : Room) s m ([.ref (ad 0), .int (iI sort), .int (iI at_)] : List Value).toArray below meth c H locs 0 0 (MQ below (qS G shM ad (aM ad) (rI (fun r σ' => (r = sText (σ 0) sort at_) ∧ (σ' 0 = txA (σ 0) sort at_) ∧ (same [0, 2, 3, 4, 5, 6, 7, 8, 9] σ σ')))) ([.ref (ad 0), .int (iI sort), .int (iI at_)] : List Value).toArray s 0 0 (aM ad)) (F0 m 68 ls []) := by
    intro H locs ls hno hW hl
    refine r_bipush S dX5_text_68 (by decide) ?_
    exact e_iS S hr hlk hW ⟨(-2), rfl, ⟨(by unfold sText; rw [if_neg (fun z => hno (dP_t.mp z))]), (by unfold txA; rw [if_neg (fun z => hno (dP_t.mp z))]; exact funext a4), (same_w s4 (by decide))⟩⟩ dX5_text_70
  have cut_71 : ∀ (H : Heap) (locs : List Loc) (ls : Array Slot), (txO (σ 0) sort at_) → WD G shM ad (aM ad) s s.heap σ4 H locs → lv_has ls 5 [(0, .ref (ad 0)), (1, .int (iI sort)), (2, .int (iI at_))] → W p l e (⟨9, 0, 0, 209⟩ : Room) s m ([.ref (ad 0), .int (iI sort), .int (iI at_)] : List Value).toArray below meth c H locs 0 0 (MQ below (qS G shM ad (aM ad) (rI (fun r σ' => (r = sText (σ 0) sort at_) ∧ (σ' 0 = txA (σ 0) sort at_) ∧ (same [0, 2, 3, 4, 5, 6, 7, 8, 9] σ σ')))) ([.ref (ad 0), .int (iI sort), .int (iI at_)] : List Value).toArray s 0 0 (aM ad)) (F0 m 71 ls []) := by
    intro H locs ls hok hW hl
    have hs3 := hok.1
    have hc4 := c4 sort (by omega) (by omega)
    have wcs := wc sort (by omega) (by omega)
    refine lv_aload_n S.1 S.2.1 dX5_text_71 rfl (lv_at hl 0 rfl) ?_
    refine r_iconst S dX5_text_72 ?_
    refine w_puti S hW in_X5 tyX5 tyX5_ok nmX5 0 rfl rfl 3 (by decide) q1654 rfl rfl rfl rfl rfl (z := 0) rfl dX5_text_73 (fun H locs hW => ?_)
    obtain ⟨σ5, e_σ5⟩ : ∃ z, z = (up σ4 3 0 0) := ⟨_, rfl⟩
    rw [← e_σ5] at hW
    refine lv_aload_n S.1 S.2.1 dX5_text_76 rfl (lv_at hl 0 rfl) ?_
    refine r_iconst S dX5_text_77 ?_
    refine w_putz S hW in_X5 tyX5 tyX5_ok nmX5 0 rfl rfl 8 (by decide) q1659 rfl rfl rfl rfl rfl (z := 0) rfl (by omega) dX5_text_78 (fun H locs hW => ?_)
    obtain ⟨σ6, e_σ6⟩ : ∃ z, z = (up σ5 8 0 0) := ⟨_, rfl⟩
    rw [← e_σ6] at hW
    refine lv_aload_n S.1 S.2.1 dX5_text_81 rfl (lv_at hl 0 rfl) ?_
    refine lv_iload_n S.1 S.2.1 dX5_text_82 rfl (lv_at hl 1 rfl) ?_
    refine c_VSv S hW (tX5_clears l G ad σ6 sort (by omega)) (cw_X5_187 S.2.2.2.2 ⟨Nat.le_of_ble_eq_true rfl, Nat.le_of_ble_eq_true rfl⟩) eBlind_T (fun _ _ _ => trivial) (w_recv hW (q0 := 0) rfl rfl) rfl hl.1 (rest := []) rfl (Nat.le_of_ble_eq_true rfl) dX5_text_83 ⟨Nat.le_of_ble_eq_true rfl, Nat.le_of_ble_eq_true rfl⟩ (fun σ83 H locs q83 hW => ?_)
    obtain ⟨q83_rd, q83_sm⟩ := q83
    have s83 : same [3, 8, 9] σ4 σ83 := same_tr (by rw [e_σ6, e_σ5]; exact same_up (same_up same_rf (by decide)) (by decide)) q83_sm (by decide)
    have tp83 : Tap σ83 (fun j => σ 0 (10 + j)) (σ 0 4) := ⟨by rw [s83 2 (by decide)]; exact z4, w4, fun j j0 j1 => ⟨by rw [s83 0 (by decide), a4 (10 + j), if_neg (by omega), if_neg (by omega), if_neg (by omega)], wt j j0 j1⟩⟩
    have n83 : σ83 3 0 = 0 := by rw [q83_sm 3 (by decide), e_σ6, e_σ5, up_ne (by decide), up_self]
    have g83 : σ83 8 0 = 0 := by rw [q83_sm 8 (by decide), e_σ6, up_self]
    refine lv_aload_n S.1 S.2.1 dX5_text_86 rfl (lv_at hl 0 rfl) ?_
    refine c_VSv S hW (tX5_advance l G ad σ83 (fun j => σ 0 (10 + j)) (σ 0 4) 0 (tp83) (⟨n83, by omega, by omega⟩)) (cw_X5_153 S.2.2.2.2 ⟨Nat.le_of_ble_eq_true rfl, Nat.le_of_ble_eq_true rfl⟩) eBlind_T (fun _ _ _ => trivial) (w_recv hW (q0 := 0) rfl rfl) rfl hl.1 (rest := []) rfl (Nat.le_of_ble_eq_true rfl) dX5_text_87 ⟨Nat.le_of_ble_eq_true rfl, Nat.le_of_ble_eq_true rfl⟩ (fun σ87 H locs q87 hW => ?_)
    obtain ⟨q87_cur, q87_sm⟩ := q87
    have m87 : MP σ87 (fun j => σ 0 (10 + j)) (σ 0 4) ((0, (0, 0, -1), clR sort) : PS) := ⟨⟨Tap_eq tp83 (q87_sm 2 (by decide)) (q87_sm 0 (by decide)), q87_cur, (show 0 ≤ (0 : Int) ∧ (0 : Int) ≤ 601 by omega), ⟨by rw [q87_sm 8 (by decide)]; exact g83, by rw [q87_sm 0 (by decide), s83 0 (by decide), a4 5, if_neg (by omega), if_pos rfl], by rw [q87_sm 0 (by decide), s83 0 (by decide), a4 6, if_neg (by omega), if_neg (by omega), if_pos rfl]⟩, (show eOk ((0, 0, -1) : ER) from ⟨Or.inl rfl, (by decide : 0 ≤ (0 : Int) ∧ (0 : Int) ≤ 4), (by decide : (-1 : Int) ≤ -1 ∧ (-1 : Int) ≤ 601)⟩)⟩, by rw [q87_sm 9 (by decide)]; exact q83_rd⟩
    have w87 : MSr σ4 σ87 := ⟨sameA_eq ((q87_sm 0 (by decide)).trans (s83 0 (by decide))), same_tr (same_w s83 (by decide)) q87_sm (by decide)⟩
    have cut_90 : ∀ (N_90 : Nat) (Q : PS) (σ7 : St) (H : Heap) (locs : List Loc) (ls : Array Slot), (MP σ7 (fun j => σ 0 (10 + j)) (σ 0 4) Q) → (cnt sort Q.2.2) → (txL (fun j => σ 0 (10 + j)) (σ 0 4) sort Q = (txF (σ 0) sort)) → (MSr σ4 σ7) → ((602 - txQ Q).toNat) < N_90 → WD G shM ad (aM ad) s s.heap σ7 H locs → lv_has ls 5 [(0, .ref (ad 0)), (1, .int (iI sort)), (2, .int (iI at_))] → W p l e (⟨9, 0, 0, 209⟩ : Room) s m ([.ref (ad 0), .int (iI sort), .int (iI at_)] : List Value).toArray below meth c H locs 0 0 (MQ below (qS G shM ad (aM ad) (rI (fun r σ' => (r = sText (σ 0) sort at_) ∧ (σ' 0 = txA (σ 0) sort at_) ∧ (same [0, 2, 3, 4, 5, 6, 7, 8, 9] σ σ')))) ([.ref (ad 0), .int (iI sort), .int (iI at_)] : List Value).toArray s 0 0 (aM ad)) (F0 m 90 ls []) := by
      intro N_90
      induction N_90 with
      | zero =>
        intro Q σ7 H locs ls hq hct hit tq hμ_90 hW hl
        exact absurd hμ_90 (by omega)
      | succ N_90 ih_90 =>
        intro Q σ7 H locs ls hq hct hit tq hμ_90 hW hl
        have fq := MP_at hq
        have fq5 := MP_5 hq
        have cut_160 : ∀ (H : Heap) (locs : List Loc) (ls : Array Slot), (¬ txC (fun j => σ 0 (10 + j)) (σ 0 4) Q) → WD G shM ad (aM ad) s s.heap σ7 H locs → lv_has ls 5 [(0, .ref (ad 0)), (1, .int (iI sort)), (2, .int (iI at_))] → W p l e (⟨9, 0, 0, 209⟩ : Room) s m ([.ref (ad 0), .int (iI sort), .int (iI at_)] : List Value).toArray below meth c H locs 0 0 (MQ below (qS G shM ad (aM ad) (rI (fun r σ' => (r = sText (σ 0) sort at_) ∧ (σ' 0 = txA (σ 0) sort at_) ∧ (same [0, 2, 3, 4, 5, 6, 7, 8, 9] σ σ')))) ([.ref (ad 0), .int (iI sort), .int (iI at_)] : List Value).toArray s 0 0 (aM ad)) (F0 m 160 ls []) := by
          intro H locs ls hnc hW hl
          have hF : Q = (txF (σ 0) sort) := by rw [← hit, txL_n hnc]
          have f5 : σ7 0 5 = (txF (σ 0) sort).2.1.2.1 := by rw [← hF]; exact hq.1.2.2.2.1.2.1
          have f6 : σ7 0 6 = (txF (σ 0) sort).2.1.2.2 := by rw [← hF]; exact hq.1.2.2.2.1.2.2
          have fo := hq.1.2.2.2.2
          rw [hF] at fo
          have a7 : ∀ j : Int, σ7 0 j = if j = 4 then 0 else if j = 5 then (txF (σ 0) sort).2.1.2.1 else if j = 6 then (txF (σ 0) sort).2.1.2.2 else σ 0 j := fun j => by by_cases h5 : j = 5; (rw [h5, if_neg (by omega), if_pos rfl]; exact f5); (by_cases h6 : j = 6; (rw [h6, if_neg (by omega), if_neg (by omega), if_pos rfl]; exact f6); (rw [tq.1 j h5 h6, a4 j, if_neg h5, if_neg h6, if_neg h5, if_neg h6]))
          have hc7 : σ7 0 sort = σ 0 sort := by rw [a7 sort, if_neg (by omega), if_neg (by omega), if_neg (by omega)]
          have of5 := fo.2.1
          have s7 : same [0, 2, 3, 4, 5, 6, 7, 8, 9] σ σ7 := same_tr (same_w s4 (by decide)) tq.2 (by decide)
          have r7 : σ7 9 = (txF (σ 0) sort).2.2 := by rw [← hF]; exact hq.2
          refine lv_aload_n S.1 S.2.1 dX5_text_160 rfl (lv_at hl 0 rfl) ?_
          refine w_getr S hW in_X5 0 rfl rfl 0 (by decide) q1651 rfl rfl dX5_text_161 ?_
          refine r_iconst S dX5_text_164 ?_
          refine w_ald S hW 1 0 rfl rfl (by omega) dX5_text_165 ?_
          refine r_if_eq S (tgt := 171) dX5_text_166 rfl (by omega) (fun c_166 => ?_) (fun c_166 => ?_)
          ·
            have hk2 : 0 ≤ (txK (σ 0) sort at_) ∧ (txK (σ 0) sort at_) ≤ 1 := by have z := hok.2; unfold txK; by_cases h1 : at_ = -1; (rw [if_pos h1] at z ⊢; omega); (rw [if_neg h1] at z ⊢; omega)
            have hpl := plO_rng hs3 hk2
            have cut_186 : ∀ (H : Heap) (locs : List Loc) (ls : Array Slot), WD G shM ad (aM ad) s s.heap σ7 H locs → lv_has ls 5 [(0, .ref (ad 0)), (1, .int (iI sort)), (2, .int (iI at_))] → W p l e (⟨9, 0, 0, 209⟩ : Room) s m ([.ref (ad 0), .int (iI sort), .int (iI at_)] : List Value).toArray below meth c H locs 0 0 (MQ below (qS G shM ad (aM ad) (rI (fun r σ' => (r = sText (σ 0) sort at_) ∧ (σ' 0 = txA (σ 0) sort at_) ∧ (same [0, 2, 3, 4, 5, 6, 7, 8, 9] σ σ')))) ([.ref (ad 0), .int (iI sort), .int (iI at_)] : List Value).toArray s 0 0 (aM ad)) (F0 m 186 ls [.int (iI (txK (σ 0) sort at_))]) := by
              intro H locs ls hW hl
              refine lv_istore_n (lv' := [(3, .int (iI (txK (σ 0) sort at_))), (0, .ref (ad 0)), (1, .int (iI sort)), (2, .int (iI at_))]) S.1 S.2.1 dX5_text_186 rfl hl (by decide) rfl (fun ls hl => ?_)
              have cut_202 : ∀  (σ9 : St) (H : Heap) (locs : List Loc) (ls : Array Slot), (∀ j : Int, σ9 0 j = if j = 4 then 0 else if j = 5 then 0 else if j = 6 then (txF (σ 0) sort).2.1.2.2 else if j = sort ∧ at_ = -1 then σ 0 sort + 1 else σ 0 j) → (same [0, 2, 3, 4, 5, 6, 7, 8, 9] σ σ9) → (σ9 9 = (txF (σ 0) sort).2.2) → WD G shM ad (aM ad) s s.heap σ9 H locs → lv_has ls 5 [(3, .int (iI (txK (σ 0) sort at_))), (0, .ref (ad 0)), (1, .int (iI sort)), (2, .int (iI at_))] → W p l e (⟨9, 0, 0, 209⟩ : Room) s m ([.ref (ad 0), .int (iI sort), .int (iI at_)] : List Value).toArray below meth c H locs 0 0 (MQ below (qS G shM ad (aM ad) (rI (fun r σ' => (r = sText (σ 0) sort at_) ∧ (σ' 0 = txA (σ 0) sort at_) ∧ (same [0, 2, 3, 4, 5, 6, 7, 8, 9] σ σ')))) ([.ref (ad 0), .int (iI sort), .int (iI at_)] : List Value).toArray s 0 0 (aM ad)) (F0 m 202 ls []) := by
                intro σ9 H locs ls a9 s9 r9 hW hl
                refine r_iconst S dX5_text_202 ?_
                refine lv_istore (lv' := [(4, .int (iI 0)), (3, .int (iI (txK (σ 0) sort at_))), (0, .ref (ad 0)), (1, .int (iI sort)), (2, .int (iI at_))]) S.1 S.2.1 dX5_text_203 hl (by decide) rfl (fun ls hl => ?_)
                have cut_205 : ∀ (N_205 : Nat) (i : Int) (σ0 : St) (H : Heap) (locs : List Loc) (ls : Array Slot), (0 ≤ i ∧ i ≤ szO sort) → (∀ j : Int, σ0 0 j = if (plO sort (txK (σ 0) sort at_)) ≤ j ∧ j < (plO sort (txK (σ 0) sort at_)) + i then (txF (σ 0) sort).2.2 (j - (plO sort (txK (σ 0) sort at_))) else σ9 0 j) → (same [0] σ9 σ0) → ((szO sort - i).toNat) < N_205 → WD G shM ad (aM ad) s s.heap σ0 H locs → lv_has ls 5 [(4, .int (iI i)), (3, .int (iI (txK (σ 0) sort at_))), (0, .ref (ad 0)), (1, .int (iI sort)), (2, .int (iI at_))] → W p l e (⟨9, 0, 0, 209⟩ : Room) s m ([.ref (ad 0), .int (iI sort), .int (iI at_)] : List Value).toArray below meth c H locs 0 0 (MQ below (qS G shM ad (aM ad) (rI (fun r σ' => (r = sText (σ 0) sort at_) ∧ (σ' 0 = txA (σ 0) sort at_) ∧ (same [0, 2, 3, 4, 5, 6, 7, 8, 9] σ σ')))) ([.ref (ad 0), .int (iI sort), .int (iI at_)] : List Value).toArray s 0 0 (aM ad)) (F0 m 205 ls []) := by
                  intro N_205
                  induction N_205 with
                  | zero =>
                    intro i σ0 H locs ls hi aa sa hμ_205 hW hl
                    exact absurd hμ_205 (by omega)
                  | succ N_205 ih_205 =>
                    intro i σ0 H locs ls hi aa sa hμ_205 hW hl
                    refine lv_iload S.1 S.2.1 dX5_text_205 (lv_at hl 0 rfl) ?_
                    refine lv_iload_n S.1 S.2.1 dX5_text_207 rfl (lv_at hl 3 rfl) ?_
                    refine c_SPw S hW (tX5_sizeOf l sort (by omega)) (cw_X5_203 S.2.2.2.2 ⟨Nat.le_of_ble_eq_true rfl, Nat.le_of_ble_eq_true rfl⟩) rfl hl.1 (rest := [.int (iI i)]) rfl (Nat.le_of_ble_eq_true rfl) dX5_text_208 ⟨Nat.le_of_ble_eq_true rfl, Nat.le_of_ble_eq_true rfl⟩ (fun locs hW => ?_)
                    refine r_as (szO sort) (rfl) ?_
                    refine r_icmp_ge S (tgt := 240) dX5_text_211 rfl (by omega) (fun c_211 => ?_) (fun c_211 => ?_)
                    ·
                      refine lv_iload_n S.1 S.2.1 dX5_text_240 rfl (lv_at hl 1 rfl) ?_
                      exact e_iS S hr hlk hW ⟨(txK (σ 0) sort at_), rfl, ⟨(by unfold sText; rw [if_pos (dP_t.mpr hok), if_pos (by omega)]), (by unfold txA; rw [if_pos (dP_t.mpr hok), if_pos (by omega)]; exact funext (fun j => by rw [aa j, show i = szO sort by omega, a9 j])), (same_tr s9 sa (by decide))⟩⟩ dX5_text_241
                    ·
                      refine lv_aload_n S.1 S.2.1 dX5_text_214 rfl (lv_at hl 2 rfl) ?_
                      refine w_getr S hW in_X5 0 rfl rfl 0 (by decide) q1651 rfl rfl dX5_text_215 ?_
                      refine lv_iload_n S.1 S.2.1 dX5_text_218 rfl (lv_at hl 3 rfl) ?_
                      refine lv_iload_n S.1 S.2.1 dX5_text_219 rfl (lv_at hl 1 rfl) ?_
                      refine c_SPw S hW (tX5_placeOf l sort (txK (σ 0) sort at_) (by omega)) (cw_X5_206 S.2.2.2.2 ⟨Nat.le_of_ble_eq_true rfl, Nat.le_of_ble_eq_true rfl⟩) rfl hl.1 (rest := [.ref (ad 1)]) rfl (Nat.le_of_ble_eq_true rfl) dX5_text_220 ⟨Nat.le_of_ble_eq_true rfl, Nat.le_of_ble_eq_true rfl⟩ (fun locs hW => ?_)
                      refine r_as (plO sort (txK (σ 0) sort at_)) (rfl) ?_
                      refine lv_iload S.1 S.2.1 dX5_text_223 (lv_at hl 0 rfl) ?_
                      refine r_iadd S dX5_text_225 ?_
                      refine lv_aload_n S.1 S.2.1 dX5_text_226 rfl (lv_at hl 2 rfl) ?_
                      refine w_getr S hW in_X5 0 rfl rfl 9 (by decide) q1660 rfl rfl dX5_text_227 ?_
                      refine lv_iload S.1 S.2.1 dX5_text_230 (lv_at hl 0 rfl) ?_
                      refine w_ald S hW 3 0 rfl rfl (by omega) dX5_text_232 ?_
                      refine w_ast S hW 1 0 rfl rfl rfl (z := (σ0 9 i)) (by omega) dX5_text_233 (fun H locs hW => ?_)
                      refine lv_iinc (v := iI (i + 1)) (lv' := [(4, .int (iI (i + 1))), (3, .int (iI (txK (σ 0) sort at_))), (0, .ref (ad 0)), (1, .int (iI sort)), (2, .int (iI at_))]) S.1 S.2.1 dX5_text_234 hl (k := 0) rfl (iI_add _ _) (by decide) rfl (fun ls hl => ?_)
                      refine lv_goto (tgt := 205) S.1 S.2.1 dX5_text_237 rfl ?_
                      exact ih_205 (i + 1) (up σ0 0 ((plO sort (txK (σ 0) sort at_)) + i) (σ0 9 i)) H _ _ (by omega) (fun j => by by_cases hj : j = (plO sort (txK (σ 0) sort at_)) + i; (rw [hj, up_self, if_pos (by omega), sa 9 (by decide), r9, show (plO sort (txK (σ 0) sort at_)) + i - (plO sort (txK (σ 0) sort at_)) = i by omega]); (rw [up_nei hj, aa j]; by_cases h8 : (plO sort (txK (σ 0) sort at_)) ≤ j ∧ j < (plO sort (txK (σ 0) sort at_)) + i; (rw [if_pos h8, if_pos (by omega)]); (rw [if_neg h8, if_neg (by omega)]))) (same_up sa (by decide)) (by omega) hW (lv_sub hl [0, 1, 2, 3, 4] rfl)
                exact cut_205 _ 0 σ9 H _ _ (by omega) (fun j => by rw [if_neg (by omega)]) (same_rf) (Nat.lt_succ_self _) hW (lv_sub hl [0, 1, 2, 3, 4] rfl)
              refine lv_iload_n S.1 S.2.1 dX5_text_187 rfl (lv_at hl 3 rfl) ?_
              refine r_iconst S dX5_text_188 ?_
              refine r_icmp_ne S (tgt := 202) dX5_text_189 rfl (by omega) (fun c_189 => ?_) (fun c_189 => ?_)
              ·
                exact cut_202 σ7 H _ _ (fun j => by first | (rw [a7 j]; by_cases h4 : j = 4; (rw [if_pos h4, if_pos h4]); (rw [if_neg h4, if_neg h4]; by_cases h5 : j = 5; (rw [if_pos h5, if_pos h5]; omega); (rw [if_neg h5, if_neg h5]; by_cases h6 : j = 6; (rw [if_pos h6, if_pos h6]); (rw [if_neg h6, if_neg h6, if_neg (by omega)])))) | (by_cases hj : j = sort; (rw [hj, up_self, if_neg (by omega), if_neg (by omega), if_neg (by omega), if_pos (by omega), hc7]); (rw [up_nei hj, a7 j]; by_cases h4 : j = 4; (rw [if_pos h4, if_pos h4]); (rw [if_neg h4, if_neg h4]; by_cases h5 : j = 5; (rw [if_pos h5, if_pos h5]; omega); (rw [if_neg h5, if_neg h5]; by_cases h6 : j = 6; (rw [if_pos h6, if_pos h6]); (rw [if_neg h6, if_neg h6, if_neg (by omega)])))))) (by first | exact s7 | exact same_up s7 (by decide)) (by first | exact r7 | (rw [up_nek (by decide)]; exact r7)) hW (lv_sub hl [0, 1, 2, 3] rfl)
              ·
                refine lv_aload_n S.1 S.2.1 dX5_text_192 rfl (lv_at hl 1 rfl) ?_
                refine w_getr S hW in_X5 0 rfl rfl 0 (by decide) q1651 rfl rfl dX5_text_193 ?_
                refine lv_iload_n S.1 S.2.1 dX5_text_196 rfl (lv_at hl 2 rfl) ?_
                refine lv_dup2_11 S.1 S.2.1 dX5_text_197 rfl rfl ?_
                refine w_ald S hW 1 0 rfl rfl (by omega) dX5_text_198 ?_
                refine r_iconst S dX5_text_199 ?_
                refine r_iadd S dX5_text_200 ?_
                refine w_ast S hW 1 0 rfl rfl rfl (z := ((σ7 0 sort) + 1)) (by omega) dX5_text_201 (fun H locs hW => ?_)
                exact cut_202 (up σ7 0 sort ((σ7 0 sort) + 1)) H _ _ (fun j => by first | (rw [a7 j]; by_cases h4 : j = 4; (rw [if_pos h4, if_pos h4]); (rw [if_neg h4, if_neg h4]; by_cases h5 : j = 5; (rw [if_pos h5, if_pos h5]; omega); (rw [if_neg h5, if_neg h5]; by_cases h6 : j = 6; (rw [if_pos h6, if_pos h6]); (rw [if_neg h6, if_neg h6, if_neg (by omega)])))) | (by_cases hj : j = sort; (rw [hj, up_self, if_neg (by omega), if_neg (by omega), if_neg (by omega), if_pos (by omega), hc7]); (rw [up_nei hj, a7 j]; by_cases h4 : j = 4; (rw [if_pos h4, if_pos h4]); (rw [if_neg h4, if_neg h4]; by_cases h5 : j = 5; (rw [if_pos h5, if_pos h5]; omega); (rw [if_neg h5, if_neg h5]; by_cases h6 : j = 6; (rw [if_pos h6, if_pos h6]); (rw [if_neg h6, if_neg h6, if_neg (by omega)])))))) (by first | exact s7 | exact same_up s7 (by decide)) (by first | exact r7 | (rw [up_nek (by decide)]; exact r7)) hW (lv_sub hl [0, 1, 2, 3] rfl)
            refine lv_iload_n S.1 S.2.1 dX5_text_171 rfl (lv_at hl 2 rfl) ?_
            refine r_iconst S dX5_text_172 ?_
            refine r_icmp_ne S (tgt := 185) dX5_text_173 rfl (by omega) (fun c_173 => ?_) (fun c_173 => ?_)
            ·
              refine lv_iload_n S.1 S.2.1 dX5_text_185 rfl (lv_at hl 2 rfl) ?_
              refine r_as (txK (σ 0) sort at_) (by unfold txK; first | (rw [if_pos (by omega)]; exact hc7) | rw [if_neg (by omega)]) ?_
              exact cut_186 H _ _ hW (lv_sub hl [0, 1, 2] rfl)
            ·
              refine lv_aload_n S.1 S.2.1 dX5_text_176 rfl (lv_at hl 0 rfl) ?_
              refine w_getr S hW in_X5 0 rfl rfl 0 (by decide) q1651 rfl rfl dX5_text_177 ?_
              refine lv_iload_n S.1 S.2.1 dX5_text_180 rfl (lv_at hl 1 rfl) ?_
              refine w_ald S hW 1 0 rfl rfl (by omega) dX5_text_181 ?_
              refine lv_goto (tgt := 186) S.1 S.2.1 dX5_text_182 rfl ?_
              refine r_as (txK (σ 0) sort at_) (by unfold txK; first | (rw [if_pos (by omega)]; exact hc7) | rw [if_neg (by omega)]) ?_
              exact cut_186 H _ _ hW (lv_sub hl [0, 1, 2] rfl)
          ·
            refine r_iconst S dX5_text_169 ?_
            exact e_iS S hr hlk hW ⟨(-1), rfl, ⟨(by unfold sText; rw [if_pos (dP_t.mpr hok), if_neg (by omega)]), (by unfold txA; rw [if_pos (dP_t.mpr hok), if_neg (by omega)]; exact funext a7), (s7)⟩⟩ dX5_text_170
        refine lv_aload_n S.1 S.2.1 dX5_text_90 rfl (lv_at hl 0 rfl) ?_
        refine w_geti S hW in_X5 0 rfl rfl 8 (by decide) q1659 rfl rfl dX5_text_91 ?_
        refine r_if_ne S (tgt := 160) dX5_text_94 rfl (by omega) (fun c_94 => ?_) (fun c_94 => ?_)
        ·
          exact cut_160 H _ _ (fun z => by have z1 := z.2.1; have z2 := z.2.2; omega) hW (lv_sub hl [0, 1, 2] rfl)
        ·
          refine lv_aload_n S.1 S.2.1 dX5_text_97 rfl (lv_at hl 0 rfl) ?_
          refine w_geti S hW in_X5 0 rfl rfl 5 (by decide) q1656 rfl rfl dX5_text_98 ?_
          refine r_if_eq S (tgt := 160) dX5_text_101 rfl (by omega) (fun c_101 => ?_) (fun c_101 => ?_)
          ·
            exact cut_160 H _ _ (fun z => by have z1 := z.2.1; have z2 := z.2.2; omega) hW (lv_sub hl [0, 1, 2] rfl)
          ·
            have hc : txC (fun j => σ 0 (10 + j)) (σ 0 4) Q := ⟨⟨fq.2.2.2.1, fq.2.2.2.2.1.2⟩, by omega, by omega⟩
            refine lv_iload_n S.1 S.2.1 dX5_text_104 rfl (lv_at hl 1 rfl) ?_
            have sw_105 : sort = 0 ∨ sort = 1 ∨ sort = 2 ∨ (sort < 0 ∨ 2 < sort) := by omega
            rcases sw_105 with c_105 | c_105 | c_105 | c_105
            ·
              refine r_tabIn S (tgt := 132) dX5_text_105 (by omega) 0 c_105 (by decide) (by decide) rfl rfl ?_
              refine lv_aload_n S.1 S.2.1 dX5_text_132 rfl (lv_at hl 0 rfl) ?_
              refine c_VSv S hW (tX5_warLine l G ad σ7 (fun j => σ 0 (10 + j)) (σ 0 4) Q (hq) (hct.1 (by omega))) (cw_X5_191 S.2.2.2.2 ⟨Nat.le_of_ble_eq_true rfl, Nat.le_of_ble_eq_true rfl⟩) eBlind_T (fun _ _ _ => trivial) (w_recv hW (q0 := 0) rfl rfl) rfl hl.1 (rest := []) rfl (Nat.le_of_ble_eq_true rfl) dX5_text_133 ⟨Nat.le_of_ble_eq_true rfl, Nat.le_of_ble_eq_true rfl⟩ (fun σ133 H locs q133 hW => ?_)
              obtain ⟨q133_mp, q133_ot⟩ := q133
              have m133 : MP σ133 (fun j => σ 0 (10 + j)) (σ 0 4) (lnS (fun j => σ 0 (10 + j)) (σ 0 4) sort Q) := by unfold lnS; rw [if_pos (by omega)]; exact q133_mp
              have w133 := MSr_2 tq q133_ot
              refine lv_goto (tgt := 90) S.1 S.2.1 dX5_text_136 rfl ?_
              exact ih_90 (lnS (fun j => σ 0 (10 + j)) (σ 0 4) sort Q) σ133 H _ _ (by first | exact m133 | exact m140 | exact m147 | exact m154) (lnS_cnt hct) ((txL_y hc).symm.trans hit) (by first | exact w133 | exact w140 | exact w147 | exact w154) (by have := txL_go (sort := sort) Q hc (txQ_le hc.1.1.2); omega) hW (lv_sub hl [0, 1, 2] rfl)
            ·
              refine r_tabIn S (tgt := 139) dX5_text_105 (by omega) 1 c_105 (by decide) (by decide) rfl rfl ?_
              refine lv_aload_n S.1 S.2.1 dX5_text_139 rfl (lv_at hl 0 rfl) ?_
              refine c_VSv S hW (tX5_scoreLine l G ad σ7 (fun j => σ 0 (10 + j)) (σ 0 4) Q (hq) (hct.2.1 (by omega))) (cw_X5_194 S.2.2.2.2 ⟨Nat.le_of_ble_eq_true rfl, Nat.le_of_ble_eq_true rfl⟩) eBlind_T (fun _ _ _ => trivial) (w_recv hW (q0 := 0) rfl rfl) rfl hl.1 (rest := []) rfl (Nat.le_of_ble_eq_true rfl) dX5_text_140 ⟨Nat.le_of_ble_eq_true rfl, Nat.le_of_ble_eq_true rfl⟩ (fun σ140 H locs q140 hW => ?_)
              obtain ⟨q140_mp, q140_ot⟩ := q140
              have m140 : MP σ140 (fun j => σ 0 (10 + j)) (σ 0 4) (lnS (fun j => σ 0 (10 + j)) (σ 0 4) sort Q) := by unfold lnS; rw [if_neg (by omega), if_pos (by omega)]; exact q140_mp
              have w140 := MSr_2 tq q140_ot
              refine lv_goto (tgt := 90) S.1 S.2.1 dX5_text_143 rfl ?_
              exact ih_90 (lnS (fun j => σ 0 (10 + j)) (σ 0 4) sort Q) σ140 H _ _ (by first | exact m133 | exact m140 | exact m147 | exact m154) (lnS_cnt hct) ((txL_y hc).symm.trans hit) (by first | exact w133 | exact w140 | exact w147 | exact w154) (by have := txL_go (sort := sort) Q hc (txQ_le hc.1.1.2); omega) hW (lv_sub hl [0, 1, 2] rfl)
            ·
              refine r_tabIn S (tgt := 146) dX5_text_105 (by omega) 2 c_105 (by decide) (by decide) rfl rfl ?_
              refine lv_aload_n S.1 S.2.1 dX5_text_146 rfl (lv_at hl 0 rfl) ?_
              refine c_VSv S hW (tX5_hearingLine l G ad σ7 (fun j => σ 0 (10 + j)) (σ 0 4) Q (hq)) (cw_X5_197 S.2.2.2.2 ⟨Nat.le_of_ble_eq_true rfl, Nat.le_of_ble_eq_true rfl⟩) eBlind_T (fun _ _ _ => trivial) (w_recv hW (q0 := 0) rfl rfl) rfl hl.1 (rest := []) rfl (Nat.le_of_ble_eq_true rfl) dX5_text_147 ⟨Nat.le_of_ble_eq_true rfl, Nat.le_of_ble_eq_true rfl⟩ (fun σ147 H locs q147 hW => ?_)
              obtain ⟨q147_mp, q147_ot⟩ := q147
              have m147 : MP σ147 (fun j => σ 0 (10 + j)) (σ 0 4) (lnS (fun j => σ 0 (10 + j)) (σ 0 4) sort Q) := by unfold lnS; rw [if_neg (by omega), if_neg (by omega), if_pos (by omega)]; exact q147_mp
              have w147 := MSr_2 tq q147_ot
              refine lv_goto (tgt := 90) S.1 S.2.1 dX5_text_150 rfl ?_
              exact ih_90 (lnS (fun j => σ 0 (10 + j)) (σ 0 4) sort Q) σ147 H _ _ (by first | exact m133 | exact m140 | exact m147 | exact m154) (lnS_cnt hct) ((txL_y hc).symm.trans hit) (by first | exact w133 | exact w140 | exact w147 | exact w154) (by have := txL_go (sort := sort) Q hc (txQ_le hc.1.1.2); omega) hW (lv_sub hl [0, 1, 2] rfl)
            ·
              refine r_tabOut S (tgt := 153) dX5_text_105 (by omega) c_105 rfl ?_
              refine lv_aload_n S.1 S.2.1 dX5_text_153 rfl (lv_at hl 0 rfl) ?_
              refine c_VSv S hW (tX5_villageLine l G ad σ7 (fun j => σ 0 (10 + j)) (σ 0 4) Q (hq) (hct.2.2 (by omega))) (cw_X5_200 S.2.2.2.2 ⟨Nat.le_of_ble_eq_true rfl, Nat.le_of_ble_eq_true rfl⟩) eBlind_T (fun _ _ _ => trivial) (w_recv hW (q0 := 0) rfl rfl) rfl hl.1 (rest := []) rfl (Nat.le_of_ble_eq_true rfl) dX5_text_154 ⟨Nat.le_of_ble_eq_true rfl, Nat.le_of_ble_eq_true rfl⟩ (fun σ154 H locs q154 hW => ?_)
              obtain ⟨q154_mp, q154_ot⟩ := q154
              have m154 : MP σ154 (fun j => σ 0 (10 + j)) (σ 0 4) (lnS (fun j => σ 0 (10 + j)) (σ 0 4) sort Q) := by unfold lnS; rw [if_neg (by omega), if_neg (by omega), if_neg (by omega)]; exact q154_mp
              have w154 := MSr_2 tq q154_ot
              refine lv_goto (tgt := 90) S.1 S.2.1 dX5_text_157 rfl ?_
              exact ih_90 (lnS (fun j => σ 0 (10 + j)) (σ 0 4) sort Q) σ154 H _ _ (by first | exact m133 | exact m140 | exact m147 | exact m154) (lnS_cnt hct) ((txL_y hc).symm.trans hit) (by first | exact w133 | exact w140 | exact w147 | exact w154) (by have := txL_go (sort := sort) Q hc (txQ_le hc.1.1.2); omega) hW (lv_sub hl [0, 1, 2] rfl)
    exact cut_90 _ ((0, (0, 0, -1), clR sort) : PS) σ87 H _ _ (m87) (clR_cnt) (rfl) (w87) (Nat.lt_succ_self _) hW (lv_sub hl [0, 1, 2] rfl)
  refine lv_iload_n S.1 S.2.1 dX5_text_32 rfl (lv_at hl 1 rfl) ?_
  refine r_iconst S dX5_text_33 ?_
  refine r_iconst S dX5_text_34 ?_
  refine c_SPw S hW (tX5_isIn l sort 0 3 (by omega)) (cw_X5_145 S.2.2.2.2 ⟨Nat.le_of_ble_eq_true rfl, Nat.le_of_ble_eq_true rfl⟩) rfl hl.1 (rest := []) rfl (Nat.le_of_ble_eq_true rfl) dX5_text_35 ⟨Nat.le_of_ble_eq_true rfl, Nat.le_of_ble_eq_true rfl⟩ (fun locs hW => ?_)
  refine r_ifeq_p S (tgt := 68) dX5_text_38 rfl (fun c_38 => ?_) (fun c_38 => ?_)
  ·
    exact cut_68 H _ _ (fun z => by first | exact c_38 z.1 | (have y := z.2; rw [if_pos (by omega)] at y; omega) | (have y := z.2; rw [if_neg (by omega)] at y; omega)) hW (lv_sub hl [0, 1, 2] rfl)
  ·
    have hc4 := c4 sort (by omega) (by omega)
    have wcs := wc sort (by omega) (by omega)
    refine lv_iload_n S.1 S.2.1 dX5_text_41 rfl (lv_at hl 2 rfl) ?_
    refine r_iconst S dX5_text_42 ?_
    refine r_icmp_ne S (tgt := 59) dX5_text_43 rfl (by omega) (fun c_43 => ?_) (fun c_43 => ?_)
    ·
      refine lv_aload_n S.1 S.2.1 dX5_text_59 rfl (lv_at hl 0 rfl) ?_
      refine lv_iload_n S.1 S.2.1 dX5_text_60 rfl (lv_at hl 1 rfl) ?_
      refine lv_iload_n S.1 S.2.1 dX5_text_61 rfl (lv_at hl 2 rfl) ?_
      refine c_VP S hW (tX5_isOf l G ad σ4 sort at_ (by omega) (by omega) (by omega)) (cw_X5_183 S.2.2.2.2 ⟨Nat.le_of_ble_eq_true rfl, Nat.le_of_ble_eq_true rfl⟩) eBlind_T (fun _ _ _ => trivial) (w_recv hW (q0 := 0) rfl rfl) rfl hl.1 (rest := []) rfl (Nat.le_of_ble_eq_true rfl) dX5_text_62 ⟨Nat.le_of_ble_eq_true rfl, Nat.le_of_ble_eq_true rfl⟩ (fun locs hW => ?_)
      refine r_ifne_p S (tgt := 71) dX5_text_65 rfl (fun c_65 => ?_) (fun c_65 => ?_)
      ·
        exact cut_71 H _ _ (⟨by omega, by first | (rw [if_pos (by omega)]; omega) | (rw [if_neg (by omega)]; omega)⟩) hW (lv_sub hl [0, 1, 2] rfl)
      ·
        exact cut_68 H _ _ (fun z => by first | exact c_38 z.1 | (have y := z.2; rw [if_pos (by omega)] at y; omega) | (have y := z.2; rw [if_neg (by omega)] at y; omega)) hW (lv_sub hl [0, 1, 2] rfl)
    ·
      refine lv_aload_n S.1 S.2.1 dX5_text_46 rfl (lv_at hl 0 rfl) ?_
      refine w_getr S hW in_X5 0 rfl rfl 0 (by decide) q1651 rfl rfl dX5_text_47 ?_
      refine lv_iload_n S.1 S.2.1 dX5_text_50 rfl (lv_at hl 1 rfl) ?_
      refine w_ald S hW 1 0 rfl rfl (by omega) dX5_text_51 ?_
      refine r_iconst S dX5_text_52 ?_
      refine r_icmp_lt S (tgt := 71) dX5_text_53 rfl (by omega) (fun c_53 => ?_) (fun c_53 => ?_)
      ·
        exact cut_71 H _ _ (⟨by omega, by first | (rw [if_pos (by omega)]; omega) | (rw [if_neg (by omega)]; omega)⟩) hW (lv_sub hl [0, 1, 2] rfl)
      ·
        refine lv_goto (tgt := 68) S.1 S.2.1 dX5_text_56 rfl ?_
        exact cut_68 H _ _ (fun z => by first | exact c_38 z.1 | (have y := z.2; rw [if_pos (by omega)] at y; omega) | (have y := z.2; rw [if_neg (by omega)] at y; omega)) hW (lv_sub hl [0, 1, 2] rfl)
