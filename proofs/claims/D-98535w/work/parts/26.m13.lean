set_option maxHeartbeats 4000000 in
theorem tX5_truce (l : Launch) (G : GG) (ad : Nat → Nat) (σ : St) (k : Int) (one : Int) (other : Int) (row : Bool) (hr0 : -2147483648 ≤ k ∧ k < 2147483648 ∧ -2147483648 ≤ one ∧ one < 2147483648 ∧ -2147483648 ≤ other ∧ other < 2147483648) (hdb : WfDB (σ 0)) : Met l yX5_truce (ws_ yX5_truce cX5_truce 7 (some .int)) ⟨6, 0, 0, 138⟩ (wPre G shM ad σ (fun _ => True) [.ref (ad 0), .int (iI k), .int (iI one), .int (iI other), .int (iI (b2i row))]) (qS G shM ad (aM ad) (rI (fun r σ' => (r = sTruce (σ 0) k one other row) ∧ (same [10, 12, 13, 14, 15, 16, 17, 18, 19, 20, 21, 22, 23] σ σ')))) 0 0 (aM ad) := by
  refine wStart (by decide) (Nat.le_of_ble_eq_true rfl) (fun k hk => ⟨k, hk, rfl⟩) (fun p e s m below meth c S hr hlk _ _ ls hW hl => ?_)
  have hl : lv_has ls 7 [(0, .ref (ad 0)), (1, .int (iI k)), (2, .int (iI one)), (3, .int (iI other)), (4, .int (iI (b2i row)))] := hl
  have d0 := hdb.1
  have d1 := hdb.2.1
  have d2 := hdb.2.2.1
  have d3 := hdb.2.2.2.1
  refine lv_aload_n S.1 S.2.1 dX5_truce_0 rfl (lv_at hl 0 rfl) ?_
  refine lv_iload_n S.1 S.2.1 dX5_truce_1 rfl (lv_at hl 1 rfl) ?_
  refine c_VSz S hW (tX5_isWar l G ad σ k (by omega) (by omega)) (cw_X5_224 S.2.2.2.2 ⟨Nat.le_of_ble_eq_true rfl, Nat.le_of_ble_eq_true rfl⟩) eBlind_T (fun _ _ _ => trivial) (w_recv hW (q0 := 0) rfl rfl) rfl hl.1 (rest := []) rfl (Nat.le_of_ble_eq_true rfl) dX5_truce_2 ⟨Nat.le_of_ble_eq_true rfl, Nat.le_of_ble_eq_true rfl⟩ (fun r2 σ2 H locs q2 hW => ?_)
  obtain ⟨rfl, q2_sm, q2_w⟩ := q2
  have e0 : σ2 0 = σ 0 := q2_sm 0 (by decide)
  refine r_ifeq_p S (tgt := 26) dX5_truce_5 rfl (fun c_5 => ?_) (fun c_5 => ?_)
  ·
    refine r_iconst S dX5_truce_26 ?_
    exact e_iS S hr hlk hW ⟨(-1), rfl, ⟨(by unfold sTruce; rw [if_neg (by omega)]), (same_w q2_sm (by decide))⟩⟩ dX5_truce_27
  ·
    have w10 := q2_w (by omega)
    have we : wr σ2 = wAt (σ 0) k := wr_at e0 w10
    have we2 : ∀ j, wr σ2 j = wAt (σ 0) k j := fun j => congrFun we j
    have hWf := hdb.2.2.2.2.2.2.2.2.1 k (by omega) (by omega)
    refine lv_iload_n S.1 S.2.1 dX5_truce_8 rfl (lv_at hl 2 rfl) ?_
    refine r_iconst S dX5_truce_9 ?_
    refine r_iconst S dX5_truce_10 ?_
    refine c_SPw S hW (tX5_isIn l one 0 4 (by omega)) (cw_X5_145 S.2.2.2.2 ⟨Nat.le_of_ble_eq_true rfl, Nat.le_of_ble_eq_true rfl⟩) rfl hl.1 (rest := []) rfl (Nat.le_of_ble_eq_true rfl) dX5_truce_11 ⟨Nat.le_of_ble_eq_true rfl, Nat.le_of_ble_eq_true rfl⟩ (fun locs hW => ?_)
    refine r_ifeq_p S (tgt := 26) dX5_truce_14 rfl (fun c_14 => ?_) (fun c_14 => ?_)
    ·
      refine r_iconst S dX5_truce_26 ?_
      exact e_iS S hr hlk hW ⟨(-1), rfl, ⟨(by unfold sTruce; rw [if_neg (by omega)]), (same_w q2_sm (by decide))⟩⟩ dX5_truce_27
    ·
      refine lv_iload_n S.1 S.2.1 dX5_truce_17 rfl (lv_at hl 3 rfl) ?_
      refine r_iconst S dX5_truce_18 ?_
      refine r_iconst S dX5_truce_19 ?_
      refine c_SPw S hW (tX5_isIn l other 0 4 (by omega)) (cw_X5_145 S.2.2.2.2 ⟨Nat.le_of_ble_eq_true rfl, Nat.le_of_ble_eq_true rfl⟩) rfl hl.1 (rest := []) rfl (Nat.le_of_ble_eq_true rfl) dX5_truce_20 ⟨Nat.le_of_ble_eq_true rfl, Nat.le_of_ble_eq_true rfl⟩ (fun locs hW => ?_)
      refine r_ifne_p S (tgt := 28) dX5_truce_23 rfl (fun c_23 => ?_) (fun c_23 => ?_)
      ·
        have ht := hWf.1
        refine r_iconst S dX5_truce_28 ?_
        refine lv_istore (lv' := [(5, .int (iI 0)), (0, .ref (ad 0)), (1, .int (iI k)), (2, .int (iI one)), (3, .int (iI other)), (4, .int (iI (b2i row)))]) S.1 S.2.1 dX5_truce_29 hl (by decide) rfl (fun ls hl => ?_)
        have cut_31 : ∀ (N_31 : Nat) (n : Int) (σ0 : St) (H : Heap) (locs : List Loc) (ls : Array Slot), (0 ≤ n ∧ n ≤ 6) → (same [12, 13, 14, 15, 16, 17, 18, 19, 20, 21, 22, 23] σ2 σ0) → (trF (wAt (σ 0) k) one other row n (6 - n).toNat = trF (wAt (σ 0) k) one other row 0 6) → ((6 - n).toNat) < N_31 → WD G shM ad (aM ad) s s.heap σ0 H locs → lv_has ls 7 [(5, .int (iI n)), (0, .ref (ad 0)), (1, .int (iI k)), (2, .int (iI one)), (3, .int (iI other)), (4, .int (iI (b2i row)))] → W p l e (⟨6, 0, 0, 138⟩ : Room) s m ([.ref (ad 0), .int (iI k), .int (iI one), .int (iI other), .int (iI (b2i row))] : List Value).toArray below meth c H locs 0 0 (MQ below (qS G shM ad (aM ad) (rI (fun r σ' => (r = sTruce (σ 0) k one other row) ∧ (same [10, 12, 13, 14, 15, 16, 17, 18, 19, 20, 21, 22, 23] σ σ')))) ([.ref (ad 0), .int (iI k), .int (iI one), .int (iI other), .int (iI (b2i row))] : List Value).toArray s 0 0 (aM ad)) (F0 m 31 ls []) := by
          intro N_31
          induction N_31 with
          | zero =>
            intro n σ0 H locs ls hn hsm0 hf hμ_31 hW hl
            exact absurd hμ_31 (by omega)
          | succ N_31 ih_31 =>
            intro n σ0 H locs ls hn hsm0 hf hμ_31 hW hl
            refine lv_iload S.1 S.2.1 dX5_truce_31 (lv_at hl 0 rfl) ?_
            refine r_iconst S dX5_truce_33 ?_
            refine r_icmp_gt S (tgt := 118) dX5_truce_34 rfl (by omega) (fun c_34 => ?_) (fun c_34 => ?_)
            ·
              refine r_iconst S dX5_truce_118 ?_
              exact e_iS S hr hlk hW ⟨(-1), rfl, ⟨(by unfold sTruce; rw [if_pos (by omega), ← hf, show (6 - n).toNat = 0 by omega]; rfl), (same_tr (same_w q2_sm (by decide)) hsm0 (by decide))⟩⟩ dX5_truce_119
            ·
              refine r_iconst S dX5_truce_37 ?_
              refine lv_istore (lv' := [(6, .int (iI 0)), (5, .int (iI n)), (0, .ref (ad 0)), (1, .int (iI k)), (2, .int (iI one)), (3, .int (iI other)), (4, .int (iI (b2i row)))]) S.1 S.2.1 dX5_truce_38 hl (by decide) rfl (fun ls hl => ?_)
              have cut_40 : ∀ (N_40 : Nat) (code : Int) (σ1 : St) (H : Heap) (locs : List Loc) (ls : Array Slot), (0 ≤ code ∧ code ≤ p4 n) → (same [12, 13, 14, 15, 16, 17, 18, 19, 20, 21, 22, 23] σ2 σ1) → (fsI (trP (wAt (σ 0) k) one other n) code = -1) → ((p4 n - code).toNat) < N_40 → WD G shM ad (aM ad) s s.heap σ1 H locs → lv_has ls 7 [(6, .int (iI code)), (5, .int (iI n)), (0, .ref (ad 0)), (1, .int (iI k)), (2, .int (iI one)), (3, .int (iI other)), (4, .int (iI (b2i row)))] → W p l e (⟨6, 0, 0, 138⟩ : Room) s m ([.ref (ad 0), .int (iI k), .int (iI one), .int (iI other), .int (iI (b2i row))] : List Value).toArray below meth c H locs 0 0 (MQ below (qS G shM ad (aM ad) (rI (fun r σ' => (r = sTruce (σ 0) k one other row) ∧ (same [10, 12, 13, 14, 15, 16, 17, 18, 19, 20, 21, 22, 23] σ σ')))) ([.ref (ad 0), .int (iI k), .int (iI one), .int (iI other), .int (iI (b2i row))] : List Value).toArray s 0 0 (aM ad)) (F0 m 40 ls []) := by
                intro N_40
                induction N_40 with
                | zero =>
                  intro code σ1 H locs ls hc hsm hno hμ_40 hW hl
                  exact absurd hμ_40 (by omega)
                | succ N_40 ih_40 =>
                  intro code σ1 H locs ls hc hsm hno hμ_40 hW hl
                  have y0 : σ1 0 = σ 0 := (hsm 0 (by decide)).trans e0
                  have y10 : σ1 10 = σ2 10 := hsm 10 (by decide)
                  have y10b : σ1 10 0 = 610 + 89 * k := by rw [y10]; exact w10
                  have wq : wr σ1 = wAt (σ 0) k := wr_at y0 y10b
                  have wq0 : wr σ1 0 = wAt (σ 0) k 0 := by rw [wq]
                  have hp4 := p4_le (n := n) (by omega)
                  have hp4p := p4_pos n
                  refine lv_iload S.1 S.2.1 dX5_truce_40 (lv_at hl 0 rfl) ?_
                  refine lv_iload S.1 S.2.1 dX5_truce_42 (lv_at hl 1 rfl) ?_
                  refine c_SPw S hW (tX5_codesOf l n (by omega)) (cw_X5_294 S.2.2.2.2 ⟨Nat.le_of_ble_eq_true rfl, Nat.le_of_ble_eq_true rfl⟩) rfl hl.1 (rest := [.int (iI code)]) rfl (Nat.le_of_ble_eq_true rfl) dX5_truce_44 ⟨Nat.le_of_ble_eq_true rfl, Nat.le_of_ble_eq_true rfl⟩ (fun locs hW => ?_)
                  refine r_icmp_ge S (tgt := 112) dX5_truce_47 rfl (by omega) (fun c_47 => ?_) (fun c_47 => ?_)
                  ·
                    have hno9 : fsI (trP (wAt (σ 0) k) one other n) (p4 n) = -1 := by rw [← show code = p4 n by omega]; exact hno
                    refine lv_iinc (v := iI (n + 1)) (lv' := [(5, .int (iI (n + 1))), (6, .int (iI code)), (0, .ref (ad 0)), (1, .int (iI k)), (2, .int (iI one)), (3, .int (iI other)), (4, .int (iI (b2i row)))]) S.1 S.2.1 dX5_truce_112 hl (k := 1) rfl (iI_add _ _) (by decide) rfl (fun ls hl => ?_)
                    refine lv_goto (tgt := 31) S.1 S.2.1 dX5_truce_115 rfl ?_
                    exact ih_31 (n + 1) σ1 H _ _ (by omega) (hsm) (by rw [← hf, show (6 - n).toNat = (6 - (n + 1)).toNat + 1 by omega]; exact (trF_no hno9).symm) (by omega) hW (lv_sub hl [0, 2, 3, 4, 5, 6] rfl)
                  ·
                    have hdl := digL_len (code := code) (n := n) (by omega)
                    have hLV : rowV (rowL (wAt (σ 0) k 0).toNat (digL code n) []) := (rowL_V digL_mem (fun x hx => absurd hx List.not_mem_nil)).1
                    have hLl : (rowL (wAt (σ 0) k 0).toNat (digL code n) []).length = (digL code n).length + ([] : List Int).length := rowL_len (by omega) _ _ _ (Nat.le_refl _)
                    simp only [List.length_nil] at hLl
                    refine lv_aload_n S.1 S.2.1 dX5_truce_50 rfl (lv_at hl 2 rfl) ?_
                    refine r_iconst S dX5_truce_51 ?_
                    refine lv_iload S.1 S.2.1 dX5_truce_52 (lv_at hl 0 rfl) ?_
                    refine lv_iload S.1 S.2.1 dX5_truce_54 (lv_at hl 1 rfl) ?_
                    refine c_VSv S hW (tX5_givesNumber l G ad σ1 0 code n (by omega) (by omega) (by omega)) (cw_X5_297 S.2.2.2.2 ⟨Nat.le_of_ble_eq_true rfl, Nat.le_of_ble_eq_true rfl⟩) eBlind_T (fun _ _ _ => trivial) (w_recv hW (q0 := 0) rfl rfl) rfl hl.1 (rest := []) rfl (Nat.le_of_ble_eq_true rfl) dX5_truce_56 ⟨Nat.le_of_ble_eq_true rfl, Nat.le_of_ble_eq_true rfl⟩ (fun σ56 H locs q56 hW => ?_)
                    obtain ⟨q56_gv, q56_ot, q56_sm⟩ := q56
                    have hsA : same [12, 13, 14, 15, 16, 17, 18, 19, 20, 21, 22, 23] σ2 σ56 := same_tr hsm q56_sm (by decide)
                    refine lv_aload_n S.1 S.2.1 dX5_truce_59 rfl (lv_at hl 2 rfl) ?_
                    refine w_getr S hW in_X5 0 rfl rfl 13 (by decide) q1664 rfl rfl dX5_truce_60 ?_
                    refine r_iconst S dX5_truce_63 ?_
                    refine r_iconst S dX5_truce_64 ?_
                    refine w_ast S hW 5 0 rfl rfl rfl (z := 0) (by omega) dX5_truce_65 (fun H locs hW => ?_)
                    obtain ⟨σ6, e_σ6⟩ : ∃ z, z = (up σ56 13 1 0) := ⟨_, rfl⟩
                    rw [← e_σ6] at hW
                    have hG0 : Gv σ6 0 (digL code n) := by rw [e_σ6]; exact ⟨by rw [up_nei (by decide)]; exact q56_gv.1, fun i i1 i2 => by rw [up_ne (by decide)]; exact q56_gv.2 i i1 i2⟩
                    have hG1 : Gv σ6 1 [] := by rw [e_σ6]; exact ⟨by rw [up_self]; rfl, fun i i1 i2 => absurd i2 (by simp; omega)⟩
                    have hsX : same [12, 13, 14, 15, 16, 17, 18, 19, 20, 21, 22, 23] σ2 σ6 := by rw [e_σ6]; exact same_up hsA (by decide)
                    have y0 : σ6 0 = σ 0 := (hsX 0 (by decide)).trans e0
                    have y10 : σ6 10 = σ2 10 := hsX 10 (by decide)
                    have y10b : σ6 10 0 = 610 + 89 * k := by rw [y10]; exact w10
                    have wq : wr σ6 = wAt (σ 0) k := wr_at y0 y10b
                    have wq0 : wr σ6 0 = wAt (σ 0) k 0 := by rw [wq]
                    refine lv_aload_n S.1 S.2.1 dX5_truce_66 rfl (lv_at hl 2 rfl) ?_
                    refine c_VSv S hW (tX5_laysRow l G ad σ6 (digL code n) ([]) (by omega) (by rw [wq0]; omega) (⟨hG0.1, hG1.1, by omega, by simp⟩) (fun i i1 i2 => by have := hG0.2 i i1 i2; rw [show 12 * 0 + i = i by omega] at this; exact this) (fun i i1 i2 => hG1.2 i i1 i2)) (cw_X5_246 S.2.2.2.2 ⟨Nat.le_of_ble_eq_true rfl, Nat.le_of_ble_eq_true rfl⟩) eBlind_T (fun _ _ _ => trivial) (w_recv hW (q0 := 0) rfl rfl) rfl hl.1 (rest := []) rfl (Nat.le_of_ble_eq_true rfl) dX5_truce_67 ⟨Nat.le_of_ble_eq_true rfl, Nat.le_of_ble_eq_true rfl⟩ (fun σ67 H locs q67 hW => ?_)
                    obtain ⟨q67_len, q67_row, q67_sm⟩ := q67
                    rw [wq0] at q67_len q67_row
                    have hs67 : same [12, 13, 14, 15, 16, 17, 18, 19, 20, 21, 22, 23] σ2 σ67 := same_tr hsX q67_sm (by decide)
                    have y0 : σ67 0 = σ 0 := (hs67 0 (by decide)).trans e0
                    have y10 : σ67 10 = σ2 10 := hs67 10 (by decide)
                    have y10b : σ67 10 0 = 610 + 89 * k := by rw [y10]; exact w10
                    have wq : wr σ67 = wAt (σ 0) k := wr_at y0 y10b
                    have wq0 : wr σ67 0 = wAt (σ 0) k 0 := by rw [wq]
                    refine lv_aload_n S.1 S.2.1 dX5_truce_70 rfl (lv_at hl 2 rfl) ?_
                    refine r_iconst S dX5_truce_71 ?_
                    refine c_VSv S hW (tX5_plays l G ad σ67 0 (rowL (wAt (σ 0) k 0).toNat (digL code n) []) (by omega) (by rw [wq]; exact hWf) (q67_len) (by omega) (q67_row.1) (hLV)) (cw_X5_252 S.2.2.2.2 ⟨Nat.le_of_ble_eq_true rfl, Nat.le_of_ble_eq_true rfl⟩) eBlind_T (fun _ _ _ => trivial) (w_recv hW (q0 := 0) rfl rfl) rfl hl.1 (rest := []) rfl (Nat.le_of_ble_eq_true rfl) dX5_truce_72 ⟨Nat.le_of_ble_eq_true rfl, Nat.le_of_ble_eq_true rfl⟩ (fun σ72 H locs q72 hW => ?_)
                    obtain ⟨q72_snd, q72_sm⟩ := q72
                    rw [wq] at q72_snd
                    have hs72 : same [12, 13, 14, 15, 16, 17, 18, 19, 20, 21, 22, 23] σ2 σ72 := same_tr hs67 q72_sm (by decide)
                    have y0 : σ72 0 = σ 0 := (hs72 0 (by decide)).trans e0
                    have y10 : σ72 10 = σ2 10 := hs72 10 (by decide)
                    have y10b : σ72 10 0 = 610 + 89 * k := by rw [y10]; exact w10
                    have wq : wr σ72 = wAt (σ 0) k := wr_at y0 y10b
                    have wq0 : wr σ72 0 = wAt (σ 0) k 0 := by rw [wq]
                    have n18 : σ72 18 0 = (rowL (wAt (σ 0) k 0).toNat (digL code n) []).length := by rw [q72_sm 18 (by decide)]; exact q67_len
                    refine lv_aload_n S.1 S.2.1 dX5_truce_75 rfl (lv_at hl 2 rfl) ?_
                    refine r_iconst S dX5_truce_76 ?_
                    refine lv_iload_n S.1 S.2.1 dX5_truce_77 rfl (lv_at hl 4 rfl) ?_
                    refine c_VSz S hW (tX5_isMade l G ad σ72 0 one (rowL (wAt (σ 0) k 0).toNat (digL code n) []) 0 (by omega) (by omega) (by rw [wq]; exact hWf) (n18) (by omega) (hLV) (by rw [wq]; exact q72_snd.1) (by omega)) (cw_X5_301 S.2.2.2.2 ⟨Nat.le_of_ble_eq_true rfl, Nat.le_of_ble_eq_true rfl⟩) eBlind_T (fun _ _ _ => trivial) (w_recv hW (q0 := 0) rfl rfl) rfl hl.1 (rest := []) rfl (Nat.le_of_ble_eq_true rfl) dX5_truce_78 ⟨Nat.le_of_ble_eq_true rfl, Nat.le_of_ble_eq_true rfl⟩ (fun r78 σ78 H locs q78 hW => ?_)
                    obtain ⟨rfl, q78_mad, q78_oth, q78_sm⟩ := q78
                    have hs78 : same [12, 13, 14, 15, 16, 17, 18, 19, 20, 21, 22, 23] σ2 σ78 := same_tr hs72 q78_sm (by decide)
                    have wqa := wq
                    have y0 : σ78 0 = σ 0 := (hs78 0 (by decide)).trans e0
                    have y10 : σ78 10 = σ2 10 := hs78 10 (by decide)
                    have y10b : σ78 10 0 = 610 + 89 * k := by rw [y10]; exact w10
                    have wq : wr σ78 = wAt (σ 0) k := wr_at y0 y10b
                    have wq0 : wr σ78 0 = wAt (σ 0) k 0 := by rw [wq]
                    refine r_ifeq_p S (tgt := 106) dX5_truce_81 rfl (fun c_81 => ?_) (fun c_81 => ?_)
                    ·
                      rw [wqa] at c_81
                      refine lv_iinc (v := iI (code + 1)) (lv' := [(6, .int (iI (code + 1))), (5, .int (iI n)), (0, .ref (ad 0)), (1, .int (iI k)), (2, .int (iI one)), (3, .int (iI other)), (4, .int (iI (b2i row)))]) S.1 S.2.1 dX5_truce_106 hl (k := 0) rfl (iI_add _ _) (by decide) rfl (fun ls hl => ?_)
                      refine lv_goto (tgt := 40) S.1 S.2.1 dX5_truce_109 rfl ?_
                      exact ih_40 (code + 1) σ78 H _ _ (by omega) (by first | exact same_tr (same_tr hs72 q78_sm (by decide)) q87_sm (by decide) | exact hs78) (by rw [fsI_no _ hc.1 (fun z => by first | exact c_81 z.1 | exact c_90 z.2)]; exact hno) (by omega) hW (lv_sub hl [0, 1, 2, 3, 4, 5, 6] rfl)
                    ·
                      rw [wqa] at c_81
                      refine lv_aload_n S.1 S.2.1 dX5_truce_84 rfl (lv_at hl 2 rfl) ?_
                      refine r_iconst S dX5_truce_85 ?_
                      refine lv_iload_n S.1 S.2.1 dX5_truce_86 rfl (lv_at hl 5 rfl) ?_
                      refine c_VSz S hW (tX5_isMade l G ad σ78 1 other (rowL (wAt (σ 0) k 0).toNat (digL code n) []) 0 (by omega) (by omega) (by rw [wq]; exact hWf) (by rw [q78_sm 18 (by decide)]; exact n18) (by omega) (hLV) (by rw [wq]; exact fil_eq q72_snd.1 (q78_sm 16 (by decide))) (by omega)) (cw_X5_301 S.2.2.2.2 ⟨Nat.le_of_ble_eq_true rfl, Nat.le_of_ble_eq_true rfl⟩) eBlind_T (fun _ _ _ => trivial) (w_recv hW (q0 := 0) rfl rfl) rfl hl.1 (rest := []) rfl (Nat.le_of_ble_eq_true rfl) dX5_truce_87 ⟨Nat.le_of_ble_eq_true rfl, Nat.le_of_ble_eq_true rfl⟩ (fun r87 σ87 H locs q87 hW => ?_)
                      obtain ⟨rfl, q87_mad, q87_oth, q87_sm⟩ := q87
                      refine r_ifeq_p S (tgt := 106) dX5_truce_90 rfl (fun c_90 => ?_) (fun c_90 => ?_)
                      ·
                        rw [wq] at c_90
                        refine lv_iinc (v := iI (code + 1)) (lv' := [(6, .int (iI (code + 1))), (5, .int (iI n)), (0, .ref (ad 0)), (1, .int (iI k)), (2, .int (iI one)), (3, .int (iI other)), (4, .int (iI (b2i row)))]) S.1 S.2.1 dX5_truce_106 hl (k := 0) rfl (iI_add _ _) (by decide) rfl (fun ls hl => ?_)
                        refine lv_goto (tgt := 40) S.1 S.2.1 dX5_truce_109 rfl ?_
                        exact ih_40 (code + 1) σ87 H _ _ (by omega) (by first | exact same_tr (same_tr hs72 q78_sm (by decide)) q87_sm (by decide) | exact hs78) (by rw [fsI_no _ hc.1 (fun z => by first | exact c_81 z.1 | exact c_90 z.2)]; exact hno) (by omega) hW (lv_sub hl [0, 1, 2, 3, 4, 5, 6] rfl)
                      ·
                        rw [wq] at c_90
                        have htr : (trP (wAt (σ 0) k) one other n) code := ⟨c_81, c_90⟩
                        have hfi : fsI (trP (wAt (σ 0) k) one other n) (p4 n) = code := fsI_first _ hc.1 htr hno _ (by omega)
                        refine lv_iload S.1 S.2.1 dX5_truce_93 (lv_at hl 6 rfl) ?_
                        refine r_ifeq_b S (tgt := 103) dX5_truce_95 rfl (fun c_95 => ?_) (fun c_95 => ?_)
                        ·
                          refine lv_iload S.1 S.2.1 dX5_truce_103 (lv_at hl 1 rfl) ?_
                          exact e_iS S hr hlk hW ⟨n, rfl, ⟨(by unfold sTruce; rw [if_pos (by omega), ← hf, show (6 - n).toNat = (5 - n).toNat + 1 by omega]; unfold trF; rw [if_pos (by omega)]; first | (rw [if_pos c_95]; exact hfi.symm) | (rw [if_neg (by rw [c_95]; decide)])), (same_tr (same_w q2_sm (by decide)) (same_tr (same_tr hs72 q78_sm (by decide)) q87_sm (by decide)) (by decide))⟩⟩ dX5_truce_105
                        ·
                          refine lv_iload S.1 S.2.1 dX5_truce_98 (lv_at hl 0 rfl) ?_
                          refine lv_goto (tgt := 105) S.1 S.2.1 dX5_truce_100 rfl ?_
                          exact e_iS S hr hlk hW ⟨code, rfl, ⟨(by unfold sTruce; rw [if_pos (by omega), ← hf, show (6 - n).toNat = (5 - n).toNat + 1 by omega]; unfold trF; rw [if_pos (by omega)]; first | (rw [if_pos c_95]; exact hfi.symm) | (rw [if_neg (by rw [c_95]; decide)])), (same_tr (same_w q2_sm (by decide)) (same_tr (same_tr hs72 q78_sm (by decide)) q87_sm (by decide)) (by decide))⟩⟩ dX5_truce_105
              exact cut_40 _ 0 σ0 H _ _ (by have := p4_pos n; omega) (hsm0) (rfl) (Nat.lt_succ_self _) hW (lv_sub hl [0, 1, 2, 3, 4, 5, 6] rfl)
        exact cut_31 _ 0 σ2 H _ _ (by omega) (same_rf) (rfl) (Nat.lt_succ_self _) hW (lv_sub hl [0, 1, 2, 3, 4, 5] rfl)
      ·
        refine r_iconst S dX5_truce_26 ?_
        exact e_iS S hr hlk hW ⟨(-1), rfl, ⟨(by unfold sTruce; rw [if_neg (by omega)]), (same_w q2_sm (by decide))⟩⟩ dX5_truce_27
