set_option maxHeartbeats 4000000 in
theorem tX5_shared (l : Launch) (G : GG) (ad : Nat → Nat) (σ : St) (k : Int) (j : Int) (hr0 : -2147483648 ≤ k ∧ k < 2147483648 ∧ -2147483648 ≤ j ∧ j < 2147483648) (hdb : WfDB (σ 0)) : Met l yX5_shared (ws_ yX5_shared cX5_shared 7 (some .int)) ⟨3, 0, 0, 71⟩ (wPre G shM ad σ (fun _ => True) [.ref (ad 0), .int (iI k), .int (iI j)]) (qS G shM ad (aM ad) (rI (fun r σ' => (r = sShared (σ 0) k j) ∧ (same [10] σ σ')))) 0 0 (aM ad) := by
  refine wStart (by decide) (Nat.le_of_ble_eq_true rfl) (fun k hk => ⟨k, hk, rfl⟩) (fun p e s m below meth c S hr hlk _ _ ls hW hl => ?_)
  have hl : lv_has ls 7 [(0, .ref (ad 0)), (1, .int (iI k)), (2, .int (iI j))] := hl
  have d0 := hdb.1
  have d1 := hdb.2.1
  have d2 := hdb.2.2.1
  have d3 := hdb.2.2.2.1
  refine lv_aload_n S.1 S.2.1 dX5_shared_0 rfl (lv_at hl 0 rfl) ?_
  refine lv_iload_n S.1 S.2.1 dX5_shared_1 rfl (lv_at hl 1 rfl) ?_
  refine c_VSz S hW (tX5_isWar l G ad σ k (by omega) (by omega)) (cw_X5_224 S.2.2.2.2 ⟨Nat.le_of_ble_eq_true rfl, Nat.le_of_ble_eq_true rfl⟩) eBlind_T (fun _ _ _ => trivial) (w_recv hW (q0 := 0) rfl rfl) rfl hl.1 (rest := []) rfl (Nat.le_of_ble_eq_true rfl) dX5_shared_2 ⟨Nat.le_of_ble_eq_true rfl, Nat.le_of_ble_eq_true rfl⟩ (fun r2 σ2 H locs q2 hW => ?_)
  obtain ⟨rfl, q2_sm, q2_w⟩ := q2
  have e0 : σ2 0 = σ 0 := q2_sm 0 (by decide)
  refine r_ifeq_p S (tgt := 13) dX5_shared_5 rfl (fun c_5 => ?_) (fun c_5 => ?_)
  ·
    refine r_iconst S dX5_shared_13 ?_
    exact e_iS S hr hlk hW ⟨(-1), rfl, ⟨(by unfold sShared; first | rw [if_neg (by omega)] | (rw [if_pos (by omega), shr_neg (by omega) _ _ _ (by omega)])), (q2_sm)⟩⟩ dX5_shared_14
  ·
    have w10 := q2_w (by omega)
    have we : wr σ2 = wAt (σ 0) k := wr_at e0 w10
    have we2 : ∀ j, wr σ2 j = wAt (σ 0) k j := fun j => congrFun we j
    have hWf := hdb.2.2.2.2.2.2.2.2.1 k (by omega) (by omega)
    refine lv_iload_n S.1 S.2.1 dX5_shared_8 rfl (lv_at hl 2 rfl) ?_
    refine r_iconst S dX5_shared_9 ?_
    refine r_icmp_ge S (tgt := 15) dX5_shared_10 rfl (by omega) (fun c_10 => ?_) (fun c_10 => ?_)
    ·
      have hA0 := hWf.2.2.2.2 0 (by omega) (by omega)
      have hA1 := hWf.2.2.2.2 1 (by omega) (by omega)
      have h50 := hA0.2.2.2.2.1
      have h51 := hA1.2.2.2.2.1
      simp only [Int.add_zero, show (15 : Int) + 1 = 16 by decide] at h50 h51
      have w15 : wr σ2 (15 + 0) = wAt (σ 0) k 15 := we2 15
      have w16 : wr σ2 (15 + 1) = wAt (σ 0) k 16 := we2 16
      refine r_iconst S dX5_shared_15 ?_
      refine lv_istore_n (lv' := [(3, .int (iI 0)), (0, .ref (ad 0)), (1, .int (iI k)), (2, .int (iI j))]) S.1 S.2.1 dX5_shared_16 rfl hl (by decide) rfl (fun ls hl => ?_)
      refine r_iconst S dX5_shared_17 ?_
      refine lv_istore (lv' := [(4, .int (iI 0)), (3, .int (iI 0)), (0, .ref (ad 0)), (1, .int (iI k)), (2, .int (iI j))]) S.1 S.2.1 dX5_shared_18 hl (by decide) rfl (fun ls hl => ?_)
      have cut_20 : ∀ (N_20 : Nat) (n cd : Int) (H : Heap) (locs : List Loc) (ls : Array Slot), (0 ≤ cd ∧ cd ≤ 36 ∧ 0 ≤ n ∧ n ≤ cd) → (shr (shP (wAt (σ 0) k)) j (36 - cd).toNat cd n = shr (shP (wAt (σ 0) k)) j 36 0 0) → ((36 - cd).toNat) < N_20 → WD G shM ad (aM ad) s s.heap σ2 H locs → lv_has ls 7 [(4, .int (iI cd)), (3, .int (iI n)), (0, .ref (ad 0)), (1, .int (iI k)), (2, .int (iI j))] → W p l e (⟨3, 0, 0, 71⟩ : Room) s m ([.ref (ad 0), .int (iI k), .int (iI j)] : List Value).toArray below meth c H locs 0 0 (MQ below (qS G shM ad (aM ad) (rI (fun r σ' => (r = sShared (σ 0) k j) ∧ (same [10] σ σ')))) ([.ref (ad 0), .int (iI k), .int (iI j)] : List Value).toArray s 0 0 (aM ad)) (F0 m 20 ls []) := by
        intro N_20
        induction N_20 with
        | zero =>
          intro n cd H locs ls hc hf hμ_20 hW hl
          exact absurd hμ_20 (by omega)
        | succ N_20 ih_20 =>
          intro n cd H locs ls hc hf hμ_20 hW hl
          refine lv_iload S.1 S.2.1 dX5_shared_20 (lv_at hl 0 rfl) ?_
          refine r_bipush S dX5_shared_22 (by decide) ?_
          refine r_icmp_ge S (tgt := 111) dX5_shared_24 rfl (by omega) (fun c_24 => ?_) (fun c_24 => ?_)
          ·
            refine lv_iload_n S.1 S.2.1 dX5_shared_111 rfl (lv_at hl 4 rfl) ?_
            refine r_iconst S dX5_shared_112 ?_
            refine r_icmp_ne S (tgt := 120) dX5_shared_113 rfl (by omega) (fun c_113 => ?_) (fun c_113 => ?_)
            ·
              refine r_iconst S dX5_shared_120 ?_
              exact e_iS S hr hlk hW ⟨(-1), rfl, ⟨(by unfold sShared; rw [if_pos (by omega), ← hf, show (36 - cd).toNat = 0 by omega]; unfold shr; first | rw [if_pos c_113] | rw [if_neg c_113]), (q2_sm)⟩⟩ dX5_shared_121
            ·
              refine lv_iload_n S.1 S.2.1 dX5_shared_116 rfl (lv_at hl 1 rfl) ?_
              refine lv_goto (tgt := 121) S.1 S.2.1 dX5_shared_117 rfl ?_
              exact e_iS S hr hlk hW ⟨n, rfl, ⟨(by unfold sShared; rw [if_pos (by omega), ← hf, show (36 - cd).toNat = 0 by omega]; unfold shr; first | rw [if_pos c_113] | rw [if_neg c_113]), (q2_sm)⟩⟩ dX5_shared_121
          ·
            refine lv_iload S.1 S.2.1 dX5_shared_27 (lv_at hl 0 rfl) ?_
            refine r_bipush S dX5_shared_29 (by decide) ?_
            refine r_idiv S dX5_shared_31 (by omega) ?_
            refine lv_istore (lv' := [(5, .int (iI (cd / 6))), (4, .int (iI cd)), (3, .int (iI n)), (0, .ref (ad 0)), (1, .int (iI k)), (2, .int (iI j))]) S.1 S.2.1 dX5_shared_32 hl (by decide) rfl (fun ls hl => ?_)
            refine lv_iload S.1 S.2.1 dX5_shared_34 (lv_at hl 1 rfl) ?_
            refine r_bipush S dX5_shared_36 (by decide) ?_
            refine r_irem S dX5_shared_38 (by omega) ?_
            refine lv_istore (lv' := [(6, .int (iI (cd % 6))), (5, .int (iI (cd / 6))), (4, .int (iI cd)), (3, .int (iI n)), (0, .ref (ad 0)), (1, .int (iI k)), (2, .int (iI j))]) S.1 S.2.1 dX5_shared_39 hl (by decide) rfl (fun ls hl => ?_)
            refine lv_iload S.1 S.2.1 dX5_shared_41 (lv_at hl 1 rfl) ?_
            refine lv_aload_n S.1 S.2.1 dX5_shared_43 rfl (lv_at hl 4 rfl) ?_
            refine r_iconst S dX5_shared_44 ?_
            refine c_VP S hW (tX5_orders l G ad σ2 0 (by omega) (by omega)) (cw_X5_221 S.2.2.2.2 ⟨Nat.le_of_ble_eq_true rfl, Nat.le_of_ble_eq_true rfl⟩) eBlind_T (fun _ _ _ => trivial) (w_recv hW (q0 := 0) rfl rfl) rfl hl.1 (rest := [.int (iI (cd / 6))]) rfl (Nat.le_of_ble_eq_true rfl) dX5_shared_45 ⟨Nat.le_of_ble_eq_true rfl, Nat.le_of_ble_eq_true rfl⟩ (fun locs hW => ?_)
            refine r_icmp_ge S (tgt := 105) dX5_shared_48 rfl (by omega) (fun c_48 => ?_) (fun c_48 => ?_)
            ·
              refine lv_iinc (v := iI (cd + 1)) (lv' := [(4, .int (iI (cd + 1))), (6, .int (iI (cd % 6))), (5, .int (iI (cd / 6))), (3, .int (iI n)), (0, .ref (ad 0)), (1, .int (iI k)), (2, .int (iI j))]) S.1 S.2.1 dX5_shared_105 hl (k := 2) rfl (iI_add _ _) (by decide) rfl (fun ls hl => ?_)
              refine lv_goto (tgt := 20) S.1 S.2.1 dX5_shared_108 rfl ?_
              exact ih_20 n (cd + 1) H _ _ (by omega) (by rw [← hf, show (36 - cd).toNat = (36 - (cd + 1)).toNat + 1 by omega]; first | (rw [shr_yes hP, if_neg c_96]) | (rw [shr_no (fun z => by first | exact c_88 z.2.2.2 | (have z3 := z.2.2.1; omega) | (have z1 := z.1; have z2 := z.2.1; omega))])) (by omega) hW (lv_sub hl [0, 3, 4, 5, 6] rfl)
            ·
              refine lv_iload S.1 S.2.1 dX5_shared_51 (lv_at hl 0 rfl) ?_
              refine lv_aload_n S.1 S.2.1 dX5_shared_53 rfl (lv_at hl 4 rfl) ?_
              refine r_iconst S dX5_shared_54 ?_
              refine c_VP S hW (tX5_orders l G ad σ2 1 (by omega) (by omega)) (cw_X5_221 S.2.2.2.2 ⟨Nat.le_of_ble_eq_true rfl, Nat.le_of_ble_eq_true rfl⟩) eBlind_T (fun _ _ _ => trivial) (w_recv hW (q0 := 0) rfl rfl) rfl hl.1 (rest := [.int (iI (cd % 6))]) rfl (Nat.le_of_ble_eq_true rfl) dX5_shared_55 ⟨Nat.le_of_ble_eq_true rfl, Nat.le_of_ble_eq_true rfl⟩ (fun locs hW => ?_)
              refine r_icmp_ge S (tgt := 105) dX5_shared_58 rfl (by omega) (fun c_58 => ?_) (fun c_58 => ?_)
              ·
                refine lv_iinc (v := iI (cd + 1)) (lv' := [(4, .int (iI (cd + 1))), (6, .int (iI (cd % 6))), (5, .int (iI (cd / 6))), (3, .int (iI n)), (0, .ref (ad 0)), (1, .int (iI k)), (2, .int (iI j))]) S.1 S.2.1 dX5_shared_105 hl (k := 2) rfl (iI_add _ _) (by decide) rfl (fun ls hl => ?_)
                refine lv_goto (tgt := 20) S.1 S.2.1 dX5_shared_108 rfl ?_
                exact ih_20 n (cd + 1) H _ _ (by omega) (by rw [← hf, show (36 - cd).toNat = (36 - (cd + 1)).toNat + 1 by omega]; first | (rw [shr_yes hP, if_neg c_96]) | (rw [shr_no (fun z => by first | exact c_88 z.2.2.2 | (have z3 := z.2.2.1; omega) | (have z1 := z.1; have z2 := z.2.1; omega))])) (by omega) hW (lv_sub hl [0, 3, 4, 5, 6] rfl)
              ·
                have hO0 := hA0.2.2.2.2.2 (cd / 6) (by omega) (by simp only [Int.add_zero]; omega)
                have hO1 := hA1.2.2.2.2.2 (cd % 6) (by omega) (by simp only [show (15 : Int) + 1 = 16 by decide]; omega)
                have hO02 := hO0.2.1
                have hO12 := hO1.2.1
                have ol0 : oLen (wr σ2) 0 (cd / 6) = oLen (wAt (σ 0) k) 0 (cd / 6) := by rw [we]
                have ol1 : oLen (wr σ2) 1 (cd % 6) = oLen (wAt (σ 0) k) 1 (cd % 6) := by rw [we]
                refine lv_aload_n S.1 S.2.1 dX5_shared_61 rfl (lv_at hl 4 rfl) ?_
                refine r_iconst S dX5_shared_62 ?_
                refine lv_iload S.1 S.2.1 dX5_shared_63 (lv_at hl 1 rfl) ?_
                refine c_VP S hW (tX5_lengthOf l G ad σ2 0 (cd / 6) (by omega) (by omega)) (cw_X5_230 S.2.2.2.2 ⟨Nat.le_of_ble_eq_true rfl, Nat.le_of_ble_eq_true rfl⟩) eBlind_T (fun _ _ _ => trivial) (w_recv hW (q0 := 0) rfl rfl) rfl hl.1 (rest := []) rfl (Nat.le_of_ble_eq_true rfl) dX5_shared_65 ⟨Nat.le_of_ble_eq_true rfl, Nat.le_of_ble_eq_true rfl⟩ (fun locs hW => ?_)
                refine lv_aload_n S.1 S.2.1 dX5_shared_68 rfl (lv_at hl 4 rfl) ?_
                refine r_iconst S dX5_shared_69 ?_
                refine lv_iload S.1 S.2.1 dX5_shared_70 (lv_at hl 0 rfl) ?_
                refine c_VP S hW (tX5_lengthOf l G ad σ2 1 (cd % 6) (by omega) (by omega)) (cw_X5_230 S.2.2.2.2 ⟨Nat.le_of_ble_eq_true rfl, Nat.le_of_ble_eq_true rfl⟩) eBlind_T (fun _ _ _ => trivial) (w_recv hW (q0 := 0) rfl rfl) rfl hl.1 (rest := [.int (iI (oLen (wr σ2) 0 (cd / 6)))]) rfl (Nat.le_of_ble_eq_true rfl) dX5_shared_72 ⟨Nat.le_of_ble_eq_true rfl, Nat.le_of_ble_eq_true rfl⟩ (fun locs hW => ?_)
                refine r_icmp_ne S (tgt := 105) dX5_shared_75 rfl (by omega) (fun c_75 => ?_) (fun c_75 => ?_)
                ·
                  refine lv_iinc (v := iI (cd + 1)) (lv' := [(4, .int (iI (cd + 1))), (6, .int (iI (cd % 6))), (5, .int (iI (cd / 6))), (3, .int (iI n)), (0, .ref (ad 0)), (1, .int (iI k)), (2, .int (iI j))]) S.1 S.2.1 dX5_shared_105 hl (k := 2) rfl (iI_add _ _) (by decide) rfl (fun ls hl => ?_)
                  refine lv_goto (tgt := 20) S.1 S.2.1 dX5_shared_108 rfl ?_
                  exact ih_20 n (cd + 1) H _ _ (by omega) (by rw [← hf, show (36 - cd).toNat = (36 - (cd + 1)).toNat + 1 by omega]; first | (rw [shr_yes hP, if_neg c_96]) | (rw [shr_no (fun z => by first | exact c_88 z.2.2.2 | (have z3 := z.2.2.1; omega) | (have z1 := z.1; have z2 := z.2.1; omega))])) (by omega) hW (lv_sub hl [0, 3, 4, 5, 6] rfl)
                ·
                  refine lv_aload_n S.1 S.2.1 dX5_shared_78 rfl (lv_at hl 4 rfl) ?_
                  refine r_iconst S dX5_shared_79 ?_
                  refine lv_iload S.1 S.2.1 dX5_shared_80 (lv_at hl 1 rfl) ?_
                  refine r_iconst S dX5_shared_82 ?_
                  refine lv_iload S.1 S.2.1 dX5_shared_83 (lv_at hl 0 rfl) ?_
                  refine c_VP S hW (tX5_beginsWith l G ad σ2 0 (cd / 6) 1 (cd % 6) (by omega) (by omega) (by rw [we]; exact hA0) (by rw [we]; exact hA1) (by omega) (by omega)) (cw_X5_328 S.2.2.2.2 ⟨Nat.le_of_ble_eq_true rfl, Nat.le_of_ble_eq_true rfl⟩) eBlind_T (fun _ _ _ => trivial) (w_recv hW (q0 := 0) rfl rfl) rfl hl.1 (rest := []) rfl (Nat.le_of_ble_eq_true rfl) dX5_shared_85 ⟨Nat.le_of_ble_eq_true rfl, Nat.le_of_ble_eq_true rfl⟩ (fun locs hW => ?_)
                  refine r_ifne_p S (tgt := 94) dX5_shared_88 rfl (fun c_88 => ?_) (fun c_88 => ?_)
                  ·
                    rw [we] at c_88
                    have hP : (shP (wAt (σ 0) k)) cd := ⟨by omega, by omega, by rw [← ol0, ← ol1]; exact c_75, c_88⟩
                    refine lv_iload_n S.1 S.2.1 dX5_shared_94 rfl (lv_at hl 3 rfl) ?_
                    refine lv_iload_n S.1 S.2.1 dX5_shared_95 rfl (lv_at hl 6 rfl) ?_
                    refine r_icmp_ne S (tgt := 102) dX5_shared_96 rfl (by omega) (fun c_96 => ?_) (fun c_96 => ?_)
                    ·
                      refine lv_iinc (v := iI (n + 1)) (lv' := [(3, .int (iI (n + 1))), (6, .int (iI (cd % 6))), (5, .int (iI (cd / 6))), (4, .int (iI cd)), (0, .ref (ad 0)), (1, .int (iI k)), (2, .int (iI j))]) S.1 S.2.1 dX5_shared_102 hl (k := 3) rfl (iI_add _ _) (by decide) rfl (fun ls hl => ?_)
                      refine lv_iinc (v := iI (cd + 1)) (lv' := [(4, .int (iI (cd + 1))), (3, .int (iI (n + 1))), (6, .int (iI (cd % 6))), (5, .int (iI (cd / 6))), (0, .ref (ad 0)), (1, .int (iI k)), (2, .int (iI j))]) S.1 S.2.1 dX5_shared_105 hl (k := 3) rfl (iI_add _ _) (by decide) rfl (fun ls hl => ?_)
                      refine lv_goto (tgt := 20) S.1 S.2.1 dX5_shared_108 rfl ?_
                      exact ih_20 (n + 1) (cd + 1) H _ _ (by omega) (by rw [← hf, show (36 - cd).toNat = (36 - (cd + 1)).toNat + 1 by omega]; first | (rw [shr_yes hP, if_neg c_96]) | (rw [shr_no (fun z => by first | exact c_88 z.2.2.2 | (have z3 := z.2.2.1; omega) | (have z1 := z.1; have z2 := z.2.1; omega))])) (by omega) hW (lv_sub hl [0, 1, 4, 5, 6] rfl)
                    ·
                      refine lv_iload S.1 S.2.1 dX5_shared_99 (lv_at hl 2 rfl) ?_
                      exact e_iS S hr hlk hW ⟨cd, rfl, ⟨(by unfold sShared; rw [if_pos (by omega), ← hf, show (36 - cd).toNat = (35 - cd).toNat + 1 by omega, shr_yes hP, if_pos c_96]), (q2_sm)⟩⟩ dX5_shared_101
                  ·
                    rw [we] at c_88
                    refine lv_goto (tgt := 105) S.1 S.2.1 dX5_shared_91 rfl ?_
                    refine lv_iinc (v := iI (cd + 1)) (lv' := [(4, .int (iI (cd + 1))), (6, .int (iI (cd % 6))), (5, .int (iI (cd / 6))), (3, .int (iI n)), (0, .ref (ad 0)), (1, .int (iI k)), (2, .int (iI j))]) S.1 S.2.1 dX5_shared_105 hl (k := 2) rfl (iI_add _ _) (by decide) rfl (fun ls hl => ?_)
                    refine lv_goto (tgt := 20) S.1 S.2.1 dX5_shared_108 rfl ?_
                    exact ih_20 n (cd + 1) H _ _ (by omega) (by rw [← hf, show (36 - cd).toNat = (36 - (cd + 1)).toNat + 1 by omega]; first | (rw [shr_yes hP, if_neg c_96]) | (rw [shr_no (fun z => by first | exact c_88 z.2.2.2 | (have z3 := z.2.2.1; omega) | (have z1 := z.1; have z2 := z.2.1; omega))])) (by omega) hW (lv_sub hl [0, 3, 4, 5, 6] rfl)
      exact cut_20 _ 0 0 H _ _ (by omega) (rfl) (Nat.lt_succ_self _) hW (lv_sub hl [0, 1, 2, 3, 4] rfl)
    ·
      refine r_iconst S dX5_shared_13 ?_
      exact e_iS S hr hlk hW ⟨(-1), rfl, ⟨(by unfold sShared; first | rw [if_neg (by omega)] | (rw [if_pos (by omega), shr_neg (by omega) _ _ _ (by omega)])), (q2_sm)⟩⟩ dX5_shared_14
