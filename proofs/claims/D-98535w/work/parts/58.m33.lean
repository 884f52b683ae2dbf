set_option maxHeartbeats 4000000 in
theorem tX5_sizeOf (l : Launch) (sort : Int) (h : 0 ≤ sort ∧ sort ≤ 3) : Met l yX5_sizeOf (ws_ yX5_sizeOf cX5_sizeOf 1 (some .int)) ⟨0, 0, 0, 0⟩ (va_Pc [.int (iI sort)] (fun _ => True)) (qP (.int (iI (if sort = 0 then 89 else if sort = 1 then 26 else if sort = 2 then 14 else 33)))) 0 0 (fun _ => False) := by
  refine sStart (by decide) (Nat.le_of_ble_eq_true rfl) (fun p e s m below meth c S hr hlk ls hW hl => ?_)
  have hl : lv_has ls 1 [(0, .int (iI sort))] := hl
  refine lv_iload_n S.1 S.2.1 dX5_sizeOf_0 rfl (lv_at hl 0 rfl) ?_
  refine r_if_ne S (tgt := 9) dX5_sizeOf_1 rfl (by omega) (fun c_1 => ?_) (fun c_1 => ?_)
  ·
    refine lv_iload_n S.1 S.2.1 dX5_sizeOf_9 rfl (lv_at hl 0 rfl) ?_
    refine r_iconst S dX5_sizeOf_10 ?_
    refine r_icmp_ne S (tgt := 19) dX5_sizeOf_11 rfl (by omega) (fun c_11 => ?_) (fun c_11 => ?_)
    ·
      refine lv_iload_n S.1 S.2.1 dX5_sizeOf_19 rfl (lv_at hl 0 rfl) ?_
      refine r_iconst S dX5_sizeOf_20 ?_
      refine r_icmp_ne S (tgt := 29) dX5_sizeOf_21 rfl (by omega) (fun c_21 => ?_) (fun c_21 => ?_)
      ·
        refine r_bipush S dX5_sizeOf_29 (by decide) ?_
        exact e_iP S hr hlk hW (by first | rw [if_pos (by omega)] | rw [if_neg (by omega), if_pos (by omega)] | rw [if_neg (by omega), if_neg (by omega), if_pos (by omega)] | rw [if_neg (by omega), if_neg (by omega), if_neg (by omega)]) dX5_sizeOf_31
      ·
        refine r_bipush S dX5_sizeOf_24 (by decide) ?_
        refine lv_goto (tgt := 31) S.1 S.2.1 dX5_sizeOf_26 rfl ?_
        exact e_iP S hr hlk hW (by first | rw [if_pos (by omega)] | rw [if_neg (by omega), if_pos (by omega)] | rw [if_neg (by omega), if_neg (by omega), if_pos (by omega)] | rw [if_neg (by omega), if_neg (by omega), if_neg (by omega)]) dX5_sizeOf_31
    ·
      refine r_bipush S dX5_sizeOf_14 (by decide) ?_
      refine lv_goto (tgt := 31) S.1 S.2.1 dX5_sizeOf_16 rfl ?_
      exact e_iP S hr hlk hW (by first | rw [if_pos (by omega)] | rw [if_neg (by omega), if_pos (by omega)] | rw [if_neg (by omega), if_neg (by omega), if_pos (by omega)] | rw [if_neg (by omega), if_neg (by omega), if_neg (by omega)]) dX5_sizeOf_31
  ·
    refine r_bipush S dX5_sizeOf_4 (by decide) ?_
    refine lv_goto (tgt := 31) S.1 S.2.1 dX5_sizeOf_6 rfl ?_
    exact e_iP S hr hlk hW (by first | rw [if_pos (by omega)] | rw [if_neg (by omega), if_pos (by omega)] | rw [if_neg (by omega), if_neg (by omega), if_pos (by omega)] | rw [if_neg (by omega), if_neg (by omega), if_neg (by omega)]) dX5_sizeOf_31
set_option maxHeartbeats 4000000 in
theorem tX5_clears (l : Launch) (G : GG) (ad : Nat → Nat) (σ : St) (sort : Int) (h : 0 ≤ sort ∧ sort ≤ 3) : Met l yX5_clears (ws_ yX5_clears cX5_clears 3 none) ⟨0, 0, 0, 0⟩ (wPre G shM ad σ (fun _ => True) [.ref (ad 0), .int (iI sort)]) (qS G shM ad (aM ad) (rV (fun σ' => (σ' 9 = clR sort) ∧ (same [9] σ σ')))) 0 0 (aM ad) := by
  refine wStart (by decide) (Nat.le_of_ble_eq_true rfl) (fun k hk => ⟨k, hk, rfl⟩) (fun p e s m below meth c S hr hlk _ _ ls hW hl => ?_)
  have hl : lv_has ls 3 [(0, .ref (ad 0)), (1, .int (iI sort))] := hl
  refine r_iconst S dX5_clears_0 ?_
  refine lv_istore_n (lv' := [(2, .int (iI 0)), (0, .ref (ad 0)), (1, .int (iI sort))]) S.1 S.2.1 dX5_clears_1 rfl hl (by decide) rfl (fun ls hl => ?_)
  have cut_2 : ∀ (N_2 : Nat) (k : Int) (σ1 : St) (H : Heap) (locs : List Loc) (ls : Array Slot), (0 ≤ k ∧ k ≤ 89) → (same [9] σ σ1) → (∀ j : Int, 0 ≤ j → j < k → σ1 9 j = 0) → ((89 - k).toNat) < N_2 → WD G shM ad (aM ad) s s.heap σ1 H locs → lv_has ls 3 [(2, .int (iI k)), (0, .ref (ad 0)), (1, .int (iI sort))] → W p l e (⟨0, 0, 0, 0⟩ : Room) s m ([.ref (ad 0), .int (iI sort)] : List Value).toArray below meth c H locs 0 0 (MQ below (qS G shM ad (aM ad) (rV (fun σ' => (σ' 9 = clR sort) ∧ (same [9] σ σ')))) ([.ref (ad 0), .int (iI sort)] : List Value).toArray s 0 0 (aM ad)) (F0 m 2 ls []) := by
    intro N_2
    induction N_2 with
    | zero =>
      intro k σ1 H locs ls hk hs hz hμ_2 hW hl
      exact absurd hμ_2 (by omega)
    | succ N_2 ih_2 =>
      intro k σ1 H locs ls hk hs hz hμ_2 hW hl
      refine lv_iload_n S.1 S.2.1 dX5_clears_2 rfl (lv_at hl 0 rfl) ?_
      refine r_bipush S dX5_clears_3 (by decide) ?_
      refine r_icmp_ge S (tgt := 21) dX5_clears_5 rfl (by omega) (fun c_5 => ?_) (fun c_5 => ?_)
      ·
        have cut_79 : ∀  (σ3 : St) (H : Heap) (locs : List Loc) (ls : Array Slot), (same [9] σ σ3) → (∀ j : Int, 0 ≤ j → j < 89 → σ3 9 j = if sort = 0 then clR 0 j else 0) → WD G shM ad (aM ad) s s.heap σ3 H locs → lv_has ls 3 [(0, .ref (ad 0)), (1, .int (iI sort))] → W p l e (⟨0, 0, 0, 0⟩ : Room) s m ([.ref (ad 0), .int (iI sort)] : List Value).toArray below meth c H locs 0 0 (MQ below (qS G shM ad (aM ad) (rV (fun σ' => (σ' 9 = clR sort) ∧ (same [9] σ σ')))) ([.ref (ad 0), .int (iI sort)] : List Value).toArray s 0 0 (aM ad)) (F0 m 79 ls []) := by
          intro σ3 H locs ls hs3 hz3 hW hl
          refine lv_iload_n S.1 S.2.1 dX5_clears_79 rfl (lv_at hl 1 rfl) ?_
          refine r_iconst S dX5_clears_80 ?_
          refine r_icmp_ne S (tgt := 98) dX5_clears_81 rfl (by omega) (fun c_81 => ?_) (fun c_81 => ?_)
          ·
            have hW := Wd_sv (f := clR sort) hW 3 rfl rfl (by decide) (by first | exact fun j a b => by (rw [hz3 j a (by omega)]; unfold clR; by_cases h0 : sort = 0; (rw [if_pos h0, if_pos h0, if_pos (rfl : (0 : Int) = 0)]); (rw [if_neg h0, if_neg h0, if_neg (by omega)])) | exact fun j a b => by (unfold clR; rw [if_neg (by omega), if_pos (by omega)]; by_cases h1 : j = 1; (rw [h1, up_self, if_pos (by omega)]); (rw [up_nei h1]; by_cases h0 : j = 0; (rw [h0, up_self, if_pos (by omega)]); (rw [up_nei h0, hz3 j a (by omega), if_neg (by omega), if_neg (by omega)]))))
            exact e_vS S hr hlk hW ⟨rfl, ⟨(sv_at), (by first | exact same_sv hs3 (by decide) | exact same_sv (same_up (same_up hs3 (by decide)) (by decide)) (by decide))⟩⟩ dX5_clears_98
          ·
            refine lv_aload_n S.1 S.2.1 dX5_clears_84 rfl (lv_at hl 0 rfl) ?_
            refine w_getr S hW in_X5 0 rfl rfl 9 (by decide) q1660 rfl rfl dX5_clears_85 ?_
            refine r_iconst S dX5_clears_88 ?_
            refine r_iconst S dX5_clears_89 ?_
            refine w_ast S hW 3 0 rfl rfl rfl (z := (-1)) (by omega) dX5_clears_90 (fun H locs hW => ?_)
            refine lv_aload_n S.1 S.2.1 dX5_clears_91 rfl (lv_at hl 0 rfl) ?_
            refine w_getr S hW in_X5 0 rfl rfl 9 (by decide) q1660 rfl rfl dX5_clears_92 ?_
            refine r_iconst S dX5_clears_95 ?_
            refine r_iconst S dX5_clears_96 ?_
            refine w_ast S hW 3 0 rfl rfl rfl (z := (-1)) (by omega) dX5_clears_97 (fun H locs hW => ?_)
            have hW := Wd_sv (f := clR sort) hW 3 rfl rfl (by decide) (by first | exact fun j a b => by (rw [hz3 j a (by omega)]; unfold clR; by_cases h0 : sort = 0; (rw [if_pos h0, if_pos h0, if_pos (rfl : (0 : Int) = 0)]); (rw [if_neg h0, if_neg h0, if_neg (by omega)])) | exact fun j a b => by (unfold clR; rw [if_neg (by omega), if_pos (by omega)]; by_cases h1 : j = 1; (rw [h1, up_self, if_pos (by omega)]); (rw [up_nei h1]; by_cases h0 : j = 0; (rw [h0, up_self, if_pos (by omega)]); (rw [up_nei h0, hz3 j a (by omega), if_neg (by omega), if_neg (by omega)]))))
            exact e_vS S hr hlk hW ⟨rfl, ⟨(sv_at), (by first | exact same_sv hs3 (by decide) | exact same_sv (same_up (same_up hs3 (by decide)) (by decide)) (by decide))⟩⟩ dX5_clears_98
        refine lv_iload_n S.1 S.2.1 dX5_clears_21 rfl (lv_at hl 2 rfl) ?_
        refine r_if_ne S (tgt := 79) dX5_clears_22 rfl (by omega) (fun c_22 => ?_) (fun c_22 => ?_)
        ·
          exact cut_79 σ1 H _ _ (by first | exact hs | exact same_up (same_up (same_up hs2 (by decide)) (by decide)) (by decide)) (fun j a b9 => by first | (rw [if_neg (by omega)]; exact hz j a (by omega)) | (rw [if_pos (by omega)]; unfold clR; rw [if_pos rfl]; by_cases h14 : j = 14; (rw [h14, up_self, if_neg (by omega), if_neg (by omega), if_neg (by omega), if_pos (by omega)]); (rw [up_nei h14]; by_cases h10 : j = 10; (rw [h10, up_self, if_neg (by omega), if_neg (by omega), if_pos (by omega)]); (rw [up_nei h10]; by_cases h99 : j = 9; (rw [h99, up_self, if_neg (by omega), if_neg (by omega), if_pos (by omega)]); (rw [up_nei h99, hz2 j a b9]; by_cases h0 : j = 0; (rw [if_pos h0, if_pos h0]); (rw [if_neg h0, if_neg h0]; by_cases h8 : 3 ≤ j ∧ j ≤ 6; (rw [if_pos h8, if_pos (by omega)]); (rw [if_neg h8, if_neg (by omega), if_neg (by omega), if_neg (by omega)]))))))) hW (lv_sub hl [1, 2] rfl)
        ·
          refine lv_aload_n S.1 S.2.1 dX5_clears_25 rfl (lv_at hl 1 rfl) ?_
          refine w_getr S hW in_X5 0 rfl rfl 9 (by decide) q1660 rfl rfl dX5_clears_26 ?_
          refine r_iconst S dX5_clears_29 ?_
          refine r_iconst S dX5_clears_30 ?_
          refine w_ast S hW 3 0 rfl rfl rfl (z := 1) (by omega) dX5_clears_31 (fun H locs hW => ?_)
          refine r_iconst S dX5_clears_32 ?_
          refine lv_istore_n (lv' := [(2, .int (iI 0)), (0, .ref (ad 0)), (1, .int (iI sort))]) S.1 S.2.1 dX5_clears_33 rfl hl (by decide) rfl (fun ls hl => ?_)
          have cut_34 : ∀ (N_34 : Nat) (b : Int) (σ2 : St) (H : Heap) (locs : List Loc) (ls : Array Slot), (0 ≤ b ∧ b ≤ 4) → (same [9] σ σ2) → (∀ j : Int, 0 ≤ j → j < 89 → σ2 9 j = if j = 0 then 1 else if 3 ≤ j ∧ j < 3 + b then j - 3 else 0) → ((4 - b).toNat) < N_34 → WD G shM ad (aM ad) s s.heap σ2 H locs → lv_has ls 3 [(2, .int (iI b)), (0, .ref (ad 0)), (1, .int (iI sort))] → W p l e (⟨0, 0, 0, 0⟩ : Room) s m ([.ref (ad 0), .int (iI sort)] : List Value).toArray below meth c H locs 0 0 (MQ below (qS G shM ad (aM ad) (rV (fun σ' => (σ' 9 = clR sort) ∧ (same [9] σ σ')))) ([.ref (ad 0), .int (iI sort)] : List Value).toArray s 0 0 (aM ad)) (F0 m 34 ls []) := by
            intro N_34
            induction N_34 with
            | zero =>
              intro b σ2 H locs ls hb hs2 hz2 hμ_34 hW hl
              exact absurd hμ_34 (by omega)
            | succ N_34 ih_34 =>
              intro b σ2 H locs ls hb hs2 hz2 hμ_34 hW hl
              refine lv_iload_n S.1 S.2.1 dX5_clears_34 rfl (lv_at hl 0 rfl) ?_
              refine r_iconst S dX5_clears_35 ?_
              refine r_icmp_ge S (tgt := 54) dX5_clears_36 rfl (by omega) (fun c_36 => ?_) (fun c_36 => ?_)
              ·
                refine lv_aload_n S.1 S.2.1 dX5_clears_54 rfl (lv_at hl 1 rfl) ?_
                refine w_getr S hW in_X5 0 rfl rfl 9 (by decide) q1660 rfl rfl dX5_clears_55 ?_
                refine r_bipush S dX5_clears_58 (by decide) ?_
                refine r_iconst S dX5_clears_60 ?_
                refine w_ast S hW 3 0 rfl rfl rfl (z := 1) (by omega) dX5_clears_61 (fun H locs hW => ?_)
                refine lv_aload_n S.1 S.2.1 dX5_clears_62 rfl (lv_at hl 1 rfl) ?_
                refine w_getr S hW in_X5 0 rfl rfl 9 (by decide) q1660 rfl rfl dX5_clears_63 ?_
                refine r_bipush S dX5_clears_66 (by decide) ?_
                refine r_iconst S dX5_clears_68 ?_
                refine w_ast S hW 3 0 rfl rfl rfl (z := 1) (by omega) dX5_clears_69 (fun H locs hW => ?_)
                refine lv_aload_n S.1 S.2.1 dX5_clears_70 rfl (lv_at hl 1 rfl) ?_
                refine w_getr S hW in_X5 0 rfl rfl 9 (by decide) q1660 rfl rfl dX5_clears_71 ?_
                refine r_bipush S dX5_clears_74 (by decide) ?_
                refine r_bipush S dX5_clears_76 (by decide) ?_
                refine w_ast S hW 3 0 rfl rfl rfl (z := 10) (by omega) dX5_clears_78 (fun H locs hW => ?_)
                exact cut_79 (up (up (up σ2 9 9 1) 9 10 1) 9 14 10) H _ _ (by first | exact hs | exact same_up (same_up (same_up hs2 (by decide)) (by decide)) (by decide)) (fun j a b9 => by first | (rw [if_neg (by omega)]; exact hz j a (by omega)) | (rw [if_pos (by omega)]; unfold clR; rw [if_pos rfl]; by_cases h14 : j = 14; (rw [h14, up_self, if_neg (by omega), if_neg (by omega), if_neg (by omega), if_pos (by omega)]); (rw [up_nei h14]; by_cases h10 : j = 10; (rw [h10, up_self, if_neg (by omega), if_neg (by omega), if_pos (by omega)]); (rw [up_nei h10]; by_cases h99 : j = 9; (rw [h99, up_self, if_neg (by omega), if_neg (by omega), if_pos (by omega)]); (rw [up_nei h99, hz2 j a b9]; by_cases h0 : j = 0; (rw [if_pos h0, if_pos h0]); (rw [if_neg h0, if_neg h0]; by_cases h8 : 3 ≤ j ∧ j ≤ 6; (rw [if_pos h8, if_pos (by omega)]); (rw [if_neg h8, if_neg (by omega), if_neg (by omega), if_neg (by omega)]))))))) hW (lv_sub hl [1, 2] rfl)
              ·
                refine lv_aload_n S.1 S.2.1 dX5_clears_39 rfl (lv_at hl 1 rfl) ?_
                refine w_getr S hW in_X5 0 rfl rfl 9 (by decide) q1660 rfl rfl dX5_clears_40 ?_
                refine r_iconst S dX5_clears_43 ?_
                refine lv_iload_n S.1 S.2.1 dX5_clears_44 rfl (lv_at hl 0 rfl) ?_
                refine r_iadd S dX5_clears_45 ?_
                refine lv_iload_n S.1 S.2.1 dX5_clears_46 rfl (lv_at hl 0 rfl) ?_
                refine w_ast S hW 3 0 rfl rfl rfl (z := b) (by omega) dX5_clears_47 (fun H locs hW => ?_)
                refine lv_iinc (v := iI (b + 1)) (lv' := [(2, .int (iI (b + 1))), (0, .ref (ad 0)), (1, .int (iI sort))]) S.1 S.2.1 dX5_clears_48 hl (k := 0) rfl (iI_add _ _) (by decide) rfl (fun ls hl => ?_)
                refine lv_goto (tgt := 34) S.1 S.2.1 dX5_clears_51 rfl ?_
                exact ih_34 (b + 1) (up σ2 9 (3 + b) b) H _ _ (by omega) (same_up hs2 (by decide)) (fun j a b9 => by by_cases h9 : j = 3 + b; (rw [h9, up_self, if_neg (by omega), if_pos (by omega)]; omega); (rw [up_nei h9, hz2 j a b9]; by_cases h0 : j = 0; (rw [if_pos h0, if_pos h0]); (rw [if_neg h0, if_neg h0]; by_cases h8 : 3 ≤ j ∧ j < 3 + b; (rw [if_pos h8, if_pos (by omega)]); (rw [if_neg h8, if_neg (by omega)])))) (by omega) hW (lv_sub hl [0, 1, 2] rfl)
          exact cut_34 _ 0 (up σ1 9 0 1) H _ _ (by omega) (same_up hs (by decide)) (fun j a b => by by_cases h9 : j = 0; (rw [h9, up_self, if_pos rfl]); (rw [up_nei h9, if_neg h9, if_neg (by omega)]; exact hz j a (by omega))) (Nat.lt_succ_self _) hW (lv_sub hl [0, 1, 2] rfl)
      ·
        refine lv_aload_n S.1 S.2.1 dX5_clears_8 rfl (lv_at hl 1 rfl) ?_
        refine w_getr S hW in_X5 0 rfl rfl 9 (by decide) q1660 rfl rfl dX5_clears_9 ?_
        refine lv_iload_n S.1 S.2.1 dX5_clears_12 rfl (lv_at hl 0 rfl) ?_
        refine r_iconst S dX5_clears_13 ?_
        refine w_ast S hW 3 0 rfl rfl rfl (z := 0) (by omega) dX5_clears_14 (fun H locs hW => ?_)
        refine lv_iinc (v := iI (k + 1)) (lv' := [(2, .int (iI (k + 1))), (0, .ref (ad 0)), (1, .int (iI sort))]) S.1 S.2.1 dX5_clears_15 hl (k := 0) rfl (iI_add _ _) (by decide) rfl (fun ls hl => ?_)
        refine lv_goto (tgt := 2) S.1 S.2.1 dX5_clears_18 rfl ?_
        exact ih_2 (k + 1) (up σ1 9 k 0) H _ _ (by omega) (same_up hs (by decide)) (fun j a b => by by_cases h9 : j = k; (rw [h9, up_self]); (rw [up_nei h9]; exact hz j a (by omega))) (by omega) hW (lv_sub hl [0, 1, 2] rfl)
  exact cut_2 _ 0 σ s.heap _ _ (by omega) (same_rf) (fun j a b => absurd b (by omega)) (Nat.lt_succ_self _) hW (lv_sub hl [0, 1, 2] rfl)
