set_option maxHeartbeats 4000000 in
theorem tX5_feed (l : Launch) (G : GG) (ad : Nat → Nat) (σ : St) (v0 : Int) (v1 : Int) (v2 : Int) (v3 : Int) (v4 : Int) (hs : 0 ≤ σ 0 4 ∧ σ 0 4 ≤ 600) : Met l yX5_feed (ws_ yX5_feed cX5_feed 8 (some .int)) ⟨0, 0, 0, 0⟩ (wPre G shM ad σ (fun _ => True) [.ref (ad 0), .int (iI v0), .int (iI v1), .int (iI v2), .int (iI v3), .int (iI v4)]) (qS G shM ad (aM ad) (rI (fun r σ' => (r = sFeed (σ 0)) ∧ (σ' 0 = fedA (σ 0) v0 v1 v2 v3 v4) ∧ (same [0] σ σ')))) 0 0 (aM ad) := by
  refine wStart (by decide) (Nat.le_of_ble_eq_true rfl) (fun k hk => ⟨k, hk, rfl⟩) (fun p e s m below meth c S hr hlk _ _ ls hW hl => ?_)
  have hl : lv_has ls 8 [(0, .ref (ad 0)), (1, .int (iI v0)), (2, .int (iI v1)), (3, .int (iI v2)), (4, .int (iI v3)), (5, .int (iI v4))] := hl
  refine lv_aload_n S.1 S.2.1 dX5_feed_0 rfl (lv_at hl 0 rfl) ?_
  refine w_getr S hW in_X5 0 rfl rfl 0 (by decide) q1651 rfl rfl dX5_feed_1 ?_
  refine r_iconst S dX5_feed_4 ?_
  refine w_ald S hW 1 0 rfl rfl (by omega) dX5_feed_5 ?_
  refine r_bipush S dX5_feed_6 (by decide) ?_
  refine r_iadd S dX5_feed_8 ?_
  refine r_sipush S dX5_feed_9 (by decide) ?_
  refine r_icmp_le S (tgt := 17) dX5_feed_12 rfl (by omega) (fun c_12 => ?_) (fun c_12 => ?_)
  ·
    refine r_iconst S dX5_feed_17 ?_
    refine lv_istore (lv' := [(6, .int (iI 0)), (0, .ref (ad 0)), (1, .int (iI v0)), (2, .int (iI v1)), (3, .int (iI v2)), (4, .int (iI v3)), (5, .int (iI v4))]) S.1 S.2.1 dX5_feed_18 hl (by decide) rfl (fun ls hl => ?_)
    have cut_20 : ∀ (N_20 : Nat) (i : Int) (σ1 : St) (H : Heap) (locs : List Loc) (ls : Array Slot), (0 ≤ i ∧ i ≤ 20) → (same [0] σ σ1) → (∀ j : Int, σ1 0 j = fedU (σ 0) v0 v1 v2 v3 v4 i j) → ((20 - i).toNat) < N_20 → WD G shM ad (aM ad) s s.heap σ1 H locs → lv_has ls 8 [(6, .int (iI i)), (0, .ref (ad 0)), (1, .int (iI v0)), (2, .int (iI v1)), (3, .int (iI v2)), (4, .int (iI v3)), (5, .int (iI v4))] → W p l e (⟨0, 0, 0, 0⟩ : Room) s m ([.ref (ad 0), .int (iI v0), .int (iI v1), .int (iI v2), .int (iI v3), .int (iI v4)] : List Value).toArray below meth c H locs 0 0 (MQ below (qS G shM ad (aM ad) (rI (fun r σ' => (r = sFeed (σ 0)) ∧ (σ' 0 = fedA (σ 0) v0 v1 v2 v3 v4) ∧ (same [0] σ σ')))) ([.ref (ad 0), .int (iI v0), .int (iI v1), .int (iI v2), .int (iI v3), .int (iI v4)] : List Value).toArray s 0 0 (aM ad)) (F0 m 20 ls []) := by
      intro N_20
      induction N_20 with
      | zero =>
        intro i σ1 H locs ls hi hsm ha hμ_20 hW hl
        exact absurd hμ_20 (by omega)
      | succ N_20 ih_20 =>
        intro i σ1 H locs ls hi hsm ha hμ_20 hW hl
        have a4 : σ1 0 4 = σ 0 4 + i := by rw [ha 4]; unfold fedU; rw [if_pos rfl]
        refine lv_iload S.1 S.2.1 dX5_feed_20 (lv_at hl 0 rfl) ?_
        refine r_bipush S dX5_feed_22 (by decide) ?_
        refine r_icmp_ge S (tgt := 122) dX5_feed_24 rfl (by omega) (fun c_24 => ?_) (fun c_24 => ?_)
        ·
          refine lv_aload_n S.1 S.2.1 dX5_feed_122 rfl (lv_at hl 1 rfl) ?_
          refine w_getr S hW in_X5 0 rfl rfl 0 (by decide) q1651 rfl rfl dX5_feed_123 ?_
          refine r_iconst S dX5_feed_126 ?_
          refine w_ald S hW 1 0 rfl rfl (by omega) dX5_feed_127 ?_
          exact e_iS S hr hlk hW ⟨(σ1 0 4), rfl, ⟨(by unfold sFeed; rw [if_pos (by omega)]; omega), (by unfold fedA; rw [if_pos (by omega)]; funext j; rw [ha j, show i = 20 by omega]), (hsm)⟩⟩ dX5_feed_128
        ·
          have cut_73 : ∀ (H : Heap) (locs : List Loc) (ls : Array Slot), WD G shM ad (aM ad) s s.heap σ1 H locs → lv_has ls 8 [(6, .int (iI i)), (0, .ref (ad 0)), (1, .int (iI v0)), (2, .int (iI v1)), (3, .int (iI v2)), (4, .int (iI v3)), (5, .int (iI v4))] → W p l e (⟨0, 0, 0, 0⟩ : Room) s m ([.ref (ad 0), .int (iI v0), .int (iI v1), .int (iI v2), .int (iI v3), .int (iI v4)] : List Value).toArray below meth c H locs 0 0 (MQ below (qS G shM ad (aM ad) (rI (fun r σ' => (r = sFeed (σ 0)) ∧ (σ' 0 = fedA (σ 0) v0 v1 v2 v3 v4) ∧ (same [0] σ σ')))) ([.ref (ad 0), .int (iI v0), .int (iI v1), .int (iI v2), .int (iI v3), .int (iI v4)] : List Value).toArray s 0 0 (aM ad)) (F0 m 73 ls [.int (iI (fdW v0 v1 v2 v3 v4 i))]) := by
            intro H locs ls hW hl
            refine lv_istore (lv' := [(7, .int (iI (fdW v0 v1 v2 v3 v4 i))), (6, .int (iI i)), (0, .ref (ad 0)), (1, .int (iI v0)), (2, .int (iI v1)), (3, .int (iI v2)), (4, .int (iI v3)), (5, .int (iI v4))]) S.1 S.2.1 dX5_feed_73 hl (by decide) rfl (fun ls hl => ?_)
            refine lv_aload_n S.1 S.2.1 dX5_feed_75 rfl (lv_at hl 2 rfl) ?_
            refine w_getr S hW in_X5 0 rfl rfl 0 (by decide) q1651 rfl rfl dX5_feed_76 ?_
            refine r_bipush S dX5_feed_79 (by decide) ?_
            refine lv_aload_n S.1 S.2.1 dX5_feed_81 rfl (lv_at hl 2 rfl) ?_
            refine w_getr S hW in_X5 0 rfl rfl 0 (by decide) q1651 rfl rfl dX5_feed_82 ?_
            refine r_iconst S dX5_feed_85 ?_
            refine w_ald S hW 1 0 rfl rfl (by omega) dX5_feed_86 ?_
            refine r_iadd S dX5_feed_87 ?_
            refine lv_iload S.1 S.2.1 dX5_feed_88 (lv_at hl 0 rfl) ?_
            refine r_bipush S dX5_feed_90 (by decide) ?_
            refine r_bipush S dX5_feed_92 (by decide) ?_
            refine lv_iload S.1 S.2.1 dX5_feed_94 (lv_at hl 1 rfl) ?_
            refine r_iconst S dX5_feed_96 ?_
            refine r_irem S dX5_feed_97 (by omega) ?_
            refine r_imul S dX5_feed_98 ?_
            refine r_isub S dX5_feed_99 ?_
            refine r_ishr S dX5_feed_100 ?_
            refine r_sipush S dX5_feed_101 (by decide) ?_
            refine r_iand S dX5_feed_104 ?_
            refine w_ast S hW 1 0 rfl rfl rfl (z := (andI (shrI (fdW v0 v1 v2 v3 v4 i) (24 - (8 * (i % 4)))) 255)) (by omega) dX5_feed_105 (fun H locs hW => ?_)
            refine lv_aload_n S.1 S.2.1 dX5_feed_106 rfl (lv_at hl 2 rfl) ?_
            refine w_getr S hW in_X5 0 rfl rfl 0 (by decide) q1651 rfl rfl dX5_feed_107 ?_
            refine r_iconst S dX5_feed_110 ?_
            refine lv_dup2_11 S.1 S.2.1 dX5_feed_111 rfl rfl ?_
            refine w_ald S hW 1 0 rfl rfl (by omega) dX5_feed_112 ?_
            refine r_iconst S dX5_feed_113 ?_
            refine r_iadd S dX5_feed_114 ?_
            refine w_ast S hW 1 0 rfl rfl rfl (z := (((up σ1 0 (10 + (σ1 0 4)) (andI (shrI (fdW v0 v1 v2 v3 v4 i) (24 - (8 * (i % 4)))) 255)) 0 4) + 1)) (by omega) dX5_feed_115 (fun H locs hW => ?_)
            refine lv_iinc (v := iI (i + 1)) (lv' := [(6, .int (iI (i + 1))), (7, .int (iI (fdW v0 v1 v2 v3 v4 i))), (0, .ref (ad 0)), (1, .int (iI v0)), (2, .int (iI v1)), (3, .int (iI v2)), (4, .int (iI v3)), (5, .int (iI v4))]) S.1 S.2.1 dX5_feed_116 hl (k := 1) rfl (iI_add _ _) (by decide) rfl (fun ls hl => ?_)
            refine lv_goto (tgt := 20) S.1 S.2.1 dX5_feed_119 rfl ?_
            exact ih_20 (i + 1) (up (up σ1 0 (10 + (σ1 0 4)) (andI (shrI (fdW v0 v1 v2 v3 v4 i) (24 - (8 * (i % 4)))) 255)) 0 4 (((up σ1 0 (10 + (σ1 0 4)) (andI (shrI (fdW v0 v1 v2 v3 v4 i) (24 - (8 * (i % 4)))) 255)) 0 4) + 1)) H _ _ (by omega) (same_up (same_up hsm (by decide)) (by decide)) (fun j => by rw [fedU_s hs.1 hi.1]; by_cases h9 : j = 4; (rw [if_pos h9, h9, up_self, up_nei (by omega), a4]); (rw [if_neg h9, up_nei h9]; by_cases h8 : j = 10 + (σ 0 4 + i); (rw [if_pos h8, h8, a4, up_self]; rfl); (rw [if_neg h8, up_nei (by rw [a4]; exact h8)]; exact ha j))) (by omega) hW (lv_sub hl [0, 2, 3, 4, 5, 6, 7] rfl)
          refine lv_iload S.1 S.2.1 dX5_feed_27 (lv_at hl 0 rfl) ?_
          refine r_iconst S dX5_feed_29 ?_
          refine r_icmp_ge S (tgt := 37) dX5_feed_30 rfl (by omega) (fun c_30 => ?_) (fun c_30 => ?_)
          ·
            refine lv_iload S.1 S.2.1 dX5_feed_37 (lv_at hl 0 rfl) ?_
            refine r_bipush S dX5_feed_39 (by decide) ?_
            refine r_icmp_ge S (tgt := 48) dX5_feed_41 rfl (by omega) (fun c_41 => ?_) (fun c_41 => ?_)
            ·
              refine lv_iload S.1 S.2.1 dX5_feed_48 (lv_at hl 0 rfl) ?_
              refine r_bipush S dX5_feed_50 (by decide) ?_
              refine r_icmp_ge S (tgt := 59) dX5_feed_52 rfl (by omega) (fun c_52 => ?_) (fun c_52 => ?_)
              ·
                refine lv_iload S.1 S.2.1 dX5_feed_59 (lv_at hl 0 rfl) ?_
                refine r_bipush S dX5_feed_61 (by decide) ?_
                refine r_icmp_ge S (tgt := 71) dX5_feed_63 rfl (by omega) (fun c_63 => ?_) (fun c_63 => ?_)
                ·
                  refine lv_iload S.1 S.2.1 dX5_feed_71 (lv_at hl 6 rfl) ?_
                  refine r_as (fdW v0 v1 v2 v3 v4 i) (by unfold fdW; first | rw [if_pos (by omega)] | rw [if_neg (by omega), if_pos (by omega)] | rw [if_neg (by omega), if_neg (by omega), if_pos (by omega)] | rw [if_neg (by omega), if_neg (by omega), if_neg (by omega), if_pos (by omega)] | rw [if_neg (by omega), if_neg (by omega), if_neg (by omega), if_neg (by omega)]) ?_
                  exact cut_73 H _ _ hW (lv_sub hl [0, 1, 2, 3, 4, 5, 6] rfl)
                ·
                  refine lv_iload S.1 S.2.1 dX5_feed_66 (lv_at hl 5 rfl) ?_
                  refine lv_goto (tgt := 73) S.1 S.2.1 dX5_feed_68 rfl ?_
                  refine r_as (fdW v0 v1 v2 v3 v4 i) (by unfold fdW; first | rw [if_pos (by omega)] | rw [if_neg (by omega), if_pos (by omega)] | rw [if_neg (by omega), if_neg (by omega), if_pos (by omega)] | rw [if_neg (by omega), if_neg (by omega), if_neg (by omega), if_pos (by omega)] | rw [if_neg (by omega), if_neg (by omega), if_neg (by omega), if_neg (by omega)]) ?_
                  exact cut_73 H _ _ hW (lv_sub hl [0, 1, 2, 3, 4, 5, 6] rfl)
              ·
                refine lv_iload_n S.1 S.2.1 dX5_feed_55 rfl (lv_at hl 4 rfl) ?_
                refine lv_goto (tgt := 73) S.1 S.2.1 dX5_feed_56 rfl ?_
                refine r_as (fdW v0 v1 v2 v3 v4 i) (by unfold fdW; first | rw [if_pos (by omega)] | rw [if_neg (by omega), if_pos (by omega)] | rw [if_neg (by omega), if_neg (by omega), if_pos (by omega)] | rw [if_neg (by omega), if_neg (by omega), if_neg (by omega), if_pos (by omega)] | rw [if_neg (by omega), if_neg (by omega), if_neg (by omega), if_neg (by omega)]) ?_
                exact cut_73 H _ _ hW (lv_sub hl [0, 1, 2, 3, 4, 5, 6] rfl)
            ·
              refine lv_iload_n S.1 S.2.1 dX5_feed_44 rfl (lv_at hl 3 rfl) ?_
              refine lv_goto (tgt := 73) S.1 S.2.1 dX5_feed_45 rfl ?_
              refine r_as (fdW v0 v1 v2 v3 v4 i) (by unfold fdW; first | rw [if_pos (by omega)] | rw [if_neg (by omega), if_pos (by omega)] | rw [if_neg (by omega), if_neg (by omega), if_pos (by omega)] | rw [if_neg (by omega), if_neg (by omega), if_neg (by omega), if_pos (by omega)] | rw [if_neg (by omega), if_neg (by omega), if_neg (by omega), if_neg (by omega)]) ?_
              exact cut_73 H _ _ hW (lv_sub hl [0, 1, 2, 3, 4, 5, 6] rfl)
          ·
            refine lv_iload_n S.1 S.2.1 dX5_feed_33 rfl (lv_at hl 2 rfl) ?_
            refine lv_goto (tgt := 73) S.1 S.2.1 dX5_feed_34 rfl ?_
            refine r_as (fdW v0 v1 v2 v3 v4 i) (by unfold fdW; first | rw [if_pos (by omega)] | rw [if_neg (by omega), if_pos (by omega)] | rw [if_neg (by omega), if_neg (by omega), if_pos (by omega)] | rw [if_neg (by omega), if_neg (by omega), if_neg (by omega), if_pos (by omega)] | rw [if_neg (by omega), if_neg (by omega), if_neg (by omega), if_neg (by omega)]) ?_
            exact cut_73 H _ _ hW (lv_sub hl [0, 1, 2, 3, 4, 5, 6] rfl)
    exact cut_20 _ 0 σ s.heap _ _ (by omega) (same_rf) (fun j => by unfold fedU; by_cases h9 : j = 4; (rw [if_pos h9, h9]; omega); (rw [if_neg h9, if_neg (by omega)])) (Nat.lt_succ_self _) hW (lv_sub hl [0, 1, 2, 3, 4, 5, 6] rfl)
  ·
    refine r_iconst S dX5_feed_15 ?_
    exact e_iS S hr hlk hW ⟨(-1), rfl, ⟨(by unfold sFeed; rw [if_neg (by omega)]), (by unfold fedA; rw [if_neg (by omega)]), (same_rf)⟩⟩ dX5_feed_16
set_option maxHeartbeats 4000000 in
theorem tX5_image (l : Launch) (G : GG) (ad : Nat → Nat) (σ : St) (k : Int) (hk : -2147483648 ≤ k ∧ k < 2147483648) : Met l yX5_image (ws_ yX5_image cX5_image 3 (some .boolean)) ⟨1, 0, 0, 22⟩ (wPre G shM ad σ (fun _ => True) [.ref (ad 0), .int (iI k)]) (qS G shM ad (aM ad) (rZ (fun r σ' => (r = dP (0 ≤ k ∧ k ≤ 2)) ∧ (σ' 0 = if 0 ≤ k ∧ k ≤ 2 then imgU (σ 0) k 934 else σ 0) ∧ (∀ j : Int, σ' 1 j = if j = k ∧ 0 ≤ k ∧ k ≤ 2 then 1 else σ 1 j) ∧ (same [0, 1] σ σ')))) 0 0 (aM ad) := by
  refine wStart (by decide) (Nat.le_of_ble_eq_true rfl) (fun k hk => ⟨k, hk, rfl⟩) (fun p e s m below meth c S hr hlk _ _ ls hW hl => ?_)
  have hl : lv_has ls 3 [(0, .ref (ad 0)), (1, .int (iI k))] := hl
  refine lv_iload_n S.1 S.2.1 dX5_image_0 rfl (lv_at hl 1 rfl) ?_
  refine r_iconst S dX5_image_1 ?_
  refine r_iconst S dX5_image_2 ?_
  refine c_SPw S hW (tX5_isIn l k 0 2 (by omega)) (cw_X5_145 S.2.2.2.2 ⟨Nat.le_of_ble_eq_true rfl, Nat.le_of_ble_eq_true rfl⟩) rfl hl.1 (rest := []) rfl (Nat.le_of_ble_eq_true rfl) dX5_image_3 ⟨Nat.le_of_ble_eq_true rfl, Nat.le_of_ble_eq_true rfl⟩ (fun locs hW => ?_)
  refine r_ifne_p S (tgt := 11) dX5_image_6 rfl (fun c_6 => ?_) (fun c_6 => ?_)
  ·
    refine lv_aload_n S.1 S.2.1 dX5_image_11 rfl (lv_at hl 0 rfl) ?_
    refine w_getr S hW in_X5 0 rfl rfl 1 (by decide) q1652 rfl rfl dX5_image_12 ?_
    refine lv_iload_n S.1 S.2.1 dX5_image_15 rfl (lv_at hl 1 rfl) ?_
    refine r_iconst S dX5_image_16 ?_
    refine w_zast S hW 2 1 rfl rfl rfl (z := 1) (by omega) (by omega) dX5_image_17 (fun H locs hW => ?_)
    refine r_iconst S dX5_image_18 ?_
    refine lv_istore_n (lv' := [(2, .int (iI 0)), (0, .ref (ad 0)), (1, .int (iI k))]) S.1 S.2.1 dX5_image_19 rfl hl (by decide) rfl (fun ls hl => ?_)
    have cut_20 : ∀ (N_20 : Nat) (i : Int) (σ1 : St) (H : Heap) (locs : List Loc) (ls : Array Slot), (0 ≤ i ∧ i ≤ 934) → (same [0, 1] σ σ1) → (∀ j : Int, σ1 0 j = imgU (σ 0) k i j) → (∀ j : Int, σ1 1 j = if j = k ∧ 0 ≤ k ∧ k ≤ 2 then 1 else σ 1 j) → ((934 - i).toNat) < N_20 → WD G shM ad (aM ad) s s.heap σ1 H locs → lv_has ls 3 [(2, .int (iI i)), (0, .ref (ad 0)), (1, .int (iI k))] → W p l e (⟨1, 0, 0, 22⟩ : Room) s m ([.ref (ad 0), .int (iI k)] : List Value).toArray below meth c H locs 0 0 (MQ below (qS G shM ad (aM ad) (rZ (fun r σ' => (r = dP (0 ≤ k ∧ k ≤ 2)) ∧ (σ' 0 = if 0 ≤ k ∧ k ≤ 2 then imgU (σ 0) k 934 else σ 0) ∧ (∀ j : Int, σ' 1 j = if j = k ∧ 0 ≤ k ∧ k ≤ 2 then 1 else σ 1 j) ∧ (same [0, 1] σ σ')))) ([.ref (ad 0), .int (iI k)] : List Value).toArray s 0 0 (aM ad)) (F0 m 20 ls []) := by
      intro N_20
      induction N_20 with
      | zero =>
        intro i σ1 H locs ls hi hsm ha hh hμ_20 hW hl
        exact absurd hμ_20 (by omega)
      | succ N_20 ih_20 =>
        intro i σ1 H locs ls hi hsm ha hh hμ_20 hW hl
        refine lv_iload_n S.1 S.2.1 dX5_image_20 rfl (lv_at hl 0 rfl) ?_
        refine r_sipush S dX5_image_21 (by decide) ?_
        refine r_icmp_ge S (tgt := 53) dX5_image_24 rfl (by omega) (fun c_24 => ?_) (fun c_24 => ?_)
        ·
          refine r_iconst S dX5_image_53 ?_
          exact e_zS S hr hlk hW (by decide) ⟨true, rfl, ⟨((dP_t.mpr (by omega)).symm), (by rw [if_pos (by omega)]; funext j; rw [ha j, show i = 934 by omega]), (hh), (hsm)⟩⟩ dX5_image_54
        ·
          refine lv_aload_n S.1 S.2.1 dX5_image_27 rfl (lv_at hl 1 rfl) ?_
          refine w_getr S hW in_X5 0 rfl rfl 0 (by decide) q1651 rfl rfl dX5_image_28 ?_
          refine r_sipush S dX5_image_31 (by decide) ?_
          refine lv_iload_n S.1 S.2.1 dX5_image_34 rfl (lv_at hl 2 rfl) ?_
          refine r_iconst S dX5_image_35 ?_
          refine r_iadd S dX5_image_36 ?_
          refine r_imul S dX5_image_37 ?_
          refine lv_iload_n S.1 S.2.1 dX5_image_38 rfl (lv_at hl 0 rfl) ?_
          refine r_iadd S dX5_image_39 ?_
          refine lv_aload_n S.1 S.2.1 dX5_image_40 rfl (lv_at hl 1 rfl) ?_
          refine w_getr S hW in_X5 0 rfl rfl 0 (by decide) q1651 rfl rfl dX5_image_41 ?_
          refine lv_iload_n S.1 S.2.1 dX5_image_44 rfl (lv_at hl 0 rfl) ?_
          refine w_ald S hW 1 0 rfl rfl (by omega) dX5_image_45 ?_
          refine w_ast S hW 1 0 rfl rfl rfl (z := (σ1 0 i)) (by omega) dX5_image_46 (fun H locs hW => ?_)
          refine lv_iinc (v := iI (i + 1)) (lv' := [(2, .int (iI (i + 1))), (0, .ref (ad 0)), (1, .int (iI k))]) S.1 S.2.1 dX5_image_47 hl (k := 0) rfl (iI_add _ _) (by decide) rfl (fun ls hl => ?_)
          refine lv_goto (tgt := 20) S.1 S.2.1 dX5_image_50 rfl ?_
          exact ih_20 (i + 1) (up σ1 0 ((934 * (k + 1)) + i) (σ1 0 i)) H _ _ (by omega) (same_up hsm (by decide)) (fun j => by by_cases h9 : j = 934 * (k + 1) + i; (rw [h9, up_self, ha i]; unfold imgU; rw [if_neg (by omega), if_pos (by omega), show 934 * (k + 1) + i - 934 * (k + 1) = i by omega]); (rw [up_nei h9, ha j]; unfold imgU; congr 1; apply propext; omega)) (fun j => by rw [up_ne (by decide)]; exact hh j) (by omega) hW (lv_sub hl [0, 1, 2] rfl)
    exact cut_20 _ 0 (up σ 1 k 1) H _ _ (by omega) (same_up same_rf (by decide)) (fun j => by rw [up_ne (by decide)]; unfold imgU; rw [if_neg (by omega)]) (fun j => by by_cases h9 : j = k; (rw [h9, up_self, if_pos (by omega)]); (rw [up_nei h9, if_neg (by omega)])) (Nat.lt_succ_self _) hW (lv_sub hl [0, 1, 2] rfl)
  ·
    refine r_iconst S dX5_image_9 ?_
    exact e_zS S hr hlk hW (by decide) ⟨false, rfl, ⟨((dP_f.mpr (by omega)).symm), (by rw [if_neg (by omega)]), (fun j => by rw [if_neg (by omega)]), (same_rf)⟩⟩ dX5_image_10
set_option maxHeartbeats 4000000 in
theorem tX5_again (l : Launch) (G : GG) (ad : Nat → Nat) (σ : St) (k : Int) (hk : -2147483648 ≤ k ∧ k < 2147483648) (hh : ∀ j : Int, 0 ≤ j → j ≤ 2 → σ 1 j = 0 ∨ σ 1 j = 1) : Met l yX5_again (ws_ yX5_again cX5_again 3 (some .boolean)) ⟨1, 0, 0, 22⟩ (wPre G shM ad σ (fun _ => True) [.ref (ad 0), .int (iI k)]) (qS G shM ad (aM ad) (rZ (fun r σ' => (r = dP ((0 ≤ k ∧ k ≤ 2) ∧ σ 1 k = 1)) ∧ (σ' 0 = if (0 ≤ k ∧ k ≤ 2) ∧ σ 1 k = 1 then agnU (σ 0) k 934 else σ 0) ∧ (same [0] σ σ')))) 0 0 (aM ad) := by
  refine wStart (by decide) (Nat.le_of_ble_eq_true rfl) (fun k hk => ⟨k, hk, rfl⟩) (fun p e s m below meth c S hr hlk _ _ ls hW hl => ?_)
  have hl : lv_has ls 3 [(0, .ref (ad 0)), (1, .int (iI k))] := hl
  refine lv_iload_n S.1 S.2.1 dX5_again_0 rfl (lv_at hl 1 rfl) ?_
  refine r_iconst S dX5_again_1 ?_
  refine r_iconst S dX5_again_2 ?_
  refine c_SPw S hW (tX5_isIn l k 0 2 (by omega)) (cw_X5_145 S.2.2.2.2 ⟨Nat.le_of_ble_eq_true rfl, Nat.le_of_ble_eq_true rfl⟩) rfl hl.1 (rest := []) rfl (Nat.le_of_ble_eq_true rfl) dX5_again_3 ⟨Nat.le_of_ble_eq_true rfl, Nat.le_of_ble_eq_true rfl⟩ (fun locs hW => ?_)
  refine r_ifeq_p S (tgt := 18) dX5_again_6 rfl (fun c_6 => ?_) (fun c_6 => ?_)
  ·
    refine r_iconst S dX5_again_18 ?_
    exact e_zS S hr hlk hW (by decide) ⟨false, rfl, ⟨((dP_f.mpr (by omega)).symm), (by rw [if_neg (by omega)]), (same_rf)⟩⟩ dX5_again_19
  ·
    have hk1 := hh k (by omega) (by omega)
    refine lv_aload_n S.1 S.2.1 dX5_again_9 rfl (lv_at hl 0 rfl) ?_
    refine w_getr S hW in_X5 0 rfl rfl 1 (by decide) q1652 rfl rfl dX5_again_10 ?_
    refine lv_iload_n S.1 S.2.1 dX5_again_13 rfl (lv_at hl 1 rfl) ?_
    refine w_zald S hW 2 1 rfl rfl (by omega) dX5_again_14 ?_
    refine r_if_ne S (tgt := 20) dX5_again_15 rfl (by omega) (fun c_15 => ?_) (fun c_15 => ?_)
    ·
      refine r_iconst S dX5_again_20 ?_
      refine lv_istore_n (lv' := [(2, .int (iI 0)), (0, .ref (ad 0)), (1, .int (iI k))]) S.1 S.2.1 dX5_again_21 rfl hl (by decide) rfl (fun ls hl => ?_)
      have cut_22 : ∀ (N_22 : Nat) (i : Int) (σ1 : St) (H : Heap) (locs : List Loc) (ls : Array Slot), (0 ≤ i ∧ i ≤ 934) → (same [0] σ σ1) → (∀ j : Int, σ1 0 j = agnU (σ 0) k i j) → ((934 - i).toNat) < N_22 → WD G shM ad (aM ad) s s.heap σ1 H locs → lv_has ls 3 [(2, .int (iI i)), (0, .ref (ad 0)), (1, .int (iI k))] → W p l e (⟨1, 0, 0, 22⟩ : Room) s m ([.ref (ad 0), .int (iI k)] : List Value).toArray below meth c H locs 0 0 (MQ below (qS G shM ad (aM ad) (rZ (fun r σ' => (r = dP ((0 ≤ k ∧ k ≤ 2) ∧ σ 1 k = 1)) ∧ (σ' 0 = if (0 ≤ k ∧ k ≤ 2) ∧ σ 1 k = 1 then agnU (σ 0) k 934 else σ 0) ∧ (same [0] σ σ')))) ([.ref (ad 0), .int (iI k)] : List Value).toArray s 0 0 (aM ad)) (F0 m 22 ls []) := by
        intro N_22
        induction N_22 with
        | zero =>
          intro i σ1 H locs ls hi hsm ha hμ_22 hW hl
          exact absurd hμ_22 (by omega)
        | succ N_22 ih_22 =>
          intro i σ1 H locs ls hi hsm ha hμ_22 hW hl
          refine lv_iload_n S.1 S.2.1 dX5_again_22 rfl (lv_at hl 0 rfl) ?_
          refine r_sipush S dX5_again_23 (by decide) ?_
          refine r_icmp_ge S (tgt := 55) dX5_again_26 rfl (by omega) (fun c_26 => ?_) (fun c_26 => ?_)
          ·
            refine r_iconst S dX5_again_55 ?_
            exact e_zS S hr hlk hW (by decide) ⟨true, rfl, ⟨((dP_t.mpr (by omega)).symm), (by rw [if_pos (by omega)]; funext j; rw [ha j, show i = 934 by omega]), (hsm)⟩⟩ dX5_again_56
          ·
            refine lv_aload_n S.1 S.2.1 dX5_again_29 rfl (lv_at hl 1 rfl) ?_
            refine w_getr S hW in_X5 0 rfl rfl 0 (by decide) q1651 rfl rfl dX5_again_30 ?_
            refine lv_iload_n S.1 S.2.1 dX5_again_33 rfl (lv_at hl 0 rfl) ?_
            refine lv_aload_n S.1 S.2.1 dX5_again_34 rfl (lv_at hl 1 rfl) ?_
            refine w_getr S hW in_X5 0 rfl rfl 0 (by decide) q1651 rfl rfl dX5_again_35 ?_
            refine r_sipush S dX5_again_38 (by decide) ?_
            refine lv_iload_n S.1 S.2.1 dX5_again_41 rfl (lv_at hl 2 rfl) ?_
            refine r_iconst S dX5_again_42 ?_
            refine r_iadd S dX5_again_43 ?_
            refine r_imul S dX5_again_44 ?_
            refine lv_iload_n S.1 S.2.1 dX5_again_45 rfl (lv_at hl 0 rfl) ?_
            refine r_iadd S dX5_again_46 ?_
            refine w_ald S hW 1 0 rfl rfl (by omega) dX5_again_47 ?_
            refine w_ast S hW 1 0 rfl rfl rfl (z := (σ1 0 ((934 * (k + 1)) + i))) (by omega) dX5_again_48 (fun H locs hW => ?_)
            refine lv_iinc (v := iI (i + 1)) (lv' := [(2, .int (iI (i + 1))), (0, .ref (ad 0)), (1, .int (iI k))]) S.1 S.2.1 dX5_again_49 hl (k := 0) rfl (iI_add _ _) (by decide) rfl (fun ls hl => ?_)
            refine lv_goto (tgt := 22) S.1 S.2.1 dX5_again_52 rfl ?_
            exact ih_22 (i + 1) (up σ1 0 i (σ1 0 ((934 * (k + 1)) + i))) H _ _ (by omega) (same_up hsm (by decide)) (fun j => by by_cases h9 : j = i; (rw [h9, up_self, ha (934 * (k + 1) + i)]; unfold agnU; rw [if_neg (by omega), if_pos (by omega)]); (rw [up_nei h9, ha j]; unfold agnU; congr 1; apply propext; omega)) (by omega) hW (lv_sub hl [0, 1, 2] rfl)
      exact cut_22 _ 0 σ s.heap _ _ (by omega) (same_rf) (fun j => by unfold agnU; rw [if_neg (by omega)]) (Nat.lt_succ_self _) hW (lv_sub hl [0, 1, 2] rfl)
    ·
      refine r_iconst S dX5_again_18 ?_
      exact e_zS S hr hlk hW (by decide) ⟨false, rfl, ⟨((dP_f.mpr (by omega)).symm), (by rw [if_neg (by omega)]), (same_rf)⟩⟩ dX5_again_19
