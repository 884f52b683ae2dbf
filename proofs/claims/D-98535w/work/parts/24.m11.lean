theorem hd_X5_isForced : yX5_isForced.cls = RX5 ∧ yX5_isForced.cls ≠ "java/lang/invoke/MethodHandle" ∧ yX5_isForced.cls ≠ "java/lang/invoke/VarHandle" ∧ (parseMethodDescriptor yX5_isForced.desc).map (fun d => d.parameters.length) = some 4 := by decide +kernel
theorem cw_X5_304 {R : Room} {s : State} {args : Array Value} (ht : ∀ w ∈ lw_all, w.before args s = true) (hR : 6 + 1 ≤ R.frames ∧ 8 + (7 + 11) + 138 ≤ R.locals) : CallW R s args "OneDrumModel" RX5 304 yX5_isForced cX5_isForced 7 (some .boolean) (ws_ yX5_isForced cX5_isForced 7 (some .boolean)) ⟨6, 0, 0, 138⟩ 0 0 4 := cwV 4 ht (lw_V q2022 q2024 qs92 q126 q2025) rfl rfl rfl hd_X5_isForced hR
set_option maxHeartbeats 4000000 in
theorem tX5_force (l : Launch) (G : GG) (ad : Nat → Nat) (σ : St) (k : Int) (army : Int) (mv : Int) (n : Int) (many : Bool) (hr0 : -2147483648 ≤ k ∧ k < 2147483648 ∧ -2147483648 ≤ army ∧ army < 2147483648 ∧ -2147483648 ≤ mv ∧ mv < 2147483648 ∧ -2147483648 ≤ n ∧ n < 2147483648) (hdb : WfDB (σ 0)) : Met l yX5_force (ws_ yX5_force cX5_force 9 (some .int)) ⟨7, 0, 0, 164⟩ (wPre G shM ad σ (fun _ => True) [.ref (ad 0), .int (iI k), .int (iI army), .int (iI mv), .int (iI n), .int (iI (b2i many))]) (qS G shM ad (aM ad) (rI (fun r σ' => (r = sForce (σ 0) k army mv n many) ∧ (same [10, 12, 13, 14, 15, 16, 17, 18, 19, 20, 21, 22, 23] σ σ')))) 0 0 (aM ad) := by
  refine wStart (by decide) (Nat.le_of_ble_eq_true rfl) (fun k hk => ⟨k, hk, rfl⟩) (fun p e s m below meth c S hr hlk _ _ ls hW hl => ?_)
  have hl : lv_has ls 9 [(0, .ref (ad 0)), (1, .int (iI k)), (2, .int (iI army)), (3, .int (iI mv)), (4, .int (iI n)), (5, .int (iI (b2i many)))] := hl
  have d0 := hdb.1
  have d1 := hdb.2.1
  have d2 := hdb.2.2.1
  have d3 := hdb.2.2.2.1
  refine lv_aload_n S.1 S.2.1 dX5_force_0 rfl (lv_at hl 0 rfl) ?_
  refine lv_iload_n S.1 S.2.1 dX5_force_1 rfl (lv_at hl 1 rfl) ?_
  refine c_VSz S hW (tX5_isWar l G ad σ k (by omega) (by omega)) (cw_X5_224 S.2.2.2.2 ⟨Nat.le_of_ble_eq_true rfl, Nat.le_of_ble_eq_true rfl⟩) eBlind_T (fun _ _ _ => trivial) (w_recv hW (q0 := 0) rfl rfl) rfl hl.1 (rest := []) rfl (Nat.le_of_ble_eq_true rfl) dX5_force_2 ⟨Nat.le_of_ble_eq_true rfl, Nat.le_of_ble_eq_true rfl⟩ (fun r2 σ2 H locs q2 hW => ?_)
  obtain ⟨rfl, q2_sm, q2_w⟩ := q2
  have e0 : σ2 0 = σ 0 := q2_sm 0 (by decide)
  refine r_ifeq_p S (tgt := 34) dX5_force_5 rfl (fun c_5 => ?_) (fun c_5 => ?_)
  ·
    refine r_bipush S dX5_force_34 (by decide) ?_
    exact e_iS S hr hlk hW ⟨(-2), rfl, ⟨(by unfold sForce; rw [if_neg (by omega)]), (same_w q2_sm (by decide))⟩⟩ dX5_force_36
  ·
    have w10 := q2_w (by omega)
    have we : wr σ2 = wAt (σ 0) k := wr_at e0 w10
    have we2 : ∀ j, wr σ2 j = wAt (σ 0) k j := fun j => congrFun we j
    have hWf := hdb.2.2.2.2.2.2.2.2.1 k (by omega) (by omega)
    refine lv_iload_n S.1 S.2.1 dX5_force_8 rfl (lv_at hl 2 rfl) ?_
    refine c_SPw S hW (tX5_isArmy l army (by omega)) (cw_X5_218 S.2.2.2.2 ⟨Nat.le_of_ble_eq_true rfl, Nat.le_of_ble_eq_true rfl⟩) rfl hl.1 (rest := []) rfl (Nat.le_of_ble_eq_true rfl) dX5_force_9 ⟨Nat.le_of_ble_eq_true rfl, Nat.le_of_ble_eq_true rfl⟩ (fun locs hW => ?_)
    refine r_ifeq_p S (tgt := 34) dX5_force_12 rfl (fun c_12 => ?_) (fun c_12 => ?_)
    ·
      refine r_bipush S dX5_force_34 (by decide) ?_
      exact e_iS S hr hlk hW ⟨(-2), rfl, ⟨(by unfold sForce; rw [if_neg (by omega)]), (same_w q2_sm (by decide))⟩⟩ dX5_force_36
    ·
      refine lv_iload_n S.1 S.2.1 dX5_force_15 rfl (lv_at hl 3 rfl) ?_
      refine r_iconst S dX5_force_16 ?_
      refine r_iconst S dX5_force_17 ?_
      refine c_SPw S hW (tX5_isIn l mv 0 4 (by omega)) (cw_X5_145 S.2.2.2.2 ⟨Nat.le_of_ble_eq_true rfl, Nat.le_of_ble_eq_true rfl⟩) rfl hl.1 (rest := []) rfl (Nat.le_of_ble_eq_true rfl) dX5_force_18 ⟨Nat.le_of_ble_eq_true rfl, Nat.le_of_ble_eq_true rfl⟩ (fun locs hW => ?_)
      refine r_ifeq_p S (tgt := 34) dX5_force_21 rfl (fun c_21 => ?_) (fun c_21 => ?_)
      ·
        refine r_bipush S dX5_force_34 (by decide) ?_
        exact e_iS S hr hlk hW ⟨(-2), rfl, ⟨(by unfold sForce; rw [if_neg (by omega)]), (same_w q2_sm (by decide))⟩⟩ dX5_force_36
      ·
        refine lv_iload S.1 S.2.1 dX5_force_24 (lv_at hl 4 rfl) ?_
        refine r_iconst S dX5_force_26 ?_
        refine r_iconst S dX5_force_27 ?_
        refine c_SPw S hW (tX5_isIn l n 0 3 (by omega)) (cw_X5_145 S.2.2.2.2 ⟨Nat.le_of_ble_eq_true rfl, Nat.le_of_ble_eq_true rfl⟩) rfl hl.1 (rest := []) rfl (Nat.le_of_ble_eq_true rfl) dX5_force_28 ⟨Nat.le_of_ble_eq_true rfl, Nat.le_of_ble_eq_true rfl⟩ (fun locs hW => ?_)
        refine r_ifne_p S (tgt := 37) dX5_force_31 rfl (fun c_31 => ?_) (fun c_31 => ?_)
        ·
          have hp4 := p4_le3 (n := n) (by omega)
          have hp4p := p4_pos n
          refine r_iconst S dX5_force_37 ?_
          refine lv_istore (lv' := [(6, .int (iI 0)), (0, .ref (ad 0)), (1, .int (iI k)), (2, .int (iI army)), (3, .int (iI mv)), (4, .int (iI n)), (5, .int (iI (b2i many)))]) S.1 S.2.1 dX5_force_38 hl (by decide) rfl (fun ls hl => ?_)
          refine r_iconst S dX5_force_40 ?_
          refine lv_istore (lv' := [(7, .int (iI (-1))), (6, .int (iI 0)), (0, .ref (ad 0)), (1, .int (iI k)), (2, .int (iI army)), (3, .int (iI mv)), (4, .int (iI n)), (5, .int (iI (b2i many)))]) S.1 S.2.1 dX5_force_41 hl (by decide) rfl (fun ls hl => ?_)
          refine r_iconst S dX5_force_43 ?_
          refine lv_istore (lv' := [(8, .int (iI 0)), (7, .int (iI (-1))), (6, .int (iI 0)), (0, .ref (ad 0)), (1, .int (iI k)), (2, .int (iI army)), (3, .int (iI mv)), (4, .int (iI n)), (5, .int (iI (b2i many)))]) S.1 S.2.1 dX5_force_44 hl (by decide) rfl (fun ls hl => ?_)
          have cut_46 : ∀ (N_46 : Nat) (sum first code : Int) (σ1 : St) (H : Heap) (locs : List Loc) (ls : Array Slot), (0 ≤ code ∧ code ≤ p4 n) → (same [12, 13, 14, 15, 16, 17, 18, 19, 20, 21, 22, 23] σ2 σ1) → (sum = cnI (forc (wAt (σ 0) k) army mv n) code) → (first = fsI (forc (wAt (σ 0) k) army mv n) code) → ((p4 n - code).toNat) < N_46 → WD G shM ad (aM ad) s s.heap σ1 H locs → lv_has ls 9 [(8, .int (iI code)), (7, .int (iI first)), (6, .int (iI sum)), (0, .ref (ad 0)), (1, .int (iI k)), (2, .int (iI army)), (3, .int (iI mv)), (4, .int (iI n)), (5, .int (iI (b2i many)))] → W p l e (⟨7, 0, 0, 164⟩ : Room) s m ([.ref (ad 0), .int (iI k), .int (iI army), .int (iI mv), .int (iI n), .int (iI (b2i many))] : List Value).toArray below meth c H locs 0 0 (MQ below (qS G shM ad (aM ad) (rI (fun r σ' => (r = sForce (σ 0) k army mv n many) ∧ (same [10, 12, 13, 14, 15, 16, 17, 18, 19, 20, 21, 22, 23] σ σ')))) ([.ref (ad 0), .int (iI k), .int (iI army), .int (iI mv), .int (iI n), .int (iI (b2i many))] : List Value).toArray s 0 0 (aM ad)) (F0 m 46 ls []) := by
            intro N_46
            induction N_46 with
            | zero =>
              intro sum first code σ1 H locs ls hc hsm hsu hfi hμ_46 hW hl
              exact absurd hμ_46 (by omega)
            | succ N_46 ih_46 =>
              intro sum first code σ1 H locs ls hc hsm hsu hfi hμ_46 hW hl
              have e0b : σ1 0 = σ2 0 := hsm 0 (by decide)
              have e10 : σ1 10 = σ2 10 := hsm 10 (by decide)
              have wq : wr σ1 = wAt (σ 0) k := by rw [← we]; funext j; simp only [wr, e0b, e10]
              have w10b : σ1 10 0 = σ2 10 0 := by rw [e10]
              have hcr := cnI_rng (forc (wAt (σ 0) k) army mv n) hc.1
              have hfr := fsI_rng (forc (wAt (σ 0) k) army mv n) hc.1
              refine lv_iload S.1 S.2.1 dX5_force_46 (lv_at hl 0 rfl) ?_
              refine lv_iload S.1 S.2.1 dX5_force_48 (lv_at hl 7 rfl) ?_
              refine c_SPw S hW (tX5_codesOf l n (by omega)) (cw_X5_294 S.2.2.2.2 ⟨Nat.le_of_ble_eq_true rfl, Nat.le_of_ble_eq_true rfl⟩) rfl hl.1 (rest := [.int (iI code)]) rfl (Nat.le_of_ble_eq_true rfl) dX5_force_50 ⟨Nat.le_of_ble_eq_true rfl, Nat.le_of_ble_eq_true rfl⟩ (fun locs hW => ?_)
              refine r_icmp_ge S (tgt := 96) dX5_force_53 rfl (by omega) (fun c_53 => ?_) (fun c_53 => ?_)
              ·
                refine lv_iload S.1 S.2.1 dX5_force_96 (lv_at hl 8 rfl) ?_
                refine r_ifeq_b S (tgt := 106) dX5_force_98 rfl (fun c_98 => ?_) (fun c_98 => ?_)
                ·
                  refine lv_iload S.1 S.2.1 dX5_force_106 (lv_at hl 1 rfl) ?_
                  exact e_iS S hr hlk hW ⟨first, rfl, ⟨(by unfold sForce; rw [if_pos (by omega), ← show code = p4 n by omega]; first | (rw [if_pos c_98]; exact hsu) | (rw [if_neg (by rw [c_98]; decide)]; exact hfi)), (same_tr (same_w q2_sm (by decide)) hsm (by decide))⟩⟩ dX5_force_108
                ·
                  refine lv_iload S.1 S.2.1 dX5_force_101 (lv_at hl 2 rfl) ?_
                  refine lv_goto (tgt := 108) S.1 S.2.1 dX5_force_103 rfl ?_
                  exact e_iS S hr hlk hW ⟨sum, rfl, ⟨(by unfold sForce; rw [if_pos (by omega), ← show code = p4 n by omega]; first | (rw [if_pos c_98]; exact hsu) | (rw [if_neg (by rw [c_98]; decide)]; exact hfi)), (same_tr (same_w q2_sm (by decide)) hsm (by decide))⟩⟩ dX5_force_108
              ·
                refine lv_aload_n S.1 S.2.1 dX5_force_56 rfl (lv_at hl 3 rfl) ?_
                refine lv_iload_n S.1 S.2.1 dX5_force_57 rfl (lv_at hl 5 rfl) ?_
                refine lv_iload_n S.1 S.2.1 dX5_force_58 rfl (lv_at hl 6 rfl) ?_
                refine lv_iload S.1 S.2.1 dX5_force_59 (lv_at hl 7 rfl) ?_
                refine lv_iload S.1 S.2.1 dX5_force_61 (lv_at hl 0 rfl) ?_
                refine c_VSz S hW (tX5_isForced l G ad σ1 army mv n code (by omega) (by omega) (by rw [wq]; exact hWf) (by omega) (by omega) (by omega)) (cw_X5_304 S.2.2.2.2 ⟨Nat.le_of_ble_eq_true rfl, Nat.le_of_ble_eq_true rfl⟩) eBlind_T (fun _ _ _ => trivial) (w_recv hW (q0 := 0) rfl rfl) rfl hl.1 (rest := []) rfl (Nat.le_of_ble_eq_true rfl) dX5_force_63 ⟨Nat.le_of_ble_eq_true rfl, Nat.le_of_ble_eq_true rfl⟩ (fun r63 σ63 H locs q63 hW => ?_)
                obtain ⟨rfl, q63_sm⟩ := q63
                refine r_ifne_p S (tgt := 72) dX5_force_66 rfl (fun c_66 => ?_) (fun c_66 => ?_)
                ·
                  rw [wq] at c_66
                  refine lv_iload S.1 S.2.1 dX5_force_72 (lv_at hl 1 rfl) ?_
                  refine r_iconst S dX5_force_74 ?_
                  refine r_icmp_ne S (tgt := 83) dX5_force_75 rfl (by omega) (fun c_75 => ?_) (fun c_75 => ?_)
                  ·
                    refine lv_iload S.1 S.2.1 dX5_force_83 (lv_at hl 1 rfl) ?_
                    refine lv_istore (lv' := [(7, .int (iI first)), (8, .int (iI code)), (6, .int (iI sum)), (0, .ref (ad 0)), (1, .int (iI k)), (2, .int (iI army)), (3, .int (iI mv)), (4, .int (iI n)), (5, .int (iI (b2i many)))]) S.1 S.2.1 dX5_force_85 hl (by decide) rfl (fun ls hl => ?_)
                    refine lv_iinc (v := iI (sum + 1)) (lv' := [(6, .int (iI (sum + 1))), (7, .int (iI first)), (8, .int (iI code)), (0, .ref (ad 0)), (1, .int (iI k)), (2, .int (iI army)), (3, .int (iI mv)), (4, .int (iI n)), (5, .int (iI (b2i many)))]) S.1 S.2.1 dX5_force_87 hl (k := 2) rfl (iI_add _ _) (by decide) rfl (fun ls hl => ?_)
                    refine lv_iinc (v := iI (code + 1)) (lv' := [(8, .int (iI (code + 1))), (6, .int (iI (sum + 1))), (7, .int (iI first)), (0, .ref (ad 0)), (1, .int (iI k)), (2, .int (iI army)), (3, .int (iI mv)), (4, .int (iI n)), (5, .int (iI (b2i many)))]) S.1 S.2.1 dX5_force_90 hl (k := 2) rfl (iI_add _ _) (by decide) rfl (fun ls hl => ?_)
                    refine lv_goto (tgt := 46) S.1 S.2.1 dX5_force_93 rfl ?_
                    exact ih_46 (sum + 1) first (code + 1) σ63 H _ _ (by omega) (same_tr hsm q63_sm (by decide)) (by first | (rw [cnI_no _ hc.1 c_66]; exact hsu) | (rw [cnI_yes _ hc.1 c_66]; omega)) (by first | (rw [fsI_no _ hc.1 c_66]; exact hfi) | (rw [fsI_yes _ hc.1 c_66, ← hfi]; first | rw [if_pos c_75] | rw [if_neg c_75])) (by omega) hW (lv_sub hl [0, 2, 1, 3, 4, 5, 6, 7, 8] rfl)
                  ·
                    refine lv_iload S.1 S.2.1 dX5_force_78 (lv_at hl 0 rfl) ?_
                    refine lv_goto (tgt := 85) S.1 S.2.1 dX5_force_80 rfl ?_
                    refine lv_istore (lv' := [(7, .int (iI code)), (8, .int (iI code)), (6, .int (iI sum)), (0, .ref (ad 0)), (1, .int (iI k)), (2, .int (iI army)), (3, .int (iI mv)), (4, .int (iI n)), (5, .int (iI (b2i many)))]) S.1 S.2.1 dX5_force_85 hl (by decide) rfl (fun ls hl => ?_)
                    refine lv_iinc (v := iI (sum + 1)) (lv' := [(6, .int (iI (sum + 1))), (7, .int (iI code)), (8, .int (iI code)), (0, .ref (ad 0)), (1, .int (iI k)), (2, .int (iI army)), (3, .int (iI mv)), (4, .int (iI n)), (5, .int (iI (b2i many)))]) S.1 S.2.1 dX5_force_87 hl (k := 2) rfl (iI_add _ _) (by decide) rfl (fun ls hl => ?_)
                    refine lv_iinc (v := iI (code + 1)) (lv' := [(8, .int (iI (code + 1))), (6, .int (iI (sum + 1))), (7, .int (iI code)), (0, .ref (ad 0)), (1, .int (iI k)), (2, .int (iI army)), (3, .int (iI mv)), (4, .int (iI n)), (5, .int (iI (b2i many)))]) S.1 S.2.1 dX5_force_90 hl (k := 2) rfl (iI_add _ _) (by decide) rfl (fun ls hl => ?_)
                    refine lv_goto (tgt := 46) S.1 S.2.1 dX5_force_93 rfl ?_
                    exact ih_46 (sum + 1) code (code + 1) σ63 H _ _ (by omega) (same_tr hsm q63_sm (by decide)) (by first | (rw [cnI_no _ hc.1 c_66]; exact hsu) | (rw [cnI_yes _ hc.1 c_66]; omega)) (by first | (rw [fsI_no _ hc.1 c_66]; exact hfi) | (rw [fsI_yes _ hc.1 c_66, ← hfi]; first | rw [if_pos c_75] | rw [if_neg c_75])) (by omega) hW (lv_sub hl [0, 2, 1, 3, 4, 5, 6, 7, 8] rfl)
                ·
                  rw [wq] at c_66
                  refine lv_goto (tgt := 90) S.1 S.2.1 dX5_force_69 rfl ?_
                  refine lv_iinc (v := iI (code + 1)) (lv' := [(8, .int (iI (code + 1))), (7, .int (iI first)), (6, .int (iI sum)), (0, .ref (ad 0)), (1, .int (iI k)), (2, .int (iI army)), (3, .int (iI mv)), (4, .int (iI n)), (5, .int (iI (b2i many)))]) S.1 S.2.1 dX5_force_90 hl (k := 0) rfl (iI_add _ _) (by decide) rfl (fun ls hl => ?_)
                  refine lv_goto (tgt := 46) S.1 S.2.1 dX5_force_93 rfl ?_
                  exact ih_46 sum first (code + 1) σ63 H _ _ (by omega) (same_tr hsm q63_sm (by decide)) (by first | (rw [cnI_no _ hc.1 c_66]; exact hsu) | (rw [cnI_yes _ hc.1 c_66]; omega)) (by first | (rw [fsI_no _ hc.1 c_66]; exact hfi) | (rw [fsI_yes _ hc.1 c_66, ← hfi]; first | rw [if_pos c_75] | rw [if_neg c_75])) (by omega) hW (lv_sub hl [0, 1, 2, 3, 4, 5, 6, 7, 8] rfl)
          exact cut_46 _ 0 (-1) 0 σ2 H _ _ (by omega) (same_rf) (rfl) (rfl) (Nat.lt_succ_self _) hW (lv_sub hl [0, 1, 2, 3, 4, 5, 6, 7, 8] rfl)
        ·
          refine r_bipush S dX5_force_34 (by decide) ?_
          exact e_iS S hr hlk hW ⟨(-2), rfl, ⟨(by unfold sForce; rw [if_neg (by omega)]), (same_w q2_sm (by decide))⟩⟩ dX5_force_36
theorem hd_X5_isHearing : yX5_isHearing.cls = RX5 ∧ yX5_isHearing.cls ≠ "java/lang/invoke/MethodHandle" ∧ yX5_isHearing.cls ≠ "java/lang/invoke/VarHandle" ∧ (parseMethodDescriptor yX5_isHearing.desc).map (fun d => d.parameters.length) = some 1 := by decide +kernel
theorem cw_X5_311 {R : Room} {s : State} {args : Array Value} (ht : ∀ w ∈ lw_all, w.before args s = true) (hR : 2 + 1 ≤ R.frames ∧ 8 + (2 + 11) + 44 ≤ R.locals) : CallW R s args "OneDrumModel" RX5 311 yX5_isHearing cX5_isHearing 2 (some .boolean) (ws_ yX5_isHearing cX5_isHearing 2 (some .boolean)) ⟨2, 0, 0, 44⟩ 0 0 1 := cwV 1 ht (lw_V q2038 q2040 qs95 q126 q2041) rfl rfl rfl hd_X5_isHearing hR
set_option maxHeartbeats 4000000 in
theorem tX5_told (l : Launch) (G : GG) (ad : Nat → Nat) (σ : St) (k : Int) (army : Int) (j : Int) (hr0 : -2147483648 ≤ k ∧ k < 2147483648 ∧ -2147483648 ≤ army ∧ army < 2147483648 ∧ -2147483648 ≤ j ∧ j < 2147483648) (hdb : WfDB (σ 0)) : Met l yX5_told (ws_ yX5_told cX5_told 4 (some .int)) ⟨3, 0, 0, 65⟩ (wPre G shM ad σ (fun _ => True) [.ref (ad 0), .int (iI k), .int (iI army), .int (iI j)]) (qS G shM ad (aM ad) (rI (fun r σ' => (r = sTold (σ 0) k army j) ∧ (same [25] σ σ')))) 0 0 (aM ad) := by
  refine wStart (by decide) (Nat.le_of_ble_eq_true rfl) (fun k hk => ⟨k, hk, rfl⟩) (fun p e s m below meth c S hr hlk _ _ ls hW hl => ?_)
  have hl : lv_has ls 4 [(0, .ref (ad 0)), (1, .int (iI k)), (2, .int (iI army)), (3, .int (iI j))] := hl
  have d0 := hdb.1
  have d1 := hdb.2.1
  have d2 := hdb.2.2.1
  have d3 := hdb.2.2.2.1
  refine lv_aload_n S.1 S.2.1 dX5_told_0 rfl (lv_at hl 0 rfl) ?_
  refine lv_iload_n S.1 S.2.1 dX5_told_1 rfl (lv_at hl 1 rfl) ?_
  refine c_VSz S hW (tX5_isHearing l G ad σ k (by omega) (by omega)) (cw_X5_311 S.2.2.2.2 ⟨Nat.le_of_ble_eq_true rfl, Nat.le_of_ble_eq_true rfl⟩) eBlind_T (fun _ _ _ => trivial) (w_recv hW (q0 := 0) rfl rfl) rfl hl.1 (rest := []) rfl (Nat.le_of_ble_eq_true rfl) dX5_told_2 ⟨Nat.le_of_ble_eq_true rfl, Nat.le_of_ble_eq_true rfl⟩ (fun r2 σ2 H locs q2 hW => ?_)
  obtain ⟨rfl, q2_sm, q2_w⟩ := q2
  have e0 : σ2 0 = σ 0 := q2_sm 0 (by decide)
  refine r_ifeq_p S (tgt := 15) dX5_told_5 rfl (fun c_5 => ?_) (fun c_5 => ?_)
  ·
    refine r_bipush S dX5_told_15 (by decide) ?_
    exact e_iS S hr hlk hW ⟨(-2), rfl, ⟨(by unfold sTold; rw [if_neg (by omega)]), (q2_sm)⟩⟩ dX5_told_17
  ·
    have w25 := q2_w (by omega)
    have hH := hdb.2.2.2.2.2.2.2.2.2.2.1 k (by omega) (by omega)
    refine lv_iload_n S.1 S.2.1 dX5_told_8 rfl (lv_at hl 2 rfl) ?_
    refine c_SPw S hW (tX5_isArmy l army (by omega)) (cw_X5_218 S.2.2.2.2 ⟨Nat.le_of_ble_eq_true rfl, Nat.le_of_ble_eq_true rfl⟩) rfl hl.1 (rest := []) rfl (Nat.le_of_ble_eq_true rfl) dX5_told_9 ⟨Nat.le_of_ble_eq_true rfl, Nat.le_of_ble_eq_true rfl⟩ (fun locs hW => ?_)
    refine r_ifne_p S (tgt := 18) dX5_told_12 rfl (fun c_12 => ?_) (fun c_12 => ?_)
    ·
      have hH0 := (hH army (by omega) (by omega)).1
      have ge : σ2 0 (σ2 25 0 + army) = hAt (σ 0) k army := by rw [e0, w25]; rfl
      refine lv_iload_n S.1 S.2.1 dX5_told_18 rfl (lv_at hl 3 rfl) ?_
      refine r_iconst S dX5_told_19 ?_
      refine r_icmp_ne S (tgt := 35) dX5_told_20 rfl (by omega) (fun c_20 => ?_) (fun c_20 => ?_)
      ·
        refine lv_iload_n S.1 S.2.1 dX5_told_35 rfl (lv_at hl 3 rfl) ?_
        refine r_iconst S dX5_told_36 ?_
        refine lv_aload_n S.1 S.2.1 dX5_told_37 rfl (lv_at hl 0 rfl) ?_
        refine w_getr S hW in_X5 0 rfl rfl 0 (by decide) q1651 rfl rfl dX5_told_38 ?_
        refine lv_aload_n S.1 S.2.1 dX5_told_41 rfl (lv_at hl 0 rfl) ?_
        refine w_geti S hW in_X5 0 rfl rfl 25 (by decide) q1676 rfl rfl dX5_told_42 ?_
        refine lv_iload_n S.1 S.2.1 dX5_told_45 rfl (lv_at hl 2 rfl) ?_
        refine r_iadd S dX5_told_46 ?_
        refine w_ald S hW 1 0 rfl rfl (by omega) dX5_told_47 ?_
        refine r_iconst S dX5_told_48 ?_
        refine r_isub S dX5_told_49 ?_
        refine c_SPw S hW (tX5_isIn l j 0 ((σ2 0 ((σ2 25 0) + army)) - 1) (by omega)) (cw_X5_145 S.2.2.2.2 ⟨Nat.le_of_ble_eq_true rfl, Nat.le_of_ble_eq_true rfl⟩) rfl hl.1 (rest := []) rfl (Nat.le_of_ble_eq_true rfl) dX5_told_50 ⟨Nat.le_of_ble_eq_true rfl, Nat.le_of_ble_eq_true rfl⟩ (fun locs hW => ?_)
        refine r_ifeq_p S (tgt := 77) dX5_told_53 rfl (fun c_53 => ?_) (fun c_53 => ?_)
        ·
          refine r_bipush S dX5_told_77 (by decide) ?_
          exact e_iS S hr hlk hW ⟨(-2), rfl, ⟨(by unfold sTold; rw [if_pos (by omega)]; first | (rw [if_pos (by omega)]; omega) | (rw [if_neg (by omega), if_neg (by omega)]) | (rw [if_neg (by omega), if_pos (by omega), e0, w25]; unfold hAt; congr 1; omega)), (q2_sm)⟩⟩ dX5_told_79
        ·
          refine lv_aload_n S.1 S.2.1 dX5_told_56 rfl (lv_at hl 0 rfl) ?_
          refine w_getr S hW in_X5 0 rfl rfl 0 (by decide) q1651 rfl rfl dX5_told_57 ?_
          refine lv_aload_n S.1 S.2.1 dX5_told_60 rfl (lv_at hl 0 rfl) ?_
          refine w_geti S hW in_X5 0 rfl rfl 25 (by decide) q1676 rfl rfl dX5_told_61 ?_
          refine r_iconst S dX5_told_64 ?_
          refine r_iadd S dX5_told_65 ?_
          refine r_bipush S dX5_told_66 (by decide) ?_
          refine lv_iload_n S.1 S.2.1 dX5_told_68 rfl (lv_at hl 2 rfl) ?_
          refine r_imul S dX5_told_69 ?_
          refine r_iadd S dX5_told_70 ?_
          refine lv_iload_n S.1 S.2.1 dX5_told_71 rfl (lv_at hl 3 rfl) ?_
          refine r_iadd S dX5_told_72 ?_
          refine w_ald S hW 1 0 rfl rfl (by omega) dX5_told_73 ?_
          refine lv_goto (tgt := 79) S.1 S.2.1 dX5_told_74 rfl ?_
          exact e_iS S hr hlk hW ⟨(σ2 0 ((((σ2 25 0) + 2) + (6 * army)) + j)), rfl, ⟨(by unfold sTold; rw [if_pos (by omega)]; first | (rw [if_pos (by omega)]; omega) | (rw [if_neg (by omega), if_neg (by omega)]) | (rw [if_neg (by omega), if_pos (by omega), e0, w25]; unfold hAt; congr 1; omega)), (q2_sm)⟩⟩ dX5_told_79
      ·
        refine lv_aload_n S.1 S.2.1 dX5_told_23 rfl (lv_at hl 0 rfl) ?_
        refine w_getr S hW in_X5 0 rfl rfl 0 (by decide) q1651 rfl rfl dX5_told_24 ?_
        refine lv_aload_n S.1 S.2.1 dX5_told_27 rfl (lv_at hl 0 rfl) ?_
        refine w_geti S hW in_X5 0 rfl rfl 25 (by decide) q1676 rfl rfl dX5_told_28 ?_
        refine lv_iload_n S.1 S.2.1 dX5_told_31 rfl (lv_at hl 2 rfl) ?_
        refine r_iadd S dX5_told_32 ?_
        refine w_ald S hW 1 0 rfl rfl (by omega) dX5_told_33 ?_
        exact e_iS S hr hlk hW ⟨(σ2 0 ((σ2 25 0) + army)), rfl, ⟨(by unfold sTold; rw [if_pos (by omega)]; first | (rw [if_pos (by omega)]; omega) | (rw [if_neg (by omega), if_neg (by omega)]) | (rw [if_neg (by omega), if_pos (by omega), e0, w25]; unfold hAt; congr 1; omega)), (q2_sm)⟩⟩ dX5_told_34
    ·
      refine r_bipush S dX5_told_15 (by decide) ?_
      exact e_iS S hr hlk hW ⟨(-2), rfl, ⟨(by unfold sTold; rw [if_neg (by omega)]), (q2_sm)⟩⟩ dX5_told_17
set_option maxHeartbeats 4000000 in
theorem tX5_isSo (l : Launch) (G : GG) (ad : Nat → Nat) (σ : St) (L : List (Int × Int)) (s1 : Int) (hw0 : 0 ≤ σ 10 0 ∧ σ 10 0 ≤ 700) (hWf : WfWar (wr σ)) (hn : σ 18 0 = L.length) (hL : L.length ≤ 24) (hv : rowV L) (hs : fil σ 16 L.length (sd (wr σ) (rf L) s1)) (h25 : 0 ≤ σ 25 0 ∧ σ 25 0 ≤ 900) (hH : WfHear (hR σ)) : Met l yX5_isSo (ws_ yX5_isSo cX5_isSo 4 (some .boolean)) ⟨5, 0, 0, 114⟩ (wPre G shM ad σ (fun _ => True) [.ref (ad 0)]) (qS G shM ad (aM ad) (rZ (fun r σ' => (r = dP (soP (wr σ) L s1 (hR σ))) ∧ (same [19, 20, 21, 22, 23] σ σ')))) 0 0 (aM ad) := by
  refine wStart (by decide) (Nat.le_of_ble_eq_true rfl) (fun k hk => ⟨k, hk, rfl⟩) (fun p e s m below meth c S hr hlk _ _ ls hW hl => ?_)
  have hl : lv_has ls 4 [(0, .ref (ad 0))] := hl
  refine r_iconst S dX5_isSo_0 ?_
  refine r_as (b2i (dP (allU (soA (wr σ) L s1 (hR σ)) 0))) (dP_1 allU_0) ?_
  refine lv_istore_n (lv' := [(1, .int (iI (b2i (dP (allU (soA (wr σ) L s1 (hR σ)) 0))))), (0, .ref (ad 0))]) S.1 S.2.1 dX5_isSo_1 rfl hl (by decide) rfl (fun ls hl => ?_)
  refine r_iconst S dX5_isSo_2 ?_
  refine lv_istore_n (lv' := [(2, .int (iI 0)), (1, .int (iI (b2i (dP (allU (soA (wr σ) L s1 (hR σ)) 0))))), (0, .ref (ad 0))]) S.1 S.2.1 dX5_isSo_3 rfl hl (by decide) rfl (fun ls hl => ?_)
  have cut_4 : ∀ (N_4 : Nat) (a : Int) (σ1 : St) (H : Heap) (locs : List Loc) (ls : Array Slot), (0 ≤ a ∧ a ≤ 2) → (same [19, 20, 21, 22, 23] σ σ1) → ((2 - a).toNat) < N_4 → WD G shM ad (aM ad) s s.heap σ1 H locs → lv_has ls 4 [(2, .int (iI a)), (1, .int (iI (b2i (dP (allU (soA (wr σ) L s1 (hR σ)) a))))), (0, .ref (ad 0))] → W p l e (⟨5, 0, 0, 114⟩ : Room) s m ([.ref (ad 0)] : List Value).toArray below meth c H locs 0 0 (MQ below (qS G shM ad (aM ad) (rZ (fun r σ' => (r = dP (soP (wr σ) L s1 (hR σ))) ∧ (same [19, 20, 21, 22, 23] σ σ')))) ([.ref (ad 0)] : List Value).toArray s 0 0 (aM ad)) (F0 m 4 ls []) := by
    intro N_4
    induction N_4 with
    | zero =>
      intro a σ1 H locs ls ha hsm hμ_4 hW hl
      exact absurd hμ_4 (by omega)
    | succ N_4 ih_4 =>
      intro a σ1 H locs ls ha hsm hμ_4 hW hl
      have e0 : σ1 0 = σ 0 := hsm 0 (by decide)
      have e10 : σ1 10 = σ 10 := hsm 10 (by decide)
      have e16 : σ1 16 = σ 16 := hsm 16 (by decide)
      have e25 : σ1 25 = σ 25 := hsm 25 (by decide)
      have wq : wr σ1 = wr σ := by funext j; simp only [wr, e0, e10]
      have w10 : σ1 10 0 = σ 10 0 := by rw [e10]
      have w25 : σ1 25 0 = σ 25 0 := by rw [e25]
      have n18 : σ1 18 0 = L.length := by rw [hsm 18 (by decide)]; exact hn
      refine lv_iload_n S.1 S.2.1 dX5_isSo_4 rfl (lv_at hl 0 rfl) ?_
      refine r_iconst S dX5_isSo_5 ?_
      refine r_icmp_ge S (tgt := 128) dX5_isSo_6 rfl (by omega) (fun c_6 => ?_) (fun c_6 => ?_)
      ·
        refine lv_iload_n S.1 S.2.1 dX5_isSo_128 rfl (lv_at hl 1 rfl) ?_
        exact e_zS S hr hlk hW (b2i_or _) ⟨(dP (allU (soA (wr σ) L s1 (hR σ)) a)), rfl, ⟨(dP_c (by rw [show a = 2 by omega]; exact Iff.rfl)), (hsm)⟩⟩ dX5_isSo_129
      ·
        have hHa := (hH a (by omega) (by omega)).1
        have hqa : σ1 0 (σ1 25 0 + a) = hR σ a := by rw [e0, e25]
        have hA := hWf.2.2.2.2 a (by omega) (by omega)
        have hM := mvs_len (s := s1) hA hL
        refine lv_aload_n S.1 S.2.1 dX5_isSo_9 rfl (lv_at hl 2 rfl) ?_
        refine w_getr S hW in_X5 0 rfl rfl 0 (by decide) q1651 rfl rfl dX5_isSo_10 ?_
        refine lv_aload_n S.1 S.2.1 dX5_isSo_13 rfl (lv_at hl 2 rfl) ?_
        refine w_geti S hW in_X5 0 rfl rfl 25 (by decide) q1676 rfl rfl dX5_isSo_14 ?_
        refine lv_iload_n S.1 S.2.1 dX5_isSo_17 rfl (lv_at hl 0 rfl) ?_
        refine r_iadd S dX5_isSo_18 ?_
        refine w_ald S hW 1 0 rfl rfl (by omega) dX5_isSo_19 ?_
        refine r_iconst S dX5_isSo_20 ?_
        refine r_icmp_ne S (tgt := 27) dX5_isSo_21 rfl (by omega) (fun c_21 => ?_) (fun c_21 => ?_)
        ·
          have hne9 : hR σ a ≠ -1 := by omega
          refine lv_aload_n S.1 S.2.1 dX5_isSo_27 rfl (lv_at hl 2 rfl) ?_
          refine lv_iload_n S.1 S.2.1 dX5_isSo_28 rfl (lv_at hl 0 rfl) ?_
          have cut_64 : ∀ (N_64 : Nat) (k : Int) (σ3 : St) (H : Heap) (locs : List Loc) (ls : Array Slot), (0 ≤ k ∧ k ≤ (mvs (wr σ) L s1 a).length) → (Mad σ3 (wr σ) L s1 a) → (same [19, 20, 21, 22, 23] σ σ3) → (((mvs (wr σ) L s1 a).length - k).toNat) < N_64 → WD G shM ad (aM ad) s s.heap σ3 H locs → lv_has ls 4 [(2, .int (iI a)), (1, .int (iI (b2i (dP (isU (wr σ) L s1 (hR σ) a k))))), (0, .ref (ad 0)), (3, .int (iI k))] → W p l e (⟨5, 0, 0, 114⟩ : Room) s m ([.ref (ad 0)] : List Value).toArray below meth c H locs 0 0 (MQ below (qS G shM ad (aM ad) (rZ (fun r σ' => (r = dP (soP (wr σ) L s1 (hR σ))) ∧ (same [19, 20, 21, 22, 23] σ σ')))) ([.ref (ad 0)] : List Value).toArray s 0 0 (aM ad)) (F0 m 64 ls []) := by
            intro N_64
            induction N_64 with
            | zero =>
              intro k σ3 H locs ls hk hmd hsm2 hμ_64 hW hl
              exact absurd hμ_64 (by omega)
            | succ N_64 ih_64 =>
              intro k σ3 H locs ls hk hmd hsm2 hμ_64 hW hl
              have y0 : σ3 0 = σ 0 := hsm2 0 (by decide)
              have y25 : σ3 25 = σ 25 := hsm2 25 (by decide)
              have y25b : σ3 25 0 = σ 25 0 := by rw [y25]
              have mdl := hmd.1
              refine lv_iload_n S.1 S.2.1 dX5_isSo_64 rfl (lv_at hl 3 rfl) ?_
              refine lv_aload_n S.1 S.2.1 dX5_isSo_65 rfl (lv_at hl 2 rfl) ?_
              refine w_getr S hW in_X5 0 rfl rfl 22 (by decide) q1673 rfl rfl dX5_isSo_66 ?_
              refine lv_iload_n S.1 S.2.1 dX5_isSo_69 rfl (lv_at hl 0 rfl) ?_
              refine w_ald S hW 13 0 rfl rfl (by omega) dX5_isSo_70 ?_
              refine r_icmp_ge S (tgt := 122) dX5_isSo_71 rfl (by omega) (fun c_71 => ?_) (fun c_71 => ?_)
              ·
                refine lv_iinc (v := iI (a + 1)) (lv' := [(2, .int (iI (a + 1))), (1, .int (iI (b2i (dP (isU (wr σ) L s1 (hR σ) a k))))), (0, .ref (ad 0)), (3, .int (iI k))]) S.1 S.2.1 dX5_isSo_122 hl (k := 0) rfl (iI_add _ _) (by decide) rfl (fun ls hl => ?_)
                refine lv_goto (tgt := 4) S.1 S.2.1 dX5_isSo_125 rfl ?_
                rw [show (b2i (dP (isU (wr σ) L s1 (hR σ) a k))) = (b2i (dP (allU (soA (wr σ) L s1 (hR σ)) (a + 1)))) from congrArg b2i (dP_c (by first | exact isU_end ha.1 hne9 hk.2 (Or.inl (by omega)) | exact isU_end ha.1 hne9 hk.2 (Or.inr c_75) | exact allU_add ha.1 (Or.inl hno)))] at hl
                exact ih_4 (a + 1) σ3 H _ _ (by omega) (by first | exact hsm2 | exact hsm) (by omega) hW (lv_sub hl [0, 1, 2] rfl)
              ·
                refine lv_iload_n S.1 S.2.1 dX5_isSo_74 rfl (lv_at hl 1 rfl) ?_
                refine r_ifeq_p S (tgt := 122) dX5_isSo_75 rfl (fun c_75 => ?_) (fun c_75 => ?_)
                ·
                  refine lv_iinc (v := iI (a + 1)) (lv' := [(2, .int (iI (a + 1))), (1, .int (iI (b2i (dP (isU (wr σ) L s1 (hR σ) a k))))), (0, .ref (ad 0)), (3, .int (iI k))]) S.1 S.2.1 dX5_isSo_122 hl (k := 0) rfl (iI_add _ _) (by decide) rfl (fun ls hl => ?_)
                  refine lv_goto (tgt := 4) S.1 S.2.1 dX5_isSo_125 rfl ?_
                  rw [show (b2i (dP (isU (wr σ) L s1 (hR σ) a k))) = (b2i (dP (allU (soA (wr σ) L s1 (hR σ)) (a + 1)))) from congrArg b2i (dP_c (by first | exact isU_end ha.1 hne9 hk.2 (Or.inl (by omega)) | exact isU_end ha.1 hne9 hk.2 (Or.inr c_75) | exact allU_add ha.1 (Or.inl hno)))] at hl
                  exact ih_4 (a + 1) σ3 H _ _ (by omega) (by first | exact hsm2 | exact hsm) (by omega) hW (lv_sub hl [0, 1, 2] rfl)
                ·
                  have hE := hmd.2.2 k (by omega) (by omega)
                  have hB := mvs_at (s := s1) (L := L) hA (j := k) (by omega)
                  have hO := (hA.2.2.2.2.2 _ hB.1 hB.2.1).1
                  rw [← hE.1] at hO
                  have hle := c_75.2.1
                  have hHk := (hH a (by omega) (by omega)).2 k (by omega) (by omega)
                  have hq : σ3 0 (((σ3 25 0 + 2) + 6 * a) + k) = hR σ (2 + 6 * a + k) := by rw [y0, y25]; simp only [hR]; congr 1; omega
                  refine lv_aload_n S.1 S.2.1 dX5_isSo_78 rfl (lv_at hl 2 rfl) ?_
                  refine w_getr S hW in_X5 0 rfl rfl 19 (by decide) q1670 rfl rfl dX5_isSo_79 ?_
                  refine r_bipush S dX5_isSo_82 (by decide) ?_
                  refine lv_iload_n S.1 S.2.1 dX5_isSo_84 rfl (lv_at hl 0 rfl) ?_
                  refine r_imul S dX5_isSo_85 ?_
                  refine lv_iload_n S.1 S.2.1 dX5_isSo_86 rfl (lv_at hl 3 rfl) ?_
                  refine r_iadd S dX5_isSo_87 ?_
                  refine w_ald S hW 10 0 rfl rfl (by omega) dX5_isSo_88 ?_
                  refine lv_aload_n S.1 S.2.1 dX5_isSo_89 rfl (lv_at hl 2 rfl) ?_
                  refine w_getr S hW in_X5 0 rfl rfl 0 (by decide) q1651 rfl rfl dX5_isSo_90 ?_
                  refine lv_aload_n S.1 S.2.1 dX5_isSo_93 rfl (lv_at hl 2 rfl) ?_
                  refine w_geti S hW in_X5 0 rfl rfl 25 (by decide) q1676 rfl rfl dX5_isSo_94 ?_
                  refine r_iconst S dX5_isSo_97 ?_
                  refine r_iadd S dX5_isSo_98 ?_
                  refine r_bipush S dX5_isSo_99 (by decide) ?_
                  refine lv_iload_n S.1 S.2.1 dX5_isSo_101 rfl (lv_at hl 0 rfl) ?_
                  refine r_imul S dX5_isSo_102 ?_
                  refine r_iadd S dX5_isSo_103 ?_
                  refine lv_iload_n S.1 S.2.1 dX5_isSo_104 rfl (lv_at hl 3 rfl) ?_
                  refine r_iadd S dX5_isSo_105 ?_
                  refine w_ald S hW 1 0 rfl rfl (by omega) dX5_isSo_106 ?_
                  refine r_icmp_ne S (tgt := 114) dX5_isSo_107 rfl (by omega) (fun c_107 => ?_) (fun c_107 => ?_)
                  ·
                    refine r_iconst S dX5_isSo_114 ?_
                    refine r_as (b2i (dP (isU (wr σ) L s1 (hR σ) a (k + 1)))) (by first | exact dP_1 ((isU_s c_75 hk.1).mpr (by rw [← hE.1, ← hq]; exact c_107)) | exact dP_0 (fun z => c_107 (by rw [hE.1, hq]; exact (isU_s c_75 hk.1).mp z))) ?_
                    refine lv_istore_n (lv' := [(1, .int (iI (b2i (dP (isU (wr σ) L s1 (hR σ) a (k + 1)))))), (2, .int (iI a)), (0, .ref (ad 0)), (3, .int (iI k))]) S.1 S.2.1 dX5_isSo_115 rfl hl (by decide) rfl (fun ls hl => ?_)
                    refine lv_iinc (v := iI (k + 1)) (lv' := [(3, .int (iI (k + 1))), (1, .int (iI (b2i (dP (isU (wr σ) L s1 (hR σ) a (k + 1)))))), (2, .int (iI a)), (0, .ref (ad 0))]) S.1 S.2.1 dX5_isSo_116 hl (k := 3) rfl (iI_add _ _) (by decide) rfl (fun ls hl => ?_)
                    refine lv_goto (tgt := 64) S.1 S.2.1 dX5_isSo_119 rfl ?_
                    exact ih_64 (k + 1) σ3 H _ _ (by omega) (hmd) (hsm2) (by omega) hW (lv_sub hl [2, 1, 3, 0] rfl)
                  ·
                    refine r_iconst S dX5_isSo_110 ?_
                    refine lv_goto (tgt := 115) S.1 S.2.1 dX5_isSo_111 rfl ?_
                    refine r_as (b2i (dP (isU (wr σ) L s1 (hR σ) a (k + 1)))) (by first | exact dP_1 ((isU_s c_75 hk.1).mpr (by rw [← hE.1, ← hq]; exact c_107)) | exact dP_0 (fun z => c_107 (by rw [hE.1, hq]; exact (isU_s c_75 hk.1).mp z))) ?_
                    refine lv_istore_n (lv' := [(1, .int (iI (b2i (dP (isU (wr σ) L s1 (hR σ) a (k + 1)))))), (2, .int (iI a)), (0, .ref (ad 0)), (3, .int (iI k))]) S.1 S.2.1 dX5_isSo_115 rfl hl (by decide) rfl (fun ls hl => ?_)
                    refine lv_iinc (v := iI (k + 1)) (lv' := [(3, .int (iI (k + 1))), (1, .int (iI (b2i (dP (isU (wr σ) L s1 (hR σ) a (k + 1)))))), (2, .int (iI a)), (0, .ref (ad 0))]) S.1 S.2.1 dX5_isSo_116 hl (k := 3) rfl (iI_add _ _) (by decide) rfl (fun ls hl => ?_)
                    refine lv_goto (tgt := 64) S.1 S.2.1 dX5_isSo_119 rfl ?_
                    exact ih_64 (k + 1) σ3 H _ _ (by omega) (hmd) (hsm2) (by omega) hW (lv_sub hl [2, 1, 3, 0] rfl)
          refine c_VSv S hW (tX5_makes l G ad σ1 a L s1 (by omega) (by omega) (by rw [wq]; exact hWf) (n18) (hL) (hv) (by rw [wq]; exact fil_eq hs e16)) (cw_X5_270 S.2.2.2.2 ⟨Nat.le_of_ble_eq_true rfl, Nat.le_of_ble_eq_true rfl⟩) eBlind_T (fun _ _ _ => trivial) (w_recv hW (q0 := 0) rfl rfl) rfl hl.1 (rest := []) rfl (Nat.le_of_ble_eq_true rfl) dX5_isSo_29 ⟨Nat.le_of_ble_eq_true rfl, Nat.le_of_ble_eq_true rfl⟩ (fun σ29 H locs q29 hW => ?_)
          obtain ⟨q29_mad, q29_oth, q29_sm⟩ := q29
          rw [wq] at q29_mad
          have md := q29_mad.1
          have z0 : σ29 0 = σ 0 := (q29_sm 0 (by decide)).trans e0
          have z25 : σ29 25 = σ 25 := (q29_sm 25 (by decide)).trans e25
          have hq3 : σ29 0 (σ29 25 0 + a) = hR σ a := by rw [z0, z25]
          have z25b : σ29 25 0 = σ 25 0 := by rw [z25]
          refine lv_iload_n S.1 S.2.1 dX5_isSo_32 rfl (lv_at hl 1 rfl) ?_
          refine r_ifeq_p S (tgt := 60) dX5_isSo_33 rfl (fun c_33 => ?_) (fun c_33 => ?_)
          ·
            refine r_iconst S dX5_isSo_60 ?_
            refine r_as (b2i (dP (isU (wr σ) L s1 (hR σ) a 0))) (by first | exact dP_1 ⟨c_33, by omega, allU_0⟩ | exact dP_0 (fun z => c_33 z.1) | exact dP_0 (fun z => c_53 (by have := z.2.1; omega))) ?_
            refine lv_istore_n (lv' := [(1, .int (iI (b2i (dP (isU (wr σ) L s1 (hR σ) a 0))))), (2, .int (iI a)), (0, .ref (ad 0))]) S.1 S.2.1 dX5_isSo_61 rfl hl (by decide) rfl (fun ls hl => ?_)
            refine r_iconst S dX5_isSo_62 ?_
            refine lv_istore_n (lv' := [(3, .int (iI 0)), (1, .int (iI (b2i (dP (isU (wr σ) L s1 (hR σ) a 0))))), (2, .int (iI a)), (0, .ref (ad 0))]) S.1 S.2.1 dX5_isSo_63 rfl hl (by decide) rfl (fun ls hl => ?_)
            exact cut_64 _ 0 σ29 H _ _ (by omega) (q29_mad) (same_tr hsm q29_sm (by decide)) (Nat.lt_succ_self _) hW (lv_sub hl [2, 1, 3, 0] rfl)
          ·
            refine lv_aload_n S.1 S.2.1 dX5_isSo_36 rfl (lv_at hl 2 rfl) ?_
            refine w_getr S hW in_X5 0 rfl rfl 22 (by decide) q1673 rfl rfl dX5_isSo_37 ?_
            refine lv_iload_n S.1 S.2.1 dX5_isSo_40 rfl (lv_at hl 0 rfl) ?_
            refine w_ald S hW 13 0 rfl rfl (by omega) dX5_isSo_41 ?_
            refine lv_aload_n S.1 S.2.1 dX5_isSo_42 rfl (lv_at hl 2 rfl) ?_
            refine w_getr S hW in_X5 0 rfl rfl 0 (by decide) q1651 rfl rfl dX5_isSo_43 ?_
            refine lv_aload_n S.1 S.2.1 dX5_isSo_46 rfl (lv_at hl 2 rfl) ?_
            refine w_geti S hW in_X5 0 rfl rfl 25 (by decide) q1676 rfl rfl dX5_isSo_47 ?_
            refine lv_iload_n S.1 S.2.1 dX5_isSo_50 rfl (lv_at hl 0 rfl) ?_
            refine r_iadd S dX5_isSo_51 ?_
            refine w_ald S hW 1 0 rfl rfl (by omega) dX5_isSo_52 ?_
            refine r_icmp_ne S (tgt := 60) dX5_isSo_53 rfl (by omega) (fun c_53 => ?_) (fun c_53 => ?_)
            ·
              refine r_iconst S dX5_isSo_60 ?_
              refine r_as (b2i (dP (isU (wr σ) L s1 (hR σ) a 0))) (by first | exact dP_1 ⟨c_33, by omega, allU_0⟩ | exact dP_0 (fun z => c_33 z.1) | exact dP_0 (fun z => c_53 (by have := z.2.1; omega))) ?_
              refine lv_istore_n (lv' := [(1, .int (iI (b2i (dP (isU (wr σ) L s1 (hR σ) a 0))))), (2, .int (iI a)), (0, .ref (ad 0))]) S.1 S.2.1 dX5_isSo_61 rfl hl (by decide) rfl (fun ls hl => ?_)
              refine r_iconst S dX5_isSo_62 ?_
              refine lv_istore_n (lv' := [(3, .int (iI 0)), (1, .int (iI (b2i (dP (isU (wr σ) L s1 (hR σ) a 0))))), (2, .int (iI a)), (0, .ref (ad 0))]) S.1 S.2.1 dX5_isSo_63 rfl hl (by decide) rfl (fun ls hl => ?_)
              exact cut_64 _ 0 σ29 H _ _ (by omega) (q29_mad) (same_tr hsm q29_sm (by decide)) (Nat.lt_succ_self _) hW (lv_sub hl [2, 1, 3, 0] rfl)
            ·
              refine r_iconst S dX5_isSo_56 ?_
              refine lv_goto (tgt := 61) S.1 S.2.1 dX5_isSo_57 rfl ?_
              refine r_as (b2i (dP (isU (wr σ) L s1 (hR σ) a 0))) (by first | exact dP_1 ⟨c_33, by omega, allU_0⟩ | exact dP_0 (fun z => c_33 z.1) | exact dP_0 (fun z => c_53 (by have := z.2.1; omega))) ?_
              refine lv_istore_n (lv' := [(1, .int (iI (b2i (dP (isU (wr σ) L s1 (hR σ) a 0))))), (2, .int (iI a)), (0, .ref (ad 0))]) S.1 S.2.1 dX5_isSo_61 rfl hl (by decide) rfl (fun ls hl => ?_)
              refine r_iconst S dX5_isSo_62 ?_
              refine lv_istore_n (lv' := [(3, .int (iI 0)), (1, .int (iI (b2i (dP (isU (wr σ) L s1 (hR σ) a 0))))), (2, .int (iI a)), (0, .ref (ad 0))]) S.1 S.2.1 dX5_isSo_63 rfl hl (by decide) rfl (fun ls hl => ?_)
              exact cut_64 _ 0 σ29 H _ _ (by omega) (q29_mad) (same_tr hsm q29_sm (by decide)) (Nat.lt_succ_self _) hW (lv_sub hl [2, 1, 3, 0] rfl)
        ·
          have hno : hR σ a = -1 := by omega
          refine lv_goto (tgt := 122) S.1 S.2.1 dX5_isSo_24 rfl ?_
          refine lv_iinc (v := iI (a + 1)) (lv' := [(2, .int (iI (a + 1))), (1, .int (iI (b2i (dP (allU (soA (wr σ) L s1 (hR σ)) a))))), (0, .ref (ad 0))]) S.1 S.2.1 dX5_isSo_122 hl (k := 0) rfl (iI_add _ _) (by decide) rfl (fun ls hl => ?_)
          refine lv_goto (tgt := 4) S.1 S.2.1 dX5_isSo_125 rfl ?_
          rw [show (b2i (dP (allU (soA (wr σ) L s1 (hR σ)) a))) = (b2i (dP (allU (soA (wr σ) L s1 (hR σ)) (a + 1)))) from congrArg b2i (dP_c (by first | exact isU_end ha.1 hne9 hk.2 (Or.inl (by omega)) | exact isU_end ha.1 hne9 hk.2 (Or.inr c_75) | exact allU_add ha.1 (Or.inl hno)))] at hl
          exact ih_4 (a + 1) σ1 H _ _ (by omega) (by first | exact hsm2 | exact hsm) (by omega) hW (lv_sub hl [0, 1, 2] rfl)
  exact cut_4 _ 0 σ s.heap _ _ (by omega) (same_rf) (Nat.lt_succ_self _) hW (lv_sub hl [0, 1, 2] rfl)
set_option maxHeartbeats 4000000 in
theorem tX5_bitsOf (l : Launch) (set : Int) : Met l yX5_bitsOf (ws_ yX5_bitsOf cX5_bitsOf 3 (some .int)) ⟨0, 0, 0, 0⟩ (va_Pc [.int (iI set)] (fun _ => True)) (qP (.int (iI (popU set 24)))) 0 0 (fun _ => False) := by
  refine sStart (by decide) (Nat.le_of_ble_eq_true rfl) (fun p e s m below meth c S hr hlk ls hW hl => ?_)
  have hl : lv_has ls 3 [(0, .int (iI set))] := hl
  refine r_iconst S dX5_bitsOf_0 ?_
  refine lv_istore_n (lv' := [(1, .int (iI 0)), (0, .int (iI set))]) S.1 S.2.1 dX5_bitsOf_1 rfl hl (by decide) rfl (fun ls hl => ?_)
  refine r_iconst S dX5_bitsOf_2 ?_
  refine lv_istore_n (lv' := [(2, .int (iI 0)), (1, .int (iI 0)), (0, .int (iI set))]) S.1 S.2.1 dX5_bitsOf_3 rfl hl (by decide) rfl (fun ls hl => ?_)
  have cut_4 : ∀ (N_4 : Nat) (n k : Int) (locs : List Loc) (ls : Array Slot), (0 ≤ k ∧ k ≤ 24) → (n = popU set k) → ((24 - k).toNat) < N_4 → va_S (fun _ => False) s.heap s.heap locs → lv_has ls 3 [(2, .int (iI k)), (1, .int (iI n)), (0, .int (iI set))] → W p l e (⟨0, 0, 0, 0⟩ : Room) s m ([.int (iI set)] : List Value).toArray below meth c s.heap locs 0 0 (MQ below (qP (.int (iI (popU set 24)))) ([.int (iI set)] : List Value).toArray s 0 0 (fun _ => False)) (F0 m 4 ls []) := by
    intro N_4
    induction N_4 with
    | zero =>
      intro n k locs ls hk hn hμ_4 hW hl
      exact absurd hμ_4 (by omega)
    | succ N_4 ih_4 =>
      intro n k locs ls hk hn hμ_4 hW hl
      refine lv_iload_n S.1 S.2.1 dX5_bitsOf_4 rfl (lv_at hl 0 rfl) ?_
      refine r_bipush S dX5_bitsOf_5 (by decide) ?_
      refine r_icmp_ge S (tgt := 24) dX5_bitsOf_7 rfl (by omega) (fun c_7 => ?_) (fun c_7 => ?_)
      ·
        refine lv_iload_n S.1 S.2.1 dX5_bitsOf_24 rfl (lv_at hl 1 rfl) ?_
        exact e_iP S hr hlk hW (by rw [hn, show k = 24 by omega]) dX5_bitsOf_25
      ·
        refine lv_iload_n S.1 S.2.1 dX5_bitsOf_10 rfl (lv_at hl 1 rfl) ?_
        refine lv_iload_n S.1 S.2.1 dX5_bitsOf_11 rfl (lv_at hl 2 rfl) ?_
        refine lv_iload_n S.1 S.2.1 dX5_bitsOf_12 rfl (lv_at hl 0 rfl) ?_
        refine r_ishr S dX5_bitsOf_13 ?_
        refine r_iconst S dX5_bitsOf_14 ?_
        refine r_iand S dX5_bitsOf_15 ?_
        refine r_iadd S dX5_bitsOf_16 ?_
        refine lv_istore_n (lv' := [(1, .int (iI (n + (andI (shrI set k) 1)))), (2, .int (iI k)), (0, .int (iI set))]) S.1 S.2.1 dX5_bitsOf_17 rfl hl (by decide) rfl (fun ls hl => ?_)
        refine lv_iinc (v := iI (k + 1)) (lv' := [(2, .int (iI (k + 1))), (1, .int (iI (n + (andI (shrI set k) 1)))), (0, .int (iI set))]) S.1 S.2.1 dX5_bitsOf_18 hl (k := 1) rfl (iI_add _ _) (by decide) rfl (fun ls hl => ?_)
        refine lv_goto (tgt := 4) S.1 S.2.1 dX5_bitsOf_21 rfl ?_
        exact ih_4 (n + (andI (shrI set k) 1)) (k + 1) _ _ (by omega) (by rw [popU_s hk.1, ← hn]) (by omega) hW (lv_sub hl [0, 1, 2] rfl)
  exact cut_4 _ 0 0 _ _ (by omega) (rfl) (Nat.lt_succ_self _) hW (lv_sub hl [0, 1, 2] rfl)
