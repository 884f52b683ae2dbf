theorem hd_X5_adds : yX5_adds.cls = RX5 ∧ yX5_adds.cls ≠ "java/lang/invoke/MethodHandle" ∧ yX5_adds.cls ≠ "java/lang/invoke/VarHandle" ∧ (parseMethodDescriptor yX5_adds.desc).map (fun d => d.parameters.length) = some 2 := by decide +kernel
theorem cw_X5_346 {R : Room} {s : State} {args : Array Value} (ht : ∀ w ∈ lw_all, w.before args s = true) (hR : 0 + 1 ≤ R.frames ∧ 8 + (3 + 11) + 0 ≤ R.locals) : CallW R s args "OneDrumModel" RX5 346 yX5_adds cX5_adds 3 none (ws_ yX5_adds cX5_adds 3 none) ⟨0, 0, 0, 0⟩ 0 0 2 := cwV 2 ht (lw_V q2120 q2122 qs106 q126 q2123) rfl rfl rfl hd_X5_adds hR
theorem hd_X5_repeats : yX5_repeats.cls = RX5 ∧ yX5_repeats.cls ≠ "java/lang/invoke/MethodHandle" ∧ yX5_repeats.cls ≠ "java/lang/invoke/VarHandle" ∧ (parseMethodDescriptor yX5_repeats.desc).map (fun d => d.parameters.length) = some 1 := by decide +kernel
theorem cw_X5_343 {R : Room} {s : State} {args : Array Value} (ht : ∀ w ∈ lw_all, w.before args s = true) (hR : 0 + 1 ≤ R.frames ∧ 8 + (4 + 11) + 0 ≤ R.locals) : CallW R s args "OneDrumModel" RX5 343 yX5_repeats cX5_repeats 4 (some .int) (ws_ yX5_repeats cX5_repeats 4 (some .int)) ⟨0, 0, 0, 0⟩ 0 0 1 := cwV 1 ht (lw_V q2116 q2118 qs105 q126 q2119) rfl rfl rfl hd_X5_repeats hR
set_option maxHeartbeats 4000000 in
theorem tX5_changes (l : Launch) (G : GG) (ad : Nat → Nat) (σ : St) (k : Int) (pl : List Int) (hv0 : 0 ≤ σ 29 0 ∧ σ 29 0 ≤ 950) (hV : WfVill (vr σ)) (hk : 0 ≤ k ∧ k < vr σ 0) (hp : (vr σ (1 + 4 * k) = 8 ∧ σ 18 0 = pl.length ∧ ∀ i : Int, 0 ≤ i → i < pl.length → σ 16 i = gi pl i) ∨ (0 ≤ vr σ (1 + 4 * k) ∧ vr σ (1 + 4 * k) ≤ 7 ∧ Vr σ (vr σ (1 + 4 * k)) pl)) (hpl : pl.length ≤ 60 ∧ (vr σ (1 + 4 * k) = 8 → pl.length ≤ 24)) (hpv : ∀ y ∈ pl, 0 ≤ y ∧ y ≤ 3) : Met l yX5_changes (ws_ yX5_changes cX5_changes 8 none) ⟨1, 0, 0, 23⟩ (wPre G shM ad σ (fun _ => True) [.ref (ad 0), .int (iI k)]) (qS G shM ad (aM ad) (rV (fun σ' => (Vr σ' k (tel (vr σ (1 + 4 * k + 1)) (vr σ (1 + 4 * k + 2)) (vr σ (1 + 4 * k + 3)) pl)) ∧ (∀ (j : Int) (l' : List Int), j ≠ k → l'.length ≤ 60 → Vr σ j l' → Vr σ' j l') ∧ (same [30, 31, 32] σ σ')))) 0 0 (aM ad) := by
  refine wStart (by decide) (Nat.le_of_ble_eq_true rfl) (fun k hk => ⟨k, hk, rfl⟩) (fun p e s m below meth c S hr hlk _ _ ls hW hl => ?_)
  have hl : lv_has ls 8 [(0, .ref (ad 0)), (1, .int (iI k))] := hl
  have hV0 := hV.1
  have hVk := (hV.2 k hk.1 hk.2).2
  have ep : vr σ (1 + 4 * k + 0) = vr σ (1 + 4 * k) := by rw [Int.add_zero]
  refine lv_aload_n S.1 S.2.1 dX5_changes_0 rfl (lv_at hl 0 rfl) ?_
  refine lv_aload_n S.1 S.2.1 dX5_changes_1 rfl (lv_at hl 0 rfl) ?_
  refine lv_iload_n S.1 S.2.1 dX5_changes_2 rfl (lv_at hl 1 rfl) ?_
  refine r_iconst S dX5_changes_3 ?_
  refine c_VP S hW (tX5_villageOf l G ad σ k 0 (by omega) (by omega)) (cw_X5_334 S.2.2.2.2 ⟨Nat.le_of_ble_eq_true rfl, Nat.le_of_ble_eq_true rfl⟩) eBlind_T (fun _ _ _ => trivial) (w_recv hW (q0 := 0) rfl rfl) rfl hl.1 (rest := [.ref (ad 0)]) rfl (Nat.le_of_ble_eq_true rfl) dX5_changes_4 ⟨Nat.le_of_ble_eq_true rfl, Nat.le_of_ble_eq_true rfl⟩ (fun locs hW => ?_)
  refine c_VSi S hW (tX5_repeats l G ad σ (vr σ (1 + 4 * k + 0)) pl (by rw [ep]; exact hp) (by rw [ep]; exact hpl)) (cw_X5_343 S.2.2.2.2 ⟨Nat.le_of_ble_eq_true rfl, Nat.le_of_ble_eq_true rfl⟩) eBlind_T (fun _ _ _ => trivial) (w_recv hW (q0 := 0) rfl rfl) rfl hl.1 (rest := []) rfl (Nat.le_of_ble_eq_true rfl) dX5_changes_7 ⟨Nat.le_of_ble_eq_true rfl, Nat.le_of_ble_eq_true rfl⟩ (fun r7 σ7 H locs q7 hW => ?_)
  obtain ⟨rfl, q7_ln, q7_sm⟩ := q7
  have f0 : σ7 0 = σ 0 := q7_sm 0 (by decide)
  have f29 : σ7 29 = σ 29 := q7_sm 29 (by decide)
  have vq : vr σ7 = vr σ := by funext j; simp only [vr, f0, f29]
  have f29b : σ7 29 0 = σ 29 0 := by rw [f29]
  refine lv_istore_n (lv' := [(2, .int (iI (pl.length : Int))), (0, .ref (ad 0)), (1, .int (iI k))]) S.1 S.2.1 dX5_changes_10 rfl hl (by decide) rfl (fun ls hl => ?_)
  refine lv_aload_n S.1 S.2.1 dX5_changes_11 rfl (lv_at hl 1 rfl) ?_
  refine lv_iload_n S.1 S.2.1 dX5_changes_12 rfl (lv_at hl 2 rfl) ?_
  refine r_iconst S dX5_changes_13 ?_
  refine c_VP S hW (tX5_villageOf l G ad σ7 k 1 (by omega) (by omega)) (cw_X5_334 S.2.2.2.2 ⟨Nat.le_of_ble_eq_true rfl, Nat.le_of_ble_eq_true rfl⟩) eBlind_T (fun _ _ _ => trivial) (w_recv hW (q0 := 0) rfl rfl) rfl hl.1 (rest := []) rfl (Nat.le_of_ble_eq_true rfl) dX5_changes_14 ⟨Nat.le_of_ble_eq_true rfl, Nat.le_of_ble_eq_true rfl⟩ (fun locs hW => ?_)
  refine r_as (vr σ (1 + 4 * k + 1)) (by rw [vq]) ?_
  refine lv_istore_n (lv' := [(3, .int (iI (vr σ (1 + 4 * k + 1)))), (2, .int (iI (pl.length : Int))), (0, .ref (ad 0)), (1, .int (iI k))]) S.1 S.2.1 dX5_changes_17 rfl hl (by decide) rfl (fun ls hl => ?_)
  refine lv_aload_n S.1 S.2.1 dX5_changes_18 rfl (lv_at hl 2 rfl) ?_
  refine lv_iload_n S.1 S.2.1 dX5_changes_19 rfl (lv_at hl 3 rfl) ?_
  refine r_iconst S dX5_changes_20 ?_
  refine c_VP S hW (tX5_villageOf l G ad σ7 k 2 (by omega) (by omega)) (cw_X5_334 S.2.2.2.2 ⟨Nat.le_of_ble_eq_true rfl, Nat.le_of_ble_eq_true rfl⟩) eBlind_T (fun _ _ _ => trivial) (w_recv hW (q0 := 0) rfl rfl) rfl hl.1 (rest := []) rfl (Nat.le_of_ble_eq_true rfl) dX5_changes_21 ⟨Nat.le_of_ble_eq_true rfl, Nat.le_of_ble_eq_true rfl⟩ (fun locs hW => ?_)
  refine r_as (vr σ (1 + 4 * k + 2)) (by rw [vq]) ?_
  refine lv_istore (lv' := [(4, .int (iI (vr σ (1 + 4 * k + 2)))), (3, .int (iI (vr σ (1 + 4 * k + 1)))), (2, .int (iI (pl.length : Int))), (0, .ref (ad 0)), (1, .int (iI k))]) S.1 S.2.1 dX5_changes_24 hl (by decide) rfl (fun ls hl => ?_)
  refine lv_aload_n S.1 S.2.1 dX5_changes_26 rfl (lv_at hl 3 rfl) ?_
  refine lv_iload_n S.1 S.2.1 dX5_changes_27 rfl (lv_at hl 4 rfl) ?_
  refine r_iconst S dX5_changes_28 ?_
  refine c_VP S hW (tX5_villageOf l G ad σ7 k 3 (by omega) (by omega)) (cw_X5_334 S.2.2.2.2 ⟨Nat.le_of_ble_eq_true rfl, Nat.le_of_ble_eq_true rfl⟩) eBlind_T (fun _ _ _ => trivial) (w_recv hW (q0 := 0) rfl rfl) rfl hl.1 (rest := []) rfl (Nat.le_of_ble_eq_true rfl) dX5_changes_29 ⟨Nat.le_of_ble_eq_true rfl, Nat.le_of_ble_eq_true rfl⟩ (fun locs hW => ?_)
  refine r_as (vr σ (1 + 4 * k + 3)) (by rw [vq]) ?_
  refine lv_istore (lv' := [(5, .int (iI (vr σ (1 + 4 * k + 3)))), (4, .int (iI (vr σ (1 + 4 * k + 2)))), (3, .int (iI (vr σ (1 + 4 * k + 1)))), (2, .int (iI (pl.length : Int))), (0, .ref (ad 0)), (1, .int (iI k))]) S.1 S.2.1 dX5_changes_32 hl (by decide) rfl (fun ls hl => ?_)
  refine lv_aload_n S.1 S.2.1 dX5_changes_34 rfl (lv_at hl 4 rfl) ?_
  refine w_getr S hW in_X5 0 rfl rfl 31 (by decide) q1682 rfl rfl dX5_changes_35 ?_
  refine lv_iload_n S.1 S.2.1 dX5_changes_38 rfl (lv_at hl 5 rfl) ?_
  refine r_iconst S dX5_changes_39 ?_
  refine w_ast S hW 20 0 rfl rfl rfl (z := 0) (by omega) dX5_changes_40 (fun H locs hW => ?_)
  obtain ⟨σ8, e_σ8⟩ : ∃ z, z = (up σ7 31 k 0) := ⟨_, rfl⟩
  rw [← e_σ8] at hW
  have hs8 : same [30, 31, 32] σ σ8 := by rw [e_σ8]; exact same_up (same_w q7_sm (by decide)) (by decide)
  have h8v : Vr σ8 k ([] : List Int) := by rw [e_σ8]; exact ⟨by rw [up_self]; rfl, fun i i1 i2 => absurd i2 (by simp; omega)⟩
  have h8o : ∀ (j : Int) (l' : List Int), j ≠ k → l'.length ≤ 60 → Vr σ j l' → Vr σ8 j l' := by rw [e_σ8]; exact fun j l' hj _ h => ⟨by rw [up_nei hj, q7_sm 31 (by decide)]; exact h.1, fun i i1 i2 => by rw [up_ne (by decide), q7_sm 30 (by decide)]; exact h.2 i i1 i2⟩
  have h8l : fil σ8 32 pl.length (gi pl) := by rw [e_σ8]; exact fil_ne q7_ln (by decide)
  refine r_iconst S dX5_changes_41 ?_
  refine lv_istore (lv' := [(6, .int (iI 0)), (5, .int (iI (vr σ (1 + 4 * k + 3)))), (4, .int (iI (vr σ (1 + 4 * k + 2)))), (3, .int (iI (vr σ (1 + 4 * k + 1)))), (2, .int (iI (pl.length : Int))), (0, .ref (ad 0)), (1, .int (iI k))]) S.1 S.2.1 dX5_changes_42 hl (by decide) rfl (fun ls hl => ?_)
  have cut_44 : ∀ (N_44 : Nat) (i : Int) (σ1 : St) (H : Heap) (locs : List Loc) (ls : Array Slot), (0 ≤ i ∧ i ≤ pl.length) → (same [30, 31, 32] σ σ1) → (fil σ1 32 pl.length (gi pl)) → (Vr σ1 k ((rwI (vr σ (1 + 4 * k + 1)) (vr σ (1 + 4 * k + 2)) (vr σ (1 + 4 * k + 3)) pl.length (gi pl) i).take 60)) → (∀ (j : Int) (l' : List Int), j ≠ k → l'.length ≤ 60 → Vr σ j l' → Vr σ1 j l') → ((pl.length - i).toNat) < N_44 → WD G shM ad (aM ad) s s.heap σ1 H locs → lv_has ls 8 [(6, .int (iI i)), (5, .int (iI (vr σ (1 + 4 * k + 3)))), (4, .int (iI (vr σ (1 + 4 * k + 2)))), (3, .int (iI (vr σ (1 + 4 * k + 1)))), (2, .int (iI (pl.length : Int))), (0, .ref (ad 0)), (1, .int (iI k))] → W p l e (⟨1, 0, 0, 23⟩ : Room) s m ([.ref (ad 0), .int (iI k)] : List Value).toArray below meth c H locs 0 0 (MQ below (qS G shM ad (aM ad) (rV (fun σ' => (Vr σ' k (tel (vr σ (1 + 4 * k + 1)) (vr σ (1 + 4 * k + 2)) (vr σ (1 + 4 * k + 3)) pl)) ∧ (∀ (j : Int) (l' : List Int), j ≠ k → l'.length ≤ 60 → Vr σ j l' → Vr σ' j l') ∧ (same [30, 31, 32] σ σ')))) ([.ref (ad 0), .int (iI k)] : List Value).toArray s 0 0 (aM ad)) (F0 m 44 ls []) := by
    intro N_44
    induction N_44 with
    | zero =>
      intro i σ1 H locs ls hi hsm hf hVr hot hμ_44 hW hl
      exact absurd hμ_44 (by omega)
    | succ N_44 ih_44 =>
      intro i σ1 H locs ls hi hsm hf hVr hot hμ_44 hW hl
      refine lv_iload S.1 S.2.1 dX5_changes_44 (lv_at hl 0 rfl) ?_
      refine lv_iload_n S.1 S.2.1 dX5_changes_46 rfl (lv_at hl 4 rfl) ?_
      refine r_icmp_ge S (tgt := 155) dX5_changes_47 rfl (by omega) (fun c_47 => ?_) (fun c_47 => ?_)
      ·
        exact e_vS S hr hlk hW ⟨rfl, ⟨(by unfold tel; rw [← show i = pl.length by omega]; rw [show i = pl.length by omega] at hVr ⊢; exact hVr), (hot), (hsm)⟩⟩ dX5_changes_155
      ·
        have hln := hf i (by omega) (by omega)
        have hpb := hpv _ (gi_mem (l := pl) (i := i) (by omega))
        rw [← hln] at hpb
        refine lv_aload_n S.1 S.2.1 dX5_changes_50 rfl (lv_at hl 5 rfl) ?_
        refine w_getr S hW in_X5 0 rfl rfl 32 (by decide) q1683 rfl rfl dX5_changes_51 ?_
        refine lv_iload S.1 S.2.1 dX5_changes_54 (lv_at hl 0 rfl) ?_
        refine w_ald S hW 21 0 rfl rfl (by omega) dX5_changes_56 ?_
        refine r_name (fun b e_b => ?_)
        refine lv_istore (lv' := [(7, .int (iI b)), (6, .int (iI i)), (5, .int (iI (vr σ (1 + 4 * k + 3)))), (4, .int (iI (vr σ (1 + 4 * k + 2)))), (3, .int (iI (vr σ (1 + 4 * k + 1)))), (2, .int (iI (pl.length : Int))), (0, .ref (ad 0)), (1, .int (iI k))]) S.1 S.2.1 dX5_changes_57 hl (by decide) rfl (fun ls hl => ?_)
        have cut_89 : ∀ (H : Heap) (locs : List Loc) (ls : Array Slot), (¬ (((vr σ (1 + 4 * k + 1)) = 0 ∧ (i + 1) % (vr σ (1 + 4 * k + 2)) = 0) ∨ ((vr σ (1 + 4 * k + 1)) = 3 ∧ i = pl.length - 1))) → WD G shM ad (aM ad) s s.heap σ1 H locs → lv_has ls 8 [(7, .int (iI b)), (6, .int (iI i)), (5, .int (iI (vr σ (1 + 4 * k + 3)))), (4, .int (iI (vr σ (1 + 4 * k + 2)))), (3, .int (iI (vr σ (1 + 4 * k + 1)))), (2, .int (iI (pl.length : Int))), (0, .ref (ad 0)), (1, .int (iI k))] → W p l e (⟨1, 0, 0, 23⟩ : Room) s m ([.ref (ad 0), .int (iI k)] : List Value).toArray below meth c H locs 0 0 (MQ below (qS G shM ad (aM ad) (rV (fun σ' => (Vr σ' k (tel (vr σ (1 + 4 * k + 1)) (vr σ (1 + 4 * k + 2)) (vr σ (1 + 4 * k + 3)) pl)) ∧ (∀ (j : Int) (l' : List Int), j ≠ k → l'.length ≤ 60 → Vr σ j l' → Vr σ' j l') ∧ (same [30, 31, 32] σ σ')))) ([.ref (ad 0), .int (iI k)] : List Value).toArray s 0 0 (aM ad)) (F0 m 89 ls []) := by
          intro H locs ls hne hW hl
          have cut_127 : ∀ (H : Heap) (locs : List Loc) (ls : Array Slot), WD G shM ad (aM ad) s s.heap σ1 H locs → lv_has ls 8 [(7, .int (iI b)), (6, .int (iI i)), (5, .int (iI (vr σ (1 + 4 * k + 3)))), (4, .int (iI (vr σ (1 + 4 * k + 2)))), (3, .int (iI (vr σ (1 + 4 * k + 1)))), (2, .int (iI (pl.length : Int))), (0, .ref (ad 0)), (1, .int (iI k))] → W p l e (⟨1, 0, 0, 23⟩ : Room) s m ([.ref (ad 0), .int (iI k)] : List Value).toArray below meth c H locs 0 0 (MQ below (qS G shM ad (aM ad) (rV (fun σ' => (Vr σ' k (tel (vr σ (1 + 4 * k + 1)) (vr σ (1 + 4 * k + 2)) (vr σ (1 + 4 * k + 3)) pl)) ∧ (∀ (j : Int) (l' : List Int), j ≠ k → l'.length ≤ 60 → Vr σ j l' → Vr σ' j l') ∧ (same [30, 31, 32] σ σ')))) ([.ref (ad 0), .int (iI k)] : List Value).toArray s 0 0 (aM ad)) (F0 m 127 ls [.int (iI (if (vr σ (1 + 4 * k + 1)) = 1 ∧ b = (vr σ (1 + 4 * k + 2)) then (vr σ (1 + 4 * k + 3)) else if (vr σ (1 + 4 * k + 1)) = 1 ∧ b = (vr σ (1 + 4 * k + 3)) then (vr σ (1 + 4 * k + 2)) else b)), .int (iI k), .ref (ad 0)]) := by
            intro H locs ls hW hl
            refine c_VSv S hW (tX5_adds l G ad σ1 k (if (vr σ (1 + 4 * k + 1)) = 1 ∧ b = (vr σ (1 + 4 * k + 2)) then (vr σ (1 + 4 * k + 3)) else if (vr σ (1 + 4 * k + 1)) = 1 ∧ b = (vr σ (1 + 4 * k + 3)) then (vr σ (1 + 4 * k + 2)) else b) (rwI (vr σ (1 + 4 * k + 1)) (vr σ (1 + 4 * k + 2)) (vr σ (1 + 4 * k + 3)) pl.length (gi pl) i) (by omega) (hVr)) (cw_X5_346 S.2.2.2.2 ⟨Nat.le_of_ble_eq_true rfl, Nat.le_of_ble_eq_true rfl⟩) eBlind_T (fun _ _ _ => trivial) (w_recv hW (q0 := 0) rfl rfl) rfl hl.1 (rest := []) rfl (Nat.le_of_ble_eq_true rfl) dX5_changes_127 ⟨Nat.le_of_ble_eq_true rfl, Nat.le_of_ble_eq_true rfl⟩ (fun σ127 H locs q127 hW => ?_)
            obtain ⟨q127_v, q127_ot, q127_sm⟩ := q127
            refine lv_iload_n S.1 S.2.1 dX5_changes_130 rfl (lv_at hl 4 rfl) ?_
            refine r_iconst S dX5_changes_131 ?_
            refine r_icmp_ne S (tgt := 149) dX5_changes_132 rfl (by omega) (fun c_132 => ?_) (fun c_132 => ?_)
            ·
              refine lv_iinc (v := iI (i + 1)) (lv' := [(6, .int (iI (i + 1))), (7, .int (iI b)), (5, .int (iI (vr σ (1 + 4 * k + 3)))), (4, .int (iI (vr σ (1 + 4 * k + 2)))), (3, .int (iI (vr σ (1 + 4 * k + 1)))), (2, .int (iI (pl.length : Int))), (0, .ref (ad 0)), (1, .int (iI k))]) S.1 S.2.1 dX5_changes_149 hl (k := 1) rfl (iI_add _ _) (by decide) rfl (fun ls hl => ?_)
              refine lv_goto (tgt := 44) S.1 S.2.1 dX5_changes_152 rfl ?_
              exact ih_44 (i + 1) σ127 H _ _ (by omega) (by first | exact hsm | exact same_tr (same_tr hsm q127_sm (by decide)) q146_sm (by decide) | exact same_tr hsm q127_sm (by decide)) (by first | exact hf | exact fil_eq hf ((q146_sm 32 (by decide)).trans (q127_sm 32 (by decide))) | exact fil_eq hf (q127_sm 32 (by decide))) (by rw [rwI_s hi.1, ← hln, ← e_b]; first | (rw [show emt (vr σ (1 + 4 * k + 1)) (vr σ (1 + 4 * k + 2)) (vr σ (1 + 4 * k + 3)) pl.length i b = [] by unfold emt; rw [if_pos (by omega)], List.append_nil]; exact hVr) | (rw [show emt (vr σ (1 + 4 * k + 1)) (vr σ (1 + 4 * k + 2)) (vr σ (1 + 4 * k + 3)) pl.length i b = [if (vr σ (1 + 4 * k + 1)) = 1 ∧ b = (vr σ (1 + 4 * k + 2)) then (vr σ (1 + 4 * k + 3)) else if (vr σ (1 + 4 * k + 1)) = 1 ∧ b = (vr σ (1 + 4 * k + 3)) then (vr σ (1 + 4 * k + 2)) else b, b] by unfold emt; rw [if_neg hne, if_pos (show (vr σ (1 + 4 * k + 1)) = 2 ∧ b = (vr σ (1 + 4 * k + 2)) by omega)], show ∀ (p9 : List Int) (x9 y9 : Int), p9 ++ [x9, y9] = p9 ++ [x9] ++ [y9] from fun p9 x9 y9 => by simp]; exact q146_v) | (rw [show emt (vr σ (1 + 4 * k + 1)) (vr σ (1 + 4 * k + 2)) (vr σ (1 + 4 * k + 3)) pl.length i b = [if (vr σ (1 + 4 * k + 1)) = 1 ∧ b = (vr σ (1 + 4 * k + 2)) then (vr σ (1 + 4 * k + 3)) else if (vr σ (1 + 4 * k + 1)) = 1 ∧ b = (vr σ (1 + 4 * k + 3)) then (vr σ (1 + 4 * k + 2)) else b] by unfold emt; rw [if_neg hne, if_neg (show ¬ ((vr σ (1 + 4 * k + 1)) = 2 ∧ b = (vr σ (1 + 4 * k + 2))) by omega)]]; exact q127_v)) (by first | exact hot | exact fun j l' hj hl' h => q146_ot j l' hj hl' (q127_ot j l' hj hl' (hot j l' hj hl' h)) | exact fun j l' hj hl' h => q127_ot j l' hj hl' (hot j l' hj hl' h)) (by omega) hW (lv_sub hl [0, 2, 3, 4, 5, 6, 7] rfl)
            ·
              refine lv_iload S.1 S.2.1 dX5_changes_135 (lv_at hl 0 rfl) ?_
              refine lv_iload S.1 S.2.1 dX5_changes_137 (lv_at hl 3 rfl) ?_
              refine r_icmp_ne S (tgt := 149) dX5_changes_139 rfl (by omega) (fun c_139 => ?_) (fun c_139 => ?_)
              ·
                refine lv_iinc (v := iI (i + 1)) (lv' := [(6, .int (iI (i + 1))), (7, .int (iI b)), (5, .int (iI (vr σ (1 + 4 * k + 3)))), (4, .int (iI (vr σ (1 + 4 * k + 2)))), (3, .int (iI (vr σ (1 + 4 * k + 1)))), (2, .int (iI (pl.length : Int))), (0, .ref (ad 0)), (1, .int (iI k))]) S.1 S.2.1 dX5_changes_149 hl (k := 1) rfl (iI_add _ _) (by decide) rfl (fun ls hl => ?_)
                refine lv_goto (tgt := 44) S.1 S.2.1 dX5_changes_152 rfl ?_
                exact ih_44 (i + 1) σ127 H _ _ (by omega) (by first | exact hsm | exact same_tr (same_tr hsm q127_sm (by decide)) q146_sm (by decide) | exact same_tr hsm q127_sm (by decide)) (by first | exact hf | exact fil_eq hf ((q146_sm 32 (by decide)).trans (q127_sm 32 (by decide))) | exact fil_eq hf (q127_sm 32 (by decide))) (by rw [rwI_s hi.1, ← hln, ← e_b]; first | (rw [show emt (vr σ (1 + 4 * k + 1)) (vr σ (1 + 4 * k + 2)) (vr σ (1 + 4 * k + 3)) pl.length i b = [] by unfold emt; rw [if_pos (by omega)], List.append_nil]; exact hVr) | (rw [show emt (vr σ (1 + 4 * k + 1)) (vr σ (1 + 4 * k + 2)) (vr σ (1 + 4 * k + 3)) pl.length i b = [if (vr σ (1 + 4 * k + 1)) = 1 ∧ b = (vr σ (1 + 4 * k + 2)) then (vr σ (1 + 4 * k + 3)) else if (vr σ (1 + 4 * k + 1)) = 1 ∧ b = (vr σ (1 + 4 * k + 3)) then (vr σ (1 + 4 * k + 2)) else b, b] by unfold emt; rw [if_neg hne, if_pos (show (vr σ (1 + 4 * k + 1)) = 2 ∧ b = (vr σ (1 + 4 * k + 2)) by omega)], show ∀ (p9 : List Int) (x9 y9 : Int), p9 ++ [x9, y9] = p9 ++ [x9] ++ [y9] from fun p9 x9 y9 => by simp]; exact q146_v) | (rw [show emt (vr σ (1 + 4 * k + 1)) (vr σ (1 + 4 * k + 2)) (vr σ (1 + 4 * k + 3)) pl.length i b = [if (vr σ (1 + 4 * k + 1)) = 1 ∧ b = (vr σ (1 + 4 * k + 2)) then (vr σ (1 + 4 * k + 3)) else if (vr σ (1 + 4 * k + 1)) = 1 ∧ b = (vr σ (1 + 4 * k + 3)) then (vr σ (1 + 4 * k + 2)) else b] by unfold emt; rw [if_neg hne, if_neg (show ¬ ((vr σ (1 + 4 * k + 1)) = 2 ∧ b = (vr σ (1 + 4 * k + 2))) by omega)]]; exact q127_v)) (by first | exact hot | exact fun j l' hj hl' h => q146_ot j l' hj hl' (q127_ot j l' hj hl' (hot j l' hj hl' h)) | exact fun j l' hj hl' h => q127_ot j l' hj hl' (hot j l' hj hl' h)) (by omega) hW (lv_sub hl [0, 2, 3, 4, 5, 6, 7] rfl)
              ·
                refine lv_aload_n S.1 S.2.1 dX5_changes_142 rfl (lv_at hl 6 rfl) ?_
                refine lv_iload_n S.1 S.2.1 dX5_changes_143 rfl (lv_at hl 7 rfl) ?_
                refine lv_iload S.1 S.2.1 dX5_changes_144 (lv_at hl 0 rfl) ?_
                refine c_VSv S hW (tX5_adds l G ad σ127 k b ((rwI (vr σ (1 + 4 * k + 1)) (vr σ (1 + 4 * k + 2)) (vr σ (1 + 4 * k + 3)) pl.length (gi pl) i) ++ [if (vr σ (1 + 4 * k + 1)) = 1 ∧ b = (vr σ (1 + 4 * k + 2)) then (vr σ (1 + 4 * k + 3)) else if (vr σ (1 + 4 * k + 1)) = 1 ∧ b = (vr σ (1 + 4 * k + 3)) then (vr σ (1 + 4 * k + 2)) else b]) (by omega) (q127_v)) (cw_X5_346 S.2.2.2.2 ⟨Nat.le_of_ble_eq_true rfl, Nat.le_of_ble_eq_true rfl⟩) eBlind_T (fun _ _ _ => trivial) (w_recv hW (q0 := 0) rfl rfl) rfl hl.1 (rest := []) rfl (Nat.le_of_ble_eq_true rfl) dX5_changes_146 ⟨Nat.le_of_ble_eq_true rfl, Nat.le_of_ble_eq_true rfl⟩ (fun σ146 H locs q146 hW => ?_)
                obtain ⟨q146_v, q146_ot, q146_sm⟩ := q146
                refine lv_iinc (v := iI (i + 1)) (lv' := [(6, .int (iI (i + 1))), (7, .int (iI b)), (5, .int (iI (vr σ (1 + 4 * k + 3)))), (4, .int (iI (vr σ (1 + 4 * k + 2)))), (3, .int (iI (vr σ (1 + 4 * k + 1)))), (2, .int (iI (pl.length : Int))), (0, .ref (ad 0)), (1, .int (iI k))]) S.1 S.2.1 dX5_changes_149 hl (k := 1) rfl (iI_add _ _) (by decide) rfl (fun ls hl => ?_)
                refine lv_goto (tgt := 44) S.1 S.2.1 dX5_changes_152 rfl ?_
                exact ih_44 (i + 1) σ146 H _ _ (by omega) (by first | exact hsm | exact same_tr (same_tr hsm q127_sm (by decide)) q146_sm (by decide) | exact same_tr hsm q127_sm (by decide)) (by first | exact hf | exact fil_eq hf ((q146_sm 32 (by decide)).trans (q127_sm 32 (by decide))) | exact fil_eq hf (q127_sm 32 (by decide))) (by rw [rwI_s hi.1, ← hln, ← e_b]; first | (rw [show emt (vr σ (1 + 4 * k + 1)) (vr σ (1 + 4 * k + 2)) (vr σ (1 + 4 * k + 3)) pl.length i b = [] by unfold emt; rw [if_pos (by omega)], List.append_nil]; exact hVr) | (rw [show emt (vr σ (1 + 4 * k + 1)) (vr σ (1 + 4 * k + 2)) (vr σ (1 + 4 * k + 3)) pl.length i b = [if (vr σ (1 + 4 * k + 1)) = 1 ∧ b = (vr σ (1 + 4 * k + 2)) then (vr σ (1 + 4 * k + 3)) else if (vr σ (1 + 4 * k + 1)) = 1 ∧ b = (vr σ (1 + 4 * k + 3)) then (vr σ (1 + 4 * k + 2)) else b, b] by unfold emt; rw [if_neg hne, if_pos (show (vr σ (1 + 4 * k + 1)) = 2 ∧ b = (vr σ (1 + 4 * k + 2)) by omega)], show ∀ (p9 : List Int) (x9 y9 : Int), p9 ++ [x9, y9] = p9 ++ [x9] ++ [y9] from fun p9 x9 y9 => by simp]; exact q146_v) | (rw [show emt (vr σ (1 + 4 * k + 1)) (vr σ (1 + 4 * k + 2)) (vr σ (1 + 4 * k + 3)) pl.length i b = [if (vr σ (1 + 4 * k + 1)) = 1 ∧ b = (vr σ (1 + 4 * k + 2)) then (vr σ (1 + 4 * k + 3)) else if (vr σ (1 + 4 * k + 1)) = 1 ∧ b = (vr σ (1 + 4 * k + 3)) then (vr σ (1 + 4 * k + 2)) else b] by unfold emt; rw [if_neg hne, if_neg (show ¬ ((vr σ (1 + 4 * k + 1)) = 2 ∧ b = (vr σ (1 + 4 * k + 2))) by omega)]]; exact q127_v)) (by first | exact hot | exact fun j l' hj hl' h => q146_ot j l' hj hl' (q127_ot j l' hj hl' (hot j l' hj hl' h)) | exact fun j l' hj hl' h => q127_ot j l' hj hl' (hot j l' hj hl' h)) (by omega) hW (lv_sub hl [0, 2, 3, 4, 5, 6, 7] rfl)
          refine lv_aload_n S.1 S.2.1 dX5_changes_89 rfl (lv_at hl 6 rfl) ?_
          refine lv_iload_n S.1 S.2.1 dX5_changes_90 rfl (lv_at hl 7 rfl) ?_
          refine lv_iload_n S.1 S.2.1 dX5_changes_91 rfl (lv_at hl 4 rfl) ?_
          refine r_iconst S dX5_changes_92 ?_
          refine r_icmp_ne S (tgt := 108) dX5_changes_93 rfl (by omega) (fun c_93 => ?_) (fun c_93 => ?_)
          ·
            refine lv_iload_n S.1 S.2.1 dX5_changes_108 rfl (lv_at hl 4 rfl) ?_
            refine r_iconst S dX5_changes_109 ?_
            refine r_icmp_ne S (tgt := 125) dX5_changes_110 rfl (by omega) (fun c_110 => ?_) (fun c_110 => ?_)
            ·
              refine lv_iload S.1 S.2.1 dX5_changes_125 (lv_at hl 0 rfl) ?_
              refine r_as (if (vr σ (1 + 4 * k + 1)) = 1 ∧ b = (vr σ (1 + 4 * k + 2)) then (vr σ (1 + 4 * k + 3)) else if (vr σ (1 + 4 * k + 1)) = 1 ∧ b = (vr σ (1 + 4 * k + 3)) then (vr σ (1 + 4 * k + 2)) else b) (by first | (exfalso; omega) | rw [if_pos (by omega)] | rw [if_neg (by omega), if_pos (by omega)] | rw [if_neg (by omega), if_neg (by omega)]) ?_
              exact cut_127 H _ _ hW (lv_sub hl [0, 1, 2, 3, 4, 5, 6, 7] rfl)
            ·
              refine lv_iload S.1 S.2.1 dX5_changes_113 (lv_at hl 0 rfl) ?_
              refine lv_iload S.1 S.2.1 dX5_changes_115 (lv_at hl 2 rfl) ?_
              refine r_icmp_ne S (tgt := 125) dX5_changes_117 rfl (by omega) (fun c_117 => ?_) (fun c_117 => ?_)
              ·
                refine lv_iload S.1 S.2.1 dX5_changes_125 (lv_at hl 0 rfl) ?_
                refine r_as (if (vr σ (1 + 4 * k + 1)) = 1 ∧ b = (vr σ (1 + 4 * k + 2)) then (vr σ (1 + 4 * k + 3)) else if (vr σ (1 + 4 * k + 1)) = 1 ∧ b = (vr σ (1 + 4 * k + 3)) then (vr σ (1 + 4 * k + 2)) else b) (by first | (exfalso; omega) | rw [if_pos (by omega)] | rw [if_neg (by omega), if_pos (by omega)] | rw [if_neg (by omega), if_neg (by omega)]) ?_
                exact cut_127 H _ _ hW (lv_sub hl [0, 1, 2, 3, 4, 5, 6, 7] rfl)
              ·
                refine lv_iload S.1 S.2.1 dX5_changes_120 (lv_at hl 3 rfl) ?_
                refine lv_goto (tgt := 127) S.1 S.2.1 dX5_changes_122 rfl ?_
                refine r_as (if (vr σ (1 + 4 * k + 1)) = 1 ∧ b = (vr σ (1 + 4 * k + 2)) then (vr σ (1 + 4 * k + 3)) else if (vr σ (1 + 4 * k + 1)) = 1 ∧ b = (vr σ (1 + 4 * k + 3)) then (vr σ (1 + 4 * k + 2)) else b) (by first | (exfalso; omega) | rw [if_pos (by omega)] | rw [if_neg (by omega), if_pos (by omega)] | rw [if_neg (by omega), if_neg (by omega)]) ?_
                exact cut_127 H _ _ hW (lv_sub hl [0, 1, 2, 3, 4, 5, 6, 7] rfl)
          ·
            refine lv_iload S.1 S.2.1 dX5_changes_96 (lv_at hl 0 rfl) ?_
            refine lv_iload S.1 S.2.1 dX5_changes_98 (lv_at hl 3 rfl) ?_
            refine r_icmp_ne S (tgt := 108) dX5_changes_100 rfl (by omega) (fun c_100 => ?_) (fun c_100 => ?_)
            ·
              refine lv_iload_n S.1 S.2.1 dX5_changes_108 rfl (lv_at hl 4 rfl) ?_
              refine r_iconst S dX5_changes_109 ?_
              refine r_icmp_ne S (tgt := 125) dX5_changes_110 rfl (by omega) (fun c_110 => ?_) (fun c_110 => ?_)
              ·
                refine lv_iload S.1 S.2.1 dX5_changes_125 (lv_at hl 0 rfl) ?_
                refine r_as (if (vr σ (1 + 4 * k + 1)) = 1 ∧ b = (vr σ (1 + 4 * k + 2)) then (vr σ (1 + 4 * k + 3)) else if (vr σ (1 + 4 * k + 1)) = 1 ∧ b = (vr σ (1 + 4 * k + 3)) then (vr σ (1 + 4 * k + 2)) else b) (by first | (exfalso; omega) | rw [if_pos (by omega)] | rw [if_neg (by omega), if_pos (by omega)] | rw [if_neg (by omega), if_neg (by omega)]) ?_
                exact cut_127 H _ _ hW (lv_sub hl [0, 1, 2, 3, 4, 5, 6, 7] rfl)
              ·
                refine lv_iload S.1 S.2.1 dX5_changes_113 (lv_at hl 0 rfl) ?_
                refine lv_iload S.1 S.2.1 dX5_changes_115 (lv_at hl 2 rfl) ?_
                refine r_icmp_ne S (tgt := 125) dX5_changes_117 rfl (by omega) (fun c_117 => ?_) (fun c_117 => ?_)
                ·
                  refine lv_iload S.1 S.2.1 dX5_changes_125 (lv_at hl 0 rfl) ?_
                  refine r_as (if (vr σ (1 + 4 * k + 1)) = 1 ∧ b = (vr σ (1 + 4 * k + 2)) then (vr σ (1 + 4 * k + 3)) else if (vr σ (1 + 4 * k + 1)) = 1 ∧ b = (vr σ (1 + 4 * k + 3)) then (vr σ (1 + 4 * k + 2)) else b) (by first | (exfalso; omega) | rw [if_pos (by omega)] | rw [if_neg (by omega), if_pos (by omega)] | rw [if_neg (by omega), if_neg (by omega)]) ?_
                  exact cut_127 H _ _ hW (lv_sub hl [0, 1, 2, 3, 4, 5, 6, 7] rfl)
                ·
                  refine lv_iload S.1 S.2.1 dX5_changes_120 (lv_at hl 3 rfl) ?_
                  refine lv_goto (tgt := 127) S.1 S.2.1 dX5_changes_122 rfl ?_
                  refine r_as (if (vr σ (1 + 4 * k + 1)) = 1 ∧ b = (vr σ (1 + 4 * k + 2)) then (vr σ (1 + 4 * k + 3)) else if (vr σ (1 + 4 * k + 1)) = 1 ∧ b = (vr σ (1 + 4 * k + 3)) then (vr σ (1 + 4 * k + 2)) else b) (by first | (exfalso; omega) | rw [if_pos (by omega)] | rw [if_neg (by omega), if_pos (by omega)] | rw [if_neg (by omega), if_neg (by omega)]) ?_
                  exact cut_127 H _ _ hW (lv_sub hl [0, 1, 2, 3, 4, 5, 6, 7] rfl)
            ·
              refine lv_iload S.1 S.2.1 dX5_changes_103 (lv_at hl 2 rfl) ?_
              refine lv_goto (tgt := 127) S.1 S.2.1 dX5_changes_105 rfl ?_
              refine r_as (if (vr σ (1 + 4 * k + 1)) = 1 ∧ b = (vr σ (1 + 4 * k + 2)) then (vr σ (1 + 4 * k + 3)) else if (vr σ (1 + 4 * k + 1)) = 1 ∧ b = (vr σ (1 + 4 * k + 3)) then (vr σ (1 + 4 * k + 2)) else b) (by first | (exfalso; omega) | rw [if_pos (by omega)] | rw [if_neg (by omega), if_pos (by omega)] | rw [if_neg (by omega), if_neg (by omega)]) ?_
              exact cut_127 H _ _ hW (lv_sub hl [0, 1, 2, 3, 4, 5, 6, 7] rfl)
        refine lv_iload_n S.1 S.2.1 dX5_changes_59 rfl (lv_at hl 4 rfl) ?_
        refine r_if_ne S (tgt := 73) dX5_changes_60 rfl (by omega) (fun c_60 => ?_) (fun c_60 => ?_)
        ·
          refine lv_iload_n S.1 S.2.1 dX5_changes_73 rfl (lv_at hl 4 rfl) ?_
          refine r_iconst S dX5_changes_74 ?_
          refine r_icmp_ne S (tgt := 89) dX5_changes_75 rfl (by omega) (fun c_75 => ?_) (fun c_75 => ?_)
          ·
            exact cut_89 H _ _ (by omega) hW (lv_sub hl [0, 1, 2, 3, 4, 5, 6, 7] rfl)
          ·
            refine lv_iload S.1 S.2.1 dX5_changes_78 (lv_at hl 1 rfl) ?_
            refine lv_iload_n S.1 S.2.1 dX5_changes_80 rfl (lv_at hl 5 rfl) ?_
            refine r_iconst S dX5_changes_81 ?_
            refine r_isub S dX5_changes_82 ?_
            refine r_icmp_ne S (tgt := 89) dX5_changes_83 rfl (by omega) (fun c_83 => ?_) (fun c_83 => ?_)
            ·
              exact cut_89 H _ _ (by omega) hW (lv_sub hl [0, 1, 2, 3, 4, 5, 6, 7] rfl)
            ·
              refine lv_goto (tgt := 149) S.1 S.2.1 dX5_changes_86 rfl ?_
              refine lv_iinc (v := iI (i + 1)) (lv' := [(6, .int (iI (i + 1))), (7, .int (iI b)), (5, .int (iI (vr σ (1 + 4 * k + 3)))), (4, .int (iI (vr σ (1 + 4 * k + 2)))), (3, .int (iI (vr σ (1 + 4 * k + 1)))), (2, .int (iI (pl.length : Int))), (0, .ref (ad 0)), (1, .int (iI k))]) S.1 S.2.1 dX5_changes_149 hl (k := 1) rfl (iI_add _ _) (by decide) rfl (fun ls hl => ?_)
              refine lv_goto (tgt := 44) S.1 S.2.1 dX5_changes_152 rfl ?_
              exact ih_44 (i + 1) σ1 H _ _ (by omega) (by first | exact hsm | exact same_tr (same_tr hsm q127_sm (by decide)) q146_sm (by decide) | exact same_tr hsm q127_sm (by decide)) (by first | exact hf | exact fil_eq hf ((q146_sm 32 (by decide)).trans (q127_sm 32 (by decide))) | exact fil_eq hf (q127_sm 32 (by decide))) (by rw [rwI_s hi.1, ← hln, ← e_b]; first | (rw [show emt (vr σ (1 + 4 * k + 1)) (vr σ (1 + 4 * k + 2)) (vr σ (1 + 4 * k + 3)) pl.length i b = [] by unfold emt; rw [if_pos (by omega)], List.append_nil]; exact hVr) | (rw [show emt (vr σ (1 + 4 * k + 1)) (vr σ (1 + 4 * k + 2)) (vr σ (1 + 4 * k + 3)) pl.length i b = [if (vr σ (1 + 4 * k + 1)) = 1 ∧ b = (vr σ (1 + 4 * k + 2)) then (vr σ (1 + 4 * k + 3)) else if (vr σ (1 + 4 * k + 1)) = 1 ∧ b = (vr σ (1 + 4 * k + 3)) then (vr σ (1 + 4 * k + 2)) else b, b] by unfold emt; rw [if_neg hne, if_pos (show (vr σ (1 + 4 * k + 1)) = 2 ∧ b = (vr σ (1 + 4 * k + 2)) by omega)], show ∀ (p9 : List Int) (x9 y9 : Int), p9 ++ [x9, y9] = p9 ++ [x9] ++ [y9] from fun p9 x9 y9 => by simp]; exact q146_v) | (rw [show emt (vr σ (1 + 4 * k + 1)) (vr σ (1 + 4 * k + 2)) (vr σ (1 + 4 * k + 3)) pl.length i b = [if (vr σ (1 + 4 * k + 1)) = 1 ∧ b = (vr σ (1 + 4 * k + 2)) then (vr σ (1 + 4 * k + 3)) else if (vr σ (1 + 4 * k + 1)) = 1 ∧ b = (vr σ (1 + 4 * k + 3)) then (vr σ (1 + 4 * k + 2)) else b] by unfold emt; rw [if_neg hne, if_neg (show ¬ ((vr σ (1 + 4 * k + 1)) = 2 ∧ b = (vr σ (1 + 4 * k + 2))) by omega)]]; exact q127_v)) (by first | exact hot | exact fun j l' hj hl' h => q146_ot j l' hj hl' (q127_ot j l' hj hl' (hot j l' hj hl' h)) | exact fun j l' hj hl' h => q127_ot j l' hj hl' (hot j l' hj hl' h)) (by omega) hW (lv_sub hl [0, 2, 3, 4, 5, 6, 7] rfl)
        ·
          refine lv_iload S.1 S.2.1 dX5_changes_63 (lv_at hl 1 rfl) ?_
          refine r_iconst S dX5_changes_65 ?_
          refine r_iadd S dX5_changes_66 ?_
          refine lv_iload S.1 S.2.1 dX5_changes_67 (lv_at hl 3 rfl) ?_
          refine r_irem S dX5_changes_69 (by omega) ?_
          have hm1 := Int.emod_nonneg (i + 1) (show (vr σ (1 + 4 * k + 2)) ≠ 0 by omega)
          have hm2 := Int.emod_lt_of_pos (i + 1) (show 0 < (vr σ (1 + 4 * k + 2)) by omega)
          refine r_if_eq S (tgt := 149) dX5_changes_70 rfl (by omega) (fun c_70 => ?_) (fun c_70 => ?_)
          ·
            refine lv_iinc (v := iI (i + 1)) (lv' := [(6, .int (iI (i + 1))), (7, .int (iI b)), (5, .int (iI (vr σ (1 + 4 * k + 3)))), (4, .int (iI (vr σ (1 + 4 * k + 2)))), (3, .int (iI (vr σ (1 + 4 * k + 1)))), (2, .int (iI (pl.length : Int))), (0, .ref (ad 0)), (1, .int (iI k))]) S.1 S.2.1 dX5_changes_149 hl (k := 1) rfl (iI_add _ _) (by decide) rfl (fun ls hl => ?_)
            refine lv_goto (tgt := 44) S.1 S.2.1 dX5_changes_152 rfl ?_
            exact ih_44 (i + 1) σ1 H _ _ (by omega) (by first | exact hsm | exact same_tr (same_tr hsm q127_sm (by decide)) q146_sm (by decide) | exact same_tr hsm q127_sm (by decide)) (by first | exact hf | exact fil_eq hf ((q146_sm 32 (by decide)).trans (q127_sm 32 (by decide))) | exact fil_eq hf (q127_sm 32 (by decide))) (by rw [rwI_s hi.1, ← hln, ← e_b]; first | (rw [show emt (vr σ (1 + 4 * k + 1)) (vr σ (1 + 4 * k + 2)) (vr σ (1 + 4 * k + 3)) pl.length i b = [] by unfold emt; rw [if_pos (by omega)], List.append_nil]; exact hVr) | (rw [show emt (vr σ (1 + 4 * k + 1)) (vr σ (1 + 4 * k + 2)) (vr σ (1 + 4 * k + 3)) pl.length i b = [if (vr σ (1 + 4 * k + 1)) = 1 ∧ b = (vr σ (1 + 4 * k + 2)) then (vr σ (1 + 4 * k + 3)) else if (vr σ (1 + 4 * k + 1)) = 1 ∧ b = (vr σ (1 + 4 * k + 3)) then (vr σ (1 + 4 * k + 2)) else b, b] by unfold emt; rw [if_neg hne, if_pos (show (vr σ (1 + 4 * k + 1)) = 2 ∧ b = (vr σ (1 + 4 * k + 2)) by omega)], show ∀ (p9 : List Int) (x9 y9 : Int), p9 ++ [x9, y9] = p9 ++ [x9] ++ [y9] from fun p9 x9 y9 => by simp]; exact q146_v) | (rw [show emt (vr σ (1 + 4 * k + 1)) (vr σ (1 + 4 * k + 2)) (vr σ (1 + 4 * k + 3)) pl.length i b = [if (vr σ (1 + 4 * k + 1)) = 1 ∧ b = (vr σ (1 + 4 * k + 2)) then (vr σ (1 + 4 * k + 3)) else if (vr σ (1 + 4 * k + 1)) = 1 ∧ b = (vr σ (1 + 4 * k + 3)) then (vr σ (1 + 4 * k + 2)) else b] by unfold emt; rw [if_neg hne, if_neg (show ¬ ((vr σ (1 + 4 * k + 1)) = 2 ∧ b = (vr σ (1 + 4 * k + 2))) by omega)]]; exact q127_v)) (by first | exact hot | exact fun j l' hj hl' h => q146_ot j l' hj hl' (q127_ot j l' hj hl' (hot j l' hj hl' h)) | exact fun j l' hj hl' h => q127_ot j l' hj hl' (hot j l' hj hl' h)) (by omega) hW (lv_sub hl [0, 2, 3, 4, 5, 6, 7] rfl)
          ·
            refine lv_iload_n S.1 S.2.1 dX5_changes_73 rfl (lv_at hl 4 rfl) ?_
            refine r_iconst S dX5_changes_74 ?_
            refine r_icmp_ne S (tgt := 89) dX5_changes_75 rfl (by omega) (fun c_75 => ?_) (fun c_75 => ?_)
            ·
              exact cut_89 H _ _ (by omega) hW (lv_sub hl [0, 1, 2, 3, 4, 5, 6, 7] rfl)
            ·
              refine lv_iload S.1 S.2.1 dX5_changes_78 (lv_at hl 1 rfl) ?_
              refine lv_iload_n S.1 S.2.1 dX5_changes_80 rfl (lv_at hl 5 rfl) ?_
              refine r_iconst S dX5_changes_81 ?_
              refine r_isub S dX5_changes_82 ?_
              refine r_icmp_ne S (tgt := 89) dX5_changes_83 rfl (by omega) (fun c_83 => ?_) (fun c_83 => ?_)
              ·
                exact cut_89 H _ _ (by omega) hW (lv_sub hl [0, 1, 2, 3, 4, 5, 6, 7] rfl)
              ·
                refine lv_goto (tgt := 149) S.1 S.2.1 dX5_changes_86 rfl ?_
                refine lv_iinc (v := iI (i + 1)) (lv' := [(6, .int (iI (i + 1))), (7, .int (iI b)), (5, .int (iI (vr σ (1 + 4 * k + 3)))), (4, .int (iI (vr σ (1 + 4 * k + 2)))), (3, .int (iI (vr σ (1 + 4 * k + 1)))), (2, .int (iI (pl.length : Int))), (0, .ref (ad 0)), (1, .int (iI k))]) S.1 S.2.1 dX5_changes_149 hl (k := 1) rfl (iI_add _ _) (by decide) rfl (fun ls hl => ?_)
                refine lv_goto (tgt := 44) S.1 S.2.1 dX5_changes_152 rfl ?_
                exact ih_44 (i + 1) σ1 H _ _ (by omega) (by first | exact hsm | exact same_tr (same_tr hsm q127_sm (by decide)) q146_sm (by decide) | exact same_tr hsm q127_sm (by decide)) (by first | exact hf | exact fil_eq hf ((q146_sm 32 (by decide)).trans (q127_sm 32 (by decide))) | exact fil_eq hf (q127_sm 32 (by decide))) (by rw [rwI_s hi.1, ← hln, ← e_b]; first | (rw [show emt (vr σ (1 + 4 * k + 1)) (vr σ (1 + 4 * k + 2)) (vr σ (1 + 4 * k + 3)) pl.length i b = [] by unfold emt; rw [if_pos (by omega)], List.append_nil]; exact hVr) | (rw [show emt (vr σ (1 + 4 * k + 1)) (vr σ (1 + 4 * k + 2)) (vr σ (1 + 4 * k + 3)) pl.length i b = [if (vr σ (1 + 4 * k + 1)) = 1 ∧ b = (vr σ (1 + 4 * k + 2)) then (vr σ (1 + 4 * k + 3)) else if (vr σ (1 + 4 * k + 1)) = 1 ∧ b = (vr σ (1 + 4 * k + 3)) then (vr σ (1 + 4 * k + 2)) else b, b] by unfold emt; rw [if_neg hne, if_pos (show (vr σ (1 + 4 * k + 1)) = 2 ∧ b = (vr σ (1 + 4 * k + 2)) by omega)], show ∀ (p9 : List Int) (x9 y9 : Int), p9 ++ [x9, y9] = p9 ++ [x9] ++ [y9] from fun p9 x9 y9 => by simp]; exact q146_v) | (rw [show emt (vr σ (1 + 4 * k + 1)) (vr σ (1 + 4 * k + 2)) (vr σ (1 + 4 * k + 3)) pl.length i b = [if (vr σ (1 + 4 * k + 1)) = 1 ∧ b = (vr σ (1 + 4 * k + 2)) then (vr σ (1 + 4 * k + 3)) else if (vr σ (1 + 4 * k + 1)) = 1 ∧ b = (vr σ (1 + 4 * k + 3)) then (vr σ (1 + 4 * k + 2)) else b] by unfold emt; rw [if_neg hne, if_neg (show ¬ ((vr σ (1 + 4 * k + 1)) = 2 ∧ b = (vr σ (1 + 4 * k + 2))) by omega)]]; exact q127_v)) (by first | exact hot | exact fun j l' hj hl' h => q146_ot j l' hj hl' (q127_ot j l' hj hl' (hot j l' hj hl' h)) | exact fun j l' hj hl' h => q127_ot j l' hj hl' (hot j l' hj hl' h)) (by omega) hW (lv_sub hl [0, 2, 3, 4, 5, 6, 7] rfl)
  exact cut_44 _ 0 σ8 H _ _ (by omega) (hs8) (h8l) (h8v) (h8o) (Nat.lt_succ_self _) hW (lv_sub hl [0, 1, 2, 3, 4, 5, 6] rfl)
theorem hd_X5_changes : yX5_changes.cls = RX5 ∧ yX5_changes.cls ≠ "java/lang/invoke/MethodHandle" ∧ yX5_changes.cls ≠ "java/lang/invoke/VarHandle" ∧ (parseMethodDescriptor yX5_changes.desc).map (fun d => d.parameters.length) = some 1 := by decide +kernel
theorem cw_X5_349 {R : Room} {s : State} {args : Array Value} (ht : ∀ w ∈ lw_all, w.before args s = true) (hR : 1 + 1 ≤ R.frames ∧ 8 + (8 + 11) + 23 ≤ R.locals) : CallW R s args "OneDrumModel" RX5 349 yX5_changes cX5_changes 8 none (ws_ yX5_changes cX5_changes 8 none) ⟨1, 0, 0, 23⟩ 0 0 1 := cwV 1 ht (lw_V q2112 q2114 qs104 q126 q2115) rfl rfl rfl hd_X5_changes hR
set_option maxHeartbeats 4000000 in
theorem tX5_areTold (l : Launch) (G : GG) (ad : Nat → Nat) (σ : St) (k : Int) (s0 : Int) (x : Int) (y : Int) (hr0 : -2147483648 ≤ k ∧ k < 2147483648 ∧ -2147483648 ≤ s0 ∧ s0 < 2147483648 ∧ -2147483648 ≤ x ∧ x < 2147483648 ∧ -2147483648 ≤ y ∧ y < 2147483648) (hdb : WfDB (σ 0)) : Met l yX5_areTold (ws_ yX5_areTold cX5_areTold 6 (some .boolean)) ⟨4, 0, 0, 88⟩ (wPre G shM ad σ (fun _ => True) [.ref (ad 0), .int (iI k), .int (iI s0), .int (iI x), .int (iI y)]) (qS G shM ad (aM ad) (rZ (fun r σ' => (r = dP (inWSV (σ 0) k s0 x y)) ∧ (same [10, 11, 12, 13, 14, 15, 16, 17, 18, 29, 30, 31, 32] σ σ') ∧ (inWSV (σ 0) k s0 x y → (∀ j : Int, 0 ≤ j → j < vAt (σ 0) x 0 → Vr σ' j (verL (vAt (σ 0) x) (sndL (wAt (σ 0) k) (rowG (wAt (σ 0) k) (gAt (σ 0) s0))) j)) ∧ σ' 18 0 = (rowG (wAt (σ 0) k) (gAt (σ 0) s0)).length ∧ fil σ' 16 (rowG (wAt (σ 0) k) (gAt (σ 0) s0)).length (sd (wAt (σ 0) k) (rf (rowG (wAt (σ 0) k) (gAt (σ 0) s0))) 0) ∧ σ' 29 0 = 868 + 33 * x)))) 0 0 (aM ad) := by
  refine wStart (by decide) (Nat.le_of_ble_eq_true rfl) (fun k hk => ⟨k, hk, rfl⟩) (fun p e s m below meth c S hr hlk _ _ ls hW hl => ?_)
  have hl : lv_has ls 6 [(0, .ref (ad 0)), (1, .int (iI k)), (2, .int (iI s0)), (3, .int (iI x)), (4, .int (iI y))] := hl
  have d0 := hdb.1
  have d1 := hdb.2.1
  have d2 := hdb.2.2.1
  have d3 := hdb.2.2.2.1
  refine lv_aload_n S.1 S.2.1 dX5_areTold_0 rfl (lv_at hl 0 rfl) ?_
  refine lv_iload_n S.1 S.2.1 dX5_areTold_1 rfl (lv_at hl 1 rfl) ?_
  refine lv_iload_n S.1 S.2.1 dX5_areTold_2 rfl (lv_at hl 2 rfl) ?_
  refine c_VSz S hW (tX5_arePlayed l G ad σ k s0 (by omega) (by omega)) (cw_X5_255 S.2.2.2.2 ⟨Nat.le_of_ble_eq_true rfl, Nat.le_of_ble_eq_true rfl⟩) eBlind_T (fun _ _ _ => trivial) (w_recv hW (q0 := 0) rfl rfl) rfl hl.1 (rest := []) rfl (Nat.le_of_ble_eq_true rfl) dX5_areTold_3 ⟨Nat.le_of_ble_eq_true rfl, Nat.le_of_ble_eq_true rfl⟩ (fun r3 σ3 H locs q3 hW => ?_)
  obtain ⟨rfl, q3_sm, q3_pl⟩ := q3
  have e0 : σ3 0 = σ 0 := q3_sm 0 (by decide)
  have e03 : σ3 0 3 = σ 0 3 := by rw [e0]
  refine r_ifeq_p S (tgt := 37) dX5_areTold_6 rfl (fun c_6 => ?_) (fun c_6 => ?_)
  ·
    refine r_iconst S dX5_areTold_37 ?_
    exact e_zS S hr hlk hW (by decide) ⟨false, rfl, ⟨((dP_f.mpr (fun z => by first | exact absurd z.1 (by assumption) | exact absurd z.2 (by omega))).symm), (by first | exact same_w q3_sm (by decide) | exact same_tr (same_w q3_sm (by decide)) q11_sm (by decide)), (fun z => by first | exact absurd z.1 (by assumption) | exact absurd z.2 (by omega))⟩⟩ dX5_areTold_38
  ·
    obtain ⟨w10, pl⟩ := q3_pl (by first | exact c_6 | assumption)
    have ws9 : inWS (σ 0) k s0 := by first | exact c_6 | assumption
    have hWf := hdb.2.2.2.2.2.2.2.2.1 k (by unfold inWS at ws9; omega) (by unfold inWS at ws9; omega)
    have hg := hdb.2.2.2.2.2.2.2.2.2.1 s0 (by unfold inWS at ws9; omega) (by unfold inWS at ws9; omega)
    have w10b : σ3 10 0 = 610 ∨ σ3 10 0 = 699 := by unfold inWS at ws9; omega
    have wq : wr σ3 = wAt (σ 0) k := wr_at e0 w10
    have n18 := pl.1
    have hL9 := rowG_len hWf hg
    have hg00 := (hg 0 (by omega) (by omega)).1
    have hg11 := (hg 1 (by omega) (by omega)).1
    obtain ⟨LL, eLL⟩ : ∃ z, z = rowG (wAt (σ 0) k) (gAt (σ 0) s0) := ⟨_, rfl⟩
    have hLr := rowG_V (w := wAt (σ 0) k) hg
    have hLg := (rowL_V (t := (wAt (σ 0) k 0).toNat) (gl_mem hg (x := 0) (by omega)) (gl_mem hg (x := 1) (by omega))).2
    have w10c : 0 ≤ σ3 10 0 ∧ σ3 10 0 ≤ 700 := by omega
    have sn9 : fil σ3 16 (rowG (wAt (σ 0) k) (gAt (σ 0) s0)).length (sd (wr σ3) (rf (rowG (wAt (σ 0) k) (gAt (σ 0) s0))) 0) := by rw [wq]; exact pl.2.2.1
    have l24 : (rowG (wAt (σ 0) k) (gAt (σ 0) s0)).length ≤ 24 := by omega
    refine lv_aload_n S.1 S.2.1 dX5_areTold_9 rfl (lv_at hl 0 rfl) ?_
    refine lv_iload_n S.1 S.2.1 dX5_areTold_10 rfl (lv_at hl 3 rfl) ?_
    refine c_VSz S hW (tX5_areVillages l G ad σ3 x (by omega) (by omega)) (cw_X5_337 S.2.2.2.2 ⟨Nat.le_of_ble_eq_true rfl, Nat.le_of_ble_eq_true rfl⟩) eBlind_T (fun _ _ _ => trivial) (w_recv hW (q0 := 0) rfl rfl) rfl hl.1 (rest := []) rfl (Nat.le_of_ble_eq_true rfl) dX5_areTold_11 ⟨Nat.le_of_ble_eq_true rfl, Nat.le_of_ble_eq_true rfl⟩ (fun r11 σ11 H locs q11 hW => ?_)
    obtain ⟨rfl, q11_sm, q11_w⟩ := q11
    have f0 : σ11 0 = σ 0 := (q11_sm 0 (by decide)).trans e0
    refine r_ifeq_p S (tgt := 37) dX5_areTold_14 rfl (fun c_14 => ?_) (fun c_14 => ?_)
    ·
      refine r_iconst S dX5_areTold_37 ?_
      exact e_zS S hr hlk hW (by decide) ⟨false, rfl, ⟨((dP_f.mpr (fun z => by first | exact absurd z.1 (by assumption) | exact absurd z.2 (by omega))).symm), (by first | exact same_w q3_sm (by decide) | exact same_tr (same_w q3_sm (by decide)) q11_sm (by decide)), (fun z => by first | exact absurd z.1 (by assumption) | exact absurd z.2 (by omega))⟩⟩ dX5_areTold_38
    ·
      have w29 := q11_w (by omega)
      have hV := hdb.2.2.2.2.2.2.2.2.2.2.2 x (by omega) (by omega)
      have hV0 := hV.1
      have vq0 : vr σ11 = vAt (σ 0) x := vr_at f0 w29
      have v0 : σ11 0 (σ11 29 0) = vAt (σ 0) x 0 := by have := congrFun vq0 0; simp only [vr, Int.add_zero] at this; exact this
      refine lv_iload S.1 S.2.1 dX5_areTold_17 (lv_at hl 4 rfl) ?_
      refine r_iconst S dX5_areTold_19 ?_
      refine lv_aload_n S.1 S.2.1 dX5_areTold_20 rfl (lv_at hl 0 rfl) ?_
      refine w_getr S hW in_X5 0 rfl rfl 0 (by decide) q1651 rfl rfl dX5_areTold_21 ?_
      refine lv_aload_n S.1 S.2.1 dX5_areTold_24 rfl (lv_at hl 0 rfl) ?_
      refine w_geti S hW in_X5 0 rfl rfl 29 (by decide) q1680 rfl rfl dX5_areTold_25 ?_
      refine w_ald S hW 1 0 rfl rfl (by omega) dX5_areTold_28 ?_
      refine r_iconst S dX5_areTold_29 ?_
      refine r_isub S dX5_areTold_30 ?_
      refine c_SPw S hW (tX5_isIn l y 0 ((σ11 0 (σ11 29 0)) - 1) (by omega)) (cw_X5_145 S.2.2.2.2 ⟨Nat.le_of_ble_eq_true rfl, Nat.le_of_ble_eq_true rfl⟩) rfl hl.1 (rest := []) rfl (Nat.le_of_ble_eq_true rfl) dX5_areTold_31 ⟨Nat.le_of_ble_eq_true rfl, Nat.le_of_ble_eq_true rfl⟩ (fun locs hW => ?_)
      refine r_ifne_p S (tgt := 39) dX5_areTold_34 rfl (fun c_34 => ?_) (fun c_34 => ?_)
      ·
        refine r_iconst S dX5_areTold_39 ?_
        refine lv_istore (lv' := [(5, .int (iI 0)), (0, .ref (ad 0)), (1, .int (iI k)), (2, .int (iI s0)), (3, .int (iI x)), (4, .int (iI y))]) S.1 S.2.1 dX5_areTold_40 hl (by decide) rfl (fun ls hl => ?_)
        have cut_42 : ∀ (N_42 : Nat) (j : Int) (σ1 : St) (H : Heap) (locs : List Loc) (ls : Array Slot), (0 ≤ j ∧ j ≤ vAt (σ 0) x 0) → (same [30, 31, 32] σ11 σ1) → (∀ i : Int, 0 ≤ i → i < j → Vr σ1 i (verL (vAt (σ 0) x) (sndL (wAt (σ 0) k) (rowG (wAt (σ 0) k) (gAt (σ 0) s0))) i)) → ((vAt (σ 0) x 0 - j).toNat) < N_42 → WD G shM ad (aM ad) s s.heap σ1 H locs → lv_has ls 6 [(5, .int (iI j)), (0, .ref (ad 0)), (1, .int (iI k)), (2, .int (iI s0)), (3, .int (iI x)), (4, .int (iI y))] → W p l e (⟨4, 0, 0, 88⟩ : Room) s m ([.ref (ad 0), .int (iI k), .int (iI s0), .int (iI x), .int (iI y)] : List Value).toArray below meth c H locs 0 0 (MQ below (qS G shM ad (aM ad) (rZ (fun r σ' => (r = dP (inWSV (σ 0) k s0 x y)) ∧ (same [10, 11, 12, 13, 14, 15, 16, 17, 18, 29, 30, 31, 32] σ σ') ∧ (inWSV (σ 0) k s0 x y → (∀ j : Int, 0 ≤ j → j < vAt (σ 0) x 0 → Vr σ' j (verL (vAt (σ 0) x) (sndL (wAt (σ 0) k) (rowG (wAt (σ 0) k) (gAt (σ 0) s0))) j)) ∧ σ' 18 0 = (rowG (wAt (σ 0) k) (gAt (σ 0) s0)).length ∧ fil σ' 16 (rowG (wAt (σ 0) k) (gAt (σ 0) s0)).length (sd (wAt (σ 0) k) (rf (rowG (wAt (σ 0) k) (gAt (σ 0) s0))) 0) ∧ σ' 29 0 = 868 + 33 * x)))) ([.ref (ad 0), .int (iI k), .int (iI s0), .int (iI x), .int (iI y)] : List Value).toArray s 0 0 (aM ad)) (F0 m 42 ls []) := by
          intro N_42
          induction N_42 with
          | zero =>
            intro j σ1 H locs ls hj hsm hvs hμ_42 hW hl
            exact absurd hμ_42 (by omega)
          | succ N_42 ih_42 =>
            intro j σ1 H locs ls hj hsm hvs hμ_42 hW hl
            have z0 : σ1 0 = σ 0 := (hsm 0 (by decide)).trans f0
            have z29 : σ1 29 0 = 868 + 33 * x := by rw [hsm 29 (by decide)]; exact w29
            have vq : vr σ1 = vAt (σ 0) x := vr_at z0 z29
            have v1 : σ1 0 (σ1 29 0) = vAt (σ 0) x 0 := by have := congrFun vq 0; simp only [vr, Int.add_zero] at this; exact this
            have n18c : σ1 18 0 = (rowG (wAt (σ 0) k) (gAt (σ 0) s0)).length := by rw [hsm 18 (by decide), q11_sm 18 (by decide)]; exact n18
            have s16 : fil σ1 16 (rowG (wAt (σ 0) k) (gAt (σ 0) s0)).length (sd (wAt (σ 0) k) (rf (rowG (wAt (σ 0) k) (gAt (σ 0) s0))) 0) := fil_eq pl.2.2.1 ((hsm 16 (by decide)).trans (q11_sm 16 (by decide)))
            refine lv_iload S.1 S.2.1 dX5_areTold_42 (lv_at hl 0 rfl) ?_
            refine lv_aload_n S.1 S.2.1 dX5_areTold_44 rfl (lv_at hl 1 rfl) ?_
            refine w_getr S hW in_X5 0 rfl rfl 0 (by decide) q1651 rfl rfl dX5_areTold_45 ?_
            refine lv_aload_n S.1 S.2.1 dX5_areTold_48 rfl (lv_at hl 1 rfl) ?_
            refine w_geti S hW in_X5 0 rfl rfl 29 (by decide) q1680 rfl rfl dX5_areTold_49 ?_
            refine w_ald S hW 1 0 rfl rfl (by omega) dX5_areTold_52 ?_
            refine r_icmp_ge S (tgt := 68) dX5_areTold_53 rfl (by omega) (fun c_53 => ?_) (fun c_53 => ?_)
            ·
              refine r_iconst S dX5_areTold_68 ?_
              exact e_zS S hr hlk hW (by decide) ⟨true, rfl, ⟨((dP_t.mpr ⟨ws9, by omega, by omega⟩).symm), (same_tr (same_tr (same_w q3_sm (by decide)) q11_sm (by decide)) hsm (by decide)), (fun _ => ⟨fun i i1 i2 => hvs i i1 (by omega), n18c, s16, z29⟩)⟩⟩ dX5_areTold_69
            ·
              have hpj := (hV.2 j (by omega) (by omega)).1
              have hbl := sndL_len (w := wAt (σ 0) k) (L := (rowG (wAt (σ 0) k) (gAt (σ 0) s0)))
              have hbm := sndL_mem hWf hLr
              have hcp : (vr σ1 (1 + 4 * j) = 8 ∧ σ1 18 0 = ((if vAt (σ 0) x (1 + 4 * j) = 8 then (sndL (wAt (σ 0) k) (rowG (wAt (σ 0) k) (gAt (σ 0) s0))) else (verL (vAt (σ 0) x) (sndL (wAt (σ 0) k) (rowG (wAt (σ 0) k) (gAt (σ 0) s0))) (vAt (σ 0) x (1 + 4 * j)))).length : Int) ∧ ∀ i : Int, 0 ≤ i → i < (if vAt (σ 0) x (1 + 4 * j) = 8 then (sndL (wAt (σ 0) k) (rowG (wAt (σ 0) k) (gAt (σ 0) s0))) else (verL (vAt (σ 0) x) (sndL (wAt (σ 0) k) (rowG (wAt (σ 0) k) (gAt (σ 0) s0))) (vAt (σ 0) x (1 + 4 * j)))).length → σ1 16 i = gi (if vAt (σ 0) x (1 + 4 * j) = 8 then (sndL (wAt (σ 0) k) (rowG (wAt (σ 0) k) (gAt (σ 0) s0))) else (verL (vAt (σ 0) x) (sndL (wAt (σ 0) k) (rowG (wAt (σ 0) k) (gAt (σ 0) s0))) (vAt (σ 0) x (1 + 4 * j)))) i) ∨ (0 ≤ vr σ1 (1 + 4 * j) ∧ vr σ1 (1 + 4 * j) ≤ 7 ∧ Vr σ1 (vr σ1 (1 + 4 * j)) (if vAt (σ 0) x (1 + 4 * j) = 8 then (sndL (wAt (σ 0) k) (rowG (wAt (σ 0) k) (gAt (σ 0) s0))) else (verL (vAt (σ 0) x) (sndL (wAt (σ 0) k) (rowG (wAt (σ 0) k) (gAt (σ 0) s0))) (vAt (σ 0) x (1 + 4 * j))))) := by
                rw [vq]
                rcases hpj with z | z
                · rw [if_pos z]; exact Or.inl ⟨z, by omega, fun i i1 i2 => by rw [sndL_at (by omega)]; exact s16 i i1 (by omega)⟩
                · rw [if_neg (by omega)]; exact Or.inr ⟨z.1, by omega, hvs _ z.1 (by omega)⟩
              have hcl : (if vAt (σ 0) x (1 + 4 * j) = 8 then (sndL (wAt (σ 0) k) (rowG (wAt (σ 0) k) (gAt (σ 0) s0))) else (verL (vAt (σ 0) x) (sndL (wAt (σ 0) k) (rowG (wAt (σ 0) k) (gAt (σ 0) s0))) (vAt (σ 0) x (1 + 4 * j)))).length ≤ 60 ∧ (vr σ1 (1 + 4 * j) = 8 → (if vAt (σ 0) x (1 + 4 * j) = 8 then (sndL (wAt (σ 0) k) (rowG (wAt (σ 0) k) (gAt (σ 0) s0))) else (verL (vAt (σ 0) x) (sndL (wAt (σ 0) k) (rowG (wAt (σ 0) k) (gAt (σ 0) s0))) (vAt (σ 0) x (1 + 4 * j)))).length ≤ 24) := by
                rw [vq]
                rcases hpj with z | z
                · rw [if_pos z]; omega
                · rw [if_neg (by omega)]; exact ⟨verL_len, fun q => absurd q (by omega)⟩
              have hcm : ∀ q ∈ (if vAt (σ 0) x (1 + 4 * j) = 8 then (sndL (wAt (σ 0) k) (rowG (wAt (σ 0) k) (gAt (σ 0) s0))) else (verL (vAt (σ 0) x) (sndL (wAt (σ 0) k) (rowG (wAt (σ 0) k) (gAt (σ 0) s0))) (vAt (σ 0) x (1 + 4 * j)))), 0 ≤ q ∧ q ≤ 3 := by
                rcases hpj with z | z
                · rw [if_pos z]; exact hbm
                · rw [if_neg (by omega)]; exact verL_mem hbm hV _ _ z.1 (by omega) (Nat.le_refl _)
              refine lv_aload_n S.1 S.2.1 dX5_areTold_56 rfl (lv_at hl 1 rfl) ?_
              refine lv_iload S.1 S.2.1 dX5_areTold_57 (lv_at hl 0 rfl) ?_
              refine c_VSv S hW (tX5_changes l G ad σ1 j (if vAt (σ 0) x (1 + 4 * j) = 8 then (sndL (wAt (σ 0) k) (rowG (wAt (σ 0) k) (gAt (σ 0) s0))) else (verL (vAt (σ 0) x) (sndL (wAt (σ 0) k) (rowG (wAt (σ 0) k) (gAt (σ 0) s0))) (vAt (σ 0) x (1 + 4 * j)))) (by omega) (by rw [vq]; exact hV) (by rw [vq]; omega) (hcp) (hcl) (hcm)) (cw_X5_349 S.2.2.2.2 ⟨Nat.le_of_ble_eq_true rfl, Nat.le_of_ble_eq_true rfl⟩) eBlind_T (fun _ _ _ => trivial) (w_recv hW (q0 := 0) rfl rfl) rfl hl.1 (rest := []) rfl (Nat.le_of_ble_eq_true rfl) dX5_areTold_59 ⟨Nat.le_of_ble_eq_true rfl, Nat.le_of_ble_eq_true rfl⟩ (fun σ59 H locs q59 hW => ?_)
              obtain ⟨q59_v, q59_ot, q59_sm⟩ := q59
              rw [vq] at q59_v
              have hvj : verL (vAt (σ 0) x) (sndL (wAt (σ 0) k) (rowG (wAt (σ 0) k) (gAt (σ 0) s0))) j = tel (vAt (σ 0) x (1 + 4 * j + 1)) (vAt (σ 0) x (1 + 4 * j + 2)) (vAt (σ 0) x (1 + 4 * j + 3)) (if vAt (σ 0) x (1 + 4 * j) = 8 then (sndL (wAt (σ 0) k) (rowG (wAt (σ 0) k) (gAt (σ 0) s0))) else (verL (vAt (σ 0) x) (sndL (wAt (σ 0) k) (rowG (wAt (σ 0) k) (gAt (σ 0) s0))) (vAt (σ 0) x (1 + 4 * j)))) := by rcases hpj with z | z; (rw [if_pos z]; exact verL_8 z (by omega)); (rw [if_neg (by omega)]; exact verL_p z)
              refine lv_iinc (v := iI (j + 1)) (lv' := [(5, .int (iI (j + 1))), (0, .ref (ad 0)), (1, .int (iI k)), (2, .int (iI s0)), (3, .int (iI x)), (4, .int (iI y))]) S.1 S.2.1 dX5_areTold_62 hl (k := 0) rfl (iI_add _ _) (by decide) rfl (fun ls hl => ?_)
              refine lv_goto (tgt := 42) S.1 S.2.1 dX5_areTold_65 rfl ?_
              exact ih_42 (j + 1) σ59 H _ _ (by omega) (same_tr hsm q59_sm (by decide)) (fun i i1 i2 => (show i < j ∨ i = j by omega).elim (fun h3 => q59_ot i _ (by omega) verL_len (hvs i i1 h3)) (fun h3 => by rw [h3, hvj]; exact q59_v)) (by omega) hW (lv_sub hl [0, 1, 2, 3, 4, 5] rfl)
        exact cut_42 _ 0 σ11 H _ _ (by omega) (same_rf) (fun i i1 i2 => absurd i2 (by omega)) (Nat.lt_succ_self _) hW (lv_sub hl [0, 1, 2, 3, 4, 5] rfl)
      ·
        refine r_iconst S dX5_areTold_37 ?_
        exact e_zS S hr hlk hW (by decide) ⟨false, rfl, ⟨((dP_f.mpr (fun z => by first | exact absurd z.1 (by assumption) | exact absurd z.2 (by omega))).symm), (by first | exact same_w q3_sm (by decide) | exact same_tr (same_w q3_sm (by decide)) q11_sm (by decide)), (fun z => by first | exact absurd z.1 (by assumption) | exact absurd z.2 (by omega))⟩⟩ dX5_areTold_38
