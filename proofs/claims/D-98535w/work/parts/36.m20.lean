set_option maxHeartbeats 4000000 in
theorem tX5_below (l : Launch) (G : GG) (ad : Nat → Nat) (σ : St) (n : Int) (hn : 0 < n ∧ n < 1000) : Met l yX5_below (ws_ yX5_below cX5_below 2 (some .int)) ⟨0, 0, 0, 0⟩ (wPre G shM ad σ (fun _ => True) [.ref (ad 0), .int (iI n)]) (qS G shM ad (aM ad) (rI (fun r σ' => (r = ushrI (nxt (σ 33 0)) 16 % n) ∧ (σ' 33 0 = nxt (σ 33 0)) ∧ (same [33] σ σ')))) 0 0 (aM ad) := by
  refine wStart (by decide) (Nat.le_of_ble_eq_true rfl) (fun k hk => ⟨k, hk, rfl⟩) (fun p e s m below meth c S hr hlk _ _ ls hW hl => ?_)
  have hl : lv_has ls 2 [(0, .ref (ad 0)), (1, .int (iI n))] := hl
  have hu := ushr16 (nxt (σ 33 0))
  refine lv_aload_n S.1 S.2.1 dX5_below_0 rfl (lv_at hl 0 rfl) ?_
  refine lv_aload_n S.1 S.2.1 dX5_below_1 rfl (lv_at hl 0 rfl) ?_
  refine w_geti S hW in_X5 0 rfl rfl 33 (by decide) q1684 rfl rfl dX5_below_2 ?_
  refine r_ldcw (z := 1103515245) S q2140 (by decide) dX5_below_5 ?_
  refine r_imul S dX5_below_8 ?_
  refine r_sipush S dX5_below_9 (by decide) ?_
  refine r_iadd S dX5_below_12 ?_
  refine r_as (nxt (σ 33 0)) (rfl) ?_
  refine w_puti S hW in_X5 tyX5 tyX5_ok nmX5 0 rfl rfl 33 (by decide) q1684 rfl rfl rfl rfl rfl (z := (nxt (σ 33 0))) rfl dX5_below_13 (fun H locs hW => ?_)
  refine lv_aload_n S.1 S.2.1 dX5_below_16 rfl (lv_at hl 0 rfl) ?_
  refine w_geti S hW in_X5 0 rfl rfl 33 (by decide) q1684 rfl rfl dX5_below_17 ?_
  refine r_as (nxt (σ 33 0)) up_self ?_
  refine r_bipush S dX5_below_20 (by decide) ?_
  refine r_iushr S dX5_below_22 ?_
  refine lv_iload_n S.1 S.2.1 dX5_below_23 rfl (lv_at hl 1 rfl) ?_
  refine r_irem S dX5_below_24 (by omega) ?_
  exact e_iS S hr hlk hW ⟨((ushrI (nxt (σ 33 0)) 16) % n), rfl, ⟨(by rfl), (by simp [up, nxt]), (same_up same_rf (by decide))⟩⟩ dX5_below_25
set_option maxHeartbeats 4000000 in
theorem tX5_madeAlike (l : Launch) (G : GG) (ad : Nat → Nat) (σ : St) (L : List (Int × Int)) (s1 : Int) (hWf : WfWar (wr σ)) (hL : L.length ≤ 24) (m0 : Mad σ (wr σ) L s1 0) (m1 : Mad σ (wr σ) L s1 1) : Met l yX5_madeAlike (ws_ yX5_madeAlike cX5_madeAlike 3 (some .boolean)) ⟨0, 0, 0, 0⟩ (wPre G shM ad σ (fun _ => True) [.ref (ad 0)]) (qP (.int (iI (b2i (dP (alk (wr σ) L s1)))))) 0 0 (aM ad) := by
  refine wStart (by decide) (Nat.le_of_ble_eq_true rfl) (fun k hk => ⟨k, hk, rfl⟩) (fun p e s m below meth c S hr hlk _ _ ls hW hl => ?_)
  have hl : lv_has ls 3 [(0, .ref (ad 0))] := hl
  have hA0 := hWf.2.2.2.2 0 (by omega) (by omega)
  have hA1 := hWf.2.2.2.2 1 (by omega) (by omega)
  have l0 := mvs_len (s := s1) hA0 hL
  have l1 := mvs_len (s := s1) hA1 hL
  have a0 := m0.1
  have a1 := m1.1
  refine lv_aload_n S.1 S.2.1 dX5_madeAlike_0 rfl (lv_at hl 0 rfl) ?_
  refine w_getr S hW in_X5 0 rfl rfl 22 (by decide) q1673 rfl rfl dX5_madeAlike_1 ?_
  refine r_iconst S dX5_madeAlike_4 ?_
  refine w_ald S hW 13 0 rfl rfl (by omega) dX5_madeAlike_5 ?_
  refine lv_aload_n S.1 S.2.1 dX5_madeAlike_6 rfl (lv_at hl 0 rfl) ?_
  refine w_getr S hW in_X5 0 rfl rfl 22 (by decide) q1673 rfl rfl dX5_madeAlike_7 ?_
  refine r_iconst S dX5_madeAlike_10 ?_
  refine w_ald S hW 13 0 rfl rfl (by omega) dX5_madeAlike_11 ?_
  have cut_23 : ∀ (N_23 : Nat) (i : Int) (locs : List Loc) (ls : Array Slot), (0 ≤ i ∧ i ≤ (mvs (wr σ) L s1 0).length) → (((mvs (wr σ) L s1 0).length - i).toNat) < N_23 → WD G shM ad (aM ad) s s.heap σ s.heap locs → lv_has ls 3 [(0, .ref (ad 0)), (1, .int (iI (b2i (dP (((mvs (wr σ) L s1 0).length : Int) = (mvs (wr σ) L s1 1).length ∧ allU (fun j => oMove (wr σ) 0 (rf (mvs (wr σ) L s1 0) j) = oMove (wr σ) 1 (rf (mvs (wr σ) L s1 1) j)) i))))), (2, .int (iI i))] → W p l e (⟨0, 0, 0, 0⟩ : Room) s m ([.ref (ad 0)] : List Value).toArray below meth c s.heap locs 0 0 (MQ below (qP (.int (iI (b2i (dP (alk (wr σ) L s1)))))) ([.ref (ad 0)] : List Value).toArray s 0 0 (aM ad)) (F0 m 23 ls []) := by
    intro N_23
    induction N_23 with
    | zero =>
      intro i locs ls hi hμ_23 hW hl
      exact absurd hμ_23 (by omega)
    | succ N_23 ih_23 =>
      intro i locs ls hi hμ_23 hW hl
      refine lv_iload_n S.1 S.2.1 dX5_madeAlike_23 rfl (lv_at hl 2 rfl) ?_
      refine lv_aload_n S.1 S.2.1 dX5_madeAlike_24 rfl (lv_at hl 0 rfl) ?_
      refine w_getr S hW in_X5 0 rfl rfl 22 (by decide) q1673 rfl rfl dX5_madeAlike_25 ?_
      refine r_iconst S dX5_madeAlike_28 ?_
      refine w_ald S hW 13 0 rfl rfl (by omega) dX5_madeAlike_29 ?_
      refine r_icmp_ge S (tgt := 67) dX5_madeAlike_30 rfl (by omega) (fun c_30 => ?_) (fun c_30 => ?_)
      ·
        refine lv_iload_n S.1 S.2.1 dX5_madeAlike_67 rfl (lv_at hl 1 rfl) ?_
        exact e_zP S hr hlk hW.2.2.2.2 (congrArg b2i (dP_c (by first | exact ⟨fun z => ⟨z.1, fun j j1 j2 => z.2 j j1 (by omega)⟩, fun z => ⟨z.1, fun j j1 j2 => z.2 j j1 (by omega)⟩⟩ | exact ⟨fun z => absurd z c_34, fun z => absurd ⟨z.1, fun j j1 j2 => z.2 j j1 (by omega)⟩ c_34⟩))) dX5_madeAlike_68
      ·
        refine lv_iload_n S.1 S.2.1 dX5_madeAlike_33 rfl (lv_at hl 1 rfl) ?_
        refine r_ifeq_p S (tgt := 67) dX5_madeAlike_34 rfl (fun c_34 => ?_) (fun c_34 => ?_)
        ·
          refine lv_iload_n S.1 S.2.1 dX5_madeAlike_67 rfl (lv_at hl 1 rfl) ?_
          exact e_zP S hr hlk hW.2.2.2.2 (congrArg b2i (dP_c (by first | exact ⟨fun z => ⟨z.1, fun j j1 j2 => z.2 j j1 (by omega)⟩, fun z => ⟨z.1, fun j j1 j2 => z.2 j j1 (by omega)⟩⟩ | exact ⟨fun z => absurd z c_34, fun z => absurd ⟨z.1, fun j j1 j2 => z.2 j j1 (by omega)⟩ c_34⟩))) dX5_madeAlike_68
        ·
          have hle := c_34.1
          have q1 : σ 19 i = oMove (wr σ) 0 (rf (mvs (wr σ) L s1 0) i) := by have := (m0.2.2 i (by omega) (by omega)).1; rw [show 24 * 0 + i = i by omega] at this; exact this
          have q2 : σ 19 (24 + i) = oMove (wr σ) 1 (rf (mvs (wr σ) L s1 1) i) := (m1.2.2 i (by omega) (by omega)).1
          have b0 := mvs_at (s := s1) (L := L) hA0 (j := i) (by omega)
          have b1 := mvs_at (s := s1) (L := L) hA1 (j := i) (by omega)
          have p1 := (hA0.2.2.2.2.2 _ b0.1 b0.2.1).1
          have p2_ := (hA1.2.2.2.2.2 _ b1.1 b1.2.1).1
          rw [← q1] at p1
          rw [← q2] at p2_
          refine lv_aload_n S.1 S.2.1 dX5_madeAlike_37 rfl (lv_at hl 0 rfl) ?_
          refine w_getr S hW in_X5 0 rfl rfl 19 (by decide) q1670 rfl rfl dX5_madeAlike_38 ?_
          refine lv_iload_n S.1 S.2.1 dX5_madeAlike_41 rfl (lv_at hl 2 rfl) ?_
          refine w_ald S hW 10 0 rfl rfl (by omega) dX5_madeAlike_42 ?_
          refine lv_aload_n S.1 S.2.1 dX5_madeAlike_43 rfl (lv_at hl 0 rfl) ?_
          refine w_getr S hW in_X5 0 rfl rfl 19 (by decide) q1670 rfl rfl dX5_madeAlike_44 ?_
          refine r_bipush S dX5_madeAlike_47 (by decide) ?_
          refine lv_iload_n S.1 S.2.1 dX5_madeAlike_49 rfl (lv_at hl 2 rfl) ?_
          refine r_iadd S dX5_madeAlike_50 ?_
          refine w_ald S hW 10 0 rfl rfl (by omega) dX5_madeAlike_51 ?_
          refine r_icmp_ne S (tgt := 59) dX5_madeAlike_52 rfl (by omega) (fun c_52 => ?_) (fun c_52 => ?_)
          ·
            refine r_iconst S dX5_madeAlike_59 ?_
            refine r_as (b2i (dP (((mvs (wr σ) L s1 0).length : Int) = (mvs (wr σ) L s1 1).length ∧ allU (fun j => oMove (wr σ) 0 (rf (mvs (wr σ) L s1 0) j) = oMove (wr σ) 1 (rf (mvs (wr σ) L s1 1) j)) (i + 1)))) (by first | exact dP_1 ⟨c_34.1, (allU_s c_34.2 hi.1).mpr (by rw [← q1, ← q2]; exact c_52)⟩ | exact dP_0 (fun z => c_52 (by rw [q1, q2]; exact (allU_s c_34.2 hi.1).mp z.2))) ?_
            refine lv_istore_n (lv' := [(1, .int (iI (b2i (dP (((mvs (wr σ) L s1 0).length : Int) = (mvs (wr σ) L s1 1).length ∧ allU (fun j => oMove (wr σ) 0 (rf (mvs (wr σ) L s1 0) j) = oMove (wr σ) 1 (rf (mvs (wr σ) L s1 1) j)) (i + 1)))))), (0, .ref (ad 0)), (2, .int (iI i))]) S.1 S.2.1 dX5_madeAlike_60 rfl hl (by decide) rfl (fun ls hl => ?_)
            refine lv_iinc (v := iI (i + 1)) (lv' := [(2, .int (iI (i + 1))), (1, .int (iI (b2i (dP (((mvs (wr σ) L s1 0).length : Int) = (mvs (wr σ) L s1 1).length ∧ allU (fun j => oMove (wr σ) 0 (rf (mvs (wr σ) L s1 0) j) = oMove (wr σ) 1 (rf (mvs (wr σ) L s1 1) j)) (i + 1)))))), (0, .ref (ad 0))]) S.1 S.2.1 dX5_madeAlike_61 hl (k := 2) rfl (iI_add _ _) (by decide) rfl (fun ls hl => ?_)
            refine lv_goto (tgt := 23) S.1 S.2.1 dX5_madeAlike_64 rfl ?_
            exact ih_23 (i + 1) _ _ (by omega) (by omega) hW (lv_sub hl [2, 1, 0] rfl)
          ·
            refine r_iconst S dX5_madeAlike_55 ?_
            refine lv_goto (tgt := 60) S.1 S.2.1 dX5_madeAlike_56 rfl ?_
            refine r_as (b2i (dP (((mvs (wr σ) L s1 0).length : Int) = (mvs (wr σ) L s1 1).length ∧ allU (fun j => oMove (wr σ) 0 (rf (mvs (wr σ) L s1 0) j) = oMove (wr σ) 1 (rf (mvs (wr σ) L s1 1) j)) (i + 1)))) (by first | exact dP_1 ⟨c_34.1, (allU_s c_34.2 hi.1).mpr (by rw [← q1, ← q2]; exact c_52)⟩ | exact dP_0 (fun z => c_52 (by rw [q1, q2]; exact (allU_s c_34.2 hi.1).mp z.2))) ?_
            refine lv_istore_n (lv' := [(1, .int (iI (b2i (dP (((mvs (wr σ) L s1 0).length : Int) = (mvs (wr σ) L s1 1).length ∧ allU (fun j => oMove (wr σ) 0 (rf (mvs (wr σ) L s1 0) j) = oMove (wr σ) 1 (rf (mvs (wr σ) L s1 1) j)) (i + 1)))))), (0, .ref (ad 0)), (2, .int (iI i))]) S.1 S.2.1 dX5_madeAlike_60 rfl hl (by decide) rfl (fun ls hl => ?_)
            refine lv_iinc (v := iI (i + 1)) (lv' := [(2, .int (iI (i + 1))), (1, .int (iI (b2i (dP (((mvs (wr σ) L s1 0).length : Int) = (mvs (wr σ) L s1 1).length ∧ allU (fun j => oMove (wr σ) 0 (rf (mvs (wr σ) L s1 0) j) = oMove (wr σ) 1 (rf (mvs (wr σ) L s1 1) j)) (i + 1)))))), (0, .ref (ad 0))]) S.1 S.2.1 dX5_madeAlike_61 hl (k := 2) rfl (iI_add _ _) (by decide) rfl (fun ls hl => ?_)
            refine lv_goto (tgt := 23) S.1 S.2.1 dX5_madeAlike_64 rfl ?_
            exact ih_23 (i + 1) _ _ (by omega) (by omega) hW (lv_sub hl [2, 1, 0] rfl)
  refine r_icmp_ne S (tgt := 19) dX5_madeAlike_12 rfl (by omega) (fun c_12 => ?_) (fun c_12 => ?_)
  ·
    refine r_iconst S dX5_madeAlike_19 ?_
    refine r_as (b2i (dP (((mvs (wr σ) L s1 0).length : Int) = (mvs (wr σ) L s1 1).length ∧ allU (fun j => oMove (wr σ) 0 (rf (mvs (wr σ) L s1 0) j) = oMove (wr σ) 1 (rf (mvs (wr σ) L s1 1) j)) 0))) (by first | exact dP_1 ⟨by omega, allU_0⟩ | exact dP_0 (fun z => absurd z.1 (by omega))) ?_
    refine lv_istore_n (lv' := [(1, .int (iI (b2i (dP (((mvs (wr σ) L s1 0).length : Int) = (mvs (wr σ) L s1 1).length ∧ allU (fun j => oMove (wr σ) 0 (rf (mvs (wr σ) L s1 0) j) = oMove (wr σ) 1 (rf (mvs (wr σ) L s1 1) j)) 0))))), (0, .ref (ad 0))]) S.1 S.2.1 dX5_madeAlike_20 rfl hl (by decide) rfl (fun ls hl => ?_)
    refine r_iconst S dX5_madeAlike_21 ?_
    refine lv_istore_n (lv' := [(2, .int (iI 0)), (1, .int (iI (b2i (dP (((mvs (wr σ) L s1 0).length : Int) = (mvs (wr σ) L s1 1).length ∧ allU (fun j => oMove (wr σ) 0 (rf (mvs (wr σ) L s1 0) j) = oMove (wr σ) 1 (rf (mvs (wr σ) L s1 1) j)) 0))))), (0, .ref (ad 0))]) S.1 S.2.1 dX5_madeAlike_22 rfl hl (by decide) rfl (fun ls hl => ?_)
    exact cut_23 _ 0 _ _ (by omega) (Nat.lt_succ_self _) hW (lv_sub hl [2, 1, 0] rfl)
  ·
    refine r_iconst S dX5_madeAlike_15 ?_
    refine lv_goto (tgt := 20) S.1 S.2.1 dX5_madeAlike_16 rfl ?_
    refine r_as (b2i (dP (((mvs (wr σ) L s1 0).length : Int) = (mvs (wr σ) L s1 1).length ∧ allU (fun j => oMove (wr σ) 0 (rf (mvs (wr σ) L s1 0) j) = oMove (wr σ) 1 (rf (mvs (wr σ) L s1 1) j)) 0))) (by first | exact dP_1 ⟨by omega, allU_0⟩ | exact dP_0 (fun z => absurd z.1 (by omega))) ?_
    refine lv_istore_n (lv' := [(1, .int (iI (b2i (dP (((mvs (wr σ) L s1 0).length : Int) = (mvs (wr σ) L s1 1).length ∧ allU (fun j => oMove (wr σ) 0 (rf (mvs (wr σ) L s1 0) j) = oMove (wr σ) 1 (rf (mvs (wr σ) L s1 1) j)) 0))))), (0, .ref (ad 0))]) S.1 S.2.1 dX5_madeAlike_20 rfl hl (by decide) rfl (fun ls hl => ?_)
    refine r_iconst S dX5_madeAlike_21 ?_
    refine lv_istore_n (lv' := [(2, .int (iI 0)), (1, .int (iI (b2i (dP (((mvs (wr σ) L s1 0).length : Int) = (mvs (wr σ) L s1 1).length ∧ allU (fun j => oMove (wr σ) 0 (rf (mvs (wr σ) L s1 0) j) = oMove (wr σ) 1 (rf (mvs (wr σ) L s1 1) j)) 0))))), (0, .ref (ad 0))]) S.1 S.2.1 dX5_madeAlike_22 rfl hl (by decide) rfl (fun ls hl => ?_)
    exact cut_23 _ 0 _ _ (by omega) (Nat.lt_succ_self _) hW (lv_sub hl [2, 1, 0] rfl)
set_option maxHeartbeats 4000000 in
theorem tX5_alikeFrom (l : Launch) (G : GG) (ad : Nat → Nat) (σ : St) (i : Int) (j : Int) (L : List (Int × Int)) (hw0 : 0 ≤ σ 10 0 ∧ σ 10 0 ≤ 700) (hWf : WfWar (wr σ)) (hn : σ 18 0 = L.length) (hL : L.length ≤ 24) (hv : rowV L) (hs : fil σ 16 L.length (sd (wr σ) (rf L) 0)) (hij : 0 ≤ i ∧ i ≤ 24 ∧ 0 ≤ j ∧ j ≤ 24) : Met l yX5_alikeFrom (ws_ yX5_alikeFrom cX5_alikeFrom 4 (some .int)) ⟨3, 0, 0, 65⟩ (wPre G shM ad σ (fun _ => True) [.ref (ad 0), .int (iI i), .int (iI j)]) (qP (.int (iI (lcf (wr σ) L i j)))) 0 0 (aM ad) := by
  refine wStart (by decide) (Nat.le_of_ble_eq_true rfl) (fun k hk => ⟨k, hk, rfl⟩) (fun p e s m below meth c S hr hlk _ _ ls hW hl => ?_)
  have hl : lv_has ls 4 [(0, .ref (ad 0)), (1, .int (iI i)), (2, .int (iI j))] := hl
  have hA0 := hWf.2.2.2.2 0 (by omega) (by omega)
  have hA1 := hWf.2.2.2.2 1 (by omega) (by omega)
  have h0 := hrs_rng (n := σ 18 0) hA0 (by omega)
  have h1 := hrs_rng (n := σ 18 0) hA1 (by omega)
  have hne0 : hrs (wr σ) (σ 18 0) 0 = hrs (wr σ) L.length 0 := by rw [hn]
  have hne1 : hrs (wr σ) (σ 18 0) 1 = hrs (wr σ) L.length 1 := by rw [hn]
  refine r_iconst S dX5_alikeFrom_0 ?_
  refine lv_istore_n (lv' := [(3, .int (iI 0)), (0, .ref (ad 0)), (1, .int (iI i)), (2, .int (iI j))]) S.1 S.2.1 dX5_alikeFrom_1 rfl hl (by decide) rfl (fun ls hl => ?_)
  have cut_2 : ∀ (N_2 : Nat) (n : Int) (locs : List Loc) (ls : Array Slot), (0 ≤ n ∧ i + n ≤ hrs (wr σ) L.length 0 ∨ n = 0) → (lcU (cmP (wr σ) L i j) (25 - n).toNat n = lcf (wr σ) L i j) → ((25 - n).toNat) < N_2 → WD G shM ad (aM ad) s s.heap σ s.heap locs → lv_has ls 4 [(3, .int (iI n)), (0, .ref (ad 0)), (1, .int (iI i)), (2, .int (iI j))] → W p l e (⟨3, 0, 0, 65⟩ : Room) s m ([.ref (ad 0), .int (iI i), .int (iI j)] : List Value).toArray below meth c s.heap locs 0 0 (MQ below (qP (.int (iI (lcf (wr σ) L i j)))) ([.ref (ad 0), .int (iI i), .int (iI j)] : List Value).toArray s 0 0 (aM ad)) (F0 m 2 ls []) := by
    intro N_2
    induction N_2 with
    | zero =>
      intro n locs ls hn2 hf hμ_2 hW hl
      exact absurd hμ_2 (by omega)
    | succ N_2 ih_2 =>
      intro n locs ls hn2 hf hμ_2 hW hl
      refine lv_iload_n S.1 S.2.1 dX5_alikeFrom_2 rfl (lv_at hl 2 rfl) ?_
      refine lv_iload_n S.1 S.2.1 dX5_alikeFrom_3 rfl (lv_at hl 0 rfl) ?_
      refine r_iadd S dX5_alikeFrom_4 ?_
      refine lv_aload_n S.1 S.2.1 dX5_alikeFrom_5 rfl (lv_at hl 1 rfl) ?_
      refine r_iconst S dX5_alikeFrom_6 ?_
      refine c_VP S hW (tX5_hears l G ad σ 0 (by omega) (by omega) (by omega) (by omega)) (cw_X5_261 S.2.2.2.2 ⟨Nat.le_of_ble_eq_true rfl, Nat.le_of_ble_eq_true rfl⟩) eBlind_T (fun _ _ _ => trivial) (w_recv hW (q0 := 0) rfl rfl) rfl hl.1 (rest := [.int (iI (i + n))]) rfl (Nat.le_of_ble_eq_true rfl) dX5_alikeFrom_7 ⟨Nat.le_of_ble_eq_true rfl, Nat.le_of_ble_eq_true rfl⟩ (fun locs hW => ?_)
      refine r_icmp_ge S (tgt := 49) dX5_alikeFrom_10 rfl (by omega) (fun c_10 => ?_) (fun c_10 => ?_)
      ·
        refine lv_iload_n S.1 S.2.1 dX5_alikeFrom_49 rfl (lv_at hl 0 rfl) ?_
        exact e_iP S hr hlk hW.2.2.2.2 (by rw [← hf, show (25 - n).toNat = (24 - n).toNat + 1 by omega, lcU_n (fun z => by first | exact c_40 (by have := z.2.2; unfold hrd at this; rw [← s0, ← s1] at this; exact this) | (have z1 := z.1; have z2 := z.2.1; omega))]) dX5_alikeFrom_50
      ·
        refine lv_iload_n S.1 S.2.1 dX5_alikeFrom_13 rfl (lv_at hl 3 rfl) ?_
        refine lv_iload_n S.1 S.2.1 dX5_alikeFrom_14 rfl (lv_at hl 0 rfl) ?_
        refine r_iadd S dX5_alikeFrom_15 ?_
        refine lv_aload_n S.1 S.2.1 dX5_alikeFrom_16 rfl (lv_at hl 1 rfl) ?_
        refine r_iconst S dX5_alikeFrom_17 ?_
        refine c_VP S hW (tX5_hears l G ad σ 1 (by omega) (by omega) (by omega) (by omega)) (cw_X5_261 S.2.2.2.2 ⟨Nat.le_of_ble_eq_true rfl, Nat.le_of_ble_eq_true rfl⟩) eBlind_T (fun _ _ _ => trivial) (w_recv hW (q0 := 0) rfl rfl) rfl hl.1 (rest := [.int (iI (j + n))]) rfl (Nat.le_of_ble_eq_true rfl) dX5_alikeFrom_18 ⟨Nat.le_of_ble_eq_true rfl, Nat.le_of_ble_eq_true rfl⟩ (fun locs hW => ?_)
        refine r_icmp_ge S (tgt := 49) dX5_alikeFrom_21 rfl (by omega) (fun c_21 => ?_) (fun c_21 => ?_)
        ·
          refine lv_iload_n S.1 S.2.1 dX5_alikeFrom_49 rfl (lv_at hl 0 rfl) ?_
          exact e_iP S hr hlk hW.2.2.2.2 (by rw [← hf, show (25 - n).toNat = (24 - n).toNat + 1 by omega, lcU_n (fun z => by first | exact c_40 (by have := z.2.2; unfold hrd at this; rw [← s0, ← s1] at this; exact this) | (have z1 := z.1; have z2 := z.2.1; omega))]) dX5_alikeFrom_50
        ·
          have p0 := plc_rng hA0 (k := i + n) (n := L.length) (by omega) (by omega)
          have p1 := plc_rng hA1 (k := j + n) (n := L.length) (by omega) (by omega)
          have s0 := hs _ p0.1 p0.2
          have s1 := hs _ p1.1 p1.2
          have r0 := sd_rng (s := 0) hWf (hv _ p0.1 p0.2)
          have r1 := sd_rng (s := 0) hWf (hv _ p1.1 p1.2)
          rw [← s0] at r0
          rw [← s1] at r1
          refine lv_aload_n S.1 S.2.1 dX5_alikeFrom_24 rfl (lv_at hl 1 rfl) ?_
          refine r_iconst S dX5_alikeFrom_25 ?_
          refine lv_iload_n S.1 S.2.1 dX5_alikeFrom_26 rfl (lv_at hl 2 rfl) ?_
          refine lv_iload_n S.1 S.2.1 dX5_alikeFrom_27 rfl (lv_at hl 0 rfl) ?_
          refine r_iadd S dX5_alikeFrom_28 ?_
          refine c_VP S hW (tX5_heardAt l G ad σ 0 (i + n) (by omega) (by omega) (⟨by omega, by omega⟩)) (cw_X5_264 S.2.2.2.2 ⟨Nat.le_of_ble_eq_true rfl, Nat.le_of_ble_eq_true rfl⟩) eBlind_T (fun _ _ _ => trivial) (w_recv hW (q0 := 0) rfl rfl) rfl hl.1 (rest := []) rfl (Nat.le_of_ble_eq_true rfl) dX5_alikeFrom_29 ⟨Nat.le_of_ble_eq_true rfl, Nat.le_of_ble_eq_true rfl⟩ (fun locs hW => ?_)
          refine lv_aload_n S.1 S.2.1 dX5_alikeFrom_32 rfl (lv_at hl 1 rfl) ?_
          refine r_iconst S dX5_alikeFrom_33 ?_
          refine lv_iload_n S.1 S.2.1 dX5_alikeFrom_34 rfl (lv_at hl 3 rfl) ?_
          refine lv_iload_n S.1 S.2.1 dX5_alikeFrom_35 rfl (lv_at hl 0 rfl) ?_
          refine r_iadd S dX5_alikeFrom_36 ?_
          refine c_VP S hW (tX5_heardAt l G ad σ 1 (j + n) (by omega) (by omega) (⟨by omega, by omega⟩)) (cw_X5_264 S.2.2.2.2 ⟨Nat.le_of_ble_eq_true rfl, Nat.le_of_ble_eq_true rfl⟩) eBlind_T (fun _ _ _ => trivial) (w_recv hW (q0 := 0) rfl rfl) rfl hl.1 (rest := [.int (iI (σ 16 (plc (wr σ) 0 (i + n))))]) rfl (Nat.le_of_ble_eq_true rfl) dX5_alikeFrom_37 ⟨Nat.le_of_ble_eq_true rfl, Nat.le_of_ble_eq_true rfl⟩ (fun locs hW => ?_)
          refine r_icmp_ne S (tgt := 49) dX5_alikeFrom_40 rfl (by omega) (fun c_40 => ?_) (fun c_40 => ?_)
          ·
            refine lv_iload_n S.1 S.2.1 dX5_alikeFrom_49 rfl (lv_at hl 0 rfl) ?_
            exact e_iP S hr hlk hW.2.2.2.2 (by rw [← hf, show (25 - n).toNat = (24 - n).toNat + 1 by omega, lcU_n (fun z => by first | exact c_40 (by have := z.2.2; unfold hrd at this; rw [← s0, ← s1] at this; exact this) | (have z1 := z.1; have z2 := z.2.1; omega))]) dX5_alikeFrom_50
          ·
            have hcm : (cmP (wr σ) L i j) n := ⟨by omega, by omega, by unfold hrd; rw [← s0, ← s1]; exact c_40⟩
            refine lv_iinc (v := iI (n + 1)) (lv' := [(3, .int (iI (n + 1))), (0, .ref (ad 0)), (1, .int (iI i)), (2, .int (iI j))]) S.1 S.2.1 dX5_alikeFrom_43 hl (k := 0) rfl (iI_add _ _) (by decide) rfl (fun ls hl => ?_)
            refine lv_goto (tgt := 2) S.1 S.2.1 dX5_alikeFrom_46 rfl ?_
            exact ih_2 (n + 1) _ _ (by omega) (by rw [← hf, show (25 - n).toNat = (25 - (n + 1)).toNat + 1 by omega, lcU_y hcm]) (by omega) hW (lv_sub hl [0, 1, 2, 3] rfl)
  exact cut_2 _ 0 _ _ (by omega) (rfl) (Nat.lt_succ_self _) hW (lv_sub hl [0, 1, 2, 3] rfl)
set_option maxHeartbeats 4000000 in
theorem tX5_period (l : Launch) (G : GG) (ad : Nat → Nat) (σ : St) (L : List (Int × Int)) (hw0 : 0 ≤ σ 10 0 ∧ σ 10 0 ≤ 700) (hWf : WfWar (wr σ)) (hn : σ 18 0 = L.length) (hL : L.length ≤ 24) (hv : rowV L) (hs : fil σ 16 L.length (sd (wr σ) (rf L) 0)) : Met l yX5_period (ws_ yX5_period cX5_period 4 (some .int)) ⟨0, 0, 0, 0⟩ (wPre G shM ad σ (fun _ => True) [.ref (ad 0)]) (qP (.int (iI (per (wr σ) L)))) 0 0 (aM ad) := by
  refine wStart (by decide) (Nat.le_of_ble_eq_true rfl) (fun k hk => ⟨k, hk, rfl⟩) (fun p e s m below meth c S hr hlk _ _ ls hW hl => ?_)
  have hl : lv_has ls 4 [(0, .ref (ad 0))] := hl
  refine r_iconst S dX5_period_0 ?_
  refine lv_istore_n (lv' := [(1, .int (iI 1)), (0, .ref (ad 0))]) S.1 S.2.1 dX5_period_1 rfl hl (by decide) rfl (fun ls hl => ?_)
  have cut_2 : ∀ (N_2 : Nat) (n : Int) (locs : List Loc) (ls : Array Slot), (1 ≤ n ∧ (n ≤ L.length ∨ n = 1)) → (L.length = 0 ∨ prU (prP (wr σ) L) (25 - n).toNat n = per (wr σ) L) → ((L.length + 1 - n).toNat) < N_2 → WD G shM ad (aM ad) s s.heap σ s.heap locs → lv_has ls 4 [(1, .int (iI n)), (0, .ref (ad 0))] → W p l e (⟨0, 0, 0, 0⟩ : Room) s m ([.ref (ad 0)] : List Value).toArray below meth c s.heap locs 0 0 (MQ below (qP (.int (iI (per (wr σ) L)))) ([.ref (ad 0)] : List Value).toArray s 0 0 (aM ad)) (F0 m 2 ls []) := by
    intro N_2
    induction N_2 with
    | zero =>
      intro n locs ls hn2 hf hμ_2 hW hl
      exact absurd hμ_2 (by omega)
    | succ N_2 ih_2 =>
      intro n locs ls hn2 hf hμ_2 hW hl
      refine lv_iload_n S.1 S.2.1 dX5_period_2 rfl (lv_at hl 0 rfl) ?_
      refine lv_aload_n S.1 S.2.1 dX5_period_3 rfl (lv_at hl 1 rfl) ?_
      refine w_geti S hW in_X5 0 rfl rfl 18 (by decide) q1669 rfl rfl dX5_period_4 ?_
      refine r_icmp_ge S (tgt := 69) dX5_period_7 rfl (by omega) (fun c_7 => ?_) (fun c_7 => ?_)
      ·
        refine lv_aload_n S.1 S.2.1 dX5_period_69 rfl (lv_at hl 1 rfl) ?_
        refine w_geti S hW in_X5 0 rfl rfl 18 (by decide) q1669 rfl rfl dX5_period_70 ?_
        exact e_iP S hr hlk hW.2.2.2.2 (by rcases hf with z | z; (unfold per; rw [if_pos z]; omega); (unfold per; split; omega; (rename_i z9; unfold per at z; rw [if_neg z9] at z; rw [← z, prU_y (fun x x1 x2 => absurd x2 (by omega))]; omega))) dX5_period_73
      ·
        refine r_iconst S dX5_period_10 ?_
        refine r_as (b2i (dP (∀ x : Int, 0 ≤ x → x < 0 → sd (wr σ) (rf L) 0 x = sd (wr σ) (rf L) 0 (x + n)))) (dP_1 (fun x x1 x2 => absurd x2 (by omega))) ?_
        refine lv_istore_n (lv' := [(2, .int (iI (b2i (dP (∀ x : Int, 0 ≤ x → x < 0 → sd (wr σ) (rf L) 0 x = sd (wr σ) (rf L) 0 (x + n)))))), (1, .int (iI n)), (0, .ref (ad 0))]) S.1 S.2.1 dX5_period_11 rfl hl (by decide) rfl (fun ls hl => ?_)
        refine r_iconst S dX5_period_12 ?_
        refine lv_istore_n (lv' := [(3, .int (iI 0)), (2, .int (iI (b2i (dP (∀ x : Int, 0 ≤ x → x < 0 → sd (wr σ) (rf L) 0 x = sd (wr σ) (rf L) 0 (x + n)))))), (1, .int (iI n)), (0, .ref (ad 0))]) S.1 S.2.1 dX5_period_13 rfl hl (by decide) rfl (fun ls hl => ?_)
        have cut_14 : ∀ (N_14 : Nat) (k : Int) (locs : List Loc) (ls : Array Slot), (0 ≤ k ∧ k ≤ L.length - n) → ((L.length - k).toNat) < N_14 → WD G shM ad (aM ad) s s.heap σ s.heap locs → lv_has ls 4 [(3, .int (iI k)), (2, .int (iI (b2i (dP (∀ x : Int, 0 ≤ x → x < k → sd (wr σ) (rf L) 0 x = sd (wr σ) (rf L) 0 (x + n)))))), (1, .int (iI n)), (0, .ref (ad 0))] → W p l e (⟨0, 0, 0, 0⟩ : Room) s m ([.ref (ad 0)] : List Value).toArray below meth c s.heap locs 0 0 (MQ below (qP (.int (iI (per (wr σ) L)))) ([.ref (ad 0)] : List Value).toArray s 0 0 (aM ad)) (F0 m 14 ls []) := by
          intro N_14
          induction N_14 with
          | zero =>
            intro k locs ls hk hμ_14 hW hl
            exact absurd hμ_14 (by omega)
          | succ N_14 ih_14 =>
            intro k locs ls hk hμ_14 hW hl
            refine lv_iload_n S.1 S.2.1 dX5_period_14 rfl (lv_at hl 0 rfl) ?_
            refine lv_iload_n S.1 S.2.1 dX5_period_15 rfl (lv_at hl 2 rfl) ?_
            refine r_iadd S dX5_period_16 ?_
            refine lv_aload_n S.1 S.2.1 dX5_period_17 rfl (lv_at hl 3 rfl) ?_
            refine w_geti S hW in_X5 0 rfl rfl 18 (by decide) q1669 rfl rfl dX5_period_18 ?_
            refine r_icmp_ge S (tgt := 57) dX5_period_21 rfl (by omega) (fun c_21 => ?_) (fun c_21 => ?_)
            ·
              refine lv_iload_n S.1 S.2.1 dX5_period_57 rfl (lv_at hl 1 rfl) ?_
              refine r_ifeq_p S (tgt := 63) dX5_period_58 rfl (fun c_58 => ?_) (fun c_58 => ?_)
              ·
                have hnp : ¬ prP (wr σ) L n := fun z => c_58 (fun x x1 x2 => z x x1 (by omega))
                refine lv_iinc (v := iI (n + 1)) (lv' := [(1, .int (iI (n + 1))), (3, .int (iI k)), (2, .int (iI (b2i (dP (∀ x : Int, 0 ≤ x → x < k → sd (wr σ) (rf L) 0 x = sd (wr σ) (rf L) 0 (x + n)))))), (0, .ref (ad 0))]) S.1 S.2.1 dX5_period_63 hl (k := 2) rfl (iI_add _ _) (by decide) rfl (fun ls hl => ?_)
                refine lv_goto (tgt := 2) S.1 S.2.1 dX5_period_66 rfl ?_
                exact ih_2 (n + 1) _ _ (by omega) (by right; rw [← hf.resolve_left (by omega), show (25 - n).toNat = (25 - (n + 1)).toNat + 1 by omega, prU_n hnp]) (by omega) hW (lv_sub hl [0, 3] rfl)
              ·
                refine lv_iload_n S.1 S.2.1 dX5_period_61 rfl (lv_at hl 2 rfl) ?_
                exact e_iP S hr hlk hW.2.2.2.2 (by rw [← hf.resolve_left (by omega), prU_y (fun x x1 x2 => c_58 x x1 (by omega))]) dX5_period_62
            ·
              refine lv_iload_n S.1 S.2.1 dX5_period_24 rfl (lv_at hl 1 rfl) ?_
              refine r_ifeq_p S (tgt := 49) dX5_period_25 rfl (fun c_25 => ?_) (fun c_25 => ?_)
              ·
                refine r_iconst S dX5_period_49 ?_
                refine r_as (b2i (dP (∀ x : Int, 0 ≤ x → x < (k + 1) → sd (wr σ) (rf L) 0 x = sd (wr σ) (rf L) 0 (x + n)))) (by first | exact dP_1 (fun x x1 x2 => (show x < k ∨ x = k by omega).elim (fun h9 => c_25 x x1 h9) (fun h9 => by rw [h9, ← s0, ← s1]; exact c_42)) | exact dP_0 (fun z => c_25 (fun x x1 x2 => z x x1 (by omega))) | exact dP_0 (fun z => c_42 (by rw [s0, s1]; exact z k (by omega) (by omega)))) ?_
                refine lv_istore_n (lv' := [(2, .int (iI (b2i (dP (∀ x : Int, 0 ≤ x → x < (k + 1) → sd (wr σ) (rf L) 0 x = sd (wr σ) (rf L) 0 (x + n)))))), (3, .int (iI k)), (1, .int (iI n)), (0, .ref (ad 0))]) S.1 S.2.1 dX5_period_50 rfl hl (by decide) rfl (fun ls hl => ?_)
                refine lv_iinc (v := iI (k + 1)) (lv' := [(3, .int (iI (k + 1))), (2, .int (iI (b2i (dP (∀ x : Int, 0 ≤ x → x < (k + 1) → sd (wr σ) (rf L) 0 x = sd (wr σ) (rf L) 0 (x + n)))))), (1, .int (iI n)), (0, .ref (ad 0))]) S.1 S.2.1 dX5_period_51 hl (k := 1) rfl (iI_add _ _) (by decide) rfl (fun ls hl => ?_)
                refine lv_goto (tgt := 14) S.1 S.2.1 dX5_period_54 rfl ?_
                exact ih_14 (k + 1) _ _ (by omega) (by omega) hW (lv_sub hl [0, 1, 2, 3] rfl)
              ·
                have s0 := hs k (by omega) (by omega)
                have s1 := hs (k + n) (by omega) (by omega)
                have r0 := sd_rng (s := 0) hWf (hv k (by omega) (by omega))
                have r1 := sd_rng (s := 0) hWf (hv (k + n) (by omega) (by omega))
                rw [← s0] at r0
                rw [← s1] at r1
                refine lv_aload_n S.1 S.2.1 dX5_period_28 rfl (lv_at hl 3 rfl) ?_
                refine w_getr S hW in_X5 0 rfl rfl 16 (by decide) q1667 rfl rfl dX5_period_29 ?_
                refine lv_iload_n S.1 S.2.1 dX5_period_32 rfl (lv_at hl 0 rfl) ?_
                refine w_ald S hW 8 0 rfl rfl (by omega) dX5_period_33 ?_
                refine lv_aload_n S.1 S.2.1 dX5_period_34 rfl (lv_at hl 3 rfl) ?_
                refine w_getr S hW in_X5 0 rfl rfl 16 (by decide) q1667 rfl rfl dX5_period_35 ?_
                refine lv_iload_n S.1 S.2.1 dX5_period_38 rfl (lv_at hl 0 rfl) ?_
                refine lv_iload_n S.1 S.2.1 dX5_period_39 rfl (lv_at hl 2 rfl) ?_
                refine r_iadd S dX5_period_40 ?_
                refine w_ald S hW 8 0 rfl rfl (by omega) dX5_period_41 ?_
                refine r_icmp_ne S (tgt := 49) dX5_period_42 rfl (by omega) (fun c_42 => ?_) (fun c_42 => ?_)
                ·
                  refine r_iconst S dX5_period_49 ?_
                  refine r_as (b2i (dP (∀ x : Int, 0 ≤ x → x < (k + 1) → sd (wr σ) (rf L) 0 x = sd (wr σ) (rf L) 0 (x + n)))) (by first | exact dP_1 (fun x x1 x2 => (show x < k ∨ x = k by omega).elim (fun h9 => c_25 x x1 h9) (fun h9 => by rw [h9, ← s0, ← s1]; exact c_42)) | exact dP_0 (fun z => c_25 (fun x x1 x2 => z x x1 (by omega))) | exact dP_0 (fun z => c_42 (by rw [s0, s1]; exact z k (by omega) (by omega)))) ?_
                  refine lv_istore_n (lv' := [(2, .int (iI (b2i (dP (∀ x : Int, 0 ≤ x → x < (k + 1) → sd (wr σ) (rf L) 0 x = sd (wr σ) (rf L) 0 (x + n)))))), (3, .int (iI k)), (1, .int (iI n)), (0, .ref (ad 0))]) S.1 S.2.1 dX5_period_50 rfl hl (by decide) rfl (fun ls hl => ?_)
                  refine lv_iinc (v := iI (k + 1)) (lv' := [(3, .int (iI (k + 1))), (2, .int (iI (b2i (dP (∀ x : Int, 0 ≤ x → x < (k + 1) → sd (wr σ) (rf L) 0 x = sd (wr σ) (rf L) 0 (x + n)))))), (1, .int (iI n)), (0, .ref (ad 0))]) S.1 S.2.1 dX5_period_51 hl (k := 1) rfl (iI_add _ _) (by decide) rfl (fun ls hl => ?_)
                  refine lv_goto (tgt := 14) S.1 S.2.1 dX5_period_54 rfl ?_
                  exact ih_14 (k + 1) _ _ (by omega) (by omega) hW (lv_sub hl [0, 1, 2, 3] rfl)
                ·
                  refine r_iconst S dX5_period_45 ?_
                  refine lv_goto (tgt := 50) S.1 S.2.1 dX5_period_46 rfl ?_
                  refine r_as (b2i (dP (∀ x : Int, 0 ≤ x → x < (k + 1) → sd (wr σ) (rf L) 0 x = sd (wr σ) (rf L) 0 (x + n)))) (by first | exact dP_1 (fun x x1 x2 => (show x < k ∨ x = k by omega).elim (fun h9 => c_25 x x1 h9) (fun h9 => by rw [h9, ← s0, ← s1]; exact c_42)) | exact dP_0 (fun z => c_25 (fun x x1 x2 => z x x1 (by omega))) | exact dP_0 (fun z => c_42 (by rw [s0, s1]; exact z k (by omega) (by omega)))) ?_
                  refine lv_istore_n (lv' := [(2, .int (iI (b2i (dP (∀ x : Int, 0 ≤ x → x < (k + 1) → sd (wr σ) (rf L) 0 x = sd (wr σ) (rf L) 0 (x + n)))))), (3, .int (iI k)), (1, .int (iI n)), (0, .ref (ad 0))]) S.1 S.2.1 dX5_period_50 rfl hl (by decide) rfl (fun ls hl => ?_)
                  refine lv_iinc (v := iI (k + 1)) (lv' := [(3, .int (iI (k + 1))), (2, .int (iI (b2i (dP (∀ x : Int, 0 ≤ x → x < (k + 1) → sd (wr σ) (rf L) 0 x = sd (wr σ) (rf L) 0 (x + n)))))), (1, .int (iI n)), (0, .ref (ad 0))]) S.1 S.2.1 dX5_period_51 hl (k := 1) rfl (iI_add _ _) (by decide) rfl (fun ls hl => ?_)
                  refine lv_goto (tgt := 14) S.1 S.2.1 dX5_period_54 rfl ?_
                  exact ih_14 (k + 1) _ _ (by omega) (by omega) hW (lv_sub hl [0, 1, 2, 3] rfl)
        exact cut_14 _ 0 _ _ (by omega) (Nat.lt_succ_self _) hW (lv_sub hl [0, 1, 2, 3] rfl)
  exact cut_2 _ 1 _ _ (by omega) (by unfold per; split; exact Or.inl (by assumption); exact Or.inr rfl) (Nat.lt_succ_self _) hW (lv_sub hl [0, 1] rfl)
theorem hd_X5_alikeFrom : yX5_alikeFrom.cls = RX5 ∧ yX5_alikeFrom.cls ≠ "java/lang/invoke/MethodHandle" ∧ yX5_alikeFrom.cls ≠ "java/lang/invoke/VarHandle" ∧ (parseMethodDescriptor yX5_alikeFrom.desc).map (fun d => d.parameters.length) = some 2 := by decide +kernel
theorem cw_X5_371 {R : Room} {s : State} {args : Array Value} (ht : ∀ w ∈ lw_all, w.before args s = true) (hR : 3 + 1 ≤ R.frames ∧ 8 + (4 + 11) + 65 ≤ R.locals) : CallW R s args "OneDrumModel" RX5 371 yX5_alikeFrom cX5_alikeFrom 4 (some .int) (ws_ yX5_alikeFrom cX5_alikeFrom 4 (some .int)) ⟨3, 0, 0, 65⟩ 0 0 2 := cwV 2 ht (lw_V q2153 q2155 qs111 q126 q2156) rfl rfl rfl hd_X5_alikeFrom hR
theorem hd_X5_period : yX5_period.cls = RX5 ∧ yX5_period.cls ≠ "java/lang/invoke/MethodHandle" ∧ yX5_period.cls ≠ "java/lang/invoke/VarHandle" ∧ (parseMethodDescriptor yX5_period.desc).map (fun d => d.parameters.length) = some 0 := by decide +kernel
theorem cw_X5_368 {R : Room} {s : State} {args : Array Value} (ht : ∀ w ∈ lw_all, w.before args s = true) (hR : 0 + 1 ≤ R.frames ∧ 8 + (4 + 11) + 0 ≤ R.locals) : CallW R s args "OneDrumModel" RX5 368 yX5_period cX5_period 4 (some .int) (ws_ yX5_period cX5_period 4 (some .int)) ⟨0, 0, 0, 0⟩ 0 0 0 := cwV 0 ht (lw_V q2149 q2151 qs110 q126 q2152) rfl rfl rfl hd_X5_period hR
set_option maxHeartbeats 4000000 in
theorem tX5_common (l : Launch) (G : GG) (ad : Nat → Nat) (σ : St) (k : Int) (s0 : Int) (what : Int) (hr0 : -2147483648 ≤ k ∧ k < 2147483648 ∧ -2147483648 ≤ s0 ∧ s0 < 2147483648 ∧ -2147483648 ≤ what ∧ what < 2147483648) (hdb : WfDB (σ 0)) : Met l yX5_common (ws_ yX5_common cX5_common 8 (some .int)) ⟨4, 0, 0, 88⟩ (wPre G shM ad σ (fun _ => True) [.ref (ad 0), .int (iI k), .int (iI s0), .int (iI what)]) (qS G shM ad (aM ad) (rI (fun r σ' => (r = sCommon (σ 0) k s0 what) ∧ (same [10, 11, 12, 13, 14, 15, 16, 17, 18] σ σ')))) 0 0 (aM ad) := by
  refine wStart (by decide) (Nat.le_of_ble_eq_true rfl) (fun k hk => ⟨k, hk, rfl⟩) (fun p e s m below meth c S hr hlk _ _ ls hW hl => ?_)
  have hl : lv_has ls 8 [(0, .ref (ad 0)), (1, .int (iI k)), (2, .int (iI s0)), (3, .int (iI what))] := hl
  have d0 := hdb.1
  have d1 := hdb.2.1
  have d2 := hdb.2.2.1
  have d3 := hdb.2.2.2.1
  refine lv_aload_n S.1 S.2.1 dX5_common_0 rfl (lv_at hl 0 rfl) ?_
  refine lv_iload_n S.1 S.2.1 dX5_common_1 rfl (lv_at hl 1 rfl) ?_
  refine lv_iload_n S.1 S.2.1 dX5_common_2 rfl (lv_at hl 2 rfl) ?_
  refine c_VSz S hW (tX5_arePlayed l G ad σ k s0 (by omega) (by omega)) (cw_X5_255 S.2.2.2.2 ⟨Nat.le_of_ble_eq_true rfl, Nat.le_of_ble_eq_true rfl⟩) eBlind_T (fun _ _ _ => trivial) (w_recv hW (q0 := 0) rfl rfl) rfl hl.1 (rest := []) rfl (Nat.le_of_ble_eq_true rfl) dX5_common_3 ⟨Nat.le_of_ble_eq_true rfl, Nat.le_of_ble_eq_true rfl⟩ (fun r3 σ3 H locs q3 hW => ?_)
  obtain ⟨rfl, q3_sm, q3_pl⟩ := q3
  have e0 : σ3 0 = σ 0 := q3_sm 0 (by decide)
  refine r_ifeq_p S (tgt := 18) dX5_common_6 rfl (fun c_6 => ?_) (fun c_6 => ?_)
  ·
    refine r_iconst S dX5_common_18 ?_
    exact e_iS S hr hlk hW ⟨(-1), rfl, ⟨(by unfold sCommon; rw [if_neg (fun z => by have z2 := dP_t.mp z; first | exact absurd z2.1 (by assumption) | exact absurd z2.2 (by omega))]), (q3_sm)⟩⟩ dX5_common_19
  ·
    obtain ⟨w10, pl⟩ := q3_pl (by first | exact c_6 | assumption)
    have ws9 : inWS (σ 0) k s0 := by first | exact c_6 | assumption
    have hWf := hdb.2.2.2.2.2.2.2.2.1 k (by unfold inWS at ws9; omega) (by unfold inWS at ws9; omega)
    have hg := hdb.2.2.2.2.2.2.2.2.2.1 s0 (by unfold inWS at ws9; omega) (by unfold inWS at ws9; omega)
    have w10b : σ3 10 0 = 610 ∨ σ3 10 0 = 699 := by unfold inWS at ws9; omega
    have wq : wr σ3 = wAt (σ 0) k := wr_at e0 w10
    have n18 := pl.1
    have hL9 := rowG_len hWf hg
    have hg00 := (hg 0 (by omega) (by omega)).1
    have hg11 := (hg 1 (by omega) (by omega)).1
    obtain ⟨LL, eLL⟩ : ∃ z, z = rowG (wAt (σ 0) k) (gAt (σ 0) s0) := ⟨_, rfl⟩
    have hLr := rowG_V (w := wAt (σ 0) k) hg
    have hLg := (rowL_V (t := (wAt (σ 0) k 0).toNat) (gl_mem hg (x := 0) (by omega)) (gl_mem hg (x := 1) (by omega))).2
    have w10c : 0 ≤ σ3 10 0 ∧ σ3 10 0 ≤ 700 := by omega
    have sn9 : fil σ3 16 (rowG (wAt (σ 0) k) (gAt (σ 0) s0)).length (sd (wr σ3) (rf (rowG (wAt (σ 0) k) (gAt (σ 0) s0))) 0) := by rw [wq]; exact pl.2.2.1
    have l24 : (rowG (wAt (σ 0) k) (gAt (σ 0) s0)).length ≤ 24 := by omega
    have hA0 := hWf.2.2.2.2 0 (by omega) (by omega)
    have hA1 := hWf.2.2.2.2 1 (by omega) (by omega)
    have h0 := hrs_rng (n := σ3 18 0) hA0 (by omega)
    have h1 := hrs_rng (n := σ3 18 0) hA1 (by omega)
    have k0 : hrs (wr σ3) (σ3 18 0) 0 = hrs (wAt (σ 0) k) (rowG (wAt (σ 0) k) (gAt (σ 0) s0)).length 0 := by rw [wq, n18]
    have k1 : hrs (wr σ3) (σ3 18 0) 1 = hrs (wAt (σ 0) k) (rowG (wAt (σ 0) k) (gAt (σ 0) s0)).length 1 := by rw [wq, n18]
    rw [n18] at h0 h1
    refine lv_iload_n S.1 S.2.1 dX5_common_9 rfl (lv_at hl 3 rfl) ?_
    refine r_iconst S dX5_common_10 ?_
    refine r_iconst S dX5_common_11 ?_
    refine c_SPw S hW (tX5_isIn l what 0 2 (by omega)) (cw_X5_145 S.2.2.2.2 ⟨Nat.le_of_ble_eq_true rfl, Nat.le_of_ble_eq_true rfl⟩) rfl hl.1 (rest := []) rfl (Nat.le_of_ble_eq_true rfl) dX5_common_12 ⟨Nat.le_of_ble_eq_true rfl, Nat.le_of_ble_eq_true rfl⟩ (fun locs hW => ?_)
    refine r_ifne_p S (tgt := 20) dX5_common_15 rfl (fun c_15 => ?_) (fun c_15 => ?_)
    ·
      refine lv_iload_n S.1 S.2.1 dX5_common_20 rfl (lv_at hl 3 rfl) ?_
      refine r_iconst S dX5_common_21 ?_
      refine r_icmp_ne S (tgt := 30) dX5_common_22 rfl (by omega) (fun c_22 => ?_) (fun c_22 => ?_)
      ·
        refine r_iconst S dX5_common_30 ?_
        refine lv_istore (lv' := [(4, .int (iI 0)), (0, .ref (ad 0)), (1, .int (iI k)), (2, .int (iI s0)), (3, .int (iI what))]) S.1 S.2.1 dX5_common_31 hl (by decide) rfl (fun ls hl => ?_)
        refine r_iconst S dX5_common_33 ?_
        refine lv_istore (lv' := [(5, .int (iI 0)), (4, .int (iI 0)), (0, .ref (ad 0)), (1, .int (iI k)), (2, .int (iI s0)), (3, .int (iI what))]) S.1 S.2.1 dX5_common_34 hl (by decide) rfl (fun ls hl => ?_)
        refine r_iconst S dX5_common_36 ?_
        refine lv_istore (lv' := [(6, .int (iI 0)), (5, .int (iI 0)), (4, .int (iI 0)), (0, .ref (ad 0)), (1, .int (iI k)), (2, .int (iI s0)), (3, .int (iI what))]) S.1 S.2.1 dX5_common_37 hl (by decide) rfl (fun ls hl => ?_)
        have cut_39 : ∀ (N_39 : Nat) (most first i : Int) (H : Heap) (locs : List Loc) (ls : Array Slot), (0 ≤ i ∧ i ≤ hrs (wAt (σ 0) k) (rowG (wAt (σ 0) k) (gAt (σ 0) s0)).length 0) → ((most, first) = cmI (wAt (σ 0) k) (rowG (wAt (σ 0) k) (gAt (σ 0) s0)) i 0 ∧ 0 ≤ most ∧ most ≤ 25) → ((hrs (wAt (σ 0) k) (rowG (wAt (σ 0) k) (gAt (σ 0) s0)).length 0 - i).toNat) < N_39 → WD G shM ad (aM ad) s s.heap σ3 H locs → lv_has ls 8 [(6, .int (iI i)), (5, .int (iI first)), (4, .int (iI most)), (0, .ref (ad 0)), (1, .int (iI k)), (2, .int (iI s0)), (3, .int (iI what))] → W p l e (⟨4, 0, 0, 88⟩ : Room) s m ([.ref (ad 0), .int (iI k), .int (iI s0), .int (iI what)] : List Value).toArray below meth c H locs 0 0 (MQ below (qS G shM ad (aM ad) (rI (fun r σ' => (r = sCommon (σ 0) k s0 what) ∧ (same [10, 11, 12, 13, 14, 15, 16, 17, 18] σ σ')))) ([.ref (ad 0), .int (iI k), .int (iI s0), .int (iI what)] : List Value).toArray s 0 0 (aM ad)) (F0 m 39 ls []) := by
          intro N_39
          induction N_39 with
          | zero =>
            intro most first i H locs ls hi hm hμ_39 hW hl
            exact absurd hμ_39 (by omega)
          | succ N_39 ih_39 =>
            intro most first i H locs ls hi hm hμ_39 hW hl
            refine lv_iload S.1 S.2.1 dX5_common_39 (lv_at hl 0 rfl) ?_
            refine lv_aload_n S.1 S.2.1 dX5_common_41 rfl (lv_at hl 3 rfl) ?_
            refine r_iconst S dX5_common_42 ?_
            refine c_VP S hW (tX5_hears l G ad σ3 0 (by omega) (by omega) (by rw [wq]; exact hA0) (by omega)) (cw_X5_261 S.2.2.2.2 ⟨Nat.le_of_ble_eq_true rfl, Nat.le_of_ble_eq_true rfl⟩) eBlind_T (fun _ _ _ => trivial) (w_recv hW (q0 := 0) rfl rfl) rfl hl.1 (rest := [.int (iI i)]) rfl (Nat.le_of_ble_eq_true rfl) dX5_common_43 ⟨Nat.le_of_ble_eq_true rfl, Nat.le_of_ble_eq_true rfl⟩ (fun locs hW => ?_)
            refine r_icmp_ge S (tgt := 104) dX5_common_46 rfl (by omega) (fun c_46 => ?_) (fun c_46 => ?_)
            ·
              refine lv_iload_n S.1 S.2.1 dX5_common_104 rfl (lv_at hl 6 rfl) ?_
              refine r_if_ne S (tgt := 113) dX5_common_105 rfl (by omega) (fun c_105 => ?_) (fun c_105 => ?_)
              ·
                refine lv_iload S.1 S.2.1 dX5_common_113 (lv_at hl 1 rfl) ?_
                exact e_iS S hr hlk hW ⟨first, rfl, ⟨(by unfold sCommon sCom2; rw [if_pos (dP_t.mpr ⟨ws9, by omega⟩), if_neg (by omega), ← show i = hrs (wAt (σ 0) k) (rowG (wAt (σ 0) k) (gAt (σ 0) s0)).length 0 by omega, ← hm.1]; first | rw [if_pos (by omega)] | rw [if_neg (by omega)]), (q3_sm)⟩⟩ dX5_common_115
              ·
                refine lv_iload S.1 S.2.1 dX5_common_108 (lv_at hl 2 rfl) ?_
                refine lv_goto (tgt := 115) S.1 S.2.1 dX5_common_110 rfl ?_
                exact e_iS S hr hlk hW ⟨most, rfl, ⟨(by unfold sCommon sCom2; rw [if_pos (dP_t.mpr ⟨ws9, by omega⟩), if_neg (by omega), ← show i = hrs (wAt (σ 0) k) (rowG (wAt (σ 0) k) (gAt (σ 0) s0)).length 0 by omega, ← hm.1]; first | rw [if_pos (by omega)] | rw [if_neg (by omega)]), (q3_sm)⟩⟩ dX5_common_115
            ·
              refine r_iconst S dX5_common_49 ?_
              refine lv_istore (lv' := [(7, .int (iI 0)), (6, .int (iI i)), (5, .int (iI first)), (4, .int (iI most)), (0, .ref (ad 0)), (1, .int (iI k)), (2, .int (iI s0)), (3, .int (iI what))]) S.1 S.2.1 dX5_common_50 hl (by decide) rfl (fun ls hl => ?_)
              have cut_52 : ∀ (N_52 : Nat) (most first j : Int) (H : Heap) (locs : List Loc) (ls : Array Slot), (0 ≤ j ∧ j ≤ hrs (wAt (σ 0) k) (rowG (wAt (σ 0) k) (gAt (σ 0) s0)).length 1) → ((most, first) = cmI (wAt (σ 0) k) (rowG (wAt (σ 0) k) (gAt (σ 0) s0)) i j ∧ 0 ≤ most ∧ most ≤ 25) → ((hrs (wAt (σ 0) k) (rowG (wAt (σ 0) k) (gAt (σ 0) s0)).length 1 - j).toNat) < N_52 → WD G shM ad (aM ad) s s.heap σ3 H locs → lv_has ls 8 [(7, .int (iI j)), (6, .int (iI i)), (5, .int (iI first)), (4, .int (iI most)), (0, .ref (ad 0)), (1, .int (iI k)), (2, .int (iI s0)), (3, .int (iI what))] → W p l e (⟨4, 0, 0, 88⟩ : Room) s m ([.ref (ad 0), .int (iI k), .int (iI s0), .int (iI what)] : List Value).toArray below meth c H locs 0 0 (MQ below (qS G shM ad (aM ad) (rI (fun r σ' => (r = sCommon (σ 0) k s0 what) ∧ (same [10, 11, 12, 13, 14, 15, 16, 17, 18] σ σ')))) ([.ref (ad 0), .int (iI k), .int (iI s0), .int (iI what)] : List Value).toArray s 0 0 (aM ad)) (F0 m 52 ls []) := by
                intro N_52
                induction N_52 with
                | zero =>
                  intro most first j H locs ls hj hm2 hμ_52 hW hl
                  exact absurd hμ_52 (by omega)
                | succ N_52 ih_52 =>
                  intro most first j H locs ls hj hm2 hμ_52 hW hl
                  refine lv_iload S.1 S.2.1 dX5_common_52 (lv_at hl 0 rfl) ?_
                  refine lv_aload_n S.1 S.2.1 dX5_common_54 rfl (lv_at hl 4 rfl) ?_
                  refine r_iconst S dX5_common_55 ?_
                  refine c_VP S hW (tX5_hears l G ad σ3 1 (by omega) (by omega) (by rw [wq]; exact hA1) (by omega)) (cw_X5_261 S.2.2.2.2 ⟨Nat.le_of_ble_eq_true rfl, Nat.le_of_ble_eq_true rfl⟩) eBlind_T (fun _ _ _ => trivial) (w_recv hW (q0 := 0) rfl rfl) rfl hl.1 (rest := [.int (iI j)]) rfl (Nat.le_of_ble_eq_true rfl) dX5_common_56 ⟨Nat.le_of_ble_eq_true rfl, Nat.le_of_ble_eq_true rfl⟩ (fun locs hW => ?_)
                  refine r_icmp_ge S (tgt := 98) dX5_common_59 rfl (by omega) (fun c_59 => ?_) (fun c_59 => ?_)
                  ·
                    refine lv_iinc (v := iI (i + 1)) (lv' := [(6, .int (iI (i + 1))), (7, .int (iI j)), (5, .int (iI first)), (4, .int (iI most)), (0, .ref (ad 0)), (1, .int (iI k)), (2, .int (iI s0)), (3, .int (iI what))]) S.1 S.2.1 dX5_common_98 hl (k := 1) rfl (iI_add _ _) (by decide) rfl (fun ls hl => ?_)
                    refine lv_goto (tgt := 39) S.1 S.2.1 dX5_common_101 rfl ?_
                    exact ih_39 most first (i + 1) H _ _ (by omega) (by rw [cmI_n hi.1, ← show j = hrs (wAt (σ 0) k) (rowG (wAt (σ 0) k) (gAt (σ 0) s0)).length 1 by omega]; exact hm2) (by omega) hW (lv_sub hl [0, 2, 3, 4, 5, 6, 7] rfl)
                  ·
                    have lr := lcf_rng (w := wr σ3) (L := (rowG (wAt (σ 0) k) (gAt (σ 0) s0))) (i := i) (j := j)
                    have lr2 := lcf_rng (w := wAt (σ 0) k) (L := (rowG (wAt (σ 0) k) (gAt (σ 0) s0))) (i := i) (j := j)
                    refine lv_aload_n S.1 S.2.1 dX5_common_62 rfl (lv_at hl 4 rfl) ?_
                    refine lv_iload S.1 S.2.1 dX5_common_63 (lv_at hl 1 rfl) ?_
                    refine lv_iload S.1 S.2.1 dX5_common_65 (lv_at hl 0 rfl) ?_
                    refine c_VP S hW (tX5_alikeFrom l G ad σ3 i j (rowG (wAt (σ 0) k) (gAt (σ 0) s0)) (w10c) (by rw [wq]; exact hWf) (n18) (l24) (hLr) (sn9) (by omega)) (cw_X5_371 S.2.2.2.2 ⟨Nat.le_of_ble_eq_true rfl, Nat.le_of_ble_eq_true rfl⟩) eBlind_T (fun _ _ _ => trivial) (w_recv hW (q0 := 0) rfl rfl) rfl hl.1 (rest := []) rfl (Nat.le_of_ble_eq_true rfl) dX5_common_67 ⟨Nat.le_of_ble_eq_true rfl, Nat.le_of_ble_eq_true rfl⟩ (fun locs hW => ?_)
                    refine lv_iload S.1 S.2.1 dX5_common_70 (lv_at hl 3 rfl) ?_
                    refine r_icmp_gt S (tgt := 78) dX5_common_72 rfl (by omega) (fun c_72 => ?_) (fun c_72 => ?_)
                    ·
                      rw [wq] at c_72
                      refine lv_aload_n S.1 S.2.1 dX5_common_78 rfl (lv_at hl 4 rfl) ?_
                      refine lv_iload S.1 S.2.1 dX5_common_79 (lv_at hl 1 rfl) ?_
                      refine lv_iload S.1 S.2.1 dX5_common_81 (lv_at hl 0 rfl) ?_
                      refine c_VP S hW (tX5_alikeFrom l G ad σ3 i j (rowG (wAt (σ 0) k) (gAt (σ 0) s0)) (w10c) (by rw [wq]; exact hWf) (n18) (l24) (hLr) (sn9) (by omega)) (cw_X5_371 S.2.2.2.2 ⟨Nat.le_of_ble_eq_true rfl, Nat.le_of_ble_eq_true rfl⟩) eBlind_T (fun _ _ _ => trivial) (w_recv hW (q0 := 0) rfl rfl) rfl hl.1 (rest := []) rfl (Nat.le_of_ble_eq_true rfl) dX5_common_83 ⟨Nat.le_of_ble_eq_true rfl, Nat.le_of_ble_eq_true rfl⟩ (fun locs hW => ?_)
                      refine r_as (lcf (wAt (σ 0) k) (rowG (wAt (σ 0) k) (gAt (σ 0) s0)) i j) (by rw [wq]) ?_
                      refine lv_istore (lv' := [(4, .int (iI (lcf (wAt (σ 0) k) (rowG (wAt (σ 0) k) (gAt (σ 0) s0)) i j))), (7, .int (iI j)), (6, .int (iI i)), (5, .int (iI first)), (0, .ref (ad 0)), (1, .int (iI k)), (2, .int (iI s0)), (3, .int (iI what))]) S.1 S.2.1 dX5_common_86 hl (by decide) rfl (fun ls hl => ?_)
                      refine lv_iload S.1 S.2.1 dX5_common_88 (lv_at hl 2 rfl) ?_
                      refine lv_istore (lv' := [(5, .int (iI i)), (4, .int (iI (lcf (wAt (σ 0) k) (rowG (wAt (σ 0) k) (gAt (σ 0) s0)) i j))), (7, .int (iI j)), (6, .int (iI i)), (0, .ref (ad 0)), (1, .int (iI k)), (2, .int (iI s0)), (3, .int (iI what))]) S.1 S.2.1 dX5_common_90 hl (by decide) rfl (fun ls hl => ?_)
                      refine lv_iinc (v := iI (j + 1)) (lv' := [(7, .int (iI (j + 1))), (5, .int (iI i)), (4, .int (iI (lcf (wAt (σ 0) k) (rowG (wAt (σ 0) k) (gAt (σ 0) s0)) i j))), (6, .int (iI i)), (0, .ref (ad 0)), (1, .int (iI k)), (2, .int (iI s0)), (3, .int (iI what))]) S.1 S.2.1 dX5_common_92 hl (k := 2) rfl (iI_add _ _) (by decide) rfl (fun ls hl => ?_)
                      refine lv_goto (tgt := 52) S.1 S.2.1 dX5_common_95 rfl ?_
                      exact ih_52 (lcf (wAt (σ 0) k) (rowG (wAt (σ 0) k) (gAt (σ 0) s0)) i j) i (j + 1) H _ _ (by omega) (by rw [cmI_s hj.1, ← hm2.1]; unfold stp; first | (rw [if_pos c_72]; exact ⟨rfl, by omega⟩) | (rw [if_neg (by omega)]; exact ⟨rfl, hm2.2⟩)) (by omega) hW (lv_sub hl [0, 3, 1, 2, 4, 5, 6, 7] rfl)
                    ·
                      rw [wq] at c_72
                      refine lv_goto (tgt := 92) S.1 S.2.1 dX5_common_75 rfl ?_
                      refine lv_iinc (v := iI (j + 1)) (lv' := [(7, .int (iI (j + 1))), (6, .int (iI i)), (5, .int (iI first)), (4, .int (iI most)), (0, .ref (ad 0)), (1, .int (iI k)), (2, .int (iI s0)), (3, .int (iI what))]) S.1 S.2.1 dX5_common_92 hl (k := 0) rfl (iI_add _ _) (by decide) rfl (fun ls hl => ?_)
                      refine lv_goto (tgt := 52) S.1 S.2.1 dX5_common_95 rfl ?_
                      exact ih_52 most first (j + 1) H _ _ (by omega) (by rw [cmI_s hj.1, ← hm2.1]; unfold stp; first | (rw [if_pos c_72]; exact ⟨rfl, by omega⟩) | (rw [if_neg (by omega)]; exact ⟨rfl, hm2.2⟩)) (by omega) hW (lv_sub hl [0, 1, 2, 3, 4, 5, 6, 7] rfl)
              exact cut_52 _ most first 0 H _ _ (by omega) (hm) (Nat.lt_succ_self _) hW (lv_sub hl [0, 1, 2, 3, 4, 5, 6, 7] rfl)
        exact cut_39 _ 0 0 0 H _ _ (by omega) (⟨rfl, by omega, by omega⟩) (Nat.lt_succ_self _) hW (lv_sub hl [0, 1, 2, 3, 4, 5, 6] rfl)
      ·
        refine lv_aload_n S.1 S.2.1 dX5_common_25 rfl (lv_at hl 0 rfl) ?_
        refine c_VP S hW (tX5_period l G ad σ3 (rowG (wAt (σ 0) k) (gAt (σ 0) s0)) (w10c) (by rw [wq]; exact hWf) (n18) (l24) (hLr) (sn9)) (cw_X5_368 S.2.2.2.2 ⟨Nat.le_of_ble_eq_true rfl, Nat.le_of_ble_eq_true rfl⟩) eBlind_T (fun _ _ _ => trivial) (w_recv hW (q0 := 0) rfl rfl) rfl hl.1 (rest := []) rfl (Nat.le_of_ble_eq_true rfl) dX5_common_26 ⟨Nat.le_of_ble_eq_true rfl, Nat.le_of_ble_eq_true rfl⟩ (fun locs hW => ?_)
        exact e_iS S hr hlk hW ⟨(per (wr σ3) (rowG (wAt (σ 0) k) (gAt (σ 0) s0))), rfl, ⟨(by unfold sCommon sCom2; rw [if_pos (dP_t.mpr ⟨ws9, by omega⟩), if_pos (by omega), wq]), (q3_sm)⟩⟩ dX5_common_29
    ·
      refine r_iconst S dX5_common_18 ?_
      exact e_iS S hr hlk hW ⟨(-1), rfl, ⟨(by unfold sCommon; rw [if_neg (fun z => by have z2 := dP_t.mp z; first | exact absurd z2.1 (by assumption) | exact absurd z2.2 (by omega))]), (q3_sm)⟩⟩ dX5_common_19
