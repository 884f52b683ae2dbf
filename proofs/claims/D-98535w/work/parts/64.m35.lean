-- overhangs
set_option maxHeartbeats 4000000 in
theorem tX5_goesInto (l : Launch) (G : GG) (ad : Nat → Nat) (σ : St) (army : Int) (a : Int) (f : Int) (b : Int) (g : Int) (hw0 : 0 ≤ σ 10 0 ∧ σ 10 0 ≤ 700) (hx : 0 ≤ army ∧ army ≤ 1) (hA : WfArmy (wr σ) army) (ha : 0 ≤ a ∧ a < (wr σ) (15 + army)) (hb : 0 ≤ b ∧ b < (wr σ) (15 + army)) (hf : 0 ≤ f ∧ f ≤ 4) (hg : 0 ≤ g ∧ g ≤ oLen (wr σ) army b) : Met l yX5_goesInto (ws_ yX5_goesInto cX5_goesInto 8 (some .boolean)) ⟨2, 0, 0, 45⟩ (wPre G shM ad σ (fun _ => True) [.ref (ad 0), .int (iI army), .int (iI a), .int (iI f), .int (iI b), .int (iI g)]) (qP (.int (iI (b2i (dP (giP (wr σ) army a f b g)))))) 0 0 (aM ad) := by
  refine wStart (by decide) (Nat.le_of_ble_eq_true rfl) (fun k hk => ⟨k, hk, rfl⟩) (fun p e s m below meth c S hr hlk _ _ ls hW hl => ?_)
  have hl : lv_has ls 8 [(0, .ref (ad 0)), (1, .int (iI army)), (2, .int (iI a)), (3, .int (iI f)), (4, .int (iI b)), (5, .int (iI g))] := hl
  have la := (hA.2.2.2.2.2 a ha.1 ha.2).2.1
  have lb := (hA.2.2.2.2.2 b hb.1 hb.2).2.1
  have hN := hA.2.2.2.2.1
  have bta := (hA.2.2.2.2.2 a ha.1 ha.2).2.2
  have btb := (hA.2.2.2.2.2 b hb.1 hb.2).2.2
  have cut_26 : ∀ (locs : List Loc) (ls : Array Slot), WD G shM ad (aM ad) s s.heap σ s.heap locs → lv_has ls 8 [(0, .ref (ad 0)), (1, .int (iI army)), (2, .int (iI a)), (3, .int (iI f)), (4, .int (iI b)), (5, .int (iI g))] → W p l e (⟨2, 0, 0, 45⟩ : Room) s m ([.ref (ad 0), .int (iI army), .int (iI a), .int (iI f), .int (iI b), .int (iI g)] : List Value).toArray below meth c s.heap locs 0 0 (MQ below (qP (.int (iI (b2i (dP (giP (wr σ) army a f b g)))))) ([.ref (ad 0), .int (iI army), .int (iI a), .int (iI f), .int (iI b), .int (iI g)] : List Value).toArray s 0 0 (aM ad)) (F0 m 26 ls [.int (iI (b2i (dP (oLen (wr σ) army a - f ≤ oLen (wr σ) army b - g))))]) := by
    intro locs ls hW hl
    refine lv_istore (lv' := [(6, .int (iI (b2i (dP (oLen (wr σ) army a - f ≤ oLen (wr σ) army b - g))))), (0, .ref (ad 0)), (1, .int (iI army)), (2, .int (iI a)), (3, .int (iI f)), (4, .int (iI b)), (5, .int (iI g))]) S.1 S.2.1 dX5_goesInto_26 hl (by decide) rfl (fun ls hl => ?_)
    refine r_iconst S dX5_goesInto_28 ?_
    refine lv_istore (lv' := [(7, .int (iI 0)), (6, .int (iI (b2i (dP (oLen (wr σ) army a - f ≤ oLen (wr σ) army b - g))))), (0, .ref (ad 0)), (1, .int (iI army)), (2, .int (iI a)), (3, .int (iI f)), (4, .int (iI b)), (5, .int (iI g))]) S.1 S.2.1 dX5_goesInto_29 hl (by decide) rfl (fun ls hl => ?_)
    have cut_31 : ∀ (N_31 : Nat) (q : Bool) (i : Int) (locs : List Loc) (ls : Array Slot), (0 ≤ i ∧ i ≤ 4) → (q = true ↔ (oLen (wr σ) army a - f ≤ oLen (wr σ) army b - g ∧ ∀ j : Int, 0 ≤ j → j < i → f + j < oLen (wr σ) army a → oBeat (wr σ) army a (f + j) = oBeat (wr σ) army b (g + j))) → ((4 - i).toNat) < N_31 → WD G shM ad (aM ad) s s.heap σ s.heap locs → lv_has ls 8 [(7, .int (iI i)), (6, .int (iI (b2i q))), (0, .ref (ad 0)), (1, .int (iI army)), (2, .int (iI a)), (3, .int (iI f)), (4, .int (iI b)), (5, .int (iI g))] → W p l e (⟨2, 0, 0, 45⟩ : Room) s m ([.ref (ad 0), .int (iI army), .int (iI a), .int (iI f), .int (iI b), .int (iI g)] : List Value).toArray below meth c s.heap locs 0 0 (MQ below (qP (.int (iI (b2i (dP (giP (wr σ) army a f b g)))))) ([.ref (ad 0), .int (iI army), .int (iI a), .int (iI f), .int (iI b), .int (iI g)] : List Value).toArray s 0 0 (aM ad)) (F0 m 31 ls []) := by
      intro N_31
      induction N_31 with
      | zero =>
        intro q i locs ls hi hq hμ_31 hW hl
        exact absurd hμ_31 (by omega)
      | succ N_31 ih_31 =>
        intro q i locs ls hi hq hμ_31 hW hl
        refine lv_iload_n S.1 S.2.1 dX5_goesInto_31 rfl (lv_at hl 5 rfl) ?_
        refine lv_iload S.1 S.2.1 dX5_goesInto_32 (lv_at hl 0 rfl) ?_
        refine r_iadd S dX5_goesInto_34 ?_
        refine lv_aload_n S.1 S.2.1 dX5_goesInto_35 rfl (lv_at hl 2 rfl) ?_
        refine lv_iload_n S.1 S.2.1 dX5_goesInto_36 rfl (lv_at hl 3 rfl) ?_
        refine lv_iload_n S.1 S.2.1 dX5_goesInto_37 rfl (lv_at hl 4 rfl) ?_
        refine c_VP S hW (tX5_lengthOf l G ad σ army a (by omega) (by omega)) (cw_X5_230 S.2.2.2.2 ⟨Nat.le_of_ble_eq_true rfl, Nat.le_of_ble_eq_true rfl⟩) eBlind_T (fun _ _ _ => trivial) (w_recv hW (q0 := 0) rfl rfl) rfl hl.1 (rest := [.int (iI (f + i))]) rfl (Nat.le_of_ble_eq_true rfl) dX5_goesInto_38 ⟨Nat.le_of_ble_eq_true rfl, Nat.le_of_ble_eq_true rfl⟩ (fun locs hW => ?_)
        refine r_icmp_ge S (tgt := 87) dX5_goesInto_41 rfl (by omega) (fun c_41 => ?_) (fun c_41 => ?_)
        ·
          refine lv_iload S.1 S.2.1 dX5_goesInto_87 (lv_at hl 1 rfl) ?_
          exact e_zP S hr hlk hW.2.2.2.2 (congrArg b2i (dP_eq (by rw [hq]; unfold giP; exact ⟨fun z => ⟨z.1, fun j j0 j1 => z.2 j j0 (by first | omega | exact absurd (hq.mpr z) (by simpa using c_46)) j1⟩, fun z => ⟨z.1, fun j j0 _ j1 => z.2 j j0 j1⟩⟩))) dX5_goesInto_89
        ·
          refine lv_iload S.1 S.2.1 dX5_goesInto_44 (lv_at hl 1 rfl) ?_
          refine r_ifeq_b S (tgt := 87) dX5_goesInto_46 rfl (fun c_46 => ?_) (fun c_46 => ?_)
          ·
            refine lv_iload S.1 S.2.1 dX5_goesInto_87 (lv_at hl 1 rfl) ?_
            exact e_zP S hr hlk hW.2.2.2.2 (congrArg b2i (dP_eq (by rw [hq]; unfold giP; exact ⟨fun z => ⟨z.1, fun j j0 j1 => z.2 j j0 (by first | omega | exact absurd (hq.mpr z) (by simpa using c_46)) j1⟩, fun z => ⟨z.1, fun j j0 _ j1 => z.2 j j0 j1⟩⟩))) dX5_goesInto_89
          ·
            have hq1 := (hq.mp c_46).1
            have ba := bta (f + i) (by omega) (by omega)
            have bb := btb (g + i) (by omega) (by omega)
            have cut_79 : ∀ (locs : List Loc) (ls : Array Slot), WD G shM ad (aM ad) s s.heap σ s.heap locs → lv_has ls 8 [(7, .int (iI i)), (6, .int (iI (b2i q))), (0, .ref (ad 0)), (1, .int (iI army)), (2, .int (iI a)), (3, .int (iI f)), (4, .int (iI b)), (5, .int (iI g))] → W p l e (⟨2, 0, 0, 45⟩ : Room) s m ([.ref (ad 0), .int (iI army), .int (iI a), .int (iI f), .int (iI b), .int (iI g)] : List Value).toArray below meth c s.heap locs 0 0 (MQ below (qP (.int (iI (b2i (dP (giP (wr σ) army a f b g)))))) ([.ref (ad 0), .int (iI army), .int (iI a), .int (iI f), .int (iI b), .int (iI g)] : List Value).toArray s 0 0 (aM ad)) (F0 m 79 ls [.int (iI (b2i (dP (oBeat (wr σ) army a (f + i) = oBeat (wr σ) army b (g + i)))))]) := by
              intro locs ls hW hl
              refine lv_istore (lv' := [(6, .int (iI (b2i (dP (oBeat (wr σ) army a (f + i) = oBeat (wr σ) army b (g + i)))))), (7, .int (iI i)), (0, .ref (ad 0)), (1, .int (iI army)), (2, .int (iI a)), (3, .int (iI f)), (4, .int (iI b)), (5, .int (iI g))]) S.1 S.2.1 dX5_goesInto_79 hl (by decide) rfl (fun ls hl => ?_)
              refine lv_iinc (v := iI (i + 1)) (lv' := [(7, .int (iI (i + 1))), (6, .int (iI (b2i (dP (oBeat (wr σ) army a (f + i) = oBeat (wr σ) army b (g + i)))))), (0, .ref (ad 0)), (1, .int (iI army)), (2, .int (iI a)), (3, .int (iI f)), (4, .int (iI b)), (5, .int (iI g))]) S.1 S.2.1 dX5_goesInto_81 hl (k := 1) rfl (iI_add _ _) (by decide) rfl (fun ls hl => ?_)
              refine lv_goto (tgt := 31) S.1 S.2.1 dX5_goesInto_84 rfl ?_
              exact ih_31 (dP (oBeat (wr σ) army a (f + i) = oBeat (wr σ) army b (g + i))) (i + 1) _ _ (by omega) (by rw [dP_t]; exact ⟨fun z => ⟨(hq.mp c_46).1, fun j j0 j1 j2 => (show j < i ∨ j = i by omega).elim (fun y => (hq.mp c_46).2 j j0 y j2) (fun y => by rw [y]; exact z)⟩, fun z => z.2 i (by omega) (by omega) (by omega)⟩) (by omega) hW (lv_sub hl [0, 1, 2, 3, 4, 5, 6, 7] rfl)
            refine lv_aload_n S.1 S.2.1 dX5_goesInto_49 rfl (lv_at hl 2 rfl) ?_
            refine lv_iload_n S.1 S.2.1 dX5_goesInto_50 rfl (lv_at hl 3 rfl) ?_
            refine lv_iload_n S.1 S.2.1 dX5_goesInto_51 rfl (lv_at hl 4 rfl) ?_
            refine lv_iload_n S.1 S.2.1 dX5_goesInto_52 rfl (lv_at hl 5 rfl) ?_
            refine lv_iload S.1 S.2.1 dX5_goesInto_53 (lv_at hl 0 rfl) ?_
            refine r_iadd S dX5_goesInto_55 ?_
            refine c_VP S hW (tX5_beatOf l G ad σ army a (f + i) (by omega) (by omega)) (cw_X5_233 S.2.2.2.2 ⟨Nat.le_of_ble_eq_true rfl, Nat.le_of_ble_eq_true rfl⟩) eBlind_T (fun _ _ _ => trivial) (w_recv hW (q0 := 0) rfl rfl) rfl hl.1 (rest := []) rfl (Nat.le_of_ble_eq_true rfl) dX5_goesInto_56 ⟨Nat.le_of_ble_eq_true rfl, Nat.le_of_ble_eq_true rfl⟩ (fun locs hW => ?_)
            refine lv_aload_n S.1 S.2.1 dX5_goesInto_59 rfl (lv_at hl 2 rfl) ?_
            refine lv_iload_n S.1 S.2.1 dX5_goesInto_60 rfl (lv_at hl 3 rfl) ?_
            refine lv_iload S.1 S.2.1 dX5_goesInto_61 (lv_at hl 6 rfl) ?_
            refine lv_iload S.1 S.2.1 dX5_goesInto_63 (lv_at hl 7 rfl) ?_
            refine lv_iload S.1 S.2.1 dX5_goesInto_65 (lv_at hl 0 rfl) ?_
            refine r_iadd S dX5_goesInto_67 ?_
            refine c_VP S hW (tX5_beatOf l G ad σ army b (g + i) (by omega) (by omega)) (cw_X5_233 S.2.2.2.2 ⟨Nat.le_of_ble_eq_true rfl, Nat.le_of_ble_eq_true rfl⟩) eBlind_T (fun _ _ _ => trivial) (w_recv hW (q0 := 0) rfl rfl) rfl hl.1 (rest := [.int (iI (oBeat (wr σ) army a (f + i)))]) rfl (Nat.le_of_ble_eq_true rfl) dX5_goesInto_68 ⟨Nat.le_of_ble_eq_true rfl, Nat.le_of_ble_eq_true rfl⟩ (fun locs hW => ?_)
            refine r_icmp_ne S (tgt := 78) dX5_goesInto_71 rfl (by omega) (fun c_71 => ?_) (fun c_71 => ?_)
            ·
              refine r_iconst S dX5_goesInto_78 ?_
              refine r_as (b2i (dP (oBeat (wr σ) army a (f + i) = oBeat (wr σ) army b (g + i)))) (by first | exact dP_1 (by omega) | exact dP_0 (by omega)) ?_
              exact cut_79 _ _ hW (lv_sub hl [0, 1, 2, 3, 4, 5, 6, 7] rfl)
            ·
              refine r_iconst S dX5_goesInto_74 ?_
              refine lv_goto (tgt := 79) S.1 S.2.1 dX5_goesInto_75 rfl ?_
              refine r_as (b2i (dP (oBeat (wr σ) army a (f + i) = oBeat (wr σ) army b (g + i)))) (by first | exact dP_1 (by omega) | exact dP_0 (by omega)) ?_
              exact cut_79 _ _ hW (lv_sub hl [0, 1, 2, 3, 4, 5, 6, 7] rfl)
    exact cut_31 _ (dP (oLen (wr σ) army a - f ≤ oLen (wr σ) army b - g)) 0 _ _ (by omega) (by rw [dP_t]; exact ⟨fun z => ⟨z, fun j a1 a2 => absurd a2 (by omega)⟩, fun z => z.1⟩) (Nat.lt_succ_self _) hW (lv_sub hl [0, 1, 2, 3, 4, 5, 6, 7] rfl)
  refine lv_aload_n S.1 S.2.1 dX5_goesInto_0 rfl (lv_at hl 0 rfl) ?_
  refine lv_iload_n S.1 S.2.1 dX5_goesInto_1 rfl (lv_at hl 1 rfl) ?_
  refine lv_iload_n S.1 S.2.1 dX5_goesInto_2 rfl (lv_at hl 2 rfl) ?_
  refine c_VP S hW (tX5_lengthOf l G ad σ army a (by omega) (by omega)) (cw_X5_230 S.2.2.2.2 ⟨Nat.le_of_ble_eq_true rfl, Nat.le_of_ble_eq_true rfl⟩) eBlind_T (fun _ _ _ => trivial) (w_recv hW (q0 := 0) rfl rfl) rfl hl.1 (rest := []) rfl (Nat.le_of_ble_eq_true rfl) dX5_goesInto_3 ⟨Nat.le_of_ble_eq_true rfl, Nat.le_of_ble_eq_true rfl⟩ (fun locs hW => ?_)
  refine lv_iload_n S.1 S.2.1 dX5_goesInto_6 rfl (lv_at hl 3 rfl) ?_
  refine r_isub S dX5_goesInto_7 ?_
  refine lv_aload_n S.1 S.2.1 dX5_goesInto_8 rfl (lv_at hl 0 rfl) ?_
  refine lv_iload_n S.1 S.2.1 dX5_goesInto_9 rfl (lv_at hl 1 rfl) ?_
  refine lv_iload S.1 S.2.1 dX5_goesInto_10 (lv_at hl 4 rfl) ?_
  refine c_VP S hW (tX5_lengthOf l G ad σ army b (by omega) (by omega)) (cw_X5_230 S.2.2.2.2 ⟨Nat.le_of_ble_eq_true rfl, Nat.le_of_ble_eq_true rfl⟩) eBlind_T (fun _ _ _ => trivial) (w_recv hW (q0 := 0) rfl rfl) rfl hl.1 (rest := [.int (iI ((oLen (wr σ) army a) - f))]) rfl (Nat.le_of_ble_eq_true rfl) dX5_goesInto_12 ⟨Nat.le_of_ble_eq_true rfl, Nat.le_of_ble_eq_true rfl⟩ (fun locs hW => ?_)
  refine lv_iload S.1 S.2.1 dX5_goesInto_15 (lv_at hl 5 rfl) ?_
  refine r_isub S dX5_goesInto_17 ?_
  refine r_icmp_gt S (tgt := 25) dX5_goesInto_18 rfl (by omega) (fun c_18 => ?_) (fun c_18 => ?_)
  ·
    refine r_iconst S dX5_goesInto_25 ?_
    refine r_as (b2i (dP (oLen (wr σ) army a - f ≤ oLen (wr σ) army b - g))) (by first | exact dP_1 (by omega) | exact dP_0 (by omega)) ?_
    exact cut_26 _ _ hW (lv_sub hl [0, 1, 2, 3, 4, 5] rfl)
  ·
    refine r_iconst S dX5_goesInto_21 ?_
    refine lv_goto (tgt := 26) S.1 S.2.1 dX5_goesInto_22 rfl ?_
    refine r_as (b2i (dP (oLen (wr σ) army a - f ≤ oLen (wr σ) army b - g))) (by first | exact dP_1 (by omega) | exact dP_0 (by omega)) ?_
    exact cut_26 _ _ hW (lv_sub hl [0, 1, 2, 3, 4, 5] rfl)
