theorem hd_X5_lesser : yX5_lesser.cls ≠ "java/lang/invoke/MethodHandle" ∧ yX5_lesser.cls ≠ "java/lang/invoke/VarHandle" ∧ (parseMethodDescriptor yX5_lesser.desc).map (fun d => d.parameters.length) = some 2 := by decide +kernel
theorem cw_X5_320 {R : Room} {s : State} {args : Array Value} (ht : ∀ w ∈ lw_all, w.before args s = true) (hR : 0 + 1 ≤ R.frames ∧ 8 + (2 + 11) + 0 ≤ R.locals) : CallB R s args "OneDrumModel" 320 yX5_lesser cX5_lesser 2 (some .int) (ws_ yX5_lesser cX5_lesser 2 (some .int)) ⟨0, 0, 0, 0⟩ 0 0 2 ∧ (Cond.static yX5_lesser).before args s = true := va_cwS 2 ht (lw_S q2073 q2074 q126 q2075) rfl rfl rfl hd_X5_lesser hR
set_option maxHeartbeats 4000000 in
theorem tX5_apart (l : Launch) (G : GG) (ad : Nat → Nat) (σ : St) (n : Int) (mm : Int) (hn : 0 ≤ n ∧ n ≤ 64 ∧ 0 ≤ mm ∧ mm ≤ 64) (hlf : ∀ i : Int, 0 ≤ i → i < n → 0 ≤ σ 26 i ∧ σ 26 i ≤ 3) (hrr : ∀ i : Int, 0 ≤ i → i < mm → 0 ≤ σ 27 i ∧ σ 27 i ≤ 3) : Met l yX5_apart (ws_ yX5_apart cX5_apart 8 (some .int)) ⟨1, 0, 0, 21⟩ (wPre G shM ad σ (fun _ => True) [.ref (ad 0), .int (iI n), .int (iI mm)]) (qS G shM ad (aM ad) (rI (fun r σ' => (r = edI (σ 26) (σ 27) n mm) ∧ (same [28] σ σ')))) 0 0 (aM ad) := by
  refine wStart (by decide) (Nat.le_of_ble_eq_true rfl) (fun k hk => ⟨k, hk, rfl⟩) (fun p e s m below meth c S hr hlk _ _ ls hW hl => ?_)
  have hl : lv_has ls 8 [(0, .ref (ad 0)), (1, .int (iI n)), (2, .int (iI mm))] := hl
  refine r_iconst S dX5_apart_0 ?_
  refine lv_istore_n (lv' := [(3, .int (iI 0)), (0, .ref (ad 0)), (1, .int (iI n)), (2, .int (iI mm))]) S.1 S.2.1 dX5_apart_1 rfl hl (by decide) rfl (fun ls hl => ?_)
  have cut_2 : ∀ (N_2 : Nat) (j : Int) (σ1 : St) (H : Heap) (locs : List Loc) (ls : Array Slot), (0 ≤ j ∧ j ≤ mm + 1) → (same [28] σ σ1) → (fil σ1 28 j (fun x => x)) → ((mm + 1 - j).toNat) < N_2 → WD G shM ad (aM ad) s s.heap σ1 H locs → lv_has ls 8 [(3, .int (iI j)), (0, .ref (ad 0)), (1, .int (iI n)), (2, .int (iI mm))] → W p l e (⟨1, 0, 0, 21⟩ : Room) s m ([.ref (ad 0), .int (iI n), .int (iI mm)] : List Value).toArray below meth c H locs 0 0 (MQ below (qS G shM ad (aM ad) (rI (fun r σ' => (r = edI (σ 26) (σ 27) n mm) ∧ (same [28] σ σ')))) ([.ref (ad 0), .int (iI n), .int (iI mm)] : List Value).toArray s 0 0 (aM ad)) (F0 m 2 ls []) := by
    intro N_2
    induction N_2 with
    | zero =>
      intro j σ1 H locs ls hj hsm ha hμ_2 hW hl
      exact absurd hμ_2 (by omega)
    | succ N_2 ih_2 =>
      intro j σ1 H locs ls hj hsm ha hμ_2 hW hl
      refine lv_iload_n S.1 S.2.1 dX5_apart_2 rfl (lv_at hl 0 rfl) ?_
      refine lv_iload_n S.1 S.2.1 dX5_apart_3 rfl (lv_at hl 3 rfl) ?_
      refine r_icmp_gt S (tgt := 20) dX5_apart_4 rfl (by omega) (fun c_4 => ?_) (fun c_4 => ?_)
      ·
        refine r_iconst S dX5_apart_20 ?_
        refine lv_istore_n (lv' := [(3, .int (iI 1)), (0, .ref (ad 0)), (1, .int (iI n)), (2, .int (iI mm))]) S.1 S.2.1 dX5_apart_21 rfl hl (by decide) rfl (fun ls hl => ?_)
        have cut_22 : ∀ (N_22 : Nat) (i : Int) (σ2 : St) (H : Heap) (locs : List Loc) (ls : Array Slot), (1 ≤ i ∧ i ≤ n + 1) → (same [28] σ σ2) → (fil σ2 28 (mm + 1) (fun x => edI (σ 26) (σ 27) (i - 1) x)) → ((n + 1 - i).toNat) < N_22 → WD G shM ad (aM ad) s s.heap σ2 H locs → lv_has ls 8 [(3, .int (iI i)), (0, .ref (ad 0)), (1, .int (iI n)), (2, .int (iI mm))] → W p l e (⟨1, 0, 0, 21⟩ : Room) s m ([.ref (ad 0), .int (iI n), .int (iI mm)] : List Value).toArray below meth c H locs 0 0 (MQ below (qS G shM ad (aM ad) (rI (fun r σ' => (r = edI (σ 26) (σ 27) n mm) ∧ (same [28] σ σ')))) ([.ref (ad 0), .int (iI n), .int (iI mm)] : List Value).toArray s 0 0 (aM ad)) (F0 m 22 ls []) := by
          intro N_22
          induction N_22 with
          | zero =>
            intro i σ2 H locs ls hi hsm ha hμ_22 hW hl
            exact absurd hμ_22 (by omega)
          | succ N_22 ih_22 =>
            intro i σ2 H locs ls hi hsm ha hμ_22 hW hl
            refine lv_iload_n S.1 S.2.1 dX5_apart_22 rfl (lv_at hl 0 rfl) ?_
            refine lv_iload_n S.1 S.2.1 dX5_apart_23 rfl (lv_at hl 2 rfl) ?_
            refine r_icmp_gt S (tgt := 134) dX5_apart_24 rfl (by omega) (fun c_24 => ?_) (fun c_24 => ?_)
            ·
              refine lv_aload_n S.1 S.2.1 dX5_apart_134 rfl (lv_at hl 1 rfl) ?_
              refine w_getr S hW in_X5 0 rfl rfl 28 (by decide) q1679 rfl rfl dX5_apart_135 ?_
              refine lv_iload_n S.1 S.2.1 dX5_apart_138 rfl (lv_at hl 3 rfl) ?_
              refine w_ald S hW 18 0 rfl rfl (by omega) dX5_apart_139 ?_
              exact e_iS S hr hlk hW ⟨(σ2 28 mm), rfl, ⟨(by have := ha mm (by omega) (by omega); rw [this, show i - 1 = n by omega]), (hsm)⟩⟩ dX5_apart_140
            ·
              have ha0 := ha 0 (by omega) (by omega)
              have er0 := edI_rng (f := σ 26) (g := σ 27) (i := i - 1) (j := 0) (by omega) (by omega)
              refine lv_aload_n S.1 S.2.1 dX5_apart_27 rfl (lv_at hl 1 rfl) ?_
              refine w_getr S hW in_X5 0 rfl rfl 28 (by decide) q1679 rfl rfl dX5_apart_28 ?_
              refine r_iconst S dX5_apart_31 ?_
              refine w_ald S hW 18 0 rfl rfl (by omega) dX5_apart_32 ?_
              refine lv_istore (lv' := [(4, .int (iI (σ2 28 0))), (3, .int (iI i)), (0, .ref (ad 0)), (1, .int (iI n)), (2, .int (iI mm))]) S.1 S.2.1 dX5_apart_33 hl (by decide) rfl (fun ls hl => ?_)
              refine lv_aload_n S.1 S.2.1 dX5_apart_35 rfl (lv_at hl 2 rfl) ?_
              refine w_getr S hW in_X5 0 rfl rfl 28 (by decide) q1679 rfl rfl dX5_apart_36 ?_
              refine r_iconst S dX5_apart_39 ?_
              refine lv_iload_n S.1 S.2.1 dX5_apart_40 rfl (lv_at hl 1 rfl) ?_
              refine w_ast S hW 18 0 rfl rfl rfl (z := i) (by omega) dX5_apart_41 (fun H locs hW => ?_)
              refine r_iconst S dX5_apart_42 ?_
              refine lv_istore (lv' := [(5, .int (iI 1)), (4, .int (iI (σ2 28 0))), (3, .int (iI i)), (0, .ref (ad 0)), (1, .int (iI n)), (2, .int (iI mm))]) S.1 S.2.1 dX5_apart_43 hl (by decide) rfl (fun ls hl => ?_)
              have cut_45 : ∀ (N_45 : Nat) (j corner : Int) (σ3 : St) (H : Heap) (locs : List Loc) (ls : Array Slot), (1 ≤ j ∧ j ≤ mm + 1) → (same [28] σ σ3) → (corner = edI (σ 26) (σ 27) (i - 1) (j - 1)) → (fil σ3 28 (mm + 1) (fun x => if x < j then edI (σ 26) (σ 27) i x else edI (σ 26) (σ 27) (i - 1) x)) → ((mm + 1 - j).toNat) < N_45 → WD G shM ad (aM ad) s s.heap σ3 H locs → lv_has ls 8 [(5, .int (iI j)), (4, .int (iI corner)), (3, .int (iI i)), (0, .ref (ad 0)), (1, .int (iI n)), (2, .int (iI mm))] → W p l e (⟨1, 0, 0, 21⟩ : Room) s m ([.ref (ad 0), .int (iI n), .int (iI mm)] : List Value).toArray below meth c H locs 0 0 (MQ below (qS G shM ad (aM ad) (rI (fun r σ' => (r = edI (σ 26) (σ 27) n mm) ∧ (same [28] σ σ')))) ([.ref (ad 0), .int (iI n), .int (iI mm)] : List Value).toArray s 0 0 (aM ad)) (F0 m 45 ls []) := by
                intro N_45
                induction N_45 with
                | zero =>
                  intro j corner σ3 H locs ls hj hsm3 hco hb hμ_45 hW hl
                  exact absurd hμ_45 (by omega)
                | succ N_45 ih_45 =>
                  intro j corner σ3 H locs ls hj hsm3 hco hb hμ_45 hW hl
                  refine lv_iload S.1 S.2.1 dX5_apart_45 (lv_at hl 0 rfl) ?_
                  refine lv_iload_n S.1 S.2.1 dX5_apart_47 rfl (lv_at hl 5 rfl) ?_
                  refine r_icmp_gt S (tgt := 128) dX5_apart_48 rfl (by omega) (fun c_48 => ?_) (fun c_48 => ?_)
                  ·
                    refine lv_iinc (v := iI (i + 1)) (lv' := [(3, .int (iI (i + 1))), (5, .int (iI j)), (4, .int (iI corner)), (0, .ref (ad 0)), (1, .int (iI n)), (2, .int (iI mm))]) S.1 S.2.1 dX5_apart_128 hl (k := 2) rfl (iI_add _ _) (by decide) rfl (fun ls hl => ?_)
                    refine lv_goto (tgt := 22) S.1 S.2.1 dX5_apart_131 rfl ?_
                    exact ih_22 (i + 1) σ3 H _ _ (by omega) (hsm3) (fil_f hb (fun x x1 x2 => by rw [if_pos (by omega), show i + 1 - 1 = i by omega])) (by omega) hW (lv_sub hl [0, 3, 4, 5] rfl)
                  ·
                    have hbj : σ3 28 j = edI (σ 26) (σ 27) (i - 1) j := by have := hb j (by omega) (by omega); dsimp only at this; rw [if_neg (by omega)] at this; exact this
                    have hbj1 : σ3 28 (j - 1) = edI (σ 26) (σ 27) i (j - 1) := by have := hb (j - 1) (by omega) (by omega); dsimp only at this; rw [if_pos (by omega)] at this; exact this
                    have x26 : σ3 26 (i - 1) = σ 26 (i - 1) := by rw [hsm3 26 (by decide)]
                    have x27 : σ3 27 (j - 1) = σ 27 (j - 1) := by rw [hsm3 27 (by decide)]
                    have y26 := hlf (i - 1) (by omega) (by omega)
                    have y27 := hrr (j - 1) (by omega) (by omega)
                    have er1 := edI_rng (f := σ 26) (g := σ 27) (i := i - 1) (j := j) (by omega) (by omega)
                    have er2 := edI_rng (f := σ 26) (g := σ 27) (i := i) (j := j - 1) (by omega) (by omega)
                    have er3 := edI_rng (f := σ 26) (g := σ 27) (i := i - 1) (j := j - 1) (by omega) (by omega)
                    refine lv_aload_n S.1 S.2.1 dX5_apart_51 rfl (lv_at hl 3 rfl) ?_
                    refine w_getr S hW in_X5 0 rfl rfl 28 (by decide) q1679 rfl rfl dX5_apart_52 ?_
                    refine lv_iload S.1 S.2.1 dX5_apart_55 (lv_at hl 0 rfl) ?_
                    refine w_ald S hW 18 0 rfl rfl (by omega) dX5_apart_57 ?_
                    refine lv_istore (lv' := [(6, .int (iI (σ3 28 j))), (5, .int (iI j)), (4, .int (iI corner)), (3, .int (iI i)), (0, .ref (ad 0)), (1, .int (iI n)), (2, .int (iI mm))]) S.1 S.2.1 dX5_apart_58 hl (by decide) rfl (fun ls hl => ?_)
                    refine lv_iload S.1 S.2.1 dX5_apart_60 (lv_at hl 2 rfl) ?_
                    refine lv_aload_n S.1 S.2.1 dX5_apart_62 rfl (lv_at hl 4 rfl) ?_
                    refine w_getr S hW in_X5 0 rfl rfl 26 (by decide) q1677 rfl rfl dX5_apart_63 ?_
                    refine lv_iload_n S.1 S.2.1 dX5_apart_66 rfl (lv_at hl 3 rfl) ?_
                    refine r_iconst S dX5_apart_67 ?_
                    refine r_isub S dX5_apart_68 ?_
                    refine w_ald S hW 16 0 rfl rfl (by omega) dX5_apart_69 ?_
                    refine lv_aload_n S.1 S.2.1 dX5_apart_70 rfl (lv_at hl 4 rfl) ?_
                    refine w_getr S hW in_X5 0 rfl rfl 27 (by decide) q1678 rfl rfl dX5_apart_71 ?_
                    refine lv_iload S.1 S.2.1 dX5_apart_74 (lv_at hl 1 rfl) ?_
                    refine r_iconst S dX5_apart_76 ?_
                    refine r_isub S dX5_apart_77 ?_
                    refine w_ald S hW 17 0 rfl rfl (by omega) dX5_apart_78 ?_
                    refine r_icmp_ne S (tgt := 86) dX5_apart_79 rfl (by omega) (fun c_79 => ?_) (fun c_79 => ?_)
                    ·
                      refine r_iconst S dX5_apart_86 ?_
                      refine r_iadd S dX5_apart_87 ?_
                      refine lv_istore (lv' := [(7, .int (iI (corner + 1))), (6, .int (iI (σ3 28 j))), (5, .int (iI j)), (4, .int (iI corner)), (3, .int (iI i)), (0, .ref (ad 0)), (1, .int (iI n)), (2, .int (iI mm))]) S.1 S.2.1 dX5_apart_88 hl (by decide) rfl (fun ls hl => ?_)
                      refine lv_aload_n S.1 S.2.1 dX5_apart_90 rfl (lv_at hl 5 rfl) ?_
                      refine w_getr S hW in_X5 0 rfl rfl 28 (by decide) q1679 rfl rfl dX5_apart_91 ?_
                      refine lv_iload S.1 S.2.1 dX5_apart_94 (lv_at hl 2 rfl) ?_
                      refine lv_iload S.1 S.2.1 dX5_apart_96 (lv_at hl 0 rfl) ?_
                      refine lv_iload S.1 S.2.1 dX5_apart_98 (lv_at hl 1 rfl) ?_
                      refine lv_aload_n S.1 S.2.1 dX5_apart_100 rfl (lv_at hl 5 rfl) ?_
                      refine w_getr S hW in_X5 0 rfl rfl 28 (by decide) q1679 rfl rfl dX5_apart_101 ?_
                      refine lv_iload S.1 S.2.1 dX5_apart_104 (lv_at hl 2 rfl) ?_
                      refine r_iconst S dX5_apart_106 ?_
                      refine r_isub S dX5_apart_107 ?_
                      refine w_ald S hW 18 0 rfl rfl (by omega) dX5_apart_108 ?_
                      refine c_SPw S hW (tX5_lesser l (σ3 28 j) (σ3 28 (j - 1)) (by omega)) (cw_X5_320 S.2.2.2.2 ⟨Nat.le_of_ble_eq_true rfl, Nat.le_of_ble_eq_true rfl⟩) rfl hl.1 (rest := [.int (iI (corner + 1)), .int (iI j), .ref (ad 18)]) rfl (Nat.le_of_ble_eq_true rfl) dX5_apart_109 ⟨Nat.le_of_ble_eq_true rfl, Nat.le_of_ble_eq_true rfl⟩ (fun locs hW => ?_)
                      refine r_iconst S dX5_apart_112 ?_
                      refine r_iadd S dX5_apart_113 ?_
                      refine c_SPw S hW (tX5_lesser l (corner + 1) ((min (σ3 28 j) (σ3 28 (j - 1))) + 1) (by omega)) (cw_X5_320 S.2.2.2.2 ⟨Nat.le_of_ble_eq_true rfl, Nat.le_of_ble_eq_true rfl⟩) rfl hl.1 (rest := [.int (iI j), .ref (ad 18)]) rfl (Nat.le_of_ble_eq_true rfl) dX5_apart_114 ⟨Nat.le_of_ble_eq_true rfl, Nat.le_of_ble_eq_true rfl⟩ (fun locs hW => ?_)
                      refine w_ast S hW 18 0 rfl rfl rfl (z := (min (corner + 1) ((min (σ3 28 j) (σ3 28 (j - 1))) + 1))) (by omega) dX5_apart_117 (fun H locs hW => ?_)
                      refine lv_iload S.1 S.2.1 dX5_apart_118 (lv_at hl 1 rfl) ?_
                      refine lv_istore (lv' := [(4, .int (iI (σ3 28 j))), (7, .int (iI (corner + 1))), (6, .int (iI (σ3 28 j))), (5, .int (iI j)), (3, .int (iI i)), (0, .ref (ad 0)), (1, .int (iI n)), (2, .int (iI mm))]) S.1 S.2.1 dX5_apart_120 hl (by decide) rfl (fun ls hl => ?_)
                      refine lv_iinc (v := iI (j + 1)) (lv' := [(5, .int (iI (j + 1))), (4, .int (iI (σ3 28 j))), (7, .int (iI (corner + 1))), (6, .int (iI (σ3 28 j))), (3, .int (iI i)), (0, .ref (ad 0)), (1, .int (iI n)), (2, .int (iI mm))]) S.1 S.2.1 dX5_apart_122 hl (k := 3) rfl (iI_add _ _) (by decide) rfl (fun ls hl => ?_)
                      refine lv_goto (tgt := 45) S.1 S.2.1 dX5_apart_125 rfl ?_
                      exact ih_45 (j + 1) (σ3 28 j) (up σ3 28 j (min (corner + 1) ((min (σ3 28 j) (σ3 28 (j - 1))) + 1))) H _ _ (by omega) (same_up hsm3 (by decide)) (by rw [show j + 1 - 1 = j by omega]; exact hbj) (fil_mixU hb (by rw [edI_s (by omega) (by omega), ← hco]; first | rw [if_pos (by rw [← x26, ← x27]; exact c_79), ← hbj, ← hbj1] | rw [if_neg (fun z => c_79 (by rw [x26, x27]; exact z)), ← hbj, ← hbj1])) (by omega) hW (lv_sub hl [0, 1, 4, 5, 6, 7] rfl)
                    ·
                      refine r_iconst S dX5_apart_82 ?_
                      refine lv_goto (tgt := 87) S.1 S.2.1 dX5_apart_83 rfl ?_
                      refine r_iadd S dX5_apart_87 ?_
                      refine lv_istore (lv' := [(7, .int (iI (corner + 0))), (6, .int (iI (σ3 28 j))), (5, .int (iI j)), (4, .int (iI corner)), (3, .int (iI i)), (0, .ref (ad 0)), (1, .int (iI n)), (2, .int (iI mm))]) S.1 S.2.1 dX5_apart_88 hl (by decide) rfl (fun ls hl => ?_)
                      refine lv_aload_n S.1 S.2.1 dX5_apart_90 rfl (lv_at hl 5 rfl) ?_
                      refine w_getr S hW in_X5 0 rfl rfl 28 (by decide) q1679 rfl rfl dX5_apart_91 ?_
                      refine lv_iload S.1 S.2.1 dX5_apart_94 (lv_at hl 2 rfl) ?_
                      refine lv_iload S.1 S.2.1 dX5_apart_96 (lv_at hl 0 rfl) ?_
                      refine lv_iload S.1 S.2.1 dX5_apart_98 (lv_at hl 1 rfl) ?_
                      refine lv_aload_n S.1 S.2.1 dX5_apart_100 rfl (lv_at hl 5 rfl) ?_
                      refine w_getr S hW in_X5 0 rfl rfl 28 (by decide) q1679 rfl rfl dX5_apart_101 ?_
                      refine lv_iload S.1 S.2.1 dX5_apart_104 (lv_at hl 2 rfl) ?_
                      refine r_iconst S dX5_apart_106 ?_
                      refine r_isub S dX5_apart_107 ?_
                      refine w_ald S hW 18 0 rfl rfl (by omega) dX5_apart_108 ?_
                      refine c_SPw S hW (tX5_lesser l (σ3 28 j) (σ3 28 (j - 1)) (by omega)) (cw_X5_320 S.2.2.2.2 ⟨Nat.le_of_ble_eq_true rfl, Nat.le_of_ble_eq_true rfl⟩) rfl hl.1 (rest := [.int (iI (corner + 0)), .int (iI j), .ref (ad 18)]) rfl (Nat.le_of_ble_eq_true rfl) dX5_apart_109 ⟨Nat.le_of_ble_eq_true rfl, Nat.le_of_ble_eq_true rfl⟩ (fun locs hW => ?_)
                      refine r_iconst S dX5_apart_112 ?_
                      refine r_iadd S dX5_apart_113 ?_
                      refine c_SPw S hW (tX5_lesser l (corner + 0) ((min (σ3 28 j) (σ3 28 (j - 1))) + 1) (by omega)) (cw_X5_320 S.2.2.2.2 ⟨Nat.le_of_ble_eq_true rfl, Nat.le_of_ble_eq_true rfl⟩) rfl hl.1 (rest := [.int (iI j), .ref (ad 18)]) rfl (Nat.le_of_ble_eq_true rfl) dX5_apart_114 ⟨Nat.le_of_ble_eq_true rfl, Nat.le_of_ble_eq_true rfl⟩ (fun locs hW => ?_)
                      refine w_ast S hW 18 0 rfl rfl rfl (z := (min (corner + 0) ((min (σ3 28 j) (σ3 28 (j - 1))) + 1))) (by omega) dX5_apart_117 (fun H locs hW => ?_)
                      refine lv_iload S.1 S.2.1 dX5_apart_118 (lv_at hl 1 rfl) ?_
                      refine lv_istore (lv' := [(4, .int (iI (σ3 28 j))), (7, .int (iI (corner + 0))), (6, .int (iI (σ3 28 j))), (5, .int (iI j)), (3, .int (iI i)), (0, .ref (ad 0)), (1, .int (iI n)), (2, .int (iI mm))]) S.1 S.2.1 dX5_apart_120 hl (by decide) rfl (fun ls hl => ?_)
                      refine lv_iinc (v := iI (j + 1)) (lv' := [(5, .int (iI (j + 1))), (4, .int (iI (σ3 28 j))), (7, .int (iI (corner + 0))), (6, .int (iI (σ3 28 j))), (3, .int (iI i)), (0, .ref (ad 0)), (1, .int (iI n)), (2, .int (iI mm))]) S.1 S.2.1 dX5_apart_122 hl (k := 3) rfl (iI_add _ _) (by decide) rfl (fun ls hl => ?_)
                      refine lv_goto (tgt := 45) S.1 S.2.1 dX5_apart_125 rfl ?_
                      exact ih_45 (j + 1) (σ3 28 j) (up σ3 28 j (min (corner + 0) ((min (σ3 28 j) (σ3 28 (j - 1))) + 1))) H _ _ (by omega) (same_up hsm3 (by decide)) (by rw [show j + 1 - 1 = j by omega]; exact hbj) (fil_mixU hb (by rw [edI_s (by omega) (by omega), ← hco]; first | rw [if_pos (by rw [← x26, ← x27]; exact c_79), ← hbj, ← hbj1] | rw [if_neg (fun z => c_79 (by rw [x26, x27]; exact z)), ← hbj, ← hbj1])) (by omega) hW (lv_sub hl [0, 1, 4, 5, 6, 7] rfl)
              exact cut_45 _ 1 (σ2 28 0) (up σ2 28 0 i) H _ _ (by omega) (same_up hsm (by decide)) (by have := ha 0 (by omega) (by omega); rw [show (1 : Int) - 1 = 0 by omega]; exact this) (fil_set ha (by rw [if_pos (by omega), edI_i0 (by omega)]) (fun x hx x1 x2 => by rw [if_neg (by omega)])) (Nat.lt_succ_self _) hW (lv_sub hl [0, 1, 2, 3, 4, 5] rfl)
        exact cut_22 _ 1 σ1 H _ _ (by omega) (hsm) (fil_f (fil_le ha (by omega)) (fun x x1 x2 => by rw [show (1 : Int) - 1 = 0 by omega, edI_0 x1])) (Nat.lt_succ_self _) hW (lv_sub hl [0, 1, 2, 3] rfl)
      ·
        refine lv_aload_n S.1 S.2.1 dX5_apart_7 rfl (lv_at hl 1 rfl) ?_
        refine w_getr S hW in_X5 0 rfl rfl 28 (by decide) q1679 rfl rfl dX5_apart_8 ?_
        refine lv_iload_n S.1 S.2.1 dX5_apart_11 rfl (lv_at hl 0 rfl) ?_
        refine lv_iload_n S.1 S.2.1 dX5_apart_12 rfl (lv_at hl 0 rfl) ?_
        refine w_ast S hW 18 0 rfl rfl rfl (z := j) (by omega) dX5_apart_13 (fun H locs hW => ?_)
        refine lv_iinc (v := iI (j + 1)) (lv' := [(3, .int (iI (j + 1))), (0, .ref (ad 0)), (1, .int (iI n)), (2, .int (iI mm))]) S.1 S.2.1 dX5_apart_14 hl (k := 0) rfl (iI_add _ _) (by decide) rfl (fun ls hl => ?_)
        refine lv_goto (tgt := 2) S.1 S.2.1 dX5_apart_17 rfl ?_
        exact ih_2 (j + 1) (up σ1 28 j j) H _ _ (by omega) (same_up hsm (by decide)) (fil_up ha rfl) (by omega) hW (lv_sub hl [0, 1, 2, 3] rfl)
  exact cut_2 _ 0 σ s.heap _ _ (by omega) (same_rf) (fil_0) (Nat.lt_succ_self _) hW (lv_sub hl [0, 1, 2, 3] rfl)
theorem hd_X5_apart : yX5_apart.cls = RX5 ∧ yX5_apart.cls ≠ "java/lang/invoke/MethodHandle" ∧ yX5_apart.cls ≠ "java/lang/invoke/VarHandle" ∧ (parseMethodDescriptor yX5_apart.desc).map (fun d => d.parameters.length) = some 2 := by decide +kernel
theorem cw_X5_323 {R : Room} {s : State} {args : Array Value} (ht : ∀ w ∈ lw_all, w.before args s = true) (hR : 1 + 1 ≤ R.frames ∧ 8 + (8 + 11) + 21 ≤ R.locals) : CallW R s args "OneDrumModel" RX5 323 yX5_apart cX5_apart 8 (some .int) (ws_ yX5_apart cX5_apart 8 (some .int)) ⟨1, 0, 0, 21⟩ 0 0 2 := cwV 2 ht (lw_V q2069 q2071 qs98 q126 q2072) rfl rfl rfl hd_X5_apart hR
set_option maxHeartbeats 4000000 in
theorem tX5_farOf (l : Launch) (G : GG) (ad : Nat → Nat) (σ : St) (army : Int) (x : Int) (y : Int) (hw0 : 0 ≤ σ 10 0 ∧ σ 10 0 ≤ 700) (ha : 0 ≤ army ∧ army ≤ 1) (hA : WfArmy (wr σ) army) (hx : 0 ≤ x ∧ x < wr σ (15 + army)) (hy : 0 ≤ y ∧ y < wr σ (15 + army)) : Met l yX5_farOf (ws_ yX5_farOf cX5_farOf 5 (some .int)) ⟨2, 0, 0, 48⟩ (wPre G shM ad σ (fun _ => True) [.ref (ad 0), .int (iI army), .int (iI x), .int (iI y)]) (qS G shM ad (aM ad) (rI (fun r σ' => (r = edO (wr σ) army x y) ∧ (same [26, 27, 28] σ σ')))) 0 0 (aM ad) := by
  refine wStart (by decide) (Nat.le_of_ble_eq_true rfl) (fun k hk => ⟨k, hk, rfl⟩) (fun p e s m below meth c S hr hlk _ _ ls hW hl => ?_)
  have hl : lv_has ls 5 [(0, .ref (ad 0)), (1, .int (iI army)), (2, .int (iI x)), (3, .int (iI y))] := hl
  have h5 := hA.2.2.2.2.1
  have hX := hA.2.2.2.2.2 x hx.1 hx.2
  have hY := hA.2.2.2.2.2 y hy.1 hy.2
  have hX2 := hX.2.1
  have hY2 := hY.2.1
  refine r_iconst S dX5_farOf_0 ?_
  refine lv_istore (lv' := [(4, .int (iI 0)), (0, .ref (ad 0)), (1, .int (iI army)), (2, .int (iI x)), (3, .int (iI y))]) S.1 S.2.1 dX5_farOf_1 hl (by decide) rfl (fun ls hl => ?_)
  have cut_3 : ∀ (N_3 : Nat) (i : Int) (σ1 : St) (H : Heap) (locs : List Loc) (ls : Array Slot), (0 ≤ i ∧ i ≤ oLen (wr σ) army x) → (same [26, 27, 28] σ σ1) → (fil σ1 26 i (oBeat (wr σ) army x)) → ((oLen (wr σ) army x - i).toNat) < N_3 → WD G shM ad (aM ad) s s.heap σ1 H locs → lv_has ls 5 [(4, .int (iI i)), (0, .ref (ad 0)), (1, .int (iI army)), (2, .int (iI x)), (3, .int (iI y))] → W p l e (⟨2, 0, 0, 48⟩ : Room) s m ([.ref (ad 0), .int (iI army), .int (iI x), .int (iI y)] : List Value).toArray below meth c H locs 0 0 (MQ below (qS G shM ad (aM ad) (rI (fun r σ' => (r = edO (wr σ) army x y) ∧ (same [26, 27, 28] σ σ')))) ([.ref (ad 0), .int (iI army), .int (iI x), .int (iI y)] : List Value).toArray s 0 0 (aM ad)) (F0 m 3 ls []) := by
    intro N_3
    induction N_3 with
    | zero =>
      intro i σ1 H locs ls hi hsm hf hμ_3 hW hl
      exact absurd hμ_3 (by omega)
    | succ N_3 ih_3 =>
      intro i σ1 H locs ls hi hsm hf hμ_3 hW hl
      have e0 : σ1 0 = σ 0 := hsm 0 (by decide)
      have e10 : σ1 10 = σ 10 := hsm 10 (by decide)
      have wq : wr σ1 = wr σ := by funext j; simp only [wr, e0, e10]
      have w10 : σ1 10 0 = σ 10 0 := by rw [e10]
      have wq0 : wr σ1 0 = wr σ 0 := by rw [wq]
      have olx : oLen (wr σ1) army x = oLen (wr σ) army x := by rw [wq]
      refine lv_iload S.1 S.2.1 dX5_farOf_3 (lv_at hl 0 rfl) ?_
      refine lv_aload_n S.1 S.2.1 dX5_farOf_5 rfl (lv_at hl 1 rfl) ?_
      refine lv_iload_n S.1 S.2.1 dX5_farOf_6 rfl (lv_at hl 2 rfl) ?_
      refine lv_iload_n S.1 S.2.1 dX5_farOf_7 rfl (lv_at hl 3 rfl) ?_
      refine c_VP S hW (tX5_lengthOf l G ad σ1 army x (by omega) (by omega)) (cw_X5_230 S.2.2.2.2 ⟨Nat.le_of_ble_eq_true rfl, Nat.le_of_ble_eq_true rfl⟩) eBlind_T (fun _ _ _ => trivial) (w_recv hW (q0 := 0) rfl rfl) rfl hl.1 (rest := [.int (iI i)]) rfl (Nat.le_of_ble_eq_true rfl) dX5_farOf_8 ⟨Nat.le_of_ble_eq_true rfl, Nat.le_of_ble_eq_true rfl⟩ (fun locs hW => ?_)
      refine r_icmp_ge S (tgt := 35) dX5_farOf_11 rfl (by omega) (fun c_11 => ?_) (fun c_11 => ?_)
      ·
        refine r_iconst S dX5_farOf_35 ?_
        refine lv_istore (lv' := [(4, .int (iI 0)), (0, .ref (ad 0)), (1, .int (iI army)), (2, .int (iI x)), (3, .int (iI y))]) S.1 S.2.1 dX5_farOf_36 hl (by decide) rfl (fun ls hl => ?_)
        have cut_38 : ∀ (N_38 : Nat) (i : Int) (σ2 : St) (H : Heap) (locs : List Loc) (ls : Array Slot), (0 ≤ i ∧ i ≤ oLen (wr σ) army y) → (same [26, 27, 28] σ σ2) → (fil σ2 26 (oLen (wr σ) army x) (oBeat (wr σ) army x)) → (fil σ2 27 i (oBeat (wr σ) army y)) → ((oLen (wr σ) army y - i).toNat) < N_38 → WD G shM ad (aM ad) s s.heap σ2 H locs → lv_has ls 5 [(4, .int (iI i)), (0, .ref (ad 0)), (1, .int (iI army)), (2, .int (iI x)), (3, .int (iI y))] → W p l e (⟨2, 0, 0, 48⟩ : Room) s m ([.ref (ad 0), .int (iI army), .int (iI x), .int (iI y)] : List Value).toArray below meth c H locs 0 0 (MQ below (qS G shM ad (aM ad) (rI (fun r σ' => (r = edO (wr σ) army x y) ∧ (same [26, 27, 28] σ σ')))) ([.ref (ad 0), .int (iI army), .int (iI x), .int (iI y)] : List Value).toArray s 0 0 (aM ad)) (F0 m 38 ls []) := by
          intro N_38
          induction N_38 with
          | zero =>
            intro i σ2 H locs ls hi hsm hf hg hμ_38 hW hl
            exact absurd hμ_38 (by omega)
          | succ N_38 ih_38 =>
            intro i σ2 H locs ls hi hsm hf hg hμ_38 hW hl
            have e0 : σ2 0 = σ 0 := hsm 0 (by decide)
            have e10 : σ2 10 = σ 10 := hsm 10 (by decide)
            have wq : wr σ2 = wr σ := by funext j; simp only [wr, e0, e10]
            have w10 : σ2 10 0 = σ 10 0 := by rw [e10]
            have wq0 : wr σ2 0 = wr σ 0 := by rw [wq]
            have olx : oLen (wr σ2) army x = oLen (wr σ) army x := by rw [wq]
            have oly : oLen (wr σ2) army y = oLen (wr σ) army y := by rw [wq]
            refine lv_iload S.1 S.2.1 dX5_farOf_38 (lv_at hl 0 rfl) ?_
            refine lv_aload_n S.1 S.2.1 dX5_farOf_40 rfl (lv_at hl 1 rfl) ?_
            refine lv_iload_n S.1 S.2.1 dX5_farOf_41 rfl (lv_at hl 2 rfl) ?_
            refine lv_iload_n S.1 S.2.1 dX5_farOf_42 rfl (lv_at hl 4 rfl) ?_
            refine c_VP S hW (tX5_lengthOf l G ad σ2 army y (by omega) (by omega)) (cw_X5_230 S.2.2.2.2 ⟨Nat.le_of_ble_eq_true rfl, Nat.le_of_ble_eq_true rfl⟩) eBlind_T (fun _ _ _ => trivial) (w_recv hW (q0 := 0) rfl rfl) rfl hl.1 (rest := [.int (iI i)]) rfl (Nat.le_of_ble_eq_true rfl) dX5_farOf_43 ⟨Nat.le_of_ble_eq_true rfl, Nat.le_of_ble_eq_true rfl⟩ (fun locs hW => ?_)
            refine r_icmp_ge S (tgt := 70) dX5_farOf_46 rfl (by omega) (fun c_46 => ?_) (fun c_46 => ?_)
            ·
              refine lv_aload_n S.1 S.2.1 dX5_farOf_70 rfl (lv_at hl 1 rfl) ?_
              refine lv_aload_n S.1 S.2.1 dX5_farOf_71 rfl (lv_at hl 1 rfl) ?_
              refine lv_iload_n S.1 S.2.1 dX5_farOf_72 rfl (lv_at hl 2 rfl) ?_
              refine lv_iload_n S.1 S.2.1 dX5_farOf_73 rfl (lv_at hl 3 rfl) ?_
              refine c_VP S hW (tX5_lengthOf l G ad σ2 army x (by omega) (by omega)) (cw_X5_230 S.2.2.2.2 ⟨Nat.le_of_ble_eq_true rfl, Nat.le_of_ble_eq_true rfl⟩) eBlind_T (fun _ _ _ => trivial) (w_recv hW (q0 := 0) rfl rfl) rfl hl.1 (rest := [.ref (ad 0)]) rfl (Nat.le_of_ble_eq_true rfl) dX5_farOf_74 ⟨Nat.le_of_ble_eq_true rfl, Nat.le_of_ble_eq_true rfl⟩ (fun locs hW => ?_)
              refine lv_aload_n S.1 S.2.1 dX5_farOf_77 rfl (lv_at hl 1 rfl) ?_
              refine lv_iload_n S.1 S.2.1 dX5_farOf_78 rfl (lv_at hl 2 rfl) ?_
              refine lv_iload_n S.1 S.2.1 dX5_farOf_79 rfl (lv_at hl 4 rfl) ?_
              refine c_VP S hW (tX5_lengthOf l G ad σ2 army y (by omega) (by omega)) (cw_X5_230 S.2.2.2.2 ⟨Nat.le_of_ble_eq_true rfl, Nat.le_of_ble_eq_true rfl⟩) eBlind_T (fun _ _ _ => trivial) (w_recv hW (q0 := 0) rfl rfl) rfl hl.1 (rest := [.int (iI (oLen (wr σ2) army x)), .ref (ad 0)]) rfl (Nat.le_of_ble_eq_true rfl) dX5_farOf_80 ⟨Nat.le_of_ble_eq_true rfl, Nat.le_of_ble_eq_true rfl⟩ (fun locs hW => ?_)
              refine r_as (oLen (wr σ) army y) (oly) ?_
              refine c_VSi S hW (tX5_apart l G ad σ2 (oLen (wr σ2) army x) (oLen (wr σ) army y) (by omega) (fun j j1 j2 => by rw [hf j j1 (by omega)]; exact hX.2.2 j j1 (by omega)) (fun j j1 j2 => by rw [hg j j1 (by omega)]; exact hY.2.2 j j1 (by omega))) (cw_X5_323 S.2.2.2.2 ⟨Nat.le_of_ble_eq_true rfl, Nat.le_of_ble_eq_true rfl⟩) eBlind_T (fun _ _ _ => trivial) (w_recv hW (q0 := 0) rfl rfl) rfl hl.1 (rest := []) rfl (Nat.le_of_ble_eq_true rfl) dX5_farOf_83 ⟨Nat.le_of_ble_eq_true rfl, Nat.le_of_ble_eq_true rfl⟩ (fun r83 σ83 H locs q83 hW => ?_)
              obtain ⟨rfl, q83_sm⟩ := q83
              exact e_iS S hr hlk hW ⟨(edI (σ2 26) (σ2 27) (oLen (wr σ2) army x) (oLen (wr σ) army y)), rfl, ⟨(by rw [olx]; exact edI_congr (fun j j1 j2 => hf j j1 j2) (fun j j1 j2 => hg j j1 (by omega))), (same_tr hsm q83_sm (by decide))⟩⟩ dX5_farOf_86
            ·
              refine lv_aload_n S.1 S.2.1 dX5_farOf_49 rfl (lv_at hl 1 rfl) ?_
              refine w_getr S hW in_X5 0 rfl rfl 27 (by decide) q1678 rfl rfl dX5_farOf_50 ?_
              refine lv_iload S.1 S.2.1 dX5_farOf_53 (lv_at hl 0 rfl) ?_
              refine lv_aload_n S.1 S.2.1 dX5_farOf_55 rfl (lv_at hl 1 rfl) ?_
              refine lv_iload_n S.1 S.2.1 dX5_farOf_56 rfl (lv_at hl 2 rfl) ?_
              refine lv_iload_n S.1 S.2.1 dX5_farOf_57 rfl (lv_at hl 4 rfl) ?_
              refine lv_iload S.1 S.2.1 dX5_farOf_58 (lv_at hl 0 rfl) ?_
              refine c_VP S hW (tX5_beatOf l G ad σ2 army y i (by omega) (by omega)) (cw_X5_233 S.2.2.2.2 ⟨Nat.le_of_ble_eq_true rfl, Nat.le_of_ble_eq_true rfl⟩) eBlind_T (fun _ _ _ => trivial) (w_recv hW (q0 := 0) rfl rfl) rfl hl.1 (rest := [.int (iI i), .ref (ad 17)]) rfl (Nat.le_of_ble_eq_true rfl) dX5_farOf_60 ⟨Nat.le_of_ble_eq_true rfl, Nat.le_of_ble_eq_true rfl⟩ (fun locs hW => ?_)
              refine w_ast S hW 17 0 rfl rfl rfl (z := (oBeat (wr σ2) army y i)) (by omega) dX5_farOf_63 (fun H locs hW => ?_)
              refine lv_iinc (v := iI (i + 1)) (lv' := [(4, .int (iI (i + 1))), (0, .ref (ad 0)), (1, .int (iI army)), (2, .int (iI x)), (3, .int (iI y))]) S.1 S.2.1 dX5_farOf_64 hl (k := 0) rfl (iI_add _ _) (by decide) rfl (fun ls hl => ?_)
              refine lv_goto (tgt := 38) S.1 S.2.1 dX5_farOf_67 rfl ?_
              exact ih_38 (i + 1) (up σ2 27 i (oBeat (wr σ2) army y i)) H _ _ (by omega) (same_up hsm (by decide)) (fil_ne hf (by decide)) (fil_up hg (by rw [wq])) (by omega) hW (lv_sub hl [0, 1, 2, 3, 4] rfl)
        exact cut_38 _ 0 σ1 H _ _ (by omega) (hsm) (fil_le hf (by omega)) (fil_0) (Nat.lt_succ_self _) hW (lv_sub hl [0, 1, 2, 3, 4] rfl)
      ·
        refine lv_aload_n S.1 S.2.1 dX5_farOf_14 rfl (lv_at hl 1 rfl) ?_
        refine w_getr S hW in_X5 0 rfl rfl 26 (by decide) q1677 rfl rfl dX5_farOf_15 ?_
        refine lv_iload S.1 S.2.1 dX5_farOf_18 (lv_at hl 0 rfl) ?_
        refine lv_aload_n S.1 S.2.1 dX5_farOf_20 rfl (lv_at hl 1 rfl) ?_
        refine lv_iload_n S.1 S.2.1 dX5_farOf_21 rfl (lv_at hl 2 rfl) ?_
        refine lv_iload_n S.1 S.2.1 dX5_farOf_22 rfl (lv_at hl 3 rfl) ?_
        refine lv_iload S.1 S.2.1 dX5_farOf_23 (lv_at hl 0 rfl) ?_
        refine c_VP S hW (tX5_beatOf l G ad σ1 army x i (by omega) (by omega)) (cw_X5_233 S.2.2.2.2 ⟨Nat.le_of_ble_eq_true rfl, Nat.le_of_ble_eq_true rfl⟩) eBlind_T (fun _ _ _ => trivial) (w_recv hW (q0 := 0) rfl rfl) rfl hl.1 (rest := [.int (iI i), .ref (ad 16)]) rfl (Nat.le_of_ble_eq_true rfl) dX5_farOf_25 ⟨Nat.le_of_ble_eq_true rfl, Nat.le_of_ble_eq_true rfl⟩ (fun locs hW => ?_)
        refine w_ast S hW 16 0 rfl rfl rfl (z := (oBeat (wr σ1) army x i)) (by omega) dX5_farOf_28 (fun H locs hW => ?_)
        refine lv_iinc (v := iI (i + 1)) (lv' := [(4, .int (iI (i + 1))), (0, .ref (ad 0)), (1, .int (iI army)), (2, .int (iI x)), (3, .int (iI y))]) S.1 S.2.1 dX5_farOf_29 hl (k := 0) rfl (iI_add _ _) (by decide) rfl (fun ls hl => ?_)
        refine lv_goto (tgt := 3) S.1 S.2.1 dX5_farOf_32 rfl ?_
        exact ih_3 (i + 1) (up σ1 26 i (oBeat (wr σ1) army x i)) H _ _ (by omega) (same_up hsm (by decide)) (fil_up hf (by rw [wq])) (by omega) hW (lv_sub hl [0, 1, 2, 3, 4] rfl)
  exact cut_3 _ 0 σ s.heap _ _ (by omega) (same_rf) (fil_0) (Nat.lt_succ_self _) hW (lv_sub hl [0, 1, 2, 3, 4] rfl)
set_option maxHeartbeats 4000000 in
theorem tX5_beginsWith (l : Launch) (G : GG) (ad : Nat → Nat) (σ : St) (ax : Int) (x : Int) (ay : Int) (y : Int) (hw0 : 0 ≤ σ 10 0 ∧ σ 10 0 ≤ 700) (ha : 0 ≤ ax ∧ ax ≤ 1 ∧ 0 ≤ ay ∧ ay ≤ 1) (hAx : WfArmy (wr σ) ax) (hAy : WfArmy (wr σ) ay) (hx : 0 ≤ x ∧ x < wr σ (15 + ax)) (hy : 0 ≤ y ∧ y < wr σ (15 + ay)) : Met l yX5_beginsWith (ws_ yX5_beginsWith cX5_beginsWith 7 (some .boolean)) ⟨2, 0, 0, 45⟩ (wPre G shM ad σ (fun _ => True) [.ref (ad 0), .int (iI ax), .int (iI x), .int (iI ay), .int (iI y)]) (qP (.int (iI (b2i (dP (bgn (wr σ) ax x ay y)))))) 0 0 (aM ad) := by
  refine wStart (by decide) (Nat.le_of_ble_eq_true rfl) (fun k hk => ⟨k, hk, rfl⟩) (fun p e s m below meth c S hr hlk _ _ ls hW hl => ?_)
  have hl : lv_has ls 7 [(0, .ref (ad 0)), (1, .int (iI ax)), (2, .int (iI x)), (3, .int (iI ay)), (4, .int (iI y))] := hl
  have h5 := hAx.2.2.2.2.1
  have h6 := hAy.2.2.2.2.1
  have hX := hAx.2.2.2.2.2 x hx.1 hx.2
  have hY := hAy.2.2.2.2.2 y hy.1 hy.2
  have hX2 := hX.2.1
  have hY2 := hY.2.1
  refine lv_aload_n S.1 S.2.1 dX5_beginsWith_0 rfl (lv_at hl 0 rfl) ?_
  refine lv_iload_n S.1 S.2.1 dX5_beginsWith_1 rfl (lv_at hl 1 rfl) ?_
  refine lv_iload_n S.1 S.2.1 dX5_beginsWith_2 rfl (lv_at hl 2 rfl) ?_
  refine c_VP S hW (tX5_lengthOf l G ad σ ax x (by omega) (by omega)) (cw_X5_230 S.2.2.2.2 ⟨Nat.le_of_ble_eq_true rfl, Nat.le_of_ble_eq_true rfl⟩) eBlind_T (fun _ _ _ => trivial) (w_recv hW (q0 := 0) rfl rfl) rfl hl.1 (rest := []) rfl (Nat.le_of_ble_eq_true rfl) dX5_beginsWith_3 ⟨Nat.le_of_ble_eq_true rfl, Nat.le_of_ble_eq_true rfl⟩ (fun locs hW => ?_)
  refine lv_aload_n S.1 S.2.1 dX5_beginsWith_6 rfl (lv_at hl 0 rfl) ?_
  refine lv_iload_n S.1 S.2.1 dX5_beginsWith_7 rfl (lv_at hl 3 rfl) ?_
  refine lv_iload S.1 S.2.1 dX5_beginsWith_8 (lv_at hl 4 rfl) ?_
  refine c_VP S hW (tX5_lengthOf l G ad σ ay y (by omega) (by omega)) (cw_X5_230 S.2.2.2.2 ⟨Nat.le_of_ble_eq_true rfl, Nat.le_of_ble_eq_true rfl⟩) eBlind_T (fun _ _ _ => trivial) (w_recv hW (q0 := 0) rfl rfl) rfl hl.1 (rest := [.int (iI (oLen (wr σ) ax x))]) rfl (Nat.le_of_ble_eq_true rfl) dX5_beginsWith_10 ⟨Nat.le_of_ble_eq_true rfl, Nat.le_of_ble_eq_true rfl⟩ (fun locs hW => ?_)
  have cut_26 : ∀ (N_26 : Nat) (i : Int) (locs : List Loc) (ls : Array Slot), (0 ≤ i ∧ i ≤ oLen (wr σ) ay y) → ((oLen (wr σ) ay y - i).toNat) < N_26 → WD G shM ad (aM ad) s s.heap σ s.heap locs → lv_has ls 7 [(0, .ref (ad 0)), (1, .int (iI ax)), (2, .int (iI x)), (3, .int (iI ay)), (4, .int (iI y)), (5, .int (iI (b2i (dP (bgU (wr σ) ax x ay y i))))), (6, .int (iI i))] → W p l e (⟨2, 0, 0, 45⟩ : Room) s m ([.ref (ad 0), .int (iI ax), .int (iI x), .int (iI ay), .int (iI y)] : List Value).toArray below meth c s.heap locs 0 0 (MQ below (qP (.int (iI (b2i (dP (bgn (wr σ) ax x ay y)))))) ([.ref (ad 0), .int (iI ax), .int (iI x), .int (iI ay), .int (iI y)] : List Value).toArray s 0 0 (aM ad)) (F0 m 26 ls []) := by
    intro N_26
    induction N_26 with
    | zero =>
      intro i locs ls hi hμ_26 hW hl
      exact absurd hμ_26 (by omega)
    | succ N_26 ih_26 =>
      intro i locs ls hi hμ_26 hW hl
      refine lv_iload S.1 S.2.1 dX5_beginsWith_26 (lv_at hl 6 rfl) ?_
      refine lv_aload_n S.1 S.2.1 dX5_beginsWith_28 rfl (lv_at hl 0 rfl) ?_
      refine lv_iload_n S.1 S.2.1 dX5_beginsWith_29 rfl (lv_at hl 3 rfl) ?_
      refine lv_iload S.1 S.2.1 dX5_beginsWith_30 (lv_at hl 4 rfl) ?_
      refine c_VP S hW (tX5_lengthOf l G ad σ ay y (by omega) (by omega)) (cw_X5_230 S.2.2.2.2 ⟨Nat.le_of_ble_eq_true rfl, Nat.le_of_ble_eq_true rfl⟩) eBlind_T (fun _ _ _ => trivial) (w_recv hW (q0 := 0) rfl rfl) rfl hl.1 (rest := [.int (iI i)]) rfl (Nat.le_of_ble_eq_true rfl) dX5_beginsWith_32 ⟨Nat.le_of_ble_eq_true rfl, Nat.le_of_ble_eq_true rfl⟩ (fun locs hW => ?_)
      refine r_icmp_ge S (tgt := 76) dX5_beginsWith_35 rfl (by omega) (fun c_35 => ?_) (fun c_35 => ?_)
      ·
        refine lv_iload S.1 S.2.1 dX5_beginsWith_76 (lv_at hl 5 rfl) ?_
        exact e_zP S hr hlk hW.2.2.2.2 (congrArg b2i (dP_c (bgU_end hi.2 (by first | exact Or.inl (by omega) | exact Or.inr c_40)))) dX5_beginsWith_78
      ·
        refine lv_iload S.1 S.2.1 dX5_beginsWith_38 (lv_at hl 5 rfl) ?_
        refine r_ifeq_p S (tgt := 76) dX5_beginsWith_40 rfl (fun c_40 => ?_) (fun c_40 => ?_)
        ·
          refine lv_iload S.1 S.2.1 dX5_beginsWith_76 (lv_at hl 5 rfl) ?_
          exact e_zP S hr hlk hW.2.2.2.2 (congrArg b2i (dP_c (bgU_end hi.2 (by first | exact Or.inl (by omega) | exact Or.inr c_40)))) dX5_beginsWith_78
        ·
          have hle := c_40.1
          have hb1 := hX.2.2 i (by omega) (by omega)
          have hb2 := hY.2.2 i (by omega) (by omega)
          refine lv_aload_n S.1 S.2.1 dX5_beginsWith_43 rfl (lv_at hl 0 rfl) ?_
          refine lv_iload_n S.1 S.2.1 dX5_beginsWith_44 rfl (lv_at hl 1 rfl) ?_
          refine lv_iload_n S.1 S.2.1 dX5_beginsWith_45 rfl (lv_at hl 2 rfl) ?_
          refine lv_iload S.1 S.2.1 dX5_beginsWith_46 (lv_at hl 6 rfl) ?_
          refine c_VP S hW (tX5_beatOf l G ad σ ax x i (by omega) (by omega)) (cw_X5_233 S.2.2.2.2 ⟨Nat.le_of_ble_eq_true rfl, Nat.le_of_ble_eq_true rfl⟩) eBlind_T (fun _ _ _ => trivial) (w_recv hW (q0 := 0) rfl rfl) rfl hl.1 (rest := []) rfl (Nat.le_of_ble_eq_true rfl) dX5_beginsWith_48 ⟨Nat.le_of_ble_eq_true rfl, Nat.le_of_ble_eq_true rfl⟩ (fun locs hW => ?_)
          refine lv_aload_n S.1 S.2.1 dX5_beginsWith_51 rfl (lv_at hl 0 rfl) ?_
          refine lv_iload_n S.1 S.2.1 dX5_beginsWith_52 rfl (lv_at hl 3 rfl) ?_
          refine lv_iload S.1 S.2.1 dX5_beginsWith_53 (lv_at hl 4 rfl) ?_
          refine lv_iload S.1 S.2.1 dX5_beginsWith_55 (lv_at hl 6 rfl) ?_
          refine c_VP S hW (tX5_beatOf l G ad σ ay y i (by omega) (by omega)) (cw_X5_233 S.2.2.2.2 ⟨Nat.le_of_ble_eq_true rfl, Nat.le_of_ble_eq_true rfl⟩) eBlind_T (fun _ _ _ => trivial) (w_recv hW (q0 := 0) rfl rfl) rfl hl.1 (rest := [.int (iI (oBeat (wr σ) ax x i))]) rfl (Nat.le_of_ble_eq_true rfl) dX5_beginsWith_57 ⟨Nat.le_of_ble_eq_true rfl, Nat.le_of_ble_eq_true rfl⟩ (fun locs hW => ?_)
          refine r_icmp_ne S (tgt := 67) dX5_beginsWith_60 rfl (by omega) (fun c_60 => ?_) (fun c_60 => ?_)
          ·
            refine r_iconst S dX5_beginsWith_67 ?_
            refine r_as (b2i (dP (bgU (wr σ) ax x ay y (i + 1)))) (by first | exact dP_1 ((bgU_s c_40 hi.1).mpr c_60) | exact dP_0 (fun z => c_60 ((bgU_s c_40 hi.1).mp z))) ?_
            refine lv_istore (lv' := [(5, .int (iI (b2i (dP (bgU (wr σ) ax x ay y (i + 1)))))), (0, .ref (ad 0)), (1, .int (iI ax)), (2, .int (iI x)), (3, .int (iI ay)), (4, .int (iI y)), (6, .int (iI i))]) S.1 S.2.1 dX5_beginsWith_68 hl (by decide) rfl (fun ls hl => ?_)
            refine lv_iinc (v := iI (i + 1)) (lv' := [(6, .int (iI (i + 1))), (5, .int (iI (b2i (dP (bgU (wr σ) ax x ay y (i + 1)))))), (0, .ref (ad 0)), (1, .int (iI ax)), (2, .int (iI x)), (3, .int (iI ay)), (4, .int (iI y))]) S.1 S.2.1 dX5_beginsWith_70 hl (k := 6) rfl (iI_add _ _) (by decide) rfl (fun ls hl => ?_)
            refine lv_goto (tgt := 26) S.1 S.2.1 dX5_beginsWith_73 rfl ?_
            exact ih_26 (i + 1) _ _ (by omega) (by omega) hW (lv_sub hl [2, 3, 4, 5, 6, 1, 0] rfl)
          ·
            refine r_iconst S dX5_beginsWith_63 ?_
            refine lv_goto (tgt := 68) S.1 S.2.1 dX5_beginsWith_64 rfl ?_
            refine r_as (b2i (dP (bgU (wr σ) ax x ay y (i + 1)))) (by first | exact dP_1 ((bgU_s c_40 hi.1).mpr c_60) | exact dP_0 (fun z => c_60 ((bgU_s c_40 hi.1).mp z))) ?_
            refine lv_istore (lv' := [(5, .int (iI (b2i (dP (bgU (wr σ) ax x ay y (i + 1)))))), (0, .ref (ad 0)), (1, .int (iI ax)), (2, .int (iI x)), (3, .int (iI ay)), (4, .int (iI y)), (6, .int (iI i))]) S.1 S.2.1 dX5_beginsWith_68 hl (by decide) rfl (fun ls hl => ?_)
            refine lv_iinc (v := iI (i + 1)) (lv' := [(6, .int (iI (i + 1))), (5, .int (iI (b2i (dP (bgU (wr σ) ax x ay y (i + 1)))))), (0, .ref (ad 0)), (1, .int (iI ax)), (2, .int (iI x)), (3, .int (iI ay)), (4, .int (iI y))]) S.1 S.2.1 dX5_beginsWith_70 hl (k := 6) rfl (iI_add _ _) (by decide) rfl (fun ls hl => ?_)
            refine lv_goto (tgt := 26) S.1 S.2.1 dX5_beginsWith_73 rfl ?_
            exact ih_26 (i + 1) _ _ (by omega) (by omega) hW (lv_sub hl [2, 3, 4, 5, 6, 1, 0] rfl)
  refine r_icmp_lt S (tgt := 20) dX5_beginsWith_13 rfl (by omega) (fun c_13 => ?_) (fun c_13 => ?_)
  ·
    refine r_iconst S dX5_beginsWith_20 ?_
    refine r_as (b2i (dP (bgU (wr σ) ax x ay y 0))) (by first | exact dP_1 ⟨by omega, allU_0⟩ | exact dP_0 (fun z => absurd z.1 (by omega))) ?_
    refine lv_istore (lv' := [(5, .int (iI (b2i (dP (bgU (wr σ) ax x ay y 0))))), (0, .ref (ad 0)), (1, .int (iI ax)), (2, .int (iI x)), (3, .int (iI ay)), (4, .int (iI y))]) S.1 S.2.1 dX5_beginsWith_21 hl (by decide) rfl (fun ls hl => ?_)
    refine r_iconst S dX5_beginsWith_23 ?_
    refine lv_istore (lv' := [(6, .int (iI 0)), (5, .int (iI (b2i (dP (bgU (wr σ) ax x ay y 0))))), (0, .ref (ad 0)), (1, .int (iI ax)), (2, .int (iI x)), (3, .int (iI ay)), (4, .int (iI y))]) S.1 S.2.1 dX5_beginsWith_24 hl (by decide) rfl (fun ls hl => ?_)
    exact cut_26 _ 0 _ _ (by omega) (Nat.lt_succ_self _) hW (lv_sub hl [2, 3, 4, 5, 6, 1, 0] rfl)
  ·
    refine r_iconst S dX5_beginsWith_16 ?_
    refine lv_goto (tgt := 21) S.1 S.2.1 dX5_beginsWith_17 rfl ?_
    refine r_as (b2i (dP (bgU (wr σ) ax x ay y 0))) (by first | exact dP_1 ⟨by omega, allU_0⟩ | exact dP_0 (fun z => absurd z.1 (by omega))) ?_
    refine lv_istore (lv' := [(5, .int (iI (b2i (dP (bgU (wr σ) ax x ay y 0))))), (0, .ref (ad 0)), (1, .int (iI ax)), (2, .int (iI x)), (3, .int (iI ay)), (4, .int (iI y))]) S.1 S.2.1 dX5_beginsWith_21 hl (by decide) rfl (fun ls hl => ?_)
    refine r_iconst S dX5_beginsWith_23 ?_
    refine lv_istore (lv' := [(6, .int (iI 0)), (5, .int (iI (b2i (dP (bgU (wr σ) ax x ay y 0))))), (0, .ref (ad 0)), (1, .int (iI ax)), (2, .int (iI x)), (3, .int (iI ay)), (4, .int (iI y))]) S.1 S.2.1 dX5_beginsWith_24 hl (by decide) rfl (fun ls hl => ?_)
    exact cut_26 _ 0 _ _ (by omega) (Nat.lt_succ_self _) hW (lv_sub hl [2, 3, 4, 5, 6, 1, 0] rfl)
theorem hd_X5_farOf : yX5_farOf.cls = RX5 ∧ yX5_farOf.cls ≠ "java/lang/invoke/MethodHandle" ∧ yX5_farOf.cls ≠ "java/lang/invoke/VarHandle" ∧ (parseMethodDescriptor yX5_farOf.desc).map (fun d => d.parameters.length) = some 3 := by decide +kernel
theorem cw_X5_325 {R : Room} {s : State} {args : Array Value} (ht : ∀ w ∈ lw_all, w.before args s = true) (hR : 2 + 1 ≤ R.frames ∧ 8 + (5 + 11) + 48 ≤ R.locals) : CallW R s args "OneDrumModel" RX5 325 yX5_farOf cX5_farOf 5 (some .int) (ws_ yX5_farOf cX5_farOf 5 (some .int)) ⟨2, 0, 0, 48⟩ 0 0 3 := cwV 3 ht (lw_V q2065 q2067 qs97 q126 q2068) rfl rfl rfl hd_X5_farOf hR
set_option maxHeartbeats 4000000 in
theorem tX5_far (l : Launch) (G : GG) (ad : Nat → Nat) (σ : St) (k : Int) (army : Int) (x : Int) (y : Int) (hr0 : -2147483648 ≤ k ∧ k < 2147483648 ∧ -2147483648 ≤ army ∧ army < 2147483648 ∧ -2147483648 ≤ x ∧ x < 2147483648 ∧ -2147483648 ≤ y ∧ y < 2147483648) (hdb : WfDB (σ 0)) : Met l yX5_far (ws_ yX5_far cX5_far 5 (some .int)) ⟨3, 0, 0, 72⟩ (wPre G shM ad σ (fun _ => True) [.ref (ad 0), .int (iI k), .int (iI army), .int (iI x), .int (iI y)]) (qS G shM ad (aM ad) (rI (fun r σ' => (r = sFar (σ 0) k army x y) ∧ (same [10, 26, 27, 28] σ σ')))) 0 0 (aM ad) := by
  refine wStart (by decide) (Nat.le_of_ble_eq_true rfl) (fun k hk => ⟨k, hk, rfl⟩) (fun p e s m below meth c S hr hlk _ _ ls hW hl => ?_)
  have hl : lv_has ls 5 [(0, .ref (ad 0)), (1, .int (iI k)), (2, .int (iI army)), (3, .int (iI x)), (4, .int (iI y))] := hl
  have d0 := hdb.1
  have d1 := hdb.2.1
  have d2 := hdb.2.2.1
  have d3 := hdb.2.2.2.1
  refine lv_aload_n S.1 S.2.1 dX5_far_0 rfl (lv_at hl 0 rfl) ?_
  refine lv_iload_n S.1 S.2.1 dX5_far_1 rfl (lv_at hl 1 rfl) ?_
  refine c_VSz S hW (tX5_isWar l G ad σ k (by omega) (by omega)) (cw_X5_224 S.2.2.2.2 ⟨Nat.le_of_ble_eq_true rfl, Nat.le_of_ble_eq_true rfl⟩) eBlind_T (fun _ _ _ => trivial) (w_recv hW (q0 := 0) rfl rfl) rfl hl.1 (rest := []) rfl (Nat.le_of_ble_eq_true rfl) dX5_far_2 ⟨Nat.le_of_ble_eq_true rfl, Nat.le_of_ble_eq_true rfl⟩ (fun r2 σ2 H locs q2 hW => ?_)
  obtain ⟨rfl, q2_sm, q2_w⟩ := q2
  have e0 : σ2 0 = σ 0 := q2_sm 0 (by decide)
  refine r_ifeq_p S (tgt := 38) dX5_far_5 rfl (fun c_5 => ?_) (fun c_5 => ?_)
  ·
    refine r_iconst S dX5_far_38 ?_
    exact e_iS S hr hlk hW ⟨(-1), rfl, ⟨(by unfold sFar; first | rw [if_neg (by omega)] | (rw [if_pos (by omega), we])), (by first | exact same_w q2_sm (by decide) | exact same_tr (same_w q2_sm (by decide)) q32_sm (by decide))⟩⟩ dX5_far_39
  ·
    have w10 := q2_w (by omega)
    have we : wr σ2 = wAt (σ 0) k := wr_at e0 w10
    have we2 : ∀ j, wr σ2 j = wAt (σ 0) k j := fun j => congrFun we j
    have hWf := hdb.2.2.2.2.2.2.2.2.1 k (by omega) (by omega)
    have w15 := we2 (15 + army)
    refine lv_aload_n S.1 S.2.1 dX5_far_8 rfl (lv_at hl 0 rfl) ?_
    refine lv_iload_n S.1 S.2.1 dX5_far_9 rfl (lv_at hl 2 rfl) ?_
    refine lv_iload_n S.1 S.2.1 dX5_far_10 rfl (lv_at hl 3 rfl) ?_
    refine c_VP S hW (tX5_isOrder l G ad σ2 army x (by omega) (by omega) (fun h9 => by rw [we2]; exact (hWf.2.2.2.2 army h9.1 h9.2).2.2.2.2.1)) (cw_X5_227 S.2.2.2.2 ⟨Nat.le_of_ble_eq_true rfl, Nat.le_of_ble_eq_true rfl⟩) eBlind_T (fun _ _ _ => trivial) (w_recv hW (q0 := 0) rfl rfl) rfl hl.1 (rest := []) rfl (Nat.le_of_ble_eq_true rfl) dX5_far_11 ⟨Nat.le_of_ble_eq_true rfl, Nat.le_of_ble_eq_true rfl⟩ (fun locs hW => ?_)
    refine r_ifeq_p S (tgt := 38) dX5_far_14 rfl (fun c_14 => ?_) (fun c_14 => ?_)
    ·
      refine r_iconst S dX5_far_38 ?_
      exact e_iS S hr hlk hW ⟨(-1), rfl, ⟨(by unfold sFar; first | rw [if_neg (by omega)] | (rw [if_pos (by omega), we])), (by first | exact same_w q2_sm (by decide) | exact same_tr (same_w q2_sm (by decide)) q32_sm (by decide))⟩⟩ dX5_far_39
    ·
      refine lv_aload_n S.1 S.2.1 dX5_far_17 rfl (lv_at hl 0 rfl) ?_
      refine lv_iload_n S.1 S.2.1 dX5_far_18 rfl (lv_at hl 2 rfl) ?_
      refine lv_iload S.1 S.2.1 dX5_far_19 (lv_at hl 4 rfl) ?_
      refine c_VP S hW (tX5_isOrder l G ad σ2 army y (by omega) (by omega) (fun h9 => by rw [we2]; exact (hWf.2.2.2.2 army h9.1 h9.2).2.2.2.2.1)) (cw_X5_227 S.2.2.2.2 ⟨Nat.le_of_ble_eq_true rfl, Nat.le_of_ble_eq_true rfl⟩) eBlind_T (fun _ _ _ => trivial) (w_recv hW (q0 := 0) rfl rfl) rfl hl.1 (rest := []) rfl (Nat.le_of_ble_eq_true rfl) dX5_far_21 ⟨Nat.le_of_ble_eq_true rfl, Nat.le_of_ble_eq_true rfl⟩ (fun locs hW => ?_)
      refine r_ifeq_p S (tgt := 38) dX5_far_24 rfl (fun c_24 => ?_) (fun c_24 => ?_)
      ·
        refine r_iconst S dX5_far_38 ?_
        exact e_iS S hr hlk hW ⟨(-1), rfl, ⟨(by unfold sFar; first | rw [if_neg (by omega)] | (rw [if_pos (by omega), we])), (by first | exact same_w q2_sm (by decide) | exact same_tr (same_w q2_sm (by decide)) q32_sm (by decide))⟩⟩ dX5_far_39
      ·
        refine lv_aload_n S.1 S.2.1 dX5_far_27 rfl (lv_at hl 0 rfl) ?_
        refine lv_iload_n S.1 S.2.1 dX5_far_28 rfl (lv_at hl 2 rfl) ?_
        refine lv_iload_n S.1 S.2.1 dX5_far_29 rfl (lv_at hl 3 rfl) ?_
        refine lv_iload S.1 S.2.1 dX5_far_30 (lv_at hl 4 rfl) ?_
        refine c_VSi S hW (tX5_farOf l G ad σ2 army x y (by omega) (by omega) (by rw [we]; exact hWf.2.2.2.2 army (by omega) (by omega)) (by omega) (by omega)) (cw_X5_325 S.2.2.2.2 ⟨Nat.le_of_ble_eq_true rfl, Nat.le_of_ble_eq_true rfl⟩) eBlind_T (fun _ _ _ => trivial) (w_recv hW (q0 := 0) rfl rfl) rfl hl.1 (rest := []) rfl (Nat.le_of_ble_eq_true rfl) dX5_far_32 ⟨Nat.le_of_ble_eq_true rfl, Nat.le_of_ble_eq_true rfl⟩ (fun r32 σ32 H locs q32 hW => ?_)
        obtain ⟨rfl, q32_sm⟩ := q32
        refine lv_goto (tgt := 39) S.1 S.2.1 dX5_far_35 rfl ?_
        exact e_iS S hr hlk hW ⟨(edO (wr σ2) army x y), rfl, ⟨(by unfold sFar; first | rw [if_neg (by omega)] | (rw [if_pos (by omega), we])), (by first | exact same_w q2_sm (by decide) | exact same_tr (same_w q2_sm (by decide)) q32_sm (by decide))⟩⟩ dX5_far_39
