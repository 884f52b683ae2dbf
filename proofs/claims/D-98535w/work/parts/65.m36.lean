set_option maxHeartbeats 4000000 in
theorem tX5_hangsLess (l : Launch) (G : GG) (ad : Nat → Nat) (σ : St) (k : Int) (v : Int) (hk : 0 ≤ k ∧ k < 30) (hv : -2147483648 ≤ v ∧ v < 2147483648) (hh : 0 ≤ σ 37 k ∧ σ 37 k ≤ 9999) : Met l yX5_hangsLess (ws_ yX5_hangsLess cX5_hangsLess 3 (some .boolean)) ⟨0, 0, 0, 0⟩ (wPre G shM ad σ (fun _ => True) [.ref (ad 0), .int (iI k), .int (iI v)]) (qS G shM ad (aM ad) (rZ (fun r σ' => (r = dP (v < σ 37 k)) ∧ (σ' 37 = if v < σ 37 k then fu (σ 37) k v else σ 37) ∧ (same [37] σ σ')))) 0 0 (aM ad) := by
  refine wStart (by decide) (Nat.le_of_ble_eq_true rfl) (fun k hk => ⟨k, hk, rfl⟩) (fun p e s m below meth c S hr hlk _ _ ls hW hl => ?_)
  have hl : lv_has ls 3 [(0, .ref (ad 0)), (1, .int (iI k)), (2, .int (iI v))] := hl
  refine lv_iload_n S.1 S.2.1 dX5_hangsLess_0 rfl (lv_at hl 2 rfl) ?_
  refine lv_aload_n S.1 S.2.1 dX5_hangsLess_1 rfl (lv_at hl 0 rfl) ?_
  refine w_getr S hW in_X5 0 rfl rfl 37 (by decide) q1688 rfl rfl dX5_hangsLess_2 ?_
  refine lv_iload_n S.1 S.2.1 dX5_hangsLess_5 rfl (lv_at hl 1 rfl) ?_
  refine w_ald S hW 25 0 rfl rfl (by omega) dX5_hangsLess_6 ?_
  refine r_icmp_lt S (tgt := 12) dX5_hangsLess_7 rfl (by omega) (fun c_7 => ?_) (fun c_7 => ?_)
  ·
    refine lv_aload_n S.1 S.2.1 dX5_hangsLess_12 rfl (lv_at hl 0 rfl) ?_
    refine w_getr S hW in_X5 0 rfl rfl 37 (by decide) q1688 rfl rfl dX5_hangsLess_13 ?_
    refine lv_iload_n S.1 S.2.1 dX5_hangsLess_16 rfl (lv_at hl 1 rfl) ?_
    refine lv_iload_n S.1 S.2.1 dX5_hangsLess_17 rfl (lv_at hl 2 rfl) ?_
    refine w_ast S hW 25 0 rfl rfl rfl (z := v) (by omega) dX5_hangsLess_18 (fun H locs hW => ?_)
    refine r_iconst S dX5_hangsLess_19 ?_
    exact e_zS S hr hlk hW (by decide) ⟨true, rfl, ⟨((dP_t.mpr (by omega)).symm), (by rw [if_pos (by omega), up_fu]), (same_up same_rf (by decide))⟩⟩ dX5_hangsLess_20
  ·
    refine r_iconst S dX5_hangsLess_10 ?_
    exact e_zS S hr hlk hW (by decide) ⟨false, rfl, ⟨((dP_f.mpr (by omega)).symm), (by rw [if_neg (by omega)]), (same_rf)⟩⟩ dX5_hangsLess_11
theorem hd_X5_goesInto : yX5_goesInto.cls = RX5 ∧ yX5_goesInto.cls ≠ "java/lang/invoke/MethodHandle" ∧ yX5_goesInto.cls ≠ "java/lang/invoke/VarHandle" ∧ (parseMethodDescriptor yX5_goesInto.desc).map (fun d => d.parameters.length) = some 5 := by decide +kernel
theorem cw_X5_378 {R : Room} {s : State} {args : Array Value} (ht : ∀ w ∈ lw_all, w.before args s = true) (hR : 2 + 1 ≤ R.frames ∧ 8 + (8 + 11) + 45 ≤ R.locals) : CallW R s args "OneDrumModel" RX5 378 yX5_goesInto cX5_goesInto 8 (some .boolean) (ws_ yX5_goesInto cX5_goesInto 8 (some .boolean)) ⟨2, 0, 0, 45⟩ 0 0 5 := cwV 5 ht (lw_V q2171 q2173 qs113 q126 q2174) rfl rfl rfl hd_X5_goesInto hR
theorem hd_X5_hangsLess : yX5_hangsLess.cls = RX5 ∧ yX5_hangsLess.cls ≠ "java/lang/invoke/MethodHandle" ∧ yX5_hangsLess.cls ≠ "java/lang/invoke/VarHandle" ∧ (parseMethodDescriptor yX5_hangsLess.desc).map (fun d => d.parameters.length) = some 2 := by decide +kernel
theorem cw_X5_382 {R : Room} {s : State} {args : Array Value} (ht : ∀ w ∈ lw_all, w.before args s = true) (hR : 0 + 1 ≤ R.frames ∧ 8 + (3 + 11) + 0 ≤ R.locals) : CallW R s args "OneDrumModel" RX5 382 yX5_hangsLess cX5_hangsLess 3 (some .boolean) (ws_ yX5_hangsLess cX5_hangsLess 3 (some .boolean)) ⟨0, 0, 0, 0⟩ 0 0 2 := cwV 2 ht (lw_V q2175 q2177 qs114 q126 q2178) rfl rfl rfl hd_X5_hangsLess hR
set_option maxHeartbeats 4000000 in
theorem tX5_hangsOn (l : Launch) (G : GG) (ad : Nat → Nat) (σ : St) (army : Int) (a : Int) (f : Int) (b : Int) (hw0 : 0 ≤ σ 10 0 ∧ σ 10 0 ≤ 700) (hx : 0 ≤ army ∧ army ≤ 1) (hA : WfArmy (wr σ) army) (ha : 0 ≤ a ∧ a < (wr σ) (15 + army)) (hf : 0 ≤ f ∧ f ≤ 4) (hb : 0 ≤ b ∧ b < (wr σ) (15 + army)) (hI : TwI (wr σ) army (σ 37)) : Met l yX5_hangsOn (ws_ yX5_hangsOn cX5_hangsOn 7 (some .boolean)) ⟨3, 0, 0, 72⟩ (wPre G shM ad σ (fun _ => True) [.ref (ad 0), .int (iI army), .int (iI a), .int (iI f), .int (iI b)]) (qS G shM ad (aM ad) (rZ (fun r σ' => ((r = false ∧ σ' 37 = σ 37 ∧ stP (wr σ) army (σ 37) a f b) ∨ (r = true ∧ TwI (wr σ) army (σ' 37) ∧ lsH (σ 37) (σ' 37))) ∧ (same [37] σ σ')))) 0 0 (aM ad) := by
  refine wStart (by decide) (Nat.le_of_ble_eq_true rfl) (fun k hk => ⟨k, hk, rfl⟩) (fun p e s m below meth c S hr hlk _ _ ls hW hl => ?_)
  have hl : lv_has ls 7 [(0, .ref (ad 0)), (1, .int (iI army)), (2, .int (iI a)), (3, .int (iI f)), (4, .int (iI b))] := hl
  have la := (hA.2.2.2.2.2 a ha.1 ha.2).2.1
  have lb := (hA.2.2.2.2.2 b hb.1 hb.2).2.1
  have hN := hA.2.2.2.2.1
  have hv := hI.1 (5 * a + f) (by omega) (by omega)
  refine lv_aload_n S.1 S.2.1 dX5_hangsOn_0 rfl (lv_at hl 0 rfl) ?_
  refine w_getr S hW in_X5 0 rfl rfl 37 (by decide) q1688 rfl rfl dX5_hangsOn_1 ?_
  refine r_iconst S dX5_hangsOn_4 ?_
  refine lv_iload_n S.1 S.2.1 dX5_hangsOn_5 rfl (lv_at hl 2 rfl) ?_
  refine r_imul S dX5_hangsOn_6 ?_
  refine lv_iload_n S.1 S.2.1 dX5_hangsOn_7 rfl (lv_at hl 3 rfl) ?_
  refine r_iadd S dX5_hangsOn_8 ?_
  refine w_ald S hW 25 0 rfl rfl (by omega) dX5_hangsOn_9 ?_
  refine lv_istore (lv' := [(5, .int (iI (σ 37 ((5 * a) + f)))), (0, .ref (ad 0)), (1, .int (iI army)), (2, .int (iI a)), (3, .int (iI f)), (4, .int (iI b))]) S.1 S.2.1 dX5_hangsOn_10 hl (by decide) rfl (fun ls hl => ?_)
  have cut_30 : ∀ (H : Heap) (locs : List Loc) (ls : Array Slot), (stP (wr σ) army (σ 37) a f b) → WD G shM ad (aM ad) s s.heap σ H locs → lv_has ls 7 [(5, .int (iI (σ 37 ((5 * a) + f)))), (0, .ref (ad 0)), (1, .int (iI army)), (2, .int (iI a)), (3, .int (iI f)), (4, .int (iI b))] → W p l e (⟨3, 0, 0, 72⟩ : Room) s m ([.ref (ad 0), .int (iI army), .int (iI a), .int (iI f), .int (iI b)] : List Value).toArray below meth c H locs 0 0 (MQ below (qS G shM ad (aM ad) (rZ (fun r σ' => ((r = false ∧ σ' 37 = σ 37 ∧ stP (wr σ) army (σ 37) a f b) ∨ (r = true ∧ TwI (wr σ) army (σ' 37) ∧ lsH (σ 37) (σ' 37))) ∧ (same [37] σ σ')))) ([.ref (ad 0), .int (iI army), .int (iI a), .int (iI f), .int (iI b)] : List Value).toArray s 0 0 (aM ad)) (F0 m 30 ls []) := by
    intro H locs ls hst hW hl
    refine r_iconst S dX5_hangsOn_30 ?_
    exact e_zS S hr hlk hW (by decide) ⟨false, rfl, ⟨(Or.inl ⟨rfl, rfl, hst⟩), (same_rf)⟩⟩ dX5_hangsOn_31
  refine lv_iload S.1 S.2.1 dX5_hangsOn_12 (lv_at hl 0 rfl) ?_
  refine r_sipush S dX5_hangsOn_14 (by decide) ?_
  refine r_icmp_ge S (tgt := 30) dX5_hangsOn_17 rfl (by omega) (fun c_17 => ?_) (fun c_17 => ?_)
  ·
    exact cut_30 s.heap _ _ (fun z y => absurd z (by omega)) hW (lv_sub hl [0, 1, 2, 3, 4, 5] rfl)
  ·
    refine lv_iload_n S.1 S.2.1 dX5_hangsOn_20 rfl (lv_at hl 4 rfl) ?_
    refine lv_aload_n S.1 S.2.1 dX5_hangsOn_21 rfl (lv_at hl 1 rfl) ?_
    refine lv_iload_n S.1 S.2.1 dX5_hangsOn_22 rfl (lv_at hl 2 rfl) ?_
    refine lv_iload_n S.1 S.2.1 dX5_hangsOn_23 rfl (lv_at hl 3 rfl) ?_
    refine c_VP S hW (tX5_lengthOf l G ad σ army a (by omega) (by omega)) (cw_X5_230 S.2.2.2.2 ⟨Nat.le_of_ble_eq_true rfl, Nat.le_of_ble_eq_true rfl⟩) eBlind_T (fun _ _ _ => trivial) (w_recv hW (q0 := 0) rfl rfl) rfl hl.1 (rest := [.int (iI f)]) rfl (Nat.le_of_ble_eq_true rfl) dX5_hangsOn_24 ⟨Nat.le_of_ble_eq_true rfl, Nat.le_of_ble_eq_true rfl⟩ (fun locs hW => ?_)
    refine r_icmp_ne S (tgt := 32) dX5_hangsOn_27 rfl (by omega) (fun c_27 => ?_) (fun c_27 => ?_)
    ·
      have hfl : f ≤ oLen (wr σ) army a := by have := (hI.2.1 (5 * a + f) (by omega) (by omega) (by omega)).1.2.2; rw [show (5 * a + f) / 5 = a by omega, show (5 * a + f) % 5 = f by omega] at this; exact this
      have hcn := cnU_rng (h := σ 37) (I := 9999) 30
      have hb9 := hI.2.2 (5 * a + f) (by omega) (by omega) (by omega)
      refine lv_aload_n S.1 S.2.1 dX5_hangsOn_32 rfl (lv_at hl 1 rfl) ?_
      refine lv_iload_n S.1 S.2.1 dX5_hangsOn_33 rfl (lv_at hl 2 rfl) ?_
      refine lv_iload_n S.1 S.2.1 dX5_hangsOn_34 rfl (lv_at hl 3 rfl) ?_
      refine c_VP S hW (tX5_lengthOf l G ad σ army a (by omega) (by omega)) (cw_X5_230 S.2.2.2.2 ⟨Nat.le_of_ble_eq_true rfl, Nat.le_of_ble_eq_true rfl⟩) eBlind_T (fun _ _ _ => trivial) (w_recv hW (q0 := 0) rfl rfl) rfl hl.1 (rest := []) rfl (Nat.le_of_ble_eq_true rfl) dX5_hangsOn_35 ⟨Nat.le_of_ble_eq_true rfl, Nat.le_of_ble_eq_true rfl⟩ (fun locs hW => ?_)
      refine lv_iload_n S.1 S.2.1 dX5_hangsOn_38 rfl (lv_at hl 4 rfl) ?_
      refine r_isub S dX5_hangsOn_39 ?_
      refine lv_istore (lv' := [(6, .int (iI ((oLen (wr σ) army a) - f))), (5, .int (iI (σ 37 ((5 * a) + f)))), (0, .ref (ad 0)), (1, .int (iI army)), (2, .int (iI a)), (3, .int (iI f)), (4, .int (iI b))]) S.1 S.2.1 dX5_hangsOn_40 hl (by decide) rfl (fun ls hl => ?_)
      refine lv_aload_n S.1 S.2.1 dX5_hangsOn_42 rfl (lv_at hl 2 rfl) ?_
      refine lv_iload_n S.1 S.2.1 dX5_hangsOn_43 rfl (lv_at hl 3 rfl) ?_
      refine lv_iload_n S.1 S.2.1 dX5_hangsOn_44 rfl (lv_at hl 4 rfl) ?_
      refine lv_iload_n S.1 S.2.1 dX5_hangsOn_45 rfl (lv_at hl 5 rfl) ?_
      refine lv_iload S.1 S.2.1 dX5_hangsOn_46 (lv_at hl 6 rfl) ?_
      refine r_iconst S dX5_hangsOn_48 ?_
      refine c_VP S hW (tX5_goesInto l G ad σ army a f b 0 (by omega) (by omega) (by omega) (by omega) (by omega) (by omega) (by omega)) (cw_X5_378 S.2.2.2.2 ⟨Nat.le_of_ble_eq_true rfl, Nat.le_of_ble_eq_true rfl⟩) eBlind_T (fun _ _ _ => trivial) (w_recv hW (q0 := 0) rfl rfl) rfl hl.1 (rest := []) rfl (Nat.le_of_ble_eq_true rfl) dX5_hangsOn_49 ⟨Nat.le_of_ble_eq_true rfl, Nat.le_of_ble_eq_true rfl⟩ (fun locs hW => ?_)
      refine r_ifeq_p S (tgt := 80) dX5_hangsOn_52 rfl (fun c_52 => ?_) (fun c_52 => ?_)
      ·
        refine lv_aload_n S.1 S.2.1 dX5_hangsOn_80 rfl (lv_at hl 2 rfl) ?_
        refine lv_iload_n S.1 S.2.1 dX5_hangsOn_81 rfl (lv_at hl 3 rfl) ?_
        refine lv_iload S.1 S.2.1 dX5_hangsOn_82 (lv_at hl 6 rfl) ?_
        refine r_iconst S dX5_hangsOn_84 ?_
        refine lv_iload_n S.1 S.2.1 dX5_hangsOn_85 rfl (lv_at hl 4 rfl) ?_
        refine lv_iload_n S.1 S.2.1 dX5_hangsOn_86 rfl (lv_at hl 5 rfl) ?_
        refine c_VP S hW (tX5_goesInto l G ad σ army b 0 a f (by omega) (by omega) (by omega) (by omega) (by omega) (by omega) (by omega)) (cw_X5_378 S.2.2.2.2 ⟨Nat.le_of_ble_eq_true rfl, Nat.le_of_ble_eq_true rfl⟩) eBlind_T (fun _ _ _ => trivial) (w_recv hW (q0 := 0) rfl rfl) rfl hl.1 (rest := []) rfl (Nat.le_of_ble_eq_true rfl) dX5_hangsOn_87 ⟨Nat.le_of_ble_eq_true rfl, Nat.le_of_ble_eq_true rfl⟩ (fun locs hW => ?_)
        refine r_ifeq_p S (tgt := 119) dX5_hangsOn_90 rfl (fun c_90 => ?_) (fun c_90 => ?_)
        ·
          refine r_iconst S dX5_hangsOn_119 ?_
          exact e_zS S hr hlk hW (by decide) ⟨false, rfl, ⟨(by first | exact Or.inl ⟨rfl, rfl, fun _ _ => ⟨fun z => absurd z c_52, fun _ z => absurd z c_90⟩⟩ | (rw [if_pos c_112] at q109_h; exact Or.inr ⟨rfl, by rw [q109_h]; exact Tw_2 hA hI ha hf hb (by omega) (by omega) c_90 c_112, by rw [q109_h]; exact lsH_fu (by omega) c_112⟩) | (rw [if_neg c_112] at q109_h; exact Or.inl ⟨rfl, q109_h, fun _ _ => ⟨fun z => absurd z c_52, fun _ _ => by omega⟩⟩)), (by first | exact same_rf | exact q109_sm)⟩⟩ dX5_hangsOn_120
        ·
          have g1 := c_90.1
          have hv2 := hI.1 (5 * a + f + oLen (wr σ) army b) (by omega) (by omega)
          refine lv_aload_n S.1 S.2.1 dX5_hangsOn_93 rfl (lv_at hl 2 rfl) ?_
          refine r_iconst S dX5_hangsOn_94 ?_
          refine lv_iload_n S.1 S.2.1 dX5_hangsOn_95 rfl (lv_at hl 4 rfl) ?_
          refine r_imul S dX5_hangsOn_96 ?_
          refine lv_iload_n S.1 S.2.1 dX5_hangsOn_97 rfl (lv_at hl 5 rfl) ?_
          refine r_iadd S dX5_hangsOn_98 ?_
          refine lv_aload_n S.1 S.2.1 dX5_hangsOn_99 rfl (lv_at hl 2 rfl) ?_
          refine lv_iload_n S.1 S.2.1 dX5_hangsOn_100 rfl (lv_at hl 3 rfl) ?_
          refine lv_iload S.1 S.2.1 dX5_hangsOn_101 (lv_at hl 6 rfl) ?_
          refine c_VP S hW (tX5_lengthOf l G ad σ army b (by omega) (by omega)) (cw_X5_230 S.2.2.2.2 ⟨Nat.le_of_ble_eq_true rfl, Nat.le_of_ble_eq_true rfl⟩) eBlind_T (fun _ _ _ => trivial) (w_recv hW (q0 := 0) rfl rfl) rfl hl.1 (rest := [.int (iI ((5 * a) + f)), .ref (ad 0)]) rfl (Nat.le_of_ble_eq_true rfl) dX5_hangsOn_103 ⟨Nat.le_of_ble_eq_true rfl, Nat.le_of_ble_eq_true rfl⟩ (fun locs hW => ?_)
          refine r_iadd S dX5_hangsOn_106 ?_
          refine lv_iload S.1 S.2.1 dX5_hangsOn_107 (lv_at hl 1 rfl) ?_
          refine c_VSz S hW (tX5_hangsLess l G ad σ (((5 * a) + f) + (oLen (wr σ) army b)) (σ 37 ((5 * a) + f)) (by omega) (by omega) (by omega)) (cw_X5_382 S.2.2.2.2 ⟨Nat.le_of_ble_eq_true rfl, Nat.le_of_ble_eq_true rfl⟩) eBlind_T (fun _ _ _ => trivial) (w_recv hW (q0 := 0) rfl rfl) rfl hl.1 (rest := []) rfl (Nat.le_of_ble_eq_true rfl) dX5_hangsOn_109 ⟨Nat.le_of_ble_eq_true rfl, Nat.le_of_ble_eq_true rfl⟩ (fun r109 σ109 H locs q109 hW => ?_)
          obtain ⟨rfl, q109_h, q109_sm⟩ := q109
          refine r_ifeq_p S (tgt := 119) dX5_hangsOn_112 rfl (fun c_112 => ?_) (fun c_112 => ?_)
          ·
            refine r_iconst S dX5_hangsOn_119 ?_
            exact e_zS S hr hlk hW (by decide) ⟨false, rfl, ⟨(by first | exact Or.inl ⟨rfl, rfl, fun _ _ => ⟨fun z => absurd z c_52, fun _ z => absurd z c_90⟩⟩ | (rw [if_pos c_112] at q109_h; exact Or.inr ⟨rfl, by rw [q109_h]; exact Tw_2 hA hI ha hf hb (by omega) (by omega) c_90 c_112, by rw [q109_h]; exact lsH_fu (by omega) c_112⟩) | (rw [if_neg c_112] at q109_h; exact Or.inl ⟨rfl, q109_h, fun _ _ => ⟨fun z => absurd z c_52, fun _ _ => by omega⟩⟩)), (by first | exact same_rf | exact q109_sm)⟩⟩ dX5_hangsOn_120
          ·
            refine r_iconst S dX5_hangsOn_115 ?_
            refine lv_goto (tgt := 120) S.1 S.2.1 dX5_hangsOn_116 rfl ?_
            exact e_zS S hr hlk hW (by decide) ⟨true, rfl, ⟨(by first | exact Or.inl ⟨rfl, rfl, fun _ _ => ⟨fun z => absurd z c_52, fun _ z => absurd z c_90⟩⟩ | (rw [if_pos c_112] at q109_h; exact Or.inr ⟨rfl, by rw [q109_h]; exact Tw_2 hA hI ha hf hb (by omega) (by omega) c_90 c_112, by rw [q109_h]; exact lsH_fu (by omega) c_112⟩) | (rw [if_neg c_112] at q109_h; exact Or.inl ⟨rfl, q109_h, fun _ _ => ⟨fun z => absurd z c_52, fun _ _ => by omega⟩⟩)), (by first | exact same_rf | exact q109_sm)⟩⟩ dX5_hangsOn_120
      ·
        have g1 := c_52.1
        have hv2 := hI.1 (5 * b + (oLen (wr σ) army a - f)) (by omega) (by omega)
        refine lv_aload_n S.1 S.2.1 dX5_hangsOn_55 rfl (lv_at hl 2 rfl) ?_
        refine r_iconst S dX5_hangsOn_56 ?_
        refine lv_iload S.1 S.2.1 dX5_hangsOn_57 (lv_at hl 6 rfl) ?_
        refine r_imul S dX5_hangsOn_59 ?_
        refine lv_iload S.1 S.2.1 dX5_hangsOn_60 (lv_at hl 0 rfl) ?_
        refine r_iadd S dX5_hangsOn_62 ?_
        refine lv_iload S.1 S.2.1 dX5_hangsOn_63 (lv_at hl 1 rfl) ?_
        refine lv_aload_n S.1 S.2.1 dX5_hangsOn_65 rfl (lv_at hl 2 rfl) ?_
        refine lv_iload_n S.1 S.2.1 dX5_hangsOn_66 rfl (lv_at hl 3 rfl) ?_
        refine lv_iload S.1 S.2.1 dX5_hangsOn_67 (lv_at hl 6 rfl) ?_
        refine c_VP S hW (tX5_lengthOf l G ad σ army b (by omega) (by omega)) (cw_X5_230 S.2.2.2.2 ⟨Nat.le_of_ble_eq_true rfl, Nat.le_of_ble_eq_true rfl⟩) eBlind_T (fun _ _ _ => trivial) (w_recv hW (q0 := 0) rfl rfl) rfl hl.1 (rest := [.int (iI (σ 37 ((5 * a) + f))), .int (iI ((5 * b) + ((oLen (wr σ) army a) - f))), .ref (ad 0)]) rfl (Nat.le_of_ble_eq_true rfl) dX5_hangsOn_69 ⟨Nat.le_of_ble_eq_true rfl, Nat.le_of_ble_eq_true rfl⟩ (fun locs hW => ?_)
        refine r_iadd S dX5_hangsOn_72 ?_
        refine lv_iload S.1 S.2.1 dX5_hangsOn_73 (lv_at hl 0 rfl) ?_
        refine r_isub S dX5_hangsOn_75 ?_
        refine c_VSz S hW (tX5_hangsLess l G ad σ ((5 * b) + ((oLen (wr σ) army a) - f)) (((σ 37 ((5 * a) + f)) + (oLen (wr σ) army b)) - ((oLen (wr σ) army a) - f)) (by omega) (by omega) (by omega)) (cw_X5_382 S.2.2.2.2 ⟨Nat.le_of_ble_eq_true rfl, Nat.le_of_ble_eq_true rfl⟩) eBlind_T (fun _ _ _ => trivial) (w_recv hW (q0 := 0) rfl rfl) rfl hl.1 (rest := []) rfl (Nat.le_of_ble_eq_true rfl) dX5_hangsOn_76 ⟨Nat.le_of_ble_eq_true rfl, Nat.le_of_ble_eq_true rfl⟩ (fun r76 σ76 H locs q76 hW => ?_)
        obtain ⟨rfl, q76_h, q76_sm⟩ := q76
        exact e_zS S hr hlk hW (b2i_or _) ⟨(dP ((((σ 37 ((5 * a) + f)) + (oLen (wr σ) army b)) - ((oLen (wr σ) army a) - f)) < σ 37 ((5 * b) + ((oLen (wr σ) army a) - f)))), rfl, ⟨(by by_cases cc : σ 37 (5 * a + f) + oLen (wr σ) army b - (oLen (wr σ) army a - f) < σ 37 (5 * b + (oLen (wr σ) army a - f)); (rw [if_pos cc] at q76_h; exact Or.inr ⟨dP_t.mpr cc, by rw [q76_h]; exact Tw_1 hA hI ha hf hb (by omega) (by omega) c_52 cc, by rw [q76_h]; exact lsH_fu (by omega) cc⟩); (rw [if_neg cc] at q76_h; exact Or.inl ⟨dP_f.mpr cc, q76_h, fun _ _ => ⟨fun _ => by omega, fun z => absurd c_52 z⟩⟩)), (q76_sm)⟩⟩ dX5_hangsOn_79
    ·
      exact cut_30 s.heap _ _ (fun z y => absurd y (by omega)) hW (lv_sub hl [0, 1, 2, 3, 4, 5] rfl)
