/-! the program's classes and arrays by number -/
abbrev vwCl : List vw_C := [(RX5, TX5, 38), (RX0, TX0, 28), (RX1, TX1, 8), (RX2, TX2, 6), (RX3, TX3, 7), (RX4, TX4, 2), (RX8, TX8, 5), (RX9, TX9, 5), (RX11, TX11, 1), (RX13, TX13, 2), (RX15, TX15, 1), (RX22, TX22, 2), (RX18, TX18, 3), (RX19, TX19, 4), (RX20, TX20, 3), (RX21, TX21, 2), (RX7, TX7, 13), (RX10, TX10, 13), (RX12, TX12, 13), (RX14, TX14, 13), (RX16, TX16, 7), (RJ2, TJ2, 3)]
abbrev tysG (cs : Nat → ClassId) : List (ClassId × FieldType) := [(cs 0, .int), (cs 1, .boolean), (cs 2, .byte), (cs 3, .long), (cs 4, .object "OneDrum$All"), (cs 5, .object "OneDrum$Sense"), (cs 6, .object "OneDrum$Beats"), (cs 7, .object "OneDrum$Army"), (cs 8, .object "java/lang/Object"), (cs 9, .object "java/lang/String")]
abbrev KK (G : GG) (s : State) : Prop := va_K G.1 vwCl (tysG G.2) s
abbrev WD (G : GG) (sh : List CD) (ad : Nat → Nat) (A : Nat → Prop) (s : State) (H0 : Heap) (σ : St) (H : Heap) (locs : List Loc) : Prop := Wd vwCl (tysG G.2) G sh ad A s H0 σ H locs
/-! CONTRACTS over a world of fixed cells: starts, ends, calls -/
/-- a pure answer -/
def qP (v : Value) : Array Value → State → Outcome → State → Prop := fun _ st oc t => oc = .returned (some v) ∧ t.heap = st.heap
/-- an answer and a new state of the world -/
def qS (G : GG) (sh : List CD) (ad : Nat → Nat) (A : Nat → Prop) (P : Option Value → St → Prop) : Array Value → State → Outcome → State → Prop := fun _ st oc t => ∃ (v : Option Value) (σ' : St), oc = .returned v ∧ P v σ' ∧ WP vwCl G sh ad σ' t.heap ∧ va_F A st t
/-- a method's start: the world stands, and what else is said of the heap and the tables -/
def wPre (G : GG) (sh : List CD) (ad : Nat → Nat) (σ : St) (E : State → Prop) (As : List Value) : Array Value → State → Prop := va_Pc As (fun U => KK G U ∧ apartN ad sh.length ∧ WP vwCl G sh ad σ U.heap ∧ E U)
/-- what is said besides doesn't look at frames -/
def eBlind (E : State → Prop) : Prop := ∀ (U U' : State), U.heap = U'.heap → U.vm.Alike U'.vm → E U → E U'
theorem eBlind_T : eBlind (fun _ => True) := fun _ _ _ _ _ => trivial
theorem wPre_blind {G : GG} {sh : List CD} {ad : Nat → Nat} {σ : St} {E : State → Prop} {As : List Value} (hE : eBlind E) : FrameBlind (wPre G sh ad σ E As) := by
  intro a U g mk q
  obtain ⟨q0, q1, q2, q3, q4⟩ := q
  exact ⟨q0, va_K.moved (u := U) (U := U.calling g mk a) (Vm.Alike.refl U.vm) q1, q2, q3, hE U _ rfl (Vm.Alike.refl U.vm) q4⟩
theorem wStart {l : Launch} {y : MethodName} {cc : ByteArray} {nL : Nat} {ret : Option FieldType} {rm : Room} {G : GG} {sh : List CD} {ad : Nat → Nat} {σ : St} {E : State → Prop} {As : List Value} {Qc : Array Value → State → Outcome → State → Prop} {A : Nat → Prop} {mc ms : Nat} (hy : plainName y.cls = true) (hL : (lg_sl As).length ≤ nL) (hA : ∀ k, k < sh.length → A (ad k))
    (body : ∀ (p : Program) (e : Env) (s : State) (m : MethodId) (below : List Frame) (meth : Method) (c : Code), CallFix p m c cc nL s As.toArray lw_all y.cls → meth.sig.returnType = ret → meth.locks = false → meth.name = y.name → E s → ∀ ls : Array Slot, WD G sh ad A s s.heap σ s.heap [] → lv_has ls nL (lv_args 0 As) →
      W p l e rm s m As.toArray below meth c s.heap [] 0 0 (MQ below Qc As.toArray s mc ms A) (F0 m 0 ls [])) : Met l y (ws_ y cc nL ret) rm (wPre G sh ad σ E As) Qc mc ms A := by
  refine Met.ofW (cc := cc) (maxL := nL) (ret := ret) hy rfl ?_
  intro p e s m args below meth c s₁ B hml hv
  obtain ⟨rfl, hK, hI, hP, hE⟩ := hv
  have hts := atoms_spec (ws := ws_ y cc nL ret) B.pre
  have hl := lv_entry As (n := nL) hL
  rw [lg_entry_eq]
  exact body p e s m below meth c ⟨B.exec, B.bytes, hml, findClass_of_methodNamed B.named, fun w h => hts w (List.mem_cons_of_mem _ h)⟩ B.returns B.notSynchronized (name_of_methodNamed B.named B.method).1 hE _ ⟨hK, hI, hA, hP, va_S.rf⟩ hl
/-- a static method that looks at no cell -/
theorem sStart {l : Launch} {y : MethodName} {cc : ByteArray} {nL : Nat} {ret : Option FieldType} {rm : Room} {As : List Value} {Qc : Array Value → State → Outcome → State → Prop} {A : Nat → Prop} {mc ms : Nat} (hy : plainName y.cls = true) (hL : (lg_sl As).length ≤ nL)
    (body : ∀ (p : Program) (e : Env) (s : State) (m : MethodId) (below : List Frame) (meth : Method) (c : Code), CallFix p m c cc nL s As.toArray lw_all y.cls → meth.sig.returnType = ret → meth.locks = false → ∀ ls : Array Slot, va_S A s.heap s.heap [] → lv_has ls nL (lv_args 0 As) →
      W p l e rm s m As.toArray below meth c s.heap [] 0 0 (MQ below Qc As.toArray s mc ms A) (F0 m 0 ls [])) : Met l y (ws_ y cc nL ret) rm (va_Pc As (fun _ => True)) Qc mc ms A := by
  refine Met.ofW (cc := cc) (maxL := nL) (ret := ret) hy rfl ?_
  intro p e s m args below meth c s₁ B hml hv
  obtain ⟨rfl, -⟩ := hv
  have hts := atoms_spec (ws := ws_ y cc nL ret) B.pre
  have hl := lv_entry As (n := nL) hL
  rw [lg_entry_eq]
  exact body p e s m below meth c ⟨B.exec, B.bytes, hml, findClass_of_methodNamed B.named, fun w h => hts w (List.mem_cons_of_mem _ h)⟩ B.returns B.notSynchronized _ va_S.rf hl
section
variable {p : Program} {l : Launch} {e : Env} {R : Room} {s : State} {m : MethodId} {args : Array Value} {below : List Frame} {meth : Method} {c : Code} {H H0 : Heap} {locs : List Loc} {cells slots : Nat} {Q : State → Prop} {cc : ByteArray} {nL : Nat} {own : String} {Ts : List Cond} {pc : Nat} {ls : Array Slot} {rest st : List Value}
variable {G : GG} {sh : List CD} {ad : Nat → Nat} {σ : St} {A : Nat → Prop} {E : State → Prop}
variable {y : MethodName} {bytes : ByteArray} {maxL n index : Nat} {ret : Option FieldType} {ws : List Cond} {rm : Room} {free : Addr → Prop} {C : String} {As : List Value} {v : Value} {P : Option Value → St → Prop} {b : Nat} {Pc : Array Value → State → Prop} {a0 : Array Value}
/-- ends -/
theorem e_iP (S : CallFix p m c cc nL s args Ts own) (hr : meth.sig.returnType = some .int) (hlk : meth.locks = false) (hS : va_S A s.heap s.heap locs) {x z : Int} (h : x = z) (hdg : decode cc pc = .ok (.ireturn, 1)) : W p l e R s m args below meth c s.heap locs cells slots (MQ below (qP (.int (iI z))) args s cells slots A) (F0 m pc ls [.int (iI x)]) := by
  subst h
  exact W.iret S.1 S.2.1 hr (fun t ht _ => ⟨rfl, ht⟩) hS.2.2 hdg hlk
theorem e_zP (S : CallFix p m c cc nL s args Ts own) (hr : meth.sig.returnType = some .boolean) (hlk : meth.locks = false) (hS : va_S A s.heap s.heap locs) {x : Int} {b : Bool} (h : x = b2i b) (hdg : decode cc pc = .ok (.ireturn, 1)) : W p l e R s m args below meth c s.heap locs cells slots (MQ below (qP (.int (iI (b2i b)))) args s cells slots A) (F0 m pc ls [.int (iI x)]) := by
  subst h
  exact W.zret S.1 S.2.1 hr (by cases b <;> rfl) (fun t ht _ => ⟨rfl, ht⟩) hS.2.2 hdg hlk
theorem e_lP (S : CallFix p m c cc nL s args Ts own) (hr : meth.sig.returnType = some .long) (hlk : meth.locks = false) (hS : va_S A s.heap s.heap locs) {x z : Int} (h : x = z) (hdg : decode cc pc = .ok (.lreturn, 1)) : W p l e R s m args below meth c s.heap locs cells slots (MQ below (qP (.long (lI z))) args s cells slots A) (F0 m pc ls [.long (lI x)]) := by
  subst h
  exact W.lret S.1 S.2.1 hr (fun t ht _ => ⟨rfl, ht⟩) hS.2.2 hdg hlk
theorem e_iS (S : CallFix p m c cc nL s args Ts own) (hr : meth.sig.returnType = some .int) (hlk : meth.locks = false) (hW : WD G sh ad A s s.heap σ H locs) {x : Int} (h : P (some (.int (iI x))) σ) (hdg : decode cc pc = .ok (.ireturn, 1)) : W p l e R s m args below meth c H locs cells slots (MQ below (qS G sh ad A P) args s cells slots A) (F0 m pc ls [.int (iI x)]) :=
  W.iret S.1 S.2.1 hr (fun t ht _ => ⟨_, σ, rfl, h, by rw [ht]; exact hW.2.2.2.1, hW.2.2.2.2.F ht⟩) hW.2.2.2.2.2.2 hdg hlk
theorem e_zS (S : CallFix p m c cc nL s args Ts own) (hr : meth.sig.returnType = some .boolean) (hlk : meth.locks = false) (hW : WD G sh ad A s s.heap σ H locs) {x : Int} (hz : x = 0 ∨ x = 1) (h : P (some (.int (iI x))) σ) (hdg : decode cc pc = .ok (.ireturn, 1)) : W p l e R s m args below meth c H locs cells slots (MQ below (qS G sh ad A P) args s cells slots A) (F0 m pc ls [.int (iI x)]) :=
  W.zret S.1 S.2.1 hr (by rcases hz with rfl | rfl <;> rfl) (fun t ht _ => ⟨_, σ, rfl, h, by rw [ht]; exact hW.2.2.2.1, hW.2.2.2.2.F ht⟩) hW.2.2.2.2.2.2 hdg hlk
theorem e_lS (S : CallFix p m c cc nL s args Ts own) (hr : meth.sig.returnType = some .long) (hlk : meth.locks = false) (hW : WD G sh ad A s s.heap σ H locs) {x : Int} (h : P (some (.long (lI x))) σ) (hdg : decode cc pc = .ok (.lreturn, 1)) : W p l e R s m args below meth c H locs cells slots (MQ below (qS G sh ad A P) args s cells slots A) (F0 m pc ls [.long (lI x)]) :=
  W.lret S.1 S.2.1 hr (fun t ht _ => ⟨_, σ, rfl, h, by rw [ht]; exact hW.2.2.2.1, hW.2.2.2.2.F ht⟩) hW.2.2.2.2.2.2 hdg hlk
theorem e_vS (S : CallFix p m c cc nL s args Ts own) (hr : meth.sig.returnType = none) (hlk : meth.locks = false) (hW : WD G sh ad A s s.heap σ H locs) (h : P none σ) (hdg : decode cc pc = .ok (.return_, 1)) : W p l e R s m args below meth c H locs cells slots (MQ below (qS G sh ad A P) args s cells slots A) (F0 m pc ls []) :=
  W.vret S.1 S.2.1 hr (fun t ht _ => ⟨_, σ, rfl, h, by rw [ht]; exact hW.2.2.2.1, hW.2.2.2.2.F ht⟩) hW.2.2.2.2.2.2 hdg hlk
/-- behind a call: a pure answer -/
theorem u_pure (hr : va_Run p l e R s m args below meth c H locs cells slots 0 0 (F0 m pc ls st) rest (qP v a0) free) (hS : va_S A H0 H locs) (hf : ∀ q, free q → A q)
    (kk : ∀ (locs1 : List Loc), va_S A H0 H locs1 → W p l e R s m args below meth c H locs1 cells slots Q (F0 m (pc + 3) ls (v :: rest))) : W p l e R s m args below meth c H locs cells slots Q (F0 m pc ls st) := by
  intro T hT X
  obtain ⟨v1, st₀, t, T', L, h0, X', hL, e1, e2, ⟨hv, hz⟩, st1⟩ := hr T hT X
  cases hv
  have hh : T'.heap = H := by rw [e1, hz, h0]
  obtain ⟨t2, a1, b1⟩ := kk (locs ++ L) ⟨hS.1, hS.2.1, fun q hq => by
      rcases List.mem_append.mp hq with h | h
      · exact hS.2.2 q h
      · exact hf _ (hL q h)⟩ T' hh X'
  exact ⟨t2, st1 t2 a1, b1⟩
/-- behind a call: a new state of the same world -/
theorem u_state (hr : va_Run p l e R s m args below meth c H locs cells slots 0 0 (F0 m pc ls st) rest (qS G sh ad A P a0) A) (hW : WD G sh ad A s H0 σ H locs)
    (kk : ∀ (v : Option Value) (σ' : St) (H1 : Heap) (locs1 : List Loc), P v σ' → WD G sh ad A s H0 σ' H1 locs1 → W p l e R s m args below meth c H1 locs1 cells slots Q (F0 m (pc + 3) ls (v.toList ++ rest))) : W p l e R s m args below meth c H locs cells slots Q (F0 m pc ls st) := by
  intro T hT X
  obtain ⟨v1, st₀, t, T', L, h0, X', hL, e1, e2, ⟨v2, σ', hv, hP, hWP, hF1, hF2⟩, st1⟩ := hr T hT X
  cases hv
  have hS := hW.2.2.2.2
  rw [h0] at hF1 hF2
  obtain ⟨t2, a1, b1⟩ := kk v1 σ' T'.heap (locs ++ L) hP ⟨hW.1, hW.2.1, hW.2.2.1, by rw [e1]; exact hWP, Nat.le_trans hS.1 (by rw [e1]; exact hF1), fun q h1 h2 => by rw [e1, hF2 q (Nat.lt_of_lt_of_le h1 hS.1) h2]; exact hS.2.1 q h1 h2, fun q hq => by
      rcases List.mem_append.mp hq with h | h
      · exact hS.2.2 q h
      · exact hL q h⟩ T' rfl X'
  exact ⟨t2, st1 t2 a1, b1⟩
/-- the start of a callee on the caller's world -/
theorem w_preS (hE : eBlind E) (hW : WD G sh ad A s H0 σ H locs) (he : ∀ U : State, U.heap = H → s.WarmedH U.vm → E U) : PreS s H (wPre G sh ad σ E As) As :=
  ⟨wPre_blind hE, fun U hU hw => ⟨rfl, va_K.moved hw.alike hW.1, hW.2.1, by rw [hU]; exact hW.2.2.2.1, he U hU hw⟩⟩
theorem w_recv (hW : WD G sh ad A s H0 σ H locs) {q0 ci : Nat} {fds : List (Nat × Nat)} {q : vw_C} (he : sh[q0]? = some (.inl (ci, fds))) (hc : vwCl[ci]? = some q) : ∃ cell : Cell, H[ad q0]? = some cell ∧ cell.vm.isStatics = false ∧ s.vm.findClass q.1 = some cell.cls := va_recv hW.1 hW.2.2.2.1 hc (wl_at he)
theorem sPre_blind : FrameBlind (va_Pc As (fun _ => True)) := fun _ _ _ _ q => q
/-- calls: pure and changing, through a receiver and static -/
theorem c_VP (S : CallFix p m c cc nL s args Ts own) (hW : WD G sh ad A s H0 σ H locs) (hM : Met l y ws rm (wPre G sh ad σ E (.ref b :: As)) (qP v) 0 0 A) (cw : CallW R s args own C index y bytes maxL ret ws rm 0 0 n) (hE : eBlind E) (he : ∀ U : State, U.heap = H → s.WarmedH U.vm → E U) (hrec : ∃ cell : Cell, H[b]? = some cell ∧ cell.vm.isStatics = false ∧ s.vm.findClass C = some cell.cls) (hn : As.length = n) (hsize : ls.size = nL) (hst : st = As.reverse ++ .ref b :: rest) (hrm : (rest.map fun v => v.category).sum ≤ 8) (hdg : decode cc pc = .ok (.invokevirtual index, 3)) (hf : cells + 0 ≤ R.cells ∧ slots + 0 ≤ R.slots)
    (kk : ∀ (locs1 : List Loc), WD G sh ad A s H0 σ H locs1 → W p l e R s m args below meth c H locs1 cells slots Q (F0 m (pc + 3) ls (v :: rest))) : W p l e R s m args below meth c H locs cells slots Q (F0 m pc ls st) := by
  have hp := w_preS (As := .ref b :: As) hE hW he
  exact u_pure (va_runV S hM cw ⟨hp.1, hrec, hp.2⟩ rfl hn hsize hst (lv_room hrm) hdg hf) hW.2.2.2.2 (fun q h => h) (fun locs1 hS => kk locs1 ⟨hW.1, hW.2.1, hW.2.2.1, hW.2.2.2.1, hS⟩)
theorem c_VS (S : CallFix p m c cc nL s args Ts own) (hW : WD G sh ad A s H0 σ H locs) (hM : Met l y ws rm (wPre G sh ad σ E (.ref b :: As)) (qS G sh ad A P) 0 0 A) (cw : CallW R s args own C index y bytes maxL ret ws rm 0 0 n) (hE : eBlind E) (he : ∀ U : State, U.heap = H → s.WarmedH U.vm → E U) (hrec : ∃ cell : Cell, H[b]? = some cell ∧ cell.vm.isStatics = false ∧ s.vm.findClass C = some cell.cls) (hn : As.length = n) (hsize : ls.size = nL) (hst : st = As.reverse ++ .ref b :: rest) (hrm : (rest.map fun v => v.category).sum ≤ 8) (hdg : decode cc pc = .ok (.invokevirtual index, 3)) (hf : cells + 0 ≤ R.cells ∧ slots + 0 ≤ R.slots)
    (kk : ∀ (v : Option Value) (σ' : St) (H1 : Heap) (locs1 : List Loc), P v σ' → WD G sh ad A s H0 σ' H1 locs1 → W p l e R s m args below meth c H1 locs1 cells slots Q (F0 m (pc + 3) ls (v.toList ++ rest))) : W p l e R s m args below meth c H locs cells slots Q (F0 m pc ls st) := by
  have hp := w_preS (As := .ref b :: As) hE hW he
  exact u_state (va_runV S hM cw ⟨hp.1, hrec, hp.2⟩ rfl hn hsize hst (lv_room hrm) hdg hf) hW kk
/-- a static call that looks at no cell -/
theorem c_SP (S : CallFix p m c cc nL s args Ts own) (hS : va_S A H0 H locs) (hM : Met l y ws rm (va_Pc As (fun _ => True)) (qP v) 0 0 (fun _ => False)) (cw : CallB R s args own index y bytes maxL ret ws rm 0 0 n ∧ (Cond.static y).before args s = true) (hn : As.length = n) (hsize : ls.size = nL) (hst : st = As.reverse ++ rest) (hrm : (rest.map fun v => v.category).sum ≤ 8) (hdg : decode cc pc = .ok (.invokestatic index, 3)) (hf : cells + 0 ≤ R.cells ∧ slots + 0 ≤ R.slots)
    (kk : ∀ (locs1 : List Loc), va_S A H0 H locs1 → W p l e R s m args below meth c H locs1 cells slots Q (F0 m (pc + 3) ls (v :: rest))) : W p l e R s m args below meth c H locs cells slots Q (F0 m pc ls st) :=
  u_pure (va_runS S hM cw ⟨sPre_blind, fun U _ _ => ⟨rfl, trivial⟩⟩ rfl hn hsize hst (lv_room hrm) hdg hf) hS (fun q h => absurd h (fun z => z)) kk
theorem c_SPw (S : CallFix p m c cc nL s args Ts own) (hW : WD G sh ad A s H0 σ H locs) (hM : Met l y ws rm (va_Pc As (fun _ => True)) (qP v) 0 0 (fun _ => False)) (cw : CallB R s args own index y bytes maxL ret ws rm 0 0 n ∧ (Cond.static y).before args s = true) (hn : As.length = n) (hsize : ls.size = nL) (hst : st = As.reverse ++ rest) (hrm : (rest.map fun v => v.category).sum ≤ 8) (hdg : decode cc pc = .ok (.invokestatic index, 3)) (hf : cells + 0 ≤ R.cells ∧ slots + 0 ≤ R.slots)
    (kk : ∀ (locs1 : List Loc), WD G sh ad A s H0 σ H locs1 → W p l e R s m args below meth c H locs1 cells slots Q (F0 m (pc + 3) ls (v :: rest))) : W p l e R s m args below meth c H locs cells slots Q (F0 m pc ls st) :=
  c_SP S hW.2.2.2.2 hM cw hn hsize hst hrm hdg hf (fun locs1 hS => kk locs1 ⟨hW.1, hW.2.1, hW.2.2.1, hW.2.2.2.1, hS⟩)
end
/-! answers by kind -/
abbrev rI (P : Int → St → Prop) : Option Value → St → Prop := fun v σ' => ∃ r : Int, v = some (.int (iI r)) ∧ P r σ'
abbrev rZ (P : Bool → St → Prop) : Option Value → St → Prop := fun v σ' => ∃ b : Bool, v = some (.int (iI (b2i b))) ∧ P b σ'
abbrev rL (P : Int → St → Prop) : Option Value → St → Prop := fun v σ' => ∃ r : Int, v = some (.long (lI r)) ∧ P r σ'
abbrev rV (P : St → Prop) : Option Value → St → Prop := fun v σ' => v = none ∧ P σ'
section
variable {p : Program} {l : Launch} {e : Env} {R : Room} {s : State} {m : MethodId} {args : Array Value} {below : List Frame} {meth : Method} {c : Code} {H H0 : Heap} {locs : List Loc} {cells slots : Nat} {Q : State → Prop} {cc : ByteArray} {nL : Nat} {own : String} {Ts : List Cond} {pc : Nat} {ls : Array Slot} {rest st : List Value}
variable {G : GG} {sh : List CD} {ad : Nat → Nat} {σ : St} {A : Nat → Prop} {E : State → Prop}
variable {y : MethodName} {bytes : ByteArray} {maxL n index : Nat} {ret : Option FieldType} {ws : List Cond} {rm : Room} {free : Addr → Prop} {C : String} {As : List Value} {v : Value} {b : Nat}
theorem c_VSi {P : Int → St → Prop} (S : CallFix p m c cc nL s args Ts own) (hW : WD G sh ad A s H0 σ H locs) (hM : Met l y ws rm (wPre G sh ad σ E (.ref b :: As)) (qS G sh ad A (rI P)) 0 0 A) (cw : CallW R s args own C index y bytes maxL ret ws rm 0 0 n) (hE : eBlind E) (he : ∀ U : State, U.heap = H → s.WarmedH U.vm → E U) (hrec : ∃ cell : Cell, H[b]? = some cell ∧ cell.vm.isStatics = false ∧ s.vm.findClass C = some cell.cls) (hn : As.length = n) (hsize : ls.size = nL) (hst : st = As.reverse ++ .ref b :: rest) (hrm : (rest.map fun v => v.category).sum ≤ 8) (hdg : decode cc pc = .ok (.invokevirtual index, 3)) (hf : cells + 0 ≤ R.cells ∧ slots + 0 ≤ R.slots)
    (kk : ∀ (r : Int) (σ' : St) (H1 : Heap) (locs1 : List Loc), P r σ' → WD G sh ad A s H0 σ' H1 locs1 → W p l e R s m args below meth c H1 locs1 cells slots Q (F0 m (pc + 3) ls (.int (iI r) :: rest))) : W p l e R s m args below meth c H locs cells slots Q (F0 m pc ls st) :=
  c_VS S hW hM cw hE he hrec hn hsize hst hrm hdg hf (fun v σ' H1 locs1 hP hW' => by obtain ⟨r, rfl, hp⟩ := hP; exact kk r σ' H1 locs1 hp hW')
theorem c_VSz {P : Bool → St → Prop} (S : CallFix p m c cc nL s args Ts own) (hW : WD G sh ad A s H0 σ H locs) (hM : Met l y ws rm (wPre G sh ad σ E (.ref b :: As)) (qS G sh ad A (rZ P)) 0 0 A) (cw : CallW R s args own C index y bytes maxL ret ws rm 0 0 n) (hE : eBlind E) (he : ∀ U : State, U.heap = H → s.WarmedH U.vm → E U) (hrec : ∃ cell : Cell, H[b]? = some cell ∧ cell.vm.isStatics = false ∧ s.vm.findClass C = some cell.cls) (hn : As.length = n) (hsize : ls.size = nL) (hst : st = As.reverse ++ .ref b :: rest) (hrm : (rest.map fun v => v.category).sum ≤ 8) (hdg : decode cc pc = .ok (.invokevirtual index, 3)) (hf : cells + 0 ≤ R.cells ∧ slots + 0 ≤ R.slots)
    (kk : ∀ (r : Bool) (σ' : St) (H1 : Heap) (locs1 : List Loc), P r σ' → WD G sh ad A s H0 σ' H1 locs1 → W p l e R s m args below meth c H1 locs1 cells slots Q (F0 m (pc + 3) ls (.int (iI (b2i r)) :: rest))) : W p l e R s m args below meth c H locs cells slots Q (F0 m pc ls st) :=
  c_VS S hW hM cw hE he hrec hn hsize hst hrm hdg hf (fun v σ' H1 locs1 hP hW' => by obtain ⟨r, rfl, hp⟩ := hP; exact kk r σ' H1 locs1 hp hW')
theorem c_VSl {P : Int → St → Prop} (S : CallFix p m c cc nL s args Ts own) (hW : WD G sh ad A s H0 σ H locs) (hM : Met l y ws rm (wPre G sh ad σ E (.ref b :: As)) (qS G sh ad A (rL P)) 0 0 A) (cw : CallW R s args own C index y bytes maxL ret ws rm 0 0 n) (hE : eBlind E) (he : ∀ U : State, U.heap = H → s.WarmedH U.vm → E U) (hrec : ∃ cell : Cell, H[b]? = some cell ∧ cell.vm.isStatics = false ∧ s.vm.findClass C = some cell.cls) (hn : As.length = n) (hsize : ls.size = nL) (hst : st = As.reverse ++ .ref b :: rest) (hrm : (rest.map fun v => v.category).sum ≤ 8) (hdg : decode cc pc = .ok (.invokevirtual index, 3)) (hf : cells + 0 ≤ R.cells ∧ slots + 0 ≤ R.slots)
    (kk : ∀ (r : Int) (σ' : St) (H1 : Heap) (locs1 : List Loc), P r σ' → WD G sh ad A s H0 σ' H1 locs1 → W p l e R s m args below meth c H1 locs1 cells slots Q (F0 m (pc + 3) ls (.long (lI r) :: rest))) : W p l e R s m args below meth c H locs cells slots Q (F0 m pc ls st) :=
  c_VS S hW hM cw hE he hrec hn hsize hst hrm hdg hf (fun v σ' H1 locs1 hP hW' => by obtain ⟨r, rfl, hp⟩ := hP; exact kk r σ' H1 locs1 hp hW')
theorem c_VSv {P : St → Prop} (S : CallFix p m c cc nL s args Ts own) (hW : WD G sh ad A s H0 σ H locs) (hM : Met l y ws rm (wPre G sh ad σ E (.ref b :: As)) (qS G sh ad A (rV P)) 0 0 A) (cw : CallW R s args own C index y bytes maxL ret ws rm 0 0 n) (hE : eBlind E) (he : ∀ U : State, U.heap = H → s.WarmedH U.vm → E U) (hrec : ∃ cell : Cell, H[b]? = some cell ∧ cell.vm.isStatics = false ∧ s.vm.findClass C = some cell.cls) (hn : As.length = n) (hsize : ls.size = nL) (hst : st = As.reverse ++ .ref b :: rest) (hrm : (rest.map fun v => v.category).sum ≤ 8) (hdg : decode cc pc = .ok (.invokevirtual index, 3)) (hf : cells + 0 ≤ R.cells ∧ slots + 0 ≤ R.slots)
    (kk : ∀ (σ' : St) (H1 : Heap) (locs1 : List Loc), P σ' → WD G sh ad A s H0 σ' H1 locs1 → W p l e R s m args below meth c H1 locs1 cells slots Q (F0 m (pc + 3) ls rest)) : W p l e R s m args below meth c H locs cells slots Q (F0 m pc ls st) :=
  c_VS S hW hM cw hE he hrec hn hsize hst hrm hdg hf (fun v σ' H1 locs1 hP hW' => by obtain ⟨rfl, hp⟩ := hP; exact kk σ' H1 locs1 hp hW')
theorem r_ldc {x : Int32} {z : Int} (S : CallFix p m c cc nL s args Ts own) (hconst : Cond.constant own index x ∈ Ts) (hz : x = iI z) (hdg : decode cc pc = .ok (.ldc index, 2)) (k : W p l e R s m args below meth c H locs cells slots Q (F0 m (pc + 2) ls (.int (iI z) :: rest))) : W p l e R s m args below meth c H locs cells slots Q (F0 m pc ls rest) := by
  subst hz
  exact lv_ldc S.1 S.2.1 S.2.2.2.1 (S.2.2.2.2 _ hconst) hdg k
theorem r_ldcw {x : Int32} {z : Int} (S : CallFix p m c cc nL s args Ts own) (hconst : Cond.constant own index x ∈ Ts) (hz : x = iI z) (hdg : decode cc pc = .ok (.ldc_w index, 3)) (k : W p l e R s m args below meth c H locs cells slots Q (F0 m (pc + 3) ls (.int (iI z) :: rest))) : W p l e R s m args below meth c H locs cells slots Q (F0 m pc ls rest) := by
  subst hz
  exact lv_ldcw S.1 S.2.1 S.2.2.2.1 (S.2.2.2.2 _ hconst) hdg k
end
