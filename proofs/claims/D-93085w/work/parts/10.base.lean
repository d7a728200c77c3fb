/-! THE WALK's JUDGEMENT over one tuple of fixed things: G X k n ws pc lv st. Written for this claim. -/
abbrev gX : Type := Program × Launch × Env × Room × State × MethodId × Array Value × List Frame × Method × Code × (State → Prop) × va_G × (Nat → ClassId) × (Nat → Prop) × Nat × Bool
abbrev xp (X : gX) : Program := X.1
abbrev xl (X : gX) : Launch := X.2.1
abbrev xe (X : gX) : Env := X.2.2.1
abbrev xR (X : gX) : Room := X.2.2.2.1
abbrev xs (X : gX) : State := X.2.2.2.2.1
abbrev xm (X : gX) : MethodId := X.2.2.2.2.2.1
abbrev xargs (X : gX) : Array Value := X.2.2.2.2.2.2.1
abbrev xbelow (X : gX) : List Frame := X.2.2.2.2.2.2.2.1
abbrev xmeth (X : gX) : Method := X.2.2.2.2.2.2.2.2.1
abbrev xc (X : gX) : Code := X.2.2.2.2.2.2.2.2.2.1
abbrev xQ (X : gX) : State → Prop := X.2.2.2.2.2.2.2.2.2.2.1
abbrev xD (X : gX) : va_G := X.2.2.2.2.2.2.2.2.2.2.2.1
abbrev xT (X : gX) : Nat → ClassId := X.2.2.2.2.2.2.2.2.2.2.2.2.1
abbrev xA (X : gX) : Nat → Prop := X.2.2.2.2.2.2.2.2.2.2.2.2.2.1
abbrev xnL (X : gX) : Nat := X.2.2.2.2.2.2.2.2.2.2.2.2.2.2.1
abbrev xro (X : gX) : Bool := X.2.2.2.2.2.2.2.2.2.2.2.2.2.2.2
/-- the claim's classes, by the numbers of their names -/
abbrev vCL : List vw_C := [(RX0, TX0, 14), (RX1, TX1, 23), (RX2, TX2, 1), (RX3, TX3, 2), (RX4, TX4, 1), (RX5, TX5, 20), (RX6, TX6, 3), (RX7, TX7, 3), (RX8, TX8, 3), (RX9, TX9, 3), (RX10, TX10, 3), (RX11, TX11, 3), (RX12, TX12, 3), (RX13, TX13, 6), (RX14, TX14, 3), (RX15, TX15, 7)]
/-- the array classes -/
abbrev gTy (T : Nat → ClassId) : List (ClassId × FieldType) := [(T 0, .int), (T 1, .byte), (T 2, .boolean), (T 3, .short), (T 4, .object "NamedPrices$Slot"), (T 5, .object "NamedPrices$Text")]
/-- the words of the tables that ask more than a list of good words gives: nest mates, casts, what is declared -/
def gNk : Cond → Bool
  | .fieldLinkNest _ _ _ _ _ _ => true
  | .methodLinkNest _ _ _ _ => true
  | .castable _ _ => true
  | .declares _ => true
  | _ => false
/-- what isn't of a class, as it is asked -/
def gNC : List (String × String) := [("NamedPrices$Namer", "NamedPrices$True"), ("NamedPrices$Spite", "NamedPrices$True"), ("NamedPrices$Told", "NamedPrices$True"), ("NamedPrices$Namer", "NamedPrices$High"), ("NamedPrices$True", "NamedPrices$High"), ("NamedPrices$Lower", "NamedPrices$High"), ("NamedPrices$Spite", "NamedPrices$High"), ("NamedPrices$Told", "NamedPrices$High"), ("NamedPrices$Best", "NamedPrices$High"), ("NamedPrices$Namer", "NamedPrices$Lower"), ("NamedPrices$True", "NamedPrices$Lower"), ("NamedPrices$High", "NamedPrices$Lower"), ("NamedPrices$Spite", "NamedPrices$Lower"), ("NamedPrices$Told", "NamedPrices$Lower"), ("NamedPrices$Best", "NamedPrices$Lower"), ("NamedPrices$Namer", "NamedPrices$Spite"), ("NamedPrices$True", "NamedPrices$Spite"), ("NamedPrices$High", "NamedPrices$Spite"), ("NamedPrices$Lower", "NamedPrices$Spite"), ("NamedPrices$Told", "NamedPrices$Spite"), ("NamedPrices$Best", "NamedPrices$Spite"), ("NamedPrices$Namer", "NamedPrices$Told"), ("NamedPrices$True", "NamedPrices$Told"), ("NamedPrices$High", "NamedPrices$Told"), ("NamedPrices$Lower", "NamedPrices$Told"), ("NamedPrices$Spite", "NamedPrices$Told"), ("NamedPrices$Best", "NamedPrices$Told"), ("NamedPrices$Namer", "NamedPrices$Best"), ("NamedPrices$True", "NamedPrices$Best"), ("NamedPrices$High", "NamedPrices$Best"), ("NamedPrices$Lower", "NamedPrices$Best"), ("NamedPrices$Spite", "NamedPrices$Best"), ("NamedPrices$Told", "NamedPrices$Best"), ("[S", "[B"), ("[I", "[B"), ("[B", "[S"), ("[I", "[S")]
def gN (U : State) : Prop := (∀ w ∈ lw_tbl, gNk w = true → va_Nw w U) ∧ (∀ (C : String) (x y : MethodName), Cond.declares x ∈ lw_tbl → Cond.interfaceMethod x.cls x.cls x.name x.desc ∈ lw_tbl → Cond.publicMethod y ∈ lw_tbl → Cond.unhidden C x.name x.desc ∈ lw_tbl → Cond.castable C x.cls ∈ lw_tbl → x.cls ≠ "java/lang/invoke/MethodHandle" ∧ x.cls ≠ "java/lang/invoke/VarHandle" → va_Fw C x y U) ∧ (∀ C : String, Cond.arrayOver (.object C) ∈ lw_tbl → va_AO C U) ∧ (∀ q ∈ gNC, va_Nc q.1 q.2 U)
theorem gN.warm {s U : State} (hW : s.WarmedH U.vm) (h : gN s) : gN U := by
  obtain ⟨h1, h2, h3, h4⟩ := h
  refine ⟨fun w hw hk => ?_, fun C x y a1 a2 a3 a4 a5 a6 => (h2 C x y a1 a2 a3 a4 a5 a6).moved a6 hW.alike, fun C hC => (h3 C hC).moved hW.alike, fun q hq => (h4 q hq).moved hW.alike⟩
  have g := h1 w hw hk
  cases w <;> first | exact g.warmF hW | exact g.warmM hW | exact g.warmC hW | exact g.warmD hW | cases hk
/-- what is known of the tables -/
def gK (D : va_G) (T : Nat → ClassId) (U : State) : Prop := va_K D vCL (gTy T) U ∧ gN U
theorem gK.warm {D : va_G} {T : Nat → ClassId} {s U : State} (hW : s.WarmedH U.vm) (h : gK D T s) : gK D T U := ⟨va_K.moved hW.alike h.1, h.2.warm hW⟩
/-- the world in the heap -/
def gW (X : gX) (ws : va_W) (H : Heap) (locs : List Loc) : Prop := va_P (xD X) vCL ws H ∧ (xro X = true → H = (xs X).heap ∧ locs = []) ∧ (xro X = false → va_D (xA X) ws ∧ va_S (xA X) (xs X).heap H locs)
def G (X : gX) (k n : Nat) (ws : va_W) (pc : Nat) (lv : List (Nat × Value)) (st : List Value) : Prop :=
  ∀ (H : Heap) (locs : List Loc) (ls : Array Slot), gW X ws H locs → lv_has ls (xnL X) lv → W (xp X) (xl X) (xe X) (xR X) (xs X) (xm X) (xargs X) (xbelow X) (xmeth X) (xc X) H locs k n (xQ X) (F0 (xm X) pc ls st)
/-- what holds all through a method's walk -/
def gAt (X : gX) (cc : ByteArray) (nL : Nat) (own : String) (rm : Room) (ret : Option FieldType) : Prop :=
  (xp X).tables.exec = Jvm.exec ∧ (xc X).code = cc ∧ (xc X).maxLocals = nL ∧ (xs X).vm.findClass own = some (xm X).cls ∧ (∀ w ∈ lw_all, w.before (xargs X) (xs X) = true) ∧ gK (xD X) (xT X) (xs X) ∧ xnL X = nL ∧ xR X = rm ∧ (xmeth X).sig.returnType = ret ∧ (xmeth X).locks = false
def bI (b : Bool) : Int32 := cond b 1 0
def lvg : List (Nat × Value) → Nat → Option Value
  | [], _ => none
  | (i, v) :: l, j => cond (Nat.beq i j) (some v) (lvg l j)
theorem lvg_mem : ∀ {l : List (Nat × Value)} {j : Nat} {v : Value}, lvg l j = some v → (j, v) ∈ l
  | [], _, _, h => by cases h
  | (i, w) :: l, j, v, h => by
    unfold lvg at h
    cases hb : Nat.beq i j with
    | true =>
      rw [hb] at h
      have e : i = j := Nat.eq_of_beq_eq_true hb
      cases h
      subst e
      exact List.mem_cons_self
    | false =>
      rw [hb] at h
      exact List.mem_cons_of_mem _ (lvg_mem h)
theorem lvg_at {ls : Array Slot} {nL : Nat} {l : List (Nat × Value)} (h : lv_has ls nL l) {j : Nat} {v : Value} (hj : lvg l j = some v) : ls[j]? = some (.val v) := h.2.2 (j, v) (lvg_mem hj)
def lvk (l : List (Nat × Value)) (i : Nat) : List (Nat × Value) := l.filter (fun q => !(q.1 == i) && !(q.1 + 1 == i && q.2.category == 2))
def lvk2 (l : List (Nat × Value)) (i : Nat) : List (Nat × Value) := l.filter (fun q => !(q.1 == i) && (!(q.1 == i + 1) && !(q.1 + 1 == i && q.2.category == 2)))
def lvi (j : Nat) (v : Value) : List (Nat × Value) → List (Nat × Value)
  | [] => [(j, v)]
  | (i, w) :: l => cond (Nat.ble i j) ((i, w) :: lvi j v l) ((j, v) :: (i, w) :: l)
theorem lvi_mem {j : Nat} {v : Value} {q : Nat × Value} : ∀ {l : List (Nat × Value)}, q ∈ lvi j v l → q = (j, v) ∨ q ∈ l
  | [], h => by simpa [lvi] using h
  | (i, w) :: l, h => by
    unfold lvi at h
    cases hb : Nat.ble i j with
    | true =>
      rw [hb] at h
      rcases List.mem_cons.mp h with e | e
      · exact Or.inr (by rw [e]; exact List.mem_cons_self)
      · rcases lvi_mem e with z | z
        · exact Or.inl z
        · exact Or.inr (List.mem_cons_of_mem _ z)
    | false =>
      rw [hb] at h
      rcases List.mem_cons.mp h with e | e
      · exact Or.inl e
      · exact Or.inr e
theorem lvi_has {ls : Array Slot} {nL j : Nat} {v : Value} {l : List (Nat × Value)} (h : lv_has ls nL ((j, v) :: l)) : lv_has ls nL (lvi j v l) :=
  ⟨h.1, h.2.1, fun q hq => h.2.2 q (by rcases lvi_mem hq with e | e; exact (by rw [e]; exact List.mem_cons_self); exact List.mem_cons_of_mem _ e)⟩
/-- fewer locals, in another order -/
def lvle (l' l : List (Nat × Value)) : Prop := ∀ q ∈ l', lvg l q.1 = some q.2
theorem lvle_nil {l : List (Nat × Value)} : lvle [] l := fun _ h => by cases h
theorem lvle_cons {l l' : List (Nat × Value)} {i : Nat} {v : Value} (h : lvg l i = some v) (hl : lvle l' l) : lvle ((i, v) :: l') l := by
  intro q hq
  rcases List.mem_cons.mp hq with e | e
  · rw [e]; exact h
  · exact hl q e
section GS
variable {X : gX} {cc : ByteArray} {nL : Nat} {own : String} {rm : Room} {ret : Option FieldType} {k n : Nat} {ws : va_W} {pc : Nat} {lv : List (Nat × Value)} {st : List Value}
theorem gS {pc' : Nat} {st' : List Value} (h : ∀ (H : Heap) (locs : List Loc) (ls : Array Slot), lv_has ls (xnL X) lv → W (xp X) (xl X) (xe X) (xR X) (xs X) (xm X) (xargs X) (xbelow X) (xmeth X) (xc X) H locs k n (xQ X) (F0 (xm X) pc' ls st') → W (xp X) (xl X) (xe X) (xR X) (xs X) (xm X) (xargs X) (xbelow X) (xmeth X) (xc X) H locs k n (xQ X) (F0 (xm X) pc ls st)) (kk : G X k n ws pc' lv st') : G X k n ws pc lv st :=
  fun H locs ls hw hl => h H locs ls hl (kk H locs ls hw hl)
theorem g_lv {lv' : List (Nat × Value)} (h : lvle lv' lv) (kk : G X k n ws pc lv' st) : G X k n ws pc lv st :=
  fun H locs ls hw hl => kk H locs ls hw ⟨hl.1, hl.2.1, fun q hq => lvg_at hl (h q hq)⟩
theorem g_widen {k' n' : Nat} (h1 : k ≤ k') (h2 : n ≤ n') (kk : G X k' n' ws pc lv st) : G X k n ws pc lv st :=
  fun H locs ls hw hl => W.widen h1 h2 (kk H locs ls hw hl)
theorem g_iconst (h : gAt X cc nL own rm ret) {i : Int} {v : Int32} (hd : decode cc pc = .ok (.iconst i, 1)) (hv : Int32.ofInt i = v) (kk : G X k n ws (pc + 1) lv (.int v :: st)) : G X k n ws pc lv st := gS (fun _ _ _ _ w => lv_iconst h.1 h.2.1 hd hv w) kk
theorem g_bipush (h : gAt X cc nL own rm ret) {i : Int} {v : Int32} (hd : decode cc pc = .ok (.bipush i, 2)) (hv : (Int8.ofInt i).toInt32 = v) (kk : G X k n ws (pc + 2) lv (.int v :: st)) : G X k n ws pc lv st := gS (fun _ _ _ _ w => lv_bipush h.1 h.2.1 hd hv w) kk
theorem g_sipush (h : gAt X cc nL own rm ret) {i : Int} {v : Int32} (hd : decode cc pc = .ok (.sipush i, 3)) (hv : (Int16.ofInt i).toInt32 = v) (kk : G X k n ws (pc + 3) lv (.int v :: st)) : G X k n ws pc lv st := gS (fun _ _ _ _ w => lv_sipush h.1 h.2.1 hd hv w) kk
theorem g_lconst (h : gAt X cc nL own rm ret) {i : Fin 2} {v : Int64} (hd : decode cc pc = .ok (.lconst i, 1)) (hv : Int64.ofNat (i : Nat) = v) (kk : G X k n ws (pc + 1) lv (.long v :: st)) : G X k n ws pc lv st := gS (fun _ _ _ _ w => lv_lconst h.1 h.2.1 hd hv w) kk
theorem g_ldc (h : gAt X cc nL own rm ret) {i : Nat} {v : Int32} (hc : Jvm.Cond.constant own i v ∈ lw_all) (hd : decode cc pc = .ok (.ldc i, 2)) (kk : G X k n ws (pc + 2) lv (.int v :: st)) : G X k n ws pc lv st := gS (fun _ _ _ _ w => lv_ldc h.1 h.2.1 h.2.2.2.1 (h.2.2.2.2.1 _ hc) hd w) kk
theorem g_ldc2 (h : gAt X cc nL own rm ret) {i : Nat} {v : Int64} (hc : Jvm.Cond.constantLong own i v ∈ lw_all) (hd : decode cc pc = .ok (.ldc2_w i, 3)) (kk : G X k n ws (pc + 3) lv (.long v :: st)) : G X k n ws pc lv st := gS (fun _ _ _ _ w => lv_ldc2 h.1 h.2.1 h.2.2.2.1 (h.2.2.2.2.1 _ hc) hd w) kk
theorem g_iload_n (h : gAt X cc nL own rm ret) {j : Fin 4} {x : Int32} (hd : decode cc pc = .ok (.iload_n j, 1)) (hl : lvg lv j = some (.int x)) (kk : G X k n ws (pc + 1) lv (.int x :: st)) : G X k n ws pc lv st := gS (fun _ _ _ q w => lv_iload_n h.1 h.2.1 hd rfl (lvg_at q hl) w) kk
theorem g_iload (h : gAt X cc nL own rm ret) {j : Nat} {x : Int32} (hd : decode cc pc = .ok (.iload j, 2)) (hl : lvg lv j = some (.int x)) (kk : G X k n ws (pc + 2) lv (.int x :: st)) : G X k n ws pc lv st := gS (fun _ _ _ q w => lv_iload h.1 h.2.1 hd (lvg_at q hl) w) kk
theorem g_lload_n (h : gAt X cc nL own rm ret) {j : Fin 4} {x : Int64} (hd : decode cc pc = .ok (.lload_n j, 1)) (hl : lvg lv j = some (.long x)) (kk : G X k n ws (pc + 1) lv (.long x :: st)) : G X k n ws pc lv st := gS (fun _ _ _ q w => lv_lload_n h.1 h.2.1 hd rfl (lvg_at q hl) w) kk
theorem g_lload (h : gAt X cc nL own rm ret) {j : Nat} {x : Int64} (hd : decode cc pc = .ok (.lload j, 2)) (hl : lvg lv j = some (.long x)) (kk : G X k n ws (pc + 2) lv (.long x :: st)) : G X k n ws pc lv st := gS (fun _ _ _ q w => lv_lload h.1 h.2.1 hd (lvg_at q hl) w) kk
theorem g_aload_n (h : gAt X cc nL own rm ret) {j : Fin 4} {x : Nat} (hd : decode cc pc = .ok (.aload_n j, 1)) (hl : lvg lv j = some (.ref x)) (kk : G X k n ws (pc + 1) lv (.ref x :: st)) : G X k n ws pc lv st := gS (fun _ _ _ q w => lv_aload_n h.1 h.2.1 hd rfl (lvg_at q hl) w) kk
theorem g_aload (h : gAt X cc nL own rm ret) {j : Nat} {x : Nat} (hd : decode cc pc = .ok (.aload j, 2)) (hl : lvg lv j = some (.ref x)) (kk : G X k n ws (pc + 2) lv (.ref x :: st)) : G X k n ws pc lv st := gS (fun _ _ _ q w => lv_aload h.1 h.2.1 hd (lvg_at q hl) w) kk
theorem gL {pc' : Nat} {lv' : List (Nat × Value)} {st' : List Value} (h : ∀ (H : Heap) (locs : List Loc) (ls : Array Slot), lv_has ls (xnL X) lv → (∀ ls', lv_has ls' (xnL X) lv' → W (xp X) (xl X) (xe X) (xR X) (xs X) (xm X) (xargs X) (xbelow X) (xmeth X) (xc X) H locs k n (xQ X) (F0 (xm X) pc' ls' st')) → W (xp X) (xl X) (xe X) (xR X) (xs X) (xm X) (xargs X) (xbelow X) (xmeth X) (xc X) H locs k n (xQ X) (F0 (xm X) pc ls st)) (kk : G X k n ws pc' lv' st') : G X k n ws pc lv st :=
  fun H locs ls hw hl => h H locs ls hl (fun ls' hl' => kk H locs ls' hw hl')
theorem g_istore_n (h : gAt X cc nL own rm ret) {j : Fin 4} {x : Int32} {lv' : List (Nat × Value)} (hd : decode cc pc = .ok (.istore_n j, 1)) (hn : (j : Nat) < nL) (hl : lvi j (.int x) (lvk lv j) = lv') (kk : G X k n ws (pc + 1) lv' st) : G X k n ws pc lv (.int x :: st) := gL (fun _ _ _ q w => lv_istore_n h.1 h.2.1 hd rfl q (by rw [h.2.2.2.2.2.2.1]; exact hn) rfl (fun ls' hl' => w ls' (by rw [← hl]; exact lvi_has hl'))) kk
theorem g_istore (h : gAt X cc nL own rm ret) {j : Nat} {x : Int32} {lv' : List (Nat × Value)} (hd : decode cc pc = .ok (.istore j, 2)) (hn : j < nL) (hl : lvi j (.int x) (lvk lv j) = lv') (kk : G X k n ws (pc + 2) lv' st) : G X k n ws pc lv (.int x :: st) := gL (fun _ _ _ q w => lv_istore h.1 h.2.1 hd q (by rw [h.2.2.2.2.2.2.1]; exact hn) rfl (fun ls' hl' => w ls' (by rw [← hl]; exact lvi_has hl'))) kk
theorem g_lstore_n (h : gAt X cc nL own rm ret) {j : Fin 4} {x : Int64} {lv' : List (Nat × Value)} (hd : decode cc pc = .ok (.lstore_n j, 1)) (hn : (j : Nat) + 1 < nL) (hl : lvi j (.long x) (lvk2 lv j) = lv') (kk : G X k n ws (pc + 1) lv' st) : G X k n ws pc lv (.long x :: st) := gL (fun _ _ _ q w => lv_lstore_n h.1 h.2.1 hd rfl q (by rw [h.2.2.2.2.2.2.1]; exact hn) rfl (fun ls' hl' => w ls' (by rw [← hl]; exact lvi_has hl'))) kk
theorem g_lstore (h : gAt X cc nL own rm ret) {j : Nat} {x : Int64} {lv' : List (Nat × Value)} (hd : decode cc pc = .ok (.lstore j, 2)) (hn : j + 1 < nL) (hl : lvi j (.long x) (lvk2 lv j) = lv') (kk : G X k n ws (pc + 2) lv' st) : G X k n ws pc lv (.long x :: st) := gL (fun _ _ _ q w => lv_lstore h.1 h.2.1 hd q (by rw [h.2.2.2.2.2.2.1]; exact hn) rfl (fun ls' hl' => w ls' (by rw [← hl]; exact lvi_has hl'))) kk
theorem g_astore_n (h : gAt X cc nL own rm ret) {j : Fin 4} {x : Nat} {lv' : List (Nat × Value)} (hd : decode cc pc = .ok (.astore_n j, 1)) (hn : (j : Nat) < nL) (hl : lvi j (.ref x) (lvk lv j) = lv') (kk : G X k n ws (pc + 1) lv' st) : G X k n ws pc lv (.ref x :: st) := gL (fun _ _ _ q w => lv_astore_n h.1 h.2.1 hd rfl q (by rw [h.2.2.2.2.2.2.1]; exact hn) rfl (fun ls' hl' => w ls' (by rw [← hl]; exact lvi_has hl'))) kk
theorem g_astore (h : gAt X cc nL own rm ret) {j : Nat} {x : Nat} {lv' : List (Nat × Value)} (hd : decode cc pc = .ok (.astore j, 2)) (hn : j < nL) (hl : lvi j (.ref x) (lvk lv j) = lv') (kk : G X k n ws (pc + 2) lv' st) : G X k n ws pc lv (.ref x :: st) := gL (fun _ _ _ q w => lv_astore h.1 h.2.1 hd q (by rw [h.2.2.2.2.2.2.1]; exact hn) rfl (fun ls' hl' => w ls' (by rw [← hl]; exact lvi_has hl'))) kk
theorem g_iinc (h : gAt X cc nL own rm ret) {j : Nat} {i : Int} {x v : Int32} {lv' : List (Nat × Value)} (hd : decode cc pc = .ok (.iinc j i, 3)) (hx : lvg lv j = some (.int x)) (hv : x + Int32.ofInt i = v) (hn : j < nL) (hl : lvi j (.int v) (lvk lv j) = lv') (kk : G X k n ws (pc + 3) lv' st) : G X k n ws pc lv st := by
  obtain ⟨p, hp⟩ := List.getElem?_of_mem (lvg_mem hx)
  exact gL (fun _ _ _ q w => lv_iinc h.1 h.2.1 hd q hp hv (by rw [h.2.2.2.2.2.2.1]; exact hn) rfl (fun ls' hl' => w ls' (by rw [← hl]; exact lvi_has hl'))) kk
theorem g_iadd (h : gAt X cc nL own rm ret) {x y : Int32} (hd : decode cc pc = .ok (.iadd, 1)) (kk : G X k n ws (pc + 1) lv (.int (x + y) :: st)) : G X k n ws pc lv (.int y :: .int x :: st) := gS (fun _ _ _ _ w => lv_iadd h.1 h.2.1 hd w) kk
theorem g_isub (h : gAt X cc nL own rm ret) {x y : Int32} (hd : decode cc pc = .ok (.isub, 1)) (kk : G X k n ws (pc + 1) lv (.int (x - y) :: st)) : G X k n ws pc lv (.int y :: .int x :: st) := gS (fun _ _ _ _ w => lv_isub h.1 h.2.1 hd w) kk
theorem g_imul (h : gAt X cc nL own rm ret) {x y : Int32} (hd : decode cc pc = .ok (.imul, 1)) (kk : G X k n ws (pc + 1) lv (.int (x * y) :: st)) : G X k n ws pc lv (.int y :: .int x :: st) := gS (fun _ _ _ _ w => lv_imul h.1 h.2.1 hd w) kk
theorem g_iand (h : gAt X cc nL own rm ret) {x y : Int32} (hd : decode cc pc = .ok (.iand, 1)) (kk : G X k n ws (pc + 1) lv (.int (x &&& y) :: st)) : G X k n ws pc lv (.int y :: .int x :: st) := gS (fun _ _ _ _ w => lv_iand h.1 h.2.1 hd w) kk
theorem g_ior (h : gAt X cc nL own rm ret) {x y : Int32} (hd : decode cc pc = .ok (.ior, 1)) (kk : G X k n ws (pc + 1) lv (.int (x ||| y) :: st)) : G X k n ws pc lv (.int y :: .int x :: st) := gS (fun _ _ _ _ w => lv_ior h.1 h.2.1 hd w) kk
theorem g_ixor (h : gAt X cc nL own rm ret) {x y : Int32} (hd : decode cc pc = .ok (.ixor, 1)) (kk : G X k n ws (pc + 1) lv (.int (x ^^^ y) :: st)) : G X k n ws pc lv (.int y :: .int x :: st) := gS (fun _ _ _ _ w => lv_ixor h.1 h.2.1 hd w) kk
theorem g_idiv (h : gAt X cc nL own rm ret) {x y : Int32} (hd : decode cc pc = .ok (.idiv, 1)) (hne : ¬ y = 0) (kk : G X k n ws (pc + 1) lv (.int (x / y) :: st)) : G X k n ws pc lv (.int y :: .int x :: st) := gS (fun _ _ _ _ w => lv_idiv h.1 h.2.1 hd hne w) kk
theorem g_irem (h : gAt X cc nL own rm ret) {x y : Int32} (hd : decode cc pc = .ok (.irem, 1)) (hne : ¬ y = 0) (kk : G X k n ws (pc + 1) lv (.int (x - x / y * y) :: st)) : G X k n ws pc lv (.int y :: .int x :: st) := gS (fun _ _ _ _ w => lv_irem h.1 h.2.1 hd hne w) kk
theorem g_ineg (h : gAt X cc nL own rm ret) {x : Int32} (hd : decode cc pc = .ok (.ineg, 1)) (kk : G X k n ws (pc + 1) lv (.int (-x) :: st)) : G X k n ws pc lv (.int x :: st) := gS (fun _ _ _ _ w => lv_ineg h.1 h.2.1 hd w) kk
theorem g_ladd (h : gAt X cc nL own rm ret) {x y : Int64} (hd : decode cc pc = .ok (.ladd, 1)) (kk : G X k n ws (pc + 1) lv (.long (x + y) :: st)) : G X k n ws pc lv (.long y :: .long x :: st) := gS (fun _ _ _ _ w => lv_ladd h.1 h.2.1 hd w) kk
theorem g_lsub (h : gAt X cc nL own rm ret) {x y : Int64} (hd : decode cc pc = .ok (.lsub, 1)) (kk : G X k n ws (pc + 1) lv (.long (x - y) :: st)) : G X k n ws pc lv (.long y :: .long x :: st) := gS (fun _ _ _ _ w => lv_lsub h.1 h.2.1 hd w) kk
theorem g_lmul (h : gAt X cc nL own rm ret) {x y : Int64} (hd : decode cc pc = .ok (.lmul, 1)) (kk : G X k n ws (pc + 1) lv (.long (x * y) :: st)) : G X k n ws pc lv (.long y :: .long x :: st) := gS (fun _ _ _ _ w => lv_lmul h.1 h.2.1 hd w) kk
theorem g_land (h : gAt X cc nL own rm ret) {x y : Int64} (hd : decode cc pc = .ok (.land, 1)) (kk : G X k n ws (pc + 1) lv (.long (x &&& y) :: st)) : G X k n ws pc lv (.long y :: .long x :: st) := gS (fun _ _ _ _ w => lv_land h.1 h.2.1 hd w) kk
theorem g_lor (h : gAt X cc nL own rm ret) {x y : Int64} (hd : decode cc pc = .ok (.lor, 1)) (kk : G X k n ws (pc + 1) lv (.long (x ||| y) :: st)) : G X k n ws pc lv (.long y :: .long x :: st) := gS (fun _ _ _ _ w => lv_lor h.1 h.2.1 hd w) kk
theorem g_ldiv (h : gAt X cc nL own rm ret) {x y : Int64} (hd : decode cc pc = .ok (.ldiv, 1)) (hne : ¬ y = 0) (kk : G X k n ws (pc + 1) lv (.long (x / y) :: st)) : G X k n ws pc lv (.long y :: .long x :: st) := gS (fun _ _ _ _ w => lv_ldiv h.1 h.2.1 hd hne w) kk
theorem g_lrem (h : gAt X cc nL own rm ret) {x y : Int64} (hd : decode cc pc = .ok (.lrem, 1)) (hne : ¬ y = 0) (kk : G X k n ws (pc + 1) lv (.long (x - x / y * y) :: st)) : G X k n ws pc lv (.long y :: .long x :: st) := gS (fun _ _ _ _ w => lv_lrem h.1 h.2.1 hd hne w) kk
theorem g_lneg (h : gAt X cc nL own rm ret) {x : Int64} (hd : decode cc pc = .ok (.lneg, 1)) (kk : G X k n ws (pc + 1) lv (.long (-x) :: st)) : G X k n ws pc lv (.long x :: st) := gS (fun _ _ _ _ w => lv_lneg h.1 h.2.1 hd w) kk
theorem g_ishl (h : gAt X cc nL own rm ret) {x y : Int32} (hd : decode cc pc = .ok (.ishl, 1)) (kk : G X k n ws (pc + 1) lv (.int (x <<< (y &&& 31)) :: st)) : G X k n ws pc lv (.int y :: .int x :: st) := gS (fun _ _ _ _ w => lv_ishl h.1 h.2.1 hd w) kk
theorem g_ishr (h : gAt X cc nL own rm ret) {x y : Int32} (hd : decode cc pc = .ok (.ishr, 1)) (kk : G X k n ws (pc + 1) lv (.int (x >>> (y &&& 31)) :: st)) : G X k n ws pc lv (.int y :: .int x :: st) := gS (fun _ _ _ _ w => lv_ishr h.1 h.2.1 hd w) kk
theorem g_iushr (h : gAt X cc nL own rm ret) {x y v : Int32} (hd : decode cc pc = .ok (.iushr, 1)) (hv : (x.toUInt32 >>> (y.toUInt32 &&& Int32.toUInt32 31)).toInt32 = v) (kk : G X k n ws (pc + 1) lv (.int v :: st)) : G X k n ws pc lv (.int y :: .int x :: st) := gS (fun _ _ _ _ w => lv_iushr h.1 h.2.1 hd hv w) kk
theorem g_lshl (h : gAt X cc nL own rm ret) {x v : Int64} {y : Int32} (hd : decode cc pc = .ok (.lshl, 1)) (hv : x <<< (y.toInt64 &&& 63) = v) (kk : G X k n ws (pc + 1) lv (.long v :: st)) : G X k n ws pc lv (.int y :: .long x :: st) := gS (fun _ _ _ _ w => lv_lshl h.1 h.2.1 hd hv w) kk
theorem g_lshr (h : gAt X cc nL own rm ret) {x v : Int64} {y : Int32} (hd : decode cc pc = .ok (.lshr, 1)) (hv : x >>> (y.toInt64 &&& 63) = v) (kk : G X k n ws (pc + 1) lv (.long v :: st)) : G X k n ws pc lv (.int y :: .long x :: st) := gS (fun _ _ _ _ w => lv_lshr h.1 h.2.1 hd hv w) kk
theorem g_i2l (h : gAt X cc nL own rm ret) {x : Int32} (hd : decode cc pc = .ok (.i2l, 1)) (kk : G X k n ws (pc + 1) lv (.long x.toInt64 :: st)) : G X k n ws pc lv (.int x :: st) := gS (fun _ _ _ _ w => lv_i2l h.1 h.2.1 hd rfl w) kk
theorem g_l2i (h : gAt X cc nL own rm ret) {x : Int64} (hd : decode cc pc = .ok (.l2i, 1)) (kk : G X k n ws (pc + 1) lv (.int x.toInt32 :: st)) : G X k n ws pc lv (.long x :: st) := gS (fun _ _ _ _ w => lv_l2i h.1 h.2.1 hd rfl w) kk
theorem g_i2b (h : gAt X cc nL own rm ret) {x : Int32} (hd : decode cc pc = .ok (.i2b, 1)) (kk : G X k n ws (pc + 1) lv (.int x.toInt8.toInt32 :: st)) : G X k n ws pc lv (.int x :: st) := gS (fun _ _ _ _ w => lv_i2b h.1 h.2.1 hd rfl w) kk
theorem g_i2s (h : gAt X cc nL own rm ret) {x : Int32} (hd : decode cc pc = .ok (.i2s, 1)) (kk : G X k n ws (pc + 1) lv (.int x.toInt16.toInt32 :: st)) : G X k n ws pc lv (.int x :: st) := gS (fun _ _ _ _ w => lv_i2s h.1 h.2.1 hd rfl w) kk
theorem g_lcmp (h : gAt X cc nL own rm ret) {x y : Int64} (hd : decode cc pc = .ok (.lcmp, 1)) (kk : G X k n ws (pc + 1) lv (.int (lg_cmp x y) :: st)) : G X k n ws pc lv (.long y :: .long x :: st) := gS (fun _ _ _ _ w => W.lcmp h.1 h.2.1 hd w) kk
theorem g_dup (h : gAt X cc nL own rm ret) {a : Value} (hd : decode cc pc = .ok (.dup, 1)) (ha : a.category = 1) (kk : G X k n ws (pc + 1) lv (a :: a :: st)) : G X k n ws pc lv (a :: st) := gS (fun _ _ _ _ w => lv_dup h.1 h.2.1 hd ha w) kk
theorem g_pop (h : gAt X cc nL own rm ret) {a : Value} (hd : decode cc pc = .ok (.pop, 1)) (ha : a.category = 1) (kk : G X k n ws (pc + 1) lv st) : G X k n ws pc lv (a :: st) := gS (fun _ _ _ _ w => lv_pop h.1 h.2.1 hd ha w) kk
theorem g_dup_x1 (h : gAt X cc nL own rm ret) {a b : Value} (hd : decode cc pc = .ok (.dup_x1, 1)) (ha : a.category = 1) (hb : b.category = 1) (kk : G X k n ws (pc + 1) lv (a :: b :: a :: st)) : G X k n ws pc lv (a :: b :: st) := gS (fun _ _ _ _ w => lv_dup_x1 h.1 h.2.1 hd ha hb w) kk
theorem g_dup_x2 (h : gAt X cc nL own rm ret) {a b d : Value} (hd : decode cc pc = .ok (.dup_x2, 1)) (ha : a.category = 1) (hb : b.category = 1) (hdd : d.category = 1) (kk : G X k n ws (pc + 1) lv (a :: b :: d :: a :: st)) : G X k n ws pc lv (a :: b :: d :: st) := gS (fun _ _ _ _ w => lv_dup_x2 h.1 h.2.1 hd ha hb hdd w) kk
theorem g_dup2_11 (h : gAt X cc nL own rm ret) {a b : Value} (hd : decode cc pc = .ok (.dup2, 1)) (ha : a.category = 1) (hb : b.category = 1) (kk : G X k n ws (pc + 1) lv (a :: b :: a :: b :: st)) : G X k n ws pc lv (a :: b :: st) := gS (fun _ _ _ _ w => lv_dup2_11 h.1 h.2.1 hd ha hb w) kk
theorem gB {P : Prop} {p1 p2 : Nat} {st' : List Value} (h : ∀ (H : Heap) (locs : List Loc) (ls : Array Slot), (P → W (xp X) (xl X) (xe X) (xR X) (xs X) (xm X) (xargs X) (xbelow X) (xmeth X) (xc X) H locs k n (xQ X) (F0 (xm X) p1 ls st')) → (¬ P → W (xp X) (xl X) (xe X) (xR X) (xs X) (xm X) (xargs X) (xbelow X) (xmeth X) (xc X) H locs k n (xQ X) (F0 (xm X) p2 ls st')) → W (xp X) (xl X) (xe X) (xR X) (xs X) (xm X) (xargs X) (xbelow X) (xmeth X) (xc X) H locs k n (xQ X) (F0 (xm X) pc ls st)) (kt : P → G X k n ws p1 lv st') (kf : ¬ P → G X k n ws p2 lv st') : G X k n ws pc lv st :=
  fun H locs ls hw hl => h H locs ls (fun c => kt c H locs ls hw hl) (fun c => kf c H locs ls hw hl)
theorem g_goto (h : gAt X cc nL own rm ret) {off : Int} (tgt : Nat) (hd : decode cc pc = .ok (.goto off, 3)) (ht : (pc : Int) + off = (tgt : Int)) (kk : G X k n ws tgt lv st) : G X k n ws pc lv st := gS (fun _ _ _ _ w => lv_goto h.1 h.2.1 hd ht w) kk
theorem g_if_eq (h : gAt X cc nL own rm ret) {x : Int32} {off : Int} (tgt : Nat) (hd : decode cc pc = .ok (.ifCond .eq off, 3)) (ht : (pc : Int) + off = (tgt : Int)) (kt : x = 0 → G X k n ws tgt lv st) (kf : ¬ (x = 0) → G X k n ws (pc + 3) lv st) : G X k n ws pc lv (.int x :: st) := gB (fun _ _ _ t f => lv_if_eq h.1 h.2.1 hd ht t f) kt kf
theorem g_icmp_eq (h : gAt X cc nL own rm ret) {x y : Int32} {off : Int} (tgt : Nat) (hd : decode cc pc = .ok (.if_icmp .eq off, 3)) (ht : (pc : Int) + off = (tgt : Int)) (kt : x = y → G X k n ws tgt lv st) (kf : ¬ (x = y) → G X k n ws (pc + 3) lv st) : G X k n ws pc lv (.int y :: .int x :: st) := gB (fun _ _ _ t f => lv_icmp_eq h.1 h.2.1 hd ht t f) kt kf
theorem g_if_lt (h : gAt X cc nL own rm ret) {x : Int32} {off : Int} (tgt : Nat) (hd : decode cc pc = .ok (.ifCond .lt off, 3)) (ht : (pc : Int) + off = (tgt : Int)) (kt : x < 0 → G X k n ws tgt lv st) (kf : ¬ (x < 0) → G X k n ws (pc + 3) lv st) : G X k n ws pc lv (.int x :: st) := gB (fun _ _ _ t f => lv_if_lt h.1 h.2.1 hd ht t f) kt kf
theorem g_icmp_lt (h : gAt X cc nL own rm ret) {x y : Int32} {off : Int} (tgt : Nat) (hd : decode cc pc = .ok (.if_icmp .lt off, 3)) (ht : (pc : Int) + off = (tgt : Int)) (kt : x < y → G X k n ws tgt lv st) (kf : ¬ (x < y) → G X k n ws (pc + 3) lv st) : G X k n ws pc lv (.int y :: .int x :: st) := gB (fun _ _ _ t f => lv_icmp_lt h.1 h.2.1 hd ht t f) kt kf
theorem g_if_ge (h : gAt X cc nL own rm ret) {x : Int32} {off : Int} (tgt : Nat) (hd : decode cc pc = .ok (.ifCond .ge off, 3)) (ht : (pc : Int) + off = (tgt : Int)) (kt : 0 ≤ x → G X k n ws tgt lv st) (kf : ¬ (0 ≤ x) → G X k n ws (pc + 3) lv st) : G X k n ws pc lv (.int x :: st) := gB (fun _ _ _ t f => lv_if_ge h.1 h.2.1 hd ht t f) kt kf
theorem g_icmp_ge (h : gAt X cc nL own rm ret) {x y : Int32} {off : Int} (tgt : Nat) (hd : decode cc pc = .ok (.if_icmp .ge off, 3)) (ht : (pc : Int) + off = (tgt : Int)) (kt : y ≤ x → G X k n ws tgt lv st) (kf : ¬ (y ≤ x) → G X k n ws (pc + 3) lv st) : G X k n ws pc lv (.int y :: .int x :: st) := gB (fun _ _ _ t f => lv_icmp_ge h.1 h.2.1 hd ht t f) kt kf
theorem g_if_gt (h : gAt X cc nL own rm ret) {x : Int32} {off : Int} (tgt : Nat) (hd : decode cc pc = .ok (.ifCond .gt off, 3)) (ht : (pc : Int) + off = (tgt : Int)) (kt : 0 < x → G X k n ws tgt lv st) (kf : ¬ (0 < x) → G X k n ws (pc + 3) lv st) : G X k n ws pc lv (.int x :: st) := gB (fun _ _ _ t f => lv_if_gt h.1 h.2.1 hd ht t f) kt kf
theorem g_icmp_gt (h : gAt X cc nL own rm ret) {x y : Int32} {off : Int} (tgt : Nat) (hd : decode cc pc = .ok (.if_icmp .gt off, 3)) (ht : (pc : Int) + off = (tgt : Int)) (kt : y < x → G X k n ws tgt lv st) (kf : ¬ (y < x) → G X k n ws (pc + 3) lv st) : G X k n ws pc lv (.int y :: .int x :: st) := gB (fun _ _ _ t f => lv_icmp_gt h.1 h.2.1 hd ht t f) kt kf
theorem g_if_le (h : gAt X cc nL own rm ret) {x : Int32} {off : Int} (tgt : Nat) (hd : decode cc pc = .ok (.ifCond .le off, 3)) (ht : (pc : Int) + off = (tgt : Int)) (kt : x ≤ 0 → G X k n ws tgt lv st) (kf : ¬ (x ≤ 0) → G X k n ws (pc + 3) lv st) : G X k n ws pc lv (.int x :: st) := gB (fun _ _ _ t f => lv_if_le h.1 h.2.1 hd ht t f) kt kf
theorem g_icmp_le (h : gAt X cc nL own rm ret) {x y : Int32} {off : Int} (tgt : Nat) (hd : decode cc pc = .ok (.if_icmp .le off, 3)) (ht : (pc : Int) + off = (tgt : Int)) (kt : x ≤ y → G X k n ws tgt lv st) (kf : ¬ (x ≤ y) → G X k n ws (pc + 3) lv st) : G X k n ws pc lv (.int y :: .int x :: st) := gB (fun _ _ _ t f => lv_icmp_le h.1 h.2.1 hd ht t f) kt kf
theorem g_if_ne (h : gAt X cc nL own rm ret) {x : Int32} {off : Int} (tgt : Nat) (hd : decode cc pc = .ok (.ifCond .ne off, 3)) (ht : (pc : Int) + off = (tgt : Int)) (kt : ¬ x = 0 → G X k n ws tgt lv st) (kf : x = 0 → G X k n ws (pc + 3) lv st) : G X k n ws pc lv (.int x :: st) := fun H locs ls hw hl => lv_if_ne h.1 h.2.1 hd ht (fun c => kt c H locs ls hw hl) (fun c => kf c H locs ls hw hl)
theorem g_icmp_ne (h : gAt X cc nL own rm ret) {x y : Int32} {off : Int} (tgt : Nat) (hd : decode cc pc = .ok (.if_icmp .ne off, 3)) (ht : (pc : Int) + off = (tgt : Int)) (kt : ¬ x = y → G X k n ws tgt lv st) (kf : x = y → G X k n ws (pc + 3) lv st) : G X k n ws pc lv (.int y :: .int x :: st) := fun H locs ls hw hl => lv_icmp_ne h.1 h.2.1 hd ht (fun c => kt c H locs ls hw hl) (fun c => kf c H locs ls hw hl)
theorem g_icmp_eqN (h : gAt X cc nL own rm ret) {a b : Nat} {off : Int} (tgt : Nat) (hd : decode cc pc = .ok (.if_icmp .eq off, 3)) (ht : (pc : Int) + off = (tgt : Int)) (ha : a < 2 ^ 31) (hb : b < 2 ^ 31) (kt : a = b → G X k n ws tgt lv st) (kf : ¬ a = b → G X k n ws (pc + 3) lv st) : G X k n ws pc lv (.int (nI b) :: .int (nI a) :: st) := g_icmp_eq h tgt hd ht (fun c => kt ((nI_eq ha hb).mp c)) (fun c => kf (fun q => c ((nI_eq ha hb).mpr q)))
theorem g_if_eqN (h : gAt X cc nL own rm ret) {a : Nat} {off : Int} (tgt : Nat) (hd : decode cc pc = .ok (.ifCond .eq off, 3)) (ht : (pc : Int) + off = (tgt : Int)) (ha : a < 2 ^ 31) (kt : a = 0 → G X k n ws tgt lv st) (kf : ¬ a = 0 → G X k n ws (pc + 3) lv st) : G X k n ws pc lv (.int (nI a) :: st) := g_if_eq h tgt hd ht (fun c => kt ((nI_eq ha (by decide : 0 < 2 ^ 31)).mp c)) (fun c => kf (fun q => c ((nI_eq ha (by decide : 0 < 2 ^ 31)).mpr q)))
theorem g_icmp_ltN (h : gAt X cc nL own rm ret) {a b : Nat} {off : Int} (tgt : Nat) (hd : decode cc pc = .ok (.if_icmp .lt off, 3)) (ht : (pc : Int) + off = (tgt : Int)) (ha : a < 2 ^ 31) (hb : b < 2 ^ 31) (kt : a < b → G X k n ws tgt lv st) (kf : ¬ a < b → G X k n ws (pc + 3) lv st) : G X k n ws pc lv (.int (nI b) :: .int (nI a) :: st) := g_icmp_lt h tgt hd ht (fun c => kt ((nI_ltI ha hb).mp c)) (fun c => kf (fun q => c ((nI_ltI ha hb).mpr q)))
theorem g_if_ltN (h : gAt X cc nL own rm ret) {a : Nat} {off : Int} (tgt : Nat) (hd : decode cc pc = .ok (.ifCond .lt off, 3)) (ht : (pc : Int) + off = (tgt : Int)) (ha : a < 2 ^ 31) (kt : a < 0 → G X k n ws tgt lv st) (kf : ¬ a < 0 → G X k n ws (pc + 3) lv st) : G X k n ws pc lv (.int (nI a) :: st) := g_if_lt h tgt hd ht (fun c => kt ((nI_ltI ha (by decide : 0 < 2 ^ 31)).mp c)) (fun c => kf (fun q => c ((nI_ltI ha (by decide : 0 < 2 ^ 31)).mpr q)))
theorem g_icmp_geN (h : gAt X cc nL own rm ret) {a b : Nat} {off : Int} (tgt : Nat) (hd : decode cc pc = .ok (.if_icmp .ge off, 3)) (ht : (pc : Int) + off = (tgt : Int)) (ha : a < 2 ^ 31) (hb : b < 2 ^ 31) (kt : ¬ a < b → G X k n ws tgt lv st) (kf : a < b → G X k n ws (pc + 3) lv st) : G X k n ws pc lv (.int (nI b) :: .int (nI a) :: st) := g_icmp_ge h tgt hd ht (fun c => kt (Nat.not_lt.mpr ((nI_leI hb ha).mp c))) (fun c => kf (Nat.not_le.mp (fun q => c ((nI_leI hb ha).mpr q))))
theorem g_if_geN (h : gAt X cc nL own rm ret) {a : Nat} {off : Int} (tgt : Nat) (hd : decode cc pc = .ok (.ifCond .ge off, 3)) (ht : (pc : Int) + off = (tgt : Int)) (ha : a < 2 ^ 31) (kt : ¬ a < 0 → G X k n ws tgt lv st) (kf : a < 0 → G X k n ws (pc + 3) lv st) : G X k n ws pc lv (.int (nI a) :: st) := g_if_ge h tgt hd ht (fun c => kt (Nat.not_lt.mpr ((nI_leI (by decide : 0 < 2 ^ 31) ha).mp c))) (fun c => kf (Nat.not_le.mp (fun q => c ((nI_leI (by decide : 0 < 2 ^ 31) ha).mpr q))))
theorem g_icmp_gtN (h : gAt X cc nL own rm ret) {a b : Nat} {off : Int} (tgt : Nat) (hd : decode cc pc = .ok (.if_icmp .gt off, 3)) (ht : (pc : Int) + off = (tgt : Int)) (ha : a < 2 ^ 31) (hb : b < 2 ^ 31) (kt : b < a → G X k n ws tgt lv st) (kf : ¬ b < a → G X k n ws (pc + 3) lv st) : G X k n ws pc lv (.int (nI b) :: .int (nI a) :: st) := g_icmp_gt h tgt hd ht (fun c => kt ((nI_ltI hb ha).mp c)) (fun c => kf (fun q => c ((nI_ltI hb ha).mpr q)))
theorem g_if_gtN (h : gAt X cc nL own rm ret) {a : Nat} {off : Int} (tgt : Nat) (hd : decode cc pc = .ok (.ifCond .gt off, 3)) (ht : (pc : Int) + off = (tgt : Int)) (ha : a < 2 ^ 31) (kt : 0 < a → G X k n ws tgt lv st) (kf : ¬ 0 < a → G X k n ws (pc + 3) lv st) : G X k n ws pc lv (.int (nI a) :: st) := g_if_gt h tgt hd ht (fun c => kt ((nI_ltI (by decide : 0 < 2 ^ 31) ha).mp c)) (fun c => kf (fun q => c ((nI_ltI (by decide : 0 < 2 ^ 31) ha).mpr q)))
theorem g_icmp_leN (h : gAt X cc nL own rm ret) {a b : Nat} {off : Int} (tgt : Nat) (hd : decode cc pc = .ok (.if_icmp .le off, 3)) (ht : (pc : Int) + off = (tgt : Int)) (ha : a < 2 ^ 31) (hb : b < 2 ^ 31) (kt : ¬ b < a → G X k n ws tgt lv st) (kf : b < a → G X k n ws (pc + 3) lv st) : G X k n ws pc lv (.int (nI b) :: .int (nI a) :: st) := g_icmp_le h tgt hd ht (fun c => kt (Nat.not_lt.mpr ((nI_leI ha hb).mp c))) (fun c => kf (Nat.not_le.mp (fun q => c ((nI_leI ha hb).mpr q))))
theorem g_if_leN (h : gAt X cc nL own rm ret) {a : Nat} {off : Int} (tgt : Nat) (hd : decode cc pc = .ok (.ifCond .le off, 3)) (ht : (pc : Int) + off = (tgt : Int)) (ha : a < 2 ^ 31) (kt : ¬ 0 < a → G X k n ws tgt lv st) (kf : 0 < a → G X k n ws (pc + 3) lv st) : G X k n ws pc lv (.int (nI a) :: st) := g_if_le h tgt hd ht (fun c => kt (Nat.not_lt.mpr ((nI_leI ha (by decide : 0 < 2 ^ 31)).mp c))) (fun c => kf (Nat.not_le.mp (fun q => c ((nI_leI ha (by decide : 0 < 2 ^ 31)).mpr q))))
theorem g_icmp_neN (h : gAt X cc nL own rm ret) {a b : Nat} {off : Int} (tgt : Nat) (hd : decode cc pc = .ok (.if_icmp .ne off, 3)) (ht : (pc : Int) + off = (tgt : Int)) (ha : a < 2 ^ 31) (hb : b < 2 ^ 31) (kt : ¬ a = b → G X k n ws tgt lv st) (kf : a = b → G X k n ws (pc + 3) lv st) : G X k n ws pc lv (.int (nI b) :: .int (nI a) :: st) := g_icmp_ne h tgt hd ht (fun c => kt (fun q => c ((nI_eq ha hb).mpr q))) (fun c => kf ((nI_eq ha hb).mp c))
theorem g_if_neN (h : gAt X cc nL own rm ret) {a : Nat} {off : Int} (tgt : Nat) (hd : decode cc pc = .ok (.ifCond .ne off, 3)) (ht : (pc : Int) + off = (tgt : Int)) (ha : a < 2 ^ 31) (kt : ¬ a = 0 → G X k n ws tgt lv st) (kf : a = 0 → G X k n ws (pc + 3) lv st) : G X k n ws pc lv (.int (nI a) :: st) := g_if_ne h tgt hd ht (fun c => kt (fun q => c ((nI_eq ha (by decide : 0 < 2 ^ 31)).mpr q))) (fun c => kf ((nI_eq ha (by decide : 0 < 2 ^ 31)).mp c))
theorem g_if_eqB (h : gAt X cc nL own rm ret) {b : Bool} {off : Int} (tgt : Nat) (hd : decode cc pc = .ok (.ifCond .eq off, 3)) (ht : (pc : Int) + off = (tgt : Int)) (kt : b = false → G X k n ws tgt lv st) (kf : b = true → G X k n ws (pc + 3) lv st) : G X k n ws pc lv (.int (bI b) :: st) := by
  cases b with
  | false => exact g_if_eq h tgt hd ht (fun _ => kt rfl) (fun c => absurd rfl c)
  | true => exact g_if_eq h tgt hd ht (fun c => absurd c (by decide)) (fun _ => kf rfl)
theorem g_if_neB (h : gAt X cc nL own rm ret) {b : Bool} {off : Int} (tgt : Nat) (hd : decode cc pc = .ok (.ifCond .ne off, 3)) (ht : (pc : Int) + off = (tgt : Int)) (kt : b = true → G X k n ws tgt lv st) (kf : b = false → G X k n ws (pc + 3) lv st) : G X k n ws pc lv (.int (bI b) :: st) := by
  cases b with
  | false => exact g_if_ne h tgt hd ht (fun c => absurd rfl c) (fun _ => kf rfl)
  | true => exact g_if_ne h tgt hd ht (fun _ => kt rfl) (fun c => absurd c (by decide))
theorem g_ifnull (h : gAt X cc nL own rm ret) {x : Nat} {off : Int} (hd : decode cc pc = .ok (.ifnull off, 3)) (kk : G X k n ws (pc + 3) lv st) : G X k n ws pc lv (.ref x :: st) := gS (fun _ _ _ _ w => lv_ifnull h.1 h.2.1 hd w) kk
theorem g_ifnullN (h : gAt X cc nL own rm ret) {off : Int} (tgt : Nat) (hd : decode cc pc = .ok (.ifnull off, 3)) (ht : (pc : Int) + off = (tgt : Int)) (kk : G X k n ws tgt lv st) : G X k n ws pc lv (.null :: st) := gS (fun _ _ _ _ w => lv_ifnullN h.1 h.2.1 hd ht w) kk
theorem g_ifnonnull (h : gAt X cc nL own rm ret) {x : Nat} {off : Int} (tgt : Nat) (hd : decode cc pc = .ok (.ifnonnull off, 3)) (ht : (pc : Int) + off = (tgt : Int)) (kk : G X k n ws tgt lv st) : G X k n ws pc lv (.ref x :: st) := gS (fun _ _ _ _ w => lv_ifnonnull h.1 h.2.1 hd ht w) kk
theorem g_ifnonnullN (h : gAt X cc nL own rm ret) {off : Int} (hd : decode cc pc = .ok (.ifnonnull off, 3)) (kk : G X k n ws (pc + 3) lv st) : G X k n ws pc lv (.null :: st) := gS (fun _ _ _ _ w => lv_ifnonnullN h.1 h.2.1 hd w) kk
theorem g_null (h : gAt X cc nL own rm ret) (hd : decode cc pc = .ok (.aconst_null, 1)) (kk : G X k n ws (pc + 1) lv (.null :: st)) : G X k n ws pc lv st := gS (fun _ _ _ _ w => lv_null h.1 h.2.1 hd w) kk
theorem g_iaddN (h : gAt X cc nL own rm ret) {a b : Nat} (hd : decode cc pc = .ok (.iadd, 1)) (kk : G X k n ws (pc + 1) lv (.int (nI (a + b)) :: st)) : G X k n ws pc lv (.int (nI b) :: .int (nI a) :: st) := g_iadd h hd (by rw [nI_add]; exact kk)
theorem g_imulN (h : gAt X cc nL own rm ret) {a b : Nat} (hd : decode cc pc = .ok (.imul, 1)) (kk : G X k n ws (pc + 1) lv (.int (nI (a * b)) :: st)) : G X k n ws pc lv (.int (nI b) :: .int (nI a) :: st) := g_imul h hd (by rw [pk_mul]; exact kk)
theorem g_isubN (h : gAt X cc nL own rm ret) {a b : Nat} (hle : b ≤ a) (hd : decode cc pc = .ok (.isub, 1)) (kk : G X k n ws (pc + 1) lv (.int (nI (a - b)) :: st)) : G X k n ws pc lv (.int (nI b) :: .int (nI a) :: st) := g_isub h hd (by rw [pk_sub hle]; exact kk)
theorem g_iincN (h : gAt X cc nL own rm ret) {j a b : Nat} {i : Int} {lv' : List (Nat × Value)} (hd : decode cc pc = .ok (.iinc j i, 3)) (hx : lvg lv j = some (.int (nI a))) (hi : i = (b : Int)) (hn : j < nL) (hl : lvi j (.int (nI (a + b))) (lvk lv j) = lv') (kk : G X k n ws (pc + 3) lv' st) : G X k n ws pc lv st := g_iinc h hd hx (by rw [hi]; exact (nI_add a b)) hn hl kk
/-- a value on the stack is a number -/
theorem g_toN {x : Int32} {a : Nat} (e : x = nI a) (kk : G X k n ws pc lv (.int (nI a) :: st)) : G X k n ws pc lv (.int x :: st) := by rw [e]; exact kk
/-- a value on the stack under another name -/
theorem g_toI {x y : Int32} (e : x = y) (kk : G X k n ws pc lv (.int y :: st)) : G X k n ws pc lv (.int x :: st) := by rw [e]; exact kk
theorem g_toL {x y : Int64} (e : x = y) (kk : G X k n ws pc lv (.long y :: st)) : G X k n ws pc lv (.long x :: st) := by rw [e]; exact kk
theorem g_get (h : gAt X cc nL own rm ret) {C ref : String} {T : u_T} {N ci index a : Nat} {fs : List Value} {v : Value} (hin : ∀ w ∈ u_ws C T N, w ∈ lw_all) (q0 : Nat) (he : ws[q0]? = some (a, .inr (ci, fs))) (hc : vCL[ci]? = some (C, T, N)) (j : Nat) (hj : Nat.blt j N = true) (hlink : Cond.fieldLink own index ref (T j).2.1 (T j).2.2.1 ∈ lw_all) (hsame : (T j).1 = ref) (hv : fs[j]? = some v) (hd : decode cc pc = .ok (.getfield index, 3)) (kk : G X k n ws (pc + 3) lv (v :: st)) : G X k n ws pc lv (.ref a :: st) := by
  intro H locs ls hw hl
  exact va_get h.1 h.2.1 h.2.2.2.2.1 hin h.2.2.2.1 h.2.2.2.2.2.1.1 hw.1 q0 he hc j (Nat.le_of_ble_eq_true hj) (h.2.2.2.2.1 _ hlink) (by rw [hsame]; exact fun _ q => q) hv hd (kk H locs ls hw hl)
theorem gW.set {q0 a : Nat} {e0 e : va_E} {H H1 : Heap} {locs locs1 : List Loc} (hro : xro X = false) (_hw : gW X ws H locs) (h1 : va_P (xD X) vCL (ws.set q0 (a, e)) H1) (h2 : va_D (xA X) (ws.set q0 (a, e))) (h3 : va_S (xA X) (xs X).heap H1 locs1) : gW X (ws.set q0 (a, e)) H1 locs1 :=
  ⟨h1, fun z => (by rw [hro] at z; cases z), fun _ => ⟨h2, h3⟩⟩
theorem g_put (h : gAt X cc nL own rm ret) (hro : xro X = false) {C ref : String} {T : u_T} {N ci index a : Nat} {fs : List Value} {v : Value} {ty : FieldType} {ws' : va_W} (hin : ∀ w ∈ u_ws C T N, w ∈ lw_all) (ty0 : Nat → FieldType) (hty : ∀ k, k < N → parseFieldDescriptor (T k).2.2.1 = some (ty0 k)) (hnm : ∀ a, a < N → ∀ b, b < N → a ≠ b → (T a).2.1 ≠ (T b).2.1) (q0 : Nat) (he : ws[q0]? = some (a, .inr (ci, fs))) (hc : vCL[ci]? = some (C, T, N)) (j : Nat) (hj : Nat.blt j N = true) (hlink : Cond.fieldLink own index ref (T j).2.1 (T j).2.2.1 ∈ lw_all) (hsame : (T j).1 = ref) (hfin : (T j).2.2.2 = false) (hty1 : ty0 j = ty) (hnr : narrow ty v = v) (hfit : fits ty v = true) (hlen : Nat.blt j fs.length = true) (hd : decode cc pc = .ok (.putfield index, 3)) (hws : ws.set q0 (a, .inr (ci, fs.set j v)) = ws') (kk : G X k n ws' (pc + 3) lv st) : G X k n ws pc lv (v :: .ref a :: st) := by
  intro H locs ls hw hl
  subst hty1
  subst hws
  exact va_put h.1 h.2.1 h.2.2.2.2.1 hin ty0 hty hnm h.2.2.2.1 h.2.2.2.2.2.1.1 hw.1 (hw.2.2 hro).1 (hw.2.2 hro).2 q0 he hc j (Nat.le_of_ble_eq_true hj) (h.2.2.2.2.1 _ hlink) (by rw [hsame]; exact fun _ q => q) hfin (hty j (Nat.le_of_ble_eq_true hj)) hnr hfit (Nat.le_of_ble_eq_true hlen) hd (fun H1 locs1 h1 h2 h3 => kk H1 locs1 ls (gW.set (e0 := .inr (ci, fs)) hro hw h1 h2 h3) hl)
theorem g_putF (h : gAt X cc nL own rm ret) (hro : xro X = false) (hnm2 : (xmeth X).name = "<init>") {C ref : String} {T : u_T} {N ci index a : Nat} {fs : List Value} {v : Value} {ty : FieldType} {ws' : va_W} (hin : ∀ w ∈ u_ws C T N, w ∈ lw_all) (ty0 : Nat → FieldType) (hty : ∀ k, k < N → parseFieldDescriptor (T k).2.2.1 = some (ty0 k)) (hnm : ∀ a, a < N → ∀ b, b < N → a ≠ b → (T a).2.1 ≠ (T b).2.1) (q0 : Nat) (he : ws[q0]? = some (a, .inr (ci, fs))) (hc : vCL[ci]? = some (C, T, N)) (j : Nat) (hj : Nat.blt j N = true) (hlink : Cond.fieldLink own index ref (T j).2.1 (T j).2.2.1 ∈ lw_all) (hsame : (T j).1 = ref) (hfin : (T j).2.2.2 = true) (hdecl : (T j).1 = own) (hty1 : ty0 j = ty) (hnr : narrow ty v = v) (hfit : fits ty v = true) (hlen : Nat.blt j fs.length = true) (hd : decode cc pc = .ok (.putfield index, 3)) (hws : ws.set q0 (a, .inr (ci, fs.set j v)) = ws') (kk : G X k n ws' (pc + 3) lv st) : G X k n ws pc lv (v :: .ref a :: st) := by
  intro H locs ls hw hl
  subst hty1
  subst hws
  exact va_putF h.1 h.2.1 h.2.2.2.2.1 hin ty0 hty hnm h.2.2.2.1 h.2.2.2.2.2.1.1 hw.1 (hw.2.2 hro).1 (hw.2.2 hro).2 q0 he hc j (Nat.le_of_ble_eq_true hj) (h.2.2.2.2.1 _ hlink) (by rw [hsame]; exact fun _ q => q) hfin hnm2 hdecl (hty j (Nat.le_of_ble_eq_true hj)) hnr hfit (Nat.le_of_ble_eq_true hlen) hd (fun H1 locs1 h1 h2 h3 => kk H1 locs1 ls (gW.set (e0 := .inr (ci, fs)) hro hw h1 h2 h3) hl)
theorem g_iald (h : gAt X cc nL own rm ret) {a j N : Nat} {f : Nat → Int32} (q0 : Nat) (he : ws[q0]? = some (a, .inl (xT X 0, N, .inl f))) (hj : j < N) (hN : N < 2 ^ 31) (hd : decode cc pc = .ok (.iaload, 1)) (kk : G X k n ws (pc + 1) lv (.int (f j) :: st)) : G X k n ws pc lv (.int (nI j) :: .ref a :: st) := by
  intro H locs ls hw hl
  refine va_iald h.1 h.2.1 h.2.2.2.2.2.1.1 hw.1 q0 0 he rfl (vp_in_nI hj hN) hd ?_
  rw [nI_clamp (Nat.lt_trans hj hN)]
  exact kk H locs ls hw hl
theorem g_bald (h : gAt X cc nL own rm ret) {a j N : Nat} {f : Nat → Int32} (q0 : Nat) (he : ws[q0]? = some (a, .inl (xT X 1, N, .inl f))) (hj : j < N) (hN : N < 2 ^ 31) (hd : decode cc pc = .ok (.baload, 1)) (kk : G X k n ws (pc + 1) lv (.int (f j) :: st)) : G X k n ws pc lv (.int (nI j) :: .ref a :: st) := by
  intro H locs ls hw hl
  refine va_bald h.1 h.2.1 h.2.2.2.2.2.1.1 hw.1 q0 1 he rfl (vp_in_nI hj hN) hd ?_
  rw [nI_clamp (Nat.lt_trans hj hN)]
  exact kk H locs ls hw hl
theorem g_zald (h : gAt X cc nL own rm ret) {a j N : Nat} {f : Nat → Int32} (q0 : Nat) (he : ws[q0]? = some (a, .inl (xT X 2, N, .inl f))) (hj : j < N) (hN : N < 2 ^ 31) (hd : decode cc pc = .ok (.baload, 1)) (kk : G X k n ws (pc + 1) lv (.int (f j) :: st)) : G X k n ws pc lv (.int (nI j) :: .ref a :: st) := by
  intro H locs ls hw hl
  refine va_zald h.1 h.2.1 h.2.2.2.2.2.1.1 hw.1 q0 2 he rfl (vp_in_nI hj hN) hd ?_
  rw [nI_clamp (Nat.lt_trans hj hN)]
  exact kk H locs ls hw hl
theorem g_sald (h : gAt X cc nL own rm ret) {a j N : Nat} {f : Nat → Int32} (q0 : Nat) (he : ws[q0]? = some (a, .inl (xT X 3, N, .inl f))) (hj : j < N) (hN : N < 2 ^ 31) (hd : decode cc pc = .ok (.saload, 1)) (kk : G X k n ws (pc + 1) lv (.int (f j) :: st)) : G X k n ws pc lv (.int (nI j) :: .ref a :: st) := by
  intro H locs ls hw hl
  refine va_sald h.1 h.2.1 h.2.2.2.2.2.1.1 hw.1 q0 3 he rfl (vp_in_nI hj hN) hd ?_
  rw [nI_clamp (Nat.lt_trans hj hN)]
  exact kk H locs ls hw hl
theorem g_iast (h : gAt X cc nL own rm ret) (hro : xro X = false) {a j N : Nat} {f : Nat → Int32} {x : Int32} {ws' : va_W} (q0 : Nat) (he : ws[q0]? = some (a, .inl (xT X 0, N, .inl f))) (hj : j < N) (hN : N < 2 ^ 31) (hd : decode cc pc = .ok (.iastore, 1)) (hws : ws.set q0 (a, .inl (xT X 0, N, .inl (upd f j x))) = ws') (kk : G X k n ws' (pc + 1) lv st) : G X k n ws pc lv (.int x :: .int (nI j) :: .ref a :: st) := by
  intro H locs ls hw hl
  subst hws
  refine va_iast h.1 h.2.1 h.2.2.2.2.2.1.1 hw.1 (hw.2.2 hro).1 (hw.2.2 hro).2 q0 0 he rfl (vp_in_nI hj hN) hd (fun H1 locs1 h1 h2 h3 => ?_)
  rw [nI_clamp (Nat.lt_trans hj hN)] at h1 h2
  exact kk H1 locs1 ls (gW.set (e0 := .inl (xT X 0, N, .inl f)) hro hw h1 h2 h3) hl
theorem g_bast (h : gAt X cc nL own rm ret) (hro : xro X = false) {a j N : Nat} {f : Nat → Int32} {x : Int32} {ws' : va_W} (q0 : Nat) (he : ws[q0]? = some (a, .inl (xT X 1, N, .inl f))) (hj : j < N) (hN : N < 2 ^ 31) (hd : decode cc pc = .ok (.bastore, 1)) (hws : ws.set q0 (a, .inl (xT X 1, N, .inl (upd f j (vp_nar .byte x)))) = ws') (kk : G X k n ws' (pc + 1) lv st) : G X k n ws pc lv (.int x :: .int (nI j) :: .ref a :: st) := by
  intro H locs ls hw hl
  subst hws
  refine va_bast h.1 h.2.1 h.2.2.2.2.2.1.1 hw.1 (hw.2.2 hro).1 (hw.2.2 hro).2 q0 1 he rfl (vp_in_nI hj hN) hd (fun H1 locs1 h1 h2 h3 => ?_)
  rw [nI_clamp (Nat.lt_trans hj hN)] at h1 h2
  exact kk H1 locs1 ls (gW.set (e0 := .inl (xT X 1, N, .inl f)) hro hw h1 h2 h3) hl
theorem g_zast (h : gAt X cc nL own rm ret) (hro : xro X = false) {a j N : Nat} {f : Nat → Int32} {x : Int32} {ws' : va_W} (q0 : Nat) (he : ws[q0]? = some (a, .inl (xT X 2, N, .inl f))) (hj : j < N) (hN : N < 2 ^ 31) (hd : decode cc pc = .ok (.bastore, 1)) (hws : ws.set q0 (a, .inl (xT X 2, N, .inl (upd f j (vp_nar .boolean x)))) = ws') (kk : G X k n ws' (pc + 1) lv st) : G X k n ws pc lv (.int x :: .int (nI j) :: .ref a :: st) := by
  intro H locs ls hw hl
  subst hws
  refine va_zast h.1 h.2.1 h.2.2.2.2.2.1.1 hw.1 (hw.2.2 hro).1 (hw.2.2 hro).2 q0 2 he rfl (vp_in_nI hj hN) hd (fun H1 locs1 h1 h2 h3 => ?_)
  rw [nI_clamp (Nat.lt_trans hj hN)] at h1 h2
  exact kk H1 locs1 ls (gW.set (e0 := .inl (xT X 2, N, .inl f)) hro hw h1 h2 h3) hl
theorem g_sast (h : gAt X cc nL own rm ret) (hro : xro X = false) {a j N : Nat} {f : Nat → Int32} {x : Int32} {ws' : va_W} (q0 : Nat) (he : ws[q0]? = some (a, .inl (xT X 3, N, .inl f))) (hj : j < N) (hN : N < 2 ^ 31) (hd : decode cc pc = .ok (.sastore, 1)) (hws : ws.set q0 (a, .inl (xT X 3, N, .inl (upd f j (vp_nar .short x)))) = ws') (kk : G X k n ws' (pc + 1) lv st) : G X k n ws pc lv (.int x :: .int (nI j) :: .ref a :: st) := by
  intro H locs ls hw hl
  subst hws
  refine va_sast h.1 h.2.1 h.2.2.2.2.2.1.1 hw.1 (hw.2.2 hro).1 (hw.2.2 hro).2 q0 3 he rfl (vp_in_nI hj hN) hd (fun H1 locs1 h1 h2 h3 => ?_)
  rw [nI_clamp (Nat.lt_trans hj hN)] at h1 h2
  exact kk H1 locs1 ls (gW.set (e0 := .inl (xT X 3, N, .inl f)) hro hw h1 h2 h3) hl
/-- a reference out of a row of references (5: Text, 4: Slot) -/
theorem g_aald (h : gAt X cc nL own rm ret) {C : String} {a j N : Nat} {f : Nat → Option Nat} (t0 : Nat) (ht : (gTy (xT X))[t0]? = some (xT X t0, .object C)) (q0 : Nat) (he : ws[q0]? = some (a, .inl (xT X t0, N, .inr (.inr (.inr (.inr f)))))) (hj : j < N) (hN : N < 2 ^ 31) (hd : decode cc pc = .ok (.aaload, 1)) (kk : G X k n ws (pc + 1) lv (va_rf (f j) :: st)) : G X k n ws pc lv (.int (nI j) :: .ref a :: st) := by
  intro H locs ls hw hl
  refine va_aldq h.1 h.2.1 h.2.2.2.2.2.1.1 hw.1 q0 t0 he ht (vp_in_nI hj hN) hd ?_
  rw [nI_clamp (Nat.lt_trans hj hN)]
  exact kk H locs ls hw hl
theorem g_alen (h : gAt X cc nL own rm ret) {a N t0 : Nat} {ty : FieldType} {y : (Nat → Int32) ⊕ (Nat → Int64) ⊕ (Nat → UInt32) ⊕ (Nat → UInt64) ⊕ (Nat → Option Nat)} (q0 : Nat) (he : ws[q0]? = some (a, .inl (xT X t0, N, y))) (ht : (gTy (xT X))[t0]? = some (xT X t0, ty)) (hd : decode cc pc = .ok (.arraylength, 1)) (kk : G X k n ws (pc + 1) lv (.int (nI N) :: st)) : G X k n ws pc lv (.ref a :: st) := by
  intro H locs ls hw hl
  exact va_alen h.1 h.2.1 h.2.2.2.2.2.1.1 hw.1 q0 t0 he ht rfl hd (kk H locs ls hw hl)
end GS
/-! CONTRACTS. A method that only reads: its answer, the heap as it was. -/
abbrev gPr (D : va_G) (T : Nat → ClassId) (av : List Value) (ws : va_W) : Array Value → State → Prop := va_Pc av (fun U => va_P D vCL ws U.heap ∧ gK D T U)
def gQr (P : Option Value → Prop) : Array Value → State → Outcome → State → Prop := fun _ st o t => (∃ v, o = .returned v ∧ P v) ∧ t.heap = st.heap
abbrev gRoom (f c n lo : Nat) : Room := { frames := f, cells := c, slots := n, locals := lo }
def MetR (l : Launch) (D : va_G) (T : Nat → ClassId) (y : MethodName) (b : ByteArray) (L : Nat) (r : Option FieldType) (f lo : Nat) (av : List Value) (ws : va_W) (P : Option Value → Prop) : Prop :=
  Met l y (ws_ y b L r) (gRoom f 0 0 lo) (gPr D T av ws) (gQr P) 0 0 (fun _ => False)
/-- a method that writes: its answer and its new world -/
abbrev gPw (D : va_G) (T : Nat → ClassId) (av : List Value) (ws : va_W) (sz : Nat) : Array Value → State → Prop := va_Pc av (fun U => U.heap.size = sz ∧ va_P D vCL ws U.heap ∧ gK D T U ∧ va_D (fun _ => True) ws)
def gQw (D : va_G) (ws0 : va_W) (sz : Nat) (P : Option Value → va_W → Prop) : Array Value → State → Outcome → State → Prop := fun _ st o t => (∃ v ws1, o = .returned v ∧ P v ws1 ∧ va_P D vCL ws1 t.heap ∧ va_D (va_A ws0 sz) ws1) ∧ va_F (va_A ws0 sz) st t
def MetW (l : Launch) (D : va_G) (T : Nat → ClassId) (y : MethodName) (b : ByteArray) (L : Nat) (r : Option FieldType) (f lo mc ms : Nat) (av : List Value) (ws : va_W) (P : Option Value → va_W → Prop) : Prop :=
  ∀ sz : Nat, Met l y (ws_ y b L r) (gRoom f mc ms lo) (gPw D T av ws sz) (gQw D ws sz P) mc ms (va_A ws sz)
/-- how a walk of a reading method ends -/
def gEr (X : gX) (P : Option Value → Prop) : Prop := xro X = true ∧ xQ X = MQ (xbelow X) (gQr P) (xargs X) (xs X) 0 0 (fun _ => False)
def gEw (X : gX) (ws0 : va_W) (mc ms : Nat) (P : Option Value → va_W → Prop) : Prop := xro X = false ∧ xA X = va_A ws0 (xs X).heap.size ∧ xQ X = MQ (xbelow X) (gQw (xD X) ws0 (xs X).heap.size P) (xargs X) (xs X) mc ms (va_A ws0 (xs X).heap.size)
theorem metR {l : Launch} {D : va_G} {T : Nat → ClassId} {y : MethodName} {b : ByteArray} {L : Nat} {r : Option FieldType} {f lo : Nat} {av : List Value} {ws : va_W} {P : Option Value → Prop} {own : String} (ho : y.cls = own) (hy : plainName own = true) (hn : Nat.ble (lg_sl av).length L = true)
    (body : ∀ X : gX, gAt X b L own (gRoom f 0 0 lo) r → xl X = l → xD X = D → xT X = T → gEr X P → G X 0 0 ws 0 (lv_args 0 av) []) : MetR l D T y b L r f lo av ws P := by
  subst ho
  refine Met.ofW (cc := b) (maxL := L) (ret := r) hy rfl ?_
  intro p e s m args below meth c s₁ B hml hv
  obtain ⟨rfl, hP, hK⟩ := hv
  have hts := atoms_spec (ws := ws_ y b L r) B.pre
  have hts : ∀ w ∈ lw_all, w.before _ s = true := fun w h => hts w (List.mem_cons_of_mem _ h)
  have hown : s.vm.findClass y.cls = some m.cls := findClass_of_methodNamed B.named
  have hl := lv_entry av (n := L) (Nat.le_of_ble_eq_true hn)
  rw [lg_entry_eq]
  exact body (p, l, e, gRoom f 0 0 lo, s, m, av.toArray, below, meth, c, MQ below (gQr P) av.toArray s 0 0 (fun _ => False), D, T, fun _ => False, L, true)
    ⟨B.exec, B.bytes, hml, hown, hts, hK, rfl, rfl, B.returns, B.notSynchronized⟩ rfl rfl rfl ⟨rfl, rfl⟩ s.heap [] _ ⟨hP, fun _ => ⟨rfl, rfl⟩, fun z => (by cases z)⟩ hl
theorem metW {l : Launch} {D : va_G} {T : Nat → ClassId} {y : MethodName} {b : ByteArray} {L : Nat} {r : Option FieldType} {f lo mc ms : Nat} {av : List Value} {ws : va_W} {P : Option Value → va_W → Prop} {own : String} (ho : y.cls = own) (hy : plainName own = true) (hn : Nat.ble (lg_sl av).length L = true)
    (body : ∀ X : gX, gAt X b L own (gRoom f mc ms lo) r → xl X = l → xD X = D → xT X = T → (xmeth X).name = y.name → gEw X ws mc ms P → G X 0 0 ws 0 (lv_args 0 av) []) : MetW l D T y b L r f lo mc ms av ws P := by
  subst ho
  intro sz
  refine Met.ofW (cc := b) (maxL := L) (ret := r) hy rfl ?_
  intro p e s m args below meth c s₁ B hml hv
  obtain ⟨rfl, hsz, hP, hK, hD⟩ := hv
  subst hsz
  have hts := atoms_spec (ws := ws_ y b L r) B.pre
  have hts : ∀ w ∈ lw_all, w.before _ s = true := fun w h => hts w (List.mem_cons_of_mem _ h)
  have hown : s.vm.findClass y.cls = some m.cls := findClass_of_methodNamed B.named
  have hin : meth.name = y.name := (name_of_methodNamed B.named B.method).1
  have hl := lv_entry av (n := L) (Nat.le_of_ble_eq_true hn)
  rw [lg_entry_eq]
  exact body (p, l, e, gRoom f mc ms lo, s, m, av.toArray, below, meth, c, MQ below (gQw D ws s.heap.size P) av.toArray s mc ms (va_A ws s.heap.size), D, T, va_A ws s.heap.size, L, false)
    ⟨B.exec, B.bytes, hml, hown, hts, hK, rfl, rfl, B.returns, B.notSynchronized⟩ rfl rfl rfl hin ⟨rfl, rfl, rfl⟩ s.heap [] _ ⟨hP, fun z => (by cases z), fun _ => ⟨hD.self, va_S.rf⟩⟩ hl
section GR
variable {X : gX} {cc : ByteArray} {nL : Nat} {own : String} {rm : Room} {ret : Option FieldType} {k n : Nat} {ws ws0 : va_W} {pc : Nat} {lv : List (Nat × Value)} {st : List Value} {mc ms : Nat}
theorem g_iretR {P : Option Value → Prop} {v : Int32} (h : gAt X cc nL own rm (some .int)) (hE : gEr X P) (hd : decode cc pc = .ok (.ireturn, 1)) (hp : P (some (.int v))) : G X 0 0 ws pc lv [.int v] := by
  intro H locs ls hw hl
  obtain ⟨e1, e2⟩ := hw.2.1 hE.1
  subst e1; subst e2
  rw [hE.2]
  exact W.iret h.1 h.2.1 h.2.2.2.2.2.2.2.2.1 (fun t ht _ => ⟨⟨_, rfl, hp⟩, ht⟩) (fun q hq => by cases hq) hd h.2.2.2.2.2.2.2.2.2
theorem g_zretR {P : Option Value → Prop} {v : Int32} {ty : FieldType} (h : gAt X cc nL own rm (some ty)) (hE : gEr X P) (hd : decode cc pc = .ok (.ireturn, 1)) (hn : narrow ty (.int v) = .int v) (hp : P (some (.int v))) : G X 0 0 ws pc lv [.int v] := by
  intro H locs ls hw hl
  obtain ⟨e1, e2⟩ := hw.2.1 hE.1
  subst e1; subst e2
  rw [hE.2]
  exact W.zret h.1 h.2.1 h.2.2.2.2.2.2.2.2.1 hn (fun t ht _ => ⟨⟨_, rfl, hp⟩, ht⟩) (fun q hq => by cases hq) hd h.2.2.2.2.2.2.2.2.2
theorem g_lretR {P : Option Value → Prop} {v : Int64} (h : gAt X cc nL own rm (some .long)) (hE : gEr X P) (hd : decode cc pc = .ok (.lreturn, 1)) (hp : P (some (.long v))) : G X 0 0 ws pc lv [.long v] := by
  intro H locs ls hw hl
  obtain ⟨e1, e2⟩ := hw.2.1 hE.1
  subst e1; subst e2
  rw [hE.2]
  exact W.lret h.1 h.2.1 h.2.2.2.2.2.2.2.2.1 (fun t ht _ => ⟨⟨_, rfl, hp⟩, ht⟩) (fun q hq => by cases hq) hd h.2.2.2.2.2.2.2.2.2
theorem gEw.end {P : Option Value → va_W → Prop} (hE : gEw X ws0 mc ms P) {H : Heap} {locs : List Loc} (hw : gW X ws H locs) {v : Option Value} (hp : P v ws) {t : State} (ht : t.heap = H) (a : Array Value) : gQw (xD X) ws0 (xs X).heap.size P a (xs X) (.returned v) t := by
  obtain ⟨hD, hS⟩ := hw.2.2 hE.1
  rw [hE.2.1] at hD hS
  exact ⟨⟨v, ws, rfl, hp, by rw [ht]; exact hw.1, hD⟩, hS.F ht⟩
theorem gEw.locs {P : Option Value → va_W → Prop} (hE : gEw X ws0 mc ms P) {H : Heap} {locs : List Loc} (hw : gW X ws H locs) : ∀ q ∈ locs, va_A ws0 (xs X).heap.size q.base := by
  obtain ⟨hD, hS⟩ := hw.2.2 hE.1
  rw [hE.2.1] at hS
  exact hS.2.2
theorem g_iretW {P : Option Value → va_W → Prop} {v : Int32} (h : gAt X cc nL own rm (some .int)) (hE : gEw X ws0 mc ms P) (hk : k ≤ mc) (hn : n ≤ ms) (hd : decode cc pc = .ok (.ireturn, 1)) (hp : P (some (.int v)) ws) : G X k n ws pc lv [.int v] := by
  intro H locs ls hw hl
  refine W.widen hk hn ?_
  rw [hE.2.2]
  exact W.iret h.1 h.2.1 h.2.2.2.2.2.2.2.2.1 (fun t ht _ => hE.end hw hp ht _) (hE.locs hw) hd h.2.2.2.2.2.2.2.2.2
theorem g_zretW {P : Option Value → va_W → Prop} {v : Int32} {ty : FieldType} (h : gAt X cc nL own rm (some ty)) (hE : gEw X ws0 mc ms P) (hk : k ≤ mc) (hn : n ≤ ms) (hd : decode cc pc = .ok (.ireturn, 1)) (hnr : narrow ty (.int v) = .int v) (hp : P (some (.int v)) ws) : G X k n ws pc lv [.int v] := by
  intro H locs ls hw hl
  refine W.widen hk hn ?_
  rw [hE.2.2]
  exact W.zret h.1 h.2.1 h.2.2.2.2.2.2.2.2.1 hnr (fun t ht _ => hE.end hw hp ht _) (hE.locs hw) hd h.2.2.2.2.2.2.2.2.2
theorem g_lretW {P : Option Value → va_W → Prop} {v : Int64} (h : gAt X cc nL own rm (some .long)) (hE : gEw X ws0 mc ms P) (hk : k ≤ mc) (hn : n ≤ ms) (hd : decode cc pc = .ok (.lreturn, 1)) (hp : P (some (.long v)) ws) : G X k n ws pc lv [.long v] := by
  intro H locs ls hw hl
  refine W.widen hk hn ?_
  rw [hE.2.2]
  exact W.lret h.1 h.2.1 h.2.2.2.2.2.2.2.2.1 (fun t ht _ => hE.end hw hp ht _) (hE.locs hw) hd h.2.2.2.2.2.2.2.2.2
theorem g_vretW {P : Option Value → va_W → Prop} (h : gAt X cc nL own rm none) (hE : gEw X ws0 mc ms P) (hk : k ≤ mc) (hn : n ≤ ms) (hd : decode cc pc = .ok (.return_, 1)) (hp : P none ws) : G X k n ws pc lv [] := by
  intro H locs ls hw hl
  refine W.widen hk hn ?_
  rw [hE.2.2]
  exact W.vret h.1 h.2.1 h.2.2.2.2.2.2.2.2.1 (fun t ht _ => hE.end hw hp ht _) (hE.locs hw) hd h.2.2.2.2.2.2.2.2.2
end GR

/-! CALLS -/
theorem gP_left {D : va_G} {a b : va_W} {H : Heap} (h : va_P D vCL (a ++ b) H) : va_P D vCL a H := fun k q hk => h k q (by rw [List.getElem?_append_left (List.getElem?_eq_some_iff.mp hk).1]; exact hk)
theorem gP_right {D : va_G} {a b : va_W} {H : Heap} (h : va_P D vCL (a ++ b) H) : va_P D vCL b H := fun k q hk => h (a.length + k) q (by rw [List.getElem?_append_right (Nat.le_add_right _ _), Nat.add_sub_cancel_left]; exact hk)
theorem gP_mem {D : va_G} {a b : va_W} {H : Heap} (hs : ∀ q ∈ b, q ∈ a) (h : va_P D vCL a H) : va_P D vCL b H := fun k q hk => by
  obtain ⟨i, hi⟩ := List.getElem?_of_mem (hs q (List.mem_of_getElem? hk))
  exact h i q hi
theorem gD_left {A : Nat → Prop} {a b : va_W} (h : va_D A (a ++ b)) : va_D A a :=
  have e : ∀ {k : Nat} {q : Nat × va_E}, a[k]? = some q → (a ++ b)[k]? = some q := fun hk => by rw [List.getElem?_append_left (List.getElem?_eq_some_iff.mp hk).1]; exact hk
  ⟨fun i j p q hi hj hpq => h.1 i j p q (e hi) (e hj) hpq, fun k q hk => h.2 k q (e hk)⟩
theorem gD_right {A : Nat → Prop} {a b : va_W} (h : va_D A (a ++ b)) : va_D A b :=
  have e : ∀ {k : Nat} {q : Nat × va_E}, b[k]? = some q → (a ++ b)[a.length + k]? = some q := fun hk => by rw [List.getElem?_append_right (Nat.le_add_right _ _), Nat.add_sub_cancel_left]; exact hk
  ⟨fun i j p q hi hj hpq => by have := h.1 _ _ p q (e hi) (e hj) hpq; omega, fun k q hk => h.2 _ q (e hk)⟩
theorem gD_cross {A : Nat → Prop} {a b : va_W} (h : va_D A (a ++ b)) : ∀ (i j : Nat) (p q : Nat × va_E), a[i]? = some p → b[j]? = some q → p.1 ≠ q.1 := fun i j p q hi hj hpq => by
  have hl := (List.getElem?_eq_some_iff.mp hi).1
  have := h.1 i (a.length + j) p q (by rw [List.getElem?_append_left hl]; exact hi) (by rw [List.getElem?_append_right (Nat.le_add_right _ _), Nat.add_sub_cancel_left]; exact hj) hpq
  omega
/-- the frame rule for a world in three pieces -/
theorem g_frame {D : va_G} {A : Nat → Prop} {l1 wc l2 w1 : va_W} {H H1 : Heap} (hP : va_P D vCL (l1 ++ (wc ++ l2)) H) (hD : va_D A (l1 ++ (wc ++ l2))) (hA : ∀ q, va_A wc H.size q → A q) (hk : ∀ q : Nat, q < H.size → ¬ va_A wc H.size q → H1[q]? = H[q]?) (hP1 : va_P D vCL w1 H1) (hD1 : va_D (va_A wc H.size) w1) : va_P D vCL (l1 ++ (w1 ++ l2)) H1 ∧ va_D A (l1 ++ (w1 ++ l2)) := by
  have P1 := gP_left hP
  have P2 := gP_right (gP_right hP)
  have D1 := gD_left hD
  have Dr := gD_right hD
  have D2 := gD_right Dr
  have C1 := gD_cross hD
  have C2 := gD_cross Dr
  have mem_app : ∀ {a b : va_W} {q : Nat × va_E}, q ∈ a ++ b → q ∈ a ∨ q ∈ b := fun h => List.mem_append.mp h
  have ap1 : ∀ (i : Nat) (q : Nat × va_E), l1[i]? = some q → q.1 < H.size ∧ ¬ va_A wc H.size q.1 := fun i q hq => by
    have hl := (P1 i q hq).lt
    refine ⟨hl, fun z => ?_⟩
    rcases z with ⟨j, e, hj⟩ | z
    · exact C1 i j q (q.1, e) hq (by rw [List.getElem?_append_left (List.getElem?_eq_some_iff.mp hj).1]; exact hj) rfl
    · exact absurd hl (Nat.not_lt.mpr z)
  have ap2 : ∀ (i : Nat) (q : Nat × va_E), l2[i]? = some q → q.1 < H.size ∧ ¬ va_A wc H.size q.1 := fun i q hq => by
    have hl := (P2 i q hq).lt
    refine ⟨hl, fun z => ?_⟩
    rcases z with ⟨j, e, hj⟩ | z
    · exact C2 j i (q.1, e) q hj hq rfl
    · exact absurd hl (Nat.not_lt.mpr z)
  refine ⟨va_P.app (P1.kept fun i q hq => hk q.1 (ap1 i q hq).1 (ap1 i q hq).2) (va_P.app hP1 (P2.kept fun i q hq => hk q.1 (ap2 i q hq).1 (ap2 i q hq).2)), ?_⟩
  refine va_D.app D1 (va_D.app (hD1.weaken fun _ q _ h => hA q.1 h) D2 ?_) ?_
  · intro i j p q hi hj hpq
    exact (ap2 j q hj).2 (by rw [← hpq]; exact hD1.2 i p hi)
  · intro i j p q hi hj hpq
    by_cases hl : j < w1.length
    · rw [List.getElem?_append_left hl] at hj
      exact (ap1 i p hi).2 (by rw [hpq]; exact hD1.2 j q hj)
    · rw [List.getElem?_append_right (by omega)] at hj
      exact C1 i (wc.length + (j - w1.length)) p q hi (by rw [List.getElem?_append_right (by omega), Nat.add_sub_cancel_left]; exact hj) hpq
/-- what a method's name says once: it is no handle's, how many arguments it takes -/
def gY (y : MethodName) (C : String) (n : Nat) : Prop := y.cls = C ∧ y.cls ≠ "java/lang/invoke/MethodHandle" ∧ y.cls ≠ "java/lang/invoke/VarHandle" ∧ (parseMethodDescriptor y.desc).map (fun d => d.parameters.length) = some n
abbrev gFit (f lo L : Nat) (rm : Room) : Prop := f + 1 ≤ rm.frames ∧ 8 + (L + 11) + lo ≤ rm.locals
abbrev gCel (k n mc ms : Nat) (rm : Room) : Prop := k + mc ≤ rm.cells ∧ n + ms ≤ rm.slots
abbrev gRest (st : List Value) : Prop := (st.map fun v => v.category).sum ≤ 8
abbrev gRun (X : gX) (H : Heap) (locs : List Loc) (k n mc ms pc : Nat) (ls : Array Slot) (st rest : List Value) (Qa : State → Outcome → State → Prop) (free : Addr → Prop) : Prop := va_Run (xp X) (xl X) (xe X) (xR X) (xs X) (xm X) (xargs X) (xbelow X) (xmeth X) (xc X) H locs k n mc ms (F0 (xm X) pc ls st) rest Qa free
section GC
variable {X : gX} {cc : ByteArray} {nL : Nat} {own : String} {rm : Room} {ret : Option FieldType} {k n : Nat} {ws ws0 : va_W} {pc : Nat} {lv : List (Nat × Value)} {st : List Value}
variable {y : MethodName} {bytes : ByteArray} {maxL f lo index nA b mc ms mc0 ms0 : Nat} {r : Option FieldType} {As rest : List Value} {wc : va_W} {C : String}
/-- a call of a method that only reads, its answer known -/
theorem gR_of {v : Value} (hr : ∀ (H : Heap) (locs : List Loc) (ls : Array Slot), gW X ws H locs → lv_has ls (xnL X) lv → ∃ a, gRun X H locs k n 0 0 pc ls st rest (gQr (fun o => o = some v) a) (fun _ => False)) (kk : G X k n ws (pc + 3) lv (v :: rest)) : G X k n ws pc lv st := by
  intro H locs ls hw hl T hT Y
  obtain ⟨a, hr⟩ := hr H locs ls hw hl
  obtain ⟨v', st₀, t, T', L, h0, X', hL, e1, e2, ⟨⟨v2, hv, hp⟩, hh⟩, sg⟩ := hr T hT Y
  cases hv
  subst hp
  obtain ⟨t2, a1, b1⟩ := kk H locs ls hw hl T' (by rw [e1, hh, h0]) (Stand.forget X' (fun q h => (hL q h).elim))
  exact ⟨t2, sg t2 a1, b1⟩
/-- a call of a method that writes -/
theorem gW_of {P0 P : Option Value → va_W → Prop} {l1 l2 : va_W} (hE : gEw X ws0 mc0 ms0 P0) (hws : ws = l1 ++ (wc ++ l2)) (hr : ∀ (H : Heap) (locs : List Loc) (ls : Array Slot), gW X ws H locs → lv_has ls (xnL X) lv → ∃ a, gRun X H locs k n mc ms pc ls st rest (gQw (xD X) wc H.size P a) (va_A wc H.size)) (kk : ∀ v w1, P v w1 → G X (k + mc) (n + ms) (l1 ++ (w1 ++ l2)) (pc + 3) lv (v.toList ++ rest)) : G X k n ws pc lv st := by
  subst hws
  intro H locs ls hw hl T hT Y
  obtain ⟨hD, hS⟩ := hw.2.2 hE.1
  have hA0 : ∀ q, (xs X).heap.size ≤ q → xA X q := fun q h => by rw [hE.2.1]; exact Or.inr h
  have hA : ∀ q, va_A wc H.size q → xA X q := fun q h => by
    rcases h with ⟨j, e, hj⟩ | h
    · exact hD.2 (l1.length + j) (q, e) (by rw [List.getElem?_append_right (Nat.le_add_right _ _), Nat.add_sub_cancel_left, List.getElem?_append_left (List.getElem?_eq_some_iff.mp hj).1]; exact hj)
    · exact hA0 q (Nat.le_trans hS.1 h)
  obtain ⟨a, hr⟩ := hr H locs ls hw hl
  obtain ⟨v', st₀, t, T', L, h0, X', hL, e1, e2, ⟨⟨v2, w1, hv, hp, hP1, hD1⟩, hz, hk⟩, sg⟩ := hr T hT Y
  cases hv
  rw [h0] at hz hk
  rw [← e1] at hz hk hP1
  obtain ⟨hP2, hD2⟩ := g_frame hw.1 hD hA hk hP1 hD1
  have hS2 : va_S (xA X) (xs X).heap T'.heap (locs ++ L) := ⟨Nat.le_trans hS.1 hz, fun q h1 h2 => by rw [hk q (Nat.lt_of_lt_of_le h1 hS.1) (fun z => h2 (hA q z))]; exact hS.2.1 q h1 h2, fun q hq => by
      rcases List.mem_append.mp hq with h | h
      · exact hS.2.2 q h
      · exact hA _ (hL q h)⟩
  obtain ⟨t2, a1, b1⟩ := kk v' w1 hp T'.heap (locs ++ L) ls ⟨hP2, fun z => (by rw [hE.1] at z; cases z), fun _ => ⟨hD2, hS2⟩⟩ hl T' rfl X'
  exact ⟨t2, sg t2 a1, b1⟩
theorem gPreR {D : va_G} {T : Nat → ClassId} : FrameBlind (gPr D T As wc) := fun _ U_ _ _ q => by
  obtain ⟨q0, qP, qK⟩ := q
  exact ⟨q0, qP, gK.warm (s := U_) (State.WarmedH.refl U_) qK⟩
theorem gPreW {D : va_G} {T : Nat → ClassId} {sz : Nat} : FrameBlind (gPw D T As wc sz) := fun _ U_ _ _ q => by
  obtain ⟨q0, qs, qP, qK, qD⟩ := q
  exact ⟨q0, qs, qP, gK.warm (s := U_) (State.WarmedH.refl U_) qK, qD⟩
theorem g_callVR (h : gAt X cc nL own rm ret) {v : Value} {T : u_T} {N ci : Nat} {fs : List Value} (hM : MetR (xl X) (xD X) (xT X) y bytes maxL r f lo (.ref b :: As) wc (fun o => o = some v)) (hsub : ∀ q ∈ wc, q ∈ ws) (q0 : Nat) (he : ws[q0]? = some (b, .inr (ci, fs))) (hc : vCL[ci]? = some (C, T, N)) (hT : GoodIn lw_all (wsV own index C y (ws_ y bytes maxL r))) (hy : gY y C nA) (hR : gFit f lo maxL rm) (hf : gCel k n 0 0 rm) (hn : As.length = nA) (hst : st = As.reverse ++ .ref b :: rest) (hrm : gRest rest) (hd : decode cc pc = .ok (.invokevirtual index, 3)) (kk : G X k n ws (pc + 3) lv (v :: rest)) : G X k n ws pc lv st :=
  gR_of (fun H locs ls hw hl => ⟨(Value.ref b :: As).toArray, va_runV (As := As) (rest := rest) (Ts := lw_all) (own := own) ⟨h.1, h.2.1, h.2.2.1, h.2.2.2.1, h.2.2.2.2.1⟩ hM (cwV nA h.2.2.2.2.1 hT rfl rfl rfl hy (by rw [h.2.2.2.2.2.2.2.1]; exact hR)) ⟨gPreR, va_recv h.2.2.2.2.2.1.1 hw.1 hc he, fun U hU hW => ⟨rfl, by rw [hU]; exact gP_mem hsub hw.1, h.2.2.2.2.2.1.warm hW⟩⟩ rfl hn (by rw [hl.1, h.2.2.2.2.2.2.1]) hst (lv_room hrm) hd (by rw [h.2.2.2.2.2.2.2.1]; exact hf)⟩) kk
theorem g_callSR (h : gAt X cc nL own rm ret) {v : Value} (hM : MetR (xl X) (xD X) (xT X) y bytes maxL r f lo As wc (fun o => o = some v)) (hsub : ∀ q ∈ wc, q ∈ ws) (hT : GoodIn lw_all (va_wsS own index y (ws_ y bytes maxL r))) (hy : gY y C nA) (hR : gFit f lo maxL rm) (hf : gCel k n 0 0 rm) (hn : As.length = nA) (hst : st = As.reverse ++ rest) (hrm : gRest rest) (hd : decode cc pc = .ok (.invokestatic index, 3)) (kk : G X k n ws (pc + 3) lv (v :: rest)) : G X k n ws pc lv st :=
  gR_of (fun H locs ls hw hl => ⟨As.toArray, va_runS (As := As) (rest := rest) (Ts := lw_all) (own := own) ⟨h.1, h.2.1, h.2.2.1, h.2.2.2.1, h.2.2.2.2.1⟩ hM (va_cwS nA h.2.2.2.2.1 hT rfl rfl rfl hy.2 (by rw [h.2.2.2.2.2.2.2.1]; exact hR)) ⟨gPreR, fun U hU hW => ⟨rfl, by rw [hU]; exact gP_mem hsub hw.1, h.2.2.2.2.2.1.warm hW⟩⟩ rfl hn (by rw [hl.1, h.2.2.2.2.2.2.1]) hst (lv_room hrm) hd (by rw [h.2.2.2.2.2.2.2.1]; exact hf)⟩) kk
theorem g_callVW (h : gAt X cc nL own rm ret) {P0 P : Option Value → va_W → Prop} {l1 l2 : va_W} (hE : gEw X ws0 mc0 ms0 P0) {T : u_T} {N ci : Nat} {fs : List Value} (hM : MetW (xl X) (xD X) (xT X) y bytes maxL r f lo mc ms (.ref b :: As) wc P) (hws : ws = l1 ++ (wc ++ l2)) (q0 : Nat) (he : ws[q0]? = some (b, .inr (ci, fs))) (hc : vCL[ci]? = some (C, T, N)) (hT : GoodIn lw_all (wsV own index C y (ws_ y bytes maxL r))) (hy : gY y C nA) (hR : gFit f lo maxL rm) (hf : gCel k n mc ms rm) (hn : As.length = nA) (hst : st = As.reverse ++ .ref b :: rest) (hrm : gRest rest) (hd : decode cc pc = .ok (.invokevirtual index, 3)) (kk : ∀ v w1, P v w1 → G X (k + mc) (n + ms) (l1 ++ (w1 ++ l2)) (pc + 3) lv (v.toList ++ rest)) : G X k n ws pc lv st :=
  gW_of hE hws (fun H locs ls hw hl => ⟨(Value.ref b :: As).toArray, va_runV (As := As) (rest := rest) (Ts := lw_all) (own := own) ⟨h.1, h.2.1, h.2.2.1, h.2.2.2.1, h.2.2.2.2.1⟩ (hM H.size) (cwV nA h.2.2.2.2.1 hT rfl rfl rfl hy (by rw [h.2.2.2.2.2.2.2.1]; exact hR)) ⟨gPreW, va_recv h.2.2.2.2.2.1.1 hw.1 hc he, fun U hU hW => ⟨rfl, by rw [hU], by rw [hU]; rw [hws] at hw; exact gP_left (gP_right hw.1), h.2.2.2.2.2.1.warm hW, by rw [hws] at hw; exact (gD_left (gD_right (hw.2.2 hE.1).1)).weaken (fun _ _ _ _ => trivial)⟩⟩ rfl hn (by rw [hl.1, h.2.2.2.2.2.2.1]) hst (lv_room hrm) hd (by rw [h.2.2.2.2.2.2.2.1]; exact hf)⟩) kk
theorem g_callSW (h : gAt X cc nL own rm ret) {P0 P : Option Value → va_W → Prop} {l1 l2 : va_W} (hE : gEw X ws0 mc0 ms0 P0) (hM : MetW (xl X) (xD X) (xT X) y bytes maxL r f lo mc ms As wc P) (hws : ws = l1 ++ (wc ++ l2)) (hT : GoodIn lw_all (va_wsS own index y (ws_ y bytes maxL r))) (hy : gY y C nA) (hR : gFit f lo maxL rm) (hf : gCel k n mc ms rm) (hn : As.length = nA) (hst : st = As.reverse ++ rest) (hrm : gRest rest) (hd : decode cc pc = .ok (.invokestatic index, 3)) (kk : ∀ v w1, P v w1 → G X (k + mc) (n + ms) (l1 ++ (w1 ++ l2)) (pc + 3) lv (v.toList ++ rest)) : G X k n ws pc lv st :=
  gW_of hE hws (fun H locs ls hw hl => ⟨As.toArray, va_runS (As := As) (rest := rest) (Ts := lw_all) (own := own) ⟨h.1, h.2.1, h.2.2.1, h.2.2.2.1, h.2.2.2.2.1⟩ (hM H.size) (va_cwS nA h.2.2.2.2.1 hT rfl rfl rfl hy.2 (by rw [h.2.2.2.2.2.2.2.1]; exact hR)) ⟨gPreW, fun U hU hW => ⟨rfl, by rw [hU], by rw [hU]; rw [hws] at hw; exact gP_left (gP_right hw.1), h.2.2.2.2.2.1.warm hW, by rw [hws] at hw; exact (gD_left (gD_right (hw.2.2 hE.1).1)).weaken (fun _ _ _ _ => trivial)⟩⟩ rfl hn (by rw [hl.1, h.2.2.2.2.2.2.1]) hst (lv_room hrm) hd (by rw [h.2.2.2.2.2.2.2.1]; exact hf)⟩) kk
theorem g_callIW (h : gAt X cc nL own rm ret) {P0 P : Option Value → va_W → Prop} {l1 l2 : va_W} (hE : gEw X ws0 mc0 ms0 P0) (hM : MetW (xl X) (xD X) (xT X) y bytes maxL none f lo mc ms (.ref b :: As) wc P) (hws : ws = l1 ++ (wc ++ l2)) (hm : Cond.code y bytes maxL none ∈ lw_all) (hini : Cond.initialized y.cls ∈ lw_all) (hlk : Cond.methodLink own index y ∈ lw_all) (hins : Cond.instanceMethod y ∈ lw_all) (hyi : y.name = "<init>") (hy : gY y C nA) (hR : gFit f lo maxL rm) (hf : gCel k n mc ms rm) (hn : As.length = nA) (hst : st = As.reverse ++ .ref b :: rest) (hrm : gRest rest) (hd : decode cc pc = .ok (.invokespecial index, 3)) (kk : ∀ w1, P none w1 → G X (k + mc) (n + ms) (l1 ++ (w1 ++ l2)) (pc + 3) lv rest) (hno : ∀ v w1, P v w1 → v = none) : G X k n ws pc lv st :=
  gW_of hE hws (fun H locs ls hw hl => ⟨(Value.ref b :: As).toArray, va_runI (As := As) (rest := rest) (Ts := lw_all) (own := own) ⟨h.1, h.2.1, h.2.2.1, h.2.2.2.1, h.2.2.2.2.1⟩ (hM H.size) (cwI nA h.2.2.2.2.1 (lw_meth hm) rfl rfl rfl (h.2.2.2.2.1 _ hini) (h.2.2.2.2.1 _ hlk) (h.2.2.2.2.1 _ hins) hyi hy.2 (by rw [h.2.2.2.2.2.2.2.1]; exact hR)) ⟨gPreW, fun U hU hW => ⟨rfl, by rw [hU], by rw [hU]; rw [hws] at hw; exact gP_left (gP_right hw.1), h.2.2.2.2.2.1.warm hW, by rw [hws] at hw; exact (gD_left (gD_right (hw.2.2 hE.1).1)).weaken (fun _ _ _ _ => trivial)⟩⟩ rfl hn (by rw [hl.1, h.2.2.2.2.2.2.1]) hst (lv_room hrm) hd (by rw [h.2.2.2.2.2.2.2.1]; exact hf)⟩) (fun v w1 hp => by have e := hno v w1 hp; subst e; exact kk w1 hp)
/-- Object's constructor -/
theorem g_objInit (h : gAt X cc nL own rm ret) {a idx : Nat} (hlk : Cond.methodLink own idx Lib.objectInit ∈ lw_all) (hins : Cond.instanceMethod Lib.objectInit ∈ lw_all) (hcd : Cond.code Lib.objectInit ⟨#[0xb1]⟩ 1 none ∈ lw_all) (hd : decode cc pc = .ok (.invokespecial idx, 3)) (hf : 1 ≤ rm.frames) (hlo : (st.map fun v => v.category).sum + 12 ≤ rm.locals) (kk : G X k n ws (pc + 3) lv st) : G X k n ws pc lv (.ref a :: st) := by
  intro H locs ls hw hl
  exact W.objInit h.1 h.2.1 h.2.2.2.1 (h.2.2.2.2.1 _ hlk) (h.2.2.2.2.1 _ hins) (h.2.2.2.2.1 _ hcd) rfl (by rw [h.2.2.1, ← h.2.2.2.2.2.2.1]; exact hl.1) rfl hd (by rw [h.2.2.2.2.2.2.2.1]; exact hf) (by rw [h.2.2.2.2.2.2.2.1]; show 2 * 0 + _ + 12 ≤ _; omega) (kk H locs ls hw hl)
/-- a new object -/
theorem g_new (h : gAt X cc nL own rm ret) {P0 : Option Value → va_W → Prop} (hE : gEw X ws0 mc0 ms0 P0) {T : u_T} {N ci : Nat} {fs : List Value} (hin : ∀ w ∈ u_ws C T N, w ∈ lw_all) (ty : Nat → FieldType) (hty : ∀ k, k < N → parseFieldDescriptor (T k).2.2.1 = some (ty k)) (hlk : Cond.classLink own index C ∈ lw_all) (hins : Cond.instantiable C N ∈ lw_all) (hini : Cond.initialized C ∈ lw_all) (hc : vCL[ci]? = some (C, T, N)) (hfs : ∀ j, j < N → defaultValue (ty j) = vp_V fs j) (hf : gCel k n 1 N rm) (hd : decode cc pc = .ok (.new index, 3)) (kk : ∀ q : Nat, G X (k + 1) (n + N) (ws ++ [(q, .inr (ci, fs))]) (pc + 3) lv (.ref q :: st)) : G X k n ws pc lv st := by
  intro H locs ls hw hl
  obtain ⟨hD, hS⟩ := hw.2.2 hE.1
  refine va_new h.1 h.2.1 h.2.2.2.2.1 hin ty hty h.2.2.2.1 (h.2.2.2.2.1 _ hlk) (h.2.2.2.2.1 _ hins) (h.2.2.2.2.1 _ hini) h.2.2.2.2.2.1.1 hw.1 hD hS (fun q z => by rw [hE.2.1]; exact Or.inr z) hc hfs (by rw [h.2.2.2.2.2.2.2.1]; exact hf.1) (by rw [h.2.2.2.2.2.2.2.1]; exact hf.2) hd (fun q H1 h1 h2 h3 => ?_)
  exact kk q H1 locs ls ⟨h1, fun z => (by rw [hE.1] at z; cases z), fun _ => ⟨h2, h3⟩⟩ hl
/-- a new array of ints, bytes, booleans, shorts -/
theorem g_newa (h : gAt X cc nL own rm ret) {P0 : Option Value → va_W → Prop} (hE : gEw X ws0 mc0 ms0 P0) {atype : ArrayType} {ty : FieldType} (t0 : Nat) (hty : newarray.typeOf atype = ty) (ht : (gTy (xT X))[t0]? = some (xT X t0, ty)) (hob : ∀ U cA, va_RA U cA ty → U.vm.findClass ("[" ++ ty.toString) = some cA) (hdf : defaultValue ty = .int 0) {N : Nat} (harr : Cond.arrayClass ty ∈ lw_all) (hN : N < 2 ^ 20) (hby : N * componentBytes ty ≤ 536870912) (hf : gCel k n 1 N rm) (hd : decode cc pc = .ok (.newarray atype, 2)) (kk : ∀ q : Nat, G X (k + 1) (n + N) (ws ++ [(q, .inl (xT X t0, N, .inl (fun _ => 0)))]) (pc + 2) lv (.ref q :: st)) : G X k n ws pc lv (.int (nI N) :: st) := by
  intro H locs ls hw hl
  obtain ⟨hD, hS⟩ := hw.2.2 hE.1
  have hN31 : N < 2 ^ 31 := Nat.lt_trans hN (by decide)
  refine va_newa (a0 := (N, .inl (fun _ => 0))) (N' := N) h.1 h.2.1 (by rw [hty]; exact h.2.2.2.2.1 _ harr) hty h.2.2.2.2.2.1.1 hw.1 hD hS (fun q z => by rw [hE.2.1]; exact Or.inr z) (fun cA => by rw [hdf]; rfl) (nI_pos hN31) (nI_clamp hN31) hby (by rw [h.2.2.2.2.2.2.2.1]; exact hf.1) (by rw [h.2.2.2.2.2.2.2.1]; exact hf.2) hd (fun q cA H1 hK h1 h2 h3 => ?_)
  have e1 := hob _ _ (h.2.2.2.2.2.1.1.2 t0 _ ht).2
  have e2 := hob _ _ (hK.2 ((gTy (xT X)).length) (cA, ty) (by rw [List.getElem?_append_right (Nat.le_refl _), Nat.sub_self]; rfl)).2
  have e : cA = xT X t0 := Option.some.inj (e2.symm.trans e1)
  subst e
  exact kk q H1 locs ls ⟨h1, fun z => (by rw [hE.1] at z; cases z), fun _ => ⟨h2, h3⟩⟩ hl
end GC
section GC0
variable {X : gX} {cc : ByteArray} {nL : Nat} {own : String} {rm : Room} {ret : Option FieldType} {k n : Nat} {ws ws0 : va_W} {pc : Nat} {lv : List (Nat × Value)} {st : List Value}
variable {y : MethodName} {bytes : ByteArray} {maxL f lo index nA b mc0 ms0 : Nat} {r : Option FieldType} {As rest : List Value} {C : String} {P0 : Option Value → va_W → Prop} {F : va_W → Prop}
theorem app_nil2 (w : va_W) : w = [] ++ (w ++ []) := (List.append_nil w).symm
/-- a call on the whole world, of a method that makes nothing: its answer known, of its world F -/
theorem g_callVW0 {v : Option Value} (h : gAt X cc nL own rm ret) (hE : gEw X ws0 mc0 ms0 P0) {T : u_T} {N ci : Nat} {fs : List Value} (hM : MetW (xl X) (xD X) (xT X) y bytes maxL r f lo 0 0 (.ref b :: As) ws (fun o w => o = v ∧ F w)) (q0 : Nat) (he : ws[q0]? = some (b, .inr (ci, fs))) (hc : vCL[ci]? = some (C, T, N)) (hT : GoodIn lw_all (wsV own index C y (ws_ y bytes maxL r))) (hy : gY y C nA) (hR : gFit f lo maxL rm) (hf : gCel k n 0 0 rm) (hn : As.length = nA) (hst : st = As.reverse ++ .ref b :: rest) (hrm : gRest rest) (hd : decode cc pc = .ok (.invokevirtual index, 3)) {st' : List Value} (hst' : v.toList ++ rest = st') (kk : ∀ w1, F w1 → G X k n w1 (pc + 3) lv st') : G X k n ws pc lv st :=
  g_callVW h hE hM (app_nil2 ws) q0 he hc hT hy hR hf hn hst hrm hd (fun v' w1 hp => by
    obtain ⟨e, hF⟩ := hp
    subst e
    rw [hst', ← app_nil2]
    exact kk w1 hF)
theorem g_callSW0 {v : Option Value} (h : gAt X cc nL own rm ret) (hE : gEw X ws0 mc0 ms0 P0) (hM : MetW (xl X) (xD X) (xT X) y bytes maxL r f lo 0 0 As ws (fun o w => o = v ∧ F w)) (hT : GoodIn lw_all (va_wsS own index y (ws_ y bytes maxL r))) (hy : gY y C nA) (hR : gFit f lo maxL rm) (hf : gCel k n 0 0 rm) (hn : As.length = nA) (hst : st = As.reverse ++ rest) (hrm : gRest rest) (hd : decode cc pc = .ok (.invokestatic index, 3)) {st' : List Value} (hst' : v.toList ++ rest = st') (kk : ∀ w1, F w1 → G X k n w1 (pc + 3) lv st') : G X k n ws pc lv st :=
  g_callSW h hE hM (app_nil2 ws) hT hy hR hf hn hst hrm hd (fun v' w1 hp => by
    obtain ⟨e, hF⟩ := hp
    subst e
    rw [hst', ← app_nil2]
    exact kk w1 hF)
theorem g_iretRv {v v0 : Int32} (h : gAt X cc nL own rm (some .int)) (hE : gEr X (fun o => o = some (.int v0))) (hd : decode cc pc = .ok (.ireturn, 1)) (hp : v = v0) : G X 0 0 ws pc lv [.int v] := g_iretR h hE hd (by rw [hp])
theorem bI_nar (b : Bool) : narrow .boolean (.int (bI b)) = .int (bI b) := by cases b <;> rfl
theorem g_zretRv {v : Int32} {b : Bool} (h : gAt X cc nL own rm (some .boolean)) (hE : gEr X (fun o => o = some (.int (bI b)))) (hd : decode cc pc = .ok (.ireturn, 1)) (hp : v = bI b) : G X 0 0 ws pc lv [.int v] := by
  subst hp
  exact g_zretR h hE hd (bI_nar b) rfl
theorem g_lretRv {v v0 : Int64} (h : gAt X cc nL own rm (some .long)) (hE : gEr X (fun o => o = some (.long v0))) (hd : decode cc pc = .ok (.lreturn, 1)) (hp : v = v0) : G X 0 0 ws pc lv [.long v] := g_lretR h hE hd (by rw [hp])
theorem g_iretWv {v v0 : Int32} (h : gAt X cc nL own rm (some .int)) (hE : gEw X ws0 0 0 (fun o w => o = some (.int v0) ∧ F w)) (hd : decode cc pc = .ok (.ireturn, 1)) (hp : v = v0) (hF : F ws) : G X 0 0 ws pc lv [.int v] := g_iretW h hE (Nat.le_refl _) (Nat.le_refl _) hd ⟨by rw [hp], hF⟩
theorem g_zretWv {v : Int32} {b : Bool} (h : gAt X cc nL own rm (some .boolean)) (hE : gEw X ws0 0 0 (fun o w => o = some (.int (bI b)) ∧ F w)) (hd : decode cc pc = .ok (.ireturn, 1)) (hp : v = bI b) (hF : F ws) : G X 0 0 ws pc lv [.int v] := by
  subst hp
  exact g_zretW h hE (Nat.le_refl _) (Nat.le_refl _) hd (bI_nar b) ⟨rfl, hF⟩
theorem g_lretWv {v v0 : Int64} (h : gAt X cc nL own rm (some .long)) (hE : gEw X ws0 0 0 (fun o w => o = some (.long v0) ∧ F w)) (hd : decode cc pc = .ok (.lreturn, 1)) (hp : v = v0) (hF : F ws) : G X 0 0 ws pc lv [.long v] := g_lretW h hE (Nat.le_refl _) (Nat.le_refl _) hd ⟨by rw [hp], hF⟩
theorem g_vretWv (h : gAt X cc nL own rm none) (hE : gEw X ws0 0 0 (fun o w => o = none ∧ F w)) (hd : decode cc pc = .ok (.return_, 1)) (hF : F ws) : G X 0 0 ws pc lv [] := g_vretW h hE (Nat.le_refl _) (Nat.le_refl _) hd ⟨rfl, hF⟩
end GC0
