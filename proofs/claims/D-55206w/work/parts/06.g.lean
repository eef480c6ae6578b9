/-! THE G-LAYER: the heap as a function from addresses to objects; one uniform contract -/
set_option maxRecDepth 100000
/-- an object (number of its class, its fields) or an array (number of its type, length, contents) -/
abbrev gE : Type := (Nat × List Value) ⊕ (Nat × Nat × (Nat → Value))
abbrev gH : Type := Nat → Option gE
/-- the run's constants: class ids, slots, array classes, which classes are arrays of a type, where the run's own cells begin, the cells below, addresses of constants -/
abbrev gD : Type := (Nat → ClassId) × (Nat → Nat → Nat) × (Nat → ClassId) × (Nat → ClassId → Prop) × Nat × gH × (Nat → Nat) × (Nat → Value)
def gcid (D : gD) : Nat → ClassId := D.1
def gslo (D : gD) : Nat → Nat → Nat := D.2.1
def garr (D : gD) : Nat → ClassId := D.2.2.1
def gisA (D : gD) : Nat → ClassId → Prop := D.2.2.2.1
def gz (D : gD) : Nat := D.2.2.2.2.1
def gbase (D : gD) : gH := D.2.2.2.2.2.1
def gk (D : gD) : Nat → Nat := D.2.2.2.2.2.2.1
def gv (D : gD) : Nat → Value := D.2.2.2.2.2.2.2
def gA (D : gD) : Nat → Prop := fun q => gz D ≤ q
def gTy : Nat → FieldType := fun t => match t with
  | 0 => .int
  | 1 => .byte
  | 2 => .char
  | 3 => .long
  | 4 => .double
  | _ => .object "java/lang/Object"
def gT0 : u_T := fun _ => ("", "", "", false)
def gty0 : Nat → FieldType := fun _ => .int
/-- the classes of the objects: 0 WhelkFleet, 1 Fleet, 2 Ground, 3 Boat, 4 Ashore, 5 Line, 6 Deed, 7 OnGround, 8 Refusal, 9 Draught, 10 Reader, 11 TextError, 12 13 14 Bait$1 2 3, 15 ArrayList, 16 LinkedList, 17 Node, 18 ArrayList$Itr, 19 LinkedList$ListItr, 20 StringBuilder, 21 String, 22 Integer, 23 WhelkFleetModel -/
def gC : List vw_C := [(RX1, TX1, 7), (RX2, TX2, 11), (RX3, TX3, 1), (RX5, TX5, 7), (RX6, gT0, 0), (RX7, TX7, 6), (RX8, TX8, 4), (RX9, TX9, 1), (RX10, TX10, 8), (RX13, TX13, 3), (RX14, TX14, 2), (RX15, TX15, 7), (RX16, gT0, 0), (RX17, gT0, 0), (RX18, gT0, 0), (RJ2, TJ2, 3), (RJ8, TJ8, 4), (RJ6, TJ6, 3), (RJ24, TJ24, 4), (RJ27, TJ27, 5), (RJ10, TJ10, 4), (RJ11, TJ11, 4), (RJ23, TJ23, 1), (RX4, TX4, 18)]
def g_at (D : gD) (a : Nat) (o : gE) (H : Heap) : Prop := match o with
  | .inl x => ∃ (r : vw_C) (cell : Cell), gC[x.1]? = some r ∧ H[a]? = some cell ∧ cell.cls = gcid D x.1 ∧ cell.vm.isStatics = false ∧ cell.vm ≠ .unknown ∧ (gz D ≤ a → cell.vm = .none ∧ cell.monitor.owner = none ∧ cell.monitor.count = 0) ∧ x.2.length ≤ r.2.2 ∧ ∀ (k : Nat) (v : Value), x.2[k]? = some v → cell.slots[gslo D x.1 k]? = some v
  | .inr x => ∃ cell : Cell, H[a]? = some cell ∧ gisA D x.1 cell.cls ∧ cell.vm.isStatics = false ∧ cell.vm ≠ .unknown ∧ (gz D ≤ a → cell.vm = .none ∧ cell.cls = garr D x.1) ∧ cell.slots.size = x.2.1 ∧ x.2.1 < 2 ^ 31 ∧ ∀ j : Nat, j < x.2.1 → cell.slots[j]? = some (x.2.2 j)
theorem g_at.kept {D : gD} {a : Nat} {o : gE} {H H1 : Heap} (h : g_at D a o H) (e : H1[a]? = H[a]?) : g_at D a o H1 := by
  cases o with
  | inl x =>
    obtain ⟨r, cell, h1, h2, h3⟩ := h
    exact ⟨r, cell, h1, by rw [e]; exact h2, h3⟩
  | inr x =>
    obtain ⟨cell, h2, h3⟩ := h
    exact ⟨cell, by rw [e]; exact h2, h3⟩
theorem g_at.lt {D : gD} {a : Nat} {o : gE} {H : Heap} (h : g_at D a o H) : a < H.size := by
  cases o with
  | inl x =>
    obtain ⟨r, cell, h1, h2, h3⟩ := h
    exact (Array.getElem?_eq_some_iff.mp h2).1
  | inr x =>
    obtain ⟨cell, h2, h3⟩ := h
    exact (Array.getElem?_eq_some_iff.mp h2).1
def gI (D : gD) (G : gH) (n : Nat) (H : Heap) : Prop := H.size = n ∧ gz D ≤ n ∧ (∀ a, a < gz D → G a = gbase D a) ∧ ∀ a o, G a = some o → g_at D a o H
def gu (G : gH) (a : Nat) (o : gE) : gH := fun q => if q = a then some o else G q
theorem gu_s (G : gH) (a : Nat) (o : gE) : gu G a o a = some o := if_pos rfl
theorem gu_n {G : gH} {a q : Nat} {o : gE} (h : q ≠ a) : gu G a o q = G q := if_neg h
theorem gu_k {G : gH} {a q : Nat} {o z : gE} (h : G q = some z) (hn : q ≠ a) : gu G a o q = some z := by rw [gu_n hn]; exact h
theorem gu_u (G : gH) (a : Nat) (o o2 : gE) : gu (gu G a o) a o2 = gu G a o2 := by
  funext q
  by_cases h : q = a
  · rw [h, gu_s, gu_s]
  · rw [gu_n h, gu_n h, gu_n h]
theorem gI.lt {D : gD} {G : gH} {n : Nat} {H : Heap} (h : gI D G n H) {a : Nat} {o : gE} (ha : G a = some o) : a < n := by
  have := (h.2.2.2 a o ha).lt
  rw [h.1] at this
  exact this
theorem gI.z {D : gD} {G : gH} {n : Nat} {H : Heap} (h : gI D G n H) : gz D ≤ n := h.2.1
theorem gI.new {D : gD} {G : gH} {n a : Nat} {H : Heap} (h : gI D G n H) (ha : n ≤ a) : G a = none := by
  cases e : G a with
  | none => rfl
  | some o => exact absurd (h.lt e) (by omega)
theorem gI.base {D : gD} {G : gH} {n a : Nat} {H : Heap} (h : gI D G n H) (ha : a < gz D) : G a = gbase D a := h.2.2.1 a ha
theorem gI.put {D : gD} {G : gH} {n a : Nat} {o : gE} {H H1 : Heap} (h : gI D G n H) (ha : gz D ≤ a) (ho : g_at D a o H1) (hz : H1.size = H.size) (hq : ∀ q, q ≠ a → H1[q]? = H[q]?) : gI D (gu G a o) n H1 := by
  refine ⟨hz.trans h.1, h.2.1, fun q hq2 => ?_, fun q z e => ?_⟩
  · rw [gu_n (by omega)]; exact h.2.2.1 q hq2
  · by_cases c : q = a
    · subst c
      rw [gu_s] at e
      cases e
      exact ho
    · rw [gu_n c] at e
      exact (h.2.2.2 q z e).kept (hq q c)
theorem gI.push {D : gD} {G : gH} {n : Nat} {o : gE} {H H1 : Heap} (h : gI D G n H) (ho : g_at D n o H1) (hz : H1.size = n + 1) (hq : ∀ q, q < n → H1[q]? = H[q]?) : gI D (gu G n o) (n + 1) H1 := by
  refine ⟨hz, by have := h.2.1; omega, fun q hq2 => ?_, fun q z e => ?_⟩
  · rw [gu_n (by have := h.2.1; omega)]; exact h.2.2.1 q hq2
  · by_cases c : q = n
    · subst c
      rw [gu_s] at e
      cases e
      exact ho
    · rw [gu_n c] at e
      exact (h.2.2.2 q z e).kept (hq q (h.lt e))
/-- the same cells in a heap that only grew -/
theorem gI.grow {D : gD} {G : gH} {n : Nat} {H H1 : Heap} (h : gI D G n H) (hz : H.size ≤ H1.size) (hq : ∀ q, q < H.size → H1[q]? = H[q]?) : gI D G H1.size H1 :=
  ⟨rfl, by have := h.2.1; have := h.1; omega, h.2.2.1, fun a o e => (h.2.2.2 a o e).kept (hq a (by rw [h.1]; exact h.lt e))⟩
/-- cells below k that aren't among ms stay -/
def gF (G G' : gH) (k : Nat) (ms : Nat → Prop) : Prop := ∀ q, q < k → ¬ ms q → G' q = G q
theorem gF.rf (G : gH) (k : Nat) (ms : Nat → Prop) : gF G G k ms := fun _ _ _ => rfl
theorem gF.put {G G' : gH} {k a : Nat} {o : gE} {ms : Nat → Prop} (h : gF G G' k ms) (ha : k ≤ a ∨ ms a) : gF G (gu G' a o) k ms := fun q hq hm => by
  rw [gu_n (fun e => by subst e; rcases ha with h1 | h1; exact absurd h1 (by omega); exact hm h1)]
  exact h q hq hm
theorem gF.trans {G G1 G2 : gH} {k k2 : Nat} {ms m2 : Nat → Prop} (h : gF G G1 k ms) (h2 : gF G1 G2 k2 m2) (hk : k ≤ k2) (hm : ∀ q, q < k → m2 q → ms q) : gF G G2 k ms := fun q hq hn => by
  rw [h2 q (by omega) (fun z => hn (hm q hq z))]
  exact h q hq hn
theorem gF.at {G G' : gH} {k a : Nat} {ms : Nat → Prop} {o : gE} (h : gF G G' k ms) (ha : G a = some o) (hk : a < k) (hm : ¬ ms a) : G' a = some o := by rw [h a hk hm]; exact ha
def gNone : Nat → Prop := fun _ => False
theorem g_ne {G : gH} {a b : Nat} {o z : gE} (ha : G a = some o) (hb : G b = some z) (h : o ≠ z) : a ≠ b := fun e => by
  subst e
  rw [ha] at hb
  exact h (Option.some.inj hb)
/-- objects of different classes lie apart -/
theorem g_nc {G : gH} {a b c d : Nat} {fs gs : List Value} (ha : G a = some (.inl (c, fs))) (hb : G b = some (.inl (d, gs))) (h : c ≠ d) : a ≠ b := g_ne ha hb (fun e => h (congrArg Prod.fst (Sum.inl.inj e)))
theorem g_no {G : gH} {a b c : Nat} {fs : List Value} {x : Nat × Nat × (Nat → Value)} (ha : G a = some (.inl (c, fs))) (hb : G b = some (.inr x)) : a ≠ b := g_ne ha hb (fun e => by cases e)
theorem g_on {G : gH} {a b c : Nat} {fs : List Value} {x : Nat × Nat × (Nat → Value)} (ha : G a = some (.inr x)) (hb : G b = some (.inl (c, fs))) : a ≠ b := g_ne ha hb (fun e => by cases e)
theorem g_na {G : gH} {a b : Nat} {t u n k : Nat} {f g : Nat → Value} (ha : G a = some (.inr (t, n, f))) (hb : G b = some (.inr (u, k, g))) (h : t ≠ u ∨ n ≠ k) : a ≠ b := g_ne ha hb (fun e => by
  have e1 := Sum.inr.inj e
  have e2 : t = u := congrArg Prod.fst e1
  have e3 : n = k := congrArg (fun z => z.2.1) e1
  rcases h with h | h
  · exact h e2
  · exact h e3)
-- arrays
def gup {α : Type} (f : Nat → α) (k : Nat) (v : α) : Nat → α := fun j => if j = k then v else f j
theorem gup_s {α : Type} (f : Nat → α) (k : Nat) (v : α) : gup f k v k = v := if_pos rfl
theorem gup_n {α : Type} {f : Nat → α} {k j : Nat} {v : α} (h : j ≠ k) : gup f k v j = f j := if_neg h
abbrev aI (n : Nat) (x : Nat → Int32) : gE := .inr (0, n, fun j => .int (x j))
abbrev aB (n : Nat) (x : Nat → Int32) : gE := .inr (1, n, fun j => .int (x j))
abbrev aC (n : Nat) (x : Nat → Int32) : gE := .inr (2, n, fun j => .int (x j))
abbrev aL (n : Nat) (x : Nat → Int64) : gE := .inr (3, n, fun j => .long (x j))
abbrev aD (n : Nat) (x : Nat → UInt64) : gE := .inr (4, n, fun j => .double (x j))
abbrev aR (n : Nat) (x : Nat → Value) : gE := .inr (5, n, x)
-- what the machine's tables say, and what lies below the run's cells
def gNk (w : Cond) : Bool := match w with
  | .castable _ _ => true
  | .fieldLinkNest _ _ _ _ _ _ => true
  | .methodLinkNest _ _ _ _ => true
  | .declares _ => true
  | _ => false
theorem gNk_moved {w : Cond} (hk : gNk w = true) {s U : State} (hW : s.WarmedH U.vm) (h : va_Nw w s) : va_Nw w U := by
  cases w <;> first
    | exact va_Nw.warmC hW h
    | exact va_Nw.warmF hW h
    | exact va_Nw.warmM hW h
    | exact va_Nw.warmD hW h
    | (simp [gNk] at hk)
