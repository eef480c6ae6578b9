/-! THE CLASS, 2: fleets told by rows -/
set_option maxRecDepth 100000
/-- a contract may tell less -/
theorem gMet.mono {l : Launch} {D : gD} {y : MethodName} {ws : List Cond} {k B n : Nat} {G : gH} {args : List Value} {post post2 : Option Value → gH → Nat → Prop} {xp xp2 : String → Nat → gH → Nat → Prop} (h : gMet l D y ws k B G n args post xp)
    (hp : ∀ H, gI D G n H → ∀ v G1 n1 H1, gI D G1 n1 H1 → post v G1 n1 → post2 v G1 n1) (hx : ∀ H, gI D G n H → ∀ E q G1 n1 H1, gI D G1 n1 H1 → xp E q G1 n1 → xp2 E q G1 n1) : gMet l D y ws k B G n args post2 xp2 := by
  intro p e h1 h2 h3 s m args' below h4 h5 h6 h7
  obtain ⟨i, o, a1, a2, a3, a4⟩ := h p e h1 h2 h3 s m args' below h4 h5 h6 h7
  refine ⟨i, o, a1, a2, a3, ?_⟩
  have hI := h6.2.1
  rcases a4 with ⟨⟨⟨v, G1, n1, b1, b2, b3⟩, b4⟩, b5⟩ | ⟨q, b1, E, ce, L, ⟨⟨G1, n1, b2, b3⟩, b4⟩, b5⟩
  · exact Or.inl ⟨⟨⟨v, G1, n1, b1, hp _ hI v G1 n1 _ b3 b2, b3⟩, b4⟩, b5⟩
  · exact Or.inr ⟨q, b1, E, ce, L, ⟨⟨G1, n1, hx _ hI E q G1 n1 _ b3 b2, b3⟩, b4⟩, b5⟩
/-- a contract by cases -/
theorem gMet.pre {l : Launch} {D : gD} {y : MethodName} {ws : List Cond} {k B n : Nat} {G : gH} {args : List Value} {post : Option Value → gH → Nat → Prop} {xp : String → Nat → gH → Nat → Prop} (h : ∀ H, gI D G n H → gMet l D y ws k B G n args post xp) : gMet l D y ws k B G n args post xp := by
  intro p e h1 h2 h3 s m args' below h4 h5 h6 h7
  exact h _ h6.2.1 p e h1 h2 h3 s m args' below h4 h5 h6 h7
/-- where a boat or a string is: nothing but the number counts -/
def PL (G : gH) (q : Nat) (v : Int32) : Prop := (v = -1 ∧ G q = some (.inl (4, []))) ∨ (¬ v = -1 ∧ G q = some (.inl (7, [.int v])))
/-- a list of objects: its header at a, its array at b, its k objects at e 0 .. -/
def LA (D : gD) (G : gH) (a b k : Nat) (e : Nat → Nat) : Prop :=
  ∃ mc : Int32, G a = some (.inl (15, [.int mc, .ref b, .int (nI k)])) ∧ ((k = 0 ∧ b = gk D 0) ∨ (0 < k ∧ k ≤ 10 ∧ ∃ ev, G b = some (aR 10 ev) ∧ ∀ i, i < k → ev i = .ref (e i)))
def GRa (G : gH) (a b : Nat) (f : Nat → Int32) (p : Nat) : Prop := G a = some (.inl (2, [.ref b])) ∧ ∃ x, G b = some (aI 3 x) ∧ ∀ j, j < 3 → x j = f (3 + 3 * p + j)
def BOa (G : gH) (a : Nat) (f : Nat → Int32) (b : Nat) : Prop := ∃ q, G a = some (.inl (3, [.int (f (25 + b)), .ref q, .int (f (31 + b)), .int (f (34 + b)), .int (f (37 + b)), .int (f (40 + b)), .int (f (43 + b))])) ∧ PL G q (f (28 + b))
def LNa (G : gH) (a : Nat) (f : Nat → Int32) (s : Nat) : Prop := ∃ q, G a = some (.inl (5, [.int (f (47 + s)), .ref q, .int (f (67 + s)), .int (f (77 + s)), .int (f (87 + s)), .int (f (97 + s))])) ∧ PL G q (f (57 + s))
/-- a fleet at A 0 that a row tells -/
def FLa (D : gD) (G : gH) (A : Nat → Nat) (f : Nat → Int32) (nb ns : Nat) : Prop :=
  G (A 0) = some (.inl (1, [.ref (A 1), .ref (A 3), .ref (A 5), .ref (A 7), .int (f 0), .int (f 1), .int (f 2), .int (f 108), .int (f 109), .int (f 110), .int (f 111)])) ∧
  LA D G (A 1) (A 2) 6 (fun p => A (10 + p)) ∧ LA D G (A 3) (A 4) nb (fun b => A (30 + b)) ∧ LA D G (A 5) (A 6) ns (fun s => A (40 + s)) ∧
  (∃ x, G (A 7) = some (aI 3 x) ∧ ∀ k, k < 3 → x k = f (21 + k)) ∧
  (∀ p, p < 6 → GRa G (A (10 + p)) (A (20 + p)) f p) ∧ (∀ b, b < nb → BOa G (A (30 + b)) f b) ∧ (∀ s, s < ns → LNa G (A (40 + s)) f s)
/-- it may be written, and its cells are apart -/
def FLw (A : Nat → Nat) (lo nb ns : Nat) : Prop :=
  lo ≤ A 0 ∧ lo ≤ A 3 ∧ lo ≤ A 5 ∧ (0 < nb → lo ≤ A 4) ∧ (0 < ns → lo ≤ A 6) ∧ lo ≤ A 7 ∧ (∀ p, p < 6 → lo ≤ A (20 + p)) ∧ (∀ b, b < nb → lo ≤ A (30 + b)) ∧ (∀ s, s < ns → lo ≤ A (40 + s)) ∧
  A 1 ≠ A 3 ∧ A 1 ≠ A 5 ∧ A 3 ≠ A 5 ∧ (0 < nb → A 2 ≠ A 4) ∧ (0 < ns → A 2 ≠ A 6) ∧ (0 < nb → 0 < ns → A 4 ≠ A 6) ∧
  (∀ p, p < 6 → A (20 + p) ≠ A 7) ∧ (∀ p q, p < 6 → q < 6 → p ≠ q → A (20 + p) ≠ A (20 + q)) ∧ (∀ b c, b < nb → c < nb → b ≠ c → A (30 + b) ≠ A (30 + c)) ∧ (∀ s t, s < ns → t < ns → s ≠ t → A (40 + s) ≠ A (40 + t))
theorem PL.fr {G G1 : gH} {n q : Nat} {v : Int32} {ms : Nat → Prop} (h : PL G q v) (hF : gF G G1 n ms) (hl : ∀ a o, G a = some o → a < n) (hm : ∀ o, G q = some (.inl o) → (o.1 = 4 ∨ o.1 = 7) → ¬ ms q) : PL G1 q v := by
  rcases h with ⟨h1, h2⟩ | ⟨h1, h2⟩
  · exact Or.inl ⟨h1, hF.at h2 (hl _ _ h2) (hm _ h2 (Or.inl rfl))⟩
  · exact Or.inr ⟨h1, hF.at h2 (hl _ _ h2) (hm _ h2 (Or.inr rfl))⟩
