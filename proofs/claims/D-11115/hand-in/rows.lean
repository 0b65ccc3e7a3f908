section
/-- the heap's picture: n nodes; sort, number, step, left, right, busy; each node's level; each node's sequence -/
abbrev gc_G : Type := Nat × (Nat → Int32) × (Nat → Int32) × (Nat → Int32) × (Nat → Int32) × (Nat → Int32) × (Nat → Int32) × (Nat → Nat) × (Nat → Nat → Int32)
abbrev gc_N (g : gc_G) : Nat := g.1
abbrev gc_S (g : gc_G) : Nat → Int32 := g.2.1
abbrev gc_V (g : gc_G) : Nat → Int32 := g.2.2.1
abbrev gc_T (g : gc_G) : Nat → Int32 := g.2.2.2.1
abbrev gc_L (g : gc_G) : Nat → Int32 := g.2.2.2.2.1
abbrev gc_R (g : gc_G) : Nat → Int32 := g.2.2.2.2.2.1
abbrev gc_B (g : gc_G) : Nat → Int32 := g.2.2.2.2.2.2.1
abbrev gc_K (g : gc_G) : Nat → Nat := g.2.2.2.2.2.2.2.1
abbrev gc_D (g : gc_G) : Nat → Nat → Int32 := g.2.2.2.2.2.2.2.2
/-- what an operation's sequence X is, by its sort s, its number v and the sequences that it works on -/
def gc_op (s v : Int32) (X L R : Nat → Int32) : Prop :=
  (s = 2 ∧ ∀ i, X i = L (i + 1)) ∨ (s = 5 ∧ ∀ i, X i = v * L i) ∨ (s = 6 ∧ X 0 = v + L 0 ∧ ∀ i, X (i + 1) = X i + L (i + 1)) ∨
  (s = 7 ∧ ∀ i, X i = if i % 2 = 0 then L (i / 2) else R (i / 2)) ∨ (s = 3 ∧ ∀ i, X i = L i + R i) ∨ (s = 4 ∧ ∀ i, X i = L i * R i)
/-- an operation node -/
def gc_on (g : gc_G) (x l r : Nat) : Prop := l < gc_N g ∧ r < gc_N g ∧ gc_L g x = nI l ∧ gc_R g x = nI r ∧ gc_K g l < gc_K g x ∧ gc_K g r < gc_K g x ∧ gc_op (gc_S g x) (gc_V g x) (gc_D g x) (gc_D g l) (gc_D g r)
/-- a finished cell -/
def gc_ce (g : gc_G) (x l : Nat) : Prop := gc_S g x = 9 ∧ gc_D g x 0 = gc_V g x ∧ l < gc_N g ∧ gc_L g x = nI l ∧ gc_K g l ≤ gc_K g x ∧ ∀ i, gc_D g l i = gc_D g x (i + 1)
/-- a link: it points to a finished cell -/
def gc_li (g : gc_G) (x l : Nat) : Prop := gc_S g x = 10 ∧ l < gc_N g ∧ gc_L g x = nI l ∧ gc_K g l ≤ gc_K g x ∧ gc_S g l = 9 ∧ gc_D g l = gc_D g x
def gc_nd (g : gc_G) (x : Nat) : Prop :=
  (gc_S g x = 0 ∧ ∀ i, gc_D g x i = gc_V g x + nI i * gc_T g x) ∨ (∃ l, gc_ce g x l) ∨ (∃ l, gc_li g x l) ∨ (∃ l r, gc_on g x l r)
def gc_inv (g : gc_G) : Prop := 6 ≤ gc_N g ∧ gc_N g ≤ 256 ∧ gc_K g 0 = 0 ∧ ∀ x, x < gc_N g → gc_nd g x
/-- old nodes keep their level and their sequence; cells and links stay -/
def gc_ext (g g' : gc_G) : Prop := gc_N g ≤ gc_N g' ∧ ∀ y, y < gc_N g → gc_K g' y = gc_K g y ∧ gc_D g' y = gc_D g y ∧ (gc_S g y = 9 → gc_S g' y = 9 ∧ gc_L g' y = gc_L g y) ∧ (gc_S g y = 10 → gc_S g' y = 10 ∧ gc_L g' y = gc_L g y)
/-- nodes above level m are left alone -/
def gc_un (m : Nat) (g g' : gc_G) : Prop := ∀ z, z < gc_N g → m < gc_K g z → gc_S g' z = gc_S g z ∧ gc_V g' z = gc_V g z ∧ gc_T g' z = gc_T g z ∧ gc_L g' z = gc_L g z ∧ gc_R g' z = gc_R g z
/-- work at x and below it leads from g to g', with at most e new nodes -/
def gc_go (x : Nat) (g g' : gc_G) (e : Nat) : Prop := gc_inv g' ∧ gc_ext g g' ∧ gc_un (gc_K g x) g g' ∧ (∀ z, z < gc_N g' → z ≠ x → gc_B g' z = if z < gc_N g then gc_B g z else 0) ∧ gc_N g' ≤ gc_N g + e
/-- y stands for the finished cell c -/
def gc_rs (g : gc_G) (y c : Nat) : Prop := c < gc_N g ∧ gc_S g c = 9 ∧ (c = y ∨ (gc_S g y = 10 ∧ gc_L g y = nI c))
/-- what a force at level m may allocate -/
def gc_cst : Nat → Nat
  | 0 => 1
  | m + 1 => 2 * gc_cst m + 1
theorem gc_cst_s (m : Nat) : gc_cst (m + 1) = 2 * gc_cst m + 1 := rfl
theorem gc_cst_1 (m : Nat) : 1 ≤ gc_cst m := by
  cases m with
  | zero => exact Nat.le_refl 1
  | succ m => rw [gc_cst_s]; omega
theorem gc_nI {a b : Nat} (ha : a < 512) (hb : b < 512) (h : nI a = nI b) : a = b := (nI_eq (by omega) (by omega)).mp h
theorem gc_s16 : ∀ n, n < 512 → (nI n).toInt16.toInt32 = nI n := by decide +kernel
theorem gc_op_k {s v : Int32} {X L R : Nat → Int32} (h : gc_op s v X L R) : s = 2 ∨ s = 5 ∨ s = 6 ∨ s = 7 ∨ s = 3 ∨ s = 4 := by
  rcases h with h | h | h | h | h | h
  · exact Or.inl h.1
  · exact Or.inr (Or.inl h.1)
  · exact Or.inr (Or.inr (Or.inl h.1))
  · exact Or.inr (Or.inr (Or.inr (Or.inl h.1)))
  · exact Or.inr (Or.inr (Or.inr (Or.inr (Or.inl h.1))))
  · exact Or.inr (Or.inr (Or.inr (Or.inr (Or.inr h.1))))
theorem gc_op_n {s v : Int32} {X L R : Nat → Int32} (h : gc_op s v X L R) : ¬ s = 0 ∧ ¬ s = 9 ∧ ¬ s = 10 ∧ ¬ s = 8 := by
  rcases gc_op_k h with h | h | h | h | h | h <;> subst h <;> decide
theorem gc_op_c {s v : Int32} {X L R X' L' R' : Nat → Int32} (h : gc_op s v X L R) (hX : X' = X) (hL : L' = L) (hR : R' = R) : gc_op s v X' L' R' := by
  subst hX hL hR
  exact h
theorem gc_ext_refl (g : gc_G) : gc_ext g g := ⟨Nat.le_refl _, fun y _ => ⟨rfl, rfl, fun h => ⟨h, rfl⟩, fun h => ⟨h, rfl⟩⟩⟩
theorem gc_ext_trans {a b c : gc_G} (h1 : gc_ext a b) (h2 : gc_ext b c) : gc_ext a c := by
  refine ⟨Nat.le_trans h1.1 h2.1, fun y hy => ?_⟩
  obtain ⟨k1, d1, c1, l1⟩ := h1.2 y hy
  obtain ⟨k2, d2, c2, l2⟩ := h2.2 y (Nat.lt_of_lt_of_le hy h1.1)
  exact ⟨k2.trans k1, d2.trans d1, fun h => ⟨(c2 (c1 h).1).1, (c2 (c1 h).1).2.trans (c1 h).2⟩, fun h => ⟨(l2 (l1 h).1).1, (l2 (l1 h).1).2.trans (l1 h).2⟩⟩
theorem gc_un_trans {m m' : Nat} {a b c : gc_G} (hm : m' ≤ m) (he : gc_ext a b) (h1 : gc_un m a b) (h2 : gc_un m' b c) : gc_un m a c := by
  intro z hz hk
  obtain ⟨s1, v1, t1, l1, r1⟩ := h1 z hz hk
  obtain ⟨s2, v2, t2, l2, r2⟩ := h2 z (Nat.lt_of_lt_of_le hz he.1) (by rw [(he.2 z hz).1]; exact Nat.lt_of_le_of_lt hm hk)
  exact ⟨s2.trans s1, v2.trans v1, t2.trans t1, l2.trans l1, r2.trans r1⟩
theorem gc_go_refl {g : gc_G} {x : Nat} (h : gc_inv g) (e : Nat) : gc_go x g g e := ⟨h, gc_ext_refl g, fun z _ _ => ⟨rfl, rfl, rfl, rfl, rfl⟩, fun z hz _ => (if_pos hz).symm, Nat.le_add_right _ _⟩
theorem gc_go_mono {g g' : gc_G} {x e e' : Nat} (h : gc_go x g g' e) (he : e ≤ e') : gc_go x g g' e' := ⟨h.1, h.2.1, h.2.2.1, h.2.2.2.1, Nat.le_trans h.2.2.2.2 (Nat.add_le_add_left he _)⟩
theorem gc_go_trans {x e1 e2 : Nat} {a b c : gc_G} (hx : x < gc_N a) (h1 : gc_go x a b e1) (h2 : gc_go x b c e2) : gc_go x a c (e1 + e2) := by
  obtain ⟨i1, x1, u1, b1, n1⟩ := h1
  obtain ⟨i2, x2, u2, b2, n2⟩ := h2
  refine ⟨i2, gc_ext_trans x1 x2, gc_un_trans (by rw [(x1.2 x hx).1]; exact Nat.le_refl _) x1 u1 u2, fun z hz zx => ?_, by omega⟩
  rw [b2 z hz zx]
  have h := x1.1
  by_cases hb : z < gc_N b
  · rw [if_pos hb, b1 z hb zx]
  · rw [if_neg hb, if_neg (by omega)]
theorem gc_go_down {x w e1 e2 : Nat} {a b c : gc_G} (hx : x < gc_N a) (h1 : gc_go x a b e1) (hw : w < gc_N b) (hk : gc_K b w < gc_K b x) (bw : gc_B b w = 0) (h2 : gc_go w b c e2) (bw' : gc_B c w = 0) : gc_go x a c (e1 + e2) := by
  obtain ⟨i1, x1, u1, b1, n1⟩ := h1
  obtain ⟨i2, x2, u2, b2, n2⟩ := h2
  have hwx : w ≠ x := fun e => by rw [e] at hk; exact absurd hk (Nat.lt_irrefl _)
  refine ⟨i2, gc_ext_trans x1 x2, gc_un_trans (by rw [← (x1.2 x hx).1]; exact Nat.le_of_lt hk) x1 u1 u2, fun z hz zx => ?_, by omega⟩
  have h := x1.1
  by_cases zw : z = w
  · rw [zw, bw']
    exact bw.symm.trans (b1 w hw hwx)
  · rw [b2 z hz zw]
    by_cases hb : z < gc_N b
    · rw [if_pos hb, b1 z hb zx]
    · rw [if_neg hb, if_neg (by omega)]
theorem gc_rs_ext {g g' : gc_G} {y c : Nat} (he : gc_ext g g') (hy : y < gc_N g) (h : gc_rs g y c) : gc_rs g' y c :=
  ⟨Nat.lt_of_lt_of_le h.1 he.1, ((he.2 c h.1).2.2.1 h.2.1).1, h.2.2.elim Or.inl (fun q => Or.inr ⟨((he.2 y hy).2.2.2 q.1).1, ((he.2 y hy).2.2.2 q.1).2.trans q.2⟩)⟩
theorem gc_cell {g : gc_G} {x : Nat} (hi : gc_inv g) (hx : x < gc_N g) (h : gc_S g x = 9) : ∃ l, gc_ce g x l := by
  rcases hi.2.2.2 x hx with q | q | ⟨l, q⟩ | ⟨l, r, q⟩
  · exact absurd (h.symm.trans q.1) (by decide)
  · exact q
  · exact absurd (h.symm.trans q.1) (by decide)
  · exact absurd h (gc_op_n q.2.2.2.2.2.2).2.1
theorem gc_link {g : gc_G} {x : Nat} (hi : gc_inv g) (hx : x < gc_N g) (h : gc_S g x = 10) : ∃ l, gc_li g x l := by
  rcases hi.2.2.2 x hx with q | ⟨l, q⟩ | q | ⟨l, r, q⟩
  · exact absurd (h.symm.trans q.1) (by decide)
  · exact absurd (h.symm.trans q.1) (by decide)
  · exact q
  · exact absurd h (gc_op_n q.2.2.2.2.2.2).2.2.1
theorem gc_rs_dn {g : gc_G} {y c : Nat} (hi : gc_inv g) (hy : y < gc_N g) (h : gc_rs g y c) : gc_K g c ≤ gc_K g y ∧ gc_D g c = gc_D g y := by
  obtain ⟨hc, hs, e | ⟨h1, h2⟩⟩ := h
  · rw [e]
    exact ⟨Nat.le_refl _, rfl⟩
  · obtain ⟨l, _, hl, hL, hk, _, hd⟩ := gc_link hi hy h1
    have hN := hi.2.1
    have e : l = c := gc_nI (by omega) (by omega) (hL.symm.trans h2)
    rw [← e]
    exact ⟨hk, hd⟩
theorem gc_unres {g : gc_G} {y : Nat} (hi : gc_inv g) (hy : y < gc_N g) (h : ¬ ∃ c, gc_rs g y c) : ¬ gc_S g y = 9 ∧ ¬ gc_S g y = 10 := by
  refine ⟨fun q => h ⟨y, hy, q, Or.inl rfl⟩, fun q => ?_⟩
  obtain ⟨l, _, hl, hL, _, hs, _⟩ := gc_link hi hy q
  exact h ⟨l, hl, hs, Or.inr ⟨q, hL⟩⟩
theorem gc_rs_u {g : gc_G} {y c c' : Nat} (hi : gc_inv g) (h : gc_rs g y c) (h' : gc_rs g y c') : c = c' := by
  have hN := hi.2.1
  obtain ⟨hc, hs, e | ⟨h1, h2⟩⟩ := h
  · obtain ⟨hc', hs', e' | ⟨h1', h2'⟩⟩ := h'
    · rw [e, e']
    · rw [e] at hs
      exact absurd (hs.symm.trans h1') (by decide)
  · obtain ⟨hc', hs', e' | ⟨h1', h2'⟩⟩ := h'
    · rw [e'] at hs'
      exact absurd (hs'.symm.trans h1) (by decide)
    · exact gc_nI (by omega) (by omega) (h2.symm.trans h2')
theorem gc_nd_ext {g g' : gc_G} {y : Nat} (he : gc_ext g g') (hy : y < gc_N g) (s : gc_S g' y = gc_S g y) (v : gc_V g' y = gc_V g y) (t : gc_T g' y = gc_T g y) (l : gc_L g' y = gc_L g y) (r : gc_R g' y = gc_R g y) (h : gc_nd g y) : gc_nd g' y := by
  obtain ⟨hn, he⟩ := he
  obtain ⟨ek, ed, _, _⟩ := he y hy
  rcases h with ⟨h1, h2⟩ | ⟨q, h1, h2, h3, h4, h5, h6⟩ | ⟨q, h1, h2, h3, h4, h5, h6⟩ | ⟨q, p, h1, h2, h3, h4, h5, h6, h7⟩
  · exact Or.inl ⟨s.trans h1, fun i => by rw [ed, v, t]; exact h2 i⟩
  · obtain ⟨qk, qd, _, _⟩ := he q h3
    exact Or.inr (Or.inl ⟨q, s.trans h1, by rw [ed, v]; exact h2, Nat.lt_of_lt_of_le h3 hn, l.trans h4, by rw [qk, ek]; exact h5, fun i => by rw [qd, ed]; exact h6 i⟩)
  · obtain ⟨qk, qd, qs, _⟩ := he q h2
    exact Or.inr (Or.inr (Or.inl ⟨q, s.trans h1, Nat.lt_of_lt_of_le h2 hn, l.trans h3, by rw [qk, ek]; exact h4, (qs h5).1, by rw [qd, ed]; exact h6⟩))
  · obtain ⟨qk, qd, _, _⟩ := he q h1
    obtain ⟨pk, pd, _, _⟩ := he p h2
    exact Or.inr (Or.inr (Or.inr ⟨q, p, Nat.lt_of_lt_of_le h1 hn, Nat.lt_of_lt_of_le h2 hn, l.trans h3, r.trans h4, by rw [qk, ek]; exact h5, by rw [pk, ek]; exact h6, by rw [s, v, ed, qd, pd]; exact h7⟩))
/-- an operation node that was left alone -/
theorem gc_on_ext {g g' : gc_G} {x l r : Nat} (he : gc_ext g g') (hx : x < gc_N g) (s : gc_S g' x = gc_S g x) (v : gc_V g' x = gc_V g x) (hl : gc_L g' x = gc_L g x) (hr : gc_R g' x = gc_R g x) (h : gc_on g x l r) : gc_on g' x l r := by
  obtain ⟨hn, he⟩ := he
  obtain ⟨ek, ed, _, _⟩ := he x hx
  obtain ⟨h1, h2, h3, h4, h5, h6, h7⟩ := h
  obtain ⟨qk, qd, _, _⟩ := he l h1
  obtain ⟨pk, pd, _, _⟩ := he r h2
  exact ⟨Nat.lt_of_lt_of_le h1 hn, Nat.lt_of_lt_of_le h2 hn, hl.trans h3, hr.trans h4, by rw [qk, ek]; exact h5, by rw [pk, ek]; exact h6, by rw [s, v, ed, qd, pd]; exact h7⟩
abbrev gc_sB (g : gc_G) (x : Nat) (v : Int32) : gc_G := (gc_N g, gc_S g, gc_V g, gc_T g, gc_L g, gc_R g, upd (gc_B g) x v, gc_K g, gc_D g)
abbrev gc_sL (g : gc_G) (x : Nat) (v : Int32) : gc_G := (gc_N g, gc_S g, gc_V g, gc_T g, upd (gc_L g) x v, gc_R g, gc_B g, gc_K g, gc_D g)
abbrev gc_sR (g : gc_G) (x : Nat) (v : Int32) : gc_G := (gc_N g, gc_S g, gc_V g, gc_T g, gc_L g, upd (gc_R g) x v, gc_B g, gc_K g, gc_D g)
theorem gc_upd_same {f : Nat → Int32} {x : Nat} {v : Int32} (h : f x = v) : upd f x v = f := by
  funext j
  by_cases e : j = x
  · rw [e, pk_us, h]
  · rw [pk_un e]
theorem gc_go_B {g : gc_G} (x : Nat) (v : Int32) (h : gc_inv g) : gc_go x g (gc_sB g x v) 0 :=
  ⟨⟨h.1, h.2.1, h.2.2.1, h.2.2.2⟩, gc_ext_refl g, fun z _ _ => ⟨rfl, rfl, rfl, rfl, rfl⟩, fun z hz zx => by
    show upd (gc_B g) x v z = _
    rw [pk_un zx, if_pos hz], Nat.le_refl _⟩
theorem gc_go_L {g : gc_G} {x l r c : Nat} (h : gc_inv g) (hx : x < gc_N g) (ho : gc_on g x l r) (hr : gc_rs g l c) : gc_go x g (gc_sL g x (nI c)) 0 ∧ gc_on (gc_sL g x (nI c)) x c r := by
  obtain ⟨hk, hd⟩ := gc_rs_dn h ho.1 hr
  have hs := gc_op_n ho.2.2.2.2.2.2
  have hL : ∀ y, y ≠ x → gc_L (gc_sL g x (nI c)) y = gc_L g y := fun y hy => pk_un hy
  have he : gc_ext g (gc_sL g x (nI c)) := by
    refine ⟨Nat.le_refl _, fun y hy => ⟨rfl, rfl, fun q => ⟨q, hL y (fun e => ?_)⟩, fun q => ⟨q, hL y (fun e => ?_)⟩⟩⟩
    · rw [e] at q
      exact hs.2.1 q
    · rw [e] at q
      exact hs.2.2.1 q
  have hon : gc_on (gc_sL g x (nI c)) x c r := by
    refine ⟨hr.1, ho.2.1, pk_us, ho.2.2.2.1, Nat.lt_of_le_of_lt hk ho.2.2.2.2.1, ho.2.2.2.2.2.1, ?_⟩
    exact gc_op_c ho.2.2.2.2.2.2 rfl hd rfl
  refine ⟨⟨⟨h.1, h.2.1, h.2.2.1, fun y hy => ?_⟩, he, fun z hz hk => ⟨rfl, rfl, rfl, hL z (fun e => ?_), rfl⟩, fun z hz zx => (if_pos hz).symm, Nat.le_refl _⟩, hon⟩
  · by_cases e : y = x
    · rw [e]
      exact Or.inr (Or.inr (Or.inr ⟨c, r, hon⟩))
    · exact gc_nd_ext he hy rfl rfl rfl (hL y e) rfl (h.2.2.2 y hy)
  · rw [e] at hk
    exact absurd hk (Nat.lt_irrefl _)
theorem gc_go_R {g : gc_G} {x l r c : Nat} (h : gc_inv g) (hx : x < gc_N g) (ho : gc_on g x l r) (hr : gc_rs g r c) : gc_go x g (gc_sR g x (nI c)) 0 ∧ gc_on (gc_sR g x (nI c)) x l c := by
  obtain ⟨hk, hd⟩ := gc_rs_dn h ho.2.1 hr
  have hL : ∀ y, y ≠ x → gc_R (gc_sR g x (nI c)) y = gc_R g y := fun y hy => pk_un hy
  have he : gc_ext g (gc_sR g x (nI c)) := ⟨Nat.le_refl _, fun y hy => ⟨rfl, rfl, fun q => ⟨q, rfl⟩, fun q => ⟨q, rfl⟩⟩⟩
  have hon : gc_on (gc_sR g x (nI c)) x l c := by
    refine ⟨ho.1, hr.1, ho.2.2.1, pk_us, ho.2.2.2.2.1, Nat.lt_of_le_of_lt hk ho.2.2.2.2.2.1, ?_⟩
    exact gc_op_c ho.2.2.2.2.2.2 rfl rfl hd
  refine ⟨⟨⟨h.1, h.2.1, h.2.2.1, fun y hy => ?_⟩, he, fun z hz hk => ⟨rfl, rfl, rfl, rfl, hL z (fun e => ?_)⟩, fun z hz zx => (if_pos hz).symm, Nat.le_refl _⟩, hon⟩
  · by_cases e : y = x
    · rw [e]
      exact Or.inr (Or.inr (Or.inr ⟨l, c, hon⟩))
    · exact gc_nd_ext he hy rfl rfl rfl rfl (hL y e) (h.2.2.2 y hy)
  · rw [e] at hk
    exact absurd hk (Nat.lt_irrefl _)
/-- x has become a cell with a new node behind it -/
abbrev gc_fi (g : gc_G) (x : Nat) (s v st l r hd : Int32) : gc_G := (gc_N g + 1, upd (upd (gc_S g) (gc_N g) s) x 9, upd (upd (gc_V g) (gc_N g) v) x hd, upd (gc_T g) (gc_N g) st, upd (upd (gc_L g) (gc_N g) l) x (nI (gc_N g)), upd (gc_R g) (gc_N g) r, upd (upd (gc_B g) x 0) (gc_N g) 0, (fun j => if j = gc_N g then gc_K g x else gc_K g j), (fun j => if j = gc_N g then (fun i => gc_D g x (i + 1)) else gc_D g j))
theorem gc_go_fi {g : gc_G} {x : Nat} {s v st l r hd : Int32} (h : gc_inv g) (hN : gc_N g < 256) (hx : x < gc_N g) (hs : ¬ gc_S g x = 9) (hs' : ¬ gc_S g x = 10) (hh : gc_D g x 0 = hd)
    (hn : (s = 0 ∧ ∀ i, gc_D g x (i + 1) = v + nI i * st) ∨ (∃ l' r', l = nI l' ∧ r = nI r' ∧ l' < gc_N g ∧ r' < gc_N g ∧ gc_K g l' < gc_K g x ∧ gc_K g r' < gc_K g x ∧ gc_op s v (fun i => gc_D g x (i + 1)) (gc_D g l') (gc_D g r'))) :
    gc_go x g (gc_fi g x s v st l r hd) 1 ∧ gc_B (gc_fi g x s v st l r hd) x = 0 ∧ gc_rs (gc_fi g x s v st l r hd) x x := by
  have xN : x ≠ gc_N g := Nat.ne_of_lt hx
  have fS : ∀ y, y ≠ x → y ≠ gc_N g → gc_S (gc_fi g x s v st l r hd) y = gc_S g y := fun y h1 h2 => (pk_un h1).trans (pk_un h2)
  have fV : ∀ y, y ≠ x → y ≠ gc_N g → gc_V (gc_fi g x s v st l r hd) y = gc_V g y := fun y h1 h2 => (pk_un h1).trans (pk_un h2)
  have fT : ∀ y, y ≠ gc_N g → gc_T (gc_fi g x s v st l r hd) y = gc_T g y := fun y h2 => pk_un h2
  have fL : ∀ y, y ≠ x → y ≠ gc_N g → gc_L (gc_fi g x s v st l r hd) y = gc_L g y := fun y h1 h2 => (pk_un h1).trans (pk_un h2)
  have fR : ∀ y, y ≠ gc_N g → gc_R (gc_fi g x s v st l r hd) y = gc_R g y := fun y h2 => pk_un h2
  have fK : ∀ y, y ≠ gc_N g → gc_K (gc_fi g x s v st l r hd) y = gc_K g y := fun y h2 => if_neg h2
  have fD : ∀ y, y ≠ gc_N g → gc_D (gc_fi g x s v st l r hd) y = gc_D g y := fun y h2 => if_neg h2
  have nS : gc_S (gc_fi g x s v st l r hd) (gc_N g) = s := (pk_un (Ne.symm xN)).trans pk_us
  have nV : gc_V (gc_fi g x s v st l r hd) (gc_N g) = v := (pk_un (Ne.symm xN)).trans pk_us
  have nT : gc_T (gc_fi g x s v st l r hd) (gc_N g) = st := pk_us
  have nL : gc_L (gc_fi g x s v st l r hd) (gc_N g) = l := (pk_un (Ne.symm xN)).trans pk_us
  have nR : gc_R (gc_fi g x s v st l r hd) (gc_N g) = r := pk_us
  have nK : gc_K (gc_fi g x s v st l r hd) (gc_N g) = gc_K g x := if_pos rfl
  have nD : gc_D (gc_fi g x s v st l r hd) (gc_N g) = fun i => gc_D g x (i + 1) := if_pos rfl
  have xS : gc_S (gc_fi g x s v st l r hd) x = 9 := pk_us
  have xV : gc_V (gc_fi g x s v st l r hd) x = hd := pk_us
  have xL : gc_L (gc_fi g x s v st l r hd) x = nI (gc_N g) := pk_us
  have he : gc_ext g (gc_fi g x s v st l r hd) := by
    refine ⟨Nat.le_add_right _ 1, fun y hy => ?_⟩
    have yN : y ≠ gc_N g := Nat.ne_of_lt hy
    refine ⟨fK y yN, fD y yN, fun q => ?_, fun q => ?_⟩
    · have yx : y ≠ x := fun e => hs (by rw [← e]; exact q)
      exact ⟨(fS y yx yN).trans q, fL y yx yN⟩
    · have yx : y ≠ x := fun e => hs' (by rw [← e]; exact q)
      exact ⟨(fS y yx yN).trans q, fL y yx yN⟩
  refine ⟨⟨⟨?_, ?_, ?_, fun y hy => ?_⟩, he, fun z hz hk => ?_, fun z hz zx => ?_, Nat.le_refl _⟩, ?_, ⟨Nat.lt_succ_of_lt hx, xS, Or.inl rfl⟩⟩
  · exact Nat.le_succ_of_le h.1
  · exact hN
  · rw [fK 0 (fun e => by have := h.1; omega)]
    exact h.2.2.1
  · by_cases yN : y = gc_N g
    · rw [yN]
      rcases hn with ⟨n1, n2⟩ | ⟨l', r', n1, n2, n3, n4, n5, n6, n7⟩
      · exact Or.inl ⟨nS.trans n1, fun i => by rw [nD, nV, nT]; exact n2 i⟩
      · refine Or.inr (Or.inr (Or.inr ⟨l', r', Nat.lt_succ_of_lt n3, Nat.lt_succ_of_lt n4, nL.trans n1, nR.trans n2, ?_, ?_, ?_⟩))
        · rw [fK l' (Nat.ne_of_lt n3), nK]
          exact n5
        · rw [fK r' (Nat.ne_of_lt n4), nK]
          exact n6
        · rw [nS, nV, nD, fD l' (Nat.ne_of_lt n3), fD r' (Nat.ne_of_lt n4)]
          exact n7
    · by_cases yx : y = x
      · rw [yx]
        refine Or.inr (Or.inl ⟨gc_N g, xS, ?_, Nat.lt_succ_self _, xL, ?_, fun i => ?_⟩)
        · rw [fD x xN, xV]
          exact hh
        · rw [nK, fK x xN]
          exact Nat.le_refl _
        · rw [nD, fD x xN]
      · have hy' : y < gc_N g + 1 := hy
        have hy'' : y < gc_N g := by omega
        exact gc_nd_ext he hy'' (fS y yx yN) (fV y yx yN) (fT y yN) (fL y yx yN) (fR y yN) (h.2.2.2 y hy'')
  · have zN : z ≠ gc_N g := Nat.ne_of_lt hz
    have zx : z ≠ x := fun e => by rw [e] at hk; exact absurd hk (Nat.lt_irrefl _)
    exact ⟨fS z zx zN, fV z zx zN, fT z zN, fL z zx zN, fR z zN⟩
  · show upd (upd (gc_B g) x 0) (gc_N g) 0 z = _
    by_cases zN : z = gc_N g
    · rw [zN, pk_us, if_neg (Nat.lt_irrefl _)]
    · have hz' : z < gc_N g + 1 := hz
      rw [pk_un zN, pk_un zx, if_pos (show z < gc_N g by omega)]
  · show upd (upd (gc_B g) x 0) (gc_N g) 0 x = 0
    rw [pk_un xN, pk_us]
/-- a tail x has become a link to the cell c -/
abbrev gc_ft (g : gc_G) (x c : Nat) : gc_G := (gc_N g, upd (gc_S g) x 10, gc_V g, gc_T g, upd (gc_L g) x (nI c), gc_R g, upd (gc_B g) x 0, gc_K g, gc_D g)
theorem gc_go_ft {g : gc_G} {x c : Nat} (h : gc_inv g) (hx : x < gc_N g) (hs : ¬ gc_S g x = 9) (hs' : ¬ gc_S g x = 10) (hc : c < gc_N g) (sc : gc_S g c = 9) (hk : gc_K g c ≤ gc_K g x) (hd : gc_D g c = gc_D g x) :
    gc_go x g (gc_ft g x c) 0 ∧ gc_B (gc_ft g x c) x = 0 ∧ gc_rs (gc_ft g x c) x c := by
  have cx : c ≠ x := fun e => hs (by rw [← e]; exact sc)
  have fS : ∀ y, y ≠ x → gc_S (gc_ft g x c) y = gc_S g y := fun y h1 => pk_un h1
  have fL : ∀ y, y ≠ x → gc_L (gc_ft g x c) y = gc_L g y := fun y h1 => pk_un h1
  have xS : gc_S (gc_ft g x c) x = 10 := pk_us
  have xL : gc_L (gc_ft g x c) x = nI c := pk_us
  have he : gc_ext g (gc_ft g x c) := by
    refine ⟨Nat.le_refl _, fun y hy => ⟨rfl, rfl, fun q => ?_, fun q => ?_⟩⟩
    · have yx : y ≠ x := fun e => hs (by rw [← e]; exact q)
      exact ⟨(fS y yx).trans q, fL y yx⟩
    · have yx : y ≠ x := fun e => hs' (by rw [← e]; exact q)
      exact ⟨(fS y yx).trans q, fL y yx⟩
  refine ⟨⟨⟨h.1, h.2.1, h.2.2.1, fun y hy => ?_⟩, he, fun z hz hk => ?_, fun z hz zx => ?_, Nat.le_refl _⟩, pk_us, ⟨hc, (fS c cx).trans sc, Or.inr ⟨xS, xL⟩⟩⟩
  · by_cases yx : y = x
    · rw [yx]
      exact Or.inr (Or.inr (Or.inl ⟨c, xS, hc, xL, hk, (fS c cx).trans sc, hd⟩))
    · exact gc_nd_ext he hy (fS y yx) rfl rfl (fL y yx) rfl (h.2.2.2 y hy)
  · have zx : z ≠ x := fun e => by rw [e] at hk; exact absurd hk (Nat.lt_irrefl _)
    exact ⟨fS z zx, rfl, rfl, fL z zx, rfl⟩
  · show upd (gc_B g) x 0 z = _
    rw [pk_un zx, if_pos hz]
end
section
/-- what the heap's work leaves alone: built, definedAs, definedA, definedB, movedTo, root -/
abbrev gc_F : Type := Int32 × (Nat → Int32) × (Nat → Int32) × (Nat → Int32) × (Nat → Int32) × (Nat → Int32)
abbrev gc_st (F : gc_F) (g : gc_G) (t : Nat) (k : Nat → Int32) : St2 := (F.1, 0, nI (gc_N g), nI t, F.2.1, F.2.2.1, F.2.2.2.1, gc_S g, gc_V g, gc_T g, gc_L g, gc_R g, gc_B g, F.2.2.2.2.1, F.2.2.2.2.2, k)
section
variable {b ba tp sp : Int32} {a1 a2 a3 a4 a5 a6 a7 a8 a9 a10 a11 a12 : Nat → Int32}
theorem gc_fw {Q : Int32 → Prop} {y c : Nat} (hy : y < 512) (hc : c < 512) (h : ¬ a4 c = 10) (h2 : c = y ∨ (a4 y = 10 ∧ a7 y = nI c)) (q : Q (nI c)) : wpX_follow Q (b, ba, tp, sp, a1, a2, a3, a4, a5, a6, a7, a8, a9, a10, a11, a12) (nI y) := by
  have ey : (nI y).toNatClampNeg = y := nI_clamp (by omega)
  have ec : (nI c).toNatClampNeg = c := nI_clamp (by omega)
  rcases h2 with e | ⟨h3, h4⟩
  · rw [← e]
    exact Exists.intro (0 + 1) (And.intro (pk_in c 512 hc) (br_f (by rw [ec]; exact h) q))
  · exact Exists.intro (0 + 1 + 1) (And.intro (pk_in y 512 hy) (br_t (by rw [ey]; exact h3) ⟨pk_in y 512 hy, nm_r (e' := nI c) (by rw [ey]; exact h4) (And.intro (pk_in c 512 hc) (br_f (by rw [ec]; exact h) q))⟩))
theorem gc_al {Q : Int32 → St2 → Prop} {n : Nat} {p0 p1 p2 p3 p4 s l r : Int32} (hn : n < 512) (hs : p0.toInt8.toInt32 = s) (hl : p3.toInt16.toInt32 = l) (hr : p4.toInt16.toInt32 = r)
    (q : Q (nI n) (b, ba, nI (n + 1), sp, a1, a2, a3, upd a4 n s, upd a5 n p1, upd a6 n p2, upd a7 n l, upd a8 n r, upd a9 n 0, a10, a11, a12)) :
    wpX_allocate Q (b, ba, nI n, sp, a1, a2, a3, a4, a5, a6, a7, a8, a9, a10, a11, a12) p0 p1 p2 p3 p4 := by
  subst hs hl hr
  unfold wpX_allocate
  dsimp only
  rw [nI_clamp (show n < 2 ^ 31 by omega)]
  exact nm_r (nI_1 n) ⟨pk_in n 512 hn, nm_e ⟨pk_in n 512 hn, nm_e ⟨pk_in n 512 hn, nm_e ⟨pk_in n 512 hn, nm_e ⟨pk_in n 512 hn, nm_e ⟨pk_in n 512 hn, nm_e q⟩⟩⟩⟩⟩⟩
theorem gc_wb0 {Q : Int32 → St2 → Prop} {x : Nat} (hx : x < 512) (h0 : a4 x = 0) (q : Q (-1) (b, ba, tp, sp, a1, a2, a3, a4, a5, a6, a7, a8, a9, a10, a11, a12)) :
    wpX_wantedBy Q (b, ba, tp, sp, a1, a2, a3, a4, a5, a6, a7, a8, a9, a10, a11, a12) (nI x) := by
  unfold wpX_wantedBy
  dsimp only
  rw [nI_clamp (show x < 2 ^ 31 by omega)]
  exact ⟨pk_in x 512 hx, nm_r h0 (br_t rfl q)⟩
theorem gc_wb {Q : Int32 → St2 → Prop} {x l c : Nat} (hx : x < 512) (h0 : ¬ a4 x = 0) (h8 : ¬ a4 x = 8) (hl : a7 x = nI l) (hl5 : l < 512) (hc : c < 512) (hcn : ¬ a4 c = 10) (hlc : c = l ∨ (a4 l = 10 ∧ a7 l = nI c))
    (q0 : ¬ a4 c = 9 → Q (nI c) (b, ba, tp, sp, a1, a2, a3, a4, a5, a6, upd a7 x (nI c), a8, a9, a10, a11, a12))
    (q1 : a4 c = 9 → ¬ a4 x = 2 → ¬ a4 x = 3 → ¬ a4 x = 4 → Q (-1) (b, ba, tp, sp, a1, a2, a3, a4, a5, a6, upd a7 x (nI c), a8, a9, a10, a11, a12))
    (q2 : a4 c = 9 → a4 x = 2 → ∃ m d, m < 512 ∧ d < 512 ∧ upd a7 x (nI c) c = nI m ∧ ¬ a4 d = 10 ∧ (d = m ∨ (a4 m = 10 ∧ upd a7 x (nI c) m = nI d)) ∧
      (a4 d = 9 → Q (-1) (b, ba, tp, sp, a1, a2, a3, a4, a5, a6, upd a7 x (nI c), a8, a9, a10, a11, a12)) ∧ (¬ a4 d = 9 → Q (nI d) (b, ba, tp, sp, a1, a2, a3, a4, a5, a6, upd a7 x (nI c), a8, a9, a10, a11, a12)))
    (q3 : a4 c = 9 → (a4 x = 3 ∨ a4 x = 4) → ∃ m d, m < 512 ∧ d < 512 ∧ a8 x = nI m ∧ ¬ a4 d = 10 ∧ (d = m ∨ (a4 m = 10 ∧ upd a7 x (nI c) m = nI d)) ∧
      (a4 d = 9 → Q (-1) (b, ba, tp, sp, a1, a2, a3, a4, a5, a6, upd a7 x (nI c), upd a8 x (nI d), a9, a10, a11, a12)) ∧ (¬ a4 d = 9 → Q (nI d) (b, ba, tp, sp, a1, a2, a3, a4, a5, a6, upd a7 x (nI c), upd a8 x (nI d), a9, a10, a11, a12))) :
    wpX_wantedBy Q (b, ba, tp, sp, a1, a2, a3, a4, a5, a6, a7, a8, a9, a10, a11, a12) (nI x) := by
  have ex : (nI x).toNatClampNeg = x := nI_clamp (by omega)
  have ec : (nI c).toNatClampNeg = c := nI_clamp (by omega)
  have e99 : a4 c = 9 → (a4 x = 3 ∨ a4 x = 4) → wX_wantedBy_99 Q (nI x) b ba tp sp a1 a2 a3 a4 a5 a6 (upd a7 x (nI c)) a8 a9 a10 a11 a12 := by
    intro z1 z2
    obtain ⟨m, d, hm, hd, e, dn, md, t, f⟩ := q3 z1 z2
    have ed : (nI d).toNatClampNeg = d := nI_clamp (by omega)
    unfold wX_wantedBy_99
    rw [ex, e]
    refine ⟨pk_in x 512 hx, gc_fw hm hd dn md ⟨pk_in x 512 hx, nm_r (e' := upd a8 x (nI d)) (by rw [gc_s16 d hd]) ⟨pk_in d 512 hd, ?_⟩⟩⟩
    rw [ed]
    exact ⟨t, f⟩
  unfold wpX_wantedBy
  dsimp only
  rw [ex]
  refine ⟨pk_in x 512 hx, nm_e (br_f h0 ⟨pk_in x 512 hx, ?_⟩)⟩
  rw [hl]
  refine gc_fw hl5 hc hcn hlc ⟨pk_in x 512 hx, nm_r (e' := upd a7 x (nI c)) (by rw [gc_s16 c hc]) ⟨pk_in c 512 hc, ?_⟩⟩
  rw [ec]
  refine br_c (fun h9 => br_c (fun h2 => ⟨pk_in c 512 hc, ?_⟩) (fun h2 => br_c (fun h3 => e99 h9 (Or.inl h3)) (fun h3 => br_c (fun h4 => e99 h9 (Or.inr h4)) (fun h4 => br_f h8 (q1 h9 h2 h3 h4))))) q0
  obtain ⟨m, d, hm, hd, e, dn, md, t, f⟩ := q2 h9 h2
  have ed : (nI d).toNatClampNeg = d := nI_clamp (by omega)
  rw [e]
  refine gc_fw hm hd dn md ⟨pk_in d 512 hd, ?_⟩
  rw [ed]
  exact ⟨t, f⟩
theorem gc_269 {post : St2 → Prop} {x n : Nat} {hd : Int32} (hx : x < 512) (hn : n < 512)
    (q : post (b, ba, tp, sp, a1, a2, a3, upd a4 x 9, upd a5 x hd, a6, upd a7 x (nI n), a8, a9, a10, a11, a12)) : wX_finish_269 post (nI x) hd (nI n) b ba tp sp a1 a2 a3 a4 a5 a6 a7 a8 a9 a10 a11 a12 := by
  unfold wX_finish_269
  rw [nI_clamp (show x < 2 ^ 31 by omega), gc_s16 n hn]
  exact ⟨pk_in x 512 hx, nm_e ⟨pk_in x 512 hx, nm_e ⟨pk_in x 512 hx, nm_e q⟩⟩⟩
theorem gc_f0 {post : St2 → Prop} {x n : Nat} (hx : x < 512) (hn : n < 512) (h : a4 x = 0)
    (q : post (b, ba, nI (n + 1), sp, a1, a2, a3, upd (upd a4 n 0) x 9, upd (upd a5 n (a5 x + a6 x)) x (a5 x), upd a6 n (a6 x), upd (upd a7 n 0) x (nI n), upd a8 n 0, upd (upd a9 x 0) n 0, a10, a11, a12)) :
    wpX_finish post (b, ba, nI n, sp, a1, a2, a3, a4, a5, a6, a7, a8, a9, a10, a11, a12) (nI x) := by
  have ix := pk_in x 512 hx
  unfold wpX_finish
  dsimp only
  rw [nI_clamp (show x < 2 ^ 31 by omega)]
  exact ⟨ix, nm_r h ⟨ix, nm_e (br_f (by decide) ⟨ix, nm_e ⟨ix, nm_e (br_t rfl ⟨ix, ix, ix, gc_al (s := 0) (l := 0) (r := 0) hn (by decide) (by decide) (by decide) (gc_269 hx hn q)⟩)⟩⟩)⟩⟩
theorem gc_f5 {post : St2 → Prop} {x n l l1 : Nat} (hx : x < 512) (hn : n < 512) (hl : l < 512) (hl1 : l1 < 512) (h : a4 x = 5) (el : a7 x = nI l) (e1 : a7 l = nI l1)
    (q : post (b, ba, nI (n + 1), sp, a1, a2, a3, upd (upd a4 n 5) x 9, upd (upd a5 n (a5 x)) x (a5 x * a5 l), upd a6 n 0, upd (upd a7 n (nI l1)) x (nI n), upd a8 n 0, upd (upd a9 x 0) n 0, a10, a11, a12)) :
    wpX_finish post (b, ba, nI n, sp, a1, a2, a3, a4, a5, a6, a7, a8, a9, a10, a11, a12) (nI x) := by
  have ix := pk_in x 512 hx
  have il := pk_in l 512 hl
  unfold wpX_finish
  dsimp only
  rw [nI_clamp (show x < 2 ^ 31 by omega)]
  refine ⟨ix, nm_r h ⟨ix, nm_e (br_f (by decide) ⟨ix, nm_e ⟨ix, nm_r el (br_f (by decide) (br_t rfl ⟨ix, il, ?_⟩))⟩⟩)⟩⟩
  rw [nI_clamp (show l < 2 ^ 31 by omega), e1]
  exact nm_e ⟨ix, il, gc_al (s := 5) (l := nI l1) (r := 0) hn (by decide) (gc_s16 l1 hl1) (by decide) (gc_269 hx hn q)⟩
theorem gc_f6 {post : St2 → Prop} {x n l l1 : Nat} (hx : x < 512) (hn : n < 512) (hl : l < 512) (hl1 : l1 < 512) (h : a4 x = 6) (el : a7 x = nI l) (e1 : a7 l = nI l1)
    (q : post (b, ba, nI (n + 1), sp, a1, a2, a3, upd (upd a4 n 6) x 9, upd (upd a5 n (a5 x + a5 l)) x (a5 x + a5 l), upd a6 n 0, upd (upd a7 n (nI l1)) x (nI n), upd a8 n 0, upd (upd a9 x 0) n 0, a10, a11, a12)) :
    wpX_finish post (b, ba, nI n, sp, a1, a2, a3, a4, a5, a6, a7, a8, a9, a10, a11, a12) (nI x) := by
  have ix := pk_in x 512 hx
  have il := pk_in l 512 hl
  unfold wpX_finish
  dsimp only
  rw [nI_clamp (show x < 2 ^ 31 by omega)]
  refine ⟨ix, nm_r h ⟨ix, nm_e (br_f (by decide) ⟨ix, nm_e ⟨ix, nm_r el (br_f (by decide) (br_f (by decide) (br_t rfl ⟨ix, il, ?_⟩)))⟩⟩)⟩⟩
  rw [nI_clamp (show l < 2 ^ 31 by omega), e1]
  exact nm_e ⟨il, gc_al (s := 6) (l := nI l1) (r := 0) hn (by decide) (gc_s16 l1 hl1) (by decide) (gc_269 hx hn q)⟩
theorem gc_f7 {post : St2 → Prop} {x n l l1 r : Nat} (hx : x < 512) (hn : n < 512) (hl : l < 512) (hl1 : l1 < 512) (hr : r < 512) (h : a4 x = 7) (el : a7 x = nI l) (e1 : a7 l = nI l1) (er : a8 x = nI r)
    (q : post (b, ba, nI (n + 1), sp, a1, a2, a3, upd (upd a4 n 7) x 9, upd (upd a5 n 0) x (a5 l), upd a6 n 0, upd (upd a7 n (nI r)) x (nI n), upd a8 n (nI l1), upd (upd a9 x 0) n 0, a10, a11, a12)) :
    wpX_finish post (b, ba, nI n, sp, a1, a2, a3, a4, a5, a6, a7, a8, a9, a10, a11, a12) (nI x) := by
  have ix := pk_in x 512 hx
  have il := pk_in l 512 hl
  unfold wpX_finish
  dsimp only
  rw [nI_clamp (show x < 2 ^ 31 by omega)]
  refine ⟨ix, nm_r h ⟨ix, nm_e (br_f (by decide) ⟨ix, nm_e ⟨ix, nm_r el (br_f (by decide) (br_f (by decide) (br_f (by decide) (br_t rfl ⟨il, ?_⟩))))⟩⟩)⟩⟩
  rw [nI_clamp (show l < 2 ^ 31 by omega), e1, er]
  exact nm_e ⟨ix, il, gc_al (s := 7) (l := nI r) (r := nI l1) hn (by decide) (gc_s16 r hr) (gc_s16 l1 hl1) (gc_269 hx hn q)⟩
theorem gc_r2 {post : Int32 → St2 → Prop} {s : Int32} {n l r l1 r1 : Nat} (hs : ¬ s = 8) (es : s.toInt8.toInt32 = s) (hn : n < 512) (hl : l < 512) (hl1 : l1 < 512) (hr : r < 512) (hr1 : r1 < 512) (el : a7 l = nI l1) (er : a7 r = nI r1)
    (q : post (nI n) (b, ba, nI (n + 1), sp, a1, a2, a3, upd a4 n s, upd a5 n 0, upd a6 n 0, upd a7 n (nI l1), upd a8 n (nI r1), upd a9 n 0, a10, a11, a12)) :
    wpX_restOfTwo post (b, ba, nI n, sp, a1, a2, a3, a4, a5, a6, a7, a8, a9, a10, a11, a12) s (nI l) (nI r) := by
  have h88 : wX_restOfTwo_88 post s (a7 (nI l).toNatClampNeg) (a7 (nI r).toNatClampNeg) b ba (nI n) sp a1 a2 a3 a4 a5 a6 a7 a8 a9 a10 a11 a12 := by
    unfold wX_restOfTwo_88
    rw [nI_clamp (show l < 2 ^ 31 by omega), nI_clamp (show r < 2 ^ 31 by omega), el, er]
    exact gc_al hn es (gc_s16 l1 hl1) (gc_s16 r1 hr1) q
  have h54 : wX_restOfTwo_54 post s (nI l) (nI r) 1 1 b ba (nI n) sp a1 a2 a3 a4 a5 a6 a7 a8 a9 a10 a11 a12 := by
    unfold wX_restOfTwo_54
    refine br_f (by decide) ⟨pk_in l 512 hl, ?_⟩
    unfold wX_restOfTwo_71
    exact br_f (by decide) ⟨pk_in r 512 hr, h88⟩
  unfold wpX_restOfTwo
  dsimp only
  refine br_f hs ?_
  unfold wX_restOfTwo_21 wX_restOfTwo_26
  refine br_f hs ?_
  unfold wX_restOfTwo_49
  exact h54
theorem gc_f34 {post : St2 → Prop} {x n l l1 r r1 : Nat} {hd : Int32} (hx : x < 512) (hn : n < 512) (hl : l < 512) (hl1 : l1 < 512) (hr : r < 512) (hr1 : r1 < 512) (h : (a4 x = 3 ∧ hd = a5 l + a5 r) ∨ (a4 x = 4 ∧ hd = a5 l * a5 r)) (el : a7 x = nI l) (e1 : a7 l = nI l1) (er : a8 x = nI r) (e2 : a7 r = nI r1)
    (q : post (b, ba, nI (n + 1), sp, a1, a2, a3, upd (upd a4 n (a4 x)) x 9, upd (upd a5 n 0) x hd, upd a6 n 0, upd (upd a7 n (nI l1)) x (nI n), upd a8 n (nI r1), upd (upd a9 x 0) n 0, a10, a11, a12)) :
    wpX_finish post (b, ba, nI n, sp, a1, a2, a3, a4, a5, a6, a7, a8, a9, a10, a11, a12) (nI x) := by
  have ix := pk_in x 512 hx
  have il := pk_in l 512 hl
  have ir := pk_in r 512 hr
  unfold wpX_finish
  dsimp only
  rw [nI_clamp (show x < 2 ^ 31 by omega)]
  rcases h with ⟨h, hh⟩ | ⟨h, hh⟩
  · rw [h] at q
    refine ⟨ix, nm_r h ⟨ix, nm_e (br_f (by decide) ⟨ix, nm_e ⟨ix, nm_r el (br_f (by decide) (br_f (by decide) (br_f (by decide) (br_f (by decide) ⟨ix, nm_r er ⟨il, ir, ?_⟩⟩))))⟩⟩)⟩⟩
    rw [nI_clamp (show l < 2 ^ 31 by omega), nI_clamp (show r < 2 ^ 31 by omega)]
    unfold wpX_headOfTwo
    dsimp only
    rw [← hh]
    exact br_t rfl (gc_r2 (by decide) (by decide) hn hl hl1 hr hr1 e1 e2 (gc_269 hx hn q))
  · rw [h] at q
    refine ⟨ix, nm_r h ⟨ix, nm_e (br_f (by decide) ⟨ix, nm_e ⟨ix, nm_r el (br_f (by decide) (br_f (by decide) (br_f (by decide) (br_f (by decide) ⟨ix, nm_r er ⟨il, ir, ?_⟩⟩))))⟩⟩)⟩⟩
    rw [nI_clamp (show l < 2 ^ 31 by omega), nI_clamp (show r < 2 ^ 31 by omega)]
    unfold wpX_headOfTwo
    dsimp only
    rw [← hh]
    exact br_f (by decide) (br_t rfl (gc_r2 (by decide) (by decide) hn hl hl1 hr hr1 e1 e2 (gc_269 hx hn q)))
theorem gc_f2 {post : St2 → Prop} {x c m d : Nat} (hx : x < 512) (hc : c < 512) (hm : m < 512) (hd : d < 512) (h : a4 x = 2) (el : a7 x = nI c) (e1 : a7 c = nI m) (dn : ¬ upd a4 x 10 d = 10) (md : d = m ∨ (upd a4 x 10 m = 10 ∧ a7 m = nI d))
    (q : post (b, ba, tp, sp, a1, a2, a3, upd a4 x 10, a5, a6, upd a7 x (nI d), a8, upd a9 x 0, a10, a11, a12)) :
    wpX_finish post (b, ba, tp, sp, a1, a2, a3, a4, a5, a6, a7, a8, a9, a10, a11, a12) (nI x) := by
  have ix := pk_in x 512 hx
  unfold wpX_finish
  dsimp only
  rw [nI_clamp (show x < 2 ^ 31 by omega)]
  refine ⟨ix, nm_r h ⟨ix, nm_e (br_t rfl ⟨ix, nm_e ⟨ix, ?_⟩⟩)⟩⟩
  rw [el, nI_clamp (show c < 2 ^ 31 by omega), e1]
  exact ⟨pk_in c 512 hc, gc_fw hm hd dn md ⟨ix, nm_r (by rw [gc_s16 d hd]) q⟩⟩
end
end
section
abbrev gc_LW (post : Int32 → St2 → Prop) (F : gc_F) (x2 : Int32) (g : gc_G) (t : Nat) (k : Nat → Int32) : Prop := ∃ fu : Nat, wX_force_12 post fu x2 F.1 0 (nI (gc_N g)) (nI t) F.2.1 F.2.2.1 F.2.2.2.1 (gc_S g) (gc_V g) (gc_T g) (gc_L g) (gc_R g) (gc_B g) F.2.2.2.2.1 F.2.2.2.2.2 k
section
variable {post : Int32 → St2 → Prop} {F : gc_F} {x2 : Int32} {g g1 g2 : gc_G} {t : Nat} {k : Nat → Int32}
theorem gc_stp (hN : gc_N g < 256) (ht : t < 16) (h : ∃ fu : Nat, wX_force_38 post (wX_force_12 post fu) x2 F.1 0 (nI (gc_N g)) (nI (t + 1)) F.2.1 F.2.2.1 F.2.2.2.1 (gc_S g) (gc_V g) (gc_T g) (gc_L g) (gc_R g) (gc_B g) F.2.2.2.2.1 F.2.2.2.2.2 k) : gc_LW post F x2 g (t + 1) k := by
  obtain ⟨fu, h⟩ := h
  have e : ¬ nI (gc_N g) = 0 + 256 := by
    rw [show (0 : Int32) + 256 = nI 256 from by decide, nI_eq (by omega) (by omega)]
    omega
  exact ⟨fu + 1, br_f (nI_nle (by omega) (by omega)) (br_f e h)⟩
theorem gc_pop {x y : Nat} (hN : gc_N g < 256) (ht : t < 16) (hy : k t = nI y) (hyb : y < 512) (hx : x < 512) (hs : gc_S g x = 9) (hf : x = y ∨ (gc_S g y = 10 ∧ gc_L g y = nI x)) (h : gc_LW post F (nI x) g t (upd k t (nI x))) : gc_LW post F x2 g (t + 1) k := by
  obtain ⟨fu, h⟩ := h
  refine gc_stp hN ht ⟨fu, ?_⟩
  unfold wX_force_38
  rw [nI_pred t, nI_clamp (show t < 2 ^ 31 by omega), hy]
  exact ⟨pk_in t 16 ht, gc_fw hyb hx (fun e => absurd (hs.symm.trans e) (by decide)) hf ⟨pk_in t 16 ht, nm_r (e' := upd k t (nI x)) (by rw [gc_s16 x hx]) ⟨pk_in x 512 hx, br_t (by rw [nI_clamp (show x < 2 ^ 31 by omega)]; exact hs) (nm_e h)⟩⟩⟩
theorem gc_push {x w : Nat} (hN : gc_N g < 256) (ht : t + 1 < 16) (hy : k t = nI x) (hx : x < 512) (hs9 : ¬ gc_S g x = 9) (hs10 : ¬ gc_S g x = 10) (hw : w < 512)
    (hq : ∀ Q : Int32 → St2 → Prop, Q (nI w) (gc_st F g1 (t + 1) k) → wpX_wantedBy Q (gc_st F (gc_sB g x 1) (t + 1) k) (nI x)) (hb : gc_B g1 w = 0)
    (h : gc_LW post F x2 g1 (t + 2) (upd k (t + 1) (nI w))) : gc_LW post F x2 g (t + 1) k := by
  obtain ⟨fu, h⟩ := h
  refine gc_stp hN (by omega) ⟨fu, ?_⟩
  unfold wX_force_38
  rw [nI_pred t, nI_clamp (show t < 2 ^ 31 by omega), hy]
  refine ⟨pk_in t 16 (by omega), gc_fw hx hx hs10 (Or.inl rfl) ⟨pk_in t 16 (by omega), nm_r (e' := k) (by rw [gc_s16 x hx, gc_upd_same hy]) ⟨pk_in x 512 hx, ?_⟩⟩⟩
  rw [nI_clamp (show x < 2 ^ 31 by omega)]
  refine br_f hs9 ⟨pk_in x 512 hx, nm_e (hq _ (br_t (nI_pos' (by omega)) ⟨pk_in w 512 hw, ?_⟩))⟩
  rw [nI_clamp (show w < 2 ^ 31 by omega)]
  refine br_t hb ?_
  exact And.intro (pk_in (t + 1) 16 ht) (nm_r (e' := upd k (t + 1) (nI w)) (by rw [nI_clamp (show t + 1 < 2 ^ 31 by omega), gc_s16 w hw]) (nm_r (nI_1 (t + 1)) h))
theorem gc_done {x : Nat} (hN : gc_N g < 256) (ht : t < 16) (hy : k t = nI x) (hx : x < 512) (hs9 : ¬ gc_S g x = 9) (hs10 : ¬ gc_S g x = 10)
    (hq : ∀ Q : Int32 → St2 → Prop, Q (-1) (gc_st F g1 (t + 1) k) → wpX_wantedBy Q (gc_st F (gc_sB g x 1) (t + 1) k) (nI x))
    (hfn : ∀ Q : St2 → Prop, Q (gc_st F g2 (t + 1) k) → wpX_finish Q (gc_st F g1 (t + 1) k) (nI x))
    (h : gc_LW post F x2 g2 (t + 1) k) : gc_LW post F x2 g (t + 1) k := by
  obtain ⟨fu, h⟩ := h
  refine gc_stp hN ht ⟨fu, ?_⟩
  unfold wX_force_38
  rw [nI_pred t, nI_clamp (show t < 2 ^ 31 by omega), hy]
  refine ⟨pk_in t 16 ht, gc_fw hx hx hs10 (Or.inl rfl) ⟨pk_in t 16 ht, nm_r (e' := k) (by rw [gc_s16 x hx, gc_upd_same hy]) ⟨pk_in x 512 hx, ?_⟩⟩⟩
  rw [nI_clamp (show x < 2 ^ 31 by omega)]
  exact br_f hs9 ⟨pk_in x 512 hx, nm_e (hq _ (br_f (by decide) (hfn _ h)))⟩
theorem gc_tail {x c : Nat} (hN : gc_N g + 1 < 256) (ht : t < 16) (hy : k t = nI x) (hx : x < gc_N g) (hs9 : ¬ gc_S g x = 9) (hs10 : ¬ gc_S g x = 10)
    (hq : ∀ Q : Int32 → St2 → Prop, Q (-1) (gc_st F g1 (t + 1) k) → wpX_wantedBy Q (gc_st F (gc_sB g x 1) (t + 1) k) (nI x))
    (hfn : ∀ Q : St2 → Prop, Q (gc_st F g2 (t + 1) k) → wpX_finish Q (gc_st F g1 (t + 1) k) (nI x))
    (go : gc_go x g g2 1) (bz : gc_B g2 x = 0) (rs : gc_rs g2 x c)
    (H : ∀ (g' : gc_G) (c : Nat) (k' : Nat → Int32), gc_go x g g' 1 → gc_B g' x = 0 → gc_rs g' x c → (∀ i, i < t → k' i = k i) → gc_LW post F (nI c) g' t k') : gc_LW post F x2 g (t + 1) k := by
  have n2 := go.2.2.2.2
  have c2 := rs.1
  exact gc_done (by omega) ht hy (by omega) hs9 hs10 hq hfn (gc_pop (x := c) (y := x) (by omega) ht hy (by omega) (by omega) rs.2.1 rs.2.2 (H g2 c _ go bz rs (fun i hi => pk_un (Nat.ne_of_lt hi))))
theorem gc_ar0 (v s : Int32) : v + nI 0 * s = v := by
  rw [nI_0]
  grind
theorem gc_ar1 (v s : Int32) (i : Nat) : v + nI (i + 1) * s = v + s + nI i * s := by
  rw [nI_succ]
  grind
theorem gc_p0 {x : Nat} (hi : gc_inv g) (hx : x < gc_N g) (hN : gc_N g + 1 < 256) (ht : t < 16) (hy : k t = nI x) (hs : gc_S g x = 0) (hd : ∀ i, gc_D g x i = gc_V g x + nI i * gc_T g x)
    (H : ∀ (g' : gc_G) (c : Nat) (k' : Nat → Int32), gc_go x g g' 1 → gc_B g' x = 0 → gc_rs g' x c → (∀ i, i < t → k' i = k i) → gc_LW post F (nI c) g' t k') : gc_LW post F x2 g (t + 1) k := by
  have s9 : ¬ gc_S g x = 9 := fun e => absurd (hs.symm.trans e) (by decide)
  have s10 : ¬ gc_S g x = 10 := fun e => absurd (hs.symm.trans e) (by decide)
  have goB := gc_go_B x 1 hi
  have n5 : gc_N g < 512 := by omega
  obtain ⟨go, bz, rs⟩ := gc_go_fi (g := gc_sB g x 1) (x := x) (s := 0) (v := gc_V g x + gc_T g x) (st := gc_T g x) (l := 0) (r := 0) (hd := gc_V g x) goB.1 (Nat.lt_of_succ_lt hN) hx s9 s10 ((hd 0).trans (gc_ar0 _ _)) (Or.inl ⟨rfl, fun i => (hd (i + 1)).trans (gc_ar1 _ _ i)⟩)
  exact gc_tail (g1 := gc_sB g x 1) hN ht hy hx s9 s10 (fun Q q => gc_wb0 (by omega) hs q) (fun Q q => gc_f0 (by omega) n5 hs q) (gc_go_mono (gc_go_trans hx goB go) (by omega)) bz rs H
theorem gc_p2 {x l r c : Nat} (hi : gc_inv g) (hx : x < gc_N g) (hN : gc_N g + 1 < 256) (ht : t < 16) (hy : k t = nI x) (ho : gc_on g x l r) (hl : gc_rs g l c)
    (h34 : gc_S g x = 3 ∨ gc_S g x = 4 → ∃ d, gc_rs g r d) (h2 : gc_S g x = 2 → ∃ m d, gc_L g c = nI m ∧ m < gc_N g ∧ gc_rs g m d)
    (H : ∀ (g' : gc_G) (c : Nat) (k' : Nat → Int32), gc_go x g g' 1 → gc_B g' x = 0 → gc_rs g' x c → (∀ i, i < t → k' i = k i) → gc_LW post F (nI c) g' t k') : gc_LW post F x2 g (t + 1) k := by
  have goB := gc_go_B x 1 hi
  have n5 : gc_N g < 512 := by omega
  obtain ⟨goL, onL⟩ := gc_go_L (g := gc_sB g x 1) (x := x) (l := l) (r := r) (c := c) goB.1 hx ho hl
  obtain ⟨s0, s9, s10, s8⟩ := gc_op_n ho.2.2.2.2.2.2
  obtain ⟨l1, cS, cV, l1N, cL, cK, cD⟩ := gc_cell hi hl.1 hl.2.1
  have cN : c < gc_N g := hl.1
  have cx : c ≠ x := fun e => s9 (by rw [← e]; exact cS)
  have cn : ¬ gc_S g c = 10 := fun e => absurd (cS.symm.trans e) (by decide)
  have cKx : gc_K g c < gc_K g x := onL.2.2.2.2.1
  have z0 : gc_K g 0 < gc_K g x := by
    rw [hi.2.2.1]
    exact Nat.lt_of_le_of_lt (Nat.zero_le _) cKx
  have zN : 0 < gc_N g := Nat.lt_of_le_of_lt (Nat.zero_le _) hx
  have cL' : gc_L (gc_sL (gc_sB g x 1) x (nI c)) c = nI l1 := (pk_un cx).trans cL
  have xL' : gc_L (gc_sL (gc_sB g x 1) x (nI c)) x = nI c := pk_us
  have lN5 : l < 512 := by
    have := ho.1
    omega
  have hB2 : gc_go x g (gc_sL (gc_sB g x 1) x (nI c)) 0 := gc_go_trans hx goB goL
  have hop : gc_op (gc_S g x) (gc_V g x) (gc_D g x) (gc_D g c) (gc_D g r) := onL.2.2.2.2.2.2
  have hq1 : ¬ gc_S g x = 2 → ¬ gc_S g x = 3 → ¬ gc_S g x = 4 → ∀ Q : Int32 → St2 → Prop, Q (-1) (gc_st F (gc_sL (gc_sB g x 1) x (nI c)) (t + 1) k) → wpX_wantedBy Q (gc_st F (gc_sB g x 1) (t + 1) k) (nI x) := fun n2 n3 n4 Q q =>
    gc_wb (x := x) (l := l) (c := c) (by omega) s0 s8 ho.2.2.1 lN5 (by omega) cn hl.2.2 (fun z => absurd cS z) (fun _ _ _ _ => q) (fun _ z => absurd z n2) (fun _ z => z.elim (fun z => absurd z n3) (fun z => absurd z n4))
  rcases hop with ⟨sx, hX⟩ | ⟨sx, hX⟩ | ⟨sx, hX0, hX⟩ | ⟨sx, hX⟩ | ⟨sx, hX⟩ | ⟨sx, hX⟩
  · -- TAIL
    obtain ⟨m, d, hLc, hmN, hm⟩ := h2 sx
    obtain ⟨dK, dD⟩ := gc_rs_dn hi hmN hm
    have em : m = l1 := gc_nI (by omega) (by omega) (hLc.symm.trans cL)
    have mK : gc_K g m ≤ gc_K g c := by
      rw [em]
      exact cK
    have mx : m ≠ x := fun e => by rw [e] at mK; omega
    have dx : d ≠ x := fun e => s9 (by rw [← e]; exact hm.2.1)
    have dN : d < gc_N g := hm.1
    have dn : ¬ gc_S g d = 10 := fun e => absurd (hm.2.1.symm.trans e) (by decide)
    have mL : gc_L (gc_sL (gc_sB g x 1) x (nI c)) m = gc_L g m := pk_un mx
    have dX : gc_D g d = gc_D g x := by
      rw [dD, em]
      funext i
      rw [cD i, hX i]
    obtain ⟨go, bz, rs⟩ := gc_go_ft (g := gc_sL (gc_sB g x 1) x (nI c)) (x := x) (c := d) goL.1 hx s9 s10 hm.1 hm.2.1 (Nat.le_trans dK (Nat.le_trans mK (Nat.le_of_lt cKx))) dX
    refine gc_tail (g1 := gc_sL (gc_sB g x 1) x (nI c)) hN ht hy hx s9 s10 (fun Q q => ?_) (fun Q q => ?_) (gc_go_mono (gc_go_trans hx hB2 go) (by omega)) bz rs H
    · exact gc_wb (x := x) (l := l) (c := c) (by omega) s0 s8 ho.2.2.1 lN5 (by omega) cn hl.2.2 (fun z => absurd cS z) (fun _ z => absurd sx z)
        (fun _ _ => ⟨m, d, by omega, by omega, cL'.trans (by rw [em]), dn, hm.2.2.elim Or.inl (fun z => Or.inr ⟨z.1, mL.trans z.2⟩), fun _ => q, fun z => absurd hm.2.1 z⟩)
        (fun _ z => z.elim (fun z => absurd (sx.symm.trans z) (by decide)) (fun z => absurd (sx.symm.trans z) (by decide)))
    · exact gc_f2 (x := x) (c := c) (m := m) (d := d) (by omega) (by omega) (by omega) (by omega) sx xL' (cL'.trans (by rw [em])) (by rw [pk_un dx]; exact dn)
        (hm.2.2.elim Or.inl (fun z => Or.inr ⟨(pk_un mx).trans z.1, mL.trans z.2⟩)) q
  · -- SCALE
    obtain ⟨go, bz, rs⟩ := gc_go_fi (g := gc_sL (gc_sB g x 1) x (nI c)) (x := x) (s := 5) (v := gc_V g x) (st := 0) (l := nI l1) (r := 0) (hd := gc_V g x * gc_V g c) goL.1 (Nat.lt_of_succ_lt hN) hx s9 s10
      (by show gc_D g x 0 = _; rw [hX 0, cV])
      (Or.inr ⟨l1, 0, rfl, nI_0.symm, l1N, zN, Nat.lt_of_le_of_lt cK cKx, z0, Or.inr (Or.inl ⟨rfl, fun i => by show gc_D g x (i + 1) = gc_V g x * gc_D g l1 i; rw [hX (i + 1), cD i]⟩)⟩)
    exact gc_tail (g1 := gc_sL (gc_sB g x 1) x (nI c)) hN ht hy hx s9 s10 (hq1 (fun z => absurd (sx.symm.trans z) (by decide)) (fun z => absurd (sx.symm.trans z) (by decide)) (fun z => absurd (sx.symm.trans z) (by decide)))
      (fun Q q => gc_f5 (x := x) (l := c) (l1 := l1) (by omega) n5 (by omega) (by omega) sx xL' cL' q) (gc_go_mono (gc_go_trans hx hB2 go) (by omega)) bz rs H
  · -- SCAN
    have e0 : gc_V g x + gc_V g c = gc_D g x 0 := by rw [hX0, cV]
    obtain ⟨go, bz, rs⟩ := gc_go_fi (g := gc_sL (gc_sB g x 1) x (nI c)) (x := x) (s := 6) (v := gc_V g x + gc_V g c) (st := 0) (l := nI l1) (r := 0) (hd := gc_V g x + gc_V g c) goL.1 (Nat.lt_of_succ_lt hN) hx s9 s10
      e0.symm
      (Or.inr ⟨l1, 0, rfl, nI_0.symm, l1N, zN, Nat.lt_of_le_of_lt cK cKx, z0, Or.inr (Or.inr (Or.inl ⟨rfl, by show gc_D g x (0 + 1) = gc_V g x + gc_V g c + gc_D g l1 0; rw [hX 0, cD 0, e0], fun i => by show gc_D g x (i + 1 + 1) = gc_D g x (i + 1) + gc_D g l1 (i + 1); rw [hX (i + 1), cD (i + 1)]⟩))⟩)
    exact gc_tail (g1 := gc_sL (gc_sB g x 1) x (nI c)) hN ht hy hx s9 s10 (hq1 (fun z => absurd (sx.symm.trans z) (by decide)) (fun z => absurd (sx.symm.trans z) (by decide)) (fun z => absurd (sx.symm.trans z) (by decide)))
      (fun Q q => gc_f6 (x := x) (l := c) (l1 := l1) (by omega) n5 (by omega) (by omega) sx xL' cL' q) (gc_go_mono (gc_go_trans hx hB2 go) (by omega)) bz rs H
  · -- WEAVE
    have rN : r < gc_N g := ho.2.1
    obtain ⟨go, bz, rs⟩ := gc_go_fi (g := gc_sL (gc_sB g x 1) x (nI c)) (x := x) (s := 7) (v := 0) (st := 0) (l := nI r) (r := nI l1) (hd := gc_V g c) goL.1 (Nat.lt_of_succ_lt hN) hx s9 s10
      (by show gc_D g x 0 = _; rw [hX 0, if_pos rfl]; exact cV)
      (Or.inr ⟨r, l1, rfl, rfl, rN, l1N, ho.2.2.2.2.2.1, Nat.lt_of_le_of_lt cK cKx, Or.inr (Or.inr (Or.inr (Or.inl ⟨rfl, fun i => by
        show gc_D g x (i + 1) = if i % 2 = 0 then gc_D g r (i / 2) else gc_D g l1 (i / 2)
        rw [hX (i + 1)]
        by_cases e : i % 2 = 0
        · rw [if_pos e, if_neg (by omega), show (i + 1) / 2 = i / 2 by omega]
        · rw [if_neg e, if_pos (by omega), cD, show (i + 1) / 2 = i / 2 + 1 by omega]⟩)))⟩)
    exact gc_tail (g1 := gc_sL (gc_sB g x 1) x (nI c)) hN ht hy hx s9 s10 (hq1 (fun z => absurd (sx.symm.trans z) (by decide)) (fun z => absurd (sx.symm.trans z) (by decide)) (fun z => absurd (sx.symm.trans z) (by decide)))
      (fun Q q => gc_f7 (x := x) (l := c) (l1 := l1) (r := r) (by omega) n5 (by omega) (by omega) (by omega) sx xL' cL' ho.2.2.2.1 q) (gc_go_mono (gc_go_trans hx hB2 go) (by omega)) bz rs H
  all_goals
    obtain ⟨d, hd⟩ := h34 (by first | exact Or.inl sx | exact Or.inr sx)
    obtain ⟨r1, dS, dV, r1N, dL, dK, dD⟩ := gc_cell hi hd.1 hd.2.1
    obtain ⟨rK, rD⟩ := gc_rs_dn hi ho.2.1 hd
    have dN : d < gc_N g := hd.1
    have rN : r < gc_N g := ho.2.1
    have dx : d ≠ x := fun e => s9 (by rw [← e]; exact dS)
    have rx : r ≠ x := fun e => by have h := ho.2.2.2.2.2.1; rw [e] at h; exact absurd h (Nat.lt_irrefl _)
    have dn : ¬ gc_S g d = 10 := fun e => absurd (dS.symm.trans e) (by decide)
    have rL : gc_L (gc_sL (gc_sB g x 1) x (nI c)) r = gc_L g r := pk_un rx
    have hd' : gc_rs (gc_sL (gc_sB g x 1) x (nI c)) r d := ⟨hd.1, hd.2.1, hd.2.2.elim Or.inl (fun z => Or.inr ⟨z.1, rL.trans z.2⟩)⟩
    obtain ⟨goR, onR⟩ := gc_go_R (g := gc_sL (gc_sB g x 1) x (nI c)) (x := x) (l := c) (r := r) (c := d) goL.1 hx onL hd'
    have dKx : gc_K g d < gc_K g x := Nat.lt_of_le_of_lt rK ho.2.2.2.2.2.1
    have dL' : gc_L (gc_sL (gc_sB g x 1) x (nI c)) d = nI r1 := (pk_un dx).trans dL
    have xR' : gc_R (gc_sR (gc_sL (gc_sB g x 1) x (nI c)) x (nI d)) x = nI d := pk_us
    have hB3 : gc_go x g (gc_sR (gc_sL (gc_sB g x 1) x (nI c)) x (nI d)) 0 := gc_go_trans hx hB2 goR
  · obtain ⟨go, bz, rs⟩ := gc_go_fi (g := gc_sR (gc_sL (gc_sB g x 1) x (nI c)) x (nI d)) (x := x) (s := gc_S g x) (v := 0) (st := 0) (l := nI l1) (r := nI r1) (hd := gc_V g c + gc_V g d) goR.1 (Nat.lt_of_succ_lt hN) hx s9 s10
      (by show gc_D g x 0 = _; rw [hX 0, cV, ← rD, dV])
      (Or.inr ⟨l1, r1, rfl, rfl, l1N, r1N, Nat.lt_of_le_of_lt cK cKx, Nat.lt_of_le_of_lt dK dKx, Or.inr (Or.inr (Or.inr (Or.inr (Or.inl ⟨sx, fun i => by
        show gc_D g x (i + 1) = gc_D g l1 i + gc_D g r1 i
        rw [hX (i + 1), cD i, dD i, rD]⟩))))⟩)
    exact gc_tail (g1 := gc_sR (gc_sL (gc_sB g x 1) x (nI c)) x (nI d)) hN ht hy hx s9 s10
      (fun Q q => gc_wb (x := x) (l := l) (c := c) (by omega) s0 s8 ho.2.2.1 lN5 (by omega) cn hl.2.2 (fun z => absurd cS z) (fun _ _ z _ => absurd sx z) (fun _ z => absurd (sx.symm.trans z) (by decide))
        (fun _ _ => ⟨r, d, by omega, by omega, ho.2.2.2.1, dn, hd'.2.2, fun _ => q, fun z => absurd dS z⟩))
      (fun Q q => gc_f34 (x := x) (l := c) (l1 := l1) (r := d) (r1 := r1) (by omega) n5 (by omega) (by omega) (by omega) (by omega) (Or.inl ⟨sx, rfl⟩) xL' cL' xR' dL' q) (gc_go_mono (gc_go_trans hx hB3 go) (by omega)) bz rs H
  · obtain ⟨go, bz, rs⟩ := gc_go_fi (g := gc_sR (gc_sL (gc_sB g x 1) x (nI c)) x (nI d)) (x := x) (s := gc_S g x) (v := 0) (st := 0) (l := nI l1) (r := nI r1) (hd := gc_V g c * gc_V g d) goR.1 (Nat.lt_of_succ_lt hN) hx s9 s10
      (by show gc_D g x 0 = _; rw [hX 0, cV, ← rD, dV])
      (Or.inr ⟨l1, r1, rfl, rfl, l1N, r1N, Nat.lt_of_le_of_lt cK cKx, Nat.lt_of_le_of_lt dK dKx, Or.inr (Or.inr (Or.inr (Or.inr (Or.inr ⟨sx, fun i => by
        show gc_D g x (i + 1) = gc_D g l1 i * gc_D g r1 i
        rw [hX (i + 1), cD i, dD i, rD]⟩))))⟩)
    exact gc_tail (g1 := gc_sR (gc_sL (gc_sB g x 1) x (nI c)) x (nI d)) hN ht hy hx s9 s10
      (fun Q q => gc_wb (x := x) (l := l) (c := c) (by omega) s0 s8 ho.2.2.1 lN5 (by omega) cn hl.2.2 (fun z => absurd cS z) (fun _ _ _ z => absurd sx z) (fun _ z => absurd (sx.symm.trans z) (by decide))
        (fun _ _ => ⟨r, d, by omega, by omega, ho.2.2.2.1, dn, hd'.2.2, fun _ => q, fun z => absurd dS z⟩))
      (fun Q q => gc_f34 (x := x) (l := c) (l1 := l1) (r := d) (r1 := r1) (by omega) n5 (by omega) (by omega) (by omega) (by omega) (Or.inr ⟨sx, rfl⟩) xL' cL' xR' dL' q) (gc_go_mono (gc_go_trans hx hB3 go) (by omega)) bz rs H
end
end
section
/-- at level m: the top of the stack gets finished and popped -/
def gc_EV (post : Int32 → St2 → Prop) (F : gc_F) (m : Nat) : Prop := ∀ (g : gc_G) (t y : Nat) (k : Nat → Int32) (x2 : Int32), gc_inv g → y < gc_N g → gc_K g y ≤ m → k t = nI y → t + m < 16 → (∀ z, z < gc_N g → gc_K g z ≤ gc_K g y → gc_B g z = 0) → gc_N g + gc_cst m < 256 →
  (∀ (g' : gc_G) (c : Nat) (k' : Nat → Int32), gc_go y g g' (gc_cst m) → gc_B g' y = 0 → gc_rs g' y c → ((∃ d, gc_rs g y d) → gc_N g' = gc_N g) → (∀ i, i < t → k' i = k i) → gc_LW post F (nI c) g' t k') → gc_LW post F x2 g (t + 1) k
section
variable {post : Int32 → St2 → Prop} {F : gc_F} {x2 : Int32} {g g1 : gc_G} {t m : Nat} {k : Nat → Int32}
theorem gc_bz_go {x e : Nat} {g' : gc_G} (hx : x < gc_N g) (go : gc_go x g g' e) (hB : ∀ z, z < gc_N g → z ≠ x → gc_K g z ≤ gc_K g x → gc_B g z = 0) : ∀ z, z < gc_N g' → z ≠ x → gc_K g' z ≤ gc_K g' x → gc_B g' z = 0 := by
  intro z hz zx hk
  rw [go.2.2.2.1 z hz zx]
  by_cases h : z < gc_N g
  · rw [if_pos h]
    rw [(go.2.1.2 z h).1, (go.2.1.2 x hx).1] at hk
    exact hB z h zx hk
  · rw [if_neg h]
theorem gc_pu {x w : Nat} (ih : gc_EV post F m) (hx : x < gc_N g) (hN : gc_N g + gc_cst m < 256) (ht : t + 1 + m < 16) (hy : k t = nI x) (hs9 : ¬ gc_S g x = 9) (hs10 : ¬ gc_S g x = 10)
    (go1 : gc_go x g g1 0)
    (hq : ∀ Q : Int32 → St2 → Prop, Q (nI w) (gc_st F g1 (t + 1) k) → wpX_wantedBy Q (gc_st F (gc_sB g x 1) (t + 1) k) (nI x))
    (hw : w < gc_N g1) (hk : gc_K g1 w < gc_K g1 x) (hkm : gc_K g1 w ≤ m) (hB : ∀ z, z < gc_N g → z ≠ x → gc_K g z ≤ gc_K g x → gc_B g z = 0)
    (H : ∀ (g' : gc_G) (c : Nat) (k' : Nat → Int32), gc_go x g g' (gc_cst m) → gc_ext g1 g' → (gc_S g' x = gc_S g1 x ∧ gc_V g' x = gc_V g1 x ∧ gc_T g' x = gc_T g1 x ∧ gc_L g' x = gc_L g1 x ∧ gc_R g' x = gc_R g1 x) → gc_rs g' w c → (∀ i, i < t + 1 → k' i = k i) → gc_LW post F (nI c) g' (t + 1) k') :
    gc_LW post F x2 g (t + 1) k := by
  have n1 := go1.2.2.2.2
  have n1' := go1.2.1.1
  have hB1 := gc_bz_go hx go1 hB
  have wx : w ≠ x := fun e => by rw [e] at hk; exact absurd hk (Nat.lt_irrefl _)
  have bw : gc_B g1 w = 0 := hB1 w hw wx (Nat.le_of_lt hk)
  refine gc_push (w := w) (by omega) (by omega) hy (by omega) hs9 hs10 (by omega) hq bw ?_
  refine ih g1 (t + 1) w (upd k (t + 1) (nI w)) x2 go1.1 hw hkm pk_us ht (fun z hz hzk => hB1 z hz (fun e => ?_) (by omega)) (by omega) (fun g' c k' go bw' rs _ hk' => ?_)
  · rw [e] at hzk
    omega
  · refine H g' c k' (gc_go_mono (gc_go_down hx go1 hw hk bw go bw') (by omega)) go.2.1 (go.2.2.1 x (by omega) hk) rs (fun i hi => ?_)
    rw [hk' i hi]
    exact pk_un (Nat.ne_of_lt hi)
theorem gc_p1 {x l r c : Nat} (ih : gc_EV post F m) (hi : gc_inv g) (hx : x < gc_N g) (hkx : gc_K g x ≤ m + 1) (hN : gc_N g + gc_cst m + 1 < 256) (ht : t + 1 + m < 16) (hy : k t = nI x) (ho : gc_on g x l r) (hl : gc_rs g l c)
    (hB : ∀ z, z < gc_N g → z ≠ x → gc_K g z ≤ gc_K g x → gc_B g z = 0)
    (H : ∀ (g' : gc_G) (c : Nat) (k' : Nat → Int32), gc_go x g g' (gc_cst m + 1) → gc_B g' x = 0 → gc_rs g' x c → (∀ i, i < t → k' i = k i) → gc_LW post F (nI c) g' t k') : gc_LW post F x2 g (t + 1) k := by
  have H1 : ∀ (g' : gc_G) (c : Nat) (k' : Nat → Int32), gc_go x g g' 1 → gc_B g' x = 0 → gc_rs g' x c → (∀ i, i < t → k' i = k i) → gc_LW post F (nI c) g' t k' := fun g' c k' go b rs h => H g' c k' (gc_go_mono go (by omega)) b rs h
  have goB := gc_go_B x 1 hi
  obtain ⟨goL, onL⟩ := gc_go_L (g := gc_sB g x 1) (x := x) (l := l) (r := r) (c := c) goB.1 hx ho hl
  obtain ⟨s0, s9, s10, s8⟩ := gc_op_n ho.2.2.2.2.2.2
  obtain ⟨l1, cS, cV, l1N, cL, cK, cD⟩ := gc_cell hi hl.1 hl.2.1
  have cN : c < gc_N g := hl.1
  have cx : c ≠ x := fun e => s9 (by rw [← e]; exact cS)
  have cn : ¬ gc_S g c = 10 := fun e => absurd (cS.symm.trans e) (by decide)
  have cKx : gc_K g c < gc_K g x := onL.2.2.2.2.1
  have cL' : gc_L (gc_sL (gc_sB g x 1) x (nI c)) c = nI l1 := (pk_un cx).trans cL
  have lN : l < gc_N g := ho.1
  have rN : r < gc_N g := ho.2.1
  have hB2 : gc_go x g (gc_sL (gc_sB g x 1) x (nI c)) 0 := gc_go_trans hx goB goL
  by_cases s34 : gc_S g x = 3 ∨ gc_S g x = 4
  · have s2 : ¬ gc_S g x = 2 := fun e => s34.elim (fun z => absurd (e.symm.trans z) (by decide)) (fun z => absurd (e.symm.trans z) (by decide))
    by_cases hr : ∃ d, gc_rs g r d
    · exact gc_p2 hi hx (by omega) (by omega) hy ho hl (fun _ => hr) (fun z => absurd z s2) H1
    · obtain ⟨r9, r10⟩ := gc_unres hi rN hr
      refine gc_pu (g1 := gc_sL (gc_sB g x 1) x (nI c)) (w := r) ih hx (by omega) ht hy s9 s10 hB2 (fun Q q => ?_) rN ho.2.2.2.2.2.1 ?_ hB (fun g' d k' go he hu rs hk => ?_)
      · refine gc_wb (x := x) (l := l) (c := c) (by omega) s0 s8 ho.2.2.1 (by omega) (by omega) cn hl.2.2 (fun z => absurd cS z) (fun _ _ z3 z4 => s34.elim (fun z => absurd z z3) (fun z => absurd z z4)) (fun _ z => absurd z s2)
          (fun _ _ => ⟨r, r, by omega, by omega, ho.2.2.2.1, r10, Or.inl rfl, fun z => absurd z r9, fun _ => ?_⟩)
        rw [gc_upd_same ho.2.2.2.1]
        exact q
      · have h := ho.2.2.2.2.2.1
        show gc_K g r ≤ m
        omega
      · have hc' : gc_rs g' c c := gc_rs_ext he cN ⟨cN, cS, Or.inl rfl⟩
        have n1 := go.2.2.2.2
        refine gc_p2 (g := g') (l := c) (r := r) (c := c) go.1 (Nat.lt_of_lt_of_le hx go.2.1.1) (by omega) (by omega) ((hk t (Nat.lt_succ_self t)).trans hy) (gc_on_ext he hx hu.1 hu.2.1 hu.2.2.2.1 hu.2.2.2.2 onL) hc' (fun _ => ⟨d, rs⟩) (fun z => ?_) (fun g'' c' k'' go' b rs' hk' => H g'' c' k'' (gc_go_trans hx go go') b rs' (fun i hi => (hk' i hi).trans (hk i (Nat.lt_succ_of_lt hi))))
        rw [hu.1] at z
        exact absurd z s2
  · by_cases s2 : gc_S g x = 2
    · by_cases hm : ∃ d, gc_rs g l1 d
      · obtain ⟨d, hm⟩ := hm
        exact gc_p2 hi hx (by omega) (by omega) hy ho hl (fun z => absurd z s34) (fun _ => ⟨l1, d, cL, l1N, hm⟩) H1
      · obtain ⟨m9, m10⟩ := gc_unres hi l1N hm
        refine gc_pu (g1 := gc_sL (gc_sB g x 1) x (nI c)) (w := l1) ih hx (by omega) ht hy s9 s10 hB2 (fun Q q => ?_) l1N (Nat.lt_of_le_of_lt cK cKx) ?_ hB (fun g' d k' go he hu rs hk => ?_)
        · exact gc_wb (x := x) (l := l) (c := c) (by omega) s0 s8 ho.2.2.1 (by omega) (by omega) cn hl.2.2 (fun z => absurd cS z) (fun _ z => absurd s2 z)
            (fun _ _ => ⟨l1, l1, by omega, by omega, cL', m10, Or.inl rfl, fun z => absurd z m9, fun _ => q⟩) (fun _ z => absurd z s34)
        · show gc_K g l1 ≤ m
          omega
        · have hc' : gc_rs g' c c := gc_rs_ext he cN ⟨cN, cS, Or.inl rfl⟩
          have n1 := go.2.2.2.2
          refine gc_p2 (g := g') (l := c) (r := r) (c := c) go.1 (Nat.lt_of_lt_of_le hx go.2.1.1) (by omega) (by omega) ((hk t (Nat.lt_succ_self t)).trans hy) (gc_on_ext he hx hu.1 hu.2.1 hu.2.2.2.1 hu.2.2.2.2 onL) hc' (fun z => ?_) (fun z => ?_) (fun g'' c' k'' go' b rs' hk' => H g'' c' k'' (gc_go_trans hx go go') b rs' (fun i hi => (hk' i hi).trans (hk i (Nat.lt_succ_of_lt hi))))
          · rw [hu.1] at z
            exact absurd z s34
          · exact ⟨l1, d, (((he.2 c cN).2.2.1 cS).2).trans cL', Nat.lt_of_lt_of_le l1N go.2.1.1, rs⟩
    · exact gc_p2 hi hx (by omega) (by omega) hy ho hl (fun z => absurd z s34) (fun z => absurd z s2) H1
theorem gc_p3 {x l r : Nat} (ih : gc_EV post F m) (hi : gc_inv g) (hx : x < gc_N g) (hkx : gc_K g x ≤ m + 1) (hN : gc_N g + 2 * gc_cst m + 1 < 256) (ht : t + 1 + m < 16) (hy : k t = nI x) (ho : gc_on g x l r)
    (hB : ∀ z, z < gc_N g → z ≠ x → gc_K g z ≤ gc_K g x → gc_B g z = 0)
    (H : ∀ (g' : gc_G) (c : Nat) (k' : Nat → Int32), gc_go x g g' (2 * gc_cst m + 1) → gc_B g' x = 0 → gc_rs g' x c → (∀ i, i < t → k' i = k i) → gc_LW post F (nI c) g' t k') : gc_LW post F x2 g (t + 1) k := by
  obtain ⟨s0, s9, s10, s8⟩ := gc_op_n ho.2.2.2.2.2.2
  have lN : l < gc_N g := ho.1
  have hlk : gc_K g l < gc_K g x := ho.2.2.2.2.1
  by_cases hl : ∃ c, gc_rs g l c
  · obtain ⟨c, hl⟩ := hl
    exact gc_p1 ih hi hx hkx (by omega) ht hy ho hl hB (fun g' c k' go b rs h => H g' c k' (gc_go_mono go (by omega)) b rs h)
  · obtain ⟨l9, l10⟩ := gc_unres hi lN hl
    refine gc_pu (g1 := gc_sB g x 1) (w := l) ih hx (by omega) ht hy s9 s10 (gc_go_B x 1 hi) (fun Q q => ?_) lN hlk ?_ hB (fun g' d k' go he hu rs hk => ?_)
    · refine gc_wb (x := x) (l := l) (c := l) (by omega) s0 s8 ho.2.2.1 (by omega) (by omega) l10 (Or.inl rfl) (fun _ => ?_) (fun z => absurd z l9) (fun z => absurd z l9) (fun z => absurd z l9)
      rw [gc_upd_same ho.2.2.1]
      exact q
    · show gc_K g l ≤ m
      omega
    · have n1 := go.2.2.2.2
      exact gc_p1 (g := g') (l := l) (r := r) (c := d) ih go.1 (Nat.lt_of_lt_of_le hx go.2.1.1) (by rw [(go.2.1.2 x hx).1]; exact hkx) (by omega) ht ((hk t (Nat.lt_succ_self t)).trans hy) (gc_on_ext he hx hu.1 hu.2.1 hu.2.2.2.1 hu.2.2.2.2 ho) rs (gc_bz_go hx go hB) (fun g'' c' k'' go' b rs' hk' => H g'' c' k'' (gc_go_mono (gc_go_trans hx go go') (by omega)) b rs' (fun i hi => (hk' i hi).trans (hk i (Nat.lt_succ_of_lt hi))))
end
theorem gc_eval (post : Int32 → St2 → Prop) (F : gc_F) : ∀ m, gc_EV post F m := by
  intro m
  induction m with
  | zero =>
    intro g t y k x2 hi hyN hK hy ht hB hN H
    have c1 : gc_cst 0 = 1 := rfl
    rw [c1] at hN H
    rcases hi.2.2.2 y hyN with ⟨s, hd⟩ | ⟨l, hc⟩ | ⟨l, hc⟩ | ⟨l, r, ho⟩
    · exact gc_p0 hi hyN (by omega) (by omega) hy s hd (fun g' c k' go b rs h => H g' c k' go b rs (fun ⟨d, z⟩ => z.2.2.elim (fun e => absurd (s.symm.trans (e ▸ z.2.1)) (by decide)) (fun z => absurd (s.symm.trans z.1) (by decide))) h)
    · exact gc_pop (x := y) (y := y) (by omega) (by omega) hy (by omega) (by omega) hc.1 (Or.inl rfl) (H g y _ (gc_go_refl hi 1) (hB y hyN (Nat.le_refl _)) ⟨hyN, hc.1, Or.inl rfl⟩ (fun _ => rfl) (fun i hi => pk_un (Nat.ne_of_lt hi)))
    · have lN : l < gc_N g := hc.2.1
      exact gc_pop (x := l) (y := y) (by omega) (by omega) hy (by omega) (by omega) hc.2.2.2.2.1 (Or.inr ⟨hc.1, hc.2.2.1⟩) (H g l _ (gc_go_refl hi 1) (hB y hyN (Nat.le_refl _)) ⟨lN, hc.2.2.2.2.1, Or.inr ⟨hc.1, hc.2.2.1⟩⟩ (fun _ => rfl) (fun i hi => pk_un (Nat.ne_of_lt hi)))
    · have h := ho.2.2.2.2.1
      omega
  | succ m ih =>
    intro g t y k x2 hi hyN hK hy ht hB hN H
    have c1 := gc_cst_s m
    rw [c1] at hN H
    rcases hi.2.2.2 y hyN with ⟨s, hd⟩ | ⟨l, hc⟩ | ⟨l, hc⟩ | ⟨l, r, ho⟩
    · exact gc_p0 hi hyN (by omega) (by omega) hy s hd (fun g' c k' go b rs h => H g' c k' (gc_go_mono go (by omega)) b rs (fun ⟨d, z⟩ => z.2.2.elim (fun e => absurd (s.symm.trans (e ▸ z.2.1)) (by decide)) (fun z => absurd (s.symm.trans z.1) (by decide))) h)
    · exact gc_pop (x := y) (y := y) (by omega) (by omega) hy (by omega) (by omega) hc.1 (Or.inl rfl) (H g y _ (gc_go_refl hi _) (hB y hyN (Nat.le_refl _)) ⟨hyN, hc.1, Or.inl rfl⟩ (fun _ => rfl) (fun i hi => pk_un (Nat.ne_of_lt hi)))
    · have lN : l < gc_N g := hc.2.1
      exact gc_pop (x := l) (y := y) (by omega) (by omega) hy (by omega) (by omega) hc.2.2.2.2.1 (Or.inr ⟨hc.1, hc.2.2.1⟩) (H g l _ (gc_go_refl hi _) (hB y hyN (Nat.le_refl _)) ⟨lN, hc.2.2.2.2.1, Or.inr ⟨hc.1, hc.2.2.1⟩⟩ (fun _ => rfl) (fun i hi => pk_un (Nat.ne_of_lt hi)))
    · obtain ⟨s0, s9, s10, s8⟩ := gc_op_n ho.2.2.2.2.2.2
      exact gc_p3 ih hi hyN hK (by omega) (by omega) hy ho (fun z hz _ hk => hB z hz hk) (fun g' c k' go b rs h => H g' c k' go b rs (fun ⟨d, z⟩ => z.2.2.elim (fun e => absurd (e ▸ z.2.1) s9) (fun z => absurd z.1 s10)) h)
theorem gc_force {post : Int32 → St2 → Prop} {F : gc_F} {g : gc_G} {t y m : Nat} {k : Nat → Int32} (hi : gc_inv g) (hy : y < gc_N g) (hK : gc_K g y ≤ m) (hm : m < 16) (hB : ∀ z, z < gc_N g → gc_B g z = 0) (hN : (¬ ∃ d, gc_rs g y d) → gc_N g + gc_cst m < 256) (hN' : gc_N g < 256)
    (H : ∀ (g' : gc_G) (c : Nat) (k' : Nat → Int32), gc_inv g' → gc_ext g g' → (∀ z, z < gc_N g' → gc_B g' z = 0) → gc_rs g' y c → gc_N g' ≤ gc_N g + gc_cst m → ((∃ d, gc_rs g y d) → gc_N g' = gc_N g) → post (nI c) (gc_st F g' 0 k')) :
    wpX_force post (gc_st F g t k) (nI y) := by
  have hNN := hi.2.1
  have fin : ∀ (g' : gc_G) (c : Nat) (k' : Nat → Int32), gc_go y g g' (gc_cst m) → gc_B g' y = 0 → gc_rs g' y c → ((∃ d, gc_rs g y d) → gc_N g' = gc_N g) → gc_LW post F (nI c) g' 0 k' := by
    intro g' c k' go b rs hd
    refine ⟨0 + 1, br_t (by decide) (H g' c k' go.1 go.2.1 (fun z hz => ?_) rs go.2.2.2.2 hd)⟩
    by_cases e : z = y
    · rw [e]
      exact b
    · rw [go.2.2.2.1 z hz e]
      by_cases hz' : z < gc_N g
      · rw [if_pos hz']
        exact hB z hz'
      · rw [if_neg hz']
  have main : gc_LW post F (-1) g (0 + 1) (upd k 0 (nI y)) := by
    by_cases hr : ∃ d, gc_rs g y d
    · obtain ⟨d, hr⟩ := hr
      have dN : d < gc_N g := hr.1
      exact gc_pop (x := d) (y := y) hN' (by omega) pk_us (by omega) (by omega) hr.2.1 hr.2.2 (fin g d _ (gc_go_refl hi _) (hB y hy) hr (fun _ => rfl))
    · exact gc_eval post F m g 0 y (upd k 0 (nI y)) (-1) hi hy hK pk_us (by omega) (fun z hz _ => hB z hz) (hN hr) (fun g' c k' go b rs hd _ => fin g' c k' go b rs hd)
  obtain ⟨fu, h⟩ := main
  exact And.intro (vp_in_nI (n := 0) (by omega) (by omega)) (nm_r (e' := upd k 0 (nI y)) (by rw [gc_s16 y (by omega), sb_cl0]) (nm_r (e' := nI (0 + 1)) (by decide) ⟨fu, h⟩))
end
section
/-- the j-th cell of y's sequence is finished: it is c -/
def gc_ch (g : gc_G) (y : Nat) : Nat → Nat → Prop
  | 0 => fun c => gc_rs g y c
  | j + 1 => fun c => ∃ c' l, gc_ch g y j c' ∧ gc_L g c' = nI l ∧ l < gc_N g ∧ gc_rs g l c
theorem gc_ch_cell {g : gc_G} {y j c : Nat} (h : gc_ch g y j c) : c < gc_N g ∧ gc_S g c = 9 := by
  cases j with
  | zero => exact ⟨h.1, h.2.1⟩
  | succ j =>
    obtain ⟨c', l, _, _, _, rs⟩ := h
    exact ⟨rs.1, rs.2.1⟩
theorem gc_ch_ext {g g' : gc_G} {y : Nat} (he : gc_ext g g') (hy : y < gc_N g) : ∀ (j c : Nat), gc_ch g y j c → gc_ch g' y j c := by
  intro j
  induction j with
  | zero => exact fun c h => gc_rs_ext he hy h
  | succ j ih =>
    intro c h
    obtain ⟨c', l, hc, hL, hl, rs⟩ := h
    obtain ⟨cN, cS⟩ := gc_ch_cell hc
    exact ⟨c', l, ih c' hc, ((he.2 c' cN).2.2.1 cS).2.trans hL, Nat.lt_of_lt_of_le hl he.1, gc_rs_ext he hl rs⟩
theorem gc_ch_u {g : gc_G} {y : Nat} (hi : gc_inv g) : ∀ (j c d : Nat), gc_ch g y j c → gc_ch g y j d → c = d := by
  intro j
  induction j with
  | zero => exact fun c d h h' => gc_rs_u hi h h'
  | succ j ih =>
    intro c d h h'
    obtain ⟨c', l, hc, hL, hl, rs⟩ := h
    obtain ⟨d', l', hd, hL', hl', rs'⟩ := h'
    have hN := hi.2.1
    rw [ih c' d' hc hd] at hL
    have e : l = l' := gc_nI (by omega) (by omega) (hL.symm.trans hL')
    rw [e] at rs
    exact gc_rs_u hi rs rs'
theorem gc_ch_dn {g : gc_G} {y : Nat} (hi : gc_inv g) (hy : y < gc_N g) : ∀ (j c : Nat), gc_ch g y j c → gc_K g c ≤ gc_K g y ∧ ∀ i, gc_D g c i = gc_D g y (j + i) := by
  intro j
  induction j with
  | zero =>
    intro c h
    obtain ⟨hk, hd⟩ := gc_rs_dn hi hy h
    exact ⟨hk, fun i => by rw [hd, Nat.zero_add]⟩
  | succ j ih =>
    intro c h
    obtain ⟨c', l, hc, hL, hl, rs⟩ := h
    obtain ⟨cN, cS⟩ := gc_ch_cell hc
    obtain ⟨l', _, _, lN, cL, cK, cD⟩ := gc_cell hi cN cS
    have hN := hi.2.1
    have e : l' = l := gc_nI (by omega) (by omega) (cL.symm.trans hL)
    obtain ⟨k1, d1⟩ := ih c' hc
    obtain ⟨k2, d2⟩ := gc_rs_dn hi hl rs
    rw [e] at cK cD
    exact ⟨Nat.le_trans k2 (Nat.le_trans cK k1), fun i => by rw [d2, cD i, d1 (i + 1), show j + (i + 1) = j + 1 + i by omega]⟩
theorem gc_rl {post : Int32 → St2 → Prop} {F : gc_F} {s kk f m : Nat} (hm : m < 16) (hkk : kk < 1000) : ∀ (d j : Nat), j + d = kk → ∀ (g : gc_G) (c : Nat) (k : Nat → Int32), gc_inv g → s < gc_N g → gc_K g s ≤ m → (∀ z, z < gc_N g → gc_B g z = 0) → gc_ch g s j c → (∀ i, i < f → ∃ c, gc_ch g s i c) →
    gc_N g + gc_cst m * (kk + 1 - max (j + 1) f) < 256 →
    (∀ (g' : gc_G) (c : Nat) (k' : Nat → Int32), gc_inv g' → gc_ext g g' → (∀ z, z < gc_N g' → gc_B g' z = 0) → gc_ch g' s kk c → gc_N g' ≤ gc_N g + gc_cst m * (kk + 1 - max (j + 1) f) → post (nI c) (gc_st F g' 0 k')) →
    wX_reach_18 post (nI kk) (d + 1) (nI c) (nI j) F.1 0 (nI (gc_N g)) (nI 0) F.2.1 F.2.2.1 F.2.2.2.1 (gc_S g) (gc_V g) (gc_T g) (gc_L g) (gc_R g) (gc_B g) F.2.2.2.2.1 F.2.2.2.2.2 k := by
  intro d
  induction d with
  | zero =>
    intro j hj g c k hi hs hK hB hc hf hN H
    have e : j = kk := by omega
    rw [e] at hc H ⊢
    exact pk_le kk kk (fun _ => H g c k hi (gc_ext_refl g) hB hc (Nat.le_add_right _ _)) (fun z => absurd z (by omega))
  | succ d ih =>
    intro j hj g c k hi hs hK hB hc hf hN H
    obtain ⟨cN, cS⟩ := gc_ch_cell hc
    obtain ⟨l, _, cV, lN, cL, cK, cD⟩ := gc_cell hi cN cS
    obtain ⟨cKs, cDs⟩ := gc_ch_dn hi hs j c hc
    have hNN := hi.2.1
    have c5 : c < 512 := by omega
    have done : j + 1 < f → ∃ d, gc_rs g l d := by
      intro h
      obtain ⟨c2, c', l', hc', hL', hl', rs⟩ := hf (j + 1) h
      rw [← gc_ch_u hi j c c' hc hc'] at hL'
      have e : l' = l := gc_nI (by omega) (by omega) (hL'.symm.trans cL)
      rw [e] at rs
      exact ⟨c2, rs⟩
    have bud : ¬ j + 1 < f → gc_cst m * (kk + 1 - max (j + 1) f) = gc_cst m * (kk + 1 - max (j + 1 + 1) f) + gc_cst m := by
      intro h
      rw [show kk + 1 - max (j + 1) f = kk + 1 - max (j + 1 + 1) f + 1 by omega, Nat.mul_succ]
    have bud' : j + 1 < f → gc_cst m * (kk + 1 - max (j + 1) f) = gc_cst m * (kk + 1 - max (j + 1 + 1) f) := by
      intro h
      rw [show max (j + 1) f = max (j + 1 + 1) f by omega]
    refine pk_le kk j (fun z => absurd z (by omega)) (fun _ => br_f (nI_pos (by omega)) ⟨pk_in c 512 c5, ?_⟩)
    rw [nI_clamp (show c < 2 ^ 31 by omega), cL]
    refine gc_force (y := l) (m := m) hi lN (Nat.le_trans cK (Nat.le_trans cKs hK)) hm hB (fun nd => ?_) (Nat.lt_of_le_of_lt (Nat.le_add_right _ _) hN) (fun g' c' k' hi' he hB' rs n1 n2 => nm_r (nI_1 j) ?_)
    · have b := bud (fun h => nd (done h))
      omega
    · have key : gc_N g' + gc_cst m * (kk + 1 - max (j + 1 + 1) f) ≤ gc_N g + gc_cst m * (kk + 1 - max (j + 1) f) := by
        by_cases h : j + 1 < f
        · rw [n2 (done h), bud' h]
          exact Nat.le_refl _
        · rw [bud h]
          omega
      refine ih (j + 1) (by omega) g' c' k' hi' (Nat.lt_of_lt_of_le hs he.1) (by rw [(he.2 s hs).1]; exact hK) hB' ⟨c, l, gc_ch_ext he hs j c hc, ((he.2 c cN).2.2.1 cS).2.trans cL, Nat.lt_of_lt_of_le lN he.1, rs⟩ (fun i hi => (hf i hi).elim (fun c h => ⟨c, gc_ch_ext he hs i c h⟩)) (Nat.lt_of_le_of_lt key hN) (fun g'' c'' k'' hi'' he'' hB'' hc'' n'' => H g'' c'' k'' hi'' (gc_ext_trans he he'') hB'' hc'' (Nat.le_trans n'' key))
/-- u, built if it isn't, satisfies P -/
def gc_rdy (P : gc_F → gc_G → Prop) (u : St2) : Prop := ∀ post : St2 → Prop, (∀ (F : gc_F) (g : gc_G) (t : Nat) (k : Nat → Int32), P F g → post (gc_st F g t k)) → wpX_build post u
theorem gc_rdy_built {P : gc_F → gc_G → Prop} {F : gc_F} {g : gc_G} {t : Nat} {k : Nat → Int32} (hb : F.1 = 1) (h : P F g) : gc_rdy P (gc_st F g t k) :=
  fun post H => br_f (fun e => absurd (hb.symm.trans e) (by decide)) (H F g t k h)
theorem gc_reach {post : Int32 → St2 → Prop} {P : gc_F → gc_G → Prop} {u : St2} {s kk f m : Nat} (hr : gc_rdy P u) (hs : s < 6) (hm : m < 16) (hkk : kk < 1000)
    (hP : ∀ (F : gc_F) (g : gc_G), P F g → F.2.2.2.2.2 s = nI s ∧ gc_inv g ∧ gc_K g s ≤ m ∧ (∀ z, z < gc_N g → gc_B g z = 0) ∧ (∀ i, i < f → ∃ c, gc_ch g s i c) ∧ gc_N g + gc_cst m * (kk + 1 - f) < 256)
    (H : ∀ (F : gc_F) (g g' : gc_G) (c : Nat) (k : Nat → Int32), P F g → gc_inv g' → gc_ext g g' → (∀ z, z < gc_N g' → gc_B g' z = 0) → gc_ch g' s kk c → gc_N g' ≤ gc_N g + gc_cst m * (kk + 1 - f) → post (nI c) (gc_st F g' 0 k)) :
    wpX_reach post u (nI s) (nI kk) := by
  obtain ⟨b, ba, tp, sp, a1, a2, a3, a4, a5, a6, a7, a8, a9, a10, a11, a12⟩ := u
  refine hr _ (fun F g t k hp => ?_)
  obtain ⟨hroot, hi, hK, hB, hf, hN⟩ := hP F g hp
  have h6 := hi.1
  have hNN := hi.2.1
  have sN : s < gc_N g := by omega
  have goal : vp_in (nI s) 6 ∧ wpX_force (fun r u => match u with | (b, ba, tp, sp, a1, a2, a3, a4, a5, a6, a7, a8, a9, a10, a11, a12) => ∃ fu18 : Nat, wX_reach_18 post (nI kk) fu18 r 0 b ba tp sp a1 a2 a3 a4 a5 a6 a7 a8 a9 a10 a11 a12) (gc_st F g t k) (F.2.2.2.2.2 (nI s).toNatClampNeg) := by
    rw [nI_clamp (show s < 2 ^ 31 by omega), hroot]
    have done : 0 < f → ∃ d, gc_rs g s d := fun h => hf 0 h
    have bud : ¬ 0 < f → gc_cst m * (kk + 1 - f) = gc_cst m * (kk + 1 - max (0 + 1) f) + gc_cst m := by
      intro h
      rw [show kk + 1 - f = kk + 1 - max (0 + 1) f + 1 by omega, Nat.mul_succ]
    have bud' : 0 < f → gc_cst m * (kk + 1 - f) = gc_cst m * (kk + 1 - max (0 + 1) f) := by
      intro h
      rw [show max (0 + 1) f = f by omega]
    refine ⟨pk_in s 6 hs, gc_force (y := s) (m := m) hi sN hK hm hB (fun nd => ?_) (Nat.lt_of_le_of_lt (Nat.le_add_right _ _) hN) (fun g' c k' hi' he hB' rs n1 n2 => ?_)⟩
    · have b := bud (fun h => nd (done h))
      omega
    · have key : gc_N g' + gc_cst m * (kk + 1 - max (0 + 1) f) ≤ gc_N g + gc_cst m * (kk + 1 - f) := by
        by_cases h : 0 < f
        · rw [n2 (done h), bud' h]
          exact Nat.le_refl _
        · rw [bud h]
          omega
      exact ⟨kk + 1, gc_rl (f := f) hm hkk kk 0 (by omega) g' c k' hi' (Nat.lt_of_lt_of_le sN he.1) (by rw [(he.2 s sN).1]; exact hK) hB' rs (fun i hi => (hf i hi).elim (fun c h => ⟨c, gc_ch_ext he sN i c h⟩)) (Nat.lt_of_le_of_lt key hN) (fun g'' c'' k'' hi'' he'' hB'' hc'' n'' => H F g g'' c'' k'' hp hi'' (gc_ext_trans he he'') hB'' hc'' (Nat.le_trans n'' key))⟩
  exact goal
theorem gc_isq {Q : Int32 → Prop} {u : St2} {s : Nat} (hs : s < 6) (q : Q 1) : wpX_isSequence Q u (nI s) := by
  obtain ⟨b, ba, tp, sp, a1, a2, a3, a4, a5, a6, a7, a8, a9, a10, a11, a12⟩ := u
  exact br_f (nI_pos (by omega)) (pk_lt 5 s (fun z => absurd z (by omega)) (fun _ => q))
theorem gc_elem {post : Int32 → St2 → Prop} {P : gc_F → gc_G → Prop} {u : St2} {s kk m : Nat} (hr : gc_rdy P u) (hs : s < 6) (hm : m < 16) (hkk : kk ≤ 15)
    (hP : ∀ (F : gc_F) (g : gc_G), P F g → F.2.2.2.2.2 s = nI s ∧ gc_inv g ∧ gc_K g s ≤ m ∧ (∀ z, z < gc_N g → gc_B g z = 0) ∧ gc_N g + gc_cst m * (kk + 1) < 256)
    (H : ∀ (F : gc_F) (g g' : gc_G) (k : Nat → Int32), P F g → gc_inv g' → gc_ext g g' → (∀ z, z < gc_N g' → gc_B g' z = 0) → gc_N g' ≤ gc_N g + gc_cst m * (kk + 1) → post (gc_D g s kk) (gc_st F g' 0 k)) :
    wpX_element post u (nI s) (nI kk) := by
  obtain ⟨b, ba, tp, sp, a1, a2, a3, a4, a5, a6, a7, a8, a9, a10, a11, a12⟩ := u
  unfold wpX_element
  dsimp only
  refine gc_isq hs (br_f (by decide) (br_f (nI_pos (by omega)) (pk_le kk 15 (fun _ => ?_) (fun z => absurd z (by omega)))))
  refine gc_reach (f := 0) (m := m) hr hs hm (by omega) (fun F g hp => ?_) (fun F g g' c k hp hi he hB hc hn => ?_)
  · obtain ⟨h1, h2, h3, h4, h5⟩ := hP F g hp
    exact ⟨h1, h2, h3, h4, fun i hi => absurd hi (Nat.not_lt_zero i), h5⟩
  · obtain ⟨cN, cS⟩ := gc_ch_cell hc
    obtain ⟨l, _, cV, _, _, _, _⟩ := gc_cell hi cN cS
    obtain ⟨h1, h2, _⟩ := hP F g hp
    have h6 := h2.1
    have hNN := hi.2.1
    have sN : s < gc_N g := by omega
    have e : gc_V g' c = gc_D g s kk := by
      rw [← cV, (gc_ch_dn hi (Nat.lt_of_lt_of_le sN he.1) kk c hc).2 0, (he.2 s sN).2.1]
      rfl
    refine br_t (nI_pos' (by omega)) ⟨pk_in c 512 (by omega), ?_⟩
    rw [nI_clamp (show c < 2 ^ 31 by omega)]
    have h := H F g g' k hp hi he hB hn
    rw [← e] at h
    exact h
end
section
/-- a root's level -/
def gc_lv (s : Nat) : Nat := if s = 3 then 1 else if s = 2 then 2 else if s = 4 then 3 else 0
/-- a built state: the definitions d1 d2 d3, the roots' sequences X, at most M nodes -/
def gc_P (d1 d2 d3 : Nat → Int32) (X : Nat → Nat → Int32) (M : Nat) (F : gc_F) (g : gc_G) : Prop :=
  F.1 = 1 ∧ F.2.1 = d1 ∧ F.2.2.1 = d2 ∧ F.2.2.2.1 = d3 ∧ (∀ s, s < 6 → F.2.2.2.2.2 s = nI s) ∧ gc_inv g ∧ (∀ z, z < gc_N g → gc_B g z = 0) ∧ gc_N g ≤ M ∧ ∀ s, s < 6 → gc_D g s = X s ∧ gc_K g s = gc_lv s
theorem gc_P_go {d1 d2 d3 : Nat → Int32} {X : Nat → Nat → Int32} {M M' : Nat} {F : gc_F} {g g' : gc_G} (h : gc_P d1 d2 d3 X M F g) (hi : gc_inv g') (he : gc_ext g g') (hB : ∀ z, z < gc_N g' → gc_B g' z = 0) (hn : gc_N g' ≤ M') : gc_P d1 d2 d3 X M' F g' := by
  obtain ⟨h1, h2, h3, h4, h5, h6, h7, h8, h9⟩ := h
  have hN := h6.1
  refine ⟨h1, h2, h3, h4, h5, hi, hB, hn, fun s hs => ?_⟩
  obtain ⟨e1, e2⟩ := h9 s hs
  obtain ⟨k1, k2, _⟩ := he.2 s (by omega)
  exact ⟨k2.trans e1, k1.trans e2⟩
theorem gc_kstep {post : Int32 → St2 → Prop} {d1 d2 d3 : Nat → Int32} {X : Nat → Nat → Int32} {M s m j n : Nat} {b ba tp sp : Int32} {a1 a2 a3 a4 a5 a6 a7 a8 a9 a10 a11 a12 : Nat → Int32} (hs : s < 6) (hm : m < 16) (hlv : gc_lv s ≤ m) (hj : j < 16) (hM : M + gc_cst m * j + gc_cst m < 256)
    (hr : gc_rdy (fun F g => gc_P d1 d2 d3 X (M + gc_cst m * j) F g ∧ ∀ i, i < j → ∃ c, gc_ch g s i c) (b, ba, tp, sp, a1, a2, a3, a4, a5, a6, a7, a8, a9, a10, a11, a12))
    (next : ∀ (F : gc_F) (g : gc_G) (k : Nat → Int32), gc_P d1 d2 d3 X (M + gc_cst m * (j + 1)) F g → (∀ i, i < j + 1 → ∃ c, gc_ch g s i c) →
      wX_known_12 post (nI s) n (nI (j + 1)) F.1 0 (nI (gc_N g)) (nI 0) F.2.1 F.2.2.1 F.2.2.2.1 (gc_S g) (gc_V g) (gc_T g) (gc_L g) (gc_R g) (gc_B g) F.2.2.2.2.1 F.2.2.2.2.2 k) :
    wX_known_12 post (nI s) (n + 1) (nI j) b ba tp sp a1 a2 a3 a4 a5 a6 a7 a8 a9 a10 a11 a12 := by
  refine pk_le 16 j (fun z => absurd z (by omega)) (fun _ => ?_)
  refine gc_reach (f := j) (m := m) hr hs hm (by omega) (fun F g hp => ?_) (fun F g g' c k hp hi he hB hc hn => ?_)
  · obtain ⟨⟨h1, h2, h3, h4, h5, h6, h7, h8, h9⟩, hc⟩ := hp
    refine ⟨h5 s hs, h6, ?_, h7, hc, ?_⟩
    · rw [(h9 s hs).2]
      exact hlv
    · rw [show j + 1 - j = 1 by omega, Nat.mul_one]
      omega
  · obtain ⟨hp, hch⟩ := hp
    rw [show j + 1 - j = 1 by omega, Nat.mul_one] at hn
    have h8 := hp.2.2.2.2.2.2.2.1
    have h6 := hp.2.2.2.2.2.1.1
    have hNN := hi.2.1
    have cN := (gc_ch_cell hc).1
    refine br_f (nI_pos (by omega)) (nm_r (nI_1 j) (next F g' k (gc_P_go hp hi he hB (by rw [Nat.mul_succ]; omega)) (lt_s (fun i hi => (hch i hi).elim (fun c h => ⟨c, gc_ch_ext he (by omega) i c h⟩)) ⟨c, hc⟩)))
theorem gc_kl {post : Int32 → St2 → Prop} {d1 d2 d3 : Nat → Int32} {X : Nat → Nat → Int32} {M s m : Nat} (hs : s < 6) (hm : m < 16) (hlv : gc_lv s ≤ m) (hM : M + gc_cst m * 16 < 256)
    (H : ∀ (F : gc_F) (g : gc_G) (k : Nat → Int32), gc_P d1 d2 d3 X (M + gc_cst m * 16) F g → post 16 (gc_st F g 0 k)) :
    ∀ (d j : Nat), j + d = 16 → ∀ (F : gc_F) (g : gc_G) (k : Nat → Int32), gc_P d1 d2 d3 X (M + gc_cst m * j) F g → (∀ i, i < j → ∃ c, gc_ch g s i c) →
      wX_known_12 post (nI s) (d + 1) (nI j) F.1 0 (nI (gc_N g)) (nI 0) F.2.1 F.2.2.1 F.2.2.2.1 (gc_S g) (gc_V g) (gc_T g) (gc_L g) (gc_R g) (gc_B g) F.2.2.2.2.1 F.2.2.2.2.2 k := by
  intro d
  induction d with
  | zero =>
    intro j hj F g k hp hc
    have e : j = 16 := by omega
    rw [e] at hp ⊢
    exact pk_le 16 16 (fun _ => H F g k hp) (fun z => absurd z (by omega))
  | succ d ih =>
    intro j hj F g k hp hc
    have b : gc_cst m * (j + 1) ≤ gc_cst m * 16 := Nat.mul_le_mul_left _ (by omega)
    rw [Nat.mul_succ] at b
    exact gc_kstep hs hm hlv (by omega) (by omega) (gc_rdy_built (t := 0) (k := k) hp.1 ⟨hp, hc⟩) (fun F g k hp hc => ih (j + 1) (by omega) F g k hp hc)
theorem gc_known {post : Int32 → St2 → Prop} {d1 d2 d3 : Nat → Int32} {X : Nat → Nat → Int32} {M s m : Nat} {u : St2} (hr : gc_rdy (gc_P d1 d2 d3 X M) u) (hs : s < 6) (hm : m < 16) (hlv : gc_lv s ≤ m) (hM : M + gc_cst m * 16 < 256)
    (H : ∀ (F : gc_F) (g : gc_G) (k : Nat → Int32), gc_P d1 d2 d3 X (M + gc_cst m * 16) F g → post 16 (gc_st F g 0 k)) : wpX_known post u (nI s) := by
  obtain ⟨b, ba, tp, sp, a1, a2, a3, a4, a5, a6, a7, a8, a9, a10, a11, a12⟩ := u
  unfold wpX_known
  dsimp only
  have b : gc_cst m * 1 ≤ gc_cst m * 16 := Nat.mul_le_mul_left _ (by omega)
  rw [Nat.mul_one] at b
  refine gc_isq hs (br_f (by decide) ⟨16 + 1, ?_⟩)
  refine gc_kstep (j := 0) (n := 16) hs hm hlv (by omega) (by rw [Nat.mul_zero]; omega) (fun post' h => hr post' (fun F g t k hp => h F g t k ⟨hp, fun i hi => absurd hi (Nat.not_lt_zero i)⟩)) (fun F g k hp hc => ?_)
  exact gc_kl hs hm hlv hM H 15 (0 + 1) (by omega) F g k hp hc
/-- what building makes of sequence s -/
def gc_ini (d1 d2 d3 so nu st le ri bz rt : Nat → Int32) (s : Nat) : Prop :=
  so s = d1 s ∧ bz s = 0 ∧ rt s = nI s ∧ (d1 s = 0 → nu s = d2 s ∧ st s = d3 s) ∧ (d1 s = 5 → nu s = d2 s ∧ le s = (d3 s).toInt16.toInt32 ∧ ri s = 0) ∧
  (d1 s = 2 ∨ d1 s = 6 → nu s = 0 ∧ le s = (d2 s).toInt16.toInt32 ∧ ri s = 0) ∧ (d1 s = 3 ∨ d1 s = 4 ∨ d1 s = 7 → nu s = 0 ∧ le s = (d2 s).toInt16.toInt32 ∧ ri s = (d3 s).toInt16.toInt32)
section
variable {d1 d2 d3 : Nat → Int32} {a4 a5 a6 a7 a8 a9 a10 a11 a12 : Nat → Int32}
theorem gc_ini_up {i : Nat} {v4 v5 v6 v7 v8 v9 v11 : Int32} (h : ∀ s, s < i → gc_ini d1 d2 d3 a4 a5 a6 a7 a8 a9 a11 s) (e4 : v4 = d1 i) (e9 : v9 = 0) (e11 : v11 = nI i) (c0 : d1 i = 0 → v5 = d2 i ∧ v6 = d3 i) (c5 : d1 i = 5 → v5 = d2 i ∧ v7 = (d3 i).toInt16.toInt32 ∧ v8 = 0)
    (c2 : d1 i = 2 ∨ d1 i = 6 → v5 = 0 ∧ v7 = (d2 i).toInt16.toInt32 ∧ v8 = 0) (c3 : d1 i = 3 ∨ d1 i = 4 ∨ d1 i = 7 → v5 = 0 ∧ v7 = (d2 i).toInt16.toInt32 ∧ v8 = (d3 i).toInt16.toInt32) :
    ∀ s, s < i + 1 → gc_ini d1 d2 d3 (upd a4 i v4) (upd a5 i v5) (upd a6 i v6) (upd a7 i v7) (upd a8 i v8) (upd a9 i v9) (upd a11 i v11) s := by
  intro s hs
  by_cases e : s = i
  · rw [e]
    simp only [gc_ini, pk_us]
    exact ⟨e4, e9, e11, c0, c5, c2, c3⟩
  · have h' := h s (by omega)
    simp only [gc_ini] at h' ⊢
    rw [pk_un e, pk_un e, pk_un e, pk_un e, pk_un e, pk_un e, pk_un e]
    exact h'
theorem gc_bl {post : St2 → Prop} {sp : Int32} (hk : ∀ s, s < 6 → d1 s = 0 ∨ d1 s = 2 ∨ d1 s = 5 ∨ d1 s = 6 ∨ d1 s = 3 ∨ d1 s = 4 ∨ d1 s = 7)
    (H : ∀ a4 a5 a6 a7 a8 a9 a11 : Nat → Int32, (∀ s, s < 6 → gc_ini d1 d2 d3 a4 a5 a6 a7 a8 a9 a11 s) → post (1, 0, nI 6, sp, d1, d2, d3, a4, a5, a6, a7, a8, a9, a10, a11, a12)) :
    ∀ (d i : Nat), i + d = 6 → ∀ a4 a5 a6 a7 a8 a9 a11 : Nat → Int32, (∀ s, s < i → gc_ini d1 d2 d3 a4 a5 a6 a7 a8 a9 a11 s) →
      wX_build_25 post (d + 1) (nI i) 1 0 (nI i) sp d1 d2 d3 a4 a5 a6 a7 a8 a9 a10 a11 a12 := by
  intro d
  induction d with
  | zero =>
    intro i hi a4 a5 a6 a7 a8 a9 a11 h
    have e : i = 6 := by omega
    rw [e] at h ⊢
    exact pk_le 6 6 (fun _ => H a4 a5 a6 a7 a8 a9 a11 h) (fun z => absurd z (by omega))
  | succ d ih =>
    intro i hi a4 a5 a6 a7 a8 a9 a11 h
    have ei : (nI i).toNatClampNeg = i := nI_clamp (by omega)
    have e16 : (nI i).toInt16.toInt32 = nI i := gc_s16 i (by omega)
    have ii : vp_in (nI i) 6 := pk_in i 6 (by omega)
    have z16 : (0 : Int32).toInt16.toInt32 = 0 := by decide
    refine pk_le 6 i (fun z => absurd z (by omega)) (fun _ => ⟨ii, ?_⟩)
    rw [ei]
    rcases hk i (by omega) with e | e | e | e | e | e | e
    · refine nm_r e ⟨ii, nm_e ⟨ii, nm_e ?_⟩⟩
      refine br_f (by decide) (br_f (by decide) (br_f (by decide) (br_f (by decide) (br_f (by decide) (br_f (by decide) (br_t rfl ?_))))))
      unfold wX_build_67
      rw [ei, e16]
      refine ⟨ii, nm_e (br_t rfl (gc_al (s := 0) (l := 0) (r := 0) (by omega) (by decide) z16 z16 (nm_r (nI_1 i) (ih (i + 1) (by omega) _ _ _ _ _ _ _ (gc_ini_up h e.symm rfl rfl ?_ ?_ ?_ ?_)))))⟩
      · exact fun _ => ⟨rfl, rfl⟩
      · exact fun z => absurd (e.symm.trans z) (by decide)
      · exact fun z => z.elim (fun z => absurd (e.symm.trans z) (by decide)) (fun z => absurd (e.symm.trans z) (by decide))
      · exact fun z => z.elim (fun z => absurd (e.symm.trans z) (by decide)) (fun z => z.elim (fun z => absurd (e.symm.trans z) (by decide)) (fun z => absurd (e.symm.trans z) (by decide)))
    · refine nm_r e ⟨ii, nm_e ⟨ii, nm_e ?_⟩⟩
      refine br_f (by decide) (br_f (by decide) (br_f (by decide) (br_f (by decide) (br_f (by decide) (br_f (by decide) (br_t rfl ?_))))))
      unfold wX_build_67
      rw [ei, e16]
      refine ⟨ii, nm_e (br_f (by decide) (br_f (by decide) (br_f (by decide) (gc_al (s := 2) (r := 0) (by omega) (by decide) rfl z16 (nm_r (nI_1 i) (ih (i + 1) (by omega) _ _ _ _ _ _ _ (gc_ini_up h e.symm rfl rfl ?_ ?_ ?_ ?_)))))))⟩
      · exact fun z => absurd (e.symm.trans z) (by decide)
      · exact fun z => absurd (e.symm.trans z) (by decide)
      · exact fun _ => ⟨rfl, rfl, rfl⟩
      · exact fun z => z.elim (fun z => absurd (e.symm.trans z) (by decide)) (fun z => z.elim (fun z => absurd (e.symm.trans z) (by decide)) (fun z => absurd (e.symm.trans z) (by decide)))
    · refine nm_r e ⟨ii, nm_e ⟨ii, nm_e ?_⟩⟩
      refine br_f (by decide) (br_f (by decide) (br_f (by decide) (br_t rfl (br_f (by decide) ?_))))
      unfold wX_build_67
      rw [ei, e16]
      refine ⟨ii, nm_e (br_f (by decide) (br_f (by decide) (br_t rfl (gc_al (s := 5) (r := 0) (by omega) (by decide) rfl z16 (nm_r (nI_1 i) (ih (i + 1) (by omega) _ _ _ _ _ _ _ (gc_ini_up h e.symm rfl rfl ?_ ?_ ?_ ?_)))))))⟩
      · exact fun z => absurd (e.symm.trans z) (by decide)
      · exact fun _ => ⟨rfl, rfl, rfl⟩
      · exact fun z => z.elim (fun z => absurd (e.symm.trans z) (by decide)) (fun z => absurd (e.symm.trans z) (by decide))
      · exact fun z => z.elim (fun z => absurd (e.symm.trans z) (by decide)) (fun z => z.elim (fun z => absurd (e.symm.trans z) (by decide)) (fun z => absurd (e.symm.trans z) (by decide)))
    · refine nm_r e ⟨ii, nm_e ⟨ii, nm_e ?_⟩⟩
      refine br_f (by decide) (br_f (by decide) (br_f (by decide) (br_f (by decide) (br_f (by decide) (br_f (by decide) (br_t rfl ?_))))))
      unfold wX_build_67
      rw [ei, e16]
      refine ⟨ii, nm_e (br_f (by decide) (br_f (by decide) (br_f (by decide) (gc_al (s := 6) (r := 0) (by omega) (by decide) rfl z16 (nm_r (nI_1 i) (ih (i + 1) (by omega) _ _ _ _ _ _ _ (gc_ini_up h e.symm rfl rfl ?_ ?_ ?_ ?_)))))))⟩
      · exact fun z => absurd (e.symm.trans z) (by decide)
      · exact fun z => absurd (e.symm.trans z) (by decide)
      · exact fun _ => ⟨rfl, rfl, rfl⟩
      · exact fun z => z.elim (fun z => absurd (e.symm.trans z) (by decide)) (fun z => z.elim (fun z => absurd (e.symm.trans z) (by decide)) (fun z => absurd (e.symm.trans z) (by decide)))
    · refine nm_r e ⟨ii, nm_e ⟨ii, nm_e ?_⟩⟩
      refine br_f (by decide) (br_t rfl (br_f (by decide) ?_))
      unfold wX_build_67
      rw [ei, e16]
      refine ⟨ii, nm_e (br_f (by decide) (br_f (by decide) (br_f (by decide) (gc_al (s := 3) (by omega) (by decide) rfl rfl (nm_r (nI_1 i) (ih (i + 1) (by omega) _ _ _ _ _ _ _ (gc_ini_up h e.symm rfl rfl ?_ ?_ ?_ ?_)))))))⟩
      · exact fun z => absurd (e.symm.trans z) (by decide)
      · exact fun z => absurd (e.symm.trans z) (by decide)
      · exact fun z => z.elim (fun z => absurd (e.symm.trans z) (by decide)) (fun z => absurd (e.symm.trans z) (by decide))
      · exact fun _ => ⟨rfl, rfl, rfl⟩
    · refine nm_r e ⟨ii, nm_e ⟨ii, nm_e ?_⟩⟩
      refine br_f (by decide) (br_f (by decide) (br_t rfl (br_f (by decide) ?_)))
      unfold wX_build_67
      rw [ei, e16]
      refine ⟨ii, nm_e (br_f (by decide) (br_f (by decide) (br_f (by decide) (gc_al (s := 4) (by omega) (by decide) rfl rfl (nm_r (nI_1 i) (ih (i + 1) (by omega) _ _ _ _ _ _ _ (gc_ini_up h e.symm rfl rfl ?_ ?_ ?_ ?_)))))))⟩
      · exact fun z => absurd (e.symm.trans z) (by decide)
      · exact fun z => absurd (e.symm.trans z) (by decide)
      · exact fun z => z.elim (fun z => absurd (e.symm.trans z) (by decide)) (fun z => absurd (e.symm.trans z) (by decide))
      · exact fun _ => ⟨rfl, rfl, rfl⟩
    · refine nm_r e ⟨ii, nm_e ⟨ii, nm_e ?_⟩⟩
      refine br_f (by decide) (br_f (by decide) (br_f (by decide) (br_f (by decide) (br_t rfl (br_f (by decide) ?_)))))
      unfold wX_build_67
      rw [ei, e16]
      refine ⟨ii, nm_e (br_f (by decide) (br_f (by decide) (br_f (by decide) (gc_al (s := 7) (by omega) (by decide) rfl rfl (nm_r (nI_1 i) (ih (i + 1) (by omega) _ _ _ _ _ _ _ (gc_ini_up h e.symm rfl rfl ?_ ?_ ?_ ?_)))))))⟩
      · exact fun z => absurd (e.symm.trans z) (by decide)
      · exact fun z => absurd (e.symm.trans z) (by decide)
      · exact fun z => z.elim (fun z => absurd (e.symm.trans z) (by decide)) (fun z => absurd (e.symm.trans z) (by decide))
      · exact fun _ => ⟨rfl, rfl, rfl⟩
end
end
section
/-- the definition of sequence s says what X s is -/
def gc_bn (d1 d2 d3 : Nat → Int32) (X : Nat → Nat → Int32) (s : Nat) : Prop :=
  (d1 s = 0 ∧ ∀ i, X s i = d2 s + nI i * d3 s) ∨
  ∃ (l r : Nat) (v : Int32), l < 6 ∧ r < 6 ∧ gc_lv l < gc_lv s ∧ gc_lv r < gc_lv s ∧ gc_op (d1 s) v (X s) (X l) (X r) ∧
    ((d1 s = 5 ∧ v = d2 s ∧ d3 s = nI l ∧ r = 0) ∨ ((d1 s = 2 ∨ d1 s = 6) ∧ v = 0 ∧ d2 s = nI l ∧ r = 0) ∨ ((d1 s = 3 ∨ d1 s = 4 ∨ d1 s = 7) ∧ v = 0 ∧ d2 s = nI l ∧ d3 s = nI r))
theorem gc_bn_k {d1 d2 d3 : Nat → Int32} {X : Nat → Nat → Int32} {s : Nat} (h : gc_bn d1 d2 d3 X s) : d1 s = 0 ∨ d1 s = 2 ∨ d1 s = 5 ∨ d1 s = 6 ∨ d1 s = 3 ∨ d1 s = 4 ∨ d1 s = 7 := by
  rcases h with h | ⟨l, r, v, _, _, _, _, h, _⟩
  · exact Or.inl h.1
  · rcases gc_op_k h with h | h | h | h | h | h
    · exact Or.inr (Or.inl h)
    · exact Or.inr (Or.inr (Or.inl h))
    · exact Or.inr (Or.inr (Or.inr (Or.inl h)))
    · exact Or.inr (Or.inr (Or.inr (Or.inr (Or.inr (Or.inr h)))))
    · exact Or.inr (Or.inr (Or.inr (Or.inr (Or.inl h))))
    · exact Or.inr (Or.inr (Or.inr (Or.inr (Or.inr (Or.inl h)))))
theorem gc_build {d1 d2 d3 a10 a11 : Nat → Int32} {X : Nat → Nat → Int32} {g : gc_G} {t : Nat} {k : Nat → Int32} (hX : ∀ s, s < 6 → gc_bn d1 d2 d3 X s) : gc_rdy (gc_P d1 d2 d3 X 6) (gc_st (0, d1, d2, d3, a10, a11) g t k) := by
  intro post H
  refine br_t rfl ⟨6 + 1, ?_⟩
  refine gc_bl (d1 := d1) (d2 := d2) (d3 := d3) (fun s hs => gc_bn_k (hX s hs)) (fun a4 a5 a6 a7 a8 a9 a11 hini => ?_) 6 0 (by omega) _ _ _ _ _ _ _ (fun s hs => absurd hs (Nat.not_lt_zero s))
  refine H (1, d1, d2, d3, a10, a11) (6, a4, a5, a6, a7, a8, a9, gc_lv, X) t k ⟨rfl, rfl, rfl, rfl, fun s hs => (hini s hs).2.2.1, ⟨Nat.le_refl 6, (by decide : 6 ≤ 256), (by decide : gc_lv 0 = 0), fun s hs => ?_⟩, fun z hz => (hini z hz).2.1, Nat.le_refl 6, fun s hs => ⟨rfl, rfl⟩⟩
  have hini' : gc_ini d1 d2 d3 a4 a5 a6 a7 a8 a9 a11 s := hini s hs
  obtain ⟨hS, hB, hR, h0, h5, h2, h3⟩ := hini'
  rcases hX s hs with ⟨e, h⟩ | ⟨l, r, v, hl, hr, kl, kr, hop, hh⟩
  · refine Or.inl ⟨hS.trans e, fun i => ?_⟩
    show X s i = a5 s + nI i * a6 s
    rw [(h0 e).1, (h0 e).2]
    exact h i
  · refine Or.inr (Or.inr (Or.inr ⟨l, r, hl, hr, ?_⟩))
    rcases hh with ⟨e, ev, el, er⟩ | ⟨e, ev, el, er⟩ | ⟨e, ev, el, er⟩
    · obtain ⟨x5, x7, x8⟩ := h5 e
      refine ⟨x7.trans (by rw [el]; exact gc_s16 l (by omega)), x8.trans (by rw [er]; rfl), kl, kr, ?_⟩
      show gc_op (a4 s) (a5 s) (X s) (X l) (X r)
      rw [hS, x5, ← ev]
      exact hop
    · obtain ⟨x5, x7, x8⟩ := h2 e
      refine ⟨x7.trans (by rw [el]; exact gc_s16 l (by omega)), x8.trans (by rw [er]; rfl), kl, kr, ?_⟩
      show gc_op (a4 s) (a5 s) (X s) (X l) (X r)
      rw [hS, x5, ← ev]
      exact hop
    · obtain ⟨x5, x7, x8⟩ := h3 e
      refine ⟨x7.trans (by rw [el]; exact gc_s16 l (by omega)), x8.trans (by rw [er]; exact gc_s16 r (by omega)), kl, kr, ?_⟩
      show gc_op (a4 s) (a5 s) (X s) (X l) (X r)
      rw [hS, x5, ← ev]
      exact hop
theorem gc_isq' {Q : Int32 → Prop} {u : St2} {a : Int32} (h0 : ¬ a < 0) (h5 : ¬ 5 < a) (q : Q 1) : wpX_isSequence Q u a := by
  obtain ⟨b, ba, tp, sp, a1, a2, a3, a4, a5, a6, a7, a8, a9, a10, a11, a12⟩ := u
  exact br_f h0 (br_f h5 q)
theorem gc_def {post : Int32 → St2 → Prop} {F : gc_F} {g : gc_G} {t s : Nat} {k : Nat → Int32} {kd a b : Int32} (hs : s < 6) (k0 : ¬ kd < 0) (k8 : kd ≤ 8) (kb : kd.toInt8.toInt32 = kd) (hA : ¬ kd < 2 → ¬ kd = 5 → ¬ a < 0 ∧ ¬ 5 < a) (hBb : (kd = 1 ∨ kd = 3 ∨ kd = 4 ∨ kd = 5 ∨ kd = 7 ∨ kd = 8) → ¬ b < 0 ∧ ¬ 5 < b)
    (q : post 1 (gc_st (0, upd F.2.1 s kd, upd F.2.2.1 s a, upd F.2.2.2.1 s b, F.2.2.2.2.1, F.2.2.2.2.2) g t k)) : wpX_define post (gc_st F g t k) (nI s) kd a b := by
  have i6 : vp_in (nI s) 6 := pk_in s 6 hs
  have h57 : wX_define_57 post (nI s) kd a b F.1 0 (nI (gc_N g)) (nI t) F.2.1 F.2.2.1 F.2.2.2.1 (gc_S g) (gc_V g) (gc_T g) (gc_L g) (gc_R g) (gc_B g) F.2.2.2.2.1 F.2.2.2.2.2 k := by
    unfold wX_define_57
    rw [nI_clamp (show s < 2 ^ 31 by omega), kb]
    exact ⟨i6, nm_e ⟨i6, nm_e ⟨i6, nm_e q⟩⟩⟩
  have h38 : wX_define_38 post (nI s) kd a b F.1 0 (nI (gc_N g)) (nI t) F.2.1 F.2.2.1 F.2.2.2.1 (gc_S g) (gc_V g) (gc_T g) (gc_L g) (gc_R g) (gc_B g) F.2.2.2.2.1 F.2.2.2.2.2 k := by
    unfold wX_define_38 wpX_worksOnB
    dsimp only
    have yes : (kd = 1 ∨ kd = 3 ∨ kd = 4 ∨ kd = 5 ∨ kd = 7 ∨ kd = 8) → ∀ u : St2, wpX_isSequence (fun r => (r = 0 → post 0 (gc_st F g t k)) ∧ (¬ r = 0 → wX_define_57 post (nI s) kd a b F.1 0 (nI (gc_N g)) (nI t) F.2.1 F.2.2.1 F.2.2.2.1 (gc_S g) (gc_V g) (gc_T g) (gc_L g) (gc_R g) (gc_B g) F.2.2.2.2.1 F.2.2.2.2.2 k)) u b := fun z u => gc_isq' (hBb z).1 (hBb z).2 (br_f (by decide) h57)
    refine br_c (fun z => br_f (by decide) (yes (Or.inl z) _)) (fun _ => br_c (fun z => br_f (by decide) (yes (Or.inr (Or.inl z)) _)) (fun _ => br_c (fun z => br_f (by decide) (yes (Or.inr (Or.inr (Or.inl z))) _)) (fun _ => br_c (fun z => br_f (by decide) (yes (Or.inr (Or.inr (Or.inr (Or.inl z)))) _)) (fun _ => br_c (fun z => br_f (by decide) (yes (Or.inr (Or.inr (Or.inr (Or.inr (Or.inl z))))) _)) (fun _ => br_c (fun z => br_f (by decide) (yes (Or.inr (Or.inr (Or.inr (Or.inr (Or.inr z))))) _)) (fun _ => br_t rfl h57))))))
  unfold wpX_define
  dsimp only
  refine gc_isq hs (br_f (by decide) (br_f k0 (br_t k8 ?_)))
  unfold wpX_worksOnA
  dsimp only
  exact br_c (fun _ => br_t rfl h38) (fun z2 => br_c (fun _ => br_t rfl h38) (fun z5 => br_f (by decide) (gc_isq' (hA z2 z5).1 (hA z2 z5).2 (br_f (by decide) h38))))
/-- element under gc_P -/
theorem gc_elP {post : Int32 → St2 → Prop} {d1 d2 d3 : Nat → Int32} {X : Nat → Nat → Int32} {M s kk m : Nat} {u : St2} (hr : gc_rdy (gc_P d1 d2 d3 X M) u) (hs : s < 6) (hm : m < 16) (hlv : gc_lv s ≤ m) (hkk : kk ≤ 15) (hM : M + gc_cst m * (kk + 1) < 256)
    (H : ∀ (F : gc_F) (g : gc_G) (k : Nat → Int32), gc_P d1 d2 d3 X (M + gc_cst m * (kk + 1)) F g → post (X s kk) (gc_st F g 0 k)) : wpX_element post u (nI s) (nI kk) := by
  refine gc_elem (m := m) hr hs hm hkk (fun F g hp => ?_) (fun F g g' k hp hi he hB hn => ?_)
  · obtain ⟨h1, h2, h3, h4, h5, h6, h7, h8, h9⟩ := hp
    refine ⟨h5 s hs, h6, ?_, h7, by omega⟩
    rw [(h9 s hs).2]
    exact hlv
  · have h8 := hp.2.2.2.2.2.2.2.1
    have h9 := (hp.2.2.2.2.2.2.2.2 s hs).1
    rw [h9]
    exact H F g' k (gc_P_go hp hi he hB (by omega))
/-- the definitions of the law, by phase: p2, p4 what sequences 2 and 4 are -/
abbrev gc_d (x0 x1 x3 : Int32) : Nat → Int32 := upd (upd (upd (fun _ => 0) 0 x0) 1 x1) 3 x3
abbrev gc_X (a b c d : Int32) (X2 X3 X4 : Nat → Int32) : Nat → Nat → Int32 := fun s => if s = 0 then (fun i => a + nI i * b) else if s = 1 then (fun i => c + nI i * d) else if s = 2 then X2 else if s = 3 then X3 else if s = 4 then X4 else (fun _ => 0)
theorem gc_z (i : Nat) : (0 : Int32) = 0 + nI i * 0 := by grind
theorem gc_bn3 {a b c d K : Int32} {X2 X3 X4 : Nat → Int32} {d1 d2 d3 : Nat → Int32} (hK : K = 3 ∨ K = 4 ∨ K = 6 ∨ K = 7) (hX : gc_op K 0 X3 (fun i => a + nI i * b) (fun i => c + nI i * d))
    (e0 : d1 0 = 0 ∧ d2 0 = a ∧ d3 0 = b) (e1 : d1 1 = 0 ∧ d2 1 = c ∧ d3 1 = d) (e3 : d1 3 = K ∧ d2 3 = 0 ∧ d3 3 = 1) (e5 : d1 5 = 0 ∧ d2 5 = 0 ∧ d3 5 = 0)
    (e2 : (d1 2 = 0 ∧ d2 2 = 0 ∧ d3 2 = 0 ∧ X2 = fun _ => 0) ∨ (d1 2 = 2 ∧ d2 2 = 3 ∧ d3 2 = 0 ∧ X2 = fun i => X3 (i + 1)))
    (e4 : (d1 4 = 0 ∧ d2 4 = 0 ∧ d3 4 = 0 ∧ X4 = fun _ => 0) ∨ (d1 4 = 5 ∧ d2 4 = d ∧ d3 4 = 2 ∧ X4 = fun i => d * X2 i)) : ∀ s, s < 6 → gc_bn d1 d2 d3 (gc_X a b c d X2 X3 X4) s := by
  intro s hs
  have hs' : s = 0 ∨ s = 1 ∨ s = 2 ∨ s = 3 ∨ s = 4 ∨ s = 5 := by omega
  rcases hs' with e | e | e | e | e | e
  · subst e
    exact Or.inl ⟨e0.1, fun i => by rw [e0.2.1, e0.2.2]; rfl⟩
  · subst e
    exact Or.inl ⟨e1.1, fun i => by rw [e1.2.1, e1.2.2]; rfl⟩
  · subst e
    rcases e2 with ⟨h1, h2, h3, h4⟩ | ⟨h1, h2, h3, h4⟩
    · exact Or.inl ⟨h1, fun i => by rw [h2, h3, h4]; exact gc_z i⟩
    · refine Or.inr ⟨3, 0, 0, by decide, by decide, by decide, by decide, ?_, Or.inr (Or.inl ⟨Or.inl h1, rfl, h2, rfl⟩)⟩
      rw [h1]
      exact Or.inl ⟨rfl, fun i => congrFun h4 i⟩
  · subst e
    rcases hK with hK | hK | hK | hK
    · refine Or.inr ⟨0, 1, 0, by decide, by decide, by decide, by decide, ?_, Or.inr (Or.inr ⟨Or.inl (e3.1.trans hK), rfl, e3.2.1, e3.2.2⟩)⟩
      rw [e3.1]
      exact hX
    · refine Or.inr ⟨0, 1, 0, by decide, by decide, by decide, by decide, ?_, Or.inr (Or.inr ⟨Or.inr (Or.inl (e3.1.trans hK)), rfl, e3.2.1, e3.2.2⟩)⟩
      rw [e3.1]
      exact hX
    · refine Or.inr ⟨0, 0, 0, by decide, by decide, by decide, by decide, ?_, Or.inr (Or.inl ⟨Or.inr (e3.1.trans hK), rfl, e3.2.1, rfl⟩)⟩
      rw [e3.1, hK]
      rw [hK] at hX
      rcases hX with h | h | h | h | h | h
      · exact absurd h.1 (by decide)
      · exact absurd h.1 (by decide)
      · exact Or.inr (Or.inr (Or.inl h))
      · exact absurd h.1 (by decide)
      · exact absurd h.1 (by decide)
      · exact absurd h.1 (by decide)
    · refine Or.inr ⟨0, 1, 0, by decide, by decide, by decide, by decide, ?_, Or.inr (Or.inr ⟨Or.inr (Or.inr (e3.1.trans hK)), rfl, e3.2.1, e3.2.2⟩)⟩
      rw [e3.1]
      exact hX
  · subst e
    rcases e4 with ⟨h1, h2, h3, h4⟩ | ⟨h1, h2, h3, h4⟩
    · exact Or.inl ⟨h1, fun i => by rw [h2, h3, h4]; exact gc_z i⟩
    · refine Or.inr ⟨2, 0, d, by decide, by decide, by decide, by decide, ?_, Or.inl ⟨h1, h2.symm, h3, rfl⟩⟩
      rw [h1]
      exact Or.inr (Or.inl ⟨rfl, fun i => congrFun h4 i⟩)
  · subst e
    exact Or.inl ⟨e5.1, fun i => by rw [e5.2.1, e5.2.2]; exact gc_z i⟩
end
section
theorem gc_P_mono {d1 d2 d3 : Nat → Int32} {X : Nat → Nat → Int32} {M M' : Nat} {u : St2} (hM : M ≤ M') (h : gc_rdy (gc_P d1 d2 d3 X M) u) : gc_rdy (gc_P d1 d2 d3 X M') u :=
  fun post H => h post (fun F g t k hp => H F g t k ⟨hp.1, hp.2.1, hp.2.2.1, hp.2.2.2.1, hp.2.2.2.2.1, hp.2.2.2.2.2.1, hp.2.2.2.2.2.2.1, Nat.le_trans hp.2.2.2.2.2.2.2.1 hM, hp.2.2.2.2.2.2.2.2⟩)
theorem gc_248 {post : Int32 → St0 → Prop} {mc ms kc ks k : Nat} {a b c d K : Int32} {X3 : Nat → Int32} {fb ba tp sp : Int32} {a1 a2 a3 a4 a5 a6 a7 a8 a9 a10 a11 a12 : Nat → Int32} (hk : k < 8) (hK : K = 3 ∨ K = 4 ∨ K = 6 ∨ K = 7) (hX : gc_op K 0 X3 (fun i => a + nI i * b) (fun i => c + nI i * d))
    (hr : gc_rdy (gc_P (upd (gc_d 0 0 K) 2 2) (upd (gc_d a c 0) 2 3) (upd (gc_d b d 1) 2 0) (gc_X a b c d (fun i => X3 (i + 1)) X3 (fun _ => 0)) 55) (fb, ba, tp, sp, a1, a2, a3, a4, a5, a6, a7, a8, a9, a10, a11, a12)) (q : post 1 ()) :
    wL_lawOf_248 post mc ms d (nI k) (X3 k) kc ks fb ba tp sp a1 a2 a3 a4 a5 a6 a7 a8 a9 a10 a11 a12 := by
  unfold wL_lawOf_248
  refine gc_known (s := 2) (m := 2) hr (by decide) (by decide) (by decide) (by decide) (fun F g kk hp => br_t rfl ?_)
  obtain ⟨gb, f1, f2, f3, f10, f11⟩ := F
  have h1 : f1 = upd (gc_d 0 0 K) 2 2 := hp.2.1
  have h2 : f2 = upd (gc_d a c 0) 2 3 := hp.2.2.1
  have h3 : f3 = upd (gc_d b d 1) 2 0 := hp.2.2.2.1
  subst h1 h2 h3
  refine gc_def (F := (gb, upd (gc_d 0 0 K) 2 2, upd (gc_d a c 0) 2 3, upd (gc_d b d 1) 2 0, f10, f11)) (g := g) (t := 0) (k := kk) (s := 4) (by decide) (by decide) (by decide) (by decide) (fun _ z => absurd rfl z) (fun _ => by decide) (br_f (by decide) ?_)
  cases k with
  | zero => exact br_t rfl q
  | succ j =>
    refine br_f (nI_ne0 (by omega) (by omega)) ?_
    rw [nI_pred]
    refine gc_elP (s := 4) (m := 3) (gc_build (X := gc_X a b c d (fun i => X3 (i + 1)) X3 (fun i => d * X3 (i + 1))) (gc_bn3 hK hX ⟨rfl, rfl, rfl⟩ ⟨rfl, rfl, rfl⟩ ⟨rfl, rfl, rfl⟩ ⟨rfl, rfl, rfl⟩ (Or.inr ⟨rfl, rfl, rfl, rfl⟩) (Or.inr ⟨rfl, rfl, rfl, rfl⟩))) (by decide) (by decide) (by decide) (by omega) ?_ (fun F g kk hp => br_t rfl q)
    rw [show gc_cst 3 = 15 from rfl]
    omega
theorem gc_187 {post : Int32 → St0 → Prop} {mc ms kc ks k t : Nat} {a b c d K : Int32} {X3 : Nat → Int32} {fb : Int32} {f10 f11 kk : Nat → Int32} {g : gc_G} (hk : k < 8) (hK : K = 3 ∨ K = 4 ∨ K = 6 ∨ K = 7) (hX : gc_op K 0 X3 (fun i => a + nI i * b) (fun i => c + nI i * d)) (q : post 1 ()) :
    wL_lawOf_187 post mc ms d (nI k) (X3 k) K 3 kc ks fb 0 (nI (gc_N g)) (nI t) (upd (upd (fun _ => 0) 0 0) 1 0) (upd (upd (fun _ => 0) 0 a) 1 c) (upd (upd (fun _ => 0) 0 b) 1 d) (gc_S g) (gc_V g) (gc_T g) (gc_L g) (gc_R g) (gc_B g) f10 f11 kk := by
  have e1 : gc_cst 1 = 3 := rfl
  have e2 : gc_cst 2 = 7 := rfl
  have K1 : ¬ K < 0 := by rcases hK with h | h | h | h <;> subst h <;> decide
  have K2 : K ≤ 8 := by rcases hK with h | h | h | h <;> subst h <;> decide
  have K3 : K.toInt8.toInt32 = K := by rcases hK with h | h | h | h <;> subst h <;> decide
  unfold wL_lawOf_187
  refine gc_def (F := (fb, upd (upd (fun _ => 0) 0 0) 1 0, upd (upd (fun _ => 0) 0 a) 1 c, upd (upd (fun _ => 0) 0 b) 1 d, f10, f11)) (g := g) (t := t) (k := kk) (s := 3) (by decide) K1 K2 K3 (fun _ _ => by decide) (fun _ => by decide) (br_f (by decide) ?_)
  refine gc_elP (s := 3) (m := 1) (gc_build (d1 := gc_d 0 0 K) (d2 := gc_d a c 0) (d3 := gc_d b d 1) (X := gc_X a b c d (fun _ => 0) X3 (fun _ => 0)) (gc_bn3 hK hX ⟨rfl, rfl, rfl⟩ ⟨rfl, rfl, rfl⟩ ⟨rfl, rfl, rfl⟩ ⟨rfl, rfl, rfl⟩ (Or.inl ⟨rfl, rfl, rfl, rfl⟩) (Or.inl ⟨rfl, rfl, rfl, rfl⟩))) (by decide) (by decide) (by decide) (by omega) (by rw [e1]; omega) (fun F g kk hp => br_t rfl ?_)
  obtain ⟨gb, f1, f2, f3, g10, g11⟩ := F
  have h1 : f1 = gc_d 0 0 K := hp.2.1
  have h2 : f2 = gc_d a c 0 := hp.2.2.1
  have h3 : f3 = gc_d b d 1 := hp.2.2.2.1
  subst h1 h2 h3
  refine gc_def (F := (gb, gc_d 0 0 K, gc_d a c 0, gc_d b d 1, g10, g11)) (g := g) (t := 0) (k := kk) (s := 2) (by decide) (by decide) (by decide) (by decide) (fun _ _ => by decide) (fun z => absurd z (by decide)) (br_f (by decide) ?_)
  have hb : gc_rdy (gc_P (upd (gc_d 0 0 K) 2 2) (upd (gc_d a c 0) 2 3) (upd (gc_d b d 1) 2 0) (gc_X a b c d (fun i => X3 (i + 1)) X3 (fun _ => 0)) 6) (gc_st (0, upd (gc_d 0 0 K) 2 2, upd (gc_d a c 0) 2 3, upd (gc_d b d 1) 2 0, g10, g11) g 0 kk) :=
    gc_build (gc_bn3 hK hX ⟨rfl, rfl, rfl⟩ ⟨rfl, rfl, rfl⟩ ⟨rfl, rfl, rfl⟩ ⟨rfl, rfl, rfl⟩ (Or.inr ⟨rfl, rfl, rfl, rfl⟩) (Or.inl ⟨rfl, rfl, rfl, rfl⟩))
  cases k with
  | zero => exact br_t (by decide) (gc_248 hk hK hX (gc_P_mono (by omega) hb) q)
  | succ j =>
    refine br_f (nI_nle (by omega) (by omega)) ?_
    rw [nI_pred]
    refine gc_elP (s := 2) (m := 2) hb (by decide) (by decide) (by decide) (by omega) (by rw [e2]; omega) (fun F g kk hp => br_t rfl ?_)
    exact gc_248 hk hK hX (gc_P_mono (M := 6 + gc_cst 2 * (j + 1)) (by rw [e2]; omega) (gc_rdy_built (t := 0) (k := kk) hp.1 hp)) q
theorem gc_112 {post : Int32 → St0 → Prop} {k : Nat} {a b c d K x6 z0 : Int32} {X3 : Nat → Int32} (hk : k < 8) (hK : K = 3 ∨ K = 4 ∨ K = 6 ∨ K = 7) (hX : gc_op K 0 X3 (fun i => a + nI i * b) (fun i => c + nI i * d)) (hz : z0 = X3 k)
    (hs : (x6 = 0 ∧ K = 3) ∨ (x6 = 1 ∧ K = 4) ∨ (x6 = 2 ∧ K = 6) ∨ (x6 = 3 ∧ K = 7)) (q : post 1 ()) : wL_lawOf_112 post 1072 17136 a b c d x6 (nI k) z0 0 0 := by
  subst hz
  unfold wL_lawOf_112
  refine ⟨by omega, by omega, 12, 3624, by omega, by omega, ?_⟩
  unfold wpX_init
  dsimp only
  refine ⟨by omega, by omega, by omega, by omega, by omega, by omega, by omega, by omega, by omega, by omega, by omega, by omega, by omega, by omega, by omega, by omega, by omega, by omega, by omega, by omega, by omega, by omega, by omega, by omega, ?_⟩
  refine gc_def (F := (0, fun _ => 0, fun _ => 0, fun _ => 0, fun _ => 0, fun _ => 0)) (g := (0, fun _ => 0, fun _ => 0, fun _ => 0, fun _ => 0, fun _ => 0, fun _ => 0, fun _ => 0, fun _ _ => 0)) (t := 0) (k := fun _ => 0) (s := 0) (by decide) (by decide) (by decide) (by decide) (fun z => absurd (by decide) z) (fun z => absurd z (by decide)) (br_f (by decide) ?_)
  refine gc_def (F := (0, upd (fun _ => 0) 0 0, upd (fun _ => 0) 0 a, upd (fun _ => 0) 0 b, fun _ => 0, fun _ => 0)) (g := (0, fun _ => 0, fun _ => 0, fun _ => 0, fun _ => 0, fun _ => 0, fun _ => 0, fun _ => 0, fun _ _ => 0)) (t := 0) (k := fun _ => 0) (s := 1) (by decide) (by decide) (by decide) (by decide) (fun z => absurd (by decide) z) (fun z => absurd z (by decide)) (br_f (by decide) ?_)
  rcases hs with ⟨h, h'⟩ | ⟨h, h'⟩ | ⟨h, h'⟩ | ⟨h, h'⟩
  · subst h h'
    exact br_t rfl (gc_187 (g := (0, fun _ => 0, fun _ => 0, fun _ => 0, fun _ => 0, fun _ => 0, fun _ => 0, fun _ => 0, fun _ _ => 0)) (t := 0) hk hK hX q)
  · subst h h'
    exact br_f (by decide) (br_t rfl (gc_187 (g := (0, fun _ => 0, fun _ => 0, fun _ => 0, fun _ => 0, fun _ => 0, fun _ => 0, fun _ => 0, fun _ _ => 0)) (t := 0) hk hK hX q))
  · subst h h'
    exact br_f (by decide) (br_f (by decide) (br_t rfl (gc_187 (g := (0, fun _ => 0, fun _ => 0, fun _ => 0, fun _ => 0, fun _ => 0, fun _ => 0, fun _ => 0, fun _ _ => 0)) (t := 0) hk hK hX q)))
  · subst h h'
    exact br_f (by decide) (br_f (by decide) (br_f (by decide) (gc_187 (g := (0, fun _ => 0, fun _ => 0, fun _ => 0, fun _ => 0, fun _ => 0, fun _ => 0, fun _ => 0, fun _ _ => 0)) (t := 0) hk hK hX q)))
theorem gc_tri (i : Nat) : (i + 1) * (i + 1 + 1) / 2 = i * (i + 1) / 2 + (i + 1) := by
  rw [show (i + 1) * (i + 1 + 1) = i * (i + 1) + (i + 1) * 2 by rw [Nat.mul_comm i (i + 1), ← Nat.mul_add], Nat.add_mul_div_right _ _ (by decide)]
theorem gc_scan (a b c d : Int32) : gc_op 6 0 (fun i => nI (i + 1) * a + nI (i * (i + 1) / 2) * b) (fun i => a + nI i * b) (fun i => c + nI i * d) := by
  refine Or.inr (Or.inr (Or.inl ⟨rfl, ?_, fun i => ?_⟩))
  · show nI 1 * a + nI 0 * b = 0 + (a + nI 0 * b)
    rw [show nI 1 = 1 from rfl, nI_0]
    grind
  · show nI (i + 1 + 1) * a + nI ((i + 1) * (i + 1 + 1) / 2) * b = nI (i + 1) * a + nI (i * (i + 1) / 2) * b + (a + nI (i + 1) * b)
    rw [gc_tri i, (nI_add (i * (i + 1) / 2) (i + 1)).symm, nI_succ (i + 1)]
    generalize nI (i + 1) = p
    generalize nI (i * (i + 1) / 2) = r
    grind
theorem gc_lawOf {post : Int32 → St0 → Prop} {p0 p1 p2 p3 p4 p5 : Int32} (q : post 1 ()) : wpL_lawOf post 1072 17136 () p0 p1 p2 p3 p4 p5 := by
  obtain ⟨j, hj, ej⟩ := pk_andE p0 (m := 3) 2 (by decide)
  obtain ⟨k, hk, ek⟩ := pk_andE p5 (m := 7) 3 (by decide)
  have hj' : j = 0 ∨ j = 1 ∨ j = 2 ∨ j = 3 := by omega
  have hk8 : k < 8 := hk
  unfold wpL_lawOf
  refine nm_r ej (nm_r ek (nm_e (nm_e (nm_r (pk_shrN (show k < 2 ^ 31 by omega) _ 1 (by decide)) ?_))))
  rcases hj' with e | e | e | e
  · subst e
    exact br_t rfl (gc_112 (K := 3) (X3 := fun i => (p1 + nI i * p2) + (p3 + nI i * p4)) hk8 (by decide) (Or.inr (Or.inr (Or.inr (Or.inr (Or.inl ⟨rfl, fun _ => rfl⟩))))) rfl (Or.inl ⟨rfl, rfl⟩) q)
  · subst e
    exact br_f (by decide) (br_t rfl (gc_112 (K := 4) (X3 := fun i => (p1 + nI i * p2) * (p3 + nI i * p4)) hk8 (by decide) (Or.inr (Or.inr (Or.inr (Or.inr (Or.inr ⟨rfl, fun _ => rfl⟩))))) rfl (Or.inr (Or.inl ⟨rfl, rfl⟩)) q))
  · subst e
    refine br_f (by decide) (br_f (by decide) (br_t rfl ⟨by decide, gc_112 (K := 6) hk8 (by decide) (gc_scan p1 p2 p3 p4) ?_ (Or.inr (Or.inr (Or.inl ⟨rfl, rfl⟩))) q⟩))
    have h72 : k * (k + 1) ≤ 7 * 8 := Nat.mul_le_mul (by omega) (by omega)
    rw [nI_1, pk_mul, show (2 : Int32) = nI 2 from rfl, pk_div (by omega) (by decide) (by decide)]
  · subst e
    refine br_f (by decide) (br_f (by decide) (br_f (by decide) ?_))
    rw [pk_andN (show k < 2 ^ 32 by omega) (m := 1) 1 (by decide)]
    have hX : gc_op 7 0 (fun i => if i % 2 = 0 then p1 + nI (i / 2) * p2 else p3 + nI (i / 2) * p4) (fun i => p1 + nI i * p2) (fun i => p3 + nI i * p4) := Or.inr (Or.inr (Or.inr (Or.inl ⟨rfl, fun i => rfl⟩)))
    refine pk_eq (k % 2 ^ 1) 0 (fun z => gc_112 (K := 7) hk8 (by decide) hX ?_ (Or.inr (Or.inr (Or.inr ⟨rfl, rfl⟩))) q) (fun z => gc_112 (K := 7) hk8 (by decide) hX ?_ (Or.inr (Or.inr (Or.inr ⟨rfl, rfl⟩))) q)
    · show p1 + nI (k / 2 ^ 1) * p2 = if k % 2 = 0 then p1 + nI (k / 2) * p2 else p3 + nI (k / 2) * p4
      rw [if_pos (show k % 2 = 0 from z)]
    · show p3 + nI (k / 2 ^ 1) * p4 = if k % 2 = 0 then p1 + nI (k / 2) * p2 else p3 + nI (k / 2) * p4
      rw [if_neg (show ¬ k % 2 = 0 from z)]
theorem gc_at {post : Int32 → Prop} {L i : Nat} {xs : Nat → Int32} (hL : L ≤ 6) (hi : i < 6) (h : ∀ v, post v) : wpL_cellAt post L xs () (nI i) :=
  pk_le L i (fun _ => h 0) (fun z => ⟨pk_in i L z, h _⟩)
theorem i_vc (xs : Nat → Int32) (L : Nat) (hL : L ≤ 6) : wpL_law (fun r => r = 1) L xs := by
  unfold wpL_law
  exact gc_at (i := 0) hL (by decide) (fun r1 => gc_at (i := 1) hL (by decide) (fun r2 => gc_at (i := 2) hL (by decide) (fun r3 => gc_at (i := 3) hL (by decide) (fun r4 => gc_at (i := 4) hL (by decide) (fun r5 => gc_at (i := 5) hL (by decide) (fun r6 => ⟨1072, 17136, by omega, by omega, gc_lawOf rfl⟩))))))
end
