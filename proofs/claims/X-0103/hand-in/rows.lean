section
/-! rows of kit/rows (pk_*), then counts and searches of naturals -/
theorem pk_us {f : Nat → Int32} {k : Nat} {x : Int32} : upd f k x k = x := if_pos rfl
theorem pk_un {f : Nat → Int32} {k j : Nat} {x : Int32} (h : j ≠ k) : upd f k x j = f j := if_neg h
theorem pk_sub {a b : Nat} (h : b ≤ a) : nI a - nI b = nI (a - b) := by
  obtain ⟨c, rfl⟩ : ∃ c, a = c + b := ⟨a - b, by omega⟩
  rw [← nI_add, Int32.add_sub_cancel, Nat.add_sub_cancel]
theorem pk_mul (a b : Nat) : nI a * nI b = nI (a * b) := (Int32.ofNat_mul a b).symm
theorem pk_div {a d : Nat} (ha : a < 2 ^ 31) (h0 : 0 < d) (hd : d < 2 ^ 31) : nI a / nI d = nI (a / d) := by
  apply Int32.toInt_inj.mp
  rw [lg_idiv_nonneg (by rw [nI_toInt ha]; omega) (by rw [nI_toInt hd]; omega), nI_toInt ha, nI_toInt hd, nI_toInt (Nat.lt_of_le_of_lt (Nat.div_le_self a d) ha)]
  first | rfl | exact (Int.natCast_ediv _ _).symm
theorem pk_rem {a d : Nat} (ha : a < 2 ^ 31) (h0 : 0 < d) (hd : d < 2 ^ 31) : nI a - nI a / nI d * nI d = nI (a % d) := by
  rw [pk_div ha h0 hd, pk_mul, pk_sub (Nat.div_mul_le_self a d)]
  exact congrArg nI (by have := Nat.div_add_mod' a d; omega)
theorem pk_ix (x : Int32) {n : Nat} (hn : n < 2 ^ 31) : x < 0 ∨ nI n ≤ x ∨ ∃ j : Nat, j < n ∧ x = nI j := by
  by_cases h : x < 0
  · exact Or.inl h
  · obtain ⟨j, hj, rfl⟩ := nI_of h
    by_cases h2 : j < n
    · exact Or.inr (Or.inr ⟨j, h2, rfl⟩)
    · exact Or.inr (Or.inl (nI_le (by omega) hj))
theorem pk_least (P : Nat → Prop) (h : ∃ k, P k) : ∃ k, P k ∧ ∀ j, j < k → ¬ P j := by
  obtain ⟨k, hk⟩ := h
  induction k using Nat.strongRecOn with
  | ind k ih =>
    by_cases e : ∃ j, j < k ∧ P j
    · obtain ⟨j, hj, pj⟩ := e
      exact ih j hj pj
    · exact ⟨k, hk, fun j hj pj => e ⟨j, hj, pj⟩⟩

/-- a truth value of any statement -/
noncomputable def td_b (p : Prop) : Bool := @decide p (Classical.propDecidable p)
theorem td_b_t {p : Prop} : td_b p = true ↔ p := @decide_eq_true_iff p (Classical.propDecidable p)
theorem td_b_f {p : Prop} : td_b p = false ↔ ¬ p := @decide_eq_false_iff_not p (Classical.propDecidable p)
theorem td_bf {b : Bool} (h : ¬ b = true) : b = false := by cases b <;> simp_all
theorem td_beq {a b : Bool} (h : a = true ↔ b = true) : a = b := by cases a <;> cases b <;> simp_all

/-- the first of i, i + 1, .. (n of them) with p, else d -/
def td_lf (p : Nat → Bool) (d : Nat) : Nat → Nat → Nat
  | 0, _ => d
  | n + 1, i => if p i = true then i else td_lf p d n (i + 1)
theorem td_lf_t {p : Nat → Bool} {d : Nat} : ∀ n i j, i ≤ j → j < i + n → p j = true → (∀ k, i ≤ k → k < j → p k = false) → td_lf p d n i = j := by
  intro n
  induction n with
  | zero => intro i j h1 h2; omega
  | succ n ih =>
    intro i j h1 h2 hp hn
    by_cases e : i = j
    · subst e
      exact if_pos hp
    · have hi : p i = false := hn i (Nat.le_refl i) (by omega)
      have hi' : ¬ p i = true := by rw [hi]; decide
      exact (if_neg hi').trans (ih (i + 1) j (by omega) (by omega) hp (fun k h3 h4 => hn k (by omega) h4))
theorem td_lf_f {p : Nat → Bool} {d : Nat} : ∀ n i, (∀ k, i ≤ k → k < i + n → p k = false) → td_lf p d n i = d := by
  intro n
  induction n with
  | zero => intro i _; rfl
  | succ n ih =>
    intro i hn
    have hi : p i = false := hn i (Nat.le_refl i) (by omega)
    have hi' : ¬ p i = true := by rw [hi]; decide
    exact (if_neg hi').trans (ih (i + 1) (fun k h3 h4 => hn k (by omega) (by omega)))
/-- the two ways of a search from 0 -/
theorem td_lf_c (p : Nat → Bool) (n : Nat) : (∃ j, j < n ∧ p j = true ∧ ∀ k, k < j → p k = false) ∨ (∀ k, k < n → p k = false) := by
  by_cases h : ∃ j, j < n ∧ p j = true
  · obtain ⟨j, hj, hm⟩ := pk_least _ h
    refine Or.inl ⟨j, hj.1, hj.2, fun k hk => td_bf fun z => hm k hk ⟨Nat.lt_trans hk hj.1, z⟩⟩
  · exact Or.inr fun k hk => td_bf fun z => h ⟨k, hk, z⟩
theorem td_lf_0t {p : Nat → Bool} {d n j : Nat} (hj : j < n) (hp : p j = true) (hm : ∀ k, k < j → p k = false) : td_lf p d n 0 = j :=
  td_lf_t n 0 j (Nat.zero_le j) (by omega) hp (fun k _ h => hm k h)
theorem td_lf_0f {p : Nat → Bool} {d n : Nat} (hm : ∀ k, k < n → p k = false) : td_lf p d n 0 = d :=
  td_lf_f n 0 (fun k _ h => hm k (by omega))
theorem td_lf_e {p q : Nat → Bool} {d n : Nat} (h : ∀ k, k < n → p k = q k) : td_lf p d n 0 = td_lf q d n 0 := by
  rcases td_lf_c p n with ⟨j, hj, hp, hm⟩ | hm
  · rw [td_lf_0t hj hp hm, td_lf_0t hj (by rw [← h j hj]; exact hp) (fun k hk => by rw [← h k (by omega)]; exact hm k hk)]
  · rw [td_lf_0f hm, td_lf_0f (fun k hk => by rw [← h k hk]; exact hm k hk)]

/-- how many below n have p -/
def td_ct (p : Nat → Bool) : Nat → Nat
  | 0 => 0
  | n + 1 => if p n = true then td_ct p n + 1 else td_ct p n
theorem td_ct_t {p : Nat → Bool} {n : Nat} (h : p n = true) : td_ct p (n + 1) = td_ct p n + 1 := if_pos h
theorem td_ct_f {p : Nat → Bool} {n : Nat} (h : p n = false) : td_ct p (n + 1) = td_ct p n := if_neg (by rw [h]; decide)
theorem td_ct_le (p : Nat → Bool) : ∀ n, td_ct p n ≤ n := by
  intro n
  induction n with
  | zero => exact Nat.le_refl 0
  | succ n ih =>
    by_cases h : p n = true
    · rw [td_ct_t h]; omega
    · rw [td_ct_f (td_bf h)]; omega
theorem td_ct_mono {p q : Nat → Bool} : ∀ n, (∀ i, i < n → p i = true → q i = true) → td_ct p n ≤ td_ct q n := by
  intro n
  induction n with
  | zero => intro _; exact Nat.le_refl 0
  | succ n ih =>
    intro h
    have ih' := ih (fun i hi => h i (by omega))
    by_cases hp : p n = true
    · rw [td_ct_t hp, td_ct_t (h n (by omega) hp)]; omega
    · rw [td_ct_f (td_bf hp)]
      by_cases hq : q n = true
      · rw [td_ct_t hq]; omega
      · rw [td_ct_f (td_bf hq)]; exact ih'
theorem td_ct_lt {p q : Nat → Bool} : ∀ n, (∀ i, i < n → p i = true → q i = true) → (∃ i, i < n ∧ q i = true ∧ p i = false) → td_ct p n < td_ct q n := by
  intro n
  induction n with
  | zero => intro _ h; obtain ⟨i, hi, _⟩ := h; omega
  | succ n ih =>
    intro h hx
    obtain ⟨i, hi, hq, hp⟩ := hx
    by_cases e : i = n
    · subst e
      rw [td_ct_t hq, td_ct_f hp]
      have := td_ct_mono i (fun k hk => h k (by omega))
      omega
    · have ih' := ih (fun i hi => h i (by omega)) ⟨i, by omega, hq, hp⟩
      by_cases hp : p n = true
      · rw [td_ct_t hp, td_ct_t (h n (by omega) hp)]; omega
      · rw [td_ct_f (td_bf hp)]
        by_cases hq : q n = true
        · rw [td_ct_t hq]; omega
        · rw [td_ct_f (td_bf hq)]; exact ih'
theorem td_ct_e {p q : Nat → Bool} {n : Nat} (h : ∀ i, i < n → p i = q i) : td_ct p n = td_ct q n :=
  Nat.le_antisymm (td_ct_mono n fun i hi hp => by rw [← h i hi]; exact hp) (td_ct_mono n fun i hi hp => by rw [h i hi]; exact hp)
theorem td_ct_up {p : Nat → Bool} {m : Nat} : ∀ n, m ≤ n → td_ct p m ≤ td_ct p n := by
  intro n
  induction n with
  | zero => intro h; have : m = 0 := by omega
            subst this; exact Nat.le_refl _
  | succ n ih =>
    intro h
    by_cases e : m = n + 1
    · subst e; exact Nat.le_refl _
    · have ih' := ih (by omega)
      by_cases hp : p n = true
      · rw [td_ct_t hp]; omega
      · rw [td_ct_f (td_bf hp)]; exact ih'
theorem td_ct_st {p : Nat → Bool} {m n : Nat} (h : m < n) (hp : p m = true) : td_ct p m < td_ct p n := by
  have := td_ct_up (p := p) (m := m + 1) n (by omega)
  rw [td_ct_t hp] at this
  omega
/-- each number below the count is the count up to some place that has p -/
theorem td_ct_ex {p : Nat → Bool} : ∀ n k, k < td_ct p n → ∃ z, z < n ∧ p z = true ∧ td_ct p z = k := by
  intro n
  induction n with
  | zero => intro k hk; exact absurd hk (Nat.not_lt_zero k)
  | succ n ih =>
    intro k hk
    by_cases hp : p n = true
    · rw [td_ct_t hp] at hk
      by_cases e : k < td_ct p n
      · obtain ⟨z, h1, h2⟩ := ih k e
        exact ⟨z, by omega, h2⟩
      · exact ⟨n, by omega, hp, by omega⟩
    · rw [td_ct_f (td_bf hp)] at hk
      obtain ⟨z, h1, h2⟩ := ih k hk
      exact ⟨z, by omega, h2⟩
/-- places that have p are told apart by their counts -/
theorem td_ct_inj {p : Nat → Bool} {a b : Nat} (ha : p a = true) (hb : p b = true) (h : td_ct p a = td_ct p b) : a = b := by
  rcases Nat.lt_trichotomy a b with l | l | l
  · have := td_ct_st l ha; omega
  · exact l
  · have := td_ct_st l hb; omega
end
section
/-! bisimilarity of types, apart from any program: K kinds (0: not in use), A attributes, C numbers of edges, nm names, tg targets, bd bodies -/
section
variable {K A C nm tg : Nat → Int32} {bd : Nat → Nat}

/-- p and q have one shape, and their targets are related by S -/
def td_Mt (K A C nm tg : Nat → Int32) (S : Nat → Nat → Prop) (p q : Nat) : Prop :=
  K p = K q ∧ A p = A q ∧ C p = C q ∧ ∀ i, i < (C p).toNatClampNeg → nm (p * 4 + i) = nm (q * 4 + i) ∧ S (tg (p * 4 + i)).toNatClampNeg (tg (q * 4 + i)).toNatClampNeg

theorem td_Mt_mono {S S' : Nat → Nat → Prop} {p q : Nat} (m : td_Mt K A C nm tg S p q)
    (h : ∀ i, i < (C p).toNatClampNeg → S (tg (p * 4 + i)).toNatClampNeg (tg (q * 4 + i)).toNatClampNeg → S' (tg (p * 4 + i)).toNatClampNeg (tg (q * 4 + i)).toNatClampNeg) :
    td_Mt K A C nm tg S' p q :=
  ⟨m.1, m.2.1, m.2.2.1, fun i hi => ⟨(m.2.2.2 i hi).1, h i hi (m.2.2.2 i hi).2⟩⟩
theorem td_Mt_symm {S S' : Nat → Nat → Prop} {p q : Nat} (m : td_Mt K A C nm tg S p q) (h : ∀ a b, S a b → S' b a) :
    td_Mt K A C nm tg S' q p :=
  ⟨m.1.symm, m.2.1.symm, m.2.2.1.symm, fun i hi => by
    rw [← m.2.2.1] at hi
    exact ⟨(m.2.2.2 i hi).1.symm, h _ _ (m.2.2.2 i hi).2⟩⟩
theorem td_Mt_trans {S S' S'' : Nat → Nat → Prop} {p q r : Nat} (m : td_Mt K A C nm tg S p q) (m' : td_Mt K A C nm tg S' q r)
    (h : ∀ a b c, S a b → S' b c → S'' a c) : td_Mt K A C nm tg S'' p r :=
  ⟨m.1.trans m'.1, m.2.1.trans m'.2.1, m.2.2.1.trans m'.2.2.1, fun i hi => by
    have hi' := hi
    rw [m.2.2.1] at hi'
    exact ⟨(m.2.2.2 i hi).1.trans (m'.2.2.2 i hi').1, h _ _ _ (m.2.2.2 i hi).2 (m'.2.2.2 i hi').2⟩⟩

/-- the greatest bisimulation between types in use -/
def td_Bis (K A C nm tg : Nat → Int32) (bd : Nat → Nat) (x y : Nat) : Prop :=
  ∃ S : Nat → Nat → Prop, (∀ a b, S a b → K a ≠ 0 ∧ K b ≠ 0 ∧ td_Mt K A C nm tg S (bd a) (bd b)) ∧ S x y
theorem td_Bis_st {x y : Nat} (h : td_Bis K A C nm tg bd x y) : K x ≠ 0 ∧ K y ≠ 0 ∧ td_Mt K A C nm tg (td_Bis K A C nm tg bd) (bd x) (bd y) := by
  obtain ⟨S, hS, s⟩ := h
  obtain ⟨h1, h2, m⟩ := hS x y s
  exact ⟨h1, h2, td_Mt_mono m (fun i _ z => ⟨S, hS, z⟩)⟩

/-- used types' bodies are used, and so are the targets of those -/
def td_Cl (K C tg : Nat → Int32) (bd : Nat → Nat) : Prop :=
  ∀ x, K x ≠ 0 → K (bd x) ≠ 0 ∧ ∀ i, i < (C (bd x)).toNatClampNeg → K (tg (bd x * 4 + i)).toNatClampNeg ≠ 0

theorem td_Bis_refl (hc : td_Cl K C tg bd) {x : Nat} (hx : K x ≠ 0) : td_Bis K A C nm tg bd x x :=
  ⟨fun a b => a = b ∧ K a ≠ 0, fun a b h => by
    obtain ⟨e, h⟩ := h
    subst e
    exact ⟨h, h, rfl, rfl, rfl, fun i hi => ⟨rfl, rfl, (hc a h).2 i hi⟩⟩, rfl, hx⟩
theorem td_Bis_symm {x y : Nat} (h : td_Bis K A C nm tg bd x y) : td_Bis K A C nm tg bd y x :=
  ⟨fun a b => td_Bis K A C nm tg bd b a, fun a b z => by
    obtain ⟨h1, h2, m⟩ := td_Bis_st z
    exact ⟨h2, h1, td_Mt_symm m (fun _ _ w => w)⟩, h⟩
theorem td_Bis_trans {x y z : Nat} (h : td_Bis K A C nm tg bd x y) (h' : td_Bis K A C nm tg bd y z) : td_Bis K A C nm tg bd x z :=
  ⟨fun a b => ∃ c, td_Bis K A C nm tg bd a c ∧ td_Bis K A C nm tg bd c b, fun a b w => by
    obtain ⟨c, w1, w2⟩ := w
    obtain ⟨h1, h2, m⟩ := td_Bis_st w1
    obtain ⟨h3, h4, m'⟩ := td_Bis_st w2
    exact ⟨h1, h4, td_Mt_trans m m' (fun _ b _ u v => ⟨b, u, v⟩)⟩, y, h, h'⟩

/-! the component's way: labels, split until they stay -/
/-- alike under the labels cl -/
def td_Al (K A C nm tg : Nat → Int32) (bd : Nat → Nat) (cl : Nat → Int32) (x y : Nat) : Prop :=
  cl x = cl y ∧ td_Mt K A C nm tg (fun a b => cl a = cl b) (bd x) (bd y)
theorem td_Al_refl {cl : Nat → Int32} (x : Nat) : td_Al K A C nm tg bd cl x x := ⟨rfl, rfl, rfl, rfl, fun _ _ => ⟨rfl, rfl⟩⟩
theorem td_Al_symm {cl : Nat → Int32} {x y : Nat} (h : td_Al K A C nm tg bd cl x y) : td_Al K A C nm tg bd cl y x :=
  ⟨h.1.symm, td_Mt_symm h.2 (fun _ _ w => w.symm)⟩
theorem td_Al_trans {cl : Nat → Int32} {x y z : Nat} (h : td_Al K A C nm tg bd cl x y) (h' : td_Al K A C nm tg bd cl y z) : td_Al K A C nm tg bd cl x z :=
  ⟨h.1.trans h'.1, td_Mt_trans h.2 h'.2 (fun _ _ _ u v => u.trans v)⟩

/-- l leads x under the labels cl -/
def td_Ld (K A C nm tg : Nat → Int32) (bd : Nat → Nat) (cl : Nat → Int32) (x l : Nat) : Prop :=
  (K x = 0 ∧ l = x) ∨ (K x ≠ 0 ∧ K l ≠ 0 ∧ l ≤ x ∧ td_Al K A C nm tg bd cl l x ∧ ∀ y, y < l → K y ≠ 0 → ¬ td_Al K A C nm tg bd cl y x)
/-- cl' are the labels after one split of cl -/
def td_Sp (T : Nat) (K A C nm tg : Nat → Int32) (bd : Nat → Nat) (cl cl' : Nat → Int32) : Prop :=
  ∀ x, x < T → ∃ l, td_Ld K A C nm tg bd cl x l ∧ cl' x = nI l
/-- a label is the lowest type of its class -/
def td_Lb (T : Nat) (K cl : Nat → Int32) : Prop :=
  ∀ x, x < T → ∃ l, l ≤ x ∧ cl x = nI l ∧ cl l = nI l ∧ (K x ≠ 0 → K l ≠ 0) ∧ (K x = 0 → l = x)

theorem td_Ld_u {cl : Nat → Int32} {x l : Nat} (h : td_Ld K A C nm tg bd cl x l) (hx : K x ≠ 0) :
    K l ≠ 0 ∧ l ≤ x ∧ td_Al K A C nm tg bd cl l x ∧ ∀ y, y < l → K y ≠ 0 → ¬ td_Al K A C nm tg bd cl y x := by
  rcases h with h | h
  · exact absurd h.1 hx
  · exact h.2
theorem td_Ld_le {cl : Nat → Int32} {x l : Nat} (h : td_Ld K A C nm tg bd cl x l) : l ≤ x := by
  rcases h with h | h
  · exact Nat.le_of_eq h.2
  · exact h.2.2.1

section
variable {T : Nat} {cl cl' : Nat → Int32}
theorem td_sp_iff (hT : T ≤ 16) (hs : td_Sp T K A C nm tg bd cl cl') {x y : Nat} (hx : x < T) (hy : y < T) (kx : K x ≠ 0) (ky : K y ≠ 0) :
    cl' x = cl' y ↔ td_Al K A C nm tg bd cl x y := by
  obtain ⟨l, hl, el⟩ := hs x hx
  obtain ⟨m, hm, em⟩ := hs y hy
  obtain ⟨l1, l2, l3, l4⟩ := td_Ld_u hl kx
  obtain ⟨m1, m2, m3, m4⟩ := td_Ld_u hm ky
  constructor
  · intro e
    rw [el, em, nI_eq (by omega) (by omega)] at e
    subst e
    exact td_Al_trans (td_Al_symm l3) m3
  · intro a
    have h1 : ¬ l < m := fun z => m4 l z l1 (td_Al_trans l3 a)
    have h2 : ¬ m < l := fun z => l4 m z m1 (td_Al_trans m3 (td_Al_symm a))
    have : l = m := by omega
    rw [el, em, this]
theorem td_sp_lb (hT : T ≤ 16) (hs : td_Sp T K A C nm tg bd cl cl') : td_Lb T K cl' := by
  intro x hx
  obtain ⟨l, hl, el⟩ := hs x hx
  by_cases kx : K x = 0
  · rcases hl with hl | hl
    · obtain ⟨_, e⟩ := hl
      subst e
      exact ⟨l, Nat.le_refl l, el, el, fun z => z, fun _ => rfl⟩
    · exact absurd kx hl.1
  · obtain ⟨l1, l2, l3, l4⟩ := td_Ld_u hl kx
    obtain ⟨m, hm, em⟩ := hs l (by omega)
    obtain ⟨m1, m2, m3, m4⟩ := td_Ld_u hm l1
    have h1 : ¬ m < l := fun z => l4 m z m1 (td_Al_trans m3 l3)
    have e : m = l := by omega
    subst e
    exact ⟨m, l2, el, em, fun _ => l1, fun z => absurd z kx⟩
theorem td_sp_co (hT : T ≤ 16) (hK : ∀ x, K x ≠ 0 → x < T) (hs : td_Sp T K A C nm tg bd cl cl')
    (h : ∀ x y, td_Bis K A C nm tg bd x y → cl x = cl y) : ∀ x y, td_Bis K A C nm tg bd x y → cl' x = cl' y := by
  intro x y b
  obtain ⟨h1, h2, m⟩ := td_Bis_st b
  exact (td_sp_iff hT hs (hK x h1) (hK y h2) h1 h2).mpr ⟨h x y b, td_Mt_mono m (fun i _ z => h _ _ z)⟩
theorem td_sp_st (hT : T ≤ 16) (hK : ∀ x, K x ≠ 0 → x < T) (hc : td_Cl K C tg bd) (hs : td_Sp T K A C nm tg bd cl cl')
    (he : ∀ x, x < T → cl' x = cl x) {x y : Nat} (kx : K x ≠ 0) (ky : K y ≠ 0) (e : cl x = cl y) : td_Bis K A C nm tg bd x y := by
  refine ⟨fun a b => K a ≠ 0 ∧ K b ≠ 0 ∧ cl a = cl b, ?_, kx, ky, e⟩
  intro a b z
  obtain ⟨z1, z2, z3⟩ := z
  have z4 : cl' a = cl' b := by rw [he a (hK a z1), he b (hK b z2)]; exact z3
  have al := (td_sp_iff hT hs (hK a z1) (hK b z2) z1 z2).mp z4
  refine ⟨z1, z2, td_Mt_mono al.2 (fun i hi w => ⟨(hc a z1).2 i hi, ?_, w⟩)⟩
  refine (hc b z2).2 i ?_
  rw [← al.2.2.2.1]
  exact hi
theorem td_sp_ct (hT : T ≤ 16) (hs : td_Sp T K A C nm tg bd cl cl') (hl : td_Lb T K cl) (hx : ∃ x, x < T ∧ cl' x ≠ cl x) :
    td_ct (fun x => decide (cl x = nI x)) T < td_ct (fun x => decide (cl' x = nI x)) T := by
  refine td_ct_lt T ?_ ?_
  · intro x hx e
    have e := of_decide_eq_true e
    obtain ⟨l, h1, h2⟩ := hs x hx
    refine decide_eq_true ?_
    by_cases kx : K x = 0
    · rcases h1 with h1 | h1
      · rw [h2, h1.2]
      · exact absurd kx h1.1
    · obtain ⟨l1, l2, l3, l4⟩ := td_Ld_u h1 kx
      obtain ⟨m, m1, m2, m3, _⟩ := hl l (by omega)
      have e2 := l3.1
      rw [m2, e, nI_eq (by omega) (by omega)] at e2
      have : l = x := by omega
      rw [h2, this]
  · obtain ⟨x, hx, hn⟩ := hx
    obtain ⟨l, h1, h2⟩ := hs x hx
    obtain ⟨a, a1, a2, a3, _, a5⟩ := hl x hx
    by_cases kx : K x = 0
    · rcases h1 with h1 | h1
      · exact absurd (by rw [h2, a2, h1.2, a5 kx]) hn
      · exact absurd kx h1.1
    · obtain ⟨l1, l2, l3, l4⟩ := td_Ld_u h1 kx
      obtain ⟨b, b1, b2, b3, _⟩ := (td_sp_lb hT hs) x hx
      have e : b = l := by rw [h2, nI_eq (by omega) (by omega)] at b2; exact b2.symm
      subst e
      refine ⟨b, by omega, decide_eq_true b3, decide_eq_false ?_⟩
      intro z
      rw [l3.1, a2] at z
      exact hn (by rw [h2, a2, z])
end

/-- the labels of the finest split: the lowest bisimilar type -/
def td_Pt (T : Nat) (K A C nm tg : Nat → Int32) (bd : Nat → Nat) (cl : Nat → Int32) : Prop :=
  td_Lb T K cl ∧ ∀ x y, K x ≠ 0 → K y ≠ 0 → (cl x = cl y ↔ td_Bis K A C nm tg bd x y)

/-! the reference's way: a table of pairs, crossed out until it stays -/
section
variable {sm : Nat → Int32}
/-- the table holds all that is bisimilar, and pairs of used types only -/
def td_Tb (K A C nm tg : Nat → Int32) (bd : Nat → Nat) (sm : Nat → Int32) : Prop :=
  (∀ x y, td_Bis K A C nm tg bd x y → sm (x * 16 + y) ≠ 0) ∧ (∀ x y, x < 16 → y < 16 → sm (x * 16 + y) ≠ 0 → K x ≠ 0 ∧ K y ≠ 0)
theorem td_dm {x y : Nat} (hy : y < 16) : (x * 16 + y) / 16 = x ∧ (x * 16 + y) % 16 = y := by omega
theorem td_tb_cut (hK : ∀ x, K x ≠ 0 → x < 16) (h : td_Tb K A C nm tg bd sm) {k : Nat}
    (hm : ¬ td_Mt K A C nm tg (fun a b => sm (a * 16 + b) ≠ 0) (bd (k / 16)) (bd (k % 16))) : td_Tb K A C nm tg bd (upd sm k 0) := by
  refine ⟨fun x y b => ?_, fun x y hx hy z => ?_⟩
  · by_cases e : x * 16 + y = k
    · obtain ⟨h1, h2, m⟩ := td_Bis_st b
      obtain ⟨d1, d2⟩ := td_dm (x := x) (hK y h2)
      rw [e] at d1 d2
      rw [d1, d2] at hm
      exact absurd (td_Mt_mono m (fun i _ w => h.1 _ _ w)) hm
    · rw [pk_un e]; exact h.1 x y b
  · by_cases e : x * 16 + y = k
    · rw [e, pk_us] at z; exact absurd rfl z
    · rw [pk_un e] at z; exact h.2 x y hx hy z
theorem td_tb_end (hK : ∀ x, K x ≠ 0 → x < 16) (hc : td_Cl K C tg bd) (h : td_Tb K A C nm tg bd sm)
    (hm : ∀ k, k < 256 → sm k ≠ 0 → td_Mt K A C nm tg (fun a b => sm (a * 16 + b) ≠ 0) (bd (k / 16)) (bd (k % 16))) :
    ∀ x y, x < 16 → y < 16 → (sm (x * 16 + y) ≠ 0 ↔ td_Bis K A C nm tg bd x y) := by
  intro x y hx hy
  refine ⟨fun z => ?_, h.1 x y⟩
  refine ⟨fun a b => a < 16 ∧ b < 16 ∧ sm (a * 16 + b) ≠ 0, ?_, hx, hy, z⟩
  intro a b w
  obtain ⟨w1, w2, w3⟩ := w
  obtain ⟨k1, k2⟩ := h.2 a b w1 w2 w3
  have m := hm (a * 16 + b) (by omega) w3
  rw [(td_dm w2).1, (td_dm w2).2] at m
  refine ⟨k1, k2, td_Mt_mono m (fun i hi v => ⟨hK _ ((hc a k1).2 i hi), hK _ ((hc b k2).2 i ?_), v⟩)⟩
  rw [← m.2.2.1]
  exact hi
end
end
end
section
/-! what always holds of the stored types; bodies, the chain of the sets R, first types and counts -/
section
variable {T U G E : Nat} {ln ec : Int32} {K A N C nm tg re bo cl nc ni lo si : Nat → Int32} {us kk cc sm bn : Nat → Int32} {R : Nat → Bool}

def td_Lm (T U G E : Nat) : Prop := 8 ≤ T ∧ T ≤ 16 ∧ 1 ≤ U ∧ U ≤ 4 ∧ 1 ≤ G ∧ G ≤ 8 ∧ 1 ≤ E ∧ E ≤ 4
/-- what holds of a type in use -/
def td_Us (T G : Nat) (K A N C tg : Nat → Int32) (x : Nat) : Prop :=
  x < T ∧ (∃ κ : Nat, 1 ≤ κ ∧ κ ≤ 7 ∧ K x = nI κ) ∧ (K x = 7 → ∃ a : Nat, 1 ≤ a ∧ a ≤ G ∧ A x = nI a) ∧
  ∃ γ : Nat, γ ≤ 4 ∧ C x = nI γ ∧ ∀ i, i < γ → ∃ t : Nat, tg (x * 4 + i) = nI t ∧ K t ≠ 0 ∧ N t = N x
def td_Bx (T U G E : Nat) (K A N C tg : Nat → Int32) : Prop :=
  td_Lm T U G E ∧ ∀ x, (K x = 0 ∧ C x = 0) ∨ (K x ≠ 0 ∧ td_Us T G K A N C tg x)
/-- the reference holds the same types -/
def td_By (K C us kk cc : Nat → Int32) : Prop :=
  ∀ x, (us x = 0 ∧ K x = 0) ∨ (us x = 1 ∧ K x ≠ 0 ∧ kk x = K x ∧ cc x = C x)

theorem tb_us (h : td_Bx T U G E K A N C tg) {x : Nat} (hx : K x ≠ 0) : td_Us T G K A N C tg x := by
  rcases h.2 x with z | z
  · exact absurd z.1 hx
  · exact z.2
theorem tb_lt (h : td_Bx T U G E K A N C tg) {x : Nat} (hx : K x ≠ 0) : x < T := (tb_us h hx).1
theorem tb_T (h : td_Bx T U G E K A N C tg) : T ≤ 16 := h.1.2.1
theorem tb_l16 (h : td_Bx T U G E K A N C tg) {x : Nat} (hx : K x ≠ 0) : x < 16 := Nat.lt_of_lt_of_le (tb_lt h hx) (tb_T h)
theorem tb_k (h : td_Bx T U G E K A N C tg) {x : Nat} (hx : K x ≠ 0) : ∃ κ : Nat, 1 ≤ κ ∧ κ ≤ 7 ∧ K x = nI κ := (tb_us h hx).2.1
theorem td_70 : ¬ (7 : Int32) = 0 := by decide
theorem td_60 : ¬ (6 : Int32) = 0 := by decide
theorem td_10 : ¬ (1 : Int32) = 0 := by decide
theorem tb_7 {x : Nat} (hx : K x = 7) : K x ≠ 0 := by rw [hx]; exact td_70
theorem tb_6 {x : Nat} (hx : K x = 6) : K x ≠ 0 := by rw [hx]; exact td_60
theorem tb_a (h : td_Bx T U G E K A N C tg) {x : Nat} (hx : K x = 7) : ∃ a : Nat, 1 ≤ a ∧ a ≤ G ∧ a ≤ 8 ∧ A x = nI a := by
  obtain ⟨a, h1, h2, h3⟩ := (tb_us h (tb_7 hx)).2.2.1 hx
  exact ⟨a, h1, h2, Nat.le_trans h2 h.1.2.2.2.2.2.1, h3⟩
theorem tb_c (h : td_Bx T U G E K A N C tg) (x : Nat) : ∃ γ : Nat, γ ≤ 4 ∧ C x = nI γ ∧ ∀ i, i < γ → ∃ t : Nat, tg (x * 4 + i) = nI t ∧ K t ≠ 0 ∧ t < 16 := by
  rcases h.2 x with z | z
  · exact ⟨0, by omega, by rw [z.2, nI_0], fun i hi => absurd hi (Nat.not_lt_zero i)⟩
  · obtain ⟨γ, h1, h2, h3⟩ := z.2.2.2.2
    refine ⟨γ, h1, h2, fun i hi => ?_⟩
    obtain ⟨t, t1, t2, _⟩ := h3 i hi
    exact ⟨t, t1, t2, tb_l16 h t2⟩
theorem tb_us0 (h : td_By K C us kk cc) {x : Nat} (hx : K x = 0) : us x = 0 := by
  rcases h x with z | z
  · exact z.1
  · exact absurd hx z.2.1
theorem tb_us1 (h : td_By K C us kk cc) {x : Nat} (hx : K x ≠ 0) : ¬ us x = 0 ∧ kk x = K x ∧ cc x = C x := by
  rcases h x with z | z
  · exact absurd z.2 hx
  · exact ⟨by rw [z.1]; exact td_10, z.2.2.1, z.2.2.2⟩

/-- the body of a type under the set R -/
def td_bd (K A : Nat → Int32) (R : Nat → Bool) (x : Nat) : Nat :=
  if K x = 7 ∧ R (A x).toNatClampNeg = true then td_lf (fun y => decide (K y = 6 ∧ A y = A x)) x 16 0 else x
theorem td_bd_n {x : Nat} (h : ¬ (K x = 7 ∧ R (A x).toNatClampNeg = true)) : td_bd K A R x = x := if_neg h
theorem td_bd_s {x j : Nat} (h : K x = 7) (hr : R (A x).toNatClampNeg = true) (hj : j < 16) (k6 : K j = 6) (aj : A j = A x)
    (hm : ∀ k, k < j → ¬ (K k = 6 ∧ A k = A x)) : td_bd K A R x = j :=
  (if_pos ⟨h, hr⟩).trans (td_lf_0t hj (decide_eq_true ⟨k6, aj⟩) (fun k hk => decide_eq_false (hm k hk)))
theorem td_bd_0 {x : Nat} (h : K x = 7) (hr : R (A x).toNatClampNeg = true) (hm : ∀ k, k < 16 → ¬ (K k = 6 ∧ A k = A x)) : td_bd K A R x = x :=
  (if_pos ⟨h, hr⟩).trans (td_lf_0f (fun k hk => decide_eq_false (hm k hk)))
/-- the lowest struct of a tag, or none -/
theorem td_ls (h : td_Bx T U G E K A N C tg) (a : Int32) :
    (∃ j, j < T ∧ K j = 6 ∧ A j = a ∧ ∀ k, k < j → ¬ (K k = 6 ∧ A k = a)) ∨ (∀ k, ¬ (K k = 6 ∧ A k = a)) := by
  by_cases e : ∃ j, K j = 6 ∧ A j = a
  · obtain ⟨j, hj, hm⟩ := pk_least _ e
    exact Or.inl ⟨j, tb_lt h (tb_6 hj.1), hj.1, hj.2, hm⟩
  · exact Or.inr fun k z => e ⟨k, z⟩
theorem td_bd_u (h : td_Bx T U G E K A N C tg) {x : Nat} (hx : K x ≠ 0) : K (td_bd K A R x) ≠ 0 := by
  by_cases c : K x = 7 ∧ R (A x).toNatClampNeg = true
  · rcases td_ls h (A x) with ⟨j, j1, j2, j3, j4⟩ | hn
    · rw [td_bd_s c.1 c.2 (Nat.lt_of_lt_of_le j1 (tb_T h)) j2 j3 j4]
      exact tb_6 j2
    · rw [td_bd_0 c.1 c.2 (fun k _ => hn k)]; exact hx
  · rw [td_bd_n c]; exact hx
theorem td_bd_cl (h : td_Bx T U G E K A N C tg) : td_Cl K C tg (td_bd K A R) := by
  intro x hx
  refine ⟨td_bd_u h hx, fun i hi => ?_⟩
  obtain ⟨γ, g1, g2, g3⟩ := tb_c h (td_bd K A R x)
  rw [g2, nI_clamp (by omega)] at hi
  obtain ⟨t, t1, t2, t3⟩ := g3 i hi
  rw [t1, nI_clamp (by omega)]
  exact t2

/-- some struct bears the tag and all that do are bisimilar -/
def td_Una (K A C nm tg : Nat → Int32) (bd : Nat → Nat) (t : Nat) : Prop :=
  (∃ x, K x = 6 ∧ A x = nI t) ∧ ∀ x y, K x = 6 → A x = nI t → K y = 6 → A y = nI t → td_Bis K A C nm tg bd x y
def td_Res (G : Nat) (K A C nm tg : Nat → Int32) (R : Nat → Bool) (t : Nat) : Prop :=
  1 ≤ t ∧ t ≤ G ∧ R t = false ∧ td_Una K A C nm tg (td_bd K A R) t
noncomputable def td_nx (G : Nat) (K A C nm tg : Nat → Int32) (R : Nat → Bool) : Nat → Bool :=
  fun s => R s || td_b (td_Res G K A C nm tg R s ∧ ∀ t, t < s → ¬ td_Res G K A C nm tg R t)
noncomputable def td_Rn (G : Nat) (K A C nm tg : Nat → Int32) : Nat → Nat → Bool
  | 0 => fun _ => false
  | n + 1 => td_nx G K A C nm tg (td_Rn G K A C nm tg n)
theorem td_nx_0 (h : ∀ t, ¬ td_Res G K A C nm tg R t) : td_nx G K A C nm tg R = R := by
  funext s
  show (R s || td_b _) = R s
  rw [td_b_f.mpr (fun z => h s z.1), Bool.or_false]
theorem td_nx_s {t : Nat} (h : td_Res G K A C nm tg R t) (hm : ∀ s, s < t → ¬ td_Res G K A C nm tg R s) : td_nx G K A C nm tg R t = true := by
  show (R t || td_b _) = true
  rw [td_b_t.mpr ⟨h, hm⟩, Bool.or_true]
theorem td_nx_n {t s : Nat} (h : td_Res G K A C nm tg R t) (hm : ∀ s, s < t → ¬ td_Res G K A C nm tg R s) (hs : s ≠ t) : td_nx G K A C nm tg R s = R s := by
  show (R s || td_b _) = R s
  rw [td_b_f.mpr ?_, Bool.or_false]
  intro z
  rcases Nat.lt_or_gt_of_ne hs with l | l
  · exact hm s l z.1
  · exact z.2 t l h
theorem td_nx_ct {t : Nat} (h : td_Res G K A C nm tg R t) (hm : ∀ s, s < t → ¬ td_Res G K A C nm tg R s) :
    td_ct (fun s => R (s + 1)) G < td_ct (fun s => td_nx G K A C nm tg R (s + 1)) G := by
  refine td_ct_lt G (fun i _ hi => ?_) ⟨t - 1, ?_, ?_, ?_⟩
  · show (R (i + 1) || td_b _) = true
    have hi : R (i + 1) = true := hi
    rw [hi, Bool.true_or]
  · have := h.1
    have := h.2.1
    omega
  · show td_nx G K A C nm tg R (t - 1 + 1) = true
    rw [Nat.sub_add_cancel h.1]
    exact td_nx_s h hm
  · show R (t - 1 + 1) = false
    rw [Nat.sub_add_cancel h.1]
    exact h.2.2.1
theorem td_Rn_stop {n : Nat} (h : ∀ t, ¬ td_Res G K A C nm tg (td_Rn G K A C nm tg n) t) : ∀ k, td_Rn G K A C nm tg (n + k) = td_Rn G K A C nm tg n := by
  intro k
  induction k with
  | zero => rfl
  | succ k ih =>
    show td_nx G K A C nm tg (td_Rn G K A C nm tg (n + k)) = _
    rw [ih, td_nx_0 h]

/-- the bisimilar pairs as a table -/
noncomputable def td_qb (K A C nm tg : Nat → Int32) (bd : Nat → Nat) (y x : Nat) : Bool := td_b (td_Bis K A C nm tg bd y x)
/-- the reference's table -/
def td_qs (K sm : Nat → Int32) (y x : Nat) : Bool := decide (K y ≠ 0 ∧ sm (y * 16 + x) ≠ 0)
/-- the first type of x's class -/
def td_fo (q : Nat → Nat → Bool) (x : Nat) : Nat := td_lf (fun y => q y x) x 16 0
def td_isf (K : Nat → Int32) (q : Nat → Nat → Bool) (x : Nat) : Bool := decide (K x ≠ 0 ∧ td_fo q x = x)
/-- the number of first types below n -/
def td_fb (K : Nat → Int32) (q : Nat → Nat → Bool) (n : Nat) : Nat := td_ct (td_isf K q) n
/-- the number of types below n whose first type is x -/
def td_cs (K : Nat → Int32) (q : Nat → Nat → Bool) (x n : Nat) : Nat := td_ct (fun y => decide (K y ≠ 0 ∧ td_fo q y = x)) n

/-- the first type: bisimilar, and the lowest such -/
theorem td_fo_p (h : td_Bx T U G E K A N C tg) {x : Nat} (hx : K x ≠ 0) :
    td_Bis K A C nm tg (td_bd K A R) (td_fo (td_qb K A C nm tg (td_bd K A R)) x) x ∧ td_fo (td_qb K A C nm tg (td_bd K A R)) x ≤ x ∧
    ∀ y, y < td_fo (td_qb K A C nm tg (td_bd K A R)) x → ¬ td_Bis K A C nm tg (td_bd K A R) y x := by
  have r := td_Bis_refl (A := A) (nm := nm) (td_bd_cl (R := R) h) hx
  obtain ⟨j, hj, hm⟩ := pk_least (fun y => td_Bis K A C nm tg (td_bd K A R) y x) ⟨x, r⟩
  have hjx : j ≤ x := by
    rcases Nat.lt_or_ge x j with l | l
    · exact absurd r (hm x l)
    · exact l
  have e : td_fo (td_qb K A C nm tg (td_bd K A R)) x = j :=
    td_lf_0t (Nat.lt_of_le_of_lt hjx (tb_l16 h hx)) (td_b_t.mpr hj) (fun k hk => td_b_f.mpr (hm k hk))
  rw [e]
  exact ⟨hj, hjx, hm⟩
/-- bisimilar types have one first type -/
theorem td_fo_e (h : td_Bx T U G E K A N C tg) {x y : Nat} (b : td_Bis K A C nm tg (td_bd K A R) x y) :
    td_fo (td_qb K A C nm tg (td_bd K A R)) x = td_fo (td_qb K A C nm tg (td_bd K A R)) y := by
  obtain ⟨kx, ky, _⟩ := td_Bis_st b
  obtain ⟨x1, _, x3⟩ := td_fo_p (nm := nm) (R := R) h kx
  obtain ⟨y1, _, y3⟩ := td_fo_p (nm := nm) (R := R) h ky
  rcases Nat.lt_trichotomy (td_fo (td_qb K A C nm tg (td_bd K A R)) x) (td_fo (td_qb K A C nm tg (td_bd K A R)) y) with l | l | l
  · exact absurd (td_Bis_trans x1 b) (y3 _ l)
  · exact l
  · exact absurd (td_Bis_trans y1 (td_Bis_symm b)) (x3 _ l)
theorem td_fo_f (h : td_Bx T U G E K A N C tg) {x : Nat} (hx : K x ≠ 0) :
    td_isf K (td_qb K A C nm tg (td_bd K A R)) (td_fo (td_qb K A C nm tg (td_bd K A R)) x) = true := by
  obtain ⟨x1, x2, x3⟩ := td_fo_p (nm := nm) (R := R) h hx
  exact decide_eq_true ⟨(td_Bis_st x1).1, td_fo_e h x1⟩
theorem td_pt_fo (h : td_Bx T U G E K A N C tg) (hp : td_Pt T K A C nm tg (td_bd K A R) cl) {x : Nat} (hx : K x ≠ 0) :
    cl x = nI (td_fo (td_qb K A C nm tg (td_bd K A R)) x) := by
  have hT := tb_T h
  have hxT := tb_lt h hx
  obtain ⟨l, l1, l2, l3, l4, _⟩ := hp.1 x hxT
  obtain ⟨x1, x2, x3⟩ := td_fo_p (nm := nm) (R := R) h hx
  have kl := l4 hx
  have b : td_Bis K A C nm tg (td_bd K A R) l x := (hp.2 l x kl hx).mp (l3.trans l2.symm)
  have g1 : ¬ l < td_fo (td_qb K A C nm tg (td_bd K A R)) x := fun z => x3 l z b
  have kf := (td_Bis_st x1).1
  obtain ⟨m, m1, m2, _⟩ := hp.1 _ (tb_lt h kf)
  have e := (hp.2 _ x kf hx).mpr x1
  rw [m2, l2, nI_eq (by omega) (by omega)] at e
  rw [l2]
  exact congrArg nI (by omega)

/-- the component's linked table is right -/
def td_LX (G : Nat) (K A C nm tg : Nat → Int32) (R : Nat → Bool) (ec : Int32) (re bo ni lo si : Nat → Int32) : Prop :=
  (∀ t, t ≤ G → (re t ≠ 0 ↔ R t = true)) ∧ (∀ x, K x ≠ 0 → bo x = nI (td_bd K A R x)) ∧
  ec = nI (td_fb K (td_qb K A C nm tg (td_bd K A R)) 16) ∧
  (∀ x, K x ≠ 0 → ni x = nI (td_fb K (td_qb K A C nm tg (td_bd K A R)) (td_fo (td_qb K A C nm tg (td_bd K A R)) x))) ∧
  (∀ x, td_isf K (td_qb K A C nm tg (td_bd K A R)) x = true →
    lo (td_fb K (td_qb K A C nm tg (td_bd K A R)) x) = nI x ∧
    si (td_fb K (td_qb K A C nm tg (td_bd K A R)) x) = nI (td_cs K (td_qb K A C nm tg (td_bd K A R)) x 16))
/-- the reference's tables are right -/
def td_LY (G : Nat) (K A C nm tg : Nat → Int32) (R : Nat → Bool) (sm bn : Nat → Int32) : Prop :=
  (∀ t, t ≤ G → (bn t ≠ 0 ↔ R t = true)) ∧ ∀ x y, x < 16 → y < 16 → (sm (x * 16 + y) ≠ 0 ↔ td_Bis K A C nm tg (td_bd K A R) x y)

theorem td_fo_q (h : ∀ x y, x < 16 → y < 16 → (sm (x * 16 + y) ≠ 0 ↔ td_Bis K A C nm tg (td_bd K A R) x y)) {x : Nat} (hx : x < 16) :
    td_fo (td_qs K sm) x = td_fo (td_qb K A C nm tg (td_bd K A R)) x := by
  refine td_lf_e (fun y hy => td_beq ?_)
  show decide _ = true ↔ td_b _ = true
  rw [decide_eq_true_iff, td_b_t, h y x hy hx]
  exact ⟨fun z => z.2, fun z => ⟨(td_Bis_st z).1, z⟩⟩
theorem td_isf_q (h : ∀ x y, x < 16 → y < 16 → (sm (x * 16 + y) ≠ 0 ↔ td_Bis K A C nm tg (td_bd K A R) x y)) {x : Nat} (hx : x < 16) :
    td_isf K (td_qs K sm) x = td_isf K (td_qb K A C nm tg (td_bd K A R)) x := by
  unfold td_isf
  rw [td_fo_q h hx]
theorem td_fb_q (h : ∀ x y, x < 16 → y < 16 → (sm (x * 16 + y) ≠ 0 ↔ td_Bis K A C nm tg (td_bd K A R) x y)) {n : Nat} (hn : n ≤ 16) :
    td_fb K (td_qs K sm) n = td_fb K (td_qb K A C nm tg (td_bd K A R)) n :=
  td_ct_e (fun i hi => td_isf_q h (by omega))
end
end
section
/-! the component's small methods -/
section
variable {T U G E : Nat} {ln ec : Int32} {K A N C nm tg re bo cl nc ni lo si : Nat → Int32} {R : Nat → Bool} {bd : Nat → Nat} {post : Int32 → Prop}

/-- p names no type in use -/
def td_no (K : Nat → Int32) (p : Int32) : Prop := ∀ j, j < 16 → p = nI j → K j = 0
theorem td_arg (h : td_Bx T U G E K A N C tg) (p : Int32) : (∃ j, K j ≠ 0 ∧ p = nI j) ∨ td_no K p := by
  by_cases e : ∃ j, K j ≠ 0 ∧ p = nI j
  · exact Or.inl e
  · refine Or.inr fun j _ hp => ?_
    by_cases k : K j = 0
    · exact k
    · exact absurd ⟨j, k, hp⟩ e
theorem td_no_m1 : td_no K (-1) := by
  intro j hj e
  have h := nI_pos (n := j) (by omega)
  rw [← e] at h
  exact absurd (by decide) h
theorem td_m4 (p i : Nat) : nI p * 4 + nI i = nI (p * 4 + i) := by
  rw [← nI_add, ← pk_mul]; rfl
theorem td_m16 (p i : Nat) : nI p * 16 + nI i = nI (p * 16 + i) := by
  rw [← nI_add, ← pk_mul]; rfl
theorem td_0m1 : ¬ (0 : Int32) ≤ -1 := by decide
theorem td_n1 : narrow .boolean (.int 1) = .int 1 := by decide
theorem td_n0 : narrow .boolean (.int 0) = .int 0 := by decide
theorem td_v1 : vp_nar .boolean 1 = 1 := by decide
theorem td_v0 : vp_nar .boolean 0 = 0 := by decide

theorem tx_use_t (h : td_Bx T U G E K A N C tg) {j : Nat} (hk : K j ≠ 0) (hp : post 1) : wpX_inUse post (nI T, nI U, nI G, nI E, ln, ec, K, A, N, C, nm, tg, re, bo, cl, nc, ni, lo, si) (nI j) := by
  have hj := tb_lt h hk
  have hT := tb_T h
  have hk' : ¬ K (nI j).toNatClampNeg = 0 := by rw [nI_clamp (by omega)]; exact hk
  exact br_f (nI_pos (by omega)) (br_f (nI_ge hj (by omega)) ⟨vp_in_nI (by omega) (by omega), br_f hk' hp⟩)
theorem tx_use_f (h : td_Bx T U G E K A N C tg) {p : Int32} (hn : td_no K p) (hp : post 0) : wpX_inUse post (nI T, nI U, nI G, nI E, ln, ec, K, A, N, C, nm, tg, re, bo, cl, nc, ni, lo, si) p := by
  have hT := tb_T h
  refine br_c (fun _ => hp) (fun h0 => ?_)
  obtain ⟨j, hj, e⟩ := nI_of h0
  subst e
  refine br_c (fun _ => hp) (fun h1 => ?_)
  rw [nI_leI (by omega) hj] at h1
  have k0 : K (nI j).toNatClampNeg = 0 := by rw [nI_clamp hj]; exact hn j (by omega) rfl
  exact ⟨vp_in_nI (by omega) (by omega), br_t k0 hp⟩

theorem tx_is_t {j : Nat} {a : Int32} (hj : j < 16) (k6 : K j = 6) (ha : A j = a) (hp : post 1) : wpX_isStruct post (nI T, nI U, nI G, nI E, ln, ec, K, A, N, C, nm, tg, re, bo, cl, nc, ni, lo, si) (nI j) a := by
  have e := nI_clamp (n := j) (by omega)
  have k' : K (nI j).toNatClampNeg = 6 := by rw [e]; exact k6
  have a' : A (nI j).toNatClampNeg = a := by rw [e]; exact ha
  exact And.intro (vp_in_nI hj (by omega)) (br_t k' ⟨vp_in_nI hj (by omega), br_t a' hp⟩)
theorem tx_is_f {j : Nat} {a : Int32} (hj : j < 16) (hn : ¬ (K j = 6 ∧ A j = a)) (hp : post 0) : wpX_isStruct post (nI T, nI U, nI G, nI E, ln, ec, K, A, N, C, nm, tg, re, bo, cl, nc, ni, lo, si) (nI j) a := by
  have e := nI_clamp (n := j) (by omega)
  refine And.intro (vp_in_nI hj (by omega)) (br_c (fun k => ⟨vp_in_nI hj (by omega), br_f (fun z => hn ?_) hp⟩) (fun _ => hp))
  rw [e] at k z
  exact ⟨k, z⟩

theorem tx_ls2_t {a : Int32} {j : Nat} (hT : T ≤ 16) (hj : j < T) (k6 : K j = 6) (aj : A j = a) (hm : ∀ k, k < j → ¬ (K k = 6 ∧ A k = a)) (hp : post (nI j)) :
    ∀ n i, i ≤ j → j < i + n → wX_lowestStruct_2 post a (nI T) (nI U) (nI G) (nI E) ln ec K A N C nm tg re bo cl nc ni lo si n (nI i) := by
  intro n
  induction n with
  | zero => intro i h1 h2; omega
  | succ n ih =>
    intro i h1 h2
    refine br_f (nI_ge (by omega) (by omega)) ?_
    by_cases e : i = j
    · subst e
      exact tx_is_t (by omega) k6 aj (br_f td_10 hp)
    · exact tx_is_f (by omega) (hm i (by omega)) (br_t rfl (nm_r (nI_1 i) (ih (i + 1) (by omega) (by omega))))
theorem tx_ls2_f {a : Int32} (hT : T ≤ 16) (hm : ∀ k, ¬ (K k = 6 ∧ A k = a)) (hp : post (-1)) :
    ∀ n i, i ≤ T → T < i + n → wX_lowestStruct_2 post a (nI T) (nI U) (nI G) (nI E) ln ec K A N C nm tg re bo cl nc ni lo si n (nI i) := by
  intro n
  induction n with
  | zero => intro i h1 h2; omega
  | succ n ih =>
    intro i h1 h2
    by_cases e : i = T
    · subst e
      exact br_t (nI_le (Nat.le_refl i) (by omega)) hp
    · exact br_f (nI_ge (by omega) (by omega)) (tx_is_f (by omega) (hm i) (br_t rfl (nm_r (nI_1 i) (ih (i + 1) (by omega) (by omega)))))
theorem tx_ls_t {a : Int32} {j : Nat} (hT : T ≤ 16) (hj : j < T) (k6 : K j = 6) (aj : A j = a) (hm : ∀ k, k < j → ¬ (K k = 6 ∧ A k = a)) (hp : post (nI j)) :
    wpX_lowestStruct post (nI T, nI U, nI G, nI E, ln, ec, K, A, N, C, nm, tg, re, bo, cl, nc, ni, lo, si) a := Exists.intro (T + 1) (tx_ls2_t hT hj k6 aj hm hp (T + 1) 0 (Nat.zero_le j) (by omega))
theorem tx_ls_f {a : Int32} (hT : T ≤ 16) (hm : ∀ k, ¬ (K k = 6 ∧ A k = a)) (hp : post (-1)) :
    wpX_lowestStruct post (nI T, nI U, nI G, nI E, ln, ec, K, A, N, C, nm, tg, re, bo, cl, nc, ni, lo, si) a := Exists.intro (T + 1) (tx_ls2_f hT hm hp (T + 1) 0 (Nat.zero_le T) (by omega))

theorem tx_fb (h : td_Bx T U G E K A N C tg) (hr : ∀ t, t ≤ G → (re t ≠ 0 ↔ R t = true)) {j : Nat} (hj : j < 16) (hp : post (nI (td_bd K A R j))) :
    wpX_findBody post (nI T, nI U, nI G, nI E, ln, ec, K, A, N, C, nm, tg, re, bo, cl, nc, ni, lo, si) (nI j) := by
  have hT := tb_T h
  have e := nI_clamp (n := j) (by omega)
  have v := vp_in_nI (n := j) (N := 16) hj (by omega)
  refine And.intro v (br_c (fun k => ?_) (fun k => ?_))
  · rw [e] at k
    obtain ⟨a, a1, a2, a8, a3⟩ := tb_a h k
    have e2 : (A j).toNatClampNeg = a := by rw [a3]; exact nI_clamp (by omega)
    rw [e, a3, nI_clamp (n := a) (by omega)]
    refine ⟨v, vp_in_nI (by omega) (by omega), br_c (fun z => ?_) (fun z => ⟨v, ?_⟩)⟩
    · rw [td_bd_n (fun w => (hr a a2).mpr (by rw [← e2]; exact w.2) z)] at hp
      exact hp
    · have r1 : R (A j).toNatClampNeg = true := by rw [e2]; exact (hr a a2).mp z
      rcases td_ls h (nI a) with ⟨i, i1, i2, i3, i4⟩ | hn
      · rw [td_bd_s k r1 (by omega) i2 (i3.trans a3.symm) (fun k hk w => i4 k hk ⟨w.1, w.2.trans a3⟩)] at hp
        exact tx_ls_t hT i1 i2 i3 i4 (br_t (nI_pos' (by omega)) hp)
      · rw [td_bd_0 k r1 (fun k _ w => hn k ⟨w.1, w.2.trans a3⟩)] at hp
        exact tx_ls_f hT hn (br_f td_0m1 hp)
  · rw [e] at k
    rw [td_bd_n (fun w => k w.1)] at hp
    exact hp

/-- edge i of p and q agree under the labels -/
def td_Ed (nm tg cl : Nat → Int32) (p q i : Nat) : Prop :=
  nm (p * 4 + i) = nm (q * 4 + i) ∧ cl (tg (p * 4 + i)).toNatClampNeg = cl (tg (q * 4 + i)).toNatClampNeg
theorem tx_ea19 {p q γ : Nat} (hp : p < 16) (hq : q < 16) (hγ : γ ≤ 4) (hc : C p = nI γ)
    (tp : ∀ i, i < γ → ∃ t : Nat, tg (p * 4 + i) = nI t ∧ K t ≠ 0 ∧ t < 16) (tq : ∀ i, i < γ → ∃ t : Nat, tg (q * 4 + i) = nI t ∧ K t ≠ 0 ∧ t < 16)
    (h1 : (∀ i, i < γ → td_Ed nm tg cl p q i) → post 1) (h0 : (¬ ∀ i, i < γ → td_Ed nm tg cl p q i) → post 0) :
    ∀ n i, i ≤ γ → γ < i + n → (∀ k, k < i → td_Ed nm tg cl p q k) → wX_edgesAlike_19 post (nI p) (nI q) (nI T) (nI U) (nI G) (nI E) ln ec K A N C nm tg re bo cl nc ni lo si n (nI i) := by
  intro n
  induction n with
  | zero => intro i a b; omega
  | succ n ih =>
    intro i hi hn hk
    refine And.intro (vp_in_nI hp (by omega)) ?_
    rw [nI_clamp (n := p) (by omega), hc]
    refine br_c (fun z => ?_) (fun z => ?_)
    · rw [nI_leI (by omega) (by omega)] at z
      exact h1 (fun k hk' => hk k (by omega))
    · rw [nI_leI (by omega) (by omega)] at z
      have hi' : i < γ := by omega
      obtain ⟨t, t1, _, t2⟩ := tp i hi'
      obtain ⟨s, s1, _, s2⟩ := tq i hi'
      refine nm_r (td_m4 p i) (nm_r (td_m4 q i) ?_)
      have vp : vp_in (nI (p * 4 + i)) 64 := vp_in_nI (by omega) (by omega)
      have vq : vp_in (nI (q * 4 + i)) 64 := vp_in_nI (by omega) (by omega)
      have ep := nI_clamp (n := p * 4 + i) (by omega)
      have eq := nI_clamp (n := q * 4 + i) (by omega)
      have et := nI_clamp (n := t) (by omega)
      have es := nI_clamp (n := s) (by omega)
      rw [ep, eq, t1, s1, et, es]
      refine ⟨vp, vq, br_c (fun z1 => ⟨vp, vp_in_nI t2 (by omega), vq, vp_in_nI s2 (by omega), br_c (fun z2 => nm_r (nI_1 i) (ih (i + 1) (by omega) (by omega) ?_)) (fun z2 => h0 ?_)⟩) (fun z1 => h0 ?_)⟩
      · intro k hk'
        by_cases ek : k = i
        · subst ek
          refine ⟨z1, ?_⟩
          rw [t1, s1, et, es]
          exact z2
        · exact hk k (by omega)
      · intro w
        have w2 := (w i hi').2
        rw [t1, s1, et, es] at w2
        exact z2 w2
      · intro w
        exact z1 (w i hi').1
theorem tx_ea (h : td_Bx T U G E K A N C tg) {p q : Nat} (hp : p < 16) (hq : q < 16)
    (h1 : (C p = C q ∧ ∀ i, i < (C p).toNatClampNeg → td_Ed nm tg cl p q i) → post 1)
    (h0 : (¬ (C p = C q ∧ ∀ i, i < (C p).toNatClampNeg → td_Ed nm tg cl p q i)) → post 0) : wpX_edgesAlike post (nI T, nI U, nI G, nI E, ln, ec, K, A, N, C, nm, tg, re, bo, cl, nc, ni, lo, si) (nI p) (nI q) := by
  obtain ⟨γ, g1, g2, g3⟩ := tb_c h p
  obtain ⟨δ, d1, d2, d3⟩ := tb_c h q
  refine And.intro (vp_in_nI hp (by omega)) (And.intro (vp_in_nI hq (by omega)) ?_)
  rw [nI_clamp (n := p) (by omega), nI_clamp (n := q) (by omega)]
  rw [g2, nI_clamp (n := γ) (by omega)] at h1 h0
  rw [g2]
  refine br_c (fun z => ?_) (fun z => h0 (fun w => z w.1))
  have e : γ = δ := by rw [d2, nI_eq (by omega) (by omega)] at z; exact z
  subst e
  exact Exists.intro 5 (tx_ea19 hp hq g1 g2 g3 d3 (fun w => h1 ⟨z, w⟩) (fun w => h0 (fun v => w v.2)) 5 0 (Nat.zero_le γ) (by omega) (fun k hk => absurd hk (Nat.not_lt_zero k)))
theorem tx_al (h : td_Bx T U G E K A N C tg) {x y : Nat} (hx : x < 16) (hy : y < 16) (bx : bo x = nI (bd x)) (hbx : bd x < 16) (byy : bo y = nI (bd y)) (hby : bd y < 16)
    (h1 : td_Al K A C nm tg bd cl x y → post 1) (h0 : ¬ td_Al K A C nm tg bd cl x y → post 0) : wpX_alike post (nI T, nI U, nI G, nI E, ln, ec, K, A, N, C, nm, tg, re, bo, cl, nc, ni, lo, si) (nI x) (nI y) := by
  have vx := vp_in_nI (n := x) (N := 16) hx (by omega)
  have vy := vp_in_nI (n := y) (N := 16) hy (by omega)
  have vbx := vp_in_nI (n := bd x) (N := 16) hbx (by omega)
  have vby := vp_in_nI (n := bd y) (N := 16) hby (by omega)
  refine And.intro vx (And.intro vy ?_)
  have e1 := nI_clamp (n := x) (by omega)
  have e2 := nI_clamp (n := y) (by omega)
  have e3 := nI_clamp (n := bd x) (by omega)
  have e4 := nI_clamp (n := bd y) (by omega)
  rw [e1, e2]
  refine br_c (fun z => ⟨vx, nm_r bx ⟨vy, nm_r byy ⟨vbx, vby, ?_⟩⟩⟩) (fun z => h0 (fun w => z w.1))
  rw [e3, e4]
  refine br_c (fun z1 => ⟨vbx, vby, br_c (fun z2 => ?_) (fun z2 => h0 (fun w => z2 w.2.2.1))⟩) (fun z1 => h0 (fun w => z1 w.2.1))
  exact tx_ea h hbx hby (fun w => ⟨td_n1, h1 ⟨z, z1, z2, w.1, w.2⟩⟩) (fun w => ⟨td_n0, h0 (fun v => w ⟨v.2.2.2.1, v.2.2.2.2⟩)⟩)

theorem tx_ld13 (h : td_Bx T U G E K A N C tg) {x : Nat} (kx : K x ≠ 0) (hb : ∀ y, K y ≠ 0 → bo y = nI (bd y) ∧ bd y < 16)
    (H : ∀ l, td_Ld K A C nm tg bd cl x l → post (nI l)) :
    ∀ n i, i ≤ x → x < i + n → (∀ y, y < i → K y ≠ 0 → ¬ td_Al K A C nm tg bd cl y x) → wX_leader_13 post (nI x) (nI T) (nI U) (nI G) (nI E) ln ec K A N C nm tg re bo cl nc ni lo si n (nI i) := by
  intro n
  have hx := tb_l16 h kx
  induction n with
  | zero => intro i a b; omega
  | succ n ih =>
    intro i hi hn hk
    have e := nI_clamp (n := i) (by omega)
    by_cases ei : i = x
    · subst ei
      exact br_t (nI_le (Nat.le_refl i) (by omega)) (H i (Or.inr ⟨kx, kx, Nat.le_refl i, td_Al_refl i, hk⟩))
    · refine br_f (nI_ge (by omega) (by omega)) (And.intro (vp_in_nI (by omega) (by omega)) ?_)
      rw [e]
      refine br_c (fun z => nm_r (nI_1 i) (ih (i + 1) (by omega) (by omega) ?_)) (fun z => ?_)
      · intro y hy ky
        by_cases ey : y = i
        · subst ey; exact absurd z ky
        · exact hk y (by omega) ky
      · refine tx_al h (by omega) hx (hb i z).1 (hb i z).2 (hb x kx).1 (hb x kx).2 (fun w => br_f td_10 ?_) (fun w => br_t rfl (nm_r (nI_1 i) (ih (i + 1) (by omega) (by omega) ?_)))
        · exact H i (Or.inr ⟨kx, z, hi, w, hk⟩)
        · intro y hy ky
          by_cases ey : y = i
          · subst ey; exact w
          · exact hk y (by omega) ky
theorem tx_ld (h : td_Bx T U G E K A N C tg) {x : Nat} (hx : x < 16) (hb : ∀ y, K y ≠ 0 → bo y = nI (bd y) ∧ bd y < 16)
    (H : ∀ l, td_Ld K A C nm tg bd cl x l → post (nI l)) : wpX_leader post (nI T, nI U, nI G, nI E, ln, ec, K, A, N, C, nm, tg, re, bo, cl, nc, ni, lo, si) (nI x) := by
  refine And.intro (vp_in_nI hx (by omega)) ?_
  rw [nI_clamp (n := x) (by omega)]
  refine br_c (fun z => H x (Or.inl ⟨z, rfl⟩)) (fun z => ?_)
  exact Exists.intro (x + 1) (tx_ld13 h z hb H (x + 1) 0 (Nat.zero_le x) (by omega) (fun y hy => absurd hy (Nat.not_lt_zero y)))
end
end
section
/-! the component's split and partition -/
section
variable {T U G E : Nat} {ln ec : Int32} {K A N C nm tg re bo cl nc ni lo si : Nat → Int32} {R : Nat → Bool} {bd : Nat → Nat}

theorem tx_sp31 {post : Int32 → SX → Prop} {cl0 : Nat → Int32} (hT : T ≤ 16)
    (H : ∀ ch cl', (∀ x, x < T → cl' x = nc x) → ((ch = 0 ∧ ∀ x, x < T → nc x = cl0 x) ∨ (ch = 1 ∧ ∃ x, x < T ∧ nc x ≠ cl0 x)) → post ch (nI T, nI U, nI G, nI E, ln, ec, K, A, N, C, nm, tg, re, bo, cl', nc, ni, lo, si)) :
    ∀ n i ch cl, i ≤ T → T < i + n → (∀ x, x < i → cl x = nc x) → (∀ x, i ≤ x → cl x = cl0 x) →
      ((ch = 0 ∧ ∀ x, x < i → nc x = cl0 x) ∨ (ch = 1 ∧ ∃ x, x < i ∧ nc x ≠ cl0 x)) → wX_split_31 post (nI T) (nI U) (nI G) (nI E) ln ec n ch (nI i) K A N C nm tg re bo cl nc ni lo si := by
  intro n
  induction n with
  | zero => intro i ch cl a b; omega
  | succ n ih =>
    intro i ch cl hi hn h1 h2 h3
    by_cases ei : i = T
    · subst ei
      refine br_t (nI_le (Nat.le_refl i) (by omega)) ⟨?_, H ch cl h1 h3⟩
      rcases h3 with h3 | h3
      · rw [h3.1]; exact td_n0
      · rw [h3.1]; exact td_n1
    · have v := vp_in_nI (n := i) (N := 16) (by omega) (by omega)
      refine br_f (nI_ge (by omega) (by omega)) (And.intro v (And.intro v ?_))
      rw [nI_clamp (n := i) (by omega)]
      refine br_c (fun z => nm_r (nI_1 i) (ih (i + 1) ch cl (by omega) (by omega) ?_ (fun x hx => h2 x (by omega)) ?_)) (fun z => ⟨v, v, nm_e (nm_r (nI_1 i) (ih (i + 1) 1 (upd cl i (nc i)) (by omega) (by omega) ?_ ?_ ?_))⟩)
      · intro x hx
        by_cases ex : x = i
        · subst ex; exact z
        · exact h1 x (by omega)
      · rcases h3 with h3 | h3
        · refine Or.inl ⟨h3.1, fun x hx => ?_⟩
          by_cases ex : x = i
          · subst ex; rw [← h2 x (Nat.le_refl x)]; exact z.symm
          · exact h3.2 x (by omega)
        · obtain ⟨c, x, hx, w⟩ := h3
          exact Or.inr ⟨c, x, by omega, w⟩
      · intro x hx
        by_cases ex : x = i
        · subst ex; exact pk_us
        · rw [pk_un ex]; exact h1 x (by omega)
      · intro x hx
        rw [pk_un (by omega)]; exact h2 x (by omega)
      · refine Or.inr ⟨rfl, i, by omega, fun w => z ?_⟩
        rw [h2 i (Nat.le_refl i)]; exact w.symm
theorem tx_sp2 {post : Int32 → SX → Prop} (h : td_Bx T U G E K A N C tg) (hb : ∀ y, K y ≠ 0 → bo y = nI (bd y) ∧ bd y < 16)
    (H : ∀ ch cl' nc', td_Sp T K A C nm tg bd cl cl' → ((ch = 0 ∧ ∀ x, x < T → cl' x = cl x) ∨ (ch = 1 ∧ ∃ x, x < T ∧ cl' x ≠ cl x)) → post ch (nI T, nI U, nI G, nI E, ln, ec, K, A, N, C, nm, tg, re, bo, cl', nc', ni, lo, si)) :
    ∀ n i nc, i ≤ T → T < i + n → (∀ x, x < i → ∃ l, td_Ld K A C nm tg bd cl x l ∧ nc x = nI l) → wX_split_2 post (nI T) (nI U) (nI G) (nI E) ln ec n (nI i) K A N C nm tg re bo cl nc ni lo si := by
  have hT := tb_T h
  intro n
  induction n with
  | zero => intro i nc a b; omega
  | succ n ih =>
    intro i nc hi hn h1
    by_cases ei : i = T
    · subst ei
      refine br_t (nI_le (Nat.le_refl i) (by omega)) (Exists.intro (i + 1) (tx_sp31 (cl0 := cl) hT ?_ (i + 1) 0 0 cl (Nat.zero_le i) (by omega) (fun x hx => absurd hx (Nat.not_lt_zero x)) (fun x _ => rfl) (Or.inl ⟨rfl, fun x hx => absurd hx (Nat.not_lt_zero x)⟩)))
      intro ch cl' e c
      refine H ch cl' nc (fun x hx => ?_) ?_
      · obtain ⟨l, l1, l2⟩ := h1 x hx
        exact ⟨l, l1, (e x hx).trans l2⟩
      · rcases c with c | c
        · exact Or.inl ⟨c.1, fun x hx => (e x hx).trans (c.2 x hx)⟩
        · obtain ⟨c, x, hx, w⟩ := c
          exact Or.inr ⟨c, x, hx, fun z => w ((e x hx).symm.trans z)⟩
    · refine br_f (nI_ge (by omega) (by omega)) (tx_ld h (by omega) hb (fun l hl => And.intro (vp_in_nI (by omega) (by omega)) ?_))
      rw [nI_clamp (n := i) (by omega)]
      refine nm_e (nm_r (nI_1 i) (ih (i + 1) (upd nc i (nI l)) (by omega) (by omega) ?_))
      intro x hx
      by_cases ex : x = i
      · subst ex; exact ⟨l, hl, pk_us⟩
      · rw [pk_un ex]; exact h1 x (by omega)
theorem tx_sp {post : Int32 → SX → Prop} (h : td_Bx T U G E K A N C tg) (hb : ∀ y, K y ≠ 0 → bo y = nI (bd y) ∧ bd y < 16)
    (H : ∀ ch cl' nc', td_Sp T K A C nm tg bd cl cl' → ((ch = 0 ∧ ∀ x, x < T → cl' x = cl x) ∨ (ch = 1 ∧ ∃ x, x < T ∧ cl' x ≠ cl x)) → post ch (nI T, nI U, nI G, nI E, ln, ec, K, A, N, C, nm, tg, re, bo, cl', nc', ni, lo, si)) :
    wpX_split post (nI T, nI U, nI G, nI E, ln, ec, K, A, N, C, nm, tg, re, bo, cl, nc, ni, lo, si) :=
  Exists.intro (T + 1) (tx_sp2 h hb H (T + 1) 0 nc (Nat.zero_le T) (by omega) (fun x hx => absurd hx (Nat.not_lt_zero x)))

theorem tx_pt38 {post : SX → Prop} (h : td_Bx T U G E K A N C tg) (hc : td_Cl K C tg bd) (hb : ∀ y, K y ≠ 0 → bo y = nI (bd y) ∧ bd y < 16)
    (H : ∀ cl' nc', td_Pt T K A C nm tg bd cl' → post (nI T, nI U, nI G, nI E, ln, ec, K, A, N, C, nm, tg, re, bo, cl', nc', ni, lo, si)) :
    ∀ n r ch cl nc, r ≤ T + 1 → T + 1 < r + n → (∀ x y, td_Bis K A C nm tg bd x y → cl x = cl y) →
      ((ch = 0 ∧ td_Pt T K A C nm tg bd cl) ∨ (ch = 1 ∧ (r = 0 ∨ (td_Lb T K cl ∧ r ≤ td_ct (fun x => decide (cl x = nI x)) T)))) →
      wX_partition_38 post n ch (nI r) (nI T) (nI U) (nI G) (nI E) ln ec K A N C nm tg re bo cl nc ni lo si := by
  have hT := tb_T h
  have hK : ∀ x, K x ≠ 0 → x < T := fun x hx => tb_lt h hx
  intro n
  induction n with
  | zero => intro r ch cl nc a b; omega
  | succ n ih =>
    intro r ch cl nc hr hn hco hi
    by_cases er : T < r
    · refine br_t (nI_lt er (by omega)) ?_
      rcases hi with hi | hi
      · exact H cl nc hi.2
      · rcases hi.2 with z | z
        · omega
        · have := td_ct_le (fun x => decide (cl x = nI x)) T
          omega
    · refine br_f (nI_nlt (by omega) (by omega)) ?_
      rcases hi with hi | hi
      · exact br_t hi.1 (H cl nc hi.2)
      · refine br_f (by rw [hi.1]; exact td_10) (tx_sp h hb (fun ch' cl' nc' hs hd => nm_r (nI_1 r) (ih (r + 1) ch' cl' nc' (by omega) (by omega) (td_sp_co hT hK hs hco) ?_)))
        have hl := td_sp_lb hT hs
        rcases hd with hd | hd
        · refine Or.inl ⟨hd.1, hl, fun x y kx ky => ⟨fun e => ?_, fun b => td_sp_co hT hK hs hco x y b⟩⟩
          refine td_sp_st hT hK hc hs hd.2 kx ky ?_
          rw [← hd.2 x (hK x kx), ← hd.2 y (hK y ky)]
          exact e
        · refine Or.inr ⟨hd.1, Or.inr ⟨hl, ?_⟩⟩
          rcases hi.2 with z | z
          · subst z
            have hT8 := h.1.1
            obtain ⟨l, l1, l2, _⟩ := hl 0 (by omega)
            have l0 : l = 0 := by omega
            subst l0
            exact td_ct_st (p := fun x => decide (cl' x = nI x)) (m := 0) (n := T) (by omega) (decide_eq_true l2)
          · have := td_sp_ct hT hs z.1 hd.2
            omega
theorem tx_pt2 {post : SX → Prop} (h : td_Bx T U G E K A N C tg) (hr : ∀ t, t ≤ G → (re t ≠ 0 ↔ R t = true))
    (H : ∀ bo' cl' nc', (∀ x, x < T → bo' x = nI (td_bd K A R x)) → td_Pt T K A C nm tg (td_bd K A R) cl' → post (nI T, nI U, nI G, nI E, ln, ec, K, A, N, C, nm, tg, re, bo', cl', nc', ni, lo, si)) :
    ∀ n i bo cl, i ≤ T → T < i + n → (∀ x, x < i → bo x = nI (td_bd K A R x) ∧ cl x = 0) → wX_partition_2 post (nI T) (nI U) (nI G) (nI E) ln ec n (nI i) K A N C nm tg re bo cl nc ni lo si := by
  have hT := tb_T h
  intro n
  induction n with
  | zero => intro i bo cl a b; omega
  | succ n ih =>
    intro i bo cl hi hn h1
    by_cases ei : i = T
    · subst ei
      refine br_t (nI_le (Nat.le_refl i) (by omega)) (Exists.intro (i + 2) (tx_pt38 (bd := td_bd K A R) h (td_bd_cl h) ?_ ?_ (i + 2) 0 1 cl nc (Nat.zero_le _) (by omega) ?_ (Or.inr ⟨rfl, Or.inl rfl⟩)))
      · intro y hy
        exact ⟨(h1 y (tb_lt h hy)).1, tb_l16 h (td_bd_u h hy)⟩
      · intro cl' nc' hp
        exact H bo cl' nc' (fun x hx => (h1 x hx).1) hp
      · intro x y b
        obtain ⟨kx, ky, _⟩ := td_Bis_st b
        rw [(h1 x (tb_lt h kx)).2, (h1 y (tb_lt h ky)).2]
    · refine br_f (nI_ge (by omega) (by omega)) (tx_fb h hr (by omega) (And.intro (vp_in_nI (by omega) (by omega)) ?_))
      rw [nI_clamp (n := i) (by omega)]
      refine nm_e ⟨vp_in_nI (by omega) (by omega), nm_e (nm_r (nI_1 i) (ih (i + 1) (upd bo i (nI (td_bd K A R i))) (upd cl i 0) (by omega) (by omega) ?_))⟩
      intro x hx
      by_cases ex : x = i
      · subst ex; exact ⟨pk_us, pk_us⟩
      · rw [pk_un ex, pk_un ex]; exact h1 x (by omega)
theorem tx_pt {post : SX → Prop} (h : td_Bx T U G E K A N C tg) (hr : ∀ t, t ≤ G → (re t ≠ 0 ↔ R t = true))
    (H : ∀ bo' cl' nc', (∀ x, x < T → bo' x = nI (td_bd K A R x)) → td_Pt T K A C nm tg (td_bd K A R) cl' → post (nI T, nI U, nI G, nI E, ln, ec, K, A, N, C, nm, tg, re, bo', cl', nc', ni, lo, si)) :
    wpX_partition post (nI T, nI U, nI G, nI E, ln, ec, K, A, N, C, nm, tg, re, bo, cl, nc, ni, lo, si) :=
  Exists.intro (T + 1) (tx_pt2 h hr H (T + 1) 0 bo cl (Nat.zero_le T) (by omega) (fun x hx => absurd hx (Nat.not_lt_zero x)))
end
end
section
/-! the component's tags and link -/
section
variable {T U G E : Nat} {ln ec : Int32} {K A N C nm tg re bo cl nc ni lo si : Nat → Int32} {R : Nat → Bool} {bd : Nat → Nat}

theorem tx_un16 {post : Int32 → Prop} {a : Int32} {f : Nat} (hT : T ≤ 16) (hf : f < T)
    (h1 : (∀ x, f < x → x < T → K x = 6 → A x = a → cl x = cl f) → post 1) (h0 : (¬ ∀ x, f < x → x < T → K x = 6 → A x = a → cl x = cl f) → post 0) :
    ∀ n i, f < i → i ≤ T → T < i + n → (∀ x, f < x → x < i → K x = 6 → A x = a → cl x = cl f) → wX_isUnambiguous_16 post a (nI f) (nI T) (nI U) (nI G) (nI E) ln ec K A N C nm tg re bo cl nc ni lo si n (nI i) := by
  intro n
  induction n with
  | zero => intro i _ _ _; omega
  | succ n ih =>
    intro i hfi hi hn hk
    by_cases ei : i = T
    · subst ei
      exact br_t (nI_le (Nat.le_refl i) (by omega)) (h1 hk)
    · refine br_f (nI_ge (by omega) (by omega)) ?_
      by_cases c : K i = 6 ∧ A i = a
      · refine tx_is_t (by omega) c.1 c.2 (br_f td_10 ⟨vp_in_nI (by omega) (by omega), vp_in_nI (by omega) (by omega), ?_⟩)
        rw [nI_clamp (n := i) (by omega), nI_clamp (n := f) (by omega)]
        refine br_c (fun z => nm_r (nI_1 i) (ih (i + 1) (by omega) (by omega) (by omega) ?_)) (fun z => h0 (fun w => z (w i hfi (by omega) c.1 c.2)))
        intro x hx hxi k6 ax
        by_cases ex : x = i
        · subst ex; exact z
        · exact hk x hx (by omega) k6 ax
      · refine tx_is_f (by omega) c (br_t rfl (nm_r (nI_1 i) (ih (i + 1) (by omega) (by omega) (by omega) ?_)))
        intro x hx hxi k6 ax
        by_cases ex : x = i
        · subst ex; exact absurd ⟨k6, ax⟩ c
        · exact hk x hx (by omega) k6 ax
theorem tx_un {post : Int32 → Prop} (h : td_Bx T U G E K A N C tg) (hp : td_Pt T K A C nm tg bd cl) {t : Nat}
    (h1 : td_Una K A C nm tg bd t → post 1) (h0 : ¬ td_Una K A C nm tg bd t → post 0) : wpX_isUnambiguous post (nI T, nI U, nI G, nI E, ln, ec, K, A, N, C, nm, tg, re, bo, cl, nc, ni, lo, si) (nI t) := by
  have hT := tb_T h
  unfold wpX_isUnambiguous
  rcases td_ls h (nI t) with ⟨f, f1, f2, f3, f4⟩ | hn
  · refine tx_ls_t hT f1 f2 f3 f4 (br_t (nI_pos' (by omega)) (nm_r (nI_1 f) (Exists.intro (T + 1) (tx_un16 hT f1 ?_ ?_ (T + 1) (f + 1) (by omega) (by omega) (by omega) ?_))))
    · intro w
      refine h1 ⟨⟨f, f2, f3⟩, fun x y x6 xa y6 ya => (hp.2 x y (tb_6 x6) (tb_6 y6)).mp ?_⟩
      have g : ∀ z, K z = 6 → A z = nI t → cl z = cl f := fun z z6 za => by
        rcases Nat.lt_trichotomy z f with l | l | l
        · exact absurd ⟨z6, za⟩ (f4 z l)
        · rw [l]
        · exact w z l (tb_lt h (tb_6 z6)) z6 za
      exact (g x x6 xa).trans (g y y6 ya).symm
    · intro w
      exact h0 (fun u => w (fun x _ _ x6 xa => (hp.2 x f (tb_6 x6) (tb_6 f2)).mpr (u.2 x f x6 xa f2 f3)))
    · intro x hx hxi
      omega
  · refine tx_ls_f hT hn (br_f td_0m1 (h0 (fun u => ?_)))
    obtain ⟨⟨x, x1⟩, _⟩ := u
    exact hn x x1

theorem tx_lr2 {post : Int32 → Prop} (h : td_Bx T U G E K A N C tg) (hr : ∀ t, t ≤ G → (re t ≠ 0 ↔ R t = true)) (hp : td_Pt T K A C nm tg (td_bd K A R) cl)
    (H1 : ∀ t, td_Res G K A C nm tg R t → (∀ s, s < t → ¬ td_Res G K A C nm tg R s) → post (nI t)) (H0 : (∀ t, ¬ td_Res G K A C nm tg R t) → post 0) :
    ∀ n i, 1 ≤ i → i ≤ G + 1 → G + 1 < i + n → (∀ s, s < i → ¬ td_Res G K A C nm tg R s) → wX_lowestResolvable_2 post (nI T) (nI U) (nI G) (nI E) ln ec K A N C nm tg re bo cl nc ni lo si n (nI i) := by
  have hG := h.1.2.2.2.2.2.1
  intro n
  induction n with
  | zero => intro i _ _ _; omega
  | succ n ih =>
    intro i i1 hi hn hk
    by_cases ei : i = G + 1
    · subst ei
      refine br_t (nI_lt (by omega) (by omega)) (H0 (fun t z => ?_))
      exact hk t (by have := z.2.1; omega) z
    · have v := vp_in_nI (n := i) (N := 9) (by omega) (by omega)
      refine br_f (nI_nlt (by omega) (by omega)) (And.intro v ?_)
      rw [nI_clamp (n := i) (by omega)]
      refine br_c (fun z => ?_) (fun z => nm_r (nI_1 i) (ih (i + 1) (by omega) (by omega) (by omega) ?_))
      · have hR : R i = false := td_bf (fun w => (hr i (by omega)).mpr w z)
        refine tx_un h hp (fun w => br_f td_10 (H1 i ⟨i1, by omega, hR, w⟩ hk)) (fun w => br_t rfl (nm_r (nI_1 i) (ih (i + 1) (by omega) (by omega) (by omega) ?_)))
        intro s hs q
        by_cases es : s = i
        · subst es; exact w q.2.2.2
        · exact hk s (by omega) q
      · intro s hs q
        by_cases es : s = i
        · subst es
          have e := (hr s (by omega)).mp z
          rw [q.2.2.1] at e
          cases e
        · exact hk s (by omega) q
theorem tx_lr {post : Int32 → Prop} (h : td_Bx T U G E K A N C tg) (hr : ∀ t, t ≤ G → (re t ≠ 0 ↔ R t = true)) (hp : td_Pt T K A C nm tg (td_bd K A R) cl)
    (H1 : ∀ t, td_Res G K A C nm tg R t → (∀ s, s < t → ¬ td_Res G K A C nm tg R s) → post (nI t)) (H0 : (∀ t, ¬ td_Res G K A C nm tg R t) → post 0) :
    wpX_lowestResolvable post (nI T, nI U, nI G, nI E, ln, ec, K, A, N, C, nm, tg, re, bo, cl, nc, ni, lo, si) :=
  Exists.intro (G + 2) (tx_lr2 h hr hp H1 H0 (G + 2) 1 (by omega) (by omega) (by omega) (fun s hs q => by have := q.1; omega))

theorem tx_rt27 {post : SX → Prop} (h : td_Bx T U G E K A N C tg)
    (H : ∀ re' bo' cl' nc', (∀ t, t ≤ G → (re' t ≠ 0 ↔ td_Rn G K A C nm tg G t = true)) → (∀ x, x < T → bo' x = nI (td_bd K A (td_Rn G K A C nm tg G) x)) →
      td_Pt T K A C nm tg (td_bd K A (td_Rn G K A C nm tg G)) cl' → post (nI T, nI U, nI G, nI E, ln, ec, K, A, N, C, nm, tg, re', bo', cl', nc', ni, lo, si)) :
    ∀ n r g re bo cl nc, r ≤ G + 1 → G + 1 < r + n →
      ((g = 0 ∧ (∀ t, t ≤ G → (re t ≠ 0 ↔ td_Rn G K A C nm tg G t = true)) ∧ (∀ x, x < T → bo x = nI (td_bd K A (td_Rn G K A C nm tg G) x)) ∧
          td_Pt T K A C nm tg (td_bd K A (td_Rn G K A C nm tg G)) cl) ∨
        (g = 1 ∧ (∀ t, t ≤ G → (re t ≠ 0 ↔ td_Rn G K A C nm tg r t = true)) ∧ r ≤ td_ct (fun s => td_Rn G K A C nm tg r (s + 1)) G)) →
      wX_resolveTags_27 post n g (nI r) (nI T) (nI U) (nI G) (nI E) ln ec K A N C nm tg re bo cl nc ni lo si := by
  have hG := h.1.2.2.2.2.2.1
  intro n
  induction n with
  | zero => intro r g re bo cl nc a b; omega
  | succ n ih =>
    intro r g re bo cl nc hr hn hi
    by_cases er : G < r
    · refine br_t (nI_lt er (by omega)) ?_
      rcases hi with hi | hi
      · exact H re bo cl nc hi.2.1 hi.2.2.1 hi.2.2.2
      · have h1 := td_ct_le (fun s => td_Rn G K A C nm tg r (s + 1)) G
        have h2 := hi.2.2
        omega
    · refine br_f (nI_nlt (by omega) (by omega)) ?_
      rcases hi with hi | hi
      · exact br_t hi.1 (H re bo cl nc hi.2.1 hi.2.2.1 hi.2.2.2)
      · refine br_f (by rw [hi.1]; exact td_10) (tx_pt h hi.2.1 (fun bo' cl' nc' hb hp => ?_))
        refine tx_lr h hi.2.1 hp (fun t ht hm => ?_) (fun hno => ?_)
        · have t1 := ht.1
          have t2 := ht.2.1
          refine br_f (nI_nle (by omega) (by omega)) (br_f td_10 (And.intro (vp_in_nI (by omega) (by omega)) ?_))
          rw [nI_clamp (n := t) (by omega), td_v1]
          refine nm_e (nm_r (nI_1 r) (ih (r + 1) 1 (upd re t 1) bo' cl' nc' (by omega) (by omega) (Or.inr ⟨rfl, fun s hs => ?_, ?_⟩)))
          · show _ ↔ td_nx G K A C nm tg (td_Rn G K A C nm tg r) s = true
            by_cases es : s = t
            · subst es
              rw [pk_us, td_nx_s ht hm]
              exact ⟨fun _ => rfl, fun _ => td_10⟩
            · rw [pk_un es, td_nx_n ht hm es]
              exact hi.2.1 s hs
          · have h1 := td_nx_ct ht hm
            have h2 := hi.2.2
            show r + 1 ≤ td_ct (fun s => td_nx G K A C nm tg (td_Rn G K A C nm tg r) (s + 1)) G
            omega
        · refine br_t (by decide) (br_t rfl (nm_r (nI_1 r) (ih (r + 1) 0 re bo' cl' nc' (by omega) (by omega) (Or.inl ⟨rfl, ?_⟩))))
          have e := td_Rn_stop hno (G - r)
          rw [show r + (G - r) = G by omega] at e
          rw [e]
          exact ⟨hi.2.1, hb, hp⟩
theorem tx_rt2 {post : SX → Prop} (h : td_Bx T U G E K A N C tg)
    (H : ∀ re' bo' cl' nc', (∀ t, t ≤ G → (re' t ≠ 0 ↔ td_Rn G K A C nm tg G t = true)) → (∀ x, x < T → bo' x = nI (td_bd K A (td_Rn G K A C nm tg G) x)) →
      td_Pt T K A C nm tg (td_bd K A (td_Rn G K A C nm tg G)) cl' → post (nI T, nI U, nI G, nI E, ln, ec, K, A, N, C, nm, tg, re', bo', cl', nc', ni, lo, si)) :
    ∀ n i re, i ≤ G + 1 → G + 1 < i + n → (∀ t, t < i → re t = 0) → wX_resolveTags_2 post (nI T) (nI U) (nI G) (nI E) ln ec n (nI i) K A N C nm tg re bo cl nc ni lo si := by
  have hG := h.1.2.2.2.2.2.1
  intro n
  induction n with
  | zero => intro i re a b; omega
  | succ n ih =>
    intro i re hi hn h1
    by_cases ei : i = G + 1
    · subst ei
      refine br_t (nI_lt (by omega) (by omega)) (Exists.intro (G + 2) (tx_rt27 h H (G + 2) 0 1 re bo cl nc (by omega) (by omega) (Or.inr ⟨rfl, fun t ht => ?_, Nat.zero_le _⟩)))
      rw [h1 t (by omega)]
      exact ⟨fun z => absurd rfl z, fun z => by cases z⟩
    · refine br_f (nI_nlt (by omega) (by omega)) (And.intro (vp_in_nI (by omega) (by omega)) ?_)
      rw [nI_clamp (n := i) (by omega), td_v0]
      refine nm_e (nm_r (nI_1 i) (ih (i + 1) (upd re i 0) (by omega) (by omega) ?_))
      intro t ht
      by_cases et : t = i
      · subst et; exact pk_us
      · rw [pk_un et]; exact h1 t (by omega)
theorem tx_rt {post : SX → Prop} (h : td_Bx T U G E K A N C tg)
    (H : ∀ re' bo' cl' nc', (∀ t, t ≤ G → (re' t ≠ 0 ↔ td_Rn G K A C nm tg G t = true)) → (∀ x, x < T → bo' x = nI (td_bd K A (td_Rn G K A C nm tg G) x)) →
      td_Pt T K A C nm tg (td_bd K A (td_Rn G K A C nm tg G)) cl' → post (nI T, nI U, nI G, nI E, ln, ec, K, A, N, C, nm, tg, re', bo', cl', nc', ni, lo, si)) : wpX_resolveTags post (nI T, nI U, nI G, nI E, ln, ec, K, A, N, C, nm, tg, re, bo, cl, nc, ni, lo, si) :=
  Exists.intro (G + 2) (tx_rt2 h H (G + 2) 0 re (by omega) (by omega) (fun t ht => absurd ht (Nat.not_lt_zero t)))
end
end
section
/-! the component's numbering of the entries, and its link -/
theorem td_ct_z {p : Nat → Bool} {n : Nat} : ∀ m, n ≤ m → (∀ y, n ≤ y → p y = false) → td_ct p m = td_ct p n := by
  intro m
  induction m with
  | zero => intro h _; have : n = 0 := by omega
            subst this; rfl
  | succ m ih =>
    intro h hz
    by_cases e : n = m + 1
    · subst e; rfl
    · rw [td_ct_f (hz m (by omega))]; exact ih (by omega) hz
section
variable {T U G E : Nat} {ln ec : Int32} {K A N C nm tg re bo cl nc ni lo si : Nat → Int32} {R : Nat → Bool} {bd : Nat → Nat} {q : Nat → Nat → Bool}

/-- what is numbered when all types below i are -/
def td_Nu (K : Nat → Int32) (q : Nat → Nat → Bool) (i : Nat) (ec : Int32) (ni lo si : Nat → Int32) : Prop :=
  ec = nI (td_fb K q i) ∧ (∀ x, x < i → K x ≠ 0 → ni x = nI (td_fb K q (td_fo q x))) ∧
  ∀ x, x < i → td_isf K q x = true → lo (td_fb K q x) = nI x ∧ si (td_fb K q x) = nI (td_cs K q x i)
theorem td_cs_t {x i : Nat} (hk : K i ≠ 0) (hf : td_fo q i = x) : td_cs K q x (i + 1) = td_cs K q x i + 1 := td_ct_t (decide_eq_true ⟨hk, hf⟩)
theorem td_cs_f {x i : Nat} (h : K i = 0 ∨ td_fo q i ≠ x) : td_cs K q x (i + 1) = td_cs K q x i :=
  td_ct_f (decide_eq_false (fun z => by
    rcases h with h | h
    · exact z.1 h
    · exact h z.2))
theorem td_fb_t {i : Nat} (h : td_isf K q i = true) : td_fb K q (i + 1) = td_fb K q i + 1 := td_ct_t h
theorem td_fb_f {i : Nat} (h : td_isf K q i = false) : td_fb K q (i + 1) = td_fb K q i := td_ct_f h
theorem td_nu_0 {i : Nat} (hk : K i = 0) (h : td_Nu K q i ec ni lo si) : td_Nu K q (i + 1) ec ni lo si := by
  have hf : td_isf K q i = false := decide_eq_false (fun z => z.1 hk)
  refine ⟨?_, fun x hx kx => ?_, fun x hx fx => ?_⟩
  · rw [td_fb_f hf]; exact h.1
  · by_cases e : x = i
    · subst e; exact absurd hk kx
    · exact h.2.1 x (by omega) kx
  · by_cases e : x = i
    · subst e; rw [hf] at fx; cases fx
    · rw [td_cs_f (Or.inl hk)]; exact h.2.2 x (by omega) fx
theorem td_nu_1 {i : Nat} (hk : K i ≠ 0) (hq : ∀ x, K x ≠ 0 → td_fo q x ≤ x) (hf : td_fo q i = i) (h : td_Nu K q i ec ni lo si) :
    td_Nu K q (i + 1) (nI (td_fb K q i + 1)) (upd ni i (nI (td_fb K q i))) (upd lo (td_fb K q i) (nI i)) (upd si (td_fb K q i) 1) := by
  have hi : td_isf K q i = true := decide_eq_true ⟨hk, hf⟩
  refine ⟨?_, fun x hx kx => ?_, fun x hx fx => ?_⟩
  · rw [td_fb_t hi]
  · by_cases e : x = i
    · subst e; rw [pk_us, hf]
    · rw [pk_un e]; exact h.2.1 x (by omega) kx
  · by_cases e : x = i
    · subst e
      rw [pk_us, pk_us, td_cs_t hk hf]
      have z : td_cs K q x x = 0 := by
        refine (td_ct_e (q := fun _ => false) (fun y hy => decide_eq_false (fun w => ?_))).trans ?_
        · have := hq y w.1
          have := w.2
          omega
        · exact td_ct_z x (Nat.zero_le x) (fun _ _ => rfl)
      rw [z]
      exact ⟨rfl, rfl⟩
    · have l : td_fb K q x < td_fb K q i := td_ct_st (by omega) fx
      rw [pk_un (by omega), pk_un (by omega), td_cs_f (Or.inr (by omega))]
      exact h.2.2 x (by omega) fx
theorem td_nu_2 {i : Nat} (hk : K i ≠ 0) (hf : td_fo q i < i) (hF : td_isf K q (td_fo q i) = true) (h : td_Nu K q i ec ni lo si) :
    td_Nu K q (i + 1) ec (upd ni i (nI (td_fb K q (td_fo q i)))) lo (upd si (td_fb K q (td_fo q i)) (nI (td_cs K q (td_fo q i) i + 1))) := by
  have hi : td_isf K q i = false := decide_eq_false (fun z => by have := z.2; omega)
  refine ⟨?_, fun x hx kx => ?_, fun x hx fx => ?_⟩
  · rw [td_fb_f hi]; exact h.1
  · by_cases e : x = i
    · subst e; rw [pk_us]
    · rw [pk_un e]; exact h.2.1 x (by omega) kx
  · have e : x ≠ i := by intro e; subst e; rw [hi] at fx; cases fx
    by_cases ex : x = td_fo q i
    · rw [ex, pk_us, td_cs_t hk rfl]
      exact ⟨(h.2.2 (td_fo q i) hf hF).1, rfl⟩
    · have l : td_fb K q x ≠ td_fb K q (td_fo q i) := fun z => ex (td_ct_inj fx hF z)
      rw [pk_un l, td_cs_f (Or.inr (fun z => ex z.symm))]
      exact h.2.2 x (by omega) fx

theorem tx_et {post : SX → Prop} (hq : ∀ x, K x ≠ 0 → td_fo q x ≤ x ∧ td_isf K q (td_fo q x) = true) (hcl : ∀ x, K x ≠ 0 → cl x = nI (td_fo q x))
    {i : Nat} (hi : i < 16) (hk : K i ≠ 0) (h : td_Nu K q i ec ni lo si)
    (H : ∀ ec' ni' lo' si', td_Nu K q (i + 1) ec' ni' lo' si' → post (nI T, nI U, nI G, nI E, ln, ec', K, A, N, C, nm, tg, re, bo, cl, nc, ni', lo', si')) : wpX_enterType post (nI T, nI U, nI G, nI E, ln, ec, K, A, N, C, nm, tg, re, bo, cl, nc, ni, lo, si) (nI i) := by
  have v := vp_in_nI (n := i) (N := 16) hi (by omega)
  have e := nI_clamp (n := i) (by omega)
  have hfi := (hq i hk).1
  have ef := nI_clamp (n := td_fo q i) (by omega)
  refine And.intro v ?_
  rw [e]
  refine nm_r (hcl i hk) ?_
  by_cases c : td_fo q i = i
  · have hb : td_fb K q i ≤ i := td_ct_le _ i
    have vb := vp_in_nI (n := td_fb K q i) (N := 16) (by omega) (by omega)
    have eb := nI_clamp (n := td_fb K q i) (by omega)
    refine br_t (by rw [c]) ?_
    rw [h.1, eb]
    exact ⟨v, nm_e ⟨vb, nm_e ⟨vb, nm_e (nm_r (nI_1 _) (H _ _ _ _ (td_nu_1 hk (fun x hx => (hq x hx).1) c h)))⟩⟩⟩
  · have hlt : td_fo q i < i := by omega
    have hF := (hq i hk).2
    have hF' := of_decide_eq_true hF
    have hb : td_fb K q (td_fo q i) ≤ td_fo q i := td_ct_le _ _
    have vb := vp_in_nI (n := td_fb K q (td_fo q i)) (N := 16) (by omega) (by omega)
    have eb := nI_clamp (n := td_fb K q (td_fo q i)) (by omega)
    have en : ni (td_fo q i) = nI (td_fb K q (td_fo q i)) := by
      have w := h.2.1 (td_fo q i) hlt hF'.1
      rw [hF'.2] at w
      exact w
    have es := (h.2.2 (td_fo q i) hlt hF).2
    refine br_f (by rw [nI_eq (by omega) (by omega)]; exact c) ⟨vp_in_nI (by omega) (by omega), v, ?_⟩
    rw [ef, en]
    refine nm_e ⟨v, ?_⟩
    rw [pk_us, eb, es]
    exact ⟨vb, vb, nm_r (e' := upd si (td_fb K q (td_fo q i)) (nI (td_cs K q (td_fo q i) i + 1))) (by rw [nI_1]) (H _ _ _ _ (td_nu_2 hk hlt hF h))⟩
theorem tx_ne7 {post : SX → Prop} (hT : T ≤ 16) (hq : ∀ x, K x ≠ 0 → td_fo q x ≤ x ∧ td_isf K q (td_fo q x) = true) (hcl : ∀ x, K x ≠ 0 → cl x = nI (td_fo q x))
    (H : ∀ ec' ni' lo' si', td_Nu K q T ec' ni' lo' si' → post (nI T, nI U, nI G, nI E, ln, ec', K, A, N, C, nm, tg, re, bo, cl, nc, ni', lo', si')) :
    ∀ n i ec ni lo si, i ≤ T → T < i + n → td_Nu K q i ec ni lo si → wX_numberEntries_7 post n (nI i) (nI T) (nI U) (nI G) (nI E) ln ec K A N C nm tg re bo cl nc ni lo si := by
  intro n
  induction n with
  | zero => intro i ec ni lo si a b; omega
  | succ n ih =>
    intro i ec ni lo si hi hn h1
    by_cases ei : i = T
    · subst ei
      exact br_t (nI_le (Nat.le_refl i) (by omega)) (H ec ni lo si h1)
    · refine br_f (nI_ge (by omega) (by omega)) (And.intro (vp_in_nI (by omega) (by omega)) ?_)
      rw [nI_clamp (n := i) (by omega)]
      refine br_c (fun z => nm_r (nI_1 i) (ih (i + 1) ec ni lo si (by omega) (by omega) (td_nu_0 z h1))) (fun z => ?_)
      exact tx_et hq hcl (by omega) z h1 (fun ec' ni' lo' si' h2 => nm_r (nI_1 i) (ih (i + 1) ec' ni' lo' si' (by omega) (by omega) h2))
theorem tx_ne {post : SX → Prop} (hT : T ≤ 16) (hq : ∀ x, K x ≠ 0 → td_fo q x ≤ x ∧ td_isf K q (td_fo q x) = true) (hcl : ∀ x, K x ≠ 0 → cl x = nI (td_fo q x))
    (H : ∀ ec' ni' lo' si', td_Nu K q T ec' ni' lo' si' → post (nI T, nI U, nI G, nI E, ln, ec', K, A, N, C, nm, tg, re, bo, cl, nc, ni', lo', si')) : wpX_numberEntries post (nI T, nI U, nI G, nI E, ln, ec, K, A, N, C, nm, tg, re, bo, cl, nc, ni, lo, si) :=
  Exists.intro (T + 1) (tx_ne7 hT hq hcl H (T + 1) 0 0 ni lo si (Nat.zero_le T) (by omega) ⟨rfl, fun x hx => absurd hx (Nat.not_lt_zero x), fun x hx => absurd hx (Nat.not_lt_zero x)⟩)

/-- what the numbering gives -/
theorem td_nu_LX (h : td_Bx T U G E K A N C tg) (hr : ∀ t, t ≤ G → (re t ≠ 0 ↔ R t = true)) (hb : ∀ x, x < T → bo x = nI (td_bd K A R x))
    (hn : td_Nu K (td_qb K A C nm tg (td_bd K A R)) T ec ni lo si) : td_LX G K A C nm tg R ec re bo ni lo si := by
  have hz : ∀ y, T ≤ y → ¬ K y ≠ 0 := fun y hy k => by have := tb_lt h k; omega
  have e1 : td_fb K (td_qb K A C nm tg (td_bd K A R)) 16 = td_fb K (td_qb K A C nm tg (td_bd K A R)) T :=
    td_ct_z 16 (tb_T h) (fun y hy => decide_eq_false (fun w => hz y hy w.1))
  have e2 : ∀ x, td_cs K (td_qb K A C nm tg (td_bd K A R)) x 16 = td_cs K (td_qb K A C nm tg (td_bd K A R)) x T := fun x =>
    td_ct_z 16 (tb_T h) (fun y hy => decide_eq_false (fun w => hz y hy w.1))
  refine ⟨hr, fun x hx => hb x (tb_lt h hx), ?_, fun x hx => hn.2.1 x (tb_lt h hx) hx, fun x hx => ?_⟩
  · rw [e1]; exact hn.1
  · rw [e2 x]
    exact hn.2.2 x (tb_lt h (of_decide_eq_true hx).1) hx

/-- an incomplete type -/
def td_Inc (K C : Nat → Int32) (x : Nat) : Prop := (∃ κ : Nat, 2 ≤ κ ∧ κ ≤ 5 ∧ K x = nI κ) ∧ C x = 0
theorem td_Inc_u {x : Nat} (h : td_Inc K C x) : K x ≠ 0 := by
  obtain ⟨⟨κ, h1, h2, h3⟩, _⟩ := h
  rw [h3]; exact nI_ne0 (by omega) (by omega)
theorem tx_fi2 {post : Int32 → Prop} (h : td_Bx T U G E K A N C tg) (H1 : ∀ j, td_Inc K C j → (∀ k, k < j → ¬ td_Inc K C k) → post (nI j))
    (H0 : (∀ j, ¬ td_Inc K C j) → post (-1)) :
    ∀ n i, i ≤ T → T < i + n → (∀ k, k < i → ¬ td_Inc K C k) → wX_firstIncomplete_2 post (nI T) (nI U) (nI G) (nI E) ln ec K A N C nm tg re bo cl nc ni lo si n (nI i) := by
  have hT := tb_T h
  intro n
  induction n with
  | zero => intro i _ _; omega
  | succ n ih =>
    intro i hi hn hk
    by_cases ei : i = T
    · subst ei
      refine br_t (nI_le (Nat.le_refl i) (by omega)) (H0 (fun j z => hk j (tb_lt h (td_Inc_u z)) z))
    · have v := vp_in_nI (n := i) (N := 16) (by omega) (by omega)
      refine br_f (nI_ge (by omega) (by omega)) (And.intro v ?_)
      rw [nI_clamp (n := i) (by omega)]
      have nx : ¬ td_Inc K C i → ∀ k, k < i + 1 → ¬ td_Inc K C k := fun w k hk' => by
        by_cases ek : k = i
        · subst ek; exact w
        · exact hk k (by omega)
      refine br_c (fun z => nm_r (nI_1 i) (ih (i + 1) (by omega) (by omega) (nx (fun w => td_Inc_u w z)))) (fun z => ⟨v, v, ?_⟩)
      obtain ⟨κ, k1, k2, k3⟩ := tb_k h z
      obtain ⟨γ, g1, g2, _⟩ := tb_c h i
      rw [k3, g2]
      by_cases c1 : κ < 2
      · refine br_t (nI_lt (b := 2) c1 (by omega)) (br_t (nI_pos' (by omega)) (nm_r (nI_1 i) (ih (i + 1) (by omega) (by omega) (nx (fun w => ?_)))))
        obtain ⟨⟨κ', w1, w2, w3⟩, _⟩ := w
        rw [k3, nI_eq (by omega) (by omega)] at w3
        omega
      · refine br_f (nI_nlt (b := 2) (by omega) (by omega)) ?_
        by_cases c2 : 5 < κ
        · refine br_t (nI_lt (a := 5) c2 (by omega)) (br_t (nI_pos' (by omega)) (nm_r (nI_1 i) (ih (i + 1) (by omega) (by omega) (nx (fun w => ?_)))))
          obtain ⟨⟨κ', w1, w2, w3⟩, _⟩ := w
          rw [k3, nI_eq (by omega) (by omega)] at w3
          omega
        · refine br_f (nI_nlt (a := 5) (by omega) (by omega)) ?_
          by_cases c3 : γ = 0
          · subst c3
            exact br_f (nI_ge (a := 0) (b := 1) (by omega) (by omega)) (H1 i ⟨⟨κ, by omega, by omega, k3⟩, g2⟩ hk)
          · refine br_t (nI_le (a := 1) (by omega) (by omega)) (nm_r (nI_1 i) (ih (i + 1) (by omega) (by omega) (nx (fun w => ?_))))
            have w2 := w.2
            rw [g2] at w2
            exact nI_ne0 (by omega) (by omega) w2
theorem tx_fi {post : Int32 → Prop} (h : td_Bx T U G E K A N C tg) (H1 : ∀ j, td_Inc K C j → (∀ k, k < j → ¬ td_Inc K C k) → post (nI j))
    (H0 : (∀ j, ¬ td_Inc K C j) → post (-1)) : wpX_firstIncomplete post (nI T, nI U, nI G, nI E, ln, ec, K, A, N, C, nm, tg, re, bo, cl, nc, ni, lo, si) :=
  Exists.intro (T + 1) (tx_fi2 h H1 H0 (T + 1) 0 (Nat.zero_le T) (by omega) (fun k hk => absurd hk (Nat.not_lt_zero k)))

theorem td_nm1 {j : Nat} (hj : j < 2 ^ 31) : ¬ nI j = -1 := fun e => by
  have h := nI_pos' hj
  rw [e] at h
  exact td_0m1 h
/-- the component's link of a table that isn't linked -/
theorem tx_link {post : Int32 → SX → Prop} (h : td_Bx T U G E K A N C tg) (hl : ln = 0)
    (H1 : ∀ j, td_Inc K C j → (∀ k, k < j → ¬ td_Inc K C k) → post (-8) (nI T, nI U, nI G, nI E, ln, ec, K, A, N, C, nm, tg, re, bo, cl, nc, ni, lo, si))
    (H0 : (∀ j, ¬ td_Inc K C j) → ∀ ec' re' bo' cl' nc' ni' lo' si', td_LX G K A C nm tg (td_Rn G K A C nm tg G) ec' re' bo' ni' lo' si' →
      post ec' (nI T, nI U, nI G, nI E, 1, ec', K, A, N, C, nm, tg, re', bo', cl', nc', ni', lo', si')) : wpX_link post (nI T, nI U, nI G, nI E, ln, ec, K, A, N, C, nm, tg, re, bo, cl, nc, ni, lo, si) := by
  have hT := tb_T h
  unfold wpX_link
  refine tx_fi h (fun j hj hm => br_f (td_nm1 ?_) (H1 j hj hm)) (fun hno => br_t rfl (br_t hl ?_))
  · have := tb_l16 h (td_Inc_u hj)
    omega
  · refine tx_rt h (fun re' bo' cl' nc' e1 e2 e3 => ?_)
    refine tx_ne (q := td_qb K A C nm tg (td_bd K A (td_Rn G K A C nm tg G))) hT (fun x hx => ⟨(td_fo_p h hx).2.1, td_fo_f h hx⟩) (fun x hx => td_pt_fo h e3 hx) (fun ec' ni' lo' si' e4 => ?_)
    exact H0 hno ec' re' bo' cl' nc' ni' lo' si' (td_nu_LX h e1 e2 e4)
theorem tx_link1 {post : Int32 → SX → Prop} (h : td_Bx T U G E K A N C tg) (hl : ¬ ln = 0)
    (H1 : ∀ j, td_Inc K C j → (∀ k, k < j → ¬ td_Inc K C k) → post (-8) (nI T, nI U, nI G, nI E, ln, ec, K, A, N, C, nm, tg, re, bo, cl, nc, ni, lo, si))
    (H0 : (∀ j, ¬ td_Inc K C j) → post ec (nI T, nI U, nI G, nI E, ln, ec, K, A, N, C, nm, tg, re, bo, cl, nc, ni, lo, si)) : wpX_link post (nI T, nI U, nI G, nI E, ln, ec, K, A, N, C, nm, tg, re, bo, cl, nc, ni, lo, si) := by
  have hT := tb_T h
  unfold wpX_link
  refine tx_fi h (fun j hj hm => br_f (td_nm1 ?_) (H1 j hj hm)) (fun hno => br_t rfl (br_f hl (H0 hno)))
  have := tb_l16 h (td_Inc_u hj)
  omega
end
end
section
/-! the reference's small methods -/
section
variable {T U G E : Nat} {pr : Int32} {K C us kk A N cc nm tg sm bn : Nat → Int32} {R : Nat → Bool} {bd : Nat → Nat} {post : Int32 → Prop}

theorem ty_use_t (h : td_Bx T U G E K A N C tg) (hy : td_By K C us kk cc) {j : Nat} (hk : K j ≠ 0) (hp : post 1) : wpY_inUse post (nI T, nI U, nI G, nI E, pr, us, kk, A, N, cc, nm, tg, sm, bn) (nI j) := by
  have hj := tb_l16 h hk
  have hk' : ¬ us (nI j).toNatClampNeg = 0 := by rw [nI_clamp (by omega)]; exact (tb_us1 hy hk).1
  exact br_f (nI_pos (by omega)) (br_f (nI_ge (b := 16) hj (by omega)) ⟨vp_in_nI hj (by omega), br_f hk' hp⟩)
theorem ty_use_f (hy : td_By K C us kk cc) {p : Int32} (hn : td_no K p) (hp : post 0) : wpY_inUse post (nI T, nI U, nI G, nI E, pr, us, kk, A, N, cc, nm, tg, sm, bn) p := by
  refine br_c (fun _ => hp) (fun h0 => ?_)
  obtain ⟨j, hj, e⟩ := nI_of h0
  subst e
  refine br_c (fun _ => hp) (fun h1 => ?_)
  have h1' : ¬ 16 ≤ j := fun z => h1 (nI_le (a := 16) z hj)
  have k0 : us (nI j).toNatClampNeg = 0 := by rw [nI_clamp hj]; exact tb_us0 hy (hn j (by omega) rfl)
  exact ⟨vp_in_nI (by omega) (by omega), br_t k0 hp⟩
theorem td_no_nI {j : Nat} (hj : j < 16) (h : K j = 0) : td_no K (nI j) := by
  intro i hi e
  rw [nI_eq (by omega) (by omega)] at e
  rw [← e]; exact h

theorem ty_is_t (h : td_Bx T U G E K A N C tg) (hy : td_By K C us kk cc) {j : Nat} {a : Int32} (k6 : K j = 6) (ha : A j = a) (hp : post 1) : wpY_isStruct post (nI T, nI U, nI G, nI E, pr, us, kk, A, N, cc, nm, tg, sm, bn) (nI j) a := by
  have hk := tb_6 k6
  have hj := tb_l16 h hk
  have e := nI_clamp (n := j) (by omega)
  have k' : kk (nI j).toNatClampNeg = 6 := by rw [e, (tb_us1 hy hk).2.1]; exact k6
  have a' : A (nI j).toNatClampNeg = a := by rw [e]; exact ha
  have v := vp_in_nI (n := j) (N := 16) hj (by omega)
  unfold wpY_isStruct
  exact ty_use_t h hy hk (br_f td_10 ⟨v, br_t k' ⟨v, br_t a' hp⟩⟩)
theorem ty_is_f (h : td_Bx T U G E K A N C tg) (hy : td_By K C us kk cc) {j : Nat} {a : Int32} (hj : j < 16) (hn : ¬ (K j = 6 ∧ A j = a)) (hp : post 0) : wpY_isStruct post (nI T, nI U, nI G, nI E, pr, us, kk, A, N, cc, nm, tg, sm, bn) (nI j) a := by
  have e := nI_clamp (n := j) (by omega)
  have v := vp_in_nI (n := j) (N := 16) hj (by omega)
  unfold wpY_isStruct
  by_cases hk : K j = 0
  · exact ty_use_f hy (td_no_nI hj hk) (br_t rfl hp)
  · refine ty_use_t h hy hk (br_f td_10 ⟨v, br_c (fun k => ⟨v, br_f (fun z => hn ?_) hp⟩) (fun _ => hp)⟩)
    rw [e, (tb_us1 hy hk).2.1] at k
    rw [e] at z
    exact ⟨k, z⟩
/-- no struct where there is no type -/
theorem ty_is_n (hy : td_By K C us kk cc) {p a : Int32} (hn : td_no K p) (hp : post 0) : wpY_isStruct post (nI T, nI U, nI G, nI E, pr, us, kk, A, N, cc, nm, tg, sm, bn) p a := by
  unfold wpY_isStruct
  exact ty_use_f hy hn (br_t rfl hp)

theorem ty_bd35_t (h : td_Bx T U G E K A N C tg) (hy : td_By K C us kk cc) {x j : Nat} (hx : x < 16) (k6 : K j = 6) (aj : A j = A x) (hm : ∀ k, k < j → ¬ (K k = 6 ∧ A k = A x)) (hp : post (nI j)) :
    ∀ n i, i ≤ j → j < i + n → wY_body_35 post (nI x) (nI T) (nI U) (nI G) (nI E) pr us kk A N cc nm tg sm bn n (nI i) := by
  have hj := tb_l16 h (tb_6 k6)
  intro n
  induction n with
  | zero => intro i h1 h2; omega
  | succ n ih =>
    intro i h1 h2
    refine br_f (nI_ge (b := 16) (by omega) (by omega)) (And.intro (vp_in_nI hx (by omega)) ?_)
    rw [nI_clamp (n := x) (by omega)]
    by_cases e : i = j
    · subst e
      exact ty_is_t h hy k6 aj (br_f td_10 hp)
    · exact ty_is_f h hy (by omega) (hm i (by omega)) (br_t rfl (nm_r (nI_1 i) (ih (i + 1) (by omega) (by omega))))
theorem ty_bd35_f (h : td_Bx T U G E K A N C tg) (hy : td_By K C us kk cc) {x : Nat} (hx : x < 16) (hm : ∀ k, ¬ (K k = 6 ∧ A k = A x)) (hp : post (nI x)) :
    ∀ n i, i ≤ 16 → 16 < i + n → wY_body_35 post (nI x) (nI T) (nI U) (nI G) (nI E) pr us kk A N cc nm tg sm bn n (nI i) := by
  intro n
  induction n with
  | zero => intro i h1 h2; omega
  | succ n ih =>
    intro i h1 h2
    by_cases e : i = 16
    · subst e
      exact br_t (nI_le (a := 16) (Nat.le_refl 16) (by omega)) hp
    · refine br_f (nI_ge (b := 16) (by omega) (by omega)) (And.intro (vp_in_nI hx (by omega)) ?_)
      rw [nI_clamp (n := x) (by omega)]
      exact ty_is_f h hy (by omega) (hm i) (br_t rfl (nm_r (nI_1 i) (ih (i + 1) (by omega) (by omega))))
theorem ty_body_n (hy : td_By K C us kk cc) {p : Int32} (hn : td_no K p) (hp : post p) : wpY_body post (nI T, nI U, nI G, nI E, pr, us, kk, A, N, cc, nm, tg, sm, bn) p := by
  unfold wpY_body
  exact ty_use_f hy hn (br_t rfl hp)
theorem ty_body (h : td_Bx T U G E K A N C tg) (hy : td_By K C us kk cc) (hr : ∀ t, t ≤ G → (bn t ≠ 0 ↔ R t = true)) {x : Nat} (kx : K x ≠ 0)
    (hp : post (nI (td_bd K A R x))) : wpY_body post (nI T, nI U, nI G, nI E, pr, us, kk, A, N, cc, nm, tg, sm, bn) (nI x) := by
  have hx := tb_l16 h kx
  have e := nI_clamp (n := x) (by omega)
  have v := vp_in_nI (n := x) (N := 16) hx (by omega)
  unfold wpY_body
  refine ty_use_t h hy kx (br_f td_10 ⟨v, ?_⟩)
  rw [e, (tb_us1 hy kx).2.1]
  refine br_c (fun k => ⟨v, ?_⟩) (fun k => ?_)
  · obtain ⟨a, a1, a2, a8, a3⟩ := tb_a h k
    have e2 : (A x).toNatClampNeg = a := by rw [a3]; exact nI_clamp (by omega)
    rw [a3, nI_clamp (n := a) (by omega)]
    refine ⟨vp_in_nI (by omega) (by omega), br_c (fun z => ?_) (fun z => ?_)⟩
    · rw [td_bd_n (fun w => (hr a a2).mpr (by rw [← e2]; exact w.2) z)] at hp
      exact hp
    · have r1 : R (A x).toNatClampNeg = true := by rw [e2]; exact (hr a a2).mp z
      rcases td_ls h (A x) with ⟨i, i1, i2, i3, i4⟩ | hn
      · have i16 := tb_l16 h (tb_6 i2)
        rw [td_bd_s k r1 i16 i2 i3 i4] at hp
        exact Exists.intro 17 (ty_bd35_t h hy hx i2 i3 i4 hp 17 0 (Nat.zero_le i) (by omega))
      · rw [td_bd_0 k r1 (fun k _ => hn k)] at hp
        exact Exists.intro 17 (ty_bd35_f h hy hx hn hp 17 0 (Nat.zero_le 16) (by omega))
  · rw [td_bd_n (fun w => k w.1)] at hp
    exact hp

/-- edge i of p and q agree in the table of pairs -/
def td_Es (nm tg sm : Nat → Int32) (p q i : Nat) : Prop :=
  nm (p * 4 + i) = nm (q * 4 + i) ∧ sm ((tg (p * 4 + i)).toNatClampNeg * 16 + (tg (q * 4 + i)).toNatClampNeg) ≠ 0
theorem ty_m0 {x3 x4 x6 : Int32} {n : Nat} (hp : post 0) : wY_matches_71 post x3 x4 (nI T) (nI U) (nI G) (nI E) pr us kk A N cc nm tg sm bn (n + 1) 0 x6 := br_t rfl ⟨td_n0, hp⟩
theorem ty_m71 {p q γ : Nat} (hp : p < 16) (hq : q < 16) (hγ : γ ≤ 4) (hc : cc p = nI γ)
    (tp : ∀ i, i < γ → ∃ t : Nat, tg (p * 4 + i) = nI t ∧ K t ≠ 0 ∧ t < 16) (tq : ∀ i, i < γ → ∃ t : Nat, tg (q * 4 + i) = nI t ∧ K t ≠ 0 ∧ t < 16)
    (h1 : (∀ i, i < γ → td_Es nm tg sm p q i) → post 1) (h0 : (¬ ∀ i, i < γ → td_Es nm tg sm p q i) → post 0) :
    ∀ n i, i ≤ γ → γ + 1 < i + n → (∀ k, k < i → td_Es nm tg sm p q k) → wY_matches_71 post (nI p) (nI q) (nI T) (nI U) (nI G) (nI E) pr us kk A N cc nm tg sm bn n 1 (nI i) := by
  intro n
  induction n with
  | zero => intro i a b; omega
  | succ n ih =>
    intro i hi hn hk
    refine br_f td_10 (And.intro (vp_in_nI hp (by omega)) ?_)
    rw [nI_clamp (n := p) (by omega), hc]
    refine br_c (fun z => ⟨td_n1, ?_⟩) (fun z => ?_)
    · rw [nI_leI (by omega) (by omega)] at z
      exact h1 (fun k hk' => hk k (by omega))
    · rw [nI_leI (by omega) (by omega)] at z
      have hi' : i < γ := by omega
      obtain ⟨m, rfl⟩ : ∃ m, n = m + 1 := ⟨n - 1, by omega⟩
      obtain ⟨t, t1, _, t2⟩ := tp i hi'
      obtain ⟨s, s1, _, s2⟩ := tq i hi'
      have vp : vp_in (nI (p * 4 + i)) 64 := vp_in_nI (by omega) (by omega)
      have vq : vp_in (nI (q * 4 + i)) 64 := vp_in_nI (by omega) (by omega)
      have ep := nI_clamp (n := p * 4 + i) (by omega)
      have eq := nI_clamp (n := q * 4 + i) (by omega)
      have et := nI_clamp (n := t) (by omega)
      have es := nI_clamp (n := s) (by omega)
      rw [td_m4, td_m4, ep, eq, t1, s1, td_m16, nI_clamp (n := t * 16 + s) (by omega)]
      refine ⟨vp, vq, br_c (fun z1 => ⟨vp, vq, vp_in_nI (by omega) (by omega), br_c (fun z2 => nm_e (ty_m0 (h0 ?_))) (fun z2 => nm_r (nI_1 i) (ih (i + 1) (by omega) (by omega) ?_))⟩) (fun z1 => nm_e (ty_m0 (h0 ?_)))⟩
      · intro w
        have w2 := (w i hi').2
        rw [t1, s1, et, es] at w2
        exact w2 z2
      · intro k hk'
        by_cases ek : k = i
        · subst ek
          refine ⟨z1, ?_⟩
          rw [t1, s1, et, es]
          exact z2
        · exact hk k (by omega)
      · intro w
        exact z1 (w i hi').1
theorem ty_mt (h : td_Bx T U G E K A N C tg) (hy : td_By K C us kk cc) (hr : ∀ t, t ≤ G → (bn t ≠ 0 ↔ R t = true)) {x y : Nat} (kx : K x ≠ 0) (ky : K y ≠ 0)
    (h1 : td_Mt K A C nm tg (fun a b => sm (a * 16 + b) ≠ 0) (td_bd K A R x) (td_bd K A R y) → post 1)
    (h0 : ¬ td_Mt K A C nm tg (fun a b => sm (a * 16 + b) ≠ 0) (td_bd K A R x) (td_bd K A R y) → post 0) : wpY_matches post (nI T, nI U, nI G, nI E, pr, us, kk, A, N, cc, nm, tg, sm, bn) (nI x) (nI y) := by
  unfold wpY_matches
  refine ty_body h hy hr kx ?_
  refine ty_body h hy hr ky ?_
  have kp := td_bd_u (R := R) h kx
  have kq := td_bd_u (R := R) h ky
  generalize td_bd K A R x = p at *
  generalize td_bd K A R y = q at *
  have hp := tb_l16 h kp
  have hq := tb_l16 h kq
  have vp := vp_in_nI (n := p) (N := 16) hp (by omega)
  have vq := vp_in_nI (n := q) (N := 16) hq (by omega)
  have ep := nI_clamp (n := p) (by omega)
  have eq := nI_clamp (n := q) (by omega)
  obtain ⟨γ, g1, g2, g3⟩ := tb_c h p
  obtain ⟨δ, d1, d2, d3⟩ := tb_c h q
  refine And.intro vp (And.intro vq ?_)
  rw [ep, eq, (tb_us1 hy kp).2.1, (tb_us1 hy kq).2.1]
  refine br_c (fun z1 => ⟨vp, vq, br_c (fun z2 => ⟨vp, vq, ?_⟩) (fun z2 => Exists.intro 1 (ty_m0 (h0 (fun w => z2 w.2.1))))⟩) (fun z1 => Exists.intro 1 (ty_m0 (h0 (fun w => z1 w.1))))
  rw [(tb_us1 hy kp).2.2, (tb_us1 hy kq).2.2]
  refine br_c (fun z3 => ?_) (fun z3 => Exists.intro 1 (ty_m0 (h0 (fun w => z3 w.2.2.1))))
  have e : γ = δ := by rw [g2, d2, nI_eq (by omega) (by omega)] at z3; exact z3
  subst e
  have eC : (C p).toNatClampNeg = γ := by rw [g2]; exact nI_clamp (by omega)
  refine Exists.intro 6 (ty_m71 (K := K) hp hq g1 ((tb_us1 hy kp).2.2.trans g2) g3 d3 (fun w => h1 ⟨z1, z2, z3, fun i hi => w i (by omega)⟩) (fun w => h0 (fun v => w (fun i hi => v.2.2.2 i (by omega)))) 6 0 (Nat.zero_le γ) (by omega) (fun k hk => absurd hk (Nat.not_lt_zero k)))
end
end
section
/-! the reference's table of pairs -/
theorem td_d16 {k : Nat} (h : k < 256) : nI k / 16 = nI (k / 16) := pk_div (d := 16) (by omega) (by omega) (by omega)
theorem td_r16 {k : Nat} (h : k < 256) : nI k - nI k / 16 * 16 = nI (k % 16) := pk_rem (d := 16) (by omega) (by omega) (by omega)
theorem td_160 : ¬ (16 : Int32) = 0 := by decide
section
variable {T U G E : Nat} {pr : Int32} {K C us kk A N cc nm tg sm bn : Nat → Int32} {R : Nat → Bool}

/-- how many pairs the table holds -/
def td_np (sm : Nat → Int32) : Nat := td_ct (fun k => decide (sm k ≠ 0)) 256
theorem td_np_cut {k : Nat} (hk : k < 256) (h : sm k ≠ 0) : td_np (upd sm k 0) < td_np sm := by
  refine td_ct_lt 256 (fun i _ z => ?_) ⟨k, hk, decide_eq_true h, decide_eq_false (fun z => z pk_us)⟩
  have z := of_decide_eq_true z
  refine decide_eq_true ?_
  by_cases e : i = k
  · subst e; exact h
  · rw [pk_un e] at z; exact z

theorem ty_rl69 {post : SY → Prop} {J : Int32 → Int32 → (Nat → Int32) → (Nat → Int32) → (Nat → Int32) → (Nat → Int32) → (Nat → Int32) → (Nat → Int32) → (Nat → Int32) → (Nat → Int32) → (Nat → Int32) → Prop}
    {r : Nat} {sm0 : Nat → Int32} (h : td_Bx T U G E K A N C tg) (hy : td_By K C us kk cc) (hr : ∀ t, t ≤ G → (bn t ≠ 0 ↔ R t = true))
    (H : ∀ ch sm', td_Tb K A C nm tg (td_bd K A R) sm' →
      ((ch = 0 ∧ sm' = sm0 ∧ ∀ j, j < 256 → sm0 j ≠ 0 → td_Mt K A C nm tg (fun a b => sm0 (a * 16 + b) ≠ 0) (td_bd K A R (j / 16)) (td_bd K A R (j % 16))) ∨ (ch = 1 ∧ td_np sm' < td_np sm0)) →
      J ch (nI (r + 1)) us kk A N cc nm tg sm' bn) :
    ∀ n k ch sm, k ≤ 256 → 256 < k + n → td_Tb K A C nm tg (td_bd K A R) sm →
      ((ch = 0 ∧ sm = sm0 ∧ ∀ j, j < k → sm0 j ≠ 0 → td_Mt K A C nm tg (fun a b => sm0 (a * 16 + b) ≠ 0) (td_bd K A R (j / 16)) (td_bd K A R (j % 16))) ∨ (ch = 1 ∧ td_np sm < td_np sm0)) →
      wY_relate_69 post J (nI r) (nI T) (nI U) (nI G) (nI E) pr n ch (nI k) us kk A N cc nm tg sm bn := by
  have hK : ∀ x, K x ≠ 0 → x < 16 := fun x hx => tb_l16 h hx
  intro n
  induction n with
  | zero => intro k ch sm a b; omega
  | succ n ih =>
    intro k ch sm hk hn ht hi
    by_cases ek : k = 256
    · subst ek
      exact br_t (nI_le (a := 256) (Nat.le_refl 256) (by omega)) (nm_r (nI_1 r) (H ch sm ht hi))
    · have hk2 : k < 256 := by omega
      have v := vp_in_nI (n := k) (N := 256) hk2 (by omega)
      refine br_f (nI_ge (b := 256) hk2 (by omega)) (And.intro v ?_)
      rw [nI_clamp (n := k) (by omega)]
      have nx : (sm k ≠ 0 → td_Mt K A C nm tg (fun a b => sm (a * 16 + b) ≠ 0) (td_bd K A R (k / 16)) (td_bd K A R (k % 16))) →
          ((ch = 0 ∧ sm = sm0 ∧ ∀ j, j < k + 1 → sm0 j ≠ 0 → td_Mt K A C nm tg (fun a b => sm0 (a * 16 + b) ≠ 0) (td_bd K A R (j / 16)) (td_bd K A R (j % 16))) ∨ (ch = 1 ∧ td_np sm < td_np sm0)) := by
        intro w
        rcases hi with hi | hi
        · obtain ⟨i1, i2, i3⟩ := hi
          refine Or.inl ⟨i1, i2, fun j hj hz => ?_⟩
          by_cases ej : j = k
          · subst ej
            subst i2
            exact w hz
          · exact i3 j (by omega) hz
        · exact Or.inr hi
      refine br_c (fun z => nm_r (nI_1 k) (ih (k + 1) ch sm (by omega) (by omega) ht (nx (fun w => absurd z w)))) (fun z => ⟨td_160, td_160, ?_⟩)
      rw [td_r16 hk2, td_d16 hk2]
      have kk2 := ht.2 (k / 16) (k % 16) (by omega) (by omega) (by rw [show k / 16 * 16 + k % 16 = k by omega]; exact z)
      refine ty_mt h hy hr kk2.1 kk2.2 (fun w => br_f td_10 (nm_r (nI_1 k) (ih (k + 1) ch sm (by omega) (by omega) ht (nx (fun _ => w))))) (fun w => br_t rfl ⟨v, ?_⟩)
      rw [td_v0]
      refine nm_e (nm_r (nI_1 k) (ih (k + 1) 1 (upd sm k 0) (by omega) (by omega) (td_tb_cut hK ht w) (Or.inr ⟨rfl, ?_⟩)))
      have c := td_np_cut hk2 z
      rcases hi with hi | hi
      · rw [← hi.2.1]; exact c
      · exact Nat.lt_trans c hi.2
theorem ty_rl54 {post : SY → Prop} (h : td_Bx T U G E K A N C tg) (hy : td_By K C us kk cc) (hr : ∀ t, t ≤ G → (bn t ≠ 0 ↔ R t = true))
    (H : ∀ sm', (∀ x y, x < 16 → y < 16 → (sm' (x * 16 + y) ≠ 0 ↔ td_Bis K A C nm tg (td_bd K A R) x y)) → post (nI T, nI U, nI G, nI E, pr, us, kk, A, N, cc, nm, tg, sm', bn)) :
    ∀ n r ch sm, r ≤ 257 → 257 < r + n → td_Tb K A C nm tg (td_bd K A R) sm →
      ((ch = 0 ∧ ∀ x y, x < 16 → y < 16 → (sm (x * 16 + y) ≠ 0 ↔ td_Bis K A C nm tg (td_bd K A R) x y)) ∨ (ch = 1 ∧ td_np sm + r ≤ 256)) →
      wY_relate_54 post (nI T) (nI U) (nI G) (nI E) pr n ch (nI r) us kk A N cc nm tg sm bn := by
  have hK : ∀ x, K x ≠ 0 → x < 16 := fun x hx => tb_l16 h hx
  intro n
  induction n with
  | zero => intro r ch sm a b; omega
  | succ n ih =>
    intro r ch sm hr2 hn ht hi
    rcases hi with hi | hi
    · exact br_t hi.1 (H sm hi.2)
    · have hr3 : r ≤ 256 := by have := hi.2; omega
      refine br_f (by rw [hi.1]; exact td_10) (br_f (nI_nlt (a := 256) hr3 (by omega)) (Exists.intro 257 (ty_rl69 (sm0 := sm) h hy hr (fun ch' sm' ht' hd => ?_) 257 0 0 sm (by omega) (by omega) ht (Or.inl ⟨rfl, rfl, fun j hj => absurd hj (Nat.not_lt_zero j)⟩))))
      refine ih (r + 1) ch' sm' (by omega) (by omega) ht' ?_
      rcases hd with hd | hd
      · obtain ⟨d1, d2, d3⟩ := hd
        subst d2
        exact Or.inl ⟨d1, td_tb_end hK (td_bd_cl h) ht' d3⟩
      · have := hi.2
        have := hd.2
        exact Or.inr ⟨hd.1, by omega⟩
theorem ty_rl2 {post : SY → Prop} (h : td_Bx T U G E K A N C tg) (hy : td_By K C us kk cc) (hr : ∀ t, t ≤ G → (bn t ≠ 0 ↔ R t = true))
    (H : ∀ sm', (∀ x y, x < 16 → y < 16 → (sm' (x * 16 + y) ≠ 0 ↔ td_Bis K A C nm tg (td_bd K A R) x y)) → post (nI T, nI U, nI G, nI E, pr, us, kk, A, N, cc, nm, tg, sm', bn)) :
    ∀ n k sm, k ≤ 256 → 256 < k + n → (∀ j, j < k → (sm j ≠ 0 ↔ K (j / 16) ≠ 0 ∧ K (j % 16) ≠ 0)) → wY_relate_2 post (nI T) (nI U) (nI G) (nI E) pr n (nI k) us kk A N cc nm tg sm bn := by
  have hK : ∀ x, K x ≠ 0 → x < 16 := fun x hx => tb_l16 h hx
  intro n
  induction n with
  | zero => intro k sm a b; omega
  | succ n ih =>
    intro k sm hk hn hi
    by_cases ek : k = 256
    · subst ek
      refine br_t (nI_le (a := 256) (Nat.le_refl 256) (by omega)) (Exists.intro 258 (ty_rl54 h hy hr H 258 0 1 sm (by omega) (by omega) ⟨fun x y b => ?_, fun x y hx hy w => ?_⟩ (Or.inr ⟨rfl, ?_⟩)))
      · obtain ⟨b1, b2, _⟩ := td_Bis_st b
        have x16 := hK x b1
        have y16 := hK y b2
        refine (hi (x * 16 + y) (by omega)).mpr ?_
        rw [(td_dm y16).1, (td_dm y16).2]
        exact ⟨b1, b2⟩
      · have w2 := (hi (x * 16 + y) (by omega)).mp w
        rw [(td_dm hy).1, (td_dm hy).2] at w2
        exact w2
      · exact (td_ct_le (fun k => decide (sm k ≠ 0)) 256 : td_np sm ≤ 256)
    · have hk2 : k < 256 := by omega
      have v := vp_in_nI (n := k) (N := 256) hk2 (by omega)
      refine br_f (nI_ge (b := 256) hk2 (by omega)) ⟨td_160, ?_⟩
      rw [td_r16 hk2, td_d16 hk2, nI_clamp (n := k / 16) (by omega), nI_clamp (n := k % 16) (by omega), nI_clamp (n := k) (by omega), td_v0, td_v1]
      have nx : ∀ w : Int32, (w ≠ 0 ↔ K (k / 16) ≠ 0 ∧ K (k % 16) ≠ 0) → ∀ j, j < k + 1 → (upd sm k w j ≠ 0 ↔ K (j / 16) ≠ 0 ∧ K (j % 16) ≠ 0) := by
        intro w hw j hj
        by_cases ej : j = k
        · subst ej; rw [pk_us]; exact hw
        · rw [pk_un ej]; exact hi j (by omega)
      have u0 : ∀ x, us x = 0 → K x = 0 := fun x hx => by
        by_cases k0 : K x = 0
        · exact k0
        · exact absurd hx (tb_us1 hy k0).1
      have u1 : ∀ x, ¬ us x = 0 → K x ≠ 0 := fun x hx k0 => hx (tb_us0 hy k0)
      refine ⟨vp_in_nI (by omega) (by omega), br_c (fun z => ⟨v, nm_e (nm_r (nI_1 k) (ih (k + 1) (upd sm k 0) (by omega) (by omega) (nx 0 ⟨fun w => absurd rfl w, fun w => absurd (u0 _ z) w.1⟩)))⟩) (fun z => ⟨td_160, vp_in_nI (by omega) (by omega), br_c (fun z2 => ?_) (fun z2 => ?_)⟩)⟩
      · exact ⟨v, nm_e (nm_r (nI_1 k) (ih (k + 1) (upd sm k 0) (by omega) (by omega) (nx 0 ⟨fun w => absurd rfl w, fun w => absurd (u0 _ z2) w.2⟩)))⟩
      · exact ⟨v, nm_e (nm_r (nI_1 k) (ih (k + 1) (upd sm k 1) (by omega) (by omega) (nx 1 ⟨fun _ => ⟨u1 _ z, u1 _ z2⟩, fun _ => td_10⟩)))⟩
theorem ty_rl {post : SY → Prop} (h : td_Bx T U G E K A N C tg) (hy : td_By K C us kk cc) (hr : ∀ t, t ≤ G → (bn t ≠ 0 ↔ R t = true))
    (H : ∀ sm', (∀ x y, x < 16 → y < 16 → (sm' (x * 16 + y) ≠ 0 ↔ td_Bis K A C nm tg (td_bd K A R) x y)) → post (nI T, nI U, nI G, nI E, pr, us, kk, A, N, cc, nm, tg, sm', bn)) : wpY_relate post (nI T, nI U, nI G, nI E, pr, us, kk, A, N, cc, nm, tg, sm, bn) :=
  Exists.intro 257 (ty_rl2 h hy hr H 257 0 sm (by omega) (by omega) (fun j hj => absurd hj (Nat.not_lt_zero j)))

theorem ty_una4 {post : Int32 → Prop} {t : Nat} (h : td_Bx T U G E K A N C tg) (hy : td_By K C us kk cc)
    (hs : ∀ x y, x < 16 → y < 16 → (sm (x * 16 + y) ≠ 0 ↔ td_Bis K A C nm tg (td_bd K A R) x y))
    (h1 : td_Una K A C nm tg (td_bd K A R) t → post 1) (h0 : ¬ td_Una K A C nm tg (td_bd K A R) t → post 0) :
    ∀ n k ch, k ≤ 256 → 256 < k + n → (∀ j, j < k → K (j / 16) = 6 ∧ A (j / 16) = nI t → K (j % 16) = 6 ∧ A (j % 16) = nI t → sm j ≠ 0) →
      ((ch = 0 ∧ ∀ j, j < k → K (j / 16) = 6 ∧ A (j / 16) = nI t → K (j % 16) = 6 ∧ A (j % 16) = nI t → False) ∨ (ch = 1 ∧ ∃ x, K x = 6 ∧ A x = nI t)) →
      wY_unanimous_4 post (nI t) (nI T) (nI U) (nI G) (nI E) pr us kk A N cc nm tg sm bn n ch (nI k) := by
  have hK : ∀ x, K x ≠ 0 → x < 16 := fun x hx => tb_l16 h hx
  intro n
  induction n with
  | zero => intro k ch a b; omega
  | succ n ih =>
    intro k ch hk hn ha hi
    by_cases ek : k = 256
    · subst ek
      refine br_t (nI_le (a := 256) (Nat.le_refl 256) (by omega)) ?_
      rcases hi with hi | hi
      · rw [hi.1]
        refine ⟨td_n0, h0 (fun u => ?_)⟩
        obtain ⟨⟨x, x1⟩, _⟩ := u
        have x16 := hK x (tb_6 x1.1)
        have w := hi.2 (x * 16 + x) (by omega)
        rw [(td_dm x16).1, (td_dm x16).2] at w
        exact w x1 x1
      · rw [hi.1]
        refine ⟨td_n1, h1 ⟨hi.2, fun x y x6 xa y6 ya => ?_⟩⟩
        have x16 := hK x (tb_6 x6)
        have y16 := hK y (tb_6 y6)
        have w := ha (x * 16 + y) (by omega)
        rw [(td_dm y16).1, (td_dm y16).2] at w
        exact (hs x y x16 y16).mp (w ⟨x6, xa⟩ ⟨y6, ya⟩)
    · have hk2 : k < 256 := by omega
      have v := vp_in_nI (n := k) (N := 256) hk2 (by omega)
      refine br_f (nI_ge (b := 256) hk2 (by omega)) ⟨td_160, ?_⟩
      rw [td_r16 hk2, td_d16 hk2]
      have nx1 : (K (k / 16) = 6 ∧ A (k / 16) = nI t → K (k % 16) = 6 ∧ A (k % 16) = nI t → sm k ≠ 0) → ∀ j, j < k + 1 → K (j / 16) = 6 ∧ A (j / 16) = nI t → K (j % 16) = 6 ∧ A (j % 16) = nI t → sm j ≠ 0 := by
        intro w j hj
        by_cases ej : j = k
        · subst ej; exact w
        · exact ha j (by omega)
      have nx2 : (K (k / 16) = 6 ∧ A (k / 16) = nI t → K (k % 16) = 6 ∧ A (k % 16) = nI t → False) →
          ((ch = 0 ∧ ∀ j, j < k + 1 → K (j / 16) = 6 ∧ A (j / 16) = nI t → K (j % 16) = 6 ∧ A (j % 16) = nI t → False) ∨ (ch = 1 ∧ ∃ x, K x = 6 ∧ A x = nI t)) := by
        intro w
        rcases hi with hi | hi
        · refine Or.inl ⟨hi.1, fun j hj => ?_⟩
          by_cases ej : j = k
          · subst ej; exact w
          · exact hi.2 j (by omega)
        · exact Or.inr hi
      by_cases c1 : K (k / 16) = 6 ∧ A (k / 16) = nI t
      · refine ty_is_t h hy c1.1 c1.2 (br_f td_10 ⟨td_160, ?_⟩)
        by_cases c2 : K (k % 16) = 6 ∧ A (k % 16) = nI t
        · refine ty_is_t h hy c2.1 c2.2 (br_f td_10 ⟨v, ?_⟩)
          rw [nI_clamp (n := k) (by omega)]
          refine br_c (fun z => h0 (fun u => ?_)) (fun z => nm_r (nI_1 k) (ih (k + 1) 1 (by omega) (by omega) (nx1 (fun _ _ => z)) (Or.inr ⟨rfl, k / 16, c1⟩)))
          have b := u.2 (k / 16) (k % 16) c1.1 c1.2 c2.1 c2.2
          have w := (hs (k / 16) (k % 16) (by omega) (by omega)).mpr b
          rw [show k / 16 * 16 + k % 16 = k by omega] at w
          exact w z
        · exact ty_is_f h hy (by omega) c2 (br_t rfl (nm_r (nI_1 k) (ih (k + 1) ch (by omega) (by omega) (nx1 (fun _ z => absurd z c2)) (nx2 (fun _ z => c2 z)))))
      · exact ty_is_f h hy (by omega) c1 (br_t rfl (nm_r (nI_1 k) (ih (k + 1) ch (by omega) (by omega) (nx1 (fun z => absurd z c1)) (nx2 (fun z => absurd z c1)))))
theorem ty_una {post : Int32 → Prop} {t : Nat} (h : td_Bx T U G E K A N C tg) (hy : td_By K C us kk cc)
    (hs : ∀ x y, x < 16 → y < 16 → (sm (x * 16 + y) ≠ 0 ↔ td_Bis K A C nm tg (td_bd K A R) x y))
    (h1 : td_Una K A C nm tg (td_bd K A R) t → post 1) (h0 : ¬ td_Una K A C nm tg (td_bd K A R) t → post 0) : wpY_unanimous post (nI T, nI U, nI G, nI E, pr, us, kk, A, N, cc, nm, tg, sm, bn) (nI t) :=
  Exists.intro 257 (ty_una4 h hy hs h1 h0 257 0 0 (by omega) (by omega) (fun j hj => absurd hj (Nat.not_lt_zero j)) (Or.inl ⟨rfl, fun j hj => absurd hj (Nat.not_lt_zero j)⟩))
end
end
section
/-! the reference's first types, counts, and its link -/
section
variable {T U G E : Nat} {pr : Int32} {K C us kk A N cc nm tg sm bn : Nat → Int32} {R : Nat → Bool}

theorem ty_fo2_t {post : Int32 → Prop} (h : td_Bx T U G E K A N C tg) (hy : td_By K C us kk cc) {x j : Nat} (kx : K x ≠ 0) (hj : j < 16) (qj : td_qs K sm j x = true)
    (hm : ∀ k, k < j → td_qs K sm k x = false) (hp : post (nI j)) : ∀ n i, i ≤ j → j < i + n → wY_firstOf_2 post (nI x) (nI T) (nI U) (nI G) (nI E) pr us kk A N cc nm tg sm bn n (nI i) := by
  have hx := tb_l16 h kx
  intro n
  induction n with
  | zero => intro i h1 h2; omega
  | succ n ih =>
    intro i h1 h2
    have v := vp_in_nI (n := i) (N := 16) (by omega) (by omega)
    refine br_f (nI_ge (b := 16) (by omega) (by omega)) (ty_use_t h hy kx (br_f td_10 ⟨v, ?_⟩))
    rw [nI_clamp (n := i) (by omega), td_m16, nI_clamp (n := i * 16 + x) (by omega)]
    by_cases e : i = j
    · subst e
      have q := of_decide_eq_true qj
      exact br_f (tb_us1 hy q.1).1 ⟨vp_in_nI (by omega) (by omega), br_f q.2 hp⟩
    · have q := of_decide_eq_false (hm i (by omega))
      refine br_c (fun _ => nm_r (nI_1 i) (ih (i + 1) (by omega) (by omega))) (fun z => ⟨vp_in_nI (by omega) (by omega), ?_⟩)
      have ki : K i ≠ 0 := fun w => z (tb_us0 hy w)
      refine br_t ?_ (nm_r (nI_1 i) (ih (i + 1) (by omega) (by omega)))
      by_cases s0 : sm (i * 16 + x) = 0
      · exact s0
      · exact absurd ⟨ki, s0⟩ q
theorem ty_fo2_f {post : Int32 → Prop} (h : td_Bx T U G E K A N C tg) (hy : td_By K C us kk cc) {x : Nat} (kx : K x ≠ 0)
    (hm : ∀ k, k < 16 → td_qs K sm k x = false) (hp : post (nI x)) : ∀ n i, i ≤ 16 → 16 < i + n → wY_firstOf_2 post (nI x) (nI T) (nI U) (nI G) (nI E) pr us kk A N cc nm tg sm bn n (nI i) := by
  have hx := tb_l16 h kx
  intro n
  induction n with
  | zero => intro i h1 h2; omega
  | succ n ih =>
    intro i h1 h2
    by_cases e : i = 16
    · subst e
      exact br_t (nI_le (a := 16) (Nat.le_refl 16) (by omega)) hp
    · have v := vp_in_nI (n := i) (N := 16) (by omega) (by omega)
      refine br_f (nI_ge (b := 16) (by omega) (by omega)) (ty_use_t h hy kx (br_f td_10 ⟨v, ?_⟩))
      rw [nI_clamp (n := i) (by omega), td_m16, nI_clamp (n := i * 16 + x) (by omega)]
      have q := of_decide_eq_false (hm i (by omega))
      refine br_c (fun _ => nm_r (nI_1 i) (ih (i + 1) (by omega) (by omega))) (fun z => ⟨vp_in_nI (by omega) (by omega), ?_⟩)
      have ki : K i ≠ 0 := fun w => z (tb_us0 hy w)
      refine br_t ?_ (nm_r (nI_1 i) (ih (i + 1) (by omega) (by omega)))
      by_cases s0 : sm (i * 16 + x) = 0
      · exact s0
      · exact absurd ⟨ki, s0⟩ q
theorem ty_fo2_n {post : Int32 → Prop} (hy : td_By K C us kk cc) {p : Int32} (hn : td_no K p) (hp : post p) :
    ∀ n i, i ≤ 16 → 16 < i + n → wY_firstOf_2 post p (nI T) (nI U) (nI G) (nI E) pr us kk A N cc nm tg sm bn n (nI i) := by
  intro n
  induction n with
  | zero => intro i h1 h2; omega
  | succ n ih =>
    intro i h1 h2
    by_cases e : i = 16
    · subst e
      exact br_t (nI_le (a := 16) (Nat.le_refl 16) (by omega)) hp
    · exact br_f (nI_ge (b := 16) (by omega) (by omega)) (ty_use_f hy hn (br_t rfl (nm_r (nI_1 i) (ih (i + 1) (by omega) (by omega)))))
theorem ty_fo {post : Int32 → Prop} (h : td_Bx T U G E K A N C tg) (hy : td_By K C us kk cc) {x : Nat} (kx : K x ≠ 0)
    (hp : post (nI (td_fo (td_qs K sm) x))) : wpY_firstOf post (nI T, nI U, nI G, nI E, pr, us, kk, A, N, cc, nm, tg, sm, bn) (nI x) := by
  rcases td_lf_c (fun y => td_qs K sm y x) 16 with ⟨j, j1, j2, j3⟩ | hm
  · have e : td_fo (td_qs K sm) x = j := td_lf_0t j1 j2 j3
    rw [e] at hp
    exact Exists.intro 17 (ty_fo2_t h hy kx j1 j2 j3 hp 17 0 (Nat.zero_le j) (by omega))
  · have e : td_fo (td_qs K sm) x = x := td_lf_0f hm
    rw [e] at hp
    exact Exists.intro 17 (ty_fo2_f h hy kx hm hp 17 0 (Nat.zero_le 16) (by omega))
theorem ty_fo_n {post : Int32 → Prop} (hy : td_By K C us kk cc) {p : Int32} (hn : td_no K p) (hp : post p) : wpY_firstOf post (nI T, nI U, nI G, nI E, pr, us, kk, A, N, cc, nm, tg, sm, bn) p :=
  Exists.intro 17 (ty_fo2_n hy hn hp 17 0 (Nat.zero_le 16) (by omega))
theorem td_fo_l {q : Nat → Nat → Bool} {x : Nat} (hx : x < 16) : td_fo q x < 16 := by
  rcases td_lf_c (fun y => q y x) 16 with ⟨j, j1, j2, j3⟩ | hm
  · have e : td_fo q x = j := td_lf_0t j1 j2 j3
    omega
  · have e : td_fo q x = x := td_lf_0f hm
    omega
theorem ty_if_t {post : Int32 → Prop} (h : td_Bx T U G E K A N C tg) (hy : td_By K C us kk cc) {x : Nat} (hf : td_isf K (td_qs K sm) x = true) (hp : post 1) : wpY_isFirst post (nI T, nI U, nI G, nI E, pr, us, kk, A, N, cc, nm, tg, sm, bn) (nI x) := by
  have f := of_decide_eq_true hf
  unfold wpY_isFirst
  refine ty_use_t h hy f.1 (br_f td_10 (ty_fo h hy f.1 ?_))
  rw [f.2]
  exact br_t rfl hp
theorem ty_if_f {post : Int32 → Prop} (h : td_Bx T U G E K A N C tg) (hy : td_By K C us kk cc) {x : Nat} (hx : x < 16) (hf : td_isf K (td_qs K sm) x = false) (hp : post 0) : wpY_isFirst post (nI T, nI U, nI G, nI E, pr, us, kk, A, N, cc, nm, tg, sm, bn) (nI x) := by
  have f := of_decide_eq_false hf
  unfold wpY_isFirst
  by_cases kx : K x = 0
  · exact ty_use_f hy (td_no_nI hx kx) (br_t rfl hp)
  · refine ty_use_t h hy kx (br_f td_10 (ty_fo h hy kx (br_f ?_ hp)))
    have l := td_fo_l (q := td_qs K sm) hx
    rw [nI_eq (by omega) (by omega)]
    exact fun z => f ⟨kx, z⟩
theorem ty_fb4 {post : Int32 → Prop} (h : td_Bx T U G E K A N C tg) (hy : td_By K C us kk cc) {l : Nat} (hl : l ≤ 16) (hp : post (nI (td_fb K (td_qs K sm) l))) :
    ∀ n i, i ≤ l → l < i + n → wY_firstsBelow_4 post (nI l) (nI T) (nI U) (nI G) (nI E) pr us kk A N cc nm tg sm bn n (nI (td_fb K (td_qs K sm) i)) (nI i) := by
  intro n
  induction n with
  | zero => intro i h1 h2; omega
  | succ n ih =>
    intro i h1 h2
    by_cases e : i = l
    · subst e
      exact br_c (fun _ => hp) (fun _ => br_t (nI_le (Nat.le_refl i) (by omega)) hp)
    · refine br_f (nI_ge (b := 16) (by omega) (by omega)) (br_f (nI_ge (by omega) (by omega)) ?_)
      have ih' := ih (i + 1) (by omega) (by omega)
      by_cases f : td_isf K (td_qs K sm) i = true
      · rw [td_fb_t f] at ih'
        exact ty_if_t h hy f (br_f td_10 (nm_r (nI_1 _) (nm_r (nI_1 i) ih')))
      · rw [td_fb_f (td_bf f)] at ih'
        exact ty_if_f h hy (by omega) (td_bf f) (br_t rfl (nm_r (nI_1 i) ih'))
theorem ty_fb {post : Int32 → Prop} (h : td_Bx T U G E K A N C tg) (hy : td_By K C us kk cc) {l : Nat} (hl : l ≤ 16) (hp : post (nI (td_fb K (td_qs K sm) l))) :
    wpY_firstsBelow post (nI T, nI U, nI G, nI E, pr, us, kk, A, N, cc, nm, tg, sm, bn) (nI l) :=
  Exists.intro 17 (ty_fb4 h hy hl hp 17 0 (Nat.zero_le l) (by omega))
theorem ty_lo2 {post : Int32 → Prop} (h : td_Bx T U G E K A N C tg) (hy : td_By K C us kk cc) {p : Int32}
    (H1 : ∀ z, td_isf K (td_qs K sm) z = true → nI (td_fb K (td_qs K sm) z) = p → post (nI z))
    (H0 : (∀ z, td_isf K (td_qs K sm) z = true → ¬ nI (td_fb K (td_qs K sm) z) = p) → post (-1)) :
    ∀ n i, i ≤ 16 → 16 < i + n → (∀ z, z < i → td_isf K (td_qs K sm) z = true → ¬ nI (td_fb K (td_qs K sm) z) = p) → wY_lowestOf_2 post p (nI T) (nI U) (nI G) (nI E) pr us kk A N cc nm tg sm bn n (nI i) := by
  intro n
  induction n with
  | zero => intro i h1 h2; omega
  | succ n ih =>
    intro i h1 h2 hk
    by_cases e : i = 16
    · subst e
      exact br_t (nI_le (a := 16) (Nat.le_refl 16) (by omega)) (H0 (fun z hz => hk z (tb_l16 h (of_decide_eq_true hz).1) hz))
    · refine br_f (nI_ge (b := 16) (by omega) (by omega)) ?_
      by_cases f : td_isf K (td_qs K sm) i = true
      · refine ty_if_t h hy f (br_f td_10 (ty_fb h hy (by omega) (br_c (fun z => H1 i f z) (fun z => nm_r (nI_1 i) (ih (i + 1) (by omega) (by omega) ?_)))))
        intro y hy' fy
        by_cases ey : y = i
        · subst ey; exact z
        · exact hk y (by omega) fy
      · refine ty_if_f h hy (by omega) (td_bf f) (br_t rfl (nm_r (nI_1 i) (ih (i + 1) (by omega) (by omega) ?_)))
        intro y hy' fy
        by_cases ey : y = i
        · subst ey; exact absurd fy f
        · exact hk y (by omega) fy
theorem ty_lo {post : Int32 → Prop} (h : td_Bx T U G E K A N C tg) (hy : td_By K C us kk cc) {p : Int32}
    (H1 : ∀ z, td_isf K (td_qs K sm) z = true → nI (td_fb K (td_qs K sm) z) = p → post (nI z))
    (H0 : (∀ z, td_isf K (td_qs K sm) z = true → ¬ nI (td_fb K (td_qs K sm) z) = p) → post (-1)) : wpY_lowestOf post (nI T, nI U, nI G, nI E, pr, us, kk, A, N, cc, nm, tg, sm, bn) p :=
  Exists.intro 17 (ty_lo2 h hy H1 H0 17 0 (Nat.zero_le 16) (by omega) (fun k hk => absurd hk (Nat.not_lt_zero k)))
theorem ty_en {post : Int32 → Prop} (h : td_Bx T U G E K A N C tg) (hy : td_By K C us kk cc) (hpr : ¬ pr = 0) (hp : post (nI (td_fb K (td_qs K sm) 16))) :
    wpY_entries post (nI T, nI U, nI G, nI E, pr, us, kk, A, N, cc, nm, tg, sm, bn) := br_f hpr (ty_fb h hy (l := 16) (Nat.le_refl 16) hp)

theorem ty_fi2 {post : Int32 → Prop} (h : td_Bx T U G E K A N C tg) (hy : td_By K C us kk cc) (H1 : ∀ j, td_Inc K C j → (∀ k, k < j → ¬ td_Inc K C k) → post (nI j))
    (H0 : (∀ j, ¬ td_Inc K C j) → post (-1)) :
    ∀ n i, i ≤ 16 → 16 < i + n → (∀ k, k < i → ¬ td_Inc K C k) → wY_firstIncomplete_2 post (nI T) (nI U) (nI G) (nI E) pr us kk A N cc nm tg sm bn n (nI i) := by
  intro n
  induction n with
  | zero => intro i _ _; omega
  | succ n ih =>
    intro i hi hn hk
    by_cases ei : i = 16
    · subst ei
      refine br_t (nI_le (a := 16) (Nat.le_refl 16) (by omega)) (H0 (fun j z => hk j (tb_l16 h (td_Inc_u z)) z))
    · have v := vp_in_nI (n := i) (N := 16) (by omega) (by omega)
      refine br_f (nI_ge (b := 16) (by omega) (by omega)) (And.intro v ?_)
      rw [nI_clamp (n := i) (by omega)]
      have nx : ¬ td_Inc K C i → ∀ k, k < i + 1 → ¬ td_Inc K C k := fun w k hk' => by
        by_cases ek : k = i
        · subst ek; exact w
        · exact hk k (by omega)
      by_cases z : K i = 0
      · exact br_t (tb_us0 hy z) (nm_r (nI_1 i) (ih (i + 1) (by omega) (by omega) (nx (fun w => td_Inc_u w z))))
      · refine br_f (tb_us1 hy z).1 ⟨v, ?_⟩
        obtain ⟨κ, k1, k2, k3⟩ := tb_k h z
        obtain ⟨γ, g1, g2, _⟩ := tb_c h i
        rw [(tb_us1 hy z).2.1, (tb_us1 hy z).2.2, k3, g2]
        by_cases c1 : κ < 2
        · refine br_t (nI_lt (b := 2) c1 (by omega)) (nm_r (nI_1 i) (ih (i + 1) (by omega) (by omega) (nx (fun w => ?_))))
          obtain ⟨⟨κ', w1, w2, w3⟩, _⟩ := w
          rw [k3, nI_eq (by omega) (by omega)] at w3
          omega
        · refine br_f (nI_nlt (b := 2) (by omega) (by omega)) ⟨v, ?_⟩
          by_cases c2 : 5 < κ
          · refine br_t (nI_lt (a := 5) c2 (by omega)) (nm_r (nI_1 i) (ih (i + 1) (by omega) (by omega) (nx (fun w => ?_))))
            obtain ⟨⟨κ', w1, w2, w3⟩, _⟩ := w
            rw [k3, nI_eq (by omega) (by omega)] at w3
            omega
          · refine br_f (nI_nlt (a := 5) (by omega) (by omega)) ⟨v, ?_⟩
            by_cases c3 : γ = 0
            · subst c3
              exact br_t nI_0 (H1 i ⟨⟨κ, by omega, by omega, k3⟩, g2⟩ hk)
            · refine br_f (nI_ne0 (by omega) (by omega)) (nm_r (nI_1 i) (ih (i + 1) (by omega) (by omega) (nx (fun w => ?_))))
              have w2 := w.2
              rw [g2] at w2
              exact nI_ne0 (by omega) (by omega) w2
theorem ty_fi {post : Int32 → Prop} (h : td_Bx T U G E K A N C tg) (hy : td_By K C us kk cc) (H1 : ∀ j, td_Inc K C j → (∀ k, k < j → ¬ td_Inc K C k) → post (nI j))
    (H0 : (∀ j, ¬ td_Inc K C j) → post (-1)) : wpY_firstIncomplete post (nI T, nI U, nI G, nI E, pr, us, kk, A, N, cc, nm, tg, sm, bn) :=
  Exists.intro 17 (ty_fi2 h hy H1 H0 17 0 (Nat.zero_le 16) (by omega) (fun k hk => absurd hk (Nat.not_lt_zero k)))

theorem ty_lk50 {post : Int32 → SY → Prop} {J : Int32 → Int32 → Int32 → Int32 → Int32 → Int32 → (Nat → Int32) → (Nat → Int32) → (Nat → Int32) → (Nat → Int32) → (Nat → Int32) → (Nat → Int32) → (Nat → Int32) → (Nat → Int32) → (Nat → Int32) → Prop}
    {r : Nat} (h : td_Bx T U G E K A N C tg) (hy : td_By K C us kk cc) (hr : ∀ t, t ≤ G → (bn t ≠ 0 ↔ R t = true))
    (hs : ∀ x y, x < 16 → y < 16 → (sm (x * 16 + y) ≠ 0 ↔ td_Bis K A C nm tg (td_bd K A R) x y))
    (H : ∀ sm' bn', (∀ t, t ≤ G → (bn' t ≠ 0 ↔ td_nx G K A C nm tg R t = true)) →
      (∀ x y, x < 16 → y < 16 → (sm' (x * 16 + y) ≠ 0 ↔ td_Bis K A C nm tg (td_bd K A (td_nx G K A C nm tg R)) x y)) → J (nI (r + 1)) (nI T) (nI U) (nI G) (nI E) pr us kk A N cc nm tg sm' bn') :
    ∀ n i, 1 ≤ i → i ≤ G + 1 → G + 1 < i + n → (∀ s, s < i → ¬ td_Res G K A C nm tg R s) → wY_link_50 post J (nI r) (nI T) (nI U) (nI G) (nI E) pr us kk A N cc nm tg sm bn n (nI i) := by
  have hG := h.1.2.2.2.2.2.1
  intro n
  induction n with
  | zero => intro i _ _ _; omega
  | succ n ih =>
    intro i i1 hi hn hk
    by_cases ei : i = G + 1
    · subst ei
      refine br_t (nI_lt (by omega) (by omega)) (nm_r (nI_1 r) ?_)
      have hno : ∀ t, ¬ td_Res G K A C nm tg R t := fun t z => hk t (by have := z.2.1; omega) z
      have e := td_nx_0 hno
      rw [e] at H
      exact H sm bn hr hs
    · have v := vp_in_nI (n := i) (N := 9) (by omega) (by omega)
      have ec := nI_clamp (n := i) (by omega)
      refine br_f (nI_nlt (by omega) (by omega)) (And.intro v ?_)
      rw [ec]
      refine br_c (fun z => ?_) (fun z => nm_r (nI_1 i) (ih (i + 1) (by omega) (by omega) (by omega) ?_))
      · have hR : R i = false := td_bf (fun w => (hr i (by omega)).mpr w z)
        refine ty_una h hy hs (fun w => br_f td_10 ⟨v, ?_⟩) (fun w => br_t rfl (nm_r (nI_1 i) (ih (i + 1) (by omega) (by omega) (by omega) ?_)))
        · have ht : td_Res G K A C nm tg R i := ⟨i1, by omega, hR, w⟩
          have hb : ∀ t, t ≤ G → (upd bn i 1 t ≠ 0 ↔ td_nx G K A C nm tg R t = true) := by
            intro s hs'
            by_cases es : s = i
            · subst es
              rw [pk_us, td_nx_s ht hk]
              exact ⟨fun _ => rfl, fun _ => td_10⟩
            · rw [pk_un es, td_nx_n ht hk es]
              exact hr s hs'
          rw [td_v1]
          refine nm_e (ty_rl h hy hb (fun sm' hs2 => nm_r (nI_1 r) (H sm' (upd bn i 1) hb hs2)))
        · intro s hs' q
          by_cases es : s = i
          · subst es; exact w q.2.2.2
          · exact hk s (by omega) q
      · intro s hs' q
        by_cases es : s = i
        · subst es
          have e := (hr s (by omega)).mp z
          rw [q.2.2.1] at e
          cases e
        · exact hk s (by omega) q
theorem ty_lk40 {post : Int32 → SY → Prop} (h : td_Bx T U G E K A N C tg) (hy : td_By K C us kk cc)
    (H : ∀ sm' bn', td_LY G K A C nm tg (td_Rn G K A C nm tg G) sm' bn' →
      post (nI (td_fb K (td_qb K A C nm tg (td_bd K A (td_Rn G K A C nm tg G))) 16)) (nI T, nI U, nI G, nI E, 1, us, kk, A, N, cc, nm, tg, sm', bn')) :
    ∀ n r sm bn, r ≤ G → G < r + n → (∀ t, t ≤ G → (bn t ≠ 0 ↔ td_Rn G K A C nm tg r t = true)) →
      (∀ x y, x < 16 → y < 16 → (sm (x * 16 + y) ≠ 0 ↔ td_Bis K A C nm tg (td_bd K A (td_Rn G K A C nm tg r)) x y)) → wY_link_40 post n (nI r) (nI T) (nI U) (nI G) (nI E) pr us kk A N cc nm tg sm bn := by
  have hG := h.1.2.2.2.2.2.1
  intro n
  induction n with
  | zero => intro r sm bn a b; omega
  | succ n ih =>
    intro r sm bn hr hn h1 h2
    by_cases er : r = G
    · subst er
      refine br_t (nI_le (Nat.le_refl r) (by omega)) (ty_en h hy td_10 ?_)
      rw [td_fb_q h2 (Nat.le_refl 16)]
      exact H sm bn ⟨h1, h2⟩
    · refine br_f (nI_ge (by omega) (by omega)) (Exists.intro (G + 2) (ty_lk50 h hy h1 h2 (fun sm' bn' e1 e2 => ?_) (G + 2) 1 (by omega) (by omega) (by omega) (fun s hs q => by have := q.1; omega)))
      exact ih (r + 1) sm' bn' (by omega) (by omega) e1 e2
theorem ty_lk15 {post : Int32 → SY → Prop} (h : td_Bx T U G E K A N C tg) (hy : td_By K C us kk cc)
    (H : ∀ sm' bn', td_LY G K A C nm tg (td_Rn G K A C nm tg G) sm' bn' →
      post (nI (td_fb K (td_qb K A C nm tg (td_bd K A (td_Rn G K A C nm tg G))) 16)) (nI T, nI U, nI G, nI E, 1, us, kk, A, N, cc, nm, tg, sm', bn')) :
    ∀ n i bn, i ≤ 9 → 9 < i + n → (∀ t, t < i → bn t = 0) → wY_link_15 post (nI T) (nI U) (nI G) (nI E) pr n (nI i) us kk A N cc nm tg sm bn := by
  have hG := h.1.2.2.2.2.2.1
  intro n
  induction n with
  | zero => intro i bn a b; omega
  | succ n ih =>
    intro i bn hi hn h1
    by_cases ei : i = 9
    · subst ei
      have hb : ∀ t, t ≤ G → (bn t ≠ 0 ↔ td_Rn G K A C nm tg 0 t = true) := by
        intro t ht
        rw [h1 t (by omega)]
        exact ⟨fun z => absurd rfl z, fun z => by cases z⟩
      refine br_t (nI_le (a := 9) (Nat.le_refl 9) (by omega)) (ty_rl h hy hb (fun sm' hs => ?_))
      exact Exists.intro (G + 1) (ty_lk40 h hy H (G + 1) 0 sm' bn (Nat.zero_le G) (by omega) hb hs)
    · refine br_f (nI_ge (b := 9) (by omega) (by omega)) (And.intro (vp_in_nI (by omega) (by omega)) ?_)
      rw [nI_clamp (n := i) (by omega), td_v0]
      refine nm_e (nm_r (nI_1 i) (ih (i + 1) (upd bn i 0) (by omega) (by omega) ?_))
      intro t ht
      by_cases et : t = i
      · subst et; exact pk_us
      · rw [pk_un et]; exact h1 t (by omega)
theorem ty_link {post : Int32 → SY → Prop} (h : td_Bx T U G E K A N C tg) (hy : td_By K C us kk cc)
    (H1 : ∀ j, td_Inc K C j → (∀ k, k < j → ¬ td_Inc K C k) → post (-8) (nI T, nI U, nI G, nI E, pr, us, kk, A, N, cc, nm, tg, sm, bn))
    (H0 : (∀ j, ¬ td_Inc K C j) → ∀ sm' bn', td_LY G K A C nm tg (td_Rn G K A C nm tg G) sm' bn' →
      post (nI (td_fb K (td_qb K A C nm tg (td_bd K A (td_Rn G K A C nm tg G))) 16)) (nI T, nI U, nI G, nI E, 1, us, kk, A, N, cc, nm, tg, sm', bn')) : wpY_link post (nI T, nI U, nI G, nI E, pr, us, kk, A, N, cc, nm, tg, sm, bn) := by
  unfold wpY_link
  refine ty_fi h hy (fun j hj hm => br_f (td_nm1 ?_) (H1 j hj hm)) (fun hno => br_t rfl ?_)
  · have := tb_l16 h (td_Inc_u hj)
    omega
  · exact Exists.intro 10 (ty_lk15 h hy (H0 hno) 10 0 bn (Nat.zero_le 9) (by omega) (fun t ht => absurd ht (Nat.not_lt_zero t)))
end
end
section
/-! the relation -/
/-- both tables are absent, or both are right -/
def td_Lk (G : Nat) (ln ec pr : Int32) (K A C nm tg re bo ni lo si sm bn : Nat → Int32) : Prop :=
  (ln = 0 ∧ pr = 0) ∨ (ln = 1 ∧ pr = 1 ∧ td_LX G K A C nm tg (td_Rn G K A C nm tg G) ec re bo ni lo si ∧ td_LY G K A C nm tg (td_Rn G K A C nm tg G) sm bn)
/-- the relation at the head of a turn whose first cell is k -/
def i_Rel (_k : Nat) (u : SX) (v : SY) : Prop :=
  ∃ T U G E : Nat, ∃ ln ec pr : Int32, ∃ K A N C nm tg re bo cl nc ni lo si us kk cc sm bn : Nat → Int32,
    u = (nI T, nI U, nI G, nI E, ln, ec, K, A, N, C, nm, tg, re, bo, cl, nc, ni, lo, si) ∧ v = (nI T, nI U, nI G, nI E, pr, us, kk, A, N, cc, nm, tg, sm, bn) ∧ td_Bx T U G E K A N C tg ∧ td_By K C us kk cc ∧ td_Lk G ln ec pr K A C nm tg re bo ni lo si sm bn
theorem i_up {k : Nat} {u : SX} {v : SY} (h : i_Rel k u v) : i_Rel (k + 4) u v := h
section
variable {T U G E : Nat} {ln ec pr : Int32} {K A N C nm tg re bo cl nc ni lo si us kk cc sm bn : Nat → Int32}
theorem td_mk {k : Nat} (h : td_Bx T U G E K A N C tg) (hy : td_By K C us kk cc) (hl : td_Lk G ln ec pr K A C nm tg re bo ni lo si sm bn) : i_Rel k (nI T, nI U, nI G, nI E, ln, ec, K, A, N, C, nm, tg, re, bo, cl, nc, ni, lo, si) (nI T, nI U, nI G, nI E, pr, us, kk, A, N, cc, nm, tg, sm, bn) :=
  ⟨T, U, G, E, ln, ec, pr, K, A, N, C, nm, tg, re, bo, cl, nc, ni, lo, si, us, kk, cc, sm, bn, rfl, rfl, h, hy, hl⟩
end
theorem td_el {k : Nat} {u : SX} {v : SY} {P : SX → SY → Prop}
    (H : ∀ (T U G E : Nat) (ln ec pr : Int32) (K A N C nm tg re bo cl nc ni lo si us kk cc sm bn : Nat → Int32),
      td_Bx T U G E K A N C tg → td_By K C us kk cc → td_Lk G ln ec pr K A C nm tg re bo ni lo si sm bn → P (nI T, nI U, nI G, nI E, ln, ec, K, A, N, C, nm, tg, re, bo, cl, nc, ni, lo, si) (nI T, nI U, nI G, nI E, pr, us, kk, A, N, cc, nm, tg, sm, bn))
    (I : i_Rel k u v) : P u v :=
  Exists.elim I fun T I => Exists.elim I fun U I => Exists.elim I fun G I => Exists.elim I fun E I =>
  Exists.elim I fun ln I => Exists.elim I fun ec I => Exists.elim I fun pr I =>
  Exists.elim I fun K I => Exists.elim I fun A I => Exists.elim I fun N I => Exists.elim I fun C I => Exists.elim I fun nm I => Exists.elim I fun tg I =>
  Exists.elim I fun re I => Exists.elim I fun bo I => Exists.elim I fun cl I => Exists.elim I fun nc I => Exists.elim I fun ni I => Exists.elim I fun lo I =>
  Exists.elim I fun si I => Exists.elim I fun us I => Exists.elim I fun kk I => Exists.elim I fun cc I => Exists.elim I fun sm I => Exists.elim I fun bn I => by
    have H' := H T U G E ln ec pr K A N C nm tg re bo cl nc ni lo si us kk cc sm bn I.2.2.1 I.2.2.2.1 I.2.2.2.2
    rw [← I.1, ← I.2.1] at H'
    exact H'

/-! the constructors -/
theorem td_clp (p : Int32) {a b : Nat} (hab : a ≤ b) (hb : b < 2 ^ 31) : ∃ c : Nat, a ≤ c ∧ c ≤ b ∧
    (∀ (post : Int32 → Prop) (u : SX), post (nI c) → wpX_clamp post u p (nI a) (nI b)) ∧
    (∀ (post : Int32 → Prop) (v : SY), post (nI c) → wpY_clamp post v p (nI a) (nI b)) := by
  by_cases h1 : nI a ≤ p
  · by_cases h2 : p ≤ nI b
    · have h0 : ¬ p < 0 := Int32.not_lt.mpr (Int32.le_trans (nI_pos' (by omega)) h1)
      obtain ⟨c, hc, e⟩ := nI_of h0
      subst e
      have h1' := h1
      have h2' := h2
      rw [nI_leI (by omega) hc] at h1'
      rw [nI_leI hc hb] at h2'
      refine ⟨c, h1', h2', fun post u hp => ?_, fun post v hp => ?_⟩
      · obtain ⟨_, _, _, _, _, _, _, _, _, _, _, _, _, _, _, _, _, _, _⟩ := u
        exact br_t h1 (br_t h2 hp)
      · obtain ⟨_, _, _, _, _, _, _, _, _, _, _, _, _, _⟩ := v
        exact br_t h1 (br_t h2 hp)
    · refine ⟨b, hab, Nat.le_refl b, fun post u hp => ?_, fun post v hp => ?_⟩
      · obtain ⟨_, _, _, _, _, _, _, _, _, _, _, _, _, _, _, _, _, _, _⟩ := u
        exact br_t h1 (br_f h2 hp)
      · obtain ⟨_, _, _, _, _, _, _, _, _, _, _, _, _, _⟩ := v
        exact br_t h1 (br_f h2 hp)
  · refine ⟨a, Nat.le_refl a, hab, fun post u hp => ?_, fun post v hp => ?_⟩
    · obtain ⟨_, _, _, _, _, _, _, _, _, _, _, _, _, _, _, _, _, _, _⟩ := u
      exact br_f h1 hp
    · obtain ⟨_, _, _, _, _, _, _, _, _, _, _, _, _, _⟩ := v
      exact br_f h1 hp
theorem i_vc0 (k0 : Int32) (k1 : Int32) (k2 : Int32) (k3 : Int32) : wpX_init (fun u => wpY_init (fun v => i_Rel 4 u v) k0 k1 k2 k3) k0 k1 k2 k3 := by
  obtain ⟨T, t1, t2, tX, tY⟩ := td_clp k0 (a := 8) (b := 16) (by omega) (by omega)
  obtain ⟨U, u1, u2, uX, uY⟩ := td_clp k1 (a := 1) (b := 4) (by omega) (by omega)
  obtain ⟨G, g1, g2, gX, gY⟩ := td_clp k2 (a := 1) (b := 8) (by omega) (by omega)
  obtain ⟨E, e1, e2, eX, eY⟩ := td_clp k3 (a := 1) (b := 4) (by omega) (by omega)
  unfold wpX_init
  refine tX _ _ ?_
  refine uX _ _ ?_
  refine gX _ _ ?_
  refine eX _ _ ?_
  unfold wpY_init
  refine tY _ _ ?_
  refine uY _ _ ?_
  refine gY _ _ ?_
  refine eY _ _ ?_
  exact td_mk ⟨⟨t1, t2, u1, u2, g1, g2, e1, e2⟩, fun x => Or.inl ⟨rfl, rfl⟩⟩ (fun x => Or.inl ⟨rfl, rfl⟩) (Or.inl ⟨rfl, rfl⟩)
end
section
/-! addType -/
/-- the least and the greatest attribute of a kind -/
def td_la (κ : Nat) : Nat := if κ = 4 then 1 else if κ = 7 then 1 else 0
def td_ga (G κ : Nat) : Nat := if κ = 1 then 255 else if κ = 2 then 0 else if κ = 3 then 255 else if κ = 4 then 3 else if κ = 5 then 1 else G
theorem td_k7 {κ : Nat} (h1 : 1 ≤ κ) (h7 : κ ≤ 7) : κ = 1 ∨ κ = 2 ∨ κ = 3 ∨ κ = 4 ∨ κ = 5 ∨ κ = 6 ∨ κ = 7 := by omega
section
variable {T U G E : Nat} {ln ec pr : Int32} {K A N C nm tg re bo cl nc ni lo si us kk cc sm bn : Nat → Int32}
theorem tx_la {post : Int32 → Prop} {κ : Nat} (h1 : 1 ≤ κ) (h7 : κ ≤ 7) (hp : post (nI (td_la κ))) : wpX_leastAttr post (nI T, nI U, nI G, nI E, ln, ec, K, A, N, C, nm, tg, re, bo, cl, nc, ni, lo, si) (nI κ) := by
  rcases td_k7 h1 h7 with e | e | e | e | e | e | e <;> subst e
  · exact br_f (by decide) (br_f (by decide) hp)
  · exact br_f (by decide) (br_f (by decide) hp)
  · exact br_f (by decide) (br_f (by decide) hp)
  · exact br_t (by decide) hp
  · exact br_f (by decide) (br_f (by decide) hp)
  · exact br_f (by decide) (br_f (by decide) hp)
  · exact br_f (by decide) (br_t (by decide) hp)
theorem tx_ga {post : Int32 → Prop} {κ : Nat} (h1 : 1 ≤ κ) (h7 : κ ≤ 7) (hp : post (nI (td_ga G κ))) : wpX_greatestAttr post (nI T, nI U, nI G, nI E, ln, ec, K, A, N, C, nm, tg, re, bo, cl, nc, ni, lo, si) (nI κ) := by
  rcases td_k7 h1 h7 with e | e | e | e | e | e | e <;> subst e
  · exact br_f (by decide) (br_f (by decide) (br_t (by decide) hp))
  · exact br_f (by decide) (br_f (by decide) (br_f (by decide) (br_t (by decide) hp)))
  · exact br_f (by decide) (br_f (by decide) (br_f (by decide) (br_f (by decide) (br_t (by decide) hp))))
  · exact br_f (by decide) (br_f (by decide) (br_f (by decide) (br_f (by decide) (br_f (by decide) (br_t (by decide) hp)))))
  · exact br_f (by decide) (br_f (by decide) (br_f (by decide) (br_f (by decide) (br_f (by decide) (br_f (by decide) (br_t (by decide) hp))))))
  · exact br_f (by decide) (br_f (by decide) (br_f (by decide) (br_f (by decide) (br_f (by decide) (br_f (by decide) (br_f (by decide) (br_t (by decide) hp)))))))
  · exact br_f (by decide) (br_f (by decide) (br_f (by decide) (br_f (by decide) (br_f (by decide) (br_f (by decide) (br_f (by decide) (br_f (by decide) (br_t (by decide) hp))))))))
theorem tx_lf2 {post : Int32 → Prop} (hT : T ≤ 16) (H1 : ∀ j, j < T → K j = 0 → (∀ k, k < j → K k ≠ 0) → post (nI j)) (H0 : (∀ j, j < T → K j ≠ 0) → post (-1)) :
    ∀ n i, i ≤ T → T < i + n → (∀ k, k < i → K k ≠ 0) → wX_lowestFree_2 post (nI T) (nI U) (nI G) (nI E) ln ec K A N C nm tg re bo cl nc ni lo si n (nI i) := by
  intro n
  induction n with
  | zero => intro i _ _; omega
  | succ n ih =>
    intro i hi hn hk
    by_cases ei : i = T
    · subst ei
      exact br_t (nI_le (Nat.le_refl i) (by omega)) (H0 hk)
    · refine br_f (nI_ge (by omega) (by omega)) (And.intro (vp_in_nI (by omega) (by omega)) ?_)
      rw [nI_clamp (n := i) (by omega)]
      refine br_c (fun z => H1 i (by omega) z hk) (fun z => nm_r (nI_1 i) (ih (i + 1) (by omega) (by omega) ?_))
      intro k hk'
      by_cases ek : k = i
      · subst ek; exact z
      · exact hk k (by omega)
theorem tx_lf {post : Int32 → Prop} (hT : T ≤ 16) (H1 : ∀ j, j < T → K j = 0 → (∀ k, k < j → K k ≠ 0) → post (nI j)) (H0 : (∀ j, j < T → K j ≠ 0) → post (-1)) :
    wpX_lowestFree post (nI T, nI U, nI G, nI E, ln, ec, K, A, N, C, nm, tg, re, bo, cl, nc, ni, lo, si) :=
  Exists.intro (T + 1) (tx_lf2 hT H1 H0 (T + 1) 0 (Nat.zero_le T) (by omega) (fun k hk => absurd hk (Nat.not_lt_zero k)))
theorem ty_at_t {post : Int32 → SY → Prop} {p0 p1 p2 : Int32} (hy : td_By K C us kk cc) (hT : T ≤ 16) {j : Nat} (hj : j < T) (k0 : K j = 0) (hm : ∀ k, k < j → K k ≠ 0)
    (hp : post (nI j) (nI T, nI U, nI G, nI E, 0, upd us j 1, upd kk j p1, upd A j p2, upd N j p0, upd cc j 0, nm, tg, sm, bn)) :
    ∀ n i, i ≤ j → j < i + n → wY_addType_114 post p0 p1 p2 (nI T) (nI U) (nI G) (nI E) pr us kk A N cc nm tg sm bn n (nI i) := by
  intro n
  induction n with
  | zero => intro i _ _; omega
  | succ n ih =>
    intro i hi hn
    have v := vp_in_nI (n := i) (N := 16) (by omega) (by omega)
    refine br_f (nI_ge (by omega) (by omega)) (And.intro v ?_)
    rw [nI_clamp (n := i) (by omega)]
    by_cases ei : i = j
    · subst ei
      rw [td_v1]
      exact br_t (tb_us0 hy k0) ⟨v, nm_e ⟨v, nm_e ⟨v, nm_e ⟨v, nm_e ⟨v, nm_e hp⟩⟩⟩⟩⟩
    · exact br_f (tb_us1 hy (hm i (by omega))).1 (nm_r (nI_1 i) (ih (i + 1) (by omega) (by omega)))
theorem ty_at_f {post : Int32 → SY → Prop} {p0 p1 p2 : Int32} (hy : td_By K C us kk cc) (hT : T ≤ 16) (hm : ∀ k, k < T → K k ≠ 0) (hp : post (-5) (nI T, nI U, nI G, nI E, pr, us, kk, A, N, cc, nm, tg, sm, bn)) :
    ∀ n i, i ≤ T → T < i + n → wY_addType_114 post p0 p1 p2 (nI T) (nI U) (nI G) (nI E) pr us kk A N cc nm tg sm bn n (nI i) := by
  intro n
  induction n with
  | zero => intro i _ _; omega
  | succ n ih =>
    intro i hi hn
    by_cases ei : i = T
    · subst ei
      exact br_t (nI_le (Nat.le_refl i) (by omega)) hp
    · have v := vp_in_nI (n := i) (N := 16) (by omega) (by omega)
      refine br_f (nI_ge (by omega) (by omega)) (And.intro v ?_)
      rw [nI_clamp (n := i) (by omega)]
      exact br_f (tb_us1 hy (hm i (by omega))).1 (nm_r (nI_1 i) (ih (i + 1) (by omega) (by omega)))
/-- the reference's bounds of the attribute -/
theorem ty_at94 {post : Int32 → SY → Prop} {p0 p2 : Int32} {κ : Nat} (h1 : 1 ≤ κ) (h7 : κ ≤ 7) (hu0 : ¬ p0 < 0) (hu : p0 < nI U)
    (hp : wY_addType_94 post p0 (nI κ) p2 (nI (td_la κ)) (nI (td_ga G κ)) (nI T) (nI U) (nI G) (nI E) pr us kk A N cc nm tg sm bn) : wpY_addType post (nI T, nI U, nI G, nI E, pr, us, kk, A, N, cc, nm, tg, sm, bn) p0 (nI κ) p2 := by
  rcases td_k7 h1 h7 with e | e | e | e | e | e | e <;> subst e
  · exact br_f hu0 (br_t hu (br_f (by decide) (br_t (by decide) (br_f (by decide) (br_f (by decide) (br_t (by decide) hp))))))
  · exact br_f hu0 (br_t hu (br_f (by decide) (br_t (by decide) (br_f (by decide) (br_f (by decide) (br_f (by decide) (br_f (by decide) (br_t (by decide) hp))))))))
  · exact br_f hu0 (br_t hu (br_f (by decide) (br_t (by decide) (br_f (by decide) (br_f (by decide) (br_f (by decide) (br_t (by decide) hp)))))))
  · exact br_f hu0 (br_t hu (br_f (by decide) (br_t (by decide) (br_t (by decide) (br_f (by decide) (br_f (by decide) (br_f (by decide) (br_t (by decide) hp))))))))
  · exact br_f hu0 (br_t hu (br_f (by decide) (br_t (by decide) (br_f (by decide) (br_f (by decide) (br_f (by decide) (br_f (by decide) (br_f (by decide) (br_f (by decide) (br_t (by decide) hp))))))))))
  · exact br_f hu0 (br_t hu (br_f (by decide) (br_t (by decide) (br_f (by decide) (br_f (by decide) (br_f (by decide) (br_f (by decide) (br_f (by decide) (br_f (by decide) (br_f (by decide) hp))))))))))
  · exact br_f hu0 (br_t hu (br_f (by decide) (br_t (by decide) (br_f (by decide) (br_t (by decide) (br_f (by decide) (br_f (by decide) (br_f (by decide) (br_f (by decide) (br_f (by decide) hp))))))))))

theorem td_at_Bx (h : td_Bx T U G E K A N C tg) {j κ : Nat} {p0 p2 : Int32} (hj : j < T) (k0 : K j = 0) (h1 : 1 ≤ κ) (h7 : κ ≤ 7)
    (hA : κ = 7 → ∃ a : Nat, 1 ≤ a ∧ a ≤ G ∧ p2 = nI a) : td_Bx T U G E (upd K j (nI κ)) (upd A j p2) (upd N j p0) (upd C j 0) tg := by
  refine ⟨h.1, fun x => ?_⟩
  by_cases e : x = j
  · subst e
    have hk : upd K x (nI κ) x = nI κ := pk_us
    refine Or.inr ⟨by rw [hk]; exact nI_ne0 (by omega) (by omega), hj, ⟨κ, h1, h7, hk⟩, fun z => ?_, 0, Nat.zero_le 4, by rw [pk_us, nI_0], fun i hi => absurd hi (Nat.not_lt_zero i)⟩
    rw [pk_us]
    rw [hk] at z
    exact hA ((nI_eq (b := 7) (by omega) (by omega)).mp z)
  · rw [pk_un e, pk_un e]
    rcases h.2 x with z | z
    · exact Or.inl z
    · obtain ⟨z1, z2, z3, z4, γ, z5, z6, z7⟩ := z
      refine Or.inr ⟨z1, z2, by rw [pk_un e]; exact z3, by rw [pk_un e, pk_un e]; exact z4, γ, z5, by rw [pk_un e]; exact z6, fun i hi => ?_⟩
      obtain ⟨t, t1, t2, t3⟩ := z7 i hi
      have et : t ≠ j := fun w => by subst w; exact t2 k0
      exact ⟨t, t1, by rw [pk_un et]; exact t2, by rw [pk_un et, pk_un e]; exact t3⟩
theorem td_at_By (hy : td_By K C us kk cc) {j : Nat} {p1 : Int32} (hp : p1 ≠ 0) : td_By (upd K j p1) (upd C j 0) (upd us j 1) (upd kk j p1) (upd cc j 0) := by
  intro x
  by_cases e : x = j
  · subst e
    rw [pk_us, pk_us, pk_us, pk_us, pk_us]
    exact Or.inr ⟨rfl, hp, rfl, rfl⟩
  · rw [pk_un e, pk_un e, pk_un e, pk_un e, pk_un e]
    exact hy x
end
theorem i_vc_addType {k : Nat} {u : SX} {v : SY} (I : i_Rel k u v) (hk : k + 4 ≤ 2052) (v1 : Int32) (v2 : Int32) (v3 : Int32) : wpX_addType (fun r u' => wpY_addType (fun r' v' => r' = r ∧ i_Rel (k + 4) u' v') v v1 v2 v3) u v1 v2 v3 := by
  refine td_el (P := fun u v => wpX_addType (fun r u' => wpY_addType (fun r' v' => r' = r ∧ i_Rel (k + 4) u' v') v v1 v2 v3) u v1 v2 v3) ?_ I
  intro T U G E ln ec pr K A N C nm tg re bo cl nc ni lo si us kk cc sm bn h hy hl
  have hT := tb_T h
  have hG := h.1.2.2.2.2.2.1
  have hU := h.1.2.2.2.1
  refine br_c (fun z => br_t z ⟨rfl, td_mk h hy hl⟩) (fun z0 => ?_)
  refine br_c (fun z1 => ?_) (fun z1 => br_f z0 (br_f z1 ⟨rfl, td_mk h hy hl⟩))
  refine br_c (fun z => br_f z0 (br_t z1 (br_t z ⟨rfl, td_mk h hy hl⟩))) (fun z2 => ?_)
  refine br_c (fun z3 => ?_) (fun z3 => br_f z0 (br_t z1 (br_f z2 (br_f z3 ⟨rfl, td_mk h hy hl⟩))))
  have h0 : ¬ v2 < 0 := fun w => z2 (Int32.lt_trans w (by decide))
  obtain ⟨κ, hκ, e⟩ := nI_of h0
  subst e
  have h1 : 1 ≤ κ := by
    rcases Nat.lt_or_ge κ 1 with l | l
    · exact absurd (nI_lt (b := 1) l (by omega)) z2
    · exact l
  have h7 : κ ≤ 7 := (nI_leI (b := 7) hκ (by omega)).mp z3
  refine tx_la h1 h7 (br_c (fun z => ty_at94 h1 h7 z0 z1 (br_t z ⟨rfl, td_mk h hy hl⟩)) (fun z4 => ?_))
  refine tx_ga h1 h7 (br_c (fun z5 => ?_) (fun z5 => ty_at94 h1 h7 z0 z1 (br_f z4 (br_f z5 ⟨rfl, td_mk h hy hl⟩))))
  refine tx_lf hT (fun j hj k0 hm => ?_) (fun hm => ?_)
  · have v := vp_in_nI (n := j) (N := 16) (by omega) (by omega)
    refine br_t (nI_pos' (by omega)) ⟨v, ?_⟩
    rw [nI_clamp (n := j) (by omega)]
    refine nm_e ⟨v, nm_e ⟨v, nm_e ⟨v, nm_e ?_⟩⟩⟩
    refine ty_at94 h1 h7 z0 z1 (br_f z4 (br_t z5 (Exists.intro (T + 1) (ty_at_t hy hT hj k0 hm ?_ (T + 1) 0 (Nat.zero_le j) (by omega)))))
    refine ⟨rfl, td_mk (td_at_Bx h hj k0 h1 h7 (fun e => ?_)) (td_at_By hy (nI_ne0 (by omega) (by omega))) (Or.inl ⟨rfl, rfl⟩)⟩
    subst e
    have h30 : ¬ v3 < 0 := fun w => z4 (Int32.lt_trans w (by decide))
    obtain ⟨a, ha, ea⟩ := nI_of h30
    subst ea
    have a1 : ¬ a < 1 := fun w => z4 (nI_lt (b := 1) w (by omega))
    have a2 : a ≤ G := (nI_leI (b := G) ha (by omega)).mp z5
    exact ⟨a, by omega, a2, rfl⟩
  · exact br_f td_0m1 (ty_at94 h1 h7 z0 z1 (br_f z4 (br_t z5 (Exists.intro (T + 1) (ty_at_f hy hT hm ⟨rfl, td_mk h hy hl⟩ (T + 1) 0 (Nat.zero_le T) (by omega))))))
end
section
/-! addEdge -/
/-- the most edges of a kind, and its greatest name -/
def td_me (E κ : Nat) : Nat := if κ = 1 then 0 else if κ = 7 then 0 else if κ = 5 then E else if κ = 6 then E else 1
def td_gn (κ : Nat) : Nat := if κ = 6 then 255 else 0
theorem td_me_le {E κ : Nat} (hE : E ≤ 4) : td_me E κ ≤ 4 := by
  unfold td_me
  split
  · omega
  · split
    · omega
    · split
      · omega
      · split <;> omega
section
variable {T U G E : Nat} {ln ec pr : Int32} {K A N C nm tg re bo cl nc ni lo si us kk cc sm bn : Nat → Int32}
theorem tx_me {post : Int32 → Prop} {κ : Nat} (h1 : 1 ≤ κ) (h7 : κ ≤ 7) (hp : post (nI (td_me E κ))) : wpX_mostEdges post (nI T, nI U, nI G, nI E, ln, ec, K, A, N, C, nm, tg, re, bo, cl, nc, ni, lo, si) (nI κ) := by
  rcases td_k7 h1 h7 with e | e | e | e | e | e | e <;> subst e
  · exact br_f (by decide) (br_f (by decide) (br_t (by decide) hp))
  · exact br_f (by decide) (br_f (by decide) (br_f (by decide) (br_f (by decide) hp)))
  · exact br_f (by decide) (br_f (by decide) (br_f (by decide) (br_f (by decide) hp)))
  · exact br_f (by decide) (br_f (by decide) (br_f (by decide) (br_f (by decide) hp)))
  · exact br_t (by decide) hp
  · exact br_f (by decide) (br_t (by decide) hp)
  · exact br_f (by decide) (br_f (by decide) (br_f (by decide) (br_t (by decide) hp)))
theorem tx_gn {P : Int32 → Prop} {κ : Nat} (h1 : 1 ≤ κ) (h7 : κ ≤ 7) (hp : P (nI (td_gn κ))) : (nI κ = 6 → P 255) ∧ (¬ nI κ = 6 → P 0) := by
  rcases td_k7 h1 h7 with e | e | e | e | e | e | e <;> subst e
  · exact br_f (by decide) hp
  · exact br_f (by decide) hp
  · exact br_f (by decide) hp
  · exact br_f (by decide) hp
  · exact br_f (by decide) hp
  · exact br_t (by decide) hp
  · exact br_f (by decide) hp
theorem ty_ae82 {post : Int32 → SY → Prop} (h : td_Bx T U G E K A N C tg) (hy : td_By K C us kk cc) {f t κ : Nat} {p1 : Int32} (kf : K f ≠ 0) (kt : K t ≠ 0) (hN : N f = N t)
    (ek : K f = nI κ) (h1 : 1 ≤ κ) (h7 : κ ≤ 7)
    (hp : wY_addEdge_82 post (nI f) p1 (nI t) (nI κ) (nI (td_me E κ)) (nI T) (nI U) (nI G) (nI E) pr us kk A N cc nm tg sm bn) : wpY_addEdge post (nI T, nI U, nI G, nI E, pr, us, kk, A, N, cc, nm, tg, sm, bn) (nI f) p1 (nI t) := by
  have vf := vp_in_nI (n := f) (N := 16) (tb_l16 h kf) (by omega)
  have vt := vp_in_nI (n := t) (N := 16) (tb_l16 h kt) (by omega)
  have f16 := tb_l16 h kf
  have t16 := tb_l16 h kt
  unfold wpY_addEdge
  refine ty_use_t h hy kf (br_f td_10 (ty_use_t h hy kt (br_f td_10 ⟨vf, vt, ?_⟩)))
  rw [nI_clamp (n := f) (by omega), nI_clamp (n := t) (by omega)]
  refine br_t hN ⟨vf, nm_r ((tb_us1 hy kf).2.1.trans ek) ?_⟩
  rcases td_k7 h1 h7 with e | e | e | e | e | e | e <;> subst e
  · exact br_t (by decide) hp
  · exact br_f (by decide) (br_f (by decide) (br_f (by decide) (br_f (by decide) hp)))
  · exact br_f (by decide) (br_f (by decide) (br_f (by decide) (br_f (by decide) hp)))
  · exact br_f (by decide) (br_f (by decide) (br_f (by decide) (br_f (by decide) hp)))
  · exact br_f (by decide) (br_f (by decide) (br_t (by decide) hp))
  · exact br_f (by decide) (br_f (by decide) (br_f (by decide) (br_t (by decide) hp)))
  · exact br_f (by decide) (br_t (by decide) hp)
theorem td_ae_Bx (h : td_Bx T U G E K A N C tg) {f t γ : Nat} (kf : K f ≠ 0) (kt : K t ≠ 0) (hN : N f = N t) (hc : C f = nI γ) (hγ : γ < 4) :
    td_Bx T U G E K A N (upd C f (nI (γ + 1))) (upd tg (f * 4 + γ) (nI t)) := by
  refine ⟨h.1, fun x => ?_⟩
  by_cases e : x = f
  · subst e
    obtain ⟨z2, z3, z4, γ', z5, z6, z7⟩ := tb_us h kf
    have eg : γ' = γ := by rw [hc, nI_eq (by omega) (by omega)] at z6; exact z6.symm
    subst eg
    refine Or.inr ⟨kf, z2, z3, z4, γ' + 1, by omega, pk_us, fun i hi => ?_⟩
    by_cases ei : i = γ'
    · subst ei
      exact ⟨t, pk_us, kt, hN.symm⟩
    · rw [pk_un (by omega)]
      exact z7 i (by omega)
  · rcases h.2 x with z | z
    · exact Or.inl ⟨z.1, by rw [pk_un e]; exact z.2⟩
    · obtain ⟨z1, z2, z3, z4, γ', z5, z6, z7⟩ := z
      refine Or.inr ⟨z1, z2, z3, z4, γ', z5, by rw [pk_un e]; exact z6, fun i hi => ?_⟩
      rw [pk_un (by omega)]
      exact z7 i hi
theorem td_ae_By (hy : td_By K C us kk cc) {f : Nat} {w : Int32} (kf : K f ≠ 0) : td_By K (upd C f w) us kk (upd cc f w) := by
  intro x
  by_cases e : x = f
  · subst e
    rw [pk_us, pk_us]
    rcases hy x with z | z
    · exact absurd z.2 kf
    · exact Or.inr ⟨z.1, z.2.1, z.2.2.1, rfl⟩
  · rw [pk_un e, pk_un e]
    exact hy x
end
theorem i_vc_addEdge {k : Nat} {u : SX} {v : SY} (I : i_Rel k u v) (hk : k + 4 ≤ 2052) (v1 : Int32) (v2 : Int32) (v3 : Int32) : wpX_addEdge (fun r u' => wpY_addEdge (fun r' v' => r' = r ∧ i_Rel (k + 4) u' v') v v1 v2 v3) u v1 v2 v3 := by
  refine td_el (P := fun u v => wpX_addEdge (fun r u' => wpY_addEdge (fun r' v' => r' = r ∧ i_Rel (k + 4) u' v') v v1 v2 v3) u v1 v2 v3) ?_ I
  intro T U G E ln ec pr K A N C nm tg re bo cl nc ni lo si us kk cc sm bn h hy hl
  have hE := h.1.2.2.2.2.2.2.2
  unfold wpX_addEdge
  rcases td_arg h v1 with ⟨f, kf, e⟩ | hn
  · subst e
    rcases td_arg h v3 with ⟨t, kt, e⟩ | hn
    · subst e
      have f16 := tb_l16 h kf
      have t16 := tb_l16 h kt
      have vf := vp_in_nI (n := f) (N := 16) f16 (by omega)
      have vt := vp_in_nI (n := t) (N := 16) t16 (by omega)
      have ef := nI_clamp (n := f) (by omega)
      have et := nI_clamp (n := t) (by omega)
      obtain ⟨κ, h1, h7, ek⟩ := tb_k h kf
      obtain ⟨γ, g1, g2, _⟩ := tb_c h f
      have hme := td_me_le (κ := κ) hE
      refine tx_use_t h kf (br_f td_10 (tx_use_t h kt (br_f td_10 ⟨vf, vt, ?_⟩)))
      rw [ef, et]
      refine br_c (fun hN => ⟨vf, nm_r ek ⟨vf, nm_r g2 ?_⟩⟩) (fun hN => ?_)
      · refine tx_me h1 h7 ?_
        by_cases c : γ < td_me E κ
        · refine br_t (nI_lt c (by omega)) (tx_gn (P := fun z => wX_addEdge_80 _ (nI f) v2 (nI t) (nI γ) z (nI T) (nI U) (nI G) (nI E) ln ec K A N C nm tg re bo cl nc ni lo si) h1 h7 ?_)
          have vi : vp_in (nI (f * 4 + γ)) 64 := vp_in_nI (by omega) (by omega)
          refine br_c (fun z => ?_) (fun z0 => br_c (fun z1 => ?_) (fun z1 => ?_))
          · refine ty_ae82 h hy kf kt hN ek h1 h7 (And.intro vf ?_)
            rw [ef]
            exact nm_r ((tb_us1 hy kf).2.2.trans g2) (br_t (nI_lt c (by omega)) (br_t z ⟨rfl, td_mk h hy hl⟩))
          · rw [td_m4, nI_clamp (n := f * 4 + γ) (by omega), ef]
            refine ⟨vi, nm_e ⟨vi, nm_e ⟨vf, nm_r (congrArg (upd C f) (nI_1 γ)) ?_⟩⟩⟩
            refine ty_ae82 h hy kf kt hN ek h1 h7 (And.intro vf ?_)
            rw [ef]
            refine nm_r ((tb_us1 hy kf).2.2.trans g2) (br_t (nI_lt c (by omega)) (br_f z0 (tx_gn (P := fun z => wY_addEdge_121 _ (nI f) v2 (nI t) (nI γ) z v2 (nI T) (nI U) (nI G) (nI E) pr us kk A N cc nm tg sm bn) h1 h7 (br_t z1 ?_))))
            rw [td_m4, nI_clamp (n := f * 4 + γ) (by omega), ef]
            refine ⟨vi, nm_e ⟨vi, nm_e ⟨vf, nm_r (congrArg (upd cc f) (nI_1 γ)) ?_⟩⟩⟩
            exact ⟨rfl, td_mk (td_ae_Bx h kf kt hN g2 (by omega)) (td_ae_By hy kf) (Or.inl ⟨rfl, rfl⟩)⟩
          · refine ty_ae82 h hy kf kt hN ek h1 h7 (And.intro vf ?_)
            rw [ef]
            exact nm_r ((tb_us1 hy kf).2.2.trans g2) (br_t (nI_lt c (by omega)) (br_f z0 (tx_gn (P := fun z => wY_addEdge_121 _ (nI f) v2 (nI t) (nI γ) z v2 (nI T) (nI U) (nI G) (nI E) pr us kk A N cc nm tg sm bn) h1 h7 (br_f z1 ⟨rfl, td_mk h hy hl⟩))))
        · refine br_f (nI_nlt (by omega) (by omega)) (ty_ae82 h hy kf kt hN ek h1 h7 (And.intro vf ?_))
          rw [ef]
          exact nm_r ((tb_us1 hy kf).2.2.trans g2) (br_f (nI_nlt (by omega) (by omega)) ⟨rfl, td_mk h hy hl⟩)
      · unfold wpY_addEdge
        refine ty_use_t h hy kf (br_f td_10 (ty_use_t h hy kt (br_f td_10 ⟨vf, vt, ?_⟩)))
        rw [ef, et]
        exact br_f hN ⟨rfl, td_mk h hy hl⟩
    · refine tx_use_t h kf (br_f td_10 (tx_use_f h hn (br_t rfl ?_)))
      unfold wpY_addEdge
      exact ty_use_t h hy kf (br_f td_10 (ty_use_f hy hn (br_t rfl ⟨rfl, td_mk h hy hl⟩)))
  · refine tx_use_f h hn (br_t rfl ?_)
    unfold wpY_addEdge
    exact ty_use_f hy hn (br_t rfl ⟨rfl, td_mk h hy hl⟩)
end
section
/-! dropUnit -/
/-- F with 0 at the used types of unit p below i -/
def td_dr (K N : Nat → Int32) (p : Int32) (i : Nat) (F : Nat → Int32) : Nat → Int32 := fun x => if x < i ∧ K x ≠ 0 ∧ N x = p then 0 else F x
/-- how many those are -/
def td_dc (K N : Nat → Int32) (p : Int32) (i : Nat) : Nat := td_ct (fun x => decide (K x ≠ 0 ∧ N x = p)) i
section
variable {T U G E : Nat} {ln ec pr : Int32} {K A N C nm tg re bo cl nc ni lo si us kk cc sm bn : Nat → Int32} {p : Int32} {F : Nat → Int32}
theorem td_dr_i {i : Nat} : td_dr K N p i F i = F i := if_neg (fun z => absurd z.1 (Nat.lt_irrefl i))
theorem td_dr_0 : td_dr K N p 0 F = F := funext fun x => if_neg (fun z => absurd z.1 (Nat.not_lt_zero x))
theorem td_dr_y {i x : Nat} (hx : x < i) (hk : K x ≠ 0) (hn : N x = p) : td_dr K N p i F x = 0 := if_pos ⟨hx, hk, hn⟩
theorem td_dr_n {i x : Nat} (h : ¬ (K x ≠ 0 ∧ N x = p)) : td_dr K N p i F x = F x := if_neg (fun z => h z.2)
theorem td_dr_t {i : Nat} (hk : K i ≠ 0) (hn : N i = p) : upd (td_dr K N p i F) i 0 = td_dr K N p (i + 1) F := by
  funext x
  by_cases e : x = i
  · subst e; rw [pk_us, td_dr_y (Nat.lt_succ_self x) hk hn]
  · rw [pk_un e]
    by_cases c : x < i ∧ K x ≠ 0 ∧ N x = p
    · exact (if_pos c).trans (if_pos ⟨by omega, c.2⟩).symm
    · exact (if_neg c).trans (if_neg (fun z => c ⟨by omega, z.2⟩)).symm
theorem td_dr_f {i : Nat} (h : ¬ (K i ≠ 0 ∧ N i = p)) : td_dr K N p (i + 1) F = td_dr K N p i F := by
  funext x
  by_cases c : x < i ∧ K x ≠ 0 ∧ N x = p
  · exact (if_pos ⟨by omega, c.2⟩).trans (if_pos c).symm
  · refine (if_neg (fun z => ?_)).trans (if_neg c).symm
    by_cases e : x = i
    · subst e; exact h z.2
    · exact c ⟨by omega, z.2⟩
theorem td_dc_t {i : Nat} (hk : K i ≠ 0) (hn : N i = p) : td_dc K N p (i + 1) = td_dc K N p i + 1 := td_ct_t (decide_eq_true ⟨hk, hn⟩)
theorem td_dc_f {i : Nat} (h : ¬ (K i ≠ 0 ∧ N i = p)) : td_dc K N p (i + 1) = td_dc K N p i := td_ct_f (decide_eq_false h)
theorem tx_du19 {post : Int32 → SX → Prop} (hT : T ≤ 16)
    (H0 : td_dc K N p T = 0 → post 0 (nI T, nI U, nI G, nI E, ln, ec, td_dr K N p T K, A, N, td_dr K N p T C, nm, tg, re, bo, cl, nc, ni, lo, si))
    (H1 : td_dc K N p T ≠ 0 → post (nI (td_dc K N p T)) (nI T, nI U, nI G, nI E, 0, ec, td_dr K N p T K, A, N, td_dr K N p T C, nm, tg, re, bo, cl, nc, ni, lo, si)) :
    ∀ n i, i ≤ T → T < i + n → wX_dropUnit_19 post p (nI T) (nI U) (nI G) (nI E) ln ec n (nI (td_dc K N p i)) (nI i) (td_dr K N p i K) A N (td_dr K N p i C) nm tg re bo cl nc ni lo si := by
  intro n
  induction n with
  | zero => intro i _ _; omega
  | succ n ih =>
    intro i hi hn
    by_cases ei : i = T
    · subst ei
      have hd : td_dc K N p i ≤ i := td_ct_le _ i
      refine br_t (nI_le (Nat.le_refl i) (by omega)) ?_
      by_cases c : td_dc K N p i = 0
      · have H := H0 c
        rw [c]
        exact br_t (by decide) H
      · exact br_f (nI_nle (by omega) (by omega)) (H1 c)
    · have v := vp_in_nI (n := i) (N := 16) (by omega) (by omega)
      have ih' := ih (i + 1) (by omega) (by omega)
      refine br_f (nI_ge (by omega) (by omega)) (And.intro v ?_)
      rw [nI_clamp (n := i) (by omega), td_dr_i]
      refine br_c (fun z => ?_) (fun z => ⟨v, br_c (fun z1 => ⟨v, ?_⟩) (fun z1 => ?_)⟩)
      · have c : ¬ (K i ≠ 0 ∧ N i = p) := fun w => w.1 z
        rw [td_dr_f c, td_dr_f c, td_dc_f c] at ih'
        exact nm_r (nI_1 i) ih'
      · rw [← td_dr_t z z1, ← td_dr_t z z1, td_dc_t z z1] at ih'
        exact nm_e ⟨v, nm_e (nm_r (nI_1 _) (nm_r (nI_1 i) ih'))⟩
      · have c : ¬ (K i ≠ 0 ∧ N i = p) := fun w => z1 w.2
        rw [td_dr_f c, td_dr_f c, td_dc_f c] at ih'
        exact nm_r (nI_1 i) ih'
theorem ty_du19 {post : Int32 → SY → Prop} (hy : td_By K C us kk cc)
    (H0 : td_dc K N p 16 = 0 → post 0 (nI T, nI U, nI G, nI E, pr, td_dr K N p 16 us, kk, A, N, cc, nm, tg, sm, bn))
    (H1 : td_dc K N p 16 ≠ 0 → post (nI (td_dc K N p 16)) (nI T, nI U, nI G, nI E, 0, td_dr K N p 16 us, kk, A, N, cc, nm, tg, sm, bn)) :
    ∀ n i pr', i ≤ 16 → 16 < i + n → ((td_dc K N p i = 0 ∧ pr' = pr) ∨ (td_dc K N p i ≠ 0 ∧ pr' = 0)) →
      wY_dropUnit_19 post p (nI T) (nI U) (nI G) (nI E) n (nI (td_dc K N p i)) (nI i) pr' (td_dr K N p i us) kk A N cc nm tg sm bn := by
  intro n
  induction n with
  | zero => intro i pr' _ _; omega
  | succ n ih =>
    intro i pr' hi hn hq
    by_cases ei : i = 16
    · subst ei
      refine br_t (nI_le (a := 16) (Nat.le_refl 16) (by omega)) ?_
      rcases hq with hq | hq
      · have H := H0 hq.1
        rw [hq.1, hq.2]
        exact H
      · have H := H1 hq.1
        rw [hq.2]
        exact H
    · have v := vp_in_nI (n := i) (N := 16) (by omega) (by omega)
      refine br_f (nI_ge (b := 16) (by omega) (by omega)) (And.intro v ?_)
      rw [nI_clamp (n := i) (by omega), td_dr_i]
      by_cases z : K i = 0
      · have c : ¬ (K i ≠ 0 ∧ N i = p) := fun w => w.1 z
        have ih' := ih (i + 1) pr' (by omega) (by omega)
        rw [td_dr_f c, td_dc_f c] at ih'
        exact br_t (tb_us0 hy z) (nm_r (nI_1 i) (ih' hq))
      · refine br_f (tb_us1 hy z).1 ⟨v, br_c (fun z1 => ⟨v, ?_⟩) (fun z1 => ?_)⟩
        · have ih' := ih (i + 1) 0 (by omega) (by omega)
          rw [← td_dr_t z z1, td_dc_t z z1] at ih'
          rw [td_v0]
          exact nm_e (nm_r (nI_1 _) (nm_r (nI_1 i) (ih' (Or.inr ⟨by omega, rfl⟩))))
        · have c : ¬ (K i ≠ 0 ∧ N i = p) := fun w => z1 w.2
          have ih' := ih (i + 1) pr' (by omega) (by omega)
          rw [td_dr_f c, td_dc_f c] at ih'
          exact nm_r (nI_1 i) (ih' hq)
theorem td_du_Bx (h : td_Bx T U G E K A N C tg) {i : Nat} (hi : T ≤ i) : td_Bx T U G E (td_dr K N p i K) A N (td_dr K N p i C) tg := by
  refine ⟨h.1, fun x => ?_⟩
  rcases h.2 x with z | z
  · have c : ¬ (K x ≠ 0 ∧ N x = p) := fun w => w.1 z.1
    rw [td_dr_n c, td_dr_n c]
    exact Or.inl z
  · by_cases c : N x = p
    · have hx := tb_lt h z.1
      rw [td_dr_y (by omega) z.1 c, td_dr_y (by omega) z.1 c]
      exact Or.inl ⟨rfl, rfl⟩
    · have c' : ¬ (K x ≠ 0 ∧ N x = p) := fun w => c w.2
      obtain ⟨z1, z2, z3, z4, γ, z5, z6, z7⟩ := z
      refine Or.inr ⟨by rw [td_dr_n c']; exact z1, z2, by rw [td_dr_n c']; exact z3, by rw [td_dr_n c']; exact z4, γ, z5, by rw [td_dr_n c']; exact z6, fun j hj => ?_⟩
      obtain ⟨t, t1, t2, t3⟩ := z7 j hj
      refine ⟨t, t1, ?_, t3⟩
      rw [td_dr_n (fun w => c (t3.symm.trans w.2))]
      exact t2
theorem td_du_By (h : td_Bx T U G E K A N C tg) (hy : td_By K C us kk cc) {i : Nat} (hi : T ≤ i) : td_By (td_dr K N p i K) (td_dr K N p i C) (td_dr K N p i us) kk cc := by
  intro x
  by_cases c : K x ≠ 0 ∧ N x = p
  · have hx := tb_lt h c.1
    rw [td_dr_y (by omega) c.1 c.2, td_dr_y (by omega) c.1 c.2]
    exact Or.inl ⟨rfl, rfl⟩
  · rw [td_dr_n c, td_dr_n c, td_dr_n c]
    exact hy x
theorem td_dr_T (h : td_Bx T U G E K A N C tg) : td_dr K N p T F = td_dr K N p 16 F := by
  funext x
  by_cases c : K x ≠ 0 ∧ N x = p
  · have hx := tb_lt h c.1
    rw [td_dr_y hx c.1 c.2, td_dr_y (tb_l16 h c.1) c.1 c.2]
  · rw [td_dr_n c, td_dr_n c]
theorem td_dc_T (h : td_Bx T U G E K A N C tg) : td_dc K N p 16 = td_dc K N p T :=
  td_ct_z 16 (tb_T h) (fun y hy => decide_eq_false (fun w => by have := tb_lt h w.1; omega))
theorem td_dr_c0 (h : td_Bx T U G E K A N C tg) (hc : td_dc K N p 16 = 0) : td_dr K N p 16 F = F := by
  funext x
  refine td_dr_n (fun c => ?_)
  have hx := tb_l16 h c.1
  have := td_ct_st (p := fun x => decide (K x ≠ 0 ∧ N x = p)) hx (decide_eq_true c)
  have hc' : td_ct (fun x => decide (K x ≠ 0 ∧ N x = p)) 16 = 0 := hc
  omega
end
theorem i_vc_dropUnit {k : Nat} {u : SX} {v : SY} (I : i_Rel k u v) (hk : k + 4 ≤ 2052) (v1 : Int32) : wpX_dropUnit (fun r u' => wpY_dropUnit (fun r' v' => r' = r ∧ i_Rel (k + 4) u' v') v v1) u v1 := by
  refine td_el (P := fun u v => wpX_dropUnit (fun r u' => wpY_dropUnit (fun r' v' => r' = r ∧ i_Rel (k + 4) u' v') v v1) u v1) ?_ I
  intro T U G E ln ec pr K A N C nm tg re bo cl nc ni lo si us kk cc sm bn h hy hl
  have hT := tb_T h
  refine br_c (fun z => br_t z ⟨rfl, td_mk h hy hl⟩) (fun z0 => ?_)
  refine br_c (fun z1 => ?_) (fun z1 => br_f z0 (br_f z1 ⟨rfl, td_mk h hy hl⟩))
  have g : ∀ F, td_dr K N v1 T F = td_dr K N v1 16 F := fun F => td_dr_T h
  refine Exists.intro (T + 1) ?_
  have X := fun post H0 H1 => tx_du19 (post := post) (p := v1) (U := U) (G := G) (E := E) (ln := ln) (ec := ec) (K := K) (A := A) (N := N) (C := C) (nm := nm) (tg := tg) (re := re) (bo := bo) (cl := cl) (nc := nc) (ni := ni) (lo := lo) (si := si) hT H0 H1 (T + 1) 0 (Nat.zero_le T) (by omega)
  rw [td_dr_0, td_dr_0] at X
  refine X _ (fun c => ?_) (fun c => ?_)
  · refine br_f z0 (br_t z1 (Exists.intro 17 ?_))
    have Y := fun post H0 H1 => ty_du19 (post := post) (p := v1) (T := T) (U := U) (G := G) (E := E) (pr := pr) (K := K) (C := C) (N := N) (us := us) (kk := kk) (A := A) (cc := cc) (nm := nm) (tg := tg) (sm := sm) (bn := bn) hy H0 H1 17 0 pr (Nat.zero_le 16) (by omega) (Or.inl ⟨rfl, rfl⟩)
    rw [td_dr_0] at Y
    have c16 : td_dc K N v1 16 = 0 := (td_dc_T h).trans c
    refine Y _ (fun _ => ⟨rfl, ?_⟩) (fun d => absurd c16 d)
    rw [g, g, td_dr_c0 h c16, td_dr_c0 h c16, td_dr_c0 h c16]
    exact td_mk h hy hl
  · refine br_f z0 (br_t z1 (Exists.intro 17 ?_))
    have Y := fun post H0 H1 => ty_du19 (post := post) (p := v1) (T := T) (U := U) (G := G) (E := E) (pr := pr) (K := K) (C := C) (N := N) (us := us) (kk := kk) (A := A) (cc := cc) (nm := nm) (tg := tg) (sm := sm) (bn := bn) hy H0 H1 17 0 pr (Nat.zero_le 16) (by omega) (Or.inl ⟨rfl, rfl⟩)
    rw [td_dr_0] at Y
    refine Y _ (fun d => absurd ((td_dc_T h).symm.trans d) c) (fun _ => ⟨congrArg nI (td_dc_T h), ?_⟩)
    rw [g, g]
    exact td_mk (td_du_Bx h hT) (td_du_By h hy hT) (Or.inl ⟨rfl, rfl⟩)
end
section
/-! the queries of both sides -/
/-- p, i name no edge -/
def td_nE (K C : Nat → Int32) (p i : Int32) : Prop := td_no K p ∨ ∃ j, p = nI j ∧ K j ≠ 0 ∧ (i < 0 ∨ (¬ i < 0 ∧ C j ≤ i))
section
variable {T U G E : Nat} {ln ec pr : Int32} {K A N C nm tg re bo cl nc ni lo si us kk cc sm bn : Nat → Int32} {R : Nat → Bool}
theorem td_edge (h : td_Bx T U G E K A N C tg) (p i : Int32) :
    (∃ j e γ : Nat, K j ≠ 0 ∧ p = nI j ∧ i = nI e ∧ C j = nI γ ∧ e < γ ∧ γ ≤ 4) ∨ td_nE K C p i := by
  rcases td_arg h p with ⟨j, kj, ej⟩ | hn
  · obtain ⟨γ, g1, g2, _⟩ := tb_c h j
    by_cases c : i < 0
    · exact Or.inr (Or.inr ⟨j, ej, kj, Or.inl c⟩)
    · by_cases d : C j ≤ i
      · exact Or.inr (Or.inr ⟨j, ej, kj, Or.inr ⟨c, d⟩⟩)
      · obtain ⟨e, he, ee⟩ := nI_of c
        rw [g2, ee, nI_leI (by omega) he] at d
        exact Or.inl ⟨j, e, γ, kj, ej, ee, g2, by omega, g1⟩
  · exact Or.inr (Or.inl hn)
theorem td_nE_m1 {i : Int32} : td_nE K C (-1) i := Or.inl td_no_m1
theorem tx_he_t {post : Int32 → Prop} (h : td_Bx T U G E K A N C tg) {j e γ : Nat} (kj : K j ≠ 0) (hc : C j = nI γ) (he : e < γ) (hγ : γ ≤ 4) (hp : post 1) : wpX_hasEdge post (nI T, nI U, nI G, nI E, ln, ec, K, A, N, C, nm, tg, re, bo, cl, nc, ni, lo, si) (nI j) (nI e) := by
  have j16 := tb_l16 h kj
  unfold wpX_hasEdge
  refine tx_use_t h kj (br_f td_10 (br_f (nI_pos (by omega)) ⟨vp_in_nI j16 (by omega), ?_⟩))
  rw [nI_clamp (n := j) (by omega), hc]
  exact br_f (nI_ge he (by omega)) hp
theorem tx_he_f {post : Int32 → Prop} (h : td_Bx T U G E K A N C tg) {p i : Int32} (hn : td_nE K C p i) (hp : post 0) : wpX_hasEdge post (nI T, nI U, nI G, nI E, ln, ec, K, A, N, C, nm, tg, re, bo, cl, nc, ni, lo, si) p i := by
  unfold wpX_hasEdge
  rcases hn with hn | ⟨j, e, kj, c⟩
  · exact tx_use_f h hn (br_t rfl hp)
  · subst e
    have j16 := tb_l16 h kj
    refine tx_use_t h kj (br_f td_10 ?_)
    rcases c with c | c
    · exact br_t c hp
    · refine br_f c.1 ⟨vp_in_nI j16 (by omega), ?_⟩
      rw [nI_clamp (n := j) (by omega)]
      exact br_t c.2 hp
theorem ty_he_t {post : Int32 → Prop} (h : td_Bx T U G E K A N C tg) (hy : td_By K C us kk cc) {j e γ : Nat} (kj : K j ≠ 0) (hc : C j = nI γ) (he : e < γ) (hγ : γ ≤ 4) (hp : post 1) : wpY_hasEdge post (nI T, nI U, nI G, nI E, pr, us, kk, A, N, cc, nm, tg, sm, bn) (nI j) (nI e) := by
  have j16 := tb_l16 h kj
  unfold wpY_hasEdge
  refine ty_use_t h hy kj (br_f td_10 (br_f (nI_pos (by omega)) ⟨vp_in_nI j16 (by omega), ?_⟩))
  rw [nI_clamp (n := j) (by omega), (tb_us1 hy kj).2.2, hc]
  exact br_f (nI_ge he (by omega)) hp
theorem ty_he_f {post : Int32 → Prop} (h : td_Bx T U G E K A N C tg) (hy : td_By K C us kk cc) {p i : Int32} (hn : td_nE K C p i) (hp : post 0) : wpY_hasEdge post (nI T, nI U, nI G, nI E, pr, us, kk, A, N, cc, nm, tg, sm, bn) p i := by
  unfold wpY_hasEdge
  rcases hn with hn | ⟨j, e, kj, c⟩
  · exact ty_use_f hy hn (br_t rfl hp)
  · subst e
    have j16 := tb_l16 h kj
    refine ty_use_t h hy kj (br_f td_10 ?_)
    rcases c with c | c
    · exact br_t c hp
    · refine br_f c.1 ⟨vp_in_nI j16 (by omega), ?_⟩
      rw [nI_clamp (n := j) (by omega), (tb_us1 hy kj).2.2]
      exact br_t c.2 hp
theorem ty_on_t {post : Int32 → Prop} (h : td_Bx T U G E K A N C tg) (hy : td_By K C us kk cc) {j e γ : Nat} (kj : K j ≠ 0) (hc : C j = nI γ) (he : e < γ) (hγ : γ ≤ 4) (hp : post (nm (j * 4 + e))) : wpY_oldName post (nI T, nI U, nI G, nI E, pr, us, kk, A, N, cc, nm, tg, sm, bn) (nI j) (nI e) := by
  have j16 := tb_l16 h kj
  unfold wpY_oldName
  refine ty_he_t h hy kj hc he hγ (br_f td_10 ?_)
  rw [td_m4, nI_clamp (n := j * 4 + e) (by omega)]
  exact ⟨vp_in_nI (by omega) (by omega), hp⟩
theorem ty_on_f {post : Int32 → Prop} (h : td_Bx T U G E K A N C tg) (hy : td_By K C us kk cc) {p i : Int32} (hn : td_nE K C p i) (hp : post (-1)) : wpY_oldName post (nI T, nI U, nI G, nI E, pr, us, kk, A, N, cc, nm, tg, sm, bn) p i := by
  unfold wpY_oldName
  exact ty_he_f h hy hn (br_t rfl hp)
theorem ty_ot_t {post : Int32 → Prop} (h : td_Bx T U G E K A N C tg) (hy : td_By K C us kk cc) {j e γ : Nat} (kj : K j ≠ 0) (hc : C j = nI γ) (he : e < γ) (hγ : γ ≤ 4) (hp : post (tg (j * 4 + e))) : wpY_oldTarget post (nI T, nI U, nI G, nI E, pr, us, kk, A, N, cc, nm, tg, sm, bn) (nI j) (nI e) := by
  have j16 := tb_l16 h kj
  unfold wpY_oldTarget
  refine ty_he_t h hy kj hc he hγ (br_f td_10 ?_)
  rw [td_m4, nI_clamp (n := j * 4 + e) (by omega)]
  exact ⟨vp_in_nI (by omega) (by omega), hp⟩
theorem ty_ot_f {post : Int32 → Prop} (h : td_Bx T U G E K A N C tg) (hy : td_By K C us kk cc) {p i : Int32} (hn : td_nE K C p i) (hp : post (-1)) : wpY_oldTarget post (nI T, nI U, nI G, nI E, pr, us, kk, A, N, cc, nm, tg, sm, bn) p i := by
  unfold wpY_oldTarget
  exact ty_he_f h hy hn (br_t rfl hp)

/-- the first four fields of a type -/
def td_of (K A N C : Nat → Int32) (j i : Nat) : Int32 := if i = 0 then K j else if i = 1 then A j else if i = 2 then C j else N j
theorem tx_of {post : Int32 → Prop} (h : td_Bx T U G E K A N C tg) {j i : Nat} (kj : K j ≠ 0) (hi : i < 4) (hp : post (td_of K A N C j i)) : wpX_oldField post (nI T, nI U, nI G, nI E, ln, ec, K, A, N, C, nm, tg, re, bo, cl, nc, ni, lo, si) (nI j) (nI i) := by
  have j16 := tb_l16 h kj
  have v := vp_in_nI (n := j) (N := 16) j16 (by omega)
  unfold wpX_oldField
  refine tx_use_t h kj (br_f td_10 ?_)
  rw [nI_clamp (n := j) (by omega)]
  rcases (by omega : i = 0 ∨ i = 1 ∨ i = 2 ∨ i = 3) with e | e | e | e <;> subst e
  · exact br_f (by decide) (br_f (by decide) (br_t (by decide) ⟨v, hp⟩))
  · exact br_f (by decide) (br_f (by decide) (br_f (by decide) (br_t (by decide) ⟨v, hp⟩)))
  · exact br_f (by decide) (br_f (by decide) (br_f (by decide) (br_f (by decide) (br_t (by decide) ⟨v, hp⟩))))
  · exact br_f (by decide) (br_f (by decide) (br_f (by decide) (br_f (by decide) (br_f (by decide) (br_t (by decide) ⟨v, hp⟩)))))
theorem ty_of {post : Int32 → Prop} (h : td_Bx T U G E K A N C tg) (hy : td_By K C us kk cc) {j i : Nat} (kj : K j ≠ 0) (hi : i < 4) (hp : post (td_of K A N C j i)) : wpY_oldField post (nI T, nI U, nI G, nI E, pr, us, kk, A, N, cc, nm, tg, sm, bn) (nI j) (nI i) := by
  have j16 := tb_l16 h kj
  have v := vp_in_nI (n := j) (N := 16) j16 (by omega)
  unfold wpY_oldField
  refine ty_use_t h hy kj (br_f td_10 ?_)
  rw [nI_clamp (n := j) (by omega), (tb_us1 hy kj).2.1, (tb_us1 hy kj).2.2]
  rcases (by omega : i = 0 ∨ i = 1 ∨ i = 2 ∨ i = 3) with e | e | e | e <;> subst e
  · exact br_f (by decide) (br_t (by decide) (br_t (by decide) ⟨v, hp⟩))
  · exact br_f (by decide) (br_t (by decide) (br_f (by decide) (br_t (by decide) ⟨v, hp⟩)))
  · exact br_f (by decide) (br_t (by decide) (br_f (by decide) (br_f (by decide) (br_t (by decide) ⟨v, hp⟩))))
  · exact br_f (by decide) (br_t (by decide) (br_f (by decide) (br_f (by decide) (br_f (by decide) ⟨v, hp⟩))))

theorem ty_map {post : Int32 → Prop} (h : td_Bx T U G E K A N C tg) (hy : td_By K C us kk cc) (hpr : ¬ pr = 0) {x : Nat} (kx : K x ≠ 0)
    (hp : post (nI (td_fb K (td_qs K sm) (td_fo (td_qs K sm) x)))) : wpY_mapOf post (nI T, nI U, nI G, nI E, pr, us, kk, A, N, cc, nm, tg, sm, bn) (nI x) := by
  have hx := tb_l16 h kx
  have hf := td_fo_l (q := td_qs K sm) hx
  refine br_f hpr (ty_fo h hy kx (ty_use_t h hy kx (br_f td_10 (ty_fb h hy (by omega) hp))))
theorem ty_map_n {post : Int32 → Prop} (hy : td_By K C us kk cc) (hpr : ¬ pr = 0) {p : Int32} (hn : td_no K p) (hp : post (-1)) : wpY_mapOf post (nI T, nI U, nI G, nI E, pr, us, kk, A, N, cc, nm, tg, sm, bn) p :=
  br_f hpr (ty_fo_n hy hn (ty_use_f hy hn (br_t rfl hp)))

/-- an entry's body -/
theorem tx_eb_t {post : Int32 → Prop} (h : td_Bx T U G E K A N C tg) (L : td_LX G K A C nm tg R ec re bo ni lo si) {z : Nat}
    (fz : td_isf K (td_qb K A C nm tg (td_bd K A R)) z = true) (hp : post (nI (td_bd K A R z))) :
    wpX_entryBody post (nI T, nI U, nI G, nI E, ln, ec, K, A, N, C, nm, tg, re, bo, cl, nc, ni, lo, si) (nI (td_fb K (td_qb K A C nm tg (td_bd K A R)) z)) := by
  have kz := (of_decide_eq_true fz).1
  have z16 := tb_l16 h kz
  have hl := (L.2.2.2.2 z fz).1
  have hb := L.2.1 z kz
  have he := L.2.2.1
  have l1 : td_fb K (td_qb K A C nm tg (td_bd K A R)) z < td_fb K (td_qb K A C nm tg (td_bd K A R)) 16 := td_ct_st z16 fz
  have l2 : td_fb K (td_qb K A C nm tg (td_bd K A R)) 16 ≤ 16 := td_ct_le _ 16
  generalize td_fb K (td_qb K A C nm tg (td_bd K A R)) z = m at *
  generalize td_fb K (td_qb K A C nm tg (td_bd K A R)) 16 = M at *
  refine br_f (nI_pos (by omega)) (br_f (by rw [he]; exact nI_ge l1 (by omega)) ⟨vp_in_nI (by omega) (by omega), ?_⟩)
  rw [nI_clamp (n := m) (by omega), hl, nI_clamp (n := z) (by omega), hb]
  exact ⟨vp_in_nI (by omega) (by omega), hp⟩
theorem tx_eb_f {post : Int32 → Prop} (L : td_LX G K A C nm tg R ec re bo ni lo si) {p : Int32}
    (hn : ∀ z, td_isf K (td_qb K A C nm tg (td_bd K A R)) z = true → ¬ nI (td_fb K (td_qb K A C nm tg (td_bd K A R)) z) = p) (hp : post (-1)) :
    wpX_entryBody post (nI T, nI U, nI G, nI E, ln, ec, K, A, N, C, nm, tg, re, bo, cl, nc, ni, lo, si) p := by
  refine br_c (fun _ => hp) (fun h0 => ?_)
  refine br_c (fun _ => hp) (fun h1 => ?_)
  obtain ⟨m, hm, e⟩ := nI_of h0
  subst e
  have l2 : td_fb K (td_qb K A C nm tg (td_bd K A R)) 16 ≤ 16 := td_ct_le _ 16
  rw [L.2.2.1, nI_leI (by omega) hm] at h1
  have h1' : m < td_ct (td_isf K (td_qb K A C nm tg (td_bd K A R))) 16 := Nat.lt_of_not_le h1
  obtain ⟨z, _, fz, ez⟩ := td_ct_ex 16 m h1'
  exact absurd (congrArg nI ez) (hn z fz)
theorem td_ent (q : Nat → Nat → Bool) (p : Int32) : (∃ z, td_isf K q z = true ∧ nI (td_fb K q z) = p) ∨ (∀ z, td_isf K q z = true → ¬ nI (td_fb K q z) = p) := by
  by_cases e : ∃ z, td_isf K q z = true ∧ nI (td_fb K q z) = p
  · exact Or.inl e
  · exact Or.inr (fun z fz ez => e ⟨z, fz, ez⟩)
theorem td_fb_inj {q : Nat → Nat → Bool} (h : td_Bx T U G E K A N C tg) {y z : Nat} (fy : td_isf K q y = true) (fz : td_isf K q z = true) (e : nI (td_fb K q y) = nI (td_fb K q z)) : y = z := by
  have y16 := tb_l16 h (of_decide_eq_true fy).1
  have z16 := tb_l16 h (of_decide_eq_true fz).1
  have l1 : td_fb K q y ≤ y := td_ct_le _ y
  have l2 : td_fb K q z ≤ z := td_ct_le _ z
  rw [nI_eq (by omega) (by omega)] at e
  exact td_ct_inj fy fz e
/-- the reference's lowest type of an entry, the tables being right -/
theorem ty_lo_t {post : Int32 → Prop} (h : td_Bx T U G E K A N C tg) (hy : td_By K C us kk cc) (L : td_LY G K A C nm tg R sm bn) {z : Nat}
    (fz : td_isf K (td_qb K A C nm tg (td_bd K A R)) z = true) (hp : post (nI z)) :
    wpY_lowestOf post (nI T, nI U, nI G, nI E, pr, us, kk, A, N, cc, nm, tg, sm, bn) (nI (td_fb K (td_qb K A C nm tg (td_bd K A R)) z)) := by
  have g : ∀ y, td_isf K (td_qs K sm) y = true → td_isf K (td_qb K A C nm tg (td_bd K A R)) y = true ∧ td_fb K (td_qs K sm) y = td_fb K (td_qb K A C nm tg (td_bd K A R)) y := fun y fy => by
    have y16 := tb_l16 h (of_decide_eq_true fy).1
    rw [← td_isf_q L.2 y16, td_fb_q L.2 (by omega)]
    exact ⟨fy, rfl⟩
  refine ty_lo h hy (fun y fy ey => ?_) (fun hn => ?_)
  · rw [(g y fy).2] at ey
    rw [td_fb_inj h (g y fy).1 fz ey]
    exact hp
  · have z16 := tb_l16 h (of_decide_eq_true fz).1
    exact absurd (by rw [td_fb_q L.2 (by omega)]) (hn z (by rw [td_isf_q L.2 z16]; exact fz))
theorem ty_lo_f {post : Int32 → Prop} (h : td_Bx T U G E K A N C tg) (hy : td_By K C us kk cc) (L : td_LY G K A C nm tg R sm bn) {p : Int32}
    (hn : ∀ z, td_isf K (td_qb K A C nm tg (td_bd K A R)) z = true → ¬ nI (td_fb K (td_qb K A C nm tg (td_bd K A R)) z) = p) (hp : post (-1)) : wpY_lowestOf post (nI T, nI U, nI G, nI E, pr, us, kk, A, N, cc, nm, tg, sm, bn) p := by
  refine ty_lo h hy (fun y fy ey => ?_) (fun _ => hp)
  have y16 := tb_l16 h (of_decide_eq_true fy).1
  rw [td_isf_q L.2 y16] at fy
  rw [td_fb_q L.2 (by omega)] at ey
  exact absurd ey (hn y fy)
end
end
section
/-! structEntries and the size of an entry -/
section
variable {T U G E : Nat} {ln ec pr : Int32} {K A N C nm tg re bo cl nc ni lo si us kk cc sm bn : Nat → Int32} {R : Nat → Bool} {q : Nat → Nat → Bool}
/-- a first type whose body is a struct of the tag -/
def td_se (K A : Nat → Int32) (R : Nat → Bool) (q : Nat → Nat → Bool) (a : Int32) (z : Nat) : Bool :=
  td_isf K q z && decide (K (td_bd K A R z) = 6 ∧ A (td_bd K A R z) = a)
/-- entry m's body is a struct of the tag -/
def td_sx (K A lo bo : Nat → Int32) (a : Int32) (m : Nat) : Bool :=
  decide (K (bo (lo m).toNatClampNeg).toNatClampNeg = 6 ∧ A (bo (lo m).toNatClampNeg).toNatClampNeg = a)
theorem td_se_n {a : Int32} {z : Nat} (h : td_isf K q z = false) : td_se K A R q a z = false := by unfold td_se; rw [h, Bool.false_and]
theorem td_se_y {a : Int32} {z : Nat} (h : td_isf K q z = true) : td_se K A R q a z = decide (K (td_bd K A R z) = 6 ∧ A (td_bd K A R z) = a) := by unfold td_se; rw [h, Bool.true_and]
theorem td_sx_e (h : td_Bx T U G E K A N C tg) (L : td_LX G K A C nm tg R ec re bo ni lo si) {a : Int32} {z : Nat}
    (fz : td_isf K (td_qb K A C nm tg (td_bd K A R)) z = true) :
    td_sx K A lo bo a (td_fb K (td_qb K A C nm tg (td_bd K A R)) z) = td_se K A R (td_qb K A C nm tg (td_bd K A R)) a z := by
  have kz := (of_decide_eq_true fz).1
  have z16 := tb_l16 h kz
  have b16 := tb_l16 h (td_bd_u (R := R) h kz)
  rw [td_se_y fz]
  unfold td_sx
  rw [(L.2.2.2.2 z fz).1, nI_clamp (n := z) (by omega), L.2.1 z kz, nI_clamp (n := td_bd K A R z) (by omega)]
theorem td_sx_ct (h : td_Bx T U G E K A N C tg) (L : td_LX G K A C nm tg R ec re bo ni lo si) {a : Int32} : ∀ n,
    td_ct (td_sx K A lo bo a) (td_fb K (td_qb K A C nm tg (td_bd K A R)) n) = td_ct (td_se K A R (td_qb K A C nm tg (td_bd K A R)) a) n := by
  intro n
  induction n with
  | zero => rfl
  | succ n ih =>
    by_cases f : td_isf K (td_qb K A C nm tg (td_bd K A R)) n = true
    · rw [td_fb_t f]
      have e := td_sx_e (a := a) h L f
      by_cases s : td_se K A R (td_qb K A C nm tg (td_bd K A R)) a n = true
      · rw [td_ct_t (e.trans s), td_ct_t s, ih]
      · rw [td_ct_f (e.trans (td_bf s)), td_ct_f (td_bf s), ih]
    · rw [td_fb_f (td_bf f), td_ct_f (td_se_n (td_bf f)), ih]
theorem tx_se29 {post : Int32 → Prop} (h : td_Bx T U G E K A N C tg) (L : td_LX G K A C nm tg R ec re bo ni lo si) {a : Int32}
    (hp : post (nI (td_ct (td_se K A R (td_qb K A C nm tg (td_bd K A R)) a) 16))) :
    ∀ n m, m ≤ td_fb K (td_qb K A C nm tg (td_bd K A R)) 16 → td_fb K (td_qb K A C nm tg (td_bd K A R)) 16 < m + n →
      wX_structEntries_29 post a (nI T) (nI U) (nI G) (nI E) ln ec K A N C nm tg re bo cl nc ni lo si n (nI (td_ct (td_sx K A lo bo a) m)) (nI m) := by
  have l2 : td_fb K (td_qb K A C nm tg (td_bd K A R)) 16 ≤ 16 := td_ct_le _ 16
  intro n
  induction n with
  | zero => intro m _ _; omega
  | succ n ih =>
    intro m hm hn
    by_cases e : m = td_fb K (td_qb K A C nm tg (td_bd K A R)) 16
    · refine br_t (by rw [L.2.2.1]; exact nI_le (Nat.le_of_eq e.symm) (by omega)) ?_
      rw [e, td_sx_ct h L]
      exact hp
    · have hm' : m < td_ct (td_isf K (td_qb K A C nm tg (td_bd K A R))) 16 := Nat.lt_of_le_of_ne hm e
      obtain ⟨z, _, fz, ez⟩ := td_ct_ex 16 m hm'
      have ez' : td_fb K (td_qb K A C nm tg (td_bd K A R)) z = m := ez
      have kz := (of_decide_eq_true fz).1
      have z16 := tb_l16 h kz
      have b16 := tb_l16 h (td_bd_u (R := R) h kz)
      have hl := (L.2.2.2.2 z fz).1
      rw [ez'] at hl
      have ih' := ih (m + 1) hm' (by omega)
      have es := td_sx_e (a := a) h L fz
      rw [ez', td_se_y fz] at es
      refine br_f (by rw [L.2.2.1]; exact nI_ge hm' (by omega)) (And.intro (vp_in_nI (by omega) (by omega)) ?_)
      rw [nI_clamp (n := m) (by omega), hl, nI_clamp (n := z) (by omega)]
      refine ⟨vp_in_nI (by omega) (by omega), nm_r (L.2.1 z kz) ?_⟩
      by_cases s : K (td_bd K A R z) = 6 ∧ A (td_bd K A R z) = a
      · rw [td_ct_t (es.trans (decide_eq_true s))] at ih'
        exact tx_is_t b16 s.1 s.2 (br_f td_10 (nm_r (nI_1 _) (nm_r (nI_1 m) ih')))
      · rw [td_ct_f (es.trans (decide_eq_false s))] at ih'
        exact tx_is_f b16 s (br_t rfl (nm_r (nI_1 m) ih'))
theorem ty_se29 {post : Int32 → Prop} (h : td_Bx T U G E K A N C tg) (hy : td_By K C us kk cc) (L : td_LY G K A C nm tg R sm bn) {a : Int32}
    (hp : post (nI (td_ct (td_se K A R (td_qb K A C nm tg (td_bd K A R)) a) 16))) :
    ∀ n i, i ≤ 16 → 16 < i + n → wY_structEntries_29 post a (nI T) (nI U) (nI G) (nI E) pr us kk A N cc nm tg sm bn n (nI (td_ct (td_se K A R (td_qb K A C nm tg (td_bd K A R)) a) i)) (nI i) := by
  intro n
  induction n with
  | zero => intro i _ _; omega
  | succ n ih =>
    intro i hi hn
    by_cases e : i = 16
    · subst e
      exact br_t (nI_le (a := 16) (Nat.le_refl 16) (by omega)) hp
    · have i16 : i < 16 := by omega
      have ih' := ih (i + 1) (by omega) (by omega)
      refine br_f (nI_ge (b := 16) i16 (by omega)) ?_
      by_cases f : td_isf K (td_qb K A C nm tg (td_bd K A R)) i = true
      · have ki := (of_decide_eq_true f).1
        have b16 := tb_l16 h (td_bd_u (R := R) h ki)
        refine ty_body h hy L.1 ki (ty_if_t h hy (by rw [td_isf_q L.2 i16]; exact f) (br_f td_10 ?_))
        by_cases s : K (td_bd K A R i) = 6 ∧ A (td_bd K A R i) = a
        · rw [td_ct_t ((td_se_y f).trans (decide_eq_true s))] at ih'
          exact ty_is_t h hy s.1 s.2 (br_f td_10 (nm_r (nI_1 _) (nm_r (nI_1 i) ih')))
        · rw [td_ct_f ((td_se_y f).trans (decide_eq_false s))] at ih'
          exact ty_is_f h hy b16 s (br_t rfl (nm_r (nI_1 i) ih'))
      · rw [td_ct_f (td_se_n (td_bf f))] at ih'
        have g : ∀ r5 : Int32, wpY_isFirst (fun r_20 => (r_20 = 0 → ∀ x3_36 : Int32, x3_36 = nI i + 1 → wY_structEntries_29 post a (nI T) (nI U) (nI G) (nI E) pr us kk A N cc nm tg sm bn n (nI (td_ct (td_se K A R (td_qb K A C nm tg (td_bd K A R)) a) i)) x3_36) ∧
            (¬ r_20 = 0 → wpY_isStruct (fun r_37 => (r_37 = 0 → ∀ x3_53 : Int32, x3_53 = nI i + 1 → wY_structEntries_29 post a (nI T) (nI U) (nI G) (nI E) pr us kk A N cc nm tg sm bn n (nI (td_ct (td_se K A R (td_qb K A C nm tg (td_bd K A R)) a) i)) x3_53) ∧
              (¬ r_37 = 0 → ∀ x2_54 : Int32, x2_54 = nI (td_ct (td_se K A R (td_qb K A C nm tg (td_bd K A R)) a) i) + 1 → ∀ x3_55 : Int32, x3_55 = nI i + 1 → wY_structEntries_29 post a (nI T) (nI U) (nI G) (nI E) pr us kk A N cc nm tg sm bn n x2_54 x3_55)) (nI T, nI U, nI G, nI E, pr, us, kk, A, N, cc, nm, tg, sm, bn) r5 a)) (nI T, nI U, nI G, nI E, pr, us, kk, A, N, cc, nm, tg, sm, bn) (nI i) :=
          fun r5 => ty_if_f h hy i16 (by rw [td_isf_q L.2 i16]; exact td_bf f) (br_t rfl (nm_r (nI_1 i) ih'))
        by_cases ki : K i = 0
        · exact ty_body_n hy (td_no_nI i16 ki) (g _)
        · exact ty_body h hy L.1 ki (g _)

/-- the bisimilar types of a first one are those whose first it is -/
theorem td_cs_q (h : td_Bx T U G E K A N C tg) (L : td_LY G K A C nm tg R sm bn) {z : Nat} (fz : td_isf K (td_qb K A C nm tg (td_bd K A R)) z = true) :
    td_ct (fun y => decide (sm (z * 16 + y) ≠ 0)) 16 = td_cs K (td_qb K A C nm tg (td_bd K A R)) z 16 := by
  have hz := of_decide_eq_true fz
  have z16 := tb_l16 h hz.1
  refine td_ct_e (fun y y16 => td_beq ?_)
  rw [decide_eq_true_iff, decide_eq_true_iff, L.2 z y z16 y16]
  constructor
  · intro b
    exact ⟨(td_Bis_st b).2.1, (td_fo_e h b).symm.trans hz.2⟩
  · intro w
    have p := (td_fo_p (nm := nm) (R := R) h w.1).1
    rw [w.2] at p
    exact p
theorem ty_nf67 {post : Int32 → Prop} {z : Nat} (z16 : z < 16) (hp : post (nI (td_ct (fun y => decide (sm (z * 16 + y) ≠ 0)) 16))) :
    ∀ n i, i ≤ 16 → 16 < i + n → wY_newField_67 post (nI z) (nI T) (nI U) (nI G) (nI E) pr us kk A N cc nm tg sm bn n (nI (td_ct (fun y => decide (sm (z * 16 + y) ≠ 0)) i)) (nI i) := by
  intro n
  induction n with
  | zero => intro i _ _; omega
  | succ n ih =>
    intro i hi hn
    by_cases e : i = 16
    · subst e
      exact br_t (nI_le (a := 16) (Nat.le_refl 16) (by omega)) hp
    · have ih' := ih (i + 1) (by omega) (by omega)
      have v : vp_in (nI (z * 16 + i)) 256 := vp_in_nI (by omega) (by omega)
      refine br_f (nI_ge (b := 16) (by omega) (by omega)) ?_
      rw [td_m16, nI_clamp (n := z * 16 + i) (by omega)]
      refine ⟨v, br_c (fun s => ?_) (fun s => ?_)⟩
      · rw [td_ct_f (p := fun y => decide (sm (z * 16 + y) ≠ 0)) (decide_eq_false (fun w => w s))] at ih'
        exact nm_r (nI_1 i) ih'
      · rw [td_ct_t (p := fun y => decide (sm (z * 16 + y) ≠ 0)) (decide_eq_true s)] at ih'
        exact nm_r (nI_1 _) (nm_r (nI_1 i) ih')
end
end
section
/-! newField -/
section
variable {T U G E : Nat} {ln ec pr : Int32} {K A N C nm tg re bo cl nc ni lo si us kk cc sm bn : Nat → Int32} {R : Nat → Bool}
/-- the five fields of an entry whose lowest type is z, whose body is b and whose size is s -/
def td_nv (K A C : Nat → Int32) (z b s i : Nat) : Int32 := if i = 0 then K b else if i = 1 then A b else if i = 2 then C b else if i = 3 then nI z else nI s
theorem tx_nf {post : Int32 → Prop} (h : td_Bx T U G E K A N C tg) (L : td_LX G K A C nm tg R ec re bo ni lo si) (hln : ¬ ln = 0) {z i : Nat}
    (fz : td_isf K (td_qb K A C nm tg (td_bd K A R)) z = true) (hi : i < 5)
    (hp : post (td_nv K A C z (td_bd K A R z) (td_cs K (td_qb K A C nm tg (td_bd K A R)) z 16) i)) :
    wpX_newField post (nI T, nI U, nI G, nI E, ln, ec, K, A, N, C, nm, tg, re, bo, cl, nc, ni, lo, si) (nI (td_fb K (td_qb K A C nm tg (td_bd K A R)) z)) (nI i) := by
  have kz := (of_decide_eq_true fz).1
  have z16 := tb_l16 h kz
  have b16 := tb_l16 h (td_bd_u (R := R) h kz)
  have hL := L.2.2.2.2 z fz
  have m16 : td_fb K (td_qb K A C nm tg (td_bd K A R)) z ≤ z := td_ct_le _ z
  have vb := vp_in_nI (n := td_bd K A R z) (N := 16) b16 (by omega)
  have vm := vp_in_nI (n := td_fb K (td_qb K A C nm tg (td_bd K A R)) z) (N := 16) (by omega) (by omega)
  refine br_f hln (tx_eb_t h L fz (br_t (nI_pos' (by omega)) ?_))
  rw [nI_clamp (n := td_bd K A R z) (by omega), nI_clamp (n := td_fb K (td_qb K A C nm tg (td_bd K A R)) z) (by omega), hL.1, hL.2]
  rcases (by omega : i = 0 ∨ i = 1 ∨ i = 2 ∨ i = 3 ∨ i = 4) with e | e | e | e | e <;> subst e
  · exact br_f (by decide) (br_f (by decide) (br_t (by decide) ⟨vb, hp⟩))
  · exact br_f (by decide) (br_f (by decide) (br_f (by decide) (br_t (by decide) ⟨vb, hp⟩)))
  · exact br_f (by decide) (br_f (by decide) (br_f (by decide) (br_f (by decide) (br_t (by decide) ⟨vb, hp⟩))))
  · exact br_f (by decide) (br_f (by decide) (br_f (by decide) (br_f (by decide) (br_f (by decide) (br_t (by decide) ⟨vm, hp⟩)))))
  · exact br_f (by decide) (br_f (by decide) (br_f (by decide) (br_f (by decide) (br_f (by decide) (br_f (by decide) (br_t (by decide) ⟨vm, hp⟩))))))
theorem ty_nf {post : Int32 → Prop} (h : td_Bx T U G E K A N C tg) (hy : td_By K C us kk cc) (L : td_LY G K A C nm tg R sm bn) (hpr : ¬ pr = 0) {z i : Nat}
    (fz : td_isf K (td_qb K A C nm tg (td_bd K A R)) z = true) (hi : i < 5)
    (hp : post (td_nv K A C z (td_bd K A R z) (td_cs K (td_qb K A C nm tg (td_bd K A R)) z 16) i)) :
    wpY_newField post (nI T, nI U, nI G, nI E, pr, us, kk, A, N, cc, nm, tg, sm, bn) (nI (td_fb K (td_qb K A C nm tg (td_bd K A R)) z)) (nI i) := by
  have kz := (of_decide_eq_true fz).1
  have z16 := tb_l16 h kz
  have kb := td_bd_u (R := R) h kz
  refine br_f hpr (ty_lo_t h hy L fz (ty_body h hy L.1 kz (br_t (nI_pos' (by omega)) ?_)))
  rcases (by omega : i = 0 ∨ i = 1 ∨ i = 2 ∨ i = 3 ∨ i = 4) with e | e | e | e | e <;> subst e
  · exact br_f (by decide) (br_t (by decide) (br_f (by decide) (br_f (by decide) (ty_of h hy (i := 0) kb (by omega) hp))))
  · exact br_f (by decide) (br_t (by decide) (br_f (by decide) (br_f (by decide) (ty_of h hy (i := 1) kb (by omega) hp))))
  · exact br_f (by decide) (br_t (by decide) (br_f (by decide) (br_f (by decide) (ty_of h hy (i := 2) kb (by omega) hp))))
  · exact br_f (by decide) (br_t (by decide) (br_t (by decide) hp))
  · refine br_f (by decide) (br_t (by decide) (br_f (by decide) (br_t (by decide) (Exists.intro 17 (ty_nf67 z16 ?_ 17 0 (Nat.zero_le 16) (by omega))))))
    rw [td_cs_q h L fz]
    exact hp
end
theorem td_5lt {p : Int32} (a : nI 5 ≤ p) : ¬ p < 0 ∧ 4 < p ∧ ¬ p ≤ 4 := by
  have h4 : (4 : Int32) < p := Int32.lt_of_lt_of_le (show (4 : Int32) < nI 5 by decide) a
  exact ⟨fun z => Int32.lt_irrefl (Int32.lt_trans (Int32.lt_trans h4 z) (by decide : (0 : Int32) < 4)), h4, Int32.not_le.mpr h4⟩
theorem td_4lt {p : Int32} (a : nI 4 ≤ p) : ¬ p < 0 ∧ 3 < p ∧ ¬ p ≤ 3 := by
  have h4 : (3 : Int32) < p := Int32.lt_of_lt_of_le (show (3 : Int32) < nI 4 by decide) a
  exact ⟨fun z => Int32.lt_irrefl (Int32.lt_trans (Int32.lt_trans h4 z) (by decide : (0 : Int32) < 3)), h4, Int32.not_le.mpr h4⟩
theorem i_vc_newField {k : Nat} {u : SX} {v : SY} (I : i_Rel k u v) (hk : k + 4 ≤ 2052) (v1 : Int32) (v2 : Int32) : wpX_newField (fun r => wpY_newField (fun r' => r' = r ∧ i_Rel (k + 4) u v) v v1 v2) u v1 v2 := by
  refine td_el (P := fun u v => wpX_newField (fun r => wpY_newField (fun r' => r' = r ∧ i_Rel (k + 4) u v) v v1 v2) u v1 v2) ?_ I
  intro T U G E ln ec pr K A N C nm tg re bo cl nc ni lo si us kk cc sm bn h hy hl
  have J : i_Rel (k + 4) (nI T, nI U, nI G, nI E, ln, ec, K, A, N, C, nm, tg, re, bo, cl, nc, ni, lo, si) (nI T, nI U, nI G, nI E, pr, us, kk, A, N, cc, nm, tg, sm, bn) := td_mk h hy hl
  rcases hl with hl | ⟨l1, p1, LX, LY⟩
  · exact br_t hl.1 (br_t hl.2 ⟨rfl, J⟩)
  · have hln : ¬ ln = 0 := by rw [l1]; exact td_10
    have hpr : ¬ pr = 0 := by rw [p1]; exact td_10
    rcases td_ent (K := K) (td_qb K A C nm tg (td_bd K A (td_Rn G K A C nm tg G))) v1 with ⟨z, fz, ez⟩ | hn
    · subst ez
      have kz := (of_decide_eq_true fz).1
      have z16 := tb_l16 h kz
      have b16 := tb_l16 h (td_bd_u (R := td_Rn G K A C nm tg G) h kz)
      rcases pk_ix v2 (n := 5) (by omega) with a | a | ⟨i, hi, e⟩
      · exact br_f hln (tx_eb_t h LX fz (br_t (nI_pos' (by omega)) (br_t a (br_f hpr (ty_lo_t h hy LY fz (ty_body h hy LY.1 kz (br_t (nI_pos' (by omega)) (br_t a ⟨rfl, J⟩))))))))
      · obtain ⟨a1, a2, a3⟩ := td_5lt a
        exact br_f hln (tx_eb_t h LX fz (br_t (nI_pos' (by omega)) (br_f a1 (br_t a2 (br_f hpr (ty_lo_t h hy LY fz (ty_body h hy LY.1 kz (br_t (nI_pos' (by omega)) (br_f a1 (br_f a3 ⟨rfl, J⟩))))))))))
      · subst e
        exact tx_nf h LX hln fz hi (ty_nf h hy LY hpr fz hi ⟨rfl, J⟩)
    · exact br_f hln (tx_eb_f LX hn (br_f td_0m1 (br_f hpr (ty_lo_f h hy LY hn (ty_body_n hy td_no_m1 (br_f td_0m1 ⟨rfl, J⟩))))))
end
section
/-! the rest of what is owed -/
theorem i_vc_link {k : Nat} {u : SX} {v : SY} (I : i_Rel k u v) (hk : k + 4 ≤ 2052) : wpX_link (fun r u' => wpY_link (fun r' v' => r' = r ∧ i_Rel (k + 4) u' v') v) u := by
  refine td_el (P := fun u v => wpX_link (fun r u' => wpY_link (fun r' v' => r' = r ∧ i_Rel (k + 4) u' v') v) u) ?_ I
  intro T U G E ln ec pr K A N C nm tg re bo cl nc ni lo si us kk cc sm bn h hy hl
  have J : i_Rel (k + 4) (nI T, nI U, nI G, nI E, ln, ec, K, A, N, C, nm, tg, re, bo, cl, nc, ni, lo, si) (nI T, nI U, nI G, nI E, pr, us, kk, A, N, cc, nm, tg, sm, bn) := td_mk h hy hl
  rcases hl with hl | ⟨l1, p1, LX, LY⟩
  · refine tx_link h hl.1 (fun j hj hm => ?_) (fun hno ec' re' bo' cl' nc' ni' lo' si' LX => ?_)
    · exact ty_link h hy (fun _ _ _ => ⟨rfl, J⟩) (fun hno => absurd hj (hno j))
    · exact ty_link h hy (fun j hj _ => absurd hj (hno j)) (fun _ sm' bn' LY => ⟨LX.2.2.1.symm, td_mk h hy (Or.inr ⟨rfl, rfl, LX, LY⟩)⟩)
  · refine tx_link1 h (by rw [l1]; exact td_10) (fun j hj hm => ?_) (fun hno => ?_)
    · exact ty_link h hy (fun _ _ _ => ⟨rfl, J⟩) (fun hno => absurd hj (hno j))
    · exact ty_link h hy (fun j hj _ => absurd hj (hno j)) (fun _ sm' bn' LY => ⟨LX.2.2.1.symm, td_mk h hy (Or.inr ⟨l1, rfl, LX, LY⟩)⟩)
theorem i_vc_entries {k : Nat} {u : SX} {v : SY} (I : i_Rel k u v) (hk : k + 4 ≤ 2052) : wpX_entries (fun r => wpY_entries (fun r' => r' = r ∧ i_Rel (k + 4) u v) v) u := by
  refine td_el (P := fun u v => wpX_entries (fun r => wpY_entries (fun r' => r' = r ∧ i_Rel (k + 4) u v) v) u) ?_ I
  intro T U G E ln ec pr K A N C nm tg re bo cl nc ni lo si us kk cc sm bn h hy hl
  have J : i_Rel (k + 4) (nI T, nI U, nI G, nI E, ln, ec, K, A, N, C, nm, tg, re, bo, cl, nc, ni, lo, si) (nI T, nI U, nI G, nI E, pr, us, kk, A, N, cc, nm, tg, sm, bn) := td_mk h hy hl
  rcases hl with hl | ⟨l1, p1, LX, LY⟩
  · exact br_t hl.1 (br_t hl.2 ⟨rfl, J⟩)
  · refine br_f (by rw [l1]; exact td_10) (ty_en h hy (by rw [p1]; exact td_10) ⟨?_, J⟩)
    rw [td_fb_q LY.2 (Nat.le_refl 16)]
    exact LX.2.2.1.symm
theorem i_vc_firstIncomplete {k : Nat} {u : SX} {v : SY} (I : i_Rel k u v) (hk : k + 4 ≤ 2052) : wpX_firstIncomplete (fun r => wpY_firstIncomplete (fun r' => r' = r ∧ i_Rel (k + 4) u v) v) u := by
  refine td_el (P := fun u v => wpX_firstIncomplete (fun r => wpY_firstIncomplete (fun r' => r' = r ∧ i_Rel (k + 4) u v) v) u) ?_ I
  intro T U G E ln ec pr K A N C nm tg re bo cl nc ni lo si us kk cc sm bn h hy hl
  have J : i_Rel (k + 4) (nI T, nI U, nI G, nI E, ln, ec, K, A, N, C, nm, tg, re, bo, cl, nc, ni, lo, si) (nI T, nI U, nI G, nI E, pr, us, kk, A, N, cc, nm, tg, sm, bn) := td_mk h hy hl
  refine tx_fi h (fun j hj hm => ?_) (fun hno => ?_)
  · refine ty_fi h hy (fun i hi hm' => ⟨?_, J⟩) (fun hno => absurd hj (hno j))
    rcases Nat.lt_trichotomy i j with l | l | l
    · exact absurd hi (hm i l)
    · rw [l]
    · exact absurd hj (hm' j l)
  · exact ty_fi h hy (fun i hi _ => absurd hi (hno i)) (fun _ => ⟨rfl, J⟩)
theorem i_vc_oldField {k : Nat} {u : SX} {v : SY} (I : i_Rel k u v) (hk : k + 4 ≤ 2052) (v1 : Int32) (v2 : Int32) : wpX_oldField (fun r => wpY_oldField (fun r' => r' = r ∧ i_Rel (k + 4) u v) v v1 v2) u v1 v2 := by
  refine td_el (P := fun u v => wpX_oldField (fun r => wpY_oldField (fun r' => r' = r ∧ i_Rel (k + 4) u v) v v1 v2) u v1 v2) ?_ I
  intro T U G E ln ec pr K A N C nm tg re bo cl nc ni lo si us kk cc sm bn h hy hl
  have J : i_Rel (k + 4) (nI T, nI U, nI G, nI E, ln, ec, K, A, N, C, nm, tg, re, bo, cl, nc, ni, lo, si) (nI T, nI U, nI G, nI E, pr, us, kk, A, N, cc, nm, tg, sm, bn) := td_mk h hy hl
  rcases td_arg h v1 with ⟨j, kj, e⟩ | hn
  · subst e
    rcases pk_ix v2 (n := 4) (by omega) with a | a | ⟨i, hi, e⟩
    · unfold wpX_oldField
      refine tx_use_t h kj (br_f td_10 (br_t a ?_))
      unfold wpY_oldField
      exact ty_use_t h hy kj (br_f td_10 (br_t a ⟨rfl, J⟩))
    · obtain ⟨a1, a2, a3⟩ := td_4lt a
      unfold wpX_oldField
      refine tx_use_t h kj (br_f td_10 (br_f a1 (br_t a2 ?_)))
      unfold wpY_oldField
      exact ty_use_t h hy kj (br_f td_10 (br_f a1 (br_f a3 ⟨rfl, J⟩)))
    · subst e
      exact tx_of h kj hi (ty_of h hy kj hi ⟨rfl, J⟩)
  · unfold wpX_oldField
    refine tx_use_f h hn (br_t rfl ?_)
    unfold wpY_oldField
    exact ty_use_f hy hn (br_t rfl ⟨rfl, J⟩)
theorem i_vc_oldName {k : Nat} {u : SX} {v : SY} (I : i_Rel k u v) (hk : k + 4 ≤ 2052) (v1 : Int32) (v2 : Int32) : wpX_oldName (fun r => wpY_oldName (fun r' => r' = r ∧ i_Rel (k + 4) u v) v v1 v2) u v1 v2 := by
  refine td_el (P := fun u v => wpX_oldName (fun r => wpY_oldName (fun r' => r' = r ∧ i_Rel (k + 4) u v) v v1 v2) u v1 v2) ?_ I
  intro T U G E ln ec pr K A N C nm tg re bo cl nc ni lo si us kk cc sm bn h hy hl
  have J : i_Rel (k + 4) (nI T, nI U, nI G, nI E, ln, ec, K, A, N, C, nm, tg, re, bo, cl, nc, ni, lo, si) (nI T, nI U, nI G, nI E, pr, us, kk, A, N, cc, nm, tg, sm, bn) := td_mk h hy hl
  unfold wpX_oldName
  rcases td_edge h v1 v2 with ⟨j, e, γ, kj, ej, ee, hc, he, hγ⟩ | hn
  · subst ej
    subst ee
    have j16 := tb_l16 h kj
    refine tx_he_t h kj hc he hγ (br_f td_10 ?_)
    rw [td_m4, nI_clamp (n := j * 4 + e) (by omega)]
    exact ⟨vp_in_nI (by omega) (by omega), ty_on_t h hy kj hc he hγ ⟨rfl, J⟩⟩
  · exact tx_he_f h hn (br_t rfl (ty_on_f h hy hn ⟨rfl, J⟩))
theorem i_vc_oldTarget {k : Nat} {u : SX} {v : SY} (I : i_Rel k u v) (hk : k + 4 ≤ 2052) (v1 : Int32) (v2 : Int32) : wpX_oldTarget (fun r => wpY_oldTarget (fun r' => r' = r ∧ i_Rel (k + 4) u v) v v1 v2) u v1 v2 := by
  refine td_el (P := fun u v => wpX_oldTarget (fun r => wpY_oldTarget (fun r' => r' = r ∧ i_Rel (k + 4) u v) v v1 v2) u v1 v2) ?_ I
  intro T U G E ln ec pr K A N C nm tg re bo cl nc ni lo si us kk cc sm bn h hy hl
  have J : i_Rel (k + 4) (nI T, nI U, nI G, nI E, ln, ec, K, A, N, C, nm, tg, re, bo, cl, nc, ni, lo, si) (nI T, nI U, nI G, nI E, pr, us, kk, A, N, cc, nm, tg, sm, bn) := td_mk h hy hl
  unfold wpX_oldTarget
  rcases td_edge h v1 v2 with ⟨j, e, γ, kj, ej, ee, hc, he, hγ⟩ | hn
  · subst ej
    subst ee
    have j16 := tb_l16 h kj
    refine tx_he_t h kj hc he hγ (br_f td_10 ?_)
    rw [td_m4, nI_clamp (n := j * 4 + e) (by omega)]
    exact ⟨vp_in_nI (by omega) (by omega), ty_ot_t h hy kj hc he hγ ⟨rfl, J⟩⟩
  · exact tx_he_f h hn (br_t rfl (ty_ot_f h hy hn ⟨rfl, J⟩))
theorem i_vc_mapOf {k : Nat} {u : SX} {v : SY} (I : i_Rel k u v) (hk : k + 4 ≤ 2052) (v1 : Int32) : wpX_mapOf (fun r => wpY_mapOf (fun r' => r' = r ∧ i_Rel (k + 4) u v) v v1) u v1 := by
  refine td_el (P := fun u v => wpX_mapOf (fun r => wpY_mapOf (fun r' => r' = r ∧ i_Rel (k + 4) u v) v v1) u v1) ?_ I
  intro T U G E ln ec pr K A N C nm tg re bo cl nc ni lo si us kk cc sm bn h hy hl
  have J : i_Rel (k + 4) (nI T, nI U, nI G, nI E, ln, ec, K, A, N, C, nm, tg, re, bo, cl, nc, ni, lo, si) (nI T, nI U, nI G, nI E, pr, us, kk, A, N, cc, nm, tg, sm, bn) := td_mk h hy hl
  rcases hl with hl | ⟨l1, p1, LX, LY⟩
  · exact br_t hl.1 (br_t hl.2 ⟨rfl, J⟩)
  · have hpr : ¬ pr = 0 := by rw [p1]; exact td_10
    refine br_f (by rw [l1]; exact td_10) ?_
    rcases td_arg h v1 with ⟨x, kx, e⟩ | hn
    · subst e
      have x16 := tb_l16 h kx
      have f16 := td_fo_l (q := td_qs K sm) x16
      refine tx_use_t h kx (br_f td_10 ⟨vp_in_nI x16 (by omega), ?_⟩)
      rw [nI_clamp (n := x) (by omega)]
      refine ty_map h hy hpr kx ⟨?_, J⟩
      rw [LX.2.2.2.1 x kx, td_fb_q LY.2 (by omega), td_fo_q LY.2 x16]
    · exact tx_use_f h hn (br_t rfl (ty_map_n hy hpr hn ⟨rfl, J⟩))
theorem i_vc_resolvedTo {k : Nat} {u : SX} {v : SY} (I : i_Rel k u v) (hk : k + 4 ≤ 2052) (v1 : Int32) : wpX_resolvedTo (fun r => wpY_resolvedTo (fun r' => r' = r ∧ i_Rel (k + 4) u v) v v1) u v1 := by
  refine td_el (P := fun u v => wpX_resolvedTo (fun r => wpY_resolvedTo (fun r' => r' = r ∧ i_Rel (k + 4) u v) v v1) u v1) ?_ I
  intro T U G E ln ec pr K A N C nm tg re bo cl nc ni lo si us kk cc sm bn h hy hl
  have J : i_Rel (k + 4) (nI T, nI U, nI G, nI E, ln, ec, K, A, N, C, nm, tg, re, bo, cl, nc, ni, lo, si) (nI T, nI U, nI G, nI E, pr, us, kk, A, N, cc, nm, tg, sm, bn) := td_mk h hy hl
  rcases hl with hl | ⟨l1, p1, LX, LY⟩
  · exact br_t hl.1 (br_t hl.2 ⟨rfl, J⟩)
  · have hpr : ¬ pr = 0 := by rw [p1]; exact td_10
    refine br_f (by rw [l1]; exact td_10) ?_
    rcases td_arg h v1 with ⟨x, kx, e⟩ | hn
    · subst e
      have x16 := tb_l16 h kx
      have vx := vp_in_nI (n := x) (N := 16) x16 (by omega)
      have ex := nI_clamp (n := x) (by omega)
      refine tx_use_t h kx (br_f td_10 ⟨vx, ?_⟩)
      rw [ex]
      refine br_c (fun k7 => ⟨vx, ?_⟩) (fun k7 => ?_)
      · obtain ⟨a, a1, a2, a8, a3⟩ := tb_a h k7
        have va := vp_in_nI (n := a) (N := 9) (by omega) (by omega)
        have ea := nI_clamp (n := a) (by omega)
        rw [a3, ea]
        refine ⟨va, br_c (fun z => ?_) (fun z => ⟨vx, ?_⟩)⟩
        · refine br_f hpr (ty_use_t h hy kx (br_f td_10 ⟨vx, ?_⟩))
          rw [ex, (tb_us1 hy kx).2.1]
          refine br_t k7 ⟨vx, ?_⟩
          rw [a3, ea]
          refine ⟨va, br_t ?_ ⟨rfl, J⟩⟩
          by_cases b0 : bn a = 0
          · exact b0
          · exact absurd z ((LX.1 a a2).mpr ((LY.1 a a2).mp b0))
        · rw [LX.2.1 x kx]
          refine br_f hpr (ty_use_t h hy kx (br_f td_10 ⟨vx, ?_⟩))
          rw [ex, (tb_us1 hy kx).2.1]
          refine br_t k7 ⟨vx, ?_⟩
          rw [a3, ea]
          exact ⟨va, br_f ((LY.1 a a2).mpr ((LX.1 a a2).mp z)) (ty_body h hy LY.1 kx ⟨rfl, J⟩)⟩
      · refine br_f hpr (ty_use_t h hy kx (br_f td_10 ⟨vx, ?_⟩))
        rw [ex, (tb_us1 hy kx).2.1]
        exact br_f k7 ⟨rfl, J⟩
    · exact tx_use_f h hn (br_t rfl (br_f hpr (ty_use_f hy hn (br_t rfl ⟨rfl, J⟩))))
theorem i_vc_structEntries {k : Nat} {u : SX} {v : SY} (I : i_Rel k u v) (hk : k + 4 ≤ 2052) (v1 : Int32) : wpX_structEntries (fun r => wpY_structEntries (fun r' => r' = r ∧ i_Rel (k + 4) u v) v v1) u v1 := by
  refine td_el (P := fun u v => wpX_structEntries (fun r => wpY_structEntries (fun r' => r' = r ∧ i_Rel (k + 4) u v) v v1) u v1) ?_ I
  intro T U G E ln ec pr K A N C nm tg re bo cl nc ni lo si us kk cc sm bn h hy hl
  have J : i_Rel (k + 4) (nI T, nI U, nI G, nI E, ln, ec, K, A, N, C, nm, tg, re, bo, cl, nc, ni, lo, si) (nI T, nI U, nI G, nI E, pr, us, kk, A, N, cc, nm, tg, sm, bn) := td_mk h hy hl
  rcases hl with hl | ⟨l1, p1, LX, LY⟩
  · exact br_t hl.1 (br_t hl.2 ⟨rfl, J⟩)
  · have hpr : ¬ pr = 0 := by rw [p1]; exact td_10
    have l2 : td_fb K (td_qb K A C nm tg (td_bd K A (td_Rn G K A C nm tg G))) 16 ≤ 16 := td_ct_le _ 16
    refine br_f (by rw [l1]; exact td_10) (br_c (fun z => br_f hpr (br_t z ⟨rfl, J⟩)) (fun z0 => br_c (fun z1 => ?_) (fun z1 => br_f hpr (br_f z0 (br_f z1 ⟨rfl, J⟩)))))
    refine Exists.intro 17 (tx_se29 h LX ?_ 17 0 (Nat.zero_le _) (by omega))
    exact br_f hpr (br_f z0 (br_t z1 (Exists.intro 17 (ty_se29 h hy LY ⟨rfl, J⟩ 17 0 (Nat.zero_le 16) (by omega)))))
section
variable {T U G E : Nat} {ln ec pr : Int32} {K A N C nm tg re bo cl nc ni lo si us kk cc sm bn : Nat → Int32}
/-- the reference's lowest type and its body, whatever the tables hold -/
theorem ty_any {post : Int32 → Prop} (h : td_Bx T U G E K A N C tg) (hy : td_By K C us kk cc) {p : Int32} (hp : ∀ r, (∃ j, K j ≠ 0 ∧ r = nI j) ∨ r = -1 → post r) :
    wpY_lowestOf (fun r_1 => wpY_body post (nI T, nI U, nI G, nI E, pr, us, kk, A, N, cc, nm, tg, sm, bn) r_1) (nI T, nI U, nI G, nI E, pr, us, kk, A, N, cc, nm, tg, sm, bn) p := by
  refine ty_lo h hy (fun z fz _ => ?_) (fun _ => ?_)
  · have kz := (of_decide_eq_true fz).1
    refine ty_body (R := fun t => decide (bn t ≠ 0)) h hy (fun t _ => ?_) kz (hp _ (Or.inl ⟨_, td_bd_u h kz, rfl⟩))
    rw [decide_eq_true_iff]
  · exact ty_body_n hy td_no_m1 (hp _ (Or.inr rfl))
end
theorem i_vc_newName {k : Nat} {u : SX} {v : SY} (I : i_Rel k u v) (hk : k + 4 ≤ 2052) (v1 : Int32) (v2 : Int32) : wpX_newName (fun r => wpY_newName (fun r' => r' = r ∧ i_Rel (k + 4) u v) v v1 v2) u v1 v2 := by
  refine td_el (P := fun u v => wpX_newName (fun r => wpY_newName (fun r' => r' = r ∧ i_Rel (k + 4) u v) v v1 v2) u v1 v2) ?_ I
  intro T U G E ln ec pr K A N C nm tg re bo cl nc ni lo si us kk cc sm bn h hy hl
  have J : i_Rel (k + 4) (nI T, nI U, nI G, nI E, ln, ec, K, A, N, C, nm, tg, re, bo, cl, nc, ni, lo, si) (nI T, nI U, nI G, nI E, pr, us, kk, A, N, cc, nm, tg, sm, bn) := td_mk h hy hl
  rcases hl with hl | ⟨l1, p1, LX, LY⟩
  · refine br_t hl.1 ?_
    unfold wpY_newName
    exact ty_any h hy (fun r _ => br_t hl.2 ⟨rfl, J⟩)
  · have hpr : ¬ pr = 0 := by rw [p1]; exact td_10
    refine br_f (by rw [l1]; exact td_10) ?_
    rcases td_ent (K := K) (td_qb K A C nm tg (td_bd K A (td_Rn G K A C nm tg G))) v1 with ⟨z, fz, ez⟩ | hn
    · subst ez
      have kz := (of_decide_eq_true fz).1
      have kb := td_bd_u (R := td_Rn G K A C nm tg G) h kz
      have b16 := tb_l16 h kb
      refine tx_eb_t h LX fz ?_
      rcases td_edge h (nI (td_bd K A (td_Rn G K A C nm tg G) z)) v2 with ⟨j, e, γ, kj, ej, ee, hc, he, hγ⟩ | hn
      · have j16 := tb_l16 h kj
        subst ee
        rw [ej]
        refine tx_he_t h kj hc he hγ (br_f td_10 ?_)
        rw [td_m4, nI_clamp (n := j * 4 + e) (by omega)]
        refine ⟨vp_in_nI (by omega) (by omega), ?_⟩
        unfold wpY_newName
        refine ty_lo_t h hy LY fz (ty_body h hy LY.1 kz (br_f hpr ?_))
        rw [ej]
        exact ty_on_t h hy kj hc he hγ ⟨rfl, J⟩
      · refine tx_he_f h hn (br_t rfl ?_)
        unfold wpY_newName
        exact ty_lo_t h hy LY fz (ty_body h hy LY.1 kz (br_f hpr (ty_on_f h hy hn ⟨rfl, J⟩)))
    · refine tx_eb_f LX hn (tx_he_f h td_nE_m1 (br_t rfl ?_))
      unfold wpY_newName
      exact ty_lo_f h hy LY hn (ty_body_n hy td_no_m1 (br_f hpr (ty_on_f h hy td_nE_m1 ⟨rfl, J⟩)))
theorem i_vc_newTarget {k : Nat} {u : SX} {v : SY} (I : i_Rel k u v) (hk : k + 4 ≤ 2052) (v1 : Int32) (v2 : Int32) : wpX_newTarget (fun r => wpY_newTarget (fun r' => r' = r ∧ i_Rel (k + 4) u v) v v1 v2) u v1 v2 := by
  refine td_el (P := fun u v => wpX_newTarget (fun r => wpY_newTarget (fun r' => r' = r ∧ i_Rel (k + 4) u v) v v1 v2) u v1 v2) ?_ I
  intro T U G E ln ec pr K A N C nm tg re bo cl nc ni lo si us kk cc sm bn h hy hl
  have J : i_Rel (k + 4) (nI T, nI U, nI G, nI E, ln, ec, K, A, N, C, nm, tg, re, bo, cl, nc, ni, lo, si) (nI T, nI U, nI G, nI E, pr, us, kk, A, N, cc, nm, tg, sm, bn) := td_mk h hy hl
  rcases hl with hl | ⟨l1, p1, LX, LY⟩
  · refine br_t hl.1 ?_
    unfold wpY_newTarget
    refine ty_any h hy (fun r hr => ?_)
    rcases td_edge h r v2 with ⟨j, e, γ, kj, ej, ee, hc, he, hγ⟩ | hn
    · subst ej
      subst ee
      exact ty_ot_t h hy kj hc he hγ (br_t hl.2 ⟨rfl, J⟩)
    · exact ty_ot_f h hy hn (br_t hl.2 ⟨rfl, J⟩)
  · have hpr : ¬ pr = 0 := by rw [p1]; exact td_10
    refine br_f (by rw [l1]; exact td_10) ?_
    rcases td_ent (K := K) (td_qb K A C nm tg (td_bd K A (td_Rn G K A C nm tg G))) v1 with ⟨z, fz, ez⟩ | hn
    · subst ez
      have kz := (of_decide_eq_true fz).1
      have kb := td_bd_u (R := td_Rn G K A C nm tg G) h kz
      have b16 := tb_l16 h kb
      refine tx_eb_t h LX fz ?_
      rcases td_edge h (nI (td_bd K A (td_Rn G K A C nm tg G) z)) v2 with ⟨j, e, γ, kj, ej, ee, hc, he, hγ⟩ | hn
      · have j16 := tb_l16 h kj
        subst ee
        rw [ej]
        obtain ⟨γ', g1, g2, g3⟩ := tb_c h j
        have eg : γ' = γ := by rw [hc, nI_eq (by omega) (by omega)] at g2; exact g2.symm
        subst eg
        obtain ⟨t, t1, t2, t3⟩ := g3 e he
        have f16 := td_fo_l (q := td_qs K sm) t3
        refine tx_he_t h kj hc he hγ (br_f td_10 ?_)
        rw [td_m4, nI_clamp (n := j * 4 + e) (by omega), t1, nI_clamp (n := t) (by omega)]
        refine ⟨vp_in_nI (by omega) (by omega), vp_in_nI t3 (by omega), ?_⟩
        unfold wpY_newTarget
        refine ty_lo_t h hy LY fz (ty_body h hy LY.1 kz ?_)
        rw [ej]
        refine ty_ot_t h hy kj hc he hγ (br_f hpr ?_)
        rw [t1]
        refine ty_map h hy hpr t2 ⟨?_, J⟩
        rw [LX.2.2.2.1 t t2, td_fb_q LY.2 (by omega), td_fo_q LY.2 t3]
      · refine tx_he_f h hn (br_t rfl ?_)
        unfold wpY_newTarget
        exact ty_lo_t h hy LY fz (ty_body h hy LY.1 kz (ty_ot_f h hy hn (br_f hpr (ty_map_n hy hpr td_no_m1 ⟨rfl, J⟩))))
    · refine tx_eb_f LX hn (tx_he_f h td_nE_m1 (br_t rfl ?_))
      unfold wpY_newTarget
      exact ty_lo_f h hy LY hn (ty_body_n hy td_no_m1 (ty_ot_f h hy td_nE_m1 (br_f hpr (ty_map_n hy hpr td_no_m1 ⟨rfl, J⟩))))
end
