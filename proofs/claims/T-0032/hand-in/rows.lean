section
/-! Pure rows: the relation of the two books, its laws, and the two searches for the best order -/
theorem ab_us {f : Nat → Int32} {k : Nat} {x : Int32} : upd f k x k = x := if_pos rfl
theorem ab_un {f : Nat → Int32} {k j : Nat} {x : Int32} (h : j ≠ k) : upd f k x j = f j := if_neg h
theorem ab_sub {a b : Nat} (h : b ≤ a) : nI a - nI b = nI (a - b) := by
  obtain ⟨c, rfl⟩ : ∃ c, a = c + b := ⟨a - b, by omega⟩
  rw [← nI_add, Int32.add_sub_cancel, Nat.add_sub_cancel]
theorem ab_lt {x y : Int32} : x < y ↔ x.toInt < y.toInt := Int32.lt_iff_toInt_lt
theorem ab_le {x y : Int32} : x ≤ y ↔ x.toInt ≤ y.toInt := Int32.le_iff_toInt_le
theorem ab_eq {x y : Int32} : x = y ↔ x.toInt = y.toInt := Int32.toInt_inj.symm
theorem ab_irr {x y : Int32} (h : x < y) (e : x = y) : False := by
  rw [ab_lt] at h; rw [ab_eq] at e; omega
theorem ab_0T : (0 : Int32).toInt = 0 := by decide
theorem ab_1T : (1 : Int32).toInt = 1 := by decide
theorem ab_pos {x : Int32} (h : 0 < x) : ¬ x ≤ 0 := by
  rw [ab_lt] at h; rw [ab_le]; omega
theorem ab_pos0 {x : Int32} (h : 0 < x) : ¬ x = 0 := by
  rw [ab_lt] at h; rw [ab_eq]; omega
/-- an amount above zero is a natural -/
theorem ab_nat {x : Int32} (h : 0 < x) : ∃ q : Nat, 0 < q ∧ q < 2 ^ 31 ∧ x = nI q := by
  have h0 : ¬ x < 0 := by rw [ab_lt] at h ⊢; omega
  obtain ⟨q, hq, rfl⟩ := nI_of h0
  refine ⟨q, ?_, hq, rfl⟩
  rw [ab_lt, nI_toInt hq, ab_0T] at h
  omega

theorem ab_pig : ∀ (m M : Nat) (f : Nat → Nat), m < M → ∃ i, i < M ∧ ∀ j, j < m → f j ≠ i := by
  intro m
  induction m with
  | zero => intro M f h; exact ⟨0, h, fun j hj => absurd hj (Nat.not_lt_zero j)⟩
  | succ m ih =>
    intro M f h
    obtain ⟨i, hi, hf⟩ := ih (M - 1) (fun j => if f j = M - 1 then f m else f j) (by omega)
    by_cases e : f m = i
    · refine ⟨M - 1, by omega, fun j hj => ?_⟩
      by_cases ej : j = m
      · subst ej; omega
      · intro z
        have t : (if f j = M - 1 then f m else f j) ≠ i := hf j (by omega)
        rw [if_pos z] at t
        exact t e
    · refine ⟨i, by omega, fun j hj => ?_⟩
      by_cases ej : j = m
      · subst ej; exact e
      · have t : (if f j = M - 1 then f m else f j) ≠ i := hf j (by omega)
        intro z
        rw [if_neg (by omega)] at t
        exact t z

/-- what the two books hold: g takes an order's place in the reference's list to its slot in the component; z: the next id -/
def ab_K (z : Int32) (m : Nat) (xi xp xq yp yq yi : Nat → Int32) (g : Nat → Nat) : Prop :=
  (∀ j, j < m → g j < 8 ∧ xi (g j) = yi j ∧ xp (g j) = yp j ∧ xq (g j) = yq j ∧ 0 < yq j ∧ yi j < z) ∧
  (∀ i, i < 8 → xq i = 0 ∨ ∃ j, j < m ∧ g j = i) ∧
  (∀ j l, j < l → l < m → yi j < yi l)

theorem ab_inj {z : Int32} {m : Nat} {xi xp xq yp yq yi : Nat → Int32} {g : Nat → Nat} (h : ab_K z m xi xp xq yp yq yi g)
    {j l : Nat} (hj : j < m) (hl : l < m) (e : g j = g l) : j = l := by
  have a := (h.1 j hj).2.1
  have b := (h.1 l hl).2.1
  rw [e] at a
  have c : yi j = yi l := a.symm.trans b
  rcases Nat.lt_trichotomy j l with t | t | t
  · exact (ab_irr (h.2.2 j l t hl) c).elim
  · exact t
  · exact (ab_irr (h.2.2 l j t hj) c.symm).elim

def ab_sk (b j : Nat) : Nat := if j < b then j else j + 1
theorem ab_sk_ne (b j : Nat) : ab_sk b j ≠ b := by unfold ab_sk; split <;> omega
theorem ab_sk_lt {b j m : Nat} (h : j < m) : ab_sk b j < m + 1 := by unfold ab_sk; split <;> omega
theorem ab_sk_mono {b j l : Nat} (h : j < l) : ab_sk b j < ab_sk b l := by unfold ab_sk; split <;> split <;> omega
theorem ab_sk_onto {b j m : Nat} (hb : b < m + 1) (h : j < m + 1) (hn : j ≠ b) : ∃ l, l < m ∧ ab_sk b l = j := by
  by_cases t : j < b
  · exact ⟨j, by omega, by unfold ab_sk; rw [if_pos t]⟩
  · exact ⟨j - 1, by omega, by unfold ab_sk; rw [if_neg (by omega)]; omega⟩

/-- an order goes: its slot is empty, the list closes up behind it -/
theorem ab_drop {z : Int32} {m b : Nat} {xi xp xq yp yq yi xi' xp' xq' yp' yq' yi' : Nat → Int32} {g : Nat → Nat}
    (h : ab_K z (m + 1) xi xp xq yp yq yi g) (hb : b < m + 1)
    (x1 : ∀ i, i ≠ g b → xi' i = xi i) (x2 : ∀ i, i ≠ g b → xp' i = xp i) (x3 : ∀ i, i ≠ g b → xq' i = xq i) (x4 : xq' (g b) = 0)
    (y1 : ∀ j, j < m → yp' j = yp (ab_sk b j)) (y2 : ∀ j, j < m → yq' j = yq (ab_sk b j)) (y3 : ∀ j, j < m → yi' j = yi (ab_sk b j)) :
    ab_K z m xi' xp' xq' yp' yq' yi' (fun j => g (ab_sk b j)) := by
  refine ⟨fun j hj => ?_, fun i hi => ?_, fun j l hjl hl => ?_⟩
  · have hs := ab_sk_lt (b := b) hj
    have hne : g (ab_sk b j) ≠ g b := fun e => ab_sk_ne b j (ab_inj h hs hb e)
    obtain ⟨a1, a2, a3, a4, a5, a6⟩ := h.1 _ hs
    refine ⟨a1, ?_, ?_, ?_, ?_, ?_⟩
    · show xi' (g (ab_sk b j)) = yi' j
      rw [x1 _ hne, y3 j hj]; exact a2
    · show xp' (g (ab_sk b j)) = yp' j
      rw [x2 _ hne, y1 j hj]; exact a3
    · show xq' (g (ab_sk b j)) = yq' j
      rw [x3 _ hne, y2 j hj]; exact a4
    · rw [y2 j hj]; exact a5
    · rw [y3 j hj]; exact a6
  · by_cases e : i = g b
    · left; rw [e]; exact x4
    · rw [x3 i e]
      rcases h.2.1 i hi with t | ⟨j, hj, ej⟩
      · left; exact t
      · right
        obtain ⟨l, hl, el⟩ := ab_sk_onto hb hj (fun t => e (by rw [← ej, t]))
        exact ⟨l, hl, by show g (ab_sk b l) = i; rw [el]; exact ej⟩
  · rw [y3 j (by omega), y3 l hl]
    exact h.2.2 _ _ (ab_sk_mono hjl) (ab_sk_lt hl)

/-- an order loses a part of its amount -/
theorem ab_part {z : Int32} {m b : Nat} {xi xp xq yp yq yi : Nat → Int32} {g : Nat → Nat} {q : Int32}
    (h : ab_K z m xi xp xq yp yq yi g) (hb : b < m) (hq : 0 < q) :
    ab_K z m xi xp (upd xq (g b) q) yp (upd yq b q) yi g := by
  refine ⟨fun j hj => ?_, fun i hi => ?_, h.2.2⟩
  · obtain ⟨a1, a2, a3, a4, a5, a6⟩ := h.1 j hj
    by_cases e : j = b
    · subst e
      refine ⟨a1, a2, a3, ?_, ?_, a6⟩
      · rw [ab_us, ab_us]
      · rw [ab_us]; exact hq
    · have hne : g j ≠ g b := fun t => e (ab_inj h hj hb t)
      refine ⟨a1, a2, a3, ?_, ?_, a6⟩
      · rw [ab_un hne, ab_un e]; exact a4
      · rw [ab_un e]; exact a5
  · by_cases e : i = g b
    · right; exact ⟨b, hb, e.symm⟩
    · rw [ab_un e]; exact h.2.1 i hi

/-- a new order -/
theorem ab_place {z z' : Int32} {m i : Nat} {xi xp xq yp yq yi : Nat → Int32} {g : Nat → Nat} {p q : Int32}
    (h : ab_K z m xi xp xq yp yq yi g) (hi : i < 8) (h0 : xq i = 0) (hq : 0 < q) (hz : z < z') :
    ab_K z' (m + 1) (upd xi i z) (upd xp i p) (upd xq i q) (upd yp m p) (upd yq m q) (upd yi m z) (fun j => if j = m then i else g j) := by
  have hn : ∀ j, j < m → g j ≠ i := fun j hj e => by
    obtain ⟨a1, a2, a3, a4, a5, a6⟩ := h.1 j hj
    rw [e, h0] at a4
    exact ab_irr a5 a4
  refine ⟨fun j hj => ?_, fun l hl => ?_, fun j l hjl hl => ?_⟩
  · show (if j = m then i else g j) < 8 ∧ upd xi i z (if j = m then i else g j) = _ ∧ upd xp i p (if j = m then i else g j) = _ ∧ upd xq i q (if j = m then i else g j) = _ ∧ _
    by_cases e : j = m
    · subst e
      rw [if_pos rfl, ab_us, ab_us, ab_us, ab_us, ab_us, ab_us]
      exact ⟨hi, rfl, rfl, rfl, hq, hz⟩
    · have hj' : j < m := by omega
      obtain ⟨a1, a2, a3, a4, a5, a6⟩ := h.1 j hj'
      rw [if_neg e, ab_un (hn j hj'), ab_un (hn j hj'), ab_un (hn j hj'), ab_un e, ab_un e, ab_un e]
      refine ⟨a1, a2, a3, a4, a5, ?_⟩
      rw [ab_lt] at a6 hz ⊢; omega
  · by_cases e : l = i
    · right; exact ⟨m, by omega, by show (if m = m then i else g m) = l; rw [if_pos rfl, e]⟩
    · rw [ab_un e]
      rcases h.2.1 l hl with t | ⟨j, hj, ej⟩
      · left; exact t
      · right; exact ⟨j, by omega, by show (if j = m then i else g j) = l; rw [if_neg (by omega)]; exact ej⟩
  · rw [ab_un (show j ≠ m by omega)]
    by_cases e : l = m
    · subst e
      rw [ab_us]; exact (h.1 j hjl).2.2.2.2.2
    · rw [ab_un e]; exact h.2.2 j l hjl (by omega)

/-- fewer than eight orders leave a slot empty -/
theorem ab_free {z : Int32} {m : Nat} {xi xp xq yp yq yi : Nat → Int32} {g : Nat → Nat} (h : ab_K z m xi xp xq yp yq yi g) (hm : m < 8) :
    ∃ i, i < 8 ∧ xq i = 0 := by
  obtain ⟨i, hi, hf⟩ := ab_pig m 8 g hm
  refine ⟨i, hi, ?_⟩
  rcases h.2.1 i hi with t | ⟨j, hj, ej⟩
  · exact t
  · exact (hf j hj ej).elim

/-! the best order: on the reference's side among the first m, on the component's among the first t slots -/
def ab_BY (L : Int32) (p : Nat → Int32) (m : Nat) (r : Int32) : Prop :=
  (r = -1 ∧ ∀ j, j < m → L < p j) ∨
  ∃ b, b < m ∧ r = nI b ∧ ¬ L < p b ∧ ∀ j, j < m → ¬ L < p j → ¬ p j < p b ∧ (j < b → p b < p j)
def ab_BX (L : Int32) (xi xp xq : Nat → Int32) (t : Nat) (r : Int32) : Prop :=
  (r = -1 ∧ ∀ i, i < t → ¬ xq i ≤ 0 → L < xp i) ∨
  ∃ b, b < t ∧ r = nI b ∧ ¬ xq b ≤ 0 ∧ ¬ L < xp b ∧ ∀ i, i < t → ¬ xq i ≤ 0 → ¬ L < xp i → ¬ xp i < xp b ∧ (xp i = xp b → xi b ≤ xi i)

theorem ab_BY0 (L : Int32) (p : Nat → Int32) : ab_BY L p 0 (-1) := Or.inl ⟨rfl, fun j hj => absurd hj (Nat.not_lt_zero j)⟩
theorem ab_BX0 (L : Int32) (xi xp xq : Nat → Int32) : ab_BX L xi xp xq 0 (-1) := Or.inl ⟨rfl, fun j hj => absurd hj (Nat.not_lt_zero j)⟩

theorem ab_BY_skip {L : Int32} {p : Nat → Int32} {t : Nat} {r : Int32} (h : ab_BY L p t r) (c : L < p t) : ab_BY L p (t + 1) r := by
  rcases h with ⟨e, h⟩ | ⟨b, hb, e, h1, h2⟩
  · exact Or.inl ⟨e, lt_s h c⟩
  · refine Or.inr ⟨b, by omega, e, h1, fun j hj hL => ?_⟩
    by_cases ej : j = t
    · subst ej; exact (hL c).elim
    · exact h2 j (by omega) hL
theorem ab_BY_new {L : Int32} {p : Nat → Int32} {t : Nat} (h : ∀ j, j < t → L < p j) (c : ¬ L < p t) : ab_BY L p (t + 1) (nI t) := by
  refine Or.inr ⟨t, by omega, rfl, c, fun j hj hL => ?_⟩
  by_cases ej : j = t
  · subst ej; exact ⟨fun z => ab_irr z rfl, fun z => absurd z (Nat.lt_irrefl j)⟩
  · exact (hL (h j (by omega))).elim
theorem ab_BY_keep {L : Int32} {p : Nat → Int32} {t b : Nat} (hb : b < t) (h1 : ¬ L < p b)
    (h2 : ∀ j, j < t → ¬ L < p j → ¬ p j < p b ∧ (j < b → p b < p j)) (c : p b ≤ p t) : ab_BY L p (t + 1) (nI b) := by
  refine Or.inr ⟨b, by omega, rfl, h1, fun j hj hL => ?_⟩
  by_cases ej : j = t
  · subst ej
    refine ⟨?_, fun z => absurd z (by omega)⟩
    rw [ab_le] at c; rw [ab_lt]; omega
  · exact h2 j (by omega) hL
theorem ab_BY_better {L : Int32} {p : Nat → Int32} {t b : Nat}
    (h2 : ∀ j, j < t → ¬ L < p j → ¬ p j < p b ∧ (j < b → p b < p j)) (cL : ¬ L < p t) (c : ¬ p b ≤ p t) : ab_BY L p (t + 1) (nI t) := by
  refine Or.inr ⟨t, by omega, rfl, cL, fun j hj hL => ?_⟩
  by_cases ej : j = t
  · subst ej; exact ⟨fun z => ab_irr z rfl, fun z => absurd z (Nat.lt_irrefl j)⟩
  · have k := (h2 j (by omega) hL).1
    rw [ab_lt] at k; rw [ab_le] at c
    constructor
    · rw [ab_lt]; omega
    · intro _; rw [ab_lt]; omega

theorem ab_BX_skip {L : Int32} {xi xp xq : Nat → Int32} {t : Nat} {r : Int32} (h : ab_BX L xi xp xq t r)
    (c : ¬ xq t ≤ 0 → L < xp t) : ab_BX L xi xp xq (t + 1) r := by
  rcases h with ⟨e, h⟩ | ⟨b, hb, e, h0, h1, h2⟩
  · exact Or.inl ⟨e, lt_s h c⟩
  · refine Or.inr ⟨b, by omega, e, h0, h1, fun j hj hq hL => ?_⟩
    by_cases ej : j = t
    · subst ej; exact (hL (c hq)).elim
    · exact h2 j (by omega) hq hL
theorem ab_BX_new {L : Int32} {xi xp xq : Nat → Int32} {t : Nat} (h : ∀ i, i < t → ¬ xq i ≤ 0 → L < xp i)
    (cq : ¬ xq t ≤ 0) (c : ¬ L < xp t) : ab_BX L xi xp xq (t + 1) (nI t) := by
  refine Or.inr ⟨t, by omega, rfl, cq, c, fun j hj hq hL => ?_⟩
  by_cases ej : j = t
  · subst ej; exact ⟨fun z => ab_irr z rfl, fun _ => by rw [ab_le]; omega⟩
  · exact (hL (h j (by omega) hq)).elim
theorem ab_BX_keep {L : Int32} {xi xp xq : Nat → Int32} {t b : Nat} (hb : b < t) (h0 : ¬ xq b ≤ 0) (h1 : ¬ L < xp b)
    (h2 : ∀ i, i < t → ¬ xq i ≤ 0 → ¬ L < xp i → ¬ xp i < xp b ∧ (xp i = xp b → xi b ≤ xi i))
    (c : ¬ xp t < xp b) (d : xp t = xp b → xi b ≤ xi t) : ab_BX L xi xp xq (t + 1) (nI b) := by
  refine Or.inr ⟨b, by omega, rfl, h0, h1, fun j hj hq hL => ?_⟩
  by_cases ej : j = t
  · subst ej; exact ⟨c, d⟩
  · exact h2 j (by omega) hq hL
theorem ab_BX_better {L : Int32} {xi xp xq : Nat → Int32} {t b : Nat}
    (h2 : ∀ i, i < t → ¬ xq i ≤ 0 → ¬ L < xp i → ¬ xp i < xp b ∧ (xp i = xp b → xi b ≤ xi i))
    (cq : ¬ xq t ≤ 0) (cL : ¬ L < xp t) (c : xp t < xp b ∨ (xp t = xp b ∧ ¬ xi b ≤ xi t)) : ab_BX L xi xp xq (t + 1) (nI t) := by
  refine Or.inr ⟨t, by omega, rfl, cq, cL, fun j hj hq hL => ?_⟩
  by_cases ej : j = t
  · subst ej; exact ⟨fun z => ab_irr z rfl, fun _ => by rw [ab_le]; omega⟩
  · obtain ⟨k1, k2⟩ := h2 j (by omega) hq hL
    simp only [ab_lt, ab_le, ab_eq] at k1 k2 c ⊢
    constructor
    · omega
    · intro e; omega

theorem ab_BY_uniq {L : Int32} {p : Nat → Int32} {m : Nat} {r r' : Int32} (h : ab_BY L p m r) (h' : ab_BY L p m r') : r = r' := by
  rcases h with ⟨e, h⟩ | ⟨b, hb, e, h1, h2⟩
  · rcases h' with ⟨e', h'⟩ | ⟨b', hb', e', h1', h2'⟩
    · rw [e, e']
    · exact (h1' (h b' hb')).elim
  · rcases h' with ⟨e', h'⟩ | ⟨b', hb', e', h1', h2'⟩
    · exact (h1 (h' b hb)).elim
    · have k1 := h2 b' hb' h1'
      have k2 := h2' b hb h1
      have : b = b' := by
        simp only [ab_lt] at k1 k2
        omega
      rw [e, e', this]

/-- the component's best slot holds the reference's best order -/
theorem ab_join {z : Int32} {m : Nat} {xi xp xq yp yq yi : Nat → Int32} {g : Nat → Nat} (h : ab_K z m xi xp xq yp yq yi g)
    {L r s : Int32} (hX : ab_BX L xi xp xq 8 r) (hY : ab_BY L yp m s) :
    (r = -1 ∧ s = -1) ∨ ∃ b, b < m ∧ s = nI b ∧ r = nI (g b) := by
  rcases hX with ⟨e, hx⟩ | ⟨i, hi, e, x0, x1, x2⟩
  · rcases hY with ⟨e', hy⟩ | ⟨b, hb, e', y1, y2⟩
    · exact Or.inl ⟨e, e'⟩
    · obtain ⟨a1, a2, a3, a4, a5, a6⟩ := h.1 b hb
      have t := hx (g b) a1 (by rw [a4]; exact ab_pos a5)
      rw [a3] at t
      exact (y1 t).elim
  · have hj : ∃ j, j < m ∧ g j = i := by
      rcases h.2.1 i hi with t | t
      · exact (x0 (by rw [t, ab_le]; exact Int.le_refl _)).elim
      · exact t
    obtain ⟨j, hj, rfl⟩ := hj
    obtain ⟨b1, b2, b3, b4, b5, b6⟩ := h.1 j hj
    rw [b3] at x1
    rcases hY with ⟨e', hy⟩ | ⟨b, hb, e', y1, y2⟩
    · exact (x1 (hy j hj)).elim
    · refine Or.inr ⟨b, hb, e', ?_⟩
      obtain ⟨a1, a2, a3, a4, a5, a6⟩ := h.1 b hb
      have k1 := x2 (g b) a1 (by rw [a4]; exact ab_pos a5) (by rw [a3]; exact y1)
      have k2 := y2 j hj x1
      rw [a3, b3, a2, b2] at k1
      have : j = b := by
        rcases Nat.lt_trichotomy j b with t | t | t
        · have k3 := k2.2 t
          exact (k1.1 k3).elim
        · exact t
        · have k3 := h.2.2 b j t hj
          simp only [ab_lt, ab_le, ab_eq] at k1 k2 k3
          omega
      rw [e, this]

/-! closing up the list -/
def ab_sh (a : Nat → Int32) (b i : Nat) : Nat → Int32 := fun j => if b ≤ j ∧ j + 1 < i then a (j + 1) else a j
theorem ab_sh0 (a : Nat → Int32) (b : Nat) : ab_sh a b (b + 1) = a := by
  funext j
  unfold ab_sh
  rw [if_neg (by omega)]
theorem ab_shS (a : Nat → Int32) {b i : Nat} (h : b < i) : upd (ab_sh a b i) (i - 1) (ab_sh a b i i) = ab_sh a b (i + 1) := by
  funext j
  unfold upd ab_sh
  by_cases e : j = i - 1
  · rw [if_pos e, if_neg (by omega), if_pos (by omega), show j + 1 = i by omega]
  · rw [if_neg e]
    by_cases c : b ≤ j ∧ j + 1 < i
    · rw [if_pos c, if_pos (by omega)]
    · rw [if_neg c, if_neg (by omega)]
theorem ab_shK {a : Nat → Int32} {b m j : Nat} (h : j < m) : ab_sh a b (m + 1) j = a (ab_sk b j) := by
  unfold ab_sh ab_sk
  by_cases c : j < b
  · rw [if_neg (by omega), if_pos c]
  · rw [if_pos (by omega), if_neg c]
end
section
/-! The loops of place, cancel, qtyOf, drop and best, each once, over a general post -/
theorem ab_ge8 {i : Nat} (h : i < 8) : ¬ (8 : Int32) ≤ nI i := nI_ge (b := 8) h (by decide)
theorem ab_le8 : (8 : Int32) ≤ nI 8 := nI_le (a := 8) (Nat.le_refl 8) (by decide)
theorem ab_in {i : Nat} (h : i < 8) : vp_in (nI i) 8 := vp_in_nI h (by decide)
theorem ab_cl {i : Nat} (h : i < 8) : (nI i).toNatClampNeg = i := nI_clamp (by omega)

theorem ab_xplace {cap cnt nid cost p q : Int32} {xi xp xq : Nat → Int32} : ∀ d i : Nat, i + d = 8 → (∃ l, i ≤ l ∧ l < 8 ∧ xq l = 0) →
    ∃ l, l < 8 ∧ xq l = 0 ∧ ∀ post : Int32 → SX → Prop, post nid (cap, cnt + 1, nid + 1, cost, upd xi l nid, upd xp l p, upd xq l q) →
      wX_place_41 post p q cap cnt nid cost xi xp xq (d + 1) (nI i) := by
  intro d
  induction d with
  | zero =>
    intro i hi ⟨l, h1, h2, _⟩
    omega
  | succ d ih =>
    intro i hi ⟨l, h1, h2, h3⟩
    have hl : i < 8 := by omega
    have e := ab_cl hl
    by_cases z : xq i = 0
    · refine ⟨i, hl, z, fun post hp => br_f (ab_ge8 hl) ⟨ab_in hl, br_t (by rw [e]; exact z) ⟨ab_in hl, fun a ea => ⟨ab_in hl, fun b eb => ⟨ab_in hl, fun c ec => fun x ex => fun y ey => ?_⟩⟩⟩⟩⟩
      subst ea eb ec ex ey
      rw [e]; exact hp
    · have h4 : i ≠ l := fun t => z (by rw [t]; exact h3)
      obtain ⟨o, ho, h5, h6⟩ := ih (i + 1) (by omega) ⟨l, by omega, h2, h3⟩
      refine ⟨o, ho, h5, fun post hp => br_f (ab_ge8 hl) ⟨ab_in hl, br_f (by rw [e]; exact z) fun y ey => ?_⟩⟩
      rw [ey, nI_1]; exact h6 post hp

theorem ab_xcancel {cap cnt nid cost id : Int32} {xi xp xq : Nat → Int32} : ∀ d i : Nat, i + d = 8 →
    (∃ l, l < 8 ∧ ¬ xq l ≤ 0 ∧ xi l = id ∧ ∀ post : Int32 → SX → Prop, post (xq l) (cap, cnt - 1, nid, cost, upd xi l 0, upd xp l 0, upd xq l 0) →
      wX_cancel_2 post id cap cnt nid cost xi xp xq (d + 1) (nI i)) ∨
    ((∀ l, i ≤ l → l < 8 → ¬ xq l ≤ 0 → ¬ xi l = id) ∧ ∀ post : Int32 → SX → Prop, post (-3) (cap, cnt, nid, cost, xi, xp, xq) →
      wX_cancel_2 post id cap cnt nid cost xi xp xq (d + 1) (nI i)) := by
  intro d
  induction d with
  | zero =>
    intro i hi
    cases (show i = 8 by omega)
    exact Or.inr ⟨fun l h1 h2 => absurd h2 (by omega), fun post hp => br_t ab_le8 hp⟩
  | succ d ih =>
    intro i hi
    have hl : i < 8 := by omega
    have e := ab_cl hl
    by_cases zq : xq i ≤ 0
    · have st : ∀ post : Int32 → SX → Prop, wX_cancel_2 post id cap cnt nid cost xi xp xq (d + 1) (nI (i + 1)) → wX_cancel_2 post id cap cnt nid cost xi xp xq (d + 1 + 1) (nI i) :=
        fun post hp => br_f (ab_ge8 hl) ⟨ab_in hl, br_t (by rw [e]; exact zq) fun y ey => by rw [ey, nI_1]; exact hp⟩
      rcases ih (i + 1) (by omega) with ⟨l, h1, h2, h3, h4⟩ | ⟨h1, h2⟩
      · exact Or.inl ⟨l, h1, h2, h3, fun post hp => st post (h4 post hp)⟩
      · refine Or.inr ⟨fun l k1 k2 k3 => ?_, fun post hp => st post (h2 post hp)⟩
        by_cases el : l = i
        · subst el; exact (k3 zq).elim
        · exact h1 l (by omega) k2 k3
    · by_cases z : xi i = id
      · refine Or.inl ⟨i, hl, zq, z, fun post hp => br_f (ab_ge8 hl) ⟨ab_in hl, br_f (by rw [e]; exact zq) ⟨ab_in hl, br_t (by rw [e]; exact z) ⟨ab_in hl, fun w ew => ⟨ab_in hl, fun a ea => ⟨ab_in hl, fun b eb => ⟨ab_in hl, fun c ec => fun y ey => ?_⟩⟩⟩⟩⟩⟩⟩
        subst ew ea eb ec ey
        rw [e]; exact hp
      · have st : ∀ post : Int32 → SX → Prop, wX_cancel_2 post id cap cnt nid cost xi xp xq (d + 1) (nI (i + 1)) → wX_cancel_2 post id cap cnt nid cost xi xp xq (d + 1 + 1) (nI i) :=
          fun post hp => br_f (ab_ge8 hl) ⟨ab_in hl, br_f (by rw [e]; exact zq) ⟨ab_in hl, br_f (by rw [e]; exact z) fun y ey => by rw [ey, nI_1]; exact hp⟩⟩
        rcases ih (i + 1) (by omega) with ⟨l, h1, h2, h3, h4⟩ | ⟨h1, h2⟩
        · exact Or.inl ⟨l, h1, h2, h3, fun post hp => st post (h4 post hp)⟩
        · refine Or.inr ⟨fun l k1 k2 k3 => ?_, fun post hp => st post (h2 post hp)⟩
          by_cases el : l = i
          · subst el; exact z
          · exact h1 l (by omega) k2 k3

theorem ab_xqty {cap cnt nid cost id : Int32} {xi xp xq : Nat → Int32} : ∀ d i : Nat, i + d = 8 →
    (∃ l, l < 8 ∧ ¬ xq l ≤ 0 ∧ xi l = id ∧ ∀ post : Int32 → Prop, post (xq l) →
      wX_qtyOf_2 post id cap cnt nid cost xi xp xq (d + 1) (nI i)) ∨
    ((∀ l, i ≤ l → l < 8 → ¬ xq l ≤ 0 → ¬ xi l = id) ∧ ∀ post : Int32 → Prop, post 0 →
      wX_qtyOf_2 post id cap cnt nid cost xi xp xq (d + 1) (nI i)) := by
  intro d
  induction d with
  | zero =>
    intro i hi
    cases (show i = 8 by omega)
    exact Or.inr ⟨fun l h1 h2 => absurd h2 (by omega), fun post hp => br_t ab_le8 hp⟩
  | succ d ih =>
    intro i hi
    have hl : i < 8 := by omega
    have e := ab_cl hl
    by_cases zq : xq i ≤ 0
    · have st : ∀ post : Int32 → Prop, wX_qtyOf_2 post id cap cnt nid cost xi xp xq (d + 1) (nI (i + 1)) → wX_qtyOf_2 post id cap cnt nid cost xi xp xq (d + 1 + 1) (nI i) :=
        fun post hp => br_f (ab_ge8 hl) ⟨ab_in hl, br_t (by rw [e]; exact zq) fun y ey => by rw [ey, nI_1]; exact hp⟩
      rcases ih (i + 1) (by omega) with ⟨l, h1, h2, h3, h4⟩ | ⟨h1, h2⟩
      · exact Or.inl ⟨l, h1, h2, h3, fun post hp => st post (h4 post hp)⟩
      · refine Or.inr ⟨fun l k1 k2 k3 => ?_, fun post hp => st post (h2 post hp)⟩
        by_cases el : l = i
        · subst el; exact (k3 zq).elim
        · exact h1 l (by omega) k2 k3
    · by_cases z : xi i = id
      · refine Or.inl ⟨i, hl, zq, z, fun post hp => br_f (ab_ge8 hl) ⟨ab_in hl, br_f (by rw [e]; exact zq) ⟨ab_in hl, br_t (by rw [e]; exact z) ⟨ab_in hl, ?_⟩⟩⟩⟩
        rw [e]; exact hp
      · have st : ∀ post : Int32 → Prop, wX_qtyOf_2 post id cap cnt nid cost xi xp xq (d + 1) (nI (i + 1)) → wX_qtyOf_2 post id cap cnt nid cost xi xp xq (d + 1 + 1) (nI i) :=
          fun post hp => br_f (ab_ge8 hl) ⟨ab_in hl, br_f (by rw [e]; exact zq) ⟨ab_in hl, br_f (by rw [e]; exact z) fun y ey => by rw [ey, nI_1]; exact hp⟩⟩
        rcases ih (i + 1) (by omega) with ⟨l, h1, h2, h3, h4⟩ | ⟨h1, h2⟩
        · exact Or.inl ⟨l, h1, h2, h3, fun post hp => st post (h4 post hp)⟩
        · refine Or.inr ⟨fun l k1 k2 k3 => ?_, fun post hp => st post (h2 post hp)⟩
          by_cases el : l = i
          · subst el; exact z
          · exact h1 l (by omega) k2 k3

/-! the reference -/
theorem ab_ydrop4 {post : SY → Prop} {cap iss cost : Int32} {yp yq yi : Nat → Int32} {m b : Nat} (hm : m + 1 ≤ 8)
    (hp : post (cap, nI m, iss, cost, ab_sh yp b (m + 1), ab_sh yq b (m + 1), ab_sh yi b (m + 1))) : ∀ d i : Nat, i + d = m + 1 → b < i →
      wY_drop_4 post cap (nI (m + 1)) iss cost (d + 1) (nI i) (ab_sh yp b i) (ab_sh yq b i) (ab_sh yi b i) := by
  intro d
  induction d with
  | zero =>
    intro i hi hb
    cases (show i = m + 1 by omega)
    refine br_t (nI_le (Nat.le_refl _) (by omega)) fun y ey => ?_
    rw [ey, nI_pred]; exact hp
  | succ d ih =>
    intro i hi hb
    have hl : i < 8 := by omega
    have e := ab_cl hl
    have e1 : nI i - 1 = nI (i - 1) := by
      obtain ⟨o, rfl⟩ : ∃ o, i = o + 1 := ⟨i - 1, by omega⟩
      exact nI_pred o
    have hl1 : i - 1 < 8 := by omega
    have e2 := ab_cl hl1
    have hin : vp_in (nI i - 1) 8 := by rw [e1]; exact ab_in hl1
    refine br_f (nI_ge (by omega) (by omega)) ⟨ab_in hl, hin, fun a ea => ⟨ab_in hl, hin, fun c ec => ⟨ab_in hl, hin, fun o eo => fun y ey => ?_⟩⟩⟩
    subst ea ec eo ey
    rw [e1, e, e2, ab_shS yp hb, ab_shS yq hb, ab_shS yi hb, nI_1]
    exact ih (i + 1) (by omega) (by omega)
theorem ab_ydrop {post : SY → Prop} {cap iss cost : Int32} {yp yq yi : Nat → Int32} {m b : Nat} (hm : m + 1 ≤ 8) (hb : b < m + 1)
    (hp : post (cap, nI m, iss, cost, ab_sh yp b (m + 1), ab_sh yq b (m + 1), ab_sh yi b (m + 1))) :
    wpY_drop post (cap, nI (m + 1), iss, cost, yp, yq, yi) (nI b) := by
  have h := ab_ydrop4 hm hp (m - b) (b + 1) (by omega) (by omega)
  rw [ab_sh0, ab_sh0, ab_sh0] at h
  exact fun y ey => ⟨m - b + 1, by rw [ey, nI_1]; exact h⟩

theorem ab_ybest4 {L cap iss cost : Int32} {yp yq yi : Nat → Int32} {m : Nat} (hm : m ≤ 8) : ∀ (d t : Nat) (r : Int32), t + d = m → ab_BY L yp t r →
    ∃ s, ab_BY L yp m s ∧ ∀ post : Int32 → Prop, post s → wY_best_4 post L cap (nI m) iss cost yp yq yi (d + 1) r (nI t) := by
  intro d
  induction d with
  | zero =>
    intro t r ht hB
    cases (show t = m by omega)
    exact ⟨r, hB, fun post hp => br_t (nI_le (Nat.le_refl _) (by omega)) hp⟩
  | succ d ih =>
    intro t r ht hB
    have hl : t < 8 := by omega
    have e := ab_cl hl
    have hg : ¬ nI m ≤ nI t := nI_ge (by omega) (by omega)
    by_cases c : L < yp t
    · obtain ⟨s, hs, hw⟩ := ih (t + 1) r (by omega) (ab_BY_skip hB c)
      exact ⟨s, hs, fun post hp => br_f hg ⟨ab_in hl, br_t (by rw [e]; exact c) fun y ey => by rw [ey, nI_1]; exact hw post hp⟩⟩
    · have c' : ¬ L < yp (nI t).toNatClampNeg := by rw [e]; exact c
      rcases hB with ⟨er, h⟩ | ⟨b, hb, er, h1, h2⟩
      · obtain ⟨s, hs, hw⟩ := ih (t + 1) (nI t) (by omega) (ab_BY_new h c)
        exact ⟨s, hs, fun post hp => br_f hg ⟨ab_in hl, br_f c' (br_t (by rw [er]; decide) fun y ey => by rw [ey, nI_1]; exact hw post hp)⟩⟩
      · have hbl : b < 8 := by omega
        have e3 := ab_cl hbl
        have hr : ¬ r < 0 := by rw [er]; exact nI_pos (by omega)
        have hri : vp_in r 8 := by rw [er]; exact ab_in hbl
        by_cases k : yp b ≤ yp t
        · obtain ⟨s, hs, hw⟩ := ih (t + 1) (nI b) (by omega) (ab_BY_keep hb h1 h2 k)
          exact ⟨s, hs, fun post hp => br_f hg ⟨ab_in hl, br_f c' (br_f hr ⟨ab_in hl, hri, br_t (by rw [er, e, e3]; exact k) fun y ey => by rw [ey, nI_1, er]; exact hw post hp⟩)⟩⟩
        · obtain ⟨s, hs, hw⟩ := ih (t + 1) (nI t) (by omega) (ab_BY_better h2 c k)
          exact ⟨s, hs, fun post hp => br_f hg ⟨ab_in hl, br_f c' (br_f hr ⟨ab_in hl, hri, br_f (by rw [er, e, e3]; exact k) fun y ey => by rw [ey, nI_1]; exact hw post hp⟩)⟩⟩
theorem ab_ybest (L cap iss cost : Int32) (yp yq yi : Nat → Int32) {m : Nat} (hm : m ≤ 8) :
    ∃ s, ab_BY L yp m s ∧ ∀ post : Int32 → Prop, post s → wpY_best post (cap, nI m, iss, cost, yp, yq, yi) L := by
  obtain ⟨s, hs, hw⟩ := ab_ybest4 (L := L) (cap := cap) (iss := iss) (cost := cost) (yp := yp) (yq := yq) (yi := yi) hm m 0 (-1) (by omega) (ab_BY0 L yp)
  exact ⟨s, hs, fun post hp => ⟨_, hw post hp⟩⟩

theorem ab_ycancel {cap iss cost id : Int32} {yp yq yi : Nat → Int32} {m : Nat} (hm : m ≤ 8) : ∀ d j : Nat, j + d = m →
    (∃ l, l < m ∧ yi l = id ∧ ∀ post : Int32 → SY → Prop, post (yq l) (cap, nI (m - 1), iss, cost, ab_sh yp l m, ab_sh yq l m, ab_sh yi l m) →
      wY_cancel_2 post id cap (nI m) iss cost yp yq yi (d + 1) (nI j)) ∨
    ((∀ l, j ≤ l → l < m → ¬ yi l = id) ∧ ∀ post : Int32 → SY → Prop, post (-3) (cap, nI m, iss, cost, yp, yq, yi) →
      wY_cancel_2 post id cap (nI m) iss cost yp yq yi (d + 1) (nI j)) := by
  intro d
  induction d with
  | zero =>
    intro j hj
    cases (show j = m by omega)
    exact Or.inr ⟨fun l h1 h2 => absurd h2 (by omega), fun post hp => br_t (nI_le (Nat.le_refl _) (by omega)) hp⟩
  | succ d ih =>
    intro j hj
    have hl : j < 8 := by omega
    have e := ab_cl hl
    have hg : ¬ nI m ≤ nI j := nI_ge (by omega) (by omega)
    by_cases z : yi j = id
    · refine Or.inl ⟨j, by omega, z, fun post hp => br_f hg ⟨ab_in hl, br_t (by rw [e]; exact z) ⟨ab_in hl, fun w ew => ?_⟩⟩⟩
      subst ew
      rw [e]
      obtain ⟨o, rfl⟩ : ∃ o, m = o + 1 := ⟨m - 1, by omega⟩
      exact ab_ydrop hm (by omega) hp
    · have st : ∀ post : Int32 → SY → Prop, wY_cancel_2 post id cap (nI m) iss cost yp yq yi (d + 1) (nI (j + 1)) → wY_cancel_2 post id cap (nI m) iss cost yp yq yi (d + 1 + 1) (nI j) :=
        fun post hp => br_f hg ⟨ab_in hl, br_f (by rw [e]; exact z) fun y ey => by rw [ey, nI_1]; exact hp⟩
      rcases ih (j + 1) (by omega) with ⟨l, h1, h2, h3⟩ | ⟨h1, h2⟩
      · exact Or.inl ⟨l, h1, h2, fun post hp => st post (h3 post hp)⟩
      · refine Or.inr ⟨fun l k1 k2 => ?_, fun post hp => st post (h2 post hp)⟩
        by_cases el : l = j
        · subst el; exact z
        · exact h1 l (by omega) k2

theorem ab_yqty {cap iss cost id : Int32} {yp yq yi : Nat → Int32} {m : Nat} (hm : m ≤ 8) : ∀ d j : Nat, j + d = m →
    (∃ l, l < m ∧ yi l = id ∧ ∀ post : Int32 → Prop, post (yq l) →
      wY_qtyOf_2 post id cap (nI m) iss cost yp yq yi (d + 1) (nI j)) ∨
    ((∀ l, j ≤ l → l < m → ¬ yi l = id) ∧ ∀ post : Int32 → Prop, post 0 →
      wY_qtyOf_2 post id cap (nI m) iss cost yp yq yi (d + 1) (nI j)) := by
  intro d
  induction d with
  | zero =>
    intro j hj
    cases (show j = m by omega)
    exact Or.inr ⟨fun l h1 h2 => absurd h2 (by omega), fun post hp => br_t (nI_le (Nat.le_refl _) (by omega)) hp⟩
  | succ d ih =>
    intro j hj
    have hl : j < 8 := by omega
    have e := ab_cl hl
    have hg : ¬ nI m ≤ nI j := nI_ge (by omega) (by omega)
    by_cases z : yi j = id
    · refine Or.inl ⟨j, by omega, z, fun post hp => br_f hg ⟨ab_in hl, br_t (by rw [e]; exact z) ⟨ab_in hl, ?_⟩⟩⟩
      rw [e]; exact hp
    · have st : ∀ post : Int32 → Prop, wY_qtyOf_2 post id cap (nI m) iss cost yp yq yi (d + 1) (nI (j + 1)) → wY_qtyOf_2 post id cap (nI m) iss cost yp yq yi (d + 1 + 1) (nI j) :=
        fun post hp => br_f hg ⟨ab_in hl, br_f (by rw [e]; exact z) fun y ey => by rw [ey, nI_1]; exact hp⟩
      rcases ih (j + 1) (by omega) with ⟨l, h1, h2, h3⟩ | ⟨h1, h2⟩
      · exact Or.inl ⟨l, h1, h2, fun post hp => st post (h3 post hp)⟩
      · refine Or.inr ⟨fun l k1 k2 => ?_, fun post hp => st post (h2 post hp)⟩
        by_cases el : l = j
        · subst el; exact z
        · exact h1 l (by omega) k2
end
section
/-! take: the component's rounds and the reference's units, and both in lockstep -/
theorem ab_xbest35 {L : Int32} {xi xp xq : Nat → Int32} : ∀ (d t : Nat) (r : Int32), t + d = 8 → ab_BX L xi xp xq t r →
    ∃ s, ab_BX L xi xp xq 8 s ∧ ∀ (post : Int32 → SX → Prop) (J : Int32 → Int32 → Int32 → Int32 → Int32 → (Nat → Int32) → (Nat → Int32) → (Nat → Int32) → Prop)
      (x3 x4 x5 x6 cap cnt nid cost : Int32), wX_take_35 post J L x3 x4 x5 x6 cap cnt nid cost xi xp xq 1 s (nI 8) →
        wX_take_35 post J L x3 x4 x5 x6 cap cnt nid cost xi xp xq (d + 1) r (nI t) := by
  intro d
  induction d with
  | zero =>
    intro t r ht hB
    cases (show t = 8 by omega)
    exact ⟨r, hB, fun post J x3 x4 x5 x6 cap cnt nid cost hp => hp⟩
  | succ d ih =>
    intro t r ht hB
    have hl : t < 8 := by omega
    have e := ab_cl hl
    have hi := ab_in hl
    by_cases cq : xq t ≤ 0
    · obtain ⟨s, hs, hw⟩ := ih (t + 1) r (by omega) (ab_BX_skip hB (fun z => absurd cq z))
      exact ⟨s, hs, fun post J x3 x4 x5 x6 cap cnt nid cost hp => br_f (ab_ge8 hl) ⟨hi, br_t (by rw [e]; exact cq) fun y ey => by rw [ey, nI_1]; exact hw _ _ _ _ _ _ _ _ _ _ hp⟩⟩
    have cq' : ¬ xq (nI t).toNatClampNeg ≤ 0 := by rw [e]; exact cq
    by_cases c : L < xp t
    · obtain ⟨s, hs, hw⟩ := ih (t + 1) r (by omega) (ab_BX_skip hB (fun _ => c))
      exact ⟨s, hs, fun post J x3 x4 x5 x6 cap cnt nid cost hp => br_f (ab_ge8 hl) ⟨hi, br_f cq' ⟨hi, br_t (by rw [e]; exact c) fun y ey => by rw [ey, nI_1]; exact hw _ _ _ _ _ _ _ _ _ _ hp⟩⟩⟩
    have c' : ¬ L < xp (nI t).toNatClampNeg := by rw [e]; exact c
    rcases hB with ⟨er, h⟩ | ⟨b, hb, er, h0, h1, h2⟩
    · obtain ⟨s, hs, hw⟩ := ih (t + 1) (nI t) (by omega) (ab_BX_new h cq c)
      exact ⟨s, hs, fun post J x3 x4 x5 x6 cap cnt nid cost hp => br_f (ab_ge8 hl) ⟨hi, br_f cq' ⟨hi, br_f c' (br_t (by rw [er]; decide) fun y ey => by rw [ey, nI_1]; exact hw _ _ _ _ _ _ _ _ _ _ hp)⟩⟩⟩
    subst er
    have hbl : b < 8 := by omega
    have e3 := ab_cl hbl
    have hr : ¬ nI b < 0 := nI_pos (by omega)
    have hri : vp_in (nI b) 8 := ab_in hbl
    by_cases k : xp t < xp b
    · obtain ⟨s, hs, hw⟩ := ih (t + 1) (nI t) (by omega) (ab_BX_better h2 cq c (Or.inl k))
      exact ⟨s, hs, fun post J x3 x4 x5 x6 cap cnt nid cost hp => br_f (ab_ge8 hl) ⟨hi, br_f cq' ⟨hi, br_f c' (br_f hr ⟨hi, hri, br_t (by rw [e, e3]; exact k) fun y ey => by rw [ey, nI_1]; exact hw _ _ _ _ _ _ _ _ _ _ hp⟩)⟩⟩⟩
    have k' : ¬ xp (nI t).toNatClampNeg < xp (nI b).toNatClampNeg := by rw [e, e3]; exact k
    by_cases k2 : xp t = xp b
    · by_cases k3 : xi b ≤ xi t
      · obtain ⟨s, hs, hw⟩ := ih (t + 1) (nI b) (by omega) (ab_BX_keep hb h0 h1 h2 k (fun _ => k3))
        exact ⟨s, hs, fun post J x3 x4 x5 x6 cap cnt nid cost hp => br_f (ab_ge8 hl) ⟨hi, br_f cq' ⟨hi, br_f c' (br_f hr ⟨hi, hri, br_f k' ⟨hi, hri, br_t (by rw [e, e3]; exact k2) ⟨hi, hri, br_t (by rw [e, e3]; exact k3) fun y ey => by rw [ey, nI_1]; exact hw _ _ _ _ _ _ _ _ _ _ hp⟩⟩⟩)⟩⟩⟩
      · obtain ⟨s, hs, hw⟩ := ih (t + 1) (nI t) (by omega) (ab_BX_better h2 cq c (Or.inr ⟨k2, k3⟩))
        exact ⟨s, hs, fun post J x3 x4 x5 x6 cap cnt nid cost hp => br_f (ab_ge8 hl) ⟨hi, br_f cq' ⟨hi, br_f c' (br_f hr ⟨hi, hri, br_f k' ⟨hi, hri, br_t (by rw [e, e3]; exact k2) ⟨hi, hri, br_f (by rw [e, e3]; exact k3) fun y ey => by rw [ey, nI_1]; exact hw _ _ _ _ _ _ _ _ _ _ hp⟩⟩⟩)⟩⟩⟩
    · obtain ⟨s, hs, hw⟩ := ih (t + 1) (nI b) (by omega) (ab_BX_keep hb h0 h1 h2 k (fun z => absurd z k2))
      exact ⟨s, hs, fun post J x3 x4 x5 x6 cap cnt nid cost hp => br_f (ab_ge8 hl) ⟨hi, br_f cq' ⟨hi, br_f c' (br_f hr ⟨hi, hri, br_f k' ⟨hi, hri, br_f (by rw [e, e3]; exact k2) fun y ey => by rw [ey, nI_1]; exact hw _ _ _ _ _ _ _ _ _ _ hp⟩⟩)⟩⟩⟩

section
variable {post : Int32 → SX → Prop} {J : Int32 → Int32 → Int32 → Int32 → Int32 → (Nat → Int32) → (Nat → Int32) → (Nat → Int32) → Prop}
variable {L x4 x5 x6 cap cnt nid cost : Int32} {xi xp xq : Nat → Int32}
theorem ab_x35none {x3 : Int32} (h : J 0 x4 x5 (x6 + 1) cnt xi xp xq) : wX_take_35 post J L x3 x4 x5 x6 cap cnt nid cost xi xp xq 1 (-1) (nI 8) :=
  br_t ab_le8 (br_f (by decide) (nm_e h))
theorem ab_x157full {x3 v : Int32} {i : Nat} (hi : i < 8) (hq : xq i = v)
    (h : J (x3 - v) (x4 + v) (x5 + v * xp i) (x6 + 1) (cnt - 1) (upd xi i 0) (upd xp i 0) (upd xq i 0)) :
    wX_take_157 post J L x3 x4 x5 x6 (nI i) v cap cnt nid cost xi xp xq := by
  have e := ab_cl hi
  have hin := ab_in hi
  unfold wX_take_157
  refine ⟨hin, fun a ea => fun b eb => fun c ec => ⟨hin, hin, fun o eo => ?_⟩⟩
  have eo' : o = upd xq i 0 := by rw [eo, e, hq, Int32.sub_self]
  refine ⟨hin, br_t (by rw [eo', e, ab_us]) ⟨hin, fun a1 e1 => ⟨hin, fun a2 e2 => fun c3 e3 => fun c4 e4 => ?_⟩⟩⟩
  subst e1 e2 e3 e4 ea eb ec
  rw [eo', e]; exact h
theorem ab_x157part {x3 v y : Int32} {i : Nat} (hi : i < 8) (hq : xq i - v = y) (hy : ¬ y = 0)
    (h : J (x3 - v) (x4 + v) (x5 + v * xp i) (x6 + 1) cnt xi xp (upd xq i y)) :
    wX_take_157 post J L x3 x4 x5 x6 (nI i) v cap cnt nid cost xi xp xq := by
  have e := ab_cl hi
  have hin := ab_in hi
  unfold wX_take_157
  refine ⟨hin, fun a ea => fun b eb => fun c ec => ⟨hin, hin, fun o eo => ?_⟩⟩
  have eo' : o = upd xq i y := by rw [eo, e, hq]
  refine ⟨hin, br_f (by rw [eo', e, ab_us]; exact hy) fun c4 e4 => ?_⟩
  subst e4 ea eb ec
  rw [eo', e]; exact h
theorem ab_x35full {i q rem : Nat} (hi : i < 8) (hq : xq i = nI q) (hle : q ≤ rem) (hrem : rem < 2 ^ 31)
    (h : J (nI (rem - q)) (x4 + nI q) (x5 + nI q * xp i) (x6 + 1) (cnt - 1) (upd xi i 0) (upd xp i 0) (upd xq i 0)) :
    wX_take_35 post J L (nI rem) x4 x5 x6 cap cnt nid cost xi xp xq 1 (nI i) (nI 8) := by
  refine br_t ab_le8 (br_t (nI_pos' (by omega)) ⟨ab_in hi, fun y ey => ?_⟩)
  rw [ab_cl hi, hq] at ey
  subst ey
  refine br_t (nI_le hle hrem) (ab_x157full hi hq ?_)
  rw [ab_sub hle]; exact h
theorem ab_x35part {i q rem : Nat} (hi : i < 8) (hq : xq i = nI q) (hlt : rem < q) (hq31 : q < 2 ^ 31)
    (h : J (nI 0) (x4 + nI rem) (x5 + nI rem * xp i) (x6 + 1) cnt xi xp (upd xq i (nI (q - rem)))) :
    wX_take_35 post J L (nI rem) x4 x5 x6 cap cnt nid cost xi xp xq 1 (nI i) (nI 8) := by
  refine br_t ab_le8 (br_t (nI_pos' (by omega)) ⟨ab_in hi, fun y ey => ?_⟩)
  rw [ab_cl hi, hq] at ey
  subst ey
  refine br_f (nI_ge hlt hq31) (ab_x157part (y := nI (q - rem)) hi ?_ (nI_ne0 (by omega) (by omega)) ?_)
  · rw [hq, ab_sub (by omega)]
  · rw [ab_sub (Nat.le_refl rem), Nat.sub_self]; exact h
theorem ab_x18exit {x3 : Int32} (hc : 8 ≤ x6 ∨ x3 ≤ 0) (h : post x4 (cap, cnt, nid, x5, xi, xp, xq)) (n : Nat) :
    wX_take_18 post L cap nid cost (n + 1) x3 x4 x5 x6 cnt xi xp xq := by
  refine br_c (fun _ => h) (fun z => ?_)
  rcases hc with t | t
  · exact (z t).elim
  · exact br_t t h
theorem ab_x18step {rem rd n : Nat} (hrd : rd < 8) (h0 : 0 < rem) (hrem : rem < 2 ^ 31)
    (h : wX_take_35 post (wX_take_18 post L cap nid cost n) L (nI rem) x4 x5 (nI rd) cap cnt nid cost xi xp xq (8 + 1) (-1) (nI 0)) :
    wX_take_18 post L cap nid cost (n + 1) (nI rem) x4 x5 (nI rd) cnt xi xp xq :=
  br_f (ab_ge8 hrd) (br_f (nI_nle h0 hrem) ⟨8 + 1, h⟩)
end

section
variable {post : Int32 → SY → Prop} {L cap iss : Int32} {yp yi : Nat → Int32} {Q b m : Nat}
theorem ab_y21exit {r cnt w : Int32} {yq : Nat → Int32} {f : Nat} (hf : Q ≤ f) (hf31 : f < 2 ^ 31) (h : post (nI f) (cap, cnt, iss, w, yp, yq, yi)) (n : Nat) :
    wY_take_21 post L (nI Q) (n + 1) (nI f) r cap cnt iss w yp yq yi := br_t (nI_le hf hf31) h
theorem ab_y21none {x3 cnt w : Int32} {yq : Nat → Int32} (h : post x3 (cap, cnt, iss, w, yp, yq, yi)) (n : Nat) :
    wY_take_21 post L (nI Q) (n + 1) x3 (-1) cap cnt iss w yp yq yi := br_c (fun _ => h) (fun _ => br_t (by decide) h)
theorem ab_y21unit {w : Int32} {yq : Nat → Int32} {f q N : Nat} (hm : m ≤ 8) (hb : b < m) (hf : f < Q) (hQ : Q < 2 ^ 31) (hB : ab_BY L yp m (nI b))
    (hq : yq b = nI (q + 1)) (h0 : 0 < q) (hq31 : q + 1 < 2 ^ 31)
    (h : wY_take_21 post L (nI Q) N (nI (f + 1)) (nI b) cap (nI m) iss (w + yp b) yp (upd yq b (nI q)) yi) :
    wY_take_21 post L (nI Q) (N + 1) (nI f) (nI b) cap (nI m) iss w yp yq yi := by
  obtain ⟨s, hs, hw⟩ := ab_ybest L cap iss (w + yp b) yp (upd yq b (nI q)) yi hm
  have es : s = nI b := ab_BY_uniq hs hB
  subst es
  have hbl : b < 8 := by omega
  have e := ab_cl hbl
  have hin := ab_in hbl
  refine br_f (nI_ge hf hQ) (br_f (nI_pos (by omega)) ⟨hin, hin, fun a ea => fun y ey => ⟨hin, fun c ec => ⟨hin, ?_⟩⟩⟩)
  have ea' : a = upd yq b (nI q) := by rw [ea, e, hq, nI_pred]
  refine br_f (by rw [ea', e, ab_us]; exact nI_ne0 h0 (by omega)) ?_
  rw [ea', ey, ec, nI_1, e]
  exact hw (fun r => wY_take_21 post L (nI Q) N (nI (f + 1)) r cap (nI m) iss (w + yp b) yp (upd yq b (nI q)) yi) h
theorem ab_uu {a : Nat → Int32} {k : Nat} {x y : Int32} : upd (upd a k x) k y = upd a k y := by
  funext j
  unfold upd
  by_cases e : j = k
  · rw [if_pos e, if_pos e]
  · rw [if_neg e, if_neg e, if_neg e]
theorem ab_u0 {a : Nat → Int32} {k : Nat} {x : Int32} (h : a k = x) : upd a k x = a := by
  funext j
  unfold upd
  by_cases e : j = k
  · rw [if_pos e, e, h]
  · rw [if_neg e]
theorem ab_pay0 (w p : Int32) : w + nI 0 * p = w := by
  rw [nI_0, Int32.zero_mul, Int32.add_zero]
theorem ab_payS (w p : Int32) (t : Nat) : w + p + nI t * p = w + nI (t + 1) * p := by
  rw [← nI_1, Int32.add_mul, Int32.one_mul, Int32.add_assoc, Int32.add_comm p]
theorem ab_y21units (hm : m ≤ 8) (hb : b < m) (hQ : Q < 2 ^ 31) (hB : ab_BY L yp m (nI b)) (N : Nat) : ∀ (t f q : Nat) (w : Int32) (yq : Nat → Int32),
    t < q → q < 2 ^ 31 → f + t ≤ Q → yq b = nI q →
    wY_take_21 post L (nI Q) N (nI (f + t)) (nI b) cap (nI m) iss (w + nI t * yp b) yp (upd yq b (nI (q - t))) yi →
    wY_take_21 post L (nI Q) (N + t) (nI f) (nI b) cap (nI m) iss w yp yq yi := by
  intro t
  induction t with
  | zero =>
    intro f q w yq h1 h2 h3 h4 h
    rw [ab_pay0, Nat.sub_zero, ab_u0 h4] at h
    exact h
  | succ t ih =>
    intro f q w yq h1 h2 h3 h4 h
    obtain ⟨o, rfl⟩ : ∃ o, q = o + 1 := ⟨q - 1, by omega⟩
    refine ab_y21unit (q := o) (N := N + t) hm hb (by omega) hQ hB h4 (by omega) h2 ?_
    refine ih (f + 1) o (w + yp b) (upd yq b (nI o)) (by omega) (by omega) (by omega) ab_us ?_
    rw [ab_uu, ab_payS, show f + 1 + t = f + (t + 1) by omega, show o - t = o + 1 - (t + 1) by omega]
    exact h
theorem ab_y21last {w : Int32} {yq : Nat → Int32} {f : Nat} (hm : m + 1 ≤ 8) (hb : b < m + 1) (hf : f < Q) (hQ : Q < 2 ^ 31) (hq : yq b = nI 1)
    (h : ∀ s, ab_BY L (ab_sh yp b (m + 1)) m s → ∃ N, wY_take_21 post L (nI Q) N (nI (f + 1)) s cap (nI m) iss (w + yp b) (ab_sh yp b (m + 1)) (ab_sh (upd yq b 0) b (m + 1)) (ab_sh yi b (m + 1))) :
    ∃ N, wY_take_21 post L (nI Q) N (nI f) (nI b) cap (nI (m + 1)) iss w yp yq yi := by
  obtain ⟨s, hs, hw⟩ := ab_ybest L cap iss (w + yp b) (ab_sh yp b (m + 1)) (ab_sh (upd yq b 0) b (m + 1)) (ab_sh yi b (m + 1)) (m := m) (by omega)
  obtain ⟨N, hN⟩ := h s hs
  refine ⟨N + 1, ?_⟩
  have hbl : b < 8 := by omega
  have e := ab_cl hbl
  have hin := ab_in hbl
  refine br_f (nI_ge hf hQ) (br_f (nI_pos (by omega)) ⟨hin, hin, fun a ea => fun y ey => ⟨hin, fun c ec => ⟨hin, ?_⟩⟩⟩)
  have ea' : a = upd yq b 0 := by rw [ea, e, hq]; rfl
  refine br_t (by rw [ea', e, ab_us]) ?_
  rw [ea', ey, ec, nI_1, e]
  refine ab_ydrop hm hb ?_
  exact hw (fun r => wY_take_21 post L (nI Q) N (nI (f + 1)) r cap (nI m) iss (w + yp b) (ab_sh yp b (m + 1)) (ab_sh (upd yq b 0) b (m + 1)) (ab_sh yi b (m + 1))) hN
theorem ab_y21full {w : Int32} {yq : Nat → Int32} {f q : Nat} (hm : m + 1 ≤ 8) (hb : b < m + 1) (hQ : Q < 2 ^ 31) (hB : ab_BY L yp (m + 1) (nI b))
    (h0 : 0 < q) (hf : f + q ≤ Q) (hq : yq b = nI q)
    (h : ∀ s, ab_BY L (ab_sh yp b (m + 1)) m s → ∃ N, wY_take_21 post L (nI Q) N (nI (f + q)) s cap (nI m) iss (w + nI q * yp b) (ab_sh yp b (m + 1)) (ab_sh (upd yq b 0) b (m + 1)) (ab_sh yi b (m + 1))) :
    ∃ N, wY_take_21 post L (nI Q) N (nI f) (nI b) cap (nI (m + 1)) iss w yp yq yi := by
  obtain ⟨t, rfl⟩ : ∃ t, q = t + 1 := ⟨q - 1, by omega⟩
  obtain ⟨N, hN⟩ := ab_y21last (post := post) (L := L) (cap := cap) (iss := iss) (yp := yp) (yi := yi) (w := w + nI t * yp b) (yq := upd yq b (nI 1)) (f := f + t) hm hb (by omega) hQ ab_us (by
    intro s hs
    rw [ab_uu, show f + t + 1 = f + (t + 1) by omega, Int32.add_assoc, Int32.add_comm (nI t * yp b), ← Int32.add_assoc, ab_payS]
    exact h s hs)
  refine ⟨N + t, ab_y21units hm hb hQ hB N t f (t + 1) w yq (by omega) (by omega) (by omega) hq ?_⟩
  rw [show t + 1 - t = 1 by omega]
  exact hN
theorem ab_y21part {w : Int32} {yq : Nat → Int32} {f q rem : Nat} (hm : m ≤ 8) (hb : b < m) (hQ : Q < 2 ^ 31) (hB : ab_BY L yp m (nI b))
    (hlt : rem < q) (hq31 : q < 2 ^ 31) (hf : f + rem = Q) (hq : yq b = nI q)
    (h : post (nI Q) (cap, nI m, iss, w + nI rem * yp b, yp, upd yq b (nI (q - rem)), yi)) :
    ∃ N, wY_take_21 post L (nI Q) N (nI f) (nI b) cap (nI m) iss w yp yq yi := by
  refine ⟨1 + rem, ab_y21units hm hb hQ hB 1 rem f q w yq hlt hq31 (by omega) hq ?_⟩
  rw [hf]
  exact ab_y21exit (Nat.le_refl Q) hQ h 0
end

/-- both sides of take, from related books: one answer, related books again -/
def ab_Out (z L cap nid cost iss : Int32) (Q m rd rem f : Nat) (w : Int32) (xi xp xq yp yq yi : Nat → Int32) : Prop :=
  ∃ (m' f' : Nat) (w' : Int32) (xi' xp' xq' yp' yq' yi' : Nat → Int32) (g' : Nat → Nat), m' ≤ m ∧ ab_K z m' xi' xp' xq' yp' yq' yi' g' ∧
    (∀ post : Int32 → SX → Prop, post (nI f') (cap, nI m', nid, w', xi', xp', xq') →
      ∃ n, wX_take_18 post L cap nid cost n (nI rem) (nI f) w (nI rd) (nI m) xi xp xq) ∧
    (∀ post : Int32 → SY → Prop, post (nI f') (cap, nI m', iss, w', yp', yq', yi') → ∀ s, ab_BY L yp m s →
      ∃ n, wY_take_21 post L (nI Q) n (nI f) s cap (nI m) iss w yp yq yi)

theorem ab_none {z L cap nid cost iss : Int32} {Q m rd rem f : Nat} {w : Int32} {xi xp xq yp yq yi : Nat → Int32} {g : Nat → Nat} {r s0 : Int32}
    (hK : ab_K z m xi xp xq yp yq yi g) (hrd : rd < 8) (h0 : 0 < rem) (hrem : rem < 2 ^ 31) (hs : ab_BY L yp m s0) (es : s0 = -1) (er : r = -1)
    (hw : ∀ (post : Int32 → SX → Prop) (J : Int32 → Int32 → Int32 → Int32 → Int32 → (Nat → Int32) → (Nat → Int32) → (Nat → Int32) → Prop)
      (x3 x4 x5 x6 cap cnt nid cost : Int32), wX_take_35 post J L x3 x4 x5 x6 cap cnt nid cost xi xp xq 1 r (nI 8) →
        wX_take_35 post J L x3 x4 x5 x6 cap cnt nid cost xi xp xq (8 + 1) (-1) (nI 0)) :
    ab_Out z L cap nid cost iss Q m rd rem f w xi xp xq yp yq yi := by
  refine ⟨m, f, w, xi, xp, xq, yp, yq, yi, g, Nat.le_refl m, hK, fun post hp => ⟨1 + 1, ?_⟩, fun post hp s hs' => ⟨0 + 1, ?_⟩⟩
  · refine ab_x18step hrd h0 hrem (hw _ _ _ _ _ _ _ _ _ _ ?_)
    rw [er]
    exact ab_x35none (ab_x18exit (Or.inr (by decide)) hp 0)
  · rw [ab_BY_uniq hs' hs, es]
    exact ab_y21none hp 0

theorem ab_take {z L cap nid cost iss : Int32} {Q : Nat} (hQ : Q < 2 ^ 31) : ∀ (m rd rem f : Nat) (w : Int32) (xi xp xq yp yq yi : Nat → Int32) (g : Nat → Nat),
    rd + m ≤ 8 → ab_K z m xi xp xq yp yq yi g → f + rem = Q → ab_Out z L cap nid cost iss Q m rd rem f w xi xp xq yp yq yi := by
  intro m
  induction m with
  | zero =>
    intro rd rem f w xi xp xq yp yq yi g hrd hK hf
    by_cases c : rem = 0 ∨ rd = 8
    · refine ⟨0, f, w, xi, xp, xq, yp, yq, yi, g, Nat.le_refl 0, hK, fun post hp => ⟨0 + 1, ab_x18exit ?_ hp 0⟩, fun post hp s hs => ⟨0 + 1, ?_⟩⟩
      · rcases c with c | c
        · right; rw [c]; decide
        · left; rw [c]; exact ab_le8
      · rw [ab_BY_uniq hs (ab_BY0 L yp)]
        exact ab_y21none hp 0
    · obtain ⟨r, hr, hw⟩ := ab_xbest35 8 0 (-1) (by omega) (ab_BX0 L xi xp xq)
      rcases ab_join hK hr (ab_BY0 L yp) with ⟨er, es⟩ | ⟨b, hb, _⟩
      · exact ab_none hK (by omega) (by omega) (by omega) (ab_BY0 L yp) rfl er hw
      · omega
  | succ m ih =>
    intro rd rem f w xi xp xq yp yq yi g hrd hK hf
    by_cases c : rem = 0
    · refine ⟨m + 1, f, w, xi, xp, xq, yp, yq, yi, g, Nat.le_refl _, hK, fun post hp => ⟨0 + 1, ab_x18exit ?_ hp 0⟩, fun post hp s hs => ⟨0 + 1, ab_y21exit (by omega) (by omega) hp 0⟩⟩
      right; rw [c]; decide
    obtain ⟨r, hr, hw⟩ := ab_xbest35 8 0 (-1) (by omega) (ab_BX0 L xi xp xq)
    obtain ⟨s0, hs0, _⟩ := ab_ybest L cap iss w yp yq yi (m := m + 1) (by omega)
    rcases ab_join hK hr hs0 with ⟨er, es⟩ | ⟨b, hb, es, er⟩
    · exact ab_none hK (by omega) (by omega) (by omega) hs0 es er hw
    subst es er
    obtain ⟨a1, a2, a3, a4, a5, a6⟩ := hK.1 b hb
    obtain ⟨q, hq0, hq31, hq⟩ := ab_nat a5
    rw [hq] at a4
    by_cases k : q ≤ rem
    · have hK' : ab_K z m (upd xi (g b) 0) (upd xp (g b) 0) (upd xq (g b) 0) (ab_sh yp b (m + 1)) (ab_sh (upd yq b 0) b (m + 1)) (ab_sh yi b (m + 1)) (fun j => g (ab_sk b j)) :=
        ab_drop hK hb (fun i hi => ab_un hi) (fun i hi => ab_un hi) (fun i hi => ab_un hi) ab_us (fun j hj => ab_shK hj)
          (fun j hj => by rw [ab_shK hj, ab_un (ab_sk_ne b j)]) (fun j hj => ab_shK hj)
      obtain ⟨m', f', w', xi', xp', xq', yp', yq', yi', g', h1, h2, h3, h4⟩ := ih (rd + 1) (rem - q) (f + q) (w + nI q * yp b) _ _ _ _ _ _ _ (by omega) hK' (by omega)
      refine ⟨m', f', w', xi', xp', xq', yp', yq', yi', g', by omega, h2, fun post hp => ?_, fun post hp s hs => ?_⟩
      · obtain ⟨n, hn⟩ := h3 post hp
        refine ⟨n + 1, ab_x18step (by omega) (by omega) (by omega) (hw _ _ _ _ _ _ _ _ _ _ (ab_x35full a1 a4 k (by omega) ?_))⟩
        rw [nI_add, nI_1, nI_pred, a3]; exact hn
      · rw [ab_BY_uniq hs hs0]
        exact ab_y21full (by omega) hb hQ hs0 hq0 (by omega) hq (h4 post hp)
    · have hK' := ab_part hK hb (show (0 : Int32) < nI (q - rem) from nI_lt (a := 0) (by omega) (by omega))
      refine ⟨m + 1, Q, w + nI rem * yp b, _, _, _, _, _, _, g, Nat.le_refl _, hK', fun post hp => ⟨1 + 1, ?_⟩, fun post hp s hs => ?_⟩
      · refine ab_x18step (by omega) (by omega) (by omega) (hw _ _ _ _ _ _ _ _ _ _ (ab_x35part a1 a4 (by omega) hq31 (ab_x18exit (Or.inr (by decide)) ?_ 0)))
        rw [nI_add, a3, hf]; exact hp
      · rw [ab_BY_uniq hs hs0]
        exact ab_y21part (by omega) hb hQ hs0 (by omega) hq31 hf hq hp
end
section
/-! What is owed -/
/-- the relation at the head of a turn whose first cell is k: (u : SX) is (f_cap, f_count, f_nextId, f_cost, a_ids, a_prices, a_qtys), (v : SY) is (f_cap, f_n, f_issued, f_cost, a_pr, a_qt, a_ids) -/
def i_Rel (k : Nat) (u : SX) (v : SY) : Prop :=
  ∃ (c m s : Nat) (w : Int32) (xi xp xq yp yq yi : Nat → Int32) (g : Nat → Nat), m ≤ c ∧ c ≤ 8 ∧ s ≤ k ∧
    ab_K (nI (s + 1)) m xi xp xq yp yq yi g ∧ u = (nI c, nI m, nI (s + 1), w, xi, xp, xq) ∧ v = (nI c, nI m, nI s, w, yp, yq, yi)
theorem i_up {k : Nat} {u : SX} {v : SY} (h : i_Rel k u v) : i_Rel (k + 3) u v := by
  obtain ⟨c, m, s, w, xi, xp, xq, yp, yq, yi, g, h1, h2, h3, hK, eu, ev⟩ := h
  exact ⟨c, m, s, w, xi, xp, xq, yp, yq, yi, g, h1, h2, by omega, hK, eu, ev⟩
theorem ab_rel0 {c : Nat} (h : c ≤ 8) : i_Rel 1 (nI c, 0, 1, 0, fun _ => 0, fun _ => 0, fun _ => 0) (nI c, 0, 0, 0, fun _ => 0, fun _ => 0, fun _ => 0) :=
  ⟨c, 0, 0, 0, fun _ => 0, fun _ => 0, fun _ => 0, fun _ => 0, fun _ => 0, fun _ => 0, fun _ => 0, by omega, h, by omega,
    ⟨fun j hj => absurd hj (Nat.not_lt_zero j), fun i _ => Or.inl rfl, fun j l _ hl => absurd hl (Nat.not_lt_zero l)⟩, rfl, rfl⟩
theorem i_vc0 (k0 : Int32) : wpX_init (fun u => wpY_init (fun v => i_Rel 1 u v) k0) k0 := by
  by_cases h0 : 0 ≤ k0
  · by_cases h8 : k0 ≤ 8
    · obtain ⟨c, hc, rfl⟩ := nI_of2 (x := k0) (M := 8) (n := 8) (by decide) (Int32.not_lt.mpr h0) h8
      exact br_t h0 (br_t h8 (br_t h0 (br_t h8 (ab_rel0 hc))))
    · exact br_t h0 (br_f h8 (br_t h0 (br_f h8 (ab_rel0 (c := 8) (Nat.le_refl 8)))))
  · exact br_f h0 (br_t (by decide) (br_f h0 (ab_rel0 (c := 0) (by decide))))
theorem i_vc_place {k : Nat} {u : SX} {v : SY} (I : i_Rel k u v) (hk : k + 3 ≤ 1537) (v1 : Int32) (v2 : Int32) : wpX_place (fun r u' => wpY_place (fun r' v' => r' = r ∧ i_Rel (k + 3) u' v') v v1 v2) u v1 v2 := by
  have I3 := i_up I
  obtain ⟨c, m, s, w, xi, xp, xq, yp, yq, yi, g, h1, h2, h3, hK, rfl, rfl⟩ := I
  by_cases c1 : v1 < 1
  · exact br_t c1 (br_t c1 ⟨rfl, I3⟩)
  by_cases c2 : 1000 < v1
  · exact br_f c1 (br_t c2 (br_f c1 (br_t c2 ⟨rfl, I3⟩)))
  by_cases c3 : v2 < 1
  · exact br_f c1 (br_f c2 (br_t c3 (br_f c1 (br_f c2 (br_t c3 ⟨rfl, I3⟩)))))
  by_cases c4 : v2 ≤ 100
  · by_cases c5 : m = c
    · subst c5
      exact br_f c1 (br_f c2 (br_f c3 (br_t c4 (br_f (nI_nlt (Nat.le_refl m) (by omega)) (br_f c1 (br_f c2 (br_f c3 (br_t c4 (br_t rfl ⟨rfl, I3⟩)))))))))
    · obtain ⟨l0, f1, f2⟩ := ab_free hK (by omega)
      obtain ⟨l, hl, hq, hX⟩ := ab_xplace (cap := nI c) (cnt := nI m) (nid := nI (s + 1)) (cost := w) (p := v1) (q := v2) (xi := xi) (xp := xp) (xq := xq) 8 0 rfl ⟨l0, by omega, f1, f2⟩
      have hm8 : m < 8 := by omega
      have e := ab_cl hm8
      have hin := ab_in hm8
      have hpos : 0 < v2 := by
        rw [ab_lt, ab_1T] at c3
        rw [ab_lt, ab_0T]
        omega
      have hK' := ab_place (p := v1) hK hl hq hpos (show nI (s + 1) < nI (s + 1 + 1) from nI_lt (by omega) (by omega))
      refine br_f c1 (br_f c2 (br_f c3 (br_t c4 (br_t (nI_lt (by omega) (by omega)) ⟨_, hX _ (br_f c1 (br_f c2 (br_f c3 (br_t c4 (br_f (fun z => c5 ((nI_eq (by omega) (by omega)).mp z)) fun y ey => ⟨hin, fun a1 e1 => ⟨hin, fun a2 e2 => ⟨hin, fun a3 e3 => fun x ex => ?_⟩⟩⟩)))))⟩))))
      subst e1 e2 e3 ex
      rw [nI_1] at ey
      subst ey
      refine ⟨rfl, c, m + 1, s + 1, w, _, _, _, _, _, _, _, by omega, h2, by omega, hK', ?_, ?_⟩
      · rw [nI_1, nI_1]
      · rw [nI_1, e]
  · exact br_f c1 (br_f c2 (br_f c3 (br_f c4 (br_f c1 (br_f c2 (br_f c3 (br_f c4 ⟨rfl, I3⟩)))))))
theorem ab_ids {z : Int32} {m : Nat} {xi xp xq yp yq yi : Nat → Int32} {g : Nat → Nat} (h : ab_K z m xi xp xq yp yq yi g)
    {j l : Nat} (hj : j < m) (hl : l < m) (c : yi j = yi l) : j = l := by
  rcases Nat.lt_trichotomy j l with t | t | t
  · exact (ab_irr (h.2.2 j l t hl) c).elim
  · exact t
  · exact (ab_irr (h.2.2 l j t hj) c.symm).elim
/-- a live slot is an order of the list -/
theorem ab_live {z : Int32} {m : Nat} {xi xp xq yp yq yi : Nat → Int32} {g : Nat → Nat} (h : ab_K z m xi xp xq yp yq yi g)
    {i : Nat} (hi : i < 8) (hq : ¬ xq i ≤ 0) : ∃ j, j < m ∧ g j = i := by
  rcases h.2.1 i hi with t | t
  · exact (hq (by rw [t, ab_le]; exact Int.le_refl _)).elim
  · exact t
theorem i_vc_cancel {k : Nat} {u : SX} {v : SY} (I : i_Rel k u v) (hk : k + 3 ≤ 1537) (v1 : Int32) : wpX_cancel (fun r u' => wpY_cancel (fun r' v' => r' = r ∧ i_Rel (k + 3) u' v') v v1) u v1 := by
  have I3 := i_up I
  obtain ⟨c, m, s, w, xi, xp, xq, yp, yq, yi, g, h1, h2, h3, hK, rfl, rfl⟩ := I
  rcases ab_xcancel (cap := nI c) (cnt := nI m) (nid := nI (s + 1)) (cost := w) (id := v1) (xi := xi) (xp := xp) (xq := xq) 8 0 rfl with ⟨l, x1, x2, x3, hX⟩ | ⟨x1, hX⟩
  · obtain ⟨j, hj, rfl⟩ := ab_live hK x1 x2
    obtain ⟨a1, a2, a3, a4, a5, a6⟩ := hK.1 j hj
    rcases ab_ycancel (cap := nI c) (iss := nI s) (cost := w) (id := v1) (yp := yp) (yq := yq) (yi := yi) (m := m) (by omega) m 0 (by omega) with ⟨o, y1, y2, hY⟩ | ⟨y1, hY⟩
    · cases ab_ids hK hj y1 ((a2.symm.trans x3).trans y2.symm)
      obtain ⟨m, rfl⟩ : ∃ o, m = o + 1 := ⟨m - 1, by omega⟩
      have hK' : ab_K (nI (s + 1)) m (upd xi (g j) 0) (upd xp (g j) 0) (upd xq (g j) 0) (ab_sh yp j (m + 1)) (ab_sh yq j (m + 1)) (ab_sh yi j (m + 1)) (fun l => g (ab_sk j l)) :=
        ab_drop hK hj (fun i hi => ab_un hi) (fun i hi => ab_un hi) (fun i hi => ab_un hi) ab_us (fun l hl => ab_shK hl) (fun l hl => ab_shK hl) (fun l hl => ab_shK hl)
      refine ⟨_, hX _ ⟨_, hY _ ⟨a4.symm, c, m, s, w, _, _, _, _, _, _, _, by omega, h2, by omega, hK', ?_, rfl⟩⟩⟩
      rw [nI_pred]
    · exact (y1 j (by omega) hj (a2.symm.trans x3)).elim
  · rcases ab_ycancel (cap := nI c) (iss := nI s) (cost := w) (id := v1) (yp := yp) (yq := yq) (yi := yi) (m := m) (by omega) m 0 (by omega) with ⟨o, y1, y2, hY⟩ | ⟨y1, hY⟩
    · obtain ⟨a1, a2, a3, a4, a5, a6⟩ := hK.1 o y1
      exact (x1 (g o) (by omega) a1 (by rw [a4]; exact ab_pos a5) (a2.trans y2)).elim
    · exact ⟨_, hX _ ⟨_, hY _ ⟨rfl, I3⟩⟩⟩
theorem i_vc_take {k : Nat} {u : SX} {v : SY} (I : i_Rel k u v) (hk : k + 3 ≤ 1537) (v1 : Int32) (v2 : Int32) : wpX_take (fun r u' => wpY_take (fun r' v' => r' = r ∧ i_Rel (k + 3) u' v') v v1 v2) u v1 v2 := by
  have I3 := i_up I
  obtain ⟨c, m, s, w, xi, xp, xq, yp, yq, yi, g, h1, h2, h3, hK, rfl, rfl⟩ := I
  by_cases c1 : 1 ≤ v2
  · have h0 : ¬ v2 < 0 := by
      rw [ab_le, ab_1T] at c1
      rw [ab_lt, ab_0T]
      omega
    obtain ⟨Q, hQ, rfl⟩ := nI_of h0
    obtain ⟨m', f', w', xi', xp', xq', yp', yq', yi', g', k1, k2, hX, hY⟩ := ab_take (z := nI (s + 1)) (L := v1) (cap := nI c) (nid := nI (s + 1)) (cost := w) (iss := nI s) hQ m 0 Q 0 0 xi xp xq yp yq yi g (by omega) hK (by omega)
    obtain ⟨r, hr, hw⟩ := ab_ybest v1 (nI c) (nI s) 0 yp yq yi (m := m) (by omega)
    refine br_t c1 (hX _ (br_t c1 (hw _ (hY _ ⟨rfl, c, m', s, w', xi', xp', xq', yp', yq', yi', g', by omega, h2, by omega, k2, rfl, rfl⟩ r hr))))
  · exact br_f c1 (br_f c1 ⟨rfl, I3⟩)
theorem i_vc_lastCost {k : Nat} {u : SX} {v : SY} (I : i_Rel k u v) (hk : k + 3 ≤ 1537) : wpX_lastCost (fun r => wpY_lastCost (fun r' => r' = r ∧ i_Rel (k + 3) u v) v) u := by
  have I3 := i_up I
  obtain ⟨c, m, s, w, xi, xp, xq, yp, yq, yi, g, h1, h2, h3, hK, rfl, rfl⟩ := I
  exact ⟨rfl, I3⟩
theorem i_vc_qtyOf {k : Nat} {u : SX} {v : SY} (I : i_Rel k u v) (hk : k + 3 ≤ 1537) (v1 : Int32) : wpX_qtyOf (fun r => wpY_qtyOf (fun r' => r' = r ∧ i_Rel (k + 3) u v) v v1) u v1 := by
  have I3 := i_up I
  obtain ⟨c, m, s, w, xi, xp, xq, yp, yq, yi, g, h1, h2, h3, hK, rfl, rfl⟩ := I
  rcases ab_xqty (cap := nI c) (cnt := nI m) (nid := nI (s + 1)) (cost := w) (id := v1) (xi := xi) (xp := xp) (xq := xq) 8 0 rfl with ⟨l, x1, x2, x3, hX⟩ | ⟨x1, hX⟩
  · obtain ⟨j, hj, rfl⟩ := ab_live hK x1 x2
    obtain ⟨a1, a2, a3, a4, a5, a6⟩ := hK.1 j hj
    rcases ab_yqty (cap := nI c) (iss := nI s) (cost := w) (id := v1) (yp := yp) (yq := yq) (yi := yi) (m := m) (by omega) m 0 (by omega) with ⟨o, y1, y2, hY⟩ | ⟨y1, hY⟩
    · cases ab_ids hK hj y1 ((a2.symm.trans x3).trans y2.symm)
      exact ⟨_, hX _ ⟨_, hY _ ⟨a4.symm, I3⟩⟩⟩
    · exact (y1 j (by omega) hj (a2.symm.trans x3)).elim
  · rcases ab_yqty (cap := nI c) (iss := nI s) (cost := w) (id := v1) (yp := yp) (yq := yq) (yi := yi) (m := m) (by omega) m 0 (by omega) with ⟨o, y1, y2, hY⟩ | ⟨y1, hY⟩
    · obtain ⟨a1, a2, a3, a4, a5, a6⟩ := hK.1 o y1
      exact (x1 (g o) (by omega) a1 (by rw [a4]; exact ab_pos a5) (a2.trans y2)).elim
    · exact ⟨_, hX _ ⟨_, hY _ ⟨rfl, I3⟩⟩⟩
end
