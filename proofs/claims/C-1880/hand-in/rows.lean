section
/-! Pasted starting rows (kit/rows/PURE-ROWS): pk_us, pk_un, pk_sub, pk_mul -/
theorem pk_us {f : Nat → Int32} {k : Nat} {x : Int32} : upd f k x k = x := if_pos rfl
theorem pk_un {f : Nat → Int32} {k j : Nat} {x : Int32} (h : j ≠ k) : upd f k x j = f j := if_neg h
theorem pk_mul (a b : Nat) : nI a * nI b = nI (a * b) := (Int32.ofNat_mul a b).symm
/-! Own rows: small numbers -/
theorem fl_4 (b : Nat) : (4 : Int32) * nI b = nI (4 * b) := pk_mul 4 b
theorem fl_44 (b : Nat) : (4 : Int32) * nI b + 4 = nI (4 * b + 4) := by
  rw [fl_4]; exact nI_add (4 * b) 4
theorem fl_43 (b : Nat) : (4 : Int32) * nI b + 3 = nI (4 * b + 3) := by
  rw [fl_4]; exact nI_add (4 * b) 3
theorem fl_byte : ∀ a, a < 32 → vp_nar .byte (nI a).toInt8.toInt32 = nI a := by decide +kernel
theorem fl_b0 : vp_nar .byte 0 = 0 := by decide +kernel
theorem fl_b1 : vp_nar .byte 1 = 1 := by decide +kernel
theorem fl_b2 : vp_nar .byte 2 = 2 := by decide +kernel
theorem fl_bm : vp_nar .byte (-1) = -1 := by decide +kernel
theorem fl_z0 : vp_nar .boolean 0 = 0 := by decide +kernel
theorem fl_z1 : vp_nar .boolean 1 = 1 := by decide +kernel
theorem fl_z {e : Int32} (h : e = 0 ∨ e = 1) : vp_nar .boolean e = e := by
  rcases h with h | h
  · rw [h]; exact fl_z0
  · rw [h]; exact fl_z1
theorem fl_10 : ¬ (1 : Int32) = 0 := by decide
theorem fl_01 : ¬ (0 : Int32) = 1 := by decide
theorem fl_m0 : (-1 : Int32) < 0 := by decide
theorem fl_m0' : ¬ (0 : Int32) ≤ -1 := by decide
theorem fl_ne {a b : Nat} (ha : a < 2 ^ 31) (hb : b < 2 ^ 31) (h : a ≠ b) : nI a ≠ nI b := fun z => h ((nI_eq ha hb).mp z)
theorem fl_inj {a b : Nat} (h : nI a = nI b) (ha : a < 2 ^ 31) (hb : b < 2 ^ 31) : a = b := (nI_eq ha hb).mp h
theorem fl_neg {a : Nat} (ha : a < 2 ^ 31) : nI a ≠ -1 := by
  intro h
  have h1 := nI_pos ha
  rw [h] at h1
  exact h1 fl_m0
theorem fl_le_n {a n : Nat} {x : Int32} (hx : x = nI n) (hn : n < 2 ^ 31) (h : n ≤ a) (ha : a < 2 ^ 31) : x ≤ nI a := by
  rw [hx]; exact nI_le h ha
/-- an int is a page's number, or it is not -/
def fl_bad (x : Int32) : Prop := x < 0 ∨ (¬ x < 0 ∧ 11 < x)
theorem fl_page (x : Int32) : fl_bad x ∨ ∃ p, p < 12 ∧ x = nI p := by
  by_cases h : x < 0
  · exact Or.inl (Or.inl h)
  · by_cases h2 : 11 < x
    · exact Or.inl (Or.inr ⟨h, h2⟩)
    · obtain ⟨j, hj, e⟩ := nI_of2 (M := 11) (n := 11) (by decide) h (Int32.not_lt.mp h2)
      exact Or.inr ⟨j, by omega, e⟩
theorem fl_11 {p : Nat} (hp : p < 12) : ¬ (11 : Int32) < nI p := nI_nlt (a := 11) (b := p) (by omega) (by omega)
/-! sums -/
/-- the sum of f over d places from a -/
def fl_rs (f : Nat → Nat) : Nat → Nat → Nat
  | 0, _ => 0
  | d + 1, a => f a + fl_rs f d (a + 1)
theorem fl_rs_s (f : Nat → Nat) (d a : Nat) : fl_rs f (d + 1) a = f a + fl_rs f d (a + 1) := rfl
theorem fl_rs_0 (f : Nat → Nat) (a : Nat) : fl_rs f 0 a = 0 := rfl
theorem fl_rs_congr {f g : Nat → Nat} : ∀ d a, (∀ j, a ≤ j → j < a + d → f j = g j) → fl_rs f d a = fl_rs g d a := by
  intro d
  induction d with
  | zero => intro a _; rfl
  | succ d ih =>
    intro a h
    rw [fl_rs_s, fl_rs_s, h a (by omega) (by omega), ih (a + 1) (fun j h1 h2 => h j (by omega) (by omega))]
theorem fl_rs_le {f g : Nat → Nat} : ∀ d a, (∀ j, a ≤ j → j < a + d → f j ≤ g j) → fl_rs f d a ≤ fl_rs g d a := by
  intro d
  induction d with
  | zero => intro a _; exact Nat.le_refl _
  | succ d ih =>
    intro a h
    rw [fl_rs_s, fl_rs_s]
    exact Nat.add_le_add (h a (by omega) (by omega)) (ih (a + 1) (fun j h1 h2 => h j (by omega) (by omega)))
theorem fl_rs_add (f g : Nat → Nat) : ∀ d a, fl_rs (fun j => f j + g j) d a = fl_rs f d a + fl_rs g d a := by
  intro d
  induction d with
  | zero => intro a; rfl
  | succ d ih =>
    intro a
    have h := ih (a + 1)
    show (f a + g a) + fl_rs (fun j => f j + g j) d (a + 1) = (f a + fl_rs f d (a + 1)) + (g a + fl_rs g d (a + 1))
    omega
theorem fl_rs_mul (k : Nat) (f : Nat → Nat) : ∀ d a, fl_rs (fun j => k * f j) d a = k * fl_rs f d a := by
  intro d
  induction d with
  | zero => intro a; rfl
  | succ d ih =>
    intro a
    have h := ih (a + 1)
    show k * f a + fl_rs (fun j => k * f j) d (a + 1) = k * (f a + fl_rs f d (a + 1))
    rw [h, Nat.mul_add]
theorem fl_rs_const (k : Nat) : ∀ d a, fl_rs (fun _ => k) d a = d * k := by
  intro d
  induction d with
  | zero => intro a; rw [fl_rs_0, Nat.zero_mul]
  | succ d ih =>
    intro a
    rw [fl_rs_s, ih (a + 1), Nat.succ_mul, Nat.add_comm]
theorem fl_rs_swap (g : Nat → Nat → Nat) (m b : Nat) : ∀ d a, fl_rs (fun j => fl_rs (fun p => g j p) m b) d a = fl_rs (fun p => fl_rs (fun j => g j p) d a) m b := by
  intro d
  induction d with
  | zero =>
    intro a
    rw [fl_rs_0]
    have h := fl_rs_const 0 m b
    rw [Nat.mul_zero] at h
    exact h.symm
  | succ d ih =>
    intro a
    have h := ih (a + 1)
    have h2 := fl_rs_add (fun p => g a p) (fun p => fl_rs (fun j => g j p) d (a + 1)) m b
    show fl_rs (fun p => g a p) m b + fl_rs (fun j => fl_rs (fun p => g j p) m b) d (a + 1) = fl_rs (fun p => g a p + fl_rs (fun j => g j p) d (a + 1)) m b
    rw [h, h2]
theorem fl_rs_split (f : Nat → Nat) : ∀ m n a, fl_rs f (m + n) a = fl_rs f m a + fl_rs f n (a + m) := by
  intro m
  induction m with
  | zero => intro n a; rw [fl_rs_0, Nat.zero_add, Nat.zero_add, Nat.add_zero]
  | succ m ih =>
    intro n a
    have h := ih n (a + 1)
    rw [show m + 1 + n = (m + n) + 1 by omega, fl_rs_s, fl_rs_s, h, show a + (m + 1) = a + 1 + m by omega]
    omega
theorem fl_rs_four (f : Nat → Nat) : ∀ d b, fl_rs (fun j => fl_rs f 4 (4 * j)) d b = fl_rs f (4 * d) (4 * b) := by
  intro d
  induction d with
  | zero => intro b; rfl
  | succ d ih =>
    intro b
    rw [fl_rs_s, ih (b + 1), show 4 * (d + 1) = 4 + 4 * d by omega, fl_rs_split, show 4 * (b + 1) = 4 * b + 4 by omega]
theorem fl_rs_pt {f : Nat → Nat} : ∀ d a j, a ≤ j → j < a + d → f j ≤ fl_rs f d a := by
  intro d
  induction d with
  | zero => intro a j h1 h2; omega
  | succ d ih =>
    intro a j h1 h2
    rw [fl_rs_s]
    by_cases h : j = a
    · rw [h]; omega
    · have h3 := ih (a + 1) j (by omega) (by omega)
      omega
theorem fl_rs_zero {f : Nat → Nat} : ∀ d a, (∀ j, a ≤ j → j < a + d → f j = 0) → fl_rs f d a = 0 := by
  intro d a h
  rw [fl_rs_congr d a (g := fun _ => 0) h, fl_rs_const, Nat.mul_zero]
/-- one value stands at one place at most -/
theorem fl_rs_one (x : Int32) : ∀ d a, a + d ≤ 2 ^ 31 → fl_rs (fun j => if x = nI j then 1 else 0) d a ≤ 1 := by
  intro d
  induction d with
  | zero => intro a _; exact Nat.zero_le _
  | succ d ih =>
    intro a h
    rw [fl_rs_s]
    have h2 := ih (a + 1) (by omega)
    by_cases e : x = nI a
    · have h3 : fl_rs (fun j => if x = nI j then 1 else 0) d (a + 1) = 0 := by
        refine fl_rs_zero d (a + 1) ?_
        intro j h1 h4
        refine if_neg ?_
        intro e2
        have := fl_inj (e.symm.trans e2) (by omega) (by omega)
        omega
      rw [h3]
      try dsimp only
      rw [if_pos e]
      omega
    · try dsimp only at h2 ⊢
      rw [if_neg e]
      omega
end
section
/-! The invariant of the flash against the table -/
/-- a page's word (d, e) against the table's (v, t) -/
def fl_H (v t d e : Int32) : Prop := (t = 0 ∧ e = 1) ∨ (t = 1 ∧ e = 0 ∧ d = v)
/-- logical page p: no good page speaks of it, or place names the newest one, and that agrees with the table -/
def fl_PG (st dat lg em run pl va th : Nat → Int32) (p : Nat) : Prop :=
  (pl p = -1 ∧ th p = 0 ∧ ∀ b, b < 32 → st b = 1 → lg b ≠ nI p) ∨
  (∃ a, a < 32 ∧ pl p = nI a ∧ st a = 1 ∧ lg a = nI p ∧ (∀ b, b < 32 → st b = 1 → lg b = nI p → b ≠ a → run b < run a) ∧ fl_H (va p) (th p) (dat a) (em a))
/-- c b: so many pages of block b are programmed, from its first on -/
def fl_BL (c : Nat → Nat) (st : Nat → Int32) : Prop := ∀ b, b < 8 → c b ≤ 4 ∧ ∀ i, i < 4 → (st (4 * b + i) = 0 ↔ c b ≤ i)
/-- a good page has a logical page and a number below the next one -/
def fl_GD (nn : Int32) (st lg run : Nat → Int32) : Prop := ∀ a, a < 32 → st a = 1 → (∃ p, p < 12 ∧ lg a = nI p) ∧ run a < nn
def fl_CI (c : Nat → Nat) (N : Nat) (st dat lg em run pl va th : Nat → Int32) : Prop :=
  fl_BL c st ∧ fl_GD (nI N) st lg run ∧ ∀ p, p < 12 → fl_PG st dat lg em run pl va th p
/-- the block that is being filled -/
def fl_OB (c : Nat → Nat) (ob : Int32) : Prop :=
  (ob = -1 ∧ ∀ b, b < 8 → c b = 0 ∨ c b = 4) ∨ (∃ o, o < 8 ∧ ob = nI o ∧ 1 ≤ c o ∧ ∀ b, b < 8 → b ≠ o → c b = 0 ∨ c b = 4)
/-- one block at most is begun and not full -/
def fl_U (c : Nat → Nat) : Prop := ∀ o, o < 8 → c o ≠ 0 → c o ≠ 4 → ∀ b, b < 8 → b ≠ o → c b = 0 ∨ c b = 4
def fl_FR (c : Nat → Nat) : Prop := ∃ f, f < 8 ∧ c f = 0
def fl_uc (c : Nat → Nat) (o x : Nat) : Nat → Nat := fun b => if b = o then x else c b
theorem fl_uc_s {c : Nat → Nat} {o x : Nat} : fl_uc c o x o = x := if_pos rfl
theorem fl_uc_n {c : Nat → Nat} {o x b : Nat} (h : b ≠ o) : fl_uc c o x b = c b := if_neg h
def fl_R (B : Nat) (sb ob nn : Int32) (st dat lg em run er pl va th : Nat → Int32) : Prop :=
  ∃ c N s, 1 ≤ s ∧ s ≤ 3 ∧ sb = nI s ∧ nn = nI N ∧ 1 ≤ N ∧ N ≤ B ∧ fl_CI c N st dat lg em run pl va th ∧ fl_OB c ob ∧ fl_FR c
/-- the valid pages -/
def fl_v (st lg pl : Nat → Int32) (a : Nat) : Nat := if st a = 1 ∧ pl (lg a).toNatClampNeg = nI a then 1 else 0
theorem fl_v_1 {st lg pl : Nat → Int32} {a : Nat} (h : st a = 1 ∧ pl (lg a).toNatClampNeg = nI a) : fl_v st lg pl a = 1 := if_pos h
theorem fl_v_0 {st lg pl : Nat → Int32} {a : Nat} (h : ¬ (st a = 1 ∧ pl (lg a).toNatClampNeg = nI a)) : fl_v st lg pl a = 0 := if_neg h
theorem fl_v_le (st lg pl : Nat → Int32) (a : Nat) : fl_v st lg pl a ≤ 1 := by
  by_cases h : st a = 1 ∧ pl (lg a).toNatClampNeg = nI a
  · rw [fl_v_1 h]; omega
  · rw [fl_v_0 h]; omega

theorem fl_v_iff {st lg pl st' lg' pl' : Nat → Int32} {a : Nat} (h : (st a = 1 ∧ pl (lg a).toNatClampNeg = nI a) ↔ (st' a = 1 ∧ pl' (lg' a).toNatClampNeg = nI a)) : fl_v st lg pl a = fl_v st' lg' pl' a := by
  by_cases z : st a = 1 ∧ pl (lg a).toNatClampNeg = nI a
  · rw [fl_v_1 z, fl_v_1 (h.mp z)]
  · rw [fl_v_0 z, fl_v_0 (fun y => z (h.mpr y))]

section
variable {c : Nat → Nat} {N : Nat} {st dat lg em run pl va th : Nat → Int32}

theorem fl_th (hC : ∀ p, p < 12 → fl_PG st dat lg em run pl va th p) {p : Nat} (hp : p < 12) : th p = 0 ∨ th p = 1 := by
  rcases hC p hp with ⟨_, h, _⟩ | ⟨a, _, _, _, _, _, h⟩
  · exact Or.inl h
  · rcases h with ⟨h, _⟩ | ⟨h, _⟩
    · exact Or.inl h
    · exact Or.inr h

/-- a page is programmed -/
theorem fl_fill (hC : fl_CI c N st dat lg em run pl va th) (hN : N + 1 < 2 ^ 31) {o : Nat} (ho : o < 8) (hc : c o < 4) {p : Nat} (hp : p < 12)
    {d e : Int32} {va' th' : Nat → Int32} (hs : ∀ q, q < 12 → q ≠ p → va' q = va q ∧ th' q = th q) (hH : fl_H (va' p) (th' p) d e) :
    fl_CI (fl_uc c o (c o + 1)) (N + 1) (upd st (4 * o + c o) 1) (upd dat (4 * o + c o) d) (upd lg (4 * o + c o) (nI p)) (upd em (4 * o + c o) e) (upd run (4 * o + c o) (nI N)) (upd pl p (nI (4 * o + c o))) va' th' := by
  obtain ⟨hB, hG, hP⟩ := hC
  generalize ha : 4 * o + c o = a
  have ha32 : a < 32 := by omega
  have hz : st a = 0 := by rw [← ha]; exact ((hB o ho).2 (c o) hc).mpr (Nat.le_refl _)
  have hNN : nI N < nI (N + 1) := nI_lt (by omega) hN
  refine ⟨?_, ?_, ?_⟩
  · intro b hb
    by_cases h : b = o
    · subst h
      rw [fl_uc_s]
      refine ⟨by omega, ?_⟩
      intro i hi
      by_cases h2 : i = c b
      · have h3 : 4 * b + i = a := by omega
        rw [h3, pk_us]
        constructor
        · intro z; exact absurd z fl_10
        · intro z; omega
      · rw [pk_un (by omega), (hB b hb).2 i hi]
        omega
    · rw [fl_uc_n h]
      refine ⟨(hB b hb).1, ?_⟩
      intro i hi
      rw [pk_un (by omega)]
      exact (hB b hb).2 i hi
  · intro x hx hs1
    by_cases h : x = a
    · subst h
      rw [pk_us, pk_us]
      exact ⟨⟨p, hp, rfl⟩, hNN⟩
    · rw [pk_un h] at hs1
      rw [pk_un h, pk_un h]
      obtain ⟨h1, h2⟩ := hG x hx hs1
      exact ⟨h1, Int32.lt_trans h2 hNN⟩
  · intro q hq
    by_cases h : q = p
    · subst h
      refine Or.inr ⟨a, ha32, pk_us, pk_us, pk_us, ?_, ?_⟩
      · intro b hb h1 h2 hba
        rw [pk_un hba] at h1
        rw [pk_un hba, pk_us]
        exact (hG b hb h1).2
      · rw [pk_us, pk_us]
        exact hH
    · obtain ⟨hv, ht⟩ := hs q hq h
      rcases hP q hq with ⟨h1, h2, h3⟩ | ⟨a0, h1, h2, h3, h4, h5, h6⟩
      · refine Or.inl ⟨by rw [pk_un h]; exact h1, by rw [ht]; exact h2, ?_⟩
        intro b hb hb1
        by_cases hba : b = a
        · rw [hba, pk_us]
          exact fl_ne (by omega) (by omega) (fun z => h z.symm)
        · rw [pk_un hba] at hb1 ⊢
          exact h3 b hb hb1
      · have hne : a0 ≠ a := by
          intro z
          rw [z, hz] at h3
          exact fl_01 h3
        refine Or.inr ⟨a0, h1, by rw [pk_un h]; exact h2, by rw [pk_un hne]; exact h3, by rw [pk_un hne]; exact h4, ?_, ?_⟩
        · intro b hb hb1 hb2 hb3
          by_cases hba : b = a
          · rw [hba, pk_us] at hb2
            exact absurd (fl_inj hb2 (by omega) (by omega)) (fun z => h z.symm)
          · rw [pk_un hba] at hb1 hb2
            rw [pk_un hba, pk_un hne]
            exact h5 b hb hb1 hb2 hb3
        · rw [pk_un hne, pk_un hne, hv, ht]
          exact h6

/-- a page is spoiled -/
theorem fl_spoil (hC : fl_CI c N st dat lg em run pl va th) {o : Nat} (ho : o < 8) (hc : c o < 4) (d l r : Int32) :
    fl_CI (fl_uc c o (c o + 1)) N (upd st (4 * o + c o) 2) (upd dat (4 * o + c o) d) (upd lg (4 * o + c o) l) em (upd run (4 * o + c o) r) pl va th := by
  obtain ⟨hB, hG, hP⟩ := hC
  generalize ha : 4 * o + c o = a
  have ha32 : a < 32 := by omega
  have hz : st a = 0 := by rw [← ha]; exact ((hB o ho).2 (c o) hc).mpr (Nat.le_refl _)
  have h21 : ¬ (2 : Int32) = 1 := by decide
  have hg : ∀ b, upd st a 2 b = 1 → b ≠ a ∧ st b = 1 := by
    intro b hb
    by_cases h : b = a
    · rw [h, pk_us] at hb
      exact absurd hb h21
    · rw [pk_un h] at hb
      exact ⟨h, hb⟩
  refine ⟨?_, ?_, ?_⟩
  · intro b hb
    by_cases h : b = o
    · subst h
      rw [fl_uc_s]
      refine ⟨by omega, ?_⟩
      intro i hi
      by_cases h2 : i = c b
      · have h3 : 4 * b + i = a := by omega
        rw [h3, pk_us]
        constructor
        · intro z; exact absurd z (by decide)
        · intro z; omega
      · rw [pk_un (by omega), (hB b hb).2 i hi]
        omega
    · rw [fl_uc_n h]
      refine ⟨(hB b hb).1, ?_⟩
      intro i hi
      rw [pk_un (by omega)]
      exact (hB b hb).2 i hi
  · intro x hx hs1
    obtain ⟨h, hs2⟩ := hg x hs1
    rw [pk_un h, pk_un h]
    exact hG x hx hs2
  · intro q hq
    rcases hP q hq with ⟨h1, h2, h3⟩ | ⟨a0, h1, h2, h3, h4, h5, h6⟩
    · refine Or.inl ⟨h1, h2, ?_⟩
      intro b hb hb1
      obtain ⟨hba, hb2⟩ := hg b hb1
      rw [pk_un hba]
      exact h3 b hb hb2
    · have hne : a0 ≠ a := by
        intro z
        rw [z, hz] at h3
        exact fl_01 h3
      refine Or.inr ⟨a0, h1, h2, by rw [pk_un hne]; exact h3, by rw [pk_un hne]; exact h4, ?_, ?_⟩
      · intro b hb hb1 hb2 hb3
        obtain ⟨hba, hb4⟩ := hg b hb1
        rw [pk_un hba] at hb2
        rw [pk_un hba, pk_un hne]
        exact h5 b hb hb4 hb2 hb3
      · rw [pk_un hne]
        exact h6

/-- a block without a valid page is erased -/
theorem fl_erase (hC : fl_CI c N st dat lg em run pl va th) {v : Nat} (hv : v < 8) (hn : ∀ i, i < 4 → ∀ p, p < 12 → pl p ≠ nI (4 * v + i))
    {st' : Nat → Int32} (h0 : ∀ x, 4 * v ≤ x → x < 4 * v + 4 → st' x = 0) (h1 : ∀ x, x < 32 → ¬ (4 * v ≤ x ∧ x < 4 * v + 4) → st' x = st x) :
    fl_CI (fl_uc c v 0) N st' dat lg em run pl va th := by
  obtain ⟨hB, hG, hP⟩ := hC
  have hg : ∀ b, b < 32 → st' b = 1 → st b = 1 := by
    intro b hb hb1
    by_cases h : 4 * v ≤ b ∧ b < 4 * v + 4
    · rw [h0 b h.1 h.2] at hb1
      exact absurd hb1 fl_01
    · rw [h1 b hb h] at hb1
      exact hb1
  refine ⟨?_, ?_, ?_⟩
  · intro b hb
    by_cases h : b = v
    · subst h
      rw [fl_uc_s]
      refine ⟨by omega, ?_⟩
      intro i hi
      rw [h0 _ (by omega) (by omega)]
      constructor
      · intro _; omega
      · intro _; rfl
    · rw [fl_uc_n h]
      refine ⟨(hB b hb).1, ?_⟩
      intro i hi
      rw [h1 _ (by omega) (by omega)]
      exact (hB b hb).2 i hi
  · intro x hx hs1
    exact hG x hx (hg x hx hs1)
  · intro q hq
    rcases hP q hq with ⟨h2, h3, h4⟩ | ⟨a0, h2, h3, h4, h5, h6, h7⟩
    · exact Or.inl ⟨h2, h3, fun b hb hb1 => h4 b hb (hg b hb hb1)⟩
    · have hne : ¬ (4 * v ≤ a0 ∧ a0 < 4 * v + 4) := by
        intro z
        refine hn (a0 - 4 * v) (by omega) q hq ?_
        rw [h3, show 4 * v + (a0 - 4 * v) = a0 by omega]
      exact Or.inr ⟨a0, h2, h3, by rw [h1 a0 h2 hne]; exact h4, h5, fun b hb hb1 hb2 hb3 => h6 b hb (hg b hb hb1) hb2 hb3, h7⟩

/-- the table's values where it has none don't matter -/
theorem fl_CI_va (hC : fl_CI c N st dat lg em run pl va th) {va' th' : Nat → Int32} (h : ∀ q, q < 12 → th' q = th q ∧ (th q = 1 → va' q = va q)) :
    fl_CI c N st dat lg em run pl va' th' := by
  obtain ⟨hB, hG, hP⟩ := hC
  refine ⟨hB, hG, ?_⟩
  intro q hq
  obtain ⟨ht, hv⟩ := h q hq
  rcases hP q hq with ⟨h1, h2, h3⟩ | ⟨a0, h1, h2, h3, h4, h5, h6⟩
  · exact Or.inl ⟨h1, ht.trans h2, h3⟩
  · refine Or.inr ⟨a0, h1, h2, h3, h4, h5, ?_⟩
    rcases h6 with ⟨h7, h8⟩ | ⟨h7, h8, h9⟩
    · exact Or.inl ⟨ht.trans h7, h8⟩
    · exact Or.inr ⟨ht.trans h7, h8, h9.trans (hv h7).symm⟩

/-- what a valid page is -/
theorem fl_v_at (hC : fl_CI c N st dat lg em run pl va th) {a : Nat} (ha : a < 32) (h : st a = 1 ∧ pl (lg a).toNatClampNeg = nI a) :
    ∃ p, p < 12 ∧ lg a = nI p ∧ pl p = nI a ∧ fl_H (va p) (th p) (dat a) (em a) := by
  obtain ⟨hB, hG, hP⟩ := hC
  obtain ⟨⟨p, hp, hl⟩, _⟩ := hG a ha h.1
  have h2 := h.2
  rw [hl, nI_clamp (by omega)] at h2
  refine ⟨p, hp, hl, h2, ?_⟩
  rcases hP p hp with ⟨h3, _⟩ | ⟨a0, h3, h4, h5, h6, h7, h8⟩
  · rw [h2] at h3
    exact absurd h3 (fl_neg (by omega))
  · have e : a = a0 := fl_inj (h2.symm.trans h4) (by omega) (by omega)
    rw [e]
    exact h8
theorem fl_v_pl (hC : fl_CI c N st dat lg em run pl va th) {p a : Nat} (hp : p < 12) (ha : a < 32) (h : pl p = nI a) : st a = 1 ∧ lg a = nI p := by
  obtain ⟨hB, hG, hP⟩ := hC
  rcases hP p hp with ⟨h3, _⟩ | ⟨a0, h3, h4, h5, h6, _⟩
  · rw [h] at h3
    exact absurd h3 (fl_neg (by omega))
  · have e : a = a0 := fl_inj (h.symm.trans h4) (by omega) (by omega)
    rw [e]
    exact ⟨h5, h6⟩
theorem fl_v_none (hC : fl_CI c N st dat lg em run pl va th) {a : Nat} (ha : a < 32) (h : ¬ (st a = 1 ∧ pl (lg a).toNatClampNeg = nI a)) : ∀ p, p < 12 → pl p ≠ nI a := by
  intro p hp e
  obtain ⟨h1, h2⟩ := fl_v_pl hC hp ha e
  refine h ⟨h1, ?_⟩
  rw [h2, nI_clamp (by omega)]
  exact e

/-- twelve pages at most are valid -/
theorem fl_total (hC : fl_CI c N st dat lg em run pl va th) : fl_rs (fl_v st lg pl) 32 0 ≤ 12 := by
  have h1 : fl_rs (fl_v st lg pl) 32 0 ≤ fl_rs (fun a => fl_rs (fun p => if pl p = nI a then 1 else 0) 12 0) 32 0 := by
    refine fl_rs_le 32 0 ?_
    intro a _ ha
    by_cases h : st a = 1 ∧ pl (lg a).toNatClampNeg = nI a
    · obtain ⟨p, hp, _, h2, _⟩ := fl_v_at hC (by omega) h
      rw [fl_v_1 h]
      have h3 := fl_rs_pt (f := fun p => if pl p = nI a then 1 else 0) 12 0 p (by omega) (by omega)
      try dsimp only at h3
      rw [if_pos h2] at h3
      exact h3
    · rw [fl_v_0 h]
      exact Nat.zero_le _
  have h2 := fl_rs_swap (fun a p => if pl p = nI a then 1 else 0) 12 0 32 0
  try dsimp only at h2
  rw [h2] at h1
  have h3 := fl_rs_const 1 12 0
  rw [Nat.mul_one] at h3
  refine Nat.le_trans h1 (Nat.le_trans (fl_rs_le (g := fun _ => 1) 12 0 ?_) (Nat.le_of_eq h3))
  intro p _ _
  exact fl_rs_one (pl p) 32 0 (by omega)

theorem fl_avg {w z : Nat → Nat} {m : Nat} (hz : ∀ b, b < 8 → z b = 1 ∨ m ≤ w b) (hF : fl_rs z 8 0 ≤ 3) (hT : fl_rs w 8 0 ≤ 12) : m ≤ 3 := by
  have h3 : fl_rs (fun _ => m) 8 0 ≤ fl_rs (fun b => w b + m * z b) 8 0 := by
    refine fl_rs_le 8 0 ?_
    intro b _ hb
    rcases hz b (by omega) with h | h
    · rw [h]; omega
    · exact Nat.le_trans h (Nat.le_add_right _ _)
  have e1 : fl_rs (fun b => w b + m * z b) 8 0 = fl_rs w 8 0 + fl_rs (fun b => m * z b) 8 0 := fl_rs_add w (fun b => m * z b) 8 0
  have e2 : fl_rs (fun b => m * z b) 8 0 = m * fl_rs z 8 0 := fl_rs_mul m z 8 0
  have e3 : fl_rs (fun _ => m) 8 0 = 8 * m := fl_rs_const m 8 0
  have h4 : m * fl_rs z 8 0 ≤ m * 3 := Nat.mul_le_mul_left m hF
  rw [e1, e2, e3] at h3
  omega

/-- of the blocks that aren't erased, if they are five or more, the least has three valid pages at most -/
theorem fl_least (hC : fl_CI c N st dat lg em run pl va th) {v : Nat} (hF : fl_rs (fun b => if c b = 0 then 1 else 0) 8 0 ≤ 3)
    (hm : ∀ b, b < 8 → c b ≠ 0 → fl_rs (fl_v st lg pl) 4 (4 * v) ≤ fl_rs (fl_v st lg pl) 4 (4 * b)) : fl_rs (fl_v st lg pl) 4 (4 * v) ≤ 3 := by
  have h1 := fl_total hC
  have h2 : fl_rs (fun j => fl_rs (fl_v st lg pl) 4 (4 * j)) 8 0 = fl_rs (fl_v st lg pl) 32 0 := fl_rs_four (fl_v st lg pl) 8 0
  refine fl_avg (w := fun j => fl_rs (fl_v st lg pl) 4 (4 * j)) (z := fun b => if c b = 0 then 1 else 0) ?_ hF (by rw [h2]; exact h1)
  intro b hb
  by_cases h : c b = 0
  · exact Or.inl (if_pos h)
  · exact Or.inr (hm b hb h)
end

theorem fl_cnt_one : ∀ o, o < 8 → fl_rs (fun b => if b = o then 1 else 0) 8 0 ≤ 1 := by decide +kernel
/-- two erased blocks: one beside o -/
theorem fl_cnt2 {c : Nat → Nat} {o : Nat} (ho : o < 8) (hF : 2 ≤ fl_rs (fun b => if c b = 0 then 1 else 0) 8 0) : ∃ f, f < 8 ∧ f ≠ o ∧ c f = 0 := by
  by_cases h : ∃ f, f < 8 ∧ f ≠ o ∧ c f = 0
  · exact h
  · have h1 : fl_rs (fun b => if c b = 0 then 1 else 0) 8 0 ≤ fl_rs (fun b => if b = o then 1 else 0) 8 0 := by
      refine fl_rs_le 8 0 ?_
      intro b _ hb
      by_cases h2 : b = o
      · rw [if_pos h2]
        by_cases h3 : c b = 0
        · rw [if_pos h3]; omega
        · rw [if_neg h3]; omega
      · have h3 : ¬ c b = 0 := fun z => h ⟨b, by omega, h2, z⟩
        rw [if_neg h3]
        exact Nat.zero_le _
    have h2 := fl_cnt_one o ho
    omega
/-- fewer than eight erased blocks: one is not -/
theorem fl_cnt8 {c : Nat → Nat} (hF : fl_rs (fun b => if c b = 0 then 1 else 0) 8 0 ≤ 7) : ∃ f, f < 8 ∧ c f ≠ 0 := by
  by_cases h : ∃ f, f < 8 ∧ c f ≠ 0
  · exact h
  · have h1 : fl_rs (fun _ => 1) 8 0 ≤ fl_rs (fun b => if c b = 0 then 1 else 0) 8 0 := by
      refine fl_rs_le 8 0 ?_
      intro b _ hb
      by_cases h3 : c b = 0
      · rw [if_pos h3]; omega
      · exact absurd ⟨b, by omega, h3⟩ h
    rw [fl_rs_const] at h1
    omega
end
section
/-! Walks of the methods that only read the flash -/
section
variable {c : Nat → Nat} {N : Nat} {sb ob nn : Int32} {st dat lg em run er pl va th : Nat → Int32}

theorem fl_isErased_l (hB : fl_BL c st) {b : Nat} (hb : b < 8) (h0 : c b = 0) {post : Int32 → Prop} (hp : post 1) :
    ∀ d i, i + d = 4 → wX_isErased_4 post (nI b) sb ob nn st dat lg em run er pl (d + 1) (nI (4 * b + i)) := by
  intro d
  induction d with
  | zero =>
    intro i hi
    have hi4 : i = 4 := by omega
    subst hi4
    have h : (4 : Int32) * nI b + 4 ≤ nI (4 * b + 4) := by rw [fl_44]; exact nI_le (Nat.le_refl _) (by omega)
    exact br_t h hp
  | succ d ih =>
    intro i hi
    have h : ¬ (4 : Int32) * nI b + 4 ≤ nI (4 * b + i) := by rw [fl_44]; exact nI_ge (by omega) (by omega)
    have hs : st (nI (4 * b + i)).toNatClampNeg = 0 := by
      rw [nI_clamp (by omega)]; exact ((hB b hb).2 i (by omega)).mpr (by omega)
    exact br_f h ⟨vp_in_nI (by omega) (by omega), br_t hs (nm_r (nI_1 _) (ih (i + 1) (by omega)))⟩

theorem fl_isErased (hB : fl_BL c st) {b : Nat} (hb : b < 8) {post : Int32 → Prop} (h0 : c b = 0 → post 1) (h1 : c b ≠ 0 → post 0) :
    wpX_isErased post (sb, ob, nn, st, dat, lg, em, run, er, pl) (nI b) := by
  show ∀ x : Int32, x = 4 * nI b → ∃ n4 : Nat, wX_isErased_4 post (nI b) sb ob nn st dat lg em run er pl n4 x
  refine nm_r (fl_4 b) ?_
  by_cases h : c b = 0
  · exact ⟨5, fl_isErased_l hB hb h (h0 h) 4 0 rfl⟩
  · refine ⟨1, ?_⟩
    have hn : ¬ (4 : Int32) * nI b + 4 ≤ nI (4 * b) := by rw [fl_44]; exact nI_ge (by omega) (by omega)
    have hs : ¬ st (nI (4 * b)).toNatClampNeg = 0 := by
      rw [nI_clamp (by omega)]
      intro z
      have := ((hB b hb).2 0 (by omega)).mp z
      omega
    exact br_f hn ⟨vp_in_nI (by omega) (by omega), br_f hs (h1 h)⟩

theorem fl_nib_l (hB : fl_BL c st) {o : Nat} (ho : o < 8) (hc : c o < 4) {post : Int32 → Prop} (hp : post (nI (4 * o + c o))) :
    ∀ d i, i + d = c o → wX_nextInBlock_16 post sb (nI o) nn st dat lg em run er pl (d + 1) (nI (4 * o + i)) := by
  intro d
  induction d with
  | zero =>
    intro i hi
    have h : ¬ (4 : Int32) * nI o + 4 ≤ nI (4 * o + i) := by rw [fl_44]; exact nI_ge (by omega) (by omega)
    have hs : st (nI (4 * o + i)).toNatClampNeg = 0 := by
      rw [nI_clamp (by omega)]; exact ((hB o ho).2 i (by omega)).mpr (by omega)
    have hi2 : i = c o := by omega
    subst hi2
    exact br_f h ⟨vp_in_nI (by omega) (by omega), br_t hs hp⟩
  | succ d ih =>
    intro i hi
    have h : ¬ (4 : Int32) * nI o + 4 ≤ nI (4 * o + i) := by rw [fl_44]; exact nI_ge (by omega) (by omega)
    have hs : ¬ st (nI (4 * o + i)).toNatClampNeg = 0 := by
      rw [nI_clamp (by omega)]
      intro z
      have := ((hB o ho).2 i (by omega)).mp z
      omega
    exact br_f h ⟨vp_in_nI (by omega) (by omega), br_f hs (nm_r (nI_1 _) (ih (i + 1) (by omega)))⟩

theorem fl_nib_f (hB : fl_BL c st) {o : Nat} (ho : o < 8) (hc : c o = 4) {post : Int32 → Prop} (hp : post (-1)) :
    ∀ d i, i + d = 4 → wX_nextInBlock_16 post sb (nI o) nn st dat lg em run er pl (d + 1) (nI (4 * o + i)) := by
  intro d
  induction d with
  | zero =>
    intro i hi
    have hi4 : i = 4 := by omega
    subst hi4
    have h : (4 : Int32) * nI o + 4 ≤ nI (4 * o + 4) := by rw [fl_44]; exact nI_le (Nat.le_refl _) (by omega)
    exact br_t h hp
  | succ d ih =>
    intro i hi
    have h : ¬ (4 : Int32) * nI o + 4 ≤ nI (4 * o + i) := by rw [fl_44]; exact nI_ge (by omega) (by omega)
    have hs : ¬ st (nI (4 * o + i)).toNatClampNeg = 0 := by
      rw [nI_clamp (by omega)]
      intro z
      have := ((hB o ho).2 i (by omega)).mp z
      omega
    exact br_f h ⟨vp_in_nI (by omega) (by omega), br_f hs (nm_r (nI_1 _) (ih (i + 1) (by omega)))⟩

theorem fl_nib (hB : fl_BL c st) {o : Nat} (ho : o < 8) {post : Int32 → Prop} (h1 : c o < 4 → post (nI (4 * o + c o))) (h2 : c o = 4 → post (-1)) :
    wpX_nextInBlock post (sb, nI o, nn, st, dat, lg, em, run, er, pl) := by
  show (0 ≤ nI o → ∀ x : Int32, x = 4 * nI o → ∃ n16 : Nat, wX_nextInBlock_16 post sb (nI o) nn st dat lg em run er pl n16 x) ∧ (¬ 0 ≤ nI o → post (-1))
  refine br_t (nI_pos' (by omega)) (nm_r (fl_4 o) ?_)
  have h4 := (hB o ho).1
  by_cases h : c o < 4
  · exact ⟨c o + 1, fl_nib_l hB ho h (h1 h) (c o) 0 (by omega)⟩
  · exact ⟨5, fl_nib_f hB ho (by omega) (h2 (by omega)) 4 0 rfl⟩

theorem fl_nib_m {post : Int32 → Prop} (h : post (-1)) : wpX_nextInBlock post (sb, -1, nn, st, dat, lg, em, run, er, pl) := by
  show (0 ≤ (-1 : Int32) → ∀ x : Int32, x = 4 * (-1) → ∃ n16 : Nat, wX_nextInBlock_16 post sb (-1) nn st dat lg em run er pl n16 x) ∧ (¬ 0 ≤ (-1 : Int32) → post (-1))
  exact br_f fl_m0' h

theorem fl_free_l (hB : fl_BL c st) {post : Int32 → Prop} :
    ∀ d b x, b + d = 8 → post (nI (x + fl_rs (fun b => if c b = 0 then 1 else 0) d b)) → wX_freeBlocks_4 post sb ob nn st dat lg em run er pl (d + 1) (nI x) (nI b) := by
  intro d
  induction d with
  | zero =>
    intro b x hb hp
    have h : (8 : Int32) ≤ nI b := nI_le (a := 8) (by omega) (by omega)
    exact br_t h hp
  | succ d ih =>
    intro b x hb hp
    have h : ¬ (8 : Int32) ≤ nI b := nI_ge (b := 8) (by omega) (by omega)
    rw [fl_rs_s] at hp
    try dsimp only at hp
    refine br_f h (fl_isErased hB (by omega) (fun hc => ?_) (fun hc => ?_))
    · rw [if_pos hc, ← Nat.add_assoc] at hp
      exact br_f fl_10 (nm_r (nI_1 _) (nm_r (nI_1 _) (ih (b + 1) (x + 1) (by omega) hp)))
    · rw [if_neg hc, Nat.zero_add] at hp
      exact br_t rfl (nm_r (nI_1 _) (ih (b + 1) x (by omega) hp))

theorem fl_free (hB : fl_BL c st) {post : Int32 → Prop} (hp : post (nI (fl_rs (fun b => if c b = 0 then 1 else 0) 8 0))) : wpX_freeBlocks post (sb, ob, nn, st, dat, lg, em, run, er, pl) := by
  show ∃ n4 : Nat, wX_freeBlocks_4 post sb ob nn st dat lg em run er pl n4 0 0
  exact ⟨9, fl_free_l hB 8 0 0 rfl (by rw [Nat.zero_add]; exact hp)⟩

theorem fl_isValid (hG : fl_GD (nI N) st lg run) {a : Nat} (ha : a < 32) {post : Int32 → Prop} (h1 : (st a = 1 ∧ pl (lg a).toNatClampNeg = nI a) → post 1)
    (h0 : ¬ (st a = 1 ∧ pl (lg a).toNatClampNeg = nI a) → post 0) : wpX_isValid post (sb, ob, nn, st, dat, lg, em, run, er, pl) (nI a) := by
  have e : (nI a).toNatClampNeg = a := nI_clamp (by omega)
  have hi : vp_in (nI a) 32 := vp_in_nI ha (by omega)
  by_cases hs : st a = 1
  · obtain ⟨⟨p, hp, hl⟩, _⟩ := hG a ha hs
    have hs' : st (nI a).toNatClampNeg = 1 := by rw [e]; exact hs
    have hl' : vp_in (lg (nI a).toNatClampNeg) 12 := by rw [e, hl]; exact vp_in_nI hp (by omega)
    by_cases hq : pl (lg a).toNatClampNeg = nI a
    · have hq' : pl (lg (nI a).toNatClampNeg).toNatClampNeg = nI a := by rw [e]; exact hq
      exact And.intro hi (br_t hs' ⟨hi, hl', br_t hq' (h1 ⟨hs, hq⟩)⟩)
    · have hq' : ¬ pl (lg (nI a).toNatClampNeg).toNatClampNeg = nI a := by rw [e]; exact hq
      exact And.intro hi (br_t hs' ⟨hi, hl', br_f hq' (h0 (fun z => hq z.2))⟩)
  · have hs' : ¬ st (nI a).toNatClampNeg = 1 := by rw [e]; exact hs
    exact And.intro hi (br_f hs' (h0 (fun z => hs z.1)))

theorem fl_validIn_l (hG : fl_GD (nI N) st lg run) {b : Nat} (hb : b < 8) {post : Int32 → Prop} :
    ∀ d a x, a + d = 4 * b + 4 → post (nI (x + fl_rs (fl_v st lg pl) d a)) → wX_validIn_6 post (nI b) sb ob nn st dat lg em run er pl (d + 1) (nI x) (nI a) := by
  intro d
  induction d with
  | zero =>
    intro a x ha hp
    have h : (4 : Int32) * nI b + 4 ≤ nI a := by rw [fl_44]; exact nI_le (by omega) (by omega)
    exact br_t h hp
  | succ d ih =>
    intro a x ha hp
    have h : ¬ (4 : Int32) * nI b + 4 ≤ nI a := by rw [fl_44]; exact nI_ge (by omega) (by omega)
    rw [fl_rs_s] at hp
    refine br_f h (fl_isValid hG (by omega) (fun hc => ?_) (fun hc => ?_))
    · rw [fl_v_1 hc, ← Nat.add_assoc] at hp
      exact br_f fl_10 (nm_r (nI_1 _) (nm_r (nI_1 _) (ih (a + 1) (x + 1) (by omega) hp)))
    · rw [fl_v_0 hc, Nat.zero_add] at hp
      exact br_t rfl (nm_r (nI_1 _) (ih (a + 1) x (by omega) hp))

theorem fl_validIn (hG : fl_GD (nI N) st lg run) {b : Nat} (hb : b < 8) {post : Int32 → Prop} (hp : post (nI (fl_rs (fl_v st lg pl) 4 (4 * b)))) : wpX_validIn post (sb, ob, nn, st, dat, lg, em, run, er, pl) (nI b) := by
  show ∀ x : Int32, x = 4 * nI b → ∃ n6 : Nat, wX_validIn_6 post (nI b) sb ob nn st dat lg em run er pl n6 0 x
  refine nm_r (fl_4 b) ⟨5, fl_validIn_l hG hb 4 (4 * b) 0 rfl ?_⟩
  rw [Nat.zero_add]; exact hp

theorem fl_vi_le (st lg pl : Nat → Int32) (a : Nat) : fl_rs (fl_v st lg pl) 4 a ≤ 4 := by
  have h := fl_rs_le (f := fl_v st lg pl) (g := fun _ => 1) 4 a (fun j _ _ => fl_v_le st lg pl j)
  rw [fl_rs_const] at h
  exact h

/-- what leastValidBlock keeps while it looks: x1, x2 ahead of block b -/
def fl_LV (c : Nat → Nat) (w : Nat → Nat) (b : Nat) (x1 x2 : Int32) : Prop :=
  (x1 = -1 ∧ x2 = 5 ∧ ∀ j, j < b → c j = 0) ∨ (∃ v, v < b ∧ x1 = nI v ∧ x2 = nI (w v) ∧ c v ≠ 0 ∧ ∀ j, j < b → c j ≠ 0 → w v ≤ w j)

theorem fl_LV_skip {w : Nat → Nat} {b : Nat} {x1 x2 : Int32} (h : fl_LV c w b x1 x2) (hb : c b = 0) : fl_LV c w (b + 1) x1 x2 := by
  rcases h with ⟨h1, h2, h3⟩ | ⟨v, h1, h2, h3, h4, h5⟩
  · exact Or.inl ⟨h1, h2, lt_s h3 hb⟩
  · exact Or.inr ⟨v, by omega, h2, h3, h4, lt_s h5 (fun z => absurd hb z)⟩

theorem fl_lvb_l (hB : fl_BL c st) (hG : fl_GD (nI N) st lg run) {post : Int32 → Prop} {w : Nat → Nat} (hw : ∀ b, w b = fl_rs (fl_v st lg pl) 4 (4 * b))
    (hp : ∀ x1 x2, fl_LV c w 8 x1 x2 → post x1) : ∀ d b x1 x2, b + d = 8 → fl_LV c w b x1 x2 → wX_leastValidBlock_6 post sb ob nn st dat lg em run er pl (d + 1) x1 x2 (nI b) := by
  have hw4 : ∀ b, w b ≤ 4 := fun b => by rw [hw]; exact fl_vi_le st lg pl (4 * b)
  intro d
  induction d with
  | zero =>
    intro b x1 x2 hb hI
    have h : (8 : Int32) ≤ nI b := nI_le (a := 8) (by omega) (by omega)
    have hb8 : b = 8 := by omega
    subst hb8
    exact br_t h (hp x1 x2 hI)
  | succ d ih =>
    intro b x1 x2 hb hI
    have h : ¬ (8 : Int32) ≤ nI b := nI_ge (b := 8) (by omega) (by omega)
    refine br_f h (fl_isErased hB (by omega) (fun hc => ?_) (fun hc => ?_))
    · exact br_f fl_10 (nm_r (nI_1 _) (ih (b + 1) x1 x2 (by omega) (fl_LV_skip hI hc)))
    · refine br_t rfl (fl_validIn hG (by omega) ?_)
      rw [← hw b]
      have hwb := hw4 b
      rcases hI with ⟨h1, h2, h3⟩ | ⟨v, h1, h2, h3, h4, h5⟩
      · subst h1 h2
        have hn1 : ¬ (5 : Int32) < nI (w b) := nI_nlt (a := 5) (by omega) (by omega)
        have hn2 : ¬ nI (w b) = (5 : Int32) := fun z => absurd (fl_inj (b := 5) z (by omega) (by omega)) (by omega)
        refine br_f hn1 (br_f hn2 (nm_r (nI_1 _) (ih (b + 1) (nI b) (nI (w b)) (by omega) ?_)))
        refine Or.inr ⟨b, by omega, rfl, rfl, hc, lt_s ?_ (fun _ => Nat.le_refl _)⟩
        intro j hj hj2
        exact absurd (h3 j hj) hj2
      · subst h2 h3
        have hwv := hw4 v
        by_cases hlt : w v < w b
        · refine br_t (nI_lt hlt (by omega)) (nm_r (nI_1 _) (ih (b + 1) (nI v) (nI (w v)) (by omega) ?_))
          exact Or.inr ⟨v, by omega, rfl, rfl, h4, lt_s h5 (fun _ => by omega)⟩
        · refine br_f (nI_nlt (by omega) (by omega)) ?_
          have hnew : fl_LV c w (b + 1) (nI b) (nI (w b)) := by
            refine Or.inr ⟨b, by omega, rfl, rfl, hc, lt_s ?_ (fun _ => Nat.le_refl _)⟩
            intro j hj hj2
            have := h5 j hj hj2
            omega
          by_cases heq : nI (w b) = nI (w v)
          · refine br_t heq ⟨vp_in_nI (by omega) (by omega), vp_in_nI (by omega) (by omega), br_c (fun _ => ?_) (fun _ => ?_)⟩
            · exact nm_r (nI_1 _) (ih (b + 1) (nI b) (nI (w b)) (by omega) hnew)
            · refine nm_r (nI_1 _) (ih (b + 1) (nI v) (nI (w v)) (by omega) ?_)
              have he := fl_inj heq (by omega) (by omega)
              exact Or.inr ⟨v, by omega, rfl, rfl, h4, lt_s h5 (fun _ => by omega)⟩
          · exact br_f heq (nm_r (nI_1 _) (ih (b + 1) (nI b) (nI (w b)) (by omega) hnew))

theorem fl_lvb (hB : fl_BL c st) (hG : fl_GD (nI N) st lg run) (hne : ∃ f, f < 8 ∧ c f ≠ 0) {post : Int32 → Prop}
    (hp : ∀ v, v < 8 → c v ≠ 0 → (∀ b, b < 8 → c b ≠ 0 → fl_rs (fl_v st lg pl) 4 (4 * v) ≤ fl_rs (fl_v st lg pl) 4 (4 * b)) → post (nI v)) : wpX_leastValidBlock post (sb, ob, nn, st, dat, lg, em, run, er, pl) := by
  show ∃ n6 : Nat, wX_leastValidBlock_6 post sb ob nn st dat lg em run er pl n6 (-1) 5 0
  refine ⟨9, fl_lvb_l (w := fun b => fl_rs (fl_v st lg pl) 4 (4 * b)) hB hG (fun _ => rfl) ?_ 8 0 (-1) 5 rfl (Or.inl ⟨rfl, rfl, fun j hj => absurd hj (Nat.not_lt_zero j)⟩)⟩
  intro x1 x2 hI
  rcases hI with ⟨_, _, h3⟩ | ⟨v, h1, h2, _, h4, h5⟩
  · obtain ⟨f, hf, hf2⟩ := hne
    exact absurd (h3 f hf) hf2
  · rw [h2]
    exact hp v h1 h4 h5

/-- what leastWornFreeBlock keeps -/
def fl_LW (c : Nat → Nat) (b : Nat) (x1 : Int32) : Prop := (x1 = -1 ∧ ∀ j, j < b → c j ≠ 0) ∨ (∃ o, o < b ∧ x1 = nI o ∧ c o = 0)

theorem fl_lwf_l (hB : fl_BL c st) {post : Int32 → Prop} (hp : ∀ x1, fl_LW c 8 x1 → post x1) :
    ∀ d b x1, b + d = 8 → fl_LW c b x1 → wX_leastWornFreeBlock_4 post sb ob nn st dat lg em run er pl (d + 1) x1 (nI b) := by
  intro d
  induction d with
  | zero =>
    intro b x1 hb hI
    have h : (8 : Int32) ≤ nI b := nI_le (a := 8) (by omega) (by omega)
    have hb8 : b = 8 := by omega
    subst hb8
    exact br_t h (hp x1 hI)
  | succ d ih =>
    intro b x1 hb hI
    have h : ¬ (8 : Int32) ≤ nI b := nI_ge (b := 8) (by omega) (by omega)
    refine br_f h (fl_isErased hB (by omega) (fun hc => ?_) (fun hc => ?_))
    · refine br_f fl_10 ?_
      have hnew : fl_LW c (b + 1) (nI b) := Or.inr ⟨b, by omega, rfl, hc⟩
      rcases hI with ⟨h1, h2⟩ | ⟨o, h1, h2, h3⟩
      · subst h1
        exact br_t fl_m0 (nm_r (nI_1 _) (ih (b + 1) (nI b) (by omega) hnew))
      · subst h2
        refine br_f (nI_pos (by omega)) ⟨vp_in_nI (by omega) (by omega), vp_in_nI (by omega) (by omega), br_c (fun _ => ?_) (fun _ => ?_)⟩
        · exact nm_r (nI_1 _) (ih (b + 1) (nI o) (by omega) (Or.inr ⟨o, by omega, rfl, h3⟩))
        · exact nm_r (nI_1 _) (ih (b + 1) (nI b) (by omega) hnew)
    · refine br_t rfl (nm_r (nI_1 _) (ih (b + 1) x1 (by omega) ?_))
      rcases hI with ⟨h1, h2⟩ | ⟨o, h1, h2, h3⟩
      · exact Or.inl ⟨h1, lt_s h2 hc⟩
      · exact Or.inr ⟨o, by omega, h2, h3⟩

theorem fl_lwf (hB : fl_BL c st) (hF : fl_FR c) {post : Int32 → Prop} (hp : ∀ o, o < 8 → c o = 0 → post (nI o)) : wpX_leastWornFreeBlock post (sb, ob, nn, st, dat, lg, em, run, er, pl) := by
  show ∃ n4 : Nat, wX_leastWornFreeBlock_4 post sb ob nn st dat lg em run er pl n4 (-1) 0
  refine ⟨9, fl_lwf_l hB ?_ 8 0 (-1) rfl (Or.inl ⟨rfl, fun j hj => absurd hj (Nat.not_lt_zero j)⟩)⟩
  intro x1 hI
  rcases hI with ⟨_, h2⟩ | ⟨o, h1, h2, h3⟩
  · obtain ⟨f, hf, hf2⟩ := hF
    exact absurd hf2 (h2 f hf)
  · rw [h2]
    exact hp o h1 h3
end
end
section
/-! Walks of the methods that write to the flash -/
section
variable {c : Nat → Nat} {N : Nat} {sb ob nn : Int32} {st dat lg em run er pl va th : Nat → Int32}

theorem fl_fillPage {post : SX → Prop} {t p : Nat} (ht : t < 32) (hp : p < 12) {x0 x1 d e : Int32} (h0 : x0 = nI t) (h1 : x1 = nI p) (he : e = 0 ∨ e = 1)
    (h : post (sb, ob, nn + 1, upd st t 1, upd dat t d, upd lg t (nI p), upd em t e, upd run t nn, er, upd pl p (nI t))) :
    wpX_fillPage post (sb, ob, nn, st, dat, lg, em, run, er, pl) x0 x1 d e := by
  subst h0 h1
  have hi : vp_in (nI t) 32 := vp_in_nI ht (by omega)
  have hj : vp_in (nI p) 12 := vp_in_nI hp (by omega)
  have e1 : (nI t).toNatClampNeg = t := nI_clamp (by omega)
  have e2 : (nI p).toNatClampNeg = p := nI_clamp (by omega)
  refine And.intro hi (nm_r (e' := upd st t 1) (by rw [e1, fl_b1]) ⟨hi, nm_r (e' := upd dat t d) (by rw [e1]) ⟨hi, nm_r (e' := upd lg t (nI p)) (by rw [e1, fl_byte p (by omega)]) ⟨hi, nm_r (e' := upd em t e) (by rw [e1, fl_z he]) ⟨hi, nm_r (e' := upd run t nn) (by rw [e1]) (nm_e ⟨hj, nm_r (e' := upd pl p (nI t)) (by rw [e2, fl_byte t ht]) h⟩)⟩⟩⟩⟩)

/-- the erasing loop -/
theorem fl_empty62 {post : SX → Prop} {v : Nat} (hv : v < 8)
    (h : ∀ st' er' : Nat → Int32, (∀ x, 4 * v ≤ x → x < 4 * v + 4 → st' x = 0) → (∀ x, x < 32 → ¬ (4 * v ≤ x ∧ x < 4 * v + 4) → st' x = st x) → post (sb, ob, nn, st', dat, lg, em, run, er', pl)) :
    ∀ d i st', i + d = 4 → (∀ x, 4 * v ≤ x → x < 4 * v + i → st' x = 0) → (∀ x, x < 32 → ¬ (4 * v ≤ x ∧ x < 4 * v + i) → st' x = st x) →
      wX_empty_62 post (nI v) sb ob nn (d + 1) (nI (4 * v + i)) st' dat lg em run er pl := by
  intro d
  induction d with
  | zero =>
    intro i st' hi h0 h1
    have hi4 : i = 4 := by omega
    subst hi4
    have hc : (4 : Int32) * nI v + 4 ≤ nI (4 * v + 4) := by rw [fl_44]; exact nI_le (Nat.le_refl _) (by omega)
    have hiv : vp_in (nI v) 8 := vp_in_nI hv (by omega)
    exact br_t hc ⟨hiv, hiv, nm_e (h st' _ h0 h1)⟩
  | succ d ih =>
    intro i st' hi h0 h1
    have hc : ¬ (4 : Int32) * nI v + 4 ≤ nI (4 * v + i) := by rw [fl_44]; exact nI_ge (by omega) (by omega)
    refine br_f hc ⟨vp_in_nI (by omega) (by omega), nm_r (e' := upd st' (4 * v + i) 0) (by rw [nI_clamp (by omega), fl_b0]) (nm_r (nI_1 _) (ih (i + 1) _ (by omega) ?_ ?_))⟩
    · intro x hx1 hx2
      by_cases hx : x = 4 * v + i
      · rw [hx, pk_us]
      · rw [pk_un hx]
        exact h0 x hx1 (by omega)
    · intro x hx1 hx2
      rw [pk_un (by omega)]
      exact h1 x hx1 (by omega)

/-- the copying loop: page a of block v is next -/
theorem fl_empty4 {post : SX → Prop} {v o : Nat} (hv : v < 8) (ho : o < 8) (hvo : v ≠ o) :
    ∀ (d a N : Nat) (c : Nat → Nat) (st dat lg em run pl : Nat → Int32), 4 * v ≤ a → a + d = 4 * v + 4 → N + d < 2 ^ 31 → fl_CI c N st dat lg em run pl va th → c o + fl_rs (fl_v st lg pl) d a ≤ 3 →
      (∀ x, 4 * v ≤ x → x < a → ∀ p, p < 12 → pl p ≠ nI x) →
      (∀ (c' : Nat → Nat) (N' : Nat) (st' dat' lg' em' run' pl' : Nat → Int32), fl_CI c' N' st' dat' lg' em' run' pl' va th → N ≤ N' → N' ≤ N + d → c' o ≤ 3 → (∀ b, b ≠ o → c' b = c b) →
        (∀ x, 4 * v ≤ x → x < 4 * v + 4 → ∀ p, p < 12 → pl' p ≠ nI x) → ∃ n62 : Nat, wX_empty_62 post (nI v) sb (nI o) (nI N') n62 (nI (4 * v)) st' dat' lg' em' run' er pl') →
      wX_empty_4 post (nI v) (d + 1) (nI a) sb (nI o) (nI N) st dat lg em run er pl := by
  intro d
  induction d with
  | zero =>
    intro a N c st dat lg em run pl hva ha hN hC hr hx hk
    have hc : (4 : Int32) * nI v + 4 ≤ nI a := by rw [fl_44]; exact nI_le (by omega) (by omega)
    rw [fl_rs_0] at hr
    exact br_t hc (nm_r (fl_4 v) (hk c N st dat lg em run pl hC (Nat.le_refl _) (Nat.le_refl _) (by omega) (fun _ _ => rfl) (fun x h1 h2 => hx x h1 (by omega))))
  | succ d ih =>
    intro a N c st dat lg em run pl hva ha hN hC hr hx hk
    have hc : ¬ (4 : Int32) * nI v + 4 ≤ nI a := by rw [fl_44]; exact nI_ge (by omega) (by omega)
    have ha32 : a < 32 := by omega
    rw [fl_rs_s] at hr
    refine br_f hc (fl_isValid hC.2.1 ha32 (fun hV => ?_) (fun hV => ?_))
    · rw [fl_v_1 hV] at hr
      refine br_f fl_10 (fl_nib hC.1 ho (fun ho4 => ?_) (fun ho4 => absurd ho4 (by omega)))
      have hia : vp_in (nI a) 32 := vp_in_nI ha32 (by omega)
      obtain ⟨p, hp, hl, hpl, hH⟩ := fl_v_at hC ha32 hV
      have ea : (nI a).toNatClampNeg = a := nI_clamp (by omega)
      have het : em a = 0 ∨ em a = 1 := by
        rcases hH with ⟨_, h⟩ | ⟨_, h, _⟩
        · exact Or.inr h
        · exact Or.inl h
      have hC' := fl_fill hC (by omega) ho ho4 hp (va' := va) (th' := th) (fun _ _ _ => ⟨rfl, rfl⟩) hH
      have hta : 4 * o + c o ≠ a := by omega
      have hrs : fl_rs (fl_v (upd st (4 * o + c o) 1) (upd lg (4 * o + c o) (nI p)) (upd pl p (nI (4 * o + c o)))) d (a + 1) = fl_rs (fl_v st lg pl) d (a + 1) := by
        refine fl_rs_congr d (a + 1) ?_
        intro j hj1 hj2
        have hjt : j ≠ 4 * o + c o := by omega
        by_cases hj : st j = 1
        · obtain ⟨⟨q, hq, hql⟩, _⟩ := hC.2.1 j (by omega) hj
          have eq : (lg j).toNatClampNeg = q := by rw [hql]; exact nI_clamp (by omega)
          by_cases hqp : q = p
          · have n1 : ¬ (st j = 1 ∧ pl (lg j).toNatClampNeg = nI j) := by
              intro z
              have z2 := z.2
              rw [eq, hqp, hpl] at z2
              have := fl_inj z2 (by omega) (by omega)
              omega
            have n2 : ¬ (upd st (4 * o + c o) 1 j = 1 ∧ upd pl p (nI (4 * o + c o)) (upd lg (4 * o + c o) (nI p) j).toNatClampNeg = nI j) := by
              intro z
              have z2 := z.2
              rw [pk_un hjt, eq, hqp, pk_us] at z2
              have := fl_inj z2 (by omega) (by omega)
              omega
            rw [fl_v_0 n1, fl_v_0 n2]
          · refine fl_v_iff ?_
            rw [pk_un hjt, pk_un hjt, eq, pk_un hqp]
        · have n1 : ¬ (st j = 1 ∧ pl (lg j).toNatClampNeg = nI j) := fun z => hj z.1
          have n2 : ¬ (upd st (4 * o + c o) 1 j = 1 ∧ upd pl p (nI (4 * o + c o)) (upd lg (4 * o + c o) (nI p) j).toNatClampNeg = nI j) := by
            intro z
            have z1 := z.1
            rw [pk_un hjt] at z1
            exact hj z1
          rw [fl_v_0 n1, fl_v_0 n2]
      refine ⟨hia, hia, hia, fl_fillPage (t := 4 * o + c o) (p := p) (by omega) hp rfl (by rw [ea]; exact hl) (by rw [ea]; exact het) (nm_r (nI_1 _) ?_)⟩
      rw [ea, nI_1 N]
      refine ih (a + 1) (N + 1) _ _ _ _ _ _ _ (by omega) (by omega) (by omega) hC' ?_ ?_ ?_
      · rw [hrs, fl_uc_s]
        omega
      · intro x hx1 hx2 q hq
        by_cases hqp : q = p
        · rw [hqp, pk_us]
          exact fl_ne (by omega) (by omega) (by omega)
        · rw [pk_un hqp]
          by_cases hxa : x = a
          · intro z
            rw [hxa] at z
            have h2 := (fl_v_pl hC hq ha32 z).2
            exact hqp (fl_inj (h2.symm.trans hl) (by omega) (by omega))
          · exact hx x hx1 (by omega) q hq
      · intro c' N' st' dat' lg' em' run' pl' h1 h2 h3 h4 h5 h6
        exact hk c' N' st' dat' lg' em' run' pl' h1 (by omega) (by omega) h4 (fun b hb => by rw [h5 b hb, fl_uc_n hb]) h6
    · rw [fl_v_0 hV] at hr
      refine br_t rfl (nm_r (nI_1 _) (ih (a + 1) N c st dat lg em run pl (by omega) (by omega) (by omega) hC (by omega) ?_ ?_))
      · intro x hx1 hx2 q hq
        by_cases hxa : x = a
        · rw [hxa]
          exact fl_v_none hC ha32 hV q hq
        · exact hx x hx1 (by omega) q hq
      · intro c' N' st' dat' lg' em' run' pl' h1 h2 h3 h4 h5 h6
        exact hk c' N' st' dat' lg' em' run' pl' h1 (by omega) (by omega) h4 h5 h6

theorem fl_empty {post : SX → Prop} {v o : Nat} (hv : v < 8) (ho : o < 8) (hvo : v ≠ o) (hN : N + 4 < 2 ^ 31) (hC : fl_CI c N st dat lg em run pl va th) (hr : c o + fl_rs (fl_v st lg pl) 4 (4 * v) ≤ 3)
    (hk : ∀ (c' : Nat → Nat) (N' : Nat) (st' dat' lg' em' run' er' pl' : Nat → Int32), fl_CI c' N' st' dat' lg' em' run' pl' va th → N ≤ N' → N' ≤ N + 4 → c' o ≤ 3 → c' v = 0 → (∀ b, b ≠ o → b ≠ v → c' b = c b) → post (sb, nI o, nI N', st', dat', lg', em', run', er', pl')) :
    wpX_empty post (sb, nI o, nI N, st, dat, lg, em, run, er, pl) (nI v) := by
  show ∀ x : Int32, x = 4 * nI v → ∃ n4 : Nat, wX_empty_4 post (nI v) n4 x sb (nI o) (nI N) st dat lg em run er pl
  refine nm_r (fl_4 v) ⟨5, fl_empty4 hv ho hvo 4 (4 * v) N c st dat lg em run pl (Nat.le_refl _) rfl hN hC hr (fun x h1 h2 => absurd h1 (by omega)) ?_⟩
  intro c' N' st' dat' lg' em' run' pl' h1 h2 h3 h4 h5 h6
  refine ⟨5, fl_empty62 (st := st') hv ?_ 4 0 st' rfl (fun x h7 h8 => absurd h7 (by omega)) (fun _ _ _ => rfl)⟩
  intro st'' er'' h7 h8
  have hC2 := fl_erase h1 hv (fun i hi p hp => h6 (4 * v + i) (by omega) (by omega) p hp) h7 h8
  refine hk (fl_uc c' v 0) N' st'' dat' lg' em' run' er'' pl' hC2 h2 h3 ?_ fl_uc_s ?_
  · rw [fl_uc_n (fun z => hvo z.symm)]
    exact h4
  · intro b hb1 hb2
    rw [fl_uc_n hb2]
    exact h5 b hb1
end
end
section
/-! freshPage, program -/
section
variable {c : Nat → Nat} {N s : Nat} {sb ob nn : Int32} {st dat lg em run er pl va th : Nat → Int32}

/-- what freshPage's caller gets -/
def fl_FK (B : Nat) (s : Nat) (va th : Nat → Int32) (post : Int32 → SX → Prop) : Prop :=
  ∀ (c' : Nat → Nat) (N' o : Nat) (st' dat' lg' em' run' er' pl' : Nat → Int32), o < 8 → c' o < 4 → 1 ≤ N' → N' ≤ B → fl_CI c' N' st' dat' lg' em' run' pl' va th →
    (∀ b, b < 8 → b ≠ o → c' b = 0 ∨ c' b = 4) → (∃ f, f < 8 ∧ f ≠ o ∧ c' f = 0) → post (nI (4 * o + c' o)) (nI s, nI o, nI N', st', dat', lg', em', run', er', pl')

theorem fl_fresh58 {post : Int32 → SX → Prop} {B o : Nat} (hk : fl_FK B s va th post) (ho : o < 8) (hc : c o < 4) (hN1 : 1 ≤ N) (hN : N ≤ B) (hC : fl_CI c N st dat lg em run pl va th)
    (h1 : ∀ b, b < 8 → b ≠ o → c b = 0 ∨ c b = 4) (h2 : ∃ f, f < 8 ∧ f ≠ o ∧ c f = 0) : wX_freshPage_58 post (nI s) (nI o) (nI N) st dat lg em run er pl := by
  show wpX_nextInBlock (fun r => post r (nI s, nI o, nI N, st, dat, lg, em, run, er, pl)) (nI s, nI o, nI N, st, dat, lg, em, run, er, pl)
  exact fl_nib hC.1 ho (fun h => hk c N o st dat lg em run er pl ho h hN1 hN hC h1 h2) (fun h => absurd h (by omega))

/-- every block is full or erased -/
theorem fl_freshB {post : Int32 → SX → Prop} {B : Nat} (hk : fl_FK B s va th post) (hs1 : 1 ≤ s) (hs3 : s ≤ 3) (hN1 : 1 ≤ N) (hN : N + 4 ≤ B) (hB : B < 2 ^ 31) (hC : fl_CI c N st dat lg em run pl va th)
    (hall : ∀ b, b < 8 → c b = 0 ∨ c b = 4) (hF : fl_FR c) :
    wpX_freeBlocks (fun r_13 => ((r_13 ≤ nI s → (wX_freshPage_27 post 0 (nI s) ob (nI N) st dat lg em run er pl)) ∧ (¬ r_13 ≤ nI s → (wX_freshPage_27 post 1 (nI s) ob (nI N) st dat lg em run er pl)))) (nI s, ob, nI N, st, dat, lg, em, run, er, pl) := by
  refine fl_free hC.1 ?_
  have hF8 : fl_rs (fun b => if c b = 0 then 1 else 0) 8 0 ≤ 8 := by
    have h := fl_rs_le (f := fun b => if c b = 0 then 1 else 0) (g := fun _ => 1) 8 0 (fun j _ _ => by
      try dsimp only
      by_cases h : c j = 0
      · rw [if_pos h]; omega
      · rw [if_neg h]; omega)
    rw [fl_rs_const] at h
    exact h
  by_cases hle : fl_rs (fun b => if c b = 0 then 1 else 0) 8 0 ≤ s
  · refine br_t (nI_le hle (by omega)) ?_
    unfold wX_freshPage_27
    refine br_t rfl (fl_lvb hC.1 hC.2.1 (fl_cnt8 (by omega)) ?_)
    intro v hv hcv hmin
    have h3 := fl_least hC (by omega) hmin
    unfold wX_freshPage_40
    refine fl_lwf hC.1 hF ?_
    intro o ho hco
    have hvo : v ≠ o := by
      intro z
      rw [z] at hcv
      exact hcv hco
    refine br_t rfl (fl_empty hv ho hvo (by omega) hC (by omega) ?_)
    intro c' N' st' dat' lg' em' run' er' pl' h4 h5 h6 h7 h8 h9
    try dsimp only
    refine fl_fresh58 hk ho (by omega) (by omega) (by omega) h4 ?_ ⟨v, hv, hvo, h8⟩
    intro b hb hbo
    by_cases hbv : b = v
    · rw [hbv]; exact Or.inl h8
    · rw [h9 b hbo hbv]; exact hall b hb
  · refine br_f (nI_ge (by omega) (by omega)) ?_
    unfold wX_freshPage_27
    refine br_f fl_10 ?_
    unfold wX_freshPage_40
    refine fl_lwf hC.1 hF ?_
    intro o ho hco
    exact br_f fl_10 (fl_fresh58 hk ho (by omega) hN1 (by omega) hC (fun b hb _ => hall b hb) (fl_cnt2 ho (by omega)))

theorem fl_fresh {post : Int32 → SX → Prop} {B : Nat} (hk : fl_FK B s va th post) (hs1 : 1 ≤ s) (hs3 : s ≤ 3) (hN1 : 1 ≤ N) (hN : N + 4 ≤ B) (hB : B < 2 ^ 31) (hC : fl_CI c N st dat lg em run pl va th)
    (hO : fl_OB c ob) (hF : fl_FR c) : wpX_freshPage post (nI s, ob, nI N, st, dat, lg, em, run, er, pl) := by
  unfold wpX_freshPage
  try dsimp only
  rcases hO with ⟨h1, h2⟩ | ⟨o, ho, h1, h2, h3⟩
  · subst h1
    exact fl_nib_m (br_t fl_m0 (fl_freshB hk hs1 hs3 hN1 hN hB hC h2 hF))
  · subst h1
    refine fl_nib hC.1 ho (fun h => ?_) (fun h => ?_)
    · refine br_f (nI_pos (by omega)) ?_
      refine hk c N o st dat lg em run er pl ho h hN1 (by omega) hC h3 ?_
      obtain ⟨f, hf, hf0⟩ := hF
      refine ⟨f, hf, ?_, hf0⟩
      intro z
      rw [z] at hf0
      omega
    · refine br_t fl_m0 (fl_freshB hk hs1 hs3 hN1 hN hB hC ?_ hF)
      intro b hb
      by_cases hbo : b = o
      · rw [hbo]; exact Or.inr h
      · exact h3 b hb hbo

theorem fl_program {post : SX → Prop} {B p : Nat} (hB : B + 5 < 2 ^ 31) (hR : fl_R B sb ob nn st dat lg em run er pl va th) (hp : p < 12) {d e : Int32} (he : e = 0 ∨ e = 1) {va' th' : Nat → Int32}
    (hs : ∀ q, q < 12 → q ≠ p → va' q = va q ∧ th' q = th q) (hH : fl_H (va' p) (th' p) d e)
    (hk : ∀ (ob' nn' : Int32) (st' dat' lg' em' run' er' pl' : Nat → Int32), fl_R (B + 5) sb ob' nn' st' dat' lg' em' run' er' pl' va' th' → post (sb, ob', nn', st', dat', lg', em', run', er', pl')) : wpX_program post (sb, ob, nn, st, dat, lg, em, run, er, pl) (nI p) d e := by
  obtain ⟨c, N, s, hs1, hs3, rfl, rfl, hN1, hN, hC, hO, hF⟩ := hR
  unfold wpX_program
  try dsimp only
  refine fl_fresh (B := B + 4) ?_ hs1 hs3 hN1 (by omega) (by omega) hC hO hF
  intro c' N' o st' dat' lg' em' run' er' pl' ho hco hN1' hN' hC' hall hfr
  try dsimp only
  refine fl_fillPage (t := 4 * o + c' o) (p := p) (by omega) hp rfl rfl he ?_
  try dsimp only
  rw [nI_1 N']
  refine hk _ _ _ _ _ _ _ _ _ ⟨fl_uc c' o (c' o + 1), N' + 1, s, hs1, hs3, rfl, rfl, by omega, by omega, fl_fill hC' (by omega) ho hco hp hs hH, ?_, ?_⟩
  · refine Or.inr ⟨o, ho, rfl, by rw [fl_uc_s]; omega, ?_⟩
    intro b hb hbo
    rw [fl_uc_n hbo]
    exact hall b hb hbo
  · obtain ⟨f, hf, hfo, hf0⟩ := hfr
    exact ⟨f, hf, by rw [fl_uc_n hfo]; exact hf0⟩
end
end
section
/-! startUp -/
section
variable {c : Nat → Nat} {N : Nat} {sb ob nn : Int32} {st dat lg em run er pl pl0 va th : Nat → Int32}

/-- place after the first i pages were read -/
def fl_SP (i : Nat) (st lg run pl : Nat → Int32) (p : Nat) : Prop :=
  (pl p = -1 ∧ ∀ b, b < i → st b = 1 → lg b ≠ nI p) ∨
  (∃ a, a < i ∧ pl p = nI a ∧ st a = 1 ∧ lg a = nI p ∧ ∀ b, b < i → st b = 1 → lg b = nI p → run b ≤ run a)
/-- the next number after the first i pages were read -/
def fl_SN (i M N : Nat) (st run : Nat → Int32) : Prop := 1 ≤ M ∧ M ≤ N ∧ ∀ b, b < i → st b = 1 → run b < nI M

theorem fl_s12 {post : SX → Prop} (hk : ∀ pl' : Nat → Int32, (∀ j, j < 12 → pl' j = -1) → ∃ n33 : Nat, wX_startUp_33 post sb ob n33 0 nn st dat lg em run er pl') :
    ∀ d q pl', q + d = 12 → (∀ j, j < q → pl' j = -1) → wX_startUp_12 post sb ob nn (d + 1) (nI q) st dat lg em run er pl' := by
  intro d
  induction d with
  | zero =>
    intro q pl' hq h
    have hc : (12 : Int32) ≤ nI q := nI_le (a := 12) (by omega) (by omega)
    have hq2 : q = 12 := by omega
    subst hq2
    exact br_t hc (hk pl' h)
  | succ d ih =>
    intro q pl' hq h
    have hc : ¬ (12 : Int32) ≤ nI q := nI_ge (b := 12) (by omega) (by omega)
    refine br_f hc ⟨vp_in_nI (by omega) (by omega), nm_r (e' := upd pl' q (-1)) (by rw [nI_clamp (by omega), fl_bm]) (nm_r (nI_1 _) (ih (q + 1) _ (by omega) ?_))⟩
    refine lt_s ?_ pk_us
    intro j hj
    rw [pk_un (by omega)]
    exact h j hj

/-- the next number grows over page i -/
theorem fl_s96 {post : SX → Prop} {J : Int32 → Int32 → (Nat → Int32) → (Nat → Int32) → (Nat → Int32) → (Nat → Int32) → (Nat → Int32) → (Nat → Int32) → (Nat → Int32) → Prop}
    {i M : Nat} (hi : i < 32) (hN : N < 2 ^ 31) (hG : fl_GD (nI N) st lg run) (hs : st i = 1) (hM : fl_SN i M N st run) (hk : ∀ M', fl_SN (i + 1) M' N st run → J (nI (i + 1)) (nI M') st dat lg em run er pl) :
    wX_startUp_96 post J (nI i) sb ob (nI M) st dat lg em run er pl := by
  have e : (nI i).toNatClampNeg = i := nI_clamp (by omega)
  have hin : vp_in (nI i) 32 := vp_in_nI hi (by omega)
  obtain ⟨h1, h2, h3⟩ := hM
  by_cases h : run i < nI M
  · have h' : run (nI i).toNatClampNeg < nI M := by rw [e]; exact h
    exact And.intro hin (br_t h' (nm_r (nI_1 _) (hk M ⟨h1, h2, lt_s h3 (fun _ => h)⟩)))
  · have h' : ¬ run (nI i).toNatClampNeg < nI M := by rw [e]; exact h
    have hr := (hG i hi hs).2
    have hp : ¬ run i < 0 := by
      rw [Int32.lt_iff_toInt_lt, Int32.toInt_zero]
      rw [Int32.lt_iff_toInt_lt, nI_toInt (by omega)] at h
      omega
    obtain ⟨r, hr2, her⟩ := nI_of hp
    rw [her] at h hr
    rw [nI_ltI hr2 (by omega)] at h hr
    have hk2 := hk (r + 1) ⟨by omega, by omega, lt_s (fun b hb hb1 => Int32.lt_trans (h3 b hb hb1) (nI_lt (by omega) (by omega))) (fun _ => by rw [her]; exact nI_lt (by omega) (by omega))⟩
    exact And.intro hin (br_f h' ⟨hin, nm_r (e' := nI (r + 1)) (by rw [e, her, nI_1]) (nm_r (nI_1 _) hk2)⟩)

theorem fl_SP_skip {i p : Nat} (h : fl_SP i st lg run pl p) (hn : st i = 1 → lg i ≠ nI p) : fl_SP (i + 1) st lg run pl p := by
  rcases h with ⟨h1, h2⟩ | ⟨a, h1, h2, h3, h4, h5⟩
  · exact Or.inl ⟨h1, lt_s h2 hn⟩
  · exact Or.inr ⟨a, by omega, h2, h3, h4, lt_s h5 (fun z1 z2 => absurd z2 (hn z1))⟩

theorem fl_s33 {post : SX → Prop} (hN : N < 2 ^ 31) (hG : fl_GD (nI N) st lg run)
    (hk : ∀ (M : Nat) (pl' : Nat → Int32), fl_SN 32 M N st run → (∀ p, p < 12 → fl_SP 32 st lg run pl' p) → ∃ n129 : Nat, wX_startUp_129 post sb (nI M) st dat lg em run er pl' n129 0 ob) :
    ∀ d i M pl', i + d = 32 → fl_SN i M N st run → (∀ p, p < 12 → fl_SP i st lg run pl' p) → wX_startUp_33 post sb ob (d + 1) (nI i) (nI M) st dat lg em run er pl' := by
  intro d
  induction d with
  | zero =>
    intro i M pl' hi hM hP
    have hc : (32 : Int32) ≤ nI i := nI_le (a := 32) (by omega) (by omega)
    have hi2 : i = 32 := by omega
    subst hi2
    exact br_t hc (hk M pl' hM hP)
  | succ d ih =>
    intro i M pl' hi hM hP
    have hi32 : i < 32 := by omega
    have hc : ¬ (32 : Int32) ≤ nI i := nI_ge (b := 32) (by omega) (by omega)
    have e : (nI i).toNatClampNeg = i := nI_clamp (by omega)
    have hin : vp_in (nI i) 32 := vp_in_nI hi32 (by omega)
    by_cases hs : st i = 1
    · have hs' : st (nI i).toNatClampNeg = 1 := by rw [e]; exact hs
      obtain ⟨⟨p, hp, hl⟩, _⟩ := hG i hi32 hs
      have hpn : vp_in (nI p) 12 := vp_in_nI hp (by omega)
      have ep : (nI p).toNatClampNeg = p := nI_clamp (by omega)
      have hother : ∀ q, q < 12 → q ≠ p → st i = 1 → lg i ≠ nI q := by
        intro q hq hqp _ z
        exact hqp (fl_inj (z.symm.trans hl) (by omega) (by omega))
      refine br_f hc ⟨hin, br_t hs' ⟨hin, nm_r (e' := nI p) (by rw [e]; exact hl) ⟨hpn, ?_⟩⟩⟩
      -- place p becomes i
      have hset : ((pl' p = -1 ∧ ∀ b, b < i → st b = 1 → lg b ≠ nI p) ∨ (∃ a, a < i ∧ pl' p = nI a ∧ st a = 1 ∧ lg a = nI p ∧ run a < run i ∧ ∀ b, b < i → st b = 1 → lg b = nI p → run b ≤ run a)) →
          wX_startUp_88 post (wX_startUp_33 post sb ob (d + 1)) (nI i) (nI p) sb ob (nI M) st dat lg em run er pl' := by
        intro hcase
        refine And.intro hpn (nm_r (e' := upd pl' p (nI i)) (by rw [ep, fl_byte i hi32]) (fl_s96 hi32 hN hG hs hM ?_))
        intro M' hM'
        refine ih (i + 1) M' _ (by omega) hM' ?_
        intro q hq
        by_cases hqp : q = p
        · rw [hqp]
          refine Or.inr ⟨i, by omega, pk_us, hs, hl, lt_s ?_ (fun _ _ => Int32.le_refl _)⟩
          intro b hb hb1 hb2
          rcases hcase with ⟨_, h2⟩ | ⟨a, _, _, _, _, h5, h6⟩
          · exact absurd hb2 (h2 b hb hb1)
          · exact Int32.le_of_lt (Int32.lt_of_le_of_lt (h6 b hb hb1 hb2) h5)
        · have h1 := fl_SP_skip (hP q hq) (hother q hq hqp)
          unfold fl_SP at h1 ⊢
          rw [pk_un hqp]
          exact h1
      have hkeep : ∀ a, a < i → pl' p = nI a → st a = 1 → lg a = nI p → run i ≤ run a → (∀ b, b < i → st b = 1 → lg b = nI p → run b ≤ run a) →
          wX_startUp_96 post (wX_startUp_33 post sb ob (d + 1)) (nI i) sb ob (nI M) st dat lg em run er pl' := by
        intro a ha h1 h2 h3 h4 h5
        refine fl_s96 hi32 hN hG hs hM ?_
        intro M' hM'
        refine ih (i + 1) M' _ (by omega) hM' ?_
        intro q hq
        by_cases hqp : q = p
        · rw [hqp]
          exact Or.inr ⟨a, by omega, h1, h2, h3, lt_s h5 (fun _ _ => h4)⟩
        · exact fl_SP_skip (hP q hq) (hother q hq hqp)
      rcases hP p hp with ⟨h1, h2⟩ | ⟨a, h1, h2, h3, h4, h5⟩
      · have hlt : pl' (nI p).toNatClampNeg < 0 := by rw [ep, h1]; exact fl_m0
        exact br_t hlt (hset (Or.inl ⟨h1, h2⟩))
      · have hlt : ¬ pl' (nI p).toNatClampNeg < 0 := by rw [ep, h2]; exact nI_pos (by omega)
        have hpi : vp_in (pl' (nI p).toNatClampNeg) 32 := by rw [ep, h2]; exact vp_in_nI (by omega) (by omega)
        have ea : (pl' (nI p).toNatClampNeg).toNatClampNeg = a := by rw [ep, h2]; exact nI_clamp (by omega)
        refine br_f hlt ⟨hin, hpn, hpi, ?_⟩
        by_cases hle : run i ≤ run a
        · have hle' : run (nI i).toNatClampNeg ≤ run (pl' (nI p).toNatClampNeg).toNatClampNeg := by rw [e, ea]; exact hle
          exact br_t hle' (hkeep a h1 h2 h3 h4 hle h5)
        · have hle' : ¬ run (nI i).toNatClampNeg ≤ run (pl' (nI p).toNatClampNeg).toNatClampNeg := by rw [e, ea]; exact hle
          exact br_f hle' (hset (Or.inr ⟨a, h1, h2, h3, h4, Int32.not_le.mp hle, h5⟩))
    · have hs' : ¬ st (nI i).toNatClampNeg = 1 := by rw [e]; exact hs
      obtain ⟨h1, h2, h3⟩ := hM
      refine br_f hc ⟨hin, br_f hs' (nm_r (nI_1 _) (ih (i + 1) M pl' (by omega) ⟨h1, h2, lt_s h3 (fun z => absurd z hs)⟩ ?_))⟩
      intro p hp
      exact fl_SP_skip (hP p hp) (fun z => absurd z hs)

/-- the open block after the first b were looked at -/
def fl_SO (c : Nat → Nat) (b : Nat) (ob : Int32) : Prop :=
  (ob = -1 ∧ ∀ j, j < b → c j = 0 ∨ c j = 4) ∨ (∃ o, o < 8 ∧ ob = nI o ∧ 1 ≤ c o ∧ ∀ j, j < 8 → j ≠ o → c j = 0 ∨ c j = 4)

theorem fl_s129 {post : SX → Prop} (hB : fl_BL c st) (hU : fl_U c) (hk : ∀ ob', fl_OB c ob' → post (sb, ob', nn, st, dat, lg, em, run, er, pl)) :
    ∀ d b ob', b + d = 8 → fl_SO c b ob' → wX_startUp_129 post sb nn st dat lg em run er pl (d + 1) (nI b) ob' := by
  intro d
  induction d with
  | zero =>
    intro b ob' hb hI
    have hc : (8 : Int32) ≤ nI b := nI_le (a := 8) (by omega) (by omega)
    have hb2 : b = 8 := by omega
    subst hb2
    exact br_t hc (hk ob' hI)
  | succ d ih =>
    intro b ob' hb hI
    have hb8 : b < 8 := by omega
    have hc : ¬ (8 : Int32) ≤ nI b := nI_ge (b := 8) (by omega) (by omega)
    have hskip : (c b = 0 ∨ c b = 4) → fl_SO c (b + 1) ob' := by
      intro h
      rcases hI with ⟨h1, h2⟩ | h2
      · exact Or.inl ⟨h1, lt_s h2 h⟩
      · exact Or.inr h2
    refine br_f hc (fl_isErased hB hb8 (fun h0 => ?_) (fun h0 => ?_))
    · exact br_f fl_10 (nm_r (nI_1 _) (ih (b + 1) ob' (by omega) (hskip (Or.inl h0))))
    · have e3 : ((4 : Int32) * nI b + 3).toNatClampNeg = 4 * b + 3 := by rw [fl_43]; exact nI_clamp (by omega)
      have hi3 : vp_in ((4 : Int32) * nI b + 3) 32 := by rw [fl_43]; exact vp_in_nI (by omega) (by omega)
      have h4 := (hB b hb8).1
      have hz := (hB b hb8).2 3 (by omega)
      by_cases h : c b = 4
      · have hn : ¬ st ((4 : Int32) * nI b + 3).toNatClampNeg = 0 := by
          rw [e3]
          intro z
          have := hz.mp z
          omega
        exact br_t rfl ⟨hi3, br_f hn (nm_r (nI_1 _) (ih (b + 1) ob' (by omega) (hskip (Or.inr h))))⟩
      · have hn : st ((4 : Int32) * nI b + 3).toNatClampNeg = 0 := by
          rw [e3]
          exact hz.mpr (by omega)
        exact br_t rfl ⟨hi3, br_t hn (nm_r (nI_1 _) (ih (b + 1) (nI b) (by omega) (Or.inr ⟨b, hb8, rfl, by omega, hU b hb8 h0 h⟩)))⟩

theorem fl_startUp {post : SX → Prop} (hC : fl_CI c N st dat lg em run pl0 va th) (hN1 : 1 ≤ N) (hN : N < 2 ^ 31) (hU : fl_U c)
    (hk : ∀ (M : Nat) (ob' : Int32) (pl' : Nat → Int32), 1 ≤ M → M ≤ N → fl_CI c M st dat lg em run pl' va th → fl_OB c ob' → post (sb, ob', nI M, st, dat, lg, em, run, er, pl')) : wpX_startUp post (sb, ob, nn, st, dat, lg, em, run, er, pl) := by
  obtain ⟨hB, hG, hP⟩ := hC
  show ∃ n12 : Nat, wX_startUp_12 post sb (-1) 1 n12 0 st dat lg em run er pl
  refine ⟨13, fl_s12 ?_ 12 0 pl rfl (fun j hj => absurd hj (Nat.not_lt_zero j))⟩
  intro pl1 hpl1
  refine ⟨33, fl_s33 hN hG ?_ 32 0 1 pl1 rfl ⟨Nat.le_refl _, hN1, fun j hj => absurd hj (Nat.not_lt_zero j)⟩ (fun p hp => Or.inl ⟨hpl1 p hp, fun j hj => absurd hj (Nat.not_lt_zero j)⟩)⟩
  intro M pl2 hM hS
  refine ⟨9, fl_s129 hB hU ?_ 8 0 (-1) rfl (Or.inl ⟨rfl, fun j hj => absurd hj (Nat.not_lt_zero j)⟩)⟩
  intro ob' hO
  refine hk M ob' pl2 hM.1 hM.2.1 ⟨hB, ?_, ?_⟩ hO
  · intro a ha hs
    exact ⟨(hG a ha hs).1, hM.2.2 a ha hs⟩
  · intro p hp
    rcases hP p hp with ⟨h1, h2, h3⟩ | ⟨a, h1, h2, h3, h4, h5, h6⟩
    · rcases hS p hp with ⟨g1, g2⟩ | ⟨b, g1, g2, g3, g4, g5⟩
      · exact Or.inl ⟨g1, h2, h3⟩
      · exact absurd g4 (h3 b g1 g3)
    · rcases hS p hp with ⟨g1, g2⟩ | ⟨b, g1, g2, g3, g4, g5⟩
      · exact absurd h4 (g2 a h1 h3)
      · have hab : b = a := by
          by_cases z : b = a
          · exact z
          · have z1 := h5 b g1 g3 g4 z
            have z2 := g5 a h1 h3 h4
            exact absurd (Int32.lt_of_lt_of_le z1 z2) Int32.lt_irrefl
        rw [hab] at g2
        exact Or.inr ⟨a, h1, g2, h3, h4, h5, h6⟩

theorem fl_U_of_OB {ob : Int32} (h : fl_OB c ob) : fl_U c := by
  intro o ho h0 h4 b hb hbo
  rcases h with ⟨_, h1⟩ | ⟨q, h1, _, _, h2⟩
  · exact h1 b hb
  · by_cases hq : o = q
    · exact h2 b hb (by omega)
    · rcases h2 o ho hq with z | z
      · exact absurd z h0
      · exact absurd z h4
theorem fl_U_of {o : Nat} (h2 : ∀ b, b < 8 → b ≠ o → c b = 0 ∨ c b = 4) : fl_U c := by
  intro q hq h0 h4 b hb hbo
  by_cases hqo : q = o
  · exact h2 b hb (by omega)
  · rcases h2 q hq hqo with z | z
    · exact absurd z h0
    · exact absurd z h4
end
end
section
/-! has, read, and the table's side -/
section
variable {B : Nat} {sb ob nn : Int32} {st dat lg em run er pl va th : Nat → Int32}

theorem fl_isPageT {post : Int32 → Prop} {p : Nat} (hp : p < 12) (h : post 1) : wpX_isPage post (sb, ob, nn, st, dat, lg, em, run, er, pl) (nI p) := by
  show (nI p < 0 → post 0) ∧ (¬ nI p < 0 → ((11 < nI p → post 0) ∧ (¬ 11 < nI p → post 1)))
  exact br_f (nI_pos (by omega)) (br_f (fl_11 hp) h)
theorem fl_isPageF {post : Int32 → Prop} {x : Int32} (hx : fl_bad x) (h : post 0) : wpX_isPage post (sb, ob, nn, st, dat, lg, em, run, er, pl) x := by
  show (x < 0 → post 0) ∧ (¬ x < 0 → ((11 < x → post 0) ∧ (¬ 11 < x → post 1)))
  rcases hx with h1 | ⟨h1, h2⟩
  · exact br_t h1 h
  · exact br_f h1 (br_t h2 h)
theorem fl_yPageT {post : Int32 → Prop} {p : Nat} (hp : p < 12) (h : post 1) : wpY_isPage post (va, th) (nI p) := by
  show (nI p < 0 → post 0) ∧ (¬ nI p < 0 → ((11 < nI p → post 0) ∧ (¬ 11 < nI p → post 1)))
  exact br_f (nI_pos (by omega)) (br_f (fl_11 hp) h)
theorem fl_yPageF {post : Int32 → Prop} {x : Int32} (hx : fl_bad x) (h : post 0) : wpY_isPage post (va, th) x := by
  show (x < 0 → post 0) ∧ (¬ x < 0 → ((11 < x → post 0) ∧ (¬ 11 < x → post 1)))
  rcases hx with h1 | ⟨h1, h2⟩
  · exact br_t h1 h
  · exact br_f h1 (br_t h2 h)

/-- what reading the flash gives, by logical page -/
def fl_PS (dat em pl va th : Nat → Int32) (p : Nat) : Prop :=
  (pl p = -1 ∧ th p = 0) ∨ (∃ a, a < 32 ∧ pl p = nI a ∧ fl_H (va p) (th p) (dat a) (em a))
theorem fl_R_PS (hR : fl_R B sb ob nn st dat lg em run er pl va th) : ∀ p, p < 12 → fl_PS dat em pl va th p := by
  obtain ⟨c, N, s, _, _, _, _, _, _, hC, _, _⟩ := hR
  intro p hp
  rcases hC.2.2 p hp with ⟨h1, h2, _⟩ | ⟨a, h1, h2, _, _, _, h6⟩
  · exact Or.inl ⟨h1, h2⟩
  · exact Or.inr ⟨a, h1, h2, h6⟩
theorem fl_PS_th {p : Nat} (h : fl_PS dat em pl va th p) : th p = 0 ∨ th p = 1 := by
  rcases h with ⟨_, h⟩ | ⟨a, _, _, h⟩
  · exact Or.inl h
  · rcases h with ⟨h, _⟩ | ⟨h, _⟩
    · exact Or.inl h
    · exact Or.inr h

theorem fl_has {post : Int32 → Prop} {p : Nat} (hp : p < 12) (hS : fl_PS dat em pl va th p) (h : post (th p)) : wpX_has post (sb, ob, nn, st, dat, lg, em, run, er, pl) (nI p) := by
  unfold wpX_has
  try dsimp only
  refine fl_isPageT hp (br_f fl_10 ?_)
  have hi : vp_in (nI p) 12 := vp_in_nI hp (by omega)
  have e : (nI p).toNatClampNeg = p := nI_clamp (by omega)
  rcases hS with ⟨h1, h2⟩ | ⟨a, h1, h2, h3⟩
  · have hl : pl (nI p).toNatClampNeg < 0 := by rw [e, h1]; exact fl_m0
    rw [h2] at h
    exact ⟨hi, br_t hl h⟩
  · have hl : ¬ pl (nI p).toNatClampNeg < 0 := by rw [e, h2]; exact nI_pos (by omega)
    have hv : vp_in (pl (nI p).toNatClampNeg) 32 := by rw [e, h2]; exact vp_in_nI h1 (by omega)
    have ea : (pl (nI p).toNatClampNeg).toNatClampNeg = a := by rw [e, h2]; exact nI_clamp (by omega)
    rcases h3 with ⟨h4, h5⟩ | ⟨h4, h5, _⟩
    · have hz : ¬ em (pl (nI p).toNatClampNeg).toNatClampNeg = 0 := by rw [ea, h5]; exact fl_10
      rw [h4] at h
      exact ⟨hi, br_f hl ⟨hi, hv, br_f hz h⟩⟩
    · have hz : em (pl (nI p).toNatClampNeg).toNatClampNeg = 0 := by rw [ea]; exact h5
      rw [h4] at h
      exact ⟨hi, br_f hl ⟨hi, hv, br_t hz h⟩⟩
theorem fl_hasF {post : Int32 → Prop} {x : Int32} (hx : fl_bad x) (h : post 0) : wpX_has post (sb, ob, nn, st, dat, lg, em, run, er, pl) x := by
  unfold wpX_has
  try dsimp only
  exact fl_isPageF hx (br_t rfl h)

def fl_rd (va th : Nat → Int32) (p : Nat) : Int32 := if th p = 0 then 0 else va p
theorem fl_rd0 {p : Nat} (h : th p = 0) : fl_rd va th p = 0 := if_pos h
theorem fl_rd1 {p : Nat} (h : th p = 1) : fl_rd va th p = va p := if_neg (by rw [h]; exact fl_10)

theorem fl_read {post : Int32 → Prop} {p : Nat} (hp : p < 12) (hS : fl_PS dat em pl va th p) (h : post (fl_rd va th p)) : wpX_read post (sb, ob, nn, st, dat, lg, em, run, er, pl) (nI p) := by
  unfold wpX_read
  try dsimp only
  refine fl_has hp hS ?_
  have hi : vp_in (nI p) 12 := vp_in_nI hp (by omega)
  have e : (nI p).toNatClampNeg = p := nI_clamp (by omega)
  by_cases ht : th p = 0
  · rw [fl_rd0 ht] at h
    exact br_t ht h
  · refine br_f ht ?_
    rcases hS with ⟨h1, h2⟩ | ⟨a, h1, h2, h3⟩
    · exact absurd h2 ht
    · have hv : vp_in (pl (nI p).toNatClampNeg) 32 := by rw [e, h2]; exact vp_in_nI h1 (by omega)
      have ea : (pl (nI p).toNatClampNeg).toNatClampNeg = a := by rw [e, h2]; exact nI_clamp (by omega)
      rcases h3 with ⟨h4, _⟩ | ⟨h4, _, h5⟩
      · exact absurd h4 ht
      · rw [fl_rd1 h4, ← h5] at h
        refine ⟨hi, hv, ?_⟩
        rw [ea]
        exact h
theorem fl_readF {post : Int32 → Prop} {x : Int32} (hx : fl_bad x) (h : post 0) : wpX_read post (sb, ob, nn, st, dat, lg, em, run, er, pl) x := by
  unfold wpX_read
  try dsimp only
  exact fl_hasF hx (br_t rfl h)

theorem fl_yhas {post : Int32 → Prop} {p : Nat} (hp : p < 12) (ht : th p = 0 ∨ th p = 1) (h : post (th p)) : wpY_has post (va, th) (nI p) := by
  unfold wpY_has
  try dsimp only
  refine fl_yPageT hp (br_f fl_10 ⟨vp_in_nI hp (by omega), ?_⟩)
  rw [nI_clamp (by omega)]
  rcases ht with ht | ht
  · rw [ht] at h ⊢
    exact br_t rfl h
  · rw [ht] at h ⊢
    exact br_f fl_10 h
theorem fl_yhasF {post : Int32 → Prop} {x : Int32} (hx : fl_bad x) (h : post 0) : wpY_has post (va, th) x := by
  unfold wpY_has
  try dsimp only
  exact fl_yPageF hx (br_t rfl h)
theorem fl_yread {post : Int32 → Prop} {p : Nat} (hp : p < 12) (ht : th p = 0 ∨ th p = 1) (h : post (fl_rd va th p)) : wpY_read post (va, th) (nI p) := by
  unfold wpY_read
  try dsimp only
  refine fl_yhas hp ht ?_
  rcases ht with ht | ht
  · rw [fl_rd0 ht] at h
    exact br_t ht h
  · rw [fl_rd1 ht] at h
    have hn : ¬ th p = 0 := by rw [ht]; exact fl_10
    refine br_f hn ⟨vp_in_nI hp (by omega), ?_⟩
    rw [nI_clamp (by omega)]
    exact h
theorem fl_yreadF {post : Int32 → Prop} {x : Int32} (hx : fl_bad x) (h : post 0) : wpY_read post (va, th) x := by
  unfold wpY_read
  try dsimp only
  exact fl_yhasF hx (br_t rfl h)

/-! the three loops over the table: one outcome for both sides -/
theorem fl_used_l (hS : ∀ p, p < 12 → fl_PS dat em pl va th p) : ∀ d q x, q + d = 12 → ∃ r : Int32,
    (∀ post : Int32 → Prop, post r → wX_used_4 post sb ob nn st dat lg em run er pl (d + 1) x (nI q)) ∧ (∀ post : Int32 → Prop, post r → wY_used_4 post va th (d + 1) x (nI q)) := by
  intro d
  induction d with
  | zero =>
    intro q x hq
    have h : (12 : Int32) ≤ nI q := nI_le (a := 12) (by omega) (by omega)
    exact ⟨x, fun _ hp => br_t h hp, fun _ hp => br_t h hp⟩
  | succ d ih =>
    intro q x hq
    have h : ¬ (12 : Int32) ≤ nI q := nI_ge (b := 12) (by omega) (by omega)
    have hq12 : q < 12 := by omega
    have hi : vp_in (nI q) 12 := vp_in_nI hq12 (by omega)
    have e : (nI q).toNatClampNeg = q := nI_clamp (by omega)
    by_cases ht : th q = 0
    · have ht' : th (nI q).toNatClampNeg = 0 := by rw [e]; exact ht
      obtain ⟨r, hX, hY⟩ := ih (q + 1) x (by omega)
      exact ⟨r, fun post hp => br_f h (fl_has hq12 (hS q hq12) (br_t ht (nm_r (nI_1 _) (hX post hp)))), fun post hp => br_f h ⟨hi, br_t ht' (nm_r (nI_1 _) (hY post hp))⟩⟩
    · have ht' : ¬ th (nI q).toNatClampNeg = 0 := by rw [e]; exact ht
      obtain ⟨r, hX, hY⟩ := ih (q + 1) (x + 1) (by omega)
      exact ⟨r, fun post hp => br_f h (fl_has hq12 (hS q hq12) (br_f ht (nm_e (nm_r (nI_1 _) (hX post hp))))), fun post hp => br_f h ⟨hi, br_f ht' (nm_e (nm_r (nI_1 _) (hY post hp)))⟩⟩

theorem fl_used (hS : ∀ p, p < 12 → fl_PS dat em pl va th p) : ∃ r : Int32,
    (∀ post : Int32 → Prop, post r → wpX_used post (sb, ob, nn, st, dat, lg, em, run, er, pl)) ∧ (∀ post : Int32 → Prop, post r → wpY_used post (va, th)) := by
  obtain ⟨r, hX, hY⟩ := fl_used_l (sb := sb) (ob := ob) (nn := nn) (st := st) (lg := lg) (run := run) (er := er) hS 12 0 0 rfl
  refine ⟨r, fun post hp => ?_, fun post hp => ?_⟩
  · show ∃ n4 : Nat, wX_used_4 post sb ob nn st dat lg em run er pl n4 0 0
    exact ⟨13, hX post hp⟩
  · show ∃ n4 : Nat, wY_used_4 post va th n4 0 0
    exact ⟨13, hY post hp⟩

theorem fl_next_l (hS : ∀ p, p < 12 → fl_PS dat em pl va th p) (y : Int32) : ∀ d q, q + d = 12 → ∃ r : Int32,
    (∀ post : Int32 → Prop, post r → wX_nextUsed_2 post y sb ob nn st dat lg em run er pl (d + 1) (nI q)) ∧ (∀ post : Int32 → Prop, post r → wY_nextUsed_2 post y va th (d + 1) (nI q)) := by
  intro d
  induction d with
  | zero =>
    intro q hq
    have h : (12 : Int32) ≤ nI q := nI_le (a := 12) (by omega) (by omega)
    exact ⟨-2, fun _ hp => br_t h hp, fun _ hp => br_t h hp⟩
  | succ d ih =>
    intro q hq
    have h : ¬ (12 : Int32) ≤ nI q := nI_ge (b := 12) (by omega) (by omega)
    have hq12 : q < 12 := by omega
    have hi : vp_in (nI q) 12 := vp_in_nI hq12 (by omega)
    have e : (nI q).toNatClampNeg = q := nI_clamp (by omega)
    obtain ⟨r, hX, hY⟩ := ih (q + 1) (by omega)
    by_cases hy : nI q ≤ y
    · exact ⟨r, fun post hp => br_f h (br_t hy (nm_r (nI_1 _) (hX post hp))), fun post hp => br_f h (br_t hy (nm_r (nI_1 _) (hY post hp)))⟩
    · by_cases ht : th q = 0
      · have ht' : th (nI q).toNatClampNeg = 0 := by rw [e]; exact ht
        exact ⟨r, fun post hp => br_f h (br_f hy (fl_has hq12 (hS q hq12) (br_t ht (nm_r (nI_1 _) (hX post hp))))), fun post hp => br_f h (br_f hy ⟨hi, br_t ht' (nm_r (nI_1 _) (hY post hp))⟩)⟩
      · have ht' : ¬ th (nI q).toNatClampNeg = 0 := by rw [e]; exact ht
        exact ⟨nI q, fun post hp => br_f h (br_f hy (fl_has hq12 (hS q hq12) (br_f ht hp))), fun post hp => br_f h (br_f hy ⟨hi, br_f ht' hp⟩)⟩

theorem fl_total_l (hS : ∀ p, p < 12 → fl_PS dat em pl va th p) : ∀ d q (x : Int64), q + d = 12 → ∃ r : Int64,
    (∀ post : Int64 → Prop, post r → wX_total_4 post sb ob nn st dat lg em run er pl (d + 1) x (nI q)) ∧ (∀ post : Int64 → Prop, post r → wY_total_4 post va th (d + 1) x (nI q)) := by
  intro d
  induction d with
  | zero =>
    intro q x hq
    have h : (12 : Int32) ≤ nI q := nI_le (a := 12) (by omega) (by omega)
    exact ⟨x, fun _ hp => br_t h hp, fun _ hp => br_t h hp⟩
  | succ d ih =>
    intro q x hq
    have h : ¬ (12 : Int32) ≤ nI q := nI_ge (b := 12) (by omega) (by omega)
    have hq12 : q < 12 := by omega
    obtain ⟨r, hX, hY⟩ := ih (q + 1) (x + (fl_rd va th q).toInt64) (by omega)
    exact ⟨r, fun post hp => br_f h (fl_read hq12 (hS q hq12) (nm_e (nm_r (nI_1 _) (hX post hp)))), fun post hp => br_f h (fl_yread hq12 (fl_PS_th (hS q hq12)) (nm_e (nm_r (nI_1 _) (hY post hp))))⟩
end
end
section
/-! trim, replace, the filling loop -/
section
variable {B : Nat} {sb ob nn : Int32} {st dat lg em run er pl va th : Nat → Int32}

theorem fl_R_va (hR : fl_R B sb ob nn st dat lg em run er pl va th) {va' th' : Nat → Int32} (h : ∀ q, q < 12 → th' q = th q ∧ (th q = 1 → va' q = va q)) : fl_R B sb ob nn st dat lg em run er pl va' th' := by
  obtain ⟨c, N, s, h1, h2, h3, h4, h5, h6, hC, h7, h8⟩ := hR
  exact ⟨c, N, s, h1, h2, h3, h4, h5, h6, fl_CI_va hC h, h7, h8⟩
theorem fl_R_up {B' : Nat} (hR : fl_R B sb ob nn st dat lg em run er pl va th) (h : B ≤ B') : fl_R B' sb ob nn st dat lg em run er pl va th := by
  obtain ⟨c, N, s, h1, h2, h3, h4, h5, h6, h9⟩ := hR
  exact ⟨c, N, s, h1, h2, h3, h4, h5, by omega, h9⟩

theorem fl_trim {post : Int32 → SX → Prop} {p : Nat} (hB : B + 5 < 2 ^ 31) (hR : fl_R B sb ob nn st dat lg em run er pl va th) (hp : p < 12) {va' th' : Nat → Int32}
    (hs : ∀ q, q < 12 → q ≠ p → va' q = va q ∧ th' q = th q) (ht : th' p = 0)
    (hk : ∀ (ob' nn' : Int32) (st' dat' lg' em' run' er' pl' : Nat → Int32), fl_R (B + 5) sb ob' nn' st' dat' lg' em' run' er' pl' va' th' → post (th p) (sb, ob', nn', st', dat', lg', em', run', er', pl')) : wpX_trim post (sb, ob, nn, st, dat, lg, em, run, er, pl) (nI p) := by
  unfold wpX_trim
  try dsimp only
  refine fl_isPageT hp (br_f fl_10 (fl_has hp (fl_R_PS hR p hp) ?_))
  rcases fl_PS_th (fl_R_PS hR p hp) with h | h
  · have hR' : fl_R (B + 5) sb ob nn st dat lg em run er pl va' th' := by
      refine fl_R_up (fl_R_va hR ?_) (by omega)
      intro q hq
      by_cases hqp : q = p
      · rw [hqp]
        exact ⟨ht.trans h.symm, fun z => absurd (h.symm.trans z) fl_01⟩
      · exact ⟨(hs q hq hqp).2, fun _ => (hs q hq hqp).1⟩
    have hk' := hk _ _ _ _ _ _ _ _ _ hR'
    rw [h] at hk' ⊢
    exact br_t rfl hk'
  · rw [h] at hk ⊢
    refine br_f fl_10 (fl_program hB hR hp (Or.inr rfl) hs (Or.inl ⟨ht, rfl⟩) ?_)
    exact hk

theorem fl_replace {post : SX → Prop} {p : Nat} (hB : B + 5 < 2 ^ 31) (hR : fl_R B sb ob nn st dat lg em run er pl va th) (hp : p < 12) {d t : Int32} (ht : t = 0 ∨ t = 1) {va' th' : Nat → Int32}
    (hs : ∀ q, q < 12 → q ≠ p → va' q = va q ∧ th' q = th q) (ht' : th' p = t) (hv : t = 1 → va' p = d)
    (hk : ∀ (ob' nn' : Int32) (st' dat' lg' em' run' er' pl' : Nat → Int32), fl_R (B + 5) sb ob' nn' st' dat' lg' em' run' er' pl' va' th' → post (sb, ob', nn', st', dat', lg', em', run', er', pl')) : wpX_replace post (sb, ob, nn, st, dat, lg, em, run, er, pl) (nI p) d t := by
  unfold wpX_replace
  try dsimp only
  rcases ht with h | h
  · subst h
    exact br_t rfl (fl_trim hB hR hp hs ht' hk)
  · subst h
    exact br_f fl_10 (fl_program hB hR hp (Or.inl rfl) hs (Or.inr ⟨ht', rfl, (hv rfl).symm⟩) hk)

theorem fl_fill_l {y2 r : Nat} (hr : r < 12) {t w z : Int32} (ht : t = 0 ∨ t = 1) (hw : t = 1 → z = w) : ∀ (d x : Nat) (va th : Nat → Int32), x + d = r + 1 → ∃ va' th' : Nat → Int32,
    (∀ post : Int32 → SY → Prop, post (nI r - nI y2 + 1) (va', th') → wY_fill_50 post (nI y2) (nI r) t z (d + 1) (nI x) va th) ∧
    (∀ (B : Nat) (ob nn : Int32) (st dat lg em run er pl : Nat → Int32) (post : Int32 → SX → Prop), B + 5 * d < 2 ^ 31 → fl_R B sb ob nn st dat lg em run er pl va th →
      (∀ (ob' nn' : Int32) (st' dat' lg' em' run' er' pl' : Nat → Int32), fl_R (B + 5 * d) sb ob' nn' st' dat' lg' em' run' er' pl' va' th' → post (nI r - nI y2 + 1) (sb, ob', nn', st', dat', lg', em', run', er', pl')) →
      wX_fill_48 post (nI y2) (nI r) t w (d + 1) (nI x) sb ob nn st dat lg em run er pl) := by
  intro d
  induction d with
  | zero =>
    intro x va th hx
    have h : nI r < nI x := nI_lt (by omega) (by omega)
    exact ⟨va, th, fun post hp => br_t h hp, fun B ob nn st dat lg em run er pl post _ hR hp => br_t h (hp ob nn st dat lg em run er pl hR)⟩
  | succ d ih =>
    intro x va th hx
    have h : ¬ nI r < nI x := nI_nlt (by omega) (by omega)
    have hx12 : x < 12 := by omega
    have hi : vp_in (nI x) 12 := vp_in_nI hx12 (by omega)
    have e : (nI x).toNatClampNeg = x := nI_clamp (by omega)
    obtain ⟨va', th', hY, hX⟩ := ih (x + 1) (upd va x z) (upd th x t) (by omega)
    refine ⟨va', th', fun post hp => ?_, ?_⟩
    · exact br_f h ⟨hi, nm_r (e' := upd th x t) (by rw [e, fl_z ht]) ⟨hi, nm_r (e' := upd va x z) (by rw [e]) (nm_r (nI_1 _) (hY post hp))⟩⟩
    · intro B ob nn st dat lg em run er pl post hB hR hk
      refine br_f h (fl_replace (va' := upd va x z) (th' := upd th x t) (by omega) hR hx12 ht ?_ pk_us (fun h1 => by rw [pk_us]; exact hw h1) ?_)
      · intro q _ hqx
        exact ⟨pk_un hqx, pk_un hqx⟩
      · intro ob1 nn1 st1 dat1 lg1 em1 run1 er1 pl1 hR1
        refine nm_r (nI_1 _) (hX (B + 5) ob1 nn1 st1 dat1 lg1 em1 run1 er1 pl1 post (by omega) hR1 ?_)
        intro ob2 nn2 st2 dat2 lg2 em2 run2 er2 pl2 hR2
        refine hk ob2 nn2 st2 dat2 lg2 em2 run2 er2 pl2 ?_
        rw [show B + 5 * (d + 1) = B + 5 + 5 * d by omega]
        exact hR2
end
end
section
/-! What is owed (the statements are the given ones) -/
def i_Rel (k : Nat) (u : SX) (v : SY) : Prop := match u with
  | (sb, ob, nn, st, dat, lg, em, run, er, pl) => fl_R (16 * k) sb ob nn st dat lg em run er pl v.1 v.2
theorem i_up {k : Nat} {u : SX} {v : SY} (h : i_Rel k u v) : i_Rel (k + 4) u v := by
  obtain ⟨sb, ob, nn, st, dat, lg, em, run, er, pl⟩ := u
  exact fl_R_up (show fl_R (16 * k) sb ob nn st dat lg em run er pl v.1 v.2 from h) (by omega)
theorem fl_init {s : Nat} (h1 : 1 ≤ s) (h3 : s ≤ 3) (k0 : Int32) : wX_init_80 (fun u => wpY_init (fun v => i_Rel 1 u v) k0) (nI s) 0 0 0 (fun _ => 0) (fun _ => 0) (fun _ => 0) (fun _ => 0) (fun _ => 0) (fun _ => 0) (fun _ => 0) := by
  unfold wX_init_80
  have hC : fl_CI (fun _ => 0) 1 (fun _ => 0) (fun _ => 0) (fun _ => 0) (fun _ => 0) (fun _ => 0) (fun _ => -1) (fun _ => 0) (fun _ => 0) := by
    refine ⟨?_, ?_, ?_⟩
    · intro b _
      refine ⟨Nat.zero_le _, ?_⟩
      intro i _
      constructor
      · intro _; exact Nat.zero_le _
      · intro _; rfl
    · intro a _ hs
      exact absurd hs fl_01
    · intro p _
      exact Or.inl ⟨rfl, rfl, fun b _ hs => absurd hs fl_01⟩
  refine fl_startUp hC (by omega) (by omega) ?_ ?_
  · intro o _ h0 _
    exact absurd rfl h0
  · intro M ob' pl' hM1 hM hC' hO
    show fl_R (16 * 1) (nI s) ob' (nI M) (fun _ => 0) (fun _ => 0) (fun _ => 0) (fun _ => 0) (fun _ => 0) (fun _ => 0) pl' (fun _ => 0) (fun _ => 0)
    exact ⟨fun _ => 0, M, s, h1, h3, rfl, rfl, hM1, by omega, hC', hO, ⟨0, by omega, rfl⟩⟩
theorem i_vc0 (k0 : Int32) : wpX_init (fun u => wpY_init (fun v => i_Rel 1 u v) k0) k0 := by
  by_cases h1 : 1 ≤ k0
  · by_cases h3 : k0 ≤ 3
    · have hp : ¬ k0 < 0 := fun z => absurd (Int32.lt_of_le_of_lt h1 z) (by decide)
      obtain ⟨s, hs, e⟩ := nI_of2 (M := 3) (n := 3) (by decide) hp h3
      have hs1 : 1 ≤ s := by
        rw [e] at h1
        exact (nI_leI (a := 1) (by omega) (by omega)).mp h1
      rw [e] at h1 h3 ⊢
      exact br_t h1 (br_t h3 (fl_init hs1 hs _))
    · exact br_t h1 (br_f h3 (fl_init (s := 3) (by omega) (by omega) _))
  · exact br_f h1 (fl_init (s := 1) (by omega) (by omega) _)

theorem i_vc_write {k : Nat} {u : SX} {v : SY} (I : i_Rel k u v) (hk : k + 4 ≤ 2049) (v1 : Int32) (v2 : Int32) : wpX_write (fun r u' => wpY_write (fun r' v' => r' = r ∧ i_Rel (k + 4) u' v') v v1 v2) u v1 v2 := by
  obtain ⟨sb, ob, nn, st, dat, lg, em, run, er, pl⟩ := u
  obtain ⟨va, th⟩ := v
  have hR : fl_R (16 * k) sb ob nn st dat lg em run er pl va th := I
  unfold wpX_write
  try dsimp only
  rcases fl_page v1 with hb | ⟨p, hp, rfl⟩
  · refine fl_isPageF hb (br_t rfl ?_)
    unfold wpY_write
    try dsimp only
    exact fl_yPageF hb (br_t rfl ⟨rfl, i_up I⟩)
  · have hS := fl_R_PS hR p hp
    have hy : ∀ (z : Int32) (u' : SX), z = th p → i_Rel (k + 4) u' (upd va p v2, upd th p 1) → wpY_write (fun r' v' => r' = z ∧ i_Rel (k + 4) u' v') (va, th) (nI p) v2 := by
      intro z u' hz hI
      have hi : vp_in (nI p) 12 := vp_in_nI hp (by omega)
      have e : (nI p).toNatClampNeg = p := nI_clamp (by omega)
      unfold wpY_write
      try dsimp only
      refine fl_yPageT hp (br_f fl_10 ⟨hi, ?_⟩)
      have hY : ∀ z' : Int32, z' = z → wY_write_24 (fun r' v' => r' = z ∧ i_Rel (k + 4) u' v') (nI p) v2 z' va th := by
        intro z' hz'
        exact And.intro hi (nm_r (e' := upd va p v2) (by rw [e]) ⟨hi, nm_r (e' := upd th p 1) (by rw [e, fl_z1]) ⟨hz', hI⟩⟩)
      rw [e]
      rcases fl_PS_th hS with h | h
      · exact br_t h (hY 0 (by rw [hz, h]))
      · exact br_f (by rw [h]; exact fl_10) (hY 1 (by rw [hz, h]))
    have hx : ∀ z : Int32, z = th p → wX_write_23 (fun r u' => wpY_write (fun r' v' => r' = r ∧ i_Rel (k + 4) u' v') (va, th) (nI p) v2) (nI p) v2 z sb ob nn st dat lg em run er pl := by
      intro z hz
      unfold wX_write_23
      refine fl_program (va' := upd va p v2) (th' := upd th p 1) (by omega) hR hp (Or.inl rfl) (fun q _ hq => ⟨pk_un hq, pk_un hq⟩) (Or.inr ⟨pk_us, rfl, pk_us.symm⟩) ?_
      intro ob' nn' st' dat' lg' em' run' er' pl' hR'
      try dsimp only
      exact hy z _ hz (fl_R_up hR' (by omega))
    refine fl_isPageT hp (br_f fl_10 (fl_has hp hS ?_))
    rcases fl_PS_th hS with h | h
    · exact br_t h (hx 0 h.symm)
    · exact br_f (by rw [h]; exact fl_10) (hx 1 h.symm)

theorem i_vc_torn {k : Nat} {u : SX} {v : SY} (I : i_Rel k u v) (hk : k + 4 ≤ 2049) (v1 : Int32) (v2 : Int32) : wpX_torn (fun r u' => wpY_torn (fun r' => r' = r ∧ i_Rel (k + 4) u' v) v v1 v2) u v1 v2 := by
  obtain ⟨sb, ob, nn, st, dat, lg, em, run, er, pl⟩ := u
  obtain ⟨va, th⟩ := v
  have hR : fl_R (16 * k) sb ob nn st dat lg em run er pl va th := I
  unfold wpX_torn
  try dsimp only
  rcases fl_page v1 with hb | ⟨p, hp, rfl⟩
  · refine fl_isPageF hb (br_t rfl ?_)
    unfold wpY_torn
    try dsimp only
    exact fl_yPageF hb (br_t rfl ⟨rfl, i_up I⟩)
  · obtain ⟨c, N, s, hs1, hs3, rfl, rfl, hN1, hN, hC, hO, hF⟩ := hR
    refine fl_isPageT hp (br_f fl_10 (fl_fresh (B := N + 4) ?_ hs1 hs3 hN1 (Nat.le_refl _) (by omega) hC hO hF))
    intro c' N' o st' dat' lg' em' run' er' pl' ho hco hN1' hN' hC' hall hfr
    try dsimp only
    have hi : vp_in (nI (4 * o + c' o)) 32 := vp_in_nI (by omega) (by omega)
    have e : (nI (4 * o + c' o)).toNatClampNeg = 4 * o + c' o := nI_clamp (by omega)
    rw [e]
    refine ⟨hi, nm_r (e' := upd st' (4 * o + c' o) 2) (by rw [fl_b2]) ⟨hi, nm_e ⟨hi, nm_e ⟨hi, nm_e ?_⟩⟩⟩⟩
    have hall' : ∀ b, b < 8 → b ≠ o → fl_uc c' o (c' o + 1) b = 0 ∨ fl_uc c' o (c' o + 1) b = 4 := by
      intro b hb hbo
      rw [fl_uc_n hbo]
      exact hall b hb hbo
    refine fl_startUp (fl_spoil hC' ho hco _ _ _) hN1' (by omega) (fl_U_of hall') ?_
    intro M ob'' pl'' hM1 hM hC2 hO2
    try dsimp only
    unfold wpY_torn
    try dsimp only
    refine fl_yPageT hp (br_f fl_10 ⟨rfl, ?_⟩)
    obtain ⟨f, hf, hfo, hf0⟩ := hfr
    exact ⟨fl_uc c' o (c' o + 1), M, s, hs1, hs3, rfl, rfl, hM1, by omega, hC2, hO2, ⟨f, hf, by rw [fl_uc_n hfo]; exact hf0⟩⟩

theorem i_vc_trim {k : Nat} {u : SX} {v : SY} (I : i_Rel k u v) (hk : k + 4 ≤ 2049) (v1 : Int32) : wpX_trim (fun r u' => wpY_trim (fun r' v' => r' = r ∧ i_Rel (k + 4) u' v') v v1) u v1 := by
  obtain ⟨sb, ob, nn, st, dat, lg, em, run, er, pl⟩ := u
  obtain ⟨va, th⟩ := v
  have hR : fl_R (16 * k) sb ob nn st dat lg em run er pl va th := I
  rcases fl_page v1 with hb | ⟨p, hp, rfl⟩
  · unfold wpX_trim
    try dsimp only
    refine fl_isPageF hb (br_t rfl ?_)
    unfold wpY_trim
    try dsimp only
    exact fl_yPageF hb (br_t rfl ⟨rfl, i_up I⟩)
  · have hS := fl_R_PS hR p hp
    refine fl_trim (va' := va) (th' := upd th p 0) (by omega) hR hp (fun q _ hq => ⟨rfl, pk_un hq⟩) pk_us ?_
    intro ob' nn' st' dat' lg' em' run' er' pl' hR'
    have hI : i_Rel (k + 4) (sb, ob', nn', st', dat', lg', em', run', er', pl') (va, upd th p 0) := fl_R_up hR' (by omega)
    have hi : vp_in (nI p) 12 := vp_in_nI hp (by omega)
    have e : (nI p).toNatClampNeg = p := nI_clamp (by omega)
    unfold wpY_trim
    try dsimp only
    refine fl_yPageT hp (br_f fl_10 ⟨hi, ?_⟩)
    have hY : ∀ z' : Int32, z' = th p → wY_trim_24 (fun r' v' => r' = th p ∧ i_Rel (k + 4) (sb, ob', nn', st', dat', lg', em', run', er', pl') v') (nI p) z' va th := by
      intro z' hz'
      exact And.intro hi (nm_r (e' := upd th p 0) (by rw [e, fl_z0]) ⟨hz', hI⟩)
    rcases fl_PS_th hS with h | h
    · have h' : th (nI p).toNatClampNeg = 0 := by rw [e]; exact h
      exact br_t h' (hY 0 h.symm)
    · have h' : ¬ th (nI p).toNatClampNeg = 0 := by rw [e, h]; exact fl_10
      exact br_f h' (hY 1 h.symm)

theorem i_vc_powerCut {k : Nat} {u : SX} {v : SY} (I : i_Rel k u v) (hk : k + 4 ≤ 2049) : wpX_powerCut (fun r u' => wpY_powerCut (fun r' => r' = r ∧ i_Rel (k + 4) u' v) v) u := by
  obtain ⟨sb, ob, nn, st, dat, lg, em, run, er, pl⟩ := u
  obtain ⟨va, th⟩ := v
  obtain ⟨c, N, s, hs1, hs3, rfl, rfl, hN1, hN, hC, hO, hF⟩ := (show fl_R (16 * k) sb ob nn st dat lg em run er pl va th from I)
  unfold wpX_powerCut
  try dsimp only
  refine fl_startUp hC hN1 (by omega) (fl_U_of_OB hO) ?_
  intro M ob' pl' hM1 hM hC' hO'
  try dsimp only
  have hR' : fl_R (16 * (k + 4)) (nI s) ob' (nI M) st dat lg em run er pl' va th := ⟨c, M, s, hs1, hs3, rfl, rfl, hM1, by omega, hC', hO', hF⟩
  obtain ⟨r, hX, hY⟩ := fl_used (sb := nI s) (ob := ob') (nn := nI M) (st := st) (lg := lg) (run := run) (er := er) (fl_R_PS hR')
  refine hX _ ?_
  unfold wpY_powerCut
  try dsimp only
  exact hY _ ⟨rfl, hR'⟩

theorem i_vc_has {k : Nat} {u : SX} {v : SY} (I : i_Rel k u v) (hk : k + 4 ≤ 2049) (v1 : Int32) : wpX_has (fun r => wpY_has (fun r' => r' = r ∧ i_Rel (k + 4) u v) v v1) u v1 := by
  obtain ⟨sb, ob, nn, st, dat, lg, em, run, er, pl⟩ := u
  obtain ⟨va, th⟩ := v
  have hR : fl_R (16 * k) sb ob nn st dat lg em run er pl va th := I
  rcases fl_page v1 with hb | ⟨p, hp, rfl⟩
  · exact fl_hasF hb (fl_yhasF hb ⟨rfl, i_up I⟩)
  · have hS := fl_R_PS hR p hp
    exact fl_has hp hS (fl_yhas hp (fl_PS_th hS) ⟨rfl, i_up I⟩)

theorem i_vc_read {k : Nat} {u : SX} {v : SY} (I : i_Rel k u v) (hk : k + 4 ≤ 2049) (v1 : Int32) : wpX_read (fun r => wpY_read (fun r' => r' = r ∧ i_Rel (k + 4) u v) v v1) u v1 := by
  obtain ⟨sb, ob, nn, st, dat, lg, em, run, er, pl⟩ := u
  obtain ⟨va, th⟩ := v
  have hR : fl_R (16 * k) sb ob nn st dat lg em run er pl va th := I
  rcases fl_page v1 with hb | ⟨p, hp, rfl⟩
  · exact fl_readF hb (fl_yreadF hb ⟨rfl, i_up I⟩)
  · have hS := fl_R_PS hR p hp
    exact fl_read hp hS (fl_yread hp (fl_PS_th hS) ⟨rfl, i_up I⟩)

theorem i_vc_used {k : Nat} {u : SX} {v : SY} (I : i_Rel k u v) (hk : k + 4 ≤ 2049) : wpX_used (fun r => wpY_used (fun r' => r' = r ∧ i_Rel (k + 4) u v) v) u := by
  obtain ⟨sb, ob, nn, st, dat, lg, em, run, er, pl⟩ := u
  obtain ⟨va, th⟩ := v
  have hR : fl_R (16 * k) sb ob nn st dat lg em run er pl va th := I
  obtain ⟨r, hX, hY⟩ := fl_used (sb := sb) (ob := ob) (nn := nn) (st := st) (lg := lg) (run := run) (er := er) (fl_R_PS hR)
  exact hX _ (hY _ ⟨rfl, i_up I⟩)

theorem i_vc_nextUsed {k : Nat} {u : SX} {v : SY} (I : i_Rel k u v) (hk : k + 4 ≤ 2049) (v1 : Int32) : wpX_nextUsed (fun r => wpY_nextUsed (fun r' => r' = r ∧ i_Rel (k + 4) u v) v v1) u v1 := by
  obtain ⟨sb, ob, nn, st, dat, lg, em, run, er, pl⟩ := u
  obtain ⟨va, th⟩ := v
  have hR : fl_R (16 * k) sb ob nn st dat lg em run er pl va th := I
  obtain ⟨r, hX, hY⟩ := fl_next_l (sb := sb) (ob := ob) (nn := nn) (st := st) (lg := lg) (run := run) (er := er) (fl_R_PS hR) v1 12 0 rfl
  unfold wpX_nextUsed
  try dsimp only
  refine ⟨13, hX _ ?_⟩
  unfold wpY_nextUsed
  try dsimp only
  exact ⟨13, hY _ ⟨rfl, i_up I⟩⟩

theorem i_vc_total {k : Nat} {u : SX} {v : SY} (I : i_Rel k u v) (hk : k + 4 ≤ 2049) : wpX_total (fun r => wpY_total (fun r' => r' = r ∧ i_Rel (k + 4) u v) v) u := by
  obtain ⟨sb, ob, nn, st, dat, lg, em, run, er, pl⟩ := u
  obtain ⟨va, th⟩ := v
  have hR : fl_R (16 * k) sb ob nn st dat lg em run er pl va th := I
  obtain ⟨r, hX, hY⟩ := fl_total_l (sb := sb) (ob := ob) (nn := nn) (st := st) (lg := lg) (run := run) (er := er) (fl_R_PS hR) 12 0 0 rfl
  unfold wpX_total
  try dsimp only
  refine ⟨13, hX _ ?_⟩
  unfold wpY_total
  try dsimp only
  exact ⟨13, hY _ ⟨rfl, i_up I⟩⟩

theorem fl_yex {post : Int32 → SY → Prop} {va th : Nat → Int32} {p q : Nat} (hp : p < 12) (hq : q < 12) (tp : th p = 0 ∨ th p = 1) (tq : th q = 0 ∨ th q = 1)
    (h : post (th p + th q) (upd (upd va p (va q)) q (va p), upd (upd th p (th q)) q (th p))) : wpY_exchange post (va, th) (nI p) (nI q) := by
  have hi : vp_in (nI p) 12 := vp_in_nI hp (by omega)
  have hj : vp_in (nI q) 12 := vp_in_nI hq (by omega)
  have ep : (nI p).toNatClampNeg = p := nI_clamp (by omega)
  have eq : (nI q).toNatClampNeg = q := nI_clamp (by omega)
  have h46 : ∀ z0 z1 : Int32, z1 = th p → z0 = th q → wY_exchange_46 post (nI p) (nI q) z0 z1 va th := by
    intro z0 z1 e1 e0
    unfold wY_exchange_46
    rw [ep, eq, e1, e0]
    refine nm_e ⟨hi, nm_e ⟨hi, nm_e ⟨hj, hi, nm_r (e' := upd th p (th q)) (by rw [fl_z tq]) ⟨hj, hi, nm_e ⟨hj, nm_r (e' := upd (upd th p (th q)) q (th p)) (by rw [fl_z tp]) ⟨hj, nm_e h⟩⟩⟩⟩⟩⟩
  have h32 : ∀ z : Int32, z = th p → wY_exchange_32 post (nI p) (nI q) z va th := by
    intro z ez
    unfold wY_exchange_32
    rw [eq]
    refine ⟨hj, ?_⟩
    rcases tq with t | t
    · exact br_t t (h46 0 z ez t.symm)
    · exact br_f (by rw [t]; exact fl_10) (h46 1 z ez t.symm)
  unfold wpY_exchange
  try dsimp only
  refine fl_yPageT hp (br_f fl_10 (fl_yPageT hq (br_f fl_10 ⟨hi, ?_⟩)))
  rw [ep]
  rcases tp with t | t
  · exact br_t t (h32 0 t.symm)
  · exact br_f (by rw [t]; exact fl_10) (h32 1 t.symm)

theorem i_vc_exchange {k : Nat} {u : SX} {v : SY} (I : i_Rel k u v) (hk : k + 4 ≤ 2049) (v1 : Int32) (v2 : Int32) : wpX_exchange (fun r u' => wpY_exchange (fun r' v' => r' = r ∧ i_Rel (k + 4) u' v') v v1 v2) u v1 v2 := by
  obtain ⟨sb, ob, nn, st, dat, lg, em, run, er, pl⟩ := u
  obtain ⟨va, th⟩ := v
  have hR : fl_R (16 * k) sb ob nn st dat lg em run er pl va th := I
  unfold wpX_exchange
  try dsimp only
  rcases fl_page v1 with hb | ⟨p, hp, rfl⟩
  · refine fl_isPageF hb (br_t rfl ?_)
    unfold wpY_exchange
    try dsimp only
    exact fl_yPageF hb (br_t rfl ⟨rfl, i_up I⟩)
  · refine fl_isPageT hp (br_f fl_10 ?_)
    rcases fl_page v2 with hb | ⟨q, hq, rfl⟩
    · refine fl_isPageF hb (br_t rfl ?_)
      unfold wpY_exchange
      try dsimp only
      exact fl_yPageT hp (br_f fl_10 (fl_yPageF hb (br_t rfl ⟨rfl, i_up I⟩)))
    · have hSp := fl_R_PS hR p hp
      have hSq := fl_R_PS hR q hq
      have tp := fl_PS_th hSp
      have tq := fl_PS_th hSq
      refine fl_isPageT hq (br_f fl_10 (fl_has hp hSp (fl_has hq hSq (fl_read hp hSp (fl_read hq hSq ?_)))))
      refine fl_replace (va' := upd va p (va q)) (th' := upd th p (th q)) (by omega) hR hp tq (fun x _ hx => ⟨pk_un hx, pk_un hx⟩) pk_us (fun z => by rw [pk_us, fl_rd1 z]) ?_
      intro ob1 nn1 st1 dat1 lg1 em1 run1 er1 pl1 hR1
      try dsimp only
      refine fl_replace (va' := upd (upd va p (va q)) q (va p)) (th' := upd (upd th p (th q)) q (th p)) (by omega) hR1 hq tp (fun x _ hx => ⟨pk_un hx, pk_un hx⟩) pk_us (fun z => by rw [pk_us, fl_rd1 z]) ?_
      intro ob2 nn2 st2 dat2 lg2 em2 run2 er2 pl2 hR2
      try dsimp only
      have hI : i_Rel (k + 4) (sb, ob2, nn2, st2, dat2, lg2, em2, run2, er2, pl2) (upd (upd va p (va q)) q (va p), upd (upd th p (th q)) q (th p)) := fl_R_up hR2 (by omega)
      have hY : ∀ r : Int32, r = th p + th q → wpY_exchange (fun r' v' => r' = r ∧ i_Rel (k + 4) (sb, ob2, nn2, st2, dat2, lg2, em2, run2, er2, pl2) v') (va, th) (nI p) (nI q) :=
        fun r er => fl_yex hp hq tp tq ⟨er.symm, hI⟩
      unfold wX_exchange_71
      rcases tp with t | t
      · refine br_t t ?_
        rcases tq with t2 | t2
        · exact br_t t2 (hY _ (by rw [t, t2]))
        · exact br_f (by rw [t2]; exact fl_10) (hY _ (by rw [t, t2]))
      · refine br_f (by rw [t]; exact fl_10) ?_
        rcases tq with t2 | t2
        · exact br_t t2 (hY _ (by rw [t, t2]))
        · exact br_f (by rw [t2]; exact fl_10) (hY _ (by rw [t, t2]))

theorem i_vc_fill {k : Nat} {u : SX} {v : SY} (I : i_Rel k u v) (hk : k + 4 ≤ 2049) (v1 : Int32) (v2 : Int32) (v3 : Int32) : wpX_fill (fun r u' => wpY_fill (fun r' v' => r' = r ∧ i_Rel (k + 4) u' v') v v1 v2 v3) u v1 v2 v3 := by
  obtain ⟨sb, ob, nn, st, dat, lg, em, run, er, pl⟩ := u
  obtain ⟨va, th⟩ := v
  have hR : fl_R (16 * k) sb ob nn st dat lg em run er pl va th := I
  unfold wpX_fill
  try dsimp only
  rcases fl_page v1 with hb | ⟨p, hp, rfl⟩
  · refine fl_isPageF hb (br_t rfl ?_)
    unfold wpY_fill
    try dsimp only
    exact fl_yPageF hb (br_t rfl ⟨rfl, i_up I⟩)
  · refine fl_isPageT hp (br_f fl_10 ?_)
    rcases fl_page v2 with hb | ⟨q, hq, rfl⟩
    · refine fl_isPageF hb (br_t rfl ?_)
      unfold wpY_fill
      try dsimp only
      exact fl_yPageT hp (br_f fl_10 (fl_yPageF hb (br_t rfl ⟨rfl, i_up I⟩)))
    · refine fl_isPageT hq (br_f fl_10 ?_)
      rcases fl_page v3 with hb | ⟨r, hr, rfl⟩
      · refine fl_isPageF hb (br_t rfl ?_)
        unfold wpY_fill
        try dsimp only
        exact fl_yPageT hp (br_f fl_10 (fl_yPageT hq (br_f fl_10 (fl_yPageF hb (br_t rfl ⟨rfl, i_up I⟩)))))
      · refine fl_isPageT hr (br_f fl_10 ?_)
        by_cases hqr : nI q ≤ nI r
        · have hle : q ≤ r := (nI_leI (by omega) (by omega)).mp hqr
          have hSp := fl_R_PS hR p hp
          have tp := fl_PS_th hSp
          obtain ⟨va', th', hY, hX⟩ := fl_fill_l (sb := sb) (y2 := q) (r := r) (t := th p) (w := fl_rd va th p) (z := va p) hr tp (fun z => (fl_rd1 z).symm) (r + 1 - q) q va th (by omega)
          refine br_t hqr (fl_has hp hSp (fl_read hp hSp ⟨r + 1 - q + 1, hX (16 * k) ob nn st dat lg em run er pl _ (by omega) hR ?_⟩))
          intro ob1 nn1 st1 dat1 lg1 em1 run1 er1 pl1 hR1
          try dsimp only
          have hI : i_Rel (k + 4) (sb, ob1, nn1, st1, dat1, lg1, em1, run1, er1, pl1) (va', th') := fl_R_up hR1 (by omega)
          have hi : vp_in (nI p) 12 := vp_in_nI hp (by omega)
          have ep : (nI p).toNatClampNeg = p := nI_clamp (by omega)
          unfold wpY_fill
          try dsimp only
          exact fl_yPageT hp (br_f fl_10 (fl_yPageT hq (br_f fl_10 (fl_yPageT hr (br_f fl_10 (br_t hqr ⟨hi, nm_r (e' := th p) (by rw [ep]) ⟨hi, nm_r (e' := va p) (by rw [ep]) ⟨r + 1 - q + 1, hY _ ⟨rfl, hI⟩⟩⟩⟩))))))
        · refine br_f hqr ?_
          unfold wpY_fill
          try dsimp only
          exact fl_yPageT hp (br_f fl_10 (fl_yPageT hq (br_f fl_10 (fl_yPageT hr (br_f fl_10 (br_f hqr ⟨rfl, i_up I⟩))))))
end
