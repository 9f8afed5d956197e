section
/-! rows of kit/rows (PURE-ROWS) that are used, then small tools of this claim -/
theorem pk_us {f : Nat → Int32} {k : Nat} {x : Int32} : upd f k x k = x := if_pos rfl
theorem pk_un {f : Nat → Int32} {k j : Nat} {x : Int32} (h : j ≠ k) : upd f k x j = f j := if_neg h
theorem pk_sub {a b : Nat} (h : b ≤ a) : nI a - nI b = nI (a - b) := by
  obtain ⟨c, rfl⟩ : ∃ c, a = c + b := ⟨a - b, by omega⟩
  rw [← nI_add, Int32.add_sub_cancel, Nat.add_sub_cancel]
theorem pk_mul (a b : Nat) : nI a * nI b = nI (a * b) := (Int32.ofNat_mul a b).symm
theorem pk_div {a d : Nat} (ha : a < 2 ^ 31) (h0 : 0 < d) (hd : d < 2 ^ 31) : nI a / nI d = nI (a / d) := by
  apply Int32.toInt_inj.mp
  rw [lg_idiv_nonneg (by rw [nI_toInt ha]; omega) (by rw [nI_toInt hd]; omega), nI_toInt ha, nI_toInt hd, nI_toInt (Nat.lt_of_le_of_lt (Nat.div_le_self a d) ha)]
  first | rfl | exact (Int.natCast_ediv _ _).symm
theorem pk_rem {a d : Nat} (ha : a < 2 ^ 31) (h0 : 0 < d) (hd : d < 2 ^ 31) : nI a - nI a / nI d * nI d = nI (a % d) := by
  rw [pk_div ha h0 hd, pk_mul, pk_sub (Nat.div_mul_le_self a d)]
  exact congrArg nI (by have := Nat.div_add_mod' a d; omega)
theorem pk_sub_toInt {a b : Nat} (ha : a < 2 ^ 30) (hb : b < 2 ^ 30) : (nI a - nI b).toInt = (a : Int) - b := by
  rw [Int32.toInt_sub, nI_toInt (by omega), nI_toInt (by omega)]
  exact Int.bmod_eq_of_le (by omega) (by omega)
theorem pk_le {x y : Int32} {A B : Prop} (a b : Nat) (f : a ≤ b → A) (g : b < a → B) (hx : x = nI a := by rfl) (hy : y = nI b := by rfl) (ha : a < 2 ^ 31 := by omega) (hb : b < 2 ^ 31 := by omega) : (x ≤ y → A) ∧ (¬ x ≤ y → B) := by
  subst hx hy
  rw [nI_leI ha hb]
  exact ⟨f, fun z => g (by omega)⟩
theorem pk_lt {x y : Int32} {A B : Prop} (a b : Nat) (f : a < b → A) (g : b ≤ a → B) (hx : x = nI a := by rfl) (hy : y = nI b := by rfl) (ha : a < 2 ^ 31 := by omega) (hb : b < 2 ^ 31 := by omega) : (x < y → A) ∧ (¬ x < y → B) := by
  subst hx hy
  rw [nI_ltI ha hb]
  exact ⟨f, fun z => g (by omega)⟩
theorem pk_eq {x y : Int32} {A B : Prop} (a b : Nat) (f : a = b → A) (g : a ≠ b → B) (hx : x = nI a := by rfl) (hy : y = nI b := by rfl) (ha : a < 2 ^ 31 := by omega) (hb : b < 2 ^ 31 := by omega) : (x = y → A) ∧ (¬ x = y → B) := by
  subst hx hy
  rw [nI_eq ha hb]
  exact ⟨f, g⟩
theorem pk_in {x : Int32} (n N : Nat) (h : n < N) (hx : x = nI n := by rfl) (hN : N < 2 ^ 31 := by omega) : vp_in x N := by
  subst hx
  exact vp_in_nI h hN
theorem pk_loop {σ : Type} (W : Nat → Nat → σ → Prop) (I : Nat → σ → Prop) (e i0 : Nat) (s : σ) (hi : i0 ≤ e) (h0 : I i0 s) (hx : ∀ n s, I e s → W (n + 1) e s) (hs : ∀ n i s, i < e → I i s → (∀ s', I (i + 1) s' → W n (i + 1) s') → W (n + 1) i s) : ∃ n, W n i0 s :=
  ⟨e - i0 + 1, loop_i W I e hx hs _ i0 s hi (by omega) h0⟩
/-- a truth value as the print has it -/
noncomputable def za_tf (P : Prop) : Int32 := @ite Int32 P (Classical.propDecidable P) 1 0
theorem za_tf1 {P : Prop} (h : P) : za_tf P = 1 := by unfold za_tf; exact if_pos h
theorem za_tf0 {P : Prop} (h : ¬ P) : za_tf P = 0 := by unfold za_tf; exact if_neg h
theorem za_10 : ¬ (1 : Int32) = 0 := by decide
theorem za_tfz {P : Prop} : za_tf P = 0 ↔ ¬ P := by
  by_cases h : P
  · rw [za_tf1 h]; exact ⟨fun z => absurd z za_10, fun z => absurd h z⟩
  · rw [za_tf0 h]; exact ⟨fun _ => h, fun _ => rfl⟩
theorem za_tfc {P Q : Prop} (h : P ↔ Q) : za_tf P = za_tf Q := by rw [propext h]
theorem za_n0 : vp_nar .boolean 0 = 0 := rfl
theorem za_n1 : vp_nar .boolean 1 = 1 := rfl
theorem za_nt (P : Prop) : vp_nar .boolean (za_tf P) = za_tf P := by
  by_cases h : P
  · rw [za_tf1 h]; rfl
  · rw [za_tf0 h]; rfl
theorem za_brz {x : Int32} {P A B : Prop} (e : x = za_tf P) (a : ¬ P → A) (b : P → B) : (x = 0 → A) ∧ (¬ x = 0 → B) := by
  subst e
  exact ⟨fun h => a (za_tfz.mp h), fun h => b (Classical.byContradiction fun n => h (za_tfz.mpr n))⟩
theorem za_brle {x y : Int32} {A B : Prop} {a b : Int} (ea : x.toInt = a) (eb : y.toInt = b) (f : a ≤ b → A) (g : b < a → B) : (x ≤ y → A) ∧ (¬ x ≤ y → B) := by
  subst ea eb
  rw [Int32.le_iff_toInt_le]
  exact ⟨f, fun z => g (by omega)⟩
theorem za_brlt {x y : Int32} {A B : Prop} {a b : Int} (ea : x.toInt = a) (eb : y.toInt = b) (f : a < b → A) (g : b ≤ a → B) : (x < y → A) ∧ (¬ x < y → B) := by
  subst ea eb
  rw [Int32.lt_iff_toInt_lt]
  exact ⟨f, fun z => g (by omega)⟩
theorem za_add {x y : Int32} {a b : Int} (ea : x.toInt = a) (eb : y.toInt = b) (h1 : -2147483648 ≤ a + b) (h2 : a + b < 2147483648) : (x + y).toInt = a + b := by
  subst ea eb
  exact Jvm.Kit.i32_add (by omega) (by omega)
theorem za_sub {x y : Int32} {a b : Int} (ea : x.toInt = a) (eb : y.toInt = b) (h1 : -2147483648 ≤ a - b) (h2 : a - b < 2147483648) : (x - y).toInt = a - b := by
  subst ea eb
  exact Jvm.Kit.i32_sub (by omega) (by omega)
theorem za_neg {x : Int32} {a : Int} (ea : x.toInt = a) (h1 : -2147483648 < a) : (-x).toInt = -a := by
  subst ea
  exact Jvm.Kit.i32_neg (by omega)
theorem za_nn {x : Int32} {n : Nat} (e : x.toInt = (n : Int)) (h : n < 2147483648) : x = nI n := by
  apply Int32.toInt_inj.mp
  rw [e, nI_toInt (by omega)]
theorem za_ti {n : Nat} (h : n < 2147483648) : (nI n).toInt = (n : Int) := nI_toInt (by omega)
theorem za_zn (x : Int32) : x < 0 ∨ 2 < x ∨ ∃ z : Nat, z < 3 ∧ x = nI z := by
  by_cases h : x < 0
  · exact Or.inl h
  · obtain ⟨j, hj, rfl⟩ := nI_of h
    by_cases h2 : j < 3
    · exact Or.inr (Or.inr ⟨j, h2, rfl⟩)
    · exact Or.inr (Or.inl (nI_lt (a := 2) (by omega) hj))
theorem za_ix (z k : Nat) : (16 : Int32) * nI z + nI k = nI (16 * z + k) := by
  show nI 16 * nI z + nI k = _
  rw [pk_mul, nI_add]
theorem za_ix4 (z k : Nat) : (16 : Int32) * nI z + 4 * nI k = nI (16 * z + 4 * k) := by
  show nI 16 * nI z + nI 4 * nI k = _
  rw [pk_mul, pk_mul, nI_add]
theorem za_ix5 (z k j : Nat) : (16 : Int32) * nI z + 4 * nI k + nI j = nI (16 * z + 4 * k + j) := by
  rw [za_ix4, nI_add]
theorem za_iw (k j : Nat) : (4 : Int32) * nI k + nI j = nI (4 * k + j) := by
  show nI 4 * nI k + nI j = _
  rw [pk_mul, nI_add]
theorem za_im (z p : Nat) : nI z * 2197 + nI p = nI (z * 2197 + p) := by
  show nI z * nI 2197 + nI p = _
  rw [pk_mul, nI_add]
theorem za_d4 {k : Nat} (h : k < 2147483648) : nI k / 4 = nI (k / 4) := pk_div (d := 4) (by omega) (by decide) (by decide)
theorem za_r4 {k : Nat} (h : k < 2147483648) : nI k - nI k / 4 * 4 = nI (k % 4) := pk_rem (d := 4) (by omega) (by decide) (by decide)
theorem za_d13 {k : Nat} (h : k < 2147483648) : nI k / 13 = nI (k / 13) := pk_div (d := 13) (by omega) (by decide) (by decide)
theorem za_r13 {k : Nat} (h : k < 2147483648) : nI k - nI k / 13 * 13 = nI (k % 13) := pk_rem (d := 13) (by omega) (by decide) (by decide)
theorem za_d169 {k : Nat} (h : k < 2147483648) : nI k / 169 = nI (k / 169) := pk_div (d := 169) (by omega) (by decide) (by decide)
theorem za_c4 {i : Nat} (h : i < 4) : i = 0 ∨ i = 1 ∨ i = 2 ∨ i = 3 := by omega
theorem za_c3 {i : Nat} (h1 : 1 ≤ i) (h : i < 4) : i = 1 ∨ i = 2 ∨ i = 3 := by omega
end
section
/-! closed tables of differences: no program in sight -/
def za_Sat (D : Nat → Nat → Int) (x : Nat → Int) : Prop := ∀ i j, i < 4 → j < 4 → x i - x j ≤ D i j
def za_G (D : Nat → Nat → Int) : Prop := (∀ i, i < 4 → D i i = 0) ∧ (∀ i j k, i < 4 → j < 4 → k < 4 → D i j ≤ D i k + D k j) ∧ (∀ i, i < 4 → D i 0 ≤ 12 ∧ D 0 i ≤ 0)
/-- clock k in the reading with the number p -/
def za_vn (p k : Nat) : Nat := if k = 0 then 0 else if k = 1 then p / 169 else if k = 2 then p / 13 % 13 else p % 13
def za_pv (p : Nat) : Nat → Int := fun k => (za_vn p k : Int)
theorem za_vn0 (p : Nat) : za_vn p 0 = 0 := rfl
theorem za_vn1 (p : Nat) : za_vn p 1 = p / 169 := rfl
theorem za_vn2 (p : Nat) : za_vn p 2 = p / 13 % 13 := rfl
theorem za_vn3 (p : Nat) : za_vn p 3 = p % 13 := rfl
theorem za_vnle {p k : Nat} (hp : p < 2197) : za_vn p k ≤ 12 := by
  unfold za_vn
  repeat' split
  all_goals omega
theorem za_pv0 (p : Nat) : za_pv p 0 = 0 := rfl
theorem za_pvb {p : Nat} (hp : p < 2197) (k : Nat) : 0 ≤ za_pv p k ∧ za_pv p k ≤ 12 := by
  have := za_vnle (k := k) hp
  unfold za_pv
  omega
theorem za_bd {D : Nat → Nat → Int} (g : za_G D) {i j : Nat} (hi : i < 4) (hj : j < 4) : -12 ≤ D i j ∧ D i j ≤ 12 := by
  obtain ⟨g0, g1, g2⟩ := g
  have a := g1 i j 0 hi hj (by omega)
  have b := g2 i hi
  have c := g2 j hj
  have d := g1 0 0 i (by omega) (by omega) hi
  have e := g1 i 0 j hi (by omega) hj
  have f := g0 0 (by omega)
  omega
theorem za_low {D : Nat → Nat → Int} (g : za_G D) {j : Nat} (hj : j < 4) : za_Sat D (fun k => D k j - D 0 j) := by
  intro i l hi hl
  have := g.2.1 i j l hi hj hl
  show D i j - D 0 j - (D l j - D 0 j) ≤ D i l
  omega
theorem za_min {D : Nat → Nat → Int} (g : za_G D) : za_Sat D (fun k => - D 0 k) := by
  intro i l hi hl
  have := g.2.1 0 l i (by omega) hl hi
  show - D 0 i - - D 0 l ≤ D i l
  omega
theorem za_satc {D : Nat → Nat → Int} {x y : Nat → Int} (h : ∀ k, k < 4 → x k = y k) (s : za_Sat D x) : za_Sat D y := by
  intro i j hi hj
  rw [← h i hi, ← h j hj]
  exact s i j hi hj
theorem za_satt {D E : Nat → Nat → Int} {x : Nat → Int} (h : ∀ i j, i < 4 → j < 4 → D i j = E i j) (s : za_Sat D x) : za_Sat E x := by
  intro i j hi hj
  rw [← h i j hi hj]
  exact s i j hi hj
theorem za_Gc {D E : Nat → Nat → Int} (h : ∀ i j, i < 4 → j < 4 → D i j = E i j) (g : za_G D) : za_G E := by
  refine ⟨fun i hi => ?_, fun i j k hi hj hk => ?_, fun i hi => ?_⟩
  · rw [← h i i hi hi]; exact g.1 i hi
  · rw [← h i j hi hj, ← h i k hi hk, ← h k j hk hj]; exact g.2.1 i j k hi hj hk
  · rw [← h i 0 hi (by omega), ← h 0 i (by omega) hi]; exact g.2.2 i hi
def za_num (x : Nat → Int) : Nat := (169 * x 1 + 13 * x 2 + x 3).toNat
theorem za_pt {x : Nat → Int} (h0 : x 0 = 0) (h : ∀ k, k < 4 → 0 ≤ x k ∧ x k ≤ 12) : za_num x < 2197 ∧ ∀ k, k < 4 → za_pv (za_num x) k = x k := by
  have a := h 1 (by omega)
  have b := h 2 (by omega)
  have c := h 3 (by omega)
  obtain ⟨u, hu⟩ : ∃ u : Nat, x 1 = u := ⟨(x 1).toNat, by omega⟩
  obtain ⟨v, hv⟩ : ∃ u : Nat, x 2 = u := ⟨(x 2).toNat, by omega⟩
  obtain ⟨w, hw⟩ : ∃ u : Nat, x 3 = u := ⟨(x 3).toNat, by omega⟩
  have e : za_num x = 169 * u + 13 * v + w := by unfold za_num; omega
  rw [e]
  refine ⟨by omega, ?_⟩
  intro k hk
  rcases za_c4 hk with rfl | rfl | rfl | rfl
  · exact h0.symm
  · show (((169 * u + 13 * v + w) / 169 : Nat) : Int) = x 1
    omega
  · show (((169 * u + 13 * v + w) / 13 % 13 : Nat) : Int) = x 2
    omega
  · show (((169 * u + 13 * v + w) % 13 : Nat) : Int) = x 3
    omega
theorem za_box {D : Nat → Nat → Int} {x : Nat → Int} (g : za_G D) (s : za_Sat D x) (h0 : x 0 = 0) : ∀ k, k < 4 → 0 ≤ x k ∧ x k ≤ 12 := by
  intro k hk
  have a := s k 0 hk (by omega)
  have b := s 0 k (by omega) hk
  have c := g.2.2 k hk
  omega
theorem za_ex {D : Nat → Nat → Int} {x : Nat → Int} (g : za_G D) (s : za_Sat D x) (h0 : x 0 = 0) : ∃ p, p < 2197 ∧ za_Sat D (za_pv p) ∧ ∀ k, k < 4 → za_pv p k = x k := by
  obtain ⟨a, b⟩ := za_pt h0 (za_box g s h0)
  exact ⟨_, a, za_satc (fun k hk => (b k hk).symm) s, b⟩
theorem za_ne {D : Nat → Nat → Int} (g : za_G D) : ∃ p, p < 2197 ∧ za_Sat D (za_pv p) := by
  obtain ⟨p, a, b, _⟩ := za_ex g (za_min g) (by have := g.1 0 (by omega); show - D 0 0 = 0; omega)
  exact ⟨p, a, b⟩
theorem za_top {D : Nat → Nat → Int} (g : za_G D) {i j : Nat} (hi : i < 4) (hj : j < 4) : ∃ p, p < 2197 ∧ za_Sat D (za_pv p) ∧ za_pv p i - za_pv p j = D i j := by
  obtain ⟨p, a, b, c⟩ := za_ex g (za_low g hj) (by show D 0 j - D 0 j = 0; omega)
  refine ⟨p, a, b, ?_⟩
  rw [c i hi, c j hj]
  have := g.1 j hj
  show D i j - D 0 j - (D j j - D 0 j) = D i j
  omega
theorem za_inc {D E : Nat → Nat → Int} (g : za_G D) : (∀ p, p < 2197 → za_Sat D (za_pv p) → za_Sat E (za_pv p)) ↔ (∀ i j, i < 4 → j < 4 → D i j ≤ E i j) := by
  constructor
  · intro h i j hi hj
    obtain ⟨p, a, b, c⟩ := za_top g hi hj
    have := h p a b i j hi hj
    omega
  · intro h p _ s i j hi hj
    have a := s i j hi hj
    have b := h i j hi hj
    omega
/-- a bound made less, and the table closed again -/
def za_nw (D : Nat → Nat → Int) (i j : Nat) (c : Int) : Nat → Nat → Int := fun p q => min (D p q) (D p i + c + D j q)
theorem za_nwG {D : Nat → Nat → Int} (g : za_G D) {i j : Nat} (hi : i < 4) (hj : j < 4) {c : Int} (h : 0 ≤ c + D j i) : za_G (za_nw D i j c) := by
  obtain ⟨g0, g1, g2⟩ := g
  refine ⟨fun p hp => ?_, fun p q r hp hq hr => ?_, fun p hp => ?_⟩
  · have a := g0 p hp
    have b := g1 j i p hj hi hp
    unfold za_nw
    omega
  · have a := g1 p q r hp hq hr
    have b := g1 p i r hp hi hr
    have c1 := g1 j q r hj hq hr
    have d := g1 j i r hj hi hr
    unfold za_nw
    omega
  · have a := g2 p hp
    unfold za_nw
    omega
theorem za_nwS {D : Nat → Nat → Int} (g : za_G D) {i j : Nat} (hi : i < 4) (hj : j < 4) (c : Int) (x : Nat → Int) : za_Sat (za_nw D i j c) x ↔ za_Sat D x ∧ x i - x j ≤ c := by
  constructor
  · intro s
    refine ⟨fun p q hp hq => ?_, ?_⟩
    · have a := s p q hp hq
      unfold za_nw at a
      omega
    · have a := s i j hi hj
      have b := g.1 i hi
      have d := g.1 j hj
      unfold za_nw at a
      omega
  · intro ⟨s, h⟩ p q hp hq
    have a := s p q hp hq
    have b := s p i hp hi
    have d := s j q hj hq
    unfold za_nw
    omega
theorem za_nwN {D : Nat → Nat → Int} {i j : Nat} (hi : i < 4) (hj : j < 4) {c : Int} (h : c + D j i < 0) (x : Nat → Int) (s : za_Sat D x) : ¬ x i - x j ≤ c := by
  have a := s j i hj hi
  omega
theorem za_nwI {D : Nat → Nat → Int} {i j p : Nat} {c : Int} (h : 0 ≤ c + D j i) : za_nw D i j c p i = D p i := by
  unfold za_nw
  omega
theorem za_nwJ {D : Nat → Nat → Int} {i j q : Nat} {c : Int} (h : 0 ≤ c + D j i) : za_nw D i j c j q = D j q := by
  unfold za_nw
  omega
theorem za_nwS0 {D : Nat → Nat → Int} {i j : Nat} (hi : i < 4) (hj : j < 4) {c : Int} (h : D i j ≤ c) (x : Nat → Int) : za_Sat D x ↔ za_Sat D x ∧ x i - x j ≤ c := by
  constructor
  · intro s
    have a := s i j hi hj
    exact ⟨s, by omega⟩
  · intro s
    exact s.1
/-! closing by ways over each clock in turn -/
def za_stp (o k : Nat) (T : Nat → Nat → Int) : Nat → Nat → Int := fun p q => if 4 * p + q = k then min (T p q) (T p o + T o q) else T p q
def za_ph (o : Nat) (T : Nat → Nat → Int) : Nat → Nat → Nat → Int
  | 0 => T
  | k + 1 => za_stp o k (za_ph o T k)
def za_cl (T : Nat → Nat → Int) : Nat → Nat → Nat → Int
  | 0 => T
  | o + 1 => za_ph o (za_cl T o) 16
theorem za_stpS {o : Nat} (ho : o < 4) (k : Nat) (T : Nat → Nat → Int) (x : Nat → Int) : za_Sat (za_stp o k T) x ↔ za_Sat T x := by
  constructor
  · intro s p q hp hq
    have a := s p q hp hq
    unfold za_stp at a
    split at a <;> omega
  · intro s p q hp hq
    have a := s p q hp hq
    have b := s p o hp ho
    have c := s o q ho hq
    unfold za_stp
    split <;> omega
theorem za_phS {o : Nat} (ho : o < 4) (T : Nat → Nat → Int) (x : Nat → Int) : ∀ k, za_Sat (za_ph o T k) x ↔ za_Sat T x
  | 0 => Iff.rfl
  | k + 1 => (za_stpS ho k _ x).trans (za_phS ho T x k)
theorem za_clS (T : Nat → Nat → Int) (x : Nat → Int) : ∀ o, o ≤ 4 → (za_Sat (za_cl T o) x ↔ za_Sat T x)
  | 0, _ => Iff.rfl
  | o + 1, h => (za_phS (by omega) _ x 16).trans (za_clS T x o (by omega))
theorem za_stpM (o k : Nat) (T : Nat → Nat → Int) (p q : Nat) : za_stp o k T p q ≤ T p q := by
  unfold za_stp
  split <;> omega
theorem za_phM (o : Nat) (T : Nat → Nat → Int) (p q : Nat) : ∀ k, za_ph o T k p q ≤ T p q
  | 0 => Int.le_refl _
  | k + 1 => Int.le_trans (za_stpM o k _ p q) (za_phM o T p q k)
theorem za_clM (T : Nat → Nat → Int) (p q : Nat) : ∀ o d, za_cl T (o + d) p q ≤ za_cl T o p q
  | _, 0 => Int.le_refl _
  | o, d + 1 => Int.le_trans (za_phM (o + d) _ p q 16) (za_clM T p q o d)
/-- a pass whose middle clock has no way below 0 back to itself -/
theorem za_phE {o : Nat} (ho : o < 4) {T : Nat → Nat → Int} (h : 0 ≤ T o o) : ∀ k, k ≤ 16 → ∀ p q, p < 4 → q < 4 → za_ph o T k p q = if 4 * p + q < k then min (T p q) (T p o + T o q) else T p q := by
  intro k
  induction k with
  | zero =>
    intro _ p q _ _
    rw [if_neg (by omega)]
    rfl
  | succ k ih =>
    intro hk p q hp hq
    show za_stp o k (za_ph o T k) p q = _
    unfold za_stp
    have a := ih (by omega) p q hp hq
    have b := ih (by omega) p o hp ho
    have c := ih (by omega) o q ho hq
    by_cases e : 4 * p + q = k
    · rw [if_pos e, if_pos (by omega), a, b, c, if_neg (by omega)]
      have hb : (if 4 * p + o < k then min (T p o) (T p o + T o o) else T p o) = T p o := by split <;> omega
      have hc : (if 4 * o + q < k then min (T o q) (T o o + T o q) else T o q) = T o q := by split <;> omega
      rw [hb, hc]
    · rw [if_neg e, a]
      by_cases f : 4 * p + q < k
      · rw [if_pos f, if_pos (by omega)]
      · rw [if_neg f, if_neg (by omega)]
theorem za_clT {T : Nat → Nat → Int} (h : ∀ p, p < 4 → 0 ≤ za_cl T 4 p p) : ∀ o, o ≤ 4 → ∀ k, k < o → ∀ i j, i < 4 → j < 4 → za_cl T o i j ≤ za_cl T o i k + za_cl T o k j := by
  intro o
  induction o with
  | zero => intro _ k hk; omega
  | succ o ih =>
    intro ho k hk i j hi hj
    have hoo : 0 ≤ za_cl T o o o := by
      have a := za_clM T o o o (4 - o)
      rw [show o + (4 - o) = 4 from by omega] at a
      have b := h o (by omega)
      omega
    have E := fun p q (hp : p < 4) (hq : q < 4) => za_phE (o := o) (by omega) hoo 16 (by omega) p q hp hq
    have e1 := E i j hi hj
    have e2 := E i k hi (by omega)
    have e3 := E k j (by omega) hj
    rw [if_pos (by omega)] at e1 e2 e3
    show za_ph o (za_cl T o) 16 i j ≤ za_ph o (za_cl T o) 16 i k + za_ph o (za_cl T o) 16 k j
    rw [e1, e2, e3]
    by_cases hko : k = o
    · subst hko
      omega
    · have I := ih (by omega) k (by omega)
      have a := I i j hi hj
      have b := I o j (by omega) hj
      have c := I i o hi (by omega)
      have d := I o o (by omega) (by omega)
      omega
theorem za_phB {o : Nat} (ho : o < 4) {T : Nat → Nat → Int} {m : Int} (hm : 0 ≤ m) (h : ∀ p q, p < 4 → q < 4 → -m ≤ T p q) : ∀ k, k ≤ 16 → ∀ p q, p < 4 → q < 4 → (k ≤ 4 * p + q → -m ≤ za_ph o T k p q) ∧ (p = o → q = o → -(2 * m) ≤ za_ph o T k p q) ∧ (p = o → -(3 * m) ≤ za_ph o T k p q) ∧ (q = o → -(3 * m) ≤ za_ph o T k p q) ∧ -(6 * m) ≤ za_ph o T k p q := by
  intro k
  induction k with
  | zero =>
    intro _ p q hp hq
    have a := h p q hp hq
    show (_ → -m ≤ T p q) ∧ (_ → _ → -(2 * m) ≤ T p q) ∧ (_ → -(3 * m) ≤ T p q) ∧ (_ → -(3 * m) ≤ T p q) ∧ -(6 * m) ≤ T p q
    refine ⟨fun _ => a, fun _ _ => ?_, fun _ => ?_, fun _ => ?_, ?_⟩ <;> omega
  | succ k ih =>
    intro hk p q hp hq
    show (_ → -m ≤ za_stp o k (za_ph o T k) p q) ∧ (_ → _ → -(2 * m) ≤ za_stp o k (za_ph o T k) p q) ∧ (_ → -(3 * m) ≤ za_stp o k (za_ph o T k) p q) ∧ (_ → -(3 * m) ≤ za_stp o k (za_ph o T k) p q) ∧ -(6 * m) ≤ za_stp o k (za_ph o T k) p q
    have a := ih (by omega) p q hp hq
    by_cases e : 4 * p + q = k
    · have b := ih (by omega) p o hp ho
      have c := ih (by omega) o q ho hq
      have e2 : za_stp o k (za_ph o T k) p q = min (za_ph o T k p q) (za_ph o T k p o + za_ph o T k o q) := if_pos e
      rw [e2]
      have a1 := a.1 (by omega)
      by_cases hp' : p = o
      · by_cases hq' : q = o
        · subst hp' hq'
          refine ⟨fun z => ?_, fun _ _ => ?_, fun _ => ?_, fun _ => ?_, ?_⟩ <;> omega
        · subst hp'
          have b1 := b.2.1 rfl rfl
          refine ⟨fun z => ?_, fun _ z => ?_, fun _ => ?_, fun z => ?_, ?_⟩ <;> omega
      · by_cases hq' : q = o
        · subst hq'
          have c1 := c.2.1 rfl rfl
          refine ⟨fun z => ?_, fun z _ => ?_, fun z => ?_, fun _ => ?_, ?_⟩ <;> omega
        · have b1 := b.2.2.2.1 rfl
          have c1 := c.2.2.1 rfl
          refine ⟨fun z => ?_, fun z _ => ?_, fun z => ?_, fun z => ?_, ?_⟩ <;> omega
    · have e2 : za_stp o k (za_ph o T k) p q = za_ph o T k p q := if_neg e
      rw [e2]
      exact ⟨fun z => a.1 (by omega), a.2⟩
end
section
/-! the closing's bounds and answer; the tables of the single calls and what they say of readings -/
def za_m : Nat → Int
  | 0 => 12
  | n + 1 => 6 * za_m n
theorem za_mb : ∀ o, o ≤ 4 → 0 ≤ za_m o ∧ za_m o ≤ 15552 := by
  intro o ho
  have h : o = 0 ∨ o = 1 ∨ o = 2 ∨ o = 3 ∨ o = 4 := by omega
  rcases h with rfl | rfl | rfl | rfl | rfl <;> decide
theorem za_clB {T : Nat → Nat → Int} (h : ∀ p q, p < 4 → q < 4 → -12 ≤ T p q) : ∀ o, o ≤ 4 → ∀ p q, p < 4 → q < 4 → -za_m o ≤ za_cl T o p q
  | 0, _, p, q, hp, hq => h p q hp hq
  | o + 1, ho, p, q, hp, hq => (za_phB (o := o) (by omega) (za_mb o (by omega)).1 (za_clB h o (by omega)) 16 (by omega) p q hp hq).2.2.2.2
theorem za_clP {T : Nat → Nat → Int} (h : ∀ p q, p < 4 → q < 4 → -12 ≤ T p q ∧ T p q ≤ 12) {o k : Nat} (ho : o < 4) (hk : k ≤ 16) {p q : Nat} (hp : p < 4) (hq : q < 4) : -15552 ≤ za_ph o (za_cl T o) k p q ∧ za_ph o (za_cl T o) k p q ≤ 12 := by
  have a := (za_phB (o := o) ho (za_mb o (by omega)).1 (za_clB (fun p q hp hq => (h p q hp hq).1) o (by omega)) k hk p q hp hq).2.2.2.2
  have b := (za_mb (o + 1) (by omega)).2
  have c : za_m (o + 1) = 6 * za_m o := rfl
  have d := za_phM o (za_cl T o) p q k
  have e := za_clM T p q 0 o
  rw [Nat.zero_add] at e
  have e' : za_cl T o p q ≤ T p q := e
  have f := (h p q hp hq).2
  omega
/-- a table that holds for some reading closes well; else a way back to itself is below 0 -/
theorem za_clG {T : Nat → Nat → Int} (h0 : ∀ p, p < 4 → T p p = 0) (hb : ∀ i, i < 4 → T i 0 ≤ 12 ∧ T 0 i ≤ 0) (h : ∀ p, p < 4 → 0 ≤ za_cl T 4 p p) : za_G (za_cl T 4) := by
  have M := fun p q => za_clM T p q 0 4
  refine ⟨fun p hp => ?_, fun i j k hi hj hk => za_clT h 4 (by omega) k hk i j hi hj, fun i hi => ?_⟩
  · have a := h p hp
    have b : za_cl T 4 p p ≤ T p p := M p p
    have c := h0 p hp
    omega
  · have a : za_cl T 4 i 0 ≤ T i 0 := M i 0
    have b : za_cl T 4 0 i ≤ T 0 i := M 0 i
    have c := hb i hi
    omega
theorem za_clN {T : Nat → Nat → Int} {p : Nat} (hp : p < 4) (h : za_cl T 4 p p < 0) (x : Nat → Int) : ¬ za_Sat T x := by
  intro s
  have a := ((za_clS T x 4 (by omega)).mpr s) p p hp hp
  omega
/-! all, zero -/
def za_bb (p q : Nat) : Nat := if p = q ∨ p = 0 then 0 else 12
theorem za_bbG : za_G (fun p q => (za_bb p q : Int)) := by
  refine ⟨fun p hp => ?_, fun p q r hp hq hr => ?_, fun p hp => ?_⟩
  · show ((za_bb p p : Nat) : Int) = 0
    unfold za_bb; rw [if_pos (Or.inl rfl)]; rfl
  · show ((za_bb p q : Nat) : Int) ≤ (za_bb p r : Nat) + (za_bb r q : Nat)
    unfold za_bb
    repeat' split
    all_goals omega
  · show ((za_bb p 0 : Nat) : Int) ≤ 12 ∧ ((za_bb 0 p : Nat) : Int) ≤ 0
    unfold za_bb
    rw [if_pos (c := (0 = p ∨ 0 = 0)) (Or.inr rfl)]
    constructor
    · split <;> omega
    · omega
theorem za_bbS {p : Nat} (hp : p < 2197) : za_Sat (fun p q => (za_bb p q : Int)) (za_pv p) := by
  intro i j hi hj
  show za_pv p i - za_pv p j ≤ ((za_bb i j : Nat) : Int)
  have a := za_pvb hp i
  have b := za_pvb hp j
  unfold za_bb
  split
  · rename_i h
    rcases h with h | h
    · subst h; omega
    · subst h
      have := za_pv0 p
      omega
  · omega
theorem za_zG : za_G (fun _ _ => 0) := ⟨fun _ _ => rfl, fun _ _ _ _ _ _ => show (0 : Int) ≤ 0 + 0 by decide, fun _ _ => show (0 : Int) ≤ 12 ∧ (0 : Int) ≤ 0 by decide⟩
theorem za_zS {p : Nat} (hp : p < 2197) : za_Sat (fun _ _ => 0) (za_pv p) ↔ p = 0 := by
  constructor
  · intro s
    have a := s 1 0 (by omega) (by omega)
    have b := s 2 0 (by omega) (by omega)
    have c := s 3 0 (by omega) (by omega)
    rw [za_pv0] at a b c
    have a' : ((p / 169 : Nat) : Int) - 0 ≤ 0 := a
    have b' : ((p / 13 % 13 : Nat) : Int) - 0 ≤ 0 := b
    have c' : ((p % 13 : Nat) : Int) - 0 ≤ 0 := c
    omega
  · intro e i j hi hj
    subst e
    have a : za_pv 0 i = 0 := by rcases za_c4 hi with rfl | rfl | rfl | rfl <;> rfl
    have b : za_pv 0 j = 0 := by rcases za_c4 hj with rfl | rfl | rfl | rfl <;> rfl
    rw [a, b]
    show (0 : Int) - 0 ≤ 0
    decide
/-! a clock put aside -/
def za_Sx (k : Nat) (D : Nat → Nat → Int) (x : Nat → Int) : Prop := ∀ i j, i < 4 → j < 4 → i ≠ k → j ≠ k → x i - x j ≤ D i j
def za_at (x : Nat → Int) (k : Nat) (v : Int) : Nat → Int := fun j => if j = k then v else x j
theorem za_at1 (x : Nat → Int) (k : Nat) (v : Int) : za_at x k v k = v := if_pos rfl
theorem za_at2 (x : Nat → Int) {k j : Nat} (v : Int) (h : j ≠ k) : za_at x k v j = x j := if_neg h
theorem za_atS {D : Nat → Nat → Int} (h0 : ∀ i, i < 4 → D i i = 0) {k : Nat} (x : Nat → Int) (v : Int) (s : za_Sx k D x) (h : ∀ j, j < 4 → j ≠ k → x j - D j k ≤ v ∧ v ≤ x j + D k j) : za_Sat D (za_at x k v) := by
  intro i j hi hj
  by_cases hik : i = k
  · subst hik
    by_cases hjk : j = i
    · subst hjk
      have := h0 j hj
      omega
    · rw [za_at1, za_at2 x v hjk]
      have := h j hj hjk
      omega
  · by_cases hjk : j = k
    · subst hjk
      rw [za_at1, za_at2 x v hik]
      have := h i hi hik
      omega
    · rw [za_at2 x v hik, za_at2 x v hjk]
      exact s i j hi hj hik hjk
theorem za_atX {D : Nat → Nat → Int} {k : Nat} (x : Nat → Int) (v : Int) (s : za_Sat D (za_at x k v)) : za_Sx k D x := by
  intro i j hi hj hik hjk
  have a := s i j hi hj
  rw [za_at2 x v hik, za_at2 x v hjk] at a
  exact a
theorem za_mid (lo hi : Nat → Int) (k : Nat) (l0 : Int) (h : ∀ i j, i < 4 → j < 4 → i ≠ k → j ≠ k → lo i ≤ hi j) (h0 : ∀ j, j < 4 → j ≠ k → l0 ≤ hi j) : ∃ v, l0 ≤ v ∧ ∀ j, j < 4 → j ≠ k → lo j ≤ v ∧ v ≤ hi j := by
  have H : ∀ n, n ≤ 4 → ∃ v, l0 ≤ v ∧ (∀ j, j < n → j ≠ k → lo j ≤ v) ∧ (∀ j, j < 4 → j ≠ k → v ≤ hi j) := by
    intro n
    induction n with
    | zero => intro _; exact ⟨l0, Int.le_refl _, fun j hj => by omega, h0⟩
    | succ n ih =>
      intro hn
      obtain ⟨v, a, b, c⟩ := ih (by omega)
      by_cases hnk : n = k
      · refine ⟨v, a, fun j hj hjk => ?_, c⟩
        exact b j (by omega) hjk
      · by_cases e : lo n ≤ v
        · refine ⟨v, a, fun j hj hjk => ?_, c⟩
          by_cases f : j = n
          · subst f; exact e
          · exact b j (by omega) hjk
        · refine ⟨lo n, by omega, fun j hj hjk => ?_, fun j hj hjk => h n j (by omega) hj hnk hjk⟩
          by_cases f : j = n
          · subst f; exact Int.le_refl _
          · have := b j (by omega) hjk
            omega
  obtain ⟨v, a, b, c⟩ := H 4 (by omega)
  exact ⟨v, a, fun j hj hjk => ⟨b j hj hjk, c j hj hjk⟩⟩
theorem za_mid2 {D : Nat → Nat → Int} (g : za_G D) {k : Nat} (hk : k < 4) {x : Nat → Int} (s : za_Sx k D x) (l0 : Int) (h0 : ∀ j, j < 4 → j ≠ k → l0 ≤ x j + D k j) : ∃ v, l0 ≤ v ∧ za_Sat D (za_at x k v) := by
  obtain ⟨v, a, b⟩ := za_mid (fun j => x j - D j k) (fun j => x j + D k j) k l0 (fun i j hi hj hik hjk => by
    have a := s i j hi hj hik hjk
    have b := g.2.1 i j k hi hj hk
    show x i - D i k ≤ x j + D k j
    omega) h0
  exact ⟨v, a, za_atS g.1 x v s b⟩
/-- the number of the reading p with clock k at v -/
def za_wi (p k v : Nat) : Nat := if k = 1 then p - p / 169 * 169 + v * 169 else if k = 2 then p - p / 13 % 13 * 13 + v * 13 else p - p % 13 + v
theorem za_wiL {p k v : Nat} (hp : p < 2197) (hv : v ≤ 12) : za_wi p k v < 2197 := by
  unfold za_wi
  repeat' split
  all_goals omega
theorem za_wiV {p k v : Nat} (hp : p < 2197) (h1 : 1 ≤ k) (hk : k < 4) (hv : v ≤ 12) : ∀ j, j < 4 → za_pv (za_wi p k v) j = za_at (za_pv p) k v j := by
  intro j hj
  unfold za_at
  rcases za_c3 h1 hk with rfl | rfl | rfl
  · have e : za_wi p 1 v = p - p / 169 * 169 + v * 169 := rfl
    rw [e]
    rcases za_c4 hj with rfl | rfl | rfl | rfl
    · rfl
    · show (((p - p / 169 * 169 + v * 169) / 169 : Nat) : Int) = (v : Int)
      omega
    · show (((p - p / 169 * 169 + v * 169) / 13 % 13 : Nat) : Int) = ((p / 13 % 13 : Nat) : Int)
      omega
    · show (((p - p / 169 * 169 + v * 169) % 13 : Nat) : Int) = ((p % 13 : Nat) : Int)
      omega
  · have e : za_wi p 2 v = p - p / 13 % 13 * 13 + v * 13 := rfl
    rw [e]
    rcases za_c4 hj with rfl | rfl | rfl | rfl
    · rfl
    · show (((p - p / 13 % 13 * 13 + v * 13) / 169 : Nat) : Int) = ((p / 169 : Nat) : Int)
      omega
    · show (((p - p / 13 % 13 * 13 + v * 13) / 13 % 13 : Nat) : Int) = (v : Int)
      omega
    · show (((p - p / 13 % 13 * 13 + v * 13) % 13 : Nat) : Int) = ((p % 13 : Nat) : Int)
      omega
  · have e : za_wi p 3 v = p - p % 13 + v := rfl
    rw [e]
    rcases za_c4 hj with rfl | rfl | rfl | rfl
    · rfl
    · show (((p - p % 13 + v) / 169 : Nat) : Int) = ((p / 169 : Nat) : Int)
      omega
    · show (((p - p % 13 + v) / 13 % 13 : Nat) : Int) = ((p / 13 % 13 : Nat) : Int)
      omega
    · show (((p - p % 13 + v) % 13 : Nat) : Int) = (v : Int)
      omega
theorem za_any {D : Nat → Nat → Int} (g : za_G D) {p k : Nat} (hp : p < 2197) (h1 : 1 ≤ k) (hk : k < 4) : za_Sx k D (za_pv p) ↔ ∃ v, v ≤ 12 ∧ za_Sat D (za_pv (za_wi p k v)) := by
  constructor
  · intro s
    obtain ⟨v, a, b⟩ := za_mid2 g hk s 0 (fun j hj hjk => by
      by_cases hj0 : j = 0
      · subst hj0
        have a := za_pv0 p
        have b := g.2.2 k hk
        have c := g.2.1 0 0 k (by omega) (by omega) hk
        have d := g.1 0 (by omega)
        omega
      · have a := s 0 j (by omega) hj (by omega) hjk
        have b := za_pv0 p
        have c := g.2.1 0 j k (by omega) hj hk
        have d := g.2.2 k hk
        have e := za_pvb hp j
        have f := g.2.1 k j 0 hk hj (by omega)
        have f2 := g.2.1 0 0 k (by omega) (by omega) hk
        have f3 := g.1 0 (by omega)
        omega)
    have h := za_box g b (by rw [za_at2 _ _ (by omega)]; rfl) k hk
    rw [za_at1] at h
    obtain ⟨w, rfl⟩ : ∃ w : Nat, v = w := ⟨v.toNat, by omega⟩
    exact ⟨w, by omega, za_satc (fun j hj => (za_wiV hp h1 hk (by omega) j hj).symm) b⟩
  · intro ⟨v, hv, s⟩
    exact za_atX _ v (za_satc (za_wiV hp h1 hk hv) s)
end
section
/-! the tables of set, free, follow, pass, back, hull, meet -/
def za_st (D : Nat → Nat → Int) (k : Nat) (n : Int) : Nat → Nat → Int := fun p q => if p = k then (if q = k then 0 else n + D 0 q) else (if q = k then D p 0 - n else D p q)
theorem za_stG {D : Nat → Nat → Int} (g : za_G D) {k : Nat} (h1 : 1 ≤ k) (hk : k < 4) {n : Int} (hn : 0 ≤ n) (hn2 : n ≤ 12) : za_G (za_st D k n) := by
  obtain ⟨g0, g1, g2⟩ := g
  have z := g0 0 (by omega)
  refine ⟨fun p hp => ?_, fun p q r hp hq hr => ?_, fun p hp => ?_⟩
  · have a := g0 p hp
    unfold za_st
    repeat' split
    all_goals omega
  · have a := g1 p q r hp hq hr
    have b := g1 0 q r (by omega) hq hr
    have c := g1 p 0 r hp (by omega) hr
    have d := g1 0 0 r (by omega) (by omega) hr
    have e := g1 p q 0 hp hq (by omega)
    have f := g1 p p r hp hp hr
    unfold za_st
    by_cases hpk : p = k
    · rw [if_pos hpk, if_pos hpk]
      by_cases hqk : q = k
      · rw [if_pos hqk, if_pos hqk]
        by_cases hrk : r = k
        · rw [if_pos hrk, if_pos hrk]; omega
        · rw [if_neg hrk, if_neg hrk]; omega
      · rw [if_neg hqk, if_neg hqk]
        by_cases hrk : r = k
        · rw [if_pos hrk, if_pos hrk]; omega
        · rw [if_neg hrk, if_neg hrk]; omega
    · rw [if_neg hpk, if_neg hpk]
      by_cases hqk : q = k
      · rw [if_pos hqk, if_pos hqk]
        by_cases hrk : r = k
        · rw [if_pos hrk, if_pos hrk]; omega
        · rw [if_neg hrk, if_neg hrk]; omega
      · rw [if_neg hqk, if_neg hqk]
        by_cases hrk : r = k
        · rw [if_pos hrk, if_pos hrk]; omega
        · rw [if_neg hrk, if_neg hrk]; omega
  · have a := g2 p hp
    unfold za_st
    rw [if_neg (show ¬ 0 = k by omega), if_neg (show ¬ 0 = k by omega)]
    constructor <;> split <;> omega
theorem za_stS {D : Nat → Nat → Int} (g : za_G D) {k : Nat} (h1 : 1 ≤ k) (hk : k < 4) (n : Int) {x : Nat → Int} (h0 : x 0 = 0) : za_Sat (za_st D k n) x ↔ x k = n ∧ za_Sx k D x := by
  have z := g.1 0 (by omega)
  constructor
  · intro s
    refine ⟨?_, fun i j hi hj hik hjk => ?_⟩
    · have a := s k 0 hk (by omega)
      have b := s 0 k (by omega) hk
      unfold za_st at a b
      rw [if_pos rfl, if_neg (show ¬ 0 = k by omega)] at a
      rw [if_pos rfl, if_neg (show ¬ 0 = k by omega)] at b
      omega
    · have a := s i j hi hj
      unfold za_st at a
      rw [if_neg hik, if_neg hjk] at a
      exact a
  · intro ⟨e, s⟩ p q hp hq
    unfold za_st
    by_cases hpk : p = k
    · subst hpk
      rw [if_pos rfl]
      by_cases hqk : q = p
      · subst hqk
        rw [if_pos rfl]; omega
      · rw [if_neg hqk]
        have a := s 0 q (by omega) hq (by omega) hqk
        omega
    · rw [if_neg hpk]
      by_cases hqk : q = k
      · subst hqk
        rw [if_pos rfl]
        have a := s p 0 hp (by omega) hpk (by omega)
        omega
      · rw [if_neg hqk]
        exact s p q hp hq hpk hqk
def za_fr (D : Nat → Nat → Int) (k : Nat) : Nat → Nat → Int := fun p q => if p = k then (if q = k then 0 else 12 + D 0 q) else (if q = k then D p 0 else D p q)
theorem za_frG {D : Nat → Nat → Int} (g : za_G D) {k : Nat} (h1 : 1 ≤ k) (hk : k < 4) : za_G (za_fr D k) := by
  obtain ⟨g0, g1, g2⟩ := g
  have z := g0 0 (by omega)
  refine ⟨fun p hp => ?_, fun p q r hp hq hr => ?_, fun p hp => ?_⟩
  · have a := g0 p hp
    unfold za_fr
    repeat' split
    all_goals omega
  · have a := g1 p q r hp hq hr
    have b := g1 0 q r (by omega) hq hr
    have c := g1 p 0 r hp (by omega) hr
    have d := g1 0 0 r (by omega) (by omega) hr
    have e := g1 p q 0 hp hq (by omega)
    have f := g1 p p r hp hp hr
    unfold za_fr
    by_cases hpk : p = k
    · rw [if_pos hpk, if_pos hpk]
      by_cases hqk : q = k
      · rw [if_pos hqk, if_pos hqk]
        by_cases hrk : r = k
        · rw [if_pos hrk, if_pos hrk]; omega
        · rw [if_neg hrk, if_neg hrk]; omega
      · rw [if_neg hqk, if_neg hqk]
        by_cases hrk : r = k
        · rw [if_pos hrk, if_pos hrk]; omega
        · rw [if_neg hrk, if_neg hrk]; omega
    · rw [if_neg hpk, if_neg hpk]
      by_cases hqk : q = k
      · rw [if_pos hqk, if_pos hqk]
        by_cases hrk : r = k
        · rw [if_pos hrk, if_pos hrk]; omega
        · rw [if_neg hrk, if_neg hrk]; omega
      · rw [if_neg hqk, if_neg hqk]
        by_cases hrk : r = k
        · rw [if_pos hrk, if_pos hrk]; omega
        · rw [if_neg hrk, if_neg hrk]; omega
  · have a := g2 p hp
    unfold za_fr
    rw [if_neg (show ¬ 0 = k by omega), if_neg (show ¬ 0 = k by omega)]
    constructor <;> split <;> omega
theorem za_frS {D : Nat → Nat → Int} (g : za_G D) {k : Nat} (h1 : 1 ≤ k) (hk : k < 4) {x : Nat → Int} (h0 : x 0 = 0) (hx : 0 ≤ x k ∧ x k ≤ 12) : za_Sat (za_fr D k) x ↔ za_Sx k D x := by
  constructor
  · intro s i j hi hj hik hjk
    have a := s i j hi hj
    unfold za_fr at a
    rw [if_neg hik, if_neg hjk] at a
    exact a
  · intro s p q hp hq
    unfold za_fr
    by_cases hpk : p = k
    · subst hpk
      rw [if_pos rfl]
      by_cases hqk : q = p
      · subst hqk
        rw [if_pos rfl]; omega
      · rw [if_neg hqk]
        have a := s 0 q (by omega) hq (by omega) hqk
        omega
    · rw [if_neg hpk]
      by_cases hqk : q = k
      · subst hqk
        rw [if_pos rfl]
        have a := s p 0 hp (by omega) hpk (by omega)
        omega
      · rw [if_neg hqk]
        exact s p q hp hq hpk hqk
def za_fo (D : Nat → Nat → Int) (i j : Nat) : Nat → Nat → Int := fun p q => if p = i then (if q = i then 0 else D j q) else (if q = i then D p j else D p q)
theorem za_foG {D : Nat → Nat → Int} (g : za_G D) {i j : Nat} (h1 : 1 ≤ i) (hi : i < 4) (hj : j < 4) : za_G (za_fo D i j) := by
  obtain ⟨g0, g1, g2⟩ := g
  have z := g0 0 (by omega)
  refine ⟨fun p hp => ?_, fun p q r hp hq hr => ?_, fun p hp => ?_⟩
  · have a := g0 p hp
    unfold za_fo
    repeat' split
    all_goals omega
  · have a := g1 p q r hp hq hr
    have b := g1 j q r hj hq hr
    have c := g1 p j r hp hj hr
    have d := g1 j j r hj hj hr
    have e := g1 p q j hp hq hj
    have f := g1 p p r hp hp hr
    have f2 := g0 j hj
    unfold za_fo
    by_cases hpk : p = i
    · rw [if_pos hpk, if_pos hpk]
      by_cases hqk : q = i
      · rw [if_pos hqk, if_pos hqk]
        by_cases hrk : r = i
        · rw [if_pos hrk, if_pos hrk]; omega
        · rw [if_neg hrk, if_neg hrk]; omega
      · rw [if_neg hqk, if_neg hqk]
        by_cases hrk : r = i
        · rw [if_pos hrk, if_pos hrk]; omega
        · rw [if_neg hrk, if_neg hrk]; omega
    · rw [if_neg hpk, if_neg hpk]
      by_cases hqk : q = i
      · rw [if_pos hqk, if_pos hqk]
        by_cases hrk : r = i
        · rw [if_pos hrk, if_pos hrk]; omega
        · rw [if_neg hrk, if_neg hrk]; omega
      · rw [if_neg hqk, if_neg hqk]
        by_cases hrk : r = i
        · rw [if_pos hrk, if_pos hrk]; omega
        · rw [if_neg hrk, if_neg hrk]; omega
  · have a := g2 p hp
    have b := g2 j hj
    unfold za_fo
    rw [if_neg (show ¬ 0 = i by omega), if_neg (show ¬ 0 = i by omega)]
    constructor <;> split <;> omega
theorem za_foS {D : Nat → Nat → Int} (g : za_G D) {i j : Nat} (hi : i < 4) (hj : j < 4) (hij : j ≠ i) (x : Nat → Int) : za_Sat (za_fo D i j) x ↔ x i = x j ∧ za_Sx i D x := by
  have z := g.1 j hj
  constructor
  · intro s
    refine ⟨?_, fun p q hp hq hpi hqi => ?_⟩
    · have a := s i j hi hj
      have b := s j i hj hi
      unfold za_fo at a b
      rw [if_pos rfl, if_neg hij] at a
      rw [if_pos rfl, if_neg hij] at b
      omega
    · have a := s p q hp hq
      unfold za_fo at a
      rw [if_neg hpi, if_neg hqi] at a
      exact a
  · intro ⟨e, s⟩ p q hp hq
    unfold za_fo
    by_cases hpk : p = i
    · subst hpk
      rw [if_pos rfl]
      by_cases hqk : q = p
      · subst hqk
        rw [if_pos rfl]; omega
      · rw [if_neg hqk]
        have a := s j q hj hq hij hqk
        omega
    · rw [if_neg hpk]
      by_cases hqk : q = i
      · subst hqk
        rw [if_pos rfl]
        have a := s p j hp hj hpk hij
        omega
      · rw [if_neg hqk]
        exact s p q hp hq hpk hqk
/-! time: clock 0 put elsewhere -/
def za_pa (D : Nat → Nat → Int) : Nat → Nat → Int := fun p q => if q = 0 ∧ p ≠ 0 then 12 else D p q
def za_ba (D : Nat → Nat → Int) : Nat → Nat → Int := fun p q => if p = 0 ∧ q ≠ 0 then 0 else D p q
theorem za_paH {D : Nat → Nat → Int} (g : za_G D) : (∀ p, p < 4 → za_pa D p p = 0) ∧ (∀ i, i < 4 → za_pa D i 0 ≤ 12 ∧ za_pa D 0 i ≤ 0) ∧ ∀ p q, p < 4 → q < 4 → -12 ≤ za_pa D p q ∧ za_pa D p q ≤ 12 := by
  refine ⟨fun p hp => ?_, fun i hi => ?_, fun p q hp hq => ?_⟩
  · have a := g.1 p hp
    unfold za_pa
    rw [if_neg (by omega)]
    exact a
  · have a := g.2.2 i hi
    unfold za_pa
    constructor
    · split <;> omega
    · rw [if_neg (by omega)]; omega
  · have a := za_bd g hp hq
    unfold za_pa
    split <;> omega
theorem za_baH {D : Nat → Nat → Int} (g : za_G D) : (∀ p, p < 4 → za_ba D p p = 0) ∧ (∀ i, i < 4 → za_ba D i 0 ≤ 12 ∧ za_ba D 0 i ≤ 0) ∧ ∀ p q, p < 4 → q < 4 → -12 ≤ za_ba D p q ∧ za_ba D p q ≤ 12 := by
  refine ⟨fun p hp => ?_, fun i hi => ?_, fun p q hp hq => ?_⟩
  · have a := g.1 p hp
    unfold za_ba
    rw [if_neg (by omega)]
    exact a
  · have a := g.2.2 i hi
    unfold za_ba
    constructor
    · rw [if_neg (by omega)]; omega
    · split <;> omega
  · have a := za_bd g hp hq
    unfold za_ba
    split <;> omega
theorem za_paS {D : Nat → Nat → Int} (g : za_G D) {x : Nat → Int} (h0 : x 0 = 0) (hx : ∀ k, k < 4 → 0 ≤ x k ∧ x k ≤ 12) : za_Sat (za_pa D) x ↔ ∃ d : Nat, d ≤ 12 ∧ za_Sat D (za_at x 0 d) := by
  constructor
  · intro s
    have s0 : za_Sx 0 D x := by
      intro i j hi hj hi0 hj0
      have a := s i j hi hj
      unfold za_pa at a
      rw [if_neg (by omega)] at a
      exact a
    obtain ⟨v, a, b⟩ := za_mid2 g (by omega) s0 0 (fun j hj hj0 => by
      have a := s 0 j (by omega) hj
      unfold za_pa at a
      rw [if_neg (by omega)] at a
      omega)
    obtain ⟨d, rfl⟩ : ∃ d : Nat, v = d := ⟨v.toNat, by omega⟩
    refine ⟨d, ?_, b⟩
    have c := b 0 1 (by omega) (by omega)
    rw [za_at1, za_at2 _ _ (by omega)] at c
    have e := (g.2.2 1 (by omega)).2
    have f := hx 1 (by omega)
    omega
  · intro ⟨d, hd, s⟩ p q hp hq
    have a := s p q hp hq
    unfold za_pa
    by_cases hq0 : q = 0
    · subst hq0
      by_cases hp0 : p = 0
      · subst hp0
        rw [if_neg (by omega)]
        have := g.1 0 (by omega)
        omega
      · rw [if_pos ⟨rfl, hp0⟩]
        have := hx p hp
        omega
    · rw [if_neg (by omega)]
      rw [za_at2 _ _ hq0] at a
      by_cases hp0 : p = 0
      · subst hp0
        rw [za_at1] at a
        omega
      · rw [za_at2 _ _ hp0] at a
        exact a
theorem za_baS {D : Nat → Nat → Int} (g : za_G D) {x : Nat → Int} (h0 : x 0 = 0) (hx : ∀ k, k < 4 → 0 ≤ x k ∧ x k ≤ 12) : za_Sat (za_ba D) x ↔ ∃ d : Nat, d ≤ 12 ∧ za_Sat D (za_at x 0 (-(d : Int))) := by
  constructor
  · intro s
    have s0 : za_Sx 0 D x := by
      intro i j hi hj hi0 hj0
      have a := s i j hi hj
      unfold za_ba at a
      rw [if_neg (by omega)] at a
      exact a
    have H : ∀ j, j < 4 → j ≠ 0 → x j - D j 0 ≤ 0 := by
      intro j hj hj0
      have a := s j 0 hj (by omega)
      unfold za_ba at a
      rw [if_neg (by omega)] at a
      omega
    obtain ⟨v, a, b⟩ := za_mid (fun j => -(x j + D 0 j)) (fun j => -(x j - D j 0)) 0 0 (fun i j hi hj hi0 hj0 => by
      have a := s0 j i hj hi hj0 hi0
      have b := g.2.1 j i 0 hj hi (by omega)
      show -(x i + D 0 i) ≤ -(x j - D j 0)
      omega) (fun j hj hj0 => by
      have a := H j hj hj0
      show 0 ≤ -(x j - D j 0)
      omega)
    obtain ⟨d, rfl⟩ : ∃ d : Nat, v = d := ⟨v.toNat, by omega⟩
    refine ⟨d, ?_, za_atS g.1 x _ s0 fun j hj hj0 => ?_⟩
    · have c := (b 1 (by omega) (by omega)).2
      have c' : (d : Int) ≤ -(x 1 - D 1 0) := c
      have e := (g.2.2 1 (by omega)).1
      have f := hx 1 (by omega)
      omega
    · have c := b j hj hj0
      have c1 : -(x j + D 0 j) ≤ (d : Int) := c.1
      have c2 : (d : Int) ≤ -(x j - D j 0) := c.2
      omega
  · intro ⟨d, hd, s⟩ p q hp hq
    have a := s p q hp hq
    unfold za_ba
    by_cases hp0 : p = 0
    · subst hp0
      by_cases hq0 : q = 0
      · subst hq0
        rw [if_neg (by omega)]
        have := g.1 0 (by omega)
        omega
      · rw [if_pos ⟨rfl, hq0⟩]
        have := hx q hq
        omega
    · rw [if_neg (by omega)]
      rw [za_at2 _ _ hp0] at a
      by_cases hq0 : q = 0
      · subst hq0
        rw [za_at1] at a
        omega
      · rw [za_at2 _ _ hq0] at a
        exact a
/-- a reading moved along -/
theorem za_mv {p q : Nat} {e : Int} (hp : p < 2197) (h1 : 0 ≤ za_pv p 1 + e ∧ za_pv p 1 + e ≤ 12) (h2 : 0 ≤ za_pv p 2 + e ∧ za_pv p 2 + e ≤ 12) (h3 : 0 ≤ za_pv p 3 + e ∧ za_pv p 3 + e ≤ 12) (hq : (q : Int) = p + 183 * e) : q < 2197 ∧ ∀ D, za_Sat D (za_pv q) ↔ za_Sat D (za_at (za_pv p) 0 (-e)) := by
  have a1 : za_pv p 1 = ((p / 169 : Nat) : Int) := rfl
  have a2 : za_pv p 2 = ((p / 13 % 13 : Nat) : Int) := rfl
  have a3 : za_pv p 3 = ((p % 13 : Nat) : Int) := rfl
  have b1 : za_pv q 1 = ((q / 169 : Nat) : Int) := rfl
  have b2 : za_pv q 2 = ((q / 13 % 13 : Nat) : Int) := rfl
  have b3 : za_pv q 3 = ((q % 13 : Nat) : Int) := rfl
  rw [a1] at h1
  rw [a2] at h2
  rw [a3] at h3
  have c3 : ((q % 13 : Nat) : Int) = ((p % 13 : Nat) : Int) + e := by omega
  have c2 : ((q / 13 % 13 : Nat) : Int) = ((p / 13 % 13 : Nat) : Int) + e := by omega
  have d1 : q / 169 = q / 13 / 13 := by rw [Nat.div_div_eq_div_mul]
  have d2 : p / 169 = p / 13 / 13 := by rw [Nat.div_div_eq_div_mul]
  have c1 : ((q / 169 : Nat) : Int) = ((p / 169 : Nat) : Int) + e := by
    rw [d1, d2]
    rw [d2] at h1
    omega
  have H : ∀ k, k < 4 → za_pv q k = za_at (za_pv p) 0 (-e) k + e := by
    intro k hk
    rcases za_c4 hk with rfl | rfl | rfl | rfl
    · rw [za_at1]; show (0 : Int) = _; omega
    · rw [za_at2 _ _ (by omega), a1, b1]; exact c1
    · rw [za_at2 _ _ (by omega), a2, b2]; exact c2
    · rw [za_at2 _ _ (by omega), a3, b3]; exact c3
  refine ⟨by omega, fun D => ⟨fun s i j hi hj => ?_, fun s i j hi hj => ?_⟩⟩
  · have a := s i j hi hj
    rw [H i hi, H j hj] at a
    omega
  · have a := s i j hi hj
    rw [H i hi, H j hj]
    omega
def za_mx (D E : Nat → Nat → Int) : Nat → Nat → Int := fun p q => max (D p q) (E p q)
def za_mn (D E : Nat → Nat → Int) : Nat → Nat → Int := fun p q => min (D p q) (E p q)
theorem za_mxG {D E : Nat → Nat → Int} (g : za_G D) (h : za_G E) : za_G (za_mx D E) := by
  refine ⟨fun p hp => ?_, fun p q r hp hq hr => ?_, fun p hp => ?_⟩
  · have a := g.1 p hp
    have b := h.1 p hp
    unfold za_mx
    omega
  · have a := g.2.1 p q r hp hq hr
    have b := h.2.1 p q r hp hq hr
    unfold za_mx
    omega
  · have a := g.2.2 p hp
    have b := h.2.2 p hp
    unfold za_mx
    omega
theorem za_mnH {D E : Nat → Nat → Int} (g : za_G D) (h : za_G E) : (∀ p, p < 4 → za_mn D E p p = 0) ∧ (∀ i, i < 4 → za_mn D E i 0 ≤ 12 ∧ za_mn D E 0 i ≤ 0) ∧ ∀ p q, p < 4 → q < 4 → -12 ≤ za_mn D E p q ∧ za_mn D E p q ≤ 12 := by
  refine ⟨fun p hp => ?_, fun p hp => ?_, fun p q hp hq => ?_⟩
  · have a := g.1 p hp
    have b := h.1 p hp
    unfold za_mn
    omega
  · have a := g.2.2 p hp
    have b := h.2.2 p hp
    unfold za_mn
    omega
  · have a := za_bd g hp hq
    have b := za_bd h hp hq
    unfold za_mn
    omega
theorem za_mnS (D E : Nat → Nat → Int) (x : Nat → Int) : za_Sat (za_mn D E) x ↔ za_Sat D x ∧ za_Sat E x := by
  constructor
  · intro s
    constructor
    · intro p q hp hq
      have a := s p q hp hq
      unfold za_mn at a
      omega
    · intro p q hp hq
      have a := s p q hp hq
      unfold za_mn at a
      omega
  · intro ⟨s, t⟩ p q hp hq
    have a := s p q hp hq
    have b := t p q hp hq
    unfold za_mn
    omega
/-- the least zone that holds a set of readings -/
def za_HU (Q : Nat → Prop) (p : Nat) : Prop := ∀ i j, i < 4 → j < 4 → ∃ r, r < 2197 ∧ Q r ∧ za_pv p i - za_pv p j ≤ za_pv r i - za_pv r j
theorem za_HU0 {Q : Nat → Prop} (h : ∀ r, r < 2197 → ¬ Q r) (p : Nat) : ¬ za_HU Q p := by
  intro s
  obtain ⟨r, a, b, _⟩ := s 0 0 (by omega) (by omega)
  exact h r a b
theorem za_HU1 {Q : Nat → Prop} {D : Nat → Nat → Int} (g : za_G D) (h : ∀ r, r < 2197 → (Q r ↔ za_Sat D (za_pv r))) (p : Nat) : za_HU Q p ↔ za_Sat D (za_pv p) := by
  constructor
  · intro s i j hi hj
    obtain ⟨r, a, b, c⟩ := s i j hi hj
    have d := ((h r a).mp b) i j hi hj
    omega
  · intro s i j hi hj
    obtain ⟨r, a, b, c⟩ := za_top g hi hj
    refine ⟨r, a, (h r a).mpr b, ?_⟩
    rw [c]
    exact s i j hi hj
theorem za_HU2 {Q : Nat → Prop} {D E : Nat → Nat → Int} (g : za_G D) (g' : za_G E) (h : ∀ r, r < 2197 → (Q r ↔ za_Sat D (za_pv r) ∨ za_Sat E (za_pv r))) (p : Nat) : za_HU Q p ↔ za_Sat (za_mx D E) (za_pv p) := by
  constructor
  · intro s i j hi hj
    obtain ⟨r, a, b, c⟩ := s i j hi hj
    unfold za_mx
    rcases (h r a).mp b with d | d
    · have e := d i j hi hj
      omega
    · have e := d i j hi hj
      omega
  · intro s i j hi hj
    have e := s i j hi hj
    unfold za_mx at e
    by_cases f : D i j ≤ E i j
    · obtain ⟨r, a, b, c⟩ := za_top g' hi hj
      refine ⟨r, a, (h r a).mpr (Or.inr b), ?_⟩
      omega
    · obtain ⟨r, a, b, c⟩ := za_top g hi hj
      refine ⟨r, a, (h r a).mpr (Or.inl b), ?_⟩
      omega
end
section
/-! the reference against sets of readings: M z p says that reading p lies in zone z -/
def zy_S (M : Nat → Nat → Prop) (mark : Nat → Int32) : Prop := ∀ z p, z < 3 → p < 2197 → mark (z * 2197 + p) = za_tf (M z p)
def zy_pt (M : Nat → Nat → Prop) (z : Nat) (Q : Nat → Prop) (i : Nat) : Nat → Nat → Prop := fun w p => if w = z ∧ p < i then Q p else M w p
def zy_put (M : Nat → Nat → Prop) (z : Nat) (Q : Nat → Prop) : Nat → Nat → Prop := fun w p => if w = z then Q p else M w p
def zy_some (Q : Nat → Prop) : Prop := ∃ p, p < 2197 ∧ Q p
theorem zy_Sc {M N : Nat → Nat → Prop} {mark : Nat → Int32} (h : ∀ z p, z < 3 → p < 2197 → (M z p ↔ N z p)) (s : zy_S M mark) : zy_S N mark := by
  intro z p hz hp
  rw [s z p hz hp]
  exact za_tfc (h z p hz hp)
theorem zy_pt0 {M : Nat → Nat → Prop} {z : Nat} {Q : Nat → Prop} {mark : Nat → Int32} (s : zy_S M mark) : zy_S (zy_pt M z Q 0) mark :=
  zy_Sc (fun w p _ _ => by unfold zy_pt; rw [if_neg (by omega)]) s
theorem zy_ptE {M : Nat → Nat → Prop} {z : Nat} {Q : Nat → Prop} {mark : Nat → Int32} (s : zy_S (zy_pt M z Q 2197) mark) : zy_S (zy_put M z Q) mark :=
  zy_Sc (fun w p _ hp => by
    unfold zy_pt zy_put
    by_cases h : w = z
    · rw [if_pos ⟨h, hp⟩, if_pos h]
    · rw [if_neg (fun c => h c.1), if_neg h]) s
theorem zy_ptU {M : Nat → Nat → Prop} {z i : Nat} {Q : Nat → Prop} {mark : Nat → Int32} (hz : z < 3) (hi : i < 2197) {x : Int32} (hx : x = za_tf (Q i)) (s : zy_S (zy_pt M z Q i) mark) : zy_S (zy_pt M z Q (i + 1)) (upd mark (z * 2197 + i) x) := by
  intro w p hw hp
  by_cases h : w = z ∧ p = i
  · obtain ⟨rfl, rfl⟩ := h
    rw [pk_us, hx]
    exact za_tfc (by unfold zy_pt; rw [if_pos ⟨rfl, by omega⟩])
  · rw [pk_un (by omega), s w p hw hp]
    exact za_tfc (by
      unfold zy_pt
      by_cases e : w = z ∧ p < i
      · rw [if_pos e, if_pos (by omega)]
      · rw [if_neg e, if_neg (by omega)])
theorem zy_ptK {M : Nat → Nat → Prop} {z i : Nat} {Q : Nat → Prop} {mark : Nat → Int32} (h : Q i ↔ M z i) (s : zy_S (zy_pt M z Q i) mark) : zy_S (zy_pt M z Q (i + 1)) mark :=
  zy_Sc (fun w p _ _ => by
    unfold zy_pt
    by_cases e : w = z ∧ p < i
    · rw [if_pos e, if_pos (by omega)]
    · rw [if_neg e]
      by_cases f : w = z ∧ p = i
      · obtain ⟨rfl, rfl⟩ := f
        rw [if_pos (by omega)]
        exact h.symm
      · rw [if_neg (by omega)]) s
theorem zy_ptR {M : Nat → Nat → Prop} {z i : Nat} {Q : Nat → Prop} {mark : Nat → Int32} {w : Nat} (hw : w < 3) (hi : i < 2197) (s : zy_S (zy_pt M z Q i) mark) : mark (w * 2197 + i) = za_tf (M w i) := by
  rw [s w i hw hi]
  exact za_tfc (by unfold zy_pt; rw [if_neg (by omega)])
/-- the set that stands in made -/
def zy_M (Q : Nat → Prop) (i : Nat) (made : Nat → Int32) : Prop := ∀ p, p < i → made p = za_tf (Q p)
theorem zy_M0 {Q : Nat → Prop} {made : Nat → Int32} : zy_M Q 0 made := fun _ h => absurd h (by omega)
theorem zy_MU {Q : Nat → Prop} {i : Nat} {made : Nat → Int32} {x : Int32} (hx : x = za_tf (Q i)) (s : zy_M Q i made) : zy_M Q (i + 1) (upd made i x) := by
  intro p hp
  by_cases h : p = i
  · subst h; rw [pk_us, hx]
  · rw [pk_un h]; exact s p (by omega)
/-! small walks -/
section
variable {mark made : Nat → Int32}
theorem zy_bz {post : Int32 → Prop} {z : Nat} (hz : z < 3) (h : post 0) : wpY_badZone post (mark, made) (nI z) :=
  br_f (nI_pos (by omega)) (br_t (nI_le (b := 2) (by omega) (by decide)) h)
theorem zy_bzN {post : Int32 → Prop} {x : Int32} (hx : x < 0 ∨ 2 < x) (h : post 1) : wpY_badZone post (mark, made) x := by
  rcases hx with hx | hx
  · exact br_t hx h
  · exact br_c (fun _ => h) (fun _ => br_f (Int32.not_le.mpr hx) h)
theorem zy_val {post : Int32 → Prop} {p k : Nat} (hp : p < 2197) (hk : k < 4) (h : post (nI (za_vn p k))) : wpY_value post (mark, made) (nI p) (nI k) := by
  rcases za_c4 hk with rfl | rfl | rfl | rfl
  · exact br_t rfl h
  · refine br_f (nI_ne0 (by decide) (by decide)) (br_t rfl ⟨by decide, ?_⟩)
    rw [za_d169 (by omega)]
    exact h
  · refine br_f (nI_ne0 (by decide) (by decide)) (br_f (by decide) (br_t rfl ⟨by decide, by decide, ?_⟩))
    have e : nI p / 13 - nI p / 13 / 13 * 13 = nI (p / 13 % 13) := by
      rw [za_d13 (by omega), za_r13 (by omega)]
    rw [e]
    exact h
  · refine br_f (nI_ne0 (by decide) (by decide)) (br_f (by decide) (br_f (by decide) ⟨by decide, ?_⟩))
    rw [za_r13 (by omega)]
    exact h
theorem zy_wtA (a b c d : Int32) : a + b * d + (c - b) * d = a + c * d := by grind
theorem zy_wt0 {p o w v : Nat} (h : o * w ≤ p) : nI p + (nI v - nI o) * nI w = nI (p - o * w + v * w) := by
  have e : nI p = nI (p - o * w) + nI o * nI w := by rw [pk_mul, nI_add]; exact congrArg nI (by omega)
  rw [e, zy_wtA, pk_mul, nI_add]
theorem zy_wit {post : Int32 → Prop} {p k v : Nat} (hp : p < 2197) (h1 : 1 ≤ k) (hk : k < 4) (h : post (nI (za_wi p k v))) : wpY_with post (mark, made) (nI p) (nI k) (nI v) := by
  rcases za_c3 h1 hk with rfl | rfl | rfl
  · refine br_t rfl ?_
    show wpY_value _ (mark, made) (nI p) (nI 1)
    refine zy_val hp (by omega) ?_
    have e : nI p + (nI v - nI (za_vn p 1)) * 169 = nI (za_wi p 1 v) := zy_wt0 (w := 169) (show p / 169 * 169 ≤ p by omega)
    rw [e]
    exact h
  · refine br_f (by decide) (br_t rfl ?_)
    show wpY_value _ (mark, made) (nI p) (nI 2)
    refine zy_val hp (by omega) ?_
    have e : nI p + (nI v - nI (za_vn p 2)) * 13 = nI (za_wi p 2 v) := zy_wt0 (w := 13) (show p / 13 % 13 * 13 ≤ p by omega)
    rw [e]
    exact h
  · refine br_f (by decide) (br_f (by decide) ?_)
    show wpY_value _ (mark, made) (nI p) (nI 3)
    refine zy_val hp (by omega) ?_
    have e : nI p + (nI v - nI (za_vn p 3)) * 1 = nI (p - p % 13 * 1 + v * 1) := zy_wt0 (w := 1) (show p % 13 * 1 ≤ p by omega)
    rw [e, Nat.mul_one, Nat.mul_one]
    exact h
theorem zy_some' {M : Nat → Nat → Prop} (s : zy_S M mark) {post : Int32 → Prop} {z : Nat} (hz : z < 3) (h : post (za_tf (zy_some (M z)))) : wpY_some post (mark, made) (nI z) := by
  show ∃ n, wY_some_2 post (nI z) mark made n (nI 0)
  refine loop_0 (fun n i (_ : Unit) => wY_some_2 post (nI z) mark made n (nI i)) (fun i _ => ∀ p, p < i → ¬ M z p) 2197 () (fun p hp => absurd hp (by omega)) (fun n _ I => ?_) (fun n i _ hi I K => ?_)
  · refine br_t (nI_le (Nat.le_refl _) (by decide)) ?_
    rw [za_tf0 (fun ⟨p, a, b⟩ => I p a b)] at h
    exact h
  · refine br_f (nI_ge (b := 2197) hi (by decide)) ?_
    rw [za_im, nI_clamp (by omega)]
    refine ⟨vp_in_nI (by omega) (by decide), za_brz (s z i hz hi) (fun hn => ?_) (fun hy => ?_)⟩
    · refine nm_r (nI_1 i) (K () fun p hp => ?_)
      by_cases e : p = i
      · subst e; exact hn
      · exact I p (by omega)
    · rw [za_tf1 ⟨i, hi, hy⟩] at h
      exact h
theorem zy_store {M : Nat → Nat → Prop} (s : zy_S M mark) {Q : Nat → Prop} (m : zy_M Q 2197 made) {post : Int32 → SY → Prop} {z : Nat} (hz : z < 3) (h : ∀ mark', zy_S (zy_put M z Q) mark' → post (za_tf (zy_some Q)) (mark', made)) : wpY_store post (mark, made) (nI z) := by
  show ∃ n, wY_store_2 post (nI z) n (nI 0) mark made
  refine loop_0 (fun n i mark => wY_store_2 post (nI z) n (nI i) mark made) (fun i mark => zy_S (zy_pt M z Q i) mark) 2197 mark (zy_pt0 s) (fun n mk I => ?_) (fun n i mk hi I K => ?_)
  · refine br_t (nI_le (Nat.le_refl _) (by decide)) ?_
    have I' := zy_ptE I
    refine zy_some' I' hz ?_
    have e : zy_put M z Q z = Q := by funext p; unfold zy_put; rw [if_pos rfl]
    rw [e]
    exact h mk I'
  · refine br_f (nI_ge (b := 2197) hi (by decide)) ⟨vp_in_nI hi (by decide), ?_⟩
    rw [za_im, nI_clamp (by omega), nI_clamp (by omega), m i hi, za_nt]
    exact ⟨vp_in_nI (by omega) (by decide), nm_e (nm_r (nI_1 i) (K _ (zy_ptU hz hi rfl I)))⟩
end
end
section
/-! the reference's methods against sets of readings -/
section
variable {mark made : Nat → Int32} {M : Nat → Nat → Prop}
theorem zy_all (s : zy_S M mark) {post : Int32 → SY → Prop} {z : Nat} (hz : z < 3) (h : ∀ mark', zy_S (zy_put M z (fun _ => True)) mark' → post 0 (mark', made)) : wpY_all post (mark, made) (nI z) := by
  unfold wpY_all
  dsimp only
  refine zy_bz hz ?_
  refine br_t rfl ?_
  refine loop_0 (fun n i mark => wY_all_12 post (nI z) n (nI i) mark made) (fun i mark => zy_S (zy_pt M z (fun _ => True) i) mark) 2197 mark (zy_pt0 s) (fun n mk I => ?_) (fun n i mk hi I K => ?_)
  · exact br_t (nI_le (Nat.le_refl _) (by decide)) (h mk (zy_ptE I))
  · refine br_f (nI_ge (b := 2197) hi (by decide)) ?_
    rw [za_im, nI_clamp (by omega)]
    exact ⟨vp_in_nI (by omega) (by decide), nm_e (nm_r (nI_1 i) (K _ (zy_ptU hz hi (za_tf1 trivial).symm I)))⟩
theorem zy_zero (s : zy_S M mark) {post : Int32 → SY → Prop} {z : Nat} (hz : z < 3) (h : ∀ mark', zy_S (zy_put M z (fun p => p = 0)) mark' → post 0 (mark', made)) : wpY_zero post (mark, made) (nI z) := by
  unfold wpY_zero
  dsimp only
  refine zy_bz hz ?_
  refine br_t rfl ?_
  refine loop_0 (fun n i mark => wY_zero_12 post (nI z) n (nI i) mark made) (fun i mark => zy_S (zy_pt M z (fun p => p = 0) i) mark) 2197 mark (zy_pt0 s) (fun n mk I => ?_) (fun n i mk hi I K => ?_)
  · exact br_t (nI_le (Nat.le_refl _) (by decide)) (h mk (zy_ptE I))
  · refine br_f (nI_ge (b := 2197) hi (by decide)) ?_
    rw [za_im, nI_clamp (by omega)]
    refine pk_eq i 0 (fun e => ?_) (fun e => ?_)
    · exact ⟨vp_in_nI (by omega) (by decide), nm_e (nm_r (nI_1 i) (K _ (zy_ptU hz hi (za_tf1 e).symm I)))⟩
    · exact ⟨vp_in_nI (by omega) (by decide), nm_e (nm_r (nI_1 i) (K _ (zy_ptU hz hi (za_tf0 e).symm I)))⟩
theorem zy_copy (s : zy_S M mark) {post : Int32 → SY → Prop} {y z : Nat} (hy : y < 3) (hz : z < 3) (h : ∀ mark', zy_S (zy_put M y (M z)) mark' → post 0 (mark', made)) : wpY_copy post (mark, made) (nI y) (nI z) := by
  unfold wpY_copy
  dsimp only
  refine zy_bz hy ?_
  refine br_t rfl ?_
  refine zy_bz hz ?_
  refine br_t rfl ?_
  refine loop_0 (fun n i mark => wY_copy_20 post (nI y) (nI z) n (nI i) mark made) (fun i mark => zy_S (zy_pt M y (M z) i) mark) 2197 mark (zy_pt0 s) (fun n mk I => ?_) (fun n i mk hi I K => ?_)
  · exact br_t (nI_le (Nat.le_refl _) (by decide)) (h mk (zy_ptE I))
  · refine br_f (nI_ge (b := 2197) hi (by decide)) ?_
    rw [za_im, za_im, nI_clamp (by omega), nI_clamp (by omega), zy_ptR hz hi I, za_nt]
    exact ⟨vp_in_nI (by omega) (by decide), vp_in_nI (by omega) (by decide), nm_e (nm_r (nI_1 i) (K _ (zy_ptU hy hi rfl I)))⟩
theorem zy_bp {post : Int32 → Prop} {i j : Nat} (hi : i < 4) (hj : j < 4) (hij : i ≠ j) (h : post 0) : wpY_badPair post (mark, made) (nI i) (nI j) :=
  br_f (nI_pos (by omega)) (br_f (nI_nlt (b := 3) (a := 3) (by omega) (by decide) |> fun _ => by rw [show (3 : Int32) = nI 3 from rfl, nI_ltI (by omega) (by omega)]; omega) (br_f (nI_pos (by omega)) (br_f (by rw [show (3 : Int32) = nI 3 from rfl, nI_ltI (by omega) (by omega)]; omega) (br_f (by rw [nI_eq (by omega) (by omega)]; exact hij) h))))
theorem zy_bc {post : Int32 → Prop} {k : Nat} (h1 : 1 ≤ k) (hk : k < 4) (h : post 0) : wpY_badClock post (mark, made) (nI k) :=
  br_f (by rw [show (1 : Int32) = nI 1 from rfl, nI_ltI (by omega) (by omega)]; omega) (br_t (nI_le (b := 3) (by omega) (by decide)) h)
theorem zy_keep (s : zy_S M mark) {post : Int32 → SY → Prop} {z i j : Nat} {c : Int32} (hz : z < 3) (hi : i < 4) (hj : j < 4) (hij : i ≠ j) (hc : ¬ c < -12) (hc2 : c ≤ 12) (h : ∀ v', zy_S (zy_put M z (fun p => M z p ∧ za_pv p i - za_pv p j ≤ c.toInt)) v'.1 → post (za_tf (zy_some (fun p => M z p ∧ za_pv p i - za_pv p j ≤ c.toInt))) v') : wpY_keep post (mark, made) (nI z) (nI i) (nI j) c := by
  unfold wpY_keep
  dsimp only
  refine zy_bz hz ?_
  refine br_t rfl ?_
  refine zy_bp hi hj hij ?_
  refine br_t rfl (br_f hc (br_t hc2 ?_))
  refine loop_0 (fun n p made => wY_keep_42 post (nI z) (nI i) (nI j) c n (nI p) mark made) (fun p made => zy_M (fun p => M z p ∧ za_pv p i - za_pv p j ≤ c.toInt) p made) 2197 made zy_M0 (fun n md I => ?_) (fun n p md hp I K => ?_)
  · refine br_t (nI_le (Nat.le_refl _) (by decide)) ?_
    exact zy_store s I hz fun mk S => h (mk, md) S
  · refine br_f (nI_ge (b := 2197) hp (by decide)) ?_
    refine zy_val hp hi ?_
    refine zy_val hp hj ?_
    have b1 := za_vnle (k := i) hp
    have b2 := za_vnle (k := j) hp
    have e : (nI (za_vn p i) - nI (za_vn p j)).toInt = za_pv p i - za_pv p j := pk_sub_toInt (by omega) (by omega)
    rw [za_im, nI_clamp (by omega), nI_clamp (by omega)]
    refine ⟨vp_in_nI (by omega) (by decide), za_brz (s z p hz hp) (fun hn => ?_) (fun hy => ?_)⟩
    · exact ⟨vp_in_nI hp (by decide), nm_e (nm_r (nI_1 p) (K _ (zy_MU (za_tf0 fun c => hn c.1).symm I)))⟩
    · refine za_brlt rfl e (fun a => ?_) (fun a => ?_)
      · exact ⟨vp_in_nI hp (by decide), nm_e (nm_r (nI_1 p) (K _ (zy_MU (za_tf0 fun c => by omega).symm I)))⟩
      · exact ⟨vp_in_nI hp (by decide), nm_e (nm_r (nI_1 p) (K _ (zy_MU (za_tf1 ⟨hy, a⟩).symm I)))⟩
/-! time -/
def zy_ins (p : Nat) (e : Int) : Prop := (0 ≤ za_pv p 1 + e ∧ za_pv p 1 + e ≤ 12) ∧ (0 ≤ za_pv p 2 + e ∧ za_pv p 2 + e ≤ 12) ∧ (0 ≤ za_pv p 3 + e ∧ za_pv p 3 + e ≤ 12)
def zy_s1 (Q : Nat → Prop) (w : Int) (p d : Nat) : Prop := zy_ins p (w * d) ∧ ∃ q : Nat, (q : Int) = p + 183 * (w * d) ∧ Q q
def zy_sh (Q : Nat → Prop) (w : Int) (p : Nat) : Prop := ∃ d : Nat, d ≤ 12 ∧ zy_s1 Q w p d
theorem zy_c0 : (0 : Int32).toInt = 0 := by decide
theorem zy_c12 : (12 : Int32).toInt = 12 := by decide
theorem zy_shift (s : zy_S M mark) {post : Int32 → Prop} {z p : Nat} {x : Int32} {w : Int} (hw : w = 1 ∨ w = -1) (hx : ∀ d : Nat, d < 13 → (nI d * x).toInt = w * d) (hz : z < 3) (hp : p < 2197) (h : post (za_tf (zy_sh (M z) w p))) : wpY_shifted post (mark, made) (nI z) (nI p) x := by
  unfold wpY_shifted
  dsimp only
  refine zy_val (k := 1) hp (by omega) ?_
  refine zy_val (k := 2) hp (by omega) ?_
  refine zy_val (k := 3) hp (by omega) ?_
  have b1 := za_vnle (k := 1) hp
  have b2 := za_vnle (k := 2) hp
  have b3 := za_vnle (k := 3) hp
  have p1 : za_pv p 1 = (za_vn p 1 : Int) := rfl
  have p2 : za_pv p 2 = (za_vn p 2 : Int) := rfl
  have p3 : za_pv p 3 = (za_vn p 3 : Int) := rfl
  refine loop_0 (fun n d (_ : Unit) => wY_shifted_27 post (nI z) (nI p) x (nI (za_vn p 1)) (nI (za_vn p 2)) (nI (za_vn p 3)) mark made n (nI d)) (fun d _ => ∀ c, c < d → ¬ zy_s1 (M z) w p c) 13 () (fun c hc => absurd hc (by omega)) (fun n _ I => ?_) (fun n d _ hd I K => ?_)
  · refine br_t (nI_lt (a := 12) (by omega) (by decide)) ?_
    rw [za_tf0 (fun ⟨d, a, b⟩ => I d (by omega) b)] at h
    exact h
  · refine br_f (by rw [show (12 : Int32) = nI 12 from rfl, nI_ltI (by omega) (by omega)]; omega) ?_
    have ex := hx d hd
    refine nm_e ?_
    generalize nI d * x = e at ex ⊢
    have N : (¬ zy_s1 (M z) w p d) → (fun n d (_ : Unit) => wY_shifted_27 post (nI z) (nI p) x (nI (za_vn p 1)) (nI (za_vn p 2)) (nI (za_vn p 3)) mark made n (nI d)) n (d + 1) () := by
      intro hn
      refine K () fun c hc => ?_
      by_cases f : c = d
      · subst f; exact hn
      · exact I c (by omega)
    have N8 : (¬ zy_s1 (M z) w p d) → wY_shifted_98 post (wY_shifted_27 post (nI z) (nI p) x (nI (za_vn p 1)) (nI (za_vn p 2)) (nI (za_vn p 3)) mark made n) (nI z) (nI p) x (nI (za_vn p 1)) (nI (za_vn p 2)) (nI (za_vn p 3)) (nI d) e mark made := by
      intro hn
      unfold wY_shifted_98 wY_shifted_99
      exact br_t rfl (nm_r (nI_1 d) (N hn))
    have hwd : -12 ≤ w * (d : Int) ∧ w * (d : Int) ≤ 12 := by rcases hw with rfl | rfl <;> omega
    generalize hg : w * (d : Int) = g at ex hwd
    have E1 : (nI (za_vn p 1) + e).toInt = za_pv p 1 + g := by rw [p1]; exact za_add (za_ti (by omega)) ex (by omega) (by omega)
    have E2 : (nI (za_vn p 2) + e).toInt = za_pv p 2 + g := by rw [p2]; exact za_add (za_ti (by omega)) ex (by omega) (by omega)
    have E3 : (nI (za_vn p 3) + e).toInt = za_pv p 3 + g := by rw [p3]; exact za_add (za_ti (by omega)) ex (by omega) (by omega)
    have Nn : (¬ zy_ins p g) → ¬ zy_s1 (M z) w p d := by
      intro a b
      have c := b.1
      rw [hg] at c
      exact a c
    refine za_brlt E1 zy_c0 (fun a => N8 (Nn fun i => by unfold zy_ins at i; omega)) (fun a1 => ?_)
    refine za_brlt zy_c12 E1 (fun a => N8 (Nn fun i => by unfold zy_ins at i; omega)) (fun a2 => ?_)
    refine za_brlt E2 zy_c0 (fun a => N8 (Nn fun i => by unfold zy_ins at i; omega)) (fun a3 => ?_)
    refine za_brlt zy_c12 E2 (fun a => N8 (Nn fun i => by unfold zy_ins at i; omega)) (fun a4 => ?_)
    refine za_brlt E3 zy_c0 (fun a => N8 (Nn fun i => by unfold zy_ins at i; omega)) (fun a5 => ?_)
    refine za_brlt zy_c12 E3 (fun a => N8 (Nn fun i => by unfold zy_ins at i; omega)) (fun a6 => ?_)
    unfold wY_shifted_99
    refine br_f za_10 ?_
    have hins : zy_ins p g := ⟨⟨a1, a2⟩, ⟨a3, a4⟩, ⟨a5, a6⟩⟩
    have d2 : p / 169 = p / 13 / 13 := by rw [Nat.div_div_eq_div_mul]
    have q1 : za_pv p 1 = ((p / 169 : Nat) : Int) := rfl
    have q2 : za_pv p 2 = ((p / 13 % 13 : Nat) : Int) := rfl
    have q3 : za_pv p 3 = ((p % 13 : Nat) : Int) := rfl
    rw [d2] at q1
    have hq0 : 0 ≤ (p : Int) + 183 * g := by omega
    obtain ⟨q, hq⟩ : ∃ q : Nat, (q : Int) = p + 183 * g := ⟨((p : Int) + 183 * g).toNat, by omega⟩
    have hq2 : q < 2197 := (za_mv hp hins.1 hins.2.1 hins.2.2 hq).1
    have ei : (nI z * 2197 + nI p) + 183 * e = nI (z * 2197 + q) := by
      rw [za_im]
      refine za_nn ?_ (by omega)
      have m : (183 * e).toInt = 183 * g := by
        have t : (183 : Int32).toInt = 183 := by decide
        rw [Jvm.Kit.i32_mul (by rw [t, ex]; omega) (by rw [t, ex]; omega), t, ex]
      rw [za_add (za_ti (by omega)) m (by omega) (by omega)]
      omega
    rw [ei, nI_clamp (by omega)]
    refine ⟨vp_in_nI (by omega) (by decide), za_brz (s z q hz hq2) (fun hn => ?_) (fun hy => ?_)⟩
    · refine nm_r (nI_1 d) (N fun b => ?_)
      obtain ⟨_, r, hr, b2⟩ := b
      rw [hg] at hr
      have : r = q := by omega
      subst this
      exact hn b2
    · rw [za_tf1 ⟨d, by omega, by rw [hg]; exact hins, q, by rw [hg]; exact hq, hy⟩] at h
      exact h
theorem zy_m1 : ∀ d : Nat, d < 13 → (nI d * (-1)).toInt = -1 * (d : Int) := by decide
theorem zy_p1 : ∀ d : Nat, d < 13 → (nI d * 1).toInt = 1 * (d : Int) := by decide
theorem zy_pass (s : zy_S M mark) {post : Int32 → SY → Prop} {z : Nat} (hz : z < 3) (h : ∀ v', zy_S (zy_put M z (zy_sh (M z) (-1))) v'.1 → post (za_tf (zy_some (zy_sh (M z) (-1)))) v') : wpY_pass post (mark, made) (nI z) := by
  unfold wpY_pass
  dsimp only
  refine zy_bz hz ?_
  refine br_t rfl ?_
  refine loop_0 (fun n p made => wY_pass_12 post (nI z) n (nI p) mark made) (fun p made => zy_M (zy_sh (M z) (-1)) p made) 2197 made zy_M0 (fun n md I => ?_) (fun n p md hp I K => ?_)
  · refine br_t (nI_le (Nat.le_refl _) (by decide)) ?_
    exact zy_store s I hz fun mk S => h (mk, md) S
  · refine br_f (nI_ge (b := 2197) hp (by decide)) ?_
    refine zy_shift s (Or.inr rfl) zy_m1 hz hp ?_
    rw [nI_clamp (by omega), za_nt]
    exact ⟨vp_in_nI hp (by decide), nm_e (nm_r (nI_1 p) (K _ (zy_MU rfl I)))⟩
theorem zy_back (s : zy_S M mark) {post : Int32 → SY → Prop} {z : Nat} (hz : z < 3) (h : ∀ v', zy_S (zy_put M z (zy_sh (M z) 1)) v'.1 → post (za_tf (zy_some (zy_sh (M z) 1))) v') : wpY_back post (mark, made) (nI z) := by
  unfold wpY_back
  dsimp only
  refine zy_bz hz ?_
  refine br_t rfl ?_
  refine loop_0 (fun n p made => wY_back_12 post (nI z) n (nI p) mark made) (fun p made => zy_M (zy_sh (M z) 1) p made) 2197 made zy_M0 (fun n md I => ?_) (fun n p md hp I K => ?_)
  · refine br_t (nI_le (Nat.le_refl _) (by decide)) ?_
    exact zy_store s I hz fun mk S => h (mk, md) S
  · refine br_f (nI_ge (b := 2197) hp (by decide)) ?_
    refine zy_shift s (Or.inl rfl) zy_p1 hz hp ?_
    rw [nI_clamp (by omega), za_nt]
    exact ⟨vp_in_nI hp (by decide), nm_e (nm_r (nI_1 p) (K _ (zy_MU rfl I)))⟩
/-! a clock moved alone -/
def zy_an (Q : Nat → Prop) (k p : Nat) : Prop := ∃ v, v ≤ 12 ∧ Q (za_wi p k v)
theorem zy_anyAt (s : zy_S M mark) {post : Int32 → Prop} {z p k : Nat} (hz : z < 3) (hp : p < 2197) (h1 : 1 ≤ k) (hk : k < 4) (h : post (za_tf (zy_an (M z) k p))) : wpY_anyAt post (mark, made) (nI z) (nI p) (nI k) := by
  show ∃ n, wY_anyAt_3 post (nI z) (nI p) (nI k) mark made n (nI 0)
  refine loop_0 (fun n v (_ : Unit) => wY_anyAt_3 post (nI z) (nI p) (nI k) mark made n (nI v)) (fun v _ => ∀ c, c < v → ¬ M z (za_wi p k c)) 13 () (fun c hc => absurd hc (by omega)) (fun n _ I => ?_) (fun n v _ hv I K => ?_)
  · refine br_t (nI_lt (a := 12) (by omega) (by decide)) ?_
    rw [za_tf0 (fun ⟨d, a, b⟩ => I d (by omega) b)] at h
    exact h
  · refine br_f (by rw [show (12 : Int32) = nI 12 from rfl, nI_ltI (by omega) (by omega)]; omega) ?_
    refine zy_wit hp h1 hk ?_
    have hq := za_wiL (k := k) hp (show v ≤ 12 by omega)
    rw [za_im, nI_clamp (by omega)]
    refine ⟨vp_in_nI (by omega) (by decide), za_brz (s z _ hz hq) (fun hn => ?_) (fun hy => ?_)⟩
    · refine nm_r (nI_1 v) (K () fun c hc => ?_)
      by_cases e : c = v
      · subst e; exact hn
      · exact I c (by omega)
    · rw [za_tf1 ⟨v, by omega, hy⟩] at h
      exact h
theorem zy_set (s : zy_S M mark) {post : Int32 → SY → Prop} {z k m : Nat} (hz : z < 3) (h1 : 1 ≤ k) (hk : k < 4) (hm : m ≤ 12) (h : ∀ v', zy_S (zy_put M z (fun p => za_vn p k = m ∧ zy_an (M z) k p)) v'.1 → post (za_tf (zy_some (fun p => za_vn p k = m ∧ zy_an (M z) k p))) v') : wpY_set post (mark, made) (nI z) (nI k) (nI m) := by
  unfold wpY_set
  dsimp only
  refine zy_bz hz ?_
  refine br_t rfl ?_
  refine zy_bc h1 hk ?_
  refine br_t rfl (br_f (nI_pos (by omega)) (br_t (nI_le (b := 12) hm (by decide)) ?_))
  refine loop_0 (fun n p made => wY_set_37 post (nI z) (nI k) (nI m) n (nI p) mark made) (fun p made => zy_M (fun p => za_vn p k = m ∧ zy_an (M z) k p) p made) 2197 made zy_M0 (fun n md I => ?_) (fun n p md hp I K => ?_)
  · refine br_t (nI_le (Nat.le_refl _) (by decide)) ?_
    exact zy_store s I hz fun mk S => h (mk, md) S
  · refine br_f (nI_ge (b := 2197) hp (by decide)) ?_
    refine zy_val hp hk ?_
    have b := za_vnle (k := k) hp
    refine pk_eq (za_vn p k) m (fun e => ?_) (fun e => ?_)
    · refine zy_anyAt s hz hp h1 hk ?_
      rw [nI_clamp (by omega)]
      refine za_brz rfl (fun hn => ?_) (fun hy => ?_)
      · exact ⟨vp_in_nI hp (by decide), nm_e (nm_r (nI_1 p) (K _ (zy_MU (za_tf0 fun c => hn c.2).symm I)))⟩
      · exact ⟨vp_in_nI hp (by decide), nm_e (nm_r (nI_1 p) (K _ (zy_MU (za_tf1 ⟨e, hy⟩).symm I)))⟩
    · rw [nI_clamp (by omega)]
      exact ⟨vp_in_nI hp (by decide), nm_e (nm_r (nI_1 p) (K _ (zy_MU (za_tf0 fun c => e c.1).symm I)))⟩
theorem zy_free (s : zy_S M mark) {post : Int32 → SY → Prop} {z k : Nat} (hz : z < 3) (h1 : 1 ≤ k) (hk : k < 4) (h : ∀ v', zy_S (zy_put M z (zy_an (M z) k)) v'.1 → post (za_tf (zy_some (zy_an (M z) k))) v') : wpY_free post (mark, made) (nI z) (nI k) := by
  unfold wpY_free
  dsimp only
  refine zy_bz hz ?_
  refine br_t rfl ?_
  refine zy_bc h1 hk ?_
  refine br_t rfl ?_
  refine loop_0 (fun n p made => wY_free_23 post (nI z) (nI k) n (nI p) mark made) (fun p made => zy_M (zy_an (M z) k) p made) 2197 made zy_M0 (fun n md I => ?_) (fun n p md hp I K => ?_)
  · refine br_t (nI_le (Nat.le_refl _) (by decide)) ?_
    exact zy_store s I hz fun mk S => h (mk, md) S
  · refine br_f (nI_ge (b := 2197) hp (by decide)) ?_
    refine zy_anyAt s hz hp h1 hk ?_
    rw [nI_clamp (by omega), za_nt]
    exact ⟨vp_in_nI hp (by decide), nm_e (nm_r (nI_1 p) (K _ (zy_MU rfl I)))⟩
theorem zy_follow (s : zy_S M mark) {post : Int32 → SY → Prop} {z i j : Nat} (hz : z < 3) (hi1 : 1 ≤ i) (hi : i < 4) (hj1 : 1 ≤ j) (hj : j < 4) (hij : i ≠ j) (h : ∀ v', zy_S (zy_put M z (fun p => za_vn p i = za_vn p j ∧ zy_an (M z) i p)) v'.1 → post (za_tf (zy_some (fun p => za_vn p i = za_vn p j ∧ zy_an (M z) i p))) v') : wpY_follow post (mark, made) (nI z) (nI i) (nI j) := by
  unfold wpY_follow
  dsimp only
  refine zy_bz hz ?_
  refine br_t rfl ?_
  refine zy_bc hi1 hi ?_
  refine br_t rfl ?_
  refine zy_bc hj1 hj ?_
  refine br_t rfl (br_f (by rw [nI_eq (by omega) (by omega)]; exact hij) ?_)
  refine loop_0 (fun n p made => wY_follow_43 post (nI z) (nI i) (nI j) n (nI p) mark made) (fun p made => zy_M (fun p => za_vn p i = za_vn p j ∧ zy_an (M z) i p) p made) 2197 made zy_M0 (fun n md I => ?_) (fun n p md hp I K => ?_)
  · refine br_t (nI_le (Nat.le_refl _) (by decide)) ?_
    exact zy_store s I hz fun mk S => h (mk, md) S
  · refine br_f (nI_ge (b := 2197) hp (by decide)) ?_
    refine zy_val hp hi ?_
    refine zy_val hp hj ?_
    have b := za_vnle (k := i) hp
    have b' := za_vnle (k := j) hp
    refine pk_eq (za_vn p i) (za_vn p j) (fun e => ?_) (fun e => ?_)
    · refine zy_anyAt s hz hp hi1 hi ?_
      rw [nI_clamp (by omega)]
      refine za_brz rfl (fun hn => ?_) (fun hy => ?_)
      · exact ⟨vp_in_nI hp (by decide), nm_e (nm_r (nI_1 p) (K _ (zy_MU (za_tf0 fun c => hn c.2).symm I)))⟩
      · exact ⟨vp_in_nI hp (by decide), nm_e (nm_r (nI_1 p) (K _ (zy_MU (za_tf1 ⟨e, hy⟩).symm I)))⟩
    · rw [nI_clamp (by omega)]
      exact ⟨vp_in_nI hp (by decide), nm_e (nm_r (nI_1 p) (K _ (zy_MU (za_tf0 fun c => e c.1).symm I)))⟩
theorem zy_follow0 (s : zy_S M mark) {post : Int32 → SY → Prop} {z i : Nat} (hz : z < 3) (hi1 : 1 ≤ i) (hi : i < 4) (h : post (za_tf (zy_some (M z))) (mark, made)) : wpY_follow post (mark, made) (nI z) (nI i) (nI i) := by
  unfold wpY_follow
  dsimp only
  refine zy_bz hz ?_
  refine br_t rfl ?_
  refine zy_bc hi1 hi ?_
  refine br_t rfl ?_
  refine zy_bc hi1 hi ?_
  refine br_t rfl (br_t rfl ?_)
  exact zy_some' s hz h
theorem zy_meet (s : zy_S M mark) {post : Int32 → SY → Prop} {y z : Nat} (hy : y < 3) (hz : z < 3) (h : ∀ v', zy_S (zy_put M y (fun p => M y p ∧ M z p)) v'.1 → post (za_tf (zy_some (fun p => M y p ∧ M z p))) v') : wpY_meet post (mark, made) (nI y) (nI z) := by
  unfold wpY_meet
  dsimp only
  refine zy_bz hy ?_
  refine br_t rfl ?_
  refine zy_bz hz ?_
  refine br_t rfl ?_
  refine loop_0 (fun n p made => wY_meet_20 post (nI y) (nI z) n (nI p) mark made) (fun p made => zy_M (fun p => M y p ∧ M z p) p made) 2197 made zy_M0 (fun n md I => ?_) (fun n p md hp I K => ?_)
  · refine br_t (nI_le (Nat.le_refl _) (by decide)) ?_
    exact zy_store s I hy fun mk S => h (mk, md) S
  · refine br_f (nI_ge (b := 2197) hp (by decide)) ?_
    rw [za_im, za_im, nI_clamp (by omega), nI_clamp (by omega), nI_clamp (by omega)]
    refine ⟨vp_in_nI (by omega) (by decide), za_brz (s y p hy hp) (fun hn => ?_) (fun hy' => ⟨vp_in_nI (by omega) (by decide), za_brz (s z p hz hp) (fun hn => ?_) (fun hz' => ?_)⟩)⟩
    · exact ⟨vp_in_nI hp (by decide), nm_e (nm_r (nI_1 p) (K _ (zy_MU (za_tf0 fun c => hn c.1).symm I)))⟩
    · exact ⟨vp_in_nI hp (by decide), nm_e (nm_r (nI_1 p) (K _ (zy_MU (za_tf0 fun c => hn c.2).symm I)))⟩
    · exact ⟨vp_in_nI hp (by decide), nm_e (nm_r (nI_1 p) (K _ (zy_MU (za_tf1 ⟨hy', hz'⟩).symm I)))⟩
end
end
section
/-! the reference: hull and the questions -/
def zy_Gr (Q : Nat → Prop) (i j n : Nat) (r : Int32) : Prop := (r = -100 ∧ ∀ p, p < n → ¬ Q p) ∨ ((∃ p, p < n ∧ Q p ∧ r.toInt = za_pv p i - za_pv p j) ∧ ∀ p, p < n → Q p → za_pv p i - za_pv p j ≤ r.toInt)
theorem zy_h100 : (-100 : Int32).toInt = -100 := by decide
theorem zy_GrN {Q : Nat → Prop} {i j n : Nat} {r : Int32} (hn : ¬ Q n) (g : zy_Gr Q i j n r) : zy_Gr Q i j (n + 1) r := by
  rcases g with ⟨e, a⟩ | ⟨⟨p, hp, a, b⟩, c⟩
  · refine Or.inl ⟨e, fun p hp => ?_⟩
    by_cases f : p = n
    · subst f; exact hn
    · exact a p (by omega)
  · refine Or.inr ⟨⟨p, by omega, a, b⟩, fun q hq d => ?_⟩
    by_cases f : q = n
    · subst f; exact absurd d hn
    · exact c q (by omega) d
theorem zy_GrL {Q : Nat → Prop} {i j n : Nat} {r : Int32} (hn : n < 2197) (h : za_pv n i - za_pv n j ≤ r.toInt) (g : zy_Gr Q i j n r) : zy_Gr Q i j (n + 1) r := by
  rcases g with ⟨e, a⟩ | ⟨⟨p, hp, a, b⟩, c⟩
  · subst e
    rw [zy_h100] at h
    have b1 := za_pvb hn i
    have b2 := za_pvb hn j
    omega
  · refine Or.inr ⟨⟨p, by omega, a, b⟩, fun q hq d => ?_⟩
    by_cases f : q = n
    · subst f; exact h
    · exact c q (by omega) d
theorem zy_GrG {Q : Nat → Prop} {i j n : Nat} {r r' : Int32} (hy : Q n) (h : r.toInt < za_pv n i - za_pv n j) (e : r'.toInt = za_pv n i - za_pv n j) (g : zy_Gr Q i j n r) : zy_Gr Q i j (n + 1) r' := by
  refine Or.inr ⟨⟨n, by omega, hy, e⟩, fun q hq d => ?_⟩
  by_cases f : q = n
  · subst f; omega
  · rcases g with ⟨_, a⟩ | ⟨_, c⟩
    · exact absurd d (a q (by omega))
    · have := c q (by omega) d
      omega
section
variable {mark made : Nat → Int32} {M : Nat → Nat → Prop}
theorem zy_great {Q : Nat → Prop} (m : zy_M Q 2197 made) {post : Int32 → Prop} {i j : Nat} (hi : i < 4) (hj : j < 4) (h : ∀ r, zy_Gr Q i j 2197 r → post r) : wpY_greatest post (mark, made) (nI i) (nI j) := by
  show ∃ n, wY_greatest_6 post (nI i) (nI j) mark made n (-100) (nI 0)
  refine loop_0 (fun n p r => wY_greatest_6 post (nI i) (nI j) mark made n r (nI p)) (fun p r => zy_Gr Q i j p r) 2197 (-100) (Or.inl ⟨rfl, fun p hp => absurd hp (by omega)⟩) (fun n r I => ?_) (fun n p r hp I K => ?_)
  · exact br_t (nI_le (Nat.le_refl _) (by decide)) (h r I)
  · refine br_f (nI_ge (b := 2197) hp (by decide)) ⟨vp_in_nI hp (by decide), ?_⟩
    rw [nI_clamp (by omega)]
    refine za_brz (m p hp) (fun hn => ?_) (fun hy => ?_)
    · exact nm_r (nI_1 p) (K _ (zy_GrN hn I))
    · refine zy_val hp hi ?_
      refine zy_val hp hj ?_
      have b1 := za_vnle (k := i) hp
      have b2 := za_vnle (k := j) hp
      have e : (nI (za_vn p i) - nI (za_vn p j)).toInt = za_pv p i - za_pv p j := pk_sub_toInt (by omega) (by omega)
      refine za_brle e rfl (fun a => ?_) (fun a => ?_)
      · exact nm_r (nI_1 p) (K _ (zy_GrL hp a I))
      · exact nm_e (nm_r (nI_1 p) (K _ (zy_GrG hy a e I)))
theorem zy_drop (s : zy_S M mark) {post : SY → Prop} {y i j : Nat} (hy : y < 3) (hi : i < 4) (hj : j < 4) {c : Int32} (h : ∀ mark', zy_S (zy_put M y (fun p => M y p ∧ za_pv p i - za_pv p j ≤ c.toInt)) mark' → post (mark', made)) : wpY_drop post (mark, made) (nI y) (nI i) (nI j) c := by
  show ∃ n, wY_drop_3 post (nI y) (nI i) (nI j) c n (nI 0) mark made
  refine loop_0 (fun n p mark => wY_drop_3 post (nI y) (nI i) (nI j) c n (nI p) mark made) (fun p mark => zy_S (zy_pt M y (fun p => M y p ∧ za_pv p i - za_pv p j ≤ c.toInt) p) mark) 2197 mark (zy_pt0 s) (fun n mk I => ?_) (fun n p mk hp I K => ?_)
  · exact br_t (nI_le (Nat.le_refl _) (by decide)) (h mk (zy_ptE I))
  · refine br_f (nI_ge (b := 2197) hp (by decide)) ?_
    refine zy_val hp hi ?_
    refine zy_val hp hj ?_
    have b1 := za_vnle (k := i) hp
    have b2 := za_vnle (k := j) hp
    have e : (nI (za_vn p i) - nI (za_vn p j)).toInt = za_pv p i - za_pv p j := pk_sub_toInt (by omega) (by omega)
    rw [za_im, nI_clamp (by omega)]
    refine za_brle e rfl (fun a => ?_) (fun a => ?_)
    · exact nm_r (nI_1 p) (K _ (zy_ptK ⟨fun b => b.1, fun b => ⟨b, a⟩⟩ I))
    · exact ⟨vp_in_nI (by omega) (by decide), nm_e (nm_r (nI_1 p) (K _ (zy_ptU hy hp (za_tf0 (fun b => by omega)).symm I)))⟩
def zy_hk (Q : Nat → Prop) (k p : Nat) : Prop := ∀ e, e < k → ∃ r, r < 2197 ∧ Q r ∧ za_pv p (e / 4) - za_pv p (e % 4) ≤ za_pv r (e / 4) - za_pv r (e % 4)
theorem zy_hkE (Q : Nat → Prop) (p : Nat) : zy_hk Q 16 p ↔ za_HU Q p := by
  constructor
  · intro h i j hi hj
    have a := h (4 * i + j) (by omega)
    rw [show (4 * i + j) / 4 = i by omega, show (4 * i + j) % 4 = j by omega] at a
    exact a
  · intro h e he
    exact h (e / 4) (e % 4) (by omega) (by omega)
theorem zy_hkS {Q : Nat → Prop} {k : Nat} {r : Int32} (g : zy_Gr Q (k / 4) (k % 4) 2197 r) {p : Nat} (hp : p < 2197) : (zy_hk Q k p ∧ za_pv p (k / 4) - za_pv p (k % 4) ≤ r.toInt) ↔ zy_hk Q (k + 1) p := by
  constructor
  · intro ⟨a, b⟩ e he
    by_cases f : e = k
    · subst f
      rcases g with ⟨er, _⟩ | ⟨⟨q, hq, c, d⟩, _⟩
      · subst er
        rw [zy_h100] at b
        have b1 := za_pvb hp (e / 4)
        have b2 := za_pvb hp (e % 4)
        omega
      · exact ⟨q, hq, c, by omega⟩
    · exact a e (by omega)
  · intro a
    refine ⟨fun e he => a e (by omega), ?_⟩
    obtain ⟨q, hq, b, c⟩ := a k (by omega)
    rcases g with ⟨_, d⟩ | ⟨_, d⟩
    · exact absurd b (d q hq)
    · have := d q hq b
      omega
theorem zy_putE {z : Nat} {Q : Nat → Prop} : zy_put M z Q z = Q := by funext p; unfold zy_put; rw [if_pos rfl]
theorem zy_put2 {z : Nat} {Q R R' : Nat → Prop} (h : ∀ p, p < 2197 → (R p ↔ R' p)) (s : zy_S (zy_put (zy_put M z Q) z R) mark) : zy_S (zy_put M z R') mark :=
  zy_Sc (fun w p _ hp => by
    unfold zy_put
    by_cases e : w = z
    · rw [if_pos e, if_pos e]; exact h p hp
    · rw [if_neg e, if_neg e, if_neg e]) s
theorem zy_hull3 {post : Int32 → SY → Prop} {y : Nat} (hy : y < 3) {Q : Nat → Prop} (m : zy_M Q 2197 made) (s : zy_S (zy_put M y (fun _ => True)) mark) (h : ∀ mark', zy_S (zy_put M y (za_HU Q)) mark' → post (za_tf (zy_some (za_HU Q))) (mark', made)) : ∃ n, wY_hull_104 post (nI y) n 0 mark made := by
  refine loop_0 (fun n k mark => wY_hull_104 post (nI y) n (nI k) mark made) (fun k mark => zy_S (zy_put M y (zy_hk Q k)) mark) 16 mark ?_ (fun n mk I => ?_) (fun n k mk hk I K => ?_)
  · exact zy_Sc (fun w p _ _ => by
      unfold zy_put
      by_cases e : w = y
      · rw [if_pos e, if_pos e]; exact ⟨fun _ e he => absurd he (by omega), fun _ => trivial⟩
      · rw [if_neg e, if_neg e]) s
  · refine br_t (nI_le (Nat.le_refl _) (by decide)) ?_
    have e : zy_hk Q 16 = za_HU Q := by funext p; exact propext (zy_hkE Q p)
    rw [e] at I
    refine zy_some' I hy ?_
    rw [zy_putE]
    exact h mk I
  · refine br_f (nI_ge (b := 16) hk (by decide)) ⟨by decide, ?_⟩
    refine nm_r (za_d4 (by omega)) ⟨by decide, ?_⟩
    refine nm_r (za_r4 (by omega)) ?_
    refine zy_great m (by omega) (by omega) fun r g => ?_
    refine zy_drop I hy (by omega) (by omega) fun mk' S => ?_
    refine nm_r (nI_1 k) (K mk' ?_)
    rw [zy_putE] at S
    exact zy_put2 (fun p hp => zy_hkS g hp) S
theorem zy_hull (s : zy_S M mark) {post : Int32 → SY → Prop} {y z : Nat} (hy : y < 3) (hz : z < 3) (h : ∀ v', zy_S (zy_put M y (za_HU (fun p => M y p ∨ M z p))) v'.1 → post (za_tf (zy_some (za_HU (fun p => M y p ∨ M z p)))) v') : wpY_hull post (mark, made) (nI y) (nI z) := by
  unfold wpY_hull
  dsimp only
  refine zy_bz hy ?_
  refine br_t rfl ?_
  refine zy_bz hz ?_
  refine br_t rfl ?_
  refine loop_0 (fun n p made => wY_hull_20 post (nI y) (nI z) n (nI p) mark made) (fun p made => zy_M (fun p => M y p ∨ M z p) p made) 2197 made zy_M0 (fun n md I => ?_) (fun n p md hp I K => ?_)
  · refine br_t (nI_le (Nat.le_refl _) (by decide)) ?_
    refine loop_0 (fun n i mark => wY_hull_76 post (nI y) n (nI i) mark md) (fun i mark => zy_S (zy_pt M y (fun _ => True) i) mark) 2197 mark (zy_pt0 s) (fun n mk I2 => ?_) (fun n i mk hi I2 K2 => ?_)
    · exact br_t (nI_le (Nat.le_refl _) (by decide)) (zy_hull3 hy I (zy_ptE I2) fun mk' S => h (mk', md) S)
    · refine br_f (nI_ge (b := 2197) hi (by decide)) ?_
      rw [za_im, nI_clamp (by omega)]
      exact ⟨vp_in_nI (by omega) (by decide), nm_e (nm_r (nI_1 i) (K2 _ (zy_ptU hy hi (za_tf1 trivial).symm I2)))⟩
  · refine br_f (nI_ge (b := 2197) hp (by decide)) ?_
    rw [za_im, za_im, nI_clamp (by omega), nI_clamp (by omega), nI_clamp (by omega)]
    refine ⟨vp_in_nI (by omega) (by decide), za_brz (s y p hy hp) (fun hn => ⟨vp_in_nI (by omega) (by decide), za_brz (s z p hz hp) (fun hn' => ?_) (fun hz' => ?_)⟩) (fun hy' => ?_)⟩
    · exact ⟨vp_in_nI hp (by decide), nm_e (nm_r (nI_1 p) (K _ (zy_MU (za_tf0 (fun c => c.elim hn hn')).symm I)))⟩
    · exact ⟨vp_in_nI hp (by decide), nm_e (nm_r (nI_1 p) (K _ (zy_MU (za_tf1 (Or.inr hz')).symm I)))⟩
    · exact ⟨vp_in_nI hp (by decide), nm_e (nm_r (nI_1 p) (K _ (zy_MU (za_tf1 (Or.inl hy')).symm I)))⟩
theorem zy_empty (s : zy_S M mark) {post : Int32 → Prop} {z : Nat} (hz : z < 3) (h : post (1 - za_tf (zy_some (M z)))) : wpY_empty post (mark, made) (nI z) := by
  unfold wpY_empty
  dsimp only
  refine zy_bz hz ?_
  refine br_t rfl ?_
  exact zy_some' s hz h
theorem zy_widest (s : zy_S M mark) {post : Int32 → SY → Prop} {z i j : Nat} (hz : z < 3) (hi : i < 4) (hj : j < 4) (hij : i ≠ j) (h1 : (∀ p, p < 2197 → ¬ M z p) → ∀ md, post (-300) (mark, md)) (h2 : ∀ r : Int32, ∀ md, (∃ p, p < 2197 ∧ M z p ∧ r.toInt = za_pv p i - za_pv p j) → (∀ p, p < 2197 → M z p → za_pv p i - za_pv p j ≤ r.toInt) → post r (mark, md)) : wpY_widest post (mark, made) (nI z) (nI i) (nI j) := by
  unfold wpY_widest
  dsimp only
  refine zy_bz hz ?_
  refine br_t rfl ?_
  refine zy_bp hi hj hij ?_
  refine br_t rfl ?_
  refine loop_0 (fun n p made => wY_widest_27 post (nI z) (nI i) (nI j) n (nI p) mark made) (fun p made => zy_M (M z) p made) 2197 made zy_M0 (fun n md I => ?_) (fun n p md hp I K => ?_)
  · refine br_t (nI_le (Nat.le_refl _) (by decide)) ?_
    refine zy_great I hi hj fun r g => ?_
    rcases g with ⟨e, a⟩ | ⟨a, b⟩
    · exact br_t e (h1 a md)
    · refine br_f (fun e => ?_) (h2 r md a b)
      obtain ⟨p, hp, _, c⟩ := a
      rw [e, zy_h100] at c
      have b1 := za_pvb hp i
      have b2 := za_pvb hp j
      omega
  · refine br_f (nI_ge (b := 2197) hp (by decide)) ?_
    rw [za_im, nI_clamp (by omega), nI_clamp (by omega), s z p hz hp, za_nt]
    exact ⟨vp_in_nI (by omega) (by decide), vp_in_nI hp (by decide), nm_e (nm_r (nI_1 p) (K _ (zy_MU rfl I)))⟩
theorem zy_has (s : zy_S M mark) {post : Int32 → Prop} {z a b c : Nat} (hz : z < 3) (ha : a ≤ 12) (hb : b ≤ 12) (hc : c ≤ 12) (h : post (za_tf (M z (169 * a + 13 * b + c)))) : wpY_has post (mark, made) (nI z) (nI a) (nI b) (nI c) := by
  unfold wpY_has
  dsimp only
  refine zy_bz hz ?_
  have l : ∀ k, k ≤ 12 → ¬ (12 : Int32) < nI k := fun k hk => by rw [show (12 : Int32) = nI 12 from rfl, nI_ltI (by omega) (by omega)]; omega
  refine br_t rfl (br_f (nI_pos (by omega)) (br_f (l a ha) (br_f (nI_pos (by omega)) (br_f (l b hb) (br_f (nI_pos (by omega)) (br_t (nI_le (b := 12) hc (by decide)) ?_))))))
  have e : (((nI z * 2197 + 169 * nI a) + 13 * nI b) + nI c) = nI (z * 2197 + (169 * a + 13 * b + c)) := by
    show (((nI z * nI 2197 + nI 169 * nI a) + nI 13 * nI b) + nI c) = _
    rw [pk_mul, pk_mul, pk_mul, nI_add, nI_add, nI_add]
    exact congrArg nI (by omega)
  rw [e, nI_clamp (by omega)]
  refine ⟨vp_in_nI (by omega) (by decide), za_brz (s z _ hz (by omega)) (fun hn => ?_) (fun hy => ?_)⟩
  · rw [za_tf0 hn] at h; exact h
  · rw [za_tf1 hy] at h; exact h
theorem zy_hasN {post : Int32 → Prop} {z : Nat} {a b c : Int32} (hz : z < 3) (hx : a < 0 ∨ 12 < a ∨ b < 0 ∨ 12 < b ∨ c < 0 ∨ 12 < c) (h : post 0) : wpY_has post (mark, made) (nI z) a b c := by
  unfold wpY_has
  dsimp only
  refine zy_bz hz ?_
  refine br_t rfl (br_c (fun _ => h) fun n1 => br_c (fun _ => h) fun n2 => br_c (fun _ => h) fun n3 => br_c (fun _ => h) fun n4 => br_c (fun _ => h) fun n5 => br_c (fun n6 => ?_) (fun _ => h))
  rcases hx with q | q | q | q | q | q
  · exact absurd q n1
  · exact absurd q n2
  · exact absurd q n3
  · exact absurd q n4
  · exact absurd q n5
  · exact absurd n6 (Int32.not_le.mpr q)
end
end
section
/-! counting; the reference: size, next, within, touch, its constructor -/
noncomputable def za_ct (P : Nat → Prop) : Nat → Nat
  | 0 => 0
  | n + 1 => za_ct P n + @ite Nat (P n) (Classical.propDecidable (P n)) 1 0
theorem za_ct1 {P : Nat → Prop} {n : Nat} (h : P n) : za_ct P (n + 1) = za_ct P n + 1 := by
  show za_ct P n + @ite Nat (P n) (Classical.propDecidable (P n)) 1 0 = _
  rw [if_pos h]
theorem za_ct0 {P : Nat → Prop} {n : Nat} (h : ¬ P n) : za_ct P (n + 1) = za_ct P n := by
  show za_ct P n + @ite Nat (P n) (Classical.propDecidable (P n)) 1 0 = _
  rw [if_neg h]
  rfl
theorem za_ctE {P : Nat → Prop} {n : Nat} : ∀ d, (∀ p, n ≤ p → p < n + d → ¬ P p) → za_ct P (n + d) = za_ct P n
  | 0, _ => rfl
  | d + 1, h => (za_ct0 (h (n + d) (by omega) (by omega))).trans (za_ctE d fun p a b => h p a (by omega))
theorem za_ctA {P : Nat → Prop} {n : Nat} : ∀ d, (∀ p, n ≤ p → p < n + d → P p) → za_ct P (n + d) = za_ct P n + d
  | 0, _ => rfl
  | d + 1, h => by
    show za_ct P (n + d + 1) = _
    rw [za_ct1 (h (n + d) (by omega) (by omega)), za_ctA d fun p a b => h p a (by omega)]
    omega
/-- readings n .. n + 12 of which those from lo to hi count -/
theorem za_ctI {P : Nat → Prop} {n : Nat} {lo hi : Nat} (hl : lo ≤ hi + 1) (hh : hi ≤ 12) (h : ∀ c, c < 13 → (P (n + c) ↔ lo ≤ c ∧ c ≤ hi)) : za_ct P (n + 13) = za_ct P n + (hi + 1 - lo) := by
  have a : za_ct P (n + lo) = za_ct P n := za_ctE lo fun p a b c => by
    have e := (h (p - n) (by omega)).mp (by rw [show n + (p - n) = p by omega]; exact c)
    omega
  have b : za_ct P (n + lo + (hi + 1 - lo)) = za_ct P (n + lo) + (hi + 1 - lo) := za_ctA _ fun p a b => by
    have e := (h (p - n) (by omega)).mpr (by omega)
    rw [show n + (p - n) = p by omega] at e
    exact e
  have c : za_ct P (n + lo + (hi + 1 - lo) + (12 - hi)) = za_ct P (n + lo + (hi + 1 - lo)) := za_ctE _ fun p a b c => by
    have e := (h (p - n) (by omega)).mp (by rw [show n + (p - n) = p by omega]; exact c)
    omega
  rw [show n + lo + (hi + 1 - lo) + (12 - hi) = n + 13 by omega, b, a] at c
  exact c
theorem za_ctN {P : Nat → Prop} {n : Nat} (h : ∀ c, c < 13 → ¬ P (n + c)) : za_ct P (n + 13) = za_ct P n :=
  za_ctE 13 fun p a b c => h (p - n) (by omega) (by rw [show n + (p - n) = p by omega]; exact c)
def zy_Nx (Q : Nat → Prop) (a : Int) (r : Int32) : Prop := (∃ p : Nat, p < 2197 ∧ a < (p : Int) ∧ Q p ∧ r = nI p ∧ ∀ q : Nat, q < p → a < (q : Int) → ¬ Q q) ∨ (r = -2 ∧ ∀ q : Nat, q < 2197 → a < (q : Int) → ¬ Q q)
theorem zy_NxU {Q : Nat → Prop} {a : Int} {r r' : Int32} (h : zy_Nx Q a r) (h' : zy_Nx Q a r') : r' = r := by
  rcases h with ⟨p, p1, p2, p3, p4, p5⟩ | ⟨p1, p2⟩
  · rcases h' with ⟨q, q1, q2, q3, q4, q5⟩ | ⟨q1, q2⟩
    · have e : p = q := by
        by_cases l : p < q
        · exact absurd p3 (q5 p l p2)
        · by_cases l2 : q < p
          · exact absurd q3 (p5 q l2 q2)
          · omega
      rw [p4, q4, e]
    · exact absurd p3 (q2 p p1 p2)
  · rcases h' with ⟨q, q1, q2, q3, q4, q5⟩ | ⟨q1, q2⟩
    · exact absurd q3 (p2 q q1 q2)
    · rw [p1, q1]
section
variable {mark made : Nat → Int32} {M : Nat → Nat → Prop}
theorem zy_size (s : zy_S M mark) {post : Int32 → Prop} {z : Nat} (hz : z < 3) (h : post (nI (za_ct (M z) 2197))) : wpY_size post (mark, made) (nI z) := by
  unfold wpY_size
  dsimp only
  refine zy_bz hz ?_
  refine br_t rfl ?_
  refine loop_0 (fun n p x => wY_size_14 post (nI z) mark made n x (nI p)) (fun p x => x = nI (za_ct (M z) p)) 2197 0 rfl (fun n x I => ?_) (fun n p x hp I K => ?_)
  · subst I
    exact br_t (nI_le (Nat.le_refl _) (by decide)) h
  · subst I
    refine br_f (nI_ge (b := 2197) hp (by decide)) ?_
    rw [za_im, nI_clamp (by omega)]
    refine ⟨vp_in_nI (by omega) (by decide), za_brz (s z p hz hp) (fun hn => ?_) (fun hy => ?_)⟩
    · exact nm_r (nI_1 p) (K _ (by rw [za_ct0 hn]))
    · exact nm_e (nm_r (nI_1 p) (K _ (by rw [za_ct1 hy, nI_1])))
theorem zy_next (s : zy_S M mark) {post : Int32 → Prop} {z : Nat} (hz : z < 3) {a : Int32} (h : ∀ r, zy_Nx (M z) a.toInt r → post r) : wpY_next post (mark, made) (nI z) a := by
  unfold wpY_next
  dsimp only
  refine zy_bz hz ?_
  refine br_t rfl ?_
  refine loop_0 (fun n p (_ : Unit) => wY_next_12 post (nI z) a mark made n (nI p)) (fun p _ => ∀ q : Nat, q < p → a.toInt < (q : Int) → ¬ M z q) 2197 () (fun q hq => absurd hq (by omega)) (fun n _ I => ?_) (fun n p _ hp I K => ?_)
  · exact br_t (nI_le (Nat.le_refl _) (by decide)) (h _ (Or.inr ⟨rfl, I⟩))
  · refine br_f (nI_ge (b := 2197) hp (by decide)) ?_
    refine za_brle (za_ti (by omega)) rfl (fun l => ?_) (fun l => ?_)
    · refine nm_r (nI_1 p) (K () fun q hq hl => ?_)
      exact I q (by omega) hl
    · rw [za_im, nI_clamp (by omega)]
      refine ⟨vp_in_nI (by omega) (by decide), za_brz (s z p hz hp) (fun hn => ?_) (fun hy => ?_)⟩
      · refine nm_r (nI_1 p) (K () fun q hq hl => ?_)
        by_cases e : q = p
        · subst e; exact hn
        · exact I q (by omega) hl
      · exact h _ (Or.inl ⟨p, hp, l, hy, rfl, I⟩)
theorem zy_within (s : zy_S M mark) {post : Int32 → Prop} {y z : Nat} (hy : y < 3) (hz : z < 3) (h : post (za_tf (∀ p, p < 2197 → M y p → M z p))) : wpY_within post (mark, made) (nI y) (nI z) := by
  unfold wpY_within
  dsimp only
  refine zy_bz hy ?_
  refine br_t rfl ?_
  refine zy_bz hz ?_
  refine br_t rfl ?_
  refine loop_0 (fun n p (_ : Unit) => wY_within_20 post (nI y) (nI z) mark made n (nI p)) (fun p _ => ∀ q, q < p → M y q → M z q) 2197 () (fun q hq => absurd hq (by omega)) (fun n _ I => ?_) (fun n p _ hp I K => ?_)
  · refine br_t (nI_le (Nat.le_refl _) (by decide)) ?_
    rw [za_tf1 I] at h
    exact h
  · refine br_f (nI_ge (b := 2197) hp (by decide)) ?_
    have N : (M y p → M z p) → ∀ q, q < p + 1 → M y q → M z q := fun f q hq b => by
      by_cases e : q = p
      · subst e; exact f b
      · exact I q (by omega) b
    rw [za_im, za_im, nI_clamp (by omega), nI_clamp (by omega)]
    refine ⟨vp_in_nI (by omega) (by decide), za_brz (s y p hy hp) (fun hn => ?_) (fun hy' => ⟨vp_in_nI (by omega) (by decide), za_brz (s z p hz hp) (fun hn => ?_) (fun hz' => ?_)⟩)⟩
    · exact nm_r (nI_1 p) (K () (N fun b => absurd b hn))
    · rw [za_tf0 fun f => hn (f p hp hy')] at h
      exact h
    · exact nm_r (nI_1 p) (K () (N fun _ => hz'))
theorem zy_touch (s : zy_S M mark) {post : Int32 → Prop} {y z : Nat} (hy : y < 3) (hz : z < 3) (h : post (za_tf (∃ p, p < 2197 ∧ M y p ∧ M z p))) : wpY_touch post (mark, made) (nI y) (nI z) := by
  unfold wpY_touch
  dsimp only
  refine zy_bz hy ?_
  refine br_t rfl ?_
  refine zy_bz hz ?_
  refine br_t rfl ?_
  refine loop_0 (fun n p (_ : Unit) => wY_touch_20 post (nI y) (nI z) mark made n (nI p)) (fun p _ => ∀ q, q < p → ¬ (M y q ∧ M z q)) 2197 () (fun q hq => absurd hq (by omega)) (fun n _ I => ?_) (fun n p _ hp I K => ?_)
  · refine br_t (nI_le (Nat.le_refl _) (by decide)) ?_
    rw [za_tf0 fun ⟨q, a, b⟩ => I q a b] at h
    exact h
  · refine br_f (nI_ge (b := 2197) hp (by decide)) ?_
    have N : (¬ (M y p ∧ M z p)) → ∀ q, q < p + 1 → ¬ (M y q ∧ M z q) := fun f q hq => by
      by_cases e : q = p
      · subst e; exact f
      · exact I q (by omega)
    rw [za_im, za_im, nI_clamp (by omega), nI_clamp (by omega)]
    refine ⟨vp_in_nI (by omega) (by decide), za_brz (s y p hy hp) (fun hn => ?_) (fun hy' => ⟨vp_in_nI (by omega) (by decide), za_brz (s z p hz hp) (fun hn => ?_) (fun hz' => ?_)⟩)⟩
    · exact nm_r (nI_1 p) (K () (N fun b => hn b.1))
    · exact nm_r (nI_1 p) (K () (N fun b => hn b.2))
    · rw [za_tf1 ⟨p, hp, hy', hz'⟩] at h
      exact h
theorem zy_init {post : SY → Prop} (h : ∀ v', zy_S (fun _ _ => True) v'.1 → post v') : wpY_init post := by
  unfold wpY_init
  refine loop_0 (fun n i mark => wY_init_24 post n (nI i) mark (fun _ => 0)) (fun i (mark : Nat → Int32) => ∀ q, q < i → mark q = 1) 6591 (fun _ => 0) (fun q hq => absurd hq (by omega)) (fun n mk I => ?_) (fun n i mk hi I K => ?_)
  · refine br_t (nI_le (Nat.le_refl _) (by decide)) (h (mk, _) fun z p hz hp => ?_)
    exact (I (z * 2197 + p) (by omega)).trans (za_tf1 trivial).symm
  · refine br_f (nI_ge (b := 6591) hi (by decide)) ⟨vp_in_nI hi (by decide), ?_⟩
    rw [nI_clamp (by omega)]
    refine nm_e (nm_r (nI_1 i) (K _ fun q hq => ?_))
    by_cases e : q = i
    · subst e; rw [pk_us]; rfl
    · rw [pk_un e]; exact I q (by omega)
end
end
section
/-! the component: its tables as Int, loops that fill cells -/
def zx_T (b : Nat → Int32) (z : Nat) : Nat → Nat → Int := fun i j => (b (16 * z + 4 * i + j)).toInt
def zx_W (w : Nat → Int32) : Nat → Nat → Int := fun i j => (w (4 * i + j)).toInt
def zx_F (z : Nat) (b b' : Nat → Int32) : Prop := ∀ w e, w < 3 → e < 16 → w ≠ z → b' (16 * w + e) = b (16 * w + e)
def zx_Z (Q : Nat → Prop) (b no : Nat → Int32) (z : Nat) : Prop := (no z = 1 ∧ ∀ p, p < 2197 → ¬ Q p) ∨ (no z = 0 ∧ za_G (zx_T b z) ∧ ∀ p, p < 2197 → (Q p ↔ za_Sat (zx_T b z) (za_pv p)))
def zx_Ok (M : Nat → Nat → Prop) (b no : Nat → Int32) : Prop := ∀ z, z < 3 → zx_Z (M z) b no z
theorem zx_F0 {z : Nat} {b : Nat → Int32} : zx_F z b b := fun _ _ _ _ _ => rfl
theorem zx_FU {z k : Nat} {b b' : Nat → Int32} {v : Int32} (hk : k < 16) (h : zx_F z b b') : zx_F z b (upd b' (16 * z + k) v) := by
  intro w e hw he hwz
  rw [pk_un (by omega)]
  exact h w e hw he hwz
theorem zx_FT {z w : Nat} {b b' : Nat → Int32} (h : zx_F z b b') (hw : w < 3) (hwz : w ≠ z) {p q : Nat} (hp : p < 4) (hq : q < 4) : zx_T b w p q = zx_T b' w p q := by
  unfold zx_T
  rw [Nat.add_assoc, h w (4 * p + q) hw (by omega) hwz]
theorem zx_TU {b : Nat → Int32} {z k : Nat} {v : Int32} {p q : Nat} (hq : q < 4) : zx_T (upd b (16 * z + k) v) z p q = if 4 * p + q = k then v.toInt else zx_T b z p q := by
  unfold zx_T
  by_cases e : 4 * p + q = k
  · rw [if_pos e, show 16 * z + 4 * p + q = 16 * z + k by omega, pk_us]
  · rw [if_neg e, pk_un (by omega)]
theorem zx_WU {w : Nat → Int32} {k : Nat} {v : Int32} {p q : Nat} : zx_W (upd w k v) p q = if 4 * p + q = k then v.toInt else zx_W w p q := by
  unfold zx_W
  by_cases e : 4 * p + q = k
  · rw [if_pos e, e, pk_us]
  · rw [if_neg e, pk_un e]
theorem zx_put {M : Nat → Nat → Prop} {b b' no no' : Nat → Int32} {z : Nat} {Q : Nat → Prop} (h : zx_Ok M b no) (f : zx_F z b b') (hn : ∀ w, w < 3 → w ≠ z → no' w = no w) (q : zx_Z Q b' no' z) : zx_Ok (zy_put M z Q) b' no' := by
  intro w hw
  by_cases e : w = z
  · subst e
    rw [zy_putE]
    exact q
  · have e2 : zy_put M z Q w = M w := by funext p; unfold zy_put; rw [if_neg e]
    rw [e2]
    have t := fun p q hp hq => zx_FT (p := p) (q := q) f hw e hp hq
    rcases h w hw with ⟨a, c⟩ | ⟨a, c, d⟩
    · exact Or.inl ⟨by rw [hn w hw e, a], c⟩
    · refine Or.inr ⟨by rw [hn w hw e, a], za_Gc t c, fun p hp => (d p hp).trans ⟨za_satt t, za_satt fun p q hp hq => (t p q hp hq).symm⟩⟩
theorem zx_Zc {Q Q' : Nat → Prop} {b no : Nat → Int32} {z : Nat} (h : ∀ p, p < 2197 → (Q p ↔ Q' p)) (q : zx_Z Q b no z) : zx_Z Q' b no z := by
  rcases q with ⟨a, c⟩ | ⟨a, c, d⟩
  · exact Or.inl ⟨a, fun p hp x => c p hp ((h p hp).mpr x)⟩
  · exact Or.inr ⟨a, c, fun p hp => (h p hp).symm.trans (d p hp)⟩
theorem zx_fill (W : Nat → Nat → (Nat → Int32) → Prop) (z : Nat) (b g : Nat → Int32)
    (hx : ∀ n b', zx_F z b b' → (∀ e, e < 16 → b' (16 * z + e) = g e) → W (n + 1) 16 b')
    (hs : ∀ n k b', k < 16 → zx_F z b b' → (∀ w, w < 3 → b' (16 * w + k) = b (16 * w + k)) → W n (k + 1) (upd b' (16 * z + k) (g k)) → W (n + 1) k b') (hz : z < 3) : ∃ n, W n 0 b := by
  refine loop_0 W (fun k b' => zx_F z b b' ∧ ∀ e, e < 16 → b' (16 * z + e) = if e < k then g e else b (16 * z + e)) 16 b ⟨zx_F0, fun e _ => by rw [if_neg (by omega)]⟩ (fun n b' I => hx n b' I.1 fun e he => ?_) (fun n k b' hk I K => hs n k b' hk I.1 (fun w hw => ?_) (K _ ⟨zx_FU hk I.1, fun e he => ?_⟩))
  · rw [I.2 e he, if_pos he]
  · by_cases e : w = z
    · subst e
      rw [I.2 k hk, if_neg (by omega)]
    · exact I.1 w k hw hk e
  · by_cases f : e = k
    · subst f
      rw [pk_us, if_pos (by omega)]
    · rw [pk_un (by omega), I.2 e he]
      by_cases l : e < k
      · rw [if_pos l, if_pos (by omega)]
      · rw [if_neg l, if_neg (by omega)]
theorem zx_fillw (W : Nat → Nat → (Nat → Int32) → Prop) (b g : Nat → Int32)
    (hx : ∀ n b', (∀ e, e < 16 → b' e = g e) → W (n + 1) 16 b')
    (hs : ∀ n k b', k < 16 → (∀ e, e < 16 → b' e = if e < k then g e else b e) → W n (k + 1) (upd b' k (g k)) → W (n + 1) k b') : ∃ n, W n 0 b := by
  refine loop_0 W (fun k b' => ∀ e, e < 16 → b' e = if e < k then g e else b e) 16 b (fun e _ => by rw [if_neg (by omega)]) (fun n b' I => hx n b' fun e he => ?_) (fun n k b' hk I K => hs n k b' hk I (K _ fun e he => ?_))
  · rw [I e he, if_pos he]
  · by_cases f : e = k
    · subst f
      rw [pk_us, if_pos (by omega)]
    · rw [pk_un (by omega), I e he]
      by_cases l : e < k
      · rw [if_pos l, if_pos (by omega)]
      · rw [if_neg l, if_neg (by omega)]
section
variable {b no w : Nat → Int32}
theorem zx_iz {post : Int32 → Prop} {z : Nat} (hz : z < 3) (h : post 1) : wpX_isZone post (nI z) :=
  br_f (nI_pos (by omega)) (br_f (by rw [show (2 : Int32) = nI 2 from rfl, nI_ltI (by omega) (by omega)]; omega) h)
theorem zx_izN {post : Int32 → Prop} {x : Int32} (hx : x < 0 ∨ 2 < x) (h : post 0) : wpX_isZone post x :=
  br_c (fun _ => h) (fun n => br_t (hx.resolve_left n) h)
theorem zx_ic {post : Int32 → Prop} {k : Nat} (h1 : 1 ≤ k) (hk : k < 4) (h : post 1) : wpX_isClock post (nI k) :=
  br_f (by rw [show (1 : Int32) = nI 1 from rfl, nI_ltI (by omega) (by omega)]; omega) (br_f (by rw [show (3 : Int32) = nI 3 from rfl, nI_ltI (by omega) (by omega)]; omega) h)
theorem zx_ip {post : Int32 → Prop} {i j : Nat} (hi : i < 4) (hj : j < 4) (hij : i ≠ j) (h : post 1) : wpX_isPair post (nI i) (nI j) :=
  br_f (nI_pos (by omega)) (br_f (by rw [show (3 : Int32) = nI 3 from rfl, nI_ltI (by omega) (by omega)]; omega) (br_f (nI_pos (by omega)) (br_f (by rw [show (3 : Int32) = nI 3 from rfl, nI_ltI (by omega) (by omega)]; omega) (br_f (by rw [nI_eq (by omega) (by omega)]; exact hij) h))))
theorem zx_left {Q : Nat → Prop} {post : Int32 → Prop} {z : Nat} (hz : z < 3) (q : zx_Z Q b no z) (h : post (za_tf (zy_some Q))) : wpX_left post (b, no, w) (nI z) := by
  unfold wpX_left
  dsimp only
  rw [nI_clamp (by omega)]
  refine ⟨vp_in_nI hz (by decide), ?_⟩
  rcases q with ⟨a, c⟩ | ⟨a, c, d⟩
  · refine br_f (by rw [a]; exact za_10) ?_
    rw [za_tf0 (fun ⟨p, e, f⟩ => c p e f)] at h
    exact h
  · refine br_t a ?_
    obtain ⟨p, e, f⟩ := za_ne c
    rw [za_tf1 ⟨p, e, (d p e).mpr f⟩] at h
    exact h
theorem zx_take {post : SX → Prop} {z : Nat} (hz : z < 3) (h : ∀ w', (∀ i j, i < 4 → j < 4 → zx_T b z i j = zx_W w' i j) → post (b, no, w')) : wpX_take post (b, no, w) (nI z) := by
  show ∃ n, wX_take_2 post (nI z) n (nI 0) b no w
  refine zx_fillw (fun n k w => wX_take_2 post (nI z) n (nI k) b no w) w (fun e => b (16 * z + e)) (fun n w' I => ?_) (fun n k w' hk I K => ?_)
  · refine br_t (nI_le (Nat.le_refl _) (by decide)) (h w' fun i j hi hj => ?_)
    unfold zx_T zx_W
    rw [I (4 * i + j) (by omega), Nat.add_assoc]
  · refine br_f (nI_ge (b := 16) hk (by decide)) ?_
    rw [za_ix, nI_clamp (by omega), nI_clamp (by omega)]
    exact ⟨vp_in_nI (by omega) (by decide), vp_in_nI hk (by decide), nm_e (nm_r (nI_1 k) K)⟩
theorem zx_narrow (g : za_G (zx_W w)) {post : Int32 → SX → Prop} {i j : Nat} (hi : i < 4) (hj : j < 4) {c : Int32} {c' : Int} (ec : c.toInt = c') (hc1 : -12 ≤ c') (hc2 : c' ≤ 12)
    (h1 : ∀ w', za_G (zx_W w') → (∀ x, za_Sat (zx_W w') x ↔ za_Sat (zx_W w) x ∧ x i - x j ≤ c') → post 1 (b, no, w'))
    (h0 : (∀ x, za_Sat (zx_W w) x → ¬ x i - x j ≤ c') → post 0 (b, no, w)) : wpX_narrow post (b, no, w) (nI i) (nI j) c := by
  unfold wpX_narrow
  dsimp only
  rw [za_iw, za_iw, nI_clamp (by omega), nI_clamp (by omega)]
  refine ⟨vp_in_nI (by omega) (by decide), za_brlt ec rfl (fun a => ⟨vp_in_nI (by omega) (by decide), ?_⟩) (fun a => h1 w g fun x => za_nwS0 hi hj a x)⟩
  have bd := fun p q (hp : p < 4) (hq : q < 4) => za_bd g hp hq
  have b1 := bd j i hj hi
  refine za_brle zy_c0 (za_add ec (show (w (4 * j + i)).toInt = zx_W w j i from rfl) (by omega) (by omega)) (fun a2 => ?_) (fun a2 => h0 (za_nwN hi hj a2))
  have way : ∀ p q, p < 4 → q < 4 → (w (4 * p + i) + c + w (4 * j + q)).toInt = zx_W w p i + c' + zx_W w j q := by
    intro p q hp hq
    have t1 := bd p i hp hi
    have t2 := bd j q hj hq
    exact za_add (za_add rfl ec (by show -2147483648 ≤ zx_W w p i + c'; omega) (by show zx_W w p i + c' < 2147483648; omega)) rfl (by show -2147483648 ≤ zx_W w p i + c' + zx_W w j q; omega) (by show zx_W w p i + c' + zx_W w j q < 2147483648; omega)
  have GG : ∀ p q, p < 4 → q < 4 → (if w (4 * p + q) ≤ w (4 * p + i) + c + w (4 * j + q) then w (4 * p + q) else w (4 * p + i) + c + w (4 * j + q)).toInt = za_nw (zx_W w) i j c' p q := by
    intro p q hp hq
    have t := way p q hp hq
    unfold za_nw
    by_cases l : w (4 * p + q) ≤ w (4 * p + i) + c + w (4 * j + q)
    · rw [if_pos l]
      rw [Int32.le_iff_toInt_le, t] at l
      have l' : zx_W w p q ≤ zx_W w p i + c' + zx_W w j q := l
      show zx_W w p q = _
      omega
    · rw [if_neg l, t]
      rw [Int32.le_iff_toInt_le, t] at l
      have l' : ¬ zx_W w p q ≤ zx_W w p i + c' + zx_W w j q := l
      omega
  refine zx_fillw (fun n k w' => wX_narrow_36 post (nI i) (nI j) c n (nI k) b no w') w (fun e => if w e ≤ w (4 * (e / 4) + i) + c + w (4 * j + e % 4) then w e else w (4 * (e / 4) + i) + c + w (4 * j + e % 4)) (fun n w' I => ?_) (fun n k w' hk I K => ?_)
  · refine br_t (nI_le (Nat.le_refl _) (by decide)) ?_
    have t : ∀ p q, p < 4 → q < 4 → za_nw (zx_W w) i j c' p q = zx_W w' p q := by
      intro p q hp hq
      rw [← GG p q hp hq]
      have r := I (4 * p + q) (by omega)
      rw [show (4 * p + q) / 4 = p by omega, show (4 * p + q) % 4 = q by omega] at r
      show _ = (w' (4 * p + q)).toInt
      rw [r]
    refine h1 w' (za_Gc t (za_nwG g hi hj a2)) fun x => ?_
    exact Iff.trans ⟨za_satt fun p q hp hq => (t p q hp hq).symm, za_satt t⟩ (za_nwS g hi hj c' x)
  · have key : ∀ p q, p < 4 → q < 4 → za_nw (zx_W w) i j c' p q = zx_W w p q → w' (4 * p + q) = w (4 * p + q) := by
      intro p q hp hq e
      have r := I (4 * p + q) (by omega)
      rw [show (4 * p + q) / 4 = p by omega, show (4 * p + q) % 4 = q by omega] at r
      rw [r]
      by_cases l : 4 * p + q < k
      · rw [if_pos l]
        apply Int32.toInt_inj.mp
        rw [GG p q hp hq, e]
        rfl
      · rw [if_neg l]
    have r1 := key (k / 4) i (by omega) hi (za_nwI a2)
    have r2 := key j (k % 4) hj (by omega) (za_nwJ a2)
    have r3 : w' k = w k := by
      have r := I k hk
      rw [if_neg (by omega)] at r
      exact r
    refine br_f (nI_ge (b := 16) hk (by decide)) ⟨by decide, nm_r (za_d4 (by omega)) ⟨by decide, nm_r (za_r4 (by omega)) ?_⟩⟩
    rw [za_iw, za_iw, nI_clamp (by omega), nI_clamp (by omega), nI_clamp (by omega), r1, r2, r3]
    refine ⟨vp_in_nI (by omega) (by decide), vp_in_nI (by omega) (by decide), nm_e ⟨vp_in_nI hk (by decide), br_c (fun l => ?_) (fun l => ?_)⟩⟩
    · rw [if_pos l] at K
      exact ⟨vp_in_nI hk (by decide), vp_in_nI hk (by decide), nm_e (nm_r (nI_1 k) K)⟩
    · rw [if_neg l] at K
      exact ⟨vp_in_nI hk (by decide), nm_e (nm_r (nI_1 k) K)⟩
/-- a clock held at a number -/
theorem zx_fix (g : za_G (zx_W w)) {post : Int32 → SX → Prop} {k : Nat} (hk : k < 4) {c : Int32} {c' : Int} (ec : c.toInt = c') (hc1 : 0 ≤ c') (hc2 : c' ≤ 12)
    (h1 : ∀ w', za_G (zx_W w') → (∀ x, za_Sat (zx_W w') x ↔ za_Sat (zx_W w) x ∧ x k - x 0 = c') → post 1 (b, no, w'))
    (h0 : ∀ w', (∀ x, za_Sat (zx_W w) x → ¬ x k - x 0 = c') → post 0 (b, no, w')) : wpX_fix post (b, no, w) (nI k) c := by
  unfold wpX_fix
  dsimp only
  refine zx_narrow (j := 0) g hk (by omega) ec (by omega) hc2 (fun w1 g1 s1 => ?_) (fun n => ?_)
  · refine br_f za_10 ?_
    refine zx_narrow (i := 0) g1 (by omega) hk (za_neg ec (by omega)) (by omega) (by omega) (fun w2 g2 s2 => ?_) (fun n => ?_)
    · refine br_f za_10 (h1 w2 g2 fun x => ?_)
      rw [s2 x, s1 x]
      constructor
      · intro ⟨⟨a, b⟩, c⟩
        exact ⟨a, by omega⟩
      · intro ⟨a, b⟩
        exact ⟨⟨a, by omega⟩, by omega⟩
    · refine br_t rfl (h0 w1 fun x s e => ?_)
      exact n x ((s1 x).mpr ⟨s, by omega⟩) (by omega)
  · refine br_t rfl (h0 w fun x s e => ?_)
    exact n x s (by omega)
end
end
section
/-! the component: closing a table -/
section
variable {b no w : Nat → Int32}
theorem zx_close9 {post : SX → Prop} {J : Int32 → (Nat → Int32) → (Nat → Int32) → (Nat → Int32) → Prop} {z o : Nat} (hz : z < 3) (ho : o < 4) {b0 : Nat → Int32} {T : Nat → Nat → Int} (f : zx_F z b0 b) (t : ∀ p q, p < 4 → q < 4 → zx_T b z p q = T p q) (bd : ∀ k p q, k ≤ 16 → p < 4 → q < 4 → -15552 ≤ za_ph o T k p q ∧ za_ph o T k p q ≤ 12) (h : ∀ b', zx_F z b0 b' → (∀ p q, p < 4 → q < 4 → zx_T b' z p q = za_ph o T 16 p q) → J (nI (o + 1)) b' no w) : ∃ n, wX_close_9 post J (nI z) (nI o) n 0 b no w := by
  refine loop_0 (fun n k b => wX_close_9 post J (nI z) (nI o) n (nI k) b no w) (fun k b => zx_F z b0 b ∧ ∀ p q, p < 4 → q < 4 → zx_T b z p q = za_ph o T k p q) 16 b ⟨f, t⟩ (fun n b' I => ?_) (fun n k b' hk I K => ?_)
  · exact br_t (nI_le (Nat.le_refl _) (by decide)) (nm_r (nI_1 o) (h b' I.1 I.2))
  · obtain ⟨I1, I2⟩ := I
    have e1 : (b' (16 * z + 4 * (k / 4) + o)).toInt = za_ph o T k (k / 4) o := I2 (k / 4) o (by omega) ho
    have e2 : (b' (16 * z + 4 * o + k % 4)).toInt = za_ph o T k o (k % 4) := I2 o (k % 4) ho (by omega)
    have e3 : (b' (16 * z + k)).toInt = za_ph o T k (k / 4) (k % 4) := by
      have a := I2 (k / 4) (k % 4) (by omega) (by omega)
      unfold zx_T at a
      rw [show 16 * z + 4 * (k / 4) + k % 4 = 16 * z + k by omega] at a
      exact a
    have c1 := bd k (k / 4) o (by omega) (by omega) ho
    have c2 := bd k o (k % 4) (by omega) ho (by omega)
    have S : ∀ v : Int32, v.toInt = min (za_ph o T k (k / 4) (k % 4)) (za_ph o T k (k / 4) o + za_ph o T k o (k % 4)) → ∀ p q, p < 4 → q < 4 → zx_T (upd b' (16 * z + k) v) z p q = za_ph o T (k + 1) p q := by
      intro v hv p q hp hq
      rw [zx_TU hq]
      show _ = za_stp o k (za_ph o T k) p q
      unfold za_stp
      by_cases e : 4 * p + q = k
      · rw [if_pos e, if_pos e, hv, show k / 4 = p by omega, show k % 4 = q by omega]
      · rw [if_neg e, if_neg e]
        exact I2 p q hp hq
    refine br_f (nI_ge (b := 16) hk (by decide)) ⟨by decide, nm_r (za_d4 (by omega)) ⟨by decide, nm_r (za_r4 (by omega)) ?_⟩⟩
    rw [za_ix5, za_ix5, za_ix, nI_clamp (by omega), nI_clamp (by omega), nI_clamp (by omega)]
    have e4 : (b' (16 * z + 4 * (k / 4) + o) + b' (16 * z + 4 * o + k % 4)).toInt = za_ph o T k (k / 4) o + za_ph o T k o (k % 4) := za_add e1 e2 (by omega) (by omega)
    refine ⟨vp_in_nI (by omega) (by decide), vp_in_nI (by omega) (by decide), nm_e ⟨vp_in_nI (by omega) (by decide), za_brle e3 e4 (fun l => ?_) (fun l => ?_)⟩⟩
    · exact ⟨vp_in_nI (by omega) (by decide), vp_in_nI (by omega) (by decide), nm_e (nm_r (nI_1 k) (K _ ⟨zx_FU hk I1, S _ (by rw [e3]; omega)⟩))⟩
    · exact ⟨vp_in_nI (by omega) (by decide), nm_e (nm_r (nI_1 k) (K _ ⟨zx_FU hk I1, S _ (by rw [e4]; omega)⟩))⟩
theorem zx_close117 {post : SX → Prop} {z : Nat} (hz : z < 3) {T : Nat → Nat → Int} (t : ∀ p q, p < 4 → q < 4 → zx_T b z p q = T p q) (n0 : no z = 0) (h : ∀ no', (∀ w, w < 3 → w ≠ z → no' w = no w) → ((no' z = 1 ∧ ∃ p, p < 4 ∧ T p p < 0) ∨ (no' z = 0 ∧ ∀ p, p < 4 → 0 ≤ T p p)) → post (b, no', w)) : ∃ n, wX_close_117 post (nI z) n 0 b no w := by
  refine loop_0 (fun n k no => wX_close_117 post (nI z) n (nI k) b no w) (fun k no' => (∀ w, w < 3 → w ≠ z → no' w = no w) ∧ ((no' z = 1 ∧ ∃ p, p < 4 ∧ T p p < 0) ∨ (no' z = 0 ∧ ∀ p, p < k → 0 ≤ T p p))) 4 no ⟨fun _ _ _ => rfl, Or.inr ⟨n0, fun p hp => absurd hp (by omega)⟩⟩ (fun n no' I => ?_) (fun n k no' hk I K => ?_)
  · exact br_t (nI_le (Nat.le_refl _) (by decide)) (h no' I.1 I.2)
  · obtain ⟨I1, I2⟩ := I
    have U : ∀ v, ∀ w, w < 3 → w ≠ z → upd no' z v w = no w := fun v w hw e => by rw [pk_un e]; exact I1 w hw e
    refine br_f (nI_ge (b := 4) hk (by decide)) ?_
    rw [za_ix5, nI_clamp (by omega), nI_clamp (by omega), za_n0, za_n1]
    refine ⟨vp_in_nI hz (by decide), ?_⟩
    rcases I2 with ⟨a, c⟩ | ⟨a, c⟩
    · refine br_f (by rw [a]; exact za_10) ⟨vp_in_nI hz (by decide), nm_e (nm_r (nI_1 k) (K _ ⟨U _, Or.inl ⟨pk_us, c⟩⟩))⟩
    · refine br_t a ⟨vp_in_nI (by omega) (by decide), ?_⟩
      refine za_brle zy_c0 (show (b (16 * z + 4 * k + k)).toInt = T k k from t k k hk hk) (fun l => ?_) (fun l => ?_)
      · refine ⟨vp_in_nI hz (by decide), nm_e (nm_r (nI_1 k) (K _ ⟨U _, Or.inr ⟨pk_us, fun p hp => ?_⟩⟩))⟩
        by_cases e : p = k
        · subst e; exact l
        · exact c p (by omega)
      · exact ⟨vp_in_nI hz (by decide), nm_e (nm_r (nI_1 k) (K _ ⟨U _, Or.inl ⟨pk_us, k, hk, l⟩⟩))⟩
theorem zx_close {post : SX → Prop} {z : Nat} (hz : z < 3) (n0 : no z = 0) {T : Nat → Nat → Int} (t : ∀ p q, p < 4 → q < 4 → zx_T b z p q = T p q) (h0 : ∀ p, p < 4 → T p p = 0) (hb : ∀ i, i < 4 → T i 0 ≤ 12 ∧ T 0 i ≤ 0) (hd : ∀ p q, p < 4 → q < 4 → -12 ≤ T p q ∧ T p q ≤ 12) {b0 : Nat → Int32} (f : zx_F z b0 b) (h : ∀ b' no', zx_F z b0 b' → (∀ w, w < 3 → w ≠ z → no' w = no w) → ((no' z = 1 ∧ ∀ x, ¬ za_Sat T x) ∨ (no' z = 0 ∧ za_G (zx_T b' z) ∧ ∀ x, za_Sat (zx_T b' z) x ↔ za_Sat T x)) → post (b', no', w)) : wpX_close post (b, no, w) (nI z) := by
  show ∃ n, wX_close_2 post (nI z) n (nI 0) b no w
  refine loop_0 (fun n o b => wX_close_2 post (nI z) n (nI o) b no w) (fun o b => zx_F z b0 b ∧ ∀ p q, p < 4 → q < 4 → zx_T b z p q = za_cl T o p q) 4 b ⟨f, t⟩ (fun n b' I => ?_) (fun n o b' ho I K => ?_)
  · obtain ⟨I1, I2⟩ := I
    refine br_t (nI_le (Nat.le_refl _) (by decide)) (zx_close117 hz I2 n0 fun no' hn c => h b' no' I1 hn ?_)
    rcases c with ⟨a, p, hp, c⟩ | ⟨a, c⟩
    · exact Or.inl ⟨a, za_clN hp c⟩
    · have t' : ∀ p q, p < 4 → q < 4 → za_cl T 4 p q = zx_T b' z p q := fun p q hp hq => (I2 p q hp hq).symm
      exact Or.inr ⟨a, za_Gc t' (za_clG h0 hb c), fun x => Iff.trans ⟨za_satt I2, za_satt t'⟩ (za_clS T x 4 (by omega))⟩
  · refine br_f (nI_ge (b := 4) ho (by decide)) (zx_close9 hz ho I.1 I.2 (fun k p q hk hp hq => za_clP hd ho hk hp hq) fun b'' f' t' => ?_)
    exact K b'' ⟨f', t'⟩
end
end
section
/-! the component: the calls that change a zone -/
section
variable {b no w : Nat → Int32} {M : Nat → Nat → Prop}
theorem zx_01 (ok : zx_Ok M b no) {z : Nat} (hz : z < 3) : no z = 0 ∨ no z = 1 := by
  rcases ok z hz with ⟨a, _⟩ | ⟨a, _⟩
  · exact Or.inr a
  · exact Or.inl a
theorem zx_nU {z : Nat} {v : Int32} : ∀ w, w < 3 → w ≠ z → upd no z v w = no w := fun _ _ e => pk_un e
theorem zx_box {post : Int32 → Prop} {i j : Nat} (hi : i < 4) (hj : j < 4) (h : post (nI (za_bb i j))) : wpX_boxBound post (nI i) (nI j) := by
  unfold wpX_boxBound
  refine pk_eq i j (fun e => ?_) (fun e => pk_eq i 0 (fun e2 => ?_) (fun e2 => ?_))
  · have a : za_bb i j = 0 := if_pos (Or.inl e)
    rw [a] at h
    exact h
  · have a : za_bb i j = 0 := if_pos (Or.inr e2)
    rw [a] at h
    exact h
  · have a : za_bb i j = 12 := if_neg (fun c => c.elim e e2)
    rw [a] at h
    exact h
theorem zx_all0 {post : Int32 → SX → Prop} {z : Nat} (hz : z < 3) (h : ∀ b', zx_F z b b' → zx_Z (fun _ => True) b' (upd no z 0) z → post 0 (b', upd no z 0, w)) : wpX_all post (b, no, w) (nI z) := by
  unfold wpX_all
  dsimp only
  refine zx_iz hz ?_
  refine br_f za_10 ?_
  rw [nI_clamp (by omega), za_n0]
  refine ⟨vp_in_nI hz (by decide), nm_e ?_⟩
  refine zx_fill (fun n k b => wX_all_18 post (nI z) n (nI k) b (upd no z 0) w) z b (fun e => nI (za_bb (e / 4) (e % 4))) (fun n b' f I => ?_) (fun n k b' hk f I K => ?_) hz
  · refine br_t (nI_le (Nat.le_refl _) (by decide)) (h b' f (Or.inr ⟨pk_us, ?_⟩))
    have t : ∀ p q, p < 4 → q < 4 → (za_bb p q : Int) = zx_T b' z p q := by
      intro p q hp hq
      have r := I (4 * p + q) (by omega)
      rw [show (4 * p + q) / 4 = p by omega, show (4 * p + q) % 4 = q by omega, ← Nat.add_assoc] at r
      unfold zx_T
      rw [r, za_ti (by unfold za_bb; split <;> omega)]
    exact ⟨za_Gc t za_bbG, fun p hp => ⟨fun _ => za_satt t (za_bbS hp), fun _ => trivial⟩⟩
  · refine br_f (nI_ge (b := 16) hk (by decide)) ⟨by decide, by decide, ?_⟩
    rw [za_r4 (by omega), za_d4 (by omega)]
    refine zx_box (by omega) (by omega) ?_
    rw [za_ix, nI_clamp (by omega)]
    exact ⟨vp_in_nI (by omega) (by decide), nm_e (nm_r (nI_1 k) K)⟩
theorem zx_all (ok : zx_Ok M b no) {post : Int32 → SX → Prop} {z : Nat} (hz : z < 3) (h : ∀ u', zx_Ok (zy_put M z (fun _ => True)) u'.1 u'.2.1 → post 0 u') : wpX_all post (b, no, w) (nI z) :=
  zx_all0 hz fun b' f q => h (b', upd no z 0, w) (zx_put ok f zx_nU q)
theorem zx_init {post : SX → Prop} (h : ∀ u', zx_Ok (fun _ _ => True) u'.1 u'.2.1 → post u') : wpX_init post := by
  unfold wpX_init
  refine loop_0 (fun n z (s : SX) => wX_init_29 post n (nI z) s.1 s.2.1 s.2.2) (fun z (s : SX) => ∀ v, v < z → v < 3 → zx_Z (fun _ => True) s.1 s.2.1 v) 3 (fun _ => 0, fun _ => 0, fun _ => 0) (fun v hv => absurd hv (by omega)) (fun n s I => ?_) (fun n z s hz I K => ?_)
  · exact br_t (nI_le (Nat.le_refl _) (by decide)) (h s fun v hv => I v hv hv)
  · refine br_f (nI_ge (b := 3) hz (by decide)) ?_
    refine zx_all0 hz fun b' f q => ?_
    refine nm_r (nI_1 z) (K (b', upd s.2.1 z 0, s.2.2) fun v hv hv3 => ?_)
    by_cases e : v = z
    · subst e; exact q
    · have t := fun p q hp hq => zx_FT (p := p) (q := q) f hv3 e hp hq
      rcases I v (by omega) hv3 with ⟨a, c⟩ | ⟨a, c, d⟩
      · exact Or.inl ⟨by show upd s.2.1 z 0 v = 1; rw [pk_un e]; exact a, c⟩
      · exact Or.inr ⟨by show upd s.2.1 z 0 v = 0; rw [pk_un e]; exact a, za_Gc t c, fun p hp => (d p hp).trans ⟨za_satt t, za_satt fun p q hp hq => (t p q hp hq).symm⟩⟩
theorem zx_zero (ok : zx_Ok M b no) {post : Int32 → SX → Prop} {z : Nat} (hz : z < 3) (h : ∀ u', zx_Ok (zy_put M z (fun p => p = 0)) u'.1 u'.2.1 → post 0 u') : wpX_zero post (b, no, w) (nI z) := by
  unfold wpX_zero
  dsimp only
  refine zx_iz hz ?_
  refine br_f za_10 ?_
  rw [nI_clamp (by omega), za_n0]
  refine ⟨vp_in_nI hz (by decide), nm_e ?_⟩
  refine zx_fill (fun n k b => wX_zero_18 post (nI z) n (nI k) b (upd no z 0) w) z b (fun _ => 0) (fun n b' f I => ?_) (fun n k b' hk f I K => ?_) hz
  · refine br_t (nI_le (Nat.le_refl _) (by decide)) (h (b', upd no z 0, w) (zx_put ok f zx_nU (Or.inr ⟨pk_us, ?_⟩)))
    have t : ∀ p q, p < 4 → q < 4 → (0 : Int) = zx_T b' z p q := by
      intro p q hp hq
      have r := I (4 * p + q) (by omega)
      rw [← Nat.add_assoc] at r
      unfold zx_T
      rw [r]
      rfl
    exact ⟨za_Gc t za_zG, fun p hp => (za_zS hp).symm.trans ⟨za_satt t, za_satt fun p q hp hq => (t p q hp hq).symm⟩⟩
  · refine br_f (nI_ge (b := 16) hk (by decide)) ?_
    rw [za_ix, nI_clamp (by omega)]
    exact ⟨vp_in_nI (by omega) (by decide), nm_e (nm_r (nI_1 k) K)⟩
theorem zx_copy (ok : zx_Ok M b no) {post : Int32 → SX → Prop} {y z : Nat} (hy : y < 3) (hz : z < 3) (h : ∀ b' no', zx_F y b b' → (∀ w, w < 3 → w ≠ y → no' w = no w) → zx_Z (M z) b' no' y → post 0 (b', no', w)) : wpX_copy post (b, no, w) (nI y) (nI z) := by
  unfold wpX_copy
  dsimp only
  refine zx_iz hy ?_
  refine br_f za_10 ?_
  refine zx_iz hz ?_
  refine br_f za_10 ?_
  have hn : vp_nar .boolean (no z) = no z := by rcases zx_01 ok hz with e | e <;> rw [e] <;> rfl
  rw [nI_clamp (by omega), nI_clamp (by omega), hn]
  refine ⟨vp_in_nI hz (by decide), vp_in_nI hy (by decide), nm_e ?_⟩
  refine zx_fill (fun n k b => wX_copy_30 post (nI y) (nI z) n (nI k) b (upd no y (no z)) w) y b (fun e => b (16 * z + e)) (fun n b' f I => ?_) (fun n k b' hk f I K => ?_) hy
  · refine br_t (nI_le (Nat.le_refl _) (by decide)) (h b' (upd no y (no z)) f zx_nU ?_)
    have t : ∀ p q, p < 4 → q < 4 → zx_T b z p q = zx_T b' y p q := by
      intro p q hp hq
      have r := I (4 * p + q) (by omega)
      rw [← Nat.add_assoc, ← Nat.add_assoc] at r
      unfold zx_T
      rw [r]
    rcases ok z hz with ⟨a, c⟩ | ⟨a, c, d⟩
    · exact Or.inl ⟨pk_us.trans a, c⟩
    · exact Or.inr ⟨pk_us.trans a, za_Gc t c, fun p hp => (d p hp).trans ⟨za_satt t, za_satt fun p q hp hq => (t p q hp hq).symm⟩⟩
  · refine br_f (nI_ge (b := 16) hk (by decide)) ?_
    rw [za_ix, za_ix, nI_clamp (by omega), nI_clamp (by omega), I z hz]
    exact ⟨vp_in_nI (by omega) (by decide), vp_in_nI (by omega) (by decide), nm_e (nm_r (nI_1 k) K)⟩
theorem zx_tighten (ok : zx_Ok M b no) {post : SX → Prop} {z i j : Nat} (hz : z < 3) (hi : i < 4) (hj : j < 4) {c : Int32} (hc1 : -12 ≤ c.toInt) (hc2 : c.toInt ≤ 12) (h : ∀ b' no' w', zx_F z b b' → (∀ w, w < 3 → w ≠ z → no' w = no w) → zx_Z (fun p => M z p ∧ za_pv p i - za_pv p j ≤ c.toInt) b' no' z → post (b', no', w')) : wpX_tighten post (b, no, w) (nI z) (nI i) (nI j) c := by
  unfold wpX_tighten
  dsimp only
  rw [nI_clamp (by omega), za_n0, za_n1]
  refine ⟨vp_in_nI hz (by decide), ?_⟩
  rcases ok z hz with ⟨a, d⟩ | ⟨a, g, d⟩
  · refine br_f (by rw [a]; exact za_10) (h b no w zx_F0 (fun _ _ _ => rfl) (Or.inl ⟨a, fun p hp q => d p hp q.1⟩))
  · refine br_t a ?_
    refine zx_take hz fun w1 t1 => ?_
    refine zx_narrow (za_Gc t1 g) hi hj rfl hc1 hc2 (fun w2 g2 s2 => ?_) (fun n => ?_)
    · refine br_f za_10 ⟨vp_in_nI hz (by decide), nm_e ?_⟩
      refine zx_fill (fun n k b => wX_tighten_44 post (nI z) 1 n (nI k) b (upd no z 0) w2) z b w2 (fun n b' f I => ?_) (fun n k b' hk f I K => ?_) hz
      · refine br_t (nI_le (Nat.le_refl _) (by decide)) (h b' (upd no z 0) w2 f zx_nU (Or.inr ⟨pk_us, ?_⟩))
        have t : ∀ p q, p < 4 → q < 4 → zx_W w2 p q = zx_T b' z p q := by
          intro p q hp hq
          have r := I (4 * p + q) (by omega)
          rw [← Nat.add_assoc] at r
          unfold zx_T zx_W
          rw [r]
        refine ⟨za_Gc t g2, fun p hp => ?_⟩
        have e1 : za_Sat (zx_T b' z) (za_pv p) ↔ za_Sat (zx_W w2) (za_pv p) := ⟨za_satt fun p q hp hq => (t p q hp hq).symm, za_satt t⟩
        have e2 : za_Sat (zx_W w1) (za_pv p) ↔ za_Sat (zx_T b z) (za_pv p) := ⟨za_satt fun p q hp hq => (t1 p q hp hq).symm, za_satt t1⟩
        rw [e1, s2, e2, ← d p hp]
      · refine br_f (nI_ge (b := 16) hk (by decide)) (br_f za_10 ?_)
        rw [za_ix, nI_clamp (by omega), nI_clamp (by omega)]
        exact ⟨vp_in_nI hk (by decide), vp_in_nI (by omega) (by decide), nm_e (nm_r (nI_1 k) K)⟩
    · refine br_t rfl ⟨vp_in_nI hz (by decide), nm_e ⟨1, ?_⟩⟩
      refine br_f (by decide) (br_t rfl (h b (upd no z 1) w1 zx_F0 zx_nU (Or.inl ⟨pk_us, fun p hp q => ?_⟩)))
      exact n _ (za_satt t1 ((d p hp).mp q.1)) q.2
theorem zx_keep (ok : zx_Ok M b no) {post : Int32 → SX → Prop} {z i j : Nat} (hz : z < 3) (hi : i < 4) (hj : j < 4) (hij : i ≠ j) {c : Int32} (hc : ¬ c < -12) (hc2 : c ≤ 12) (h : ∀ u', zx_Ok (zy_put M z (fun p => M z p ∧ za_pv p i - za_pv p j ≤ c.toInt)) u'.1 u'.2.1 → post (za_tf (zy_some (fun p => M z p ∧ za_pv p i - za_pv p j ≤ c.toInt))) u') : wpX_keep post (b, no, w) (nI z) (nI i) (nI j) c := by
  unfold wpX_keep
  dsimp only
  refine zx_iz hz ?_
  refine br_f za_10 ?_
  refine zx_ip hi hj hij ?_
  refine br_f za_10 (br_f hc (br_t hc2 ?_))
  have e1 : (-12 : Int32).toInt = -12 := by decide
  have c1 : -12 ≤ c.toInt := by rw [Int32.lt_iff_toInt_lt, e1] at hc; omega
  have c2 : c.toInt ≤ 12 := by rw [Int32.le_iff_toInt_le, zy_c12] at hc2; exact hc2
  refine zx_tighten ok hz hi hj c1 c2 fun b' no' w' f hn q => ?_
  exact zx_left hz q (h (b', no', w') (zx_put ok f hn q))
end
end
section
/-! the component: pass, back, set, free, follow, meet, hull -/
theorem zx_shP {D : Nat → Nat → Int} (g : za_G D) {Q : Nat → Prop} (h : ∀ p, p < 2197 → (Q p ↔ za_Sat D (za_pv p))) {p : Nat} (hp : p < 2197) : zy_sh Q (-1) p ↔ za_Sat (za_pa D) (za_pv p) := by
  rw [za_paS g (za_pv0 p) fun k _ => za_pvb hp k]
  constructor
  · intro ⟨d, hd, ⟨i1, i2, i3⟩, q, hq, c⟩
    obtain ⟨q2, s⟩ := za_mv hp i1 i2 i3 hq
    refine ⟨d, hd, ?_⟩
    have a := (s D).mp ((h q q2).mp c)
    rw [show -(-1 * (d : Int)) = (d : Int) by omega] at a
    exact a
  · intro ⟨d, hd, s⟩
    have B : ∀ k, k < 4 → k ≠ 0 → 0 ≤ za_pv p k + (-1 * (d : Int)) ∧ za_pv p k + (-1 * (d : Int)) ≤ 12 := by
      intro k hk hk0
      have a := s 0 k (by omega) hk
      have c := s k 0 hk (by omega)
      rw [za_at1, za_at2 _ _ hk0] at a c
      have e := g.2.2 k hk
      omega
    have i1 := B 1 (by omega) (by omega)
    have i2 := B 2 (by omega) (by omega)
    have i3 := B 3 (by omega) (by omega)
    have d2 : p / 169 = p / 13 / 13 := by rw [Nat.div_div_eq_div_mul]
    have q1 : za_pv p 1 = ((p / 169 : Nat) : Int) := rfl
    have q2 : za_pv p 2 = ((p / 13 % 13 : Nat) : Int) := rfl
    have q3 : za_pv p 3 = ((p % 13 : Nat) : Int) := rfl
    rw [d2] at q1
    obtain ⟨q, hq⟩ : ∃ q : Nat, (q : Int) = p + 183 * (-1 * (d : Int)) := ⟨((p : Int) + 183 * (-1 * (d : Int))).toNat, by omega⟩
    obtain ⟨l, t⟩ := za_mv hp i1 i2 i3 hq
    refine ⟨d, hd, ⟨i1, i2, i3⟩, q, hq, (h q l).mpr ((t D).mpr ?_)⟩
    rw [show -(-1 * (d : Int)) = (d : Int) by omega]
    exact s
theorem zx_shB {D : Nat → Nat → Int} (g : za_G D) {Q : Nat → Prop} (h : ∀ p, p < 2197 → (Q p ↔ za_Sat D (za_pv p))) {p : Nat} (hp : p < 2197) : zy_sh Q 1 p ↔ za_Sat (za_ba D) (za_pv p) := by
  rw [za_baS g (za_pv0 p) fun k _ => za_pvb hp k]
  constructor
  · intro ⟨d, hd, ⟨i1, i2, i3⟩, q, hq, c⟩
    obtain ⟨q2, s⟩ := za_mv hp i1 i2 i3 hq
    refine ⟨d, hd, ?_⟩
    have a := (s D).mp ((h q q2).mp c)
    rw [show -(1 * (d : Int)) = -(d : Int) by omega] at a
    exact a
  · intro ⟨d, hd, s⟩
    have B : ∀ k, k < 4 → k ≠ 0 → 0 ≤ za_pv p k + (1 * (d : Int)) ∧ za_pv p k + (1 * (d : Int)) ≤ 12 := by
      intro k hk hk0
      have a := s 0 k (by omega) hk
      have c := s k 0 hk (by omega)
      rw [za_at1, za_at2 _ _ hk0] at a c
      have e := g.2.2 k hk
      omega
    have i1 := B 1 (by omega) (by omega)
    have i2 := B 2 (by omega) (by omega)
    have i3 := B 3 (by omega) (by omega)
    obtain ⟨q, hq⟩ : ∃ q : Nat, (q : Int) = p + 183 * (1 * (d : Int)) := ⟨((p : Int) + 183 * (1 * (d : Int))).toNat, by omega⟩
    obtain ⟨l, t⟩ := za_mv hp i1 i2 i3 hq
    refine ⟨d, hd, ⟨i1, i2, i3⟩, q, hq, (h q l).mpr ((t D).mpr ?_)⟩
    rw [show -(1 * (d : Int)) = -(d : Int) by omega]
    exact s
theorem zx_sh0 {Q : Nat → Prop} (h : ∀ p, p < 2197 → ¬ Q p) {w : Int} {p : Nat} (hp : p < 2197) : ¬ zy_sh Q w p := by
  intro ⟨d, hd, ⟨i1, i2, i3⟩, q, hq, c⟩
  exact h q (za_mv hp i1 i2 i3 hq).1 c
theorem zx_an0 {Q : Nat → Prop} (h : ∀ p, p < 2197 → ¬ Q p) {k p : Nat} (hp : p < 2197) : ¬ zy_an Q k p := by
  intro ⟨v, hv, c⟩
  exact h _ (za_wiL hp hv) c
theorem zx_anE {D : Nat → Nat → Int} (g : za_G D) {Q : Nat → Prop} (h : ∀ p, p < 2197 → (Q p ↔ za_Sat D (za_pv p))) {k p : Nat} (h1 : 1 ≤ k) (hk : k < 4) (hp : p < 2197) : zy_an Q k p ↔ za_Sx k D (za_pv p) := by
  rw [za_any g hp h1 hk]
  constructor
  · intro ⟨v, hv, c⟩
    exact ⟨v, hv, (h _ (za_wiL hp hv)).mp c⟩
  · intro ⟨v, hv, c⟩
    exact ⟨v, hv, (h _ (za_wiL hp hv)).mpr c⟩
/-- a table with row and column k written so far -/
def za_pl (D : Nat → Nat → Int) (k : Nat) (R C : Nat → Int) (j : Nat) : Nat → Nat → Int := fun p q => if p = k ∧ q ≠ k ∧ q < j then R q else if q = k ∧ p ≠ k ∧ p < j then C p else D p q
theorem za_pl0 (D : Nat → Nat → Int) (k : Nat) (R C : Nat → Int) (p q : Nat) : za_pl D k R C 0 p q = D p q := by
  unfold za_pl
  rw [if_neg (by omega), if_neg (by omega)]
theorem za_plK (D : Nat → Nat → Int) (k : Nat) (R C : Nat → Int) (p q : Nat) : za_pl D k R C (k + 1) p q = za_pl D k R C k p q := by
  unfold za_pl
  by_cases a : p = k ∧ q ≠ k ∧ q < k
  · rw [if_pos a, if_pos (by omega)]
  · rw [if_neg a, if_neg (by omega)]
    by_cases c : q = k ∧ p ≠ k ∧ p < k
    · rw [if_pos c, if_pos (by omega)]
    · rw [if_neg c, if_neg (by omega)]
theorem za_plD {D : Nat → Nat → Int} {k : Nat} {R C : Nat → Int} {j p q : Nat} (hp : p ≠ k) (hq : q ≠ k) : za_pl D k R C j p q = D p q := by
  unfold za_pl
  rw [if_neg (fun c => hp c.1), if_neg (fun c => hq c.1)]
theorem za_plE {D : Nat → Nat → Int} {k : Nat} {R C : Nat → Int} (h0 : D k k = 0) {p q : Nat} (hp : p < 4) (hq : q < 4) : za_pl D k R C 4 p q = if p = k then (if q = k then 0 else R q) else (if q = k then C p else D p q) := by
  unfold za_pl
  by_cases a : p = k
  · rw [if_pos (c := p = k) a]
    by_cases c : q = k
    · rw [if_neg (fun d => d.2.1 c), if_neg (fun d => d.2.1 a), if_pos c, a, c, h0]
    · rw [if_pos ⟨a, c, hq⟩, if_neg c]
  · rw [if_neg (fun d => a d.1), if_neg (c := p = k) a]
    by_cases c : q = k
    · rw [if_pos ⟨c, a, hp⟩, if_pos c]
    · rw [if_neg (fun d => c d.1), if_neg c]
theorem zx_plU {b : Nat → Int32} {z k j : Nat} {D : Nat → Nat → Int} {R C : Nat → Int} (hk : k < 4) (hj : j < 4) (hjk : j ≠ k) (t : ∀ p q, p < 4 → q < 4 → zx_T b z p q = za_pl D k R C j p q) {v1 v2 : Int32} (h1 : v1.toInt = R j) (h2 : v2.toInt = C j) : ∀ p q, p < 4 → q < 4 → zx_T (upd (upd b (16 * z + (4 * k + j)) v1) (16 * z + (4 * j + k)) v2) z p q = za_pl D k R C (j + 1) p q := by
  intro p q hp hq
  rw [zx_TU hq, zx_TU hq, t p q hp hq, h1, h2]
  unfold za_pl
  by_cases a : 4 * p + q = 4 * j + k
  · have e1 : p = j := by omega
    have e2 : q = k := by omega
    subst e1 e2
    rw [if_pos rfl, if_neg (fun d => d.2.1 rfl), if_pos ⟨rfl, hjk, by omega⟩]
  · rw [if_neg a]
    by_cases c : 4 * p + q = 4 * k + j
    · have e1 : p = k := by omega
      have e2 : q = j := by omega
      subst e1 e2
      rw [if_pos rfl, if_pos ⟨rfl, hjk, by omega⟩]
    · rw [if_neg c]
      by_cases d : p = k ∧ q ≠ k ∧ q < j
      · rw [if_pos d, if_pos (by omega)]
      · rw [if_neg d]
        by_cases e : q = k ∧ p ≠ k ∧ p < j
        · rw [if_pos e, if_neg (by omega), if_pos (by omega)]
        · rw [if_neg e, if_neg (by omega), if_neg (by omega)]
section
variable {b no w : Nat → Int32} {M : Nat → Nat → Prop}
theorem zx_pass (ok : zx_Ok M b no) {post : Int32 → SX → Prop} {z : Nat} (hz : z < 3) (h : ∀ u', zx_Ok (zy_put M z (zy_sh (M z) (-1))) u'.1 u'.2.1 → post (za_tf (zy_some (zy_sh (M z) (-1)))) u') : wpX_pass post (b, no, w) (nI z) := by
  unfold wpX_pass
  dsimp only
  refine zx_iz hz ?_
  refine br_f za_10 ?_
  rw [nI_clamp (by omega)]
  refine ⟨vp_in_nI hz (by decide), ?_⟩
  rcases ok z hz with ⟨a, d⟩ | ⟨a, g, d⟩
  · refine br_f (by rw [a]; exact za_10) ?_
    have q : zx_Z (zy_sh (M z) (-1)) b no z := Or.inl ⟨a, fun p hp => zx_sh0 d hp⟩
    exact zx_left hz q (h (b, no, w) (zx_put ok zx_F0 (fun _ _ _ => rfl) q))
  · refine br_t a ?_
    refine pk_loop (fun n i b => wX_pass_20 post (nI z) n (nI i) b no w) (fun i b' => 1 ≤ i ∧ zx_F z b b' ∧ ∀ p q, p < 4 → q < 4 → zx_T b' z p q = if q = 0 ∧ p ≠ 0 ∧ p < i then 12 else zx_T b z p q) 4 1 b (by omega) ⟨by omega, zx_F0, fun p q _ _ => by rw [if_neg (by omega)]⟩ (fun n b' I => ?_) (fun n i b' hi I K => ?_)
    · obtain ⟨i1, f, t⟩ := I
      refine br_t (nI_le (Nat.le_refl _) (by decide)) ?_
      have t' : ∀ p q, p < 4 → q < 4 → zx_T b' z p q = za_pa (zx_T b z) p q := by
        intro p q hp hq
        rw [t p q hp hq]
        unfold za_pa
        by_cases e : q = 0 ∧ p ≠ 0
        · rw [if_pos e, if_pos ⟨e.1, e.2, hp⟩]
        · rw [if_neg e, if_neg (fun c => e ⟨c.1, c.2.1⟩)]
      obtain ⟨p1, p2, p3⟩ := za_paH g
      refine zx_close hz a t' p1 p2 p3 f fun b'' no' f' hn c => ?_
      have q : zx_Z (zy_sh (M z) (-1)) b'' no' z := by
        rcases c with ⟨c1, c2⟩ | ⟨c1, c2, c3⟩
        · exact Or.inl ⟨c1, fun p hp s => c2 _ ((zx_shP g d hp).mp s)⟩
        · exact Or.inr ⟨c1, c2, fun p hp => (zx_shP g d hp).trans (c3 _).symm⟩
      exact zx_left hz q (h (b'', no', w) (zx_put ok f' hn q))
    · obtain ⟨i1, f, t⟩ := I
      refine br_f (nI_ge (b := 4) hi (by decide)) ?_
      rw [za_ix4, nI_clamp (by omega)]
      refine ⟨vp_in_nI (by omega) (by decide), nm_e (nm_r (nI_1 i) (K _ ⟨by omega, zx_FU (by omega) f, fun p q hp hq => ?_⟩))⟩
      rw [zx_TU hq, t p q hp hq]
      by_cases e : 4 * p + q = 4 * i
      · rw [if_pos e]
        by_cases e2 : q = 0 ∧ p ≠ 0 ∧ p < i + 1
        · rw [if_pos e2]; exact zy_c12
        · exfalso; omega
      · rw [if_neg e]
        by_cases e2 : q = 0 ∧ p ≠ 0 ∧ p < i
        · rw [if_pos e2, if_pos (by omega)]
        · rw [if_neg e2, if_neg (by omega)]
theorem zx_back (ok : zx_Ok M b no) {post : Int32 → SX → Prop} {z : Nat} (hz : z < 3) (h : ∀ u', zx_Ok (zy_put M z (zy_sh (M z) 1)) u'.1 u'.2.1 → post (za_tf (zy_some (zy_sh (M z) 1))) u') : wpX_back post (b, no, w) (nI z) := by
  unfold wpX_back
  dsimp only
  refine zx_iz hz ?_
  refine br_f za_10 ?_
  rw [nI_clamp (by omega)]
  refine ⟨vp_in_nI hz (by decide), ?_⟩
  rcases ok z hz with ⟨a, d⟩ | ⟨a, g, d⟩
  · refine br_f (by rw [a]; exact za_10) ?_
    have q : zx_Z (zy_sh (M z) 1) b no z := Or.inl ⟨a, fun p hp => zx_sh0 d hp⟩
    exact zx_left hz q (h (b, no, w) (zx_put ok zx_F0 (fun _ _ _ => rfl) q))
  · refine br_t a ?_
    refine pk_loop (fun n i b => wX_back_20 post (nI z) n (nI i) b no w) (fun i b' => 1 ≤ i ∧ zx_F z b b' ∧ ∀ p q, p < 4 → q < 4 → zx_T b' z p q = if p = 0 ∧ q ≠ 0 ∧ q < i then 0 else zx_T b z p q) 4 1 b (by omega) ⟨by omega, zx_F0, fun p q _ _ => by rw [if_neg (by omega)]⟩ (fun n b' I => ?_) (fun n i b' hi I K => ?_)
    · obtain ⟨i1, f, t⟩ := I
      refine br_t (nI_le (Nat.le_refl _) (by decide)) ?_
      have t' : ∀ p q, p < 4 → q < 4 → zx_T b' z p q = za_ba (zx_T b z) p q := by
        intro p q hp hq
        rw [t p q hp hq]
        unfold za_ba
        by_cases e : p = 0 ∧ q ≠ 0
        · rw [if_pos e, if_pos ⟨e.1, e.2, hq⟩]
        · rw [if_neg e, if_neg (fun c => e ⟨c.1, c.2.1⟩)]
      obtain ⟨p1, p2, p3⟩ := za_baH g
      refine zx_close hz a t' p1 p2 p3 f fun b'' no' f' hn c => ?_
      have q : zx_Z (zy_sh (M z) 1) b'' no' z := by
        rcases c with ⟨c1, c2⟩ | ⟨c1, c2, c3⟩
        · exact Or.inl ⟨c1, fun p hp s => c2 _ ((zx_shB g d hp).mp s)⟩
        · exact Or.inr ⟨c1, c2, fun p hp => (zx_shB g d hp).trans (c3 _).symm⟩
      exact zx_left hz q (h (b'', no', w) (zx_put ok f' hn q))
    · obtain ⟨i1, f, t⟩ := I
      refine br_f (nI_ge (b := 4) hi (by decide)) ?_
      rw [za_ix, nI_clamp (by omega)]
      refine ⟨vp_in_nI (by omega) (by decide), nm_e (nm_r (nI_1 i) (K _ ⟨by omega, zx_FU (by omega) f, fun p q hp hq => ?_⟩))⟩
      rw [zx_TU hq, t p q hp hq]
      by_cases e : 4 * p + q = i
      · rw [if_pos e]
        by_cases e2 : p = 0 ∧ q ≠ 0 ∧ q < i + 1
        · rw [if_pos e2]; exact zy_c0
        · exfalso; omega
      · rw [if_neg e]
        by_cases e2 : p = 0 ∧ q ≠ 0 ∧ q < i
        · rw [if_pos e2, if_pos (by omega)]
        · rw [if_neg e2, if_neg (by omega)]
end
end
section
/-! the component: set, free, follow -/
theorem za_ix6 (z k j : Nat) : (16 : Int32) * nI z + 4 * nI k + nI j = nI (16 * z + (4 * k + j)) := by
  rw [za_ix5, Nat.add_assoc]
section
variable {b no w : Nat → Int32} {M : Nat → Nat → Prop}
theorem zx_r0 {z j : Nat} {T : Nat → Nat → Int} (t : zx_T b z 0 j = T 0 j) : (b (16 * z + j)).toInt = T 0 j := by
  unfold zx_T at t
  rw [show 16 * z + 4 * 0 + j = 16 * z + j by omega] at t
  exact t
theorem zx_c0 {z j : Nat} {T : Nat → Nat → Int} (t : zx_T b z j 0 = T j 0) : (b (16 * z + 4 * j)).toInt = T j 0 := t
theorem zx_set (ok : zx_Ok M b no) {post : Int32 → SX → Prop} {z k m : Nat} (hz : z < 3) (h1 : 1 ≤ k) (hk : k < 4) (hm : m ≤ 12) (h : ∀ u', zx_Ok (zy_put M z (fun p => za_vn p k = m ∧ zy_an (M z) k p)) u'.1 u'.2.1 → post (za_tf (zy_some (fun p => za_vn p k = m ∧ zy_an (M z) k p))) u') : wpX_set post (b, no, w) (nI z) (nI k) (nI m) := by
  unfold wpX_set
  dsimp only
  refine zx_iz hz ?_
  refine br_f za_10 ?_
  refine zx_ic h1 hk ?_
  refine br_f za_10 (br_f (nI_pos (by omega)) (br_t (nI_le (b := 12) hm (by decide)) ?_))
  rcases ok z hz with ⟨a, d⟩ | ⟨a, g, d⟩
  · refine ⟨1, br_f (by decide) ?_⟩
    rw [nI_clamp (by omega)]
    refine ⟨vp_in_nI hz (by decide), br_f (by rw [a]; exact za_10) ?_⟩
    have q : zx_Z (fun p => za_vn p k = m ∧ zy_an (M z) k p) b no z := Or.inl ⟨a, fun p hp c => zx_an0 d hp c.2⟩
    exact zx_left hz q (h (b, no, w) (zx_put ok zx_F0 (fun _ _ _ => rfl) q))
  · refine loop_0 (fun n j b => wX_set_35 post (nI z) (nI k) (nI m) n (nI j) b no w) (fun j b' => zx_F z b b' ∧ ∀ p q, p < 4 → q < 4 → zx_T b' z p q = za_pl (zx_T b z) k (fun q => (m : Int) + zx_T b z 0 q) (fun p => zx_T b z p 0 - m) j p q) 4 b ⟨zx_F0, fun p q _ _ => (za_pl0 _ _ _ _ p q).symm⟩ (fun n b' I => ?_) (fun n j b' hj I K => ?_)
    · obtain ⟨f, t⟩ := I
      refine br_t (nI_le (Nat.le_refl _) (by decide)) ?_
      have t' : ∀ p q, p < 4 → q < 4 → za_st (zx_T b z) k m p q = zx_T b' z p q := by
        intro p q hp hq
        rw [t p q hp hq, za_plE (g.1 k hk) hp hq]
        rfl
      have q : zx_Z (fun p => za_vn p k = m ∧ zy_an (M z) k p) b' no z := by
        refine Or.inr ⟨a, za_Gc t' (za_stG g h1 hk (by omega) (by omega)), fun p hp => ?_⟩
        have e1 := za_stS g h1 hk (m : Int) (za_pv0 p)
        have e2 := zx_anE g d h1 hk hp
        have e3 : za_pv p k = (m : Int) ↔ za_vn p k = m := by unfold za_pv; omega
        show (_ ∧ _) ↔ _
        rw [e2, ← e3]
        exact e1.symm.trans ⟨za_satt t', za_satt fun p q hp hq => (t' p q hp hq).symm⟩
      exact zx_left hz q (h (b', no, w) (zx_put ok f (fun _ _ _ => rfl) q))
    · obtain ⟨f, t⟩ := I
      refine br_f (nI_ge (b := 4) hj (by decide)) ?_
      rw [za_ix6 z k j, za_ix6 z j k, za_ix4 z j, za_ix z j, nI_clamp (by omega), nI_clamp (by omega), nI_clamp (by omega), nI_clamp (by omega), nI_clamp (by omega)]
      refine ⟨vp_in_nI hz (by decide), br_t a (pk_eq j k (fun e => ?_) (fun e => ?_))⟩
      · refine nm_r (nI_1 j) (K b' ⟨f, fun p q hp hq => ?_⟩)
        rw [t p q hp hq, e, za_plK]
      · refine ⟨vp_in_nI (by omega) (by decide), vp_in_nI (by omega) (by decide), nm_e ⟨vp_in_nI (by omega) (by decide), vp_in_nI (by omega) (by decide), ?_⟩⟩
        rw [pk_un (show 16 * z + 4 * j ≠ 16 * z + (4 * k + j) by omega)]
        have r1 : (b' (16 * z + j)).toInt = zx_T b z 0 j := zx_r0 (by rw [t 0 j (by omega) hj, za_plD (by omega) e])
        have r2 : (b' (16 * z + 4 * j)).toInt = zx_T b z j 0 := zx_c0 (by rw [t j 0 hj (by omega), za_plD e (by omega)])
        have b1 := za_bd g (show 0 < 4 by omega) hj
        have b2 := za_bd g hj (show 0 < 4 by omega)
        refine nm_e (nm_r (nI_1 j) (K _ ⟨zx_FU (by omega) (zx_FU (by omega) f), zx_plU hk hj e t ?_ ?_⟩))
        · exact za_add (za_ti (by omega)) r1 (by omega) (by omega)
        · exact za_sub r2 (za_ti (by omega)) (by omega) (by omega)
theorem zx_free (ok : zx_Ok M b no) {post : Int32 → SX → Prop} {z k : Nat} (hz : z < 3) (h1 : 1 ≤ k) (hk : k < 4) (h : ∀ u', zx_Ok (zy_put M z (zy_an (M z) k)) u'.1 u'.2.1 → post (za_tf (zy_some (zy_an (M z) k))) u') : wpX_free post (b, no, w) (nI z) (nI k) := by
  unfold wpX_free
  dsimp only
  refine zx_iz hz ?_
  refine br_f za_10 ?_
  refine zx_ic h1 hk ?_
  refine br_f za_10 ?_
  rcases ok z hz with ⟨a, d⟩ | ⟨a, g, d⟩
  · refine ⟨1, br_f (by decide) ?_⟩
    rw [nI_clamp (by omega)]
    refine ⟨vp_in_nI hz (by decide), br_f (by rw [a]; exact za_10) ?_⟩
    have q : zx_Z (zy_an (M z) k) b no z := Or.inl ⟨a, fun p hp c => zx_an0 d hp c⟩
    exact zx_left hz q (h (b, no, w) (zx_put ok zx_F0 (fun _ _ _ => rfl) q))
  · refine loop_0 (fun n j b => wX_free_21 post (nI z) (nI k) n (nI j) b no w) (fun j b' => zx_F z b b' ∧ ∀ p q, p < 4 → q < 4 → zx_T b' z p q = za_pl (zx_T b z) k (fun q => 12 + zx_T b z 0 q) (fun p => zx_T b z p 0) j p q) 4 b ⟨zx_F0, fun p q _ _ => (za_pl0 _ _ _ _ p q).symm⟩ (fun n b' I => ?_) (fun n j b' hj I K => ?_)
    · obtain ⟨f, t⟩ := I
      refine br_t (nI_le (Nat.le_refl _) (by decide)) ?_
      have t' : ∀ p q, p < 4 → q < 4 → za_fr (zx_T b z) k p q = zx_T b' z p q := by
        intro p q hp hq
        rw [t p q hp hq, za_plE (g.1 k hk) hp hq]
        rfl
      have q : zx_Z (zy_an (M z) k) b' no z := by
        refine Or.inr ⟨a, za_Gc t' (za_frG g h1 hk), fun p hp => ?_⟩
        have e1 := za_frS g h1 hk (za_pv0 p) (za_pvb hp k)
        rw [zx_anE g d h1 hk hp]
        exact e1.symm.trans ⟨za_satt t', za_satt fun p q hp hq => (t' p q hp hq).symm⟩
      exact zx_left hz q (h (b', no, w) (zx_put ok f (fun _ _ _ => rfl) q))
    · obtain ⟨f, t⟩ := I
      refine br_f (nI_ge (b := 4) hj (by decide)) ?_
      rw [za_ix6 z k j, za_ix6 z j k, za_ix4 z j, za_ix z j, nI_clamp (by omega), nI_clamp (by omega), nI_clamp (by omega), nI_clamp (by omega), nI_clamp (by omega)]
      refine ⟨vp_in_nI hz (by decide), br_t a (pk_eq j k (fun e => ?_) (fun e => ?_))⟩
      · refine nm_r (nI_1 j) (K b' ⟨f, fun p q hp hq => ?_⟩)
        rw [t p q hp hq, e, za_plK]
      · refine ⟨vp_in_nI (by omega) (by decide), vp_in_nI (by omega) (by decide), nm_e ⟨vp_in_nI (by omega) (by decide), vp_in_nI (by omega) (by decide), ?_⟩⟩
        rw [pk_un (show 16 * z + 4 * j ≠ 16 * z + (4 * k + j) by omega)]
        have r1 : (b' (16 * z + j)).toInt = zx_T b z 0 j := zx_r0 (by rw [t 0 j (by omega) hj, za_plD (by omega) e])
        have r2 : (b' (16 * z + 4 * j)).toInt = zx_T b z j 0 := zx_c0 (by rw [t j 0 hj (by omega), za_plD e (by omega)])
        have b1 := za_bd g (show 0 < 4 by omega) hj
        refine nm_e (nm_r (nI_1 j) (K _ ⟨zx_FU (by omega) (zx_FU (by omega) f), zx_plU hk hj e t ?_ r2⟩))
        exact za_add zy_c12 r1 (by omega) (by omega)
theorem zx_follow (ok : zx_Ok M b no) {post : Int32 → SX → Prop} {z i j : Nat} (hz : z < 3) (hi1 : 1 ≤ i) (hi : i < 4) (hj1 : 1 ≤ j) (hj : j < 4) (hij : i ≠ j) (h : ∀ u', zx_Ok (zy_put M z (fun p => za_vn p i = za_vn p j ∧ zy_an (M z) i p)) u'.1 u'.2.1 → post (za_tf (zy_some (fun p => za_vn p i = za_vn p j ∧ zy_an (M z) i p))) u') : wpX_follow post (b, no, w) (nI z) (nI i) (nI j) := by
  unfold wpX_follow
  dsimp only
  refine zx_iz hz ?_
  refine br_f za_10 ?_
  refine zx_ic hi1 hi ?_
  refine br_f za_10 ?_
  refine zx_ic hj1 hj ?_
  refine br_f za_10 (br_f (by rw [nI_eq (by omega) (by omega)]; exact hij) ?_)
  rw [nI_clamp (by omega)]
  refine ⟨vp_in_nI hz (by decide), ?_⟩
  rcases ok z hz with ⟨a, d⟩ | ⟨a, g, d⟩
  · refine br_f (by rw [a]; exact za_10) ?_
    have q : zx_Z (fun p => za_vn p i = za_vn p j ∧ zy_an (M z) i p) b no z := Or.inl ⟨a, fun p hp c => zx_an0 d hp c.2⟩
    exact zx_left hz q (h (b, no, w) (zx_put ok zx_F0 (fun _ _ _ => rfl) q))
  · refine br_t a ?_
    refine loop_0 (fun n l b => wX_follow_43 post (nI z) (nI i) (nI j) n (nI l) b no w) (fun l b' => zx_F z b b' ∧ ∀ p q, p < 4 → q < 4 → zx_T b' z p q = za_pl (zx_T b z) i (fun q => zx_T b z j q) (fun p => zx_T b z p j) l p q) 4 b ⟨zx_F0, fun p q _ _ => (za_pl0 _ _ _ _ p q).symm⟩ (fun n b' I => ?_) (fun n l b' hl I K => ?_)
    · obtain ⟨f, t⟩ := I
      refine br_t (nI_le (Nat.le_refl _) (by decide)) ?_
      have t' : ∀ p q, p < 4 → q < 4 → za_fo (zx_T b z) i j p q = zx_T b' z p q := by
        intro p q hp hq
        rw [t p q hp hq, za_plE (g.1 i hi) hp hq]
        rfl
      have q : zx_Z (fun p => za_vn p i = za_vn p j ∧ zy_an (M z) i p) b' no z := by
        refine Or.inr ⟨a, za_Gc t' (za_foG g hi1 hi hj), fun p hp => ?_⟩
        have e1 := za_foS g hi hj (fun e => hij e.symm) (za_pv p)
        have e2 := zx_anE g d hi1 hi hp
        have e3 : za_pv p i = za_pv p j ↔ za_vn p i = za_vn p j := by unfold za_pv; omega
        show (_ ∧ _) ↔ _
        rw [e2, ← e3]
        exact e1.symm.trans ⟨za_satt t', za_satt fun p q hp hq => (t' p q hp hq).symm⟩
      exact zx_left hz q (h (b', no, w) (zx_put ok f (fun _ _ _ => rfl) q))
    · obtain ⟨f, t⟩ := I
      refine br_f (nI_ge (b := 4) hl (by decide)) ?_
      rw [za_ix6 z j l, za_ix6 z i l, za_ix6 z l j, za_ix6 z l i, nI_clamp (by omega), nI_clamp (by omega), nI_clamp (by omega), nI_clamp (by omega)]
      refine pk_eq l i (fun e => ?_) (fun e => ?_)
      · refine nm_r (nI_1 l) (K b' ⟨f, fun p q hp hq => ?_⟩)
        rw [t p q hp hq, e, za_plK]
      · refine ⟨vp_in_nI (by omega) (by decide), vp_in_nI (by omega) (by decide), nm_e ⟨vp_in_nI (by omega) (by decide), vp_in_nI (by omega) (by decide), ?_⟩⟩
        rw [pk_un (show 16 * z + (4 * l + j) ≠ 16 * z + (4 * i + l) by omega)]
        have r1 : (b' (16 * z + (4 * j + l))).toInt = zx_T b z j l := by
          have a := t j l hj hl
          rw [za_plD (fun e => hij e.symm) e] at a
          rw [← a]
          unfold zx_T
          rw [Nat.add_assoc]
        have r2 : (b' (16 * z + (4 * l + j))).toInt = zx_T b z l j := by
          have a := t l j hl hj
          rw [za_plD e (fun e => hij e.symm)] at a
          rw [← a]
          unfold zx_T
          rw [Nat.add_assoc]
        exact nm_e (nm_r (nI_1 l) (K _ ⟨zx_FU (by omega) (zx_FU (by omega) f), zx_plU hi hl e t r1 r2⟩))
theorem zx_follow0 (ok : zx_Ok M b no) {post : Int32 → SX → Prop} {z i : Nat} (hz : z < 3) (hi1 : 1 ≤ i) (hi : i < 4) (h : post (za_tf (zy_some (M z))) (b, no, w)) : wpX_follow post (b, no, w) (nI z) (nI i) (nI i) := by
  unfold wpX_follow
  dsimp only
  refine zx_iz hz ?_
  refine br_f za_10 ?_
  refine zx_ic hi1 hi ?_
  refine br_f za_10 ?_
  refine zx_ic hi1 hi ?_
  refine br_f za_10 (br_t rfl ?_)
  exact zx_left hz (ok z hz) h
end
end
section
/-! the component: meet, hull -/
section
variable {b no w : Nat → Int32} {M : Nat → Nat → Prop}
theorem zx_meet44 (ok : zx_Ok M b no) {post : Int32 → SX → Prop} {y z : Nat} (hy : y < 3) (hz : z < 3) (gy : no y = 0 ∧ za_G (zx_T b y) ∧ ∀ p, p < 2197 → (M y p ↔ za_Sat (zx_T b y) (za_pv p))) (gz : no z = 0 ∧ za_G (zx_T b z) ∧ ∀ p, p < 2197 → (M z p ↔ za_Sat (zx_T b z) (za_pv p))) (h : ∀ u', zx_Ok (zy_put M y (fun p => M y p ∧ M z p)) u'.1 u'.2.1 → post (za_tf (zy_some (fun p => M y p ∧ M z p))) u') : wX_meet_44 post (nI y) (nI z) 0 (nI y) b no w := by
  unfold wX_meet_44
  rw [nI_clamp (by omega), za_n0]
  refine ⟨vp_in_nI hy (by decide), nm_e ⟨vp_in_nI hy (by decide), br_t pk_us ?_⟩⟩
  obtain ⟨y0, yg, yd⟩ := gy
  obtain ⟨z0, zg, zd⟩ := gz
  refine zx_fill (fun n k b => wX_meet_56 post (nI y) (nI z) n (nI k) b (upd no y 0) w) y b (fun e => if b (16 * y + e) ≤ b (16 * z + e) then b (16 * y + e) else b (16 * z + e)) (fun n b' f I => ?_) (fun n k b' hk f I K => ?_) hy
  · refine br_t (nI_le (Nat.le_refl _) (by decide)) ?_
    have t : ∀ p q, p < 4 → q < 4 → zx_T b' y p q = za_mn (zx_T b y) (zx_T b z) p q := by
      intro p q hp hq
      have r := I (4 * p + q) (by omega)
      rw [← Nat.add_assoc, ← Nat.add_assoc] at r
      show (b' (16 * y + 4 * p + q)).toInt = min (b (16 * y + 4 * p + q)).toInt (b (16 * z + 4 * p + q)).toInt
      rw [r]
      by_cases l : b (16 * y + 4 * p + q) ≤ b (16 * z + 4 * p + q)
      · rw [if_pos l]
        rw [Int32.le_iff_toInt_le] at l
        omega
      · rw [if_neg l]
        rw [Int32.le_iff_toInt_le] at l
        omega
    obtain ⟨p1, p2, p3⟩ := za_mnH yg zg
    refine zx_close hy pk_us t p1 p2 p3 f fun b'' no' f' hn c => ?_
    have e : ∀ p, p < 2197 → ((M y p ∧ M z p) ↔ za_Sat (za_mn (zx_T b y) (zx_T b z)) (za_pv p)) := fun p hp => by rw [za_mnS, yd p hp, zd p hp]
    have q : zx_Z (fun p => M y p ∧ M z p) b'' no' y := by
      rcases c with ⟨c1, c2⟩ | ⟨c1, c2, c3⟩
      · exact Or.inl ⟨c1, fun p hp s => c2 _ ((e p hp).mp s)⟩
      · exact Or.inr ⟨c1, c2, fun p hp => (e p hp).trans (c3 _).symm⟩
    exact zx_left hy q (h (b'', no', w) (zx_put ok f' (fun v hv hvy => (hn v hv hvy).trans (pk_un hvy)) q))
  · refine br_f (nI_ge (b := 16) hk (by decide)) ?_
    rw [za_ix z k, za_ix y k, nI_clamp (by omega), nI_clamp (by omega), I z hz, I y hy]
    refine ⟨vp_in_nI (by omega) (by decide), nm_e ⟨vp_in_nI (by omega) (by decide), br_c (fun l => ?_) (fun l => ?_)⟩⟩
    · rw [if_pos l] at K
      exact ⟨vp_in_nI (by omega) (by decide), vp_in_nI (by omega) (by decide), nm_e (nm_r (nI_1 k) K)⟩
    · rw [if_neg l] at K
      exact ⟨vp_in_nI (by omega) (by decide), nm_e (nm_r (nI_1 k) K)⟩
theorem zx_meet39 (ok : zx_Ok M b no) {post : Int32 → SX → Prop} {y z : Nat} (hy : y < 3) (n : ∀ p, p < 2197 → ¬ (M y p ∧ M z p)) (h : ∀ u', zx_Ok (zy_put M y (fun p => M y p ∧ M z p)) u'.1 u'.2.1 → post (za_tf (zy_some (fun p => M y p ∧ M z p))) u') : wX_meet_39 post (nI y) (nI z) (nI y) b no w := by
  unfold wX_meet_39 wX_meet_44
  rw [nI_clamp (by omega), za_n1]
  refine ⟨vp_in_nI hy (by decide), nm_e ⟨vp_in_nI hy (by decide), br_f (by rw [pk_us]; exact za_10) ?_⟩⟩
  have q : zx_Z (fun p => M y p ∧ M z p) b (upd no y 1) y := Or.inl ⟨pk_us, n⟩
  exact zx_left hy q (h (b, upd no y 1, w) (zx_put ok zx_F0 zx_nU q))
theorem zx_meet (ok : zx_Ok M b no) {post : Int32 → SX → Prop} {y z : Nat} (hy : y < 3) (hz : z < 3) (h : ∀ u', zx_Ok (zy_put M y (fun p => M y p ∧ M z p)) u'.1 u'.2.1 → post (za_tf (zy_some (fun p => M y p ∧ M z p))) u') : wpX_meet post (b, no, w) (nI y) (nI z) := by
  unfold wpX_meet
  dsimp only
  refine zx_iz hy ?_
  refine br_f za_10 ?_
  refine zx_iz hz ?_
  refine br_f za_10 ?_
  rw [nI_clamp (by omega), nI_clamp (by omega)]
  refine ⟨vp_in_nI hy (by decide), ?_⟩
  rcases ok y hy with ⟨a, d⟩ | gy
  · exact br_f (by rw [a]; exact za_10) (zx_meet39 ok hy (fun p hp c => d p hp c.1) h)
  · refine br_t gy.1 ⟨vp_in_nI hz (by decide), ?_⟩
    rcases ok z hz with ⟨a, d⟩ | gz
    · exact br_f (by rw [a]; exact za_10) (zx_meet39 ok hy (fun p hp c => d p hp c.2) h)
    · exact br_t gz.1 (zx_meet44 ok hy hz gy gz h)
theorem zx_hull (ok : zx_Ok M b no) {post : Int32 → SX → Prop} {y z : Nat} (hy : y < 3) (hz : z < 3) (h : ∀ u', zx_Ok (zy_put M y (za_HU (fun p => M y p ∨ M z p))) u'.1 u'.2.1 → post (za_tf (zy_some (za_HU (fun p => M y p ∨ M z p)))) u') : wpX_hull post (b, no, w) (nI y) (nI z) := by
  unfold wpX_hull
  dsimp only
  refine zx_iz hy ?_
  refine br_f za_10 ?_
  refine zx_iz hz ?_
  refine br_f za_10 ?_
  rw [nI_clamp (by omega), nI_clamp (by omega)]
  refine ⟨vp_in_nI hy (by decide), ?_⟩
  rcases ok y hy with ⟨ya, yd⟩ | ⟨y0, yg, yd⟩
  · refine br_f (by rw [ya]; exact za_10) ?_
    refine zx_copy ok hy hz fun b' no' f hn q => ?_
    have e : ∀ p, p < 2197 → (M z p ↔ za_HU (fun p => M y p ∨ M z p) p) := by
      intro p hp
      rcases ok z hz with ⟨za, zd⟩ | ⟨z0, zg, zd⟩
      · exact ⟨fun c => absurd c (zd p hp), fun c => absurd c (za_HU0 (fun r hr c => c.elim (yd r hr) (zd r hr)) p)⟩
      · rw [za_HU1 zg (fun r hr => ⟨fun c => c.elim (fun x => absurd x (yd r hr)) (zd r hr).mp, fun c => Or.inr ((zd r hr).mpr c)⟩) p]
        exact zd p hp
    have q' := zx_Zc e q
    exact zx_left hy q' (h (b', no', w) (zx_put ok f hn q'))
  · refine br_t y0 ⟨vp_in_nI hz (by decide), ?_⟩
    rcases ok z hz with ⟨za, zd⟩ | ⟨z0, zg, zd⟩
    · refine br_f (by rw [za]; exact za_10) ?_
      have q : zx_Z (za_HU (fun p => M y p ∨ M z p)) b no y := by
        refine Or.inr ⟨y0, yg, fun p hp => ?_⟩
        exact za_HU1 yg (fun r hr => ⟨fun c => c.elim (yd r hr).mp (fun x => absurd x (zd r hr)), fun c => Or.inl ((yd r hr).mpr c)⟩) p
      exact zx_left hy q (h (b, no, w) (zx_put ok zx_F0 (fun _ _ _ => rfl) q))
    · refine br_t z0 ?_
      refine zx_fill (fun n k b => wX_hull_46 post (nI y) (nI z) n (nI k) b no w) y b (fun e => if b (16 * z + e) ≤ b (16 * y + e) then b (16 * y + e) else b (16 * z + e)) (fun n b' f I => ?_) (fun n k b' hk f I K => ?_) hy
      · refine br_t (nI_le (Nat.le_refl _) (by decide)) ?_
        have t : ∀ p q, p < 4 → q < 4 → za_mx (zx_T b y) (zx_T b z) p q = zx_T b' y p q := by
          intro p q hp hq
          have r := I (4 * p + q) (by omega)
          rw [← Nat.add_assoc, ← Nat.add_assoc] at r
          show max (b (16 * y + 4 * p + q)).toInt (b (16 * z + 4 * p + q)).toInt = (b' (16 * y + 4 * p + q)).toInt
          rw [r]
          by_cases l : b (16 * z + 4 * p + q) ≤ b (16 * y + 4 * p + q)
          · rw [if_pos l]
            rw [Int32.le_iff_toInt_le] at l
            omega
          · rw [if_neg l]
            rw [Int32.le_iff_toInt_le] at l
            omega
        have q : zx_Z (za_HU (fun p => M y p ∨ M z p)) b' no y := by
          refine Or.inr ⟨y0, za_Gc t (za_mxG yg zg), fun p hp => ?_⟩
          exact Iff.trans (za_HU2 yg zg (fun r hr => by rw [yd r hr, zd r hr]) p) ⟨za_satt t, za_satt fun p q hp hq => (t p q hp hq).symm⟩
        exact zx_left hy q (h (b', no, w) (zx_put ok f (fun _ _ _ => rfl) q))
      · refine br_f (nI_ge (b := 16) hk (by decide)) ?_
        rw [za_ix z k, za_ix y k, nI_clamp (by omega), nI_clamp (by omega), I z hz, I y hy]
        refine ⟨vp_in_nI (by omega) (by decide), nm_e ⟨vp_in_nI (by omega) (by decide), br_c (fun l => ?_) (fun l => ?_)⟩⟩
        · rw [if_pos l] at K
          exact ⟨vp_in_nI (by omega) (by decide), vp_in_nI (by omega) (by decide), nm_e (nm_r (nI_1 k) K)⟩
        · rw [if_neg l] at K
          exact ⟨vp_in_nI (by omega) (by decide), nm_e (nm_r (nI_1 k) K)⟩
end
end
section
/-! the component: empty, widest, has, within, touch -/
theorem za_p3 {a1 a2 a3 : Nat} (h1 : a1 ≤ 12) (h2 : a2 ≤ 12) (h3 : a3 ≤ 12) : 169 * a1 + 13 * a2 + a3 < 2197 ∧ za_vn (169 * a1 + 13 * a2 + a3) 1 = a1 ∧ za_vn (169 * a1 + 13 * a2 + a3) 2 = a2 ∧ za_vn (169 * a1 + 13 * a2 + a3) 3 = a3 := by
  refine ⟨by omega, ?_, ?_, ?_⟩
  · rw [za_vn1]; omega
  · rw [za_vn2]; omega
  · rw [za_vn3]; omega
theorem za_p4 {p : Nat} : p = 169 * za_vn p 1 + 13 * za_vn p 2 + za_vn p 3 := by
  have d2 : p / 169 = p / 13 / 13 := by rw [Nat.div_div_eq_div_mul]
  rw [za_vn1, za_vn2, za_vn3, d2]; omega
section
variable {b no w : Nat → Int32} {M : Nat → Nat → Prop}
theorem zx_empty (ok : zx_Ok M b no) {post : Int32 → Prop} {z : Nat} (hz : z < 3) (h : post (1 - za_tf (zy_some (M z)))) : wpX_empty post (b, no, w) (nI z) := by
  unfold wpX_empty
  dsimp only
  refine zx_iz hz ?_
  refine br_f za_10 ?_
  rw [nI_clamp (by omega)]
  refine ⟨vp_in_nI hz (by decide), ?_⟩
  rcases ok z hz with ⟨a, c⟩ | ⟨a, c, d⟩
  · refine br_f (by rw [a]; exact za_10) ?_
    rw [za_tf0 (fun ⟨p, e, f⟩ => c p e f)] at h
    exact h
  · refine br_t a ?_
    obtain ⟨p, e, f⟩ := za_ne c
    rw [za_tf1 ⟨p, e, (d p e).mpr f⟩] at h
    exact h
theorem zx_widest (ok : zx_Ok M b no) {post : Int32 → Prop} {z i j : Nat} (hz : z < 3) (hi : i < 4) (hj : j < 4) (hij : i ≠ j) (h1 : (∀ p, p < 2197 → ¬ M z p) → post (-300)) (h2 : ∀ r : Int32, (∃ p, p < 2197 ∧ M z p ∧ r.toInt = za_pv p i - za_pv p j) → (∀ p, p < 2197 → M z p → za_pv p i - za_pv p j ≤ r.toInt) → post r) : wpX_widest post (b, no, w) (nI z) (nI i) (nI j) := by
  unfold wpX_widest
  dsimp only
  refine zx_iz hz ?_
  refine br_f za_10 ?_
  refine zx_ip hi hj hij ?_
  refine br_f za_10 ?_
  rw [za_ix5, nI_clamp (by omega), nI_clamp (by omega)]
  refine ⟨vp_in_nI hz (by decide), ?_⟩
  rcases ok z hz with ⟨a, c⟩ | ⟨a, c, d⟩
  · exact br_f (by rw [a]; exact za_10) (h1 c)
  · refine br_t a ⟨vp_in_nI (by omega) (by decide), h2 _ ?_ fun p hp m => ?_⟩
    · obtain ⟨p, e, f, g⟩ := za_top c hi hj
      exact ⟨p, e, (d p e).mpr f, g.symm⟩
    · exact ((d p hp).mp m) i j hi hj
theorem zx_h95 {post : Int32 → SX → Prop} {x : Int32} (h : post 0 (b, no, w)) : wX_has_95 post x b no w := by
  unfold wX_has_95 wX_has_96 wX_has_117 wX_has_118
  exact br_t rfl (br_t rfl h)
theorem zx_has (ok : zx_Ok M b no) {post : Int32 → SX → Prop} {z a1 a2 a3 : Nat} (hz : z < 3) (h1 : a1 ≤ 12) (h2 : a2 ≤ 12) (h3 : a3 ≤ 12) (h : ∀ w', post (za_tf (M z (169 * a1 + 13 * a2 + a3))) (b, no, w')) : wpX_has post (b, no, w) (nI z) (nI a1) (nI a2) (nI a3) := by
  unfold wpX_has
  dsimp only
  refine zx_iz hz ?_
  have l : ∀ k, k ≤ 12 → ¬ (12 : Int32) < nI k := fun k hk => by rw [show (12 : Int32) = nI 12 from rfl, nI_ltI (by omega) (by omega)]; omega
  refine br_f za_10 (br_f (nI_pos (by omega)) (br_f (l a1 h1) (br_f (nI_pos (by omega)) (br_f (l a2 h2) (br_f (nI_pos (by omega)) (br_f (l a3 h3) ?_))))))
  unfold wX_has_46
  rw [nI_clamp (by omega)]
  refine ⟨vp_in_nI hz (by decide), ?_⟩
  obtain ⟨hp, v1, v2, v3⟩ := za_p3 h1 h2 h3
  rcases ok z hz with ⟨a, c⟩ | ⟨a, g, d⟩
  · refine br_f (by rw [a]; exact za_10) ?_
    have h' := h w
    rw [za_tf0 (c _ hp)] at h'
    exact h'
  · refine br_t a (br_f za_10 ?_)
    have F : ∀ w', (¬ za_Sat (zx_T b z) (za_pv (169 * a1 + 13 * a2 + a3))) → post 0 (b, no, w') := by
      intro w' n
      have h' := h w'
      rw [za_tf0 (fun m => n ((d _ hp).mp m))] at h'
      exact h'
    have e1 : za_pv (169 * a1 + 13 * a2 + a3) 1 = a1 := by unfold za_pv; omega
    have e2 : za_pv (169 * a1 + 13 * a2 + a3) 2 = a2 := by unfold za_pv; omega
    have e3 : za_pv (169 * a1 + 13 * a2 + a3) 3 = a3 := by unfold za_pv; omega
    have e0 := za_pv0 (169 * a1 + 13 * a2 + a3)
    refine zx_take hz fun w0 t0 => ?_
    refine zx_fix (k := 1) (za_Gc t0 g) (by omega) (za_ti (by omega)) (by omega) (by omega) (fun w1 g1 s1 => ?_) (fun w1 n1 => ?_)
    · refine br_f za_10 ?_
      refine zx_fix (k := 2) g1 (by omega) (za_ti (by omega)) (by omega) (by omega) (fun w2 g2 s2 => ?_) (fun w2 n2 => ?_)
      · refine br_f za_10 ?_
        unfold wX_has_96
        refine br_f za_10 ?_
        refine zx_fix (k := 3) g2 (by omega) (za_ti (by omega)) (by omega) (by omega) (fun w3 g3 s3 => ?_) (fun w3 n3 => ?_)
        · refine br_f za_10 (br_f za_10 ?_)
          obtain ⟨p, pl, ps⟩ := za_ne g3
          have q3 := (s3 _).mp ps
          have q2 := (s2 _).mp q3.1
          have q1 := (s1 _).mp q2.1
          have z0 := za_pv0 p
          have ep : p = 169 * a1 + 13 * a2 + a3 := by
            have x := za_p4 (p := p)
            have y1 : za_pv p 1 = (za_vn p 1 : Int) := rfl
            have y2 : za_pv p 2 = (za_vn p 2 : Int) := rfl
            have y3 : za_pv p 3 = (za_vn p 3 : Int) := rfl
            omega
          have h' := h w3
          rw [← ep, za_tf1 ((d p pl).mpr (za_satt (fun i j hi hj => (t0 i j hi hj).symm) q1.1))] at h'
          exact h'
        · refine br_t rfl (br_t rfl (F w3 fun s => ?_))
          refine n3 _ ((s2 _).mpr ⟨(s1 _).mpr ⟨za_satt t0 s, ?_⟩, ?_⟩) ?_ <;> omega
      · refine br_t rfl (zx_h95 (F w2 fun s => ?_))
        refine n2 _ ((s1 _).mpr ⟨za_satt t0 s, ?_⟩) ?_ <;> omega
    · refine br_t rfl (zx_h95 (F w1 fun s => ?_))
      refine n1 _ (za_satt t0 s) ?_
      omega
theorem zx_hasN (ok : zx_Ok M b no) {post : Int32 → SX → Prop} {z : Nat} {x1 x2 x3 : Int32} (hz : z < 3) (hx : x1 < 0 ∨ 12 < x1 ∨ x2 < 0 ∨ 12 < x2 ∨ x3 < 0 ∨ 12 < x3) (h : post 0 (b, no, w)) : wpX_has post (b, no, w) (nI z) x1 x2 x3 := by
  unfold wpX_has
  dsimp only
  refine zx_iz hz ?_
  have F : wX_has_45 post (nI z) x1 x2 x3 b no w := by
    unfold wX_has_45 wX_has_46
    exact ⟨vp_in_nI hz (by decide), br_c (fun _ => br_t rfl h) (fun _ => h)⟩
  refine br_f za_10 (br_c (fun _ => F) fun n1 => br_c (fun _ => F) fun n2 => br_c (fun _ => F) fun n3 => br_c (fun _ => F) fun n4 => br_c (fun _ => F) fun n5 => br_c (fun _ => F) fun n6 => ?_)
  rcases hx with q | q | q | q | q | q
  · exact absurd q n1
  · exact absurd q n2
  · exact absurd q n3
  · exact absurd q n4
  · exact absurd q n5
  · exact absurd q n6
theorem zx_within (ok : zx_Ok M b no) {post : Int32 → Prop} {y z : Nat} (hy : y < 3) (hz : z < 3) (h : post (za_tf (∀ p, p < 2197 → M y p → M z p))) : wpX_within post (b, no, w) (nI y) (nI z) := by
  unfold wpX_within
  dsimp only
  refine zx_iz hy ?_
  refine br_f za_10 ?_
  refine zx_iz hz ?_
  refine br_f za_10 ?_
  unfold wX_within_34
  rw [nI_clamp (by omega), nI_clamp (by omega)]
  refine ⟨vp_in_nI hy (by decide), ?_⟩
  rcases ok y hy with ⟨ya, yd⟩ | ⟨y0, yg, yd⟩
  · have n1 : ¬ no y = 0 := by rw [ya]; exact za_10
    refine br_f n1 ⟨vp_in_nI hy (by decide), br_f n1 ?_⟩
    rw [za_tf1 (fun p hp m => absurd m (yd p hp))] at h
    exact h
  · refine br_t y0 ⟨vp_in_nI hz (by decide), ?_⟩
    rcases ok z hz with ⟨za, zd⟩ | ⟨z0, zg, zd⟩
    · refine br_f (by rw [za]; exact za_10) ⟨vp_in_nI hy (by decide), br_t y0 ?_⟩
      obtain ⟨p, e, f⟩ := za_ne yg
      rw [za_tf0 (fun c => zd p e (c p e ((yd p e).mpr f)))] at h
      exact h
    · refine br_t z0 ?_
      have E : (∀ p, p < 2197 → M y p → M z p) ↔ ∀ i j, i < 4 → j < 4 → zx_T b y i j ≤ zx_T b z i j := by
        rw [← za_inc yg]
        constructor
        · intro c p hp s
          exact (zd p hp).mp (c p hp ((yd p hp).mpr s))
        · intro c p hp s
          exact (zd p hp).mpr (c p hp ((yd p hp).mp s))
      rw [za_tfc E] at h
      refine loop_0 (fun n k (_ : Unit) => wX_within_51 post (nI y) (nI z) b no w n (nI k)) (fun k _ => ∀ i j, i < 4 → j < 4 → 4 * i + j < k → zx_T b y i j ≤ zx_T b z i j) 16 () (fun i j _ _ c => absurd c (by omega)) (fun n _ I => ?_) (fun n k _ hk I K => ?_)
      · refine br_t (nI_le (Nat.le_refl _) (by decide)) ?_
        rw [za_tf1 (fun i j hi hj => I i j hi hj (by omega))] at h
        exact h
      · refine br_f (nI_ge (b := 16) hk (by decide)) ?_
        rw [za_ix y k, za_ix z k, nI_clamp (by omega), nI_clamp (by omega)]
        have r : ∀ v, (b (16 * v + k)).toInt = zx_T b v (k / 4) (k % 4) := by
          intro v
          unfold zx_T
          rw [show 16 * v + 4 * (k / 4) + k % 4 = 16 * v + k by omega]
        refine ⟨vp_in_nI (by omega) (by decide), vp_in_nI (by omega) (by decide), za_brle (r y) (r z) (fun l => ?_) (fun l => ?_)⟩
        · refine nm_r (nI_1 k) (K () fun i j hi hj c => ?_)
          by_cases e : 4 * i + j = k
          · have e1 : i = k / 4 := by omega
            have e2 : j = k % 4 := by omega
            rw [e1, e2]
            exact l
          · exact I i j hi hj (by omega)
        · rw [za_tf0 (fun c => by have := c (k / 4) (k % 4) (by omega) (by omega); omega)] at h
          exact h
theorem zx_touch (ok : zx_Ok M b no) {post : Int32 → SX → Prop} {y z : Nat} (hy : y < 3) (hz : z < 3) (h : ∀ w', post (za_tf (∃ p, p < 2197 ∧ M y p ∧ M z p)) (b, no, w')) : wpX_touch post (b, no, w) (nI y) (nI z) := by
  unfold wpX_touch
  dsimp only
  refine zx_iz hy ?_
  refine br_f za_10 ?_
  refine zx_iz hz ?_
  refine br_f za_10 ?_
  rw [nI_clamp (by omega), nI_clamp (by omega)]
  refine ⟨vp_in_nI hy (by decide), ?_⟩
  rcases ok y hy with ⟨ya, yd⟩ | ⟨y0, yg, yd⟩
  · refine br_f (by rw [ya]; exact za_10) ?_
    have h' := h w
    rw [za_tf0 (fun ⟨p, e, f, _⟩ => yd p e f)] at h'
    exact h'
  · refine br_t y0 ⟨vp_in_nI hz (by decide), ?_⟩
    rcases ok z hz with ⟨za, zd⟩ | ⟨z0, zg, zd⟩
    · refine br_f (by rw [za]; exact za_10) ?_
      have h' := h w
      rw [za_tf0 (fun ⟨p, e, _, f⟩ => zd p e f)] at h'
      exact h'
    · refine br_t z0 ?_
      refine zx_take hy fun w0 t0 => ?_
      refine loop_0 (fun n k w => wX_touch_43 post (nI z) n (nI k) b no w) (fun k w' => za_G (zx_W w') ∧ ∀ x, za_Sat (zx_W w') x ↔ za_Sat (zx_T b y) x ∧ ∀ i j, i < 4 → j < 4 → 4 * i + j < k → x i - x j ≤ zx_T b z i j) 16 w0 ⟨za_Gc t0 yg, fun x => ⟨fun s => ⟨za_satt (fun i j hi hj => (t0 i j hi hj).symm) s, fun i j _ _ c => absurd c (by omega)⟩, fun s => za_satt t0 s.1⟩⟩ (fun n w' I => ?_) (fun n k w' hk I K => ?_)
      · refine br_t (nI_le (Nat.le_refl _) (by decide)) ?_
        obtain ⟨p, e, f⟩ := za_ne I.1
        have s := (I.2 _).mp f
        have h' := h w'
        rw [za_tf1 ⟨p, e, (yd p e).mpr s.1, (zd p e).mpr fun i j hi hj => s.2 i j hi hj (by omega)⟩] at h'
        exact h'
      · refine br_f (nI_ge (b := 16) hk (by decide)) ⟨by decide, by decide, ?_⟩
        rw [za_ix z k, za_r4 (by omega), za_d4 (by omega), nI_clamp (by omega)]
        have r : (b (16 * z + k)).toInt = zx_T b z (k / 4) (k % 4) := by
          unfold zx_T
          rw [show 16 * z + 4 * (k / 4) + k % 4 = 16 * z + k by omega]
        have bd := za_bd zg (show k / 4 < 4 by omega) (show k % 4 < 4 by omega)
        refine ⟨vp_in_nI (by omega) (by decide), zx_narrow I.1 (by omega) (by omega) r bd.1 bd.2 (fun w2 g2 s2 => ?_) (fun n0 => ?_)⟩
        · refine br_f za_10 (nm_r (nI_1 k) (K w2 ⟨g2, fun x => ?_⟩))
          rw [s2, I.2 x]
          constructor
          · intro ⟨⟨c1, c2⟩, c3⟩
            refine ⟨c1, fun i j hi hj c => ?_⟩
            by_cases e : 4 * i + j = k
            · have e1 : i = k / 4 := by omega
              have e2 : j = k % 4 := by omega
              rw [e1, e2]
              exact c3
            · exact c2 i j hi hj (by omega)
          · intro ⟨c1, c2⟩
            exact ⟨⟨c1, fun i j hi hj c => c2 i j hi hj (by omega)⟩, c2 (k / 4) (k % 4) (by omega) (by omega) (by omega)⟩
        · refine br_t rfl ?_
          have h' := h w'
          have nn : ¬ ∃ p, p < 2197 ∧ M y p ∧ M z p := by
            intro ⟨p, e, f1, f2⟩
            have s2 := (zd p e).mp f2
            exact n0 _ ((I.2 _).mpr ⟨(yd p e).mp f1, fun i j hi hj _ => s2 i j hi hj⟩) (s2 _ _ (by omega) (by omega))
          rw [za_tf0 nn] at h'
          exact h'
end
end
section
/-! the component: size -/
/-- a number between the bounds of a clock is reached -/
theorem za_exn {D : Nat → Nat → Int} (g : za_G D) {k : Nat} (hk : k < 4) {n : Int} (h1 : 0 ≤ n + D 0 k) (h2 : n ≤ D k 0) : ∃ x, za_Sat D x ∧ x k - x 0 = n := by
  have g1 := za_nwG (i := k) (j := 0) (c := n) g hk (by omega) h1
  have e : za_nw D k 0 n k 0 = n := by
    have a := g.1 k hk
    have c := g.1 0 (by omega)
    unfold za_nw
    omega
  have g2 := za_nwG (i := 0) (j := k) (c := -n) g1 (by omega) hk (by rw [e]; omega)
  have s2 := (za_nwS g1 (i := 0) (j := k) (by omega) hk (-n) _).mp (za_min g2)
  have s1 := (za_nwS g (i := k) (j := 0) hk (by omega) n _).mp s2.1
  exact ⟨_, s1.1, by have a := s1.2; have c := s2.2; omega⟩
section
variable {b no w : Nat → Int32} {M : Nat → Nat → Prop}
theorem zx_span (g : za_G (zx_W w)) {post : Int32 → Prop} {a c : Nat} (ha : a ≤ 12) (hc : c ≤ 12) (h : ∀ r : Int32, (min (min (zx_W w 3 0) (zx_W w 3 1 + a)) (zx_W w 3 2 + c) < max (max (-zx_W w 0 3) (a - zx_W w 1 3)) (c - zx_W w 2 3) ∧ r.toInt = 0) ∨ (max (max (-zx_W w 0 3) (a - zx_W w 1 3)) (c - zx_W w 2 3) ≤ min (min (zx_W w 3 0) (zx_W w 3 1 + a)) (zx_W w 3 2 + c) ∧ r.toInt = min (min (zx_W w 3 0) (zx_W w 3 1 + a)) (zx_W w 3 2 + c) - max (max (-zx_W w 0 3) (a - zx_W w 1 3)) (c - zx_W w 2 3) + 1) → post r) : wpX_spanFor post (b, no, w) (nI a) (nI c) := by
  have b30 := za_bd g (i := 3) (j := 0) (by omega) (by omega)
  have b31 := za_bd g (i := 3) (j := 1) (by omega) (by omega)
  have b32 := za_bd g (i := 3) (j := 2) (by omega) (by omega)
  have b03 := za_bd g (i := 0) (j := 3) (by omega) (by omega)
  have b13 := za_bd g (i := 1) (j := 3) (by omega) (by omega)
  have b23 := za_bd g (i := 2) (j := 3) (by omega) (by omega)
  have w30 : (w 12).toInt = zx_W w 3 0 := rfl
  have w31 : (w 13).toInt = zx_W w 3 1 := rfl
  have w32 : (w 14).toInt = zx_W w 3 2 := rfl
  have w03 : (w 3).toInt = zx_W w 0 3 := rfl
  have w13 : (w 7).toInt = zx_W w 1 3 := rfl
  have w23 : (w 11).toInt = zx_W w 2 3 := rfl
  generalize zx_W w 3 0 = d30 at *
  generalize zx_W w 3 1 = d31 at *
  generalize zx_W w 3 2 = d32 at *
  generalize zx_W w 0 3 = d03 at *
  generalize zx_W w 1 3 = d13 at *
  generalize zx_W w 2 3 = d23 at *
  have ea := za_ti (n := a) (by omega)
  have ec := za_ti (n := c) (by omega)
  have e1 : (w 13 + nI a).toInt = d31 + a := za_add w31 ea (by omega) (by omega)
  have e2 : (w 14 + nI c).toInt = d32 + c := za_add w32 ec (by omega) (by omega)
  have e3 : (-(w 3)).toInt = -d03 := za_neg w03 (by omega)
  have e4 : (nI a - w 7).toInt = a - d13 := za_sub ea w13 (by omega) (by omega)
  have e5 : (nI c - w 11).toInt = c - d23 := za_sub ec w23 (by omega) (by omega)
  have f117 : ∀ x y : Int32, x.toInt = min (min d30 (d31 + a)) (d32 + c) → y.toInt = max (max (-d03) (a - d13)) (c - d23) → wX_spanFor_117 post x y b no w := by
    intro x y ex ey
    unfold wX_spanFor_117
    refine za_brlt ex ey (fun l => h 0 (Or.inl ⟨l, by decide⟩)) (fun l => h _ (Or.inr ⟨l, ?_⟩))
    exact za_add (za_sub ex ey (by omega) (by omega)) (show (1 : Int32).toInt = 1 by decide) (by omega) (by omega)
  have f55 : ∀ x : Int32, x.toInt = min (min d30 (d31 + a)) (d32 + c) → wX_spanFor_55 post (nI a) (nI c) x b no w := by
    intro x ex
    unfold wX_spanFor_55
    refine nm_e (nm_e (nm_e ?_))
    have f101 : ∀ y : Int32, y.toInt = max (-d03) (a - d13) → wX_spanFor_101 post x (nI c - w 11) y b no w := by
      intro y ey
      unfold wX_spanFor_101
      refine za_brle e5 ey (fun l => f117 x y ex ?_) (fun l => f117 x _ ex ?_)
      · rw [ey]; omega
      · rw [e5]; omega
    refine za_brle e4 e3 (fun l => f101 _ ?_) (fun l => f101 _ ?_)
    · rw [e3]; omega
    · rw [e4]; omega
  have f42 : ∀ x : Int32, x.toInt = min d30 (d31 + a) → wX_spanFor_42 post (nI a) (nI c) (w 14 + nI c) x b no w := by
    intro x ex
    unfold wX_spanFor_42
    refine za_brle ex e2 (fun l => f55 x ?_) (fun l => f55 _ ?_)
    · rw [ex]; omega
    · rw [e2]; omega
  unfold wpX_spanFor
  dsimp only
  refine nm_e (nm_e (nm_e ?_))
  refine za_brle w30 e1 (fun l => f42 _ ?_) (fun l => f42 _ ?_)
  · rw [w30]; omega
  · rw [e1]; omega
theorem zx_i4 (z : Nat) : (16 : Int32) * nI z + 4 = nI (16 * z + 4) := za_ix z 4
theorem zx_i1 (z : Nat) : (16 : Int32) * nI z + 1 = nI (16 * z + 1) := za_ix z 1
/-- the readings with the first two clocks given -/
theorem zx_row {D : Nat → Nat → Int} (g : za_G D) {P : Nat → Prop} {a c : Nat} (ha : a ≤ 12) (hc : c ≤ 12) (hs : ∀ x, za_Sat D x → x 1 - x 0 = a) (hP : ∀ p, p < 2197 → za_vn p 1 = a → (P p ↔ za_Sat D (za_pv p))) (h1 : -D 0 2 ≤ c) (h2 : c ≤ D 2 0) : ∀ e, e < 13 → (P (169 * a + 13 * c + e) ↔ max (max (-D 0 3) (a - D 1 3)) (c - D 2 3) ≤ e ∧ (e : Int) ≤ min (min (D 3 0) (D 3 1 + a)) (D 3 2 + c)) := by
  intro e he
  obtain ⟨q0, q1, q2, q3⟩ := za_p3 ha hc (show e ≤ 12 by omega)
  rw [hP _ q0 q1]
  have m := hs _ (za_min g)
  have m' := hs _ (za_low g (j := 0) (by omega))
  have m1 : -D 0 1 - -D 0 0 = a := m
  have m2 : D 1 0 - D 0 0 - (D 0 0 - D 0 0) = a := m'
  have z0 := g.1 0 (by omega)
  have z1 := g.1 1 (by omega)
  have z2 := g.1 2 (by omega)
  have z3 := g.1 3 (by omega)
  have t1 := g.2.1 0 2 1 (by omega) (by omega) (by omega)
  have t2 := g.2.1 2 0 1 (by omega) (by omega) (by omega)
  have v0 := za_pv0 (169 * a + 13 * c + e)
  have v1 : za_pv (169 * a + 13 * c + e) 1 = a := by unfold za_pv; omega
  have v2 : za_pv (169 * a + 13 * c + e) 2 = c := by unfold za_pv; omega
  have v3 : za_pv (169 * a + 13 * c + e) 3 = e := by unfold za_pv; omega
  constructor
  · intro s
    have s30 := s 3 0 (by omega) (by omega)
    have s31 := s 3 1 (by omega) (by omega)
    have s32 := s 3 2 (by omega) (by omega)
    have s03 := s 0 3 (by omega) (by omega)
    have s13 := s 1 3 (by omega) (by omega)
    have s23 := s 2 3 (by omega) (by omega)
    rw [v3] at s30 s31 s32 s03 s13 s23
    rw [v0] at s30 s03
    rw [v1] at s31 s13
    rw [v2] at s32 s23
    omega
  · intro ⟨l1, l2⟩ i j hi hj
    rcases za_c4 hi with rfl | rfl | rfl | rfl <;> rcases za_c4 hj with rfl | rfl | rfl | rfl <;> (try rw [v0]) <;> (try rw [v1]) <;> (try rw [v2]) <;> (try rw [v3]) <;> omega
theorem zx_cnt {P : Nat → Prop} {n : Nat} {lo hi : Int} (h0 : 0 ≤ lo) (h12 : hi ≤ 12) (h : ∀ e, e < 13 → (P (n + e) ↔ lo ≤ e ∧ (e : Int) ≤ hi)) {r : Int32} (hr : (hi < lo ∧ r.toInt = 0) ∨ (lo ≤ hi ∧ r.toInt = hi - lo + 1)) : nI (za_ct P n) + r = nI (za_ct P (n + 13)) := by
  rcases hr with ⟨l, e⟩ | ⟨l, e⟩
  · have e' : r = nI 0 := za_nn e (by omega)
    rw [e', nI_add, Nat.add_zero, za_ctN fun c hc m => by have := (h c hc).mp m; omega]
  · obtain ⟨u, rfl⟩ : ∃ u : Nat, lo = u := ⟨lo.toNat, by omega⟩
    obtain ⟨v, rfl⟩ : ∃ v : Nat, hi = v := ⟨hi.toNat, by omega⟩
    have e' : r = nI (v + 1 - u) := za_nn (by omega) (by omega)
    rw [e', nI_add, za_ctI (lo := u) (hi := v) (by omega) (by omega) fun c hc => by rw [h c hc]; omega]
theorem zx_size (ok : zx_Ok M b no) {post : Int32 → SX → Prop} {z : Nat} (hz : z < 3) (h : ∀ w', post (nI (za_ct (M z) 2197)) (b, no, w')) : wpX_size post (b, no, w) (nI z) := by
  unfold wpX_size
  dsimp only
  refine zx_iz hz ?_
  refine br_f za_10 ?_
  rw [zx_i4, zx_i1, nI_clamp (by omega), nI_clamp (by omega), nI_clamp (by omega)]
  refine ⟨vp_in_nI hz (by decide), ?_⟩
  rcases ok z hz with ⟨a, d⟩ | ⟨n0, g, d⟩
  · refine br_f (by rw [a]; exact za_10) ?_
    have h' := h w
    have e : za_ct (M z) (0 + 2197) = za_ct (M z) 0 := za_ctE 2197 fun p _ hp => d p (by omega)
    rw [show (2197 : Nat) = 0 + 2197 from rfl, e] at h'
    exact h'
  · refine br_t n0 ⟨vp_in_nI (by omega) (by decide), nm_e ⟨vp_in_nI (by omega) (by decide), nm_e ?_⟩⟩
    have r10 : (b (16 * z + 4)).toInt = zx_T b z 1 0 := rfl
    have r01 : (b (16 * z + 1)).toInt = zx_T b z 0 1 := zx_r0 rfl
    have c10 := za_bd g (i := 1) (j := 0) (by omega) (by omega)
    have c01 := za_bd g (i := 0) (j := 1) (by omega) (by omega)
    have k1 := g.2.2 1 (by omega)
    have k2 := g.2.1 0 0 1 (by omega) (by omega) (by omega)
    have k3 := g.1 0 (by omega)
    obtain ⟨lo, hlo⟩ : ∃ u : Nat, -zx_T b z 0 1 = u := ⟨(-zx_T b z 0 1).toNat, by omega⟩
    obtain ⟨hi, hhi⟩ : ∃ u : Nat, zx_T b z 1 0 = u := ⟨(zx_T b z 1 0).toNat, by omega⟩
    have elo : -(b (16 * z + 1)) = nI lo := za_nn (by rw [za_neg r01 (by omega)]; exact hlo) (by omega)
    have ehi : b (16 * z + 4) = nI hi := za_nn (by rw [r10]; exact hhi) (by omega)
    rw [elo, ehi]
    have out : ∀ p, p < 2197 → M z p → lo ≤ p / 169 ∧ p / 169 ≤ hi := by
      intro p hp m
      have s := (d p hp).mp m
      have s1 := s 1 0 (by omega) (by omega)
      have s2 := s 0 1 (by omega) (by omega)
      have v0 := za_pv0 p
      have v1 : za_pv p 1 = ((p / 169 : Nat) : Int) := rfl
      omega
    refine pk_loop (fun n a (s : Int32 × (Nat → Int32)) => wX_size_48 post (nI z) (nI hi) n s.1 (nI a) b no s.2) (fun a s => lo ≤ a ∧ s.1 = nI (za_ct (M z) (169 * a))) (hi + 1) lo (0, w) (by omega) ⟨by omega, ?_⟩ (fun n s I => ?_) (fun n a s ha I K => ?_)
    · have e : za_ct (M z) (0 + 169 * lo) = za_ct (M z) 0 := za_ctE (169 * lo) fun p _ hp m => by
        have := out p (by omega) m
        omega
      rw [Nat.zero_add] at e
      show (0 : Int32) = nI (za_ct (M z) (169 * lo))
      rw [e]
      rfl
    · refine br_t (nI_lt (by omega) (by omega)) ?_
      have h' := h s.2
      have e : za_ct (M z) (169 * (hi + 1) + (2197 - 169 * (hi + 1))) = za_ct (M z) (169 * (hi + 1)) := za_ctE _ fun p hp1 hp2 m => by
        have := out p (by omega) m
        omega
      rw [show 169 * (hi + 1) + (2197 - 169 * (hi + 1)) = 2197 by omega] at e
      rw [e, ← I.2] at h'
      exact h'
    · obtain ⟨I0, I1⟩ := I
      refine br_f (nI_nlt (by omega) (by omega)) ?_
      refine zx_take hz fun w0 t0 => ?_
      refine zx_fix (k := 1) (za_Gc t0 g) (by omega) (za_ti (n := a) (by omega)) (by omega) (by omega) (fun w1 g1 s1 => ?_) (fun w1 n1 => ?_)
      · have hP : ∀ p, p < 2197 → za_vn p 1 = a → (M z p ↔ za_Sat (zx_W w1) (za_pv p)) := by
          intro p hp e
          rw [s1, d p hp]
          have v0 := za_pv0 p
          have v1 : za_pv p 1 = (za_vn p 1 : Int) := rfl
          exact ⟨fun s => ⟨za_satt t0 s, by omega⟩, fun s => za_satt (fun i j hi hj => (t0 i j hi hj).symm) s.1⟩
        have hs : ∀ x, za_Sat (zx_W w1) x → x 1 - x 0 = a := fun x s => ((s1 x).mp s).2
        have c20 := za_bd g1 (i := 2) (j := 0) (by omega) (by omega)
        have c02 := za_bd g1 (i := 0) (j := 2) (by omega) (by omega)
        have j1 := g1.2.2 2 (by omega)
        have j2 := g1.2.1 0 0 2 (by omega) (by omega) (by omega)
        have j3 := g1.1 0 (by omega)
        have j4 := g1.2.2 3 (by omega)
        have u20 : (w1 8).toInt = zx_W w1 2 0 := rfl
        have u02 : (w1 2).toInt = zx_W w1 0 2 := rfl
        obtain ⟨l2, hl2⟩ : ∃ u : Nat, -zx_W w1 0 2 = u := ⟨(-zx_W w1 0 2).toNat, by omega⟩
        obtain ⟨h2, hh2⟩ : ∃ u : Nat, zx_W w1 2 0 = u := ⟨(zx_W w1 2 0).toNat, by omega⟩
        have el2 : -(w1 2) = nI l2 := za_nn (by rw [za_neg u02 (by omega)]; exact hl2) (by omega)
        have eh2 : w1 8 = nI h2 := za_nn (by rw [u20]; exact hh2) (by omega)
        have out2 : ∀ p, p < 2197 → p / 169 = a → M z p → l2 ≤ p / 13 % 13 ∧ p / 13 % 13 ≤ h2 := by
          intro p hp e m
          have s := (hP p hp e).mp m
          have s1 := s 2 0 (by omega) (by omega)
          have s2 := s 0 2 (by omega) (by omega)
          have v0 := za_pv0 p
          have v1 : za_pv p 2 = ((p / 13 % 13 : Nat) : Int) := rfl
          omega
        refine nm_r eh2 (nm_r el2 ?_)
        refine pk_loop (fun m c x => wX_size_85 post (wX_size_48 post (nI z) (nI hi) n) (nI z) (nI hi) (nI a) (nI h2) b no w1 m x (nI c)) (fun c x => l2 ≤ c ∧ x = nI (za_ct (M z) (169 * a + 13 * c))) (h2 + 1) l2 s.1 (by omega) ⟨by omega, ?_⟩ (fun m x I2 => ?_) (fun m c x hc I2 K2 => ?_)
        · have e : za_ct (M z) (169 * a + 13 * l2) = za_ct (M z) (169 * a) := za_ctE (13 * l2) fun p hp1 hp2 m => by
            have q := out2 p (by omega) (by omega) m
            omega
          rw [I1, e]
        · obtain ⟨_, rfl⟩ := I2
          refine br_t (nI_lt (by omega) (by omega)) (nm_r (nI_1 a) (K (nI (za_ct (M z) (169 * a + 13 * (h2 + 1))), w1) ⟨by omega, ?_⟩))
          have e : za_ct (M z) (169 * a + 13 * (h2 + 1) + (169 - 13 * (h2 + 1))) = za_ct (M z) (169 * a + 13 * (h2 + 1)) := za_ctE _ fun p hp1 hp2 m => by
            have q := out2 p (by omega) (by omega) m
            omega
          rw [show 169 * a + 13 * (h2 + 1) + (169 - 13 * (h2 + 1)) = 169 * (a + 1) by omega] at e
          show nI (za_ct (M z) (169 * a + 13 * (h2 + 1))) = nI (za_ct (M z) (169 * (a + 1)))
          rw [e]
        · obtain ⟨I3, rfl⟩ := I2
          refine br_f (nI_nlt (by omega) (by omega)) ?_
          refine zx_span g1 (by omega) (by omega) fun r hr => ?_
          have R := zx_row g1 (P := M z) (a := a) (c := c) (by omega) (by omega) hs hP (by omega) (by omega)
          have C := zx_cnt (P := M z) (n := 169 * a + 13 * c) (by omega) (by omega) R hr
          refine nm_e (nm_r (nI_1 c) (K2 _ ⟨by omega, ?_⟩))
          rw [C, show 169 * a + 13 * c + 13 = 169 * a + 13 * (c + 1) by omega]
      · exfalso
        obtain ⟨x, xs, xe⟩ := za_exn g (k := 1) (n := (a : Int)) (by omega) (by omega) (by omega)
        exact n1 x (za_satt t0 xs) xe
end
end
section
/-! the component: next -/
def zx_Fst (Q : Nat → Prop) (r0 r : Int32) : Prop := (∃ p : Nat, p < 2197 ∧ Q p ∧ r = nI p ∧ ∀ q, q < 2197 → Q q → p ≤ q) ∨ (r = r0 ∧ ∀ q, q < 2197 → ¬ Q q)
theorem za_minp {D : Nat → Nat → Int} (g : za_G D) : ∃ p, p < 2197 ∧ za_Sat D (za_pv p) ∧ ∀ k, k < 4 → (za_vn p k : Int) = -D 0 k := by
  obtain ⟨p, a, s, c⟩ := za_ex g (za_min g) (by have := g.1 0 (by omega); show -D 0 0 = 0; omega)
  exact ⟨p, a, s, c⟩
theorem zx_num {x : Int32} {a1 a2 a3 : Nat} (h1 : a1 ≤ 12) (h2 : a2 ≤ 12) (h3 : a3 ≤ 12) (e : x.toInt = -(a3 : Int)) : (169 * nI a1 + 13 * nI a2) - x = nI (169 * a1 + 13 * a2 + a3) := by
  have e1 : (169 : Int32) * nI a1 + 13 * nI a2 = nI (169 * a1 + 13 * a2) := by
    show nI 169 * nI a1 + nI 13 * nI a2 = _
    rw [pk_mul, pk_mul, nI_add]
  rw [e1]
  refine za_nn ?_ (by omega)
  rw [za_sub (za_ti (by omega)) e (by omega) (by omega)]
  omega
theorem zx_vb {D : Nat → Nat → Int} {p k : Nat} (s : za_Sat D (za_pv p)) (hk : k < 4) : -D 0 k ≤ (za_vn p k : Int) := by
  have a := s 0 k (by omega) hk
  have v0 := za_pv0 p
  have v1 : za_pv p k = (za_vn p k : Int) := rfl
  omega
section
variable {b no w : Nat → Int32} {M : Nat → Nat → Prop}
theorem zx_firstFrom {post : Int32 → SX → Prop} {z : Nat} (hz : z < 3) (g : za_G (zx_T b z)) (d : ∀ p, p < 2197 → (M z p ↔ za_Sat (zx_T b z) (za_pv p))) {A B C : Nat} (hA : A ≤ 12) (hB : B ≤ 12) (hC : C ≤ 12) (h : ∀ w' r, zx_Fst (fun q => M z q ∧ za_vn q 1 = A ∧ za_vn q 2 = B ∧ C ≤ za_vn q 3) (-1) r → post r (b, no, w')) : wpX_firstFrom post (b, no, w) (nI z) (nI A) (nI B) (nI C) := by
  have F : ∀ w', (∀ q, q < 2197 → ¬ (M z q ∧ za_vn q 1 = A ∧ za_vn q 2 = B ∧ C ≤ za_vn q 3)) → wX_firstFrom_31 post (nI A) (nI B) (nI C) b no w' := by
    intro w' n
    unfold wX_firstFrom_31 wX_firstFrom_32 wX_firstFrom_55 wX_firstFrom_56
    exact br_t rfl (br_t rfl (h w' _ (Or.inr ⟨rfl, n⟩)))
  have V : ∀ q k, za_pv q k - za_pv q 0 = (za_vn q k : Int) := by
    intro q k
    have v0 := za_pv0 q
    have v1 : za_pv q k = (za_vn q k : Int) := rfl
    omega
  unfold wpX_firstFrom
  dsimp only
  refine zx_take hz fun w0 t0 => ?_
  refine zx_fix (k := 1) (za_Gc t0 g) (by omega) (za_ti (n := A) (by omega)) (by omega) (by omega) (fun w1 g1 s1 => br_f za_10 ?_) (fun w1 n1 => br_t rfl (F w1 fun q hq m => ?_))
  · refine zx_fix (k := 2) g1 (by omega) (za_ti (n := B) (by omega)) (by omega) (by omega) (fun w2 g2 s2 => br_f za_10 ?_) (fun w2 n2 => br_t rfl (F w2 fun q hq m => ?_))
    · unfold wX_firstFrom_32
      refine br_f za_10 ?_
      refine zx_narrow (i := 0) (j := 3) g2 (by omega) (by omega) (za_neg (za_ti (n := C) (by omega)) (by omega)) (by omega) (by omega) (fun w3 g3 s3 => ?_) (fun n3 => ?_)
      · refine br_f za_10 (br_f za_10 ?_)
        obtain ⟨p, hp, ps, pm⟩ := za_minp g3
        have q3 := (s3 _).mp ps
        have q2 := (s2 _).mp q3.1
        have q1 := (s1 _).mp q2.1
        have v1 := V p 1
        have v2 := V p 2
        have v3 := V p 3
        have m3 := pm 3 (by omega)
        have b3 := za_vnle (k := 3) hp
        have e1 : za_vn p 1 = A := by omega
        have e2 : za_vn p 2 = B := by omega
        have p4 := za_p4 (p := p)
        have e : (169 * nI A + 13 * nI B) - w3 3 = nI p := by
          rw [zx_num hA hB b3 (show (w3 3).toInt = -(za_vn p 3 : Int) from by rw [m3]; show zx_W w3 0 3 = _; omega)]
          exact congrArg nI (by omega)
        rw [e]
        refine h w3 _ (Or.inl ⟨p, hp, ⟨(d p hp).mpr (za_satt (fun i j hi hj => (t0 i j hi hj).symm) q1.1), e1, e2, by omega⟩, rfl, fun q hq m => ?_⟩)
        obtain ⟨m0, m1, m2, m4⟩ := m
        have u1 := V q 1
        have u2 := V q 2
        have u3 := V q 3
        have s := zx_vb (k := 3) ((s3 _).mpr ⟨(s2 _).mpr ⟨(s1 _).mpr ⟨za_satt t0 ((d q hq).mp m0), by omega⟩, by omega⟩, by omega⟩) (by omega)
        have q4 := za_p4 (p := q)
        omega
      · refine br_t rfl ?_
        unfold wX_firstFrom_55 wX_firstFrom_56
        refine br_t rfl (h w2 _ (Or.inr ⟨rfl, fun q hq m => ?_⟩))
        obtain ⟨m0, m1, m2, m4⟩ := m
        have u1 := V q 1
        have u2 := V q 2
        have u3 := V q 3
        exact n3 _ ((s2 _).mpr ⟨(s1 _).mpr ⟨za_satt t0 ((d q hq).mp m0), by omega⟩, by omega⟩) (by omega)
    · obtain ⟨m0, m1, m2, m4⟩ := m
      have u1 := V q 1
      have u2 := V q 2
      exact n2 _ ((s1 _).mpr ⟨za_satt t0 ((d q hq).mp m0), by omega⟩) (by omega)
  · obtain ⟨m0, m1, m2, m4⟩ := m
    have u1 := V q 1
    exact n1 _ (za_satt t0 ((d q hq).mp m0)) (by omega)
theorem zx_firstSecond {post : Int32 → SX → Prop} {z : Nat} (hz : z < 3) (g : za_G (zx_T b z)) (d : ∀ p, p < 2197 → (M z p ↔ za_Sat (zx_T b z) (za_pv p))) {A B : Nat} (hA : A ≤ 12) (hB : B ≤ 13) (h : ∀ w' r, zx_Fst (fun q => M z q ∧ za_vn q 1 = A ∧ B ≤ za_vn q 2) (-1) r → post r (b, no, w')) : wpX_firstSecond post (b, no, w) (nI z) (nI A) (nI B) := by
  have F : ∀ w', (∀ q, q < 2197 → ¬ (M z q ∧ za_vn q 1 = A ∧ B ≤ za_vn q 2)) → wX_firstSecond_39 post (nI A) b no w' := by
    intro w' n
    unfold wX_firstSecond_39 wX_firstSecond_40
    exact br_t rfl (h w' _ (Or.inr ⟨rfl, n⟩))
  have V : ∀ q k, za_pv q k - za_pv q 0 = (za_vn q k : Int) := by
    intro q k
    have v0 := za_pv0 q
    have v1 : za_pv q k = (za_vn q k : Int) := rfl
    omega
  unfold wpX_firstSecond
  dsimp only
  refine zx_take hz fun w0 t0 => ?_
  refine zx_fix (k := 1) (za_Gc t0 g) (by omega) (za_ti (n := A) (by omega)) (by omega) (by omega) (fun w1 g1 s1 => br_f za_10 ?_) (fun w1 n1 => br_t rfl (F w1 fun q hq m => ?_))
  · refine pk_lt 12 B (fun l => F w1 fun q hq m => ?_) (fun l => ?_)
    · have := za_vnle (k := 2) hq
      omega
    · refine zx_narrow (i := 0) (j := 2) g1 (by omega) (by omega) (za_neg (za_ti (n := B) (by omega)) (by omega)) (by omega) (by omega) (fun w2 g2 s2 => ?_) (fun n2 => br_t rfl (F w1 fun q hq m => ?_))
      · refine br_f za_10 ?_
        unfold wX_firstSecond_40
        refine br_f za_10 ?_
        have y1 := g2.2.2 2 (by omega)
        have y2 := za_bd g2 (i := 0) (j := 2) (by omega) (by omega)
        have y3 := g2.1 0 (by omega)
        obtain ⟨y, hy⟩ : ∃ u : Nat, -zx_W w2 0 2 = u := ⟨(-zx_W w2 0 2).toNat, by omega⟩
        have ey : -(w2 2) = nI y := za_nn (by rw [za_neg (show (w2 2).toInt = zx_W w2 0 2 from rfl) (by omega)]; exact hy) (by omega)
        refine nm_r ey ?_
        refine zx_fix (k := 2) g2 (by omega) (za_ti (n := y) (by omega)) (by omega) (by omega) (fun w3 g3 s3 => ?_) (fun w3 n3 => ?_)
        · obtain ⟨p, hp, ps, pm⟩ := za_minp g3
          have q3 := (s3 _).mp ps
          have q2 := (s2 _).mp q3.1
          have q1 := (s1 _).mp q2.1
          have v1 := V p 1
          have v2 := V p 2
          have m3 := pm 3 (by omega)
          have b3 := za_vnle (k := 3) hp
          have e1 : za_vn p 1 = A := by omega
          have e2 : za_vn p 2 = y := by omega
          have p4 := za_p4 (p := p)
          have e : (169 * nI A + 13 * nI y) - w3 3 = nI p := by
            rw [zx_num hA (by omega) b3 (show (w3 3).toInt = -(za_vn p 3 : Int) from by rw [m3]; show zx_W w3 0 3 = _; omega)]
            exact congrArg nI (by omega)
          show post ((169 * nI A + 13 * nI y) - w3 3) (b, no, w3)
          rw [e]
          refine h w3 _ (Or.inl ⟨p, hp, ⟨(d p hp).mpr (za_satt (fun i j hi hj => (t0 i j hi hj).symm) q1.1), e1, by omega⟩, rfl, fun q hq m => ?_⟩)
          obtain ⟨m0, m1, m2⟩ := m
          have u1 := V q 1
          have u2 := V q 2
          have q4 := za_p4 (p := q)
          have r2 : za_Sat (zx_W w2) (za_pv q) := (s2 _).mpr ⟨(s1 _).mpr ⟨za_satt t0 ((d q hq).mp m0), by omega⟩, by omega⟩
          have z2 := zx_vb (k := 2) r2 (by omega)
          have b4 := za_vnle (k := 3) hq
          by_cases l2 : za_vn q 2 = y
          · have z3 := zx_vb (k := 3) ((s3 _).mpr ⟨r2, by omega⟩) (by omega)
            omega
          · omega
        · exfalso
          exact n3 _ (za_min g2) (by show -zx_W w2 0 2 - -zx_W w2 0 0 = _; omega)
      · obtain ⟨m0, m1, m2⟩ := m
        have u1 := V q 1
        have u2 := V q 2
        exact n2 _ ((s1 _).mpr ⟨za_satt t0 ((d q hq).mp m0), by omega⟩) (by omega)
  · obtain ⟨m0, m1, m2⟩ := m
    have u1 := V q 1
    exact n1 _ (za_satt t0 ((d q hq).mp m0)) (by omega)
theorem zx_firstBehind {post : Int32 → SX → Prop} {z : Nat} (hz : z < 3) (g : za_G (zx_T b z)) (d : ∀ p, p < 2197 → (M z p ↔ za_Sat (zx_T b z) (za_pv p))) {A : Nat} (hA : A ≤ 13) (h : ∀ w' r, zx_Fst (fun q => M z q ∧ A ≤ za_vn q 1) (-2) r → post r (b, no, w')) : wpX_firstBehind post (b, no, w) (nI z) (nI A) := by
  have F : ∀ w', (∀ q, q < 2197 → ¬ (M z q ∧ A ≤ za_vn q 1)) → wX_firstBehind_26 post b no w' := by
    intro w' n
    unfold wX_firstBehind_26 wX_firstBehind_27
    exact br_t rfl (h w' _ (Or.inr ⟨rfl, n⟩))
  have V : ∀ q k, za_pv q k - za_pv q 0 = (za_vn q k : Int) := by
    intro q k
    have v0 := za_pv0 q
    have v1 : za_pv q k = (za_vn q k : Int) := rfl
    omega
  unfold wpX_firstBehind
  dsimp only
  refine zx_take hz fun w0 t0 => ?_
  have g0 := za_Gc t0 g
  refine pk_lt 12 A (fun l => F w0 fun q hq m => ?_) (fun l => ?_)
  · have := za_vnle (k := 1) hq
    omega
  · refine zx_narrow (i := 0) (j := 1) g0 (by omega) (by omega) (za_neg (za_ti (n := A) (by omega)) (by omega)) (by omega) (by omega) (fun w1 g1 s1 => ?_) (fun n1 => br_t rfl (F w0 fun q hq m => ?_))
    · refine br_f za_10 ?_
      unfold wX_firstBehind_27
      refine br_f za_10 ?_
      have x1 := g1.2.2 1 (by omega)
      have x2 := za_bd g1 (i := 0) (j := 1) (by omega) (by omega)
      have x3 := g1.1 0 (by omega)
      obtain ⟨x, hx⟩ : ∃ u : Nat, -zx_W w1 0 1 = u := ⟨(-zx_W w1 0 1).toNat, by omega⟩
      have ex : -(w1 1) = nI x := za_nn (by rw [za_neg (show (w1 1).toInt = zx_W w1 0 1 from rfl) (by omega)]; exact hx) (by omega)
      refine nm_r ex ?_
      refine zx_fix (k := 1) g1 (by omega) (za_ti (n := x) (by omega)) (by omega) (by omega) (fun w2 g2 s2 => ?_) (fun w2 n2 => ?_)
      · have y1 := g2.2.2 2 (by omega)
        have y2 := za_bd g2 (i := 0) (j := 2) (by omega) (by omega)
        have y3 := g2.1 0 (by omega)
        obtain ⟨y, hy⟩ : ∃ u : Nat, -zx_W w2 0 2 = u := ⟨(-zx_W w2 0 2).toNat, by omega⟩
        have ey : -(w2 2) = nI y := za_nn (by rw [za_neg (show (w2 2).toInt = zx_W w2 0 2 from rfl) (by omega)]; exact hy) (by omega)
        refine nm_r ey ?_
        refine zx_fix (k := 2) g2 (by omega) (za_ti (n := y) (by omega)) (by omega) (by omega) (fun w3 g3 s3 => ?_) (fun w3 n3 => ?_)
        · obtain ⟨p, hp, ps, pm⟩ := za_minp g3
          have q3 := (s3 _).mp ps
          have q2 := (s2 _).mp q3.1
          have q1 := (s1 _).mp q2.1
          have v1 := V p 1
          have v2 := V p 2
          have m3 := pm 3 (by omega)
          have b3 := za_vnle (k := 3) hp
          have e1 : za_vn p 1 = x := by omega
          have e2 : za_vn p 2 = y := by omega
          have p4 := za_p4 (p := p)
          have e : (169 * nI x + 13 * nI y) - w3 3 = nI p := by
            rw [zx_num (by omega) (by omega) b3 (show (w3 3).toInt = -(za_vn p 3 : Int) from by rw [m3]; show zx_W w3 0 3 = _; omega)]
            exact congrArg nI (by omega)
          show post ((169 * nI x + 13 * nI y) - w3 3) (b, no, w3)
          rw [e]
          refine h w3 _ (Or.inl ⟨p, hp, ⟨(d p hp).mpr (za_satt (fun i j hi hj => (t0 i j hi hj).symm) q1.1), by omega⟩, rfl, fun q hq m => ?_⟩)
          obtain ⟨m0, m1⟩ := m
          have u1 := V q 1
          have u2 := V q 2
          have q4 := za_p4 (p := q)
          have r1 : za_Sat (zx_W w1) (za_pv q) := (s1 _).mpr ⟨za_satt t0 ((d q hq).mp m0), by omega⟩
          have z1 := zx_vb (k := 1) r1 (by omega)
          have b4 := za_vnle (k := 3) hq
          have b5 := za_vnle (k := 2) hq
          by_cases l1 : za_vn q 1 = x
          · have r2 : za_Sat (zx_W w2) (za_pv q) := (s2 _).mpr ⟨r1, by omega⟩
            have z2 := zx_vb (k := 2) r2 (by omega)
            by_cases l2 : za_vn q 2 = y
            · have z3 := zx_vb (k := 3) ((s3 _).mpr ⟨r2, by omega⟩) (by omega)
              omega
            · omega
          · omega
        · exfalso
          exact n3 _ (za_min g2) (by show -zx_W w2 0 2 - -zx_W w2 0 0 = _; omega)
      · exfalso
        exact n2 _ (za_min g1) (by show -zx_W w1 0 1 - -zx_W w1 0 0 = _; omega)
    · obtain ⟨m0, m1⟩ := m
      have u1 := V q 1
      exact n1 _ (za_satt t0 ((d q hq).mp m0)) (by omega)
theorem zx_next39 {post : Int32 → SX → Prop} {z : Nat} (hz : z < 3) (g : za_G (zx_T b z)) (d : ∀ p, p < 2197 → (M z p ↔ za_Sat (zx_T b z) (za_pv p))) {f : Nat} (hf : f < 2197) (h : ∀ w' r, zx_Fst (fun q => M z q ∧ f ≤ q) (-2) r → post r (b, no, w')) : wX_next_39 post (nI z) (nI f) b no w := by
  unfold wX_next_39
  refine ⟨by decide, by decide, by decide, by decide, ?_⟩
  rw [za_r13 (k := f) (by omega), za_d13 (k := f) (by omega), za_r13 (k := f / 13) (by omega), za_d169 (k := f) (by omega), nI_1 (f / 13 % 13), nI_1 (f / 169)]
  have f4 : f = 169 * (f / 169) + 13 * (f / 13 % 13) + f % 13 := za_p4 (p := f)
  have fA : f / 169 ≤ 12 := by omega
  have fB : f / 13 % 13 ≤ 12 := by omega
  have fC : f % 13 ≤ 12 := by omega
  generalize f / 169 = A at *
  generalize f / 13 % 13 = B at *
  generalize f % 13 = C at *
  have X : ∀ q, q < 2197 → q = 169 * za_vn q 1 + 13 * za_vn q 2 + za_vn q 3 ∧ za_vn q 1 ≤ 12 ∧ za_vn q 2 ≤ 12 ∧ za_vn q 3 ≤ 12 := fun q hq => ⟨za_p4, za_vnle hq, za_vnle hq, za_vnle hq⟩
  refine zx_firstFrom hz g d fA fB fC fun w1 r1 F1 => ?_
  rcases F1 with ⟨p, hp, ⟨m0, m1, m2, m3⟩, rfl, mp⟩ | ⟨rfl, N1⟩
  · have xp := X p hp
    refine br_f (nI_pos (by omega)) (h w1 _ (Or.inl ⟨p, hp, ⟨m0, by omega⟩, rfl, fun q hq m => ?_⟩))
    have xq := X q hq
    by_cases c : za_vn q 1 = A ∧ za_vn q 2 = B ∧ C ≤ za_vn q 3
    · exact mp q hq ⟨m.1, c⟩
    · have := m.2
      omega
  · refine br_t (by decide) ⟨by decide, by decide, by decide, ?_⟩
    refine zx_firstSecond hz g d fA (by omega) fun w2 r2 F2 => ?_
    rcases F2 with ⟨p, hp, ⟨m0, m1, m2⟩, rfl, mp⟩ | ⟨rfl, N2⟩
    · have xp := X p hp
      refine br_f (nI_pos (by omega)) (h w2 _ (Or.inl ⟨p, hp, ⟨m0, by omega⟩, rfl, fun q hq m => ?_⟩))
      have xq := X q hq
      have n1 := N1 q hq
      by_cases c : za_vn q 1 = A ∧ B + 1 ≤ za_vn q 2
      · exact mp q hq ⟨m.1, c⟩
      · by_cases c1 : za_vn q 1 = A ∧ za_vn q 2 = B ∧ C ≤ za_vn q 3
        · exact absurd ⟨m.1, c1⟩ n1
        · have := m.2
          omega
    · refine br_t (by decide) ⟨by decide, ?_⟩
      refine zx_firstBehind hz g d (by omega) fun w3 r3 F3 => ?_
      rcases F3 with ⟨p, hp, ⟨m0, m1⟩, rfl, mp⟩ | ⟨rfl, N3⟩
      · have xp := X p hp
        refine h w3 _ (Or.inl ⟨p, hp, ⟨m0, by omega⟩, rfl, fun q hq m => ?_⟩)
        have xq := X q hq
        have n1 := N1 q hq
        have n2 := N2 q hq
        by_cases c : A + 1 ≤ za_vn q 1
        · exact mp q hq ⟨m.1, c⟩
        · by_cases c1 : za_vn q 1 = A ∧ za_vn q 2 = B ∧ C ≤ za_vn q 3
          · exact absurd ⟨m.1, c1⟩ n1
          · by_cases c2 : za_vn q 1 = A ∧ B + 1 ≤ za_vn q 2
            · exact absurd ⟨m.1, c2⟩ n2
            · have := m.2
              omega
      · refine h w3 _ (Or.inr ⟨rfl, fun q hq m => ?_⟩)
        have xq := X q hq
        by_cases c : A + 1 ≤ za_vn q 1
        · exact N3 q hq ⟨m.1, c⟩
        · by_cases c1 : za_vn q 1 = A ∧ za_vn q 2 = B ∧ C ≤ za_vn q 3
          · exact N1 q hq ⟨m.1, c1⟩
          · by_cases c2 : za_vn q 1 = A ∧ B + 1 ≤ za_vn q 2
            · exact N2 q hq ⟨m.1, c2⟩
            · have := m.2
              omega
theorem zx_next (ok : zx_Ok M b no) {post : Int32 → SX → Prop} {z : Nat} (hz : z < 3) {a : Int32} (h : ∀ w' r, zy_Nx (M z) a.toInt r → post r (b, no, w')) : wpX_next post (b, no, w) (nI z) a := by
  unfold wpX_next
  dsimp only
  refine zx_iz hz ?_
  refine br_f za_10 ?_
  rw [nI_clamp (by omega)]
  refine ⟨vp_in_nI hz (by decide), ?_⟩
  rcases ok z hz with ⟨n1, d⟩ | ⟨n0, g, d⟩
  · exact br_f (by rw [n1]; exact za_10) (h w _ (Or.inr ⟨rfl, fun q hq _ => d q hq⟩))
  · refine br_t n0 (za_brlt rfl (show (2196 : Int32).toInt = 2196 by decide) (fun l => ?_) (fun l => h w _ (Or.inr ⟨rfl, fun q hq l2 => by omega⟩)))
    have C : ∀ f : Nat, (∀ q : Nat, a.toInt < (q : Int) ↔ f ≤ q) → ∀ w' r, zx_Fst (fun q => M z q ∧ f ≤ q) (-2) r → post r (b, no, w') := by
      intro f hf w' r F
      refine h w' r ?_
      rcases F with ⟨p, hp, ⟨m0, m1⟩, e, mp⟩ | ⟨e, N⟩
      · refine Or.inl ⟨p, hp, (hf p).mpr m1, m0, e, fun q hq l2 m => ?_⟩
        have := mp q (by omega) ⟨m, (hf q).mp l2⟩
        omega
      · exact Or.inr ⟨e, fun q hq l2 m => N q hq ⟨m, (hf q).mp l2⟩⟩
    refine za_brle zy_c0 rfl (fun l0 => ?_) (fun l0 => ?_)
    · obtain ⟨j, hj⟩ : ∃ j : Nat, a.toInt = j := ⟨a.toInt.toNat, by omega⟩
      have e : a = nI j := za_nn hj (by omega)
      have e2 : a + 1 = nI (j + 1) := by rw [e, nI_1]
      rw [e2]
      exact zx_next39 hz g d (by omega) (C (j + 1) fun q => by omega)
    · exact zx_next39 (f := 0) hz g d (by omega) (C 0 fun q => by omega)
end
end
section
/-! what is owed: the relation, and each call -/
theorem zz_rg (x : Int32) : x < 0 ∨ 12 < x ∨ ∃ a : Nat, a ≤ 12 ∧ x = nI a := by
  by_cases h : x < 0
  · exact Or.inl h
  · obtain ⟨j, hj, rfl⟩ := nI_of h
    by_cases h2 : j ≤ 12
    · exact Or.inr (Or.inr ⟨j, h2, rfl⟩)
    · exact Or.inr (Or.inl (nI_lt (a := 12) (by omega) hj))
theorem zz_ck (x : Int32) : (x < 1 ∨ 3 < x) ∨ ∃ a : Nat, 1 ≤ a ∧ a < 4 ∧ x = nI a := by
  by_cases h : x < 1
  · exact Or.inl (Or.inl h)
  · have h0 : ¬ x < 0 := by
      rw [Int32.lt_iff_toInt_lt] at h ⊢
      rw [show (1 : Int32).toInt = 1 by decide] at h
      rw [zy_c0]
      omega
    obtain ⟨j, hj, rfl⟩ := nI_of h0
    have h1 : ¬ j < 1 := by rw [show (1 : Int32) = nI 1 from rfl, nI_ltI hj (by omega)] at h; exact h
    by_cases h2 : j < 4
    · exact Or.inr ⟨j, by omega, h2, rfl⟩
    · exact Or.inl (Or.inr (nI_lt (a := 3) (by omega) hj))
theorem zz_i3 (x : Int32) : (x < 0 ∨ 3 < x) ∨ ∃ a : Nat, a < 4 ∧ x = nI a := by
  by_cases h : x < 0
  · exact Or.inl (Or.inl h)
  · obtain ⟨j, hj, rfl⟩ := nI_of h
    by_cases h2 : j < 4
    · exact Or.inr ⟨j, h2, rfl⟩
    · exact Or.inl (Or.inr (nI_lt (a := 3) (by omega) hj))
def zz_np (x y : Int32) : Prop := x < 0 ∨ 3 < x ∨ y < 0 ∨ 3 < y ∨ x = y
theorem zz_pr (x y : Int32) : zz_np x y ∨ ∃ i j : Nat, i < 4 ∧ j < 4 ∧ i ≠ j ∧ x = nI i ∧ y = nI j := by
  rcases zz_i3 x with h | ⟨i, hi, rfl⟩
  · exact Or.inl (h.elim Or.inl fun c => Or.inr (Or.inl c))
  · rcases zz_i3 y with h | ⟨j, hj, rfl⟩
    · exact Or.inl (Or.inr (Or.inr (h.elim Or.inl fun c => Or.inr (Or.inl c))))
    · by_cases e : i = j
      · exact Or.inl (Or.inr (Or.inr (Or.inr (Or.inr (congrArg nI e)))))
      · exact Or.inr ⟨i, j, hi, hj, e, rfl, rfl⟩
theorem zz_xp {post : Int32 → Prop} {x y : Int32} (n : zz_np x y) (h : post 0) : wpX_isPair post x y := by
  refine br_c (fun _ => h) fun n1 => br_c (fun _ => h) fun n2 => br_c (fun _ => h) fun n3 => br_c (fun _ => h) fun n4 => br_c (fun _ => h) fun n5 => ?_
  rcases n with c | c | c | c | c
  · exact absurd c n1
  · exact absurd c n2
  · exact absurd c n3
  · exact absurd c n4
  · exact absurd c n5
theorem zz_yp {post : Int32 → Prop} {mark made : Nat → Int32} {x y : Int32} (n : zz_np x y) (h : post 1) : wpY_badPair post (mark, made) x y := by
  refine br_c (fun _ => h) fun n1 => br_c (fun _ => h) fun n2 => br_c (fun _ => h) fun n3 => br_c (fun _ => h) fun n4 => br_c (fun _ => h) fun n5 => ?_
  rcases n with c | c | c | c | c
  · exact absurd c n1
  · exact absurd c n2
  · exact absurd c n3
  · exact absurd c n4
  · exact absurd c n5
theorem zz_xc {post : Int32 → Prop} {x : Int32} (n : x < 1 ∨ 3 < x) (h : post 0) : wpX_isClock post x :=
  br_c (fun _ => h) fun n1 => br_t (n.resolve_left n1) h
theorem zz_yc {post : Int32 → Prop} {mark made : Nat → Int32} {x : Int32} (n : x < 1 ∨ 3 < x) (h : post 1) : wpY_badClock post (mark, made) x :=
  br_c (fun _ => h) fun n1 => br_f (Int32.not_le.mpr (n.resolve_left n1)) h
theorem zz_zn (x : Int32) : (x < 0 ∨ 2 < x) ∨ ∃ z : Nat, z < 3 ∧ x = nI z := by
  rcases za_zn x with h | h | h
  · exact Or.inl (Or.inl h)
  · exact Or.inl (Or.inr h)
  · exact Or.inr h
/-- the relation: one set of readings a zone, told by the table on one side and by the marks on the other -/
def i_Rel (_ : Nat) (u : SX) (v : SY) : Prop := ∃ M : Nat → Nat → Prop, zx_Ok M u.1 u.2.1 ∧ zy_S M v.1
theorem zz_rel {k : Nat} {u : SX} {v : SY} {M : Nat → Nat → Prop} (a : zx_Ok M u.1 u.2.1) (c : zy_S M v.1) : i_Rel k u v := Exists.intro M ⟨a, c⟩
theorem zz_el {k : Nat} {P : SX → SY → Prop} (h : ∀ b no w mark made M, zx_Ok M b no → zy_S M mark → P (b, no, w) (mark, made)) {u : SX} {v : SY} (I : i_Rel k u v) : P u v := by
  obtain ⟨b, no, w⟩ := u
  obtain ⟨mark, made⟩ := v
  obtain ⟨M, ok, s⟩ := I
  exact h b no w mark made M ok s
theorem i_up {k : Nat} {u : SX} {v : SY} (h : i_Rel k u v) : i_Rel (k + 5) u v := h
theorem i_vc0 : wpX_init (fun u => wpY_init (fun v => i_Rel 0 u v)) :=
  zx_init fun _ ok => zy_init fun _ s => zz_rel ok s
theorem i_vc_all {k : Nat} {u : SX} {v : SY} (I : i_Rel k u v) (hk : k + 5 ≤ 2560) (v1 : Int32) : wpX_all (fun r u' => wpY_all (fun r' v' => r' = r ∧ i_Rel (k + 5) u' v') v v1) u v1 := by
  refine zz_el (P := fun u v => wpX_all (fun r u' => wpY_all (fun r' v' => r' = r ∧ i_Rel (k + 5) u' v') v v1) u v1) ?_ I
  intro b no w mark made M ok s
  rcases zz_zn v1 with n | ⟨z, hz, rfl⟩
  · unfold wpX_all
    dsimp only
    refine zx_izN n ?_
    refine br_t rfl ?_
    show wpY_all _ (mark, made) v1
    unfold wpY_all
    dsimp only
    refine zy_bzN n ?_
    refine br_f za_10 ?_
    exact ⟨rfl, zz_rel ok s⟩
  · refine zx_all ok hz fun u' ok' => ?_
    exact zy_all s hz fun mk s' => ⟨rfl, zz_rel ok' s'⟩
theorem i_vc_zero {k : Nat} {u : SX} {v : SY} (I : i_Rel k u v) (hk : k + 5 ≤ 2560) (v1 : Int32) : wpX_zero (fun r u' => wpY_zero (fun r' v' => r' = r ∧ i_Rel (k + 5) u' v') v v1) u v1 := by
  refine zz_el (P := fun u v => wpX_zero (fun r u' => wpY_zero (fun r' v' => r' = r ∧ i_Rel (k + 5) u' v') v v1) u v1) ?_ I
  intro b no w mark made M ok s
  rcases zz_zn v1 with n | ⟨z, hz, rfl⟩
  · unfold wpX_zero
    dsimp only
    refine zx_izN n ?_
    refine br_t rfl ?_
    show wpY_zero _ (mark, made) v1
    unfold wpY_zero
    dsimp only
    refine zy_bzN n ?_
    refine br_f za_10 ?_
    exact ⟨rfl, zz_rel ok s⟩
  · refine zx_zero ok hz fun u' ok' => ?_
    exact zy_zero s hz fun mk s' => ⟨rfl, zz_rel ok' s'⟩
theorem i_vc_pass {k : Nat} {u : SX} {v : SY} (I : i_Rel k u v) (hk : k + 5 ≤ 2560) (v1 : Int32) : wpX_pass (fun r u' => wpY_pass (fun r' v' => r' = r ∧ i_Rel (k + 5) u' v') v v1) u v1 := by
  refine zz_el (P := fun u v => wpX_pass (fun r u' => wpY_pass (fun r' v' => r' = r ∧ i_Rel (k + 5) u' v') v v1) u v1) ?_ I
  intro b no w mark made M ok s
  rcases zz_zn v1 with n | ⟨z, hz, rfl⟩
  · unfold wpX_pass
    dsimp only
    refine zx_izN n ?_
    refine br_t rfl ?_
    show wpY_pass _ (mark, made) v1
    unfold wpY_pass
    dsimp only
    refine zy_bzN n ?_
    refine br_f za_10 ?_
    exact ⟨rfl, zz_rel ok s⟩
  · refine zx_pass ok hz fun u' ok' => ?_
    exact zy_pass s hz fun v' s' => ⟨rfl, zz_rel ok' s'⟩
theorem i_vc_back {k : Nat} {u : SX} {v : SY} (I : i_Rel k u v) (hk : k + 5 ≤ 2560) (v1 : Int32) : wpX_back (fun r u' => wpY_back (fun r' v' => r' = r ∧ i_Rel (k + 5) u' v') v v1) u v1 := by
  refine zz_el (P := fun u v => wpX_back (fun r u' => wpY_back (fun r' v' => r' = r ∧ i_Rel (k + 5) u' v') v v1) u v1) ?_ I
  intro b no w mark made M ok s
  rcases zz_zn v1 with n | ⟨z, hz, rfl⟩
  · unfold wpX_back
    dsimp only
    refine zx_izN n ?_
    refine br_t rfl ?_
    show wpY_back _ (mark, made) v1
    unfold wpY_back
    dsimp only
    refine zy_bzN n ?_
    refine br_f za_10 ?_
    exact ⟨rfl, zz_rel ok s⟩
  · refine zx_back ok hz fun u' ok' => ?_
    exact zy_back s hz fun v' s' => ⟨rfl, zz_rel ok' s'⟩
theorem i_vc_empty {k : Nat} {u : SX} {v : SY} (I : i_Rel k u v) (hk : k + 5 ≤ 2560) (v1 : Int32) : wpX_empty (fun r => wpY_empty (fun r' => r' = r ∧ i_Rel (k + 5) u v) v v1) u v1 := by
  refine zz_el (P := fun u v => wpX_empty (fun r => wpY_empty (fun r' => r' = r ∧ i_Rel (k + 5) u v) v v1) u v1) ?_ I
  intro b no w mark made M ok s
  rcases zz_zn v1 with n | ⟨z, hz, rfl⟩
  · unfold wpX_empty
    dsimp only
    refine zx_izN n ?_
    refine br_t rfl ?_
    show wpY_empty _ (mark, made) v1
    unfold wpY_empty
    dsimp only
    refine zy_bzN n ?_
    refine br_f za_10 ?_
    exact ⟨rfl, zz_rel ok s⟩
  · refine zx_empty ok hz ?_
    exact zy_empty s hz ⟨rfl, zz_rel ok s⟩
theorem i_vc_size {k : Nat} {u : SX} {v : SY} (I : i_Rel k u v) (hk : k + 5 ≤ 2560) (v1 : Int32) : wpX_size (fun r u' => wpY_size (fun r' => r' = r ∧ i_Rel (k + 5) u' v) v v1) u v1 := by
  refine zz_el (P := fun u v => wpX_size (fun r u' => wpY_size (fun r' => r' = r ∧ i_Rel (k + 5) u' v) v v1) u v1) ?_ I
  intro b no w mark made M ok s
  rcases zz_zn v1 with n | ⟨z, hz, rfl⟩
  · unfold wpX_size
    dsimp only
    refine zx_izN n ?_
    refine br_t rfl ?_
    show wpY_size _ (mark, made) v1
    unfold wpY_size
    dsimp only
    refine zy_bzN n ?_
    refine br_f za_10 ?_
    exact ⟨rfl, zz_rel ok s⟩
  · refine zx_size ok hz fun w' => ?_
    exact zy_size s hz ⟨rfl, zz_rel (u := (b, no, w')) ok s⟩
theorem i_vc_next {k : Nat} {u : SX} {v : SY} (I : i_Rel k u v) (hk : k + 5 ≤ 2560) (v1 : Int32) (v2 : Int32) : wpX_next (fun r u' => wpY_next (fun r' => r' = r ∧ i_Rel (k + 5) u' v) v v1 v2) u v1 v2 := by
  refine zz_el (P := fun u v => wpX_next (fun r u' => wpY_next (fun r' => r' = r ∧ i_Rel (k + 5) u' v) v v1 v2) u v1 v2) ?_ I
  intro b no w mark made M ok s
  rcases zz_zn v1 with n | ⟨z, hz, rfl⟩
  · unfold wpX_next
    dsimp only
    refine zx_izN n ?_
    refine br_t rfl ?_
    show wpY_next _ (mark, made) v1 v2
    unfold wpY_next
    dsimp only
    refine zy_bzN n ?_
    refine br_f za_10 ?_
    exact ⟨rfl, zz_rel ok s⟩
  · refine zx_next ok hz fun w' r h => ?_
    exact zy_next s hz fun r' h' => ⟨zy_NxU h h', zz_rel (u := (b, no, w')) ok s⟩
theorem i_vc_meet {k : Nat} {u : SX} {v : SY} (I : i_Rel k u v) (hk : k + 5 ≤ 2560) (v1 : Int32) (v2 : Int32) : wpX_meet (fun r u' => wpY_meet (fun r' v' => r' = r ∧ i_Rel (k + 5) u' v') v v1 v2) u v1 v2 := by
  refine zz_el (P := fun u v => wpX_meet (fun r u' => wpY_meet (fun r' v' => r' = r ∧ i_Rel (k + 5) u' v') v v1 v2) u v1 v2) ?_ I
  intro b no w mark made M ok s
  rcases zz_zn v1 with n | ⟨y, hy, rfl⟩
  · unfold wpX_meet
    dsimp only
    refine zx_izN n ?_
    refine br_t rfl ?_
    show wpY_meet _ (mark, made) v1 v2
    unfold wpY_meet
    dsimp only
    refine zy_bzN n ?_
    refine br_f za_10 ?_
    exact ⟨rfl, zz_rel ok s⟩
  · rcases zz_zn v2 with n | ⟨z, hz, rfl⟩
    · unfold wpX_meet
      dsimp only
      refine zx_iz hy ?_
      refine br_f za_10 ?_
      refine zx_izN n ?_
      refine br_t rfl ?_
      show wpY_meet _ (mark, made) (nI y) v2
      unfold wpY_meet
      dsimp only
      refine zy_bz hy ?_
      refine br_t rfl ?_
      refine zy_bzN n ?_
      refine br_f za_10 ?_
      exact ⟨rfl, zz_rel ok s⟩
    · refine zx_meet ok hy hz fun u' ok' => ?_
      exact zy_meet s hy hz fun v' s' => ⟨rfl, zz_rel ok' s'⟩
theorem i_vc_hull {k : Nat} {u : SX} {v : SY} (I : i_Rel k u v) (hk : k + 5 ≤ 2560) (v1 : Int32) (v2 : Int32) : wpX_hull (fun r u' => wpY_hull (fun r' v' => r' = r ∧ i_Rel (k + 5) u' v') v v1 v2) u v1 v2 := by
  refine zz_el (P := fun u v => wpX_hull (fun r u' => wpY_hull (fun r' v' => r' = r ∧ i_Rel (k + 5) u' v') v v1 v2) u v1 v2) ?_ I
  intro b no w mark made M ok s
  rcases zz_zn v1 with n | ⟨y, hy, rfl⟩
  · unfold wpX_hull
    dsimp only
    refine zx_izN n ?_
    refine br_t rfl ?_
    show wpY_hull _ (mark, made) v1 v2
    unfold wpY_hull
    dsimp only
    refine zy_bzN n ?_
    refine br_f za_10 ?_
    exact ⟨rfl, zz_rel ok s⟩
  · rcases zz_zn v2 with n | ⟨z, hz, rfl⟩
    · unfold wpX_hull
      dsimp only
      refine zx_iz hy ?_
      refine br_f za_10 ?_
      refine zx_izN n ?_
      refine br_t rfl ?_
      show wpY_hull _ (mark, made) (nI y) v2
      unfold wpY_hull
      dsimp only
      refine zy_bz hy ?_
      refine br_t rfl ?_
      refine zy_bzN n ?_
      refine br_f za_10 ?_
      exact ⟨rfl, zz_rel ok s⟩
    · refine zx_hull ok hy hz fun u' ok' => ?_
      exact zy_hull s hy hz fun v' s' => ⟨rfl, zz_rel ok' s'⟩
theorem i_vc_copy {k : Nat} {u : SX} {v : SY} (I : i_Rel k u v) (hk : k + 5 ≤ 2560) (v1 : Int32) (v2 : Int32) : wpX_copy (fun r u' => wpY_copy (fun r' v' => r' = r ∧ i_Rel (k + 5) u' v') v v1 v2) u v1 v2 := by
  refine zz_el (P := fun u v => wpX_copy (fun r u' => wpY_copy (fun r' v' => r' = r ∧ i_Rel (k + 5) u' v') v v1 v2) u v1 v2) ?_ I
  intro b no w mark made M ok s
  rcases zz_zn v1 with n | ⟨y, hy, rfl⟩
  · unfold wpX_copy
    dsimp only
    refine zx_izN n ?_
    refine br_t rfl ?_
    show wpY_copy _ (mark, made) v1 v2
    unfold wpY_copy
    dsimp only
    refine zy_bzN n ?_
    refine br_f za_10 ?_
    exact ⟨rfl, zz_rel ok s⟩
  · rcases zz_zn v2 with n | ⟨z, hz, rfl⟩
    · unfold wpX_copy
      dsimp only
      refine zx_iz hy ?_
      refine br_f za_10 ?_
      refine zx_izN n ?_
      refine br_t rfl ?_
      show wpY_copy _ (mark, made) (nI y) v2
      unfold wpY_copy
      dsimp only
      refine zy_bz hy ?_
      refine br_t rfl ?_
      refine zy_bzN n ?_
      refine br_f za_10 ?_
      exact ⟨rfl, zz_rel ok s⟩
    · refine zx_copy ok hy hz fun b' no' f hn q => ?_
      exact zy_copy s hy hz fun mk s' => ⟨rfl, zz_rel (u := (b', no', w)) (zx_put ok f hn q) s'⟩
theorem i_vc_within {k : Nat} {u : SX} {v : SY} (I : i_Rel k u v) (hk : k + 5 ≤ 2560) (v1 : Int32) (v2 : Int32) : wpX_within (fun r => wpY_within (fun r' => r' = r ∧ i_Rel (k + 5) u v) v v1 v2) u v1 v2 := by
  refine zz_el (P := fun u v => wpX_within (fun r => wpY_within (fun r' => r' = r ∧ i_Rel (k + 5) u v) v v1 v2) u v1 v2) ?_ I
  intro b no w mark made M ok s
  rcases zz_zn v1 with n | ⟨y, hy, rfl⟩
  · unfold wpX_within
    dsimp only
    refine zx_izN n ?_
    refine br_t rfl ?_
    show wpY_within _ (mark, made) v1 v2
    unfold wpY_within
    dsimp only
    refine zy_bzN n ?_
    refine br_f za_10 ?_
    exact ⟨rfl, zz_rel ok s⟩
  · rcases zz_zn v2 with n | ⟨z, hz, rfl⟩
    · unfold wpX_within
      dsimp only
      refine zx_iz hy ?_
      refine br_f za_10 ?_
      refine zx_izN n ?_
      refine br_t rfl ?_
      show wpY_within _ (mark, made) (nI y) v2
      unfold wpY_within
      dsimp only
      refine zy_bz hy ?_
      refine br_t rfl ?_
      refine zy_bzN n ?_
      refine br_f za_10 ?_
      exact ⟨rfl, zz_rel ok s⟩
    · refine zx_within ok hy hz ?_
      exact zy_within s hy hz ⟨rfl, zz_rel ok s⟩
theorem i_vc_touch {k : Nat} {u : SX} {v : SY} (I : i_Rel k u v) (hk : k + 5 ≤ 2560) (v1 : Int32) (v2 : Int32) : wpX_touch (fun r u' => wpY_touch (fun r' => r' = r ∧ i_Rel (k + 5) u' v) v v1 v2) u v1 v2 := by
  refine zz_el (P := fun u v => wpX_touch (fun r u' => wpY_touch (fun r' => r' = r ∧ i_Rel (k + 5) u' v) v v1 v2) u v1 v2) ?_ I
  intro b no w mark made M ok s
  rcases zz_zn v1 with n | ⟨y, hy, rfl⟩
  · unfold wpX_touch
    dsimp only
    refine zx_izN n ?_
    refine br_t rfl ?_
    show wpY_touch _ (mark, made) v1 v2
    unfold wpY_touch
    dsimp only
    refine zy_bzN n ?_
    refine br_f za_10 ?_
    exact ⟨rfl, zz_rel ok s⟩
  · rcases zz_zn v2 with n | ⟨z, hz, rfl⟩
    · unfold wpX_touch
      dsimp only
      refine zx_iz hy ?_
      refine br_f za_10 ?_
      refine zx_izN n ?_
      refine br_t rfl ?_
      show wpY_touch _ (mark, made) (nI y) v2
      unfold wpY_touch
      dsimp only
      refine zy_bz hy ?_
      refine br_t rfl ?_
      refine zy_bzN n ?_
      refine br_f za_10 ?_
      exact ⟨rfl, zz_rel ok s⟩
    · refine zx_touch ok hy hz fun w' => ?_
      exact zy_touch s hy hz ⟨rfl, zz_rel (u := (b, no, w')) ok s⟩
theorem i_vc_keep {k : Nat} {u : SX} {v : SY} (I : i_Rel k u v) (hk : k + 5 ≤ 2560) (v1 : Int32) (v2 : Int32) (v3 : Int32) (v4 : Int32) : wpX_keep (fun r u' => wpY_keep (fun r' v' => r' = r ∧ i_Rel (k + 5) u' v') v v1 v2 v3 v4) u v1 v2 v3 v4 := by
  refine zz_el (P := fun u v => wpX_keep (fun r u' => wpY_keep (fun r' v' => r' = r ∧ i_Rel (k + 5) u' v') v v1 v2 v3 v4) u v1 v2 v3 v4) ?_ I
  intro b no w mark made M ok s
  rcases zz_zn v1 with n | ⟨z, hz, rfl⟩
  · unfold wpX_keep
    dsimp only
    refine zx_izN n ?_
    refine br_t rfl ?_
    show wpY_keep _ (mark, made) v1 v2 v3 v4
    unfold wpY_keep
    dsimp only
    refine zy_bzN n ?_
    refine br_f za_10 ?_
    exact ⟨rfl, zz_rel ok s⟩
  · rcases zz_pr v2 v3 with n | ⟨i, j, hi, hj, hij, rfl, rfl⟩
    · unfold wpX_keep
      dsimp only
      refine zx_iz hz ?_
      refine br_f za_10 ?_
      refine zz_xp n ?_
      refine br_t rfl ?_
      show wpY_keep _ (mark, made) (nI z) v2 v3 v4
      unfold wpY_keep
      dsimp only
      refine zy_bz hz ?_
      refine br_t rfl ?_
      refine zz_yp n ?_
      refine br_f za_10 ?_
      exact ⟨rfl, zz_rel ok s⟩
    · by_cases c1 : v4 < -12
      · unfold wpX_keep
        dsimp only
        refine zx_iz hz ?_
        refine br_f za_10 ?_
        refine zx_ip hi hj hij ?_
        refine br_f za_10 ?_
        refine br_t c1 ?_
        show wpY_keep _ (mark, made) (nI z) (nI i) (nI j) v4
        unfold wpY_keep
        dsimp only
        refine zy_bz hz ?_
        refine br_t rfl ?_
        refine zy_bp hi hj hij ?_
        refine br_t rfl ?_
        refine br_t c1 ?_
        exact ⟨rfl, zz_rel ok s⟩
      · by_cases c2 : v4 ≤ 12
        · refine zx_keep ok hz hi hj hij c1 c2 fun u' ok' => ?_
          exact zy_keep s hz hi hj hij c1 c2 fun v' s' => ⟨rfl, zz_rel ok' s'⟩
        · unfold wpX_keep
          dsimp only
          refine zx_iz hz ?_
          refine br_f za_10 ?_
          refine zx_ip hi hj hij ?_
          refine br_f za_10 ?_
          refine br_f c1 (br_f c2 ?_)
          show wpY_keep _ (mark, made) (nI z) (nI i) (nI j) v4
          unfold wpY_keep
          dsimp only
          refine zy_bz hz ?_
          refine br_t rfl ?_
          refine zy_bp hi hj hij ?_
          refine br_t rfl ?_
          refine br_f c1 (br_f c2 ?_)
          exact ⟨rfl, zz_rel ok s⟩
theorem i_vc_set {k : Nat} {u : SX} {v : SY} (I : i_Rel k u v) (hk : k + 5 ≤ 2560) (v1 : Int32) (v2 : Int32) (v3 : Int32) : wpX_set (fun r u' => wpY_set (fun r' v' => r' = r ∧ i_Rel (k + 5) u' v') v v1 v2 v3) u v1 v2 v3 := by
  refine zz_el (P := fun u v => wpX_set (fun r u' => wpY_set (fun r' v' => r' = r ∧ i_Rel (k + 5) u' v') v v1 v2 v3) u v1 v2 v3) ?_ I
  intro b no w mark made M ok s
  rcases zz_zn v1 with n | ⟨z, hz, rfl⟩
  · unfold wpX_set
    dsimp only
    refine zx_izN n ?_
    refine br_t rfl ?_
    show wpY_set _ (mark, made) v1 v2 v3
    unfold wpY_set
    dsimp only
    refine zy_bzN n ?_
    refine br_f za_10 ?_
    exact ⟨rfl, zz_rel ok s⟩
  · rcases zz_ck v2 with n | ⟨i, hi1, hi, rfl⟩
    · unfold wpX_set
      dsimp only
      refine zx_iz hz ?_
      refine br_f za_10 ?_
      refine zz_xc n ?_
      refine br_t rfl ?_
      show wpY_set _ (mark, made) (nI z) v2 v3
      unfold wpY_set
      dsimp only
      refine zy_bz hz ?_
      refine br_t rfl ?_
      refine zz_yc n ?_
      refine br_f za_10 ?_
      exact ⟨rfl, zz_rel ok s⟩
    · rcases zz_rg v3 with c | c | ⟨a, ha, rfl⟩
      · unfold wpX_set
        dsimp only
        refine zx_iz hz ?_
        refine br_f za_10 ?_
        refine zx_ic hi1 hi ?_
        refine br_f za_10 ?_
        refine br_t c ?_
        show wpY_set _ (mark, made) (nI z) (nI i) v3
        unfold wpY_set
        dsimp only
        refine zy_bz hz ?_
        refine br_t rfl ?_
        refine zy_bc hi1 hi ?_
        refine br_t rfl ?_
        refine br_t c ?_
        exact ⟨rfl, zz_rel ok s⟩
      · have c1 : ¬ v3 < 0 := by
          rw [Int32.lt_iff_toInt_lt, zy_c12] at c
          rw [Int32.lt_iff_toInt_lt, zy_c0]
          omega
        have c2 : ¬ v3 ≤ 12 := Int32.not_le.mpr c
        unfold wpX_set
        dsimp only
        refine zx_iz hz ?_
        refine br_f za_10 ?_
        refine zx_ic hi1 hi ?_
        refine br_f za_10 ?_
        refine br_f c1 (br_f c2 ?_)
        show wpY_set _ (mark, made) (nI z) (nI i) v3
        unfold wpY_set
        dsimp only
        refine zy_bz hz ?_
        refine br_t rfl ?_
        refine zy_bc hi1 hi ?_
        refine br_t rfl ?_
        refine br_f c1 (br_f c2 ?_)
        exact ⟨rfl, zz_rel ok s⟩
      · refine zx_set ok hz hi1 hi ha fun u' ok' => ?_
        exact zy_set s hz hi1 hi ha fun v' s' => ⟨rfl, zz_rel ok' s'⟩
theorem i_vc_free {k : Nat} {u : SX} {v : SY} (I : i_Rel k u v) (hk : k + 5 ≤ 2560) (v1 : Int32) (v2 : Int32) : wpX_free (fun r u' => wpY_free (fun r' v' => r' = r ∧ i_Rel (k + 5) u' v') v v1 v2) u v1 v2 := by
  refine zz_el (P := fun u v => wpX_free (fun r u' => wpY_free (fun r' v' => r' = r ∧ i_Rel (k + 5) u' v') v v1 v2) u v1 v2) ?_ I
  intro b no w mark made M ok s
  rcases zz_zn v1 with n | ⟨z, hz, rfl⟩
  · unfold wpX_free
    dsimp only
    refine zx_izN n ?_
    refine br_t rfl ?_
    show wpY_free _ (mark, made) v1 v2
    unfold wpY_free
    dsimp only
    refine zy_bzN n ?_
    refine br_f za_10 ?_
    exact ⟨rfl, zz_rel ok s⟩
  · rcases zz_ck v2 with n | ⟨i, hi1, hi, rfl⟩
    · unfold wpX_free
      dsimp only
      refine zx_iz hz ?_
      refine br_f za_10 ?_
      refine zz_xc n ?_
      refine br_t rfl ?_
      show wpY_free _ (mark, made) (nI z) v2
      unfold wpY_free
      dsimp only
      refine zy_bz hz ?_
      refine br_t rfl ?_
      refine zz_yc n ?_
      refine br_f za_10 ?_
      exact ⟨rfl, zz_rel ok s⟩
    · refine zx_free ok hz hi1 hi fun u' ok' => ?_
      exact zy_free s hz hi1 hi fun v' s' => ⟨rfl, zz_rel ok' s'⟩
theorem i_vc_follow {k : Nat} {u : SX} {v : SY} (I : i_Rel k u v) (hk : k + 5 ≤ 2560) (v1 : Int32) (v2 : Int32) (v3 : Int32) : wpX_follow (fun r u' => wpY_follow (fun r' v' => r' = r ∧ i_Rel (k + 5) u' v') v v1 v2 v3) u v1 v2 v3 := by
  refine zz_el (P := fun u v => wpX_follow (fun r u' => wpY_follow (fun r' v' => r' = r ∧ i_Rel (k + 5) u' v') v v1 v2 v3) u v1 v2 v3) ?_ I
  intro b no w mark made M ok s
  rcases zz_zn v1 with n | ⟨z, hz, rfl⟩
  · unfold wpX_follow
    dsimp only
    refine zx_izN n ?_
    refine br_t rfl ?_
    show wpY_follow _ (mark, made) v1 v2 v3
    unfold wpY_follow
    dsimp only
    refine zy_bzN n ?_
    refine br_f za_10 ?_
    exact ⟨rfl, zz_rel ok s⟩
  · rcases zz_ck v2 with n | ⟨i, hi1, hi, rfl⟩
    · unfold wpX_follow
      dsimp only
      refine zx_iz hz ?_
      refine br_f za_10 ?_
      refine zz_xc n ?_
      refine br_t rfl ?_
      show wpY_follow _ (mark, made) (nI z) v2 v3
      unfold wpY_follow
      dsimp only
      refine zy_bz hz ?_
      refine br_t rfl ?_
      refine zz_yc n ?_
      refine br_f za_10 ?_
      exact ⟨rfl, zz_rel ok s⟩
    · rcases zz_ck v3 with n | ⟨j, hj1, hj, rfl⟩
      · unfold wpX_follow
        dsimp only
        refine zx_iz hz ?_
        refine br_f za_10 ?_
        refine zx_ic hi1 hi ?_
        refine br_f za_10 ?_
        refine zz_xc n ?_
        refine br_t rfl ?_
        show wpY_follow _ (mark, made) (nI z) (nI i) v3
        unfold wpY_follow
        dsimp only
        refine zy_bz hz ?_
        refine br_t rfl ?_
        refine zy_bc hi1 hi ?_
        refine br_t rfl ?_
        refine zz_yc n ?_
        refine br_f za_10 ?_
        exact ⟨rfl, zz_rel ok s⟩
      · by_cases e : i = j
        · subst e
          refine zx_follow0 ok hz hi1 hi ?_
          exact zy_follow0 s hz hi1 hi ⟨rfl, zz_rel ok s⟩
        · refine zx_follow ok hz hi1 hi hj1 hj e fun u' ok' => ?_
          exact zy_follow s hz hi1 hi hj1 hj e fun v' s' => ⟨rfl, zz_rel ok' s'⟩
theorem i_vc_widest {k : Nat} {u : SX} {v : SY} (I : i_Rel k u v) (hk : k + 5 ≤ 2560) (v1 : Int32) (v2 : Int32) (v3 : Int32) : wpX_widest (fun r => wpY_widest (fun r' v' => r' = r ∧ i_Rel (k + 5) u v') v v1 v2 v3) u v1 v2 v3 := by
  refine zz_el (P := fun u v => wpX_widest (fun r => wpY_widest (fun r' v' => r' = r ∧ i_Rel (k + 5) u v') v v1 v2 v3) u v1 v2 v3) ?_ I
  intro b no w mark made M ok s
  rcases zz_zn v1 with n | ⟨z, hz, rfl⟩
  · unfold wpX_widest
    dsimp only
    refine zx_izN n ?_
    refine br_t rfl ?_
    show wpY_widest _ (mark, made) v1 v2 v3
    unfold wpY_widest
    dsimp only
    refine zy_bzN n ?_
    refine br_f za_10 ?_
    exact ⟨rfl, zz_rel ok s⟩
  · rcases zz_pr v2 v3 with n | ⟨i, j, hi, hj, hij, rfl, rfl⟩
    · unfold wpX_widest
      dsimp only
      refine zx_iz hz ?_
      refine br_f za_10 ?_
      refine zz_xp n ?_
      refine br_t rfl ?_
      show wpY_widest _ (mark, made) (nI z) v2 v3
      unfold wpY_widest
      dsimp only
      refine zy_bz hz ?_
      refine br_t rfl ?_
      refine zz_yp n ?_
      refine br_f za_10 ?_
      exact ⟨rfl, zz_rel ok s⟩
    · refine zx_widest ok hz hi hj hij (fun e => ?_) (fun r a1 a2 => ?_)
      · exact zy_widest s hz hi hj hij (fun _ md => ⟨rfl, zz_rel ok s⟩) (fun r' md b1 _ => b1.elim fun p c => absurd c.2.1 (e p c.1))
      · refine zy_widest s hz hi hj hij (fun e md => a1.elim fun p c => absurd c.2.1 (e p c.1)) (fun r' md b1 b2 => ⟨?_, zz_rel ok s⟩)
        obtain ⟨p, hp, mp, ep⟩ := a1
        obtain ⟨q, hq, mq, eq⟩ := b1
        have c1 := a2 q hq mq
        have c2 := b2 p hp mp
        apply Int32.toInt_inj.mp
        omega
theorem i_vc_has {k : Nat} {u : SX} {v : SY} (I : i_Rel k u v) (hk : k + 5 ≤ 2560) (v1 : Int32) (v2 : Int32) (v3 : Int32) (v4 : Int32) : wpX_has (fun r u' => wpY_has (fun r' => r' = r ∧ i_Rel (k + 5) u' v) v v1 v2 v3 v4) u v1 v2 v3 v4 := by
  refine zz_el (P := fun u v => wpX_has (fun r u' => wpY_has (fun r' => r' = r ∧ i_Rel (k + 5) u' v) v v1 v2 v3 v4) u v1 v2 v3 v4) ?_ I
  intro b no w mark made M ok s
  rcases zz_zn v1 with n | ⟨z, hz, rfl⟩
  · unfold wpX_has
    dsimp only
    refine zx_izN n ?_
    refine br_t rfl ?_
    show wpY_has _ (mark, made) v1 v2 v3 v4
    unfold wpY_has
    dsimp only
    refine zy_bzN n ?_
    refine br_f za_10 ?_
    exact ⟨rfl, zz_rel ok s⟩
  · have B : (v2 < 0 ∨ 12 < v2 ∨ v3 < 0 ∨ 12 < v3 ∨ v4 < 0 ∨ 12 < v4) → wpX_has (fun r u' => wpY_has (fun r' => r' = r ∧ i_Rel (k + 5) u' (mark, made)) (mark, made) (nI z) v2 v3 v4) (b, no, w) (nI z) v2 v3 v4 := by
      intro c
      refine zx_hasN ok hz c ?_
      exact zy_hasN hz c ⟨rfl, zz_rel ok s⟩
    rcases zz_rg v2 with c | c | ⟨a1, h1, rfl⟩
    · exact B (Or.inl c)
    · exact B (Or.inr (Or.inl c))
    · rcases zz_rg v3 with c | c | ⟨a2, h2, rfl⟩
      · exact B (Or.inr (Or.inr (Or.inl c)))
      · exact B (Or.inr (Or.inr (Or.inr (Or.inl c))))
      · rcases zz_rg v4 with c | c | ⟨a3, h3, rfl⟩
        · exact B (Or.inr (Or.inr (Or.inr (Or.inr (Or.inl c)))))
        · exact B (Or.inr (Or.inr (Or.inr (Or.inr (Or.inr c)))))
        · refine zx_has ok hz h1 h2 h3 fun w' => ?_
          exact zy_has s hz h1 h2 h3 ⟨rfl, zz_rel (u := (b, no, w')) ok s⟩
end
