section
/-! numbers, stores, masks of six places (pk_ rows: from kit/rows/PURE-ROWS) -/
theorem pk_us {f : Nat → Int32} {k : Nat} {x : Int32} : upd f k x k = x := if_pos rfl
theorem pk_un {f : Nat → Int32} {k j : Nat} {x : Int32} (h : j ≠ k) : upd f k x j = f j := if_neg h
theorem pk_sub {a b : Nat} (h : b ≤ a) : nI a - nI b = nI (a - b) := by
  obtain ⟨c, rfl⟩ : ∃ c, a = c + b := ⟨a - b, by omega⟩
  rw [← nI_add, Int32.add_sub_cancel, Nat.add_sub_cancel]
theorem pk_m1 (n : Nat) : nI (n + 1) + (-1) = nI n := by
  rw [← nI_1, Int32.add_assoc, show (1 : Int32) + (-1) = 0 from rfl, Int32.add_zero]
theorem pk_mul (a b : Nat) : nI a * nI b = nI (a * b) := (Int32.ofNat_mul a b).symm
theorem pk_div {a d : Nat} (ha : a < 2 ^ 31) (h0 : 0 < d) (hd : d < 2 ^ 31) : nI a / nI d = nI (a / d) := by
  apply Int32.toInt_inj.mp
  rw [lg_idiv_nonneg (by rw [nI_toInt ha]; omega) (by rw [nI_toInt hd]; omega), nI_toInt ha, nI_toInt hd, nI_toInt (Nat.lt_of_le_of_lt (Nat.div_le_self a d) ha)]
  first | rfl | exact (Int.natCast_ediv _ _).symm
theorem pk_rem {a d : Nat} (ha : a < 2 ^ 31) (h0 : 0 < d) (hd : d < 2 ^ 31) : nI a - nI a / nI d * nI d = nI (a % d) := by
  rw [pk_div ha h0 hd, pk_mul, pk_sub (Nat.div_mul_le_self a d)]
  exact congrArg nI (by have := Nat.div_add_mod' a d; omega)
theorem pk_le {x y : Int32} {A B : Prop} (a b : Nat) (f : a ≤ b → A) (g : b < a → B) (hx : x = nI a := by rfl) (hy : y = nI b := by rfl) (ha : a < 2 ^ 31 := by omega) (hb : b < 2 ^ 31 := by omega) : (x ≤ y → A) ∧ (¬ x ≤ y → B) := by
  subst hx hy
  rw [nI_leI ha hb]
  exact ⟨f, fun z => g (by omega)⟩
theorem pk_lt {x y : Int32} {A B : Prop} (a b : Nat) (f : a < b → A) (g : b ≤ a → B) (hx : x = nI a := by rfl) (hy : y = nI b := by rfl) (ha : a < 2 ^ 31 := by omega) (hb : b < 2 ^ 31 := by omega) : (x < y → A) ∧ (¬ x < y → B) := by
  subst hx hy
  rw [nI_ltI ha hb]
  exact ⟨f, fun z => g (by omega)⟩
theorem pk_eq {x y : Int32} {A B : Prop} (a b : Nat) (f : a = b → A) (g : a ≠ b → B) (hx : x = nI a := by rfl) (hy : y = nI b := by rfl) (ha : a < 2 ^ 31 := by omega) (hb : b < 2 ^ 31 := by omega) : (x = y → A) ∧ (¬ x = y → B) := by
  subst hx hy
  rw [nI_eq ha hb]
  exact ⟨f, g⟩
theorem pk_in {x : Int32} (n N : Nat) (h : n < N) (hx : x = nI n := by rfl) (hN : N < 2 ^ 31 := by omega) : vp_in x N := by
  subst hx
  exact vp_in_nI h hN
theorem pk_cl {x : Int32} (n : Nat) (hx : x = nI n := by rfl) (h : n < 2 ^ 31 := by omega) : x.toNatClampNeg = n := by
  subst hx
  exact nI_clamp h
theorem pk_vb (z : Int32) : vp_nar .byte z.toInt8.toInt32 = z.toInt8.toInt32 := by rw [vp_nar_byte]; simp
/-! this claim's own -/
theorem cf_ix (a b : Nat) : nI a * 6 + nI b = nI (6 * a + b) := by
  rw [show (6 : Int32) = nI 6 from rfl, pk_mul, nI_add, Nat.mul_comm]
theorem cf_iy (a b : Nat) : 6 * nI a + nI b = nI (6 * a + b) := by
  rw [show (6 : Int32) = nI 6 from rfl, pk_mul, nI_add]
theorem cf_cl {a b : Nat} (ha : a < 6) (hb : b < 6) : (nI (6 * a + b)).toNatClampNeg = 6 * a + b := nI_clamp (by omega)
theorem cf_vin {a b : Nat} (ha : a < 6) (hb : b < 6) : vp_in (nI (6 * a + b)) 36 := vp_in_nI (by omega) (by decide)
theorem cf_nb0 : ∀ a, a < 6 → (nI a).toInt8.toInt32 = nI a := by decide +kernel
theorem cf_nb {a : Nat} (h : a < 6) : vp_nar .byte (nI a).toInt8.toInt32 = nI a := by rw [pk_vb]; exact cf_nb0 a h
theorem cf_nbm : vp_nar .byte (-1) = -1 := by rw [vp_nar_byte]; decide
theorem cf_nbz : vp_nar .byte 0 = 0 := by rw [vp_nar_byte]; decide
theorem cf_bit0 : ∀ m, m < 64 → ∀ a, a < 6 → (((nI m >>> (nI a &&& 31)) &&& 1) = if m.testBit a then 1 else 0) := by decide +kernel
theorem cf_or : ∀ m, m < 64 → ∀ a, a < 6 → nI m ||| ((1 : Int32) <<< (nI a &&& 31)) = nI (m ||| 2 ^ a) := by decide +kernel
theorem cf_orlt : ∀ m, m < 64 → ∀ a, a < 6 → m ||| 2 ^ a < 64 := by decide +kernel
theorem cf_one : ∀ a, a < 6 → (1 : Int32) <<< (nI a &&& 31) = nI (2 ^ a) := by decide +kernel
theorem cf_onelt : ∀ a, a < 6 → 2 ^ a < 64 := by decide +kernel
theorem cf_rm : ∀ m, m < 64 → ∀ a, a < 6 → m.testBit a = true → nI m &&& (((1 : Int32) <<< (nI a &&& 31)) ^^^ (-1)) = nI (m - 2 ^ a) := by decide +kernel
theorem cf_rmb : ∀ m, m < 64 → ∀ a, a < 6 → m.testBit a = true → ∀ b, b < 6 → (m - 2 ^ a).testBit b = (m.testBit b && !decide (b = a)) := by decide +kernel
theorem cf_not : ∀ m, m < 64 → (63 : Int32) &&& (nI m ^^^ (-1)) = nI (63 - m) := by decide +kernel
theorem cf_notb : ∀ m, m < 64 → ∀ a, a < 6 → (63 - m).testBit a = !m.testBit a := by decide +kernel
theorem cf_orb (m a b : Nat) : (m ||| 2 ^ a).testBit b = (m.testBit b || decide (b = a)) := by
  rw [Nat.testBit_or, Nat.testBit_two_pow]
  congr 1
  by_cases h : a = b
  · subst h; simp
  · have h' : ¬ b = a := fun z => h z.symm
    simp [h, h']
theorem cf_powb (a b : Nat) : (2 ^ a).testBit b = decide (b = a) := by
  rw [Nat.testBit_two_pow]
  by_cases h : a = b
  · subst h; simp
  · have h' : ¬ b = a := fun z => h z.symm
    simp [h, h']
/-- masks below 64 are settled by their six bits -/
theorem cf_ext : ∀ m, m < 64 → ∀ k, k < 64 → (∀ a, a < 6 → m.testBit a = k.testBit a) → m = k := by
  intro m hm k hk h
  apply Nat.eq_of_testBit_eq
  intro i
  rcases Nat.lt_or_ge i 6 with z | z
  · exact h i z
  · have p : 2 ^ 6 ≤ 2 ^ i := Nat.pow_le_pow_right (by decide) z
    rw [Nat.testBit_lt_two_pow (by omega), Nat.testBit_lt_two_pow (by omega)]
theorem cf_ne0 : ∀ m, m < 64 → m ≠ 0 → ∃ a, a < 6 ∧ m.testBit a = true := by decide +kernel
theorem cf_ne63 : ∀ m, m < 64 → m ≠ 63 → ∃ a, a < 6 ∧ m.testBit a = false := by decide +kernel
theorem cf_63 : ∀ a, a < 6 → (63 : Nat).testBit a = true := by decide +kernel
/-- a set as a mask -/
def cf_mk (S : Nat → Bool) : Nat := (S 0).toNat + 2 * (S 1).toNat + 4 * (S 2).toNat + 8 * (S 3).toNat + 16 * (S 4).toNat + 32 * (S 5).toNat
theorem cf_mkb0 : ∀ p q r s t u : Bool, let m := p.toNat + 2 * q.toNat + 4 * r.toNat + 8 * s.toNat + 16 * t.toNat + 32 * u.toNat
    m < 64 ∧ m.testBit 0 = p ∧ m.testBit 1 = q ∧ m.testBit 2 = r ∧ m.testBit 3 = s ∧ m.testBit 4 = t ∧ m.testBit 5 = u := by decide +kernel
theorem cf_mklt (S : Nat → Bool) : cf_mk S < 64 := (cf_mkb0 (S 0) (S 1) (S 2) (S 3) (S 4) (S 5)).1
theorem cf_6 {P : Nat → Prop} (h0 : P 0) (h1 : P 1) (h2 : P 2) (h3 : P 3) (h4 : P 4) (h5 : P 5) {a : Nat} (h : a < 6) : P a := by
  match a, h with
  | 0, _ => exact h0
  | 1, _ => exact h1
  | 2, _ => exact h2
  | 3, _ => exact h3
  | 4, _ => exact h4
  | 5, _ => exact h5
theorem cf_mkb (S : Nat → Bool) {a : Nat} (h : a < 6) : (cf_mk S).testBit a = S a := by
  have k := cf_mkb0 (S 0) (S 1) (S 2) (S 3) (S 4) (S 5)
  exact cf_6 (P := fun a => (cf_mk S).testBit a = S a) k.2.1 k.2.2.1 k.2.2.2.1 k.2.2.2.2.1 k.2.2.2.2.2.1 k.2.2.2.2.2.2 h
/-- the printed 'in' -/
theorem cf_in {post : Int32 → Prop} {m a : Nat} (hm : m < 64) (ha : a < 6) (h1 : m.testBit a = true → post 1) (h0 : m.testBit a = false → post 0) : wpX_in post (nI m) (nI a) := by
  unfold wpX_in
  rw [cf_bit0 m hm a ha]
  cases h : m.testBit a
  · exact br_t (by simp) (h0 h)
  · exact br_f (by simp) (h1 h)
/-- a pair of places, or not -/
def cf_pr (x y : Int32) : Prop := ∃ a b : Nat, a < 6 ∧ b < 6 ∧ a ≠ b ∧ x = nI a ∧ y = nI b
theorem cf_pl (x : Int32) : (∃ a, a < 6 ∧ x = nI a) ∨ (x < 0) ∨ (¬ x < 0 ∧ (6 : Int32) ≤ x ∧ (5 : Int32) < x ∧ ∀ a, a < 6 → x ≠ nI a) := by
  by_cases h : x < 0
  · exact Or.inr (Or.inl h)
  · obtain ⟨j, hj, rfl⟩ := nI_of h
    by_cases h2 : j < 6
    · exact Or.inl ⟨j, h2, rfl⟩
    · refine Or.inr (Or.inr ⟨h, nI_le (a := 6) (by omega) hj, nI_lt (a := 5) (by omega) hj, fun a ha e => ?_⟩)
      rw [nI_eq hj (by omega)] at e
      omega
theorem cf_npl {x : Int32} (h : x < 0) : ∀ a, a < 6 → x ≠ nI a := by
  intro a ha e
  subst e
  exact nI_pos (by omega) h
theorem cf_isPlace {post : Int32 → Prop} {x : Int32} (h1 : ∀ a, a < 6 → x = nI a → post 1) (h0 : (∀ a, a < 6 → x ≠ nI a) → post 0) : wpX_isPlace post x := by
  rcases cf_pl x with ⟨a, ha, rfl⟩ | h | ⟨h, h6, _, hn⟩
  · exact br_f (nI_pos (by omega)) (br_f (nI_ge (b := 6) ha (by decide)) (h1 a ha rfl))
  · exact br_t h (h0 (cf_npl h))
  · exact br_f h (br_t h6 (h0 hn))
theorem cf_isPair {post : Int32 → Prop} {x y : Int32} (h1 : ∀ a b, a < 6 → b < 6 → a ≠ b → x = nI a → y = nI b → post 1) (h0 : ¬ cf_pr x y → post 0) : wpX_isPair post x y := by
  unfold wpX_isPair
  refine cf_isPlace (fun a ha ea => ?_) (fun hn => ?_)
  · refine br_f (by decide) ?_
    refine cf_isPlace (fun b hb eb => ?_) (fun hn => ?_)
    · refine br_f (by decide) ?_
      by_cases e : x = y
      · refine br_t e (h0 ?_)
        rintro ⟨a', b', ha', hb', hne, e1, e2⟩
        rw [e1, e2, nI_eq (by omega) (by omega)] at e
        exact hne e
      · refine br_f e (h1 a b ha hb (fun z => e ?_) ea eb)
        rw [ea, eb, z]
    · refine br_t rfl (h0 ?_)
      rintro ⟨a', b', ha', hb', hne, e1, e2⟩
      exact hn b' hb' e2
  · refine br_t rfl (h0 ?_)
    rintro ⟨a', b', ha', hb', hne, e1, e2⟩
    exact hn a' ha' e1
theorem cf_pairY {post : Int32 → Prop} {cap : SY} {x y : Int32} (h1 : ∀ a b, a < 6 → b < 6 → a ≠ b → x = nI a → y = nI b → post 1) (h0 : ¬ cf_pr x y → post 0) : wpY_pair post cap x y := by
  by_cases e : x = y
  · refine br_t e (h0 ?_)
    rintro ⟨a', b', ha', hb', hne, e1, e2⟩
    rw [e1, e2, nI_eq (by omega) (by omega)] at e
    exact hne e
  · refine br_f e ?_
    rcases cf_pl x with ⟨a, ha, ea⟩ | h | ⟨h, _, h5, hn⟩
    · have x0 : ¬ x < 0 := by rw [ea]; exact nI_pos (by omega)
      have x5 : ¬ (5 : Int32) < x := by rw [ea]; exact nI_nlt (a := 5) (by omega) (by decide)
      refine br_f x0 (br_f x5 ?_)
      rcases cf_pl y with ⟨b, hb, eb⟩ | h | ⟨h, _, h5, hn⟩
      · have y0 : ¬ y < 0 := by rw [eb]; exact nI_pos (by omega)
        have y5 : ¬ (5 : Int32) < y := by rw [eb]; exact nI_nlt (a := 5) (by omega) (by decide)
        refine br_f y0 (br_f y5 (h1 a b ha hb (fun z => e ?_) ea eb))
        rw [ea, eb, z]
      · refine br_t h (h0 ?_)
        rintro ⟨a', b', ha', hb', hne, e1, e2⟩
        exact cf_npl h b' hb' e2
      · refine br_f h (br_t h5 (h0 ?_))
        rintro ⟨a', b', ha', hb', hne, e1, e2⟩
        exact hn b' hb' e2
    · refine br_t h (h0 ?_)
      rintro ⟨a', b', ha', hb', hne, e1, e2⟩
      exact cf_npl h a' ha' e1
    · refine br_f h (br_t h5 (h0 ?_))
      rintro ⟨a', b', ha', hb', hne, e1, e2⟩
      exact hn a' ha' e1
end
section
/-- x if b holds, else nothing -/
def cf_i : Bool → Nat → Nat
  | true, x => x
  | false, _ => 0
theorem ci_t (x : Nat) : cf_i true x = x := rfl
theorem ci_f (x : Nat) : cf_i false x = 0 := rfl
theorem ci_le (b : Bool) (x : Nat) : cf_i b x ≤ x := by cases b <;> simp [cf_i]
/-! finite sums of naturals -/
def sm_s (f : Nat → Nat) : Nat → Nat
  | 0 => 0
  | n + 1 => sm_s f n + f n
theorem sm_congr {f g : Nat → Nat} : ∀ {n : Nat}, (∀ i, i < n → f i = g i) → sm_s f n = sm_s g n
  | 0, _ => rfl
  | n + 1, h => by
    simp only [sm_s]
    rw [sm_congr (n := n) (fun i hi => h i (by omega)), h n (by omega)]
theorem sm_le {f g : Nat → Nat} : ∀ {n : Nat}, (∀ i, i < n → f i ≤ g i) → sm_s f n ≤ sm_s g n
  | 0, _ => Nat.le_refl _
  | n + 1, h => by
    have a := sm_le (n := n) (f := f) (g := g) (fun i hi => h i (by omega))
    have b := h n (by omega)
    simp only [sm_s]; omega
theorem sm_lt {f g : Nat → Nat} {k : Nat} (hk : f k < g k) : ∀ {n : Nat}, k < n → (∀ i, i < n → f i ≤ g i) → sm_s f n < sm_s g n
  | 0, z, _ => by omega
  | n + 1, z, h => by
    simp only [sm_s]
    rcases Nat.lt_or_ge k n with y | y
    · have a := sm_lt hk (n := n) y (fun i hi => h i (by omega))
      have b := h n (by omega)
      omega
    · have e : k = n := by omega
      subst e
      have a := sm_le (n := k) (f := f) (g := g) (fun i hi => h i (by omega))
      omega
theorem sm_add (f g : Nat → Nat) : ∀ n : Nat, sm_s (fun i => f i + g i) n = sm_s f n + sm_s g n
  | 0 => rfl
  | n + 1 => by
    simp only [sm_s]
    rw [sm_add f g n]; omega
theorem sm_0 {f : Nat → Nat} : ∀ {n : Nat}, (∀ i, i < n → f i = 0) → sm_s f n = 0
  | 0, _ => rfl
  | n + 1, h => by
    simp only [sm_s]
    rw [sm_0 (n := n) (fun i hi => h i (by omega)), h n (by omega)]
theorem sm_0' {f : Nat → Nat} : ∀ {n : Nat}, sm_s f n = 0 → ∀ i, i < n → f i = 0
  | 0, _, i, hi => by omega
  | n + 1, h, i, hi => by
    simp only [sm_s] at h
    rcases Nat.lt_or_ge i n with y | y
    · exact sm_0' (n := n) (by omega) i y
    · have e : i = n := by omega
      subst e; omega
theorem sm_bd {f : Nat → Nat} {B : Nat} : ∀ {n : Nat}, (∀ i, i < n → f i ≤ B) → sm_s f n ≤ n * B
  | 0, _ => Nat.zero_le _
  | n + 1, h => by
    have a := sm_bd (n := n) (f := f) (B := B) (fun i hi => h i (by omega))
    have b := h n (by omega)
    simp only [sm_s]
    rw [Nat.succ_mul]; omega
/-- one place changed -/
theorem sm_upd {f g : Nat → Nat} {k : Nat} : ∀ {n : Nat}, k < n → (∀ i, i < n → i ≠ k → g i = f i) → sm_s g n + f k = sm_s f n + g k
  | 0, z, _ => by omega
  | n + 1, z, h => by
    simp only [sm_s]
    rcases Nat.lt_or_ge k n with y | y
    · have a := sm_upd (n := n) y (fun i hi hk => h i (by omega) hk)
      have b := h n (by omega) (by omega)
      omega
    · have e : k = n := by omega
      subst e
      have a : sm_s g k = sm_s f k := sm_congr (fun i hi => h i (by omega) (by omega))
      omega
theorem sm_tail {f : Nat → Nat} {a : Nat} : ∀ {d : Nat}, (∀ i, i < d → f (a + i) = 0) → sm_s f (a + d) = sm_s f a
  | 0, _ => rfl
  | d + 1, h => by
    show sm_s f (a + d) + f (a + d) = _
    rw [sm_tail (d := d) (fun i hi => h i (by omega)), h d (by omega)]
    omega
/-- rows and columns of the 36 cells -/
theorem sm_tr (g : Nat → Nat → Nat) : sm_s (fun c => g (c / 6) (c % 6)) 36 = sm_s (fun c => g (c % 6) (c / 6)) 36 := by
  simp only [sm_s, Nat.reduceDiv, Nat.reduceMod]
  omega
theorem sm_row (h : Nat → Nat) {v : Nat} (hv : v < 6) : sm_s (fun c => if c / 6 = v then h (c % 6) else 0) 36 = sm_s h 6 := by
  refine cf_6 (P := fun v => sm_s (fun c => if c / 6 = v then h (c % 6) else 0) 36 = sm_s h 6) ?_ ?_ ?_ ?_ ?_ ?_ hv <;>
    simp [sm_s]
theorem sm_col (h : Nat → Nat) {v : Nat} (hv : v < 6) : sm_s (fun c => if c % 6 = v then h (c / 6) else 0) 36 = sm_s h 6 := by
  refine cf_6 (P := fun v => sm_s (fun c => if c % 6 = v then h (c / 6) else 0) 36 = sm_s h 6) ?_ ?_ ?_ ?_ ?_ ?_ hv <;>
    simp [sm_s]
/-- how many places a set has -/
def cf_cn (A : Nat → Bool) : Nat := sm_s (fun a => cf_i (A a) 1) 6
theorem cn_congr {A B : Nat → Bool} (h : ∀ a, a < 6 → A a = B a) : cf_cn A = cf_cn B := sm_congr (fun a ha => by rw [h a ha])
theorem cn_add {A B : Nat → Bool} {v : Nat} (hv : v < 6) (ha : A v = false) (hb : B v = true) (h : ∀ a, a < 6 → a ≠ v → B a = A a) : cf_cn B = cf_cn A + 1 := by
  have k := sm_upd (f := fun a => cf_i (A a) 1) (g := fun a => cf_i (B a) 1) hv (fun i hi hk => by rw [h i hi hk])
  rw [ha, hb, ci_t, ci_f] at k
  unfold cf_cn
  omega
theorem cn_le6 (A : Nat → Bool) : cf_cn A ≤ 6 := by
  have k := sm_bd (f := fun a => cf_i (A a) 1) (B := 1) (n := 6) (fun i _ => ci_le _ _)
  unfold cf_cn; omega
theorem cn_sub {A B : Nat → Bool} (h : cf_cn A < cf_cn B) : ∃ v, v < 6 ∧ B v = true ∧ A v = false := by
  refine Classical.byContradiction fun z => ?_
  have k : cf_cn B ≤ cf_cn A := sm_le (fun a ha => by
    cases hb : B a
    · exact Nat.zero_le _
    · cases hA : A a
      · exact absurd ⟨a, ha, hb, hA⟩ z
      · exact Nat.le_refl _)
  omega
theorem cn_all {A B : Nat → Bool} (h : cf_cn B ≤ cf_cn A) (hs : ∀ a, a < 6 → A a = true → B a = true) : ∀ a, a < 6 → A a = B a := by
  intro v hv
  cases hA : A v
  · cases hb : B v
    · rfl
    · have k : cf_cn A < cf_cn B := sm_lt (k := v) (by rw [hA, hb]; decide) hv (fun a ha => by
        cases h1 : A a
        · exact Nat.zero_le _
        · rw [hs a ha h1]; exact Nat.le_refl _)
      omega
  · rw [hs v hv hA]
/-! cuts: the cells from inside S to outside -/
def cf_cut (C : Nat → Nat) (S : Nat → Bool) : Nat := sm_s (fun c => cf_i (S (c / 6) && !S (c % 6)) (C c)) 36
theorem ct_congr {C : Nat → Nat} {S S' : Nat → Bool} (h : ∀ a, a < 6 → S a = S' a) : cf_cut C S = cf_cut C S' :=
  sm_congr (fun c hc => by rw [h (c / 6) (by omega), h (c % 6) (by omega)])
theorem ct_bd {C : Nat → Nat} {B : Nat} (h : ∀ c, c < 36 → C c ≤ B) (S : Nat → Bool) : cf_cut C S ≤ 36 * B :=
  sm_bd (fun c hc => Nat.le_trans (ci_le _ _) (h c hc))
/-- symmetric, nothing on the diagonal -/
def cf_sym (C : Nat → Nat) : Prop := ∀ a b, a < 6 → b < 6 → C (6 * a + b) = C (6 * b + a)
theorem sy_c {C : Nat → Nat} (h : cf_sym C) {c : Nat} (hc : c < 36) : C c = C (6 * (c % 6) + c / 6) := by
  have k := h (c / 6) (c % 6) (by omega) (by omega)
  have e : 6 * (c / 6) + c % 6 = c := by omega
  rw [e] at k
  exact k
theorem ct_neg {C : Nat → Nat} (h : cf_sym C) (S : Nat → Bool) : cf_cut C (fun a => !S a) = cf_cut C S := by
  have k := sm_tr (fun a b => cf_i (S a && !S b) (C (6 * a + b)))
  have e1 : cf_cut C S = sm_s (fun c => cf_i (S (c / 6) && !S (c % 6)) (C (6 * (c / 6) + c % 6))) 36 :=
    sm_congr (fun c hc => by rw [show 6 * (c / 6) + c % 6 = c by omega])
  rw [e1, k]
  exact sm_congr (fun c hc => by
    dsimp only
    rw [sy_c h hc]
    cases S (c / 6) <;> cases S (c % 6) <;> rfl)
theorem ct_sub (C : Nat → Nat) (S T : Nat → Bool) : cf_cut C (fun a => S a && T a) + cf_cut C (fun a => S a || T a) ≤ cf_cut C S + cf_cut C T := by
  unfold cf_cut
  rw [← sm_add, ← sm_add]
  exact sm_le (fun c _ => by
    dsimp only
    cases S (c / 6) <;> cases S (c % 6) <;> cases T (c / 6) <;> cases T (c % 6) <;> simp [ci_t, ci_f])
/-- pushing x along one edge p -> b -/
theorem ct_push {R R' : Nat → Nat} {x p b : Nat} (S : Nat → Bool) (hp : p < 6) (hb : b < 6) (hne : p ≠ b) (h1 : R' (6 * p + b) + x = R (6 * p + b)) (h2 : R' (6 * b + p) = R (6 * b + p) + x)
    (ho : ∀ c, c < 36 → c ≠ 6 * p + b → c ≠ 6 * b + p → R' c = R c) :
    cf_cut R' S + cf_i (S p) x = cf_cut R S + cf_i (S b) x := by
  have k1 := sm_upd (f := fun c => cf_i (S (c / 6) && !S (c % 6)) (R c))
    (g := fun c => cf_i (S (c / 6) && !S (c % 6)) (if c = 6 * p + b then R' c else R c)) (k := 6 * p + b) (n := 36) (by omega)
    (fun i hi hk => by simp only [if_neg hk])
  have k2 := sm_upd (f := fun c => cf_i (S (c / 6) && !S (c % 6)) (if c = 6 * p + b then R' c else R c))
    (g := fun c => cf_i (S (c / 6) && !S (c % 6)) (R' c)) (k := 6 * b + p) (n := 36) (by omega)
    (fun i hi hk => by
      by_cases e : i = 6 * p + b
      · rw [if_pos e]
      · rw [if_neg e, ho i hi e hk])
  have d1 : (6 * p + b) / 6 = p := by omega
  have d2 : (6 * p + b) % 6 = b := by omega
  have d3 : (6 * b + p) / 6 = b := by omega
  have d4 : (6 * b + p) % 6 = p := by omega
  have d5 : ¬ (6 * b + p = 6 * p + b) := by omega
  simp only [d1, d2, d3, d4, if_neg d5, if_pos] at k1 k2
  unfold cf_cut
  cases hp' : S p <;> cases hb' : S b <;> simp [hp', hb', ci_t, ci_f] at k1 k2 ⊢ <;> omega
end
section
/-! adding the most tightly joined: the plain law -/
def sw_c (A : Nat → Bool) (J : Nat → Nat) (S : Nat → Bool) : Nat := sm_s (fun c => cf_i (A (c / 6) && A (c % 6) && S (c / 6) && !S (c % 6)) (J c)) 36
def sw_w (A : Nat → Bool) (J : Nat → Nat) (v : Nat) : Nat := sm_s (fun b => cf_i (A b) (J (6 * v + b))) 6
def sw_x (A : Nat → Bool) (J : Nat → Nat) (S : Nat → Bool) (v : Nat) : Nat := sm_s (fun b => cf_i (A b && (S b != S v)) (J (6 * v + b))) 6
def sw_e (A : Nat → Bool) (J : Nat → Nat) (S : Nat → Bool) (v : Nat) : Nat := sm_s (fun b => cf_i (A b && (S b == S v)) (J (6 * v + b))) 6
theorem sw_split (A : Nat → Bool) (J : Nat → Nat) (S : Nat → Bool) (v : Nat) : sw_w A J v = sw_e A J S v + sw_x A J S v := by
  unfold sw_w sw_e sw_x
  rw [← sm_add]
  exact sm_congr (fun b _ => by
    try dsimp only
    cases A b <;> cases S b <;> cases S v <;> simp [ci_t, ci_f])
theorem sw_ccongr {A A' : Nat → Bool} {J J' : Nat → Nat} {S S' : Nat → Bool} (hA : ∀ a, a < 6 → A a = A' a) (hJ : ∀ a b, a < 6 → b < 6 → A a = true → A b = true → J (6 * a + b) = J' (6 * a + b))
    (hS : ∀ a, a < 6 → A a = true → S a = S' a) : sw_c A J S = sw_c A' J' S' :=
  sm_congr (fun c hc => by
    try dsimp only
    rw [← hA (c / 6) (by omega), ← hA (c % 6) (by omega)]
    cases h1 : A (c / 6)
    · simp [ci_t, ci_f]
    · cases h2 : A (c % 6)
      · simp [ci_t, ci_f]
      · rw [hS _ (by omega) h1, hS _ (by omega) h2]
        have k := hJ (c / 6) (c % 6) (by omega) (by omega) h1 h2
        rw [show 6 * (c / 6) + c % 6 = c by omega] at k
        rw [k])
theorem sw_grow {A A' : Nat → Bool} {J : Nat → Nat} (S : Nat → Bool) {v : Nat} (hJ : cf_sym J) (hv : v < 6) (hA : A v = false) (hA' : ∀ a, a < 6 → A' a = (A a || decide (a = v))) :
    sw_c A' J S = sw_c A J S + sw_x A J S v := by
  have e1 : sw_x A J S v = sm_s (fun b => cf_i (A b && S v && !S b) (J (6 * v + b))) 6 + sm_s (fun b => cf_i (A b && S b && !S v) (J (6 * v + b))) 6 := by
    rw [← sm_add]
    exact sm_congr (fun b _ => by
      try dsimp only
      cases A b <;> cases S b <;> cases S v <;> simp [ci_t, ci_f])
  rw [e1, ← sm_row (fun b => cf_i (A b && S v && !S b) (J (6 * v + b))) hv, ← sm_col (fun b => cf_i (A b && S b && !S v) (J (6 * v + b))) hv]
  unfold sw_c
  rw [← sm_add, ← sm_add]
  refine sm_congr (fun c hc => ?_)
  try dsimp only
  have hs := sy_c hJ hc
  rw [hA' _ (by omega : c / 6 < 6), hA' _ (by omega : c % 6 < 6)]
  by_cases h1 : c / 6 = v
  · by_cases h2 : c % 6 = v
    · rw [h1, h2]; simp [ci_t, ci_f, hA]
    · rw [if_pos h1, if_neg h2, h1]
      have e : 6 * v + c % 6 = c := by omega
      rw [e]
      cases A (c % 6) <;> cases S v <;> cases S (c % 6) <;> simp [ci_t, ci_f, hA, h2]
  · by_cases h2 : c % 6 = v
    · rw [if_neg h1, if_pos h2, h2]
      have e : J (6 * v + c / 6) = J c := by rw [hs, h2]
      rw [e]
      cases A (c / 6) <;> cases S v <;> cases S (c / 6) <;> simp [ci_t, ci_f, hA, h1]
    · rw [if_neg h1, if_neg h2]
      cases A (c / 6) <;> cases A (c % 6) <;> simp [ci_t, ci_f, h1, h2]
/-- who is on the other side than the last one added is joined to its own side by no more than the cut so far -/
def sw_P (T A : Nat → Bool) (J : Nat → Nat) (l : Nat) : Prop := ∀ (S : Nat → Bool) (u : Nat), u < 6 → T u = true → A u = false → S u ≠ S l → sw_e A J S u ≤ sw_c A J S
theorem sw_P0 {T A : Nat → Bool} {J : Nat → Nat} {l : Nat} (h : ∀ a, a < 6 → A a = false) : sw_P T A J l := by
  intro S u _ _ _ _
  have k : sw_e A J S u = 0 := sm_0 (fun b hb => by simp [ci_t, ci_f, h b hb])
  omega
theorem sw_step {T A A' : Nat → Bool} {J : Nat → Nat} {l v : Nat} (hJ : cf_sym J) (hP : sw_P T A J l) (hv : v < 6) (hT : T v = true) (hA : A v = false)
    (hm : ∀ u, u < 6 → T u = true → A u = false → sw_w A J u ≤ sw_w A J v) (hA' : ∀ a, a < 6 → A' a = (A a || decide (a = v))) :
    sw_P T A' J v ∧ (∀ S : Nat → Bool, S v ≠ S l → sw_w A J v ≤ sw_c A' J S) := by
  have key : ∀ S : Nat → Bool, S v ≠ S l → sw_w A J v ≤ sw_c A' J S := by
    intro S hS
    have a := hP S v hv hT hA hS
    rw [sw_grow S hJ hv hA hA', sw_split A J S v]
    omega
  refine ⟨fun S u hu hTu hAu hS => ?_, key⟩
  have hAu' : A u = false := by
    have k := hA' u hu
    rw [hAu] at k
    cases h : A u
    · rfl
    · rw [h] at k; simp at k
  have e : sw_e A' J S u = sw_e A J S u := by
    refine sm_congr (fun b hb => ?_)
    try dsimp only
    rw [hA' b hb]
    by_cases h : b = v
    · subst h
      have : (S b == S u) = false := by
        cases h1 : S b <;> cases h2 : S u <;> simp_all
      rw [this]; simp [ci_t, ci_f]
    · simp [ci_t, ci_f, h]
  rw [e]
  by_cases hl : S v = S l
  · have a := hP S u hu hTu hAu' (by rw [← hl]; exact hS)
    rw [sw_grow S hJ hv hA hA']
    omega
  · have a := key S hl
    have b := hm u hu hTu hAu'
    have c := sw_split A J S u
    omega
theorem sw_one {A A' : Nat → Bool} {J : Nat → Nat} {v : Nat} (hJ : cf_sym J) (hv : v < 6) (hA : A v = false) (hA' : ∀ a, a < 6 → A' a = (A a || decide (a = v))) :
    sw_w A J v = sw_c A' J (fun x => decide (x = v)) := by
  rw [sw_grow _ hJ hv hA hA']
  have e1 : sw_c A J (fun x => decide (x = v)) = 0 := sm_0 (fun c hc => by
    try dsimp only
    by_cases h : c / 6 = v
    · rw [h, hA]; simp [ci_t, ci_f]
    · simp [ci_t, ci_f, h])
  rw [e1, Nat.zero_add]
  refine sm_congr (fun b hb => ?_)
  try dsimp only
  by_cases h : b = v
  · subst h; simp [ci_t, ci_f, hA]
  · simp [ci_t, ci_f, h]
theorem sw_merge {J J' : Nat → Nat} {T T' : Nat → Bool} {s t : Nat} (hs : s < 6) (ht : t < 6) (hst : s ≠ t) (hTs : T s = true) (hTt : T t = true) (hJ : cf_sym J) (hJ' : cf_sym J')
    (h1 : ∀ c, c < 6 → c ≠ s → J' (6 * s + c) = J (6 * s + c) + J (6 * t + c)) (h2 : ∀ a b, a < 6 → b < 6 → a ≠ s → b ≠ s → J' (6 * a + b) = J (6 * a + b))
    (hT' : ∀ a, a < 6 → T' a = (T a && !decide (a = t))) (S : Nat → Bool) :
    sw_c T' J' S = sw_c T J (fun x => if x = t then S s else S x) := by
  have f1 : ∀ a, a < 6 → T' a = ((T a && !decide (a = s) && !decide (a = t)) || decide (a = s)) := by
    intro a ha
    rw [hT' a ha]
    by_cases h : a = s
    · subst h; simp [ci_t, ci_f, hTs, hst]
    · simp [ci_t, ci_f, h]
  have f2 : ∀ a, a < 6 → T a = (T' a || decide (a = t)) := by
    intro a ha
    rw [hT' a ha]
    by_cases h : a = t
    · subst h; simp [ci_t, ci_f, hTt]
    · simp [ci_t, ci_f, h]
  have hTt' : T' t = false := by rw [hT' t ht]; simp [ci_t, ci_f]
  rw [sw_grow (A := fun a => T a && !decide (a = s) && !decide (a = t)) S hJ' hs (by simp [ci_t, ci_f]) f1]
  rw [sw_grow (A := T') (fun x => if x = t then S s else S x) hJ ht hTt' f2]
  rw [sw_grow (A := fun a => T a && !decide (a = s) && !decide (a = t)) (fun x => if x = t then S s else S x) hJ hs (by simp [ci_t, ci_f]) f1]
  have e1 : sw_c (fun a => T a && !decide (a = s) && !decide (a = t)) J' S = sw_c (fun a => T a && !decide (a = s) && !decide (a = t)) J (fun x => if x = t then S s else S x) := by
    refine sw_ccongr (fun _ _ => rfl) (fun a b ha hb h3 h4 => ?_) (fun a ha h3 => ?_)
    · simp at h3 h4
      exact h2 a b ha hb h3.1.2 h4.1.2
    · simp at h3
      simp [ci_t, ci_f, h3.2]
  rw [e1, Nat.add_assoc]
  congr 1
  unfold sw_x
  rw [← sm_add]
  refine sm_congr (fun b hb => ?_)
  try dsimp only
  rw [if_neg hst, if_pos rfl, hT' b hb]
  by_cases hbt : b = t
  · subst hbt; simp [ci_t, ci_f]
  · by_cases hbs : b = s
    · subst hbs; simp [ci_t, ci_f, hbt]
    · rw [if_neg hbt, h1 b hb hbs]
      cases T b <;> cases S b <;> cases S s <;> simp [ci_t, ci_f, hbt, hbs]
/-! the phases -/
def cf_prop (S : Nat → Bool) : Prop := ∃ a b, a < 6 ∧ b < 6 ∧ S a ≠ S b
def sw_R (C J : Nat → Nat) (T : Nat → Bool) (rep : Nat → Nat) : Prop :=
  (∀ x, x < 6 → rep x < 6 ∧ T (rep x) = true) ∧ (∀ x, x < 6 → T x = true → rep x = x) ∧ ∀ S : Nat → Bool, sw_c T J S = cf_cut C (fun x => S (rep x))
def sw_B (C : Nat → Nat) (rep : Nat → Nat) (best : Nat) : Prop :=
  (∀ S : Nat → Bool, cf_prop S → best ≤ cf_cut C S ∨ ∀ x, x < 6 → S x = S (rep x)) ∧ (best = 1048576 ∨ ∃ S : Nat → Bool, cf_prop S ∧ cf_cut C S = best)
theorem sw_R0 {C : Nat → Nat} {T : Nat → Bool} (h : ∀ a, a < 6 → T a = true) : sw_R C C T id := by
  refine ⟨fun x hx => ⟨hx, h x hx⟩, fun x _ _ => rfl, fun S => sm_congr (fun c hc => ?_)⟩
  try dsimp only
  rw [h _ (by omega : c / 6 < 6), h _ (by omega : c % 6 < 6)]
  simp [ci_t, ci_f]
theorem sw_B0 {C : Nat → Nat} : sw_B C id 1048576 := ⟨fun _ _ => Or.inr (fun _ _ => rfl), Or.inl rfl⟩
theorem sw_phase {C J J' : Nat → Nat} {T T' : Nat → Bool} {rep : Nat → Nat} {best s t tl : Nat} (hR : sw_R C J T rep) (hB : sw_B C rep best)
    (hs : s < 6) (ht : t < 6) (hst : s ≠ t) (hTs : T s = true) (hTt : T t = true) (hJ : cf_sym J) (hJ' : cf_sym J')
    (h1 : ∀ c, c < 6 → c ≠ s → J' (6 * s + c) = J (6 * s + c) + J (6 * t + c)) (h2 : ∀ a b, a < 6 → b < 6 → a ≠ s → b ≠ s → J' (6 * a + b) = J (6 * a + b))
    (hT' : ∀ a, a < 6 → T' a = (T a && !decide (a = t)))
    (hl : ∀ S : Nat → Bool, S t ≠ S s → tl ≤ sw_c T J S) (he : tl = sw_c T J (fun x => decide (x = t))) :
    sw_R C J' T' (fun x => if rep x = t then s else rep x) ∧ sw_B C (fun x => if rep x = t then s else rep x) (if tl < best then tl else best) := by
  obtain ⟨r1, r2, r3⟩ := hR
  obtain ⟨b1, b2⟩ := hB
  refine ⟨⟨fun x hx => ?_, fun x hx h => ?_, fun S => ?_⟩, fun S hS => ?_, ?_⟩
  · dsimp only
    have k := r1 x hx
    by_cases h : rep x = t
    · rw [if_pos h]
      exact ⟨hs, by rw [hT' s hs, hTs]; simp [ci_t, ci_f, hst]⟩
    · rw [if_neg h]
      exact ⟨k.1, by rw [hT' _ k.1, k.2]; simp [ci_t, ci_f, h]⟩
  · rw [hT' x hx] at h
    simp at h
    have k := r2 x hx h.1
    dsimp only
    rw [k, if_neg h.2]
  · rw [sw_merge hs ht hst hTs hTt hJ hJ' h1 h2 hT' S, r3]
    exact ct_congr (fun x hx => by
      try dsimp only
      by_cases h : rep x = t
      · rw [if_pos h, if_pos h]
      · rw [if_neg h, if_neg h])
  · rcases b1 S hS with h | h
    · left; split <;> omega
    · by_cases hst2 : S t = S s
      · right
        intro x hx
        dsimp only
        by_cases hx2 : rep x = t
        · rw [if_pos hx2, ← hst2, ← hx2]; exact h x hx
        · rw [if_neg hx2]; exact h x hx
      · left
        have k := hl S hst2
        rw [r3 S, ← ct_congr (S := S) (fun x hx => h x hx)] at k
        split <;> omega
  · by_cases h : tl < best
    · rw [if_pos h]
      right
      refine ⟨fun x => decide (rep x = t), ⟨t, s, ht, hs, ?_⟩, ?_⟩
      · dsimp only; rw [r2 t ht hTt, r2 s hs hTs]; simp [ci_t, ci_f, hst]
      · rw [he, r3]
    · rw [if_neg h]; exact b2
theorem cn_two {A : Nat → Bool} {x y : Nat} (hx : x < 6) (hy : y < 6) (hxy : x ≠ y) (ax : A x = true) (ay : A y = true) : 2 ≤ cf_cn A := by
  have k1 : cf_cn A = cf_cn (fun a => A a && !decide (a = x)) + 1 := cn_add hx (by simp [ci_t, ci_f]) ax (fun a _ h => by simp [ci_t, ci_f, h])
  have k2 : cf_cn (fun a => A a && !decide (a = x)) = cf_cn (fun a => A a && !decide (a = x) && !decide (a = y)) + 1 :=
    cn_add hy (by simp [ci_t, ci_f]) (by simp [ci_t, ci_f, ay, Ne.symm hxy]) (fun a _ h => by simp [ci_t, ci_f, h])
  omega
theorem sw_end {C : Nat → Nat} {J : Nat → Nat} {T : Nat → Bool} {rep : Nat → Nat} {best : Nat} (hR : sw_R C J T rep) (hB : sw_B C rep best) (hT : cf_cn T = 1) (hC : ∀ c, c < 36 → C c ≤ 31) :
    (∀ S : Nat → Bool, cf_prop S → best ≤ cf_cut C S) ∧ ∃ S : Nat → Bool, cf_prop S ∧ cf_cut C S = best := by
  have hc : ∀ x y, x < 6 → y < 6 → rep x = rep y := by
    intro x y hx hy
    refine Classical.byContradiction fun h => ?_
    have k := cn_two (A := T) (hR.1 x hx).1 (hR.1 y hy).1 h (hR.1 x hx).2 (hR.1 y hy).2
    omega
  have h1 : ∀ S : Nat → Bool, cf_prop S → best ≤ cf_cut C S := by
    intro S hS
    rcases hB.1 S hS with h | h
    · exact h
    · obtain ⟨a, b, ha, hb, hab⟩ := hS
      exact absurd (by rw [h a ha, h b hb, hc a b ha hb]) hab
  refine ⟨h1, ?_⟩
  rcases hB.2 with h | h
  · have k := h1 (fun x => decide (x = 0)) ⟨0, 1, by omega, by omega, by decide⟩
    have k2 := ct_bd hC (fun x => decide (x = 0))
    omega
  · exact h
end
section
/-! pushing flow: the plain law -/
/-- how far a cell has come: it can be filled up again only two levels further -/
def fl_e (R L : Nat → Nat) (c : Nat) : Nat := if 0 < R c then L (c / 6) else (if L (c / 6) ≤ L (c % 6) + 1 then L (c % 6) + 1 else L (c / 6))
def fl_F (R L : Nat → Nat) : Nat := sm_s (fun c => (6 - fl_e R L c) / 2) 36
theorem fl_F0 (R : Nat → Nat) (L : Nat → Nat) : fl_F R L ≤ 108 := by
  have k := sm_bd (f := fun c => (6 - fl_e R L c) / 2) (B := 3) (n := 36) (fun i _ => by omega)
  unfold fl_F; omega
theorem fl_mono {R L L' : Nat → Nat} (h : ∀ x, x < 6 → L x ≤ L' x) : fl_F R L' ≤ fl_F R L := by
  refine sm_le (fun c hc => ?_)
  try dsimp only
  have h1 := h (c / 6) (by omega)
  have h2 := h (c % 6) (by omega)
  have k : fl_e R L c ≤ fl_e R L' c := by
    unfold fl_e
    split
    · exact h1
    · split <;> split <;> omega
  omega
theorem fl_dec {R R' L : Nat → Nat} (hs : ∀ a b, a < 6 → b < 6 → 0 < R' (6 * a + b) → 0 < R (6 * a + b) ∨ L b + 1 = L a)
    (hc : ∃ a b, a < 6 ∧ b < 6 ∧ L b = L a + 1 ∧ L b ≤ 5 ∧ 0 < R (6 * a + b) ∧ R' (6 * a + b) = 0) : fl_F R' L < fl_F R L := by
  have key : ∀ c, c < 36 → fl_e R L c ≤ fl_e R' L c := by
    intro c hc
    have k := hs (c / 6) (c % 6) (by omega) (by omega)
    rw [show 6 * (c / 6) + c % 6 = c by omega] at k
    unfold fl_e
    by_cases h : 0 < R' c
    · rw [if_pos h]
      rcases k h with z | z
      · rw [if_pos z]; omega
      · split
        · omega
        · split <;> omega
    · rw [if_neg h]
      split
      · split <;> omega
      · omega
  obtain ⟨a, b, ha, hb, h1, h2, h3, h4⟩ := hc
  refine sm_lt (k := 6 * a + b) ?_ (by omega) (fun c hc => ?_)
  · have e1 : (6 * a + b) / 6 = a := by omega
    have e2 : (6 * a + b) % 6 = b := by omega
    have k1 : fl_e R L (6 * a + b) = L a := by unfold fl_e; rw [if_pos h3, e1]
    have k2 : fl_e R' L (6 * a + b) = L a + 2 := by
      unfold fl_e
      rw [if_neg (by omega), e1, e2, if_pos (by omega), h1]
    omega
  · have := key c hc
    omega
/-! what a spread leaves: a tree of found places with levels -/
def sp_T (R : Nat → Nat) (m1 m : Nat) (ff : Nat → Int32) (L : Nat → Nat) : Prop :=
  ∀ b, b < 6 → m.testBit b = true → (m1.testBit b = true ∧ ff b = -1 ∧ L b = 0) ∨
    (m1.testBit b = false ∧ ∃ p, p < 6 ∧ m.testBit p = true ∧ ff b = nI p ∧ 0 < R (6 * p + b) ∧ L b = L p + 1)
def sp_Q (m e : Nat) (ln : Nat → Int32) (q L : Nat → Nat) : Prop :=
  (∀ j, j < e → ln j = nI (q j) ∧ q j < 6 ∧ m.testBit (q j) = true ∧ L (q j) ≤ j) ∧
  (∀ a, a < 6 → m.testBit a = true → ∃ j, j < e ∧ q j = a) ∧ (∀ i j, i ≤ j → j < e → L (q i) ≤ L (q j)) ∧ cf_cn m.testBit = e
def sp_cl (R : Nat → Nat) (S : Nat → Bool) : Prop := ∀ a b, a < 6 → b < 6 → S a = true → 0 < R (6 * a + b) → S b = true
def sp_M (R : Nat → Nat) (m1 m : Nat) : Prop :=
  m < 64 ∧ (∀ a, a < 6 → m1.testBit a = true → m.testBit a = true) ∧
  ∀ S : Nat → Bool, (∀ a, a < 6 → m1.testBit a = true → S a = true) → sp_cl R S → ∀ a, a < 6 → m.testBit a = true → S a = true
def sp_N (m2 m : Nat) : Prop := ∀ a, a < 6 → m.testBit a = true → m2.testBit a = false
/-- the first k in the line are done with -/
def sp_D (R : Nat → Nat) (m : Nat) (q L : Nat → Nat) (k : Nat) : Prop := ∀ j, j < k → ∀ b, b < 6 → 0 < R (6 * q j + b) → m.testBit b = true ∧ L b ≤ L (q j) + 1
theorem sp_Qadd {m e b lb : Nat} {ln : Nat → Int32} {q L : Nat → Nat} (hQ : sp_Q m e ln q L) (hb : b < 6) (hm : m.testBit b = false) (h1 : ∀ j, j < e → L (q j) ≤ lb) (h2 : lb ≤ e) :
    sp_Q (m ||| 2 ^ b) (e + 1) (upd ln e (nI b)) (fun j => if j = e then b else q j) (fun x => if x = b then lb else L x) := by
  obtain ⟨q1, q2, q3, q4⟩ := hQ
  have hq : ∀ j, j < e → q j ≠ b := by
    intro j hj h
    have k := (q1 j hj).2.2.1
    rw [h, hm] at k
    exact Bool.noConfusion k
  refine ⟨fun j hj => ?_, fun a ha h => ?_, fun i j hij hj => ?_, ?_⟩
  · dsimp only
    by_cases h : j = e
    · rw [if_pos h, if_pos rfl, h]
      exact ⟨pk_us, hb, by rw [cf_orb]; simp, h2⟩
    · have hj' : j < e := by omega
      have k := q1 j hj'
      rw [if_neg h, if_neg (hq j hj'), pk_un h]
      exact ⟨k.1, k.2.1, by rw [cf_orb, k.2.2.1]; rfl, k.2.2.2⟩
  · dsimp only
    by_cases hab : a = b
    · exact ⟨e, by omega, by rw [if_pos rfl, hab]⟩
    · rw [cf_orb] at h
      simp [hab] at h
      obtain ⟨j, hj, ej⟩ := q2 a ha h
      exact ⟨j, by omega, by rw [if_neg (by omega), ej]⟩
  · dsimp only
    by_cases h : j = e
    · rw [if_pos h, if_pos rfl]
      by_cases hi : i = e
      · rw [if_pos hi, if_pos rfl]; omega
      · rw [if_neg hi, if_neg (hq i (by omega))]; exact h1 i (by omega)
    · rw [if_neg h, if_neg (hq j (by omega)), if_neg (by omega : ¬ i = e), if_neg (hq i (by omega))]
      exact q3 i j hij (by omega)
  · rw [← q4]
    exact cn_add hb hm (by rw [cf_orb]; simp) (fun a _ h => by rw [cf_orb]; simp [h])
theorem sp_Tadd {R : Nat → Nat} {m1 m b a : Nat} {ff : Nat → Int32} {L : Nat → Nat} (hT : sp_T R m1 m ff L) (hM : ∀ a, a < 6 → m1.testBit a = true → m.testBit a = true) (hb : b < 6) (ha : a < 6)
    (hm : m.testBit b = false) (hma : m.testBit a = true) (hR : 0 < R (6 * a + b)) :
    sp_T R m1 (m ||| 2 ^ b) (upd ff b (nI a)) (fun x => if x = b then L a + 1 else L x) := by
  have hab : a ≠ b := by intro h; rw [h, hm] at hma; exact Bool.noConfusion hma
  intro x hx h
  try dsimp only
  by_cases hxb : x = b
  · right
    subst hxb
    refine ⟨?_, a, ha, by rw [cf_orb, hma]; rfl, pk_us, hR, ?_⟩
    · cases z : m1.testBit x
      · rfl
      · rw [hM x hx z] at hm; exact Bool.noConfusion hm
    · rw [if_pos rfl, if_neg hab]
  · rw [cf_orb] at h
    simp [hxb] at h
    rcases hT x hx h with ⟨k1, k2, k3⟩ | ⟨k1, p, k2, k3, k4, k5, k6⟩
    · left
      exact ⟨k1, by rw [pk_un hxb]; exact k2, by rw [if_neg hxb]; exact k3⟩
    · right
      have hpb : p ≠ b := by intro z; rw [z, hm] at k3; exact Bool.noConfusion k3
      exact ⟨k1, p, k2, by rw [cf_orb, k3]; rfl, by rw [pk_un hxb]; exact k4, k5, by rw [if_neg hxb, if_neg hpb]; exact k6⟩
theorem sp_Madd {R : Nat → Nat} {m1 m b a : Nat} (hM : sp_M R m1 m) (hb : b < 6) (ha : a < 6) (hma : m.testBit a = true) (hR : 0 < R (6 * a + b)) : sp_M R m1 (m ||| 2 ^ b) := by
  obtain ⟨h1, h2, h3⟩ := hM
  refine ⟨cf_orlt m h1 b hb, fun x hx h => by rw [cf_orb, h2 x hx h]; rfl, fun S hS hc x hx h => ?_⟩
  by_cases hxb : x = b
  · subst hxb
    exact hc a x ha hx (h3 S hS hc a ha hma) hR
  · rw [cf_orb] at h
    simp [hxb] at h
    exact h3 S hS hc x hx h
theorem sp_Nadd {m2 m b : Nat} (hN : sp_N m2 m) (hb : m2.testBit b = false) : sp_N m2 (m ||| 2 ^ b) := by
  intro x hx h
  by_cases hxb : x = b
  · rw [hxb]; exact hb
  · rw [cf_orb] at h
    simp [hxb] at h
    exact hN x hx h
theorem sp_Dadd {R : Nat → Nat} {m k b lb e : Nat} {q L : Nat → Nat} (hD : sp_D R m q L k) (hk : k ≤ e) (hm : m.testBit b = false) (hq : ∀ j, j < e → m.testBit (q j) = true) :
    sp_D R (m ||| 2 ^ b) (fun j => if j = e then b else q j) (fun x => if x = b then lb else L x) k := by
  intro j hj x hx h
  dsimp only at h ⊢
  have hje : ¬ j = e := by omega
  rw [if_neg hje] at h ⊢
  have k1 := hD j hj x hx h
  have hxb : x ≠ b := by intro z; rw [z, hm] at k1; exact Bool.noConfusion k1.1
  have hqb : q j ≠ b := by intro z; have k2 := hq j (by omega); rw [z, hm] at k2; exact Bool.noConfusion k2
  rw [if_neg hxb, if_neg hqb]
  exact ⟨by rw [cf_orb, k1.1]; rfl, k1.2⟩
/-- a goal g has been found: levels over all six places -/
def sp_G (R : Nat → Nat) (m1 m2 g m : Nat) (ff : Nat → Int32) (L : Nat → Nat) : Prop :=
  g < 6 ∧ m2.testBit g = true ∧ m.testBit g = true ∧ L g ≤ 5 ∧ sp_T R m1 m ff L ∧ (∀ a, a < 6 → m1.testBit a = true → L a = 0) ∧
  (∀ a b, a < 6 → b < 6 → 0 < R (6 * a + b) → L b ≤ L a + 1) ∧ (∀ a, a < 6 → L a ≤ L g) ∧ (∀ a, a < 6 → m2.testBit a = true → L a = L g) ∧ (∀ a, a < 6 → m.testBit a = false → L a = L g)
theorem sp_goal {R : Nat → Nat} {m1 m2 m e k b : Nat} {ff ln : Nat → Int32} {q L : Nat → Nat} (hT : sp_T R m1 m ff L) (hQ : sp_Q m e ln q L) (hM : sp_M R m1 m) (hN : sp_N m2 m) (hD : sp_D R m q L k)
    (hk : k < e) (hl : ∀ j, j < e → L (q j) ≤ L (q k) + 1) (hb : b < 6) (hm : m.testBit b = false) (hg : m2.testBit b = true) (hR : 0 < R (6 * q k + b)) :
    ∃ L', sp_G R m1 m2 b (m ||| 2 ^ b) (upd ff b (nI (q k))) L' := by
  have hak := (hQ.1 k hk).2.1
  have hmk := (hQ.1 k hk).2.2.1
  have hlk := (hQ.1 k hk).2.2.2
  have hT' := sp_Tadd hT hM.2.1 hb hak hm hmk hR
  have hQ' := sp_Qadd hQ hb hm hl (by omega : L (q k) + 1 ≤ e)
  have hM' := sp_Madd hM hb hak hmk hR
  have e6 : e + 1 ≤ 6 := by rw [← hQ'.2.2.2]; exact cn_le6 _
  have hin : ∀ x, x < 6 → m.testBit x = true → ∃ j, j < e ∧ q j = x := hQ.2.1
  have hLle : ∀ x, x < 6 → (if (m ||| 2 ^ b).testBit x = true then (if x = b then L (q k) + 1 else L x) else L (q k) + 1) ≤ L (q k) + 1 := by
    intro x hx
    split
    · split
      · omega
      · rename_i h1 h2
        rw [cf_orb] at h1
        simp [h2] at h1
        obtain ⟨j, hj, rfl⟩ := hin x hx h1
        exact hl j hj
    · omega
  have hbb : (m ||| 2 ^ b).testBit b = true := by rw [cf_orb]; simp
  have hLb : (if (m ||| 2 ^ b).testBit b = true then (if b = b then L (q k) + 1 else L b) else L (q k) + 1) = L (q k) + 1 := by
    rw [if_pos hbb, if_pos rfl]
  refine ⟨fun x => if (m ||| 2 ^ b).testBit x = true then (if x = b then L (q k) + 1 else L x) else L (q k) + 1, hb, hg, hbb, ?_, ?_, ?_, ?_, ?_, ?_, ?_⟩
  · dsimp only; rw [hLb]; omega
  · intro x hx h
    have hx' := h
    try dsimp only
    rw [if_pos h]
    rcases hT' x hx h with ⟨k1, k2, k3⟩ | ⟨k1, p, k2, k3, k4, k5, k6⟩
    · exact Or.inl ⟨k1, k2, k3⟩
    · refine Or.inr ⟨k1, p, k2, k3, k4, k5, ?_⟩
      rw [if_pos k3]; exact k6
  · intro a ha h
    have h1 := hM'.2.1 a ha h
    try dsimp only
    rw [if_pos h1]
    rcases hT' a ha h1 with ⟨k1, k2, k3⟩ | ⟨k1, p, k2, k3, k4, k5, k6⟩
    · exact k3
    · rw [h] at k1; exact Bool.noConfusion k1
  · intro a x ha hx h
    have hx2 := hLle x hx
    try dsimp only
    by_cases h1 : (m ||| 2 ^ b).testBit a = true
    · rw [if_pos h1 (c := (m ||| 2 ^ b).testBit a = true)]
      by_cases hab : a = b
      · rw [if_pos hab (c := a = b)]; omega
      · rw [if_neg hab (c := a = b)]
        rw [cf_orb] at h1
        simp [hab] at h1
        obtain ⟨j, hj, rfl⟩ := hin a ha h1
        rcases Nat.lt_or_ge j k with z | z
        · have k1 := hD j z x hx h
          have hxb : x ≠ b := by intro z; rw [z, hm] at k1; exact Bool.noConfusion k1.1
          rw [if_pos (by rw [cf_orb, k1.1]; rfl), if_neg hxb]
          exact k1.2
        · have k1 := hQ.2.2.1 k j z hj
          omega
    · rw [if_neg h1 (c := (m ||| 2 ^ b).testBit a = true)]; omega
  · intro a ha
    try dsimp only
    rw [hLb]; exact hLle a ha
  · intro a ha h
    try dsimp only
    rw [hLb]
    by_cases h1 : (m ||| 2 ^ b).testBit a = true
    · rw [if_pos h1]
      by_cases hab : a = b
      · rw [if_pos hab]
      · rw [cf_orb] at h1
        simp [hab] at h1
        rw [hN a ha h1] at h; exact Bool.noConfusion h
    · rw [if_neg h1]
  · intro a ha h
    try dsimp only
    rw [hLb, h]; rfl
/-- levels only grow from one spread to the next -/
theorem sp_mono {R : Nat → Nat} {m1 m2 g m D : Nat} {ff : Nat → Int32} {L L0 : Nat → Nat} (hG : sp_G R m1 m2 g m ff L) (h0 : ∀ a, a < 6 → m1.testBit a = true → L0 a = 0)
    (h1 : ∀ a b, a < 6 → b < 6 → 0 < R (6 * a + b) → L0 b ≤ L0 a + 1) (h2 : ∀ a, a < 6 → L0 a ≤ D) (h3 : ∀ a, a < 6 → m2.testBit a = true → L0 a = D) : ∀ a, a < 6 → L0 a ≤ L a := by
  obtain ⟨g1, g2, g3, g4, hT, g5, g6, g7, g8, g9⟩ := hG
  have key : ∀ n a, L a < n → a < 6 → m.testBit a = true → L0 a ≤ L a := by
    intro n
    induction n with
    | zero => intro a h; omega
    | succ n ih =>
      intro a h ha hm
      rcases hT a ha hm with ⟨k1, k2, k3⟩ | ⟨k1, p, k2, k3, k4, k5, k6⟩
      · rw [h0 a ha k1]; omega
      · have z := ih p (by omega) k2 k3
        have y := h1 p a k2 ha k5
        omega
  intro a ha
  cases h : m.testBit a
  · have k := key _ g (Nat.lt_succ_self _) g1 g3
    rw [h3 g g1 g2] at k
    rw [g9 a ha h]
    have := h2 a ha
    omega
  · exact key _ a (Nat.lt_succ_self _) ha h
/-! the way back from the goal -/
def ph_it (ff : Nat → Int32) (g : Nat) : Nat → Nat
  | 0 => g
  | i + 1 => (ff (ph_it ff g i)).toNatClampNeg
/-- w i is the i-th place on the way back; it is D long -/
def ph_W (R L : Nat → Nat) (ff : Nat → Int32) (w : Nat → Nat) (D : Nat) : Prop :=
  (∀ i, i ≤ D → w i < 6 ∧ L (w i) + i = D) ∧ (∀ i, i < D → ff (w i) = nI (w (i + 1)) ∧ 0 < R (6 * w (i + 1) + w i)) ∧ ff (w D) = -1
theorem ph_way {R : Nat → Nat} {m1 m g : Nat} {ff : Nat → Int32} {L : Nat → Nat} (hT : sp_T R m1 m ff L) (hg : g < 6) (hm : m.testBit g = true) (h0 : ∀ a, a < 6 → m1.testBit a = true → L a = 0) :
    ph_W R L ff (ph_it ff g) (L g) ∧ m1.testBit (ph_it ff g (L g)) = true := by
  have key : ∀ i, i ≤ L g → ph_it ff g i < 6 ∧ m.testBit (ph_it ff g i) = true ∧ L (ph_it ff g i) + i = L g := by
    intro i
    induction i with
    | zero => exact fun _ => ⟨hg, hm, rfl⟩
    | succ i ih =>
      intro hi
      obtain ⟨k1, k2, k3⟩ := ih (by omega)
      rcases hT _ k1 k2 with ⟨j1, j2, j3⟩ | ⟨j1, p, j2, j3, j4, j5, j6⟩
      · omega
      · have e : ph_it ff g (i + 1) = p := by
          show (ff (ph_it ff g i)).toNatClampNeg = p
          rw [j4]; exact nI_clamp (by omega)
        rw [e]
        exact ⟨j2, j3, by omega⟩
  refine ⟨⟨fun i hi => ⟨(key i hi).1, (key i hi).2.2⟩, fun i hi => ?_, ?_⟩, ?_⟩
  · obtain ⟨k1, k2, k3⟩ := key i (by omega)
    rcases hT _ k1 k2 with ⟨j1, j2, j3⟩ | ⟨j1, p, j2, j3, j4, j5, j6⟩
    · omega
    · have e : ph_it ff g (i + 1) = p := by
        show (ff (ph_it ff g i)).toNatClampNeg = p
        rw [j4]; exact nI_clamp (by omega)
      rw [e]
      exact ⟨j4, j5⟩
  · obtain ⟨k1, k2, k3⟩ := key (L g) (by omega)
    rcases hT _ k1 k2 with ⟨j1, j2, j3⟩ | ⟨j1, p, j2, j3, j4, j5, j6⟩
    · exact j2
    · omega
  · obtain ⟨k1, k2, k3⟩ := key (L g) (by omega)
    rcases hT _ k1 k2 with ⟨j1, j2, j3⟩ | ⟨j1, p, j2, j3, j4, j5, j6⟩
    · exact j1
    · omega
/-- the room after i steps of the way have been pushed along -/
def ph_I (R : Nat → Nat) (L : Nat → Nat) (w : Nat → Nat) (D x jc i : Nat) (R' : Nat → Nat) : Prop :=
  (∀ a b, a < 6 → b < 6 → 0 < R' (6 * a + b) → 0 < R (6 * a + b) ∨ L b + 1 = L a) ∧
  (∀ a b, a < 6 → b < 6 → L a + i ≤ D → L b + i ≤ D → R' (6 * a + b) = R (6 * a + b)) ∧
  (∀ S : Nat → Bool, cf_cut R' S + cf_i (S (w i)) x = cf_cut R S + cf_i (S (w 0)) x) ∧
  (∀ a b, a < 6 → b < 6 → R' (6 * a + b) + R' (6 * b + a) = R (6 * a + b) + R (6 * b + a)) ∧
  (i ≤ jc ∨ R' (6 * w (jc + 1) + w jc) = 0)
theorem ph_I0 {R L w : Nat → Nat} {D x jc : Nat} : ph_I R L w D x jc 0 R :=
  ⟨fun _ _ _ _ h => Or.inl h, fun _ _ _ _ _ _ => rfl, fun _ => rfl, fun _ _ _ _ => rfl, Or.inl (Nat.zero_le _)⟩
theorem ph_Is {R L w : Nat → Nat} {ff : Nat → Int32} {D x jc i : Nat} {R' R'' : Nat → Nat} (hW : ph_W R L ff w D) (hx : ∀ j, j < D → x ≤ R (6 * w (j + 1) + w j)) (hc : x = R (6 * w (jc + 1) + w jc)) (hjc : jc < D)
    (hi : i < D) (hI : ph_I R L w D x jc i R')
    (h1 : R'' (6 * w (i + 1) + w i) = R' (6 * w (i + 1) + w i) - x) (h2 : R'' (6 * w i + w (i + 1)) = R' (6 * w i + w (i + 1)) + x)
    (ho : ∀ c, c < 36 → c ≠ 6 * w (i + 1) + w i → c ≠ 6 * w i + w (i + 1) → R'' c = R' c) : ph_I R L w D x jc (i + 1) R'' := by
  obtain ⟨i1, i2, i3, i4, i5⟩ := hI
  obtain ⟨hb, hLb⟩ := hW.1 i (by omega)
  obtain ⟨hp, hLp⟩ := hW.1 (i + 1) (by omega)
  have hR := (hW.2.1 i hi).2
  have hxi := hx i hi
  have e0 := i2 (w (i + 1)) (w i) hp hb (by omega) (by omega)
  have hne : w (i + 1) ≠ w i := by intro z; rw [z] at hLp; omega
  have sp : ∀ a b, a < 6 → b < 6 → (a = w (i + 1) ∧ b = w i) ∨ (a = w i ∧ b = w (i + 1)) ∨ (R'' (6 * a + b) = R' (6 * a + b) ∧ R'' (6 * b + a) = R' (6 * b + a)) := by
    intro a b ha hb'
    by_cases z1 : a = w (i + 1) ∧ b = w i
    · exact Or.inl z1
    · by_cases z2 : a = w i ∧ b = w (i + 1)
      · exact Or.inr (Or.inl z2)
      · exact Or.inr (Or.inr ⟨ho _ (by omega) (by omega) (by omega), ho _ (by omega) (by omega) (by omega)⟩)
  refine ⟨fun a b ha hb' h => ?_, fun a b ha hb' h3 h4 => ?_, fun S => ?_, fun a b ha hb' => ?_, ?_⟩
  · rcases sp a b ha hb' with ⟨rfl, rfl⟩ | ⟨rfl, rfl⟩ | ⟨z, _⟩
    · exact Or.inl hR
    · exact Or.inr (by omega)
    · rw [z] at h; exact i1 a b ha hb' h
  · rcases sp a b ha hb' with ⟨rfl, rfl⟩ | ⟨rfl, rfl⟩ | ⟨z, _⟩
    · omega
    · omega
    · rw [z]; exact i2 a b ha hb' (by omega) (by omega)
  · have k := ct_push S hp hb hne (R := R') (R' := R'') (x := x) (by omega) h2 ho
    have k2 := i3 S
    omega
  · have k := i4 a b ha hb'
    rcases sp a b ha hb' with ⟨rfl, rfl⟩ | ⟨rfl, rfl⟩ | ⟨z, z2⟩
    · omega
    · omega
    · omega
  · by_cases h : i + 1 ≤ jc
    · exact Or.inl h
    · right
      by_cases h3 : i = jc
      · subst h3; rw [h1, e0, ← hc]; omega
      · have k := i5.resolve_left (by omega)
        obtain ⟨hb2, hLb2⟩ := hW.1 jc (by omega)
        obtain ⟨hp2, hLp2⟩ := hW.1 (jc + 1) (by omega)
        have n1 : w jc ≠ w i := by intro z; rw [z] at hLb2; omega
        have n2 : w jc ≠ w (i + 1) := by intro z; rw [z] at hLb2; omega
        rw [ho _ (by omega) (by omega) (by omega)]
        exact k
end
section
/-! the least cost between two places, and the tree of cuts: the plain law -/
def cf_min (C : Nat → Nat) (P : (Nat → Bool) → Prop) (x : Nat) : Prop := (∃ S, P S ∧ cf_cut C S = x) ∧ ∀ S, P S → x ≤ cf_cut C S
theorem mn_u {C : Nat → Nat} {P : (Nat → Bool) → Prop} {x y : Nat} (h : cf_min C P x) (k : cf_min C P y) : x = y := by
  obtain ⟨⟨S, s1, s2⟩, h2⟩ := h
  obtain ⟨⟨T, t1, t2⟩, k2⟩ := k
  have a := h2 T t1
  have b := k2 S s1
  omega
theorem mn_least (P : Nat → Prop) (h : ∃ k, P k) : ∃ k, P k ∧ ∀ j, j < k → ¬ P j := by
  obtain ⟨k, hk⟩ := h
  induction k using Nat.strongRecOn with
  | ind k ih =>
    by_cases z : ∃ j, j < k ∧ P j
    · obtain ⟨j, hj, pj⟩ := z
      exact ih j hj pj
    · exact ⟨k, hk, fun j hj pj => z ⟨j, hj, pj⟩⟩
theorem mn_ex {C : Nat → Nat} {P : (Nat → Bool) → Prop} (h : ∃ S, P S) : ∃ x, cf_min C P x := by
  obtain ⟨S, hS⟩ := h
  obtain ⟨k, ⟨T, t1, t2⟩, h2⟩ := mn_least (fun k => ∃ S, P S ∧ cf_cut C S = k) ⟨_, S, hS, rfl⟩
  refine ⟨k, ⟨T, t1, t2⟩, fun U hU => ?_⟩
  refine Classical.byContradiction fun z => ?_
  exact h2 (cf_cut C U) (by omega) ⟨U, hU, rfl⟩
noncomputable def gh_f (C : Nat → Nat) (u v : Nat) : Nat :=
  @dite _ (∃ x, cf_min C (fun S => S u = true ∧ S v = false) x) (Classical.propDecidable _) (fun h => Classical.choose h) (fun _ => 1048576)
theorem gh_min (C : Nat → Nat) {u v : Nat} (h : u ≠ v) : cf_min C (fun S => S u = true ∧ S v = false) (gh_f C u v) := by
  have k : ∃ x, cf_min C (fun S => S u = true ∧ S v = false) x := mn_ex ⟨fun a => decide (a = u), by simp [Ne.symm h]⟩
  unfold gh_f
  rw [dif_pos k]
  exact Classical.choose_spec k
theorem gh_self (C : Nat → Nat) (u : Nat) : gh_f C u u = 1048576 := by
  unfold gh_f
  rw [dif_neg]
  rintro ⟨x, ⟨S, ⟨h1, h2⟩, _⟩, _⟩
  rw [h1] at h2
  exact Bool.noConfusion h2
theorem gh_le {C : Nat → Nat} {u v : Nat} {S : Nat → Bool} (h1 : S u = true) (h2 : S v = false) : gh_f C u v ≤ cf_cut C S := by
  have h : u ≠ v := by intro z; rw [z, h2] at h1; exact Bool.noConfusion h1
  exact (gh_min C h).2 S ⟨h1, h2⟩
theorem gh_ex (C : Nat → Nat) {u v : Nat} (h : u ≠ v) : ∃ S : Nat → Bool, S u = true ∧ S v = false ∧ cf_cut C S = gh_f C u v := by
  obtain ⟨⟨S, ⟨h1, h2⟩, h3⟩, _⟩ := gh_min C h
  exact ⟨S, h1, h2, h3⟩
theorem gh_sym {C : Nat → Nat} (hC : cf_sym C) (u v : Nat) : gh_f C u v = gh_f C v u := by
  by_cases h : u = v
  · rw [h]
  · have a : ∀ u v, u ≠ v → gh_f C v u ≤ gh_f C u v := by
      intro u v h
      obtain ⟨S, h1, h2, h3⟩ := gh_ex C h
      rw [← h3, ← ct_neg hC S]
      exact gh_le (by simp [h2]) (by simp [h1])
    have k1 := a u v h
    have k2 := a v u (Ne.symm h)
    omega
theorem gh_ul (C : Nat → Nat) {u w : Nat} (v : Nat) (h : u ≠ w) : gh_f C u v ≤ gh_f C u w ∨ gh_f C v w ≤ gh_f C u w := by
  obtain ⟨S, h1, h2, h3⟩ := gh_ex C h
  cases hv : S v
  · left; rw [← h3]; exact gh_le h1 hv
  · right; rw [← h3]; exact gh_le hv h2
theorem gh_bd {C : Nat → Nat} (hC : ∀ c, c < 36 → C c ≤ 31) {u v : Nat} (h : u ≠ v) : gh_f C u v ≤ 1116 := by
  obtain ⟨S, h1, h2, h3⟩ := gh_ex C h
  have := ct_bd hC S
  omega
/-- the place under which u stands while the first i places have been cut off -/
def gh_r (i : Nat) (p : Nat → Nat) (u : Nat) : Nat := if u < i then u else p u
def gh_I (C : Nat → Nat) (i : Nat) (p : Nat → Nat) : Prop :=
  (∀ u, i ≤ u → u < 6 → p u < i) ∧
  (∀ u v, u < 6 → v < 6 → gh_r i p u ≠ gh_r i p v → u ≠ gh_r i p u → gh_f C u v ≤ gh_f C u (gh_r i p u)) ∧
  (∀ j, 1 ≤ j → j < i → p j < j ∧ ∀ l, l < j → gh_f C j l ≤ gh_f C j (p j))
theorem gh_I1 {C : Nat → Nat} {p : Nat → Nat} (h : ∀ u, u < 6 → p u = 0) : gh_I C 1 p := by
  have z : ∀ u, u < 6 → gh_r 1 p u = 0 := by
    intro u hu
    unfold gh_r
    split
    · omega
    · exact h u hu
  refine ⟨fun u _ hu => by rw [h u hu]; omega, fun u v hu hv h1 => ?_, fun j h1 h2 => by omega⟩
  rw [z u hu, z v hv] at h1
  exact absurd rfl h1
/-- two crossing cuts: u, v in Z, i, t out of it; X has i but not t -/
theorem gh_cross {C : Nat → Nat} {X Z : Nat → Bool} {i t a b x z : Nat} (hX : cf_cut C X = gh_f C i t) (xi : X i = true) (xt : X t = false) (zi : Z i = false) (zt : Z t = false)
    (xa : X a = true) (xb : X b = false) (za : Z a = true) : gh_f C a b ≤ cf_cut C Z := by
  have k := ct_sub C X Z
  have k1 : gh_f C a b ≤ cf_cut C (fun y => X y && Z y) := gh_le (by simp [xa, za]) (by simp [xb])
  have k2 : gh_f C i t ≤ cf_cut C (fun y => X y || Z y) := gh_le (by simp [xi]) (by simp [xt, zt])
  omega
theorem gh_Is {C : Nat → Nat} (hC : cf_sym C) {i t : Nat} {p p' : Nat → Nat} {X : Nat → Bool} (hi : i < 6) (h1i : 1 ≤ i) (hI : gh_I C i p) (ht : t = p i)
    (xi : X i = true) (xt : X t = false) (hX : cf_cut C X = gh_f C i t)
    (hp : ∀ j, j < 6 → p' j = if i < j ∧ X j = true ∧ p j = t then i else p j) : gh_I C (i + 1) p' := by
  obtain ⟨i1, i2, i3⟩ := hI
  have hti : t < i := by rw [ht]; exact i1 i (Nat.le_refl i) hi
  have ri : gh_r i p i = t := by unfold gh_r; rw [if_neg (by omega), ht]
  have rlow : ∀ v, v < i → gh_r i p v = v := by intro v hv; unfold gh_r; rw [if_pos hv]
  have rhi : ∀ v, i < v → gh_r i p v = p v := by intro v hv; unfold gh_r; rw [if_neg (by omega)]
  have rlow' : ∀ v, v ≤ i → gh_r (i + 1) p' v = v := by intro v hv; unfold gh_r; rw [if_pos (by omega)]
  have rhi' : ∀ v, v < 6 → i < v → gh_r (i + 1) p' v = if X v = true ∧ p v = t then i else p v := by
    intro v hv h
    unfold gh_r
    rw [if_neg (by omega), hp v hv]
    by_cases z : X v = true ∧ p v = t
    · rw [if_pos ⟨h, z⟩, if_pos z]
    · rw [if_neg (fun y => z y.2), if_neg z]
  refine ⟨fun u hu hu6 => ?_, fun u v hu hv hne hself => ?_, fun j h1 h2 => ?_⟩
  · rw [hp u hu6]
    have := i1 u (by omega) hu6
    split <;> omega
  · have hiu : i < u := by
      refine Classical.byContradiction fun z => hself ?_
      rw [rlow' u (by omega)]
    have ru := rhi u hiu
    have ru' := rhi' u hu hiu
    by_cases put : p u = t
    · -- whatever of v's stood elsewhere before
      have far : gh_r i p v ≠ t → gh_f C u v ≤ gh_f C u t := by
        intro z
        have k := i2 u v hu hv (by rw [ru, put]; exact Ne.symm z) (by rw [ru, put]; omega)
        rw [ru, put] at k
        exact k
      cases xu : X u
      · rw [if_neg (by rw [xu]; intro z; exact Bool.noConfusion z.1)] at ru'
        rw [ru', put]
        by_cases rv : gh_r i p v = t
        · have xv : X v = true := by
            rcases Nat.lt_trichotomy v i with z | z | z
            · rw [rlow v z] at rv
              exact absurd (by rw [ru', put, rlow' v (by omega), rv]) hne
            · rw [z]; exact xi
            · rw [rhi v z] at rv
              cases y : X v
              · exact absurd (by rw [ru', put, rhi' v hv z, if_neg (by rw [y]; intro z; exact Bool.noConfusion z.1), rv]) hne
              · rfl
          obtain ⟨Z, z1, z2, z3⟩ := gh_ex C (show u ≠ t by omega)
          cases zv : Z v
          · rw [← z3]; exact gh_le z1 zv
          · cases zi : Z i
            · rw [← z3, gh_sym hC u v]
              exact gh_cross (x := 0) (z := 0) hX xi xt zi z2 xv xu zv
            · have k1 : gh_f C i t ≤ cf_cut C Z := gh_le zi z2
              have k2 : gh_f C v u ≤ cf_cut C X := gh_le xv xu
              rw [gh_sym hC u v]
              omega
        · exact far rv
      · rw [if_pos ⟨xu, put⟩] at ru'
        rw [ru']
        have k1 : gh_f C u t ≤ cf_cut C X := gh_le xu xt
        have k2 := gh_ul C t (show u ≠ i by omega)
        have k3 := gh_sym hC i t
        have K : gh_f C u t ≤ gh_f C u i := by omega
        by_cases rv : gh_r i p v = t
        · have xv : X v = false := by
            rcases Nat.lt_trichotomy v i with z | z | z
            · rw [rlow v z] at rv
              rw [rv]; exact xt
            · exact absurd (by rw [ru', rlow' v (by omega), z]) hne
            · rw [rhi v z] at rv
              cases y : X v
              · rfl
              · exact absurd (by rw [ru', rhi' v hv z, if_pos ⟨y, rv⟩]) hne
          obtain ⟨Z, z1, z2, z3⟩ := gh_ex C (show u ≠ i by omega)
          cases zv : Z v
          · rw [← z3]; exact gh_le z1 zv
          · cases zt : Z t
            · rw [← z3]
              exact gh_cross (x := 0) (z := 0) hX xi xt z2 zt xu xv z1
            · have k4 : gh_f C t i ≤ cf_cut C Z := gh_le zt z2
              have k5 : gh_f C u v ≤ cf_cut C X := gh_le xu xv
              omega
        · have := far rv
          omega
    · rw [if_neg (fun y => put y.2)] at ru'
      rw [ru']
      have hrv : gh_r i p u ≠ gh_r i p v := by
        intro z
        rw [ru] at z
        apply hne
        rw [ru', z]
        rcases Nat.lt_trichotomy v i with y | y | y
        · rw [rlow v y, rlow' v (by omega)]
        · rw [y, ri] at z; exact absurd z put
        · rw [rhi v y] at z ⊢
          rw [rhi' v hv y, if_neg (fun x => put (by rw [z]; exact x.2))]
      have k := i2 u v hu hv hrv (by rw [ru]; rw [ru'] at hself; exact hself)
      rw [ru] at k
      exact k
  · rcases Nat.lt_or_ge j i with z | z
    · rw [hp j (by omega), if_neg (by omega)]
      exact i3 j h1 z
    · have e : j = i := by omega
      subst e
      rw [hp j hi, if_neg (by omega), ← ht]
      refine ⟨hti, fun l hl => ?_⟩
      by_cases hlt : l = t
      · rw [hlt]; omega
      · have k := i2 j l hi (by omega) (by rw [ri, rlow l hl]; exact Ne.symm hlt) (by rw [ri]; omega)
        rw [ri] at k
        exact k
theorem gh_tree {C : Nat → Nat} (hC : cf_sym C) (hb : ∀ c, c < 36 → C c ≤ 31) {x y t : Nat} (ht : t < x) (hy : y < x) (h : gh_f C x y ≤ gh_f C x t) :
    gh_f C x y = if gh_f C x t ≤ gh_f C t y then gh_f C x t else gh_f C t y := by
  by_cases e : y = t
  · subst e
    rw [gh_self, if_pos (by have := gh_bd hb (show x ≠ y by omega); omega)]
  · have k1 := gh_ul C t (show x ≠ y by omega)
    have k2 := gh_ul C x (show t ≠ y from Ne.symm e)
    have k3 := gh_sym hC x t
    split <;> omega
end
section
/-! the printed walk of spread -/
section
variable {post : Int32 → SX → Prop} {cp rm jn ti ab st : Nat → Int32} {R : Nat → Nat} {m1 m2 : Nat}
theorem sp_93 {J : Int32 → Int32 → Int32 → (Nat → Int32) → (Nat → Int32) → (Nat → Int32) → (Nat → Int32) → (Nat → Int32) → (Nat → Int32) → (Nat → Int32) → (Nat → Int32) → Prop} {k a : Nat}
    (hrm : ∀ c, c < 36 → rm c = nI (R c) ∧ R c < 2 ^ 31) (hm2 : m2 < 64)
    (hJ : ∀ m e ff ln q L, sp_T R m1 m ff L → sp_Q m e ln q L → sp_M R m1 m → sp_N m2 m → sp_D R m q L (k + 1) → k < e → (∀ j, j < e → L (q j) ≤ L (q k) + 1) → J (nI e) (nI (k + 1)) (nI m) cp rm ff ln jn ti ab st)
    (hp : ∀ g m ff ln L, sp_G R m1 m2 g m ff L → m < 64 → post (nI g) (nI m, cp, rm, ff, ln, jn, ti, ab, st)) :
    ∀ n b m e ff ln q L, 6 - b < n → b ≤ 6 → sp_T R m1 m ff L → sp_Q m e ln q L → sp_M R m1 m → sp_N m2 m → sp_D R m q L k → k < e → q k = a → (∀ j, j < e → L (q j) ≤ L (q k) + 1) →
      (∀ x, x < b → 0 < R (6 * a + x) → m.testBit x = true ∧ L x ≤ L a + 1) →
      wX_spread_93 post J (nI m2) (nI k) (nI a) n (nI e) (nI b) (nI m) cp rm ff ln jn ti ab st := by
  intro n
  induction n with
  | zero => intro b m e ff ln q L hn; omega
  | succ n ih =>
    intro b m e ff ln q L hn hb hT hQ hM hN hD hk hq hl hx
    have ha : a < 6 := by rw [← hq]; exact (hQ.1 k hk).2.1
    have hma : m.testBit a = true := by rw [← hq]; exact (hQ.1 k hk).2.2.1
    refine pk_le 6 b (fun h => ?_) (fun h => ?_)
    · have hb6 : b = 6 := by omega
      refine nm_r (nI_1 k) ?_
      refine hJ m e ff ln q L hT hQ hM hN (fun j hj x hx6 hR => ?_) hk hl
      by_cases hjk : j = k
      · subst hjk
        rw [hq] at hR ⊢
        exact hx x (by omega) hR
      · exact hD j (by omega) x hx6 hR
    · refine cf_in hM.1 h (fun hin => ?_) (fun hin => ?_)
      · refine br_f (by decide) ?_
        refine nm_r (nI_1 b) ?_
        refine ih (b + 1) m e ff ln q L (by omega) (by omega) hT hQ hM hN hD hk hq hl (fun x hx2 hR => ?_)
        by_cases hxb : x = b
        · subst hxb
          obtain ⟨j, hj, ej⟩ := hQ.2.1 x h hin
          have k1 := hl j hj
          rw [ej, hq] at k1
          exact ⟨hin, k1⟩
        · exact hx x (by omega) hR
      · refine br_t rfl ?_
        rw [cf_ix, cf_cl ha h, (hrm _ (by omega)).1]
        refine ⟨cf_vin ha h, ?_⟩
        have hRb := (hrm (6 * a + b) (by omega)).2
        refine pk_le (R (6 * a + b)) 0 (fun hR => ?_) (fun hR => ?_)
        · refine nm_r (nI_1 b) ?_
          refine ih (b + 1) m e ff ln q L (by omega) (by omega) hT hQ hM hN hD hk hq hl (fun x hx2 hR2 => ?_)
          by_cases hxb : x = b
          · subst hxb; omega
          · exact hx x (by omega) hR2
        · have hR' : 0 < R (6 * q k + b) := by rw [hq]; exact hR
          have hlk : L (q k) ≤ k := (hQ.1 k hk).2.2.2
          have hQ' := sp_Qadd hQ h hin hl (by omega : L (q k) + 1 ≤ e)
          have e6 : e + 1 ≤ 6 := by rw [← hQ'.2.2.2]; exact cn_le6 _
          refine nm_r (cf_or m hM.1 b h) ?_
          refine ⟨vp_in_nI h (by decide), ?_⟩
          refine nm_r (e' := upd ff b (nI a)) (by rw [cf_nb ha, nI_clamp (by omega)]) ?_
          refine ⟨vp_in_nI (by omega) (by decide), ?_⟩
          refine nm_r (e' := upd ln e (nI b)) (by rw [cf_nb h, nI_clamp (by omega)]) ?_
          refine nm_r (nI_1 e) ?_
          refine cf_in hm2 h (fun hg => ?_) (fun hg => ?_)
          · refine br_f (by decide) ?_
            obtain ⟨L', hG⟩ := sp_goal hT hQ hM hN hD hk hl h hin hg hR'
            rw [hq] at hG
            exact hp b _ _ _ L' hG (cf_orlt m hM.1 b h)
          · refine br_t rfl ?_
            refine nm_r (nI_1 b) ?_
            have hab : a ≠ b := by intro z; rw [z, hin] at hma; exact Bool.noConfusion hma
            have hke : ¬ k = e := by omega
            rw [hq] at hQ'
            refine ih (b + 1) _ (e + 1) _ _ _ _ (by omega) (by omega) (sp_Tadd hT hM.2.1 h ha hin hma hR) hQ' (sp_Madd hM h ha hma hR) (sp_Nadd hN hg)
              (sp_Dadd hD (by omega) hin (fun j hj => (hQ.1 j hj).2.2.1)) (by omega) (by rw [if_neg hke]; exact hq) (fun j hj => ?_) (fun x hx2 hR2 => ?_)
            · try dsimp only
              rw [if_neg hke, hq, if_neg hab]
              by_cases hje : j = e
              · rw [if_pos hje, if_pos rfl]; omega
              · rw [if_neg hje]
                have hqj : q j ≠ b := by intro z; have k2 := (hQ.1 j (by omega)).2.2.1; rw [z, hin] at k2; exact Bool.noConfusion k2
                rw [if_neg hqj]
                have k3 := hl j (by omega)
                rw [hq] at k3
                exact k3
            · try dsimp only
              rw [if_neg hab]
              by_cases hxb : x = b
              · rw [if_pos hxb, hxb, cf_orb]
                exact ⟨by simp, Nat.le_refl _⟩
              · rw [if_neg hxb]
                have k3 := hx x (by omega) hR2
                exact ⟨by rw [cf_orb, k3.1]; rfl, k3.2⟩
theorem sp_68 (hrm : ∀ c, c < 36 → rm c = nI (R c) ∧ R c < 2 ^ 31) (hm2 : m2 < 64)
    (hp : ∀ g m ff ln L, sp_G R m1 m2 g m ff L → m < 64 → post (nI g) (nI m, cp, rm, ff, ln, jn, ti, ab, st))
    (hn : ∀ m ff ln, sp_M R m1 m → sp_N m2 m → sp_cl R m.testBit → post (-1) (nI m, cp, rm, ff, ln, jn, ti, ab, st)) :
    ∀ n k m e ff ln q L, 7 - k < n → sp_T R m1 m ff L → sp_Q m e ln q L → sp_M R m1 m → sp_N m2 m → sp_D R m q L k → k ≤ e → (k < e → ∀ j, j < e → L (q j) ≤ L (q k) + 1) →
      wX_spread_68 post (nI m2) n (nI e) (nI k) (nI m) cp rm ff ln jn ti ab st := by
  intro n
  induction n with
  | zero => intro k m e ff ln q L hn; omega
  | succ n ih =>
    intro k m e ff ln q L hn' hT hQ hM hN hD hk hl
    have e6 : e ≤ 6 := by rw [← hQ.2.2.2]; exact cn_le6 _
    refine pk_le e k (fun h => ?_) (fun h => ?_)
    · refine hn m ff ln hM hN (fun a b ha hb hma hR => ?_)
      obtain ⟨j, hj, ej⟩ := hQ.2.1 a ha hma
      rw [← ej] at hR
      exact (hD j (by omega) b hb hR).1
    · refine pk_le 6 k (fun h2 => ?_) (fun h2 => ?_)
      · omega
      · refine ⟨vp_in_nI (by omega) (by decide), ?_⟩
        refine nm_r (e' := nI (q k)) (by rw [nI_clamp (by omega)]; exact (hQ.1 k h).1) ?_
        refine ⟨7, sp_93 (m1 := m1) hrm hm2 (fun m e ff ln q L hT hQ hM hN hD hk hl => ?_) hp 7 0 m e ff ln q L (by omega) (by omega) hT hQ hM hN hD h rfl (hl h) (fun x hx => by omega)⟩
        refine ih (k + 1) m e ff ln q L (by omega) hT hQ hM hN hD (by omega) (fun hk2 j hj => ?_)
        have k1 := hl j hj
        have k2 := hQ.2.2.1 k (k + 1) (by omega) hk2
        omega
theorem sp_10 (hrm : ∀ c, c < 36 → rm c = nI (R c) ∧ R c < 2 ^ 31) (hm1 : m1 < 64) (hm2 : m2 < 64) (hd : sp_N m2 m1)
    (hp : ∀ g m ff ln L, sp_G R m1 m2 g m ff L → m < 64 → post (nI g) (nI m, cp, rm, ff, ln, jn, ti, ab, st))
    (hn : ∀ m ff ln, sp_M R m1 m → sp_N m2 m → sp_cl R m.testBit → post (-1) (nI m, cp, rm, ff, ln, jn, ti, ab, st)) :
    ∀ n a m e ff ln q, 6 - a < n → a ≤ 6 → m < 64 → (∀ x, x < 6 → m.testBit x = (m1.testBit x && decide (x < a))) → (∀ x, x < 6 → m.testBit x = true → ff x = -1) → sp_Q m e ln q (fun _ => 0) →
      wX_spread_10 post (nI m1) (nI m2) n (nI e) (nI a) (nI m) cp rm ff ln jn ti ab st := by
  intro n
  induction n with
  | zero => intro a m e ff ln q hn; omega
  | succ n ih =>
    intro a m e ff ln q hn' ha hm hmx hff hQ
    refine pk_le 6 a (fun h => ?_) (fun h => ?_)
    · have hmm : m = m1 := cf_ext m hm m1 hm1 (fun x hx => by rw [hmx x hx]; simp; omega)
      subst hmm
      refine ⟨8, sp_68 (m1 := m) hrm hm2 hp hn 8 0 m e ff ln q (fun _ => 0) (by omega) (fun b hb h => Or.inl ⟨h, hff b hb h, rfl⟩) hQ ⟨hm, fun _ _ h => h, fun S hS _ => hS⟩ hd (fun j hj => by omega) (by omega) (fun _ j _ => by omega)⟩
    · refine cf_in hm1 h (fun hin => ?_) (fun hin => ?_)
      · refine br_f (by decide) ?_
        have hma : m.testBit a = false := by rw [hmx a h]; simp
        have hQ' := sp_Qadd hQ h hma (lb := 0) (fun _ _ => Nat.le_refl _) (Nat.zero_le _)
        have e6 : e + 1 ≤ 6 := by rw [← hQ'.2.2.2]; exact cn_le6 _
        have eL : (fun x => if x = a then 0 else (fun _ => 0) x) = (fun _ : Nat => (0 : Nat)) := by
          funext x; split <;> rfl
        rw [eL] at hQ'
        refine nm_r (cf_or m hm a h) ?_
        refine ⟨vp_in_nI h (by decide), ?_⟩
        refine nm_r (e' := upd ff a (-1)) (by rw [cf_nbm, nI_clamp (by omega)]) ?_
        refine ⟨vp_in_nI (by omega) (by decide), ?_⟩
        refine nm_r (e' := upd ln e (nI a)) (by rw [cf_nb h, nI_clamp (by omega)]) ?_
        refine nm_r (nI_1 e) ?_
        refine nm_r (nI_1 a) ?_
        refine ih (a + 1) _ (e + 1) _ _ _ (by omega) (by omega) (cf_orlt m hm a h) (fun x hx => ?_) (fun x hx hmx2 => ?_) hQ'
        · rw [cf_orb, hmx x hx]
          by_cases hxa : x = a
          · subst hxa; simp [hin]
          · have e1 : decide (x < a + 1) = decide (x < a) := by
              by_cases z : x < a
              · simp [z, Nat.lt_succ_of_lt z]
              · have z2 : ¬ x < a + 1 := by omega
                simp [z, z2]
            rw [e1]; simp [hxa]
        · by_cases hxa : x = a
          · rw [hxa]; exact pk_us
          · rw [pk_un hxa]
            rw [cf_orb] at hmx2
            simp [hxa] at hmx2
            exact hff x hx hmx2
      · refine br_t rfl ?_
        refine nm_r (nI_1 a) ?_
        refine ih (a + 1) m e ff ln q (by omega) (by omega) hm (fun x hx => ?_) hff hQ
        rw [hmx x hx]
        by_cases hxa : x = a
        · subst hxa; simp [hin]
        · have e1 : decide (x < a + 1) = decide (x < a) := by
            by_cases z : x < a
            · simp [z, Nat.lt_succ_of_lt z]
            · have z2 : ¬ x < a + 1 := by omega
              simp [z, z2]
          rw [e1]
theorem sp_all {f : Int32} {ff ln : Nat → Int32} (hrm : ∀ c, c < 36 → rm c = nI (R c) ∧ R c < 2 ^ 31) (hm1 : m1 < 64) (hm2 : m2 < 64) (hd : sp_N m2 m1)
    (hp : ∀ g m ff ln L, sp_G R m1 m2 g m ff L → m < 64 → post (nI g) (nI m, cp, rm, ff, ln, jn, ti, ab, st))
    (hn : ∀ m ff ln, sp_M R m1 m → sp_N m2 m → sp_cl R m.testBit → post (-1) (nI m, cp, rm, ff, ln, jn, ti, ab, st)) :
    wpX_spread post (f, cp, rm, ff, ln, jn, ti, ab, st) (nI m1) (nI m2) := by
  refine ⟨7, sp_10 hrm hm1 hm2 hd hp hn 7 0 0 0 ff ln (fun _ => 0) (by omega) (by omega) (by decide) (fun x _ => by simp) (fun x _ h => by simp at h) ?_⟩
  refine ⟨fun j hj => by omega, fun a _ h => by simp at h, fun i j _ hj => by omega, ?_⟩
  decide +kernel
end
end
section
/-! the printed walk of push -/
section
variable {post : Int32 → SX → Prop} {f : Int32} {cp ff ln jn ti ab st : Nat → Int32} {R L w : Nat → Nat} {D : Nat}
theorem ph_57 {x jc : Nat} (hW : ph_W R L ff w D) (hx : ∀ j, j < D → x ≤ R (6 * w (j + 1) + w j)) (hc : x = R (6 * w (jc + 1) + w jc)) (hjc : jc < D)
    (hp : ∀ rm' R', ph_I R L w D x jc D R' → (∀ c, c < 36 → rm' c = nI (R' c)) → post (nI x) (f, cp, rm', ff, ln, jn, ti, ab, st)) :
    ∀ n i rm' R', D - i < n → i ≤ D → ph_I R L w D x jc i R' → (∀ c, c < 36 → rm' c = nI (R' c)) →
      wX_push_57 post (nI x) f n (nI (w i)) cp rm' ff ln jn ti ab st := by
  intro n
  induction n with
  | zero => intro i rm' R' hn; omega
  | succ n ih =>
    intro i rm' R' hn hi hI hrm
    have hb := (hW.1 i hi).1
    have hcl : (nI (w i)).toNatClampNeg = w i := nI_clamp (by omega)
    by_cases h : i = D
    · subst h
      exact ⟨vp_in_nI hb (by decide), br_t (by rw [hcl, hW.2.2]; decide) (hp rm' R' hI hrm)⟩
    · have hiD : i < D := by omega
      have hp' := (hW.1 (i + 1) (by omega)).1
      obtain ⟨hff, hR⟩ := hW.2.1 i hiD
      have hLb := (hW.1 i hi).2
      have hLp := (hW.1 (i + 1) (by omega)).2
      have hne : w (i + 1) ≠ w i := by intro z; rw [z] at hLp; omega
      have e0 := hI.2.1 (w (i + 1)) (w i) hp' hb (by omega) (by omega)
      have hxi := hx i hiD
      refine ⟨vp_in_nI hb (by decide), br_f (by rw [hcl, hff]; exact nI_pos (by omega)) ⟨vp_in_nI hb (by decide), ?_⟩⟩
      refine nm_r (e' := nI (w (i + 1))) (by rw [hcl, hff]) ?_
      rw [cf_ix, cf_ix, cf_cl hp' hb, cf_cl hb hp', hcl, hff]
      refine ⟨cf_vin hp' hb, cf_vin hp' hb, nm_e ⟨cf_vin hb hp', cf_vin hb hp', nm_e ⟨vp_in_nI hb (by decide), nm_e ?_⟩⟩⟩
      have n1 : ¬ 6 * w i + w (i + 1) = 6 * w (i + 1) + w i := by omega
      refine ih (i + 1) _ (fun c => if c = 6 * w (i + 1) + w i then R' c - x else if c = 6 * w i + w (i + 1) then R' c + x else R' c) (by omega) (by omega) ?_ ?_
      · refine ph_Is hW hx hc hjc hiD hI ?_ ?_ ?_
        · rw [if_pos rfl]
        · rw [if_neg n1, if_pos rfl]
        · intro c _ h1 h2
          rw [if_neg h1, if_neg h2]
      · intro c hc36
        by_cases h2 : c = 6 * w i + w (i + 1)
        · rw [h2, pk_us, if_neg n1, if_pos rfl, pk_un n1, hrm _ (by omega), nI_add]
        · rw [pk_un h2]
          by_cases h1 : c = 6 * w (i + 1) + w i
          · rw [h1, pk_us, if_pos rfl, hrm _ (by omega), pk_sub (by omega)]
          · rw [pk_un h1, if_neg h1, if_neg h2, hrm c hc36]
theorem ph_5 {rm : Nat → Int32} (hW : ph_W R L ff w D) (h1D : 1 ≤ D) (hrm : ∀ c, c < 36 → rm c = nI (R c) ∧ R c < 1048576)
    (hp : ∀ rm' R' x jc, jc < D → x = R (6 * w (jc + 1) + w jc) → ph_I R L w D x jc D R' → (∀ c, c < 36 → rm' c = nI (R' c)) → post (nI x) (f, cp, rm', ff, ln, jn, ti, ab, st)) :
    ∀ n i x, D - i < n → i ≤ D → (∀ j, j < i → x ≤ R (6 * w (j + 1) + w j)) → ((i = 0 ∧ x = 1048576) ∨ ∃ j, j < i ∧ x = R (6 * w (j + 1) + w j)) → x < 2 ^ 31 →
      wX_push_5 post (nI (w 0)) f cp rm ff ln jn ti ab st n (nI x) (nI (w i)) := by
  intro n
  induction n with
  | zero => intro i x hn; omega
  | succ n ih =>
    intro i x hn hi hx he hx31
    have hb := (hW.1 i hi).1
    have hcl : (nI (w i)).toNatClampNeg = w i := nI_clamp (by omega)
    by_cases h : i = D
    · subst h
      obtain ⟨jc, hjc, hc⟩ := he.resolve_left (by omega)
      refine ⟨vp_in_nI hb (by decide), br_t (by rw [hcl, hW.2.2]; decide) ⟨i + 1, ?_⟩⟩
      exact ph_57 hW hx hc hjc (fun rm' R' hI hr => hp rm' R' x jc hjc hc hI hr) (i + 1) 0 rm R (by omega) (by omega) ph_I0 (fun c hc => (hrm c hc).1)
    · have hiD : i < D := by omega
      have hp' := (hW.1 (i + 1) (by omega)).1
      obtain ⟨hff, hR⟩ := hW.2.1 i hiD
      have hRb := (hrm (6 * w (i + 1) + w i) (by omega))
      refine ⟨vp_in_nI hb (by decide), br_f (by rw [hcl, hff]; exact nI_pos (by omega)) ⟨vp_in_nI hb (by decide), ?_⟩⟩
      rw [hcl, hff, cf_ix, cf_cl hp' hb, hRb.1]
      refine ⟨cf_vin hp' hb, nm_e ?_⟩
      refine pk_le x (R (6 * w (i + 1) + w i)) (fun h2 => ?_) (fun h2 => ?_)
      · refine ⟨vp_in_nI hb (by decide), nm_e ?_⟩
        refine ih (i + 1) x (by omega) (by omega) (fun j hj => ?_) ?_ hx31
        · by_cases hji : j = i
          · rw [hji]; exact h2
          · exact hx j (by omega)
        · rcases he with ⟨_, z⟩ | ⟨j, hj, z⟩
          · omega
          · exact Or.inr ⟨j, by omega, z⟩
      · refine ⟨vp_in_nI hb (by decide), nm_e ?_⟩
        refine ih (i + 1) _ (by omega) (by omega) (fun j hj => ?_) (Or.inr ⟨i, by omega, rfl⟩) (by omega)
        by_cases hji : j = i
        · rw [hji]; omega
        · have := hx j (by omega); omega
end
def fl_A (m1 m2 : Nat) (S : Nat → Bool) : Prop := (∀ a, a < 6 → m1.testBit a = true → S a = true) ∧ (∀ a, a < 6 → m2.testBit a = true → S a = false)
theorem ph_all {post : Int32 → SX → Prop} {f : Int32} {cp rm ff ln jn ti ab st : Nat → Int32} {R L : Nat → Nat} {m1 m2 g m : Nat} (hd : sp_N m2 m1) (hG : sp_G R m1 m2 g m ff L)
    (hrm : ∀ c, c < 36 → rm c = nI (R c) ∧ R c < 1048576)
    (hp : ∀ rm' R' x, (∀ c, c < 36 → rm' c = nI (R' c)) → fl_F R' L < fl_F R L → (∀ S, fl_A m1 m2 S → cf_cut R' S + x = cf_cut R S) →
      (∀ a b, a < 6 → b < 6 → R' (6 * a + b) + R' (6 * b + a) = R (6 * a + b) + R (6 * b + a)) → (∀ a b, a < 6 → b < 6 → 0 < R' (6 * a + b) → L b ≤ L a + 1) →
      post (nI x) (f, cp, rm', ff, ln, jn, ti, ab, st)) :
    wpX_push post (f, cp, rm, ff, ln, jn, ti, ab, st) (nI g) := by
  obtain ⟨g1, g2, g3, g4, hT, g5, g6, g7, g8, g9⟩ := hG
  obtain ⟨hW, hs⟩ := ph_way hT g1 g3 g5
  have h1D : 1 ≤ L g := by
    rcases hT g g1 g3 with ⟨k1, k2, k3⟩ | ⟨k1, p, k2, k3, k4, k5, k6⟩
    · have := hd g g1 k1
      rw [g2] at this; exact Bool.noConfusion this
    · omega
  refine ⟨L g + 1, ph_5 (w := ph_it ff g) hW h1D hrm (fun rm' R' x jc hjc hc hI hr => ?_) (L g + 1) 0 1048576 (by omega) (by omega) (fun j hj => by omega) (Or.inl ⟨rfl, rfl⟩) (by decide)⟩
  obtain ⟨i1, i2, i3, i4, i5⟩ := hI
  have w1 := hW.1 jc (by omega)
  have w2 := hW.1 (jc + 1) (by omega)
  have hwD := (hW.1 (L g) (Nat.le_refl _)).1
  refine hp rm' R' x hr (fl_dec i1 ⟨_, _, w2.1, w1.1, by omega, by omega, (hW.2.1 jc hjc).2, i5.resolve_left (by omega)⟩) (fun S hS => ?_) i4 (fun a b ha hb h => ?_)
  · have k := i3 S
    have e0 : ph_it ff g 0 = g := rfl
    rw [hS.1 _ hwD hs, e0, hS.2 g g1 g2, ci_t, ci_f] at k
    exact k
  · rcases i1 a b ha hb h with z | z
    · exact g6 a b ha hb z
    · omega
end
section
/-! the printed walk of flow -/
/-- a good table of capacities -/
def cf_gd (B : Nat) (C : Nat → Nat) (cp : Nat → Int32) : Prop := (∀ c, c < 36 → cp c = nI (C c) ∧ C c ≤ B) ∧ cf_sym C ∧ ∀ a, a < 6 → C (6 * a + a) = 0
/-- what a flow gives: the least cost of a side between, and the least such side -/
def fl_R (C : Nat → Nat) (m1 m2 m s : Nat) : Prop :=
  m < 64 ∧ fl_A m1 m2 m.testBit ∧ cf_cut C m.testBit = s ∧ (∀ S, fl_A m1 m2 S → s ≤ cf_cut C S) ∧ ∀ S, fl_A m1 m2 S → cf_cut C S = s → ∀ a, a < 6 → m.testBit a = true → S a = true
theorem fl_c0 {R : Nat → Nat} {S : Nat → Bool} (h : sp_cl R S) : cf_cut R S = 0 := by
  refine sm_0 (fun c hc => ?_)
  have k := h (c / 6) (c % 6) (by omega) (by omega)
  rw [show 6 * (c / 6) + c % 6 = c by omega] at k
  cases h1 : S (c / 6)
  · rfl
  · cases h2 : S (c % 6)
    · have z : R c = 0 := by
        refine Classical.byContradiction fun y => ?_
        rw [h2] at k
        exact Bool.noConfusion (k h1 (by omega))
      rw [z]; rfl
    · rfl
theorem fl_c1 {R : Nat → Nat} {S : Nat → Bool} (h : cf_cut R S = 0) : sp_cl R S := by
  intro a b ha hb hS hR
  have k := sm_0' h (6 * a + b) (by omega)
  have e1 : (6 * a + b) / 6 = a := by omega
  have e2 : (6 * a + b) % 6 = b := by omega
  rw [e1, e2, hS] at k
  cases hb' : S b
  · rw [hb'] at k
    have k2 : R (6 * a + b) = 0 := k
    omega
  · rfl
section
variable {post : Int32 → SX → Prop} {cp jn ti ab st : Nat → Int32} {C : Nat → Nat} {m1 m2 : Nat}
theorem fl_31 (hm1 : m1 < 64) (hm2 : m2 < 64) (hd : sp_N m2 m1)
    (hp : ∀ m rm ff ln s, fl_R C m1 m2 m s → post (nI s) (nI m, cp, rm, ff, ln, jn, ti, ab, st)) :
    ∀ n r s f rm ff ln R L0 D0, 128 - r < n → fl_F R L0 + r ≤ 127 → (∀ c, c < 36 → rm c = nI (R c)) → (∀ a b, a < 6 → b < 6 → R (6 * a + b) + R (6 * b + a) ≤ 62) →
      (∀ S, fl_A m1 m2 S → cf_cut R S + s = cf_cut C S) → (∀ a, a < 6 → m1.testBit a = true → L0 a = 0) → (∀ a b, a < 6 → b < 6 → 0 < R (6 * a + b) → L0 b ≤ L0 a + 1) →
      (∀ a, a < 6 → L0 a ≤ D0) → (∀ a, a < 6 → m2.testBit a = true → L0 a = D0) →
      wX_flow_31 post (nI m1) (nI m2) n (nI s) (nI r) f cp rm ff ln jn ti ab st := by
  intro n
  induction n with
  | zero => intro r s f rm ff ln R L0 D0 hn; omega
  | succ n ih =>
    intro r s f rm ff ln R L0 D0 hn hF hrm hsum hcut l1 l2 l3 l4
    have hrm2 : ∀ c, c < 36 → rm c = nI (R c) ∧ R c < 1048576 := by
      intro c hc
      have k := hsum (c / 6) (c % 6) (by omega) (by omega)
      rw [show 6 * (c / 6) + c % 6 = c by omega] at k
      exact ⟨hrm c hc, by omega⟩
    refine br_f (nI_ge (b := 128) (by omega) (by decide)) ?_
    refine sp_all (R := R) (m1 := m1) (m2 := m2) (fun c hc => ⟨hrm c hc, Nat.lt_trans (hrm2 c hc).2 (by decide)⟩) hm1 hm2 hd (fun g m ff ln L hG hm => ?_) (fun m ff ln hM hN hcl => ?_)
    · have hmono := sp_mono hG l1 l2 l3 l4
      have hF2 := fl_mono (R := R) hmono
      have hg6 := hG.1
      have G5 := hG.2.2.2.2.2.1
      have G7 := hG.2.2.2.2.2.2.2.1
      have G8 := hG.2.2.2.2.2.2.2.2.1
      refine br_t (nI_pos' (by omega)) ?_
      refine ph_all hd hG hrm2 (fun rm' R' x hr' hdec hcut' hsum' hfeas => ?_)
      refine nm_r (nI_add s x) ?_
      refine nm_r (nI_1 r) ?_
      refine ih (r + 1) (s + x) _ rm' _ _ R' L (L g) (by omega) (by omega) hr' (fun a b ha hb => ?_) (fun S hS => ?_) G5 hfeas G7 G8
      · rw [hsum' a b ha hb]; exact hsum a b ha hb
      · have k1 := hcut' S hS
        have k2 := hcut S hS
        omega
    · refine br_f (by decide) ?_
      have hA : fl_A m1 m2 m.testBit := by
        refine ⟨hM.2.1, fun a ha h => ?_⟩
        cases z : m.testBit a
        · rfl
        · rw [hN a ha z] at h; exact Bool.noConfusion h
      refine hp m _ _ _ s ⟨hM.1, hA, ?_, fun S hS => ?_, fun S hS he => ?_⟩
      · have k := hcut _ hA
        rw [fl_c0 hcl] at k
        omega
      · have k := hcut S hS
        omega
      · have k := hcut S hS
        exact hM.2.2 S hS.1 (fl_c1 (by omega))
theorem fl_2 (hg : cf_gd 31 C cp) (hm1 : m1 < 64) (hm2 : m2 < 64) (hd : sp_N m2 m1)
    (hp : ∀ m rm ff ln s, fl_R C m1 m2 m s → post (nI s) (nI m, cp, rm, ff, ln, jn, ti, ab, st)) {f : Int32} {ff ln : Nat → Int32} :
    ∀ n i rm, 36 - i < n → i ≤ 36 → (∀ c, c < i → rm c = nI (C c)) → wX_flow_2 post (nI m1) (nI m2) f n (nI i) cp rm ff ln jn ti ab st := by
  intro n
  induction n with
  | zero => intro i rm hn; omega
  | succ n ih =>
    intro i rm hn hi hrm
    refine pk_le 36 i (fun h => ?_) (fun h => ?_)
    · refine ⟨129, fl_31 hm1 hm2 hd hp 129 0 0 f rm ff ln C (fun _ => 0) 0 (by omega) (by have := fl_F0 C (fun _ => 0); omega) (fun c hc => hrm c (by omega)) (fun a b ha hb => ?_) (fun S _ => rfl) (fun _ _ _ => rfl) (fun _ _ _ _ _ => by omega) (fun _ _ => Nat.le_refl _) (fun _ _ _ => rfl)⟩
      have k1 := (hg.1 (6 * a + b) (by omega)).2
      have k2 := (hg.1 (6 * b + a) (by omega)).2
      omega
    · refine ⟨vp_in_nI h (by decide), vp_in_nI h (by decide), ?_⟩
      refine nm_r (e' := upd rm i (nI (C i))) (by rw [nI_clamp (by omega), (hg.1 i h).1]) ?_
      refine nm_r (nI_1 i) ?_
      refine ih (i + 1) _ (by omega) (by omega) (fun c hc => ?_)
      by_cases hci : c = i
      · rw [hci]; exact pk_us
      · rw [pk_un hci]; exact hrm c (by omega)
theorem fl_all (hg : cf_gd 31 C cp) (hm1 : m1 < 64) (hm2 : m2 < 64) (hd : sp_N m2 m1) {f : Int32} {rm ff ln : Nat → Int32}
    (hp : ∀ m rm ff ln s, fl_R C m1 m2 m s → post (nI s) (nI m, cp, rm, ff, ln, jn, ti, ab, st)) :
    wpX_flow post (f, cp, rm, ff, ln, jn, ti, ab, st) (nI m1) (nI m2) :=
  ⟨37, fl_2 hg hm1 hm2 hd hp 37 0 rm (by omega) (by omega) (fun c hc => by omega)⟩
end
end
section
/-! the printed walk of least: tightest, merge, the phases -/
def tt_I (T A : Nat) (J : Nat → Nat) (a : Nat) (x3 : Int32) (ti : Nat → Int32) : Prop :=
  (x3 = -1 ∧ ∀ u, u < a → T.testBit u = true → A.testBit u = false → False) ∨
  (∃ v, v < a ∧ T.testBit v = true ∧ A.testBit v = false ∧ x3 = nI v ∧ ti v = nI (sw_w A.testBit J v) ∧ ∀ u, u < a → T.testBit u = true → A.testBit u = false → sw_w A.testBit J u ≤ sw_w A.testBit J v)
theorem tt_skip {T A : Nat} {J : Nat → Nat} {a : Nat} {x3 : Int32} {ti : Nat → Int32} (h : tt_I T A J a x3 ti) (ha : T.testBit a = true → A.testBit a = false → False) : tt_I T A J (a + 1) x3 ti := by
  rcases h with ⟨h1, h2⟩ | ⟨v, h1, h2, h3, h4, h5, h6⟩
  · refine Or.inl ⟨h1, fun u hu => ?_⟩
    by_cases e : u = a
    · rw [e]; exact ha
    · exact h2 u (by omega)
  · refine Or.inr ⟨v, by omega, h2, h3, h4, h5, fun u hu t1 t2 => ?_⟩
    by_cases e : u = a
    · rw [e] at t1 t2; exact (ha t1 t2).elim
    · exact h6 u (by omega) t1 t2
section
variable {post : Int32 → SX → Prop} {f : Int32} {cp rm ff ln jn ab st : Nat → Int32} {T A : Nat} {J : Nat → Nat}
theorem tt_w (hjn : ∀ c, c < 36 → jn c = nI (J c) ∧ J c ≤ 992) (S : Nat → Bool) {v : Nat} (hv : v < 6) : sw_w S J v ≤ 5952 := by
  have k := sm_bd (f := fun b => cf_i (S b) (J (6 * v + b))) (B := 992) (n := 6) (fun b hb => Nat.le_trans (ci_le _ _) (hjn (6 * v + b) (by omega)).2)
  unfold sw_w; omega
theorem tt_36 {J5 : Int32 → Int32 → (Nat → Int32) → (Nat → Int32) → (Nat → Int32) → (Nat → Int32) → (Nat → Int32) → (Nat → Int32) → (Nat → Int32) → (Nat → Int32) → Prop} {a : Nat} {x3 : Int32} {ti : Nat → Int32}
    (hjn : ∀ c, c < 36 → jn c = nI (J c) ∧ J c ≤ 992) (hA : A < 64) (ha : a < 6) (hTa : T.testBit a = true) (hAa : A.testBit a = false) (hI : tt_I T A J a x3 ti)
    (hJ : ∀ x3' ti', tt_I T A J (a + 1) x3' ti' → J5 x3' (nI (a + 1)) cp rm ff ln jn ti' ab st) :
    ∀ n b s, 6 - b < n → b ≤ 6 → s = sm_s (fun b => cf_i (A.testBit b) (J (6 * a + b))) b → wX_tightest_36 post J5 (nI T) (nI A) x3 (nI a) f cp rm ff ln jn ti ab st n (nI s) (nI b) := by
  intro n
  induction n with
  | zero => intro b s hn; omega
  | succ n ih =>
    intro b s hn hb hs
    refine pk_le 6 b (fun h => ?_) (fun h => ?_)
    · have hb6 : b = 6 := by omega
      subst hb6
      have hs' : s = sw_w A.testBit J a := hs
      subst hs'
      refine ⟨vp_in_nI ha (by decide), ?_⟩
      refine nm_r (e' := upd ti a (nI (sw_w A.testBit J a))) (by rw [nI_clamp (by omega)]) ?_
      have wa := tt_w hjn A.testBit ha
      rcases hI with ⟨h1, h2⟩ | ⟨v, h1, h2, h3, h4, h5, h6⟩
      · subst h1
        refine br_t (by decide) ?_
        refine nm_r (nI_1 a) ?_
        refine hJ _ _ (Or.inr ⟨a, by omega, hTa, hAa, rfl, pk_us, fun u hu t1 t2 => ?_⟩)
        by_cases e : u = a
        · rw [e]; exact Nat.le_refl _
        · exact (h2 u (by omega) t1 t2).elim
      · subst h4
        have wv := tt_w hjn A.testBit (v := v) (by omega)
        have hva : v ≠ a := by omega
        refine br_f (nI_pos (by omega)) ⟨vp_in_nI (by omega) (by decide), ?_⟩
        rw [nI_clamp (by omega : v < 2 ^ 31), pk_un hva, h5]
        refine pk_le (sw_w A.testBit J a) (sw_w A.testBit J v) (fun hle => ?_) (fun hgt => ?_)
        · refine nm_r (nI_1 a) ?_
          refine hJ _ _ (Or.inr ⟨v, by omega, h2, h3, rfl, by rw [pk_un hva]; exact h5, fun u hu t1 t2 => ?_⟩)
          by_cases e : u = a
          · rw [e]; exact hle
          · exact h6 u (by omega) t1 t2
        · refine nm_r (nI_1 a) ?_
          refine hJ _ _ (Or.inr ⟨a, by omega, hTa, hAa, rfl, pk_us, fun u hu t1 t2 => ?_⟩)
          by_cases e : u = a
          · rw [e]; exact Nat.le_refl _
          · have := h6 u (by omega) t1 t2
            omega
    · refine cf_in hA h (fun hin => ?_) (fun hin => ?_)
      · refine br_f (by decide) ?_
        rw [cf_ix, cf_cl ha h, (hjn _ (by omega)).1]
        refine ⟨cf_vin ha h, ?_⟩
        refine nm_r (nI_add _ _) ?_
        refine nm_r (nI_1 b) ?_
        refine ih (b + 1) _ (by omega) (by omega) ?_
        show _ = sm_s _ b + cf_i (A.testBit b) (J (6 * a + b))
        rw [hin, ci_t, hs]
      · refine br_t rfl ?_
        refine nm_r (e' := nI s) (Int32.add_zero _) ?_
        refine nm_r (nI_1 b) ?_
        refine ih (b + 1) _ (by omega) (by omega) ?_
        show _ = sm_s _ b + cf_i (A.testBit b) (J (6 * a + b))
        rw [hin, ci_f, hs]; rfl
theorem tt_5 (hjn : ∀ c, c < 36 → jn c = nI (J c) ∧ J c ≤ 992) (hT : T < 64) (hA : A < 64) (hex : ∃ u, u < 6 ∧ T.testBit u = true ∧ A.testBit u = false)
    (hp : ∀ v ti', v < 6 → T.testBit v = true → A.testBit v = false → ti' v = nI (sw_w A.testBit J v) → (∀ u, u < 6 → T.testBit u = true → A.testBit u = false → sw_w A.testBit J u ≤ sw_w A.testBit J v) →
      post (nI v) (f, cp, rm, ff, ln, jn, ti', ab, st)) :
    ∀ n a x3 ti, 6 - a < n → a ≤ 6 → tt_I T A J a x3 ti → wX_tightest_5 post (nI T) (nI A) f n x3 (nI a) cp rm ff ln jn ti ab st := by
  intro n
  induction n with
  | zero => intro a x3 ti hn; omega
  | succ n ih =>
    intro a x3 ti hn ha hI
    refine pk_le 6 a (fun h => ?_) (fun h => ?_)
    · have ha6 : a = 6 := by omega
      subst ha6
      rcases hI with ⟨h1, h2⟩ | ⟨v, h1, h2, h3, h4, h5, h6⟩
      · obtain ⟨u, u1, u2, u3⟩ := hex
        exact (h2 u u1 u2 u3).elim
      · subst h4
        exact hp v ti h1 h2 h3 h5 h6
    · refine cf_in hT h (fun hin => ?_) (fun hin => ?_)
      · refine br_f (by decide) ?_
        refine cf_in hA h (fun hin2 => ?_) (fun hin2 => ?_)
        · refine br_f (by decide) ?_
          refine nm_r (nI_1 a) ?_
          exact ih (a + 1) x3 ti (by omega) (by omega) (tt_skip hI (fun _ z => by rw [hin2] at z; exact Bool.noConfusion z))
        · refine br_t rfl ⟨7, ?_⟩
          exact tt_36 (T := T) hjn hA h hin hin2 hI (fun x3' ti' hI' => ih (a + 1) x3' ti' (by omega) (by omega) hI') 7 0 0 (by omega) (by omega) rfl
      · refine br_t rfl ?_
        refine nm_r (nI_1 a) ?_
        exact ih (a + 1) x3 ti (by omega) (by omega) (tt_skip hI (fun z => by rw [hin] at z; exact Bool.noConfusion z))
theorem tt_all {ti : Nat → Int32} (hjn : ∀ c, c < 36 → jn c = nI (J c) ∧ J c ≤ 992) (hT : T < 64) (hA : A < 64) (hex : ∃ u, u < 6 ∧ T.testBit u = true ∧ A.testBit u = false)
    (hp : ∀ v ti', v < 6 → T.testBit v = true → A.testBit v = false → ti' v = nI (sw_w A.testBit J v) → (∀ u, u < 6 → T.testBit u = true → A.testBit u = false → sw_w A.testBit J u ≤ sw_w A.testBit J v) →
      post (nI v) (f, cp, rm, ff, ln, jn, ti', ab, st)) : wpX_tightest post (f, cp, rm, ff, ln, jn, ti, ab, st) (nI T) (nI A) :=
  ⟨7, tt_5 hjn hT hA hex hp 7 0 (-1) ti (by omega) (by omega) (Or.inl ⟨rfl, fun u hu => by omega⟩)⟩
end
/-! merge -/
def mg_I (J : Nat → Nat) (s t c : Nat) (J' : Nat → Nat) : Prop :=
  (∀ x, x < c → x < 6 → x ≠ s → J' (6 * s + x) = J (6 * s + x) + J (6 * t + x) ∧ J' (6 * x + s) = J (6 * s + x) + J (6 * t + x)) ∧
  (∀ x, c ≤ x → x < 6 → x ≠ s → J' (6 * s + x) = J (6 * s + x)) ∧
  (∀ a b, a < 6 → b < 6 → a ≠ s → b ≠ s → J' (6 * a + b) = J (6 * a + b))
theorem mg_s {J J' : Nat → Nat} {s t c : Nat} (hs : s < 6) (ht : t < 6) (hst : s ≠ t) (hc : c < 6) (hI : mg_I J s t c J') :
    mg_I J s t (c + 1) (fun x => if x = 6 * c + s then J' (6 * s + c) + J' (6 * t + c) else if x = 6 * s + c then J' (6 * s + c) + J' (6 * t + c) else J' x) := by
  obtain ⟨i1, i2, i3⟩ := hI
  refine ⟨fun x hx hx6 hxs => ?_, fun x hx hx6 hxs => ?_, fun a b ha hb has hbs => ?_⟩
  · dsimp only
    by_cases e : x = c
    · subst e
      rw [if_pos rfl, if_neg (by omega), if_pos rfl, i2 x (by omega) hx6 hxs, i3 t x ht hx6 (Ne.symm hst) hxs]
      exact ⟨rfl, rfl⟩
    · rw [if_neg (by omega), if_neg (by omega), if_neg (by omega), if_neg (by omega)]
      exact i1 x (by omega) hx6 hxs
  · dsimp only
    rw [if_neg (by omega), if_neg (by omega)]
    exact i2 x (by omega) hx6 hxs
  · dsimp only
    rw [if_neg (by omega), if_neg (by omega)]
    exact i3 a b ha hb has hbs
section
variable {post : SX → Prop} {f : Int32} {cp rm ff ln ti ab st : Nat → Int32} {J : Nat → Nat} {s t : Nat}
theorem mg_2 (hs : s < 6) (ht : t < 6) (hst : s ≠ t)
    (hp : ∀ jn' J', (∀ x, x < 36 → jn' x = nI (J' x)) → mg_I J s t 6 J' → post (f, cp, rm, ff, ln, upd jn' (6 * s + s) 0, ti, ab, st)) :
    ∀ n c jn' J', 6 - c < n → c ≤ 6 → (∀ x, x < 36 → jn' x = nI (J' x)) → mg_I J s t c J' → wX_merge_2 post (nI s) (nI t) f n (nI c) cp rm ff ln jn' ti ab st := by
  intro n
  induction n with
  | zero => intro c jn' J' hn; omega
  | succ n ih =>
    intro c jn' J' hn hc hjn hI
    refine pk_le 6 c (fun h => ?_) (fun h => ?_)
    · have hc6 : c = 6 := by omega
      subst hc6
      rw [cf_ix, cf_cl hs hs]
      exact ⟨cf_vin hs hs, nm_e (hp jn' J' hjn hI)⟩
    · rw [cf_ix s c, cf_ix t c, cf_ix c s, cf_cl hs h, cf_cl ht h, cf_cl h hs]
      refine ⟨cf_vin hs h, cf_vin ht h, cf_vin hs h, ?_⟩
      refine nm_r (e' := upd jn' (6 * s + c) (nI (J' (6 * s + c) + J' (6 * t + c)))) (by rw [hjn _ (by omega), hjn _ (by omega), nI_add]) ?_
      refine ⟨cf_vin hs h, cf_vin h hs, ?_⟩
      rw [pk_us]
      refine nm_e ?_
      refine nm_r (nI_1 c) ?_
      refine ih (c + 1) _ _ (by omega) (by omega) ?_ (mg_s hs ht hst h hI)
      intro x hx
      by_cases e1 : x = 6 * c + s
      · rw [if_pos e1, e1, pk_us]
      · rw [if_neg e1, pk_un e1]
        by_cases e2 : x = 6 * s + c
        · rw [if_pos e2, e2, pk_us]
        · rw [if_neg e2, pk_un e2]; exact hjn x hx
end
theorem mg_all {post : SX → Prop} {f : Int32} {cp rm ff ln jn ti ab st : Nat → Int32} {J : Nat → Nat} {s t B : Nat} (hs : s < 6) (ht : t < 6) (hst : s ≠ t) (hjn : ∀ c, c < 36 → jn c = nI (J c) ∧ J c ≤ B) (hsy : cf_sym J)
    (hp : ∀ jn' J', (∀ c, c < 36 → jn' c = nI (J' c) ∧ J' c ≤ 2 * B) → cf_sym J' → (∀ c, c < 6 → c ≠ s → J' (6 * s + c) = J (6 * s + c) + J (6 * t + c)) →
      (∀ a b, a < 6 → b < 6 → a ≠ s → b ≠ s → J' (6 * a + b) = J (6 * a + b)) → post (f, cp, rm, ff, ln, jn', ti, ab, st)) :
    wpX_merge post (f, cp, rm, ff, ln, jn, ti, ab, st) (nI s) (nI t) := by
  refine ⟨7, mg_2 (J := J) hs ht hst (fun jn' J' hr hI => ?_) 7 0 jn J (by omega) (by omega) (fun x hx => (hjn x hx).1) ⟨fun x hx => by omega, fun _ _ _ _ => rfl, fun _ _ _ _ _ _ => rfl⟩⟩
  obtain ⟨i1, i2, i3⟩ := hI
  have key : ∀ a b, a < 6 → b < 6 → (a = s ∧ b = s) ∨ ((if 6 * a + b = 6 * s + s then 0 else J' (6 * a + b)) = J' (6 * a + b)) := by
    intro a b ha hb
    by_cases h : a = s ∧ b = s
    · exact Or.inl h
    · right; rw [if_neg (by omega)]
  refine hp _ (fun c => if c = 6 * s + s then 0 else J' c) (fun c hc => ?_) (fun a b ha hb => ?_) (fun c hc hcs => ?_) (fun a b ha hb has hbs => ?_)
  · by_cases h : c = 6 * s + s
    · rw [if_pos h, h, pk_us]
      exact ⟨rfl, Nat.zero_le _⟩
    · rw [if_neg h, pk_un h]
      refine ⟨hr c hc, ?_⟩
      have hcc : c = 6 * (c / 6) + c % 6 := by omega
      have q1 : c / 6 < 6 := by omega
      have q2 : c % 6 < 6 := by omega
      generalize c / 6 = a at hcc q1
      generalize c % 6 = b at hcc q2
      subst hcc
      by_cases ha : a = s
      · subst ha
        have k := (i1 b q2 q2 (by omega)).1
        have k1 := (hjn (6 * a + b) hc).2
        have k2 := (hjn (6 * t + b) (by omega)).2
        omega
      · by_cases hb : b = s
        · subst hb
          have k := (i1 a q1 q1 ha).2
          have k1 := (hjn (6 * b + a) (by omega)).2
          have k2 := (hjn (6 * t + a) (by omega)).2
          omega
        · have k := i3 a b q1 q2 ha hb
          have k1 := (hjn (6 * a + b) hc).2
          omega
  · dsimp only
    by_cases has : a = s
    · by_cases hbs : b = s
      · rw [has, hbs]
      · rw [if_neg (by omega), if_neg (by omega), has, (i1 b hb hb hbs).1, (i1 b hb hb hbs).2]
    · by_cases hbs : b = s
      · rw [if_neg (by omega), if_neg (by omega), hbs, (i1 a ha ha has).1, (i1 a ha ha has).2]
      · rw [if_neg (by omega), if_neg (by omega), i3 a b ha hb has hbs, i3 b a hb ha hbs has]
        exact hsy a b ha hb
  · rw [if_neg (by omega)]
    exact (i1 c hc hc hcs).1
  · rw [if_neg (by omega)]
    exact i3 a b ha hb has hbs
/-! the phases -/
section
variable {post : Int32 → SX → Prop} {f : Int32} {cp rm ff ln ab st : Nat → Int32} {C : Nat → Nat}
theorem le_51 {J34 : Int32 → Int32 → Int32 → Int32 → (Nat → Int32) → (Nat → Int32) → (Nat → Int32) → (Nat → Int32) → (Nat → Int32) → (Nat → Int32) → (Nat → Int32) → (Nat → Int32) → Prop}
    {jn : Nat → Int32} {J : Nat → Nat} {T p best B : Nat} (hjn : ∀ c, c < 36 → jn c = nI (J c) ∧ J c ≤ B) (hB : B ≤ 992) (hsy : cf_sym J) (hT : T < 64) (hcT : cf_cn T.testBit + p = 6) (hp4 : p ≤ 4) (hbest : best ≤ 1048576)
    (hJ : ∀ s t tl jn' J' ti, s < 6 → t < 6 → s ≠ t → T.testBit s = true → T.testBit t = true → (∀ c, c < 36 → jn' c = nI (J' c) ∧ J' c ≤ 2 * B) → cf_sym J' →
      (∀ c, c < 6 → c ≠ s → J' (6 * s + c) = J (6 * s + c) + J (6 * t + c)) → (∀ a b, a < 6 → b < 6 → a ≠ s → b ≠ s → J' (6 * a + b) = J (6 * a + b)) →
      (∀ S : Nat → Bool, S t ≠ S s → tl ≤ sw_c T.testBit J S) → tl = sw_c T.testBit J (fun x => decide (x = t)) →
      J34 (nI (if tl < best then tl else best)) (nI (T - 2 ^ t)) (nI (p + 1)) f cp rm ff ln jn' ti ab st) :
    ∀ n k x4 x5 A ti l s tl, 6 - k < n → k ≤ 6 → A < 64 → (∀ a, a < 6 → A.testBit a = true → T.testBit a = true) → cf_cn A.testBit + p = k → sw_P T.testBit A.testBit J l →
      (p + 1 ≤ k → x4 = nI l ∧ l < 6 ∧ A.testBit l = true ∧ ti l = nI tl ∧ tl = sw_c A.testBit J (fun x => decide (x = l))) →
      (p + 2 ≤ k → x5 = nI s ∧ s < 6 ∧ A.testBit s = true ∧ s ≠ l ∧ ∀ S : Nat → Bool, S l ≠ S s → tl ≤ sw_c A.testBit J S) →
      wX_least_51 post J34 (nI best) (nI T) (nI p) n x4 x5 (nI A) (nI k) f cp rm ff ln jn ti ab st := by
  intro n
  induction n with
  | zero => intro k x4 x5 A ti l s tl hn; omega
  | succ n ih =>
    intro k x4 x5 A ti l s tl hn hk hA hAT hcA hP h1 h2
    have hjn2 : ∀ c, c < 36 → jn c = nI (J c) ∧ J c ≤ 992 := fun c hc => ⟨(hjn c hc).1, Nat.le_trans (hjn c hc).2 hB⟩
    refine pk_le 6 k (fun h => ?_) (fun h => ?_)
    · have hk6 : k = 6 := by omega
      subst hk6
      obtain ⟨rfl, a2, a3, a4, a5⟩ := h1 (by omega)
      obtain ⟨rfl, b2, b3, b4, b5⟩ := h2 (by omega)
      have hAll : ∀ a, a < 6 → A.testBit a = T.testBit a := cn_all (by omega) hAT
      have eC : ∀ S, sw_c A.testBit J S = sw_c T.testBit J S := fun S => sw_ccongr hAll (fun _ _ _ _ _ _ => rfl) (fun _ _ _ => rfl)
      have hTs : T.testBit s = true := hAT s b2 b3
      have hTl : T.testBit l = true := hAT l a2 a3
      have tlb : tl ≤ 36 * 992 := by
        rw [a5]
        exact sm_bd (fun c hc => Nat.le_trans (ci_le _ _) (hjn2 c hc).2)
      have b5' : ∀ S : Nat → Bool, S l ≠ S s → tl ≤ sw_c T.testBit J S := fun S hS => by rw [← eC]; exact b5 S hS
      have a5' : tl = sw_c T.testBit J (fun x => decide (x = l)) := by rw [← eC]; exact a5
      refine ⟨vp_in_nI a2 (by decide), ?_⟩
      rw [nI_clamp (by omega : l < 2 ^ 31), a4]
      refine pk_le best tl (fun hle => ?_) (fun hgt => ?_)
      · unfold wX_least_108
        refine mg_all b2 a2 b4 hjn hsy (fun jn' J' r1 r2 r3 r4 => ?_)
        refine nm_r (cf_rm T hT l a2 hTl) ?_
        refine nm_r (nI_1 p) ?_
        have k := hJ s l tl jn' J' ti b2 a2 b4 hTs hTl r1 r2 r3 r4 b5' a5'
        rw [if_neg (by omega)] at k
        exact k
      · refine ⟨vp_in_nI a2 (by decide), ?_⟩
        unfold wX_least_108
        refine mg_all b2 a2 b4 hjn hsy (fun jn' J' r1 r2 r3 r4 => ?_)
        refine nm_r (cf_rm T hT l a2 hTl) ?_
        refine nm_r (nI_1 p) ?_
        have k := hJ s l tl jn' J' ti b2 a2 b4 hTs hTl r1 r2 r3 r4 b5' a5'
        rw [if_pos (by omega)] at k
        exact k
    · obtain ⟨u, hu, hu2, hu3⟩ := cn_sub (A := A.testBit) (B := T.testBit) (by omega)
      refine tt_all hjn2 hT hA ⟨u, hu, hu2, hu3⟩ (fun v ti' hv v1 v2 v3 v4 => ?_)
      refine nm_r (cf_or A hA v hv) ?_
      refine nm_r (nI_1 k) ?_
      have hA' : ∀ a, a < 6 → (A ||| 2 ^ v).testBit a = (A.testBit a || decide (a = v)) := fun a _ => cf_orb A v a
      obtain ⟨s1, s2⟩ := sw_step hsy hP hv v1 v2 v4 hA'
      refine ih (k + 1) _ _ (A ||| 2 ^ v) ti' v l (sw_w A.testBit J v) (by omega) (by omega) (cf_orlt A hA v hv) (fun a ha h3 => ?_) ?_ s1
        (fun _ => ⟨rfl, hv, by rw [cf_orb]; simp, v3, sw_one hsy hv v2 hA'⟩) (fun h3 => ?_)
      · rw [cf_orb] at h3
        by_cases e : a = v
        · rw [e]; exact v1
        · simp [e] at h3
          exact hAT a ha h3
      · have k1 : cf_cn (A ||| 2 ^ v).testBit = cf_cn A.testBit + 1 := cn_add hv v2 (by rw [cf_orb]; simp) (fun a ha e => by rw [cf_orb]; simp [e])
        omega
      · obtain ⟨a1, a2, a3, a4, a5⟩ := h1 (by omega)
        refine ⟨a1, a2, by rw [cf_orb, a3]; rfl, fun e => ?_, s2⟩
        rw [e, v2] at a3
        exact Bool.noConfusion a3
theorem le_34 (hC : ∀ c, c < 36 → C c ≤ 31) (hp : ∀ jn ti val, cf_min C cf_prop val → post (nI val) (f, cp, rm, ff, ln, jn, ti, ab, st)) :
    ∀ n p best T rep jn J ti, 5 - p < n → p ≤ 5 → T < 64 → cf_cn T.testBit + p = 6 → sw_R C J T.testBit rep → sw_B C rep best → best ≤ 1048576 → cf_sym J → (∀ c, c < 36 → jn c = nI (J c) ∧ J c ≤ 31 * 2 ^ p) →
      wX_least_34 post n (nI best) (nI T) (nI p) f cp rm ff ln jn ti ab st := by
  intro n
  induction n with
  | zero => intro p best T rep jn J ti hn; omega
  | succ n ih =>
    intro p best T rep jn J ti hn hp5 hT hcT hR hB hbest hsy hjn
    refine pk_le 5 p (fun h => ?_) (fun h => ?_)
    · have k := sw_end hR hB (by omega) hC
      exact hp jn ti best ⟨k.2, k.1⟩
    · have hpow : 31 * 2 ^ p ≤ 992 := by
        have : 2 ^ p ≤ 2 ^ 5 := Nat.pow_le_pow_right (by decide) (by omega)
        omega
      refine ⟨7, le_51 hjn hpow hsy hT hcT (by omega) hbest (fun s t tl jn' J' ti s1 t1 st1 s2 t2 r1 r2 r3 r4 r5 r6 => ?_) 7 p (-1) (-1) 0 ti 0 0 0 (by omega) (by omega) (by decide) (fun a _ h => by simp at h) (by
          rw [show cf_cn (Nat.testBit 0) = 0 from by decide +kernel]; omega) (sw_P0 (fun a _ => by simp)) (fun h => by omega) (fun h => by omega)⟩
      have hT' : ∀ a, a < 6 → (T - 2 ^ t).testBit a = (T.testBit a && !decide (a = t)) := fun a ha => cf_rmb T hT t t1 t2 a ha
      obtain ⟨q1, q2⟩ := sw_phase hR hB s1 t1 st1 s2 t2 hsy r2 r3 r4 hT' r5 r6
      have hcn : cf_cn T.testBit = cf_cn (T - 2 ^ t).testBit + 1 := cn_add t1 (by rw [hT' t t1]; simp) t2 (fun a ha e => by rw [hT' a ha]; simp [e])
      refine ih (p + 1) _ (T - 2 ^ t) _ jn' J' ti (by omega) (by omega) (Nat.lt_of_le_of_lt (Nat.sub_le _ _) hT) (by omega) q1 q2 (by split <;> omega) r2 (fun c hc => ⟨(r1 c hc).1, ?_⟩)
      have k := (r1 c hc).2
      rw [Nat.pow_succ]
      omega
theorem le_2 {jn0 ti : Nat → Int32} (hg : cf_gd 31 C cp) (hp : ∀ jn ti val, cf_min C cf_prop val → post (nI val) (f, cp, rm, ff, ln, jn, ti, ab, st)) :
    ∀ n i jn, 36 - i < n → i ≤ 36 → (∀ c, c < i → jn c = nI (C c)) → wX_least_2 post f n (nI i) cp rm ff ln jn ti ab st := by
  intro n
  induction n with
  | zero => intro i jn hn; omega
  | succ n ih =>
    intro i jn hn hi hjn
    refine pk_le 36 i (fun h => ?_) (fun h => ?_)
    · refine ⟨6, le_34 (fun c hc => (hg.1 c hc).2) hp 6 0 1048576 63 id jn C ti (by omega) (by omega) (by decide) (by decide +kernel) (sw_R0 cf_63) sw_B0 (Nat.le_refl _) hg.2.1 (fun c hc => ⟨hjn c (by omega), ?_⟩)⟩
      have := (hg.1 c hc).2
      omega
    · refine ⟨vp_in_nI h (by decide), vp_in_nI h (by decide), ?_⟩
      refine nm_r (e' := upd jn i (nI (C i))) (by rw [nI_clamp (by omega), (hg.1 i h).1]) ?_
      refine nm_r (nI_1 i) ?_
      refine ih (i + 1) _ (by omega) (by omega) (fun c hc => ?_)
      by_cases hci : c = i
      · rw [hci]; exact pk_us
      · rw [pk_un hci]; exact hjn c (by omega)
theorem le_all {jn ti : Nat → Int32} (hg : cf_gd 31 C cp) (hp : ∀ jn ti val, cf_min C cf_prop val → post (nI val) (f, cp, rm, ff, ln, jn, ti, ab, st)) :
    wpX_least post (f, cp, rm, ff, ln, jn, ti, ab, st) :=
  ⟨37, le_2 (jn0 := jn) hg hp 37 0 jn (by omega) (by omega) (fun c hc => by omega)⟩
end
end
section
/-! the printed walks of grow and onTree -/
theorem fl_pairA {a b : Nat} {S : Nat → Bool} (h1 : S a = true) (h2 : S b = false) : fl_A (2 ^ a) (2 ^ b) S := by
  refine ⟨fun x _ h => ?_, fun x _ h => ?_⟩
  · rw [cf_powb] at h
    rw [of_decide_eq_true h]; exact h1
  · rw [cf_powb] at h
    rw [of_decide_eq_true h]; exact h2
theorem fl_pairB {a b : Nat} {S : Nat → Bool} (ha : a < 6) (hb : b < 6) (h : fl_A (2 ^ a) (2 ^ b) S) : S a = true ∧ S b = false :=
  ⟨h.1 a ha (by rw [cf_powb]; simp), h.2 b hb (by rw [cf_powb]; simp)⟩
theorem fl_pair {C : Nat → Nat} {a b m s : Nat} (ha : a < 6) (hb : b < 6) (hab : a ≠ b) (h : fl_R C (2 ^ a) (2 ^ b) m s) : s = gh_f C a b ∧ m.testBit a = true ∧ m.testBit b = false := by
  obtain ⟨h1, h2, h3, h4, h5⟩ := h
  obtain ⟨k1, k2⟩ := fl_pairB ha hb h2
  refine ⟨mn_u ⟨⟨m.testBit, ⟨k1, k2⟩, h3⟩, fun S hS => h4 S (fl_pairA hS.1 hS.2)⟩ (gh_min C hab), k1, k2⟩
theorem fl_dis {a b : Nat} (hab : a ≠ b) : sp_N (2 ^ b) (2 ^ a) := by
  intro x _ h
  rw [cf_powb] at h ⊢
  have e := of_decide_eq_true h
  subst e
  simp [hab]
section
variable {post : SX → Prop} {cp jn ti : Nat → Int32} {C : Nat → Nat}
theorem gr_64 {J31 : Int32 → Int32 → (Nat → Int32) → (Nat → Int32) → (Nat → Int32) → (Nat → Int32) → (Nat → Int32) → (Nat → Int32) → (Nat → Int32) → (Nat → Int32) → Prop}
    {rm ff ln st : Nat → Int32} {i t m : Nat} {p : Nat → Nat} (hi : i < 6) (ht : t < 6) (hm : m < 64) (hpb : ∀ x, x < 6 → p x < 6)
    (hJ : ∀ (ab : Nat → Int32) (p' : Nat → Nat), (∀ x, x < 6 → ab x = nI (p' x)) → (∀ x, x < 6 → p' x = if i < x ∧ m.testBit x = true ∧ p x = t then i else p x) → J31 (nI (i + 1)) (nI m) cp rm ff ln jn ti ab st) :
    ∀ (n j : Nat) (ab : Nat → Int32) (p' : Nat → Nat), 6 - j < n → i < j → j ≤ 6 → (∀ x, x < 6 → ab x = nI (p' x)) → (∀ x, x < 6 → p' x = if i < x ∧ x < j ∧ m.testBit x = true ∧ p x = t then i else p x) →
      wX_grow_64 post J31 (nI i) (nI t) (nI m) n (nI j) cp rm ff ln jn ti ab st := by
  intro n
  induction n with
  | zero => intro j ab p' hn; omega
  | succ n ih =>
    intro j ab p' hn hij hj hab hp'
    refine pk_le 6 j (fun h => ?_) (fun h => ?_)
    · refine nm_r (nI_1 i) ?_
      refine hJ ab p' hab (fun x hx => ?_)
      rw [hp' x hx]
      by_cases z : i < x ∧ m.testBit x = true ∧ p x = t
      · rw [if_pos z, if_pos ⟨z.1, by omega, z.2⟩]
      · rw [if_neg z, if_neg (fun y => z ⟨y.1, y.2.2⟩)]
    · have hpj : p' j = p j := by rw [hp' j h, if_neg (by omega)]
      have cl : (nI j).toNatClampNeg = j := nI_clamp (by omega)
      have skip : ¬ (m.testBit j = true ∧ p j = t) → ∀ x, x < 6 → p' x = if i < x ∧ x < j + 1 ∧ m.testBit x = true ∧ p x = t then i else p x := by
        intro z x hx
        rw [hp' x hx]
        by_cases e : x = j
        · subst e
          rw [if_neg (by omega), if_neg (fun y => z y.2.2)]
        · by_cases y : i < x ∧ x < j ∧ m.testBit x = true ∧ p x = t
          · rw [if_pos y, if_pos ⟨y.1, by omega, y.2.2⟩]
          · rw [if_neg y, if_neg (fun y2 => y ⟨y2.1, by omega, y2.2.2⟩)]
      refine cf_in hm h (fun hin => ?_) (fun hin => ?_)
      · refine br_f (by decide) ⟨vp_in_nI h (by decide), ?_⟩
        rw [cl, hab j h, hpj]
        have hb1 := hpb j h
        refine pk_eq (p j) t (fun he => ?_) (fun hne => ?_)
        · refine ⟨vp_in_nI h (by decide), ?_⟩
          refine nm_r (e' := upd ab j (nI i)) (by rw [cf_nb hi]) ?_
          refine nm_r (nI_1 j) ?_
          refine ih (j + 1) _ (fun x => if x = j then i else p' x) (by omega) (by omega) (by omega) (fun x hx => ?_) (fun x hx => ?_)
          · by_cases e : x = j
            · rw [if_pos e, e]; exact pk_us
            · rw [if_neg e, pk_un e]; exact hab x hx
          · by_cases e : x = j
            · subst e
              rw [if_pos rfl, if_pos ⟨hij, by omega, hin, he⟩]
            · rw [if_neg e, hp' x hx]
              by_cases y : i < x ∧ x < j ∧ m.testBit x = true ∧ p x = t
              · rw [if_pos y, if_pos ⟨y.1, by omega, y.2.2⟩]
              · rw [if_neg y, if_neg (fun y2 => y ⟨y2.1, by omega, y2.2.2⟩)]
        · refine nm_r (nI_1 j) ?_
          exact ih (j + 1) ab p' (by omega) (by omega) (by omega) hab (skip (fun z => hne z.2))
      · refine br_t rfl ?_
        refine nm_r (nI_1 j) ?_
        exact ih (j + 1) ab p' (by omega) (by omega) (by omega) hab (skip (fun z => by rw [hin] at z; exact Bool.noConfusion z.1))
/-- what grow leaves -/
def gr_T (C : Nat → Nat) (p : Nat → Nat) (ab st : Nat → Int32) : Prop :=
  (∀ x, x < 6 → ab x = nI (p x)) ∧ (∀ j, 1 ≤ j → j < 6 → p j < j ∧ st j = nI (gh_f C j (p j)) ∧ ∀ l, l < j → gh_f C j l ≤ gh_f C j (p j))
theorem gr_31 (hg : cf_gd 31 C cp) (hp : ∀ f rm ff ln ab st p, gr_T C p ab st → post (f, cp, rm, ff, ln, jn, ti, ab, st)) :
    ∀ n i f rm ff ln ab st p, 6 - i < n → 1 ≤ i → i ≤ 6 → (∀ x, x < 6 → ab x = nI (p x) ∧ p x < 6) → gh_I C i p → (∀ j, 1 ≤ j → j < i → st j = nI (gh_f C j (p j))) →
      wX_grow_31 post n (nI i) f cp rm ff ln jn ti ab st := by
  intro n
  induction n with
  | zero => intro i f rm ff ln ab st p hn; omega
  | succ n ih =>
    intro i f rm ff ln ab st p hn h1 hi hab hI hst
    refine pk_le 6 i (fun h => ?_) (fun h => ?_)
    · have e6 : i = 6 := by omega
      subst e6
      exact hp f rm ff ln ab st p ⟨fun x hx => (hab x hx).1, fun j j1 j2 => ⟨(hI.2.2 j j1 j2).1, hst j j1 j2, (hI.2.2 j j1 j2).2⟩⟩
    · have hti : p i < i := hI.1 i (Nat.le_refl i) h
      have ht6 : p i < 6 := by omega
      have cl : (nI i).toNatClampNeg = i := nI_clamp (by omega)
      refine ⟨vp_in_nI h (by decide), ?_⟩
      refine nm_r (e' := nI (p i)) (by rw [cl]; exact (hab i h).1) ?_
      rw [cf_one i h, cf_one (p i) ht6]
      refine fl_all hg (cf_onelt i h) (cf_onelt (p i) ht6) (fl_dis (by omega)) (fun m rm ff ln s hR => ?_)
      obtain ⟨rfl, xi, xt⟩ := fl_pair h ht6 (by omega) hR
      refine ⟨vp_in_nI h (by decide), ?_⟩
      refine nm_r (e' := upd st i (nI (gh_f C i (p i)))) (by rw [cl]) ?_
      refine nm_r (nI_1 i) ⟨7, ?_⟩
      refine gr_64 (p := p) h ht6 hR.1 (fun x hx => (hab x hx).2) (fun ab' p' ha' hp' => ?_) 7 (i + 1) ab p (by omega) (by omega) (by omega) (fun x hx => (hab x hx).1) (fun x hx => ?_)
      · refine ih (i + 1) _ _ _ _ ab' _ p' (by omega) (by omega) (by omega) (fun x hx => ⟨ha' x hx, ?_⟩) (gh_Is hg.2.1 h h1 hI rfl xi xt hR.2.2.1 hp') (fun j j1 j2 => ?_)
        · rw [hp' x hx]
          have := (hab x hx).2
          split <;> omega
        · rw [hp' j (by omega), if_neg (by omega)]
          by_cases e : j = i
          · rw [e]; exact pk_us
          · rw [pk_un e]; exact hst j j1 (by omega)
      · rw [if_neg (by omega)]
theorem gr_2 (hg : cf_gd 31 C cp) (hp : ∀ f rm ff ln ab st p, gr_T C p ab st → post (f, cp, rm, ff, ln, jn, ti, ab, st)) {f : Int32} {rm ff ln : Nat → Int32} :
    ∀ n i ab st, 6 - i < n → i ≤ 6 → (∀ x, x < i → ab x = nI 0) → wX_grow_2 post f n (nI i) cp rm ff ln jn ti ab st := by
  intro n
  induction n with
  | zero => intro i ab st hn; omega
  | succ n ih =>
    intro i ab st hn hi hab
    refine pk_le 6 i (fun h => ?_) (fun h => ?_)
    · exact ⟨6, gr_31 hg hp 6 1 f rm ff ln ab st (fun _ => 0) (by omega) (by omega) (by omega) (fun x hx => ⟨hab x (by omega), by omega⟩) (gh_I1 (fun _ _ => rfl)) (fun j j1 j2 => by omega)⟩
    · refine ⟨vp_in_nI h (by decide), ?_⟩
      refine nm_r (e' := upd ab i (nI 0)) (by rw [cf_nbz, nI_clamp (by omega), nI_0]) ?_
      refine ⟨vp_in_nI h (by decide), nm_e ?_⟩
      refine nm_r (nI_1 i) ?_
      refine ih (i + 1) _ _ (by omega) (by omega) (fun x hx => ?_)
      by_cases e : x = i
      · rw [e]; exact pk_us
      · rw [pk_un e]; exact hab x (by omega)
theorem gr_all (hg : cf_gd 31 C cp) {f : Int32} {rm ff ln ab st : Nat → Int32} (hp : ∀ f rm ff ln ab st p, gr_T C p ab st → post (f, cp, rm, ff, ln, jn, ti, ab, st)) :
    wpX_grow post (f, cp, rm, ff, ln, jn, ti, ab, st) :=
  ⟨7, gr_2 hg hp 7 0 ab st (by omega) (by omega) (fun x hx => by omega)⟩
end
/-! onTree -/
section
variable {post : Int32 → Prop} {f : Int32} {cp rm ff ln jn ti ab st : Nat → Int32} {C : Nat → Nat} {p : Nat → Nat}
theorem ot_12 (hC : cf_sym C) (hb : ∀ c, c < 36 → C c ≤ 31) (hT : gr_T C p ab st) {v : Nat} (hp : post (nI v)) :
    ∀ n k x y le, 12 - k < n → x < 6 → y < 6 → k + x + y ≤ 10 → le ≤ 1048576 → (if le ≤ gh_f C x y then le else gh_f C x y) = v →
      wX_onTree_12 post f cp rm ff ln jn ti ab st n (nI x) (nI y) (nI le) (nI k) := by
  intro n
  induction n with
  | zero => intro k x y le hn; omega
  | succ n ih =>
    intro k x y le hn hx hy hk hle hv
    refine br_f (nI_ge (b := 12) (by omega) (by decide)) ?_
    refine pk_eq x y (fun he => ?_) (fun hne => ?_)
    · subst he
      rw [gh_self, if_pos hle] at hv
      rw [hv]; exact hp
    · refine pk_le x y (fun hxy => ?_) (fun hxy => ?_)
      · have hxy' : x < y := by omega
        obtain ⟨t1, t2, t3⟩ := hT.2 y (by omega) hy
        have cl : (nI y).toNatClampNeg = y := nI_clamp (by omega)
        have bd := gh_bd hb (u := y) (v := p y) (by omega)
        have tr := gh_tree hC hb t1 hxy' (t3 x hxy')
        rw [gh_sym hC y x, gh_sym hC (p y) x] at tr
        refine ⟨vp_in_nI hy (by decide), ?_⟩
        rw [cl, t2]
        refine pk_le le (gh_f C y (p y)) (fun h => ?_) (fun h => ?_)
        · refine ⟨vp_in_nI hy (by decide), ?_⟩
          refine nm_r (e' := nI (p y)) (by rw [cl]; exact hT.1 y hy) ?_
          refine nm_r (nI_1 k) ?_
          refine ih (k + 1) x (p y) le (by omega) hx (by omega) (by omega) hle ?_
          rw [← hv, tr]
          split <;> split <;> (try split) <;> (try split) <;> omega
        · refine ⟨vp_in_nI hy (by decide), vp_in_nI hy (by decide), ?_⟩
          refine nm_r (e' := nI (p y)) (by rw [cl]; exact hT.1 y hy) ?_
          refine nm_r (nI_1 k) ?_
          refine ih (k + 1) x (p y) _ (by omega) hx (by omega) (by omega) (by omega) ?_
          rw [← hv, tr]
          split <;> split <;> (try split) <;> (try split) <;> omega
      · obtain ⟨t1, t2, t3⟩ := hT.2 x (by omega) hx
        have cl : (nI x).toNatClampNeg = x := nI_clamp (by omega)
        have bd := gh_bd hb (u := x) (v := p x) (by omega)
        have tr := gh_tree hC hb t1 hxy (t3 y hxy)
        refine ⟨vp_in_nI hx (by decide), ?_⟩
        rw [cl, t2]
        refine pk_le le (gh_f C x (p x)) (fun h => ?_) (fun h => ?_)
        · refine ⟨vp_in_nI hx (by decide), ?_⟩
          refine nm_r (e' := nI (p x)) (by rw [cl]; exact hT.1 x hx) ?_
          refine nm_r (nI_1 k) ?_
          refine ih (k + 1) (p x) y le (by omega) (by omega) hy (by omega) hle ?_
          rw [← hv, tr]
          split <;> split <;> (try split) <;> (try split) <;> omega
        · refine ⟨vp_in_nI hx (by decide), vp_in_nI hx (by decide), ?_⟩
          refine nm_r (e' := nI (p x)) (by rw [cl]; exact hT.1 x hx) ?_
          refine nm_r (nI_1 k) ?_
          refine ih (k + 1) (p x) y _ (by omega) (by omega) hy (by omega) (by omega) ?_
          rw [← hv, tr]
          split <;> split <;> (try split) <;> (try split) <;> omega
theorem ot_all (hC : cf_sym C) (hb : ∀ c, c < 36 → C c ≤ 31) (hT : gr_T C p ab st) {a b : Nat} (ha : a < 6) (hb6 : b < 6) (hp : post (nI (gh_f C a b))) :
    wpX_onTree post (f, cp, rm, ff, ln, jn, ti, ab, st) (nI a) (nI b) := by
  refine ⟨13, ot_12 hC hb hT hp 13 0 a b 1048576 (by omega) ha hb6 (by omega) (Nat.le_refl _) ?_⟩
  by_cases e : a = b
  · rw [e, gh_self]; rfl
  · have := gh_bd hb e
    rw [if_neg (by omega)]
end
end
section
/-! the reference's walks, and the component's cost -/
theorem cf_d6 {c : Nat} (h : c < 36) : nI c / 6 = nI (c / 6) := pk_div (d := 6) (by omega) (by omega) (by decide)
theorem cf_r6 {c : Nat} (h : c < 36) : nI c - nI c / 6 * 6 = nI (c % 6) := pk_rem (d := 6) (by omega) (by omega) (by decide)
theorem cf_b1 {m a : Nat} (hm : m < 64) (ha : a < 6) (h : m.testBit a = true) : ((nI m >>> (nI a &&& 31)) &&& 1) = 1 := by rw [cf_bit0 m hm a ha, if_pos h]
theorem cf_b0 {m a : Nat} (hm : m < 64) (ha : a < 6) (h : m.testBit a = false) : ((nI m >>> (nI a &&& 31)) &&& 1) = 0 := by rw [cf_bit0 m hm a ha, if_neg (by rw [h]; decide)]
theorem cf_sub : ∀ i, i < 64 → ∀ k, k < 64 → ((nI i &&& (nI k ^^^ (-1))) = 0 ↔ ∀ a, a < 6 → i.testBit a = true → k.testBit a = true) := by decide +kernel
theorem cf_dis : ∀ i, i < 64 → ∀ k, k < 64 → ((nI i &&& nI k) = 0 ↔ ∀ a, a < 6 → i.testBit a = true → k.testBit a = false) := by decide +kernel
theorem cf_odd : ∀ k, k < 64 → ((nI k &&& 1) = 1 ↔ k.testBit 0 = true) := by decide +kernel
theorem cf_pm {k : Nat} (h1 : 1 ≤ k) (h2 : k ≤ 62) : cf_prop k.testBit := by
  obtain ⟨a, ha, ea⟩ := cf_ne0 k (by omega) (by omega)
  obtain ⟨b, hb, eb⟩ := cf_ne63 k (by omega) (by omega)
  exact ⟨a, b, ha, hb, by rw [ea, eb]; decide⟩
theorem cf_mp {S : Nat → Bool} (h : cf_prop S) : 1 ≤ cf_mk S ∧ cf_mk S ≤ 62 := by
  obtain ⟨a, b, ha, hb, hab⟩ := h
  have k := cf_mklt S
  have e1 := cf_mkb S ha
  have e2 := cf_mkb S hb
  constructor
  · refine Classical.byContradiction fun z => hab ?_
    have e : cf_mk S = 0 := by omega
    rw [← e1, ← e2, e]; simp
  · refine Classical.byContradiction fun z => hab ?_
    have e : cf_mk S = 63 := by omega
    rw [← e1, ← e2, e, cf_63 a ha, cf_63 b hb]
theorem ct_mk (C : Nat → Nat) (S : Nat → Bool) : cf_cut C (cf_mk S).testBit = cf_cut C S := ct_congr (fun a ha => cf_mkb S ha)
theorem fl_mk {i o : Nat} {S : Nat → Bool} (h : fl_A i o S) : fl_A i o (cf_mk S).testBit :=
  ⟨fun a ha k => by rw [cf_mkb S ha]; exact h.1 a ha k, fun a ha k => by rw [cf_mkb S ha]; exact h.2 a ha k⟩
section
variable {post : Int32 → Prop} {cp : Nat → Int32} {C : Nat → Nat}
theorem yc_4 {m : Nat} (hcp : ∀ c, c < 36 → cp c = nI (C c)) (hm : m < 64) (hp : post (nI (cf_cut C m.testBit))) :
    ∀ n c s, 36 - c < n → c ≤ 36 → s = sm_s (fun c => cf_i (m.testBit (c / 6) && !m.testBit (c % 6)) (C c)) c → wY_costOf_4 post (nI m) cp n (nI s) (nI c) := by
  intro n
  induction n with
  | zero => intro c s hn; omega
  | succ n ih =>
    intro c s hn hc hs
    refine pk_le 36 c (fun h => ?_) (fun h => ?_)
    · have hc6 : c = 36 := by omega
      subst hc6
      subst hs
      exact hp
    · have q1 : c / 6 < 6 := by omega
      have q2 : c % 6 < 6 := by omega
      have nx : sm_s (fun c => cf_i (m.testBit (c / 6) && !m.testBit (c % 6)) (C c)) (c + 1) = s + cf_i (m.testBit (c / 6) && !m.testBit (c % 6)) (C c) := by rw [hs]; rfl
      have stay : cf_i (m.testBit (c / 6) && !m.testBit (c % 6)) (C c) = 0 → wY_costOf_37 post (wY_costOf_4 post (nI m) cp n) (nI m) (nI s) (nI c) cp := by
        intro z
        unfold wY_costOf_37 wY_costOf_38
        refine br_t rfl ?_
        refine nm_r (nI_1 c) ?_
        exact ih (c + 1) s (by omega) (by omega) (by rw [nx, z]; rfl)
      rw [cf_r6 h, cf_d6 h]
      refine ⟨by decide, ?_⟩
      cases h1 : m.testBit (c / 6)
      · refine br_f (by rw [cf_b0 hm q1 h1]; decide) (stay ?_)
        rw [h1]; rfl
      · refine br_t (cf_b1 hm q1 h1) ⟨by decide, ?_⟩
        cases h2 : m.testBit (c % 6)
        · refine br_t (cf_b0 hm q2 h2) ?_
          unfold wY_costOf_38
          refine br_f (by decide) ⟨vp_in_nI h (by decide), ?_⟩
          refine nm_r (e' := nI (s + C c)) (by rw [nI_clamp (by omega), hcp c h, nI_add]) ?_
          refine nm_r (nI_1 c) ?_
          refine ih (c + 1) _ (by omega) (by omega) ?_
          rw [nx, h1, h2]; rfl
        · refine br_f (by rw [cf_b1 hm q2 h2]; decide) (stay ?_)
          rw [h1, h2]; rfl
theorem yc_all {m : Nat} (hcp : ∀ c, c < 36 → cp c = nI (C c)) (hm : m < 64) (hp : post (nI (cf_cut C m.testBit))) : wpY_costOf post cp (nI m) :=
  ⟨37, yc_4 hcp hm hp 37 0 0 (by omega) (by omega) rfl⟩
/-! cheapest -/
def ch_I (C : Nat → Nat) (i o s : Nat) (x3 : Int32) : Prop :=
  (x3 = -1 ∧ ∀ k : Nat, 1 ≤ k → k < s → fl_A i o k.testBit → False) ∨
  (∃ val, x3 = nI val ∧ (∃ k : Nat, 1 ≤ k ∧ k < s ∧ fl_A i o k.testBit ∧ cf_cut C k.testBit = val) ∧ ∀ k : Nat, 1 ≤ k → k < s → fl_A i o k.testBit → val ≤ cf_cut C k.testBit)
theorem ch_skip {i o s : Nat} {x3 : Int32} (h : ch_I C i o s x3) (hs : fl_A i o s.testBit → False) : ch_I C i o (s + 1) x3 := by
  rcases h with ⟨h1, h2⟩ | ⟨val, h1, ⟨k, k1, k2, k3, k4⟩, h3⟩
  · refine Or.inl ⟨h1, fun k k1 k2 k3 => ?_⟩
    by_cases e : k = s
    · rw [e] at k3; exact hs k3
    · exact h2 k k1 (by omega) k3
  · refine Or.inr ⟨val, h1, ⟨k, k1, by omega, k3, k4⟩, fun j j1 j2 j3 => ?_⟩
    by_cases e : j = s
    · rw [e] at j3; exact (hs j3).elim
    · exact h3 j j1 (by omega) j3
theorem ch_5 {i o : Nat} (hcp : ∀ c, c < 36 → cp c = nI (C c) ∧ C c ≤ 31) (hi : i < 64) (ho : o < 64) (hp : ∀ x3, ch_I C i o 63 x3 → post x3) :
    ∀ n s x3, 63 - s < n → 1 ≤ s → s ≤ 63 → ch_I C i o s x3 → wY_cheapest_5 post (nI i) (nI o) cp n x3 (nI s) := by
  intro n
  induction n with
  | zero => intro s x3 hn; omega
  | succ n ih =>
    intro s x3 hn h1s hs hI
    refine pk_lt 62 s (fun h => ?_) (fun h => ?_)
    · have e : s = 63 := by omega
      subst e
      exact hp x3 hI
    · have hs64 : s < 64 := by omega
      refine br_c (fun ha => ?_) (fun ha => ?_)
      · rw [cf_sub i hi s hs64] at ha
        refine br_c (fun hb => ?_) (fun hb => ?_)
        · rw [cf_dis o ho s hs64] at hb
          refine yc_all (C := C) (fun c hc => (hcp c hc).1) hs64 ?_
          have bd := ct_bd (fun c hc => (hcp c hc).2) s.testBit
          rcases hI with ⟨h1, h2⟩ | ⟨val, h1, ⟨k, k1, k2, k3, k4⟩, h3⟩
          · subst h1
            refine br_t (by decide) ?_
            refine nm_r (nI_1 s) ?_
            refine ih (s + 1) _ (by omega) (by omega) (by omega) (Or.inr ⟨_, rfl, ⟨s, h1s, by omega, ⟨ha, hb⟩, rfl⟩, fun j j1 j2 j3 => ?_⟩)
            by_cases e : j = s
            · rw [e]; exact Nat.le_refl _
            · exact (h2 j j1 (by omega) j3).elim
          · subst h1
            have bd2 := ct_bd (fun c hc => (hcp c hc).2) k.testBit
            refine br_f (nI_pos (by omega)) ?_
            refine pk_le val (cf_cut C s.testBit) (fun hle => ?_) (fun hgt => ?_)
            · refine nm_r (nI_1 s) ?_
              refine ih (s + 1) _ (by omega) (by omega) (by omega) (Or.inr ⟨_, rfl, ⟨k, k1, by omega, k3, k4⟩, fun j j1 j2 j3 => ?_⟩)
              by_cases e : j = s
              · rw [e]; exact hle
              · exact h3 j j1 (by omega) j3
            · refine nm_r (nI_1 s) ?_
              refine ih (s + 1) _ (by omega) (by omega) (by omega) (Or.inr ⟨_, rfl, ⟨s, h1s, by omega, ⟨ha, hb⟩, rfl⟩, fun j j1 j2 j3 => ?_⟩)
              by_cases e : j = s
              · rw [e]; exact Nat.le_refl _
              · have := h3 j j1 (by omega) j3
                omega
        · rw [cf_dis o ho s hs64] at hb
          refine nm_r (nI_1 s) ?_
          exact ih (s + 1) x3 (by omega) (by omega) (by omega) (ch_skip hI (fun z => hb z.2))
      · rw [cf_sub i hi s hs64] at ha
        refine nm_r (nI_1 s) ?_
        exact ih (s + 1) x3 (by omega) (by omega) (by omega) (ch_skip hI (fun z => ha z.1))
theorem ch_all {i o : Nat} (hcp : ∀ c, c < 36 → cp c = nI (C c) ∧ C c ≤ 31) (hi : i < 64) (ho : o < 64)
    (h1 : ∀ val, cf_min C (fun S => fl_A i o S ∧ cf_prop S) val → post (nI val)) (h0 : (∀ S, cf_prop S → fl_A i o S → False) → post (-1)) : wpY_cheapest post cp (nI i) (nI o) := by
  refine ⟨64, ch_5 hcp hi ho (fun x3 hI => ?_) 64 1 (-1) (by omega) (by omega) (by omega) (Or.inl ⟨rfl, fun k k1 k2 => by omega⟩)⟩
  rcases hI with ⟨e1, h2⟩ | ⟨val, e1, ⟨k, k1, k2, k3, k4⟩, h3⟩
  · subst e1
    refine h0 (fun S hS hA => ?_)
    have q := cf_mp hS
    exact h2 (cf_mk S) q.1 (by omega) (fl_mk hA)
  · subst e1
    refine h1 val ⟨⟨k.testBit, ⟨k3, cf_pm k1 (by omega)⟩, k4⟩, fun S hS => ?_⟩
    have q := cf_mp hS.2
    rw [← ct_mk C S]
    exact h3 (cf_mk S) q.1 (by omega) (fl_mk hS.1)
theorem ch_v {i o val : Nat} (hcp : ∀ c, c < 36 → cp c = nI (C c) ∧ C c ≤ 31) (hi : i < 64) (ho : o < 64)
    (hv : cf_min C (fun S => fl_A i o S ∧ cf_prop S) val) (hp : post (nI val)) : wpY_cheapest post cp (nI i) (nI o) := by
  refine ch_all hcp hi ho (fun val' h' => ?_) (fun h' => ?_)
  · rw [mn_u h' hv]; exact hp
  · obtain ⟨⟨S, hS, _⟩, _⟩ := hv
    exact (h' S hS.2 hS.1).elim
theorem ch_n {i o : Nat} (hcp : ∀ c, c < 36 → cp c = nI (C c) ∧ C c ≤ 31) (hi : i < 64) (ho : o < 64)
    (hv : ∀ S, cf_prop S → fl_A i o S → False) (hp : post (-1)) : wpY_cheapest post cp (nI i) (nI o) := by
  refine ch_all hcp hi ho (fun val' h' => ?_) (fun h' => hp)
  obtain ⟨⟨S, hS, _⟩, _⟩ := h'
  exact (hv S hS.2 hS.1).elim
theorem mn_0 {val : Nat} (h : cf_min C cf_prop val) : cf_min C (fun S => fl_A 0 0 S ∧ cf_prop S) val := by
  obtain ⟨⟨S, h1, h2⟩, h3⟩ := h
  exact ⟨⟨S, ⟨⟨fun a _ z => by simp at z, fun a _ z => by simp at z⟩, h1⟩, h2⟩, fun S hS => h3 S hS.2⟩
theorem yl_all {val : Nat} (hcp : ∀ c, c < 36 → cp c = nI (C c) ∧ C c ≤ 31) (hv : cf_min C cf_prop val) (hp : post (nI val)) : wpY_least post cp := by
  unfold wpY_least
  exact ch_v (i := 0) (o := 0) hcp (by decide) (by decide) (mn_0 hv) hp
theorem mn_pair {a b : Nat} (ha : a < 6) (hb : b < 6) (hab : a ≠ b) : cf_min C (fun S => fl_A (2 ^ a) (2 ^ b) S ∧ cf_prop S) (gh_f C a b) := by
  obtain ⟨⟨S, ⟨h1, h2⟩, h3⟩, h4⟩ := gh_min C hab
  refine ⟨⟨S, ⟨fl_pairA h1 h2, a, b, ha, hb, by rw [h1, h2]; decide⟩, h3⟩, fun T hT => ?_⟩
  exact h4 T (fl_pairB ha hb hT.1)
theorem yb_all {a b : Nat} (hcp : ∀ c, c < 36 → cp c = nI (C c) ∧ C c ≤ 31) (ha : a < 6) (hb : b < 6) (hab : a ≠ b) (hp : post (nI (gh_f C a b))) : wpY_between post cp (nI a) (nI b) := by
  unfold wpY_between
  refine cf_pairY (fun _ _ _ _ _ _ _ => br_f (by decide) ?_) (fun hn => absurd ⟨a, b, ha, hb, hab, rfl, rfl⟩ hn)
  rw [cf_one a ha, cf_one b hb]
  exact ch_v hcp (cf_onelt a ha) (cf_onelt b hb) (mn_pair ha hb hab) hp
theorem yb_bad {x y : Int32} (hn : ¬ cf_pr x y) (hp : post (-1)) : wpY_between post cp x y := by
  unfold wpY_between
  exact cf_pairY (fun a b ha hb hab ea eb => absurd ⟨a, b, ha, hb, hab, ea, eb⟩ hn) (fun _ => br_t rfl hp)
/-! core and reach -/
def co_B (C : Nat → Nat) (a b k : Nat) : Prop := 1 ≤ k ∧ k ≤ 62 ∧ k.testBit a = true ∧ k.testBit b = false ∧ cf_cut C k.testBit = gh_f C a b
theorem cf_andb : ∀ z, z < 64 → ∀ k, k < 64 → nI z &&& nI k = nI (z &&& k) ∧ z &&& k < 64 := by decide +kernel
theorem cf_orm : ∀ z, z < 64 → ∀ k, k < 64 → nI z ||| nI k = nI (z ||| k) ∧ z ||| k < 64 := by decide +kernel
theorem yk_19 {a b : Nat} (hcp : ∀ c, c < 36 → cp c = nI (C c) ∧ C c ≤ 31) (ha : a < 6) (hb : b < 6) (hab : a ≠ b)
    (hp : ∀ z, z < 64 → (∀ x, x < 6 → (z.testBit x = true ↔ ∀ k, co_B C a b k → k.testBit x = true)) → post (nI z)) :
    ∀ n s z, 63 - s < n → 1 ≤ s → s ≤ 63 → z < 64 → (∀ x, x < 6 → (z.testBit x = true ↔ ∀ k, k < s → co_B C a b k → k.testBit x = true)) →
      wY_core_19 post (nI a) (nI b) cp n (nI z) (nI s) := by
  intro n
  induction n with
  | zero => intro s z hn; omega
  | succ n ih =>
    intro s z hn h1s hs hz hI
    refine pk_lt 62 s (fun h => ?_) (fun h => ?_)
    · refine hp z hz (fun x hx => ?_)
      rw [hI x hx]
      exact ⟨fun q k hk => q k (by have := hk.2.1; omega) hk, fun q k _ hk => q k hk⟩
    · have hs64 : s < 64 := by omega
      have stay : (co_B C a b s → False) → wY_core_73 post (wY_core_19 post (nI a) (nI b) cp n) (nI a) (nI b) (nI z) (nI s) cp := by
        intro hno
        unfold wY_core_73 wY_core_74
        refine br_t rfl ?_
        refine nm_r (nI_1 s) ?_
        refine ih (s + 1) z (by omega) (by omega) (by omega) hz (fun x hx => ?_)
        rw [hI x hx]
        refine ⟨fun q k k1 k2 => ?_, fun q k k1 k2 => q k (by omega) k2⟩
        by_cases e : k = s
        · rw [e] at k2; exact (hno k2).elim
        · exact q k (by omega) k2
      refine cf_pairY (fun _ _ _ _ _ _ _ => br_f (by decide) ?_) (fun hn => absurd ⟨a, b, ha, hb, hab, rfl, rfl⟩ hn)
      cases ha1 : s.testBit a
      · exact br_f (by rw [cf_b0 hs64 ha ha1]; decide) (stay (fun q => by rw [q.2.2.1] at ha1; exact Bool.noConfusion ha1))
      · refine br_t (cf_b1 hs64 ha ha1) ?_
        cases hb1 : s.testBit b
        · refine br_t (cf_b0 hs64 hb hb1) ?_
          refine yc_all (C := C) (fun c hc => (hcp c hc).1) hs64 ?_
          refine yb_all hcp ha hb hab ?_
          have bd := ct_bd (fun c hc => (hcp c hc).2) s.testBit
          have bd2 := gh_bd (fun c hc => (hcp c hc).2) hab
          refine pk_eq (cf_cut C s.testBit) (gh_f C a b) (fun he => ?_) (fun hne => stay (fun q => hne q.2.2.2.2))
          unfold wY_core_74
          refine br_f (by decide) ?_
          refine nm_r (cf_andb z hz s hs64).1 ?_
          refine nm_r (nI_1 s) ?_
          refine ih (s + 1) (z &&& s) (by omega) (by omega) (by omega) (cf_andb z hz s hs64).2 (fun x hx => ?_)
          rw [Nat.testBit_and, Bool.and_eq_true, hI x hx]
          refine ⟨fun q k k1 k2 => ?_, fun q => ⟨fun k k1 k2 => q k (by omega) k2, q s (by omega) ⟨h1s, by omega, ha1, hb1, he⟩⟩⟩
          by_cases e : k = s
          · rw [e]; exact q.2
          · exact q.1 k (by omega) k2
        · exact br_f (by rw [cf_b1 hs64 hb hb1]; decide) (stay (fun q => by rw [q.2.2.2.1] at hb1; exact Bool.noConfusion hb1))
theorem yk_all {a b : Nat} (hcp : ∀ c, c < 36 → cp c = nI (C c) ∧ C c ≤ 31) (ha : a < 6) (hb : b < 6) (hab : a ≠ b)
    (hp : ∀ z, z < 64 → (∀ x, x < 6 → (z.testBit x = true ↔ ∀ k, co_B C a b k → k.testBit x = true)) → post (nI z)) : wpY_core post cp (nI a) (nI b) := by
  unfold wpY_core
  refine cf_pairY (fun _ _ _ _ _ _ _ => br_f (by decide) ⟨64, ?_⟩) (fun hn => absurd ⟨a, b, ha, hb, hab, rfl, rfl⟩ hn)
  refine yk_19 hcp ha hb hab hp 64 1 63 (by omega) (by omega) (by omega) (by decide) (fun x hx => ?_)
  rw [cf_63 x hx]
  exact ⟨fun _ k k1 k2 => by have := k2.1; omega, fun _ => rfl⟩
theorem yk_bad {x y : Int32} (hn : ¬ cf_pr x y) (hp : post 0) : wpY_core post cp x y := by
  unfold wpY_core
  refine cf_pairY (fun a b ha hb hab ea eb => absurd ⟨a, b, ha, hb, hab, ea, eb⟩ hn) (fun _ => br_t rfl ⟨1, ?_⟩)
  refine br_f (by decide) ?_
  exact cf_pairY (fun a b ha hb hab ea eb => absurd ⟨a, b, ha, hb, hab, ea, eb⟩ hn) (fun _ => br_t rfl hp)
theorem yr_5 {a b : Nat} (hcp : ∀ c, c < 36 → cp c = nI (C c) ∧ C c ≤ 31) (ha : a < 6) (hb : b < 6) (hab : a ≠ b)
    (hp : ∀ z, z < 64 → (∀ x, x < 6 → (z.testBit x = true ↔ ∃ k, co_B C a b k ∧ k.testBit x = true)) → post (nI z)) :
    ∀ n s z, 63 - s < n → 1 ≤ s → s ≤ 63 → z < 64 → (∀ x, x < 6 → (z.testBit x = true ↔ ∃ k, k < s ∧ co_B C a b k ∧ k.testBit x = true)) →
      wY_reach_5 post (nI a) (nI b) cp n (nI z) (nI s) := by
  intro n
  induction n with
  | zero => intro s z hn; omega
  | succ n ih =>
    intro s z hn h1s hs hz hI
    refine pk_lt 62 s (fun h => ?_) (fun h => ?_)
    · refine hp z hz (fun x hx => ?_)
      rw [hI x hx]
      exact ⟨fun ⟨k, _, q⟩ => ⟨k, q⟩, fun ⟨k, q⟩ => ⟨k, by have := q.1.2.1; omega, q⟩⟩
    · have hs64 : s < 64 := by omega
      have stay : (co_B C a b s → False) → wY_reach_59 post (wY_reach_5 post (nI a) (nI b) cp n) (nI a) (nI b) (nI z) (nI s) cp := by
        intro hno
        unfold wY_reach_59 wY_reach_60
        refine br_t rfl ?_
        refine nm_r (nI_1 s) ?_
        refine ih (s + 1) z (by omega) (by omega) (by omega) hz (fun x hx => ?_)
        rw [hI x hx]
        refine ⟨fun ⟨k, k1, q⟩ => ⟨k, by omega, q⟩, fun ⟨k, k1, q⟩ => ⟨k, ?_, q⟩⟩
        by_cases e : k = s
        · rw [e] at q; exact (hno q.1).elim
        · omega
      refine cf_pairY (fun _ _ _ _ _ _ _ => br_f (by decide) ?_) (fun hn => absurd ⟨a, b, ha, hb, hab, rfl, rfl⟩ hn)
      cases ha1 : s.testBit a
      · exact br_f (by rw [cf_b0 hs64 ha ha1]; decide) (stay (fun q => by rw [q.2.2.1] at ha1; exact Bool.noConfusion ha1))
      · refine br_t (cf_b1 hs64 ha ha1) ?_
        cases hb1 : s.testBit b
        · refine br_t (cf_b0 hs64 hb hb1) ?_
          refine yc_all (C := C) (fun c hc => (hcp c hc).1) hs64 ?_
          refine yb_all hcp ha hb hab ?_
          have bd := ct_bd (fun c hc => (hcp c hc).2) s.testBit
          have bd2 := gh_bd (fun c hc => (hcp c hc).2) hab
          refine pk_eq (cf_cut C s.testBit) (gh_f C a b) (fun he => ?_) (fun hne => stay (fun q => hne q.2.2.2.2))
          unfold wY_reach_60
          refine br_f (by decide) ?_
          refine nm_r (cf_orm z hz s hs64).1 ?_
          refine nm_r (nI_1 s) ?_
          refine ih (s + 1) (z ||| s) (by omega) (by omega) (by omega) (cf_orm z hz s hs64).2 (fun x hx => ?_)
          rw [Nat.testBit_or, Bool.or_eq_true, hI x hx]
          refine ⟨fun q => ?_, fun ⟨k, k1, k2, k3⟩ => ?_⟩
          · rcases q with ⟨k, k1, q⟩ | q
            · exact ⟨k, by omega, q⟩
            · exact ⟨s, by omega, ⟨h1s, by omega, ha1, hb1, he⟩, q⟩
          · by_cases e : k = s
            · rw [e] at k3; exact Or.inr k3
            · exact Or.inl ⟨k, by omega, k2, k3⟩
        · exact br_f (by rw [cf_b1 hs64 hb hb1]; decide) (stay (fun q => by rw [q.2.2.2.1] at hb1; exact Bool.noConfusion hb1))
theorem yr_all {a b : Nat} (hcp : ∀ c, c < 36 → cp c = nI (C c) ∧ C c ≤ 31) (ha : a < 6) (hb : b < 6) (hab : a ≠ b)
    (hp : ∀ z, z < 64 → (∀ x, x < 6 → (z.testBit x = true ↔ ∃ k, co_B C a b k ∧ k.testBit x = true)) → post (nI z)) : wpY_reach post cp (nI a) (nI b) := by
  refine ⟨64, yr_5 hcp ha hb hab hp 64 1 0 (by omega) (by omega) (by omega) (by decide) (fun x hx => ?_)⟩
  simp
theorem yr_bad {x y : Int32} (hn : ¬ cf_pr x y) (hp : post 0) : wpY_reach post cp x y := by
  refine ⟨1, br_f (by decide) ?_⟩
  exact cf_pairY (fun a b ha hb hab ea eb => absurd ⟨a, b, ha, hb, hab, ea, eb⟩ hn) (fun _ => br_t rfl hp)
end
end
section
/-! the component's cost, between, leastAgainst, leastSide, pairs and groups; the reference's beside them -/
theorem sm_succ (f : Nat → Nat) (n : Nat) : sm_s f (n + 1) = sm_s f n + f n := rfl
theorem cf_cmp {m k a : Nat} (hm : m < 64) (hk : k < 64) (ha : a < 6) (h1 : m.testBit a = false) (h2 : k.testBit a = true) (h3 : ∀ j, j < 6 → a < j → m.testBit j = k.testBit j) : m < k := by
  have em : cf_mk m.testBit = m := cf_ext _ (cf_mklt _) m hm (fun x hx => cf_mkb _ hx)
  have ek : cf_mk k.testBit = k := cf_ext _ (cf_mklt _) k hk (fun x hx => cf_mkb _ hx)
  unfold cf_mk at em ek
  have l0 := Bool.toNat_le (m.testBit 0)
  have l1 := Bool.toNat_le (m.testBit 1)
  have l2 := Bool.toNat_le (m.testBit 2)
  have l3 := Bool.toNat_le (m.testBit 3)
  have l4 := Bool.toNat_le (m.testBit 4)
  have key : ∀ j, j < 6 → a < j → (m.testBit j).toNat = (k.testBit j).toNat := fun j x y => by rw [h3 j x y]
  have e1 : (m.testBit a).toNat = 0 := by rw [h1]; rfl
  have e2 : (k.testBit a).toNat = 1 := by rw [h2]; rfl
  have k1 := key 1 (by decide)
  have k2 := key 2 (by decide)
  have k3 := key 3 (by decide)
  have k4 := key 4 (by decide)
  have k5 := key 5 (by decide)
  have ca : a = 0 ∨ a = 1 ∨ a = 2 ∨ a = 3 ∨ a = 4 ∨ a = 5 := by omega
  rcases ca with rfl | rfl | rfl | rfl | rfl | rfl <;> omega
section
variable {post : Int32 → Prop} {f : Int32} {cp rm ff ln jn ti ab st : Nat → Int32} {C : Nat → Nat}
theorem xc_26 {J17 : Int32 → Int32 → Prop} {m a : Nat} (hcp : ∀ c, c < 36 → cp c = nI (C c)) (hm : m < 64) (ha : a < 6)
    (hJ : ∀ s, s = sm_s (fun c => cf_i (m.testBit (c / 6) && !m.testBit (c % 6)) (C c)) (6 * (a + 1)) → J17 (nI s) (nI (a + 1))) :
    ∀ n b s, 6 - b < n → b ≤ 6 → s = sm_s (fun c => cf_i (m.testBit (c / 6) && !m.testBit (c % 6)) (C c)) (6 * a + b) → wX_cost_26 post J17 (nI m) (nI a) f cp rm ff ln jn ti ab st n (nI s) (nI b) := by
  intro n
  induction n with
  | zero => intro b s hn; omega
  | succ n ih =>
    intro b s hn hb hs
    refine pk_le 6 b (fun h => ?_) (fun h => ?_)
    · have e : b = 6 := by omega
      subst e
      refine nm_r (nI_1 a) ?_
      exact hJ s hs
    · have nx : sm_s (fun c => cf_i (m.testBit (c / 6) && !m.testBit (c % 6)) (C c)) (6 * a + (b + 1)) = s + cf_i (m.testBit a && !m.testBit b) (C (6 * a + b)) := by
        rw [hs, show 6 * a + (b + 1) = 6 * a + b + 1 from rfl, sm_succ]
        rw [show (6 * a + b) / 6 = a by omega, show (6 * a + b) % 6 = b by omega]
      refine cf_in hm ha (fun h1 => ?_) (fun h1 => ?_)
      · refine br_f (by decide) ?_
        refine cf_in hm h (fun h2 => ?_) (fun h2 => ?_)
        · refine br_f (by decide) ?_
          refine nm_r (e' := nI s) (Int32.add_zero _) ?_
          refine nm_r (nI_1 b) ?_
          exact ih (b + 1) s (by omega) (by omega) (by rw [nx, h1, h2]; rfl)
        · refine br_t rfl ?_
          rw [cf_ix, cf_cl ha h, hcp _ (by omega)]
          refine ⟨cf_vin ha h, ?_⟩
          refine nm_r (nI_add _ _) ?_
          refine nm_r (nI_1 b) ?_
          exact ih (b + 1) _ (by omega) (by omega) (by rw [nx, h1, h2]; rfl)
      · refine br_t rfl ?_
        refine nm_r (e' := nI s) (Int32.add_zero _) ?_
        refine nm_r (nI_1 b) ?_
        exact ih (b + 1) s (by omega) (by omega) (by rw [nx, h1]; rfl)
theorem xc_17 {m : Nat} (hcp : ∀ c, c < 36 → cp c = nI (C c)) (hm : m < 64) (hp : post (nI (cf_cut C m.testBit))) :
    ∀ n a s, 6 - a < n → a ≤ 6 → s = sm_s (fun c => cf_i (m.testBit (c / 6) && !m.testBit (c % 6)) (C c)) (6 * a) → wX_cost_17 post (nI m) f cp rm ff ln jn ti ab st n (nI s) (nI a) := by
  intro n
  induction n with
  | zero => intro a s hn; omega
  | succ n ih =>
    intro a s hn ha hs
    refine pk_le 6 a (fun h => ?_) (fun h => ?_)
    · have e : a = 6 := by omega
      subst e
      subst hs
      exact hp
    · exact ⟨7, xc_26 hcp hm h (fun s hs => ih (a + 1) s (by omega) (by omega) hs) 7 0 s (by omega) (by omega) hs⟩
end
section
variable {post : Int32 → SX → Prop} {cp jn ti ab st : Nat → Int32} {C : Nat → Nat}
theorem xb_all {f : Int32} {rm ff ln : Nat → Int32} {a b : Nat} (hg : cf_gd 31 C cp) (ha : a < 6) (hb : b < 6) (hab : a ≠ b)
    (hp : ∀ m rm ff ln, fl_R C (2 ^ a) (2 ^ b) m (gh_f C a b) → post (nI (gh_f C a b)) (nI m, cp, rm, ff, ln, jn, ti, ab, st)) : wpX_between post (f, cp, rm, ff, ln, jn, ti, ab, st) (nI a) (nI b) := by
  unfold wpX_between
  dsimp only
  refine cf_isPair (fun _ _ _ _ _ _ _ => br_f (by decide) ?_) (fun hn => absurd ⟨a, b, ha, hb, hab, rfl, rfl⟩ hn)
  rw [cf_one a ha, cf_one b hb]
  refine fl_all hg (cf_onelt a ha) (cf_onelt b hb) (fl_dis hab) (fun m rm ff ln s hR => ?_)
  obtain ⟨rfl, _, _⟩ := fl_pair ha hb hab hR
  exact hp m rm ff ln hR
theorem xk_all {f : Int32} {rm ff ln : Nat → Int32} {a b : Nat} (hg : cf_gd 31 C cp) (ha : a < 6) (hb : b < 6) (hab : a ≠ b)
    (hp : ∀ m rm ff ln, fl_R C (2 ^ a) (2 ^ b) m (gh_f C a b) → post (nI m) (nI m, cp, rm, ff, ln, jn, ti, ab, st)) : wpX_core post (f, cp, rm, ff, ln, jn, ti, ab, st) (nI a) (nI b) := by
  unfold wpX_core
  dsimp only
  refine cf_isPair (fun _ _ _ _ _ _ _ => br_f (by decide) ?_) (fun hn => absurd ⟨a, b, ha, hb, hab, rfl, rfl⟩ hn)
  rw [cf_one a ha, cf_one b hb]
  refine fl_all hg (cf_onelt a ha) (cf_onelt b hb) (fl_dis hab) (fun m rm ff ln s hR => ?_)
  obtain ⟨rfl, _, _⟩ := fl_pair ha hb hab hR
  exact hp m rm ff ln hR
/-! leastAgainst -/
def la_I (C : Nat → Nat) (w b best : Nat) : Prop :=
  best ≤ 1048576 ∧ (best = 1048576 ∨ ∃ S, (fl_A w 0 S ∧ cf_prop S) ∧ cf_cut C S = best) ∧
  ∀ u, u < b → ∀ S : Nat → Bool, fl_A w 0 S → S u = false → best ≤ cf_cut C S
theorem la_5 {w : Nat} (hg : cf_gd 31 C cp) (hw : w < 64) (hw0 : w ≠ 0) (hw63 : w ≠ 63)
    (hp : ∀ f rm ff ln val, cf_min C (fun S => fl_A w 0 S ∧ cf_prop S) val → post (nI val) (f, cp, rm, ff, ln, jn, ti, ab, st)) :
    ∀ n b best f rm ff ln, 6 - b < n → b ≤ 6 → la_I C w b best → wX_leastAgainst_5 post (nI w) n (nI best) (nI b) f cp rm ff ln jn ti ab st := by
  intro n
  induction n with
  | zero => intro b best f rm ff ln hn; omega
  | succ n ih =>
    intro b best f rm ff ln hn hb hI
    obtain ⟨i1, i2, i3⟩ := hI
    refine pk_le 6 b (fun h => ?_) (fun h => ?_)
    · have e : b = 6 := by omega
      subst e
      have low : ∀ S, fl_A w 0 S ∧ cf_prop S → best ≤ cf_cut C S := by
        intro S hS
        obtain ⟨a, b, ha, hb, hab⟩ := hS.2
        cases h1 : S a
        · exact i3 a ha S hS.1 h1
        · cases h2 : S b
          · exact i3 b hb S hS.1 h2
          · rw [h1, h2] at hab; exact absurd rfl hab
      refine hp f rm ff ln best ⟨?_, low⟩
      rcases i2 with z | z
      · obtain ⟨u, hu, eu⟩ := cf_ne63 w hw hw63
        have k := i3 u hu w.testBit ⟨fun _ _ q => q, fun _ _ q => by simp at q⟩ eu
        have bd := ct_bd (fun c hc => (hg.1 c hc).2) w.testBit
        omega
      · exact z
    · refine cf_in hw h (fun hin => ?_) (fun hin => ?_)
      · refine br_f (by decide) ?_
        unfold wX_leastAgainst_32
        refine br_t (nI_le (b := 1048576) i1 (by decide)) ?_
        refine nm_r (nI_1 b) ?_
        refine ih (b + 1) best f rm ff ln (by omega) (by omega) ⟨i1, i2, fun u hu S hS hSu => ?_⟩
        by_cases e : u = b
        · rw [e] at hSu
          rw [hS.1 b h hin] at hSu
          exact Bool.noConfusion hSu
        · exact i3 u (by omega) S hS hSu
      · refine br_t rfl ?_
        rw [cf_one b h]
        have hd : sp_N (2 ^ b) w := by
          intro x _ hx
          rw [cf_powb]
          by_cases e : x = b
          · rw [e, hin] at hx; exact Bool.noConfusion hx
          · simp [e]
        refine fl_all hg hw (cf_onelt b h) hd (fun m rm ff ln s hR => ?_)
        obtain ⟨r1, r2, r3, r4, r5⟩ := hR
        have hmb : m.testBit b = false := r2.2 b h (by rw [cf_powb]; simp)
        obtain ⟨a, ha, ea⟩ := cf_ne0 w hw hw0
        have hma : m.testBit a = true := r2.1 a ha ea
        have bd := ct_bd (fun c hc => (hg.1 c hc).2) m.testBit
        have low : ∀ S : Nat → Bool, fl_A w 0 S → S b = false → s ≤ cf_cut C S := by
          intro S hS hSb
          refine r4 S ⟨hS.1, fun x _ hx => ?_⟩
          rw [cf_powb] at hx
          rw [of_decide_eq_true hx]; exact hSb
        unfold wX_leastAgainst_32
        refine pk_le best s (fun hle => ?_) (fun hgt => ?_)
        · refine nm_r (nI_1 b) ?_
          refine ih (b + 1) best _ _ _ _ (by omega) (by omega) ⟨i1, i2, fun u hu S hS hSu => ?_⟩
          by_cases e : u = b
          · rw [e] at hSu
            have := low S hS hSu
            omega
          · exact i3 u (by omega) S hS hSu
        · refine nm_r (nI_1 b) ?_
          refine ih (b + 1) s _ _ _ _ (by omega) (by omega) ⟨by omega, Or.inr ⟨m.testBit, ⟨⟨r2.1, fun _ _ q => by simp at q⟩, a, b, ha, h, by rw [hma, hmb]; decide⟩, r3⟩, fun u hu S hS hSu => ?_⟩
          by_cases e : u = b
          · rw [e] at hSu
            exact low S hS hSu
          · have := i3 u (by omega) S hS hSu
            omega
theorem la_all {f : Int32} {rm ff ln : Nat → Int32} {w : Nat} (hg : cf_gd 31 C cp) (hw : w < 64) (hw0 : w ≠ 0) (hw63 : w ≠ 63)
    (hp : ∀ f rm ff ln val, cf_min C (fun S => fl_A w 0 S ∧ cf_prop S) val → post (nI val) (f, cp, rm, ff, ln, jn, ti, ab, st)) :
    wpX_leastAgainst post (f, cp, rm, ff, ln, jn, ti, ab, st) (nI w) :=
  ⟨7, la_5 hg hw hw0 hw63 hp 7 0 1048576 f rm ff ln (by omega) (by omega) ⟨Nat.le_refl _, Or.inl rfl, fun u hu => by omega⟩⟩
/-! leastSide -/
def ls_K (C : Nat → Nat) (val K : Nat) : Prop :=
  1 ≤ K ∧ K ≤ 62 ∧ K.testBit 0 = true ∧ cf_cut C K.testBit = val ∧ ∀ k, 1 ≤ k → k < K → k.testBit 0 = true → cf_cut C k.testBit = val → False
theorem ls_ex {val : Nat} (hC : cf_sym C) (hv : cf_min C cf_prop val) : ∃ K, ls_K C val K := by
  obtain ⟨⟨S, hS, hc⟩, _⟩ := hv
  have key : ∃ K : Nat, 1 ≤ K ∧ K ≤ 62 ∧ K.testBit 0 = true ∧ cf_cut C K.testBit = val := by
    cases h0 : S 0
    · have hS' : cf_prop (fun a => !S a) := by
        obtain ⟨a, b, ha, hb, hab⟩ := hS
        refine ⟨a, b, ha, hb, fun z => hab ?_⟩
        dsimp only at z
        cases h1 : S a <;> cases h2 : S b <;> simp [h1, h2] at z ⊢
      have q := cf_mp hS'
      refine ⟨cf_mk (fun a => !S a), q.1, q.2, ?_, ?_⟩
      · rw [cf_mkb _ (by decide), h0]; rfl
      · rw [ct_mk, ct_neg hC, hc]
    · have q := cf_mp hS
      exact ⟨cf_mk S, q.1, q.2, by rw [cf_mkb _ (by decide), h0], by rw [ct_mk, hc]⟩
  obtain ⟨K, ⟨k1, k2, k3, k4⟩, k5⟩ := mn_least _ key
  exact ⟨K, k1, k2, k3, k4, fun k j1 j2 j3 j4 => k5 k j2 ⟨j1, by omega, j3, j4⟩⟩
theorem ls_12 {val K : Nat} (hg : cf_gd 31 C cp) (hv : cf_min C cf_prop val) (hK : ls_K C val K) (hp : ∀ f rm ff ln, post (nI K) (f, cp, rm, ff, ln, jn, ti, ab, st)) :
    ∀ n a I O f rm ff ln, a < n → a ≤ 5 → I < 64 → O < 64 → I.testBit 0 = true → (∀ x, x < 6 → a < x → I.testBit x = true ∨ O.testBit x = true) → (∀ x, x < 6 → 1 ≤ x → x ≤ a → I.testBit x = false) → sp_N O I → fl_A I O K.testBit →
      wX_leastSide_12 post (nI val) n (nI I) (nI O) (nI a) f cp rm ff ln jn ti ab st := by
  obtain ⟨K1, K2, K3, K4, K5⟩ := hK
  have bdv : val ≤ 1116 := by
    rw [← K4]
    have := ct_bd (fun c hc => (hg.1 c hc).2) K.testBit
    omega
  intro n
  induction n with
  | zero => intro a I O f rm ff ln hn; omega
  | succ n ih =>
    intro a I O f rm ff ln hn ha hI hO h0 hx hy hd hA
    refine pk_le a 0 (fun h => ?_) (fun h => ?_)
    · have e : I = K := by
        refine cf_ext I hI K (by omega) (fun x hx6 => ?_)
        by_cases e0 : x = 0
        · rw [e0, h0, K3]
        · cases h1 : I.testBit x
          · have h2 := (hx x hx6 (by omega)).resolve_left (by rw [h1]; decide)
            rw [hA.2 x hx6 h2]
          · rw [hA.1 x hx6 h1]
      rw [e]
      exact hp f rm ff ln
    · have ha6 : a < 6 := by omega
      have hIa : I.testBit a = false := hy a ha6 (by omega) (Nat.le_refl a)
      have hor := cf_or O hO a ha6
      rw [hor]
      have hOr := cf_orlt O hO a ha6
      have hd' : sp_N (O ||| 2 ^ a) I := by
        intro x hx6 h1
        rw [cf_orb]
        by_cases e : x = a
        · rw [e, hIa] at h1; exact Bool.noConfusion h1
        · rw [hd x hx6 h1]; simp [e]
      refine fl_all hg hI hOr hd' (fun m rm ff ln s hR => ?_)
      obtain ⟨r1, r2, r3, r4, r5⟩ := hR
      have bds := ct_bd (fun c hc => (hg.1 c hc).2) m.testBit
      have hm0 : m.testBit 0 = true := r2.1 0 (by decide) h0
      have hma : m.testBit a = false := r2.2 a ha6 (by rw [cf_orb]; simp)
      have hpm : cf_prop m.testBit := ⟨0, a, by decide, ha6, by rw [hm0, hma]; decide⟩
      refine pk_eq s val (fun he => ?_) (fun hne => ?_)
      · have hKa : K.testBit a = false := by
          cases z : K.testBit a
          · rfl
          · exfalso
            have q := cf_mp hpm
            have hm1 : 1 ≤ m := by
              refine Classical.byContradiction fun y => ?_
              have e : m = 0 := by omega
              rw [e] at hm0; simp at hm0
            have lt : m < K := by
              refine cf_cmp r1 (by omega) ha6 hma z (fun j y hj => ?_)
              rcases hx j y hj with w | w
              · rw [r2.1 j y w, hA.1 j y w]
              · rw [r2.2 j y (by rw [cf_orb, w]; rfl), hA.2 j y w]
            exact K5 m hm1 lt hm0 (by rw [r3, he])
        refine nm_e ?_
        refine nm_r (e' := nI (a - 1)) (by rw [show a = a - 1 + 1 by omega, pk_m1]; rfl) ?_
        refine ih (a - 1) I (O ||| 2 ^ a) _ _ _ _ (by omega) (by omega) hI hOr h0 (fun x x1 x2 => ?_) (fun x x1 x2 x3 => hy x x1 x2 (by omega)) hd' ⟨hA.1, fun x x1 x2 => ?_⟩
        · by_cases e : x = a
          · right; rw [e, cf_orb]; simp
          · rcases hx x x1 (by omega) with w | w
            · exact Or.inl w
            · right; rw [cf_orb, w]; rfl
        · by_cases e : x = a
          · rw [e]; exact hKa
          · rw [cf_orb] at x2
            simp [e] at x2
            exact hA.2 x x1 x2
      · have hKa : K.testBit a = true := by
          cases z : K.testBit a
          · exfalso
            have k1 := r4 K.testBit ⟨hA.1, fun x x1 x2 => by
              by_cases e : x = a
              · rw [e]; exact z
              · rw [cf_orb] at x2
                simp [e] at x2
                exact hA.2 x x1 x2⟩
            have k2 := hv.2 m.testBit hpm
            omega
          · rfl
        refine nm_r (cf_or I hI a ha6) ?_
        refine nm_r (e' := nI (a - 1)) (by rw [show a = a - 1 + 1 by omega, pk_m1]; rfl) ?_
        refine ih (a - 1) (I ||| 2 ^ a) O _ _ _ _ (by omega) (by omega) (cf_orlt I hI a ha6) hO (by rw [cf_orb, h0]; rfl) (fun x x1 x2 => ?_) (fun x x1 x2 x3 => ?_) (fun x x1 x2 => ?_) ⟨fun x x1 x2 => ?_, hA.2⟩
        · by_cases e : x = a
          · left; rw [e, cf_orb]; simp
          · rcases hx x x1 (by omega) with w | w
            · left; rw [cf_orb, w]; rfl
            · exact Or.inr w
        · rw [cf_orb, hy x x1 x2 (by omega)]
          have e : ¬ x = a := by omega
          simp [e]
        · by_cases e : x = a
          · cases w : O.testBit x
            · rfl
            · rw [e] at w
              rw [hA.2 a ha6 w] at hKa; exact Bool.noConfusion hKa
          · rw [cf_orb] at x2
            simp [e] at x2
            exact hd x x1 x2
        · by_cases e : x = a
          · rw [e]; exact hKa
          · rw [cf_orb] at x2
            simp [e] at x2
            exact hA.1 x x1 x2
end
theorem ys_9 {post : Int32 → Prop} {cp : Nat → Int32} {C : Nat → Nat} {val K : Nat} (hcp : ∀ c, c < 36 → cp c = nI (C c) ∧ C c ≤ 31) (hK : ls_K C val K) (hp : post (nI K)) :
    ∀ n s, 63 - s < n → 1 ≤ s → s ≤ K → wY_leastSide_9 post (nI val) cp n (nI s) := by
  obtain ⟨K1, K2, K3, K4, K5⟩ := hK
  have bdv : val ≤ 1116 := by
    rw [← K4]
    have := ct_bd (fun c hc => (hcp c hc).2) K.testBit
    omega
  intro n
  induction n with
  | zero => intro s hn; omega
  | succ n ih =>
    intro s hn h1 hs
    refine pk_lt 62 s (fun h => by omega) (fun h => ?_)
    refine br_c (fun ho => ?_) (fun ho => ?_)
    · rw [cf_odd s (by omega)] at ho
      refine yc_all (C := C) (fun c hc => (hcp c hc).1) (by omega) ?_
      have bd := ct_bd (fun c hc => (hcp c hc).2) s.testBit
      refine pk_eq (cf_cut C s.testBit) val (fun he => ?_) (fun hne => ?_)
      · have e : s = K := by
          refine Classical.byContradiction fun z => K5 s h1 (by omega) ho he
        rw [e]; exact hp
      · refine nm_r (nI_1 s) ?_
        have e : s ≠ K := by intro z; rw [z] at hne; exact hne K4
        exact ih (s + 1) (by omega) (by omega) (by omega)
    · rw [cf_odd s (by omega)] at ho
      refine nm_r (nI_1 s) ?_
      have e : s ≠ K := by intro z; rw [z] at ho; exact ho K3
      exact ih (s + 1) (by omega) (by omega) (by omega)
/-! how many pairs -/
noncomputable def pa_g (C : Nat → Nat) (x : Int32) (c : Nat) : Nat := cf_i (decide (c / 6 < c % 6) && !decide (nI (gh_f C (c / 6) (c % 6)) < x)) 1
theorem pa_g1 {C : Nat → Nat} {x : Int32} {a b : Nat} (hb : b < 6) (h : a < b) : pa_g C x (6 * a + b) = cf_i (!decide (nI (gh_f C a b) < x)) 1 := by
  unfold pa_g
  rw [show (6 * a + b) / 6 = a by omega, show (6 * a + b) % 6 = b by omega]
  simp [h]
theorem pa_g0 {C : Nat → Nat} {x : Int32} {a b : Nat} (hb : b < 6) (h : b ≤ a) : pa_g C x (6 * a + b) = 0 := by
  unfold pa_g
  rw [show (6 * a + b) / 6 = a by omega, show (6 * a + b) % 6 = b by omega]
  have h' : ¬ a < b := by omega
  simp [h', ci_f]
section
variable {post : Int32 → SX → Prop} {f : Int32} {cp rm ff ln jn ti ab st : Nat → Int32} {C : Nat → Nat} {p : Nat → Nat} {x1 : Int32}
theorem pa_19 {J8 : Int32 → Int32 → Prop} {a : Nat} (hC : cf_sym C) (hb31 : ∀ c, c < 36 → C c ≤ 31) (hT : gr_T C p ab st) (ha : a < 6)
    (hJ : J8 (nI (sm_s (pa_g C x1) (6 * (a + 1)))) (nI (a + 1))) :
    ∀ n b s, 6 - b < n → a < b → b ≤ 6 → s = sm_s (pa_g C x1) (6 * a + b) → wX_pairsAtLeast_19 post J8 x1 (nI a) f cp rm ff ln jn ti ab st n (nI s) (nI b) := by
  intro n
  induction n with
  | zero => intro b s hn; omega
  | succ n ih =>
    intro b s hn hab hb hs
    refine pk_le 6 b (fun h => ?_) (fun h => ?_)
    · have e : b = 6 := by omega
      subst e
      refine nm_r (nI_1 a) ?_
      rw [hs]; exact hJ
    · have nx : sm_s (pa_g C x1) (6 * a + (b + 1)) = s + cf_i (!decide (nI (gh_f C a b) < x1)) 1 := by
        rw [hs, ← pa_g1 h hab]; rfl
      refine ot_all hC hb31 hT ha h ?_
      refine br_c (fun hlt => ?_) (fun hge => ?_)
      · refine nm_r (e' := nI s) (Int32.add_zero _) ?_
        refine nm_r (nI_1 b) ?_
        exact ih (b + 1) s (by omega) (by omega) (by omega) (by rw [nx, decide_eq_true hlt]; rfl)
      · refine nm_r (nI_1 s) ?_
        refine nm_r (nI_1 b) ?_
        exact ih (b + 1) (s + 1) (by omega) (by omega) (by omega) (by rw [nx, decide_eq_false hge]; rfl)
theorem pa_8 (hC : cf_sym C) (hb31 : ∀ c, c < 36 → C c ≤ 31) (hT : gr_T C p ab st) (hp : post (nI (sm_s (pa_g C x1) 36)) (f, cp, rm, ff, ln, jn, ti, ab, st)) :
    ∀ n a s, 6 - a < n → a ≤ 6 → s = sm_s (pa_g C x1) (6 * a) → wX_pairsAtLeast_8 post x1 f cp rm ff ln jn ti ab st n (nI s) (nI a) := by
  intro n
  induction n with
  | zero => intro a s hn; omega
  | succ n ih =>
    intro a s hn ha hs
    refine pk_le 6 a (fun h => ?_) (fun h => ?_)
    · have e : a = 6 := by omega
      subst e
      rw [hs]; exact hp
    · refine nm_r (nI_1 a) ⟨7, ?_⟩
      refine pa_19 hC hb31 hT h (ih (a + 1) _ (by omega) (by omega) rfl) 7 (a + 1) s (by omega) (by omega) (by omega) ?_
      rw [hs]
      exact (sm_tail (fun i hi => pa_g0 (by omega) (by omega))).symm
end
theorem yp_4 {post : Int32 → Prop} {cp : Nat → Int32} {C : Nat → Nat} {x1 : Int32} (hcp : ∀ c, c < 36 → cp c = nI (C c) ∧ C c ≤ 31) (hp : post (nI (sm_s (pa_g C x1) 36))) :
    ∀ n c s, 36 - c < n → c ≤ 36 → s = sm_s (pa_g C x1) c → wY_pairsAtLeast_4 post x1 cp n (nI s) (nI c) := by
  intro n
  induction n with
  | zero => intro c s hn; omega
  | succ n ih =>
    intro c s hn hc hs
    refine pk_le 36 c (fun h => ?_) (fun h => ?_)
    · have e : c = 36 := by omega
      subst e
      rw [hs]; exact hp
    · have q1 : c / 6 < 6 := by omega
      have q2 : c % 6 < 6 := by omega
      have nx : sm_s (pa_g C x1) (c + 1) = s + pa_g C x1 c := by rw [hs]; rfl
      rw [cf_r6 h, cf_d6 h]
      refine ⟨by decide, by decide, ?_⟩
      refine pk_le (c % 6) (c / 6) (fun hle => ?_) (fun hlt => ?_)
      · refine nm_r (nI_1 c) ?_
        refine ih (c + 1) s (by omega) (by omega) ?_
        have k := pa_g0 (C := C) (x := x1) q2 hle
        rw [show 6 * (c / 6) + c % 6 = c by omega] at k
        rw [nx, k]; rfl
      · refine ⟨by decide, by decide, ?_⟩
        have k := pa_g1 (C := C) (x := x1) q2 hlt
        rw [show 6 * (c / 6) + c % 6 = c by omega] at k
        refine yb_all hcp q1 q2 (by omega) ?_
        refine br_c (fun hl => ?_) (fun hge => ?_)
        · refine nm_r (nI_1 c) ?_
          exact ih (c + 1) s (by omega) (by omega) (by rw [nx, k, decide_eq_true hl]; rfl)
        · refine nm_r (nI_1 s) ?_
          refine nm_r (nI_1 c) ?_
          exact ih (c + 1) (s + 1) (by omega) (by omega) (by rw [nx, k, decide_eq_false hge]; rfl)
/-! groups -/
noncomputable def gp_q (C : Nat → Nat) (a : Nat) (x : Int32) : Nat → Nat
  | 0 => 2 ^ a
  | b + 1 => if b = a ∨ nI (gh_f C a b) < x then gp_q C a x b else gp_q C a x b ||| 2 ^ b
theorem gp_lt {C : Nat → Nat} {a : Nat} {x : Int32} (ha : a < 6) : ∀ b, b ≤ 6 → gp_q C a x b < 64
  | 0, _ => cf_onelt a ha
  | b + 1, h => by
    have k := gp_lt (C := C) (x := x) ha b (by omega)
    unfold gp_q
    split
    · exact k
    · exact cf_orlt _ k b (by omega)
theorem gp_20 {post : Int32 → SX → Prop} {f : Int32} {cp rm ff ln jn ti ab st : Nat → Int32} {C : Nat → Nat} {p : Nat → Nat} {x2 : Int32} {a : Nat} (hC : cf_sym C) (hb31 : ∀ c, c < 36 → C c ≤ 31) (hT : gr_T C p ab st) (ha : a < 6)
    (hp : post (nI (gp_q C a x2 6)) (f, cp, rm, ff, ln, jn, ti, ab, st)) :
    ∀ n b, 6 - b < n → b ≤ 6 → wX_group_20 post (nI a) x2 f cp rm ff ln jn ti ab st n (nI (gp_q C a x2 b)) (nI b) := by
  intro n
  induction n with
  | zero => intro b hn; omega
  | succ n ih =>
    intro b hn hb
    refine pk_le 6 b (fun h => ?_) (fun h => ?_)
    · have e : b = 6 := by omega
      subst e
      exact hp
    · refine ot_all hC hb31 hT ha h ?_
      have k := ih (b + 1) (by omega) (by omega)
      have kl := gp_lt (C := C) (x := x2) ha b (by omega)
      refine pk_eq b a (fun he => ?_) (fun hne => ?_)
      · refine nm_r (e' := nI (gp_q C a x2 b)) Int32.or_zero ?_
        refine nm_r (nI_1 b) ?_
        unfold gp_q at k
        rw [if_pos (Or.inl he)] at k
        exact k
      · refine br_c (fun hlt => ?_) (fun hge => ?_)
        · refine nm_r (e' := nI (gp_q C a x2 b)) Int32.or_zero ?_
          refine nm_r (nI_1 b) ?_
          unfold gp_q at k
          rw [if_pos (Or.inr hlt)] at k
          exact k
        · refine nm_r (cf_or _ kl b h) ?_
          refine nm_r (nI_1 b) ?_
          unfold gp_q at k
          rw [if_neg (fun z => z.elim hne hge)] at k
          exact k
theorem yg_20 {post : Int32 → Prop} {cp : Nat → Int32} {C : Nat → Nat} {x2 : Int32} {a : Nat} (hcp : ∀ c, c < 36 → cp c = nI (C c) ∧ C c ≤ 31) (ha : a < 6) (hp : post (nI (gp_q C a x2 6))) :
    ∀ n b, 6 - b < n → b ≤ 6 → wY_group_20 post (nI a) x2 cp n (nI (gp_q C a x2 b)) (nI b) := by
  intro n
  induction n with
  | zero => intro b hn; omega
  | succ n ih =>
    intro b hn hb
    refine pk_le 6 b (fun h => ?_) (fun h => ?_)
    · have e : b = 6 := by omega
      subst e
      exact hp
    · have k := ih (b + 1) (by omega) (by omega)
      have kl := gp_lt (C := C) (x := x2) ha b (by omega)
      by_cases he : b = a
      · refine cf_pairY (fun a' b' ha' hb' hab' e1 e2 => ?_) (fun _ => br_t rfl ?_)
        · rw [he, e1, nI_eq (by omega) (by omega)] at e2
          exact absurd e2 hab'
        · refine nm_r (nI_1 b) ?_
          unfold gp_q at k
          rw [if_pos (Or.inl he)] at k
          exact k
      · refine cf_pairY (fun _ _ _ _ _ _ _ => br_f (by decide) ?_) (fun hn => absurd ⟨a, b, ha, h, Ne.symm he, rfl, rfl⟩ hn)
        refine yb_all hcp ha h (Ne.symm he) ?_
        refine br_c (fun hlt => ?_) (fun hge => ?_)
        · refine nm_r (nI_1 b) ?_
          unfold gp_q at k
          rw [if_pos (Or.inr hlt)] at k
          exact k
        · refine nm_r (cf_or _ kl b h) ?_
          refine nm_r (nI_1 b) ?_
          unfold gp_q at k
          rw [if_neg (fun z => z.elim he hge)] at k
          exact k
theorem yg_bad {post : Int32 → Prop} {cp : Nat → Int32} {x x2 : Int32} (hx : ∀ a, a < 6 → x ≠ nI a) (hp : post 0) :
    ∀ n b, 6 - b < n → b ≤ 6 → wY_group_20 post x x2 cp n 0 (nI b) := by
  intro n
  induction n with
  | zero => intro b hn; omega
  | succ n ih =>
    intro b hn hb
    refine pk_le 6 b (fun h => hp) (fun h => ?_)
    refine cf_pairY (fun a' b' ha' hb' hab' e1 e2 => absurd e1 (hx a' ha')) (fun _ => br_t rfl ?_)
    refine nm_r (nI_1 b) ?_
    exact ih (b + 1) (by omega) (by omega)
end
section
/-! the relation, and what is owed -/
/-- both hold one table of capacities, and it is a good one; all else of the component's is scratch -/
def i_Rel (k : Nat) (u : SX) (v : SY) : Prop :=
  ∃ (f : Int32) (cp rm ff ln jn ti ab st : Nat → Int32) (C : Nat → Nat), u = (f, cp, rm, ff, ln, jn, ti, ab, st) ∧ v = cp ∧ cf_gd 30 C cp
theorem rl_mk {k : Nat} {f : Int32} {cp rm ff ln jn ti ab st : Nat → Int32} {C : Nat → Nat} (h : cf_gd 30 C cp) : i_Rel k (f, cp, rm, ff, ln, jn, ti, ab, st) cp :=
  ⟨f, cp, rm, ff, ln, jn, ti, ab, st, C, rfl, rfl, h⟩
theorem gd_w {C : Nat → Nat} {cp : Nat → Int32} (h : cf_gd 30 C cp) : cf_gd 31 C cp :=
  ⟨fun c hc => ⟨(h.1 c hc).1, Nat.le_trans (h.1 c hc).2 (by decide)⟩, h.2⟩
theorem gd_put {B c a b : Nat} {C : Nat → Nat} {cp : Nat → Int32} (h : cf_gd B C cp) (ha : a < 6) (hb : b < 6) (hab : a ≠ b) (hc : c ≤ B) :
    cf_gd B (fun z => if z = 6 * b + a then c else if z = 6 * a + b then c else C z) (upd (upd cp (6 * a + b) (nI c)) (6 * b + a) (nI c)) := by
  refine ⟨fun z hz => ?_, fun x y hx hy => ?_, fun x hx => ?_⟩
  · dsimp only
    by_cases h1 : z = 6 * b + a
    · rw [if_pos h1, h1, pk_us]; exact ⟨rfl, hc⟩
    · rw [if_neg h1, pk_un h1]
      by_cases h2 : z = 6 * a + b
      · rw [if_pos h2, h2, pk_us]; exact ⟨rfl, hc⟩
      · rw [if_neg h2, pk_un h2]; exact h.1 z hz
  · dsimp only
    have k := h.2.1 x y hx hy
    by_cases h1 : x = b ∧ y = a
    · rw [if_pos (by omega), if_neg (by omega), if_pos (by omega)]
    · by_cases h2 : x = a ∧ y = b
      · rw [if_neg (by omega), if_pos (by omega), if_pos (by omega)]
      · rw [if_neg (by omega), if_neg (by omega), if_neg (by omega), if_neg (by omega)]
        exact k
  · dsimp only
    rw [if_neg (by omega), if_neg (by omega)]
    exact h.2.2 x hx
theorem pt_back {cp : Nat → Int32} {i j : Nat} (x : Int32) (h : cp i = cp j) : upd (upd (upd (upd cp i x) j x) i (cp i)) j (cp i) = cp := by
  funext z
  by_cases h1 : z = j
  · rw [h1, pk_us, h]
  · rw [pk_un h1]
    by_cases h2 : z = i
    · rw [h2, pk_us]
    · rw [pk_un h2, pk_un h1, pk_un h2]
theorem gd_s {B a b : Nat} {C : Nat → Nat} {cp : Nat → Int32} (h : cf_gd B C cp) (ha : a < 6) (hb : b < 6) : cp (6 * a + b) = cp (6 * b + a) := by
  rw [(h.1 _ (by omega)).1, (h.1 _ (by omega)).1, h.2.1 a b ha hb]
theorem pt_X {post : SX → Prop} {f : Int32} {cp rm ff ln jn ti ab st : Nat → Int32} {a b : Nat} {x : Int32} (ha : a < 6) (hb : b < 6)
    (hp : post (f, upd (upd cp (6 * a + b) x) (6 * b + a) x, rm, ff, ln, jn, ti, ab, st)) : wpX_put post (f, cp, rm, ff, ln, jn, ti, ab, st) (nI a) (nI b) x := by
  unfold wpX_put
  dsimp only
  rw [cf_ix a b, cf_ix b a, cf_cl ha hb, cf_cl hb ha]
  exact ⟨cf_vin ha hb, nm_e ⟨cf_vin hb ha, nm_e hp⟩⟩
theorem pt_Y {post : SY → Prop} {cp : SY} {a b : Nat} {x : Int32} (ha : a < 6) (hb : b < 6)
    (hp : post (upd (upd cp (6 * a + b) x) (6 * b + a) x)) : wpY_put post cp (nI a) (nI b) x := by
  unfold wpY_put
  rw [cf_iy a b, cf_iy b a, cf_cl ha hb, cf_cl hb ha]
  exact ⟨cf_vin ha hb, nm_e ⟨cf_vin hb ha, nm_e hp⟩⟩
theorem i_up {k : Nat} {u : SX} {v : SY} (h : i_Rel k u v) : i_Rel (k + 5) u v := h
theorem i_vc0 : wpX_init (fun u => wpY_init (fun v => i_Rel 0 u v)) := by
  show i_Rel 0 _ _
  exact rl_mk (C := fun _ => 0) ⟨fun c _ => ⟨rfl, Nat.zero_le _⟩, fun _ _ _ _ => rfl, fun _ _ => rfl⟩
theorem i_vc_set {k : Nat} {u : SX} {v : SY} (I : i_Rel k u v) (hk : k + 5 ≤ 2560) (v1 : Int32) (v2 : Int32) (v3 : Int32) : wpX_set (fun r u' => wpY_set (fun r' v' => r' = r ∧ i_Rel (k + 5) u' v') v v1 v2 v3) u v1 v2 v3 := by
  obtain ⟨f, cp, rm, ff, ln, jn, ti, ab, st, C, rfl, rfl, hg⟩ := I
  unfold wpX_set
  dsimp only
  refine cf_isPair (fun a b ha hb hab ea eb => ?_) (fun hn => ?_)
  · subst ea eb
    have bad : (v3 < 0 ∨ ¬ v3 ≤ 30) → wpY_set (fun r' v' => r' = 0 ∧ i_Rel (k + 5) (f, v, rm, ff, ln, jn, ti, ab, st) v') v (nI a) (nI b) v3 := by
      intro hz
      unfold wpY_set
      refine cf_pairY (fun _ _ _ _ _ _ _ => br_f (by decide) ?_) (fun hn => absurd ⟨a, b, ha, hb, hab, rfl, rfl⟩ hn)
      by_cases h : v3 < 0
      · exact br_t h ⟨rfl, rl_mk hg⟩
      · exact br_f h (br_f (hz.resolve_left h) ⟨rfl, rl_mk hg⟩)
    refine br_f (by decide) ?_
    by_cases h : v3 < 0
    · exact br_t h (bad (Or.inl h))
    · refine br_f h ?_
      by_cases h30 : v3 ≤ 30
      · refine br_t h30 ?_
        obtain ⟨c, hc, rfl⟩ := nI_of2 (M := 30) (n := 30) (by decide) h h30
        refine pt_X ha hb ?_
        show wpY_set _ _ _ _ _
        unfold wpY_set
        refine cf_pairY (fun _ _ _ _ _ _ _ => br_f (by decide) ?_) (fun hn => absurd ⟨a, b, ha, hb, hab, rfl, rfl⟩ hn)
        refine br_f h (br_t h30 (pt_Y ha hb ⟨rfl, rl_mk (gd_put hg ha hb hab hc)⟩))
      · exact br_f h30 (bad (Or.inr h30))
  · refine br_t rfl ?_
    unfold wpY_set
    exact cf_pairY (fun a b ha hb hab ea eb => absurd ⟨a, b, ha, hb, hab, ea, eb⟩ hn) (fun _ => br_t rfl ⟨rfl, rl_mk hg⟩)
theorem i_vc_capacity {k : Nat} {u : SX} {v : SY} (I : i_Rel k u v) (hk : k + 5 ≤ 2560) (v1 : Int32) (v2 : Int32) : wpX_capacity (fun r => wpY_capacity (fun r' => r' = r ∧ i_Rel (k + 5) u v) v v1 v2) u v1 v2 := by
  obtain ⟨f, cp, rm, ff, ln, jn, ti, ab, st, C, rfl, rfl, hg⟩ := I
  unfold wpX_capacity
  dsimp only
  refine cf_isPair (fun a b ha hb hab ea eb => ?_) (fun hn => ?_)
  · subst ea eb
    refine br_f (by decide) ?_
    rw [cf_ix, cf_cl ha hb]
    refine ⟨cf_vin ha hb, ?_⟩
    unfold wpY_capacity
    refine cf_pairY (fun _ _ _ _ _ _ _ => br_f (by decide) ?_) (fun hn => absurd ⟨a, b, ha, hb, hab, rfl, rfl⟩ hn)
    rw [cf_iy, cf_cl ha hb]
    exact ⟨cf_vin ha hb, rfl, rl_mk hg⟩
  · refine br_t rfl ?_
    unfold wpY_capacity
    exact cf_pairY (fun a b ha hb hab ea eb => absurd ⟨a, b, ha, hb, hab, ea, eb⟩ hn) (fun _ => br_t rfl ⟨rfl, rl_mk hg⟩)
theorem i_vc_cost {k : Nat} {u : SX} {v : SY} (I : i_Rel k u v) (hk : k + 5 ≤ 2560) (v1 : Int32) : wpX_cost (fun r => wpY_cost (fun r' => r' = r ∧ i_Rel (k + 5) u v) v v1) u v1 := by
  obtain ⟨f, cp, rm, ff, ln, jn, ti, ab, st, C, rfl, rfl, hg⟩ := I
  by_cases h1 : v1 < 1
  · exact br_t h1 (br_t h1 ⟨rfl, rl_mk hg⟩)
  · refine br_f h1 ?_
    have h0 : ¬ v1 < 0 := fun z => h1 (Int32.lt_of_lt_of_le z (by decide))
    obtain ⟨m, hm, rfl⟩ := nI_of h0
    have hm1 : 1 ≤ m := by
      refine Classical.byContradiction fun z => h1 ?_
      have e : m = 0 := by omega
      rw [e]; decide
    refine pk_lt m 63 (fun h => ⟨7, ?_⟩) (fun h => ?_)
    · refine xc_17 (C := C) (fun c hc => (hg.1 c hc).1) (by omega) ?_ 7 0 0 (by omega) (by omega) rfl
      refine br_f h1 (br_f (nI_nlt (a := 62) (b := m) (by omega) (by decide)) ?_)
      exact yc_all (C := C) (fun c hc => (hg.1 c hc).1) (by omega) ⟨rfl, rl_mk hg⟩
    · exact br_f h1 (br_t (nI_lt (a := 62) (by omega) hm) ⟨rfl, rl_mk hg⟩)
theorem i_vc_least {k : Nat} {u : SX} {v : SY} (I : i_Rel k u v) (hk : k + 5 ≤ 2560) : wpX_least (fun r u' => wpY_least (fun r' => r' = r ∧ i_Rel (k + 5) u' v) v) u := by
  obtain ⟨f, cp, rm, ff, ln, jn, ti, ab, st, C, rfl, rfl, hg⟩ := I
  exact le_all (gd_w hg) (fun jn ti val hv => yl_all (gd_w hg).1 hv ⟨rfl, rl_mk hg⟩)
theorem i_vc_leastSide {k : Nat} {u : SX} {v : SY} (I : i_Rel k u v) (hk : k + 5 ≤ 2560) : wpX_leastSide (fun r u' => wpY_leastSide (fun r' => r' = r ∧ i_Rel (k + 5) u' v) v) u := by
  obtain ⟨f, cp, rm, ff, ln, jn, ti, ab, st, C, rfl, rfl, hg⟩ := I
  unfold wpX_leastSide
  dsimp only
  refine le_all (gd_w hg) (fun jn ti val hv => ?_)
  obtain ⟨K, hK⟩ := ls_ex hg.2.1 hv
  refine ⟨6, ls_12 (gd_w hg) hv hK (fun f rm ff ln => ?_) 6 5 1 0 _ _ _ _ (by omega) (by omega) (by decide) (by decide) (by decide) (fun x x1 x2 => by omega) (by decide +kernel) (fun x _ _ => by simp) ⟨fun x x1 x2 => ?_, fun x _ x2 => by simp at x2⟩⟩
  · unfold wpY_leastSide
    exact ch_v (i := 0) (o := 0) (gd_w hg).1 (by decide) (by decide) (mn_0 hv) ⟨63, ys_9 (gd_w hg).1 hK ⟨rfl, rl_mk hg⟩ 63 1 (by omega) (by omega) hK.1⟩
  · rw [show (1 : Nat) = 2 ^ 0 from rfl, cf_powb] at x2
    rw [of_decide_eq_true x2]; exact hK.2.2.1
theorem i_vc_between {k : Nat} {u : SX} {v : SY} (I : i_Rel k u v) (hk : k + 5 ≤ 2560) (v1 : Int32) (v2 : Int32) : wpX_between (fun r u' => wpY_between (fun r' => r' = r ∧ i_Rel (k + 5) u' v) v v1 v2) u v1 v2 := by
  obtain ⟨f, cp, rm, ff, ln, jn, ti, ab, st, C, rfl, rfl, hg⟩ := I
  by_cases hpr : cf_pr v1 v2
  · obtain ⟨a, b, ha, hb, hab, rfl, rfl⟩ := hpr
    exact xb_all (gd_w hg) ha hb hab (fun m rm ff ln hR => yb_all (gd_w hg).1 ha hb hab ⟨rfl, rl_mk hg⟩)
  · unfold wpX_between
    dsimp only
    exact cf_isPair (fun a b ha hb hab ea eb => absurd ⟨a, b, ha, hb, hab, ea, eb⟩ hpr) (fun _ => br_t rfl (yb_bad hpr ⟨rfl, rl_mk hg⟩))
theorem co_m {C : Nat → Nat} {a b m : Nat} (ha : a < 6) (hb : b < 6) (hab : a ≠ b) (hR : fl_R C (2 ^ a) (2 ^ b) m (gh_f C a b)) : co_B C a b m := by
  obtain ⟨_, k1, k2⟩ := fl_pair ha hb hab hR
  refine ⟨?_, ?_, k1, k2, hR.2.2.1⟩
  · refine Classical.byContradiction fun z => ?_
    have e : m = 0 := by omega
    rw [e] at k1; simp at k1
  · refine Classical.byContradiction fun z => ?_
    have e : m = 63 := by have := hR.1; omega
    rw [e, cf_63 b hb] at k2; exact Bool.noConfusion k2
theorem i_vc_core {k : Nat} {u : SX} {v : SY} (I : i_Rel k u v) (hk : k + 5 ≤ 2560) (v1 : Int32) (v2 : Int32) : wpX_core (fun r u' => wpY_core (fun r' => r' = r ∧ i_Rel (k + 5) u' v) v v1 v2) u v1 v2 := by
  obtain ⟨f, cp, rm, ff, ln, jn, ti, ab, st, C, rfl, rfl, hg⟩ := I
  by_cases hpr : cf_pr v1 v2
  · obtain ⟨a, b, ha, hb, hab, rfl, rfl⟩ := hpr
    refine xk_all (gd_w hg) ha hb hab (fun m rm ff ln hR => yk_all (gd_w hg).1 ha hb hab (fun z hz hzx => ⟨?_, rl_mk hg⟩))
    refine congrArg nI (cf_ext z hz m hR.1 (fun x hx => ?_))
    rw [Bool.eq_iff_iff, hzx x hx]
    exact ⟨fun q => q m (co_m ha hb hab hR), fun q j hj => hR.2.2.2.2 j.testBit (fl_pairA hj.2.2.1 hj.2.2.2.1) hj.2.2.2.2 x hx q⟩
  · unfold wpX_core
    dsimp only
    exact cf_isPair (fun a b ha hb hab ea eb => absurd ⟨a, b, ha, hb, hab, ea, eb⟩ hpr) (fun _ => br_t rfl (yk_bad hpr ⟨rfl, rl_mk hg⟩))
theorem i_vc_reach {k : Nat} {u : SX} {v : SY} (I : i_Rel k u v) (hk : k + 5 ≤ 2560) (v1 : Int32) (v2 : Int32) : wpX_reach (fun r u' => wpY_reach (fun r' => r' = r ∧ i_Rel (k + 5) u' v) v v1 v2) u v1 v2 := by
  obtain ⟨f, cp, rm, ff, ln, jn, ti, ab, st, C, rfl, rfl, hg⟩ := I
  unfold wpX_reach
  dsimp only
  refine cf_isPair (fun a b ha hb hab ea eb => ?_) (fun hpr => br_t rfl (yr_bad hpr ⟨rfl, rl_mk hg⟩))
  subst ea eb
  refine br_f (by decide) ?_
  refine xk_all (gd_w hg) hb ha (Ne.symm hab) (fun m rm ff ln hR => ?_)
  refine yr_all (gd_w hg).1 ha hb hab (fun z hz hzx => ⟨?_, rl_mk hg⟩)
  rw [cf_not m hR.1]
  refine congrArg nI (cf_ext z hz (63 - m) (by omega) (fun x hx => ?_))
  have hB := co_m hb ha (Ne.symm hab) hR
  rw [Bool.eq_iff_iff, hzx x hx, cf_notb m hR.1 x hx]
  constructor
  · rintro ⟨j, hj, hjx⟩
    cases hmx : m.testBit x
    · rfl
    · have k1 := hR.2.2.2.2 (fun y => !j.testBit y) (fl_pairA (by rw [hj.2.2.2.1]; rfl) (by rw [hj.2.2.1]; rfl)) (by rw [ct_neg hg.2.1, hj.2.2.2.2, gh_sym hg.2.1]) x hx hmx
      rw [hjx] at k1
      exact Bool.noConfusion k1
  · intro hmx
    refine ⟨63 - m, ⟨by have := hB.2.1; omega, by have := hB.1; omega, ?_, ?_, ?_⟩, ?_⟩
    · rw [cf_notb m hR.1 a ha, hB.2.2.2.1]; rfl
    · rw [cf_notb m hR.1 b hb, hB.2.2.1]; rfl
    · rw [ct_congr (S' := fun y => !m.testBit y) (fun y hy => cf_notb m hR.1 y hy), ct_neg hg.2.1, hB.2.2.2.2, gh_sym hg.2.1]
    · rw [cf_notb m hR.1 x hx]; exact hmx
/-- sides that have none of a set: by their complements -/
theorem mn_neg {C : Nat → Nat} (hC : cf_sym C) {w val : Nat} (h : cf_min C (fun S => fl_A w 0 S ∧ cf_prop S) val) : cf_min C (fun S => fl_A 0 w S ∧ cf_prop S) val := by
  have pn : ∀ S : Nat → Bool, cf_prop S → cf_prop (fun y => !S y) := by
    intro S hS
    obtain ⟨a, b, ha, hb, hab⟩ := hS
    refine ⟨a, b, ha, hb, fun z => hab ?_⟩
    dsimp only at z
    cases h1 : S a <;> cases h2 : S b <;> simp [h1, h2] at z ⊢
  obtain ⟨⟨S, ⟨h1, h2⟩, h3⟩, h4⟩ := h
  refine ⟨⟨fun y => !S y, ⟨⟨fun a _ z => by simp at z, fun a ha z => by dsimp only; rw [h1.1 a ha z]; rfl⟩, pn S h2⟩, by rw [ct_neg hC, h3]⟩, fun T hT => ?_⟩
  rw [← ct_neg hC T]
  exact h4 _ ⟨⟨fun a ha z => by dsimp only; rw [hT.1.2 a ha z]; rfl, fun a _ z => by simp at z⟩, pn T hT.2⟩
theorem i_vc_forced {k : Nat} {u : SX} {v : SY} (I : i_Rel k u v) (hk : k + 5 ≤ 2560) (v1 : Int32) (v2 : Int32) : wpX_forced (fun r u' => wpY_forced (fun r' => r' = r ∧ i_Rel (k + 5) u' v) v v1 v2) u v1 v2 := by
  obtain ⟨f, cp, rm, ff, ln, jn, ti, ab, st, C, rfl, rfl, hg⟩ := I
  have hg31 := gd_w hg
  unfold wpX_forced
  dsimp only
  by_cases a0 : v1 < 0
  · exact br_t a0 (br_t a0 ⟨rfl, rl_mk hg⟩)
  refine br_f a0 ?_
  by_cases a1 : (63 : Int32) < v1
  · exact br_t a1 (br_f a0 (br_t a1 ⟨rfl, rl_mk hg⟩))
  refine br_f a1 ?_
  by_cases b0 : v2 < 0
  · exact br_t b0 (br_f a0 (br_f a1 (br_t b0 ⟨rfl, rl_mk hg⟩)))
  refine br_f b0 ?_
  by_cases b1 : (63 : Int32) < v2
  · exact br_t b1 (br_f a0 (br_f a1 (br_f b0 (br_f (Int32.not_le.mpr b1) ⟨rfl, rl_mk hg⟩))))
  refine br_f b1 ?_
  have b1' : v2 ≤ 63 := Int32.not_lt.mp b1
  obtain ⟨i, hi, rfl⟩ := nI_of2 (M := 63) (n := 63) (by decide) a0 (Int32.not_lt.mp a1)
  obtain ⟨o, ho, rfl⟩ := nI_of2 (M := 63) (n := 63) (by decide) b0 b1'
  have yv : ∀ (u' : SX) val, cf_min C (fun S => fl_A i o S ∧ cf_prop S) val → i_Rel (k + 5) u' v → wpY_forced (fun r' => r' = nI val ∧ i_Rel (k + 5) u' v) v (nI i) (nI o) := by
    intro u' val hv hrel
    exact br_f a0 (br_f a1 (br_f b0 (br_t b1' (ch_v hg31.1 (by omega) (by omega) hv ⟨rfl, hrel⟩))))
  have yn : ∀ (u' : SX), (∀ S, cf_prop S → fl_A i o S → False) → i_Rel (k + 5) u' v → wpY_forced (fun r' => r' = -1 ∧ i_Rel (k + 5) u' v) v (nI i) (nI o) := by
    intro u' hv hrel
    exact br_f a0 (br_f a1 (br_f b0 (br_t b1' (ch_n hg31.1 (by omega) (by omega) hv ⟨rfl, hrel⟩))))
  by_cases hd : (nI i &&& nI o) = 0
  · refine br_t hd ?_
    rw [cf_dis i (by omega) o (by omega)] at hd
    refine pk_eq i 63 (fun e => yn _ (fun S hS hA => ?_) (rl_mk hg)) (fun ne => ?_)
    · obtain ⟨a, b, ha, hb, hab⟩ := hS
      rw [hA.1 a ha (by rw [e]; exact cf_63 a ha), hA.1 b hb (by rw [e]; exact cf_63 b hb)] at hab
      exact hab rfl
    refine pk_eq o 63 (fun e => yn _ (fun S hS hA => ?_) (rl_mk hg)) (fun ne2 => ?_)
    · obtain ⟨a, b, ha, hb, hab⟩ := hS
      rw [hA.2 a ha (by rw [e]; exact cf_63 a ha), hA.2 b hb (by rw [e]; exact cf_63 b hb)] at hab
      exact hab rfl
    refine pk_eq i 0 (fun e => ?_) (fun ne3 => ?_)
    · subst e
      unfold wX_forced_55
      refine br_t rfl ?_
      refine pk_eq o 0 (fun e2 => ?_) (fun ne4 => ?_)
      · subst e2
        exact le_all hg31 (fun jn ti val hv => yv _ val (mn_0 hv) (rl_mk hg))
      · unfold wX_forced_70
        rw [(cf_orm 0 (by decide) o (by omega)).1, Nat.zero_or]
        exact la_all hg31 (by omega) ne4 ne2 (fun f rm ff ln val hv => yv _ val (mn_neg hg.2.1 hv) (rl_mk hg))
    refine pk_eq o 0 (fun e => ?_) (fun ne4 => ?_)
    · subst e
      unfold wX_forced_55
      refine br_f (nI_ne0 (by omega) (by omega)) ?_
      unfold wX_forced_70
      rw [(cf_orm i (by omega) 0 (by decide)).1, Nat.or_zero]
      exact la_all hg31 (by omega) ne3 ne (fun f rm ff ln val hv => yv _ val hv (rl_mk hg))
    · refine fl_all hg31 (by omega) (by omega) hd (fun m rm ff ln s hR => yv _ s ?_ (rl_mk hg))
      obtain ⟨a, ha, ea⟩ := cf_ne0 i (by omega) ne3
      obtain ⟨b, hb, eb⟩ := cf_ne0 o (by omega) ne4
      refine ⟨⟨m.testBit, ⟨hR.2.1, a, b, ha, hb, ?_⟩, hR.2.2.1⟩, fun S hS => hR.2.2.2.1 S hS.1⟩
      rw [hR.2.1.1 a ha ea, hR.2.1.2 b hb eb]; decide
  · refine br_f hd (yn _ (fun S hS hA => hd ?_) (rl_mk hg))
    rw [cf_dis i (by omega) o (by omega)]
    intro a ha ea
    cases z : o.testBit a
    · rfl
    · have k1 := hA.1 a ha ea
      rw [hA.2 a ha z] at k1
      exact Bool.noConfusion k1
theorem i_vc_pairsAtLeast {k : Nat} {u : SX} {v : SY} (I : i_Rel k u v) (hk : k + 5 ≤ 2560) (v1 : Int32) : wpX_pairsAtLeast (fun r u' => wpY_pairsAtLeast (fun r' => r' = r ∧ i_Rel (k + 5) u' v) v v1) u v1 := by
  obtain ⟨f, cp, rm, ff, ln, jn, ti, ab, st, C, rfl, rfl, hg⟩ := I
  have hg31 := gd_w hg
  unfold wpX_pairsAtLeast
  dsimp only
  refine gr_all hg31 (fun f rm ff ln ab st p hT => ⟨7, ?_⟩)
  refine pa_8 hg.2.1 (fun c hc => (hg31.1 c hc).2) hT ?_ 7 0 0 (by omega) (by omega) rfl
  exact ⟨37, yp_4 hg31.1 ⟨rfl, rl_mk hg⟩ 37 0 0 (by omega) (by omega) rfl⟩
theorem i_vc_group {k : Nat} {u : SX} {v : SY} (I : i_Rel k u v) (hk : k + 5 ≤ 2560) (v1 : Int32) (v2 : Int32) : wpX_group (fun r u' => wpY_group (fun r' => r' = r ∧ i_Rel (k + 5) u' v) v v1 v2) u v1 v2 := by
  obtain ⟨f, cp, rm, ff, ln, jn, ti, ab, st, C, rfl, rfl, hg⟩ := I
  have hg31 := gd_w hg
  unfold wpX_group
  dsimp only
  rcases cf_pl v1 with ⟨a, ha, rfl⟩ | h | ⟨h, h6, h5, hn⟩
  · refine cf_isPlace (fun _ _ _ => br_f (by decide) ?_) (fun hn => absurd rfl (hn a ha))
    refine gr_all hg31 (fun f rm ff ln ab st p hT => ?_)
    refine nm_r (cf_one a ha) ⟨7, ?_⟩
    refine gp_20 hg.2.1 (fun c hc => (hg31.1 c hc).2) hT ha ?_ 7 0 (by omega) (by omega)
    refine br_f (nI_pos (by omega)) (br_f (nI_nlt (a := 5) (by omega) (by decide)) ?_)
    refine nm_r (cf_one a ha) ⟨7, ?_⟩
    exact yg_20 hg31.1 ha ⟨rfl, rl_mk hg⟩ 7 0 (by omega) (by omega)
  · refine cf_isPlace (fun a ha e => absurd e (cf_npl h a ha)) (fun _ => br_t rfl ?_)
    exact br_t h ⟨7, yg_bad (cf_npl h) ⟨rfl, rl_mk hg⟩ 7 0 (by omega) (by omega)⟩
  · refine cf_isPlace (fun a ha e => absurd e (hn a ha)) (fun _ => br_t rfl ?_)
    exact br_f h (br_t h5 ⟨7, yg_bad hn ⟨rfl, rl_mk hg⟩ 7 0 (by omega) (by omega)⟩)
theorem i_vc_loss {k : Nat} {u : SX} {v : SY} (I : i_Rel k u v) (hk : k + 5 ≤ 2560) (v1 : Int32) (v2 : Int32) : wpX_loss (fun r u' => wpY_loss (fun r' v' => r' = r ∧ i_Rel (k + 5) u' v') v v1 v2) u v1 v2 := by
  obtain ⟨f, cp, rm, ff, ln, jn, ti, ab, st, C, rfl, rfl, hg⟩ := I
  have hg31 := gd_w hg
  unfold wpX_loss
  dsimp only
  refine cf_isPair (fun a b ha hb hab ea eb => ?_) (fun hn => ?_)
  · subst ea eb
    have hg2 := gd_put (c := 0) hg31 ha hb hab (by omega)
    have hbk := pt_back (nI 0) (gd_s hg ha hb)
    refine br_f (by decide) ?_
    rw [cf_ix, cf_cl ha hb]
    refine ⟨cf_vin ha hb, nm_e ?_⟩
    refine le_all hg31 (fun jn ti val hv => ?_)
    refine pt_X (x := nI 0) ha hb ?_
    refine le_all hg2 (fun jn ti val2 hv2 => ?_)
    refine pt_X ha hb ?_
    rw [hbk]
    show wpY_loss _ _ _ _
    unfold wpY_loss
    refine cf_pairY (fun _ _ _ _ _ _ _ => br_f (by decide) ?_) (fun hn => absurd ⟨a, b, ha, hb, hab, rfl, rfl⟩ hn)
    refine yl_all hg31.1 hv ?_
    rw [cf_iy, cf_cl ha hb]
    refine ⟨cf_vin ha hb, nm_e ?_⟩
    refine pt_Y (x := nI 0) ha hb ?_
    refine yl_all hg2.1 hv2 ?_
    refine pt_Y ha hb ?_
    rw [hbk]
    exact ⟨rfl, rl_mk hg⟩
  · refine br_t rfl ?_
    unfold wpY_loss
    exact cf_pairY (fun a b ha hb hab ea eb => absurd ⟨a, b, ha, hb, hab, ea, eb⟩ hn) (fun _ => br_t rfl ⟨rfl, rl_mk hg⟩)
theorem i_vc_tight {k : Nat} {u : SX} {v : SY} (I : i_Rel k u v) (hk : k + 5 ≤ 2560) (v1 : Int32) (v2 : Int32) (v3 : Int32) (v4 : Int32) : wpX_tight (fun r u' => wpY_tight (fun r' v' => r' = r ∧ i_Rel (k + 5) u' v') v v1 v2 v3 v4) u v1 v2 v3 v4 := by
  obtain ⟨f, cp, rm, ff, ln, jn, ti, ab, st, C, rfl, rfl, hg⟩ := I
  have hg31 := gd_w hg
  unfold wpX_tight
  dsimp only
  refine cf_isPair (fun a b ha hb hab ea eb => ?_) (fun hn => ?_)
  · subst ea eb
    refine br_f (by decide) ?_
    refine cf_isPair (fun x y hx hy hxy ex ey => ?_) (fun hn => ?_)
    · subst ex ey
      have hgc := hg.1 (6 * x + y) (by omega)
      have hg2 := gd_put (c := C (6 * x + y) + 1) hg31 hx hy hxy (by omega)
      have hbk := pt_back (nI (C (6 * x + y) + 1)) (gd_s hg hx hy)
      have e1 : v (6 * x + y) + 1 = nI (C (6 * x + y) + 1) := by rw [hgc.1, nI_1]
      refine br_f (by decide) ?_
      rw [cf_ix, cf_cl hx hy]
      refine ⟨cf_vin hx hy, nm_e ?_⟩
      rw [e1]
      refine xb_all hg31 ha hb hab (fun m rm ff ln hR => ?_)
      refine pt_X hx hy ?_
      refine xb_all hg2 ha hb hab (fun m rm ff ln hR => ?_)
      refine pt_X hx hy ?_
      rw [hbk]
      have yt : ∀ (r : Int32) (u' : SX), i_Rel (k + 5) u' v → (nI (gh_f (fun z => if z = 6 * y + x then C (6 * x + y) + 1 else if z = 6 * x + y then C (6 * x + y) + 1 else C z) a b) ≤ nI (gh_f C a b) → 0 = r) →
          (¬ nI (gh_f (fun z => if z = 6 * y + x then C (6 * x + y) + 1 else if z = 6 * x + y then C (6 * x + y) + 1 else C z) a b) ≤ nI (gh_f C a b) → 1 = r) →
          wpY_tight (fun r' v' => r' = r ∧ i_Rel (k + 5) u' v') v (nI a) (nI b) (nI x) (nI y) := by
        intro r u' hrel q0 q1
        unfold wpY_tight
        refine cf_pairY (fun _ _ _ _ _ _ _ => br_f (by decide) ?_) (fun hn => absurd ⟨a, b, ha, hb, hab, rfl, rfl⟩ hn)
        refine cf_pairY (fun _ _ _ _ _ _ _ => br_f (by decide) ?_) (fun hn => absurd ⟨x, y, hx, hy, hxy, rfl, rfl⟩ hn)
        refine yb_all hg31.1 ha hb hab ?_
        rw [cf_iy, cf_cl hx hy]
        refine ⟨cf_vin hx hy, nm_e ?_⟩
        rw [e1]
        refine pt_Y hx hy ?_
        refine yb_all hg2.1 ha hb hab ?_
        refine pt_Y hx hy ?_
        rw [hbk]
        exact br_c (fun z => ⟨q0 z, hrel⟩) (fun z => ⟨q1 z, hrel⟩)
      refine br_c (fun z => yt 0 _ (rl_mk hg) (fun _ => rfl) (fun w => absurd z w)) (fun z => yt 1 _ (rl_mk hg) (fun w => absurd w z) (fun _ => rfl))
    · refine br_t rfl ?_
      unfold wpY_tight
      refine cf_pairY (fun _ _ _ _ _ _ _ => br_f (by decide) ?_) (fun hn => absurd ⟨a, b, ha, hb, hab, rfl, rfl⟩ hn)
      exact cf_pairY (fun a b ha hb hab ea eb => absurd ⟨a, b, ha, hb, hab, ea, eb⟩ hn) (fun _ => br_t rfl ⟨rfl, rl_mk hg⟩)
  · refine br_t rfl ?_
    unfold wpY_tight
    exact cf_pairY (fun a b ha hb hab ea eb => absurd ⟨a, b, ha, hb, hab, ea, eb⟩ hn) (fun _ => br_t rfl ⟨rfl, rl_mk hg⟩)
end
