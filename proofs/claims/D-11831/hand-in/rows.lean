section
/-! whole numbers behind Int32 and Int64: ap_i z, ap_l z -/
def ap_i (z : Int) : Int32 := Int32.ofInt z
def ap_l (z : Int) : Int64 := Int64.ofInt z
theorem ap_i_nat (n : Nat) : nI n = ap_i n := Int32.ofInt_eq_ofNat.symm
theorem ap_i_add (a b : Int) : ap_i a + ap_i b = ap_i (a + b) := (Int32.ofInt_add a b).symm
theorem ap_i_sub (a b : Int) : ap_i a - ap_i b = ap_i (a - b) := (Int32.ofInt_sub a b).symm
theorem ap_i_mul (a b : Int) : ap_i a * ap_i b = ap_i (a * b) := (Int32.ofInt_mul a b).symm
theorem ap_i_neg (a : Int) : -ap_i a = ap_i (-a) := (Int32.ofInt_neg a).symm
theorem ap_l_add (a b : Int) : ap_l a + ap_l b = ap_l (a + b) := (Int64.ofInt_add a b).symm
theorem ap_l_sub (a b : Int) : ap_l a - ap_l b = ap_l (a - b) := (Int64.ofInt_sub a b).symm
theorem ap_l_mul (a b : Int) : ap_l a * ap_l b = ap_l (a * b) := (Int64.ofInt_mul a b).symm
theorem ap_l_neg (a : Int) : -ap_l a = ap_l (-a) := (Int64.ofInt_neg a).symm
theorem ap_i_toInt {a : Int} (h : -2147483648 ≤ a ∧ a ≤ 2147483647) : (ap_i a).toInt = a := Int32.toInt_ofInt_of_le (by omega) (by omega)
theorem ap_l_toInt {a : Int} (h : -9223372036854775808 ≤ a ∧ a ≤ 9223372036854775807) : (ap_l a).toInt = a := Int64.toInt_ofInt_of_le (by omega) (by omega)
theorem ap_i_le {a b : Int} (ha : -2147483648 ≤ a ∧ a ≤ 2147483647) (hb : -2147483648 ≤ b ∧ b ≤ 2147483647) : ap_i a ≤ ap_i b ↔ a ≤ b := by
  rw [Int32.le_iff_toInt_le, ap_i_toInt ha, ap_i_toInt hb]
theorem ap_i_lt {a b : Int} (ha : -2147483648 ≤ a ∧ a ≤ 2147483647) (hb : -2147483648 ≤ b ∧ b ≤ 2147483647) : ap_i a < ap_i b ↔ a < b := by
  rw [Int32.lt_iff_toInt_lt, ap_i_toInt ha, ap_i_toInt hb]
theorem ap_i_eq {a b : Int} (ha : -2147483648 ≤ a ∧ a ≤ 2147483647) (hb : -2147483648 ≤ b ∧ b ≤ 2147483647) : ap_i a = ap_i b ↔ a = b := by
  rw [← Int32.toInt_inj, ap_i_toInt ha, ap_i_toInt hb]
theorem ap_l_le {a b : Int} (ha : -9223372036854775808 ≤ a ∧ a ≤ 9223372036854775807) (hb : -9223372036854775808 ≤ b ∧ b ≤ 9223372036854775807) : ap_l a ≤ ap_l b ↔ a ≤ b := by
  rw [Int64.le_iff_toInt_le, ap_l_toInt ha, ap_l_toInt hb]
theorem ap_l_lt {a b : Int} (ha : -9223372036854775808 ≤ a ∧ a ≤ 9223372036854775807) (hb : -9223372036854775808 ≤ b ∧ b ≤ 9223372036854775807) : ap_l a < ap_l b ↔ a < b := by
  rw [Int64.lt_iff_toInt_lt, ap_l_toInt ha, ap_l_toInt hb]
theorem ap_l_eq {a b : Int} (ha : -9223372036854775808 ≤ a ∧ a ≤ 9223372036854775807) (hb : -9223372036854775808 ≤ b ∧ b ≤ 9223372036854775807) : ap_l a = ap_l b ↔ a = b := by
  rw [← Int64.toInt_inj, ap_l_toInt ha, ap_l_toInt hb]
theorem ap_l_div {a b : Int} (ha : -9223372036854775808 ≤ a ∧ a ≤ 9223372036854775807) (hb : -9223372036854775808 ≤ b ∧ b ≤ 9223372036854775807) : ap_l a / ap_l b = ap_l (a.tdiv b) :=
  (Int64.ofInt_tdiv (show -9223372036854775808 ≤ a from ha.1) (show a ≤ 9223372036854775807 from ha.2) (show -9223372036854775808 ≤ b from hb.1) (show b ≤ 9223372036854775807 from hb.2)).symm
theorem ap_i_div {a b : Int} (ha : -2147483648 ≤ a ∧ a ≤ 2147483647) (hb : -2147483648 ≤ b ∧ b ≤ 2147483647) : ap_i a / ap_i b = ap_i (a.tdiv b) :=
  (Int32.ofInt_tdiv (show -2147483648 ≤ a from ha.1) (show a ≤ 2147483647 from ha.2) (show -2147483648 ≤ b from hb.1) (show b ≤ 2147483647 from hb.2)).symm
theorem ap_l_rem {a b : Int} (ha : -9223372036854775808 ≤ a ∧ a ≤ 9223372036854775807) (hb : -9223372036854775808 ≤ b ∧ b ≤ 9223372036854775807) : ap_l a - ap_l a / ap_l b * ap_l b = ap_l (a.tmod b) := by
  rw [ap_l_div ha hb, ap_l_mul, ap_l_sub, Int.tmod_def, Int.mul_comm b]
theorem ap_i_rem {a b : Int} (ha : -2147483648 ≤ a ∧ a ≤ 2147483647) (hb : -2147483648 ≤ b ∧ b ≤ 2147483647) : ap_i a - ap_i a / ap_i b * ap_i b = ap_i (a.tmod b) := by
  rw [ap_i_div ha hb, ap_i_mul, ap_i_sub, Int.tmod_def, Int.mul_comm b]
theorem ap_nb {z : Int} (h : -128 ≤ z ∧ z ≤ 127) : (ap_i z).toInt8.toInt32 = ap_i z := by
  unfold ap_i
  rw [Int32.toInt8_ofInt]
  exact Int8.toInt32_ofInt h.1 h.2
theorem ap_vb {z : Int} (h : -128 ≤ z ∧ z ≤ 127) : vp_nar .byte (ap_i z) = ap_i z := by
  rw [vp_nar_byte, ap_nb h]
theorem ap_il {z : Int} (h : -2147483648 ≤ z ∧ z ≤ 2147483647) : (ap_i z).toInt64 = ap_l z := by
  unfold ap_l
  rw [← Int64.ofInt_int32ToInt, ap_i_toInt h]
theorem ap_li (z : Int) : (ap_l z).toInt32 = ap_i z := Int64.toInt32_ofInt
theorem ap_lg (a b : Int) : a < b ∨ b ≤ a := by omega
/-! branches -/
theorem ap_ile {x y : Int32} {A B : Prop} (a b : Int) (hx : x = ap_i a) (hy : y = ap_i b) (f : a ≤ b → A) (g : b < a → B) (ha : -2147483648 ≤ a ∧ a ≤ 2147483647 := by omega) (hb : -2147483648 ≤ b ∧ b ≤ 2147483647 := by omega) : (x ≤ y → A) ∧ (¬ x ≤ y → B) := by
  subst hx hy
  rw [ap_i_le ha hb]
  exact ⟨f, fun z => g (by omega)⟩
theorem ap_ilt {x y : Int32} {A B : Prop} (a b : Int) (hx : x = ap_i a) (hy : y = ap_i b) (f : a < b → A) (g : b ≤ a → B) (ha : -2147483648 ≤ a ∧ a ≤ 2147483647 := by omega) (hb : -2147483648 ≤ b ∧ b ≤ 2147483647 := by omega) : (x < y → A) ∧ (¬ x < y → B) := by
  subst hx hy
  rw [ap_i_lt ha hb]
  exact ⟨f, fun z => g (by omega)⟩
theorem ap_ieq {x y : Int32} {A B : Prop} (a b : Int) (hx : x = ap_i a) (hy : y = ap_i b) (f : a = b → A) (g : ¬ a = b → B) (ha : -2147483648 ≤ a ∧ a ≤ 2147483647 := by omega) (hb : -2147483648 ≤ b ∧ b ≤ 2147483647 := by omega) : (x = y → A) ∧ (¬ x = y → B) := by
  subst hx hy
  rw [ap_i_eq ha hb]
  exact ⟨f, g⟩
theorem ap_lle {x y : Int64} {A B : Prop} (a b : Int) (hx : x = ap_l a) (hy : y = ap_l b) (f : a ≤ b → A) (g : b < a → B) (ha : -9223372036854775808 ≤ a ∧ a ≤ 9223372036854775807 := by omega) (hb : -9223372036854775808 ≤ b ∧ b ≤ 9223372036854775807 := by omega) : (x ≤ y → A) ∧ (¬ x ≤ y → B) := by
  subst hx hy
  rw [ap_l_le ha hb]
  exact ⟨f, fun z => g (by omega)⟩
theorem ap_llt {x y : Int64} {A B : Prop} (a b : Int) (hx : x = ap_l a) (hy : y = ap_l b) (f : a < b → A) (g : b ≤ a → B) (ha : -9223372036854775808 ≤ a ∧ a ≤ 9223372036854775807 := by omega) (hb : -9223372036854775808 ≤ b ∧ b ≤ 9223372036854775807 := by omega) : (x < y → A) ∧ (¬ x < y → B) := by
  subst hx hy
  rw [ap_l_lt ha hb]
  exact ⟨f, fun z => g (by omega)⟩
theorem ap_leq {x y : Int64} {A B : Prop} (a b : Int) (hx : x = ap_l a) (hy : y = ap_l b) (f : a = b → A) (g : ¬ a = b → B) (ha : -9223372036854775808 ≤ a ∧ a ≤ 9223372036854775807 := by omega) (hb : -9223372036854775808 ≤ b ∧ b ≤ 9223372036854775807 := by omega) : (x = y → A) ∧ (¬ x = y → B) := by
  subst hx hy
  rw [ap_l_eq ha hb]
  exact ⟨f, g⟩
/-! a place of the table -/
theorem ap_ix (r k c : Nat) : nI r * nI k + nI c = nI (r * k + c) := by rw [pk_mul, nI_add]
theorem ap_ix3 (r c : Nat) : nI r * 3 + nI c = nI (r * 3 + c) := ap_ix r 3 c
theorem ap_ix5 (r c : Nat) : nI r * 5 + nI c = nI (r * 5 + c) := ap_ix r 5 c
theorem ap_nat_inj5 {r c r' c' : Nat} (hc : c < 5) (hc' : c' < 5) (h : r * 5 + c = r' * 5 + c') : r = r' ∧ c = c' := by omega
theorem ap_nat_inj3 {r c r' c' : Nat} (hc : c < 3) (hc' : c' < 3) (h : r * 3 + c = r' * 3 + c') : r = r' ∧ c = c' := by omega
/-! finite sums -/
def ap_sum (f : Nat → Int) : Nat → Int
  | 0 => 0
  | n + 1 => ap_sum f n + f n
theorem ap_sum_congr {f g : Nat → Int} : ∀ {n : Nat}, (∀ j, j < n → f j = g j) → ap_sum f n = ap_sum g n
  | 0, _ => rfl
  | n + 1, h => by
    show ap_sum f n + f n = ap_sum g n + g n
    rw [ap_sum_congr (fun j hj => h j (by omega)), h n (by omega)]
theorem ap_sum_add (f g : Nat → Int) : ∀ n : Nat, ap_sum (fun j => f j + g j) n = ap_sum f n + ap_sum g n
  | 0 => rfl
  | n + 1 => by
    show ap_sum (fun j => f j + g j) n + (f n + g n) = (ap_sum f n + f n) + (ap_sum g n + g n)
    rw [ap_sum_add f g n]; omega
theorem ap_sum_mul (k : Int) (f : Nat → Int) : ∀ n : Nat, ap_sum (fun j => k * f j) n = k * ap_sum f n
  | 0 => by show (0 : Int) = k * 0; omega
  | n + 1 => by
    show ap_sum (fun j => k * f j) n + k * f n = k * (ap_sum f n + f n)
    rw [ap_sum_mul k f n, Int.mul_add]
theorem ap_sum_mulr (f : Nat → Int) (k : Int) (n : Nat) : ap_sum (fun j => f j * k) n = ap_sum f n * k := by
  rw [Int.mul_comm, ← ap_sum_mul]
  exact ap_sum_congr (fun j _ => Int.mul_comm _ _)
theorem ap_sum_zero : ∀ n : Nat, ap_sum (fun _ => 0) n = 0
  | 0 => rfl
  | n + 1 => by
    show ap_sum (fun _ => 0) n + 0 = 0
    rw [ap_sum_zero n]; rfl
theorem ap_sum_swap (f : Nat → Nat → Int) (m : Nat) : ∀ n : Nat, ap_sum (fun j => ap_sum (fun i => f i j) m) n = ap_sum (fun i => ap_sum (fun j => f i j) n) m
  | 0 => by
    show (0 : Int) = ap_sum (fun i => 0) m
    rw [ap_sum_zero]
  | n + 1 => by
    show ap_sum (fun j => ap_sum (fun i => f i j) m) n + ap_sum (fun i => f i n) m = ap_sum (fun i => ap_sum (fun j => f i j) n + f i n) m
    rw [ap_sum_swap f m n, ap_sum_add]
theorem ap_sum_le {f g : Nat → Int} : ∀ {n : Nat}, (∀ j, j < n → f j ≤ g j) → ap_sum f n ≤ ap_sum g n
  | 0, _ => Int.le_refl _
  | n + 1, h => by
    show ap_sum f n + f n ≤ ap_sum g n + g n
    have h1 := ap_sum_le (f := f) (g := g) (n := n) (fun j hj => h j (by omega))
    have h2 := h n (by omega)
    omega
theorem ap_sum_nonneg {f : Nat → Int} {n : Nat} (h : ∀ j, j < n → 0 ≤ f j) : 0 ≤ ap_sum f n := by
  rw [← ap_sum_zero n]
  exact ap_sum_le h
theorem ap_sum_pick {f : Nat → Int} {c : Nat} : ∀ {n : Nat}, c < n → ap_sum f n = ap_sum (fun j => if j = c then 0 else f j) n + f c
  | 0, h => absurd h (by omega)
  | n + 1, h => by
    show ap_sum f n + f n = (ap_sum (fun j => if j = c then 0 else f j) n + if n = c then 0 else f n) + f c
    by_cases e : n = c
    · subst e
      rw [if_pos rfl, ap_sum_congr (f := fun j => if j = n then 0 else f j) (g := f) (fun j hj => if_neg (by omega))]
      omega
    · rw [ap_sum_pick (f := f) (c := c) (n := n) (by omega), if_neg e]
      omega
theorem ap_sum_one {c : Nat} (x : Int) {n : Nat} (h : c < n) : ap_sum (fun j => if j = c then x else 0) n = x := by
  rw [ap_sum_pick h, if_pos rfl, ap_sum_congr (g := fun _ => 0) (fun j _ => by by_cases e : j = c <;> simp [e]), ap_sum_zero]
  omega
end
section
/-! nodes: a table without its right column: unit, cells, names of rows, names of columns -/
abbrev ap_N : Type := Int × List (List Int) × List Int × List Int
def ap_t (N : ap_N) (r c : Nat) : Int := (N.2.1.getD r []).getD c 0
def ap_rn (N : ap_N) (r : Nat) : Int := N.2.2.1.getD r 0
def ap_cn (N : ap_N) (c : Nat) : Int := N.2.2.2.getD c 0
/-- the right side of a row: a linear form -/
def ap_R (N : ap_N) (w : Nat) (v : Int → Int) (r : Nat) : Int := N.1 * v (ap_rn N r) + ap_sum (fun c => ap_t N r c * v (ap_cn N c)) w
def ap_g (p : Int) : Int := if p < 0 then -1 else 1
def ap_exc (N : ap_N) (row col r c : Nat) : Int :=
  ap_g (ap_t N row col) * (if r = row then (if c = col then N.1 else ap_t N r c) else if c = col then - ap_t N r col else (ap_t N r c * ap_t N row col - ap_t N r col * ap_t N row c) / N.1)
/-- the exchange of a row and a column -/
def ap_ex (N : ap_N) (m w row col : Nat) : ap_N :=
  (ap_g (ap_t N row col) * ap_t N row col, (List.range m).map (fun r => (List.range w).map (fun c => ap_exc N row col r c)), N.2.2.1.set row (ap_cn N col), N.2.2.2.set col (ap_rn N row))
theorem ap_getD_range {α : Type} (f : Nat → α) (d : α) {m r : Nat} (h : r < m) : ((List.range m).map f).getD r d = f r := by
  rw [List.getD_eq_getElem?_getD, List.getElem?_map, List.getElem?_range h]
  rfl
theorem ap_getD_set {α : Type} (l : List α) (d x : α) {i : Nat} (h : i < l.length) (j : Nat) : (l.set i x).getD j d = if j = i then x else l.getD j d := by
  rw [List.getD_eq_getElem?_getD, List.getElem?_set, List.getD_eq_getElem?_getD]
  by_cases e : i = j
  · subst e
    rw [if_pos rfl, if_pos rfl, if_pos h]
    rfl
  · rw [if_neg e, if_neg (fun z => e z.symm)]
theorem ap_ex_t {N : ap_N} {m w row col r c : Nat} (hr : r < m) (hc : c < w) : ap_t (ap_ex N m w row col) r c = ap_exc N row col r c := by
  show (((List.range m).map (fun r => (List.range w).map (fun c => ap_exc N row col r c))).getD r []).getD c 0 = _
  rw [ap_getD_range _ _ hr, ap_getD_range _ _ hc]
theorem ap_ex_rn {N : ap_N} {m w row col r : Nat} (h : row < N.2.2.1.length) : ap_rn (ap_ex N m w row col) r = if r = row then ap_cn N col else ap_rn N r := ap_getD_set _ _ _ h r
theorem ap_ex_cn {N : ap_N} {m w row col c : Nat} (h : col < N.2.2.2.length) : ap_cn (ap_ex N m w row col) c = if c = col then ap_rn N row else ap_cn N c := ap_getD_set _ _ _ h c
/-! all and any below n -/
def ap_all (p : Nat → Bool) : Nat → Bool
  | 0 => true
  | n + 1 => ap_all p n && p n
def ap_any (p : Nat → Bool) : Nat → Bool
  | 0 => false
  | n + 1 => ap_any p n || p n
theorem ap_all_iff {p : Nat → Bool} : ∀ {n : Nat}, ap_all p n = true ↔ ∀ j, j < n → p j = true
  | 0 => ⟨fun _ j hj => absurd hj (by omega), fun _ => rfl⟩
  | n + 1 => by
    show (ap_all p n && p n) = true ↔ _
    rw [Bool.and_eq_true, ap_all_iff]
    constructor
    · intro h j hj
      by_cases e : j = n
      · rw [e]; exact h.2
      · exact h.1 j (by omega)
    · intro h
      exact ⟨fun j hj => h j (by omega), h n (by omega)⟩
theorem ap_any_iff {p : Nat → Bool} : ∀ {n : Nat}, ap_any p n = true ↔ ∃ j, j < n ∧ p j = true
  | 0 => ⟨fun h => (nomatch h), fun h => by obtain ⟨j, hj, _⟩ := h; omega⟩
  | n + 1 => by
    show (ap_any p n || p n) = true ↔ _
    rw [Bool.or_eq_true, ap_any_iff]
    constructor
    · rintro (⟨j, hj, h⟩ | h)
      · exact ⟨j, by omega, h⟩
      · exact ⟨n, by omega, h⟩
    · rintro ⟨j, hj, h⟩
      by_cases e : j = n
      · rw [e] at h; exact Or.inr h
      · exact Or.inl ⟨j, by omega, h⟩
/-- all divisions of an exchange come out even -/
def ap_dv (N : ap_N) (m w row col : Nat) : Bool :=
  ap_all (fun r => decide (r = row) || ap_all (fun c => decide (c = col) || decide ((ap_t N r c * ap_t N row col - ap_t N r col * ap_t N row c) % N.1 = 0)) w) m
def ap_ok (m w : Nat) (N : ap_N) : Bool :=
  decide (0 < N.1) && decide (N.1 ≤ 64) && decide (m ≤ N.2.2.1.length) && decide (w = N.2.2.2.length) && ap_all (fun r => ap_all (fun c => decide (-64 ≤ ap_t N r c) && decide (ap_t N r c ≤ 64)) w) m
  && ap_all (fun r => decide (0 ≤ ap_rn N r) && decide (ap_rn N r ≤ 99)) m && ap_all (fun c => decide (0 ≤ ap_cn N c) && decide (ap_cn N c ≤ 99)) w
def ap_Ok (m w : Nat) (N : ap_N) : Prop := 0 < N.1 ∧ N.1 ≤ 64 ∧ m ≤ N.2.2.1.length ∧ w = N.2.2.2.length ∧ (∀ r, r < m → ∀ c, c < w → -64 ≤ ap_t N r c ∧ ap_t N r c ≤ 64)
  ∧ (∀ r, r < m → 0 ≤ ap_rn N r ∧ ap_rn N r ≤ 99) ∧ (∀ c, c < w → 0 ≤ ap_cn N c ∧ ap_cn N c ≤ 99)
theorem ap_ok_iff {m w : Nat} {N : ap_N} (h : ap_ok m w N = true) : ap_Ok m w N := by
  unfold ap_ok at h
  simp only [Bool.and_eq_true, decide_eq_true_eq, ap_all_iff] at h
  obtain ⟨⟨⟨⟨⟨⟨h1, h2⟩, h3⟩, h4⟩, h5⟩, h6⟩, h7⟩ := h
  exact ⟨h1, h2, h3, h4, h5, h6, h7⟩
theorem ap_dv_iff {N : ap_N} {m w row col : Nat} (h : ap_dv N m w row col = true) : ∀ r, r < m → r ≠ row → ∀ c, c < w → c ≠ col → ∃ k, ap_t N r c * ap_t N row col - ap_t N r col * ap_t N row c = N.1 * k := by
  intro r hr hrr c hc hcc
  have h1 := ap_all_iff.mp h r hr
  rw [Bool.or_eq_true, decide_eq_true_eq] at h1
  have h2 := ap_all_iff.mp (h1.resolve_left hrr) c hc
  rw [Bool.or_eq_true, decide_eq_true_eq, decide_eq_true_eq] at h2
  exact Int.dvd_of_emod_eq_zero (h2.resolve_left hcc)
/-! the program's exchange over any table F, the right column is 4 -/
def ap_exF (F : Nat → Nat → Int) (u : Int) (row col r c : Nat) : Int :=
  ap_g (F row col) * (if r = row then (if c = col then u else F r c) else if c = col then - F r col else (F r c * F row col - F r col * F row c).tdiv u)
def ap_F (N : ap_N) (w : Nat) (v : Int → Int) (r c : Nat) : Int := if c = 4 then ap_R N w v r else ap_t N r c
theorem ap_F4 (N : ap_N) (w : Nat) (v : Int → Int) (r : Nat) : ap_F N w v r 4 = ap_R N w v r := if_pos rfl
theorem ap_Ft (N : ap_N) (w : Nat) (v : Int → Int) (r : Nat) {c : Nat} (h : c < 4) : ap_F N w v r c = ap_t N r c := if_neg (by omega)
/-- the right side after an exchange, undivided -/
theorem ap_ex_R {N : ap_N} {m w row col r : Nat} (v : Int → Int) (hrow : row < m) (hcol : col < w) (hr : r < m) (hu : 0 < N.1) (hl : m ≤ N.2.2.1.length) (hl2 : w = N.2.2.2.length)
    (hd : ∀ r, r < m → r ≠ row → ∀ c, c < w → c ≠ col → ∃ k, ap_t N r c * ap_t N row col - ap_t N r col * ap_t N row c = N.1 * k) :
    (r = row → ap_R (ap_ex N m w row col) w v r = ap_g (ap_t N row col) * ap_R N w v row) ∧
    (r ≠ row → N.1 * ap_R (ap_ex N m w row col) w v r = ap_g (ap_t N row col) * (ap_R N w v r * ap_t N row col - ap_t N r col * ap_R N w v row)) := by
  have hrn : ap_rn (ap_ex N m w row col) r = if r = row then ap_cn N col else ap_rn N r := ap_ex_rn (by omega)
  have hu' : (ap_ex N m w row col).1 = ap_g (ap_t N row col) * ap_t N row col := rfl
  have hs : ∀ F : Nat → Int, (∀ c, c < w → c ≠ col → ap_t (ap_ex N m w row col) r c = F c) →
      ap_sum (fun c => ap_t (ap_ex N m w row col) r c * v (ap_cn (ap_ex N m w row col) c)) w = ap_sum (fun c => if c = col then 0 else F c * v (ap_cn N c)) w + ap_t (ap_ex N m w row col) r col * v (ap_rn N row) := by
    intro F hF
    rw [ap_sum_pick hcol, ap_ex_cn (by omega), if_pos rfl]
    congr 1
    refine ap_sum_congr (fun c hc => ?_)
    by_cases e : c = col
    · rw [if_pos e, if_pos e]
    · rw [if_neg e, if_neg e, hF c hc e, ap_ex_cn (by omega), if_neg e]
  constructor
  · intro e
    subst e
    have h1 := hs (fun c => ap_g (ap_t N r col) * ap_t N r c) (fun c hc hcc => by rw [ap_ex_t hr hc]; unfold ap_exc; rw [if_pos rfl, if_neg hcc])
    have h2 : ap_t (ap_ex N m w r col) r col = ap_g (ap_t N r col) * N.1 := by rw [ap_ex_t hr hcol]; unfold ap_exc; rw [if_pos rfl, if_pos rfl]
    have h3 : ap_sum (fun c => if c = col then 0 else ap_g (ap_t N r col) * ap_t N r c * v (ap_cn N c)) w = ap_g (ap_t N r col) * ap_sum (fun c => if c = col then 0 else ap_t N r c * v (ap_cn N c)) w := by
      rw [← ap_sum_mul]
      refine ap_sum_congr (fun c hc => ?_)
      by_cases e : c = col
      · rw [if_pos e, if_pos e, Int.mul_zero]
      · rw [if_neg e, if_neg e, Int.mul_assoc]
    unfold ap_R
    rw [h1, hrn, if_pos rfl, hu', h2, h3, ap_sum_pick (f := fun c => ap_t N r c * v (ap_cn N c)) hcol]
    generalize ap_sum (fun c => if c = col then 0 else ap_t N r c * v (ap_cn N c)) w = S
    generalize ap_g (ap_t N r col) = g
    generalize ap_t N r col = p
    generalize v (ap_cn N col) = x
    generalize v (ap_rn N r) = y
    generalize N.1 = u
    grind
  · intro e
    have h1 := hs (fun c => ap_g (ap_t N row col) * ((ap_t N r c * ap_t N row col - ap_t N r col * ap_t N row c) / N.1)) (fun c hc hcc => by rw [ap_ex_t hr hc]; unfold ap_exc; rw [if_neg e, if_neg hcc])
    have h2 : ap_t (ap_ex N m w row col) r col = ap_g (ap_t N row col) * (- ap_t N r col) := by rw [ap_ex_t hr hcol]; unfold ap_exc; rw [if_neg e, if_pos rfl]
    have h3 : N.1 * ap_sum (fun c => if c = col then 0 else ap_g (ap_t N row col) * ((ap_t N r c * ap_t N row col - ap_t N r col * ap_t N row c) / N.1) * v (ap_cn N c)) w = ap_g (ap_t N row col) * (ap_t N row col * ap_sum (fun c => if c = col then 0 else ap_t N r c * v (ap_cn N c)) w + - ap_t N r col * ap_sum (fun c => if c = col then 0 else ap_t N row c * v (ap_cn N c)) w) := by
      rw [← ap_sum_mul, ← ap_sum_mul, ← ap_sum_mul, ← ap_sum_add, ← ap_sum_mul]
      refine ap_sum_congr (fun c hc => ?_)
      by_cases ec : c = col
      · rw [if_pos ec, if_pos ec, if_pos ec, Int.mul_zero, Int.mul_zero, Int.mul_zero, Int.add_zero, Int.mul_zero]
      · rw [if_neg ec, if_neg ec, if_neg ec]
        obtain ⟨k, hk⟩ := hd r hr e c hc ec
        rw [hk, Int.mul_ediv_cancel_left _ (by omega)]
        generalize ap_g (ap_t N row col) = g at *
        generalize ap_t N row col = p at *
        generalize v (ap_cn N c) = x
        generalize ap_t N r c = a at *
        generalize ap_t N r col = b at *
        generalize ap_t N row c = d at *
        have : N.1 * (g * k * x) = g * ((N.1 * k) * x) := by grind
        rw [this, ← hk]
        grind
    unfold ap_R
    rw [h1, hrn, if_neg e, hu', h2, Int.mul_add, Int.mul_add, h3, ap_sum_pick (f := fun c => ap_t N r c * v (ap_cn N c)) hcol, ap_sum_pick (f := fun c => ap_t N row c * v (ap_cn N c)) hcol]
    generalize ap_sum (fun c => if c = col then 0 else ap_t N r c * v (ap_cn N c)) w = S
    generalize ap_sum (fun c => if c = col then 0 else ap_t N row c * v (ap_cn N c)) w = S'
    generalize ap_g (ap_t N row col) = g
    generalize ap_t N r col = t
    generalize ap_t N row col = p
    generalize v (ap_cn N col) = x
    generalize v (ap_rn N r) = y
    generalize v (ap_rn N row) = y'
    generalize N.1 = u
    grind
theorem ap_tdiv_eq {x u k : Int} (hu : 0 < u) (h : x = u * k) : x.tdiv u = k := by
  rw [h, Int.mul_tdiv_cancel_left _ (by omega)]
theorem ap_g_sq (p : Int) : ap_g p * ap_g p = 1 := by
  unfold ap_g
  by_cases h : p < 0
  · rw [if_pos h]; rfl
  · rw [if_neg h]; rfl
theorem ap_g_abs {p : Int} (h : p ≠ 0) : 0 < ap_g p * p := by
  unfold ap_g
  by_cases h : p < 0
  · rw [if_pos h]; omega
  · rw [if_neg h]; omega
/-- what the program's exchange leaves is the next node's table -/
theorem ap_ex_F {N : ap_N} {m w row col : Nat} (v : Int → Int) (hw : w ≤ 4) (hrow : row < m) (hcol : col < w) (ho : ap_Ok m w N) (hd : ap_dv N m w row col = true) :
    ∀ r, r < m → ∀ c, (c < w ∨ c = 4) → ap_exF (ap_F N w v) N.1 row col r c = ap_F (ap_ex N m w row col) w v r c := by
  intro r hr c hc
  obtain ⟨hu, _, hl, hl2, _⟩ := ho
  have hd' := ap_dv_iff hd
  have hp : ap_F N w v row col = ap_t N row col := ap_Ft _ _ _ _ (by omega)
  have hq : ap_F N w v r col = ap_t N r col := ap_Ft _ _ _ _ (by omega)
  have hR := ap_ex_R (r := r) v hrow hcol hr hu hl hl2 hd'
  unfold ap_exF
  rw [hp, hq]
  rcases hc with hc | hc
  · rw [ap_Ft _ _ _ _ (by omega), ap_Ft _ _ _ _ (by omega), ap_Ft _ _ _ _ (by omega), ap_ex_t hr hc]
    unfold ap_exc
    by_cases e : r = row
    · rw [if_pos e, if_pos e]
    · rw [if_neg e, if_neg e]
      by_cases ec : c = col
      · rw [if_pos ec, if_pos ec]
      · rw [if_neg ec, if_neg ec]
        obtain ⟨k, hk⟩ := hd' r hr e c hc ec
        rw [ap_tdiv_eq hu hk, hk, Int.mul_ediv_cancel_left _ (by omega)]
  · subst hc
    rw [ap_F4, ap_F4, ap_F4]
    by_cases e : r = row
    · subst e
      rw [if_pos rfl, if_neg (by omega), hR.1 rfl]
    · rw [if_neg e, if_neg (by omega)]
      have h := hR.2 e
      have hg := ap_g_sq (ap_t N row col)
      rw [ap_tdiv_eq (k := ap_g (ap_t N row col) * ap_R (ap_ex N m w row col) w v r) hu, ← Int.mul_assoc, hg, Int.one_mul]
      have : N.1 * (ap_g (ap_t N row col) * ap_R (ap_ex N m w row col) w v r) = ap_g (ap_t N row col) * (N.1 * ap_R (ap_ex N m w row col) w v r) := by
        rw [← Int.mul_assoc, Int.mul_comm N.1, Int.mul_assoc]
      rw [this, h, ← Int.mul_assoc, hg, Int.one_mul]
/-! linear forms -/
def ap_e (j : Nat) (m : Int) : Int := if m = 3 + (j : Int) then 1 else 0
def ap_v (K : Nat) (β : Nat → Int) (m : Int) : Int := if 3 ≤ m ∧ m < 3 + (K : Int) then β (m - 3).toNat else 0
theorem ap_v_sum (K : Nat) (β : Nat → Int) (m : Int) : ap_v K β m = ap_sum (fun j => ap_e j m * β j) K := by
  unfold ap_v ap_e
  by_cases h : 3 ≤ m ∧ m < 3 + (K : Int)
  · rw [if_pos h]
    have e : ap_sum (fun j => (if m = 3 + (j : Int) then 1 else 0) * β j) K = ap_sum (fun j => if j = (m - 3).toNat then β (m - 3).toNat else 0) K := by
      refine ap_sum_congr (fun j hj => ?_)
      by_cases ej : j = (m - 3).toNat
      · rw [if_pos ej, if_pos (by omega), ← ej, Int.one_mul]
      · rw [if_neg ej, if_neg (by omega), Int.zero_mul]
    rw [e, ap_sum_one _ (by omega)]
  · rw [if_neg h]
    have e : ap_sum (fun j => (if m = 3 + (j : Int) then 1 else 0) * β j) K = ap_sum (fun _ => 0) K := by
      refine ap_sum_congr (fun j hj => ?_)
      rw [if_neg (by omega), Int.zero_mul]
    rw [e, ap_sum_zero]
theorem ap_R_lin (N : ap_N) (w K : Nat) (β : Nat → Int) (r : Nat) : ap_R N w (ap_v K β) r = ap_sum (fun j => ap_R N w (ap_e j) r * β j) K := by
  unfold ap_R
  have h1 : ap_sum (fun c => ap_t N r c * ap_v K β (ap_cn N c)) w = ap_sum (fun c => ap_sum (fun j => ap_t N r c * (ap_e j (ap_cn N c) * β j)) K) w :=
    ap_sum_congr (fun c _ => by rw [ap_v_sum, ap_sum_mul])
  rw [h1, ap_sum_swap (fun j c => ap_t N r c * (ap_e j (ap_cn N c) * β j)), ap_v_sum, ← ap_sum_mul, ← ap_sum_add]
  refine ap_sum_congr (fun j _ => ?_)
  rw [Int.add_mul, ← ap_sum_mulr, Int.mul_assoc]
  congr 1
  exact ap_sum_congr (fun c _ => by rw [Int.mul_assoc])
theorem ap_v_bd {K : Nat} {β : Nat → Int} {B : Int} (hB : 0 ≤ B) (h : ∀ j, j < K → -B ≤ β j ∧ β j ≤ B) (m : Int) : -B ≤ ap_v K β m ∧ ap_v K β m ≤ B := by
  unfold ap_v
  by_cases e : 3 ≤ m ∧ m < 3 + (K : Int)
  · rw [if_pos e]
    exact h _ (by omega)
  · rw [if_neg e]
    omega
theorem ap_mul_bd {a b A B : Int} (hA : 0 ≤ A) (hB : 0 ≤ B) (ha : -A ≤ a ∧ a ≤ A) (hb : -B ≤ b ∧ b ≤ B) : -(A * B) ≤ a * b ∧ a * b ≤ A * B := by
  have h : (a * b).natAbs ≤ (A * B).natAbs := by
    rw [Int.natAbs_mul, Int.natAbs_mul]
    exact Nat.mul_le_mul (by omega) (by omega)
  have h0 : 0 ≤ A * B := Int.mul_nonneg hA hB
  omega
theorem ap_sum_bd {f : Nat → Int} {B : Int} : ∀ {n : Nat}, (∀ j, j < n → -B ≤ f j ∧ f j ≤ B) → -(B * n) ≤ ap_sum f n ∧ ap_sum f n ≤ B * n
  | 0, _ => by
    show -(B * 0) ≤ (0 : Int) ∧ (0 : Int) ≤ B * 0
    omega
  | n + 1, h => by
    have h1 := ap_sum_bd (f := f) (B := B) (n := n) (fun j hj => h j (by omega))
    have h2 := h n (by omega)
    show -(B * ((n + 1 : Nat) : Int)) ≤ ap_sum f n + f n ∧ ap_sum f n + f n ≤ B * ((n + 1 : Nat) : Int)
    have h3 : B * ((n + 1 : Nat) : Int) = B * n + B := by
      rw [Int.natCast_add, Int.mul_add]
      simp
    omega
theorem ap_R_bd {N : ap_N} {m w : Nat} {v : Int → Int} {r : Nat} (ho : ap_Ok m w N) (hr : r < m) (hw : w ≤ 4) (hv : ∀ x, -4096 ≤ v x ∧ v x ≤ 4096) : -1310720 ≤ ap_R N w v r ∧ ap_R N w v r ≤ 1310720 := by
  obtain ⟨h1, h2, _, _, h5, _⟩ := ho
  unfold ap_R
  have a := ap_mul_bd (a := N.1) (b := v (ap_rn N r)) (A := 64) (B := 4096) (by decide) (by decide) (by omega) (hv _)
  have b := ap_sum_bd (f := fun c => ap_t N r c * v (ap_cn N c)) (B := 64 * 4096) (n := w) (fun c hc => ap_mul_bd (by decide) (by decide) (h5 r hr c hc) (hv _))
  omega
theorem ap_F_bd {N : ap_N} {m w : Nat} {v : Int → Int} {r c : Nat} (ho : ap_Ok m w N) (hr : r < m) (hw : w ≤ 4) (hc : c < w ∨ c = 4) (hv : ∀ x, -4096 ≤ v x ∧ v x ≤ 4096) : -1310720 ≤ ap_F N w v r c ∧ ap_F N w v r c ≤ 1310720 := by
  rcases hc with hc | hc
  · rw [ap_Ft _ _ _ _ (by omega)]
    have := ho.2.2.2.2.1 r hr c hc
    omega
  · subst hc
    rw [ap_F4]
    exact ap_R_bd ho hr hw hv
end
section
/-! forcing, for the kernel -/
def ap_fI {α : Type} (x : Int) (k : Int → α) : α := match x with
  | .ofNat n => (match n with | 0 => k (.ofNat 0) | m + 1 => k (.ofNat (Nat.succ m)))
  | .negSucc n => (match n with | 0 => k (.negSucc 0) | m + 1 => k (.negSucc (Nat.succ m)))
theorem ap_fI_eq {α : Type} (x : Int) (k : Int → α) : ap_fI x k = k x := by
  cases x with
  | ofNat n => cases n <;> rfl
  | negSucc n => cases n <;> rfl
def ap_fL {α : Type} : List Int → (List Int → α) → α
  | [], k => k []
  | x :: l, k => ap_fI x (fun y => ap_fL l (fun l' => k (y :: l')))
theorem ap_fL_eq {α : Type} : ∀ (l : List Int) (k : List Int → α), ap_fL l k = k l
  | [], k => rfl
  | x :: l, k => by
    show ap_fI x (fun y => ap_fL l (fun l' => k (y :: l'))) = _
    rw [ap_fI_eq, ap_fL_eq l]
def ap_fM {α : Type} : List (List Int) → (List (List Int) → α) → α
  | [], k => k []
  | x :: l, k => ap_fL x (fun y => ap_fM l (fun l' => k (y :: l')))
theorem ap_fM_eq {α : Type} : ∀ (l : List (List Int)) (k : List (List Int) → α), ap_fM l k = k l
  | [], k => rfl
  | x :: l, k => by
    show ap_fL x (fun y => ap_fM l (fun l' => k (y :: l'))) = _
    rw [ap_fL_eq, ap_fM_eq l]
def ap_fN {α : Type} (N : ap_N) (k : ap_N → α) : α := ap_fI N.1 (fun u => ap_fM N.2.1 (fun T => ap_fL N.2.2.1 (fun rn => ap_fL N.2.2.2 (fun cn => k (u, T, rn, cn)))))
theorem ap_fN_eq {α : Type} (N : ap_N) (k : ap_N → α) : ap_fN N k = k N := by
  unfold ap_fN
  rw [ap_fI_eq, ap_fM_eq, ap_fL_eq, ap_fL_eq]
/-! the program's choices that the node alone decides -/
def ap_hp (N : ap_N) (c : Nat) : Nat → Nat → Bool
  | 0, _ => false
  | k + 1, f => if ap_t N f c = 0 then ap_hp N c k (f + 1) else decide (ap_t N f c < 0)
def ap_en (N : ap_N) (f k : Nat) : Nat → Int
  | 0 => -1
  | c + 1 => ap_fI (ap_en N f k c) (fun b => if ap_hp N c k f = true ∧ (b < 0 ∨ ap_cn N c < ap_cn N b.toNat) then (c : Int) else b)
theorem ap_en_succ (N : ap_N) (f k c : Nat) : ap_en N f k (c + 1) = if ap_hp N c k f = true ∧ (ap_en N f k c < 0 ∨ ap_cn N c < ap_cn N (ap_en N f k c).toNat) then (c : Int) else ap_en N f k c := by
  show ap_fI (ap_en N f k c) _ = _
  rw [ap_fI_eq]
theorem ap_en_lt (N : ap_N) (f k : Nat) : ∀ c : Nat, -1 ≤ ap_en N f k c ∧ ap_en N f k c < c
  | 0 => by show -1 ≤ (-1 : Int) ∧ (-1 : Int) < 0; decide
  | c + 1 => by
    have := ap_en_lt N f k c
    rw [ap_en_succ]
    by_cases h : ap_hp N c k f = true ∧ (ap_en N f k c < 0 ∨ ap_cn N c < ap_cn N (ap_en N f k c).toNat)
    · rw [if_pos h]; omega
    · rw [if_neg h]; omega
/-- the walk of exchanges over every row that may be chosen -/
def ap_x (n m w f k : Nat) (ct : ap_N → Bool) : Nat → ap_N → Bool
  | 0, _ => false
  | q + 1, N => ap_fN N (fun N => ap_ok m w N && ap_fI (ap_en N f k w) (fun c => if c < 0 then ct N else
      ap_any (fun r => decide (0 < ap_t N r c.toNat)) n && ap_all (fun r => decide (ap_t N r c.toNat ≤ 0) || (ap_dv N m w r c.toNat && ap_x n m w f k ct q (ap_ex N m w r c.toNat))) n))
theorem ap_x_out {n m w f k : Nat} {ct : ap_N → Bool} {q : Nat} {N : ap_N} (h : ap_x n m w f k ct (q + 1) N = true) :
    ap_Ok m w N ∧ (ap_en N f k w < 0 → ct N = true) ∧ (¬ ap_en N f k w < 0 → (∃ r, r < n ∧ 0 < ap_t N r (ap_en N f k w).toNat) ∧
      ∀ r, r < n → 0 < ap_t N r (ap_en N f k w).toNat → ap_dv N m w r (ap_en N f k w).toNat = true ∧ ap_x n m w f k ct q (ap_ex N m w r (ap_en N f k w).toNat) = true) := by
  have h' : (ap_ok m w N && ap_fI (ap_en N f k w) (fun c => if c < 0 then ct N else
      ap_any (fun r => decide (0 < ap_t N r c.toNat)) n && ap_all (fun r => decide (ap_t N r c.toNat ≤ 0) || (ap_dv N m w r c.toNat && ap_x n m w f k ct q (ap_ex N m w r c.toNat))) n)) = true := by
    rw [← ap_fN_eq N (fun N => ap_ok m w N && ap_fI (ap_en N f k w) (fun c => if c < 0 then ct N else
      ap_any (fun r => decide (0 < ap_t N r c.toNat)) n && ap_all (fun r => decide (ap_t N r c.toNat ≤ 0) || (ap_dv N m w r c.toNat && ap_x n m w f k ct q (ap_ex N m w r c.toNat))) n))]
    exact h
  rw [ap_fI_eq, Bool.and_eq_true] at h'
  refine ⟨ap_ok_iff h'.1, fun e => ?_, fun e => ?_⟩
  · have h2 := h'.2
    rw [if_pos e] at h2
    exact h2
  · have h2 := h'.2
    rw [if_neg e, Bool.and_eq_true] at h2
    constructor
    · obtain ⟨r, hr, h3⟩ := ap_any_iff.mp h2.1
      exact ⟨r, hr, of_decide_eq_true h3⟩
    · intro r hr hp
      have h3 := ap_all_iff.mp h2.2 r hr
      rw [Bool.or_eq_true, decide_eq_true_eq] at h3
      have h4 := h3.resolve_left (by omega)
      rw [Bool.and_eq_true] at h4
      exact h4
/-! certificates -/
def ap_A (A : List (List Int)) (k i : Nat) : Int := (A.getD k []).getD i 0
def ap_ow (N : ap_N) (f : Nat → Int) (i : Int) : Nat → Int
  | 0 => 0
  | r + 1 => if ap_rn N r = i then f r else ap_ow N f i r
def ap_co (N : ap_N) (w r j : Nat) : Int := ap_R N w (ap_e j) r
def ap_oc (N : ap_N) (n i j : Nat) : Int := ap_ow N (fun r => ap_co N 3 r j) i n
def ap_sc (n : Nat) (A : List (List Int)) (N : ap_N) (k j : Nat) : Int :=
  (if j = k then N.1 else 0) - (ap_A A k 0 * ap_oc N n 0 j + ap_A A k 1 * ap_oc N n 1 j + ap_A A k 2 * ap_oc N n 2 j)
/-- the last node of a search: its point is feasible, its worth is the point's, and its worth row bounds every other -/
def ap_ct (n : Nat) (A : List (List Int)) (cv : List Int) (N : ap_N) : Bool :=
  ap_all (fun k => ap_any (fun r => decide (ap_rn N r = 3 + (k : Int)) && ap_all (fun j => decide (ap_sc n A N k j = ap_co N 3 r j)) (n + 4)) n || ap_all (fun j => decide (ap_sc n A N k j = 0)) (n + 4)) n
  && ap_all (fun j => decide (ap_co N 3 n j = (if j = n then N.1 else 0) + (cv.getD 0 0 * ap_oc N n 0 j + cv.getD 1 0 * ap_oc N n 1 j + cv.getD 2 0 * ap_oc N n 2 j))) (n + 4)
  && ap_all (fun k => decide (0 ≤ ap_co N 3 n k)) n
  && decide (ap_co N 3 n n = N.1) && decide (ap_co N 3 n (n + 1) = 0) && decide (ap_co N 3 n (n + 2) = 0) && decide (ap_co N 3 n (n + 3) = 0)
  && ap_all (fun i => decide (N.1 * cv.getD i 0 ≤ ap_sum (fun k => ap_co N 3 n k * ap_A A k i) n)) 3
/-- a form that no feasible point lets be negative -/
def ap_nn (n : Nat) (A : List (List Int)) (f : Nat → Int) : Bool :=
  ap_all (fun k => decide (0 ≤ f k)) n && decide (f n = 0) && decide (f (n + 1) = 0) && decide (f (n + 2) = 0) && decide (f (n + 3) = 0)
  && ap_all (fun i => decide (0 ≤ ap_sum (fun k => f k * ap_A A k i) n)) 3
/-- a point x over s: amounts and all inequalities -/
def ap_fe (n : Nat) (A : List (List Int)) (β : Nat → Int) (s x0 x1 x2 : Int) : Prop :=
  0 ≤ x0 ∧ 0 ≤ x1 ∧ 0 ≤ x2 ∧ ∀ k, k < n → ap_A A k 0 * x0 + ap_A A k 1 * x1 + ap_A A k 2 * x2 ≤ s * β k
theorem ap_ow_lin (N : ap_N) (K : Nat) (β : Nat → Int) (i : Int) : ∀ n : Nat, ap_ow N (fun r => ap_R N 3 (ap_v K β) r) i n = ap_sum (fun j => ap_ow N (fun r => ap_co N 3 r j) i n * β j) K
  | 0 => by
    show (0 : Int) = ap_sum (fun j => 0 * β j) K
    rw [ap_sum_congr (g := fun _ => 0) (fun j _ => Int.zero_mul _), ap_sum_zero]
  | n + 1 => by
    show (if ap_rn N n = i then ap_R N 3 (ap_v K β) n else ap_ow N (fun r => ap_R N 3 (ap_v K β) r) i n) = ap_sum (fun j => (if ap_rn N n = i then ap_co N 3 n j else ap_ow N (fun r => ap_co N 3 r j) i n) * β j) K
    by_cases e : ap_rn N n = i
    · rw [if_pos e, ap_R_lin]
      exact ap_sum_congr (fun j _ => by rw [if_pos e]; rfl)
    · rw [if_neg e, ap_ow_lin N K β i n]
      exact ap_sum_congr (fun j _ => by rw [if_neg e])
theorem ap_ow_nn {N : ap_N} {f : Nat → Int} {i : Int} : ∀ {n : Nat}, (∀ r, r < n → 0 ≤ f r) → 0 ≤ ap_ow N f i n
  | 0, _ => Int.le_refl 0
  | n + 1, h => by
    show 0 ≤ if ap_rn N n = i then f n else ap_ow N f i n
    by_cases e : ap_rn N n = i
    · rw [if_pos e]; exact h n (by omega)
    · rw [if_neg e]; exact ap_ow_nn (fun r hr => h r (by omega))
theorem ap_sum4 (f : Nat → Int) (n : Nat) : ap_sum f (n + 4) = ap_sum f n + f n + f (n + 1) + f (n + 2) + f (n + 3) := rfl
theorem ap_sum_lin3 (f : Nat → Int) (a b c : Nat → Int) (x y z : Int) (n : Nat) : ap_sum (fun k => f k * (a k * x + b k * y + c k * z)) n = ap_sum (fun k => f k * a k) n * x + ap_sum (fun k => f k * b k) n * y + ap_sum (fun k => f k * c k) n * z := by
  rw [← ap_sum_mulr, ← ap_sum_mulr, ← ap_sum_mulr, ← ap_sum_add, ← ap_sum_add]
  refine ap_sum_congr (fun k _ => ?_)
  generalize f k = p
  generalize a k = q
  generalize b k = r
  generalize c k = s
  grind
/-- weak duality -/
theorem ap_dual {n : Nat} {A : List (List Int)} {β f : Nat → Int} {s x0 x1 x2 : Int} (hf : ∀ k, k < n → 0 ≤ f k) (h : ap_fe n A β s x0 x1 x2) :
    ap_sum (fun k => f k * ap_A A k 0) n * x0 + ap_sum (fun k => f k * ap_A A k 1) n * x1 + ap_sum (fun k => f k * ap_A A k 2) n * x2 ≤ s * ap_sum (fun k => f k * β k) n := by
  rw [← ap_sum_lin3, ← ap_sum_mul]
  refine ap_sum_le (fun k hk => ?_)
  have h1 := Int.mul_le_mul_of_nonneg_left (h.2.2.2 k hk) (hf k hk)
  have h2 : f k * (s * β k) = s * (f k * β k) := by rw [← Int.mul_assoc, Int.mul_comm (f k), Int.mul_assoc]
  omega
theorem ap_nn_out {n : Nat} {A : List (List Int)} {β f : Nat → Int} {s x0 x1 x2 : Int} (hn : ap_nn n A f = true) (hs : 0 < s) (h : ap_fe n A β s x0 x1 x2) : 0 ≤ ap_sum (fun j => f j * β j) (n + 4) := by
  unfold ap_nn at hn
  simp only [Bool.and_eq_true, decide_eq_true_eq, ap_all_iff] at hn
  obtain ⟨⟨⟨⟨⟨h1, h2⟩, h3⟩, h4⟩, h5⟩, h6⟩ := hn
  have hd := ap_dual h1 h
  obtain ⟨a0, a1, a2, _⟩ := h
  have p0 := Int.mul_nonneg (h6 0 (by omega)) a0
  have p1 := Int.mul_nonneg (h6 1 (by omega)) a1
  have p2 := Int.mul_nonneg (h6 2 (by omega)) a2
  have hp : 0 ≤ s * ap_sum (fun k => f k * β k) n := by omega
  rw [ap_sum4, h2, h3, h4, h5, Int.zero_mul, Int.zero_mul, Int.zero_mul, Int.zero_mul]
  have hq : 0 ≤ ap_sum (fun k => f k * β k) n := by
    rcases ap_lg (ap_sum (fun k => f k * β k) n) 0 with z | z
    · have := Int.mul_neg_of_pos_of_neg hs z
      omega
    · exact z
  omega
theorem ap_lp {n : Nat} {A : List (List Int)} {cv : List Int} {N : ap_N} {β : Nat → Int} {X : Nat → Int} (hc : ap_ct n A cv N = true)
    (hX : ∀ i : Nat, i < 3 → X i = ap_ow N (fun r => ap_R N 3 (ap_v (n + 4) β) r) i n) (hR : ∀ r, r < n → 0 ≤ ap_R N 3 (ap_v (n + 4) β) r) :
    ap_fe n A β N.1 (X 0) (X 1) (X 2)
    ∧ ap_R N 3 (ap_v (n + 4) β) n = N.1 * β n + (cv.getD 0 0 * X 0 + cv.getD 1 0 * X 1 + cv.getD 2 0 * X 2)
    ∧ ∀ s x0 x1 x2, ap_fe n A β s x0 x1 x2 → N.1 * (cv.getD 0 0 * x0 + cv.getD 1 0 * x1 + cv.getD 2 0 * x2) ≤ s * (ap_R N 3 (ap_v (n + 4) β) n - N.1 * β n) := by
  unfold ap_ct at hc
  simp only [Bool.and_eq_true, decide_eq_true_eq, ap_all_iff] at hc
  obtain ⟨⟨⟨⟨⟨⟨⟨h1, h2⟩, h3⟩, h4⟩, h5⟩, h6⟩, h7⟩, h8⟩ := hc
  have hXl : ∀ i : Nat, i < 3 → X i = ap_sum (fun j => ap_oc N n i j * β j) (n + 4) := fun i hi => by
    rw [hX i hi, ap_ow_lin]
    rfl
  have hu : ∀ k, k < n + 4 → ap_sum (fun j => (if j = k then N.1 else 0) * β j) (n + 4) = N.1 * β k := by
    intro k hk
    rw [ap_sum_congr (g := fun j => if j = k then N.1 * β k else 0) (fun j _ => by
      by_cases e : j = k
      · rw [if_pos e, if_pos e, e]
      · rw [if_neg e, if_neg e, Int.zero_mul]), ap_sum_one _ hk]
  have hlin : ∀ a b c : Int, ap_sum (fun j => (a * ap_oc N n 0 j + b * ap_oc N n 1 j + c * ap_oc N n 2 j) * β j) (n + 4) = a * X 0 + b * X 1 + c * X 2 := by
    intro a b c
    rw [hXl 0 (by omega), hXl 1 (by omega), hXl 2 (by omega), ← ap_sum_mul, ← ap_sum_mul, ← ap_sum_mul, ← ap_sum_add, ← ap_sum_add]
    refine ap_sum_congr (fun j _ => ?_)
    generalize ap_oc N n 0 j = p
    generalize ap_oc N n 1 j = q
    generalize ap_oc N n 2 j = r
    generalize β j = y
    grind
  refine ⟨⟨?_, ?_, ?_, ?_⟩, ?_, ?_⟩
  · rw [hX 0 (by omega)]; exact ap_ow_nn hR
  · rw [hX 1 (by omega)]; exact ap_ow_nn hR
  · rw [hX 2 (by omega)]; exact ap_ow_nn hR
  · intro k hk
    have hs : ap_sum (fun j => ap_sc n A N k j * β j) (n + 4) = N.1 * β k - (ap_A A k 0 * X 0 + ap_A A k 1 * X 1 + ap_A A k 2 * X 2) := by
      rw [← hlin, ← hu k (by omega)]
      have e : ∀ a b : Int, a - b = a + (-1) * b := fun a b => by omega
      rw [e, ← ap_sum_mul, ← ap_sum_add]
      refine ap_sum_congr (fun j _ => ?_)
      unfold ap_sc
      generalize (if j = k then N.1 else 0) = p
      generalize ap_A A k 0 * ap_oc N n 0 j + ap_A A k 1 * ap_oc N n 1 j + ap_A A k 2 * ap_oc N n 2 j = q
      generalize β j = y
      grind
    have hs0 : 0 ≤ ap_sum (fun j => ap_sc n A N k j * β j) (n + 4) := by
      have h := h1 k hk
      rw [Bool.or_eq_true] at h
      rcases h with h | h
      · obtain ⟨r, hr, hq⟩ := ap_any_iff.mp h
        rw [Bool.and_eq_true] at hq
        have hq2 := ap_all_iff.mp hq.2
        have hq3 : ap_sum (fun j => ap_sc n A N k j * β j) (n + 4) = ap_R N 3 (ap_v (n + 4) β) r := by
          rw [ap_R_lin]
          exact ap_sum_congr (fun j hj => by rw [of_decide_eq_true (hq2 j hj)]; rfl)
        rw [hq3]
        exact hR r hr
      · have hq2 := ap_all_iff.mp h
        rw [ap_sum_congr (g := fun _ => 0) (fun j hj => by rw [of_decide_eq_true (hq2 j hj), Int.zero_mul]), ap_sum_zero]
        exact Int.le_refl 0
    omega
  · rw [ap_R_lin, ← hlin, ← hu n (by omega), ← ap_sum_add]
    refine ap_sum_congr (fun j hj => ?_)
    rw [← Int.add_mul, ← h2 j hj]
    rfl
  · intro s x0 x1 x2 hf
    have e : ap_R N 3 (ap_v (n + 4) β) n - N.1 * β n = ap_sum (fun k => ap_co N 3 n k * β k) n := by
      rw [ap_R_lin, ap_sum4]
      have e4 : ap_R N 3 (ap_e n) n = N.1 := h4
      have e5 : ap_R N 3 (ap_e (n + 1)) n = 0 := h5
      have e6 : ap_R N 3 (ap_e (n + 2)) n = 0 := h6
      have e7 : ap_R N 3 (ap_e (n + 3)) n = 0 := h7
      rw [e4, e5, e6, e7, Int.zero_mul, Int.zero_mul, Int.zero_mul]
      show ap_sum (fun k => ap_co N 3 n k * β k) n + N.1 * β n + 0 + 0 + 0 - N.1 * β n = _
      omega
    rw [e]
    have hd := ap_dual h3 hf
    obtain ⟨a0, a1, a2, _⟩ := hf
    have p0 := Int.mul_le_mul_of_nonneg_right (h8 0 (by omega)) a0
    have p1 := Int.mul_le_mul_of_nonneg_right (h8 1 (by omega)) a1
    have p2 := Int.mul_le_mul_of_nonneg_right (h8 2 (by omega)) a2
    have ex : N.1 * (cv.getD 0 0 * x0 + cv.getD 1 0 * x1 + cv.getD 2 0 * x2) = N.1 * cv.getD 0 0 * x0 + N.1 * cv.getD 1 0 * x1 + N.1 * cv.getD 2 0 * x2 := by
      rw [Int.mul_add, Int.mul_add, Int.mul_assoc, Int.mul_assoc, Int.mul_assoc]
    omega
end
section
/-! the search for a point: the row and the column of the additional variable -/
def ap_fr (N : ap_N) (x : Int) : Nat → Nat → Nat
  | 0, r => r
  | k + 1, r => if ap_rn N r = x then r else ap_fr N x k (r + 1)
def ap_fc (N : ap_N) (r : Nat) : Nat → Nat → Nat
  | 0, c => c
  | k + 1, c => if ap_t N r c = 0 then ap_fc N r k (c + 1) else c
def ap_fk (N : ap_N) (x : Int) : Nat → Nat → Nat
  | 0, c => c
  | k + 1, c => if ap_cn N c = x then c else ap_fk N x k (c + 1)
theorem ap_fr_le (N : ap_N) (x : Int) : ∀ k r, r ≤ ap_fr N x k r ∧ ap_fr N x k r ≤ r + k
  | 0, r => ⟨Nat.le_refl r, Nat.le_refl r⟩
  | k + 1, r => by
    have := ap_fr_le N x k (r + 1)
    show r ≤ (if ap_rn N r = x then r else ap_fr N x k (r + 1)) ∧ (if ap_rn N r = x then r else ap_fr N x k (r + 1)) ≤ r + (k + 1)
    by_cases h : ap_rn N r = x
    · rw [if_pos h]; omega
    · rw [if_neg h]; omega
theorem ap_fc_le (N : ap_N) (x : Nat) : ∀ k r, r ≤ ap_fc N x k r ∧ ap_fc N x k r ≤ r + k
  | 0, r => ⟨Nat.le_refl r, Nat.le_refl r⟩
  | k + 1, r => by
    have := ap_fc_le N x k (r + 1)
    show r ≤ (if ap_t N x r = 0 then ap_fc N x k (r + 1) else r) ∧ (if ap_t N x r = 0 then ap_fc N x k (r + 1) else r) ≤ r + (k + 1)
    by_cases h : ap_t N x r = 0
    · rw [if_pos h]; omega
    · rw [if_neg h]; omega
theorem ap_fk_le (N : ap_N) (x : Int) : ∀ k r, r ≤ ap_fk N x k r ∧ ap_fk N x k r ≤ r + k
  | 0, r => ⟨Nat.le_refl r, Nat.le_refl r⟩
  | k + 1, r => by
    have := ap_fk_le N x k (r + 1)
    show r ≤ (if ap_cn N r = x then r else ap_fk N x k (r + 1)) ∧ (if ap_cn N r = x then r else ap_fk N x k (r + 1)) ≤ r + (k + 1)
    by_cases h : ap_cn N r = x
    · rw [if_pos h]; omega
    · rw [if_neg h]; omega
/-- the additional column goes, the last one takes its place -/
def ap_cl (N : ap_N) (n col : Nat) : ap_N := (N.1, (List.range (n + 4)).map (fun r => (List.range 3).map (fun c => if c = col then ap_t N r 3 else ap_t N r c)), N.2.2.1, (List.range 3).map (fun c => if c = col then ap_cn N 3 else ap_cn N c))
theorem ap_cl_t {N : ap_N} {n col r c : Nat} (hr : r < n + 4) (hc : c < 3) : ap_t (ap_cl N n col) r c = if c = col then ap_t N r 3 else ap_t N r c := by
  show (((List.range (n + 4)).map (fun r => (List.range 3).map (fun c => if c = col then ap_t N r 3 else ap_t N r c))).getD r []).getD c 0 = _
  rw [ap_getD_range _ _ hr, ap_getD_range _ _ hc]
theorem ap_cl_cn {N : ap_N} {n col c : Nat} (hc : c < 3) : ap_cn (ap_cl N n col) c = if c = col then ap_cn N 3 else ap_cn N c := by
  show ((List.range 3).map (fun c => if c = col then ap_cn N 3 else ap_cn N c)).getD c 0 = _
  rw [ap_getD_range _ _ hc]
theorem ap_sum_3 (f : Nat → Int) : ap_sum f 3 = f 0 + f 1 + f 2 := by
  show 0 + f 0 + f 1 + f 2 = _
  omega
theorem ap_sum_4 (f : Nat → Int) : ap_sum f 4 = f 0 + f 1 + f 2 + f 3 := by
  show 0 + f 0 + f 1 + f 2 + f 3 = _
  omega
theorem ap_cl_R {N : ap_N} {n col r : Nat} {v : Int → Int} (hr : r < n + 4) (hc : col < 4) (h9 : ap_cn N col = 99) (hv : v 99 = 0) : ap_R (ap_cl N n col) 3 v r = ap_R N 4 v r := by
  unfold ap_R
  rw [ap_sum_3, ap_sum_4]
  show N.1 * v (ap_rn N r) + _ = _
  rw [ap_cl_t hr (show 0 < 3 by omega), ap_cl_t hr (show 1 < 3 by omega), ap_cl_t hr (show 2 < 3 by omega), ap_cl_cn (show 0 < 3 by omega), ap_cl_cn (show 1 < 3 by omega), ap_cl_cn (show 2 < 3 by omega)]
  have hc' : col = 0 ∨ col = 1 ∨ col = 2 ∨ col = 3 := by omega
  rcases hc' with e | e | e | e <;> subst e <;> rw [h9, hv] <;> simp <;> omega
def ap_dp (n : Nat) (N : ap_N) (k : ap_N → Nat → Bool) : Bool :=
  if ap_fr N 99 n 0 < n then
    decide (ap_t N (ap_fr N 99 n 0) (ap_fc N (ap_fr N 99 n 0) 3 0) ≠ 0) && ap_dv N (n + 5) 4 (ap_fr N 99 n 0) (ap_fc N (ap_fr N 99 n 0) 3 0)
      && ap_fN (ap_ex N (n + 5) 4 (ap_fr N 99 n 0) (ap_fc N (ap_fr N 99 n 0) 3 0)) (fun N1 => k N1 (ap_fc N (ap_fr N 99 n 0) 3 0))
  else k N (ap_fk N 99 3 0)
/-- the last node of a search for a point -/
def ap_p1 (n : Nat) (A : List (List Int)) (cv : List Int) (N : ap_N) : Bool :=
  ap_nn n A (ap_co N 4 (n + 4)) &&
  (if ap_fr N 99 n 0 < n then ap_all (fun j => decide (ap_co N 4 (n + 4) j = - ap_co N 4 (ap_fr N 99 n 0) j)) (n + 4) else ap_all (fun j => decide (ap_co N 4 (n + 4) j = 0)) (n + 4)) &&
  ap_dp n N (fun N1 c => ap_ok (n + 5) 4 N1 && decide (ap_cn N1 c = 99) && ap_x n (n + 4) 3 n 4 (ap_ct n A cv) 7 (ap_cl N1 n c))
/-- the first tables -/
def ap_w0 (cv sv : List Int) (k c : Nat) : Int := if k = 0 then - cv.getD c 0 else if k = c + 1 then sv.getD c 0 else 0
def ap_N0 (n : Nat) (A : List (List Int)) (cv sv : List Int) : ap_N :=
  (1, (List.range (n + 4)).map (fun r => (List.range 3).map (fun c => if r < n then ap_A A r c else ap_w0 cv sv (r - n) c)), (List.range (n + 4)).map (fun r => ((3 + r : Nat) : Int)), [0, 1, 2])
def ap_N1 (n : Nat) (A : List (List Int)) (cv sv : List Int) : ap_N :=
  (1, (List.range (n + 5)).map (fun r => (List.range 4).map (fun c => if r < n then (if c = 3 then -1 else ap_A A r c) else if r < n + 4 then (if c = 3 then 0 else ap_w0 cv sv (r - n) c) else (if c = 3 then 1 else 0))), (List.range (n + 5)).map (fun r => ((3 + r : Nat) : Int)), [0, 1, 2, 99])
/-- the whole walk from the side of the points -/
def ap_pc (n : Nat) (A : List (List Int)) (cv sv : List Int) : Bool :=
  ap_x n (n + 4) 3 n 4 (ap_ct n A cv) 7 (ap_N0 n A cv sv) &&
  ap_fN (ap_N1 n A cv sv) (fun N => ap_ok (n + 5) 4 N && ap_all (fun low => ap_dv N (n + 5) 4 low 3 && ap_x n (n + 5) 4 (n + 4) 1 (ap_p1 n A cv) 4 (ap_ex N (n + 5) 4 low 3)) n)
/-! the matrices -/
def ap_A1 : List (List Int) := [[2, 1, 0], [1, 3, 0], [1, 1, 0], [0, 0, 2], [0, 0, -2], [1, 0, 0], [0, 1, 0], [0, 0, 1]]
def ap_A2 : List (List Int) := [[2, 1, 0], [1, 3, 0], [0, 0, 2], [0, 0, -2], [1, 0, 0], [0, 1, 0], [0, 0, 1]]
def ap_A3 : List (List Int) := [[2, 1, 0], [1, 3, 0], [1, 1, 0], [1, 0, 0], [0, 1, 0], [0, 0, 1]]
def ap_A5 : List (List Int) := [[2, 1, 0], [1, 3, 0], [1, 1, 0], [0, 0, -1], [1, 0, 0], [0, 1, 0], [0, 0, 1]]
set_option maxRecDepth 100000 in
theorem ap_pc3 : ap_pc 6 ap_A3 [0, 0, 2] [1, 1, 1] = true := by decide +kernel
set_option maxRecDepth 100000 in
theorem ap_pc4 : ap_pc 6 ap_A3 [0, 0, -2] [1, 1, 1] = true := by decide +kernel
set_option maxRecDepth 100000 in
theorem ap_pc2 : ap_pc 7 ap_A2 [1, 1, 0] [1, 1, 1] = true := by decide +kernel
set_option maxRecDepth 100000 in
theorem ap_pc5 : ap_pc 7 ap_A5 [3, 4, 1] [1, 1, 1] = true := by decide +kernel
set_option maxRecDepth 100000 in
theorem ap_pc1 : ap_pc 8 ap_A1 [3, 4, 1] [1, 1, 1] = true := by decide +kernel
end
section
/-! the table in memory: rows of 5, column 4 the right one, w columns live -/
def ap_Tab (a : Nat → Int64) (m w : Nat) (F : Nat → Nat → Int) : Prop := ∀ r, r < m → ∀ c, (c < w ∨ c = 4) → a (r * 5 + c) = ap_l (F r c)
def ap_fu (F : Nat → Nat → Int) (r c : Nat) (z : Int) : Nat → Nat → Int := fun r' c' => if r' = r ∧ c' = c then z else F r' c'
theorem ap_Tab_set {a : Nat → Int64} {m w : Nat} {F : Nat → Nat → Int} (h : ap_Tab a m w F) (hw : w ≤ 4) {r c : Nat} (hc : c < 5) (z : Int) : ap_Tab (vp_updL a (r * 5 + c) (ap_l z)) m w (ap_fu F r c z) := by
  intro r' hr' c' hc'
  unfold ap_fu
  by_cases e : r' = r ∧ c' = c
  · rw [if_pos e, e.1, e.2, pk_uLs]
  · rw [if_neg e, pk_uLn (by omega)]
    exact h r' hr' c' hc'
theorem ap_Tab_congr {a : Nat → Int64} {m w : Nat} {F G : Nat → Nat → Int} (h : ap_Tab a m w F) (e : ∀ r, r < m → ∀ c, (c < w ∨ c = 4) → F r c = G r c) : ap_Tab a m w G := by
  intro r hr c hc
  rw [← e r hr c hc]
  exact h r hr c hc
section
variable {qpr : Int32} {qwo : Int32} {qrw : Int32} {qtu : Int32} {qun : Int64} {qco : Int32} {qfw : Int32} {qwc : Int32} {qwt : Int64} {qwb : Int64} {qln : Int32} {qem : Int32} {qhh : Int32} {qht : Int64} {qhb : Int64} {qhl : Int32} {qlt : Int64} {qlb : Int64} {qbr : Int32} {ql3 : Int32} {qg3 : Int32} {a1 : Nat → Int32} {a2 : Nat → Int32} {a3 : Nat → Int32} {a4 : Nat → Int32} {a5 : Nat → Int32} {a6 : Nat → Int32} {a7 : Nat → Int32} {a8 : Nat → Int32} {a9 : Nat → Int32} {a10 : Nat → Int64} {a11 : Nat → Int32} {a12 : Nat → Int32} {a13 : Nat → Int64} {a14 : Nat → Int64} {a15 : Nat → Int64} {a16 : Nat → Int64} {a17 : Nat → Int64} {a18 : Nat → Int32} {a19 : Nat → Int32}
theorem ap_cell {post : Int64 → Prop} {r c : Nat} (h : r * 5 + c < 105) (hp : post (a10 (r * 5 + c))) : wpX_cell post (qpr, qwo, qrw, qtu, qun, qco, qfw, qwc, qwt, qwb, qln, qem, qhh, qht, qhb, qhl, qlt, qlb, qbr, ql3, qg3, a1, a2, a3, a4, a5, a6, a7, a8, a9, a10, a11, a12, a13, a14, a15, a16, a17, a18, a19) (nI r) (nI c) := by
  have e : nI r * 5 + nI c = nI (r * 5 + c) := ap_ix5 r c
  refine And.intro (pk_in (r * 5 + c) 105 h e) ?_
  rw [e, nI_clamp (by omega)]
  exact hp
theorem ap_ex78 {post : St2 → Prop} {J21 J40 : Int32 → (Nat → Int32) → (Nat → Int32) → (Nat → Int32) → (Nat → Int32) → (Nat → Int32) → (Nat → Int32) → (Nat → Int32) → (Nat → Int32) → (Nat → Int32) → (Nat → Int64) → (Nat → Int32) → (Nat → Int32) → (Nat → Int64) → (Nat → Int64) → (Nat → Int64) → (Nat → Int64) → (Nat → Int64) → (Nat → Int32) → (Nat → Int32) → Prop} {x1 x2 x5 : Int32} {row i c : Nat} {p t u x y : Int}
    (h1 : a10 (i * 5 + c) = ap_l x) (h2 : a10 (row * 5 + c) = ap_l y) (hi : i < 21) (hrow : row < 21) (hc : c < 5) (hun : qun = ap_l u) (hu : 0 < u) (hu2 : u ≤ 1310720)
    (hx : -1310720 ≤ x ∧ x ≤ 1310720) (hy : -1310720 ≤ y ∧ y ≤ 1310720) (hpb : -1310720 ≤ p ∧ p ≤ 1310720) (htb : -1310720 ≤ t ∧ t ≤ 1310720) (h0 : x1 = nI row)
    (H : J40 (nI (c + 1)) a1 a2 a3 a4 a5 a6 a7 a8 a9 (vp_updL a10 (i * 5 + c) (ap_l ((x * p - t * y).tdiv u))) a11 a12 a13 a14 a15 a16 a17 a18 a19) :
    wX_exchange_73 post J21 J40 x1 x2 (ap_l p) x5 (nI i) (ap_l t) (nI c) qpr qwo qrw qtu qun qco qfw qwc qwt qwb qln qem qhh qht qhb qhl qlt qlb qbr ql3 qg3 a1 a2 a3 a4 a5 a6 a7 a8 a9 a10 a11 a12 a13 a14 a15 a16 a17 a18 a19 := by
  subst h0
  unfold wX_exchange_73 wX_exchange_78
  refine br_f (by decide) ?_
  refine ap_cell (by omega) ?_
  refine ap_cell (by omega) ?_
  rw [h1, h2]
  have b1 := ap_mul_bd (by decide) (by decide) hx hpb
  have b2 := ap_mul_bd (by decide) (by decide) htb hy
  have e1 : ap_l x * ap_l p - ap_l t * ap_l y = ap_l (x * p - t * y) := by rw [ap_l_mul, ap_l_mul, ap_l_sub]
  refine nm_r e1 ?_
  have hne : ¬ qun = 0 := by
    rw [hun]
    exact fun z => absurd ((ap_l_eq (by omega) (by omega)).mp (show ap_l u = ap_l 0 from z)) (by omega)
  refine br_f hne ⟨hne, pk_in (i * 5 + c) 105 (by omega) (ap_ix5 i c), ?_⟩
  refine nm_r (e' := vp_updL a10 (i * 5 + c) (ap_l ((x * p - t * y).tdiv u))) ?_ (nm_r (nI_1 c) H)
  rw [ap_ix5, nI_clamp (by omega), hun, ap_l_div (by omega) (by omega)]
def ap_exr (F : Nat → Nat → Int) (u : Int) (row col r c : Nat) : Int := if c = col then - F r col else (F r c * F row col - F r col * F row c).tdiv u
theorem ap_ex40 {post : St2 → Prop} {J21 : Int32 → (Nat → Int32) → (Nat → Int32) → (Nat → Int32) → (Nat → Int32) → (Nat → Int32) → (Nat → Int32) → (Nat → Int32) → (Nat → Int32) → (Nat → Int32) → (Nat → Int64) → (Nat → Int32) → (Nat → Int32) → (Nat → Int64) → (Nat → Int64) → (Nat → Int64) → (Nat → Int64) → (Nat → Int64) → (Nat → Int32) → (Nat → Int32) → Prop} {x5 : Int32} {row col m w i : Nat} {u p t : Int} {F : Nat → Nat → Int}
    (hT : ap_Tab a10 m w F) (hi : i < m) (hrow : row < m) (hne : i ≠ row) (hm : m ≤ 21) (hw : w ≤ 4) (hcol : col < w) (hco : qco = nI w) (hun : qun = ap_l u) (hu : 0 < u) (hu2 : u ≤ 1310720)
    (hbi : ∀ c, (c < w ∨ c = 4) → -1310720 ≤ F i c ∧ F i c ≤ 1310720) (hbr : ∀ c, (c < w ∨ c = 4) → -1310720 ≤ F row c ∧ F row c ≤ 1310720) (hp : F row col = p) (ht : F i col = t)
    (H : ∀ a, ap_Tab a m w (fun r c => if r = i then ap_exr F u row col r c else F r c) → J21 (nI (i + 1)) a1 a2 a3 a4 a5 a6 a7 a8 a9 a a11 a12 a13 a14 a15 a16 a17 a18 a19) :
    ∃ n, wX_exchange_40 post J21 (nI row) (nI col) (ap_l p) x5 (nI i) (ap_l t) qpr qwo qrw qtu qun qco qfw qwc qwt qwb qln qem qhh qht qhb qhl qlt qlb qbr ql3 qg3 n 0 a1 a2 a3 a4 a5 a6 a7 a8 a9 a10 a11 a12 a13 a14 a15 a16 a17 a18 a19 := by
  subst hp ht
  refine pk_loop (fun n c s => wX_exchange_40 post J21 (nI row) (nI col) (ap_l (F row col)) x5 (nI i) (ap_l (F i col)) qpr qwo qrw qtu qun qco qfw qwc qwt qwb qln qem qhh qht qhb qhl qlt qlb qbr ql3 qg3 n (nI c) a1 a2 a3 a4 a5 a6 a7 a8 a9 s a11 a12 a13 a14 a15 a16 a17 a18 a19)
    (fun c s => ap_Tab s m w (fun r' c' => if r' = i ∧ c' < c ∧ c' ≠ col then ap_exr F u row col i c' else F r' c')) 5 0 a10 (by omega) ?_ ?_ ?_
  · exact ap_Tab_congr hT (fun r _ c _ => (if_neg (by omega)).symm)
  · intro n s h
    refine pk_le 5 5 (fun _ => ?_) (fun z => absurd z (by omega))
    unfold wX_exchange_146
    refine pk_eq i row (fun z => absurd z hne) (fun _ => ⟨pk_in (i * 5 + col) 105 (by omega) (ap_ix5 i col), ?_⟩)
    refine nm_r (e' := vp_updL s (i * 5 + col) (ap_l (- F i col))) (by rw [ap_ix5, nI_clamp (by omega), ap_l_neg]) (nm_r (nI_1 i) (H _ ?_))
    refine ap_Tab_congr (ap_Tab_set h hw (by omega) _) (fun r hr c hc => ?_)
    unfold ap_fu ap_exr
    dsimp only
    by_cases e : r = i
    · subst e
      by_cases ec : c = col
      · rw [if_pos ⟨rfl, ec⟩, if_pos rfl, if_pos ec]
      · rw [if_neg (by omega), if_pos ⟨rfl, by omega, ec⟩, if_pos rfl]
    · rw [if_neg (by omega), if_neg (by omega), if_neg e]
  · intro n c s hc h hs
    refine pk_le 5 c (fun z => absurd z (by omega)) (fun _ => ?_)
    refine pk_eq i row (fun z => absurd z hne) (fun _ => ?_)
    have skip : (c = col ∨ (¬ c < w ∧ c ≠ 4)) → wX_exchange_77 post J21 (wX_exchange_40 post J21 (nI row) (nI col) (ap_l (F row col)) x5 (nI i) (ap_l (F i col)) qpr qwo qrw qtu qun qco qfw qwc qwt qwb qln qem qhh qht qhb qhl qlt qlb qbr ql3 qg3 n) (nI row) (nI col) (ap_l (F row col)) x5 (nI i) (ap_l (F i col)) (nI c) qpr qwo qrw qtu qun qco qfw qwc qwt qwb qln qem qhh qht qhb qhl qlt qlb qbr ql3 qg3 a1 a2 a3 a4 a5 a6 a7 a8 a9 s a11 a12 a13 a14 a15 a16 a17 a18 a19 := by
      intro hs'
      unfold wX_exchange_77 wX_exchange_78
      refine br_t rfl (nm_r (nI_1 c) (hs s (ap_Tab_congr h (fun r hr c' hc' => ?_))))
      by_cases e : r = i ∧ c' < c ∧ c' ≠ col
      · rw [if_pos e, if_pos (by omega)]
      · rw [if_neg e, if_neg (by omega)]
    have go : c ≠ col → (c < w ∨ c = 4) → wX_exchange_73 post J21 (wX_exchange_40 post J21 (nI row) (nI col) (ap_l (F row col)) x5 (nI i) (ap_l (F i col)) qpr qwo qrw qtu qun qco qfw qwc qwt qwb qln qem qhh qht qhb qhl qlt qlb qbr ql3 qg3 n) (nI row) (nI col) (ap_l (F row col)) x5 (nI i) (ap_l (F i col)) (nI c) qpr qwo qrw qtu qun qco qfw qwc qwt qwb qln qem qhh qht qhb qhl qlt qlb qbr ql3 qg3 a1 a2 a3 a4 a5 a6 a7 a8 a9 s a11 a12 a13 a14 a15 a16 a17 a18 a19 := by
      intro hcc hl
      have e1 : s (i * 5 + c) = ap_l (F i c) := by rw [h i hi c hl]; exact congrArg ap_l (if_neg (by omega))
      have e2 : s (row * 5 + c) = ap_l (F row c) := by rw [h row hrow c hl]; exact congrArg ap_l (if_neg (by omega))
      refine ap_ex78 e1 e2 (by omega) (by omega) (by omega) hun hu hu2 (hbi c hl) (hbr c hl) (hbr col (Or.inl hcol)) (hbi col (Or.inl hcol)) rfl (hs _ (ap_Tab_congr (ap_Tab_set h hw (by omega) _) (fun r hr c' hc' => ?_)))
      unfold ap_fu
      dsimp only
      by_cases e : r = i ∧ c' = c
      · rw [if_pos e, if_pos (by omega), e.2]
        unfold ap_exr
        rw [if_neg hcc]
      · rw [if_neg e]
        by_cases e3 : r = i ∧ c' < c ∧ c' ≠ col
        · rw [if_pos e3, if_pos (by omega)]
        · rw [if_neg e3, if_neg (by omega)]
    refine pk_eq c col (fun z => skip (Or.inl z)) (fun z => ?_)
    refine pk_lt c w (fun z2 => go z (Or.inl z2)) (fun z2 => ?_) (hy := hco)
    exact pk_eq c 4 (fun z3 => go z (Or.inr z3)) (fun z3 => skip (Or.inr ⟨by omega, z3⟩))
theorem ap_turn {post : St2 → Prop} {m w : Nat} {F : Nat → Nat → Int} {u : Int} (hm : m ≤ 21) (hw : w ≤ 4) (hT : ap_Tab a10 m w F) (hun : qun = ap_l u)
    (H : ∀ (qun' : Int64) (a10' : Nat → Int64), qun' = ap_l (-u) → ap_Tab a10' m w (fun r c => - F r c) → post (qpr, qwo, qrw, qtu, qun', qco, qfw, qwc, qwt, qwb, qln, qem, qhh, qht, qhb, qhl, qlt, qlb, qbr, ql3, qg3, a1, a2, a3, a4, a5, a6, a7, a8, a9, a10', a11, a12, a13, a14, a15, a16, a17, a18, a19)) : wpX_turnSigns post (qpr, qwo, qrw, qtu, qun, qco, qfw, qwc, qwt, qwb, qln, qem, qhh, qht, qhb, qhl, qlt, qlb, qbr, ql3, qg3, a1, a2, a3, a4, a5, a6, a7, a8, a9, a10, a11, a12, a13, a14, a15, a16, a17, a18, a19) (nI m) := by
  unfold wpX_turnSigns
  refine nm_e ?_
  have e5 : nI m * 5 = nI (m * 5) := pk_mul m 5
  refine pk_loop (fun n i s => wX_turnSigns_11 post (nI m) qpr qwo qrw qtu (-qun) qco qfw qwc qwt qwb qln qem qhh qht qhb qhl qlt qlb qbr ql3 qg3 n (nI i) a1 a2 a3 a4 a5 a6 a7 a8 a9 s a11 a12 a13 a14 a15 a16 a17 a18 a19) (fun i s => ∀ k, s k = if k < i then - a10 k else a10 k) (m * 5) 0 a10 (by omega) (fun k => (if_neg (by omega)).symm) ?_ ?_
  · intro n s h
    refine pk_le (m * 5) (m * 5) (fun _ => H _ _ (by rw [hun, ap_l_neg]) (fun r hr c hc => ?_)) (fun z => absurd z (by omega)) e5
    rw [h, if_pos (by omega), hT r hr c hc, ap_l_neg]
  · intro n i s hi h hs
    refine pk_le (m * 5) i (fun z => absurd z (by omega)) (fun _ => ⟨pk_in i 105 (by omega), pk_in i 105 (by omega), ?_⟩) e5
    refine nm_r (e' := vp_updL s i (- a10 i)) (by rw [nI_clamp (by omega), h, if_neg (by omega)]) (nm_r (nI_1 i) (hs _ (fun k => ?_)))
    by_cases e : k = i
    · rw [e, pk_uLs, if_pos (by omega)]
    · rw [pk_uLn e, h]
      by_cases e2 : k < i
      · rw [if_pos e2, if_pos (by omega)]
      · rw [if_neg e2, if_neg (by omega)]
theorem ap_exchangeF {post : St2 → Prop} {n m w row col : Nat} {u : Int} {F : Nat → Nat → Int} {rn cn : Nat → Int}
    (hT : ap_Tab a10 m w F) (hrow : row < n) (hn : n ≤ 16) (hnm : n ≤ m) (hm : m ≤ 21) (hw : w ≤ 4) (hcol : col < w) (hco : qco = nI w) (hun : qun = ap_l u) (hu : 0 < u) (hu2 : u ≤ 1310720)
    (hb : ∀ r, r < m → ∀ c, (c < w ∨ c = 4) → -1310720 ≤ F r c ∧ F r c ≤ 1310720) (hfw : qfw + qwc = nI m)
    (hrn : ∀ r, r < n → a11 r = ap_i (rn r)) (hcn : ∀ c, c < w → a12 c = ap_i (cn c)) (hrb : ∀ r, r < n → 0 ≤ rn r ∧ rn r ≤ 99) (hcb : ∀ c, c < w → 0 ≤ cn c ∧ cn c ≤ 99)
    (H : ∀ (qun' : Int64) (a10' : Nat → Int64) (a11' : Nat → Int32) (a12' : Nat → Int32), qun' = ap_l (ap_g (F row col) * F row col) → ap_Tab a10' m w (ap_exF F u row col) → (∀ r, r < n → a11' r = ap_i (if r = row then cn col else rn r)) → (∀ c, c < w → a12' c = ap_i (if c = col then rn row else cn c)) → post (qpr, qwo, qrw, qtu, qun', qco, qfw, qwc, qwt, qwb, qln, qem, qhh, qht, qhb, qhl, qlt, qlb, qbr, ql3, qg3, a1, a2, a3, a4, a5, a6, a7, a8, a9, a10', a11', a12', a13, a14, a15, a16, a17, a18, a19)) :
    wpX_exchange post (qpr, qwo, qrw, qtu, qun, qco, qfw, qwc, qwt, qwb, qln, qem, qhh, qht, qhb, qhl, qlt, qlb, qbr, ql3, qg3, a1, a2, a3, a4, a5, a6, a7, a8, a9, a10, a11, a12, a13, a14, a15, a16, a17, a18, a19) (nI row) (nI col) := by
  unfold wpX_exchange
  refine ap_cell (by omega) ?_
  rw [hT row (by omega) col (Or.inl hcol)]
  refine nm_r hfw ?_
  refine pk_loop (fun n i s => wX_exchange_21 post (nI row) (nI col) (ap_l (F row col)) (nI m) qpr qwo qrw qtu qun qco qfw qwc qwt qwb qln qem qhh qht qhb qhl qlt qlb qbr ql3 qg3 n (nI i) a1 a2 a3 a4 a5 a6 a7 a8 a9 s a11 a12 a13 a14 a15 a16 a17 a18 a19)
    (fun i s => ap_Tab s m w (fun r c => if r < i ∧ r ≠ row then ap_exr F u row col r c else F r c)) m 0 a10 (by omega) ?_ ?_ ?_
  · exact ap_Tab_congr hT (fun r _ c _ => (if_neg (by omega)).symm)
  · intro k s h
    refine pk_le m m (fun _ => ?_) (fun z => absurd z (by omega))
    refine ⟨pk_in (row * 5 + col) 105 (by omega) (ap_ix5 row col), nm_r (e' := vp_updL s (row * 5 + col) (ap_l u)) (by rw [ap_ix5, nI_clamp (by omega), hun]) ?_⟩
    refine ⟨pk_in row 16 (by omega), nm_r (e' := ap_i (rn row)) (by rw [nI_clamp (by omega)]; exact hrn row hrow) ?_⟩
    refine ⟨pk_in col 4 (by omega), pk_in row 16 (by omega), nm_r (e' := upd a11 row (ap_i (cn col))) (by rw [nI_clamp (by omega), nI_clamp (by omega), hcn col hcol, ap_vb (by have := hcb col hcol; omega)]) ?_⟩
    refine ⟨pk_in col 4 (by omega), nm_r (e' := upd a12 col (ap_i (rn row))) (by rw [nI_clamp (by omega), ap_vb (by have := hrb row hrow; omega)]) ?_⟩
    have t1 := ap_Tab_set h hw (r := row) (c := col) (by omega) u
    have hA : ∀ r, r < n → upd a11 row (ap_i (cn col)) r = ap_i (if r = row then cn col else rn r) := by
      intro r hr
      by_cases e : r = row
      · rw [e, pk_us, if_pos rfl]
      · rw [pk_un e, if_neg e]; exact hrn r hr
    have hB : ∀ c, c < w → upd a12 col (ap_i (rn row)) c = ap_i (if c = col then rn row else cn c) := by
      intro c hc
      by_cases e : c = col
      · rw [e, pk_us, if_pos rfl]
      · rw [pk_un e, if_neg e]; exact hcn c hc
    have hpb := hb row (by omega) col (Or.inl hcol)
    have key : ∀ r, r < m → ∀ c, (c < w ∨ c = 4) → ap_fu (fun r c => if r < m ∧ r ≠ row then ap_exr F u row col r c else F r c) row col u r c = if r = row then (if c = col then u else F r c) else if c = col then - F r col else (F r c * F row col - F r col * F row c).tdiv u := by
      intro r hr c hc
      unfold ap_fu ap_exr
      dsimp only
      by_cases e : r = row
      · subst e
        by_cases ec : c = col
        · rw [if_pos ⟨rfl, ec⟩, if_pos rfl, if_pos ec]
        · rw [if_neg (by omega), if_neg (by omega), if_pos rfl, if_neg ec]
      · rw [if_neg (by omega), if_pos ⟨hr, e⟩, if_neg e]
    refine ap_lle 0 (F row col) rfl rfl (fun hp => ?_) (fun hp => ?_)
    · refine H _ _ _ _ ?_ (ap_Tab_congr t1 (fun r hr c hc => ?_)) hA hB
      · rw [show ap_g (F row col) = 1 from if_neg (by omega), Int.one_mul]
      · rw [key r hr c hc]
        unfold ap_exF
        rw [show ap_g (F row col) = 1 from if_neg (by omega), Int.one_mul]
    · refine ap_turn hm hw t1 rfl (fun un' t' h1 h2 => H _ _ _ _ ?_ (ap_Tab_congr h2 (fun r hr c hc => ?_)) hA hB)
      · rw [h1, show ap_g (F row col) = -1 from if_pos hp]
        congr 1
        omega
      · rw [key r hr c hc]
        unfold ap_exF
        rw [show ap_g (F row col) = -1 from if_pos hp]
        omega
  · intro k i s hi h hs
    refine pk_le m i (fun z => absurd z (by omega)) (fun _ => ?_)
    refine ap_cell (by omega) ?_
    by_cases e : i = row
    · subst e
      refine ⟨1, pk_le 5 0 (fun z => absurd z (by omega)) (fun _ => br_t rfl ?_)⟩
      unfold wX_exchange_146
      refine br_t rfl (nm_r (nI_1 i) (hs s (ap_Tab_congr h (fun r hr c hc => ?_))))
      by_cases e2 : r < i ∧ r ≠ i
      · rw [if_pos e2, if_pos (by omega)]
      · rw [if_neg e2, if_neg (by omega)]
    · rw [show s (i * 5 + col) = ap_l (F i col) by rw [h i hi col (Or.inl hcol)]; exact congrArg ap_l (if_neg (by omega))]
      have hG : ∀ r c, r = i ∨ r = row → (fun r c => if r < i ∧ r ≠ row then ap_exr F u row col r c else F r c) r c = F r c := by
        intro r c hr
        exact if_neg (by omega)
      refine ap_ex40 h hi (by omega) e hm hw hcol hco hun hu hu2 (fun c hc => ?_) (fun c hc => ?_) (hG _ _ (Or.inr rfl)) (hG _ _ (Or.inl rfl)) (fun a ha => hs a (ap_Tab_congr ha (fun r hr c hc => ?_)))
      · rw [if_neg (by omega)]; exact hb i hi c hc
      · rw [if_neg (by omega)]; exact hb row (by omega) c hc
      · by_cases er : r = i
        · subst er
          rw [if_pos rfl, if_pos (by omega)]
          have cg : ∀ G : Nat → Nat → Int, (∀ c, G r c = F r c) → (∀ c, G row c = F row c) → ap_exr G u row col r c = ap_exr F u row col r c := by
            intro G g1 g2
            unfold ap_exr
            rw [g1, g1, g2, g2]
          exact cg _ (fun c => hG r c (Or.inl rfl)) (fun c => hG row c (Or.inr rfl))
        · rw [if_neg er]
          by_cases e2 : r < i ∧ r ≠ row
          · rw [if_pos e2, if_pos (by omega)]
          · rw [if_neg e2, if_neg (by omega)]
/-- the state matches a node: constants and right column -/
def ap_Mt (N : ap_N) (n m w : Nat) (v : Int → Int) (un : Int64) (t : Nat → Int64) (rn cn : Nat → Int32) : Prop :=
  un = ap_l N.1 ∧ ap_Tab t m w (ap_F N w v) ∧ (∀ r, r < n → rn r = ap_i (ap_rn N r)) ∧ (∀ c, c < w → cn c = ap_i (ap_cn N c))
theorem ap_exchange {post : St2 → Prop} {N : ap_N} {n m w row col : Nat} {v : Int → Int} (hM : ap_Mt N n m w v qun a10 a11 a12) (ho : ap_Ok m w N) (hv : ∀ x, -4096 ≤ v x ∧ v x ≤ 4096)
    (hrow : row < n) (hn : n ≤ 16) (hnm : n ≤ m) (hm : m ≤ 21) (hw : w ≤ 4) (hcol : col < w) (hco : qco = nI w) (hfw : qfw + qwc = nI m) (hd : ap_dv N m w row col = true)
    (H : ∀ (qun' : Int64) (a10' : Nat → Int64) (a11' : Nat → Int32) (a12' : Nat → Int32), ap_Mt (ap_ex N m w row col) n m w v qun' a10' a11' a12' → post (qpr, qwo, qrw, qtu, qun', qco, qfw, qwc, qwt, qwb, qln, qem, qhh, qht, qhb, qhl, qlt, qlb, qbr, ql3, qg3, a1, a2, a3, a4, a5, a6, a7, a8, a9, a10', a11', a12', a13, a14, a15, a16, a17, a18, a19)) :
    wpX_exchange post (qpr, qwo, qrw, qtu, qun, qco, qfw, qwc, qwt, qwb, qln, qem, qhh, qht, qhb, qhl, qlt, qlb, qbr, ql3, qg3, a1, a2, a3, a4, a5, a6, a7, a8, a9, a10, a11, a12, a13, a14, a15, a16, a17, a18, a19) (nI row) (nI col) := by
  obtain ⟨h1, h2, h3, h4⟩ := hM
  have ho' := ho
  obtain ⟨o1, o2, o3, o4, o5, o6, o7⟩ := ho
  refine ap_exchangeF h2 hrow hn hnm hm hw hcol hco h1 o1 (by omega) (fun r hr c hc => ap_F_bd ho' hr hw hc hv) hfw h3 h4 (fun r hr => o6 r (by omega)) o7 (fun un' t' rn' cn' g1 g2 g3 g4 => H _ _ _ _ ⟨?_, ?_, ?_, ?_⟩)
  · rw [g1, ap_Ft _ _ _ _ (by omega)]
    rfl
  · exact ap_Tab_congr g2 (ap_ex_F v hw (by omega) hcol ho' hd)
  · intro r hr
    rw [g3 r hr, ap_ex_rn (by omega)]
  · intro c hc
    rw [g4 c hc, ap_ex_cn (by omega)]
end
end
section
/-! methods that only read the table -/
def ap_b (x : Bool) : Int32 := if x = true then 1 else 0
theorem ap_b0 {x : Bool} {A B : Prop} (f : x = false → A) (g : x = true → B) : (ap_b x = 0 → A) ∧ (¬ ap_b x = 0 → B) := by
  cases x
  · exact br_t rfl (f rfl)
  · exact br_f (by decide) (g rfl)
def ap_ll (N : ap_N) (c d row : Nat) : Nat → Nat → Bool
  | 0, _ => decide (ap_cn N c < ap_cn N d)
  | k + 1, f => if ap_t N f c * (- ap_t N row d) = ap_t N f d * (- ap_t N row c) then ap_ll N c d row k (f + 1) else decide (ap_t N f c * (- ap_t N row d) < ap_t N f d * (- ap_t N row c))
section
variable {qpr : Int32} {qwo : Int32} {qrw : Int32} {qtu : Int32} {qun : Int64} {qco : Int32} {qfw : Int32} {qwc : Int32} {qwt : Int64} {qwb : Int64} {qln : Int32} {qem : Int32} {qhh : Int32} {qht : Int64} {qhb : Int64} {qhl : Int32} {qlt : Int64} {qlb : Int64} {qbr : Int32} {ql3 : Int32} {qg3 : Int32} {a1 : Nat → Int32} {a2 : Nat → Int32} {a3 : Nat → Int32} {a4 : Nat → Int32} {a5 : Nat → Int32} {a6 : Nat → Int32} {a7 : Nat → Int32} {a8 : Nat → Int32} {a9 : Nat → Int32} {a10 : Nat → Int64} {a11 : Nat → Int32} {a12 : Nat → Int32} {a13 : Nat → Int64} {a14 : Nat → Int64} {a15 : Nat → Int64} {a16 : Nat → Int64} {a17 : Nat → Int64} {a18 : Nat → Int32} {a19 : Nat → Int32}
variable {N : ap_N} {n m w f k : Nat} {v : Int → Int}
theorem ap_helps {post : Int32 → Prop} {c : Nat} (hT : ap_Tab a10 m w (ap_F N w v)) (ho : ap_Ok m w N) (hc : c < w) (hw : w ≤ 4) (hm : m ≤ 21) (hfk : f + k ≤ m) (hfw : qfw = nI f) (hwc : qwc = nI k)
    (hp : post (ap_b (ap_hp N c k f))) : wpX_helps post (qpr, qwo, qrw, qtu, qun, qco, qfw, qwc, qwt, qwb, qln, qem, qhh, qht, qhb, qhl, qlt, qlb, qbr, ql3, qg3, a1, a2, a3, a4, a5, a6, a7, a8, a9, a10, a11, a12, a13, a14, a15, a16, a17, a18, a19) (nI c) := by
  subst hfw
  unfold wpX_helps
  refine pk_loop (σ := Unit) (fun n i _ => wX_helps_2 post (nI c) qpr qwo qrw qtu qun qco (nI f) qwc qwt qwb qln qem qhh qht qhb qhl qlt qlb qbr ql3 qg3 a1 a2 a3 a4 a5 a6 a7 a8 a9 a10 a11 a12 a13 a14 a15 a16 a17 a18 a19 n (nI i)) (fun i _ => ap_hp N c (k - i) (f + i) = ap_hp N c k f) k 0 () (by omega) rfl ?_ ?_
  · intro n _ h
    refine pk_le k k (fun _ => ?_) (fun z => absurd z (by omega)) hwc
    rw [Nat.sub_self] at h
    rw [← h] at hp
    exact hp
  · intro n i _ hi h hs
    refine pk_le k i (fun z => absurd z (by omega)) (fun _ => ?_) hwc
    rw [nI_add]
    refine ap_cell (by omega) ?_
    rw [hT (f + i) (by omega) c (Or.inl hc), ap_Ft _ _ _ _ (by omega)]
    have hb := ho.2.2.2.2.1 (f + i) (by omega) c hc
    have e : k - i = (k - (i + 1)) + 1 := by omega
    rw [e] at h
    have h' : (if ap_t N (f + i) c = 0 then ap_hp N c (k - (i + 1)) (f + i + 1) else decide (ap_t N (f + i) c < 0)) = ap_hp N c k f := h
    refine ap_leq (ap_t N (f + i) c) 0 rfl rfl (fun z => nm_r (nI_1 i) (hs () ?_)) (fun z => ?_)
    · rw [if_pos z] at h'
      exact h'
    · rw [if_neg z] at h'
      rw [← h'] at hp
      refine ap_lle 0 (ap_t N (f + i) c) rfl rfl (fun z2 => ?_) (fun z2 => ?_)
      · rw [decide_eq_false (by omega)] at hp
        exact hp
      · rw [decide_eq_true (by omega)] at hp
        exact hp
theorem ap_entering {post : Int32 → Prop} (hM : ap_Mt N n m w v qun a10 a11 a12) (ho : ap_Ok m w N) (hw : w ≤ 4) (hm : m ≤ 21) (hfk : f + k ≤ m) (hfw : qfw = nI f) (hwc : qwc = nI k) (hco : qco = nI w)
    (hp : post (ap_i (ap_en N f k w))) : wpX_entering post (qpr, qwo, qrw, qtu, qun, qco, qfw, qwc, qwt, qwb, qln, qem, qhh, qht, qhb, qhl, qlt, qlb, qbr, ql3, qg3, a1, a2, a3, a4, a5, a6, a7, a8, a9, a10, a11, a12, a13, a14, a15, a16, a17, a18, a19) := by
  unfold wpX_entering
  refine pk_loop (fun n i s => wX_entering_4 post qpr qwo qrw qtu qun qco qfw qwc qwt qwb qln qem qhh qht qhb qhl qlt qlb qbr ql3 qg3 a1 a2 a3 a4 a5 a6 a7 a8 a9 a10 a11 a12 a13 a14 a15 a16 a17 a18 a19 n s (nI i)) (fun i s => s = ap_i (ap_en N f k i)) w 0 (-1) (by omega) rfl ?_ ?_
  · intro n s h
    subst h
    exact pk_le w w (fun _ => hp) (fun z => absurd z (by omega)) hco
  · intro n i s hi h hs
    subst h
    refine pk_le w i (fun z => absurd z (by omega)) (fun _ => ?_) hco
    refine ap_helps hM.2.1 ho hi hw hm hfk hfw hwc ?_
    have hr := ap_en_lt N f k i
    refine ap_b0 (fun z => nm_r (nI_1 i) (hs _ ?_)) (fun z => ?_)
    · rw [ap_en_succ, if_neg (by rw [z]; exact fun q => Bool.noConfusion q.1)]
    · refine ap_ilt (ap_en N f k i) 0 rfl rfl (fun z2 => nm_r (nI_1 i) (hs _ ?_)) (fun z2 => ?_)
      · rw [ap_en_succ, if_pos ⟨z, Or.inl z2⟩, ap_i_nat]
      · obtain ⟨b, hb⟩ : ∃ b : Nat, ap_en N f k i = b := ⟨(ap_en N f k i).toNat, by omega⟩
        rw [hb] at hr z2
        rw [ap_en_succ, hb] at hs
        rw [hb, ← ap_i_nat]
        have b1 := ho.2.2.2.2.2.2 i (by omega)
        have b2 := ho.2.2.2.2.2.2 b (by omega)
        refine ⟨pk_in i 4 (by omega), pk_in b 4 (by omega), ?_⟩
        refine ap_ile (ap_cn N b) (ap_cn N i) (by rw [nI_clamp (by omega)]; exact hM.2.2.2 b (by omega)) (by rw [nI_clamp (by omega)]; exact hM.2.2.2 i (by omega)) (fun z3 => nm_r (nI_1 i) (hs _ ?_)) (fun z3 => nm_r (nI_1 i) (hs _ ?_))
        · rw [if_neg (by intro q; have := q.2; have e : ((b : Int)).toNat = b := by omega
                         rw [e] at this; omega), ap_i_nat]
        · rw [if_pos ⟨z, Or.inr (by have e : ((b : Int)).toNat = b := by omega
                                    rw [e]; exact z3)⟩, ap_i_nat]
/-- the row that stops a column first -/
def ap_Lv (N : ap_N) (w : Nat) (v : Int → Int) (col i : Nat) (s : Int32) : Prop :=
  (s = ap_i (-1) ∧ ∀ r, r < i → ap_t N r col ≤ 0) ∨ (∃ b : Nat, b < i ∧ s = nI b ∧ 0 < ap_t N b col ∧ ∀ r, r < i → 0 < ap_t N r col → ap_R N w v b * ap_t N r col ≤ ap_R N w v r * ap_t N b col)
theorem ap_ratio {a b c x y z : Int} (hx : 0 < x) (h1 : a * y ≤ b * x) (h2 : b * z ≤ c * y) (hy : 0 < y) (hz : 0 < z) : a * z ≤ c * x := by
  have p1 := Int.mul_le_mul_of_nonneg_right h1 (Int.le_of_lt hz)
  have p2 := Int.mul_le_mul_of_nonneg_right h2 (Int.le_of_lt hx)
  have e1 : a * y * z = a * z * y := by rw [Int.mul_assoc, Int.mul_comm y, ← Int.mul_assoc]
  have e2 : b * x * z = b * z * x := by rw [Int.mul_assoc, Int.mul_comm x, ← Int.mul_assoc]
  have e3 : c * y * x = c * x * y := by rw [Int.mul_assoc, Int.mul_comm y, ← Int.mul_assoc]
  exact Int.le_of_mul_le_mul_right (show a * z * y ≤ c * x * y by omega) hy
theorem ap_leaving {post : Int32 → Prop} {col : Nat} (hM : ap_Mt N n m w v qun a10 a11 a12) (ho : ap_Ok m w N) (hv : ∀ x, -4096 ≤ v x ∧ v x ≤ 4096) (hw : w ≤ 4) (hm : m ≤ 21) (hn : n ≤ 16) (hnm : n ≤ m) (hrw : qrw = nI n) (hcol : col < w)
    (hp : ∀ s, ap_Lv N w v col n s → post s) : wpX_leaving post (qpr, qwo, qrw, qtu, qun, qco, qfw, qwc, qwt, qwb, qln, qem, qhh, qht, qhb, qhl, qlt, qlb, qbr, ql3, qg3, a1, a2, a3, a4, a5, a6, a7, a8, a9, a10, a11, a12, a13, a14, a15, a16, a17, a18, a19) (nI col) := by
  unfold wpX_leaving
  refine pk_loop (fun q i s => wX_leaving_4 post (nI col) qpr qwo qrw qtu qun qco qfw qwc qwt qwb qln qem qhh qht qhb qhl qlt qlb qbr ql3 qg3 a1 a2 a3 a4 a5 a6 a7 a8 a9 a10 a11 a12 a13 a14 a15 a16 a17 a18 a19 q s (nI i)) (fun i s => ap_Lv N w v col i s) n 0 (-1) (by omega) (Or.inl ⟨rfl, fun r hr => absurd hr (by omega)⟩) ?_ ?_
  · intro q s h
    exact pk_le n n (fun _ => hp s h) (fun z => absurd z (by omega)) hrw
  · intro q i s hi h hs
    refine pk_le n i (fun z => absurd z (by omega)) (fun _ => ?_) hrw
    refine ap_cell (by omega) ?_
    rw [hM.2.1 i (by omega) col (Or.inl hcol), ap_Ft _ _ _ _ (by omega)]
    have bi := ho.2.2.2.2.1 i (by omega) col hcol
    have keep : (ap_t N i col ≤ 0 ∨ ∃ b : Nat, s = nI b ∧ b < i ∧ 0 < ap_t N b col ∧ ap_R N w v b * ap_t N i col ≤ ap_R N w v i * ap_t N b col) → ap_Lv N w v col (i + 1) s := by
      intro hk
      rcases h with ⟨h1, h2⟩ | ⟨b, hb, h1, h2, h3⟩
      · rcases hk with hk | ⟨b, hb1, hb2, hb3, _⟩
        · refine Or.inl ⟨h1, fun r hr => ?_⟩
          by_cases e : r = i
          · rw [e]; exact hk
          · exact h2 r (by omega)
        · exact absurd (h2 b hb2) (by omega)
      · refine Or.inr ⟨b, by omega, h1, h2, fun r hr hpos => ?_⟩
        by_cases e : r = i
        · subst e
          rcases hk with hk | ⟨b', hb1, hb2, _, hb4⟩
          · omega
          · have : b' = b := (nI_eq (by omega) (by omega)).mp (hb1.symm.trans h1)
            subst this
            exact hb4
        · exact h3 r (by omega) hpos
    refine ap_lle (ap_t N i col) 0 rfl rfl (fun z => nm_r (nI_1 i) (hs s (keep (Or.inl z)))) (fun z => ?_)
    rcases h with ⟨h1, h2⟩ | ⟨b, hb, h1, h2, h3⟩
    · subst h1
      refine br_f (by decide) ?_
      unfold wX_leaving_50
      refine br_f (by decide) ?_
      unfold wX_leaving_69
      refine br_t (by decide) ?_
      unfold wX_leaving_102 wX_leaving_107
      refine br_f (by decide) (nm_r (nI_1 i) (hs _ (Or.inr ⟨i, by omega, rfl, z, fun r hr hpos => ?_⟩)))
      by_cases e : r = i
      · rw [e]; exact Int.le_refl _
      · exact absurd (h2 r (by omega)) (by omega)
    · subst h1
      have bR := ap_R_bd (r := i) (v := v) ho (by omega) hw hv
      have bRb := ap_R_bd (r := b) (v := v) ho (by omega) hw hv
      have bb := ho.2.2.2.2.1 b (by omega) col hcol
      have m1 := ap_mul_bd (by decide) (by decide) bR bb
      have m2 := ap_mul_bd (by decide) (by decide) bRb bi
      refine br_t (nI_pos' (by omega)) (ap_cell (c := 4) (by omega) (ap_cell (by omega) ?_))
      rw [hM.2.1 i (by omega) 4 (Or.inr rfl), hM.2.1 b (by omega) col (Or.inl hcol), ap_F4, ap_Ft _ _ _ _ (by omega), ap_l_mul]
      unfold wX_leaving_50
      refine br_t (nI_pos' (by omega)) (ap_cell (c := 4) (by omega) ?_)
      rw [hM.2.1 b (by omega) 4 (Or.inr rfl), ap_F4, ap_l_mul]
      have take : ap_R N w v i * ap_t N b col ≤ ap_R N w v b * ap_t N i col → wX_leaving_102 post (wX_leaving_4 post (nI col) qpr qwo qrw qtu qun qco qfw qwc qwt qwb qln qem qhh qht qhb qhl qlt qlb qbr ql3 qg3 a1 a2 a3 a4 a5 a6 a7 a8 a9 a10 a11 a12 a13 a14 a15 a16 a17 a18 a19 q) (nI col) (nI b) (nI i) qpr qwo qrw qtu qun qco qfw qwc qwt qwb qln qem qhh qht qhb qhl qlt qlb qbr ql3 qg3 a1 a2 a3 a4 a5 a6 a7 a8 a9 a10 a11 a12 a13 a14 a15 a16 a17 a18 a19 := by
        intro hk
        unfold wX_leaving_102 wX_leaving_107
        refine br_f (by decide) (nm_r (nI_1 i) (hs _ (Or.inr ⟨i, by omega, rfl, z, fun r hr hpos => ?_⟩)))
        by_cases e : r = i
        · rw [e]; exact Int.le_refl _
        · exact ap_ratio z hk (h3 r (by omega) hpos) h2 hpos
      have pass : ap_R N w v b * ap_t N i col ≤ ap_R N w v i * ap_t N b col → wX_leaving_106 post (wX_leaving_4 post (nI col) qpr qwo qrw qtu qun qco qfw qwc qwt qwb qln qem qhh qht qhb qhl qlt qlb qbr ql3 qg3 a1 a2 a3 a4 a5 a6 a7 a8 a9 a10 a11 a12 a13 a14 a15 a16 a17 a18 a19 q) (nI col) (nI b) (nI i) qpr qwo qrw qtu qun qco qfw qwc qwt qwb qln qem qhh qht qhb qhl qlt qlb qbr ql3 qg3 a1 a2 a3 a4 a5 a6 a7 a8 a9 a10 a11 a12 a13 a14 a15 a16 a17 a18 a19 := by
        intro hk
        unfold wX_leaving_106 wX_leaving_107
        exact br_t rfl (nm_r (nI_1 i) (hs _ (keep (Or.inr ⟨b, rfl, hb, h2, hk⟩))))
      unfold wX_leaving_69
      refine ap_llt (ap_R N w v i * ap_t N b col) (ap_R N w v b * ap_t N i col) rfl rfl (fun z2 => take (by omega)) (fun z2 => ?_)
      refine ap_leq (ap_R N w v i * ap_t N b col) (ap_R N w v b * ap_t N i col) rfl rfl (fun z3 => ?_) (fun z3 => pass (by omega))
      refine ⟨pk_in i 16 (by omega), pk_in b 16 (by omega), ?_⟩
      exact br_c (fun _ => pass (by omega)) (fun _ => take (by omega))
theorem ap_lowest {post : Int32 → Prop} (hT : ap_Tab a10 m w (ap_F N w v)) (ho : ap_Ok m w N) (hv : ∀ x, -4096 ≤ v x ∧ v x ≤ 4096) (hw : w ≤ 4) (hm : m ≤ 21) (hn : n ≤ 16) (hn1 : 1 ≤ n) (hnm : n ≤ m) (hrw : qrw = nI n)
    (hp : ∀ b, b < n → (∀ r, r < n → ap_R N w v b ≤ ap_R N w v r) → post (nI b)) : wpX_lowestRow post (qpr, qwo, qrw, qtu, qun, qco, qfw, qwc, qwt, qwb, qln, qem, qhh, qht, qhb, qhl, qlt, qlb, qbr, ql3, qg3, a1, a2, a3, a4, a5, a6, a7, a8, a9, a10, a11, a12, a13, a14, a15, a16, a17, a18, a19) := by
  unfold wpX_lowestRow
  refine pk_loop (fun q i s => wX_lowestRow_4 post qpr qwo qrw qtu qun qco qfw qwc qwt qwb qln qem qhh qht qhb qhl qlt qlb qbr ql3 qg3 a1 a2 a3 a4 a5 a6 a7 a8 a9 a10 a11 a12 a13 a14 a15 a16 a17 a18 a19 q s (nI i)) (fun i s => ∃ b, b < i ∧ s = nI b ∧ ∀ r, r < i → ap_R N w v b ≤ ap_R N w v r) n 1 0 (by omega) ⟨0, by omega, rfl, fun r hr => by rw [show r = 0 by omega]; exact Int.le_refl _⟩ ?_ ?_
  · intro q s h
    obtain ⟨b, hb, rfl, h3⟩ := h
    exact pk_le n n (fun _ => hp b hb h3) (fun z => absurd z (by omega)) hrw
  · intro q i s hi h hs
    obtain ⟨b, hb, rfl, h3⟩ := h
    refine pk_le n i (fun z => absurd z (by omega)) (fun _ => ?_) hrw
    refine ap_cell (c := 4) (by omega) (ap_cell (c := 4) (by omega) ?_)
    rw [hT i (by omega) 4 (Or.inr rfl), hT b (by omega) 4 (Or.inr rfl), ap_F4, ap_F4]
    have bR := ap_R_bd (r := i) (v := v) ho (by omega) hw hv
    have bRb := ap_R_bd (r := b) (v := v) ho (by omega) hw hv
    refine ap_lle (ap_R N w v b) (ap_R N w v i) rfl rfl (fun z => nm_r (nI_1 i) (hs _ ⟨b, by omega, rfl, fun r hr => ?_⟩)) (fun z => nm_r (nI_1 i) (hs _ ⟨i, by omega, rfl, fun r hr => ?_⟩))
    · by_cases e : r = i
      · rw [e]; exact z
      · exact h3 r (by omega)
    · by_cases e : r = i
      · rw [e]; exact Int.le_refl _
      · have := h3 r (by omega)
        omega
theorem ap_broken {post : Int32 → Prop} (hT : ap_Tab a10 m w (ap_F N w v)) (ho : ap_Ok m w N) (hv : ∀ x, -4096 ≤ v x ∧ v x ≤ 4096) (hw : w ≤ 4) (hm : m ≤ 21) (hn : n ≤ 16) (hnm : n ≤ m) (hrw : qrw = nI n)
    (hp0 : (∀ r, r < n → 0 ≤ ap_R N w v r) → post (-1)) (hp : ∀ b, b < n → ap_R N w v b < 0 → post (nI b)) : wpX_brokenRow post (qpr, qwo, qrw, qtu, qun, qco, qfw, qwc, qwt, qwb, qln, qem, qhh, qht, qhb, qhl, qlt, qlb, qbr, ql3, qg3, a1, a2, a3, a4, a5, a6, a7, a8, a9, a10, a11, a12, a13, a14, a15, a16, a17, a18, a19) := by
  unfold wpX_brokenRow
  refine pk_loop (fun q i s => wX_brokenRow_4 post qpr qwo qrw qtu qun qco qfw qwc qwt qwb qln qem qhh qht qhb qhl qlt qlb qbr ql3 qg3 a1 a2 a3 a4 a5 a6 a7 a8 a9 a10 a11 a12 a13 a14 a15 a16 a17 a18 a19 q s (nI i)) (fun i s => (s = -1 ∧ ∀ r, r < i → 0 ≤ ap_R N w v r) ∨ ∃ b, b < i ∧ s = nI b ∧ ap_R N w v b < 0) n 0 (-1) (by omega) (Or.inl ⟨rfl, fun r hr => absurd hr (by omega)⟩) ?_ ?_
  · intro q s h
    refine pk_le n n (fun _ => ?_) (fun z => absurd z (by omega)) hrw
    rcases h with ⟨rfl, h2⟩ | ⟨b, hb, rfl, h2⟩
    · exact hp0 h2
    · exact hp b hb h2
  · intro q i s hi h hs
    refine pk_le n i (fun z => absurd z (by omega)) (fun _ => ?_) hrw
    refine ap_cell (c := 4) (by omega) ?_
    rw [hT i (by omega) 4 (Or.inr rfl), ap_F4]
    have bR := ap_R_bd (r := i) (v := v) ho (by omega) hw hv
    refine ap_lle 0 (ap_R N w v i) rfl rfl (fun z => nm_r (nI_1 i) (hs _ ?_)) (fun z => ?_)
    · rcases h with ⟨rfl, h2⟩ | ⟨b, hb, rfl, h2⟩
      · refine Or.inl ⟨rfl, fun r hr => ?_⟩
        by_cases e : r = i
        · rw [e]; exact z
        · exact h2 r (by omega)
      · exact Or.inr ⟨b, by omega, rfl, h2⟩
    · rcases h with ⟨rfl, h2⟩ | ⟨b, hb, rfl, h2⟩
      · exact br_t (by decide) (nm_r (nI_1 i) (hs _ (Or.inr ⟨i, by omega, rfl, z⟩)))
      · refine br_f (nI_pos (by omega)) ⟨pk_in i 16 (by omega), pk_in b 16 (by omega), ?_⟩
        exact br_c (fun _ => nm_r (nI_1 i) (hs _ (Or.inr ⟨b, by omega, rfl, h2⟩))) (fun _ => nm_r (nI_1 i) (hs _ (Or.inr ⟨i, by omega, rfl, z⟩)))
theorem ap_loses {post : Int32 → Prop} {c d row : Nat} (hM : ap_Mt N n m w v qun a10 a11 a12) (ho : ap_Ok m w N) (hw : w ≤ 4) (hm : m ≤ 21) (hfk : f + k ≤ m) (hfw : qfw = nI f) (hwc : qwc = nI k) (hc : c < w) (hd : d < w) (hrow : row < m)
    (hp : post (ap_b (ap_ll N c d row k f))) : wpX_losesLess post (qpr, qwo, qrw, qtu, qun, qco, qfw, qwc, qwt, qwb, qln, qem, qhh, qht, qhb, qhl, qlt, qlb, qbr, ql3, qg3, a1, a2, a3, a4, a5, a6, a7, a8, a9, a10, a11, a12, a13, a14, a15, a16, a17, a18, a19) (nI c) (nI d) (nI row) := by
  subst hfw
  unfold wpX_losesLess
  have hT := hM.2.1
  refine ap_cell (by omega) ?_
  rw [hT row hrow c (Or.inl hc), ap_Ft _ _ _ _ (by omega)]
  refine nm_r (ap_l_neg _) ?_
  refine ap_cell (by omega) ?_
  rw [hT row hrow d (Or.inl hd), ap_Ft _ _ _ _ (by omega)]
  refine nm_r (ap_l_neg _) ?_
  have brc := ho.2.2.2.2.1 row hrow c hc
  have brd := ho.2.2.2.2.1 row hrow d hd
  refine pk_loop (σ := Unit) (fun n i _ => wX_losesLess_21 post (nI c) (nI d) (ap_l (- ap_t N row c)) (ap_l (- ap_t N row d)) qpr qwo qrw qtu qun qco (nI f) qwc qwt qwb qln qem qhh qht qhb qhl qlt qlb qbr ql3 qg3 a1 a2 a3 a4 a5 a6 a7 a8 a9 a10 a11 a12 a13 a14 a15 a16 a17 a18 a19 n (nI i)) (fun i _ => ap_ll N c d row (k - i) (f + i) = ap_ll N c d row k f) k 0 () (by omega) rfl ?_ ?_
  · intro q _ h
    refine pk_le k k (fun _ => ?_) (fun z => absurd z (by omega)) hwc
    rw [Nat.sub_self] at h
    have h' : decide (ap_cn N c < ap_cn N d) = ap_ll N c d row k f := h
    rw [← h'] at hp
    have b1 := ho.2.2.2.2.2.2 c hc
    have b2 := ho.2.2.2.2.2.2 d hd
    refine ⟨pk_in c 4 (by omega), pk_in d 4 (by omega), ?_⟩
    refine ap_ile (ap_cn N d) (ap_cn N c) (by rw [nI_clamp (by omega)]; exact hM.2.2.2 d hd) (by rw [nI_clamp (by omega)]; exact hM.2.2.2 c hc) (fun z => ?_) (fun z => ?_)
    · rw [decide_eq_false (by omega)] at hp
      exact hp
    · rw [decide_eq_true z] at hp
      exact hp
  · intro q i _ hi h hs
    refine pk_le k i (fun z => absurd z (by omega)) (fun _ => ?_) hwc
    rw [nI_add]
    have b1 := ho.2.2.2.2.1 (f + i) (by omega) c hc
    have b2 := ho.2.2.2.2.1 (f + i) (by omega) d hd
    have m1 := ap_mul_bd (A := 64) (B := 64) (by decide) (by decide) b1 (show -64 ≤ - ap_t N row d ∧ - ap_t N row d ≤ 64 by omega)
    have m2 := ap_mul_bd (A := 64) (B := 64) (by decide) (by decide) b2 (show -64 ≤ - ap_t N row c ∧ - ap_t N row c ≤ 64 by omega)
    refine ap_cell (by omega) ?_
    rw [hT (f + i) (by omega) c (Or.inl hc), ap_Ft _ _ _ _ (by omega)]
    refine nm_r (ap_l_mul _ _) ?_
    refine ap_cell (by omega) ?_
    rw [hT (f + i) (by omega) d (Or.inl hd), ap_Ft _ _ _ _ (by omega)]
    refine nm_r (ap_l_mul _ _) ?_
    have e : k - i = (k - (i + 1)) + 1 := by omega
    rw [e] at h
    have h' : (if ap_t N (f + i) c * (- ap_t N row d) = ap_t N (f + i) d * (- ap_t N row c) then ap_ll N c d row (k - (i + 1)) (f + i + 1) else decide (ap_t N (f + i) c * (- ap_t N row d) < ap_t N (f + i) d * (- ap_t N row c))) = ap_ll N c d row k f := h
    refine ap_leq _ _ rfl rfl (fun z => nm_r (nI_1 i) (hs () ?_)) (fun z => ?_)
    · rw [if_pos z] at h'
      exact h'
    · rw [if_neg z] at h'
      rw [← h'] at hp
      refine ap_lle _ _ rfl rfl (fun z2 => ?_) (fun z2 => ?_)
      · rw [decide_eq_false (by omega)] at hp
        exact hp
      · rw [decide_eq_true (by omega)] at hp
        exact hp
end
end
section
/-! exchanges keep the right column at 0 or more; the climb; reading off -/
theorem ap_pos_of_mul {u x : Int} (hu : 0 < u) (h : 0 ≤ u * x) : 0 ≤ x := by
  rcases ap_lg x 0 with z | z
  · have := Int.mul_neg_of_pos_of_neg hu z
    omega
  · exact z
theorem ap_ex_nn {N : ap_N} {n m w row col : Nat} {v : Int → Int} (ho : ap_Ok m w N) (hnm : n ≤ m) (hrow : row < n) (hcol : col < w) (hd : ap_dv N m w row col = true) (hp : 0 < ap_t N row col)
    (hR : ∀ r, r < n → 0 ≤ ap_R N w v r) (hq : ∀ r, r < n → 0 < ap_t N r col → ap_R N w v row * ap_t N r col ≤ ap_R N w v r * ap_t N row col) : ∀ r, r < n → 0 ≤ ap_R (ap_ex N m w row col) w v r := by
  intro r hr
  have h := ap_ex_R (r := r) v (show row < m by omega) hcol (show r < m by omega) ho.1 ho.2.2.1 ho.2.2.2.1 (ap_dv_iff hd)
  have hg : ap_g (ap_t N row col) = 1 := if_neg (by omega)
  rw [hg, Int.one_mul, Int.one_mul] at h
  by_cases e : r = row
  · rw [h.1 e]; exact hR row hrow
  · refine ap_pos_of_mul ho.1 ?_
    rw [h.2 e]
    have h1 := Int.mul_nonneg (hR r hr) (Int.le_of_lt hp)
    by_cases e2 : 0 < ap_t N r col
    · have := hq r hr e2
      rw [Int.mul_comm (ap_t N r col)]
      omega
    · have h2 := Int.mul_nonneg (hR row hrow) (show 0 ≤ - ap_t N r col by omega)
      have h3 : ap_R N w v row * - ap_t N r col = -(ap_t N r col * ap_R N w v row) := by rw [Int.mul_neg, Int.mul_comm]
      omega
section
variable {qpr : Int32} {qwo : Int32} {qrw : Int32} {qtu : Int32} {qun : Int64} {qco : Int32} {qfw : Int32} {qwc : Int32} {qwt : Int64} {qwb : Int64} {qln : Int32} {qem : Int32} {qhh : Int32} {qht : Int64} {qhb : Int64} {qhl : Int32} {qlt : Int64} {qlb : Int64} {qbr : Int32} {ql3 : Int32} {qg3 : Int32} {a1 : Nat → Int32} {a2 : Nat → Int32} {a3 : Nat → Int32} {a4 : Nat → Int32} {a5 : Nat → Int32} {a6 : Nat → Int32} {a7 : Nat → Int32} {a8 : Nat → Int32} {a9 : Nat → Int32} {a10 : Nat → Int64} {a11 : Nat → Int32} {a12 : Nat → Int32} {a13 : Nat → Int64} {a14 : Nat → Int64} {a15 : Nat → Int64} {a16 : Nat → Int64} {a17 : Nat → Int64} {a18 : Nat → Int32} {a19 : Nat → Int32}
variable {n m w f k : Nat} {v : Int → Int}
theorem ap_climb2 {post : St2 → Prop} {ct : ap_N → Bool} (hv : ∀ x, -4096 ≤ v x ∧ v x ≤ 4096) (hw : w ≤ 4) (hm : m ≤ 21) (hn : n ≤ 16) (hnm : n ≤ m) (hfk : f + k = m) (hrw : qrw = nI n) (hfw : qfw = nI f) (hwc : qwc = nI k) (hco : qco = nI w)
    (H : ∀ (N' : ap_N) (qun' : Int64) (a10' : Nat → Int64) (a11' : Nat → Int32) (a12' : Nat → Int32), ap_Ok m w N' → ct N' = true → ap_Mt N' n m w v qun' a10' a11' a12' → (∀ r, r < n → 0 ≤ ap_R N' w v r) → post (qpr, qwo, qrw, qtu, qun', qco, qfw, qwc, qwt, qwb, qln, qem, qhh, qht, qhb, qhl, qlt, qlb, qbr, ql3, qg3, a1, a2, a3, a4, a5, a6, a7, a8, a9, a10', a11', a12', a13, a14, a15, a16, a17, a18, a19)) :
    ∀ (q : Nat) (N : ap_N) (i : Nat) (qun : Int64) (a10 : Nat → Int64) (a11 a12 : Nat → Int32), ap_x n m w f k ct q N = true → i + q ≤ 100000 → ap_Mt N n m w v qun a10 a11 a12 → (∀ r, r < n → 0 ≤ ap_R N w v r) → wX_climb_2 post q (nI i) qpr qwo qrw qtu qun qco qfw qwc qwt qwb qln qem qhh qht qhb qhl qlt qlb qbr ql3 qg3 a1 a2 a3 a4 a5 a6 a7 a8 a9 a10 a11 a12 a13 a14 a15 a16 a17 a18 a19
  | 0, N, i, qun, a10, a11, a12, hx, _, _, _ => Bool.noConfusion hx
  | q + 1, N, i, qun, a10, a11, a12, hx, hi, hM, hR => by
    obtain ⟨ho, x1, x2⟩ := ap_x_out hx
    refine pk_le 100000 i (fun z => absurd z (by omega)) (fun _ => ?_)
    refine ap_entering hM ho hw hm (by omega) hfw hwc hco ?_
    have hb := ap_en_lt N f k w
    refine ap_ile 0 (ap_en N f k w) rfl rfl (fun z => ?_) (fun z => ?_)
    · obtain ⟨c, hc⟩ : ∃ c : Nat, ap_en N f k w = c := ⟨(ap_en N f k w).toNat, by omega⟩
      rw [hc] at hb x2
      have hc2 : ((c : Int)).toNat = c := by omega
      rw [hc2] at x2
      obtain ⟨⟨r0, hr0, hr0p⟩, x3⟩ := x2 (by omega)
      rw [hc, ← ap_i_nat]
      refine ap_leaving hM ho hv hw hm hn hnm hrw (by omega) (fun s hs => ?_)
      rcases hs with ⟨_, h2⟩ | ⟨b, hb1, rfl, hb3, hb4⟩
      · exact absurd (h2 r0 hr0) (by omega)
      · obtain ⟨hd, hx'⟩ := x3 b hb1 hb3
        unfold wX_climb_26
        refine br_t (nI_pos' (by omega)) ?_
        refine ap_exchange hM ho hv hb1 hn hnm hm hw (by omega) hco (by rw [hfw, hwc, nI_add, hfk]) hd (fun un' t' rn' cn' hM' => ?_)
        refine nm_r (nI_1 i) (ap_climb2 hv hw hm hn hnm hfk hrw hfw hwc hco H q _ (i + 1) un' t' rn' cn' hx' (by omega) hM' (ap_ex_nn ho hnm hb1 (by omega) hd hb3 hR hb4))
    · unfold wX_climb_26
      refine br_f (by decide) (H N _ _ _ _ ho (x1 z) hM hR)
theorem ap_climb {post : St2 → Prop} {ct : ap_N → Bool} {q : Nat} {N : ap_N} (hv : ∀ x, -4096 ≤ v x ∧ v x ≤ 4096) (hw : w ≤ 4) (hm : m ≤ 21) (hn : n ≤ 16) (hnm : n ≤ m) (hfk : f + k = m) (hrw : qrw = nI n) (hfw : qfw = nI f) (hwc : qwc = nI k) (hco : qco = nI w)
    (hx : ap_x n m w f k ct q N = true) (hq : q ≤ 100000) (hM : ap_Mt N n m w v qun a10 a11 a12) (hR : ∀ r, r < n → 0 ≤ ap_R N w v r)
    (H : ∀ (N' : ap_N) (qun' : Int64) (a10' : Nat → Int64) (a11' : Nat → Int32) (a12' : Nat → Int32), ap_Ok m w N' → ct N' = true → ap_Mt N' n m w v qun' a10' a11' a12' → (∀ r, r < n → 0 ≤ ap_R N' w v r) → post (qpr, qwo, qrw, qtu, qun', qco, qfw, qwc, qwt, qwb, qln, qem, qhh, qht, qhb, qhl, qlt, qlb, qbr, ql3, qg3, a1, a2, a3, a4, a5, a6, a7, a8, a9, a10', a11', a12', a13, a14, a15, a16, a17, a18, a19)) :
    wpX_climb post (qpr, qwo, qrw, qtu, qun, qco, qfw, qwc, qwt, qwb, qln, qem, qhh, qht, qhb, qhl, qlt, qlb, qbr, ql3, qg3, a1, a2, a3, a4, a5, a6, a7, a8, a9, a10, a11, a12, a13, a14, a15, a16, a17, a18, a19) := by
  unfold wpX_climb
  exact ⟨q, ap_climb2 hv hw hm hn hnm hfk hrw hfw hwc hco H q N 0 qun a10 a11 a12 hx (by omega) hM hR⟩
/-- reading off: tu: which amounts are counted down -/
theorem ap_readOff {post : St2 → Prop} {N : ap_N} {lo hi : Nat → Int} {tu : Nat → Bool} (hM : ap_Mt N n m w v qun a10 a11 a12) (ho : ap_Ok m w N) (hw : w ≤ 4) (hm : m ≤ 21) (hn : n ≤ 16) (hnm : n < m) (hrw : qrw = nI n) (hfw : qfw = nI n)
    (hlo : ∀ i, i < 3 → a5 i = ap_i (lo i) ∧ -128 ≤ lo i ∧ lo i ≤ 127) (hhi : ∀ i, i < 3 → a6 i = ap_i (hi i) ∧ -128 ≤ hi i ∧ hi i ≤ 127)
    (htu : ∀ i, i < 3 → (((qtu >>> (nI i &&& 31)) &&& 1) = 0 ↔ tu i = false))
    (H : ∀ (a13' : Nat → Int64), (∀ i : Nat, i < 3 → a13' i = ap_l (if tu i = true then hi i * N.1 - ap_ow N (fun r => ap_R N w v r) i n else lo i * N.1 + ap_ow N (fun r => ap_R N w v r) i n)) → post (qpr, qwo, qrw, qtu, qun, qco, qfw, qwc, ap_l (ap_R N w v n), ap_l N.1, qln, qem, qhh, qht, qhb, qhl, qlt, qlb, qbr, ql3, qg3, a1, a2, a3, a4, a5, a6, a7, a8, a9, a10, a11, a12, a13', a14, a15, a16, a17, a18, a19)) :
    wpX_readOff post (qpr, qwo, qrw, qtu, qun, qco, qfw, qwc, qwt, qwb, qln, qem, qhh, qht, qhb, qhl, qlt, qlb, qbr, ql3, qg3, a1, a2, a3, a4, a5, a6, a7, a8, a9, a10, a11, a12, a13, a14, a15, a16, a17, a18, a19) := by
  unfold wpX_readOff
  rw [hfw]
  refine ap_cell (c := 4) (by omega) ?_
  rw [hM.2.1 n (by omega) 4 (Or.inr rfl), ap_F4, hM.1]
  refine pk_loop (fun q i s => wX_readOff_23 post qpr qwo qrw qtu (ap_l N.1) qco (nI n) qwc (ap_l (ap_R N w v n)) (ap_l N.1) qln qem qhh qht qhb qhl qlt qlb qbr ql3 qg3 q (nI i) a1 a2 a3 a4 a5 a6 a7 a8 a9 a10 a11 a12 s a14 a15 a16 a17 a18 a19)
    (fun i s => ∀ j : Nat, j < i → s j = ap_l (if tu j = true then hi j * N.1 - ap_ow N (fun r => ap_R N w v r) j n else lo j * N.1 + ap_ow N (fun r => ap_R N w v r) j n)) 3 0 a13 (by omega) (fun j hj => absurd hj (by omega)) ?_ ?_
  · intro q s h
    have hh := H s h
    rw [hM.1, hfw] at hh
    exact pk_le 3 3 (fun _ => hh) (fun z => absurd z (by omega))
  · intro q i s hi3 h hs
    refine pk_le 3 i (fun z => absurd z (by omega)) (fun _ => ?_)
    refine pk_loop (fun g r x => wX_readOff_33 post (wX_readOff_23 post qpr qwo qrw qtu (ap_l N.1) qco (nI n) qwc (ap_l (ap_R N w v n)) (ap_l N.1) qln qem qhh qht qhb qhl qlt qlb qbr ql3 qg3 q) (nI i) qpr qwo qrw qtu (ap_l N.1) qco (nI n) qwc (ap_l (ap_R N w v n)) (ap_l N.1) qln qem qhh qht qhb qhl qlt qlb qbr ql3 qg3 a1 a2 a3 a4 a5 a6 a7 a8 a9 a10 a11 a12 s a14 a15 a16 a17 a18 a19 g x (nI r)) (fun r x => x = ap_l (ap_ow N (fun r => ap_R N w v r) i r)) n 0 0 (by omega) rfl ?_ ?_
    · intro g x hx
      subst hx
      refine pk_le n n (fun _ => ?_) (fun z => absurd z (by omega)) hrw
      have hl := hlo i hi3
      have hh := hhi i hi3
      have fin : ∀ y : Int64, y = ap_l (if tu i = true then hi i * N.1 - ap_ow N (fun r => ap_R N w v r) i n else lo i * N.1 + ap_ow N (fun r => ap_R N w v r) i n) → ∀ j : Nat, j < i + 1 → vp_updL s i y j = ap_l (if tu j = true then hi j * N.1 - ap_ow N (fun r => ap_R N w v r) j n else lo j * N.1 + ap_ow N (fun r => ap_R N w v r) j n) := by
        intro y hy j hj
        by_cases e : j = i
        · rw [e, pk_uLs, hy]
        · rw [pk_uLn e]
          exact h j (by omega)
      refine ek_if (htu i hi3) (fun z => ?_) (fun z => ?_)
      · unfold wX_readOff_87
        refine br_t rfl ⟨pk_in i 3 hi3, pk_in i 3 hi3, nm_r (e' := vp_updL s i (ap_l (lo i * N.1 + ap_ow N (fun r => ap_R N w v r) i n))) ?_ (nm_r (nI_1 i) (hs _ (fin _ ?_)))⟩
        · rw [nI_clamp (by omega), hl.1, ap_il (by omega), ap_l_mul, ap_l_add]
        · rw [z]; rfl
      · unfold wX_readOff_87
        refine br_f (by decide) ⟨pk_in i 3 hi3, pk_in i 3 hi3, nm_r (e' := vp_updL s i (ap_l (hi i * N.1 - ap_ow N (fun r => ap_R N w v r) i n))) ?_ (nm_r (nI_1 i) (hs _ (fin _ ?_)))⟩
        · rw [nI_clamp (by omega), hh.1, ap_il (by omega), ap_l_mul, ap_l_sub]
        · rw [if_pos (by cases h : tu i <;> simp_all)]
    · intro g r x hr hx hs2
      subst hx
      refine pk_le n r (fun z => absurd z (by omega)) (fun _ => ⟨pk_in r 16 (by omega), ?_⟩) hrw
      have bn := ho.2.2.2.2.2.1 r (by omega)
      refine ap_ieq (ap_rn N r) (i : Int) (by rw [nI_clamp (by omega)]; exact hM.2.2.1 r hr) (ap_i_nat i) (fun z => ?_) (fun z => nm_r (nI_1 r) (hs2 _ ?_))
      · refine ap_cell (c := 4) (by omega) ?_
        rw [hM.2.1 r (by omega) 4 (Or.inr rfl), ap_F4]
        refine nm_r (nI_1 r) (hs2 _ ?_)
        show _ = ap_l (if ap_rn N r = i then ap_R N w v r else _)
        rw [if_pos z]
      · show _ = ap_l (if ap_rn N r = i then ap_R N w v r else _)
        rw [if_neg z]
theorem ap_dropExtra {post : Int32 → St2 → Prop} {N : ap_N} {kk : ap_N → Nat → Bool} (hM : ap_Mt N n (n + 5) 4 v qun a10 a11 a12) (ho : ap_Ok (n + 5) 4 N) (hv : ∀ x, -4096 ≤ v x ∧ v x ≤ 4096) (hn : n ≤ 16) (hrw : qrw = nI n) (hfw : qfw + qwc = nI (n + 5)) (hco : qco = nI 4)
    (hd : ap_dp n N kk = true)
    (H : ∀ (N' : ap_N) (c : Nat) (qun' : Int64) (a10' : Nat → Int64) (a11' : Nat → Int32) (a12' : Nat → Int32), c < 4 → kk N' c = true → ap_Mt N' n (n + 5) 4 v qun' a10' a11' a12' →
      ((ap_fr N 99 n 0 < n ∧ c = ap_fc N (ap_fr N 99 n 0) 3 0 ∧ N' = ap_ex N (n + 5) 4 (ap_fr N 99 n 0) c ∧ ap_t N (ap_fr N 99 n 0) c ≠ 0 ∧ ap_dv N (n + 5) 4 (ap_fr N 99 n 0) c = true) ∨ (¬ ap_fr N 99 n 0 < n ∧ N' = N)) → post (nI c) (qpr, qwo, qrw, qtu, qun', qco, qfw, qwc, qwt, qwb, qln, qem, qhh, qht, qhb, qhl, qlt, qlb, qbr, ql3, qg3, a1, a2, a3, a4, a5, a6, a7, a8, a9, a10', a11', a12', a13, a14, a15, a16, a17, a18, a19)) :
    wpX_dropExtra post (qpr, qwo, qrw, qtu, qun, qco, qfw, qwc, qwt, qwb, qln, qem, qhh, qht, qhb, qhl, qlt, qlb, qbr, ql3, qg3, a1, a2, a3, a4, a5, a6, a7, a8, a9, a10, a11, a12, a13, a14, a15, a16, a17, a18, a19) := by
  have hcm : qco - 1 = nI 3 := by rw [hco]; rfl
  have hfrl := ap_fr_le N 99 n 0
  unfold wpX_dropExtra
  refine pk_loop (σ := Unit) (fun q i _ => wX_dropExtra_2 post qpr qwo qrw qtu qun qco qfw qwc qwt qwb qln qem qhh qht qhb qhl qlt qlb qbr ql3 qg3 a1 a2 a3 a4 a5 a6 a7 a8 a9 a10 a11 a12 a13 a14 a15 a16 a17 a18 a19 q (nI i)) (fun i _ => ap_fr N 99 (n - i) i = ap_fr N 99 n 0) n 0 () (by omega) rfl ?_ ?_
  · intro q _ h
    refine pk_le n n (fun _ => ?_) (fun z => absurd z (by omega)) hrw
    rw [Nat.sub_self] at h
    have h' : n = ap_fr N 99 n 0 := h
    unfold ap_dp at hd
    rw [if_neg (by omega)] at hd
    have hfkl := ap_fk_le N 99 3 0
    have fin := H N (ap_fk N 99 3 0) _ _ _ _ (by omega) hd hM (Or.inr ⟨by omega, rfl⟩)
    refine pk_loop (σ := Unit) (fun q i _ => wX_dropExtra_66 post qpr qwo qrw qtu qun qco qfw qwc qwt qwb qln qem qhh qht qhb qhl qlt qlb qbr ql3 qg3 a1 a2 a3 a4 a5 a6 a7 a8 a9 a10 a11 a12 a13 a14 a15 a16 a17 a18 a19 q (nI i)) (fun i _ => ap_fk N 99 (3 - i) i = ap_fk N 99 3 0) 3 0 () (by omega) rfl ?_ ?_
    · intro g _ h2
      rw [Nat.sub_self] at h2
      have h2' : 3 = ap_fk N 99 3 0 := h2
      rw [← h2'] at fin
      exact pk_le 3 3 (fun _ => fin) (fun z => absurd z (by omega)) hcm
    · intro g i _ hi h2 hs
      refine pk_le 3 i (fun z => absurd z (by omega)) (fun _ => ⟨pk_in i 4 (by omega), ?_⟩) hcm
      have bn := ho.2.2.2.2.2.2 i (by omega)
      have e : 3 - i = (3 - (i + 1)) + 1 := by omega
      rw [e] at h2
      have h2' : (if ap_cn N i = 99 then i else ap_fk N 99 (3 - (i + 1)) (i + 1)) = ap_fk N 99 3 0 := h2
      refine ap_ieq (ap_cn N i) 99 (by rw [nI_clamp (by omega)]; exact hM.2.2.2 i (by omega)) rfl (fun z => ?_) (fun z => nm_r (nI_1 i) (hs () ?_))
      · rw [if_pos z] at h2'
        rw [← h2'] at fin
        exact fin
      · rw [if_neg z] at h2'
        exact h2'
  · intro q i _ hi h hs
    refine pk_le n i (fun z => absurd z (by omega)) (fun _ => ⟨pk_in i 16 (by omega), ?_⟩) hrw
    have bn := ho.2.2.2.2.2.1 i (by omega)
    have e : n - i = (n - (i + 1)) + 1 := by omega
    rw [e] at h
    have h' : (if ap_rn N i = 99 then i else ap_fr N 99 (n - (i + 1)) (i + 1)) = ap_fr N 99 n 0 := h
    refine ap_ieq (ap_rn N i) 99 (by rw [nI_clamp (by omega)]; exact hM.2.2.1 i hi) rfl (fun z => ?_) (fun z => nm_r (nI_1 i) (hs () ?_))
    · rw [if_pos z] at h'
      unfold ap_dp at hd
      rw [if_pos (by omega), Bool.and_eq_true, Bool.and_eq_true, decide_eq_true_eq, ap_fN_eq] at hd
      obtain ⟨⟨d1, d2⟩, d3⟩ := hd
      have hfcl := ap_fc_le N (ap_fr N 99 n 0) 3 0
      have fin : wX_dropExtra_50 post (nI i) (nI (ap_fc N (ap_fr N 99 n 0) 3 0)) qpr qwo qrw qtu qun qco qfw qwc qwt qwb qln qem qhh qht qhb qhl qlt qlb qbr ql3 qg3 a1 a2 a3 a4 a5 a6 a7 a8 a9 a10 a11 a12 a13 a14 a15 a16 a17 a18 a19 := by
        unfold wX_dropExtra_50
        rw [h']
        refine ap_exchange hM ho hv (by omega) hn (by omega) (by omega) (by omega) (by omega) hco hfw d2 (fun un' t' rn' cn' hM' => ?_)
        exact H _ _ _ _ _ _ (by omega) d3 hM' (Or.inl ⟨by omega, rfl, rfl, d1, d2⟩)
      rw [← h'] at fin
      refine pk_loop (σ := Unit) (fun q c _ => wX_dropExtra_23 post (nI i) qpr qwo qrw qtu qun qco qfw qwc qwt qwb qln qem qhh qht qhb qhl qlt qlb qbr ql3 qg3 a1 a2 a3 a4 a5 a6 a7 a8 a9 a10 a11 a12 a13 a14 a15 a16 a17 a18 a19 q (nI c)) (fun c _ => ap_fc N i (3 - c) c = ap_fc N i 3 0) 3 0 () (by omega) rfl ?_ ?_
      · intro g _ h2
        rw [Nat.sub_self] at h2
        have h2' : 3 = ap_fc N i 3 0 := h2
        rw [← h2'] at fin
        exact pk_le 3 3 (fun _ => fin) (fun z => absurd z (by omega)) hcm
      · intro g c _ hc h2 hs2
        refine pk_le 3 c (fun z => absurd z (by omega)) (fun _ => ?_) hcm
        refine ap_cell (by omega) ?_
        rw [hM.2.1 i (by omega) c (Or.inl (by omega)), ap_Ft _ _ _ _ (by omega)]
        have bt := ho.2.2.2.2.1 i (by omega) c (by omega)
        have e2 : 3 - c = (3 - (c + 1)) + 1 := by omega
        rw [e2] at h2
        have h2' : (if ap_t N i c = 0 then ap_fc N i (3 - (c + 1)) (c + 1) else c) = ap_fc N i 3 0 := h2
        refine ap_leq (ap_t N i c) 0 rfl rfl (fun z2 => nm_r (nI_1 c) (hs2 () ?_)) (fun z2 => ?_)
        · rw [if_pos z2] at h2'
          exact h2'
        · rw [if_neg z2] at h2'
          rw [← h2'] at fin
          exact fin
    · rw [if_neg z] at h'
      exact h'
theorem ap_closeColumn {post : St2 → Prop} {N : ap_N} {col : Nat} (hM : ap_Mt N n (n + 5) 4 v qun a10 a11 a12) (ho : ap_Ok (n + 5) 4 N) (hn : n ≤ 16) (hrw : qrw = nI n) (hc : col < 4) (h9 : ap_cn N col = 99) (hv9 : v 99 = 0)
    (H : ∀ (a10' : Nat → Int64) (a12' : Nat → Int32), ap_Mt (ap_cl N n col) n (n + 4) 3 v qun a10' a11 a12' → post (qpr, qwo, qrw, qtu, qun, 3, qfw, qwc, qwt, qwb, qln, qem, qhh, qht, qhb, qhl, qlt, qlb, qbr, ql3, qg3, a1, a2, a3, a4, a5, a6, a7, a8, a9, a10', a11, a12', a13, a14, a15, a16, a17, a18, a19)) : wpX_closeColumn post (qpr, qwo, qrw, qtu, qun, qco, qfw, qwc, qwt, qwb, qln, qem, qhh, qht, qhb, qhl, qlt, qlb, qbr, ql3, qg3, a1, a2, a3, a4, a5, a6, a7, a8, a9, a10, a11, a12, a13, a14, a15, a16, a17, a18, a19) (nI col) := by
  have h4 : qrw + 4 = nI (n + 4) := by rw [hrw]; exact nI_add n 4
  unfold wpX_closeColumn
  refine pk_loop (fun q i s => wX_closeColumn_2 post (nI col) qpr qwo qrw qtu qun qco qfw qwc qwt qwb qln qem qhh qht qhb qhl qlt qlb qbr ql3 qg3 q (nI i) a1 a2 a3 a4 a5 a6 a7 a8 a9 s a11 a12 a13 a14 a15 a16 a17 a18 a19) (fun i s => (∀ r c, c < 5 → c ≠ 3 → s (r * 5 + c) = if r < i ∧ c = col then a10 (r * 5 + 3) else a10 (r * 5 + c)) ∧ ∀ r, i ≤ r → s (r * 5 + 3) = a10 (r * 5 + 3)) (n + 4) 0 a10 (by omega) ⟨fun r c _ _ => (if_neg (by omega)).symm, fun r _ => rfl⟩ ?_ ?_
  · intro q s h
    refine pk_le (n + 4) (n + 4) (fun _ => ⟨pk_in col 4 hc, ?_⟩) (fun z => absurd z (by omega)) h4
    have b3 := ho.2.2.2.2.2.2 3 (by omega)
    refine nm_r (e' := upd a12 col (ap_i (ap_cn N 3))) (by rw [nI_clamp (by omega), hM.2.2.2 3 (by omega), ap_vb (by omega)]) (H _ _ ⟨hM.1, ?_, hM.2.2.1, ?_⟩)
    · intro r hr c hc'
      rw [h.1 r c (by omega) (by omega)]
      rcases hc' with hc' | hc'
      · rw [ap_Ft _ _ _ _ (by omega), ap_cl_t hr hc']
        by_cases e : c = col
        · rw [if_pos ⟨hr, e⟩, if_pos e, hM.2.1 r (by omega) 3 (Or.inl (by omega)), ap_Ft _ _ _ _ (by omega)]
        · rw [if_neg (by omega), if_neg e, hM.2.1 r (by omega) c (Or.inl (by omega)), ap_Ft _ _ _ _ (by omega)]
      · subst hc'
        rw [if_neg (by omega), ap_F4, ap_cl_R hr hc h9 hv9, hM.2.1 r (by omega) 4 (Or.inr rfl), ap_F4]
    · intro c hc'
      rw [ap_cl_cn hc']
      by_cases e : c = col
      · rw [if_pos e, e, pk_us]
      · rw [if_neg e, pk_un e]
        exact hM.2.2.2 c (by omega)
  · intro q i s hi h hs
    refine pk_le (n + 4) i (fun z => absurd z (by omega)) (fun _ => ?_) h4
    refine ap_cell (c := 3) (by omega) ?_
    refine ⟨pk_in (i * 5 + col) 105 (by omega) (ap_ix5 i col), nm_r (e' := vp_updL s (i * 5 + col) (a10 (i * 5 + 3))) (by rw [ap_ix5, nI_clamp (by omega), h.2 i (by omega)]) ?_⟩
    refine ⟨pk_in (i * 5 + 3) 105 (by omega) (ap_ix5 i 3), nm_r (e' := vp_updL (vp_updL s (i * 5 + col) (a10 (i * 5 + 3))) (i * 5 + 3) 0) (by rw [show nI i * 5 + 3 = nI (i * 5 + 3) from ap_ix5 i 3, nI_clamp (by omega)]) ?_⟩
    refine nm_r (nI_1 i) (hs _ ⟨fun r c hc5 hc3 => ?_, fun r hr => ?_⟩)
    · rw [pk_uLn (by omega)]
      by_cases e : r = i ∧ c = col
      · rw [e.1, e.2, pk_uLs, if_pos (by omega)]
      · rw [pk_uLn (by omega), h.1 r c hc5 hc3]
        by_cases e2 : r < i ∧ c = col
        · rw [if_pos e2, if_pos (by omega)]
        · rw [if_neg e2, if_neg (by omega)]
    · rw [pk_uLn (by omega), pk_uLn (by omega)]
      exact h.2 r (by omega)
end
end
section
/-! looking for a point -/
theorem ap_N0_t {n : Nat} {A : List (List Int)} {cv sv : List Int} {r c : Nat} (hr : r < n + 4) (hc : c < 3) : ap_t (ap_N0 n A cv sv) r c = if r < n then ap_A A r c else ap_w0 cv sv (r - n) c := by
  show (((List.range (n + 4)).map (fun r => (List.range 3).map (fun c => if r < n then ap_A A r c else ap_w0 cv sv (r - n) c))).getD r []).getD c 0 = _
  rw [ap_getD_range _ _ hr, ap_getD_range _ _ hc]
theorem ap_N0_rn {n : Nat} {A : List (List Int)} {cv sv : List Int} {r : Nat} (hr : r < n + 4) : ap_rn (ap_N0 n A cv sv) r = 3 + r := by
  show ((List.range (n + 4)).map (fun r => ((3 + r : Nat) : Int))).getD r 0 = _
  rw [ap_getD_range _ _ hr]
  omega
theorem ap_N0_cn {n : Nat} {A : List (List Int)} {cv sv : List Int} {c : Nat} (hc : c < 3) : ap_cn (ap_N0 n A cv sv) c = c := by
  have : c = 0 ∨ c = 1 ∨ c = 2 := by omega
  rcases this with e | e | e <;> subst e <;> rfl
theorem ap_N1_t {n : Nat} {A : List (List Int)} {cv sv : List Int} {r c : Nat} (hr : r < n + 5) (hc : c < 4) : ap_t (ap_N1 n A cv sv) r c = if r < n then (if c = 3 then -1 else ap_A A r c) else if r < n + 4 then (if c = 3 then 0 else ap_w0 cv sv (r - n) c) else (if c = 3 then 1 else 0) := by
  show (((List.range (n + 5)).map (fun r => (List.range 4).map (fun c => if r < n then (if c = 3 then -1 else ap_A A r c) else if r < n + 4 then (if c = 3 then 0 else ap_w0 cv sv (r - n) c) else (if c = 3 then 1 else 0)))).getD r []).getD c 0 = _
  rw [ap_getD_range _ _ hr, ap_getD_range _ _ hc]
theorem ap_N1_rn {n : Nat} {A : List (List Int)} {cv sv : List Int} {r : Nat} (hr : r < n + 5) : ap_rn (ap_N1 n A cv sv) r = 3 + r := by
  show ((List.range (n + 5)).map (fun r => ((3 + r : Nat) : Int))).getD r 0 = _
  rw [ap_getD_range _ _ hr]
  omega
theorem ap_N1_cn {n : Nat} {A : List (List Int)} {cv sv : List Int} {c : Nat} (hc : c < 4) : ap_cn (ap_N1 n A cv sv) c = if c = 3 then 99 else (c : Int) := by
  have : c = 0 ∨ c = 1 ∨ c = 2 ∨ c = 3 := by omega
  rcases this with e | e | e | e <;> subst e <;> rfl
theorem ap_v_lo (K : Nat) (β : Nat → Int) {x : Int} (h : x < 3) : ap_v K β x = 0 := if_neg (by omega)
theorem ap_v_hi {K : Nat} (β : Nat → Int) {x : Int} (h : 3 + (K : Int) ≤ x) : ap_v K β x = 0 := if_neg (by omega)
theorem ap_v_at {K : Nat} (β : Nat → Int) {j : Nat} (h : j < K) : ap_v K β (3 + j) = β j := by
  unfold ap_v
  rw [if_pos (by omega)]
  congr 1
  omega
theorem ap_N0_R {n : Nat} {A : List (List Int)} {cv sv : List Int} {β : Nat → Int} {r : Nat} (hr : r < n + 4) : ap_R (ap_N0 n A cv sv) 3 (ap_v (n + 4) β) r = β r := by
  unfold ap_R
  rw [ap_sum_3, ap_N0_rn hr, ap_v_at β hr, ap_N0_cn (show 0 < 3 by omega), ap_N0_cn (show 1 < 3 by omega), ap_N0_cn (show 2 < 3 by omega), ap_v_lo _ _ (by decide), ap_v_lo _ _ (by decide), ap_v_lo _ _ (by decide)]
  show 1 * β r + _ = _
  omega
theorem ap_N1_R {n : Nat} {A : List (List Int)} {cv sv : List Int} {β : Nat → Int} {r : Nat} (hr : r < n + 5) (hn : n ≤ 16) : ap_R (ap_N1 n A cv sv) 4 (ap_v (n + 4) β) r = if r < n + 4 then β r else 0 := by
  unfold ap_R
  have e : ap_v (n + 4) β (ap_rn (ap_N1 n A cv sv) r) = if r < n + 4 then β r else 0 := by
    rw [ap_N1_rn hr]
    by_cases h : r < n + 4
    · rw [if_pos h, ap_v_at β h]
    · rw [if_neg h, ap_v_hi β (by omega)]
  have c0 : ap_cn (ap_N1 n A cv sv) 0 = 0 := rfl
  have c1 : ap_cn (ap_N1 n A cv sv) 1 = 1 := rfl
  have c2 : ap_cn (ap_N1 n A cv sv) 2 = 2 := rfl
  have c3 : ap_cn (ap_N1 n A cv sv) 3 = 99 := rfl
  rw [ap_sum_4, e, c0, c1, c2, c3,
    ap_v_lo _ _ (by decide), ap_v_lo _ _ (by decide), ap_v_lo _ _ (by decide), ap_v_hi β (by omega)]
  show 1 * _ + _ = _
  omega
theorem ap_p1_out {n : Nat} {A : List (List Int)} {cv : List Int} {N : ap_N} {β : Nat → Int} (h : ap_p1 n A cv N = true) (hR : ∀ r, r < n → 0 ≤ ap_R N 4 (ap_v (n + 4) β) r) :
    (∀ s x0 x1 x2, 0 < s → ap_fe n A β s x0 x1 x2 → 0 ≤ ap_R N 4 (ap_v (n + 4) β) (n + 4)) ∧ ap_R N 4 (ap_v (n + 4) β) (n + 4) ≤ 0 ∧
    (ap_R N 4 (ap_v (n + 4) β) (n + 4) = 0 → ap_fr N 99 n 0 < n → ap_R N 4 (ap_v (n + 4) β) (ap_fr N 99 n 0) = 0) ∧
    ap_dp n N (fun N1 c => ap_ok (n + 5) 4 N1 && decide (ap_cn N1 c = 99) && ap_x n (n + 4) 3 n 4 (ap_ct n A cv) 7 (ap_cl N1 n c)) = true := by
  unfold ap_p1 at h
  rw [Bool.and_eq_true, Bool.and_eq_true] at h
  obtain ⟨⟨h1, h2⟩, h3⟩ := h
  have e : ap_R N 4 (ap_v (n + 4) β) (n + 4) = ap_sum (fun j => ap_co N 4 (n + 4) j * β j) (n + 4) := ap_R_lin _ _ _ _ _
  have hc : ap_R N 4 (ap_v (n + 4) β) (n + 4) ≤ 0 ∧ (ap_R N 4 (ap_v (n + 4) β) (n + 4) = 0 → ap_fr N 99 n 0 < n → ap_R N 4 (ap_v (n + 4) β) (ap_fr N 99 n 0) = 0) := by
    by_cases hf : ap_fr N 99 n 0 < n
    · rw [if_pos hf, ap_all_iff] at h2
      have e2 : ap_R N 4 (ap_v (n + 4) β) (n + 4) = -1 * ap_R N 4 (ap_v (n + 4) β) (ap_fr N 99 n 0) := by
        rw [e, ap_R_lin, ← ap_sum_mul]
        refine ap_sum_congr (fun j hj => ?_)
        rw [of_decide_eq_true (h2 j hj), Int.neg_mul]
        show -(ap_R N 4 (ap_e j) (ap_fr N 99 n 0) * β j) = _
        omega
      have := hR _ hf
      exact ⟨by omega, fun z _ => by omega⟩
    · rw [if_neg hf, ap_all_iff] at h2
      have e2 : ap_R N 4 (ap_v (n + 4) β) (n + 4) = 0 := by
        rw [e, ap_sum_congr (g := fun _ => 0) (fun j hj => by rw [of_decide_eq_true (h2 j hj), Int.zero_mul]), ap_sum_zero]
      exact ⟨by omega, fun _ z => absurd z hf⟩
  refine ⟨fun s x0 x1 x2 hs hf => ?_, hc.1, hc.2, h3⟩
  rw [e]
  exact ap_nn_out h1 hs hf
section
variable {qpr : Int32} {qwo : Int32} {qrw : Int32} {qtu : Int32} {qun : Int64} {qco : Int32} {qfw : Int32} {qwc : Int32} {qwt : Int64} {qwb : Int64} {qln : Int32} {qem : Int32} {qhh : Int32} {qht : Int64} {qhb : Int64} {qhl : Int32} {qlt : Int64} {qlb : Int64} {qbr : Int32} {ql3 : Int32} {qg3 : Int32} {a1 : Nat → Int32} {a2 : Nat → Int32} {a3 : Nat → Int32} {a4 : Nat → Int32} {a5 : Nat → Int32} {a6 : Nat → Int32} {a7 : Nat → Int32} {a8 : Nat → Int32} {a9 : Nat → Int32} {a10 : Nat → Int64} {a11 : Nat → Int32} {a12 : Nat → Int32} {a13 : Nat → Int64} {a14 : Nat → Int64} {a15 : Nat → Int64} {a16 : Nat → Int64} {a17 : Nat → Int64} {a18 : Nat → Int32} {a19 : Nat → Int32}
variable {n : Nat} {A : List (List Int)} {cv sv : List Int} {β : Nat → Int}
theorem ap_fp140 {post : Int32 → St2 → Prop} {N : ap_N} {z : Bool} (hβ : ∀ j, j < n + 4 → -4096 ≤ β j ∧ β j ≤ 4096) (hM : ap_Mt N n (n + 5) 4 (ap_v (n + 4) β) qun a10 a11 a12) (ho : ap_Ok (n + 5) 4 N) (hn : n ≤ 16) (hrw : qrw = nI n) (hfw : qfw + qwc = nI (n + 5)) (hco : qco = nI 4)
    (hp1 : ap_p1 n A cv N = true) (hR : ∀ r, r < n → 0 ≤ ap_R N 4 (ap_v (n + 4) β) r) (hz : ap_b z = 1 → ap_R N 4 (ap_v (n + 4) β) (n + 4) = 0) (hz0 : ap_b z = 0 → ap_R N 4 (ap_v (n + 4) β) (n + 4) ≠ 0)
    (H1 : ∀ (N' : ap_N) (qun' : Int64) (a10' : Nat → Int64) (a11' : Nat → Int32) (a12' : Nat → Int32), ap_x n (n + 4) 3 n 4 (ap_ct n A cv) 7 N' = true → ap_Mt N' n (n + 4) 3 (ap_v (n + 4) β) qun' a10' a11' a12' → (∀ r, r < n → 0 ≤ ap_R N' 3 (ap_v (n + 4) β) r) → post 1 (qpr, qwo, qrw, qtu, qun', 3, nI n, 4, qwt, qwb, qln, qem, qhh, qht, qhb, qhl, qlt, qlb, qbr, ql3, qg3, a1, a2, a3, a4, a5, a6, a7, a8, a9, a10', a11', a12', a13, a14, a15, a16, a17, a18, a19))
    (H0 : (∀ s x0 x1 x2, 0 < s → ¬ ap_fe n A β s x0 x1 x2) → ∀ (qun' : Int64) (qco' : Int32) (qfw' : Int32) (qwc' : Int32) (a10' : Nat → Int64) (a11' : Nat → Int32) (a12' : Nat → Int32), post 0 (qpr, qwo, qrw, qtu, qun', qco', qfw', qwc', qwt, qwb, qln, qem, qhh, qht, qhb, qhl, qlt, qlb, qbr, ql3, qg3, a1, a2, a3, a4, a5, a6, a7, a8, a9, a10', a11', a12', a13, a14, a15, a16, a17, a18, a19)) :
    wX_findPoint_140 post (ap_b z) qpr qwo qrw qtu qun qco qfw qwc qwt qwb qln qem qhh qht qhb qhl qlt qlb qbr ql3 qg3 a1 a2 a3 a4 a5 a6 a7 a8 a9 a10 a11 a12 a13 a14 a15 a16 a17 a18 a19 := by
  obtain ⟨p1, p2, p3, p4⟩ := ap_p1_out hp1 hR
  have hv := ap_v_bd (K := n + 4) (by decide) hβ
  unfold wX_findPoint_140
  refine ap_dropExtra hM ho hv hn hrw hfw hco p4 (fun N' c un' t' rn' cn' hc hk hM' hor => ?_)
  simp only [Bool.and_eq_true, decide_eq_true_eq] at hk
  obtain ⟨⟨k1, k2⟩, k3⟩ := hk
  cases z
  · refine br_t rfl ⟨rfl, H0 (fun s x0 x1 x2 hs hf => ?_) _ _ _ _ _ _ _⟩
    have := p1 s x0 x1 x2 hs hf
    have := hz0 rfl
    omega
  · refine br_f (by decide) (br_f (nI_pos (by omega)) ?_)
    refine ap_closeColumn hM' (ap_ok_iff k1) hn hrw hc k2 (ap_v_hi β (by omega)) (fun t'' cn'' hM'' => ⟨rfl, ?_⟩)
    rw [hrw]
    rw [hrw] at H1
    refine H1 _ _ _ _ _ k3 hM'' (fun r hr => ?_)
    rw [ap_cl_R (by omega) hc k2 (ap_v_hi β (by omega))]
    have h0 := hz rfl
    rcases hor with ⟨f1, f2, f3, f4, f5⟩ | ⟨f1, f2⟩
    · subst f3
      have hr0 := p3 h0 f1
      have h := ap_ex_R (N := N) (r := r) (ap_v (n + 4) β) (show ap_fr N 99 n 0 < n + 5 by omega) hc (show r < n + 5 by omega) ho.1 ho.2.2.1 ho.2.2.2.1 (ap_dv_iff f5)
      by_cases e : r = ap_fr N 99 n 0
      · rw [h.1 e, hr0, Int.mul_zero]
        exact Int.le_refl 0
      · refine ap_pos_of_mul ho.1 ?_
        rw [h.2 e, hr0, Int.mul_zero, Int.sub_zero, Int.mul_comm (ap_R N 4 (ap_v (n + 4) β) r), ← Int.mul_assoc]
        exact Int.mul_nonneg (Int.le_of_lt (ap_g_abs f4)) (hR r hr)
    · subst f2
      exact hR r hr
theorem ap_findPoint {post : Int32 → St2 → Prop} (hpc : ap_pc n A cv sv = true) (hβ : ∀ j, j < n + 4 → -4096 ≤ β j ∧ β j ≤ 4096) (hM : ap_Mt (ap_N0 n A cv sv) n (n + 4) 3 (ap_v (n + 4) β) qun a10 a11 a12)
    (h3 : ∀ r, n ≤ r → r < n + 4 → a10 (r * 5 + 3) = 0) (hn : n ≤ 16) (hn1 : 1 ≤ n) (hrw : qrw = nI n) (hfw : qfw = nI n) (hwc : qwc = 4) (hco : qco = 3)
    (H1 : ∀ (N' : ap_N) (qun' : Int64) (a10' : Nat → Int64) (a11' : Nat → Int32) (a12' : Nat → Int32), ap_x n (n + 4) 3 n 4 (ap_ct n A cv) 7 N' = true → ap_Mt N' n (n + 4) 3 (ap_v (n + 4) β) qun' a10' a11' a12' → (∀ r, r < n → 0 ≤ ap_R N' 3 (ap_v (n + 4) β) r) → post 1 (qpr, qwo, qrw, qtu, qun', 3, nI n, 4, qwt, qwb, qln, qem, qhh, qht, qhb, qhl, qlt, qlb, qbr, ql3, qg3, a1, a2, a3, a4, a5, a6, a7, a8, a9, a10', a11', a12', a13, a14, a15, a16, a17, a18, a19))
    (H0 : (∀ s x0 x1 x2, 0 < s → ¬ ap_fe n A β s x0 x1 x2) → ∀ (qun' : Int64) (qco' : Int32) (qfw' : Int32) (qwc' : Int32) (a10' : Nat → Int64) (a11' : Nat → Int32) (a12' : Nat → Int32), post 0 (qpr, qwo, qrw, qtu, qun', qco', qfw', qwc', qwt, qwb, qln, qem, qhh, qht, qhb, qhl, qlt, qlb, qbr, ql3, qg3, a1, a2, a3, a4, a5, a6, a7, a8, a9, a10', a11', a12', a13, a14, a15, a16, a17, a18, a19)) :
    wpX_findPoint post (qpr, qwo, qrw, qtu, qun, qco, qfw, qwc, qwt, qwb, qln, qem, qhh, qht, qhb, qhl, qlt, qlb, qbr, ql3, qg3, a1, a2, a3, a4, a5, a6, a7, a8, a9, a10, a11, a12, a13, a14, a15, a16, a17, a18, a19) := by
  have hv := ap_v_bd (K := n + 4) (by decide) hβ
  unfold ap_pc at hpc
  rw [Bool.and_eq_true, ap_fN_eq, Bool.and_eq_true, ap_all_iff] at hpc
  obtain ⟨c1, c2, c3⟩ := hpc
  have ho0 := (ap_x_out c1).1
  have ho1 := ap_ok_iff c2
  unfold wpX_findPoint
  refine ap_lowest hM.2.1 ho0 hv (by omega) (by omega) hn hn1 (by omega) hrw (fun b hb hmin => ?_)
  refine ap_cell (c := 4) (by omega) ?_
  rw [hM.2.1 b (by omega) 4 (Or.inr rfl), ap_F4, ap_N0_R (by omega)]
  have bb := hβ b (by omega)
  refine ap_llt (β b) 0 rfl rfl (fun hneg => nm_e ?_) (fun hpos => ?_)
  · refine pk_loop (fun q i s => wX_findPoint_33 post (nI b) qpr qwo qrw qtu qun 4 qfw qwc qwt qwb qln qem qhh qht qhb qhl qlt qlb qbr ql3 qg3 q (nI i) a1 a2 a3 a4 a5 a6 a7 a8 a9 s a11 (upd a12 3 99) a13 a14 a15 a16 a17 a18 a19) (fun i s => ∀ r c, c < 5 → s (r * 5 + c) = if r < i ∧ c = 3 then ap_l (-1) else a10 (r * 5 + c)) n 0 a10 (by omega) (fun r c _ => (if_neg (by omega)).symm) ?_ ?_
    · intro q s h
      refine pk_le n n (fun _ => nm_r (e' := nI (n + 4)) (by rw [hrw]; exact nI_add n 4) ?_) (fun z => absurd z (by omega)) hrw
      refine pk_loop (fun q i t => wX_findPoint_77 post (nI b) qpr qwo qrw qtu qun 4 (nI (n + 4)) 1 qwt qwb qln qem qhh qht qhb qhl qlt qlb qbr ql3 qg3 q (nI i) a1 a2 a3 a4 a5 a6 a7 a8 a9 t a11 (upd a12 3 99) a13 a14 a15 a16 a17 a18 a19) (fun i t => ∀ r c, c < 5 → t (r * 5 + c) = if r = n + 4 ∧ c < i then ap_l (if c = 3 then 1 else 0) else s (r * 5 + c)) 5 0 s (by omega) (fun r c _ => (if_neg (by omega)).symm) ?_ ?_
      · intro q t h'
        refine pk_le 5 5 (fun _ => ?_) (fun z => absurd z (by omega))
        have hM1 : ap_Mt (ap_N1 n A cv sv) n (n + 5) 4 (ap_v (n + 4) β) qun t a11 (upd a12 3 99) := by
          refine ⟨hM.1, ?_, ?_, ?_⟩
          · intro r hr c hc
            rw [h' r c (by omega)]
            by_cases e : r = n + 4
            · rw [if_pos ⟨e, by omega⟩]
              rcases hc with hc | hc
              · rw [ap_Ft _ _ _ _ (by omega), ap_N1_t hr hc, if_neg (show ¬ r < n by omega), if_neg (show ¬ r < n + 4 by omega)]
              · subst hc
                rw [ap_F4, ap_N1_R hr hn, if_neg (by omega), if_neg (by omega)]
            · rw [if_neg (by omega), h r c (by omega)]
              by_cases e3 : c = 3
              · subst e3
                rw [ap_Ft _ _ _ _ (by omega), ap_N1_t hr (by omega)]
                by_cases e4 : r < n
                · rw [if_pos ⟨e4, rfl⟩, if_pos e4, if_pos rfl]
                · rw [if_neg (by omega), if_neg e4, if_pos (by omega), if_pos rfl, h3 r (by omega) (by omega)]
                  rfl
              · rw [if_neg (by omega)]
                rcases hc with hc | hc
                · rw [hM.2.1 r (by omega) c (Or.inl (by omega)), ap_Ft _ _ _ _ (by omega), ap_Ft _ _ _ _ (by omega), ap_N0_t (by omega) (by omega), ap_N1_t hr hc, if_neg e3, if_neg e3, if_pos (show r < n + 4 by omega)]
                · subst hc
                  rw [hM.2.1 r (by omega) 4 (Or.inr rfl), ap_F4, ap_F4, ap_N0_R (by omega), ap_N1_R hr hn, if_pos (by omega)]
          · intro r hr
            rw [ap_N1_rn (by omega), hM.2.2.1 r hr, ap_N0_rn (by omega)]
          · intro c hc
            rw [ap_N1_cn hc]
            by_cases e : c = 3
            · rw [if_pos e, e, pk_us]
              rfl
            · rw [if_neg e, pk_un e, hM.2.2.2 c (by omega), ap_N0_cn (by omega)]
        obtain ⟨d1, d2⟩ := Bool.and_eq_true _ _ ▸ c3 b hb
        refine ap_exchange hM1 ho1 hv hb hn (by omega) (by omega) (by omega) (show 3 < 4 by omega) rfl (nI_add (n + 4) 1) d1 (fun un' t' rn' cn' hM2 => ?_)
        have hR2 : ∀ r, r < n → 0 ≤ ap_R (ap_ex (ap_N1 n A cv sv) (n + 5) 4 b 3) 4 (ap_v (n + 4) β) r := by
          intro r hr
          have h := ap_ex_R (N := ap_N1 n A cv sv) (r := r) (ap_v (n + 4) β) (show b < n + 5 by omega) (show 3 < 4 by omega) (show r < n + 5 by omega) ho1.1 ho1.2.2.1 ho1.2.2.2.1 (ap_dv_iff d1)
          have hp : ap_t (ap_N1 n A cv sv) b 3 = -1 := by rw [ap_N1_t (by omega) (by omega), if_pos hb, if_pos rfl]
          have ht : ap_t (ap_N1 n A cv sv) r 3 = -1 := by rw [ap_N1_t (by omega) (by omega), if_pos hr, if_pos rfl]
          rw [hp, ht, ap_N1_R (by omega) hn, ap_N1_R (by omega) hn, if_pos (by omega), if_pos (by omega), show ap_g (-1) = -1 from rfl] at h
          have hm := hmin r hr
          rw [ap_N0_R (by omega), ap_N0_R (by omega)] at hm
          by_cases e : r = b
          · rw [h.1 e]; omega
          · have h2 := h.2 e
            have h3 : (ap_N1 n A cv sv).1 = 1 := rfl
            rw [h3] at h2
            omega
        refine ap_climb (f := n + 4) (k := 1) (w := 4) hv (by omega) (by omega) hn (by omega) (by omega) hrw rfl rfl rfl d2 (by omega) hM2 hR2 (fun N' un2 t2 rn2 cn2 ho' hct hM3 hR3 => ?_)
        refine ap_cell (c := 4) (by omega) ?_
        rw [hM3.2.1 (n + 4) (by omega) 4 (Or.inr rfl), ap_F4]
        have bR := ap_R_bd (r := n + 4) (v := ap_v (n + 4) β) ho' (by omega) (by omega) hv
        refine ap_leq (ap_R N' 4 (ap_v (n + 4) β) (n + 4)) 0 rfl rfl (fun z => ?_) (fun z => ?_)
        · exact ap_fp140 (z := true) hβ hM3 ho' hn hrw (nI_add (n + 4) 1) rfl hct hR3 (fun _ => z) (fun w => absurd w (by decide)) H1 H0
        · exact ap_fp140 (z := false) hβ hM3 ho' hn hrw (nI_add (n + 4) 1) rfl hct hR3 (fun w => absurd w (by decide)) (fun _ => z) H1 H0
      · intro q i t hi h' hs
        refine pk_le 5 i (fun z => absurd z (by omega)) (fun _ => ?_)
        refine pk_eq i 3 (fun z => ⟨pk_in ((n + 4) * 5 + i) 105 (by omega) (ap_ix5 (n + 4) i), nm_r (e' := vp_updL t ((n + 4) * 5 + i) (ap_l 1)) (by rw [ap_ix5, nI_clamp (by omega)]; rfl) (nm_r (nI_1 i) (hs _ (fun r c hc => ?_)))⟩)
          (fun z => ⟨pk_in ((n + 4) * 5 + i) 105 (by omega) (ap_ix5 (n + 4) i), nm_r (e' := vp_updL t ((n + 4) * 5 + i) (ap_l 0)) (by rw [ap_ix5, nI_clamp (by omega)]; rfl) (nm_r (nI_1 i) (hs _ (fun r c hc => ?_)))⟩)
        · by_cases e : r = n + 4 ∧ c = i
          · rw [e.1, e.2, pk_uLs, if_pos (by omega), if_pos z]
          · rw [pk_uLn (by omega), h' r c hc]
            by_cases e2 : r = n + 4 ∧ c < i
            · rw [if_pos e2, if_pos (show r = n + 4 ∧ c < i + 1 by omega)]
            · rw [if_neg e2, if_neg (show ¬ (r = n + 4 ∧ c < i + 1) by omega)]
        · by_cases e : r = n + 4 ∧ c = i
          · rw [e.1, e.2, pk_uLs, if_pos (by omega), if_neg z]
          · rw [pk_uLn (by omega), h' r c hc]
            by_cases e2 : r = n + 4 ∧ c < i
            · rw [if_pos e2, if_pos (show r = n + 4 ∧ c < i + 1 by omega)]
            · rw [if_neg e2, if_neg (show ¬ (r = n + 4 ∧ c < i + 1) by omega)]
    · intro q i s hi h hs
      refine pk_le n i (fun z => absurd z (by omega)) (fun _ => ⟨pk_in (i * 5 + 3) 105 (by omega) (ap_ix5 i 3), ?_⟩) hrw
      refine nm_r (e' := vp_updL s (i * 5 + 3) (ap_l (-1))) (by rw [show nI i * 5 + 3 = nI (i * 5 + 3) from ap_ix5 i 3, nI_clamp (by omega)]; rfl) (nm_r (nI_1 i) (hs _ (fun r c hc => ?_)))
      by_cases e : r = i ∧ c = 3
      · rw [e.1, e.2, pk_uLs, if_pos (by omega)]
      · rw [pk_uLn (by omega), h r c hc]
        by_cases e2 : r < i ∧ c = 3
        · rw [if_pos e2, if_pos (by omega)]
        · rw [if_neg e2, if_neg (by omega)]
  · have hh := H1 (ap_N0 n A cv sv) qun a10 a11 a12 c1 hM (fun r hr => by
      rw [ap_N0_R (by omega)]
      have hm := hmin r hr
      rw [ap_N0_R (by omega), ap_N0_R (by omega)] at hm
      omega)
    rw [← hfw, ← hwc, ← hco] at hh
    exact hh
end
end
section
/-! the first table -/
def ap_nw (asked : Nat → Int) (k j : Nat) : Int := if k = 0 then asked j else if k = j + 1 then -1 else 0
def ap_frm (tu : Nat → Bool) (lo hi : Nat → Int) (j : Nat) : Int := if tu j = true then hi j else lo j
def ap_G (n : Nat) (A : List (List Int)) (cv sv : List Int) (β : Nat → Int) (r c : Nat) : Int :=
  if c = 4 then β r else if c = 3 then 0 else if r < n then ap_A A r c else ap_w0 cv sv (r - n) c
theorem ap_Tab_row {a : Nat → Int64} {m w : Nat} {F : Nat → Nat → Int} (h : ap_Tab a m w F) (hw : w ≤ 4) {i c : Nat} (hi : m ≤ i) (x : Int64) : ap_Tab (vp_updL a (i * 5 + c) x) m w F := by
  intro r hr c' hc'
  rw [pk_uLn (by omega)]
  exact h r hr c' hc'
theorem ap_Tab_next {a : Nat → Int64} {i : Nat} {F : Nat → Nat → Int} (h : ap_Tab a i 4 F) (h2 : ∀ c, c < 5 → a (i * 5 + c) = ap_l (F i c)) : ap_Tab a (i + 1) 4 F := by
  intro r hr c hc
  by_cases e : r = i
  · rw [e]; exact h2 c (by omega)
  · exact h r (by omega) c hc
section
variable {qpr : Int32} {qwo : Int32} {qrw : Int32} {qtu : Int32} {qun : Int64} {qco : Int32} {qfw : Int32} {qwc : Int32} {qwt : Int64} {qwb : Int64} {qln : Int32} {qem : Int32} {qhh : Int32} {qht : Int64} {qhb : Int64} {qhl : Int32} {qlt : Int64} {qlb : Int64} {qbr : Int32} {ql3 : Int32} {qg3 : Int32} {a1 : Nat → Int32} {a2 : Nat → Int32} {a3 : Nat → Int32} {a4 : Nat → Int32} {a5 : Nat → Int32} {a6 : Nat → Int32} {a7 : Nat → Int32} {a8 : Nat → Int32} {a9 : Nat → Int32} {a10 : Nat → Int64} {a11 : Nat → Int32} {a12 : Nat → Int32} {a13 : Nat → Int64} {a14 : Nat → Int64} {a15 : Nat → Int64} {a16 : Nat → Int64} {a17 : Nat → Int64} {a18 : Nat → Int32} {a19 : Nat → Int32}
variable {n : Nat} {A : List (List Int)} {cv sv : List Int} {β lo hi asked : Nat → Int} {tu : Nat → Bool}
theorem ap_su45 {post : St2 → Prop} {J : Int32 → (Nat → Int32) → (Nat → Int32) → (Nat → Int32) → (Nat → Int32) → (Nat → Int32) → (Nat → Int32) → (Nat → Int32) → (Nat → Int32) → (Nat → Int32) → (Nat → Int64) → (Nat → Int32) → (Nat → Int32) → (Nat → Int64) → (Nat → Int64) → (Nat → Int64) → (Nat → Int64) → (Nat → Int64) → (Nat → Int32) → (Nat → Int32) → Prop} {i : Nat} (hi : i < n) (hn : n ≤ 16)
    (h8 : ∀ r, r < n → ∀ c, c < 3 → a8 (r * 3 + c) = ap_i (ap_A A r c) ∧ -1000 ≤ ap_A A r c ∧ ap_A A r c ≤ 1000) (h9 : ∀ r, r < n → a9 r = ap_i (β r) ∧ -4096 ≤ β r ∧ β r ≤ 4096)
    (hT : ap_Tab a10 i 4 (ap_G n A cv sv β)) (H : ∀ a, ap_Tab a (i + 1) 4 (ap_G n A cv sv β) → J (nI (i + 1)) a1 a2 a3 a4 a5 a6 a7 a8 a9 a a11 a12 a13 a14 a15 a16 a17 a18 a19) :
    ∃ q, wX_setUp_45 post J (nI i) qpr qwo qrw qtu qun qco qfw qwc qwt qwb qln qem qhh qht qhb qhl qlt qlb qbr ql3 qg3 q 0 a1 a2 a3 a4 a5 a6 a7 a8 a9 a10 a11 a12 a13 a14 a15 a16 a17 a18 a19 := by
  refine pk_loop (fun q c s => wX_setUp_45 post J (nI i) qpr qwo qrw qtu qun qco qfw qwc qwt qwb qln qem qhh qht qhb qhl qlt qlb qbr ql3 qg3 q (nI c) a1 a2 a3 a4 a5 a6 a7 a8 a9 s a11 a12 a13 a14 a15 a16 a17 a18 a19) (fun c s => ap_Tab s i 4 (ap_G n A cv sv β) ∧ ∀ c', c' < c → s (i * 5 + c') = ap_l (ap_A A i c')) 3 0 a10 (by omega) ⟨hT, fun c hc => absurd hc (by omega)⟩ ?_ ?_
  · intro q s h
    refine pk_le 3 3 (fun _ => ?_) (fun z => absurd z (by omega))
    refine ⟨pk_in (i * 5 + 3) 105 (by omega) (ap_ix5 i 3), nm_r (e' := vp_updL s (i * 5 + 3) (ap_l 0)) (by rw [show nI i * 5 + 3 = nI (i * 5 + 3) from ap_ix5 i 3, nI_clamp (by omega)]; rfl) ?_⟩
    refine ⟨pk_in i 16 (by omega), pk_in (i * 5 + 4) 105 (by omega) (ap_ix5 i 4), nm_r (e' := vp_updL (vp_updL s (i * 5 + 3) (ap_l 0)) (i * 5 + 4) (ap_l (β i))) (by rw [show nI i * 5 + 4 = nI (i * 5 + 4) from ap_ix5 i 4, nI_clamp (by omega), nI_clamp (by omega), (h9 i hi).1, ap_il (by have := h9 i hi; omega)]) ?_⟩
    refine nm_r (nI_1 i) (H _ (ap_Tab_next (ap_Tab_row (ap_Tab_row h.1 (by omega) (by omega) _) (by omega) (by omega) _) (fun c hc => ?_)))
    unfold ap_G
    by_cases e4 : c = 4
    · rw [if_pos e4, e4, pk_uLs]
    · rw [if_neg e4, pk_uLn (by omega)]
      by_cases e3 : c = 3
      · rw [if_pos e3, e3, pk_uLs]
      · rw [if_neg e3, pk_uLn (by omega), if_pos hi]
        exact h.2 c (by omega)
  · intro q c s hc h hs
    refine pk_le 3 c (fun z => absurd z (by omega)) (fun _ => ?_)
    refine ⟨pk_in (i * 3 + c) 48 (by omega) (ap_ix3 i c), pk_in (i * 5 + c) 105 (by omega) (ap_ix5 i c), nm_r (e' := vp_updL s (i * 5 + c) (ap_l (ap_A A i c))) (by rw [ap_ix5, ap_ix3, nI_clamp (by omega), nI_clamp (by omega), (h8 i hi c hc).1, ap_il (by have := h8 i hi c hc; omega)]) ?_⟩
    refine nm_r (nI_1 c) (hs _ ⟨ap_Tab_row h.1 (by omega) (by omega) _, fun c' hc' => ?_⟩)
    by_cases e : c' = c
    · rw [e, pk_uLs]
    · rw [pk_uLn (by omega)]
      exact h.2 c' (by omega)
theorem ap_su279 {post : St2 → Prop} (H : ∀ a, (∀ c : Nat, c < 3 → a c = ap_i c) → post (qpr, qwo, qrw, qtu, qun, qco, qfw, qwc, qwt, qwb, qln, qem, qhh, qht, qhb, qhl, qlt, qlb, qbr, ql3, qg3, a1, a2, a3, a4, a5, a6, a7, a8, a9, a10, a11, a, a13, a14, a15, a16, a17, a18, a19)) : ∃ q, wX_setUp_279 post qpr qwo qrw qtu qun qco qfw qwc qwt qwb qln qem qhh qht qhb qhl qlt qlb qbr ql3 qg3 q 0 a1 a2 a3 a4 a5 a6 a7 a8 a9 a10 a11 a12 a13 a14 a15 a16 a17 a18 a19 := by
  refine pk_loop (fun q c s => wX_setUp_279 post qpr qwo qrw qtu qun qco qfw qwc qwt qwb qln qem qhh qht qhb qhl qlt qlb qbr ql3 qg3 q (nI c) a1 a2 a3 a4 a5 a6 a7 a8 a9 a10 a11 s a13 a14 a15 a16 a17 a18 a19) (fun c s => ∀ c' : Nat, c' < c → s c' = ap_i c') 3 0 a12 (by omega) (fun c hc => absurd hc (by omega)) ?_ ?_
  · intro q s h
    exact pk_le 3 3 (fun _ => H s h) (fun z => absurd z (by omega))
  · intro q c s hc h hs
    refine pk_le 3 c (fun z => absurd z (by omega)) (fun _ => ⟨pk_in c 4 (by omega), ?_⟩)
    refine nm_r (e' := upd s c (ap_i c)) (by rw [nI_clamp (by omega), ap_i_nat, ap_nb (by omega)]) (nm_r (nI_1 c) (hs _ (fun c' hc' => ?_)))
    by_cases e : c' = c
    · rw [e, pk_us]
    · rw [pk_un e]
      exact h c' (by omega)
theorem ap_mul_sm {a b : Int} (ha : -128 ≤ a ∧ a ≤ 127) (hb : -128 ≤ b ∧ b ≤ 127) : -16384 ≤ a * b ∧ a * b ≤ 16384 := by
  have := ap_mul_bd (A := 128) (B := 128) (by decide) (by decide) (show -128 ≤ a ∧ a ≤ 128 by omega) (show -128 ≤ b ∧ b ≤ 128 by omega)
  omega
theorem ap_su149 {post : St2 → Prop} {J : Int32 → (Nat → Int32) → (Nat → Int32) → (Nat → Int32) → (Nat → Int32) → (Nat → Int32) → (Nat → Int32) → (Nat → Int32) → (Nat → Int32) → (Nat → Int32) → (Nat → Int64) → (Nat → Int32) → (Nat → Int32) → (Nat → Int64) → (Nat → Int64) → (Nat → Int64) → (Nat → Int64) → (Nat → Int64) → (Nat → Int32) → (Nat → Int32) → Prop} {k : Nat} (hk : k < 4) (hn : n ≤ 16)
    (hlo : ∀ i, i < 3 → a5 i = ap_i (lo i) ∧ -128 ≤ lo i ∧ lo i ≤ 127) (hhi : ∀ i, i < 3 → a6 i = ap_i (hi i) ∧ -128 ≤ hi i ∧ hi i ≤ 127) (has : ∀ i, i < 3 → a7 i = ap_i (asked i) ∧ -128 ≤ asked i ∧ asked i ≤ 127)
    (htu : ∀ i, i < 3 → (((qtu >>> (nI i &&& 31)) &&& 1) = 0 ↔ tu i = false))
    (hcv : ∀ i, i < 3 → cv.getD i 0 = if tu i = true then - asked i else asked i) (hsv : ∀ i, i < 3 → sv.getD i 0 = if tu i = true then -1 else 1)
    (hβ : β (n + k) = ap_sum (fun j => ap_nw asked k j * ap_frm tu lo hi j) 3)
    (hT : ap_Tab a10 (n + k) 4 (ap_G n A cv sv β)) (h3 : a10 ((n + k) * 5 + 3) = ap_l 0) (h4 : a10 ((n + k) * 5 + 4) = ap_l 0) (H : ∀ a, ap_Tab a (n + (k + 1)) 4 (ap_G n A cv sv β) → J (nI (k + 1)) a1 a2 a3 a4 a5 a6 a7 a8 a9 a a11 a12 a13 a14 a15 a16 a17 a18 a19) :
    ∃ q, wX_setUp_149 post J (nI k) (nI (n + k)) qpr qwo qrw qtu qun qco qfw qwc qwt qwb qln qem qhh qht qhb qhl qlt qlb qbr ql3 qg3 q 0 a1 a2 a3 a4 a5 a6 a7 a8 a9 a10 a11 a12 a13 a14 a15 a16 a17 a18 a19 := by
  refine pk_loop (fun q c s => wX_setUp_149 post J (nI k) (nI (n + k)) qpr qwo qrw qtu qun qco qfw qwc qwt qwb qln qem qhh qht qhb qhl qlt qlb qbr ql3 qg3 q (nI c) a1 a2 a3 a4 a5 a6 a7 a8 a9 s a11 a12 a13 a14 a15 a16 a17 a18 a19) (fun c s => ap_Tab s (n + k) 4 (ap_G n A cv sv β) ∧ (∀ c', c' < c → s ((n + k) * 5 + c') = ap_l (ap_w0 cv sv k c')) ∧ s ((n + k) * 5 + 3) = ap_l 0 ∧ s ((n + k) * 5 + 4) = ap_l (ap_sum (fun j => ap_nw asked k j * ap_frm tu lo hi j) c)) 3 0 a10 (by omega) ⟨hT, fun c hc => absurd hc (by omega), h3, h4⟩ ?_ ?_
  · intro q s h
    refine pk_le 3 3 (fun _ => nm_r (nI_1 k) (H s (ap_Tab_next (i := n + k) h.1 (fun c hc => ?_)))) (fun z => absurd z (by omega))
    unfold ap_G
    by_cases e4 : c = 4
    · rw [if_pos e4, e4, h.2.2.2, hβ]
    · rw [if_neg e4]
      by_cases e3 : c = 3
      · rw [if_pos e3, e3]
        exact h.2.2.1
      · rw [if_neg e3, if_neg (by omega), h.2.1 c (by omega), show n + k - n = k by omega]
  · intro q c s hc h hs
    refine pk_le 3 c (fun z => absurd z (by omega)) (fun _ => ?_)
    have step : ∀ (z1 : Int32) (y : Int), -128 ≤ y ∧ y ≤ 127 → -128 ≤ ap_nw asked k c ∧ ap_nw asked k c ≤ 127 → y = ap_frm tu lo hi c → z1 = nI ((n + k) * 5 + c) →
        wX_setUp_245 post J (wX_setUp_149 post J (nI k) (nI (n + k)) qpr qwo qrw qtu qun qco qfw qwc qwt qwb qln qem qhh qht qhb qhl qlt qlb qbr ql3 qg3 q) (nI k) (nI (n + k)) (nI c) (ap_i (ap_nw asked k c)) (ap_i y) (ap_l (ap_w0 cv sv k c)) z1 qpr qwo qrw qtu qun qco qfw qwc qwt qwb qln qem qhh qht qhb qhl qlt qlb qbr ql3 qg3 a1 a2 a3 a4 a5 a6 a7 a8 a9 s a11 a12 a13 a14 a15 a16 a17 a18 a19 := by
      intro z1 y hy hb e1 e2
      subst e2
      unfold wX_setUp_245
      refine ⟨pk_in ((n + k) * 5 + c) 105 (by omega), nm_r (e' := vp_updL s ((n + k) * 5 + c) (ap_l (ap_w0 cv sv k c))) (by rw [nI_clamp (by omega)]) ?_⟩
      have e4 : nI (n + k) * 5 + 4 = nI ((n + k) * 5 + 4) := ap_ix5 (n + k) 4
      have bm := ap_mul_sm hb hy
      refine ⟨pk_in ((n + k) * 5 + 4) 105 (by omega) e4, pk_in ((n + k) * 5 + 4) 105 (by omega) e4, nm_r (e' := vp_updL (vp_updL s ((n + k) * 5 + c) (ap_l (ap_w0 cv sv k c))) ((n + k) * 5 + 4) (ap_l (ap_sum (fun j => ap_nw asked k j * ap_frm tu lo hi j) (c + 1)))) ?_ ?_⟩
      · rw [e4, nI_clamp (by omega), pk_uLn (by omega), h.2.2.2, ap_i_mul, ap_il (by omega), ap_l_add, e1]
        rfl
      · refine nm_r (nI_1 c) (hs _ ⟨ap_Tab_row (ap_Tab_row h.1 (by omega) (by omega) _) (by omega) (by omega) _, fun c' hc' => ?_, ?_, pk_uLs⟩)
        · rw [pk_uLn (by omega)]
          by_cases e : c' = c
          · rw [e, pk_uLs]
          · rw [pk_uLn (by omega)]
            exact h.2.1 c' (by omega)
        · rw [pk_uLn (by omega), pk_uLn (by omega)]
          exact h.2.2.1
    have hl := hlo c hc
    have hh := hhi c hc
    have ha := has c hc
    have s197 : ∀ b : Bool, tu c = b → -128 ≤ ap_nw asked k c ∧ ap_nw asked k c ≤ 127 → wX_setUp_197 post J (wX_setUp_149 post J (nI k) (nI (n + k)) qpr qwo qrw qtu qun qco qfw qwc qwt qwb qln qem qhh qht qhb qhl qlt qlb qbr ql3 qg3 q) (nI k) (nI (n + k)) (nI c) (ap_b b) (ap_i (ap_nw asked k c)) qpr qwo qrw qtu qun qco qfw qwc qwt qwb qln qem qhh qht qhb qhl qlt qlb qbr ql3 qg3 a1 a2 a3 a4 a5 a6 a7 a8 a9 s a11 a12 a13 a14 a15 a16 a17 a18 a19 := by
      intro b hb hnw
      have hw0 : ap_w0 cv sv k c = if b = true then ap_nw asked k c else - ap_nw asked k c := by
        unfold ap_w0 ap_nw
        rw [hcv c hc, hsv c hc, hb]
        by_cases k0 : k = 0
        · rw [if_pos k0, if_pos k0]
          cases b
          · rfl
          · show - - asked c = asked c
            omega
        · rw [if_neg k0, if_neg k0]
          by_cases k1 : k = c + 1
          · rw [if_pos k1, if_pos k1]
            cases b <;> rfl
          · rw [if_neg k1, if_neg k1]
            cases b <;> rfl
      unfold wX_setUp_197
      cases b
      · refine br_t rfl ⟨pk_in c 3 hc, ?_⟩
        unfold wX_setUp_219
        refine br_t rfl ?_
        rw [nI_clamp (by omega), hl.1, ap_i_neg, ap_il (by omega)]
        have hw1 : ap_w0 cv sv k c = - ap_nw asked k c := hw0
        rw [← hw1]
        refine step _ (lo c) hl.2 hnw ?_ (ap_ix5 _ _)
        unfold ap_frm
        rw [hb]
        rfl
      · refine br_f (by decide) ⟨pk_in c 3 hc, ?_⟩
        unfold wX_setUp_219
        refine br_f (by decide) ?_
        rw [nI_clamp (by omega), hh.1, ap_il (by omega)]
        have hw1 : ap_w0 cv sv k c = ap_nw asked k c := hw0
        have t := step (nI (n + k) * 5 + nI c) (hi c) hh.2 hnw (by unfold ap_frm; rw [if_pos hb]) (ap_ix5 _ _)
        rw [hw1] at t
        exact t
    have s170 : ∀ b : Bool, tu c = b → wX_setUp_170 post J (wX_setUp_149 post J (nI k) (nI (n + k)) qpr qwo qrw qtu qun qco qfw qwc qwt qwb qln qem qhh qht qhb qhl qlt qlb qbr ql3 qg3 q) (nI k) (nI (n + k)) (nI c) (ap_b b) qpr qwo qrw qtu qun qco qfw qwc qwt qwb qln qem qhh qht qhb qhl qlt qlb qbr ql3 qg3 a1 a2 a3 a4 a5 a6 a7 a8 a9 s a11 a12 a13 a14 a15 a16 a17 a18 a19 := by
      intro b hb
      unfold wX_setUp_170
      refine pk_eq k 0 (fun k0 => ⟨pk_in c 3 hc, ?_⟩) (fun k0 => ?_)
      · rw [nI_clamp (by omega), ha.1]
        have e : ap_nw asked k c = asked c := if_pos k0
        have t := s197 b hb (by rw [e]; exact ha.2)
        rw [e] at t
        exact t
      · have e1 : nI k - 1 = nI (k - 1) := pk_sub (b := 1) (by omega)
        refine pk_eq (k - 1) c (fun k1 => ?_) (fun k1 => ?_) e1
        · have e : ap_nw asked k c = -1 := by
            unfold ap_nw
            rw [if_neg k0, if_pos (by omega)]
          have t := s197 b hb (by rw [e]; omega)
          rw [e] at t
          exact t
        · have e : ap_nw asked k c = 0 := by
            unfold ap_nw
            rw [if_neg k0, if_neg (by omega)]
          have t := s197 b hb (by rw [e]; omega)
          rw [e] at t
          exact t
    refine ek_if (htu c hc) (fun z => s170 false z) (fun z => s170 true (by cases h : tu c <;> simp_all))
theorem ap_setUp {post : St2 → Prop} (hrw : qrw = nI n) (hn : n ≤ 16)
    (h8 : ∀ r, r < n → ∀ c, c < 3 → a8 (r * 3 + c) = ap_i (ap_A A r c) ∧ -1000 ≤ ap_A A r c ∧ ap_A A r c ≤ 1000) (h9 : ∀ r, r < n → a9 r = ap_i (β r) ∧ -4096 ≤ β r ∧ β r ≤ 4096)
    (hlo : ∀ i, i < 3 → a5 i = ap_i (lo i) ∧ -128 ≤ lo i ∧ lo i ≤ 127) (hhi : ∀ i, i < 3 → a6 i = ap_i (hi i) ∧ -128 ≤ hi i ∧ hi i ≤ 127) (has : ∀ i, i < 3 → a7 i = ap_i (asked i) ∧ -128 ≤ asked i ∧ asked i ≤ 127)
    (htu : ∀ i, i < 3 → (((qtu >>> (nI i &&& 31)) &&& 1) = 0 ↔ tu i = false))
    (hcv : ∀ i, i < 3 → cv.getD i 0 = if tu i = true then - asked i else asked i) (hsv : ∀ i, i < 3 → sv.getD i 0 = if tu i = true then -1 else 1)
    (hβ : ∀ k, k < 4 → β (n + k) = ap_sum (fun j => ap_nw asked k j * ap_frm tu lo hi j) 3)
    (H : ∀ (a10' : Nat → Int64) (a11' : Nat → Int32) (a12' : Nat → Int32), ap_Mt (ap_N0 n A cv sv) n (n + 4) 3 (ap_v (n + 4) β) 1 a10' a11' a12' → (∀ r, n ≤ r → r < n + 4 → a10' (r * 5 + 3) = 0) → post (qpr, qwo, qrw, qtu, 1, 3, qrw, 4, qwt, qwb, qln, qem, qhh, qht, qhb, qhl, qlt, qlb, qbr, ql3, qg3, a1, a2, a3, a4, a5, a6, a7, a8, a9, a10', a11', a12', a13, a14, a15, a16, a17, a18, a19)) :
    wpX_setUp post (qpr, qwo, qrw, qtu, qun, qco, qfw, qwc, qwt, qwb, qln, qem, qhh, qht, qhb, qhl, qlt, qlb, qbr, ql3, qg3, a1, a2, a3, a4, a5, a6, a7, a8, a9, a10, a11, a12, a13, a14, a15, a16, a17, a18, a19) := by
  unfold wpX_setUp
  refine pk_loop (fun q i s => wX_setUp_25 post qpr qwo qrw qtu 1 3 qrw 4 qwt qwb qln qem qhh qht qhb qhl qlt qlb qbr ql3 qg3 q (nI i) a1 a2 a3 a4 a5 a6 a7 a8 a9 s.1 s.2 a12 a13 a14 a15 a16 a17 a18 a19) (fun i s => ap_Tab s.1 i 4 (ap_G n A cv sv β) ∧ ∀ r : Nat, r < i → s.2 r = ap_i (3 + r)) n 0 (a10, a11) (by omega) ⟨fun r hr => absurd hr (by omega), fun r hr => absurd hr (by omega)⟩ ?_ ?_
  · intro q s h
    refine pk_le n n (fun _ => ?_) (fun z => absurd z (by omega)) hrw
    refine pk_loop (fun q i t => wX_setUp_113 post qpr qwo qrw qtu 1 3 qrw 4 qwt qwb qln qem qhh qht qhb qhl qlt qlb qbr ql3 qg3 q (nI i) a1 a2 a3 a4 a5 a6 a7 a8 a9 t s.2 a12 a13 a14 a15 a16 a17 a18 a19) (fun i t => ap_Tab t (n + i) 4 (ap_G n A cv sv β)) 4 0 s.1 (by omega) h.1 ?_ ?_
    · intro g t h'
      refine pk_le 4 4 (fun _ => ap_su279 (fun cn' hcn => H t s.2 cn' ⟨rfl, ?_, ?_, ?_⟩ ?_)) (fun z => absurd z (by omega))
      · intro r hr c hc
        rw [h' r hr c (by omega)]
        unfold ap_G
        rcases hc with hc | hc
        · rw [if_neg (by omega), if_neg (by omega), ap_Ft _ _ _ _ (by omega), ap_N0_t hr hc]
        · rw [if_pos hc, hc, ap_F4, ap_N0_R hr]
      · intro r hr
        rw [ap_N0_rn (by omega)]
        exact h.2 r hr
      · intro c hc
        rw [ap_N0_cn hc]
        exact hcn c hc
      · intro r _ hr
        rw [h' r hr 3 (by omega)]
        rfl
    · intro g i t hi4 h' hs
      refine pk_le 4 i (fun z => absurd z (by omega)) (fun _ => nm_r (e' := nI (n + i)) (by rw [hrw, nI_add]) ?_)
      have e3 : nI (n + i) * 5 + 3 = nI ((n + i) * 5 + 3) := ap_ix5 (n + i) 3
      have e4 : nI (n + i) * 5 + 4 = nI ((n + i) * 5 + 4) := ap_ix5 (n + i) 4
      refine ⟨pk_in ((n + i) * 5 + 3) 105 (by omega) e3, nm_r (e' := vp_updL t ((n + i) * 5 + 3) (ap_l 0)) (by rw [e3, nI_clamp (by omega)]; rfl) ?_⟩
      refine ⟨pk_in ((n + i) * 5 + 4) 105 (by omega) e4, nm_r (e' := vp_updL (vp_updL t ((n + i) * 5 + 3) (ap_l 0)) ((n + i) * 5 + 4) (ap_l 0)) (by rw [e4, nI_clamp (by omega)]; rfl) ?_⟩
      refine ap_su149 hi4 hn hlo hhi has htu hcv hsv (hβ i hi4) (ap_Tab_row (ap_Tab_row h' (by omega) (by omega) _) (by omega) (by omega) _) (by rw [pk_uLn (by omega), pk_uLs]) pk_uLs (fun a ha => hs a ha)
  · intro q i s hi' h hs
    refine pk_le n i (fun z => absurd z (by omega)) (fun _ => ⟨pk_in i 16 (by omega), ?_⟩) hrw
    refine nm_r (e' := upd s.2 i (ap_i (3 + i))) (by rw [nI_clamp (by omega), show (3 : Int32) + nI i = ap_i (3 + i) by rw [ap_i_nat]; exact ap_i_add 3 i, ap_nb (by omega)]) ?_
    refine ap_su45 hi' hn h8 h9 h.1 (fun a ha => hs (a, upd s.2 i (ap_i (3 + i))) ⟨ha, fun r hr => ?_⟩)
    by_cases e : r = i
    · rw [e]; exact pk_us
    · show upd s.2 i (ap_i (3 + i)) r = _
      rw [pk_un e]
      exact h.2 r (by omega)
end
end
section
/-! the inequalities -/
def ap_ra (tu : Nat → Bool) (num : Nat → Nat → Int) (x : Nat × Int) (i : Nat) : Int := if tu i = true then -(x.2 * num x.1 i) else x.2 * num x.1 i
def ap_rb (tu : Nat → Bool) (num : Nat → Nat → Int) (bnd lo hi : Nat → Int) (x : Nat × Int) : Int := x.2 * bnd x.1 - ap_sum (fun i => x.2 * num x.1 i * ap_frm tu lo hi i) 3
def ap_rows (tu : Nat → Bool) (num : Nat → Nat → Int) (bnd lo hi : Nat → Int) (L : List (Nat × Int)) (a8 a9 : Nat → Int32) : Prop :=
  ∀ r, r < L.length → (∀ i, i < 3 → a8 (r * 3 + i) = ap_i (ap_ra tu num (L.getD r (0, 0)) i)) ∧ a9 r = ap_i (ap_rb tu num bnd lo hi (L.getD r (0, 0)))
def ap_pk (P : Nat) (kind : Nat → Int) (wo : Int) (k : Nat) : List (Nat × Int) :=
  if P.testBit k = true ∧ (k : Int) ≠ wo then (if kind k = 2 then [] else [(k, 1)]) ++ (if kind k = 0 then [] else [(k, -1)]) else []
def ap_pl (P : Nat) (kind : Nat → Int) (wo : Int) : Nat → List (Nat × Int)
  | 0 => []
  | k + 1 => ap_pl P kind wo k ++ ap_pk P kind wo k
theorem ap_pk_len (P : Nat) (kind : Nat → Int) (wo : Int) (k : Nat) : (ap_pk P kind wo k).length ≤ 2 := by
  unfold ap_pk
  by_cases h : P.testBit k = true ∧ (k : Int) ≠ wo
  · rw [if_pos h, List.length_append]
    have h1 : (if kind k = 2 then ([] : List (Nat × Int)) else [(k, 1)]).length ≤ 1 := by
      by_cases e : kind k = 2
      · rw [if_pos e]; decide
      · rw [if_neg e]; exact Nat.le_refl 1
    have h2 : (if kind k = 0 then ([] : List (Nat × Int)) else [(k, -1)]).length ≤ 1 := by
      by_cases e : kind k = 0
      · rw [if_pos e]; decide
      · rw [if_neg e]; exact Nat.le_refl 1
    omega
  · rw [if_neg h]; decide
theorem ap_pl_len (P : Nat) (kind : Nat → Int) (wo : Int) : ∀ k, (ap_pl P kind wo k).length ≤ 2 * k
  | 0 => Nat.le_refl 0
  | k + 1 => by
    show (ap_pl P kind wo k ++ ap_pk P kind wo k).length ≤ _
    rw [List.length_append]
    have := ap_pl_len P kind wo k
    have := ap_pk_len P kind wo k
    omega
theorem ap_getD_app {α : Type} (L : List α) (x d : α) (r : Nat) (h : r < (L ++ [x]).length) : (L ++ [x]).getD r d = if r = L.length then x else L.getD r d := by
  rw [List.getD_eq_getElem?_getD, List.getD_eq_getElem?_getD, List.getElem?_append]
  rw [List.length_append] at h
  have h' : r < L.length + 1 := h
  by_cases e : r = L.length
  · subst e
    rw [if_pos rfl, if_neg (by omega), Nat.sub_self]
    rfl
  · rw [if_neg e, if_pos (by omega)]
/-- one condition's data in memory -/
def ap_dat (P : Nat) (num : Nat → Nat → Int) (kind bnd : Nat → Int) (pr : Int32) (a1 a2 a3 : Nat → Int32) : Prop :=
  pr = nI P ∧ P < 32 ∧ ∀ k, k < 5 → P.testBit k = true → (∀ i, i < 3 → a1 (k * 3 + i) = ap_i (num k i) ∧ -7 ≤ num k i ∧ num k i ≤ 7) ∧ (a2 k = ap_i (kind k) ∧ 0 ≤ kind k ∧ kind k ≤ 2) ∧ (a3 k = ap_i (bnd k) ∧ -99 ≤ bnd k ∧ bnd k ≤ 99)
theorem ap_bits : ∀ P, P < 32 → ∀ k, k < 5 → (((nI P >>> (nI k &&& 31)) &&& 1) = 0 ↔ Nat.testBit P k = false) := by decide +kernel
section
variable {qpr : Int32} {qwo : Int32} {qrw : Int32} {qtu : Int32} {qun : Int64} {qco : Int32} {qfw : Int32} {qwc : Int32} {qwt : Int64} {qwb : Int64} {qln : Int32} {qem : Int32} {qhh : Int32} {qht : Int64} {qhb : Int64} {qhl : Int32} {qlt : Int64} {qlb : Int64} {qbr : Int32} {ql3 : Int32} {qg3 : Int32} {a1 : Nat → Int32} {a2 : Nat → Int32} {a3 : Nat → Int32} {a4 : Nat → Int32} {a5 : Nat → Int32} {a6 : Nat → Int32} {a7 : Nat → Int32} {a8 : Nat → Int32} {a9 : Nat → Int32} {a10 : Nat → Int64} {a11 : Nat → Int32} {a12 : Nat → Int32} {a13 : Nat → Int64} {a14 : Nat → Int64} {a15 : Nat → Int64} {a16 : Nat → Int64} {a17 : Nat → Int64} {a18 : Nat → Int32} {a19 : Nat → Int32}
variable {n : Nat} {P : Nat} {num : Nat → Nat → Int} {kind bnd lo hi : Nat → Int} {tu : Nat → Bool} {wo : Int}
theorem ap_has {post : Int32 → Prop} {k : Nat} (hk : k < 5) (hP : qpr = nI P) (hP2 : P < 32) (h : post (ap_b (Nat.testBit P k))) : wpX_has post (qpr, qwo, qrw, qtu, qun, qco, qfw, qwc, qwt, qwb, qln, qem, qhh, qht, qhb, qhl, qlt, qlb, qbr, ql3, qg3, a1, a2, a3, a4, a5, a6, a7, a8, a9, a10, a11, a12, a13, a14, a15, a16, a17, a18, a19) (nI k) := by
  unfold wpX_has
  refine br_f (nI_pos (by omega)) (br_f (nI_ge (b := 5) hk (by decide)) ?_)
  rw [hP]
  refine ek_if (ap_bits P hP2 k hk) (fun z => ?_) (fun z => ?_)
  · rw [z] at h; exact h
  · rw [show Nat.testBit P k = true by cases h : Nat.testBit P k <;> simp_all] at h; exact h
theorem ap_addRow {post : St2 → Prop} {k : Nat} {s : Int} {L : List (Nat × Int)} (hk : k < 5) (hs : s = 1 ∨ s = -1) (hL : L.length < 13) (hrw : qrw = nI L.length)
    (hnum : ∀ i, i < 3 → a1 (k * 3 + i) = ap_i (num k i) ∧ -7 ≤ num k i ∧ num k i ≤ 7) (hbnd : a3 k = ap_i (bnd k) ∧ -99 ≤ bnd k ∧ bnd k ≤ 99)
    (hlo : ∀ i, i < 3 → a5 i = ap_i (lo i) ∧ -128 ≤ lo i ∧ lo i ≤ 127) (hhi : ∀ i, i < 3 → a6 i = ap_i (hi i) ∧ -128 ≤ hi i ∧ hi i ≤ 127)
    (htu : ∀ i, i < 3 → (((qtu >>> (nI i &&& 31)) &&& 1) = 0 ↔ tu i = false)) (hR : ap_rows tu num bnd lo hi L a8 a9)
    (H : ∀ (a8' : Nat → Int32) (a9' : Nat → Int32), ap_rows tu num bnd lo hi (L ++ [(k, s)]) a8' a9' → post (qpr, qwo, nI (L.length + 1), qtu, qun, qco, qfw, qwc, qwt, qwb, qln, qem, qhh, qht, qhb, qhl, qlt, qlb, qbr, ql3, qg3, a1, a2, a3, a4, a5, a6, a7, a8', a9', a10, a11, a12, a13, a14, a15, a16, a17, a18, a19)) : wpX_addRow post (qpr, qwo, qrw, qtu, qun, qco, qfw, qwc, qwt, qwb, qln, qem, qhh, qht, qhb, qhl, qlt, qlb, qbr, ql3, qg3, a1, a2, a3, a4, a5, a6, a7, a8, a9, a10, a11, a12, a13, a14, a15, a16, a17, a18, a19) (nI k) (ap_i s) := by
  unfold wpX_addRow
  refine ⟨pk_in k 5 hk, nm_r (e' := ap_i (s * bnd k)) (by rw [nI_clamp (by omega), hbnd.1, ap_i_mul]) ?_⟩
  refine pk_loop (fun q i t => wX_addRow_12 post (nI k) (ap_i s) qpr qwo qrw qtu qun qco qfw qwc qwt qwb qln qem qhh qht qhb qhl qlt qlb qbr ql3 qg3 q t.1 (nI i) a1 a2 a3 a4 a5 a6 a7 t.2 a9 a10 a11 a12 a13 a14 a15 a16 a17 a18 a19) (fun i t => t.1 = ap_i (s * bnd k - ap_sum (fun i => s * num k i * ap_frm tu lo hi i) i) ∧ (∀ j, j < i → t.2 (L.length * 3 + j) = ap_i (ap_ra tu num (k, s) j)) ∧ ∀ j, j < L.length * 3 → t.2 j = a8 j) 3 0 (ap_i (s * bnd k), a8) (by omega)
    ⟨by show ap_i (s * bnd k) = ap_i (s * bnd k - 0); rw [Int.sub_zero], fun j hj => absurd hj (by omega), fun j _ => rfl⟩ ?_ ?_
  · intro q t h
    refine pk_le 3 3 (fun _ => ⟨pk_in L.length 16 (by omega) hrw, ?_⟩) (fun z => absurd z (by omega))
    refine nm_r (e' := upd a9 L.length (ap_i (ap_rb tu num bnd lo hi (k, s)))) (by rw [hrw, nI_clamp (by omega), h.1]; rfl) (nm_r (e' := nI (L.length + 1)) (by rw [hrw, nI_1]) (H _ _ (fun r hr => ?_)))
    rw [ap_getD_app _ _ _ _ hr]
    rw [List.length_append] at hr
    have hr' : r < L.length + 1 := hr
    by_cases e : r = L.length
    · rw [if_pos e, e]
      exact ⟨fun i hi3 => h.2.1 i hi3, pk_us⟩
    · rw [if_neg e]
      have h0 := hR r (by omega)
      exact ⟨fun i hi3 => by rw [h.2.2 _ (by omega)]; exact h0.1 i hi3, by rw [pk_un e]; exact h0.2⟩
  · intro q i t hi3 h hs2
    refine pk_le 3 i (fun z => absurd z (by omega)) (fun _ => ⟨pk_in (k * 3 + i) 15 (by omega) (ap_ix3 k i), ?_⟩)
    have hnu := hnum i hi3
    have hl := hlo i hi3
    have hh := hhi i hi3
    refine nm_r (e' := ap_i (s * num k i)) (by rw [ap_ix3, nI_clamp (by omega), hnu.1, ap_i_mul]) ?_
    have e3 : qrw * 3 + nI i = nI (L.length * 3 + i) := by rw [hrw]; exact ap_ix3 _ _
    have nxt : ∀ y : Int, y = ap_frm tu lo hi i → t.1 - ap_i (s * num k i) * ap_i y = ap_i (s * bnd k - ap_sum (fun i => s * num k i * ap_frm tu lo hi i) (i + 1)) := by
      intro y hy
      rw [h.1, ap_i_mul, ap_i_sub, hy]
      congr 1
      show _ = s * bnd k - (ap_sum (fun i => s * num k i * ap_frm tu lo hi i) i + s * num k i * ap_frm tu lo hi i)
      omega
    have fin : ∀ x : Int32, x = ap_i (ap_ra tu num (k, s) i) → (∀ j, j < i + 1 → upd t.2 (L.length * 3 + i) x (L.length * 3 + j) = ap_i (ap_ra tu num (k, s) j)) ∧ ∀ j, j < L.length * 3 → upd t.2 (L.length * 3 + i) x j = a8 j := by
      intro x hx
      refine ⟨fun j hj => ?_, fun j hj => ?_⟩
      · by_cases e : j = i
        · rw [e, pk_us, hx]
        · rw [pk_un (by omega)]; exact h.2.1 j (by omega)
      · rw [pk_un (by omega)]; exact h.2.2 j hj
    refine ek_if (htu i hi3) (fun z => ?_) (fun z => ?_)
    · unfold wX_addRow_50
      refine br_t rfl ⟨pk_in i 3 hi3, ?_⟩
      unfold wX_addRow_77
      refine nm_r (e' := ap_i (s * bnd k - ap_sum (fun i => s * num k i * ap_frm tu lo hi i) (i + 1))) (by rw [nI_clamp (by omega), hl.1]; exact nxt _ (by unfold ap_frm; rw [z]; rfl)) ?_
      refine br_t rfl ⟨pk_in (L.length * 3 + i) 48 (by omega) e3, nm_r (e' := upd t.2 (L.length * 3 + i) (ap_i (s * num k i))) (by rw [e3, nI_clamp (by omega)]) (nm_r (nI_1 i) (hs2 (_, _) ⟨rfl, fin _ ?_⟩))⟩
      unfold ap_ra
      rw [z]
      rfl
    · have z' : tu i = true := by cases h : tu i <;> simp_all
      unfold wX_addRow_50
      refine br_f (by decide) ⟨pk_in i 3 hi3, ?_⟩
      unfold wX_addRow_77
      refine nm_r (e' := ap_i (s * bnd k - ap_sum (fun i => s * num k i * ap_frm tu lo hi i) (i + 1))) (by rw [nI_clamp (by omega), hh.1]; exact nxt _ (by unfold ap_frm; rw [if_pos z'])) ?_
      refine br_f (by decide) ⟨pk_in (L.length * 3 + i) 48 (by omega) e3, nm_r (e' := upd t.2 (L.length * 3 + i) (ap_i (-(s * num k i)))) (by rw [e3, nI_clamp (by omega), ap_i_neg]) (nm_r (nI_1 i) (hs2 (_, _) ⟨rfl, fin _ ?_⟩))⟩
      unfold ap_ra
      rw [if_pos z']
theorem ap_box {post : St2 → Prop} {L : List (Nat × Int)} (hL : L.length ≤ 10)
    (hlo : ∀ i, i < 3 → a5 i = ap_i (lo i) ∧ -128 ≤ lo i ∧ lo i ≤ 127) (hhi : ∀ i, i < 3 → a6 i = ap_i (hi i) ∧ -128 ≤ hi i ∧ hi i ≤ 127) (hR : ap_rows tu num bnd lo hi L a8 a9)
    (H : ∀ (a8' : Nat → Int32) (a9' : Nat → Int32), ap_rows tu num bnd lo hi L a8' a9' → (∀ j, j < 3 → (∀ i, i < 3 → a8' ((L.length + j) * 3 + i) = ap_i (if i = j then 1 else 0)) ∧ a9' (L.length + j) = ap_i (hi j - lo j)) → post (qpr, qwo, nI (L.length + 3), qtu, qun, qco, qfw, qwc, qwt, qwb, qln, qem, qhh, qht, qhb, qhl, qlt, qlb, qbr, ql3, qg3, a1, a2, a3, a4, a5, a6, a7, a8', a9', a10, a11, a12, a13, a14, a15, a16, a17, a18, a19)) :
    ∃ q, wX_writeRows_67 post qpr qwo qtu qun qco qfw qwc qwt qwb qln qem qhh qht qhb qhl qlt qlb qbr ql3 qg3 q 0 (nI L.length) a1 a2 a3 a4 a5 a6 a7 a8 a9 a10 a11 a12 a13 a14 a15 a16 a17 a18 a19 := by
  refine pk_loop (fun q j t => wX_writeRows_67 post qpr qwo qtu qun qco qfw qwc qwt qwb qln qem qhh qht qhb qhl qlt qlb qbr ql3 qg3 q (nI j) (nI (L.length + j)) a1 a2 a3 a4 a5 a6 a7 t.1 t.2 a10 a11 a12 a13 a14 a15 a16 a17 a18 a19) (fun j t => ap_rows tu num bnd lo hi L t.1 t.2 ∧ ∀ j', j' < j → (∀ i, i < 3 → t.1 ((L.length + j') * 3 + i) = ap_i (if i = j' then 1 else 0)) ∧ t.2 (L.length + j') = ap_i (hi j' - lo j')) 3 0 (a8, a9) (by omega) ⟨hR, fun j hj => absurd hj (by omega)⟩ ?_ ?_
  · intro q t h
    exact pk_le 3 3 (fun _ => H _ _ h.1 h.2) (fun z => absurd z (by omega))
  · intro q j t hj h hs
    refine pk_le 3 j (fun z => absurd z (by omega)) (fun _ => ?_)
    refine pk_loop (fun g i x => wX_writeRows_74 post (wX_writeRows_67 post qpr qwo qtu qun qco qfw qwc qwt qwb qln qem qhh qht qhb qhl qlt qlb qbr ql3 qg3 q) (nI j) qpr qwo (nI (L.length + j)) qtu qun qco qfw qwc qwt qwb qln qem qhh qht qhb qhl qlt qlb qbr ql3 qg3 g (nI i) a1 a2 a3 a4 a5 a6 a7 x t.2 a10 a11 a12 a13 a14 a15 a16 a17 a18 a19) (fun i x => (∀ i', i' < i → x ((L.length + j) * 3 + i') = ap_i (if i' = j then 1 else 0)) ∧ ∀ i', i' < (L.length + j) * 3 → x i' = t.1 i') 3 0 t.1 (by omega) ⟨fun j hj => absurd hj (by omega), fun _ _ => rfl⟩ ?_ ?_
    · intro g x hx
      refine pk_le 3 3 (fun _ => ?_) (fun z => absurd z (by omega))
      refine ⟨pk_in j 3 hj, pk_in j 3 hj, pk_in (L.length + j) 16 (by omega), nm_r (e' := upd t.2 (L.length + j) (ap_i (hi j - lo j))) (by rw [nI_clamp (by omega), nI_clamp (by omega), (hhi j hj).1, (hlo j hj).1, ap_i_sub]) ?_⟩
      refine nm_r (nI_1 (L.length + j)) (nm_r (nI_1 j) (hs (x, upd t.2 (L.length + j) (ap_i (hi j - lo j))) ⟨fun r hr => ?_, fun j' hj' => ?_⟩))
      · have h0 := h.1 r hr
        exact ⟨fun i hi3 => (hx.2 _ (by omega)).trans (h0.1 i hi3), (pk_un (by omega)).trans h0.2⟩
      · by_cases e : j' = j
        · rw [e]
          exact ⟨fun i hi3 => hx.1 i hi3, pk_us⟩
        · have h0 := h.2 j' (by omega)
          exact ⟨fun i hi3 => (hx.2 _ (by omega)).trans (h0.1 i hi3), (pk_un (by omega)).trans h0.2⟩
    · intro g i x hi3 hx hs2
      have e3 : nI (L.length + j) * 3 + nI i = nI ((L.length + j) * 3 + i) := ap_ix3 _ _
      have fin : ∀ y : Int32, y = ap_i (if i = j then 1 else 0) → (∀ i', i' < i + 1 → upd x ((L.length + j) * 3 + i) y ((L.length + j) * 3 + i') = ap_i (if i' = j then 1 else 0)) ∧ ∀ i', i' < (L.length + j) * 3 → upd x ((L.length + j) * 3 + i) y i' = t.1 i' := by
        intro y hy
        refine ⟨fun i' hi' => ?_, fun i' hi' => ?_⟩
        · by_cases e : i' = i
          · rw [e, pk_us, hy]
          · rw [pk_un (by omega)]; exact hx.1 i' (by omega)
        · rw [pk_un (by omega)]; exact hx.2 i' hi'
      refine pk_le 3 i (fun z => absurd z (by omega)) (fun _ => ?_)
      refine pk_eq j i (fun z => ⟨pk_in ((L.length + j) * 3 + i) 48 (by omega) e3, nm_r (e' := upd x ((L.length + j) * 3 + i) (ap_i 1)) (by rw [e3, nI_clamp (by omega)]; rfl) (nm_r (nI_1 i) (hs2 _ (fin _ ?_)))⟩)
        (fun z => ⟨pk_in ((L.length + j) * 3 + i) 48 (by omega) e3, nm_r (e' := upd x ((L.length + j) * 3 + i) (ap_i 0)) (by rw [e3, nI_clamp (by omega)]; rfl) (nm_r (nI_1 i) (hs2 _ (fin _ ?_)))⟩)
      · rw [if_pos z.symm]
      · rw [if_neg (fun y => z y.symm)]
theorem ap_writeRows {post : St2 → Prop} (hD : ap_dat P num kind bnd qpr a1 a2 a3) (hwo : qwo = ap_i wo) (hwb : -1 ≤ wo ∧ wo ≤ 5)
    (hlo : ∀ i, i < 3 → a5 i = ap_i (lo i) ∧ -128 ≤ lo i ∧ lo i ≤ 127) (hhi : ∀ i, i < 3 → a6 i = ap_i (hi i) ∧ -128 ≤ hi i ∧ hi i ≤ 127)
    (htu : ∀ i, i < 3 → (((qtu >>> (nI i &&& 31)) &&& 1) = 0 ↔ tu i = false))
    (H : ∀ (a8' : Nat → Int32) (a9' : Nat → Int32), ap_rows tu num bnd lo hi (ap_pl P kind wo 5) a8' a9' → (∀ j, j < 3 → (∀ i, i < 3 → a8' (((ap_pl P kind wo 5).length + j) * 3 + i) = ap_i (if i = j then 1 else 0)) ∧ a9' ((ap_pl P kind wo 5).length + j) = ap_i (hi j - lo j)) → post (qpr, qwo, nI ((ap_pl P kind wo 5).length + 3), qtu, qun, qco, qfw, qwc, qwt, qwb, qln, qem, qhh, qht, qhb, qhl, qlt, qlb, qbr, ql3, qg3, a1, a2, a3, a4, a5, a6, a7, a8', a9', a10, a11, a12, a13, a14, a15, a16, a17, a18, a19)) :
    wpX_writeRows post (qpr, qwo, qrw, qtu, qun, qco, qfw, qwc, qwt, qwb, qln, qem, qhh, qht, qhb, qhl, qlt, qlb, qbr, ql3, qg3, a1, a2, a3, a4, a5, a6, a7, a8, a9, a10, a11, a12, a13, a14, a15, a16, a17, a18, a19) := by
  unfold wpX_writeRows
  refine pk_loop (fun q k t => wX_writeRows_7 post q (nI k) qpr qwo (nI (ap_pl P kind wo k).length) qtu qun qco qfw qwc qwt qwb qln qem qhh qht qhb qhl qlt qlb qbr ql3 qg3 a1 a2 a3 a4 a5 a6 a7 t.1 t.2 a10 a11 a12 a13 a14 a15 a16 a17 a18 a19) (fun k t => ap_rows tu num bnd lo hi (ap_pl P kind wo k) t.1 t.2) 5 0 (a8, a9) (by omega) (fun r hr => absurd hr (Nat.not_lt_zero r)) ?_ ?_
  · intro q t h
    have hl := ap_pl_len P kind wo 5
    exact pk_le 5 5 (fun _ => ap_box (by omega) hlo hhi h H) (fun z => absurd z (by omega))
  · intro q k t hk h hs
    have hl := ap_pl_len P kind wo k
    have hsucc : ∀ X, ap_pk P kind wo k = X → ap_pl P kind wo (k + 1) = ap_pl P kind wo k ++ X := fun X hX => by rw [← hX]; rfl
    refine pk_le 5 k (fun z => absurd z (by omega)) (fun _ => ?_)
    refine ap_has hk hD.1 hD.2.1 (ap_b0 (fun z => nm_r (nI_1 k) ?_) (fun z => ?_))
    · have hX := hsucc [] (by unfold ap_pk; rw [if_neg (by rw [z]; exact fun q => Bool.noConfusion q.1)])
      rw [List.append_nil] at hX
      rw [hX] at hs
      exact hs t h
    · obtain ⟨d1, d2, d3⟩ := hD.2.2 k hk z
      refine ap_ieq (k : Int) wo (ap_i_nat k) hwo (fun z2 => nm_r (nI_1 k) ?_) (fun z2 => ⟨pk_in k 5 hk, ?_⟩)
      · have hX := hsucc [] (by unfold ap_pk; rw [if_neg (fun q => q.2 z2)])
        rw [List.append_nil] at hX
        rw [hX] at hs
        exact hs t h
      · have hpk : ap_pk P kind wo k = (if kind k = 2 then [] else [(k, 1)]) ++ (if kind k = 0 then [] else [(k, -1)]) := by unfold ap_pk; rw [if_pos ⟨z, z2⟩]
        have s44 : ∀ (L1 : List (Nat × Int)) (t : (Nat → Int32) × (Nat → Int32)), L1.length ≤ 2 * k + 1 → ap_pl P kind wo (k + 1) = L1 ++ (if kind k = 0 then [] else [(k, -1)]) → ap_rows tu num bnd lo hi L1 t.1 t.2 →
            wX_writeRows_44 post (wX_writeRows_7 post q) (nI k) qpr qwo (nI L1.length) qtu qun qco qfw qwc qwt qwb qln qem qhh qht qhb qhl qlt qlb qbr ql3 qg3 a1 a2 a3 a4 a5 a6 a7 t.1 t.2 a10 a11 a12 a13 a14 a15 a16 a17 a18 a19 := by
          intro L1 t hL1 hp hr
          unfold wX_writeRows_44
          refine ⟨pk_in k 5 hk, ?_⟩
          refine ap_ieq (kind k) 0 (by rw [nI_clamp (by omega)]; exact d2.1) rfl (fun z3 => nm_r (nI_1 k) ?_) (fun z3 => ?_)
          · rw [if_pos z3, List.append_nil] at hp
            rw [hp] at hs
            exact hs t hr
          · rw [if_neg z3] at hp
            refine ap_addRow (s := -1) hk (Or.inr rfl) (by omega) rfl d1 d3 hlo hhi htu hr (fun b8 b9 hb => nm_r (nI_1 k) ?_)
            rw [hp, List.length_append] at hs
            exact hs (b8, b9) hb
        refine ap_ieq (kind k) 2 (by rw [nI_clamp (by omega)]; exact d2.1) rfl (fun z3 => ?_) (fun z3 => ?_)
        · refine s44 (ap_pl P kind wo k) t (by omega) ?_ h
          rw [hsucc _ hpk, if_pos z3, List.nil_append]
        · refine ap_addRow (s := 1) hk (Or.inl rfl) (by omega) rfl d1 d3 hlo hhi htu h (fun b8 b9 hb => ?_)
          have t44 := s44 (ap_pl P kind wo k ++ [(k, 1)]) (b8, b9) (by rw [List.length_append]; show _ + 1 ≤ _; omega) (by rw [hsucc _ hpk, if_neg z3, List.append_assoc]) hb
          rw [List.length_append] at t44
          exact t44
end
end
section
/-! the answer from the side of the points -/
def ap_be (tu : Nat → Bool) (num : Nat → Nat → Int) (bnd lo hi asked : Nat → Int) (L : List (Nat × Int)) (r : Nat) : Int :=
  if r < L.length then ap_rb tu num bnd lo hi (L.getD r (0, 0)) else if r < L.length + 3 then hi (r - L.length) - lo (r - L.length) else ap_sum (fun j => ap_nw asked (r - (L.length + 3)) j * ap_frm tu lo hi j) 3
def ap_mx (tu : Nat → Bool) (num : Nat → Nat → Int) (L : List (Nat × Int)) (r i : Nat) : Int := if r < L.length then ap_ra tu num (L.getD r (0, 0)) i else if i = r - L.length then 1 else 0
/-- what a solved question shows: u, worth W, point X over u -/
def ap_lpr (n : Nat) (A : List (List Int)) (cv : List Int) (β : Nat → Int) (u W : Int) (X : Nat → Int) : Prop :=
  0 < u ∧ u ≤ 64 ∧ (-1310720 ≤ W ∧ W ≤ 1310720) ∧ (∀ i, i < 3 → 0 ≤ X i ∧ X i ≤ 1310720) ∧ ap_fe n A β u (X 0) (X 1) (X 2) ∧ W = u * β n + (cv.getD 0 0 * X 0 + cv.getD 1 0 * X 1 + cv.getD 2 0 * X 2) ∧
  ∀ s x0 x1 x2, ap_fe n A β s x0 x1 x2 → u * (cv.getD 0 0 * x0 + cv.getD 1 0 * x1 + cv.getD 2 0 * x2) ≤ s * (W - u * β n)
theorem ap_ow_bd {N : ap_N} {f : Nat → Int} {i B : Int} (hB : 0 ≤ B) : ∀ {n : Nat}, (∀ r, r < n → f r ≤ B) → ap_ow N f i n ≤ B
  | 0, _ => hB
  | n + 1, h => by
    show (if ap_rn N n = i then f n else ap_ow N f i n) ≤ B
    by_cases e : ap_rn N n = i
    · rw [if_pos e]; exact h n (by omega)
    · rw [if_neg e]; exact ap_ow_bd hB (fun r hr => h r (by omega))
theorem ap_lpr_of {n : Nat} {A : List (List Int)} {cv : List Int} {N : ap_N} {β : Nat → Int} (hc : ap_ct n A cv N = true) (ho : ap_Ok (n + 4) 3 N) (hβ : ∀ j, j < n + 4 → -4096 ≤ β j ∧ β j ≤ 4096) (hR : ∀ r, r < n → 0 ≤ ap_R N 3 (ap_v (n + 4) β) r) :
    ap_lpr n A cv β N.1 (ap_R N 3 (ap_v (n + 4) β) n) (fun i => ap_ow N (fun r => ap_R N 3 (ap_v (n + 4) β) r) i n) := by
  have hv := ap_v_bd (K := n + 4) (by decide) hβ
  have h := ap_lp (X := fun i => ap_ow N (fun r => ap_R N 3 (ap_v (n + 4) β) r) i n) hc (fun i _ => rfl) hR
  refine ⟨ho.1, ho.2.1, ap_R_bd ho (by omega) (by omega) hv, fun i _ => ⟨ap_ow_nn hR, ap_ow_bd (by decide) (fun r hr => (ap_R_bd ho (by omega) (by omega) hv).2)⟩, h.1, h.2.1, h.2.2⟩
theorem ap_sum3_bd {f : Nat → Int} {B : Int} (h : ∀ j, j < 3 → -B ≤ f j ∧ f j ≤ B) : -(B * 3) ≤ ap_sum f 3 ∧ ap_sum f 3 ≤ B * 3 := ap_sum_bd h
theorem ap_frm_bd {tu : Nat → Bool} {lo hi : Nat → Int} {j : Nat} (h1 : -128 ≤ lo j ∧ lo j ≤ 127) (h2 : -128 ≤ hi j ∧ hi j ≤ 127) : -128 ≤ ap_frm tu lo hi j ∧ ap_frm tu lo hi j ≤ 128 := by
  unfold ap_frm
  by_cases e : tu j = true
  · rw [if_pos e]; omega
  · rw [if_neg e]; omega
theorem ap_pk_mem {P : Nat} {kind : Nat → Int} {wo : Int} {k : Nat} {x : Nat × Int} (h : x ∈ ap_pk P kind wo k) : x.1 = k ∧ (x.2 = 1 ∨ x.2 = -1) ∧ P.testBit k = true := by
  unfold ap_pk at h
  by_cases e : P.testBit k = true ∧ (k : Int) ≠ wo
  · rw [if_pos e, List.mem_append] at h
    rcases h with h | h
    · by_cases e2 : kind k = 2
      · rw [if_pos e2] at h; exact absurd h (by simp)
      · rw [if_neg e2, List.mem_singleton] at h
        subst h
        exact ⟨rfl, Or.inl rfl, e.1⟩
    · by_cases e2 : kind k = 0
      · rw [if_pos e2] at h; exact absurd h (by simp)
      · rw [if_neg e2, List.mem_singleton] at h
        subst h
        exact ⟨rfl, Or.inr rfl, e.1⟩
  · rw [if_neg e] at h; exact absurd h (by simp)
theorem ap_pl_mem {P : Nat} {kind : Nat → Int} {wo : Int} {x : Nat × Int} : ∀ {k : Nat}, x ∈ ap_pl P kind wo k → x.1 < k ∧ (x.2 = 1 ∨ x.2 = -1) ∧ P.testBit x.1 = true
  | 0, h => absurd h (by simp [ap_pl])
  | k + 1, h => by
    have h' : x ∈ ap_pl P kind wo k ++ ap_pk P kind wo k := h
    rw [List.mem_append] at h'
    rcases h' with h' | h'
    · have := ap_pl_mem h'
      exact ⟨by omega, this.2⟩
    · have := ap_pk_mem h'
      exact ⟨by omega, this.2.1, by rw [this.1]; exact this.2.2⟩
theorem ap_pl_get {P : Nat} {kind : Nat → Int} {wo : Int} {r : Nat} (h : r < (ap_pl P kind wo 5).length) : ((ap_pl P kind wo 5).getD r (0, 0)).1 < 5 ∧ (((ap_pl P kind wo 5).getD r (0, 0)).2 = 1 ∨ ((ap_pl P kind wo 5).getD r (0, 0)).2 = -1) ∧ P.testBit ((ap_pl P kind wo 5).getD r (0, 0)).1 = true := by
  refine ap_pl_mem (kind := kind) (wo := wo) ?_
  rw [List.getD_eq_getElem?_getD, List.getElem?_eq_getElem h]
  exact List.getElem_mem h
theorem ap_sgn {s x B : Int} (hs : s = 1 ∨ s = -1) (hx : -B ≤ x ∧ x ≤ B) : -B ≤ s * x ∧ s * x ≤ B := by
  rcases hs with e | e
  · rw [e, Int.one_mul]; exact hx
  · rw [e]; omega
theorem ap_be_bd {P : Nat} {num : Nat → Nat → Int} {kind bnd lo hi asked : Nat → Int} {tu : Nat → Bool} {wo : Int} {pr : Int32} {a1 a2 a3 : Nat → Int32} (hD : ap_dat P num kind bnd pr a1 a2 a3)
    (hlo : ∀ i, i < 3 → -128 ≤ lo i ∧ lo i ≤ 127) (hhi : ∀ i, i < 3 → -128 ≤ hi i ∧ hi i ≤ 127) (has : ∀ i, i < 3 → -8 ≤ asked i ∧ asked i ≤ 8) :
    ∀ j, j < (ap_pl P kind wo 5).length + 3 + 4 → -4096 ≤ ap_be tu num bnd lo hi asked (ap_pl P kind wo 5) j ∧ ap_be tu num bnd lo hi asked (ap_pl P kind wo 5) j ≤ 4096 := by
  intro j hj
  unfold ap_be
  by_cases h1 : j < (ap_pl P kind wo 5).length
  · rw [if_pos h1]
    obtain ⟨g1, g2, g3⟩ := ap_pl_get h1
    obtain ⟨d1, d2, d3⟩ := hD.2.2 _ g1 g3
    unfold ap_rb
    have b1 := ap_sgn g2 (show -99 ≤ _ ∧ _ ≤ 99 from d3.2)
    have b2 := ap_sum3_bd (B := 7 * 128) (f := fun i => ((ap_pl P kind wo 5).getD j (0, 0)).2 * num ((ap_pl P kind wo 5).getD j (0, 0)).1 i * ap_frm tu lo hi i) (fun i hi3 => ap_mul_bd (by decide) (by decide) (ap_sgn g2 (d1 i hi3).2) (ap_frm_bd (hlo i hi3) (hhi i hi3)))
    omega
  · rw [if_neg h1]
    by_cases h2 : j < (ap_pl P kind wo 5).length + 3
    · rw [if_pos h2]
      have b1 := hlo (j - (ap_pl P kind wo 5).length) (by omega)
      have b2 := hhi (j - (ap_pl P kind wo 5).length) (by omega)
      omega
    · rw [if_neg h2]
      have b2 := ap_sum3_bd (B := 8 * 128) (f := fun i => ap_nw asked (j - ((ap_pl P kind wo 5).length + 3)) i * ap_frm tu lo hi i) (fun i hi3 => ap_mul_bd (by decide) (by decide) (by
        unfold ap_nw
        by_cases e1 : j - ((ap_pl P kind wo 5).length + 3) = 0
        · rw [if_pos e1]; exact has i hi3
        · rw [if_neg e1]
          by_cases e2 : j - ((ap_pl P kind wo 5).length + 3) = i + 1
          · rw [if_pos e2]; decide
          · rw [if_neg e2]; decide) (ap_frm_bd (hlo i hi3) (hhi i hi3)))
      omega
section
variable {qpr : Int32} {qwo : Int32} {qrw : Int32} {qtu : Int32} {qun : Int64} {qco : Int32} {qfw : Int32} {qwc : Int32} {qwt : Int64} {qwb : Int64} {qln : Int32} {qem : Int32} {qhh : Int32} {qht : Int64} {qhb : Int64} {qhl : Int32} {qlt : Int64} {qlb : Int64} {qbr : Int32} {ql3 : Int32} {qg3 : Int32} {a1 : Nat → Int32} {a2 : Nat → Int32} {a3 : Nat → Int32} {a4 : Nat → Int32} {a5 : Nat → Int32} {a6 : Nat → Int32} {a7 : Nat → Int32} {a8 : Nat → Int32} {a9 : Nat → Int32} {a10 : Nat → Int64} {a11 : Nat → Int32} {a12 : Nat → Int32} {a13 : Nat → Int64} {a14 : Nat → Int64} {a15 : Nat → Int64} {a16 : Nat → Int64} {a17 : Nat → Int64} {a18 : Nat → Int32} {a19 : Nat → Int32}
variable {n : Nat} {P : Nat} {num : Nat → Nat → Int} {kind bnd lo hi asked : Nat → Int} {tu : Nat → Bool} {wo : Int} {A : List (List Int)} {cv sv : List Int}
/-- rows and first table, whatever is counted down -/
theorem ap_start {post : St2 → Prop} (hD : ap_dat P num kind bnd qpr a1 a2 a3) (hwo : qwo = ap_i wo) (hwb : -1 ≤ wo ∧ wo ≤ 5)
    (hlo : ∀ i, i < 3 → a5 i = ap_i (lo i) ∧ -128 ≤ lo i ∧ lo i ≤ 127) (hhi : ∀ i, i < 3 → a6 i = ap_i (hi i) ∧ -128 ≤ hi i ∧ hi i ≤ 127) (has : ∀ i, i < 3 → a7 i = ap_i (asked i) ∧ -8 ≤ asked i ∧ asked i ≤ 8)
    (htu : ∀ i, i < 3 → (((qtu >>> (nI i &&& 31)) &&& 1) = 0 ↔ tu i = false)) (hlen : (ap_pl P kind wo 5).length + 3 = n) (hA : ∀ r, r < n → ∀ i, i < 3 → ap_A A r i = ap_mx tu num (ap_pl P kind wo 5) r i)
    (hcv : ∀ i, i < 3 → cv.getD i 0 = if tu i = true then - asked i else asked i) (hsv : ∀ i, i < 3 → sv.getD i 0 = if tu i = true then -1 else 1)
    (H : ∀ (a8' : Nat → Int32) (a9' : Nat → Int32) (a10' : Nat → Int64) (a11' : Nat → Int32) (a12' : Nat → Int32), ap_Mt (ap_N0 n A cv sv) n (n + 4) 3 (ap_v (n + 4) (ap_be tu num bnd lo hi asked (ap_pl P kind wo 5))) 1 a10' a11' a12' → (∀ r, n ≤ r → r < n + 4 → a10' (r * 5 + 3) = 0) → post (qpr, qwo, nI n, qtu, 1, 3, nI n, 4, qwt, qwb, qln, qem, qhh, qht, qhb, qhl, qlt, qlb, qbr, ql3, qg3, a1, a2, a3, a4, a5, a6, a7, a8', a9', a10', a11', a12', a13, a14, a15, a16, a17, a18, a19)) :
    wpX_writeRows (fun u => wpX_setUp post u) (qpr, qwo, qrw, qtu, qun, qco, qfw, qwc, qwt, qwb, qln, qem, qhh, qht, qhb, qhl, qlt, qlb, qbr, ql3, qg3, a1, a2, a3, a4, a5, a6, a7, a8, a9, a10, a11, a12, a13, a14, a15, a16, a17, a18, a19) := by
  have hbd := ap_be_bd (tu := tu) (wo := wo) hD (fun i h => (hlo i h).2) (fun i h => (hhi i h).2) (fun i h => (has i h).2)
  have hl := ap_pl_len P kind wo 5
  refine ap_writeRows hD hwo hwb hlo hhi htu (fun b8 b9 r1 r2 => ?_)
  rw [hlen]
  refine ap_setUp (A := A) (β := ap_be tu num bnd lo hi asked (ap_pl P kind wo 5)) rfl (by omega) (fun r hr c hc => ?_) (fun r hr => ?_) hlo hhi (fun i h => ⟨(has i h).1, by have := (has i h).2; omega⟩) htu hcv hsv (fun k hk => ?_) (fun b10 b11 b12 m1 m2 => H _ _ _ _ _ m1 m2)
  · rw [hA r hr c hc]
    unfold ap_mx
    by_cases e : r < (ap_pl P kind wo 5).length
    · rw [if_pos e]
      refine ⟨(r1 r e).1 c hc, ?_⟩
      obtain ⟨g1, g2, g3⟩ := ap_pl_get e
      have b := ap_sgn g2 ((hD.2.2 _ g1 g3).1 c hc).2
      unfold ap_ra
      by_cases et : tu c = true
      · rw [if_pos et]; omega
      · rw [if_neg et]; omega
    · rw [if_neg e]
      have h2 := (r2 (r - (ap_pl P kind wo 5).length) (by omega)).1 c hc
      rw [show (ap_pl P kind wo 5).length + (r - (ap_pl P kind wo 5).length) = r by omega] at h2
      refine ⟨h2, ?_⟩
      by_cases e2 : c = r - (ap_pl P kind wo 5).length
      · rw [if_pos e2]; decide
      · rw [if_neg e2]; decide
  · refine ⟨?_, hbd r (by omega)⟩
    unfold ap_be
    by_cases e : r < (ap_pl P kind wo 5).length
    · rw [if_pos e]
      exact (r1 r e).2
    · rw [if_neg e, if_pos (by omega)]
      have h2 := (r2 (r - (ap_pl P kind wo 5).length) (by omega)).2
      rw [show (ap_pl P kind wo 5).length + (r - (ap_pl P kind wo 5).length) = r by omega] at h2
      exact h2
  · unfold ap_be
    rw [if_neg (by omega), if_neg (by omega), show n + k - ((ap_pl P kind wo 5).length + 3) = k by omega]
theorem ap_solve0 {post : Int32 → St2 → Prop} (hD : ap_dat P num kind bnd qpr a1 a2 a3) (hwo : qwo = ap_i wo) (hwb : -1 ≤ wo ∧ wo ≤ 5)
    (hlo : ∀ i, i < 3 → a5 i = ap_i (lo i) ∧ -128 ≤ lo i ∧ lo i ≤ 127) (hhi : ∀ i, i < 3 → a6 i = ap_i (hi i) ∧ -128 ≤ hi i ∧ hi i ≤ 127) (has : ∀ i, i < 3 → a7 i = ap_i (asked i) ∧ -8 ≤ asked i ∧ asked i ≤ 8)
    (hlen : (ap_pl P kind wo 5).length + 3 = n) (hA : ∀ r, r < n → ∀ i, i < 3 → ap_A A r i = ap_mx (fun _ => false) num (ap_pl P kind wo 5) r i) (hcv : ∀ i, i < 3 → cv.getD i 0 = asked i) (hpc : ap_pc n A cv [1, 1, 1] = true)
    (H1 : ∀ (u W : Int) (X : Nat → Int) (qrw' : Int32) (qtu' : Int32) (qun' : Int64) (qco' : Int32) (qfw' : Int32) (qwc' : Int32) (a8' : Nat → Int32) (a9' : Nat → Int32) (a10' : Nat → Int64) (a11' : Nat → Int32) (a12' : Nat → Int32) (a13' : Nat → Int64), ap_lpr n A cv (ap_be (fun _ => false) num bnd lo hi asked (ap_pl P kind wo 5)) u W X → (∀ i, i < 3 → a13' i = ap_l (lo i * u + X i)) → post 1 (qpr, qwo, qrw', qtu', qun', qco', qfw', qwc', ap_l W, ap_l u, qln, qem, qhh, qht, qhb, qhl, qlt, qlb, qbr, ql3, qg3, a1, a2, a3, a4, a5, a6, a7, a8', a9', a10', a11', a12', a13', a14, a15, a16, a17, a18, a19))
    (H0 : (∀ s x0 x1 x2, 0 < s → ¬ ap_fe n A (ap_be (fun _ => false) num bnd lo hi asked (ap_pl P kind wo 5)) s x0 x1 x2) → ∀ (qrw' : Int32) (qtu' : Int32) (qun' : Int64) (qco' : Int32) (qfw' : Int32) (qwc' : Int32) (a8' : Nat → Int32) (a9' : Nat → Int32) (a10' : Nat → Int64) (a11' : Nat → Int32) (a12' : Nat → Int32), post 0 (qpr, qwo, qrw', qtu', qun', qco', qfw', qwc', qwt, qwb, qln, qem, qhh, qht, qhb, qhl, qlt, qlb, qbr, ql3, qg3, a1, a2, a3, a4, a5, a6, a7, a8', a9', a10', a11', a12', a13, a14, a15, a16, a17, a18, a19)) :
    wpX_solveByPoints post (qpr, qwo, qrw, qtu, qun, qco, qfw, qwc, qwt, qwb, qln, qem, qhh, qht, qhb, qhl, qlt, qlb, qbr, ql3, qg3, a1, a2, a3, a4, a5, a6, a7, a8, a9, a10, a11, a12, a13, a14, a15, a16, a17, a18, a19) := by
  have hbd := ap_be_bd (tu := fun _ => false) (wo := wo) hD (fun i h => (hlo i h).2) (fun i h => (hhi i h).2) (fun i h => (has i h).2)
  have hl := ap_pl_len P kind wo 5
  rw [hlen] at hbd
  have hv := ap_v_bd (K := n + 4) (by decide) hbd
  have htu : ∀ i, i < 3 → ((((0 : Int32) >>> (nI i &&& 31)) &&& 1) = 0 ↔ (fun _ : Nat => false) i = false) := by decide
  unfold wpX_solveByPoints
  refine ap_start (sv := [1, 1, 1]) hD hwo hwb hlo hhi has htu hlen hA hcv (by decide) (fun b8 b9 b10 b11 b12 m1 m2 => ?_)
  refine ap_findPoint hpc hbd m1 m2 (by omega) (by omega) rfl rfl rfl rfl (fun N' un' t' rn' cn' x1 x2 x3 => ?_) (fun z un' co' fw' wc' t' rn' cn' => br_t rfl (H0 z _ _ _ _ _ _ _ _ _ _ _))
  refine br_f (by decide) ?_
  refine ap_climb (n := n) (m := n + 4) (w := 3) (f := n) (k := 4) hv (by omega) (by omega) (by omega) (by omega) rfl rfl rfl rfl rfl x1 (by omega) x2 x3 (fun N2 un2 t2 rn2 cn2 o2 c2 y2 y3 => ?_)
  refine ap_readOff (n := n) (m := n + 4) (w := 3) y2 o2 (by omega) (by omega) (by omega) (by omega) rfl rfl hlo hhi htu (fun t13 h13 => ?_)
  exact H1 _ _ _ _ _ _ _ _ _ _ _ _ _ _ _ (ap_lpr_of c2 o2 hbd y3) h13
end
end
section
/-! from the side of the worth: closed lists of nodes -/
def ap_lc (N : ap_N) (f k row : Nat) : Nat → Int
  | 0 => -1
  | c + 1 => ap_fI (ap_lc N f k row c) (fun b => if ap_t N row c < 0 ∧ (b < 0 ∨ ap_ll N c b.toNat row k f = true) then (c : Int) else b)
theorem ap_lc_succ (N : ap_N) (f k row c : Nat) : ap_lc N f k row (c + 1) = if ap_t N row c < 0 ∧ (ap_lc N f k row c < 0 ∨ ap_ll N c (ap_lc N f k row c).toNat row k f = true) then (c : Int) else ap_lc N f k row c := by
  show ap_fI (ap_lc N f k row c) _ = _
  rw [ap_fI_eq]
theorem ap_lc_lt (N : ap_N) (f k row : Nat) : ∀ c : Nat, -1 ≤ ap_lc N f k row c ∧ ap_lc N f k row c < c ∧ (0 ≤ ap_lc N f k row c → ap_t N row (ap_lc N f k row c).toNat < 0)
  | 0 => by
    refine ⟨Int.le_refl (-1), by show (-1 : Int) < 0; decide, fun h => absurd h (by show ¬ (0 : Int) ≤ -1; decide)⟩
  | c + 1 => by
    have h0 := ap_lc_lt N f k row c
    rw [ap_lc_succ]
    by_cases h : ap_t N row c < 0 ∧ (ap_lc N f k row c < 0 ∨ ap_ll N c (ap_lc N f k row c).toNat row k f = true)
    · rw [if_pos h]
      refine ⟨by omega, by omega, fun _ => ?_⟩
      have : ((c : Int)).toNat = c := by omega
      rw [this]
      exact h.1
    · rw [if_neg h]
      exact ⟨h0.1, by omega, h0.2.2⟩
def ap_S (N : ap_N) (n : Nat) (f : Nat → Int) : Int := ((f n * 100 + f (n + 1)) * 100 + f (n + 2)) * 100 + f (n + 3)
def ap_eI : Int → Int → Bool
  | .ofNat a, .ofNat b => Nat.beq a b
  | .negSucc a, .negSucc b => Nat.beq a b
  | _, _ => false
theorem ap_eI_eq : ∀ {a b : Int}, ap_eI a b = true → a = b
  | .ofNat a, .ofNat b, h => by rw [Nat.eq_of_beq_eq_true h]
  | .negSucc a, .negSucc b, h => by rw [Nat.eq_of_beq_eq_true h]
  | .ofNat _, .negSucc _, h => Bool.noConfusion h
  | .negSucc _, .ofNat _, h => Bool.noConfusion h
def ap_eL : List Int → List Int → Bool
  | [], [] => true
  | x :: l, y :: m => ap_eI x y && ap_eL l m
  | _, _ => false
theorem ap_eL_eq : ∀ {a b : List Int}, ap_eL a b = true → a = b
  | [], [], _ => rfl
  | x :: l, y :: m, h => by
    have h' : (ap_eI x y && ap_eL l m) = true := h
    rw [Bool.and_eq_true] at h'
    rw [ap_eI_eq h'.1, ap_eL_eq h'.2]
  | [], _ :: _, h => Bool.noConfusion h
  | _ :: _, [], h => Bool.noConfusion h
def ap_eM : List (List Int) → List (List Int) → Bool
  | [], [] => true
  | x :: l, y :: m => ap_eL x y && ap_eM l m
  | _, _ => false
theorem ap_eM_eq : ∀ {a b : List (List Int)}, ap_eM a b = true → a = b
  | [], [], _ => rfl
  | x :: l, y :: m, h => by
    have h' : (ap_eL x y && ap_eM l m) = true := h
    rw [Bool.and_eq_true] at h'
    rw [ap_eL_eq h'.1, ap_eM_eq h'.2]
  | [], _ :: _, h => Bool.noConfusion h
  | _ :: _, [], h => Bool.noConfusion h
def ap_eN (N M : ap_N) : Bool := ap_eL N.2.2.1 M.2.2.1 && ap_eL N.2.2.2 M.2.2.2 && ap_eI N.1 M.1 && ap_eM N.2.1 M.2.1
theorem ap_eN_eq {N M : ap_N} (h : ap_eN N M = true) : N = M := by
  unfold ap_eN at h
  rw [Bool.and_eq_true, Bool.and_eq_true, Bool.and_eq_true] at h
  exact Prod.ext (ap_eI_eq h.1.2) (Prod.ext (ap_eM_eq h.2) (Prod.ext (ap_eL_eq h.1.1.1) (ap_eL_eq h.1.1.2)))
def ap_gN : List ap_N → Nat → (ap_N → Bool) → Bool
  | [], _, _ => false
  | x :: _, 0, k => k x
  | _ :: l, i + 1, k => ap_gN l i k
theorem ap_gN_out : ∀ (l : List ap_N) (i : Nat), (∃ x, x ∈ l ∧ l.getD i (0, [], [], []) = x ∧ i < l.length ∧ ∀ k, ap_gN l i k = k x) ∨ (∀ k, ap_gN l i k = false)
  | [], i => Or.inr (fun _ => rfl)
  | x :: l, 0 => Or.inl ⟨x, List.mem_cons_self .., rfl, Nat.zero_lt_succ _, fun _ => rfl⟩
  | x :: l, i + 1 => by
    rcases ap_gN_out l i with ⟨y, h1, h2, h3, h4⟩ | h
    · exact Or.inl ⟨y, List.mem_cons_of_mem _ h1, h2, Nat.succ_lt_succ h3, h4⟩
    · exact Or.inr h
def ap_ck (n : Nat) (A : List (List Int)) (cv : List Int) (L : List ap_N) (T : List (List Nat)) (i : Nat) : Bool :=
  ap_gN L i (fun N => ap_ok (n + 4) 3 N && ap_ct n A cv N && ap_all (fun c => decide (0 < ap_S N n (fun r => ap_t N r c))) 3 &&
    ap_all (fun r => ap_fI (ap_lc N n 4 r 3) (fun c => if c < 0 then ap_nn n A (ap_co N 3 r) else ap_dv N (n + 4) 3 r c.toNat && ap_fN (ap_ex N (n + 4) 3 r c.toNat) (fun N' => ap_gN L ((T.getD i []).getD r 0) (fun M => ap_eN M N')))) n)
def ap_bd (n : Nat) : List (Nat × Nat) → List ap_N → (List ap_N → Bool) → Bool
  | [], acc, k => k acc
  | i :: l, acc, k => ap_gN acc i.1 (fun N => ap_fI (ap_lc N n 4 i.2 3) (fun c => ap_fN (ap_ex N (n + 4) 3 i.2 c.toNat) (fun N' => ap_bd n l (N' :: acc) k)))
def ap_dc (n : Nat) (A : List (List Int)) (cv sv : List Int) (l : List (Nat × Nat)) (T : List (List Nat)) (a c m : Nat) : Bool :=
  ap_fN (ap_N0 n A cv sv) (fun N => ap_bd n l [N] (fun L => Nat.beq L.length m && ap_all (fun k => ap_ck n A cv L T (a + k)) c))
theorem ap_bd_out {n : Nat} : ∀ (l : List (Nat × Nat)) (acc : List ap_N), ∃ L, (∀ x, x ∈ acc → x ∈ L) ∧ ∀ k, ap_bd n l acc k = true → k L = true
  | [], acc => ⟨acc, fun _ hx => hx, fun k h => h⟩
  | i :: l, acc => by
    rcases ap_gN_out acc i.1 with ⟨N, _, _, _, h4⟩ | h
    · obtain ⟨L, h1, h2⟩ := ap_bd_out l (ap_ex N (n + 4) 3 i.2 (ap_lc N n 4 i.2 3).toNat :: acc)
      refine ⟨L, fun x hx => h1 x (List.mem_cons_of_mem _ hx), fun k hk => h2 k ?_⟩
      have hk' : ap_gN acc i.1 (fun N => ap_fI (ap_lc N n 4 i.2 3) (fun c => ap_fN (ap_ex N (n + 4) 3 i.2 c.toNat) (fun N' => ap_bd n l (N' :: acc) k))) = true := hk
      rw [h4, ap_fI_eq, ap_fN_eq] at hk'
      exact hk'
    · refine ⟨acc, fun x hx => hx, fun k hk => ?_⟩
      have hk' : ap_gN acc i.1 (fun N => ap_fI (ap_lc N n 4 i.2 3) (fun c => ap_fN (ap_ex N (n + 4) 3 i.2 c.toNat) (fun N' => ap_bd n l (N' :: acc) k))) = true := hk
      rw [h] at hk'
      exact Bool.noConfusion hk'
/-- a closed list of nodes -/
def ap_Cl (n : Nat) (A : List (List Int)) (cv : List Int) (L : List ap_N) : Prop :=
  L.length < 1000 ∧ ∀ N, N ∈ L → ap_Ok (n + 4) 3 N ∧ ap_ct n A cv N = true ∧ (∀ c, c < 3 → 0 < ap_S N n (fun r => ap_t N r c)) ∧
    ∀ r, r < n → (ap_lc N n 4 r 3 < 0 → ap_nn n A (ap_co N 3 r) = true) ∧ (¬ ap_lc N n 4 r 3 < 0 → ap_dv N (n + 4) 3 r (ap_lc N n 4 r 3).toNat = true ∧ ap_ex N (n + 4) 3 r (ap_lc N n 4 r 3).toNat ∈ L)
theorem ap_ck_out {n : Nat} {A : List (List Int)} {cv : List Int} {L : List ap_N} {T : List (List Nat)} {i : Nat} {N : ap_N} (hi : i < L.length) (hN : L.getD i (0, [], [], []) = N) (h : ap_ck n A cv L T i = true) :
    ap_Ok (n + 4) 3 N ∧ ap_ct n A cv N = true ∧ (∀ c, c < 3 → 0 < ap_S N n (fun r => ap_t N r c)) ∧
    ∀ r, r < n → (ap_lc N n 4 r 3 < 0 → ap_nn n A (ap_co N 3 r) = true) ∧ (¬ ap_lc N n 4 r 3 < 0 → ap_dv N (n + 4) 3 r (ap_lc N n 4 r 3).toNat = true ∧ ap_ex N (n + 4) 3 r (ap_lc N n 4 r 3).toNat ∈ L) := by
  unfold ap_ck at h
  rcases ap_gN_out L i with ⟨M, _, h2, _, h4⟩ | h'
  · rw [h4] at h
    rw [← hN, h2]
    simp only [Bool.and_eq_true, ap_all_iff, decide_eq_true_eq] at h
    obtain ⟨⟨⟨g1, g2⟩, g3⟩, g4⟩ := h
    refine ⟨ap_ok_iff g1, g2, g3, fun r hr => ?_⟩
    have g5 := g4 r hr
    rw [ap_fI_eq] at g5
    refine ⟨fun e => ?_, fun e => ?_⟩
    · rw [if_pos e] at g5
      exact g5
    · rw [if_neg e, Bool.and_eq_true, ap_fN_eq] at g5
      refine ⟨g5.1, ?_⟩
      rcases ap_gN_out L ((T.getD i []).getD r 0) with ⟨K, k1, _, _, k4⟩ | k'
      · have g6 := g5.2
        rw [k4] at g6
        rw [← ap_eN_eq g6]
        exact k1
      · have g6 := g5.2
        rw [k'] at g6
        exact Bool.noConfusion g6
  · rw [h'] at h
    exact Bool.noConfusion h
/-- the checks of a list, cut into pieces of c nodes -/
theorem ap_dc_out {n : Nat} {A : List (List Int)} {cv sv : List Int} {l : List (Nat × Nat)} {T : List (List Nat)} {c m p : Nat} (hm : m < 1000) (hc : m ≤ p * c) (hp : 0 < p) (hc0 : 0 < c) (h : ∀ j, j < p → ap_dc n A cv sv l T (j * c) c m = true) : ∃ L, ap_N0 n A cv sv ∈ L ∧ ap_Cl n A cv L := by
  obtain ⟨L, h1, h2⟩ := ap_bd_out (n := n) l [ap_N0 n A cv sv]
  have h3 : ∀ j, j < p → Nat.beq L.length m = true ∧ ∀ k, k < c → ap_ck n A cv L T (j * c + k) = true := by
    intro j hj
    have h4 := h j hj
    unfold ap_dc at h4
    rw [ap_fN_eq] at h4
    have h5 := h2 _ h4
    rw [Bool.and_eq_true, ap_all_iff] at h5
    exact h5
  have hlen : L.length = m := Nat.eq_of_beq_eq_true (h3 0 hp).1
  refine ⟨L, h1 _ (List.mem_singleton.mpr rfl), by omega, fun N hN => ?_⟩
  obtain ⟨i, hi, e⟩ := List.mem_iff_getElem.mp hN
  have hj : i / c < p := by
    rw [Nat.div_lt_iff_lt_mul hc0]
    omega
  have hck := (h3 (i / c) hj).2 (i % c) (Nat.mod_lt _ hc0)
  rw [Nat.mul_comm, Nat.div_add_mod] at hck
  refine ap_ck_out hi ?_ hck
  rw [List.getD_eq_getElem?_getD, List.getElem?_eq_getElem hi]
  exact e
/-! the measure: how many nodes of the list are worth less -/
def ap_ph (n : Nat) (v : Int → Int) (N : ap_N) : Int := ap_S N n (fun r => ap_R N 3 v r)
def ap_cnt (p : ap_N → Bool) : List ap_N → Nat
  | [] => 0
  | x :: l => (if p x = true then 1 else 0) + ap_cnt p l
theorem ap_cnt_le {p q : ap_N → Bool} : ∀ (l : List ap_N), (∀ x, x ∈ l → p x = true → q x = true) → ap_cnt p l ≤ ap_cnt q l
  | [], _ => Nat.le_refl 0
  | x :: l, h => by
    have h1 := ap_cnt_le (p := p) (q := q) l (fun y hy => h y (List.mem_cons_of_mem _ hy))
    have h2 := h x (List.mem_cons_self ..)
    show (if p x = true then 1 else 0) + ap_cnt p l ≤ (if q x = true then 1 else 0) + ap_cnt q l
    by_cases e : p x = true
    · rw [if_pos e, if_pos (h2 e)]; omega
    · rw [if_neg e]; omega
theorem ap_cnt_lt {p q : ap_N → Bool} {y : ap_N} : ∀ (l : List ap_N), (∀ x, x ∈ l → p x = true → q x = true) → y ∈ l → q y = true → ¬ p y = true → ap_cnt p l < ap_cnt q l
  | [], _, hy, _, _ => absurd hy (by simp)
  | x :: l, h, hy, hq, hp => by
    have hl : ∀ z, z ∈ l → p z = true → q z = true := fun z hz => h z (List.mem_cons_of_mem _ hz)
    show (if p x = true then 1 else 0) + ap_cnt p l < (if q x = true then 1 else 0) + ap_cnt q l
    rcases List.mem_cons.mp hy with e | e
    · subst e
      have h1 := ap_cnt_le (p := p) (q := q) l hl
      rw [if_neg hp, if_pos hq]; omega
    · have h1 := ap_cnt_lt (p := p) (q := q) l hl e hq hp
      have h2 := h x (List.mem_cons_self ..)
      by_cases e2 : p x = true
      · rw [if_pos e2, if_pos (h2 e2)]; omega
      · rw [if_neg e2]; omega
theorem ap_cnt_bd {p : ap_N → Bool} : ∀ (l : List ap_N), ap_cnt p l ≤ l.length
  | [] => Nat.le_refl 0
  | x :: l => by
    have := ap_cnt_bd (p := p) l
    show (if p x = true then 1 else 0) + ap_cnt p l ≤ l.length + 1
    by_cases e : p x = true
    · rw [if_pos e]; omega
    · rw [if_neg e]; omega
def ap_mu (n : Nat) (v : Int → Int) (L : List ap_N) (N : ap_N) : Nat := ap_cnt (fun M => decide (ap_ph n v M * N.1 < ap_ph n v N * M.1)) L
theorem ap_phx {u p b x0 x1 x2 x3 y0 y1 y2 y3 t0 t1 t2 t3 : Int} (h0 : u * x0 = -p * y0 + t0 * b) (h1 : u * x1 = -p * y1 + t1 * b) (h2 : u * x2 = -p * y2 + t2 * b) (h3 : u * x3 = -p * y3 + t3 * b) :
    u * (((x0 * 100 + x1) * 100 + x2) * 100 + x3) = -p * (((y0 * 100 + y1) * 100 + y2) * 100 + y3) + (((t0 * 100 + t1) * 100 + t2) * 100 + t3) * b := by
  have e : u * (((x0 * 100 + x1) * 100 + x2) * 100 + x3) = ((u * x0 * 100 + u * x1) * 100 + u * x2) * 100 + u * x3 := by
    clear h0 h1 h2 h3
    grind
  rw [e, h0, h1, h2, h3]
  clear e h0 h1 h2 h3
  grind
theorem ap_ph_ex {N : ap_N} {n row col : Nat} {v : Int → Int} (ho : ap_Ok (n + 4) 3 N) (hrow : row < n) (hcol : col < 3) (hd : ap_dv N (n + 4) 3 row col = true) (hp : ap_t N row col < 0) :
    N.1 * ap_ph n v (ap_ex N (n + 4) 3 row col) = (ap_ex N (n + 4) 3 row col).1 * ap_ph n v N + ap_S N n (fun r => ap_t N r col) * ap_R N 3 v row := by
  have hg : ap_g (ap_t N row col) = -1 := if_pos hp
  have hu : (ap_ex N (n + 4) 3 row col).1 = - ap_t N row col := by
    show ap_g (ap_t N row col) * ap_t N row col = _
    rw [hg]; omega
  have h : ∀ j, j < 4 → N.1 * ap_R (ap_ex N (n + 4) 3 row col) 3 v (n + j) = - ap_t N row col * ap_R N 3 v (n + j) + ap_t N (n + j) col * ap_R N 3 v row := by
    intro j hj
    have h := (ap_ex_R (N := N) (r := n + j) v (show row < n + 4 by omega) hcol (show n + j < n + 4 by omega) ho.1 ho.2.2.1 ho.2.2.2.1 (ap_dv_iff hd)).2 (by omega)
    rw [h, hg]
    generalize ap_R N 3 v (n + j) = a
    generalize ap_t N row col = p
    generalize ap_t N (n + j) col = t
    generalize ap_R N 3 v row = b
    grind
  have h0 := h 0 (by omega)
  have h1 := h 1 (by omega)
  have h2 := h 2 (by omega)
  have h3 := h 3 (by omega)
  rw [Nat.add_zero] at h0
  rw [hu]
  exact ap_phx h0 h1 h2 h3
theorem ap_cross {a b c u v w : Int} (hv : 0 < v) (hu : 0 < u) (hw : 0 < w) (h1 : a * w < b * v) (h2 : u * b < w * c) : a * u < c * v := by
  have p1 := Int.mul_lt_mul_of_pos_right h1 hu
  have p2 := Int.mul_lt_mul_of_pos_right h2 hv
  have e1 : a * w * u = a * u * w := by grind
  have e2 : b * v * u = u * b * v := by grind
  have e3 : w * c * v = c * v * w := by grind
  exact Int.lt_of_mul_lt_mul_right (a := w) (by omega) (Int.le_of_lt hw)
theorem ap_mu_lt {N : ap_N} {n row col : Nat} {v : Int → Int} {A : List (List Int)} {cv : List Int} {L : List ap_N} (hC : ap_Cl n A cv L) (hN : N ∈ L) (hN' : ap_ex N (n + 4) 3 row col ∈ L) (hrow : row < n) (hcol : col < 3) (hd : ap_dv N (n + 4) 3 row col = true) (hp : ap_t N row col < 0) (hR : ap_R N 3 v row < 0) :
    ap_mu n v L (ap_ex N (n + 4) 3 row col) < ap_mu n v L N := by
  have ho := (hC.2 N hN).1
  have ho' := (hC.2 _ hN').1
  have hs := (hC.2 N hN).2.2.1 col hcol
  have he := ap_ph_ex (v := v) ho hrow hcol hd hp
  have hneg : ap_S N n (fun r => ap_t N r col) * ap_R N 3 v row < 0 := Int.mul_neg_of_pos_of_neg hs hR
  have hlt : N.1 * ap_ph n v (ap_ex N (n + 4) 3 row col) < (ap_ex N (n + 4) 3 row col).1 * ap_ph n v N := by omega
  refine ap_cnt_lt (y := ap_ex N (n + 4) 3 row col) L (fun M hM h => ?_) hN' ?_ ?_
  · rw [decide_eq_true_eq] at h ⊢
    exact ap_cross (hC.2 M hM).1.1 ho.1 ho'.1 h hlt
  · rw [decide_eq_true_eq]
    rw [Int.mul_comm N.1, Int.mul_comm _ (ap_ph n v N)] at hlt
    exact hlt
  · rw [decide_eq_true_eq]
    omega
end
section
def ap_Bq1 : List (List Int) := [[-2, -1, 0], [-1, -3, 0], [-1, -1, 0], [0, 0, -2], [0, 0, 2], [1, 0, 0], [0, 1, 0], [0, 0, 1]]
def ap_Iq1 : List (Nat × Nat) := [(0, 0), (1, 1), (2, 2), (3, 3), (3, 1), (4, 2), (5, 3), (6, 5), (6, 2), (7, 3), (8, 6), (8, 0), (9, 3), (10, 5), (9, 2), (10, 3), (11, 5), (12, 6), (12, 0), (13, 3), (14, 5), (14, 5), (14, 1), (14, 0), (15, 3), (16, 5), (17, 6), (17, 6), (17, 0), (18, 2), (18, 3), (19, 5), (19, 5), (19, 1), (19, 0), (20, 3), (21, 5), (22, 6), (22, 5), (23, 6), (23, 1), (23, 0), (24, 2), (24, 3), (24, 5), (24, 1), (24, 1), (24, 0), (25, 6), (25, 3), (26, 5), (27, 6), (27, 5), (28, 6), (28, 1), (28, 0), (29, 2), (29, 0), (30, 2), (30, 1), (31, 2), (32, 5), (32, 0), (33, 1), (34, 5), (34, 5), (34, 1), (34, 1), (34, 6), (34, 3), (35, 6), (35, 5), (36, 6), (36, 1), (36, 0), (37, 2), (37, 1), (37, 0), (38, 2), (38, 0), (38, 1), (39, 2), (39, 0), (40, 1), (41, 5), (40, 1), (40, 0), (41, 6), (41, 0), (42, 6), (42, 6), (42, 0), (43, 2), (43, 5), (44, 6), (44, 1), (43, 1), (43, 0), (44, 2), (43, 1), (44, 5), (44, 1), (44, 1), (45, 2), (46, 5), (46, 0), (47, 1), (48, 5), (48, 2), (49, 5), (49, 5), (49, 1), (49, 1), (50, 5), (50, 5), (50, 1), (50, 1), (50, 6), (50, 6), (50, 0), (51, 2), (51, 6), (50, 1), (50, 0), (51, 2), (51, 0), (51, 1), (51, 1), (52, 5), (52, 0), (52, 1), (53, 2), (53, 0), (54, 1), (55, 5), (54, 2), (54, 5), (54, 1), (54, 5), (54, 1), (54, 0), (55, 6), (55, 6), (55, 0), (56, 2), (56, 6), (56, 0), (57, 2), (57, 0), (58, 2), (58, 2), (59, 5), (59, 0), (59, 1), (56, 1), (57, 5), (57, 1), (57, 5), (57, 1), (56, 2), (57, 5), (57, 5), (57, 1), (57, 1), (58, 5), (58, 5), (58, 1), (58, 5), (57, 1), (56, 5), (56, 1), (55, 6), (55, 6), (54, 0), (55, 2), (52, 0), (52, 1), (52, 1), (53, 5), (51, 5), (51, 1), (50, 2), (50, 5), (50, 1), (50, 5), (50, 1), (50, 5), (50, 1), (48, 0), (48, 6), (48, 0), (49, 2), (49, 0), (50, 2), (50, 5), (49, 0), (50, 2), (50, 2), (51, 5), (51, 0), (45, 5), (45, 1), (42, 5), (41, 1), (40, 5), (40, 1), (39, 6), (29, 5), (29, 1), (27, 5), (27, 1), (25, 0), (22, 0), (23, 2), (23, 5)]
def ap_Tq1 : List (List Nat) := [[215, 215, 13, 20, 215, 24, 11, 215], [18, 10, 25, 21, 215, 9, 15, 215], [25, 12, 19, 22, 215, 11, 24, 215], [29, 215, 215, 26, 215, 15, 9, 215], [215, 32, 16, 27, 215, 17, 13, 215], [215, 17, 215, 28, 215, 33, 14, 215], [8, 36, 215, 34, 215, 23, 29, 215], [215, 23, 215, 35, 215, 37, 30, 215], [6, 215, 215, 43, 215, 40, 48, 215], [48, 50, 215, 44, 215, 1, 3, 215], [49, 1, 215, 45, 215, 51, 215, 215], [215, 53, 52, 46, 215, 2, 0, 215], [215, 2, 54, 47, 215, 55, 215, 215], [215, 59, 0, 56, 215, 41, 4, 215], [215, 41, 215, 57, 215, 60, 5, 215], [67, 215, 42, 62, 215, 3, 1, 215], [215, 215, 4, 63, 215, 68, 52, 215], [42, 5, 68, 64, 215, 4, 41, 215], [1, 49, 69, 65, 215, 48, 40, 215], [69, 54, 2, 66, 215, 52, 68, 215], [215, 215, 56, 0, 215, 71, 46, 215], [65, 45, 72, 1, 215, 44, 62, 215], [72, 47, 66, 2, 215, 46, 71, 215], [40, 7, 73, 70, 215, 6, 67, 215], [73, 215, 41, 71, 215, 0, 2, 215], [2, 215, 1, 72, 215, 215, 74, 215], [75, 215, 215, 3, 215, 62, 44, 215], [215, 78, 63, 4, 215, 64, 56, 215], [215, 64, 215, 5, 215, 79, 57, 215], [3, 80, 215, 75, 215, 67, 6, 215], [215, 67, 215, 76, 215, 81, 7, 215], [81, 82, 215, 77, 215, 215, 51, 215], [215, 4, 215, 78, 215, 83, 59, 215], [215, 83, 84, 79, 215, 5, 60, 215], [43, 86, 215, 6, 215, 70, 75, 215], [215, 70, 215, 7, 215, 87, 76, 215], [215, 6, 215, 86, 215, 90, 80, 215], [58, 90, 215, 87, 215, 7, 81, 215], [215, 91, 60, 88, 215, 215, 55, 215], [92, 215, 61, 89, 215, 74, 215, 215], [23, 215, 96, 94, 215, 8, 18, 215], [96, 14, 24, 95, 215, 13, 17, 215], [17, 215, 15, 97, 215, 215, 98, 215], [34, 215, 215, 8, 215, 94, 99, 215], [99, 101, 215, 9, 215, 21, 26, 215], [100, 21, 215, 10, 215, 102, 215, 215], [215, 104, 103, 11, 215, 22, 20, 215], [215, 22, 105, 12, 215, 106, 215, 215], [9, 107, 215, 99, 215, 18, 8, 215], [10, 18, 215, 100, 215, 108, 215, 215], [107, 9, 215, 101, 215, 109, 215, 215], [108, 109, 215, 102, 215, 10, 31, 215], [215, 110, 11, 103, 215, 19, 16, 215], [215, 11, 110, 104, 215, 111, 215, 215], [215, 19, 12, 105, 215, 112, 215, 215], [215, 111, 112, 106, 215, 12, 38, 215], [215, 114, 20, 13, 215, 95, 27, 215], [215, 95, 215, 14, 215, 115, 28, 215], [37, 116, 215, 113, 215, 215, 108, 215], [215, 13, 215, 114, 215, 117, 32, 215], [215, 117, 38, 115, 215, 14, 33, 215], [118, 121, 39, 119, 215, 98, 215, 215], [122, 215, 97, 15, 215, 26, 21, 215], [215, 215, 27, 16, 215, 123, 103, 215], [97, 28, 123, 17, 215, 27, 95, 215], [21, 100, 124, 18, 215, 99, 94, 215], [124, 105, 22, 19, 215, 103, 123, 215], [15, 30, 125, 122, 215, 29, 23, 215], [125, 215, 17, 123, 215, 16, 19, 215], [19, 215, 18, 124, 215, 215, 126, 215], [94, 35, 127, 23, 215, 34, 122, 215], [127, 215, 95, 24, 215, 20, 22, 215], [22, 215, 21, 25, 215, 215, 128, 215], [24, 215, 23, 127, 215, 215, 129, 215], [129, 215, 98, 128, 215, 39, 25, 215], [26, 130, 215, 29, 215, 122, 34, 215], [215, 122, 215, 30, 215, 131, 35, 215], [131, 132, 215, 31, 215, 215, 102, 215], [215, 27, 215, 32, 215, 133, 114, 215], [215, 133, 134, 33, 215, 28, 115, 215], [215, 29, 215, 130, 215, 136, 36, 215], [31, 136, 215, 131, 215, 30, 37, 215], [136, 31, 120, 132, 215, 215, 109, 215], [120, 33, 137, 133, 215, 32, 117, 215], [215, 137, 33, 134, 215, 215, 112, 215], [138, 215, 118, 135, 215, 126, 215, 215], [215, 34, 215, 36, 215, 139, 130, 215], [113, 139, 215, 37, 215, 35, 131, 215], [215, 140, 115, 38, 215, 215, 106, 215], [141, 215, 119, 39, 215, 128, 215, 215], [116, 37, 142, 139, 215, 36, 136, 215], [142, 38, 117, 140, 215, 215, 111, 215], [39, 143, 138, 141, 215, 129, 215, 215], [111, 215, 109, 144, 215, 215, 145, 215], [70, 215, 146, 40, 215, 43, 65, 215], [146, 57, 71, 41, 215, 56, 64, 215], [41, 215, 40, 146, 215, 215, 147, 215], [64, 215, 62, 42, 215, 215, 148, 215], [147, 149, 74, 148, 215, 61, 42, 215], [44, 150, 215, 48, 215, 65, 43, 215], [45, 65, 215, 49, 215, 151, 215, 215], [150, 44, 215, 50, 215, 152, 215, 215], [151, 152, 215, 51, 215, 45, 77, 215], [215, 153, 46, 52, 215, 66, 63, 215], [215, 46, 153, 53, 215, 154, 215, 215], [215, 66, 47, 54, 215, 155, 215, 215], [215, 154, 155, 55, 215, 47, 88, 215], [50, 48, 215, 150, 215, 156, 215, 215], [51, 156, 215, 151, 215, 49, 58, 215], [156, 51, 93, 152, 215, 50, 82, 215], [215, 52, 53, 153, 215, 157, 215, 215], [93, 55, 157, 154, 215, 53, 91, 215], [215, 157, 55, 155, 215, 54, 84, 215], [87, 158, 215, 58, 215, 215, 151, 215], [215, 56, 215, 59, 215, 159, 78, 215], [215, 159, 88, 60, 215, 57, 79, 215], [90, 58, 161, 158, 215, 215, 156, 215], [161, 60, 91, 159, 215, 59, 83, 215], [61, 162, 85, 160, 215, 147, 215, 215], [160, 164, 89, 61, 215, 148, 215, 215], [83, 215, 82, 163, 215, 215, 165, 215], [162, 61, 215, 164, 215, 165, 215, 215], [62, 76, 166, 67, 215, 75, 70, 215], [166, 215, 64, 68, 215, 63, 66, 215], [66, 215, 65, 69, 215, 215, 167, 215], [68, 215, 67, 166, 215, 215, 168, 215], [168, 215, 147, 167, 215, 85, 69, 215], [71, 215, 70, 73, 215, 215, 169, 215], [169, 215, 148, 74, 215, 89, 72, 215], [74, 170, 168, 169, 215, 92, 73, 215], [215, 75, 215, 80, 215, 172, 86, 215], [77, 172, 215, 81, 215, 76, 87, 215], [172, 77, 163, 82, 215, 215, 152, 215], [163, 79, 173, 83, 215, 78, 159, 215], [215, 173, 79, 84, 215, 215, 155, 215], [174, 215, 160, 85, 215, 167, 215, 215], [82, 81, 175, 172, 215, 80, 90, 215], [175, 84, 83, 173, 215, 215, 157, 215], [85, 176, 92, 174, 215, 168, 215, 215], [158, 87, 177, 90, 215, 86, 172, 215], [177, 88, 159, 91, 215, 215, 154, 215], [89, 178, 174, 92, 215, 169, 215, 215], [91, 215, 90, 177, 215, 215, 179, 215], [215, 92, 176, 178, 215, 179, 215, 215], [154, 215, 152, 93, 215, 215, 180, 215], [179, 171, 165, 180, 215, 215, 93, 215], [95, 215, 94, 96, 215, 215, 181, 215], [98, 182, 126, 181, 215, 118, 96, 215], [181, 183, 128, 98, 215, 119, 97, 215], [182, 98, 215, 183, 215, 184, 215, 215], [101, 99, 215, 107, 215, 185, 215, 215], [102, 185, 215, 108, 215, 100, 113, 215], [185, 102, 144, 109, 215, 101, 132, 215], [215, 103, 104, 110, 215, 186, 215, 215], [144, 106, 186, 111, 215, 104, 140, 215], [215, 186, 106, 112, 215, 105, 134, 215], [109, 108, 187, 185, 215, 107, 116, 215], [187, 112, 111, 186, 215, 110, 137, 215], [139, 113, 188, 116, 215, 215, 185, 215], [188, 115, 140, 117, 215, 114, 133, 215], [119, 189, 135, 118, 215, 181, 215, 215], [117, 215, 116, 188, 215, 215, 190, 215], [121, 118, 215, 189, 215, 190, 215, 215], [133, 215, 132, 120, 215, 215, 191, 215], [189, 119, 215, 121, 215, 191, 215, 215], [190, 184, 145, 191, 215, 121, 120, 215], [123, 215, 122, 125, 215, 215, 192, 215], [192, 215, 181, 126, 215, 135, 124, 215], [126, 193, 129, 192, 215, 138, 125, 215], [128, 194, 192, 129, 215, 141, 127, 215], [215, 129, 193, 194, 215, 195, 215, 215], [195, 145, 184, 196, 215, 215, 215, 215], [132, 131, 197, 136, 215, 130, 139, 215], [197, 134, 133, 137, 215, 215, 186, 215], [135, 198, 141, 138, 215, 192, 215, 215], [137, 215, 136, 197, 215, 215, 199, 215], [215, 138, 143, 198, 215, 199, 215, 215], [140, 215, 139, 142, 215, 215, 200, 215], [215, 141, 198, 143, 215, 200, 215, 215], [145, 195, 199, 200, 215, 143, 142, 215], [200, 196, 191, 145, 215, 215, 144, 215], [148, 201, 167, 147, 215, 160, 146, 215], [149, 147, 215, 201, 215, 202, 215, 215], [201, 148, 215, 149, 215, 203, 215, 215], [202, 165, 171, 203, 215, 149, 215, 215], [152, 151, 204, 156, 215, 150, 158, 215], [204, 155, 154, 157, 215, 153, 173, 215], [157, 215, 156, 204, 215, 215, 205, 215], [159, 215, 158, 161, 215, 215, 206, 215], [164, 160, 215, 162, 215, 206, 215, 215], [165, 202, 205, 206, 215, 162, 161, 215], [206, 203, 180, 165, 215, 164, 163, 215], [167, 207, 169, 168, 215, 174, 166, 215], [215, 168, 170, 207, 215, 208, 215, 215], [215, 169, 207, 170, 215, 209, 215, 215], [171, 179, 208, 209, 215, 170, 215, 215], [209, 180, 203, 171, 215, 215, 215, 215], [173, 215, 172, 175, 215, 215, 210, 215], [215, 174, 178, 176, 215, 210, 215, 215], [205, 208, 179, 210, 215, 176, 175, 215], [180, 209, 210, 179, 215, 178, 177, 215], [183, 181, 215, 182, 215, 212, 215, 215], [184, 190, 211, 212, 215, 182, 215, 215], [212, 191, 196, 184, 215, 183, 215, 215], [186, 215, 185, 187, 215, 215, 213, 215], [199, 211, 190, 213, 215, 215, 187, 215], [191, 212, 213, 190, 215, 189, 188, 215], [215, 192, 194, 193, 215, 214, 215, 215], [211, 199, 195, 214, 215, 193, 215, 215], [196, 200, 214, 195, 215, 194, 215, 215], [213, 214, 200, 199, 215, 198, 197, 215], [208, 205, 202, 215, 215, 215, 215, 215], [203, 206, 215, 202, 215, 201, 215, 215], [210, 215, 206, 205, 215, 215, 204, 215], [215, 210, 209, 208, 215, 207, 215, 215], [214, 213, 212, 211, 215, 215, 215, 215]]
def ap_Bq2 : List (List Int) := [[2, 1, 0], [1, 3, 0], [1, 1, 0], [0, 0, 2], [0, 0, -2], [1, 0, 0], [0, 1, 0], [0, 0, 1]]
def ap_Iq2 : List (Nat × Nat) := [(0, 4)]
def ap_Tq2 : List (List Nat) := [[1, 1, 1, 1, 1, 1, 1, 1], [1, 1, 1, 1, 0, 1, 1, 1]]
def ap_Bq3 : List (List Int) := [[2, 1, 0], [1, 3, 0], [1, 1, 0], [0, 0, 2], [0, 0, -2], [1, 0, 0], [0, 1, 0], [0, 0, 1]]
def ap_Iq3 : List (Nat × Nat) := [(0, 4)]
def ap_Tq3 : List (List Nat) := [[1, 1, 1, 1, 1, 1, 1, 1], [1, 1, 1, 1, 0, 1, 1, 1]]
def ap_Bq4 : List (List Int) := [[-2, 1, 0], [-1, 3, 0], [-1, 1, 0], [0, 0, -1], [1, 0, 0], [0, 1, 0], [0, 0, 1]]
def ap_Iq4 : List (Nat × Nat) := [(0, 0), (1, 1), (2, 2), (3, 3), (3, 1), (4, 2), (5, 3), (5, 0), (6, 2), (7, 3), (7, 0), (8, 1), (9, 3), (8, 0), (9, 2), (10, 3), (10, 0), (11, 1), (12, 3), (11, 2), (12, 3), (12, 0), (13, 1), (14, 3), (13, 1), (14, 3), (14, 0), (15, 3), (14, 2), (15, 3), (15, 0), (16, 1), (17, 3), (16, 1), (17, 3), (17, 0), (18, 3), (17, 3), (16, 3), (16, 3), (15, 3), (14, 3), (13, 3), (12, 3), (12, 3), (11, 3), (10, 3)]
def ap_Tq4 : List (List Nat) := [[10, 9, 5, 11, 47, 47, 47], [9, 12, 8, 13, 47, 47, 47], [7, 14, 10, 15, 47, 47, 47], [14, 8, 6, 16, 47, 47, 47], [6, 5, 17, 18, 47, 47, 47], [19, 4, 0, 20, 47, 47, 47], [4, 21, 3, 22, 47, 47, 47], [2, 23, 19, 24, 47, 47, 47], [23, 3, 1, 25, 47, 47, 47], [1, 0, 26, 27, 47, 47, 47], [0, 28, 2, 29, 47, 47, 47], [29, 27, 20, 0, 47, 47, 47], [28, 1, 21, 30, 47, 47, 47], [27, 30, 25, 1, 47, 47, 47], [3, 2, 31, 32, 47, 47, 47], [24, 32, 29, 2, 47, 47, 47], [32, 25, 22, 3, 47, 47, 47], [31, 26, 4, 33, 47, 47, 47], [22, 20, 33, 4, 47, 47, 47], [5, 34, 7, 35, 47, 47, 47], [35, 18, 11, 5, 47, 47, 47], [34, 6, 12, 36, 47, 47, 47], [18, 36, 16, 6, 47, 47, 47], [8, 7, 37, 38, 47, 47, 47], [15, 38, 35, 7, 47, 47, 47], [38, 16, 13, 8, 47, 47, 47], [37, 17, 9, 39, 47, 47, 47], [13, 11, 39, 9, 47, 47, 47], [12, 10, 40, 41, 47, 47, 47], [11, 41, 15, 10, 47, 47, 47], [41, 13, 36, 12, 47, 47, 47], [17, 40, 14, 42, 47, 47, 47], [16, 15, 42, 14, 47, 47, 47], [42, 39, 18, 17, 47, 47, 47], [21, 19, 43, 44, 47, 47, 47], [20, 44, 24, 19, 47, 47, 47], [44, 22, 30, 21, 47, 47, 47], [26, 43, 23, 45, 47, 47, 47], [25, 24, 45, 23, 47, 47, 47], [45, 33, 27, 26, 47, 47, 47], [43, 31, 28, 46, 47, 47, 47], [30, 29, 46, 28, 47, 47, 47], [33, 46, 32, 31, 47, 47, 47], [40, 37, 34, 47, 47, 47, 47], [36, 35, 47, 34, 47, 47, 47], [39, 47, 38, 37, 47, 47, 47], [47, 42, 41, 40, 47, 47, 47], [46, 45, 44, 43, 47, 47, 47]]
def ap_Bq5 : List (List Int) := [[-2, -1, 0], [-1, -3, 0], [-1, -1, 0], [0, 0, 1], [1, 0, 0], [0, 1, 0], [0, 0, 1]]
def ap_Iq5 : List (Nat × Nat) := [(0, 0), (1, 1), (2, 2), (2, 1), (3, 2), (4, 4), (4, 2), (5, 5), (5, 0), (6, 4), (6, 2), (7, 4), (8, 5), (8, 0), (9, 4), (9, 1), (9, 0), (10, 4), (11, 5), (11, 0), (12, 2), (12, 4), (12, 1), (12, 0), (13, 4), (14, 5), (14, 1), (14, 0), (15, 2), (14, 1), (14, 0), (15, 5), (15, 4), (16, 5), (16, 1), (16, 0), (17, 2), (17, 1), (18, 2), (19, 4), (19, 0), (20, 1), (21, 4), (21, 1), (21, 5), (21, 5), (21, 1), (21, 0), (22, 2), (22, 0), (22, 1), (23, 2), (23, 0), (24, 1), (25, 4), (25, 0), (26, 5), (26, 5), (26, 0), (27, 2), (27, 1), (25, 1), (26, 4), (26, 1), (26, 2), (27, 4), (27, 4), (27, 1), (27, 1), (28, 4), (28, 4), (28, 1), (28, 5), (28, 0), (29, 2), (28, 0), (28, 1), (28, 1), (29, 4), (28, 2), (28, 4), (28, 1), (28, 4), (28, 1), (28, 5), (28, 0), (29, 2), (29, 0), (30, 2), (30, 2), (31, 4), (31, 0), (30, 4), (30, 1), (29, 4), (28, 1), (27, 4), (27, 1), (26, 5), (21, 4), (21, 1), (21, 4), (21, 1), (19, 0), (19, 0), (20, 2), (20, 4)]
def ap_Tq5 : List (List Nat) := [[107, 107, 13, 107, 21, 11, 107], [18, 10, 22, 107, 9, 15, 107], [22, 12, 19, 107, 11, 21, 107], [23, 107, 107, 107, 15, 9, 107], [107, 26, 16, 107, 17, 13, 107], [107, 17, 107, 107, 27, 14, 107], [8, 28, 107, 107, 20, 23, 107], [107, 20, 107, 107, 29, 24, 107], [6, 107, 107, 107, 32, 35, 107], [35, 37, 107, 107, 1, 3, 107], [36, 1, 107, 107, 38, 107, 107], [107, 40, 39, 107, 2, 0, 107], [107, 2, 41, 107, 42, 107, 107], [107, 44, 0, 107, 33, 4, 107], [107, 33, 107, 107, 45, 5, 107], [47, 107, 34, 107, 3, 1, 107], [107, 107, 4, 107, 48, 39, 107], [34, 5, 48, 107, 4, 33, 107], [1, 36, 49, 107, 35, 32, 107], [49, 41, 2, 107, 39, 48, 107], [32, 7, 50, 107, 6, 47, 107], [50, 107, 33, 107, 0, 2, 107], [2, 107, 1, 107, 107, 51, 107], [3, 52, 107, 107, 47, 6, 107], [107, 47, 107, 107, 53, 7, 107], [53, 54, 107, 107, 107, 38, 107], [107, 4, 107, 107, 55, 44, 107], [107, 55, 56, 107, 5, 45, 107], [107, 6, 107, 107, 58, 52, 107], [43, 58, 107, 107, 7, 53, 107], [107, 59, 45, 107, 107, 42, 107], [60, 107, 46, 107, 51, 107, 107], [20, 107, 62, 107, 8, 18, 107], [62, 14, 21, 107, 13, 17, 107], [17, 107, 15, 107, 107, 63, 107], [9, 64, 107, 107, 18, 8, 107], [10, 18, 107, 107, 65, 107, 107], [64, 9, 107, 107, 66, 107, 107], [65, 66, 107, 107, 10, 25, 107], [107, 67, 11, 107, 19, 16, 107], [107, 11, 67, 107, 68, 107, 107], [107, 19, 12, 107, 69, 107, 107], [107, 68, 69, 107, 12, 30, 107], [29, 70, 107, 107, 107, 65, 107], [107, 13, 107, 107, 71, 26, 107], [107, 71, 30, 107, 14, 27, 107], [72, 74, 31, 107, 63, 107, 107], [15, 24, 75, 107, 23, 20, 107], [75, 107, 17, 107, 16, 19, 107], [19, 107, 18, 107, 107, 76, 107], [21, 107, 20, 107, 107, 77, 107], [77, 107, 63, 107, 31, 22, 107], [107, 23, 107, 107, 78, 28, 107], [25, 78, 107, 107, 24, 29, 107], [78, 25, 73, 107, 107, 66, 107], [73, 27, 79, 107, 26, 71, 107], [107, 79, 27, 107, 107, 69, 107], [80, 107, 72, 107, 76, 107, 107], [70, 29, 81, 107, 28, 78, 107], [81, 30, 71, 107, 107, 68, 107], [31, 82, 80, 107, 77, 107, 107], [68, 107, 66, 107, 107, 83, 107], [33, 107, 32, 107, 107, 84, 107], [84, 85, 51, 107, 46, 34, 107], [37, 35, 107, 107, 86, 107, 107], [38, 86, 107, 107, 36, 43, 107], [86, 38, 61, 107, 37, 54, 107], [107, 39, 40, 107, 87, 107, 107], [61, 42, 87, 107, 40, 59, 107], [107, 87, 42, 107, 41, 56, 107], [58, 43, 88, 107, 107, 86, 107], [88, 45, 59, 107, 44, 55, 107], [46, 89, 57, 107, 84, 107, 107], [55, 107, 54, 107, 107, 90, 107], [89, 46, 107, 107, 90, 107, 107], [48, 107, 47, 107, 107, 91, 107], [91, 107, 84, 107, 57, 49, 107], [51, 92, 91, 107, 60, 50, 107], [54, 53, 94, 107, 52, 58, 107], [94, 56, 55, 107, 107, 87, 107], [57, 95, 60, 107, 91, 107, 107], [59, 107, 58, 107, 107, 96, 107], [107, 60, 95, 107, 96, 107, 107], [96, 93, 90, 107, 107, 61, 107], [63, 97, 76, 107, 72, 62, 107], [97, 63, 107, 107, 98, 107, 107], [66, 65, 99, 107, 64, 70, 107], [99, 69, 68, 107, 67, 79, 107], [71, 107, 70, 107, 107, 100, 107], [74, 72, 107, 107, 100, 107, 107], [100, 98, 83, 107, 74, 73, 107], [76, 101, 77, 107, 80, 75, 107], [107, 77, 101, 107, 102, 107, 107], [102, 83, 98, 107, 107, 107, 107], [79, 107, 78, 107, 107, 103, 107], [107, 80, 82, 107, 103, 107, 107], [83, 102, 103, 107, 82, 81, 107], [85, 84, 107, 107, 104, 107, 107], [104, 90, 93, 107, 85, 107, 107], [87, 107, 86, 107, 107, 105, 107], [90, 104, 105, 107, 89, 88, 107], [107, 91, 92, 107, 106, 107, 107], [93, 96, 106, 107, 92, 107, 107], [105, 106, 96, 107, 95, 94, 107], [98, 100, 107, 107, 97, 107, 107], [103, 107, 100, 107, 107, 99, 107], [107, 103, 102, 107, 101, 107, 107], [106, 105, 104, 107, 107, 107, 107]]
set_option maxRecDepth 100000 in
theorem ap_dc1_0 : ap_dc 8 ap_Bq1 [-3, -4, -1] [-1, -1, -1] ap_Iq1 ap_Tq1 (0 * 27) 27 216 = true := by decide +kernel
set_option maxRecDepth 100000 in
theorem ap_dc1_1 : ap_dc 8 ap_Bq1 [-3, -4, -1] [-1, -1, -1] ap_Iq1 ap_Tq1 (1 * 27) 27 216 = true := by decide +kernel
set_option maxRecDepth 100000 in
theorem ap_dc1_2 : ap_dc 8 ap_Bq1 [-3, -4, -1] [-1, -1, -1] ap_Iq1 ap_Tq1 (2 * 27) 27 216 = true := by decide +kernel
set_option maxRecDepth 100000 in
theorem ap_dc1_3 : ap_dc 8 ap_Bq1 [-3, -4, -1] [-1, -1, -1] ap_Iq1 ap_Tq1 (3 * 27) 27 216 = true := by decide +kernel
set_option maxRecDepth 100000 in
theorem ap_dc1_4 : ap_dc 8 ap_Bq1 [-3, -4, -1] [-1, -1, -1] ap_Iq1 ap_Tq1 (4 * 27) 27 216 = true := by decide +kernel
set_option maxRecDepth 100000 in
theorem ap_dc1_5 : ap_dc 8 ap_Bq1 [-3, -4, -1] [-1, -1, -1] ap_Iq1 ap_Tq1 (5 * 27) 27 216 = true := by decide +kernel
set_option maxRecDepth 100000 in
theorem ap_dc1_6 : ap_dc 8 ap_Bq1 [-3, -4, -1] [-1, -1, -1] ap_Iq1 ap_Tq1 (6 * 27) 27 216 = true := by decide +kernel
set_option maxRecDepth 100000 in
theorem ap_dc1_7 : ap_dc 8 ap_Bq1 [-3, -4, -1] [-1, -1, -1] ap_Iq1 ap_Tq1 (7 * 27) 27 216 = true := by decide +kernel
set_option maxRecDepth 100000 in
theorem ap_dc2_0 : ap_dc 8 ap_Bq2 [0, 0, -1] [1, 1, 1] ap_Iq2 ap_Tq2 (0 * 2) 2 2 = true := by decide +kernel
set_option maxRecDepth 100000 in
theorem ap_dc3_0 : ap_dc 8 ap_Bq3 [-1, 0, 0] [1, 1, 1] ap_Iq3 ap_Tq3 (0 * 2) 2 2 = true := by decide +kernel
set_option maxRecDepth 100000 in
theorem ap_dc4_0 : ap_dc 7 ap_Bq4 [-1, 0, 0] [-1, 1, 1] ap_Iq4 ap_Tq4 (0 * 24) 24 48 = true := by decide +kernel
set_option maxRecDepth 100000 in
theorem ap_dc4_1 : ap_dc 7 ap_Bq4 [-1, 0, 0] [-1, 1, 1] ap_Iq4 ap_Tq4 (1 * 24) 24 48 = true := by decide +kernel
set_option maxRecDepth 100000 in
theorem ap_dc5_0 : ap_dc 7 ap_Bq5 [-3, -4, -1] [-1, -1, -1] ap_Iq5 ap_Tq5 (0 * 27) 27 108 = true := by decide +kernel
set_option maxRecDepth 100000 in
theorem ap_dc5_1 : ap_dc 7 ap_Bq5 [-3, -4, -1] [-1, -1, -1] ap_Iq5 ap_Tq5 (1 * 27) 27 108 = true := by decide +kernel
set_option maxRecDepth 100000 in
theorem ap_dc5_2 : ap_dc 7 ap_Bq5 [-3, -4, -1] [-1, -1, -1] ap_Iq5 ap_Tq5 (2 * 27) 27 108 = true := by decide +kernel
set_option maxRecDepth 100000 in
theorem ap_dc5_3 : ap_dc 7 ap_Bq5 [-3, -4, -1] [-1, -1, -1] ap_Iq5 ap_Tq5 (3 * 27) 27 108 = true := by decide +kernel
theorem ap_cl1 : ∃ L, ap_N0 8 ap_Bq1 [-3, -4, -1] [-1, -1, -1] ∈ L ∧ ap_Cl 8 ap_Bq1 [-3, -4, -1] L :=
  ap_dc_out (l := ap_Iq1) (T := ap_Tq1) (c := 27) (m := 216) (p := 8) (by decide) (by decide) (by decide) (by decide) (fun j hj => by
    have e : j = 0 ∨ j = 1 ∨ j = 2 ∨ j = 3 ∨ j = 4 ∨ j = 5 ∨ j = 6 ∨ j = 7 := by omega
    rcases e with e | e | e | e | e | e | e | e
    · subst e; exact ap_dc1_0
    · subst e; exact ap_dc1_1
    · subst e; exact ap_dc1_2
    · subst e; exact ap_dc1_3
    · subst e; exact ap_dc1_4
    · subst e; exact ap_dc1_5
    · subst e; exact ap_dc1_6
    · subst e; exact ap_dc1_7)
theorem ap_cl2 : ∃ L, ap_N0 8 ap_Bq2 [0, 0, -1] [1, 1, 1] ∈ L ∧ ap_Cl 8 ap_Bq2 [0, 0, -1] L :=
  ap_dc_out (l := ap_Iq2) (T := ap_Tq2) (c := 2) (m := 2) (p := 1) (by decide) (by decide) (by decide) (by decide) (fun j hj => by
    have e : j = 0 := by omega
    subst e
    exact ap_dc2_0)
theorem ap_cl3 : ∃ L, ap_N0 8 ap_Bq3 [-1, 0, 0] [1, 1, 1] ∈ L ∧ ap_Cl 8 ap_Bq3 [-1, 0, 0] L :=
  ap_dc_out (l := ap_Iq3) (T := ap_Tq3) (c := 2) (m := 2) (p := 1) (by decide) (by decide) (by decide) (by decide) (fun j hj => by
    have e : j = 0 := by omega
    subst e
    exact ap_dc3_0)
theorem ap_cl4 : ∃ L, ap_N0 7 ap_Bq4 [-1, 0, 0] [-1, 1, 1] ∈ L ∧ ap_Cl 7 ap_Bq4 [-1, 0, 0] L :=
  ap_dc_out (l := ap_Iq4) (T := ap_Tq4) (c := 24) (m := 48) (p := 2) (by decide) (by decide) (by decide) (by decide) (fun j hj => by
    have e : j = 0 ∨ j = 1 := by omega
    rcases e with e | e
    · subst e; exact ap_dc4_0
    · subst e; exact ap_dc4_1)
theorem ap_cl5 : ∃ L, ap_N0 7 ap_Bq5 [-3, -4, -1] [-1, -1, -1] ∈ L ∧ ap_Cl 7 ap_Bq5 [-3, -4, -1] L :=
  ap_dc_out (l := ap_Iq5) (T := ap_Tq5) (c := 27) (m := 108) (p := 4) (by decide) (by decide) (by decide) (by decide) (fun j hj => by
    have e : j = 0 ∨ j = 1 ∨ j = 2 ∨ j = 3 := by omega
    rcases e with e | e | e | e
    · subst e; exact ap_dc5_0
    · subst e; exact ap_dc5_1
    · subst e; exact ap_dc5_2
    · subst e; exact ap_dc5_3)
end
section
/-! the answer from the side of the worth -/
theorem ap_tv : ∀ tv, tv < 8 → ∀ i, i < 3 → (Nat.testBit tv i = false → nI (tv % 2 ^ i) ||| 0 = nI (tv % 2 ^ (i + 1))) ∧ (Nat.testBit tv i = true → nI (tv % 2 ^ i) ||| ((1 : Int32) <<< (nI i &&& 31)) = nI (tv % 2 ^ (i + 1))) := by decide +kernel
section
variable {qpr : Int32} {qwo : Int32} {qrw : Int32} {qtu : Int32} {qun : Int64} {qco : Int32} {qfw : Int32} {qwc : Int32} {qwt : Int64} {qwb : Int64} {qln : Int32} {qem : Int32} {qhh : Int32} {qht : Int64} {qhb : Int64} {qhl : Int32} {qlt : Int64} {qlb : Int64} {qbr : Int32} {ql3 : Int32} {qg3 : Int32} {a1 : Nat → Int32} {a2 : Nat → Int32} {a3 : Nat → Int32} {a4 : Nat → Int32} {a5 : Nat → Int32} {a6 : Nat → Int32} {a7 : Nat → Int32} {a8 : Nat → Int32} {a9 : Nat → Int32} {a10 : Nat → Int64} {a11 : Nat → Int32} {a12 : Nat → Int32} {a13 : Nat → Int64} {a14 : Nat → Int64} {a15 : Nat → Int64} {a16 : Nat → Int64} {a17 : Nat → Int64} {a18 : Nat → Int32} {a19 : Nat → Int32}
variable {n : Nat} {P : Nat} {num : Nat → Nat → Int} {kind bnd lo hi asked : Nat → Int} {tu : Nat → Bool} {wo : Int} {A : List (List Int)} {cv sv : List Int} {β : Nat → Int}
theorem ap_sw53 {post : Int32 → St2 → Prop} {L : List ap_N} (hC : ap_Cl n A cv L) (hβ : ∀ j, j < n + 4 → -4096 ≤ β j ∧ β j ≤ 4096) (hn : n ≤ 16) (hrw : qrw = nI n) (hfw : qfw = nI n) (hwc : qwc = nI 4) (hco : qco = nI 3)
    (hlo : ∀ i, i < 3 → a5 i = ap_i (lo i) ∧ -128 ≤ lo i ∧ lo i ≤ 127) (hhi : ∀ i, i < 3 → a6 i = ap_i (hi i) ∧ -128 ≤ hi i ∧ hi i ≤ 127)
    (htu : ∀ i, i < 3 → (((qtu >>> (nI i &&& 31)) &&& 1) = 0 ↔ tu i = false))
    (H1 : ∀ (u W : Int) (X : Nat → Int) (qun' : Int64) (a10' : Nat → Int64) (a11' : Nat → Int32) (a12' : Nat → Int32) (a13' : Nat → Int64), ap_lpr n A cv β u W X → (∀ i, i < 3 → a13' i = ap_l (if tu i = true then hi i * u - X i else lo i * u + X i)) → post 1 (qpr, qwo, qrw, qtu, qun', qco, qfw, qwc, ap_l W, ap_l u, qln, qem, qhh, qht, qhb, qhl, qlt, qlb, qbr, ql3, qg3, a1, a2, a3, a4, a5, a6, a7, a8, a9, a10', a11', a12', a13', a14, a15, a16, a17, a18, a19))
    (H0 : (∀ s x0 x1 x2, 0 < s → ¬ ap_fe n A β s x0 x1 x2) → ∀ (qun' : Int64) (a10' : Nat → Int64) (a11' : Nat → Int32) (a12' : Nat → Int32), post 0 (qpr, qwo, qrw, qtu, qun', qco, qfw, qwc, qwt, qwb, qln, qem, qhh, qht, qhb, qhl, qlt, qlb, qbr, ql3, qg3, a1, a2, a3, a4, a5, a6, a7, a8, a9, a10', a11', a12', a13, a14, a15, a16, a17, a18, a19)) :
    ∀ (q : Nat) (N : ap_N) (i : Nat) (qun : Int64) (a10 : Nat → Int64) (a11 a12 : Nat → Int32), N ∈ L → ap_mu n (ap_v (n + 4) β) L N < q → i + q ≤ 100000 → ap_Mt N n (n + 4) 3 (ap_v (n + 4) β) qun a10 a11 a12 → wX_solveByWorth_53 post q (nI i) qpr qwo qrw qtu qun qco qfw qwc qwt qwb qln qem qhh qht qhb qhl qlt qlb qbr ql3 qg3 a1 a2 a3 a4 a5 a6 a7 a8 a9 a10 a11 a12 a13 a14 a15 a16 a17 a18 a19
  | 0, N, i, qun, a10, a11, a12, _, hm, _, _ => absurd hm (Nat.not_lt_zero _)
  | q + 1, N, i, qun, a10, a11, a12, hN, hm, hi', hM => by
    have hv := ap_v_bd (K := n + 4) (by decide) hβ
    obtain ⟨ho, hct, hS, hcl⟩ := hC.2 N hN
    refine pk_le 100000 i (fun z => absurd z (by omega)) (fun _ => ?_)
    refine ap_broken hM.2.1 ho hv (by omega) (by omega) hn (by omega) hrw (fun hR => ?_) (fun b hb hR => ?_)
    · refine br_f (by decide) ?_
      refine ap_readOff hM ho (by omega) (by omega) hn (by omega) hrw hfw hlo hhi htu (fun t13 h13 => ?_)
      exact H1 _ _ _ _ _ _ _ _ (ap_lpr_of hct ho hβ hR) h13
    · refine br_t (nI_pos' (by omega)) ?_
      have hlc := ap_lc_lt N n 4 b 3
      refine pk_loop (fun g c s => wX_solveByWorth_79 post (wX_solveByWorth_53 post q) (nI i) (nI b) qpr qwo qrw qtu qun qco qfw qwc qwt qwb qln qem qhh qht qhb qhl qlt qlb qbr ql3 qg3 a1 a2 a3 a4 a5 a6 a7 a8 a9 a10 a11 a12 a13 a14 a15 a16 a17 a18 a19 g s (nI c)) (fun c s => s = ap_i (ap_lc N n 4 b c)) 3 0 (-1) (by omega) rfl ?_ ?_
      · intro g s hs
        subst hs
        refine pk_le 3 3 (fun _ => ?_) (fun z => absurd z (by omega)) hco
        refine ap_ile 0 (ap_lc N n 4 b 3) rfl rfl (fun z => ?_) (fun z => ?_)
        · obtain ⟨c, hc⟩ : ∃ c : Nat, ap_lc N n 4 b 3 = c := ⟨(ap_lc N n 4 b 3).toNat, by omega⟩
          have h2 := (hcl b hb).2 (by omega)
          have h3 := hlc.2.2 z
          rw [hc] at h2 h3 hlc
          have hc2 : ((c : Int)).toNat = c := by omega
          rw [hc2] at h2 h3
          rw [hc, ← ap_i_nat]
          refine ap_exchange hM ho hv hb hn (by omega) (by omega) (by omega) (by omega) hco (by rw [hfw, hwc, nI_add]) h2.1 (fun un' t' rn' cn' hM' => ?_)
          have hmu := ap_mu_lt (v := ap_v (n + 4) β) hC hN h2.2 hb (by omega) h2.1 h3 hR
          exact nm_r (nI_1 i) (ap_sw53 hC hβ hn hrw hfw hwc hco hlo hhi htu H1 H0 q _ (i + 1) un' t' rn' cn' h2.2 (by omega) (by omega) hM')
        · refine H0 (fun s x0 x1 x2 hs hf => ?_) _ _ _ _
          have h2 := ap_nn_out ((hcl b hb).1 z) hs hf
          have h3 : ap_R N 3 (ap_v (n + 4) β) b = ap_sum (fun j => ap_co N 3 b j * β j) (n + 4) := ap_R_lin _ _ _ _ _
          omega
      · intro g c s hc hs hs2
        subst hs
        refine pk_le 3 c (fun z => absurd z (by omega)) (fun _ => ?_) hco
        refine ap_cell (by omega) ?_
        rw [hM.2.1 b (by omega) c (Or.inl hc), ap_Ft _ _ _ _ (by omega)]
        have bt := ho.2.2.2.2.1 b (by omega) c hc
        have hl := ap_lc_lt N n 4 b c
        refine ap_lle 0 (ap_t N b c) rfl rfl (fun z => nm_r (nI_1 c) (hs2 _ ?_)) (fun z => ?_)
        · rw [ap_lc_succ, if_neg (fun y => by have := y.1; omega)]
        · refine ap_ilt (ap_lc N n 4 b c) 0 rfl rfl (fun z2 => nm_r (nI_1 c) (hs2 _ ?_)) (fun z2 => ?_)
          · rw [ap_lc_succ, if_pos ⟨z, Or.inl z2⟩, ap_i_nat]
          · obtain ⟨d, hd⟩ : ∃ d : Nat, ap_lc N n 4 b c = d := ⟨(ap_lc N n 4 b c).toNat, by omega⟩
            have hd2 : ((d : Int)).toNat = d := by omega
            rw [hd] at hl
            rw [ap_lc_succ, hd, hd2] at hs2
            rw [hd, ← ap_i_nat]
            refine ap_loses (f := n) (k := 4) hM ho (by omega) (by omega) (by omega) hfw hwc hc (by omega) (by omega) (ap_b0 (fun z3 => nm_r (nI_1 c) (hs2 _ ?_)) (fun z3 => nm_r (nI_1 c) (hs2 _ ?_)))
            · rw [if_neg (by rw [z3]; intro y; rcases y.2 with y | y
                             · omega
                             · exact Bool.noConfusion y), ap_i_nat]
            · rw [if_pos ⟨z, Or.inr z3⟩, ap_i_nat]
theorem ap_solve1 {post : Int32 → St2 → Prop} {tv : Nat} (htv : tv < 8) (hD : ap_dat P num kind bnd qpr a1 a2 a3) (hwo : qwo = ap_i wo) (hwb : -1 ≤ wo ∧ wo ≤ 5)
    (hlo : ∀ i, i < 3 → a5 i = ap_i (lo i) ∧ -128 ≤ lo i ∧ lo i ≤ 127) (hhi : ∀ i, i < 3 → a6 i = ap_i (hi i) ∧ -128 ≤ hi i ∧ hi i ≤ 127) (has : ∀ i, i < 3 → a7 i = ap_i (asked i) ∧ -8 ≤ asked i ∧ asked i ≤ 8)
    (htb : ∀ i, i < 3 → (Nat.testBit tv i = false ↔ asked i ≤ 0))
    (hlen : (ap_pl P kind wo 5).length + 3 = n) (hA : ∀ r, r < n → ∀ i, i < 3 → ap_A A r i = ap_mx (Nat.testBit tv) num (ap_pl P kind wo 5) r i)
    (hcv : ∀ i, i < 3 → cv.getD i 0 = if Nat.testBit tv i = true then - asked i else asked i) (hsv : ∀ i, i < 3 → sv.getD i 0 = if Nat.testBit tv i = true then -1 else 1) (hdc : ∃ L, ap_N0 n A cv sv ∈ L ∧ ap_Cl n A cv L)
    (H1 : ∀ (u W : Int) (X : Nat → Int) (qrw' : Int32) (qtu' : Int32) (qun' : Int64) (qco' : Int32) (qfw' : Int32) (qwc' : Int32) (a8' : Nat → Int32) (a9' : Nat → Int32) (a10' : Nat → Int64) (a11' : Nat → Int32) (a12' : Nat → Int32) (a13' : Nat → Int64), ap_lpr n A cv (ap_be (Nat.testBit tv) num bnd lo hi asked (ap_pl P kind wo 5)) u W X → (∀ i, i < 3 → a13' i = ap_l (if Nat.testBit tv i = true then hi i * u - X i else lo i * u + X i)) → post 1 (qpr, qwo, qrw', qtu', qun', qco', qfw', qwc', ap_l W, ap_l u, qln, qem, qhh, qht, qhb, qhl, qlt, qlb, qbr, ql3, qg3, a1, a2, a3, a4, a5, a6, a7, a8', a9', a10', a11', a12', a13', a14, a15, a16, a17, a18, a19))
    (H0 : (∀ s x0 x1 x2, 0 < s → ¬ ap_fe n A (ap_be (Nat.testBit tv) num bnd lo hi asked (ap_pl P kind wo 5)) s x0 x1 x2) → ∀ (qrw' : Int32) (qtu' : Int32) (qun' : Int64) (qco' : Int32) (qfw' : Int32) (qwc' : Int32) (a8' : Nat → Int32) (a9' : Nat → Int32) (a10' : Nat → Int64) (a11' : Nat → Int32) (a12' : Nat → Int32), post 0 (qpr, qwo, qrw', qtu', qun', qco', qfw', qwc', qwt, qwb, qln, qem, qhh, qht, qhb, qhl, qlt, qlb, qbr, ql3, qg3, a1, a2, a3, a4, a5, a6, a7, a8', a9', a10', a11', a12', a13, a14, a15, a16, a17, a18, a19)) :
    wpX_solveByWorth post (qpr, qwo, qrw, qtu, qun, qco, qfw, qwc, qwt, qwb, qln, qem, qhh, qht, qhb, qhl, qlt, qlb, qbr, ql3, qg3, a1, a2, a3, a4, a5, a6, a7, a8, a9, a10, a11, a12, a13, a14, a15, a16, a17, a18, a19) := by
  have hbd := ap_be_bd (tu := Nat.testBit tv) (wo := wo) hD (fun i h => (hlo i h).2) (fun i h => (hhi i h).2) (fun i h => (has i h).2)
  have hl := ap_pl_len P kind wo 5
  rw [hlen] at hbd
  obtain ⟨L, hN0, hC⟩ := hdc
  unfold wpX_solveByWorth
  refine pk_loop (fun q i s => wX_solveByWorth_7 post qpr qwo qrw qun qco qfw qwc qwt qwb qln qem qhh qht qhb qhl qlt qlb qbr ql3 qg3 a1 a2 a3 a4 a5 a6 a7 a8 a9 a10 a11 a12 a13 a14 a15 a16 a17 a18 a19 q (nI i) s) (fun i s => s = nI (tv % 2 ^ i)) 3 0 0 (by omega) (by rw [Nat.pow_zero, Nat.mod_one]; rfl) ?_ ?_
  · intro q s hs
    subst hs
    refine pk_le 3 3 (fun _ => ?_) (fun z => absurd z (by omega))
    have e8 : tv % 2 ^ 3 = tv := Nat.mod_eq_of_lt htv
    rw [e8]
    have htu : ∀ i, i < 3 → (((nI tv >>> (nI i &&& 31)) &&& 1) = 0 ↔ Nat.testBit tv i = false) := fun i h => ap_bits tv (by omega) i (by omega)
    refine ap_start (sv := sv) hD hwo hwb hlo hhi has htu hlen hA hcv hsv (fun b8 b9 b10 b11 b12 m1 m2 => ?_)
    have hmb := ap_cnt_bd (p := fun M => decide (ap_ph n (ap_v (n + 4) (ap_be (Nat.testBit tv) num bnd lo hi asked (ap_pl P kind wo 5))) M * (ap_N0 n A cv sv).1 < ap_ph n (ap_v (n + 4) (ap_be (Nat.testBit tv) num bnd lo hi asked (ap_pl P kind wo 5))) (ap_N0 n A cv sv) * M.1)) L
    have hL := hC.1
    refine ⟨1000, ap_sw53 hC hbd (by omega) rfl rfl rfl rfl hlo hhi htu ?_ ?_ 1000 (ap_N0 n A cv sv) 0 1 b10 b11 b12 hN0 (by unfold ap_mu; omega) (by omega) m1⟩
    · intro u W X un' t' rn' cn' t13 h1 h2
      exact H1 u W X _ _ _ _ _ _ _ _ _ _ _ _ h1 h2
    · intro h un' t' rn' cn'
      exact H0 h _ _ _ _ _ _ _ _ _ _ _
  · intro q i s hi3 hs hs2
    subst hs
    have ht := ap_tv tv htv i hi3
    have hb := has i hi3
    refine pk_le 3 i (fun z => absurd z (by omega)) (fun _ => ⟨pk_in i 3 hi3, ?_⟩)
    refine ap_ile (asked i) 0 (by rw [nI_clamp (by omega)]; exact hb.1) rfl (fun z => ?_) (fun z => ?_)
    · exact nm_r (ht.1 ((htb i hi3).mpr z)) (nm_r (nI_1 i) (hs2 _ rfl))
    · have hb2 : Nat.testBit tv i = true := by
        cases hh : Nat.testBit tv i
        · exact absurd ((htb i hi3).mp hh) (by omega)
        · rfl
      exact nm_r (ht.2 hb2) (nm_r (nI_1 i) (hs2 _ rfl))
end
end
section
/-! common divisors -/
def ap_gc (a b : Int) : Int := if Int.gcd a b = 0 then 1 else (Int.gcd a b : Int)
theorem ap_gc_pos (a b : Int) : 0 < ap_gc a b := by
  unfold ap_gc
  by_cases h : Int.gcd a b = 0
  · rw [if_pos h]; decide
  · rw [if_neg h]; omega
theorem ap_gc_dvd (a b : Int) : ap_gc a b ∣ a ∧ ap_gc a b ∣ b := by
  unfold ap_gc
  by_cases h : Int.gcd a b = 0
  · rw [if_pos h]
    exact ⟨Int.one_dvd a, Int.one_dvd b⟩
  · rw [if_neg h]
    exact ⟨Int.gcd_dvd_left .., Int.gcd_dvd_right ..⟩
theorem ap_gc_le {a b B : Int} (hB : 1 ≤ B) (ha : -B ≤ a ∧ a ≤ B) (hb : -B ≤ b ∧ b ≤ B) : ap_gc a b ≤ B := by
  by_cases h0 : a = 0
  · by_cases h1 : b = 0
    · subst h0 h1
      exact hB
    · have h2 := Int.le_of_dvd (show 0 < (b.natAbs : Int) by omega) (Int.dvd_natAbs.mpr (ap_gc_dvd a b).2)
      omega
  · have h2 := Int.le_of_dvd (show 0 < (a.natAbs : Int) by omega) (Int.dvd_natAbs.mpr (ap_gc_dvd a b).1)
    omega
theorem ap_lN (n : Nat) : lN n = ap_l n := Int64.ofInt_eq_ofNat.symm
theorem ap_div28 {post : Int64 → Prop} : ∀ (y x : Nat), x < 2 ^ 62 → y < 2 ^ 62 → post (ap_l (if Nat.gcd x y = 0 then 1 else (Nat.gcd x y : Int))) → ∃ n, wX_divisor_28 post n (lN x) (lN y) := by
  intro y
  induction y using Nat.strongRecOn with
  | _ y ih =>
    intro x hx hy hp
    by_cases h : y = 0
    · subst h
      rw [Nat.gcd_zero_right] at hp
      refine ⟨1, br_t rfl ?_⟩
      by_cases h2 : x = 0
      · subst h2
        exact br_t rfl hp
      · rw [if_neg h2] at hp
        refine br_f (fun z => h2 ((pk_lEQ (b := 0) (by omega) (by decide)).mp z)) ?_
        rw [ap_lN]
        exact hp
    · have hne : ¬ lN y = 0 := fun z => h ((pk_lEQ (b := 0) (by omega) (by decide)).mp z)
      have hlt : x % y < y := Nat.mod_lt _ (by omega)
      have e : Nat.gcd x y = Nat.gcd y (x % y) := by rw [Nat.gcd_comm x y, Nat.gcd_rec y x, Nat.gcd_comm]
      rw [e] at hp
      obtain ⟨n, hn⟩ := ih (x % y) hlt y hy (by omega) hp
      exact ⟨n + 1, br_f hne ⟨hne, nm_r (pk_lRem (by omega) (by omega) (by omega)) hn⟩⟩
theorem ap_divisor {post : Int64 → Prop} {a b : Int} (ha : -4611686018427387900 ≤ a ∧ a ≤ 4611686018427387900) (hb : -4611686018427387900 ≤ b ∧ b ≤ 4611686018427387900) (hp : post (ap_l (ap_gc a b))) : wpX_divisor post () (ap_l a) (ap_l b) := by
  have key : ∃ n, wX_divisor_28 post n (lN a.natAbs) (lN b.natAbs) := ap_div28 b.natAbs a.natAbs (by omega) (by omega) hp
  have e : ∀ z : Int, 0 ≤ z → ap_l z = lN z.natAbs := fun z hz => by
    rw [ap_lN]
    congr 1
    omega
  have e' : ∀ z : Int, z < 0 → - ap_l z = lN z.natAbs := fun z hz => by
    rw [ap_lN, ap_l_neg]
    congr 1
    omega
  have s12 : wX_divisor_12 post (ap_l b) (lN a.natAbs) := by
    unfold wX_divisor_12
    refine ap_lle 0 b rfl rfl (fun z => ?_) (fun z => ?_)
    · rw [e b z]; exact key
    · exact nm_r (e' b z) key
  unfold wpX_divisor
  refine ap_lle 0 a rfl rfl (fun z => ?_) (fun z => ?_)
  · rw [e a z]
    exact s12
  · rw [e' a z]; exact s12
/-! lines: worth, two amounts, bound -/
abbrev ap_Q : Type := Int × Int × Int × Int
def ap_at (L : List ap_Q) (k : Nat) : ap_Q := L.getD k (0, 0, 0, 0)
def ap_Ls (L : List ap_Q) (a14 a15 a16 a17 : Nat → Int64) : Prop := ∀ k, k < L.length → a14 k = ap_l (ap_at L k).1 ∧ a15 k = ap_l (ap_at L k).2.1 ∧ a16 k = ap_l (ap_at L k).2.2.1 ∧ a17 k = ap_l (ap_at L k).2.2.2
def ap_lb (c b : Int) (x : ap_Q) : Prop := (-c ≤ x.1 ∧ x.1 ≤ c) ∧ (-c ≤ x.2.1 ∧ x.2.1 ≤ c) ∧ (-c ≤ x.2.2.1 ∧ x.2.2.1 ≤ c) ∧ (-b ≤ x.2.2.2 ∧ x.2.2.2 ≤ b)
def ap_sm (g : Int) (x : ap_Q) : ap_Q := (g * x.1, g * x.2.1, g * x.2.2.1, g * x.2.2.2)
def ap_h4 (L : List ap_Q) (p : ap_Q) : Prop := ∃ x, x ∈ L ∧ ∃ g, 0 < g ∧ p = ap_sm g x
def ap_sat (s W Y Z : Int) (x : ap_Q) : Prop := x.1 * W + x.2.1 * Y + x.2.2.1 * Z ≤ s * x.2.2.2
theorem ap_sat_sm {s W Y Z g : Int} {x : ap_Q} (hg : 0 < g) : ap_sat s W Y Z (ap_sm g x) ↔ ap_sat s W Y Z x := by
  unfold ap_sat ap_sm
  have e1 : g * x.1 * W + g * x.2.1 * Y + g * x.2.2.1 * Z = g * (x.1 * W + x.2.1 * Y + x.2.2.1 * Z) := by grind
  have e2 : s * (g * x.2.2.2) = g * (s * x.2.2.2) := by grind
  show g * x.1 * W + g * x.2.1 * Y + g * x.2.2.1 * Z ≤ s * (g * x.2.2.2) ↔ _
  rw [e1, e2]
  exact ⟨fun h => Int.le_of_mul_le_mul_left h hg, fun h => Int.mul_le_mul_of_nonneg_left h (Int.le_of_lt hg)⟩
theorem ap_at_mem {L : List ap_Q} {k : Nat} (h : k < L.length) : ap_at L k ∈ L := by
  unfold ap_at
  rw [List.getD_eq_getElem?_getD, List.getElem?_eq_getElem h]
  exact List.getElem_mem h
theorem ap_mem_at {L : List ap_Q} {x : ap_Q} (h : x ∈ L) : ∃ k, k < L.length ∧ ap_at L k = x := by
  obtain ⟨k, hk, e⟩ := List.mem_iff_getElem.mp h
  refine ⟨k, hk, ?_⟩
  unfold ap_at
  rw [List.getD_eq_getElem?_getD, List.getElem?_eq_getElem hk]
  exact e
theorem ap_at_app {L : List ap_Q} {x : ap_Q} {k : Nat} (h : k < L.length + 1) : ap_at (L ++ [x]) k = if k = L.length then x else ap_at L k := ap_getD_app L x _ k (by rw [List.length_append]; exact h)
theorem ap_div_lb {x g c : Int} (hg : 0 < g) (h : -c ≤ g * x ∧ g * x ≤ c) : -c ≤ x ∧ x ≤ c := by
  have h2 : (g * x).natAbs = g.natAbs * x.natAbs := Int.natAbs_mul g x
  have h3 : 1 * x.natAbs ≤ g.natAbs * x.natAbs := Nat.mul_le_mul_right _ (by omega)
  omega
theorem ap_lb_div {c b g : Int} {x : ap_Q} (hg : 0 < g) (h : ap_lb c b (ap_sm g x)) : ap_lb c b x :=
  ⟨ap_div_lb hg h.1, ap_div_lb hg h.2.1, ap_div_lb hg h.2.2.1, ap_div_lb hg h.2.2.2⟩
section
variable {qpr : Int32} {qwo : Int32} {qrw : Int32} {qtu : Int32} {qun : Int64} {qco : Int32} {qfw : Int32} {qwc : Int32} {qwt : Int64} {qwb : Int64} {qln : Int32} {qem : Int32} {qhh : Int32} {qht : Int64} {qhb : Int64} {qhl : Int32} {qlt : Int64} {qlb : Int64} {qbr : Int32} {ql3 : Int32} {qg3 : Int32} {a1 : Nat → Int32} {a2 : Nat → Int32} {a3 : Nat → Int32} {a4 : Nat → Int32} {a5 : Nat → Int32} {a6 : Nat → Int32} {a7 : Nat → Int32} {a8 : Nat → Int32} {a9 : Nat → Int32} {a10 : Nat → Int64} {a11 : Nat → Int32} {a12 : Nat → Int32} {a13 : Nat → Int64} {a14 : Nat → Int64} {a15 : Nat → Int64} {a16 : Nat → Int64} {a17 : Nat → Int64} {a18 : Nat → Int32} {a19 : Nat → Int32}
theorem ap_al62 {post : St2 → Prop} {L : List ap_Q} {x : ap_Q} {c b : Int} (hc : 0 ≤ c ∧ c ≤ 1000000000000) (hb : 0 ≤ b ∧ b ≤ 1000000000000) (hL : L.length < 512) (hln : qln = nI L.length) (hLs : ap_Ls L a14 a15 a16 a17) (hLb : ∀ y, y ∈ L → ap_lb c b y) (hx : ap_lb c b x)
    (H : ∀ (L' : List ap_Q) (qln' : Int32) (a14' : Nat → Int64) (a15' : Nat → Int64) (a16' : Nat → Int64) (a17' : Nat → Int64), (L' = L ∨ L' = L ++ [x]) → x ∈ L' → qln' = nI L'.length → ap_Ls L' a14' a15' a16' a17' → post (qpr, qwo, qrw, qtu, qun, qco, qfw, qwc, qwt, qwb, qln', qem, qhh, qht, qhb, qhl, qlt, qlb, qbr, ql3, qg3, a1, a2, a3, a4, a5, a6, a7, a8, a9, a10, a11, a12, a13, a14', a15', a16', a17', a18, a19)) :
    ∃ q, wX_addLine_62 post (ap_l x.1) (ap_l x.2.1) (ap_l x.2.2.1) (ap_l x.2.2.2) qpr qwo qrw qtu qun qco qfw qwc qwt qwb qln qem qhh qht qhb qhl qlt qlb qbr ql3 qg3 a1 a2 a3 a4 a5 a6 a7 a8 a9 a10 a11 a12 a13 a14 a15 a16 a17 a18 a19 q 0 := by
  refine pk_loop (σ := Unit) (fun q k _ => wX_addLine_62 post (ap_l x.1) (ap_l x.2.1) (ap_l x.2.2.1) (ap_l x.2.2.2) qpr qwo qrw qtu qun qco qfw qwc qwt qwb qln qem qhh qht qhb qhl qlt qlb qbr ql3 qg3 a1 a2 a3 a4 a5 a6 a7 a8 a9 a10 a11 a12 a13 a14 a15 a16 a17 a18 a19 q (nI k)) (fun _ _ => True) L.length 0 () (by omega) trivial ?_ ?_
  · intro q _ _
    refine pk_le L.length L.length (fun _ => ?_) (fun z => absurd z (by omega)) hln
    have ec : qln.toNatClampNeg = L.length := by rw [hln, nI_clamp (by omega)]
    have vi : vp_in qln 512 := pk_in L.length 512 hL hln
    refine ⟨vi, nm_r (e' := vp_updL a14 L.length (ap_l x.1)) (by rw [ec]) ⟨vi, nm_r (e' := vp_updL a15 L.length (ap_l x.2.1)) (by rw [ec]) ⟨vi, nm_r (e' := vp_updL a16 L.length (ap_l x.2.2.1)) (by rw [ec]) ⟨vi, nm_r (e' := vp_updL a17 L.length (ap_l x.2.2.2)) (by rw [ec]) ?_⟩⟩⟩⟩
    refine nm_r (e' := nI (L ++ [x]).length) (by rw [hln, List.length_append]; exact nI_1 _) (H (L ++ [x]) _ _ _ _ _ (Or.inr rfl) (List.mem_append_right _ (List.mem_singleton.mpr rfl)) rfl (fun k hk => ?_))
    rw [List.length_append] at hk
    have hk' : k < L.length + 1 := hk
    rw [ap_at_app hk']
    by_cases e : k = L.length
    · rw [if_pos e, e]
      exact ⟨pk_uLs, pk_uLs, pk_uLs, pk_uLs⟩
    · rw [if_neg e, pk_uLn e, pk_uLn e, pk_uLn e, pk_uLn e]
      exact hLs k (by omega)
  · intro q k _ hk _ hs
    refine pk_le L.length k (fun z => absurd z (by omega)) (fun _ => ⟨pk_in k 512 (by omega), ?_⟩) hln
    have ek : (nI k).toNatClampNeg = k := nI_clamp (by omega)
    obtain ⟨g1, g2, g3, g4⟩ := hLs k hk
    obtain ⟨y1, y2, y3, y4⟩ := hLb _ (ap_at_mem hk)
    obtain ⟨x1, x2, x3, x4⟩ := hx
    have nx : wX_addLine_62 post (ap_l x.1) (ap_l x.2.1) (ap_l x.2.2.1) (ap_l x.2.2.2) qpr qwo qrw qtu qun qco qfw qwc qwt qwb qln qem qhh qht qhb qhl qlt qlb qbr ql3 qg3 a1 a2 a3 a4 a5 a6 a7 a8 a9 a10 a11 a12 a13 a14 a15 a16 a17 a18 a19 q (nI (k + 1)) := hs () trivial
    refine ap_leq (ap_at L k).1 x.1 (by rw [ek]; exact g1) rfl (fun z1 => ⟨pk_in k 512 (by omega), ?_⟩) (fun _ => nm_r (nI_1 k) nx)
    refine ap_leq (ap_at L k).2.1 x.2.1 (by rw [ek]; exact g2) rfl (fun z2 => ⟨pk_in k 512 (by omega), ?_⟩) (fun _ => nm_r (nI_1 k) nx)
    refine ap_leq (ap_at L k).2.2.1 x.2.2.1 (by rw [ek]; exact g3) rfl (fun z3 => ⟨pk_in k 512 (by omega), ?_⟩) (fun _ => nm_r (nI_1 k) nx)
    refine ap_leq (ap_at L k).2.2.2 x.2.2.2 (by rw [ek]; exact g4) rfl (fun z4 => ?_) (fun _ => nm_r (nI_1 k) nx)
    refine H L _ _ _ _ _ (Or.inl rfl) ?_ hln hLs
    have : ap_at L k = x := Prod.ext z1 (Prod.ext z2 (Prod.ext z3 z4))
    rw [← this]
    exact ap_at_mem hk
theorem ap_addLine {post : St2 → Prop} {L : List ap_Q} {p : ap_Q} {c b : Int} (hc : 1 ≤ c ∧ c ≤ 1000000000000) (hb : 0 ≤ b ∧ b ≤ 1000000000000) (hL : L.length < 512) (hln : qln = nI L.length) (hLs : ap_Ls L a14 a15 a16 a17) (hLb : ∀ y, y ∈ L → ap_lb c b y) (hp : ap_lb c b p)
    (H : ∀ (L' : List ap_Q) (x : ap_Q) (g : Int) (qln' : Int32) (a14' : Nat → Int64) (a15' : Nat → Int64) (a16' : Nat → Int64) (a17' : Nat → Int64), (L' = L ∨ L' = L ++ [x]) → x ∈ L' → 0 < g → p = ap_sm g x → ap_lb c b x → qln' = nI L'.length → ap_Ls L' a14' a15' a16' a17' → post (qpr, qwo, qrw, qtu, qun, qco, qfw, qwc, qwt, qwb, qln', qem, qhh, qht, qhb, qhl, qlt, qlb, qbr, ql3, qg3, a1, a2, a3, a4, a5, a6, a7, a8, a9, a10, a11, a12, a13, a14', a15', a16', a17', a18, a19)) :
    wpX_addLine post (qpr, qwo, qrw, qtu, qun, qco, qfw, qwc, qwt, qwb, qln, qem, qhh, qht, qhb, qhl, qlt, qlb, qbr, ql3, qg3, a1, a2, a3, a4, a5, a6, a7, a8, a9, a10, a11, a12, a13, a14, a15, a16, a17, a18, a19) (ap_l p.1) (ap_l p.2.1) (ap_l p.2.2.1) (ap_l p.2.2.2) := by
  obtain ⟨p1, p2, p3, p4⟩ := hp
  unfold wpX_addLine
  have gb1 := ap_gc_le (by omega) p1 p2
  have gp1 := ap_gc_pos p.1 p.2.1
  refine ap_divisor (by omega) (by omega) ?_
  have gb2 := ap_gc_le (a := ap_gc p.1 p.2.1) (b := p.2.2.1) (B := c) (by omega) (by omega) p3
  have gp2 := ap_gc_pos (ap_gc p.1 p.2.1) p.2.2.1
  refine ap_divisor (by omega) (by omega) ?_
  have gp3 := ap_gc_pos (ap_gc (ap_gc p.1 p.2.1) p.2.2.1) p.2.2.2
  have gb3 := Int.le_of_dvd gp2 (ap_gc_dvd (ap_gc (ap_gc p.1 p.2.1) p.2.2.1) p.2.2.2).1
  refine ap_divisor (by omega) (by omega) ?_
  have d4 := (ap_gc_dvd (ap_gc (ap_gc p.1 p.2.1) p.2.2.1) p.2.2.2).2
  have d3' := (ap_gc_dvd (ap_gc (ap_gc p.1 p.2.1) p.2.2.1) p.2.2.2).1
  have d3 := Int.dvd_trans d3' (ap_gc_dvd (ap_gc p.1 p.2.1) p.2.2.1).2
  have d2' := Int.dvd_trans d3' (ap_gc_dvd (ap_gc p.1 p.2.1) p.2.2.1).1
  have d2 := Int.dvd_trans d2' (ap_gc_dvd p.1 p.2.1).2
  have d1 := Int.dvd_trans d2' (ap_gc_dvd p.1 p.2.1).1
  revert d1 d2 d3 d4 gp3 gb3
  generalize ap_gc (ap_gc (ap_gc p.1 p.2.1) p.2.2.1) p.2.2.2 = g
  intro gp3 gb3 d4 d3 d2 d1
  obtain ⟨k1, e1⟩ := d1
  obtain ⟨k2, e2⟩ := d2
  obtain ⟨k3, e3⟩ := d3
  obtain ⟨k4, e4⟩ := d4
  have hne : ¬ ap_l g = 0 := fun z => absurd ((ap_l_eq (by omega) (by omega)).mp (show ap_l g = ap_l 0 from z)) (by omega)
  have hsm : p = ap_sm g (k1, k2, k3, k4) := Prod.ext e1 (Prod.ext e2 (Prod.ext e3 e4))
  have hbx : ap_lb c b (k1, k2, k3, k4) := ap_lb_div gp3 (by rw [← hsm]; exact ⟨p1, p2, p3, p4⟩)
  have q : ∀ z k : Int, (-1000000000000 ≤ z ∧ z ≤ 1000000000000) → z = g * k → ap_l z / ap_l g = ap_l k := fun z k hz he => by
    rw [ap_l_div (by omega) (by omega), ap_tdiv_eq gp3 he]
  refine br_f hne ⟨hne, nm_r (q p.1 k1 (by omega) e1) ⟨hne, nm_r (q p.2.1 k2 (by omega) e2) ⟨hne, nm_r (q p.2.2.1 k3 (by omega) e3) ⟨hne, nm_r (q p.2.2.2 k4 (by omega) e4) ?_⟩⟩⟩⟩
  exact ap_al62 (x := (k1, k2, k3, k4)) (c := c) (b := b) (by omega) hb hL hln hLs hLb hbx (fun L' ln' b14 b15 b16 b17 h1 h2 h3 h4 => H L' _ g _ _ _ _ _ h1 h2 gp3 hsm hbx h3 h4)
end
end
section
/-! the first amount goes out -/
def ap_cp (x y : ap_Q) : ap_Q := (x.1 * (- y.2.1) + y.1 * x.2.1, 0, x.2.2.1 * (- y.2.1) + y.2.2.1 * x.2.1, x.2.2.2 * (- y.2.1) + y.2.2.2 * x.2.1)
theorem ap_sat_cp {s W Y Z : Int} {x y : ap_Q} (hx : 0 < x.2.1) (hy : y.2.1 < 0) (h1 : ap_sat s W Y Z x) (h2 : ap_sat s W Y Z y) : ap_sat s W Y Z (ap_cp x y) := by
  unfold ap_sat at *
  have m1 := Int.mul_le_mul_of_nonneg_right h1 (show 0 ≤ - y.2.1 by omega)
  have m2 := Int.mul_le_mul_of_nonneg_right h2 (show 0 ≤ x.2.1 by omega)
  unfold ap_cp
  have e1 : (x.1 * W + x.2.1 * Y + x.2.2.1 * Z) * (- y.2.1) + (y.1 * W + y.2.1 * Y + y.2.2.1 * Z) * x.2.1 = (x.1 * (- y.2.1) + y.1 * x.2.1) * W + 0 * Y + (x.2.2.1 * (- y.2.1) + y.2.2.1 * x.2.1) * Z := by grind
  have e2 : s * x.2.2.2 * (- y.2.1) + s * y.2.2.2 * x.2.1 = s * (x.2.2.2 * (- y.2.1) + y.2.2.2 * x.2.1) := by grind
  show (x.1 * (- y.2.1) + y.1 * x.2.1) * W + 0 * Y + (x.2.2.1 * (- y.2.1) + y.2.2.1 * x.2.1) * Z ≤ s * (x.2.2.2 * (- y.2.1) + y.2.2.2 * x.2.1)
  omega
theorem ap_cp_sm {g h : Int} {x y : ap_Q} : ap_cp (ap_sm g x) (ap_sm h y) = ap_sm (g * h) (ap_cp x y) := by
  unfold ap_cp ap_sm
  refine Prod.ext ?_ (Prod.ext ?_ (Prod.ext ?_ ?_))
  · show g * x.1 * (-(h * y.2.1)) + h * y.1 * (g * x.2.1) = g * h * (x.1 * (- y.2.1) + y.1 * x.2.1)
    grind
  · show (0 : Int) = g * h * 0
    omega
  · show g * x.2.2.1 * (-(h * y.2.1)) + h * y.2.2.1 * (g * x.2.1) = g * h * (x.2.2.1 * (- y.2.1) + y.2.2.1 * x.2.1)
    grind
  · show g * x.2.2.2 * (-(h * y.2.1)) + h * y.2.2.2 * (g * x.2.1) = g * h * (x.2.2.2 * (- y.2.1) + y.2.2.2 * x.2.1)
    grind
theorem ap_sm_sm {g h : Int} {x : ap_Q} : ap_sm g (ap_sm h x) = ap_sm (g * h) x := by
  unfold ap_sm
  refine Prod.ext ?_ (Prod.ext ?_ (Prod.ext ?_ ?_))
  · exact (Int.mul_assoc _ _ _).symm
  · exact (Int.mul_assoc _ _ _).symm
  · exact (Int.mul_assoc _ _ _).symm
  · exact (Int.mul_assoc _ _ _).symm
theorem ap_h4_sm {L : List ap_Q} {p : ap_Q} {g : Int} (hg : 0 < g) (h : ap_h4 L p) : ap_h4 L (ap_sm g p) := by
  obtain ⟨x, hx, k, hk, e⟩ := h
  exact ⟨x, hx, g * k, Int.mul_pos hg hk, by rw [e, ap_sm_sm]⟩
theorem ap_cp_lb {x y : ap_Q} (hx : ap_lb 10 400 x) (hy : ap_lb 10 400 y) : ap_lb 200 8000 (ap_cp x y) := by
  obtain ⟨x1, x2, x3, x4⟩ := hx
  obtain ⟨y1, y2, y3, y4⟩ := hy
  have y2' : -10 ≤ - y.2.1 ∧ - y.2.1 ≤ 10 := by omega
  have a1 := ap_mul_bd (by decide) (by decide) x1 y2'
  have a2 := ap_mul_bd (by decide) (by decide) y1 x2
  have b1 := ap_mul_bd (by decide) (by decide) x3 y2'
  have b2 := ap_mul_bd (by decide) (by decide) y3 x2
  have c1 := ap_mul_bd (by decide) (by decide) x4 y2'
  have c2 := ap_mul_bd (by decide) (by decide) y4 x2
  unfold ap_lb ap_cp
  refine ⟨?_, ?_, ?_, ?_⟩
  · show -200 ≤ x.1 * (- y.2.1) + y.1 * x.2.1 ∧ x.1 * (- y.2.1) + y.1 * x.2.1 ≤ 200
    omega
  · show (-200 : Int) ≤ 0 ∧ (0 : Int) ≤ 200
    decide
  · show -200 ≤ x.2.2.1 * (- y.2.1) + y.2.2.1 * x.2.1 ∧ x.2.2.1 * (- y.2.1) + y.2.2.1 * x.2.1 ≤ 200
    omega
  · show -8000 ≤ x.2.2.2 * (- y.2.1) + y.2.2.2 * x.2.1 ∧ x.2.2.2 * (- y.2.1) + y.2.2.2 * x.2.1 ≤ 8000
    omega
def ap_fz (x : ap_Q) : ap_Q := (x.1, 0, x.2.2.1, x.2.2.2)
/-- what stands for line i (pairs below b) -/
def ap_C1 (L0 L : List ap_Q) (b i : Nat) : Prop := ((ap_at L0 i).2.1 = 0 → ap_h4 L (ap_fz (ap_at L0 i))) ∧ ∀ j, j < b → 0 < (ap_at L0 i).2.1 → (ap_at L0 j).2.1 < 0 → ap_h4 L (ap_cp (ap_at L0 i) (ap_at L0 j))
def ap_J1 (L0 L : List ap_Q) (a : Nat) : Prop := (∃ T, L = L0 ++ T) ∧ (∀ y, y ∈ L → ap_lb 200 8000 y) ∧ (∀ s W Y Z, (∀ x, x ∈ L0 → ap_sat s W Y Z x) → ∀ x, x ∈ L → ap_sat s W Y Z x) ∧ ∀ i, i < a → ap_C1 L0 L L0.length i
theorem ap_h4_mono {L L' : List ap_Q} {p : ap_Q} (h : ∀ x, x ∈ L → x ∈ L') (hp : ap_h4 L p) : ap_h4 L' p := by
  obtain ⟨x, hx, r⟩ := hp
  exact ⟨x, h x hx, r⟩
theorem ap_C1_mono {L0 L L' : List ap_Q} {b i : Nat} (h : ∀ x, x ∈ L → x ∈ L') (hp : ap_C1 L0 L b i) : ap_C1 L0 L' b i :=
  ⟨fun z => ap_h4_mono h (hp.1 z), fun j hj z1 z2 => ap_h4_mono h (hp.2 j hj z1 z2)⟩
/-- a line is added that the others imply -/
theorem ap_J1_add {L0 L L' : List ap_Q} {a : Nat} {x p : ap_Q} {g : Int} (h : ap_J1 L0 L a) (hL : L' = L ∨ L' = L ++ [x]) (hg : 0 < g) (he : p = ap_sm g x) (hb : ap_lb 200 8000 x)
    (hs : ∀ s W Y Z, (∀ x, x ∈ L0 → ap_sat s W Y Z x) → ap_sat s W Y Z p) : ap_J1 L0 L' a ∧ (∀ y, y ∈ L → y ∈ L') := by
  obtain ⟨⟨T, hT⟩, h2, h3, h4⟩ := h
  rcases hL with e | e
  · subst e
    exact ⟨⟨⟨T, hT⟩, h2, h3, h4⟩, fun y hy => hy⟩
  · subst e
    have hm : ∀ y, y ∈ L → y ∈ L ++ [x] := fun y hy => List.mem_append_left _ hy
    refine ⟨⟨⟨T ++ [x], by rw [hT, List.append_assoc]⟩, fun y hy => ?_, fun s W Y Z hq y hy => ?_, fun i hi => ap_C1_mono hm (h4 i hi)⟩, hm⟩
    · rcases List.mem_append.mp hy with z | z
      · exact h2 y z
      · rw [List.mem_singleton.mp z]; exact hb
    · rcases List.mem_append.mp hy with z | z
      · exact h3 s W Y Z hq y z
      · rw [List.mem_singleton.mp z]
        have := hs s W Y Z hq
        rw [he] at this
        exact (ap_sat_sm hg).mp this
/-- after the first amount is out -/
def ap_fo (L0 M : List ap_Q) : Prop := (∀ x, x ∈ M → x.2.1 = 0 ∧ ap_lb 200 8000 x) ∧ M.length ≤ 200 ∧ (∀ s W Y Z, (∀ x, x ∈ L0 → ap_sat s W Y Z x) → ∀ x, x ∈ M → ap_sat s W Y Z x) ∧
  (∀ p, ap_h4 L0 p → p.2.1 = 0 → ap_h4 M p) ∧ (∀ p q, ap_h4 L0 p → ap_h4 L0 q → 0 < p.2.1 → q.2.1 < 0 → ap_h4 M (ap_cp p q))
theorem ap_fz_id {x : ap_Q} (h : x.2.1 = 0) : ap_fz x = x := Prod.ext rfl (Prod.ext h.symm (Prod.ext rfl rfl))
theorem ap_mul0 {g x : Int} (hg : 0 < g) (h : 0 = g * x) : x = 0 := by
  rcases Int.mul_eq_zero.mp h.symm with z | z
  · omega
  · exact z
theorem ap_fo_of {L0 L M : List ap_Q} (hJ : ap_J1 L0 L L0.length) (hM1 : ∀ x, x ∈ M → x.2.1 = 0 ∧ x ∈ L) (hM2 : ∀ x, x ∈ L → x.2.1 = 0 → x ∈ M) (hlen : M.length ≤ 200) : ap_fo L0 M := by
  obtain ⟨_, h2, h3, h4⟩ := hJ
  have sel : ∀ p, ap_h4 L p → p.2.1 = 0 → ap_h4 M p := by
    intro p hp h0
    obtain ⟨x, hx, g, hg, e⟩ := hp
    refine ⟨x, hM2 x hx ?_, g, hg, e⟩
    rw [e] at h0
    exact ap_mul0 hg h0.symm
  refine ⟨fun x hx => ⟨(hM1 x hx).1, h2 x (hM1 x hx).2⟩, hlen, fun s W Y Z hq x hx => h3 s W Y Z hq x (hM1 x hx).2, fun p hp h0 => ?_, fun p q hp hq h1 h2 => ?_⟩
  · obtain ⟨x, hx, g, hg, e⟩ := hp
    have hx0 : x.2.1 = 0 := by
      rw [e] at h0
      exact ap_mul0 hg h0.symm
    obtain ⟨i, hi, ei⟩ := ap_mem_at hx
    have hc := (h4 i hi).1 (by rw [ei]; exact hx0)
    rw [ei, ap_fz_id hx0] at hc
    rw [e]
    exact ap_h4_sm hg (sel x hc hx0)
  · obtain ⟨x, hx, g, hg, e⟩ := hp
    obtain ⟨y, hy, k, hk, e'⟩ := hq
    obtain ⟨i, hi, ei⟩ := ap_mem_at hx
    obtain ⟨j, hj, ej⟩ := ap_mem_at hy
    subst e e'
    have x0 : 0 < x.2.1 := by
      rcases ap_lg 0 x.2.1 with z | z
      · exact z
      · have h1' : 0 < g * x.2.1 := h1
        have := Int.mul_nonneg (Int.le_of_lt hg) (show 0 ≤ - x.2.1 by omega)
        rw [Int.mul_neg] at this
        omega
    have y0 : y.2.1 < 0 := by
      rcases ap_lg y.2.1 0 with z | z
      · exact z
      · have h2' : k * y.2.1 < 0 := h2
        have := Int.mul_nonneg (Int.le_of_lt hk) z
        omega
    have hc := (h4 i hi).2 j hj (by rw [ei]; exact x0) (by rw [ej]; exact y0)
    rw [ei, ej] at hc
    rw [ap_cp_sm]
    exact ap_h4_sm (Int.mul_pos hg hk) (sel _ hc rfl)
section
variable {qpr : Int32} {qwo : Int32} {qrw : Int32} {qtu : Int32} {qun : Int64} {qco : Int32} {qfw : Int32} {qwc : Int32} {qwt : Int64} {qwb : Int64} {qln : Int32} {qem : Int32} {qhh : Int32} {qht : Int64} {qhb : Int64} {qhl : Int32} {qlt : Int64} {qlb : Int64} {qbr : Int32} {ql3 : Int32} {qg3 : Int32} {a1 : Nat → Int32} {a2 : Nat → Int32} {a3 : Nat → Int32} {a4 : Nat → Int32} {a5 : Nat → Int32} {a6 : Nat → Int32} {a7 : Nat → Int32} {a8 : Nat → Int32} {a9 : Nat → Int32} {a10 : Nat → Int64} {a11 : Nat → Int32} {a12 : Nat → Int32} {a13 : Nat → Int64} {a14 : Nat → Int64} {a15 : Nat → Int64} {a16 : Nat → Int64} {a17 : Nat → Int64} {a18 : Nat → Int32} {a19 : Nat → Int32}
/-- the lines with the first amount out move to the front -/
theorem ap_tf170 {post : St2 → Prop} {L : List ap_Q} (hL : L.length ≤ 200) (hln : qln = nI L.length) (hLs : ap_Ls L a14 a15 a16 a17) (hLb : ∀ y, y ∈ L → ap_lb 200 8000 y)
    (H : ∀ (M : List ap_Q) (a14' : Nat → Int64) (a15' : Nat → Int64) (a16' : Nat → Int64) (a17' : Nat → Int64), (∀ x, x ∈ M → x.2.1 = 0 ∧ x ∈ L) → (∀ x, x ∈ L → x.2.1 = 0 → x ∈ M) → M.length ≤ 200 → ap_Ls M a14' a15' a16' a17' → post (qpr, qwo, qrw, qtu, qun, qco, qfw, qwc, qwt, qwb, nI M.length, qem, qhh, qht, qhb, qhl, qlt, qlb, qbr, ql3, qg3, a1, a2, a3, a4, a5, a6, a7, a8, a9, a10, a11, a12, a13, a14', a15', a16', a17', a18, a19)) :
    ∃ q, wX_takeFirstOut_170 post qpr qwo qrw qtu qun qco qfw qwc qwt qwb qln qem qhh qht qhb qhl qlt qlb qbr ql3 qg3 q 0 0 a1 a2 a3 a4 a5 a6 a7 a8 a9 a10 a11 a12 a13 a14 a15 a16 a17 a18 a19 := by
  refine pk_loop (fun q k t => wX_takeFirstOut_170 post qpr qwo qrw qtu qun qco qfw qwc qwt qwb qln qem qhh qht qhb qhl qlt qlb qbr ql3 qg3 q t.1 (nI k) a1 a2 a3 a4 a5 a6 a7 a8 a9 a10 a11 a12 a13 t.2.1 t.2.2.1 t.2.2.2.1 t.2.2.2.2 a18 a19) (fun k t => ∃ M : List ap_Q, t.1 = nI M.length ∧ M.length ≤ k ∧ (∀ x, x ∈ M → x.2.1 = 0 ∧ x ∈ L) ∧ (∀ i, i < k → (ap_at L i).2.1 = 0 → ap_at L i ∈ M) ∧ ap_Ls M t.2.1 t.2.2.1 t.2.2.2.1 t.2.2.2.2 ∧
      ∀ j, k ≤ j → j < L.length → t.2.1 j = ap_l (ap_at L j).1 ∧ t.2.2.1 j = ap_l (ap_at L j).2.1 ∧ t.2.2.2.1 j = ap_l (ap_at L j).2.2.1 ∧ t.2.2.2.2 j = ap_l (ap_at L j).2.2.2) L.length 0 (0, a14, a15, a16, a17) (by omega)
      ⟨[], rfl, Nat.le_refl 0, fun x hx => absurd hx (by simp), fun i hi => absurd hi (by omega), fun k hk => absurd hk (Nat.not_lt_zero k), fun j _ hj => hLs j hj⟩ ?_ ?_
  · intro q t h
    obtain ⟨M, m1, m2, m3, m4, m5, m6⟩ := h
    refine pk_le L.length L.length (fun _ => ?_) (fun z => absurd z (by omega)) hln
    rw [m1]
    refine H M _ _ _ _ m3 (fun x hx h0 => ?_) (by omega) m5
    obtain ⟨i, hi, e⟩ := ap_mem_at hx
    rw [← e]
    exact m4 i hi (by rw [e]; exact h0)
  · intro q k t hk h hs
    obtain ⟨M, m1, m2, m3, m4, m5, m6⟩ := h
    obtain ⟨g1, g2, g3, g4⟩ := m6 k (Nat.le_refl k) hk
    have ek : (nI k).toNatClampNeg = k := nI_clamp (by omega)
    have em : t.1.toNatClampNeg = M.length := by rw [m1, nI_clamp (by omega)]
    have vk : vp_in (nI k) 512 := pk_in k 512 (by omega)
    have vm : vp_in t.1 512 := pk_in M.length 512 (by omega) m1
    have hb := (hLb _ (ap_at_mem hk)).2.1
    refine pk_le L.length k (fun z => absurd z (by omega)) (fun _ => ⟨vk, ?_⟩) hln
    refine ap_leq (ap_at L k).2.1 0 (by rw [ek]; exact g2) rfl (fun z => ?_) (fun z => nm_r (nI_1 k) (hs _ ⟨M, m1, by omega, m3, fun i hi h0 => ?_, m5, fun j hj hj2 => m6 j (by omega) hj2⟩))
    · refine ⟨vk, vm, nm_r (e' := vp_updL t.2.1 M.length (ap_l (ap_at L k).1)) (by rw [em, ek, g1]) ⟨vm, nm_r (e' := vp_updL t.2.2.1 M.length (ap_l 0)) (by rw [em]; rfl) ⟨vk, vm, nm_r (e' := vp_updL t.2.2.2.1 M.length (ap_l (ap_at L k).2.2.1)) (by rw [em, ek, g3]) ⟨vk, vm, nm_r (e' := vp_updL t.2.2.2.2 M.length (ap_l (ap_at L k).2.2.2)) (by rw [em, ek, g4]) ?_⟩⟩⟩⟩
      refine nm_r (e' := nI (M.length + 1)) (by rw [m1, nI_1]) (nm_r (nI_1 k) (hs (_, _, _, _, _) ⟨M ++ [ap_at L k], by rw [List.length_append]; rfl, by rw [List.length_append]; show _ + 1 ≤ _; omega, fun x hx => ?_, fun i hi h0 => ?_, fun j hj => ?_, fun j hj hj2 => ?_⟩))
      · rcases List.mem_append.mp hx with y | y
        · exact m3 x y
        · rw [List.mem_singleton.mp y]
          exact ⟨z, ap_at_mem hk⟩
      · by_cases e : i = k
        · rw [e]; exact List.mem_append_right _ (List.mem_singleton.mpr rfl)
        · exact List.mem_append_left _ (m4 i (by omega) h0)
      · rw [List.length_append] at hj
        have hj' : j < M.length + 1 := hj
        rw [ap_at_app hj']
        by_cases e : j = M.length
        · rw [if_pos e, e, z]
          exact ⟨pk_uLs, pk_uLs, pk_uLs, pk_uLs⟩
        · rw [if_neg e]
          show vp_updL t.2.1 M.length _ j = _ ∧ vp_updL t.2.2.1 M.length _ j = _ ∧ vp_updL t.2.2.2.1 M.length _ j = _ ∧ vp_updL t.2.2.2.2 M.length _ j = _
          rw [pk_uLn e, pk_uLn e, pk_uLn e, pk_uLn e]
          exact m5 j (by omega)
      · show vp_updL t.2.1 M.length _ j = _ ∧ vp_updL t.2.2.1 M.length _ j = _ ∧ vp_updL t.2.2.2.1 M.length _ j = _ ∧ vp_updL t.2.2.2.2 M.length _ j = _
        rw [pk_uLn (by omega), pk_uLn (by omega), pk_uLn (by omega), pk_uLn (by omega)]
        exact m6 j (by omega) hj2
    · by_cases e : i = k
      · rw [e] at h0; exact absurd h0 z
      · exact m4 i (by omega) h0
theorem ap_app_at {L0 T : List ap_Q} {i : Nat} (h : i < L0.length) : ap_at (L0 ++ T) i = ap_at L0 i := by
  unfold ap_at
  rw [List.getD_eq_getElem?_getD, List.getD_eq_getElem?_getD, List.getElem?_append, if_pos h]
theorem ap_takeFirst {post : St2 → Prop} {L0 : List ap_Q} (hL : L0.length ≤ 12) (hln : qln = nI L0.length) (hLs : ap_Ls L0 a14 a15 a16 a17) (hLb : ∀ y, y ∈ L0 → ap_lb 10 400 y)
    (H : ∀ (M : List ap_Q) (a14' : Nat → Int64) (a15' : Nat → Int64) (a16' : Nat → Int64) (a17' : Nat → Int64), ap_fo L0 M → ap_Ls M a14' a15' a16' a17' → post (qpr, qwo, qrw, qtu, qun, qco, qfw, qwc, qwt, qwb, nI M.length, qem, qhh, qht, qhb, qhl, qlt, qlb, qbr, ql3, qg3, a1, a2, a3, a4, a5, a6, a7, a8, a9, a10, a11, a12, a13, a14', a15', a16', a17', a18, a19)) : wpX_takeFirstOut post (qpr, qwo, qrw, qtu, qun, qco, qfw, qwc, qwt, qwb, qln, qem, qhh, qht, qhb, qhl, qlt, qlb, qbr, ql3, qg3, a1, a2, a3, a4, a5, a6, a7, a8, a9, a10, a11, a12, a13, a14, a15, a16, a17, a18, a19) := by
  have lb2 : ∀ y, ap_lb 10 400 y → ap_lb 200 8000 y := fun y h => ⟨by have := h.1; omega, by have := h.2.1; omega, by have := h.2.2.1; omega, by have := h.2.2.2; omega⟩
  unfold wpX_takeFirstOut
  rw [hln]
  refine pk_loop (fun q a t => wX_takeFirstOut_7 post (nI L0.length) q (nI a) qpr qwo qrw qtu qun qco qfw qwc qwt qwb t.1 qem qhh qht qhb qhl qlt qlb qbr ql3 qg3 a1 a2 a3 a4 a5 a6 a7 a8 a9 a10 a11 a12 a13 t.2.1 t.2.2.1 t.2.2.2.1 t.2.2.2.2 a18 a19) (fun a t => ∃ L, t.1 = nI L.length ∧ L.length ≤ L0.length + a * (L0.length + 1) ∧ ap_Ls L t.2.1 t.2.2.1 t.2.2.2.1 t.2.2.2.2 ∧ ap_J1 L0 L a) L0.length 0 (nI L0.length, a14, a15, a16, a17) (by omega)
    ⟨L0, rfl, by omega, hLs, ⟨[], (List.append_nil _).symm⟩, fun y hy => lb2 y (hLb y hy), fun s W Y Z h => h, fun i hi => absurd hi (by omega)⟩ ?_ ?_
  · intro q t h
    obtain ⟨L, l1, l2, l3, l4⟩ := h
    refine pk_le L0.length L0.length (fun _ => ?_) (fun z => absurd z (by omega))
    have hlen : L.length ≤ 200 := by
      have : L0.length * (L0.length + 1) ≤ 12 * 13 := Nat.mul_le_mul hL (by omega)
      omega
    exact ap_tf170 hlen l1 l3 l4.2.1 (fun M b14 b15 b16 b17 h1 h2 h3 h4 => H M _ _ _ _ (ap_fo_of l4 h1 h2 h3) h4)
  · intro q a t ha h hs
    obtain ⟨L, l1, l2, l3, l4⟩ := h
    have hmul : a * (L0.length + 1) + (L0.length + 1) ≤ 12 * 13 := by
      have : (a + 1) * (L0.length + 1) ≤ 12 * 13 := Nat.mul_le_mul (by omega) (by omega)
      rw [Nat.add_mul, Nat.one_mul] at this
      exact this
    obtain ⟨T, hT⟩ := l4.1
    have hLL : L0.length ≤ L.length := by rw [hT, List.length_append]; omega
    have hat : ∀ (L' : List ap_Q), (∃ T, L' = L0 ++ T) → ∀ i, i < L0.length → ap_at L' i = ap_at L0 i := fun L' ⟨T', h'⟩ i hi => by rw [h', ap_app_at hi]
    have ba := hLb _ (ap_at_mem ha)
    -- the inner loop
    have inner : ∀ (L1 : List ap_Q) (t1 : Int32 × (Nat → Int64) × (Nat → Int64) × (Nat → Int64) × (Nat → Int64)), t1.1 = nI L1.length → L1.length ≤ L0.length + a * (L0.length + 1) + 1 → ap_Ls L1 t1.2.1 t1.2.2.1 t1.2.2.2.1 t1.2.2.2.2 → ap_J1 L0 L1 a → ((ap_at L0 a).2.1 = 0 → ap_h4 L1 (ap_fz (ap_at L0 a))) →
        ∃ g, wX_takeFirstOut_48 post (wX_takeFirstOut_7 post (nI L0.length) q) (nI L0.length) (nI a) g 0 qpr qwo qrw qtu qun qco qfw qwc qwt qwb t1.1 qem qhh qht qhb qhl qlt qlb qbr ql3 qg3 a1 a2 a3 a4 a5 a6 a7 a8 a9 a10 a11 a12 a13 t1.2.1 t1.2.2.1 t1.2.2.2.1 t1.2.2.2.2 a18 a19 := by
      intro L1 t1 e1 e2 e3 e4 e5
      refine pk_loop (fun g b t => wX_takeFirstOut_48 post (wX_takeFirstOut_7 post (nI L0.length) q) (nI L0.length) (nI a) g (nI b) qpr qwo qrw qtu qun qco qfw qwc qwt qwb t.1 qem qhh qht qhb qhl qlt qlb qbr ql3 qg3 a1 a2 a3 a4 a5 a6 a7 a8 a9 a10 a11 a12 a13 t.2.1 t.2.2.1 t.2.2.2.1 t.2.2.2.2 a18 a19) (fun b t => ∃ L, t.1 = nI L.length ∧ L.length ≤ L0.length + a * (L0.length + 1) + 1 + b ∧ ap_Ls L t.2.1 t.2.2.1 t.2.2.2.1 t.2.2.2.2 ∧ ap_J1 L0 L a ∧ ap_C1 L0 L b a) L0.length 0 t1 (by omega)
        ⟨L1, e1, by omega, e3, e4, e5, fun j hj => absurd hj (by omega)⟩ ?_ ?_
      · intro g t2 h
        obtain ⟨L2, f1, f2, f3, f4, f5⟩ := h
        refine pk_le L0.length L0.length (fun _ => nm_r (nI_1 a) (hs t2 ⟨L2, f1, ?_, f3, f4.1, f4.2.1, f4.2.2.1, fun i hi => ?_⟩)) (fun z => absurd z (by omega))
        · rw [Nat.add_mul, Nat.one_mul]
          omega
        · by_cases e : i = a
          · rw [e]; exact f5
          · exact f4.2.2.2 i (by omega)
      · intro g b t2 hb h hs2
        obtain ⟨L2, f1, f2, f3, f4, f5⟩ := h
        have hl2 : L0.length ≤ L2.length := by
          obtain ⟨T2, hT2⟩ := f4.1
          rw [hT2, List.length_append]; omega
        have ea : (nI a).toNatClampNeg = a := nI_clamp (by omega)
        have eb : (nI b).toNatClampNeg = b := nI_clamp (by omega)
        have va : vp_in (nI a) 512 := pk_in a 512 (by omega)
        have vb : vp_in (nI b) 512 := pk_in b 512 (by omega)
        obtain ⟨g1, g2, g3, g4⟩ := f3 a (by omega)
        obtain ⟨k1, k2, k3, k4⟩ := f3 b (by omega)
        rw [hat L2 f4.1 a ha] at g1 g2 g3 g4
        rw [hat L2 f4.1 b hb] at k1 k2 k3 k4
        have bb := hLb _ (ap_at_mem hb)
        have skip : ¬ (0 < (ap_at L0 a).2.1 ∧ (ap_at L0 b).2.1 < 0) → wX_takeFirstOut_48 post (wX_takeFirstOut_7 post (nI L0.length) q) (nI L0.length) (nI a) g (nI (b + 1)) qpr qwo qrw qtu qun qco qfw qwc qwt qwb t2.1 qem qhh qht qhb qhl qlt qlb qbr ql3 qg3 a1 a2 a3 a4 a5 a6 a7 a8 a9 a10 a11 a12 a13 t2.2.1 t2.2.2.1 t2.2.2.2.1 t2.2.2.2.2 a18 a19 := by
          intro hn
          refine hs2 t2 ⟨L2, f1, by omega, f3, f4, f5.1, fun j hj z1 z2 => ?_⟩
          by_cases e : j = b
          · rw [e] at z2; exact absurd ⟨z1, z2⟩ hn
          · exact f5.2 j (by omega) z1 z2
        refine pk_le L0.length b (fun z => absurd z (by omega)) (fun _ => ⟨va, ?_⟩)
        have ba2 := ba.2.1
        have bb2 := bb.2.1
        refine ap_lle (ap_at L0 a).2.1 0 (by rw [ea]; exact g2) rfl (fun z => nm_r (nI_1 b) (skip (by omega))) (fun z => ⟨vb, ?_⟩)
        refine ap_lle 0 (ap_at L0 b).2.1 rfl (by rw [eb]; exact k2) (fun z2 => nm_r (nI_1 b) (skip (by omega))) (fun z2 => ?_)
        refine ⟨va, nm_r (e' := ap_l (ap_at L0 a).2.1) (by rw [ea]; exact g2) ⟨vb, nm_r (e' := ap_l (- (ap_at L0 b).2.1)) (by rw [eb, k2, ap_l_neg]) ⟨va, vb, va, vb, va, vb, ?_⟩⟩⟩
        rw [ea, eb, g1, g3, g4, k1, k3, k4, ap_l_mul, ap_l_mul, ap_l_mul, ap_l_mul, ap_l_mul, ap_l_mul, ap_l_add, ap_l_add, ap_l_add]
        refine ap_addLine (p := ap_cp (ap_at L0 a) (ap_at L0 b)) (c := 200) (b := 8000) (by decide) (by decide) (by omega) f1 f3 f4.2.1 (ap_cp_lb ba bb) (fun L' x gg ln' b14 b15 b16 b17 h1 h2 h3 h4 h5 h6 h7 => ?_)
        have hadd := ap_J1_add f4 h1 h3 h4 h5 (fun s W Y Z hq => ap_sat_cp z z2 (hq _ (ap_at_mem ha)) (hq _ (ap_at_mem hb)))
        refine nm_r (nI_1 b) (hs2 (ln', b14, b15, b16, b17) ⟨L', h6, ?_, h7, hadd.1, fun y => ap_h4_mono hadd.2 (f5.1 y), fun j hj z3 z4 => ?_⟩)
        · rcases h1 with e | e
          · rw [e]; omega
          · rw [e, List.length_append]; show _ + 1 ≤ _; omega
        · by_cases e : j = b
          · rw [e]
            exact ⟨x, h2, gg, h3, h4⟩
          · exact ap_h4_mono hadd.2 (f5.2 j (by omega) z3 z4)
    have ea : (nI a).toNatClampNeg = a := nI_clamp (by omega)
    have va : vp_in (nI a) 512 := pk_in a 512 (by omega)
    obtain ⟨g1, g2, g3, g4⟩ := l3 a (by omega)
    rw [hat L l4.1 a ha] at g1 g2 g3 g4
    have ba2 := ba.2.1
    refine pk_le L0.length a (fun z => absurd z (by omega)) (fun _ => ⟨va, ?_⟩)
    refine ap_leq (ap_at L0 a).2.1 0 (by rw [ea]; exact g2) rfl (fun z => ⟨va, va, va, ?_⟩) (fun z => inner L t l1 (by omega) l3 l4 (fun y => absurd y z))
    rw [ea, g1, g3, g4]
    refine ap_addLine (p := ap_fz (ap_at L0 a)) (c := 200) (b := 8000) (by decide) (by decide) (by omega) l1 l3 l4.2.1 (by rw [ap_fz_id z]; exact lb2 _ ba) (fun L' x gg ln' b14 b15 b16 b17 h1 h2 h3 h4 h5 h6 h7 => ?_)
    have hadd := ap_J1_add l4 h1 h3 h4 h5 (fun s W Y Z hq => by rw [ap_fz_id z]; exact hq _ (ap_at_mem ha))
    refine inner L' (ln', b14, b15, b16, b17) h6 ?_ h7 hadd.1 (fun _ => ⟨x, h2, gg, h3, h4⟩)
    rcases h1 with e | e
    · rw [e]; omega
    · rw [e, List.length_append]; show _ + 1 ≤ _; omega
end
end
section
/-! bounds of the worth: empty, the sharpest upper and lower bound so far -/
abbrev ap_W : Type := Bool × Option (Int × Int) × Option (Int × Int)
def ap_pb (p : Int × Int) : Prop := (-4000000 ≤ p.1 ∧ p.1 ≤ 4000000) ∧ 0 < p.2 ∧ p.2 ≤ 100000
def ap_bs (st : ap_W) (em hh : Int32) (ht hb : Int64) (hl : Int32) (lt lb : Int64) : Prop :=
  em = ap_b st.1 ∧ (st.2.1 = none → hh = 0) ∧ (∀ p, st.2.1 = some p → hh = 1 ∧ ht = ap_l p.1 ∧ hb = ap_l p.2 ∧ ap_pb p) ∧ (st.2.2 = none → hl = 0) ∧ (∀ p, st.2.2 = some p → hl = 1 ∧ lt = ap_l p.1 ∧ lb = ap_l p.2 ∧ ap_pb p)
def ap_up (f b : Int) (h : Option (Int × Int)) : Option (Int × Int) := match h with
  | none => some (b, f)
  | some p => if p.1 * f ≤ b * p.2 then some p else some (b, f)
def ap_lw (f b : Int) (l : Option (Int × Int)) : Option (Int × Int) := match l with
  | none => some (-b, -f)
  | some p => if -b * p.2 ≤ p.1 * -f then some p else some (-b, -f)
def ap_bw (f b : Int) (st : ap_W) : ap_W := if f = 0 then (st.1 || decide (b < 0), st.2.1, st.2.2) else if f ≤ 0 then (st.1, st.2.1, ap_lw f b st.2.2) else (st.1, ap_up f b st.2.1, st.2.2)
def ap_sd (G : Int → Int → Prop) (st : ap_W) : Prop := ∀ s W, G s W → (st.1 = true → s ≤ 0) ∧ (∀ p, st.2.1 = some p → W * p.2 ≤ s * p.1) ∧ (∀ p, st.2.2 = some p → s * p.1 ≤ W * p.2)
def ap_cq (st : ap_W) (f b : Int) : Prop := (0 < f → ∃ p, st.2.1 = some p ∧ p.1 * f ≤ b * p.2) ∧ (f = 0 → b < 0 → st.1 = true)
def ap_wp (st : ap_W) : Prop := (∀ p, st.2.1 = some p → ap_pb p) ∧ (∀ p, st.2.2 = some p → ap_pb p)
theorem ap_bw_wp {f b : Int} {st : ap_W} (h : ap_wp st) (hf : -100000 ≤ f ∧ f ≤ 100000) (hb : -4000000 ≤ b ∧ b ≤ 4000000) : ap_wp (ap_bw f b st) := by
  unfold ap_bw
  by_cases e : f = 0
  · rw [if_pos e]; exact h
  · rw [if_neg e]
    by_cases e2 : f ≤ 0
    · rw [if_pos e2]
      refine ⟨h.1, fun p hp => ?_⟩
      have hp' : ap_lw f b st.2.2 = some p := hp
      unfold ap_lw at hp'
      cases hh : st.2.2 with
      | none =>
        rw [hh] at hp'
        have : (-b, -f) = p := Option.some.inj hp'
        rw [← this]
        exact ⟨by show -4000000 ≤ -b ∧ -b ≤ 4000000; omega, by show 0 < -f; omega, by show -f ≤ 100000; omega⟩
      | some p0 =>
        rw [hh] at hp'
        have hp2 : (if -b * p0.2 ≤ p0.1 * -f then some p0 else some (-b, -f)) = some p := hp'
        by_cases e3 : -b * p0.2 ≤ p0.1 * -f
        · rw [if_pos e3] at hp2
          rw [← Option.some.inj hp2]
          exact h.2 p0 hh
        · rw [if_neg e3] at hp2
          rw [← Option.some.inj hp2]
          exact ⟨by show -4000000 ≤ -b ∧ -b ≤ 4000000; omega, by show 0 < -f; omega, by show -f ≤ 100000; omega⟩
    · rw [if_neg e2]
      refine ⟨fun p hp => ?_, h.2⟩
      have hp' : ap_up f b st.2.1 = some p := hp
      unfold ap_up at hp'
      cases hh : st.2.1 with
      | none =>
        rw [hh] at hp'
        have : (b, f) = p := Option.some.inj hp'
        rw [← this]
        exact ⟨hb, by show 0 < f; omega, hf.2⟩
      | some p0 =>
        rw [hh] at hp'
        have hp2 : (if p0.1 * f ≤ b * p0.2 then some p0 else some (b, f)) = some p := hp'
        by_cases e3 : p0.1 * f ≤ b * p0.2
        · rw [if_pos e3] at hp2
          rw [← Option.some.inj hp2]
          exact h.1 p0 hh
        · rw [if_neg e3] at hp2
          rw [← Option.some.inj hp2]
          exact ⟨hb, by show 0 < f; omega, hf.2⟩
theorem ap_bw_sd {G : Int → Int → Prop} {f b : Int} {st : ap_W} (h : ap_sd G st) (hG : ∀ s W, G s W → f * W ≤ s * b) : ap_sd G (ap_bw f b st) := by
  intro s W hg
  have h0 := h s W hg
  have h1 := hG s W hg
  unfold ap_bw
  by_cases e : f = 0
  · rw [if_pos e]
    refine ⟨fun z => ?_, h0.2⟩
    have z' : (st.1 || decide (b < 0)) = true := z
    rw [Bool.or_eq_true, decide_eq_true_eq] at z'
    rcases z' with z' | z'
    · exact h0.1 z'
    · rw [e, Int.zero_mul] at h1
      rcases ap_lg 0 s with y | y
      · have := Int.mul_neg_of_pos_of_neg y z'
        omega
      · exact y
  · rw [if_neg e]
    by_cases e2 : f ≤ 0
    · rw [if_pos e2]
      refine ⟨h0.1, h0.2.1, fun p hp => ?_⟩
      have new : s * -b ≤ W * -f := by
        rw [Int.mul_neg, Int.mul_neg, Int.mul_comm W]
        omega
      have hp' : ap_lw f b st.2.2 = some p := hp
      unfold ap_lw at hp'
      cases hh : st.2.2 with
      | none =>
        rw [hh] at hp'
        have : (-b, -f) = p := Option.some.inj hp'
        rw [← this]
        exact new
      | some p0 =>
        rw [hh] at hp'
        have hp2 : (if -b * p0.2 ≤ p0.1 * -f then some p0 else some (-b, -f)) = some p := hp'
        by_cases e3 : -b * p0.2 ≤ p0.1 * -f
        · rw [if_pos e3] at hp2
          rw [← Option.some.inj hp2]
          exact h0.2.2 p0 hh
        · rw [if_neg e3] at hp2
          rw [← Option.some.inj hp2]
          exact new
    · rw [if_neg e2]
      refine ⟨h0.1, fun p hp => ?_, h0.2.2⟩
      have new : W * f ≤ s * b := by
        rw [Int.mul_comm W]
        exact h1
      have hp' : ap_up f b st.2.1 = some p := hp
      unfold ap_up at hp'
      cases hh : st.2.1 with
      | none =>
        rw [hh] at hp'
        have : (b, f) = p := Option.some.inj hp'
        rw [← this]
        exact new
      | some p0 =>
        rw [hh] at hp'
        have hp2 : (if p0.1 * f ≤ b * p0.2 then some p0 else some (b, f)) = some p := hp'
        by_cases e3 : p0.1 * f ≤ b * p0.2
        · rw [if_pos e3] at hp2
          rw [← Option.some.inj hp2]
          exact h0.2.1 p0 hh
        · rw [if_neg e3] at hp2
          rw [← Option.some.inj hp2]
          exact new
theorem ap_bw_new {f b : Int} {st : ap_W} : ap_cq (ap_bw f b st) f b := by
  unfold ap_bw
  by_cases e : f = 0
  · rw [if_pos e]
    refine ⟨fun z => absurd z (by omega), fun _ z => ?_⟩
    show (st.1 || decide (b < 0)) = true
    rw [decide_eq_true z, Bool.or_true]
  · rw [if_neg e]
    by_cases e2 : f ≤ 0
    · rw [if_pos e2]
      exact ⟨fun z => absurd z (by omega), fun z => absurd z e⟩
    · rw [if_neg e2]
      refine ⟨fun z => ?_, fun z => absurd z e⟩
      show ∃ p, ap_up f b st.2.1 = some p ∧ p.1 * f ≤ b * p.2
      unfold ap_up
      cases hh : st.2.1 with
      | none => exact ⟨(b, f), rfl, Int.le_refl _⟩
      | some p0 =>
        show ∃ p, (if p0.1 * f ≤ b * p0.2 then some p0 else some (b, f)) = some p ∧ p.1 * f ≤ b * p.2
        by_cases e3 : p0.1 * f ≤ b * p0.2
        · rw [if_pos e3]
          exact ⟨p0, rfl, e3⟩
        · rw [if_neg e3]
          exact ⟨(b, f), rfl, Int.le_refl _⟩
theorem ap_bw_old {f b f' b' : Int} {st : ap_W} (hw : ap_wp st) (h : ap_cq st f' b') : ap_cq (ap_bw f b st) f' b' := by
  unfold ap_bw
  by_cases e : f = 0
  · rw [if_pos e]
    refine ⟨h.1, fun z1 z2 => ?_⟩
    show (st.1 || decide (b < 0)) = true
    rw [h.2 z1 z2, Bool.true_or]
  · rw [if_neg e]
    by_cases e2 : f ≤ 0
    · rw [if_pos e2]
      exact h
    · rw [if_neg e2]
      refine ⟨fun z => ?_, h.2⟩
      obtain ⟨p, hp, hq⟩ := h.1 z
      show ∃ p, ap_up f b st.2.1 = some p ∧ p.1 * f' ≤ b' * p.2
      unfold ap_up
      rw [hp]
      show ∃ q, (if p.1 * f ≤ b * p.2 then some p else some (b, f)) = some q ∧ q.1 * f' ≤ b' * q.2
      by_cases e3 : p.1 * f ≤ b * p.2
      · rw [if_pos e3]
        exact ⟨p, rfl, hq⟩
      · rw [if_neg e3]
        refine ⟨(b, f), rfl, ?_⟩
        show b * f' ≤ b' * f
        have p2 := (hw.1 p hp).2.1
        exact ap_ratio (a := b) (b := p.1) (c := b') (x := f) (y := p.2) (z := f') (by omega) (by omega) hq p2 z
theorem ap_cq_sm {st : ap_W} {f b g : Int} (hg : 0 < g) (h : ap_cq st f b) : ap_cq st (g * f) (g * b) := by
  refine ⟨fun z => ?_, fun z1 z2 => ?_⟩
  · have hf : 0 < f := by
      rcases ap_lg 0 f with y | y
      · exact y
      · have := Int.mul_nonneg (Int.le_of_lt hg) (show 0 ≤ - f by omega)
        rw [Int.mul_neg] at this
        omega
    obtain ⟨p, hp, hq⟩ := h.1 hf
    refine ⟨p, hp, ?_⟩
    have := Int.mul_le_mul_of_nonneg_left hq (Int.le_of_lt hg)
    have e1 : p.1 * (g * f) = g * (p.1 * f) := by grind
    have e2 : g * b * p.2 = g * (b * p.2) := by grind
    omega
  · have hf : f = 0 := ap_mul0 hg z1.symm
    refine h.2 hf ?_
    rcases ap_lg b 0 with y | y
    · exact y
    · have := Int.mul_nonneg (Int.le_of_lt hg) y
      omega
section
variable {qpr : Int32} {qwo : Int32} {qrw : Int32} {qtu : Int32} {qun : Int64} {qco : Int32} {qfw : Int32} {qwc : Int32} {qwt : Int64} {qwb : Int64} {qln : Int32} {qem : Int32} {qhh : Int32} {qht : Int64} {qhb : Int64} {qhl : Int32} {qlt : Int64} {qlb : Int64} {qbr : Int32} {ql3 : Int32} {qg3 : Int32} {a1 : Nat → Int32} {a2 : Nat → Int32} {a3 : Nat → Int32} {a4 : Nat → Int32} {a5 : Nat → Int32} {a6 : Nat → Int32} {a7 : Nat → Int32} {a8 : Nat → Int32} {a9 : Nat → Int32} {a10 : Nat → Int64} {a11 : Nat → Int32} {a12 : Nat → Int32} {a13 : Nat → Int64} {a14 : Nat → Int64} {a15 : Nat → Int64} {a16 : Nat → Int64} {a17 : Nat → Int64} {a18 : Nat → Int32} {a19 : Nat → Int32}
theorem ap_bound {post : St2 → Prop} {st : ap_W} {f b : Int} (h : ap_bs st qem qhh qht qhb qhl qlt qlb) (hf : -100000 ≤ f ∧ f ≤ 100000) (hb : -4000000 ≤ b ∧ b ≤ 4000000)
    (H : ∀ (qem' : Int32) (qhh' : Int32) (qht' : Int64) (qhb' : Int64) (qhl' : Int32) (qlt' : Int64) (qlb' : Int64), ap_bs (ap_bw f b st) qem' qhh' qht' qhb' qhl' qlt' qlb' → post (qpr, qwo, qrw, qtu, qun, qco, qfw, qwc, qwt, qwb, qln, qem', qhh', qht', qhb', qhl', qlt', qlb', qbr, ql3, qg3, a1, a2, a3, a4, a5, a6, a7, a8, a9, a10, a11, a12, a13, a14, a15, a16, a17, a18, a19)) : wpX_boundWorth post (qpr, qwo, qrw, qtu, qun, qco, qfw, qwc, qwt, qwb, qln, qem, qhh, qht, qhb, qhl, qlt, qlb, qbr, ql3, qg3, a1, a2, a3, a4, a5, a6, a7, a8, a9, a10, a11, a12, a13, a14, a15, a16, a17, a18, a19) (ap_l f) (ap_l b) := by
  obtain ⟨h1, h2, h3, h4, h5⟩ := h
  have hw := ap_bw_wp (f := f) (b := b) (st := st) ⟨fun p hp => (h3 p hp).2.2.2, fun p hp => (h5 p hp).2.2.2⟩ hf hb
  unfold wpX_boundWorth
  refine ap_leq f 0 rfl rfl (fun e => ?_) (fun e => ?_)
  · have hst : ap_bw f b st = (st.1 || decide (b < 0), st.2.1, st.2.2) := if_pos e
    rw [hst] at H
    have go : ∀ x : Int32, x = ap_b (st.1 || decide (b < 0)) → post (qpr, qwo, qrw, qtu, qun, qco, qfw, qwc, qwt, qwb, qln, x, qhh, qht, qhb, qhl, qlt, qlb, qbr, ql3, qg3, a1, a2, a3, a4, a5, a6, a7, a8, a9, a10, a11, a12, a13, a14, a15, a16, a17, a18, a19) := fun x hx => H x _ _ _ _ _ _ ⟨hx, h2, h3, h4, h5⟩
    rw [h1]
    refine ap_b0 (fun z => ?_) (fun z => go 1 (by rw [z]; rfl))
    refine ap_lle 0 b rfl rfl (fun z2 => go 0 ?_) (fun z2 => go 1 ?_)
    · rw [z, decide_eq_false (by omega)]; rfl
    · rw [z, decide_eq_true z2]; rfl
  · refine ap_lle f 0 rfl rfl (fun e2 => ?_) (fun e2 => ?_)
    · have hst : ap_bw f b st = (st.1, st.2.1, ap_lw f b st.2.2) := by
        unfold ap_bw
        rw [if_neg e, if_pos e2]
      rw [hst] at H hw
      have new : ap_lw f b st.2.2 = some (-b, -f) → wX_boundWorth_134 post (ap_l f) (ap_l b) qpr qwo qrw qtu qun qco qfw qwc qwt qwb qln qem qhh qht qhb qhl qlt qlb qbr ql3 qg3 a1 a2 a3 a4 a5 a6 a7 a8 a9 a10 a11 a12 a13 a14 a15 a16 a17 a18 a19 := by
        intro hn
        unfold wX_boundWorth_134 wX_boundWorth_139
        refine br_f (by decide) ?_
        unfold wX_boundWorth_156
        refine br_f (by decide) (nm_e (H _ _ _ _ _ _ _ ⟨h1, h2, h3, fun z => absurd z (by rw [hn]; exact fun y => nomatch y), fun p hp => ?_⟩))
        have hp' : ap_lw f b st.2.2 = some p := hp
        have hq := hw.2 p hp'
        rw [hn] at hp'
        have : (-b, -f) = p := Option.some.inj hp'
        rw [← this] at hq ⊢
        exact ⟨rfl, ap_l_neg b, ap_l_neg f, hq⟩
      cases hh : st.2.2 with
      | none =>
        refine br_t (h4 hh) (new ?_)
        rw [hh]; rfl
      | some p =>
        obtain ⟨g1, g2, g3, g4⟩ := h5 p hh
        refine br_f (by rw [g1]; decide) ?_
        have m1 := ap_mul_bd (A := 4000000) (B := 100000) (by decide) (by decide) (show -4000000 ≤ -b ∧ -b ≤ 4000000 by omega) (show -100000 ≤ p.2 ∧ p.2 ≤ 100000 by have := g4.2; omega)
        have m2 := ap_mul_bd (A := 4000000) (B := 100000) (by decide) (by decide) g4.1 (show -100000 ≤ -f ∧ -f ≤ 100000 by omega)
        refine ap_lle (-b * p.2) (p.1 * -f) (by rw [g3, ap_l_neg, ap_l_mul]) (by rw [g2, ap_l_neg, ap_l_mul]) (fun z => ?_) (fun z => new ?_)
        · unfold wX_boundWorth_139
          refine br_t rfl ?_
          unfold wX_boundWorth_156
          refine br_t rfl (H _ _ _ _ _ _ _ ⟨h1, h2, h3, fun y => ?_, fun p' hp' => ?_⟩)
          · have y' : ap_lw f b st.2.2 = none := y
            rw [hh] at y'
            have y2 : (if -b * p.2 ≤ p.1 * -f then some p else some (-b, -f)) = none := y'
            rw [if_pos z] at y2
            exact nomatch y2
          · have y' : ap_lw f b st.2.2 = some p' := hp'
            rw [hh] at y'
            have y2 : (if -b * p.2 ≤ p.1 * -f then some p else some (-b, -f)) = some p' := y'
            rw [if_pos z] at y2
            rw [← Option.some.inj y2]
            exact ⟨rfl, g2, g3, g4⟩
        · rw [hh]
          show (if -b * p.2 ≤ p.1 * -f then some p else some (-b, -f)) = _
          rw [if_neg (by omega)]
    · have hst : ap_bw f b st = (st.1, ap_up f b st.2.1, st.2.2) := by
        unfold ap_bw
        rw [if_neg e, if_neg (by omega)]
      rw [hst] at H hw
      have new : ap_up f b st.2.1 = some (b, f) → wX_boundWorth_60 post (ap_l f) (ap_l b) qpr qwo qrw qtu qun qco qfw qwc qwt qwb qln qem qhh qht qhb qhl qlt qlb qbr ql3 qg3 a1 a2 a3 a4 a5 a6 a7 a8 a9 a10 a11 a12 a13 a14 a15 a16 a17 a18 a19 := by
        intro hn
        unfold wX_boundWorth_60 wX_boundWorth_65
        refine br_f (by decide) ?_
        unfold wX_boundWorth_81
        refine br_f (by decide) (H _ _ _ _ _ _ _ ⟨h1, fun z => absurd z (by rw [hn]; exact fun y => nomatch y), fun p hp => ?_, h4, h5⟩)
        have hp' : ap_up f b st.2.1 = some p := hp
        have hq := hw.1 p hp'
        rw [hn] at hp'
        have : (b, f) = p := Option.some.inj hp'
        rw [← this] at hq ⊢
        exact ⟨rfl, rfl, rfl, hq⟩
      cases hh : st.2.1 with
      | none =>
        refine br_t (h2 hh) (new ?_)
        rw [hh]; rfl
      | some p =>
        obtain ⟨g1, g2, g3, g4⟩ := h3 p hh
        refine br_f (by rw [g1]; decide) ?_
        have m1 := ap_mul_bd (A := 4000000) (B := 100000) (by decide) (by decide) g4.1 hf
        have m2 := ap_mul_bd (A := 4000000) (B := 100000) (by decide) (by decide) hb (show -100000 ≤ p.2 ∧ p.2 ≤ 100000 by have := g4.2; omega)
        refine ap_lle (p.1 * f) (b * p.2) (by rw [g2, ap_l_mul]) (by rw [g3, ap_l_mul]) (fun z => ?_) (fun z => new ?_)
        · unfold wX_boundWorth_65
          refine br_t rfl ?_
          unfold wX_boundWorth_81
          refine br_t rfl (H _ _ _ _ _ _ _ ⟨h1, fun y => ?_, fun p' hp' => ?_, h4, h5⟩)
          · have y' : ap_up f b st.2.1 = none := y
            rw [hh] at y'
            have y2 : (if p.1 * f ≤ b * p.2 then some p else some (b, f)) = none := y'
            rw [if_pos z] at y2
            exact nomatch y2
          · have y' : ap_up f b st.2.1 = some p' := hp'
            rw [hh] at y'
            have y2 : (if p.1 * f ≤ b * p.2 then some p else some (b, f)) = some p' := y'
            rw [if_pos z] at y2
            rw [← Option.some.inj y2]
            exact ⟨rfl, g2, g3, g4⟩
        · rw [hh]
          show (if p.1 * f ≤ b * p.2 then some p else some (b, f)) = _
          rw [if_neg (by omega)]
end
/-! the second amount goes out -/
def ap_c2f (x y : ap_Q) : Int := x.1 * (- y.2.2.1) + y.1 * x.2.2.1
def ap_c2b (x y : ap_Q) : Int := x.2.2.2 * (- y.2.2.1) + y.2.2.2 * x.2.2.1
def ap_C2 (L : List ap_Q) (st : ap_W) (b i : Nat) : Prop := ((ap_at L i).2.2.1 = 0 → ap_cq st (ap_at L i).1 (ap_at L i).2.2.2) ∧ ∀ j, j < b → 0 < (ap_at L i).2.2.1 → (ap_at L j).2.2.1 < 0 → ap_cq st (ap_c2f (ap_at L i) (ap_at L j)) (ap_c2b (ap_at L i) (ap_at L j))
def ap_G2 (L : List ap_Q) (s W : Int) : Prop := ∃ Y Z, ∀ x, x ∈ L → ap_sat s W Y Z x
def ap_J2 (L : List ap_Q) (st : ap_W) (a : Nat) : Prop := ap_wp st ∧ ap_sd (ap_G2 L) st ∧ ∀ i, i < a → ap_C2 L st L.length i
theorem ap_C2_old {L : List ap_Q} {st : ap_W} {b i : Nat} {f g : Int} (hw : ap_wp st) (h : ap_C2 L st b i) : ap_C2 L (ap_bw f g st) b i :=
  ⟨fun z => ap_bw_old hw (h.1 z), fun j hj z1 z2 => ap_bw_old hw (h.2 j hj z1 z2)⟩
/-- after the second amount is out -/
def ap_so (M : List ap_Q) (st : ap_W) : Prop := ap_wp st ∧ ap_sd (ap_G2 M) st ∧ (∀ p, ap_h4 M p → p.2.2.1 = 0 → ap_cq st p.1 p.2.2.2) ∧ (∀ p q, ap_h4 M p → ap_h4 M q → 0 < p.2.2.1 → q.2.2.1 < 0 → ap_cq st (ap_c2f p q) (ap_c2b p q))
theorem ap_sgn_pos {g x : Int} (hg : 0 < g) (h : 0 < g * x) : 0 < x := by
  rcases ap_lg 0 x with y | y
  · exact y
  · have := Int.mul_nonneg (Int.le_of_lt hg) (show 0 ≤ - x by omega)
    rw [Int.mul_neg] at this
    omega
theorem ap_sgn_neg {g x : Int} (hg : 0 < g) (h : g * x < 0) : x < 0 := by
  rcases ap_lg x 0 with y | y
  · exact y
  · have := Int.mul_nonneg (Int.le_of_lt hg) y
    omega
theorem ap_so_of {M : List ap_Q} {st : ap_W} (h : ap_J2 M st M.length) : ap_so M st := by
  obtain ⟨h1, h2, h3⟩ := h
  refine ⟨h1, h2, fun p hp h0 => ?_, fun p q hp hq z1 z2 => ?_⟩
  · obtain ⟨x, hx, g, hg, e⟩ := hp
    subst e
    obtain ⟨i, hi, ei⟩ := ap_mem_at hx
    have hc := (h3 i hi).1 (by rw [ei]; exact ap_mul0 hg (show 0 = g * x.2.2.1 from h0.symm))
    rw [ei] at hc
    exact ap_cq_sm hg hc
  · obtain ⟨x, hx, g, hg, e⟩ := hp
    obtain ⟨y, hy, k, hk, e'⟩ := hq
    subst e e'
    obtain ⟨i, hi, ei⟩ := ap_mem_at hx
    obtain ⟨j, hj, ej⟩ := ap_mem_at hy
    have hc := (h3 i hi).2 j hj (by rw [ei]; exact ap_sgn_pos hg z1) (by rw [ej]; exact ap_sgn_neg hk z2)
    rw [ei, ej] at hc
    have hc2 := ap_cq_sm (Int.mul_pos hg hk) hc
    have e1 : ap_c2f (ap_sm g x) (ap_sm k y) = g * k * ap_c2f x y := by
      show g * x.1 * (-(k * y.2.2.1)) + k * y.1 * (g * x.2.2.1) = g * k * (x.1 * (- y.2.2.1) + y.1 * x.2.2.1)
      grind
    have e2 : ap_c2b (ap_sm g x) (ap_sm k y) = g * k * ap_c2b x y := by
      show g * x.2.2.2 * (-(k * y.2.2.1)) + k * y.2.2.2 * (g * x.2.2.1) = g * k * (x.2.2.2 * (- y.2.2.1) + y.2.2.2 * x.2.2.1)
      grind
    rw [e1, e2]
    exact hc2
section
variable {qpr : Int32} {qwo : Int32} {qrw : Int32} {qtu : Int32} {qun : Int64} {qco : Int32} {qfw : Int32} {qwc : Int32} {qwt : Int64} {qwb : Int64} {qln : Int32} {qem : Int32} {qhh : Int32} {qht : Int64} {qhb : Int64} {qhl : Int32} {qlt : Int64} {qlb : Int64} {qbr : Int32} {ql3 : Int32} {qg3 : Int32} {a1 : Nat → Int32} {a2 : Nat → Int32} {a3 : Nat → Int32} {a4 : Nat → Int32} {a5 : Nat → Int32} {a6 : Nat → Int32} {a7 : Nat → Int32} {a8 : Nat → Int32} {a9 : Nat → Int32} {a10 : Nat → Int64} {a11 : Nat → Int32} {a12 : Nat → Int32} {a13 : Nat → Int64} {a14 : Nat → Int64} {a15 : Nat → Int64} {a16 : Nat → Int64} {a17 : Nat → Int64} {a18 : Nat → Int32} {a19 : Nat → Int32}
theorem ap_takeSecond {post : St2 → Prop} {L : List ap_Q} {st0 : ap_W} (hL : L.length ≤ 200) (hln : qln = nI L.length) (hLs : ap_Ls L a14 a15 a16 a17) (hLb : ∀ y, y ∈ L → y.2.1 = 0 ∧ ap_lb 200 8000 y) (hst : ap_bs st0 qem qhh qht qhb qhl qlt qlb) (hs0 : st0 = (false, none, none))
    (H : ∀ (st : ap_W) (qem' : Int32) (qhh' : Int32) (qht' : Int64) (qhb' : Int64) (qhl' : Int32) (qlt' : Int64) (qlb' : Int64), ap_so L st → ap_bs st qem' qhh' qht' qhb' qhl' qlt' qlb' → post (qpr, qwo, qrw, qtu, qun, qco, qfw, qwc, qwt, qwb, qln, qem', qhh', qht', qhb', qhl', qlt', qlb', qbr, ql3, qg3, a1, a2, a3, a4, a5, a6, a7, a8, a9, a10, a11, a12, a13, a14, a15, a16, a17, a18, a19)) : wpX_takeSecondOut post (qpr, qwo, qrw, qtu, qun, qco, qfw, qwc, qwt, qwb, qln, qem, qhh, qht, qhb, qhl, qlt, qlb, qbr, ql3, qg3, a1, a2, a3, a4, a5, a6, a7, a8, a9, a10, a11, a12, a13, a14, a15, a16, a17, a18, a19) := by
  unfold wpX_takeSecondOut
  refine pk_loop (fun q a t => wX_takeSecondOut_2 post q (nI a) qpr qwo qrw qtu qun qco qfw qwc qwt qwb qln t.1 t.2.1 t.2.2.1 t.2.2.2.1 t.2.2.2.2.1 t.2.2.2.2.2.1 t.2.2.2.2.2.2 qbr ql3 qg3 a1 a2 a3 a4 a5 a6 a7 a8 a9 a10 a11 a12 a13 a14 a15 a16 a17 a18 a19) (fun a t => ∃ st, ap_bs st t.1 t.2.1 t.2.2.1 t.2.2.2.1 t.2.2.2.2.1 t.2.2.2.2.2.1 t.2.2.2.2.2.2 ∧ ap_J2 L st a) L.length 0 (qem, qhh, qht, qhb, qhl, qlt, qlb) (by omega)
    ⟨st0, hst, by subst hs0; exact ⟨⟨fun p hp => (nomatch hp), fun p hp => (nomatch hp)⟩, fun s W _ => ⟨fun z => (nomatch z), fun p hp => (nomatch hp), fun p hp => (nomatch hp)⟩, fun i hi => absurd hi (by omega)⟩⟩ ?_ ?_
  · intro q t h
    obtain ⟨st, s1, s2⟩ := h
    exact pk_le L.length L.length (fun _ => H st _ _ _ _ _ _ _ (ap_so_of s2) s1) (fun z => absurd z (by omega)) hln
  · intro q a t ha h hs
    obtain ⟨st, s1, s2⟩ := h
    have ea : (nI a).toNatClampNeg = a := nI_clamp (by omega)
    have va : vp_in (nI a) 512 := pk_in a 512 (by omega)
    obtain ⟨g1, g2, g3, g4⟩ := hLs a ha
    have ma := ap_at_mem ha
    obtain ⟨fa, ba1, ba2, ba3, ba4⟩ := hLb _ ma
    have inner : ∀ (st : ap_W) (t : Int32 × Int32 × Int64 × Int64 × Int32 × Int64 × Int64), ap_bs st t.1 t.2.1 t.2.2.1 t.2.2.2.1 t.2.2.2.2.1 t.2.2.2.2.2.1 t.2.2.2.2.2.2 → ap_J2 L st a → ((ap_at L a).2.2.1 = 0 → ap_cq st (ap_at L a).1 (ap_at L a).2.2.2) →
        ∃ g, wX_takeSecondOut_39 post (wX_takeSecondOut_2 post q) (nI a) g 0 qpr qwo qrw qtu qun qco qfw qwc qwt qwb qln t.1 t.2.1 t.2.2.1 t.2.2.2.1 t.2.2.2.2.1 t.2.2.2.2.2.1 t.2.2.2.2.2.2 qbr ql3 qg3 a1 a2 a3 a4 a5 a6 a7 a8 a9 a10 a11 a12 a13 a14 a15 a16 a17 a18 a19 := by
      intro st1 t1 e1 e2 e3
      refine pk_loop (fun g b t => wX_takeSecondOut_39 post (wX_takeSecondOut_2 post q) (nI a) g (nI b) qpr qwo qrw qtu qun qco qfw qwc qwt qwb qln t.1 t.2.1 t.2.2.1 t.2.2.2.1 t.2.2.2.2.1 t.2.2.2.2.2.1 t.2.2.2.2.2.2 qbr ql3 qg3 a1 a2 a3 a4 a5 a6 a7 a8 a9 a10 a11 a12 a13 a14 a15 a16 a17 a18 a19) (fun b t => ∃ st, ap_bs st t.1 t.2.1 t.2.2.1 t.2.2.2.1 t.2.2.2.2.1 t.2.2.2.2.2.1 t.2.2.2.2.2.2 ∧ ap_J2 L st a ∧ ap_C2 L st b a) L.length 0 t1 (by omega)
        ⟨st1, e1, e2, e3, fun j hj => absurd hj (by omega)⟩ ?_ ?_
      · intro g t2 h
        obtain ⟨st2, f1, f2, f3⟩ := h
        refine pk_le L.length L.length (fun _ => nm_r (nI_1 a) (hs t2 ⟨st2, f1, f2.1, f2.2.1, fun i hi => ?_⟩)) (fun z => absurd z (by omega)) hln
        by_cases e : i = a
        · rw [e]; exact f3
        · exact f2.2.2 i (by omega)
      · intro g b t2 hb h hs2
        obtain ⟨st2, f1, f2, f3⟩ := h
        have eb : (nI b).toNatClampNeg = b := nI_clamp (by omega)
        have vb : vp_in (nI b) 512 := pk_in b 512 (by omega)
        obtain ⟨k1, k2, k3, k4⟩ := hLs b hb
        have mb := ap_at_mem hb
        obtain ⟨fb, bb1, bb2, bb3, bb4⟩ := hLb _ mb
        have skip : ¬ (0 < (ap_at L a).2.2.1 ∧ (ap_at L b).2.2.1 < 0) → wX_takeSecondOut_39 post (wX_takeSecondOut_2 post q) (nI a) g (nI (b + 1)) qpr qwo qrw qtu qun qco qfw qwc qwt qwb qln t2.1 t2.2.1 t2.2.2.1 t2.2.2.2.1 t2.2.2.2.2.1 t2.2.2.2.2.2.1 t2.2.2.2.2.2.2 qbr ql3 qg3 a1 a2 a3 a4 a5 a6 a7 a8 a9 a10 a11 a12 a13 a14 a15 a16 a17 a18 a19 := by
          intro hn
          refine hs2 t2 ⟨st2, f1, f2, f3.1, fun j hj z1 z2 => ?_⟩
          by_cases e : j = b
          · rw [e] at z2; exact absurd ⟨z1, z2⟩ hn
          · exact f3.2 j (by omega) z1 z2
        refine pk_le L.length b (fun z => absurd z (by omega)) (fun _ => ⟨va, ?_⟩) hln
        refine ap_lle (ap_at L a).2.2.1 0 (by rw [ea]; exact g3) rfl (fun z => nm_r (nI_1 b) (skip (by omega))) (fun z => ⟨vb, ?_⟩)
        refine ap_lle 0 (ap_at L b).2.2.1 rfl (by rw [eb]; exact k3) (fun z2 => nm_r (nI_1 b) (skip (by omega))) (fun z2 => ?_)
        refine ⟨va, nm_r (e' := ap_l (ap_at L a).2.2.1) (by rw [ea]; exact g3) ⟨vb, nm_r (e' := ap_l (- (ap_at L b).2.2.1)) (by rw [eb, k3, ap_l_neg]) ⟨va, vb, va, vb, ?_⟩⟩⟩
        rw [ea, eb, g1, g4, k1, k4, ap_l_mul, ap_l_mul, ap_l_mul, ap_l_mul, ap_l_add, ap_l_add]
        have nb3 : -200 ≤ - (ap_at L b).2.2.1 ∧ - (ap_at L b).2.2.1 ≤ 200 := by omega
        have m1 := ap_mul_bd (by decide) (by decide) ba1 nb3
        have m2 := ap_mul_bd (by decide) (by decide) bb1 ba3
        have m3 := ap_mul_bd (by decide) (by decide) ba4 nb3
        have m4 := ap_mul_bd (by decide) (by decide) bb4 ba3
        refine ap_bound (f := ap_c2f (ap_at L a) (ap_at L b)) (b := ap_c2b (ap_at L a) (ap_at L b)) f1 (by unfold ap_c2f; omega) (by unfold ap_c2b; omega) (fun em' hh' ht' hb' hl' lt' lb' h' => ?_)
        refine nm_r (nI_1 b) (hs2 (em', hh', ht', hb', hl', lt', lb') ⟨_, h', ⟨ap_bw_wp f2.1 (by unfold ap_c2f; omega) (by unfold ap_c2b; omega), ap_bw_sd f2.2.1 (fun s W hG => ?_), fun i hi => ap_C2_old f2.1 (f2.2.2 i hi)⟩, fun y => ap_bw_old f2.1 (f3.1 y), fun j hj z3 z4 => ?_⟩)
        · obtain ⟨Y, Z, hG⟩ := hG
          have q1 := hG _ ma
          have q2 := hG _ mb
          unfold ap_sat at q1 q2
          rw [fa] at q1
          rw [fb] at q2
          have p1 := Int.mul_le_mul_of_nonneg_right q1 (show 0 ≤ - (ap_at L b).2.2.1 by omega)
          have p2 := Int.mul_le_mul_of_nonneg_right q2 (show 0 ≤ (ap_at L a).2.2.1 by omega)
          unfold ap_c2f ap_c2b
          revert p1 p2
          generalize (ap_at L a).1 = x1
          generalize (ap_at L a).2.2.1 = x3
          generalize (ap_at L a).2.2.2 = x4
          generalize (ap_at L b).1 = y1
          generalize (ap_at L b).2.2.1 = y3
          generalize (ap_at L b).2.2.2 = y4
          intro p1 p2
          have e1 : (x1 * W + 0 * Y + x3 * Z) * -y3 + (y1 * W + 0 * Y + y3 * Z) * x3 = (x1 * -y3 + y1 * x3) * W := by grind
          have e2 : s * x4 * -y3 + s * y4 * x3 = s * (x4 * -y3 + y4 * x3) := by grind
          omega
        · by_cases e : j = b
          · rw [e]; exact ap_bw_new
          · exact ap_bw_old f2.1 (f3.2 j (by omega) z3 z4)
    refine pk_le L.length a (fun z => absurd z (by omega)) (fun _ => ⟨va, ?_⟩) hln
    refine ap_leq (ap_at L a).2.2.1 0 (by rw [ea]; exact g3) rfl (fun z => ⟨va, va, ?_⟩) (fun z => inner st t s1 s2 (fun y => absurd y z))
    rw [ea, g1, g4]
    refine ap_bound (f := (ap_at L a).1) (b := (ap_at L a).2.2.2) s1 (by omega) (by omega) (fun em' hh' ht' hb' hl' lt' lb' h' => ?_)
    refine inner _ (em', hh', ht', hb', hl', lt', lb') h' ⟨ap_bw_wp s2.1 (by omega) (by omega), ap_bw_sd s2.2.1 (fun s W hG => ?_), fun i hi => ap_C2_old s2.1 (s2.2.2 i hi)⟩ (fun _ => ap_bw_new)
    obtain ⟨Y, Z, hG⟩ := hG
    have q1 := hG _ ma
    unfold ap_sat at q1
    rw [fa, z] at q1
    omega
end
end
section
/-! the answer by taking variables out; the goal is 3 4 1 -/
def ap_ln (A : List (List Int)) (β : Nat → Int) (x : Nat × Int) : ap_Q :=
  (x.2 * ap_A A x.1 0, 3 * (x.2 * ap_A A x.1 1) - x.2 * ap_A A x.1 0 * 4, 3 * (x.2 * ap_A A x.1 2) - x.2 * ap_A A x.1 0 * 1, 3 * (if x.2 = 1 then β x.1 else 0))
/-- the lines that are written first -/
def ap_Ln (n : Nat) (x : Nat × Int) : Prop := x.1 < n ∧ (x.2 = 1 ∨ (x.2 = -1 ∧ n ≤ x.1 + 3))
def ap_fmr (n : Nat) (A : List (List Int)) (β : Nat → Int) (st : ap_W) : Prop := ap_wp st ∧
  (∀ s x0 x1 x2, ap_fe n A β s x0 x1 x2 → (st.1 = true → s ≤ 0) ∧ (∀ p, st.2.1 = some p → (3 * x0 + 4 * x1 + x2) * p.2 ≤ s * p.1) ∧ (∀ p, st.2.2 = some p → s * p.1 ≤ (3 * x0 + 4 * x1 + x2) * p.2)) ∧
  (∀ p q t, ap_Ln n p → ap_Ln n q → ap_Ln n t → 0 < (ap_ln A β p).2.1 → (ap_ln A β q).2.1 < 0 → (ap_ln A β t).2.1 = 0 → 0 < (ap_ln A β t).2.2.1 → (ap_cp (ap_ln A β p) (ap_ln A β q)).2.2.1 < 0 →
    ap_cq st (ap_c2f (ap_ln A β t) (ap_cp (ap_ln A β p) (ap_ln A β q))) (ap_c2b (ap_ln A β t) (ap_cp (ap_ln A β p) (ap_ln A β q)))) ∧
  (∀ p q, ap_Ln n p → ap_Ln n q → (ap_ln A β p).2.1 = 0 → (ap_ln A β q).2.1 = 0 → 0 < (ap_ln A β p).2.2.1 → (ap_ln A β q).2.2.1 < 0 → ap_cq st (ap_c2f (ap_ln A β p) (ap_ln A β q)) (ap_c2b (ap_ln A β p) (ap_ln A β q)))
def ap_snd (n : Nat) (A : List (List Int)) (β : Nat → Int) (L : List ap_Q) : Prop := ∀ s W Y Z, (∀ x, ap_Ln n x → ap_sat s W Y Z (ap_ln A β x)) → ∀ y, y ∈ L → ap_sat s W Y Z y
theorem ap_ln_sat {n : Nat} {A : List (List Int)} {β : Nat → Int} {s x0 x1 x2 : Int} (hAb : ∀ j, j < 3 → ∀ i, i < 3 → ap_A A (n - 3 + j) i = if i = j then 1 else 0) (hn : 3 ≤ n) (h : ap_fe n A β s x0 x1 x2) : ∀ x, ap_Ln n x → ap_sat s (3 * x0 + 4 * x1 + x2) x1 x2 (ap_ln A β x) := by
  intro x hx
  obtain ⟨h0, h1, h2, h3⟩ := h
  unfold ap_sat ap_ln
  have e1 : ∀ g a b c : Int, g * a * (3 * x0 + 4 * x1 + x2) + (3 * (g * b) - g * a * 4) * x1 + (3 * (g * c) - g * a * 1) * x2 = g * (3 * (a * x0 + b * x1 + c * x2)) := by
    intro g a b c
    grind
  show x.2 * ap_A A x.1 0 * (3 * x0 + 4 * x1 + x2) + (3 * (x.2 * ap_A A x.1 1) - x.2 * ap_A A x.1 0 * 4) * x1 + (3 * (x.2 * ap_A A x.1 2) - x.2 * ap_A A x.1 0 * 1) * x2 ≤ s * (3 * (if x.2 = 1 then β x.1 else 0))
  rw [e1]
  rcases hx.2 with e | ⟨e, hr⟩
  · rw [e, if_pos rfl, Int.one_mul]
    have := h3 x.1 hx.1
    have e2 : s * (3 * β x.1) = 3 * (s * β x.1) := by rw [← Int.mul_assoc, Int.mul_comm s, Int.mul_assoc]
    omega
  · rw [e, if_neg (by decide)]
    obtain ⟨j, hj, ej⟩ : ∃ j, j < 3 ∧ x.1 = n - 3 + j := ⟨x.1 - (n - 3), by have := hx.1; omega, by omega⟩
    have a0 := hAb j hj 0 (by omega)
    have a1 := hAb j hj 1 (by omega)
    have a2 := hAb j hj 2 (by omega)
    rw [ej, a0, a1, a2]
    have hj' : j = 0 ∨ j = 1 ∨ j = 2 := by omega
    rcases hj' with e | e | e <;> subst e <;> simp <;> omega
section
variable {qpr : Int32} {qwo : Int32} {qrw : Int32} {qtu : Int32} {qun : Int64} {qco : Int32} {qfw : Int32} {qwc : Int32} {qwt : Int64} {qwb : Int64} {qln : Int32} {qem : Int32} {qhh : Int32} {qht : Int64} {qhb : Int64} {qhl : Int32} {qlt : Int64} {qlb : Int64} {qbr : Int32} {ql3 : Int32} {qg3 : Int32} {a1 : Nat → Int32} {a2 : Nat → Int32} {a3 : Nat → Int32} {a4 : Nat → Int32} {a5 : Nat → Int32} {a6 : Nat → Int32} {a7 : Nat → Int32} {a8 : Nat → Int32} {a9 : Nat → Int32} {a10 : Nat → Int64} {a11 : Nat → Int32} {a12 : Nat → Int32} {a13 : Nat → Int64} {a14 : Nat → Int64} {a15 : Nat → Int64} {a16 : Nat → Int64} {a17 : Nat → Int64} {a18 : Nat → Int32} {a19 : Nat → Int32}
variable {n : Nat} {P : Nat} {num : Nat → Nat → Int} {kind bnd lo hi : Nat → Int} {wo : Int} {A : List (List Int)} {β : Nat → Int}
theorem ap_addIneq {post : St2 → Prop} {L : List ap_Q} {r : Nat} {sg : Int} {xs : Int32} (hxs : xs = ap_i sg) (hr : r < n) (hn : n ≤ 16) (hsg : sg = 1 ∨ sg = -1)
    (h8 : ∀ r, r < n → ∀ c, c < 3 → a8 (r * 3 + c) = ap_i (ap_A A r c) ∧ -1000 ≤ ap_A A r c ∧ ap_A A r c ≤ 1000) (h9 : ∀ r, r < n → a9 r = ap_i (β r) ∧ -4096 ≤ β r ∧ β r ≤ 4096)
    (h70 : a7 0 = 3) (h71 : a7 1 = 4) (h72 : a7 2 = 1) (hL : L.length < 512) (hln : qln = nI L.length) (hLs : ap_Ls L a14 a15 a16 a17) (hLb : ∀ y, y ∈ L → ap_lb 10 400 y) (hp : ap_lb 10 400 (ap_ln A β (r, sg)))
    (H : ∀ (L' : List ap_Q) (x : ap_Q) (g : Int) (qln' : Int32) (a14' : Nat → Int64) (a15' : Nat → Int64) (a16' : Nat → Int64) (a17' : Nat → Int64), (L' = L ∨ L' = L ++ [x]) → x ∈ L' → 0 < g → ap_ln A β (r, sg) = ap_sm g x → ap_lb 10 400 x → qln' = nI L'.length → ap_Ls L' a14' a15' a16' a17' → post (qpr, qwo, qrw, qtu, qun, qco, qfw, qwc, qwt, qwb, qln', qem, qhh, qht, qhb, qhl, qlt, qlb, qbr, ql3, qg3, a1, a2, a3, a4, a5, a6, a7, a8, a9, a10, a11, a12, a13, a14', a15', a16', a17', a18, a19)) :
    wpX_addInequality post (qpr, qwo, qrw, qtu, qun, qco, qfw, qwc, qwt, qwb, qln, qem, qhh, qht, qhb, qhl, qlt, qlb, qbr, ql3, qg3, a1, a2, a3, a4, a5, a6, a7, a8, a9, a10, a11, a12, a13, a14, a15, a16, a17, a18, a19) 0 (nI r) xs := by
  subst hxs
  unfold wpX_addInequality
  have c0 := h8 r hr 0 (by omega)
  have c1 := h8 r hr 1 (by omega)
  have c2 := h8 r hr 2 (by omega)
  have b9 := h9 r hr
  have s0 := ap_sgn hsg c0.2
  have s1 := ap_sgn hsg c1.2
  have s2 := ap_sgn hsg c2.2
  have i0 : nI r * 3 + 0 = nI (r * 3 + 0) := ap_ix3 r 0
  have i1 : nI r * 3 + 1 = nI (r * 3 + 1) := ap_ix3 r 1
  have i2 : nI r * 3 + 2 = nI (r * 3 + 2) := ap_ix3 r 2
  refine ⟨by decide, nm_r (e' := 1) (by decide) ⟨by decide, nm_r (e' := 2) (by decide) ⟨pk_in 0 3 (by omega), nm_r (e' := 3) h70 ?_⟩⟩⟩
  refine ⟨pk_in (r * 3 + 0) 48 (by omega) i0, nm_r (e' := ap_l (sg * ap_A A r 0)) (by rw [i0, nI_clamp (by omega), c0.1, ap_i_mul, ap_il (by omega)]) ?_⟩
  refine ⟨pk_in (r * 3 + 1) 48 (by omega) i1, nm_r (e' := ap_l (sg * ap_A A r 1)) (by rw [i1, nI_clamp (by omega), c1.1, ap_i_mul, ap_il (by omega)]) ?_⟩
  refine ⟨pk_in (r * 3 + 2) 48 (by omega) i2, nm_r (e' := ap_l (sg * ap_A A r 2)) (by rw [i2, nI_clamp (by omega), c2.1, ap_i_mul, ap_il (by omega)]) ?_⟩
  have s84 : ∀ z : Int, z = (if sg = 1 then β r else 0) → wX_addInequality_84 post 1 2 3 (ap_l (sg * ap_A A r 0)) (ap_l (sg * ap_A A r 1)) (ap_l (sg * ap_A A r 2)) (ap_l z) qpr qwo qrw qtu qun qco qfw qwc qwt qwb qln qem qhh qht qhb qhl qlt qlb qbr ql3 qg3 a1 a2 a3 a4 a5 a6 a7 a8 a9 a10 a11 a12 a13 a14 a15 a16 a17 a18 a19 := by
    intro z hz
    unfold wX_addInequality_84
    refine br_f (by decide) (br_t (by decide) ?_)
    unfold wX_addInequality_119
    refine br_t (by decide) ?_
    unfold wX_addInequality_133
    refine ⟨pk_in 1 3 (by omega), pk_in 2 3 (by omega), ?_⟩
    have e71 : a7 (1 : Int32).toNatClampNeg = 4 := h71
    have e72 : a7 (2 : Int32).toNatClampNeg = 1 := h72
    rw [e71, e72, show ((3 : Int32).toInt64) = ap_l 3 from rfl, show ((4 : Int32).toInt64) = ap_l 4 from rfl, show ((1 : Int32).toInt64) = ap_l 1 from rfl, show (1 : Int64) = ap_l 1 from rfl, ap_l_mul, ap_l_mul, ap_l_mul, ap_l_mul, ap_l_mul, ap_l_mul, ap_l_sub, ap_l_sub, Int.one_mul]
    rw [hz]
    exact ap_addLine (p := ap_ln A β (r, sg)) (c := 10) (b := 400) (by decide) (by decide) hL hln hLs hLb hp (fun L' x g ln' b14 b15 b16 b17 h1 h2 h3 h4 h5 h6 h7 => H L' x g _ _ _ _ _ h1 h2 h3 h4 h5 h6 h7)
  refine ap_ile sg 0 rfl rfl (fun z => ?_) (fun z => ⟨pk_in r 16 (by omega), ?_⟩)
  · exact s84 0 (by rw [if_neg (by omega)])
  · rw [nI_clamp (by omega), b9.1, ap_il (by omega)]
    exact s84 (β r) (by rw [if_pos (by omega)])
theorem ap_replaced {post : Int32 → Prop} (h70 : a7 0 = 3) (hp : post 0) : wpX_replaced post (qpr, qwo, qrw, qtu, qun, qco, qfw, qwc, qwt, qwb, qln, qem, qhh, qht, qhb, qhl, qlt, qlb, qbr, ql3, qg3, a1, a2, a3, a4, a5, a6, a7, a8, a9, a10, a11, a12, a13, a14, a15, a16, a17, a18, a19) := by
  unfold wpX_replaced
  have e : a7 (0 : Int32).toNatClampNeg = 3 := h70
  refine ⟨1, pk_le 2 0 (fun z => absurd z (by omega)) (fun _ => ⟨pk_in 0 3 (by omega), br_f (by rw [e]; decide) ?_⟩)⟩
  unfold wX_replaced_22
  exact ⟨pk_in 0 3 (by omega), br_f (by rw [e]; decide) hp⟩
/-- one more line among the first ones -/
theorem ap_snd_add {L L' : List ap_Q} {x : ap_Q} {y : Nat × Int} {g : Int} (h : ap_snd n A β L) (hL : L' = L ∨ L' = L ++ [x]) (hg : 0 < g) (he : ap_ln A β y = ap_sm g x) (hy : ap_Ln n y) : ap_snd n A β L' ∧ (∀ z, z ∈ L → z ∈ L') := by
  rcases hL with e | e
  · subst e
    exact ⟨h, fun z hz => hz⟩
  · subst e
    refine ⟨fun s W Y Z hq z hz => ?_, fun z hz => List.mem_append_left _ hz⟩
    rcases List.mem_append.mp hz with w | w
    · exact h s W Y Z hq z w
    · rw [List.mem_singleton.mp w]
      have := hq y hy
      rw [he] at this
      exact (ap_sat_sm hg).mp this
theorem ap_lb_add {L L' : List ap_Q} {x : ap_Q} {c b : Int} (h : ∀ y, y ∈ L → ap_lb c b y) (hL : L' = L ∨ L' = L ++ [x]) (hx : ap_lb c b x) : ∀ y, y ∈ L' → ap_lb c b y := by
  rcases hL with e | e
  · rw [e]; exact h
  · subst e
    intro y hy
    rcases List.mem_append.mp hy with w | w
    · exact h y w
    · rw [List.mem_singleton.mp w]; exact hx
theorem ap_fmr_of {L0 M : List ap_Q} {st : ap_W} (hAb : ∀ j, j < 3 → ∀ i, i < 3 → ap_A A (n - 3 + j) i = if i = j then 1 else 0) (hn : 3 ≤ n) (h0 : ap_snd n A β L0) (hc : ∀ x, ap_Ln n x → ap_h4 L0 (ap_ln A β x)) (h1 : ap_fo L0 M) (h2 : ap_so M st) : ap_fmr n A β st := by
  obtain ⟨m1, m2, m3, m4, m5⟩ := h1
  obtain ⟨s1, s2, s3, s4⟩ := h2
  refine ⟨s1, fun s x0 x1 x2 hf => ?_, fun p q t hp hq ht z1 z2 z3 z4 z5 => ?_, fun p q hp hq z1 z2 z3 z4 => ?_⟩
  · exact s2 s (3 * x0 + 4 * x1 + x2) ⟨x1, x2, m3 s _ x1 x2 (h0 s _ x1 x2 (ap_ln_sat hAb hn hf))⟩
  · exact s4 _ _ (m4 _ (hc t ht) z3) (m5 _ _ (hc p hp) (hc q hq) z1 z2) z4 z5
  · exact s4 _ _ (m4 _ (hc p hp) z1) (m4 _ (hc q hq) z2) z3 z4
theorem ap_to64 {post : Int32 → St2 → Prop} (hn3 : 3 ≤ n) (hn : n ≤ 9) (hrw : qrw = nI n)
    (h8 : ∀ r, r < n → ∀ c, c < 3 → a8 (r * 3 + c) = ap_i (ap_A A r c) ∧ -1000 ≤ ap_A A r c ∧ ap_A A r c ≤ 1000) (h9 : ∀ r, r < n → a9 r = ap_i (β r) ∧ -4096 ≤ β r ∧ β r ≤ 4096)
    (h70 : a7 0 = 3) (h71 : a7 1 = 4) (h72 : a7 2 = 1) (hAb : ∀ j, j < 3 → ∀ i, i < 3 → ap_A A (n - 3 + j) i = if i = j then 1 else 0) (hlb : ∀ x, ap_Ln n x → ap_lb 10 400 (ap_ln A β x)) (he : qem = 0) (hh : qhh = 0) (hl : qhl = 0)
    (H1 : ∀ (st : ap_W) (p : Int × Int) (qln' : Int32) (qem' : Int32) (qhh' : Int32) (qht' : Int64) (qhb' : Int64) (qhl' : Int32) (qlt' : Int64) (qlb' : Int64) (a14' : Nat → Int64) (a15' : Nat → Int64) (a16' : Nat → Int64) (a17' : Nat → Int64), ap_fmr n A β st → st.1 = false → st.2.1 = some p → (∀ q, st.2.2 = some q → q.1 * p.2 ≤ p.1 * q.2) → post 1 (qpr, qwo, qrw, qtu, qun, qco, qfw, qwc, ap_l p.1, ap_l p.2, qln', qem', qhh', qht', qhb', qhl', qlt', qlb', qbr, ql3, qg3, a1, a2, a3, a4, a5, a6, a7, a8, a9, a10, a11, a12, a13, a14', a15', a16', a17', a18, a19))
    (H0 : ∀ (st : ap_W) (qln' : Int32) (qem' : Int32) (qhh' : Int32) (qht' : Int64) (qhb' : Int64) (qhl' : Int32) (qlt' : Int64) (qlb' : Int64) (a14' : Nat → Int64) (a15' : Nat → Int64) (a16' : Nat → Int64) (a17' : Nat → Int64), ap_fmr n A β st → (st.1 = true ∨ ∃ p q, st.2.1 = some p ∧ st.2.2 = some q ∧ p.1 * q.2 < q.1 * p.2) → post 0 (qpr, qwo, qrw, qtu, qun, qco, qfw, qwc, qwt, qwb, qln', qem', qhh', qht', qhb', qhl', qlt', qlb', qbr, ql3, qg3, a1, a2, a3, a4, a5, a6, a7, a8, a9, a10, a11, a12, a13, a14', a15', a16', a17', a18, a19))
    (Hn : ∀ (st : ap_W), ap_fmr n A β st → st.1 = false → st.2.1 ≠ none) :
    ∀ (L : List ap_Q) (t : Int32 × (Nat → Int64) × (Nat → Int64) × (Nat → Int64) × (Nat → Int64)), t.1 = nI L.length → L.length ≤ n → ap_Ls L t.2.1 t.2.2.1 t.2.2.2.1 t.2.2.2.2 → (∀ y, y ∈ L → ap_lb 10 400 y) → ap_snd n A β L → (∀ r, r < n → ap_h4 L (ap_ln A β (r, 1))) →
      ∃ q, wX_solveByTakingOut_64 post 0 q (nI (n - 3)) qpr qwo qrw qtu qun qco qfw qwc qwt qwb t.1 qem qhh qht qhb qhl qlt qlb qbr ql3 qg3 a1 a2 a3 a4 a5 a6 a7 a8 a9 a10 a11 a12 a13 t.2.1 t.2.2.1 t.2.2.2.1 t.2.2.2.2 a18 a19 := by
  intro L t e1 e2 e3 e4 e5 e6
  refine pk_loop (fun q r t => wX_solveByTakingOut_64 post 0 q (nI r) qpr qwo qrw qtu qun qco qfw qwc qwt qwb t.1 qem qhh qht qhb qhl qlt qlb qbr ql3 qg3 a1 a2 a3 a4 a5 a6 a7 a8 a9 a10 a11 a12 a13 t.2.1 t.2.2.1 t.2.2.2.1 t.2.2.2.2 a18 a19) (fun r t => n - 3 ≤ r ∧ ∃ L, t.1 = nI L.length ∧ L.length ≤ n + (r - (n - 3)) ∧ ap_Ls L t.2.1 t.2.2.1 t.2.2.2.1 t.2.2.2.2 ∧ (∀ y, y ∈ L → ap_lb 10 400 y) ∧ ap_snd n A β L ∧ (∀ r, r < n → ap_h4 L (ap_ln A β (r, 1))) ∧ ∀ r', n - 3 ≤ r' → r' < r → ap_h4 L (ap_ln A β (r', -1))) n (n - 3) t (by omega)
    ⟨Nat.le_refl _, L, e1, by omega, e3, e4, e5, e6, fun r' z1 z2 => absurd z1 (by omega)⟩ ?_ ?_
  · intro q t h
    obtain ⟨hr3, L, l1, l2, l3, l4, l5, l6, l7⟩ := h
    refine pk_le n n (fun _ => ?_) (fun z => absurd z (by omega)) hrw
    refine ap_takeFirst (by omega) l1 l3 l4 (fun M b14 b15 b16 b17 f1 f2 => ?_)
    refine ap_takeSecond (st0 := (false, none, none)) f1.2.1 rfl f2 f1.1 ⟨he, fun _ => hh, fun p hp => (nomatch hp), fun _ => hl, fun p hp => (nomatch hp)⟩ rfl (fun st em' hh' ht' hb' hl' lt' lb' g1 g2 => ?_)
    have hf : ap_fmr n A β st := ap_fmr_of hAb hn3 l5 (fun x hx => by
      obtain ⟨y1, y2⟩ := x
      obtain ⟨hx1, hx2⟩ := hx
      have hx1' : y1 < n := hx1
      rcases hx2 with z | ⟨z, z2⟩
      · have z' : y2 = 1 := z
        rw [z']
        exact l6 y1 hx1'
      · have z' : y2 = -1 := z
        have z2' : n ≤ y1 + 3 := z2
        rw [z']
        exact l7 y1 (by omega) hx1') f1 g1
    obtain ⟨k1, k2, k3, k4, k5⟩ := g2
    rw [k1]
    refine ap_b0 (fun ze => ?_) (fun ze => H0 st _ _ _ _ _ _ _ _ _ _ _ _ hf (Or.inl ze))
    cases hp : st.2.1 with
    | none => exact absurd hp (Hn st hf ze)
    | some p =>
      obtain ⟨p1, p2, p3, p4⟩ := k3 p hp
      have fin : (∀ q, st.2.2 = some q → q.1 * p.2 ≤ p.1 * q.2) → wX_solveByTakingOut_138 post 0 qpr qwo qrw qtu qun qco qfw qwc qwt qwb (nI M.length) em' hh' ht' hb' hl' lt' lb' qbr ql3 qg3 a1 a2 a3 a4 a5 a6 a7 a8 a9 a10 a11 a12 a13 b14 b15 b16 b17 a18 a19 := by
        intro hq
        have e7 : a7 (0 : Int32).toNatClampNeg = 3 := h70
        unfold wX_solveByTakingOut_138
        refine ⟨pk_in 0 3 (by omega), br_f (by rw [e7]; decide) ?_⟩
        unfold wX_solveByTakingOut_156
        refine ⟨pk_in 0 3 (by omega), br_f (by rw [e7]; decide) ?_⟩
        have := H1 st p (nI M.length) em' hh' ht' hb' hl' lt' lb' b14 b15 b16 b17 hf ze hp hq
        rw [← p2, ← p3] at this
        exact this
      rw [k1] at fin
      refine br_f (by rw [p1]; decide) ?_
      cases hq : st.2.2 with
      | none => exact br_t (k4 hq) (fin (fun q hq2 => by rw [hq] at hq2; exact (nomatch hq2)))
      | some q =>
        obtain ⟨q1, q2, q3, q4⟩ := k5 q hq
        refine br_f (by rw [q1]; decide) ?_
        have m1 := ap_mul_bd (A := 4000000) (B := 100000) (by decide) (by decide) q4.1 (show -100000 ≤ p.2 ∧ p.2 ≤ 100000 by have := p4.2; omega)
        have m2 := ap_mul_bd (A := 4000000) (B := 100000) (by decide) (by decide) p4.1 (show -100000 ≤ q.2 ∧ q.2 ≤ 100000 by have := q4.2; omega)
        refine ap_lle (q.1 * p.2) (p.1 * q.2) (by rw [q2, p3, ap_l_mul]) (by rw [p2, q3, ap_l_mul]) (fun z => fin (fun q' hq' => ?_)) (fun z => ?_)
        · rw [hq] at hq'
          rw [← Option.some.inj hq']
          exact z
        · rw [← k1]
          exact H0 st _ _ _ _ _ _ _ _ _ _ _ _ hf (Or.inr ⟨p, q, hp, hq, z⟩)
  · intro q r t hr h hs
    obtain ⟨hr3, L, l1, l2, l3, l4, l5, l6, l7⟩ := h
    refine pk_le n r (fun z => absurd z (by omega)) (fun _ => ?_) hrw
    have hy : ap_Ln n (r, -1) := ⟨hr, Or.inr ⟨rfl, by show n ≤ r + 3; omega⟩⟩
    refine ap_addIneq (sg := -1) (by rfl) hr (by omega) (Or.inr rfl) h8 h9 h70 h71 h72 (by omega) l1 l3 l4 (hlb _ hy) (fun L' x g ln' b14 b15 b16 b17 i1 i2 i3 i4 i5 i6 i7 => ?_)
    have ha := ap_snd_add l5 i1 i3 i4 hy
    refine nm_r (nI_1 r) (hs (ln', b14, b15, b16, b17) ⟨by omega, L', i6, ?_, i7, ap_lb_add l4 i1 i5, ha.1, fun r' hr' => ap_h4_mono ha.2 (l6 r' hr'), fun r' z1 z2 => ?_⟩)
    · rcases i1 with e | e
      · rw [e]; omega
      · rw [e, List.length_append]; show _ + 1 ≤ _; omega
    · by_cases e : r' = r
      · rw [e]
        exact ⟨x, i2, g, i3, i4⟩
      · exact ap_h4_mono ha.2 (l7 r' z1 (by omega))
theorem ap_solve2 {post : Int32 → St2 → Prop} {asked : Nat → Int} (hD : ap_dat P num kind bnd qpr a1 a2 a3) (hwo : qwo = ap_i wo) (hwb : -1 ≤ wo ∧ wo ≤ 5)
    (hlo : ∀ i, i < 3 → a5 i = ap_i (lo i) ∧ -128 ≤ lo i ∧ lo i ≤ 127) (hhi : ∀ i, i < 3 → a6 i = ap_i (hi i) ∧ -128 ≤ hi i ∧ hi i ≤ 127) (has : ∀ i, i < 3 → -8 ≤ asked i ∧ asked i ≤ 8)
    (h70 : a7 0 = 3) (h71 : a7 1 = 4) (h72 : a7 2 = 1)
    (hlen : (ap_pl P kind wo 5).length + 3 = n) (hn : n ≤ 9) (hA : ∀ r, r < n → ∀ i, i < 3 → ap_A A r i = ap_mx (fun _ => false) num (ap_pl P kind wo 5) r i)
    (hlb : ∀ x, ap_Ln n x → ap_lb 10 400 (ap_ln A (ap_be (fun _ => false) num bnd lo hi asked (ap_pl P kind wo 5)) x))
    (Hn : ∀ (st : ap_W), ap_fmr n A (ap_be (fun _ => false) num bnd lo hi asked (ap_pl P kind wo 5)) st → st.1 = false → st.2.1 ≠ none)
    (H1 : ∀ (st : ap_W) (p : Int × Int) (qrw' : Int32) (qtu' : Int32) (qln' : Int32) (qem' : Int32) (qhh' : Int32) (qht' : Int64) (qhb' : Int64) (qhl' : Int32) (qlt' : Int64) (qlb' : Int64) (a8' : Nat → Int32) (a9' : Nat → Int32) (a14' : Nat → Int64) (a15' : Nat → Int64) (a16' : Nat → Int64) (a17' : Nat → Int64), ap_fmr n A (ap_be (fun _ => false) num bnd lo hi asked (ap_pl P kind wo 5)) st → st.1 = false → st.2.1 = some p → (∀ q, st.2.2 = some q → q.1 * p.2 ≤ p.1 * q.2) → post 1 (qpr, qwo, qrw', qtu', qun, qco, qfw, qwc, ap_l p.1, ap_l p.2, qln', qem', qhh', qht', qhb', qhl', qlt', qlb', qbr, ql3, qg3, a1, a2, a3, a4, a5, a6, a7, a8', a9', a10, a11, a12, a13, a14', a15', a16', a17', a18, a19))
    (H0 : ∀ (st : ap_W) (qrw' : Int32) (qtu' : Int32) (qln' : Int32) (qem' : Int32) (qhh' : Int32) (qht' : Int64) (qhb' : Int64) (qhl' : Int32) (qlt' : Int64) (qlb' : Int64) (a8' : Nat → Int32) (a9' : Nat → Int32) (a14' : Nat → Int64) (a15' : Nat → Int64) (a16' : Nat → Int64) (a17' : Nat → Int64), ap_fmr n A (ap_be (fun _ => false) num bnd lo hi asked (ap_pl P kind wo 5)) st → (st.1 = true ∨ ∃ p q, st.2.1 = some p ∧ st.2.2 = some q ∧ p.1 * q.2 < q.1 * p.2) → post 0 (qpr, qwo, qrw', qtu', qun, qco, qfw, qwc, qwt, qwb, qln', qem', qhh', qht', qhb', qhl', qlt', qlb', qbr, ql3, qg3, a1, a2, a3, a4, a5, a6, a7, a8', a9', a10, a11, a12, a13, a14', a15', a16', a17', a18, a19)) :
    wpX_solveByTakingOut post (qpr, qwo, qrw, qtu, qun, qco, qfw, qwc, qwt, qwb, qln, qem, qhh, qht, qhb, qhl, qlt, qlb, qbr, ql3, qg3, a1, a2, a3, a4, a5, a6, a7, a8, a9, a10, a11, a12, a13, a14, a15, a16, a17, a18, a19) := by
  have hbd := ap_be_bd (tu := fun _ => false) (wo := wo) (asked := asked) hD (fun i h => (hlo i h).2) (fun i h => (hhi i h).2) has
  have hl := ap_pl_len P kind wo 5
  have htu : ∀ i, i < 3 → ((((0 : Int32) >>> (nI i &&& 31)) &&& 1) = 0 ↔ (fun _ : Nat => false) i = false) := by decide
  unfold wpX_solveByTakingOut
  refine ap_writeRows hD hwo hwb hlo hhi htu (fun b8 b9 r1 r2 => ?_)
  rw [hlen]
  refine ap_replaced h70 ?_
  have h8 : ∀ r, r < n → ∀ c, c < 3 → b8 (r * 3 + c) = ap_i (ap_A A r c) ∧ -1000 ≤ ap_A A r c ∧ ap_A A r c ≤ 1000 := by
    intro r hr c hc
    rw [hA r hr c hc]
    unfold ap_mx
    by_cases e : r < (ap_pl P kind wo 5).length
    · rw [if_pos e]
      refine ⟨(r1 r e).1 c hc, ?_⟩
      obtain ⟨g1, g2, g3⟩ := ap_pl_get e
      have b := ap_sgn g2 ((hD.2.2 _ g1 g3).1 c hc).2
      unfold ap_ra
      rw [if_neg (fun h => Bool.noConfusion h)]
      omega
    · rw [if_neg e]
      have h2 := (r2 (r - (ap_pl P kind wo 5).length) (by omega)).1 c hc
      rw [show (ap_pl P kind wo 5).length + (r - (ap_pl P kind wo 5).length) = r by omega] at h2
      refine ⟨h2, ?_⟩
      by_cases e2 : c = r - (ap_pl P kind wo 5).length
      · rw [if_pos e2]; decide
      · rw [if_neg e2]; decide
  have h9 : ∀ r, r < n → b9 r = ap_i (ap_be (fun _ => false) num bnd lo hi asked (ap_pl P kind wo 5) r) ∧ -4096 ≤ ap_be (fun _ => false) num bnd lo hi asked (ap_pl P kind wo 5) r ∧ ap_be (fun _ => false) num bnd lo hi asked (ap_pl P kind wo 5) r ≤ 4096 := by
    intro r hr
    refine ⟨?_, hbd r (by omega)⟩
    unfold ap_be
    by_cases e : r < (ap_pl P kind wo 5).length
    · rw [if_pos e]
      exact (r1 r e).2
    · rw [if_neg e, if_pos (by omega)]
      have h2 := (r2 (r - (ap_pl P kind wo 5).length) (by omega)).2
      rw [show (ap_pl P kind wo 5).length + (r - (ap_pl P kind wo 5).length) = r by omega] at h2
      exact h2
  have hAb : ∀ j, j < 3 → ∀ i, i < 3 → ap_A A (n - 3 + j) i = if i = j then 1 else 0 := by
    intro j hj i hi3
    rw [hA (n - 3 + j) (by omega) i hi3]
    unfold ap_mx
    rw [if_neg (by omega), show n - 3 + j - (ap_pl P kind wo 5).length = j by omega]
  refine pk_loop (fun q r t => wX_solveByTakingOut_36 post 0 q (nI r) qpr qwo (nI n) 0 qun qco qfw qwc qwt qwb t.1 0 0 qht qhb 0 qlt qlb qbr ql3 qg3 a1 a2 a3 a4 a5 a6 a7 b8 b9 a10 a11 a12 a13 t.2.1 t.2.2.1 t.2.2.2.1 t.2.2.2.2 a18 a19) (fun r t => ∃ L, t.1 = nI L.length ∧ L.length ≤ r ∧ ap_Ls L t.2.1 t.2.2.1 t.2.2.2.1 t.2.2.2.2 ∧ (∀ y, y ∈ L → ap_lb 10 400 y) ∧ ap_snd n A (ap_be (fun _ => false) num bnd lo hi asked (ap_pl P kind wo 5)) L ∧ ∀ r', r' < r → ap_h4 L (ap_ln A (ap_be (fun _ => false) num bnd lo hi asked (ap_pl P kind wo 5)) (r', 1))) n 0 (0, a14, a15, a16, a17) (by omega)
    ⟨[], rfl, Nat.le_refl 0, fun k hk => absurd hk (Nat.not_lt_zero k), fun y hy => absurd hy (by simp), fun s W Y Z _ y hy => absurd hy (by simp), fun r' hr' => absurd hr' (Nat.not_lt_zero r')⟩ ?_ ?_
  · intro q t h
    obtain ⟨L, l1, l2, l3, l4, l5, l6⟩ := h
    refine pk_le n n (fun _ => nm_r (e' := nI (n - 3)) (pk_sub (b := 3) (by omega)) ?_) (fun z => absurd z (by omega))
    refine ap_to64 (by omega) hn rfl h8 h9 h70 h71 h72 hAb hlb rfl rfl rfl ?_ ?_ Hn L t l1 l2 l3 l4 l5 l6
    · intro st p ln' em' hh' ht' hb' hl' lt' lb' c14 c15 c16 c17 f1 f2 f3 f4
      exact H1 st p _ _ _ _ _ _ _ _ _ _ _ _ _ _ _ _ f1 f2 f3 f4
    · intro st ln' em' hh' ht' hb' hl' lt' lb' c14 c15 c16 c17 f1 f2
      exact H0 st _ _ _ _ _ _ _ _ _ _ _ _ _ _ _ _ f1 f2
  · intro q r t hr h hs
    obtain ⟨L, l1, l2, l3, l4, l5, l6⟩ := h
    refine pk_le n r (fun z => absurd z (by omega)) (fun _ => ?_)
    have hy : ap_Ln n (r, 1) := ⟨hr, Or.inl rfl⟩
    refine ap_addIneq (sg := 1) (by rfl) hr (by omega) (Or.inl rfl) h8 h9 h70 h71 h72 (by omega) l1 l3 l4 (hlb _ hy) (fun L' x g ln' b14 b15 b16 b17 i1 i2 i3 i4 i5 i6 i7 => ?_)
    have ha := ap_snd_add l5 i1 i3 i4 hy
    refine nm_r (nI_1 r) (hs (ln', b14, b15, b16, b17) ⟨L', i6, ?_, i7, ap_lb_add l4 i1 i5, ha.1, fun r' z2 => ?_⟩)
    · rcases i1 with e | e
      · rw [e]; omega
      · rw [e, List.length_append]; show _ + 1 ≤ _; omega
    · by_cases e : r' = r
      · rw [e]
        exact ⟨x, i2, g, i3, i4⟩
      · exact ap_h4_mono ha.2 (l6 r' (by omega))
end
end
section
/-! the law's own conditions -/
def ap_nu1 (k i : Nat) : Int := ap_A [[2, 1, 0], [1, 3, 0], [1, 1, 0], [0, 0, 2]] k i
def ap_nu2 (k i : Nat) : Int := ap_A [[2, 1, 0], [1, 3, 0], [1, 1, 0], [0, 0, 1]] k i
def ap_kd1 (k : Nat) : Int := [0, 0, 0, 1].getD k 0
def ap_kd2 (k : Nat) : Int := [0, 0, 0, 2].getD k 0
def ap_bo (b d e : Int) (k : Nat) : Int := [b, d, 80, e].getD k 0
theorem ap_pl1 : ap_pl 15 ap_kd1 (-1) 5 = [(0, 1), (1, 1), (2, 1), (3, 1), (3, -1)] := by decide
theorem ap_pl2 : ap_pl 15 ap_kd1 2 5 = [(0, 1), (1, 1), (3, 1), (3, -1)] := by decide
theorem ap_pl3 : ap_pl 15 ap_kd1 3 5 = [(0, 1), (1, 1), (2, 1)] := by decide
theorem ap_pl5 : ap_pl 15 ap_kd2 (-1) 5 = [(0, 1), (1, 1), (2, 1), (3, -1)] := by decide
theorem ap_lt6 {p : Nat → Prop} : (∀ k, k < 6 → p k) ↔ p 0 ∧ p 1 ∧ p 2 ∧ p 3 ∧ p 4 ∧ p 5 :=
  ⟨fun h => ⟨h 0 (by omega), h 1 (by omega), h 2 (by omega), h 3 (by omega), h 4 (by omega), h 5 (by omega)⟩, fun h k hk => by
    obtain ⟨h0, h1, h2, h3, h4, h5⟩ := h
    have : k = 0 ∨ k = 1 ∨ k = 2 ∨ k = 3 ∨ k = 4 ∨ k = 5 := by omega
    rcases this with e | e | e | e | e | e <;> subst e <;> assumption⟩
theorem ap_lt7 {p : Nat → Prop} : (∀ k, k < 7 → p k) ↔ p 0 ∧ p 1 ∧ p 2 ∧ p 3 ∧ p 4 ∧ p 5 ∧ p 6 :=
  ⟨fun h => ⟨h 0 (by omega), h 1 (by omega), h 2 (by omega), h 3 (by omega), h 4 (by omega), h 5 (by omega), h 6 (by omega)⟩, fun h k hk => by
    obtain ⟨h0, h1, h2, h3, h4, h5, h6⟩ := h
    have : k = 0 ∨ k = 1 ∨ k = 2 ∨ k = 3 ∨ k = 4 ∨ k = 5 ∨ k = 6 := by omega
    rcases this with e | e | e | e | e | e | e <;> subst e <;> assumption⟩
theorem ap_lt8 {p : Nat → Prop} : (∀ k, k < 8 → p k) ↔ p 0 ∧ p 1 ∧ p 2 ∧ p 3 ∧ p 4 ∧ p 5 ∧ p 6 ∧ p 7 :=
  ⟨fun h => ⟨h 0 (by omega), h 1 (by omega), h 2 (by omega), h 3 (by omega), h 4 (by omega), h 5 (by omega), h 6 (by omega), h 7 (by omega)⟩, fun h k hk => by
    obtain ⟨h0, h1, h2, h3, h4, h5, h6, h7⟩ := h
    have : k = 0 ∨ k = 1 ∨ k = 2 ∨ k = 3 ∨ k = 4 ∨ k = 5 ∨ k = 6 ∨ k = 7 := by omega
    rcases this with e | e | e | e | e | e | e | e <;> subst e <;> assumption⟩
/-- a point p over s in a box, under the four conditions -/
def ap_pt (b d e : Int) (lo hi : Nat → Int) (s p0 p1 p2 : Int) : Prop :=
  (s * lo 0 ≤ p0 ∧ p0 ≤ s * hi 0) ∧ (s * lo 1 ≤ p1 ∧ p1 ≤ s * hi 1) ∧ (s * lo 2 ≤ p2 ∧ p2 ≤ s * hi 2) ∧ 2 * p0 + p1 ≤ s * b ∧ p0 + 3 * p1 ≤ s * d ∧ p0 + p1 ≤ s * 80 ∧ 2 * p2 = s * e
theorem ap_be1 {b d e : Int} {lo hi asked : Nat → Int} :
    ap_be (fun _ => false) ap_nu1 (ap_bo b d e) lo hi asked [(0, 1), (1, 1), (2, 1), (3, 1), (3, -1)] 0 = b - 2 * lo 0 - lo 1 ∧ ap_be (fun _ => false) ap_nu1 (ap_bo b d e) lo hi asked [(0, 1), (1, 1), (2, 1), (3, 1), (3, -1)] 1 = d - lo 0 - 3 * lo 1 ∧ ap_be (fun _ => false) ap_nu1 (ap_bo b d e) lo hi asked [(0, 1), (1, 1), (2, 1), (3, 1), (3, -1)] 2 = 80 - lo 0 - lo 1 ∧ ap_be (fun _ => false) ap_nu1 (ap_bo b d e) lo hi asked [(0, 1), (1, 1), (2, 1), (3, 1), (3, -1)] 3 = e - 2 * lo 2 ∧ ap_be (fun _ => false) ap_nu1 (ap_bo b d e) lo hi asked [(0, 1), (1, 1), (2, 1), (3, 1), (3, -1)] 4 = 2 * lo 2 - e ∧ ap_be (fun _ => false) ap_nu1 (ap_bo b d e) lo hi asked [(0, 1), (1, 1), (2, 1), (3, 1), (3, -1)] 5 = hi 0 - lo 0 ∧ ap_be (fun _ => false) ap_nu1 (ap_bo b d e) lo hi asked [(0, 1), (1, 1), (2, 1), (3, 1), (3, -1)] 6 = hi 1 - lo 1 ∧ ap_be (fun _ => false) ap_nu1 (ap_bo b d e) lo hi asked [(0, 1), (1, 1), (2, 1), (3, 1), (3, -1)] 7 = hi 2 - lo 2 := by
  refine ⟨?_, ?_, ?_, ?_, ?_, ?_, ?_, ?_⟩ <;> simp [ap_be, ap_rb, ap_sum, ap_frm, ap_nu1, ap_bo, ap_A] <;> omega
theorem ap_tb7 : Nat.testBit 7 0 = true ∧ Nat.testBit 7 1 = true ∧ Nat.testBit 7 2 = true := by decide
theorem ap_be1t {b d e : Int} {lo hi asked : Nat → Int} :
    ap_be (Nat.testBit 7) ap_nu1 (ap_bo b d e) lo hi asked [(0, 1), (1, 1), (2, 1), (3, 1), (3, -1)] 0 = b - 2 * hi 0 - hi 1 ∧ ap_be (Nat.testBit 7) ap_nu1 (ap_bo b d e) lo hi asked [(0, 1), (1, 1), (2, 1), (3, 1), (3, -1)] 1 = d - hi 0 - 3 * hi 1 ∧ ap_be (Nat.testBit 7) ap_nu1 (ap_bo b d e) lo hi asked [(0, 1), (1, 1), (2, 1), (3, 1), (3, -1)] 2 = 80 - hi 0 - hi 1 ∧ ap_be (Nat.testBit 7) ap_nu1 (ap_bo b d e) lo hi asked [(0, 1), (1, 1), (2, 1), (3, 1), (3, -1)] 3 = e - 2 * hi 2 ∧ ap_be (Nat.testBit 7) ap_nu1 (ap_bo b d e) lo hi asked [(0, 1), (1, 1), (2, 1), (3, 1), (3, -1)] 4 = 2 * hi 2 - e ∧ ap_be (Nat.testBit 7) ap_nu1 (ap_bo b d e) lo hi asked [(0, 1), (1, 1), (2, 1), (3, 1), (3, -1)] 5 = hi 0 - lo 0 ∧ ap_be (Nat.testBit 7) ap_nu1 (ap_bo b d e) lo hi asked [(0, 1), (1, 1), (2, 1), (3, 1), (3, -1)] 6 = hi 1 - lo 1 ∧ ap_be (Nat.testBit 7) ap_nu1 (ap_bo b d e) lo hi asked [(0, 1), (1, 1), (2, 1), (3, 1), (3, -1)] 7 = hi 2 - lo 2 := by
  refine ⟨?_, ?_, ?_, ?_, ?_, ?_, ?_, ?_⟩ <;> simp [ap_be, ap_rb, ap_sum, ap_frm, ap_nu1, ap_bo, ap_A, ap_tb7.1, ap_tb7.2.1, ap_tb7.2.2] <;> omega
theorem ap_fe1 {b d e : Int} {lo hi asked : Nat → Int} {s x0 x1 x2 : Int} :
    ap_fe 8 ap_A1 (ap_be (fun _ => false) ap_nu1 (ap_bo b d e) lo hi asked (ap_pl 15 ap_kd1 (-1) 5)) s x0 x1 x2 ↔ ap_pt b d e lo hi s (s * lo 0 + x0) (s * lo 1 + x1) (s * lo 2 + x2) := by
  obtain ⟨b0, b1, b2, b3, b4, b5, b6, b7⟩ := ap_be1 (b := b) (d := d) (e := e) (lo := lo) (hi := hi) (asked := asked)
  rw [ap_pl1]
  unfold ap_fe
  rw [ap_lt8, b0, b1, b2, b3, b4, b5, b6, b7]
  have m0 : s * (b - 2 * lo 0 - lo 1) = s * b - 2 * (s * lo 0) - s * lo 1 := by grind
  have m1 : s * (d - lo 0 - 3 * lo 1) = s * d - s * lo 0 - 3 * (s * lo 1) := by grind
  have m2 : s * (80 - lo 0 - lo 1) = s * 80 - s * lo 0 - s * lo 1 := by grind
  have m3 : s * (e - 2 * lo 2) = s * e - 2 * (s * lo 2) := by grind
  have m4 : s * (2 * lo 2 - e) = 2 * (s * lo 2) - s * e := by grind
  have m5 : s * (hi 0 - lo 0) = s * hi 0 - s * lo 0 := by grind
  have m6 : s * (hi 1 - lo 1) = s * hi 1 - s * lo 1 := by grind
  have m7 : s * (hi 2 - lo 2) = s * hi 2 - s * lo 2 := by grind
  rw [m0, m1, m2, m3, m4, m5, m6, m7]
  show (0 ≤ x0 ∧ 0 ≤ x1 ∧ 0 ≤ x2 ∧ 2 * x0 + 1 * x1 + 0 * x2 ≤ s * b - 2 * (s * lo 0) - s * lo 1 ∧ 1 * x0 + 3 * x1 + 0 * x2 ≤ s * d - s * lo 0 - 3 * (s * lo 1) ∧ 1 * x0 + 1 * x1 + 0 * x2 ≤ s * 80 - s * lo 0 - s * lo 1 ∧ 0 * x0 + 0 * x1 + 2 * x2 ≤ s * e - 2 * (s * lo 2) ∧ 0 * x0 + 0 * x1 + -2 * x2 ≤ 2 * (s * lo 2) - s * e ∧ 1 * x0 + 0 * x1 + 0 * x2 ≤ s * hi 0 - s * lo 0 ∧ 0 * x0 + 1 * x1 + 0 * x2 ≤ s * hi 1 - s * lo 1 ∧ 0 * x0 + 0 * x1 + 1 * x2 ≤ s * hi 2 - s * lo 2) ↔ _
  unfold ap_pt
  clear m0 m1 m2 m3 m4 m5 m6 m7 b0 b1 b2 b3 b4 b5 b6 b7
  constructor
  · intro h
    omega
  · intro h
    omega
theorem ap_fe1t {b d e : Int} {lo hi asked : Nat → Int} {s x0 x1 x2 : Int} :
    ap_fe 8 ap_Bq1 (ap_be (Nat.testBit 7) ap_nu1 (ap_bo b d e) lo hi asked (ap_pl 15 ap_kd1 (-1) 5)) s x0 x1 x2 ↔ ap_pt b d e lo hi s (s * hi 0 - x0) (s * hi 1 - x1) (s * hi 2 - x2) := by
  obtain ⟨b0, b1, b2, b3, b4, b5, b6, b7⟩ := ap_be1t (b := b) (d := d) (e := e) (lo := lo) (hi := hi) (asked := asked)
  rw [ap_pl1]
  unfold ap_fe
  rw [ap_lt8, b0, b1, b2, b3, b4, b5, b6, b7]
  have m0 : s * (b - 2 * hi 0 - hi 1) = s * b - 2 * (s * hi 0) - s * hi 1 := by grind
  have m1 : s * (d - hi 0 - 3 * hi 1) = s * d - s * hi 0 - 3 * (s * hi 1) := by grind
  have m2 : s * (80 - hi 0 - hi 1) = s * 80 - s * hi 0 - s * hi 1 := by grind
  have m3 : s * (e - 2 * hi 2) = s * e - 2 * (s * hi 2) := by grind
  have m4 : s * (2 * hi 2 - e) = 2 * (s * hi 2) - s * e := by grind
  have m5 : s * (hi 0 - lo 0) = s * hi 0 - s * lo 0 := by grind
  have m6 : s * (hi 1 - lo 1) = s * hi 1 - s * lo 1 := by grind
  have m7 : s * (hi 2 - lo 2) = s * hi 2 - s * lo 2 := by grind
  rw [m0, m1, m2, m3, m4, m5, m6, m7]
  show (0 ≤ x0 ∧ 0 ≤ x1 ∧ 0 ≤ x2 ∧ -2 * x0 + -1 * x1 + 0 * x2 ≤ s * b - 2 * (s * hi 0) - s * hi 1 ∧ -1 * x0 + -3 * x1 + 0 * x2 ≤ s * d - s * hi 0 - 3 * (s * hi 1) ∧ -1 * x0 + -1 * x1 + 0 * x2 ≤ s * 80 - s * hi 0 - s * hi 1 ∧ 0 * x0 + 0 * x1 + -2 * x2 ≤ s * e - 2 * (s * hi 2) ∧ 0 * x0 + 0 * x1 + 2 * x2 ≤ 2 * (s * hi 2) - s * e ∧ 1 * x0 + 0 * x1 + 0 * x2 ≤ s * hi 0 - s * lo 0 ∧ 0 * x0 + 1 * x1 + 0 * x2 ≤ s * hi 1 - s * lo 1 ∧ 0 * x0 + 0 * x1 + 1 * x2 ≤ s * hi 2 - s * lo 2) ↔ _
  unfold ap_pt
  clear m0 m1 m2 m3 m4 m5 m6 m7 b0 b1 b2 b3 b4 b5 b6 b7
  constructor
  · intro h
    omega
  · intro h
    omega
/-- what a solved question shows, in the amounts themselves -/
def ap_sol (b d e : Int) (c0 c1 c2 : Int) (lo hi : Nat → Int) (u W t0 t1 t2 : Int) : Prop :=
  0 < u ∧ u ≤ 64 ∧ ap_pt b d e lo hi u t0 t1 t2 ∧ W = c0 * t0 + c1 * t1 + c2 * t2 ∧ ∀ s p0 p1 p2, ap_pt b d e lo hi s p0 p1 p2 → (c0 * p0 + c1 * p1 + c2 * p2) * u ≤ s * W
section
variable {qpr : Int32} {qwo : Int32} {qrw : Int32} {qtu : Int32} {qun : Int64} {qco : Int32} {qfw : Int32} {qwc : Int32} {qwt : Int64} {qwb : Int64} {qln : Int32} {qem : Int32} {qhh : Int32} {qht : Int64} {qhb : Int64} {qhl : Int32} {qlt : Int64} {qlb : Int64} {qbr : Int32} {ql3 : Int32} {qg3 : Int32} {a1 : Nat → Int32} {a2 : Nat → Int32} {a3 : Nat → Int32} {a4 : Nat → Int32} {a5 : Nat → Int32} {a6 : Nat → Int32} {a7 : Nat → Int32} {a8 : Nat → Int32} {a9 : Nat → Int32} {a10 : Nat → Int64} {a11 : Nat → Int32} {a12 : Nat → Int32} {a13 : Nat → Int64} {a14 : Nat → Int64} {a15 : Nat → Int64} {a16 : Nat → Int64} {a17 : Nat → Int64} {a18 : Nat → Int32} {a19 : Nat → Int32}
variable {b d e : Int} {lo hi : Nat → Int}
theorem ap_A1_ok : ∀ r, r < 8 → ∀ i, i < 3 → ap_A ap_A1 r i = ap_mx (fun _ => false) ap_nu1 (ap_pl 15 ap_kd1 (-1) 5) r i := by decide
theorem ap_Bq1_ok : ∀ r, r < 8 → ∀ i, i < 3 → ap_A ap_Bq1 r i = ap_mx (Nat.testBit 7) ap_nu1 (ap_pl 15 ap_kd1 (-1) 5) r i := by decide
def ap_gl (i : Nat) : Int := [3, 4, 1].getD i 0
theorem ap_w1 {lo hi : Nat → Int} {tu : Nat → Bool} {c : Nat → Int} {L : List (Nat × Int)} {num : Nat → Nat → Int} {bnd : Nat → Int} : ap_be tu num bnd lo hi c L (L.length + 3) = c 0 * ap_frm tu lo hi 0 + c 1 * ap_frm tu lo hi 1 + c 2 * ap_frm tu lo hi 2 := by
  unfold ap_be
  rw [if_neg (by omega), if_neg (by omega), Nat.sub_self, ap_sum_3]
  rfl
/-- engine 0, the goal, any box -/
theorem ap_e0 {post : Int32 → St2 → Prop} (hD : ap_dat 15 ap_nu1 ap_kd1 (ap_bo b d e) qpr a1 a2 a3) (hwo : qwo = -1)
    (hlo : ∀ i, i < 3 → a5 i = ap_i (lo i) ∧ 0 ≤ lo i ∧ lo i ≤ 20) (hhi : ∀ i, i < 3 → a6 i = ap_i (hi i) ∧ 0 ≤ hi i ∧ hi i ≤ 20) (has : ∀ i, i < 3 → a7 i = ap_i (ap_gl i))
    (H1 : ∀ (u W t0 t1 t2 : Int) (qrw' : Int32) (qtu' : Int32) (qun' : Int64) (qco' : Int32) (qfw' : Int32) (qwc' : Int32) (a8' : Nat → Int32) (a9' : Nat → Int32) (a10' : Nat → Int64) (a11' : Nat → Int32) (a12' : Nat → Int32) (a13' : Nat → Int64), ap_sol b d e 3 4 1 lo hi u W t0 t1 t2 → a13' 0 = ap_l t0 → a13' 1 = ap_l t1 → a13' 2 = ap_l t2 → post 1 (qpr, qwo, qrw', qtu', qun', qco', qfw', qwc', ap_l W, ap_l u, qln, qem, qhh, qht, qhb, qhl, qlt, qlb, qbr, ql3, qg3, a1, a2, a3, a4, a5, a6, a7, a8', a9', a10', a11', a12', a13', a14, a15, a16, a17, a18, a19))
    (H0 : (∀ s p0 p1 p2, 0 < s → ¬ ap_pt b d e lo hi s p0 p1 p2) → ∀ (qrw' : Int32) (qtu' : Int32) (qun' : Int64) (qco' : Int32) (qfw' : Int32) (qwc' : Int32) (a8' : Nat → Int32) (a9' : Nat → Int32) (a10' : Nat → Int64) (a11' : Nat → Int32) (a12' : Nat → Int32), post 0 (qpr, qwo, qrw', qtu', qun', qco', qfw', qwc', qwt, qwb, qln, qem, qhh, qht, qhb, qhl, qlt, qlb, qbr, ql3, qg3, a1, a2, a3, a4, a5, a6, a7, a8', a9', a10', a11', a12', a13, a14, a15, a16, a17, a18, a19)) :
    wpX_solveByPoints post (qpr, qwo, qrw, qtu, qun, qco, qfw, qwc, qwt, qwb, qln, qem, qhh, qht, qhb, qhl, qlt, qlb, qbr, ql3, qg3, a1, a2, a3, a4, a5, a6, a7, a8, a9, a10, a11, a12, a13, a14, a15, a16, a17, a18, a19) := by
  have hg : ∀ i, i < 3 → -8 ≤ ap_gl i ∧ ap_gl i ≤ 8 := by decide
  refine ap_solve0 (n := 8) (A := ap_A1) (cv := [3, 4, 1]) (wo := -1) (asked := ap_gl) hD (hwo.trans (by rfl)) (by decide) (fun i h => ⟨(hlo i h).1, by have := (hlo i h).2; omega⟩) (fun i h => ⟨(hhi i h).1, by have := (hhi i h).2; omega⟩) (fun i h => ⟨has i h, hg i h⟩) (by rw [ap_pl1]; rfl) ap_A1_ok (by decide) ap_pc1 ?_ ?_
  · intro u W X qrw' qtu' qun' qco' qfw' qwc' a8' a9' a10' a11' a12' a13' hl h13
    obtain ⟨l1, l2, l3, l4, l5, l6, l7⟩ := hl
    have hb8 : ap_be (fun _ => false) ap_nu1 (ap_bo b d e) lo hi ap_gl (ap_pl 15 ap_kd1 (-1) 5) 8 = 3 * lo 0 + 4 * lo 1 + 1 * lo 2 := ap_w1 (L := ap_pl 15 ap_kd1 (-1) 5)
    rw [hb8] at l6 l7
    have l6' : W = u * (3 * lo 0 + 4 * lo 1 + 1 * lo 2) + (3 * X 0 + 4 * X 1 + 1 * X 2) := l6
    refine H1 u W (u * lo 0 + X 0) (u * lo 1 + X 1) (u * lo 2 + X 2) _ _ _ _ _ _ _ _ _ _ _ _ ⟨l1, l2, ap_fe1.mp l5, ?_, fun s p0 p1 p2 hp => ?_⟩ ?_ ?_ ?_
    · rw [l6']
      grind
    · have hf : ap_fe 8 ap_A1 (ap_be (fun _ => false) ap_nu1 (ap_bo b d e) lo hi ap_gl (ap_pl 15 ap_kd1 (-1) 5)) s (p0 - s * lo 0) (p1 - s * lo 1) (p2 - s * lo 2) := by
        rw [ap_fe1, show s * lo 0 + (p0 - s * lo 0) = p0 by omega, show s * lo 1 + (p1 - s * lo 1) = p1 by omega, show s * lo 2 + (p2 - s * lo 2) = p2 by omega]
        exact hp
      have h7 : u * (3 * (p0 - s * lo 0) + 4 * (p1 - s * lo 1) + 1 * (p2 - s * lo 2)) ≤ s * (W - u * (3 * lo 0 + 4 * lo 1 + 1 * lo 2)) := l7 _ _ _ _ hf
      have e1 : u * (3 * (p0 - s * lo 0) + 4 * (p1 - s * lo 1) + 1 * (p2 - s * lo 2)) = (3 * p0 + 4 * p1 + 1 * p2) * u - s * (u * (3 * lo 0 + 4 * lo 1 + 1 * lo 2)) := by grind
      have e2 : s * (W - u * (3 * lo 0 + 4 * lo 1 + 1 * lo 2)) = s * W - s * (u * (3 * lo 0 + 4 * lo 1 + 1 * lo 2)) := by rw [Int.mul_sub]
      omega
    · rw [h13 0 (by omega), Int.mul_comm]
    · rw [h13 1 (by omega), Int.mul_comm]
    · rw [h13 2 (by omega), Int.mul_comm]
  · intro h
    refine H0 (fun s p0 p1 p2 hs hp => h s (p0 - s * lo 0) (p1 - s * lo 1) (p2 - s * lo 2) hs ?_)
    rw [ap_fe1, show s * lo 0 + (p0 - s * lo 0) = p0 by omega, show s * lo 1 + (p1 - s * lo 1) = p1 by omega, show s * lo 2 + (p2 - s * lo 2) = p2 by omega]
    exact hp
/-- engine 1, the goal -/
theorem ap_e1 {post : Int32 → St2 → Prop} (hD : ap_dat 15 ap_nu1 ap_kd1 (ap_bo b d e) qpr a1 a2 a3) (hwo : qwo = -1)
    (hlo : ∀ i, i < 3 → a5 i = ap_i (lo i) ∧ 0 ≤ lo i ∧ lo i ≤ 20) (hhi : ∀ i, i < 3 → a6 i = ap_i (hi i) ∧ 0 ≤ hi i ∧ hi i ≤ 20) (has : ∀ i, i < 3 → a7 i = ap_i (ap_gl i))
    (H1 : ∀ (u W t0 t1 t2 : Int) (qrw' : Int32) (qtu' : Int32) (qun' : Int64) (qco' : Int32) (qfw' : Int32) (qwc' : Int32) (a8' : Nat → Int32) (a9' : Nat → Int32) (a10' : Nat → Int64) (a11' : Nat → Int32) (a12' : Nat → Int32) (a13' : Nat → Int64), ap_sol b d e 3 4 1 lo hi u W t0 t1 t2 → a13' 0 = ap_l t0 → a13' 1 = ap_l t1 → a13' 2 = ap_l t2 → post 1 (qpr, qwo, qrw', qtu', qun', qco', qfw', qwc', ap_l W, ap_l u, qln, qem, qhh, qht, qhb, qhl, qlt, qlb, qbr, ql3, qg3, a1, a2, a3, a4, a5, a6, a7, a8', a9', a10', a11', a12', a13', a14, a15, a16, a17, a18, a19))
    (H0 : (∀ s p0 p1 p2, 0 < s → ¬ ap_pt b d e lo hi s p0 p1 p2) → ∀ (qrw' : Int32) (qtu' : Int32) (qun' : Int64) (qco' : Int32) (qfw' : Int32) (qwc' : Int32) (a8' : Nat → Int32) (a9' : Nat → Int32) (a10' : Nat → Int64) (a11' : Nat → Int32) (a12' : Nat → Int32), post 0 (qpr, qwo, qrw', qtu', qun', qco', qfw', qwc', qwt, qwb, qln, qem, qhh, qht, qhb, qhl, qlt, qlb, qbr, ql3, qg3, a1, a2, a3, a4, a5, a6, a7, a8', a9', a10', a11', a12', a13, a14, a15, a16, a17, a18, a19)) :
    wpX_solveByWorth post (qpr, qwo, qrw, qtu, qun, qco, qfw, qwc, qwt, qwb, qln, qem, qhh, qht, qhb, qhl, qlt, qlb, qbr, ql3, qg3, a1, a2, a3, a4, a5, a6, a7, a8, a9, a10, a11, a12, a13, a14, a15, a16, a17, a18, a19) := by
  have hg : ∀ i, i < 3 → -8 ≤ ap_gl i ∧ ap_gl i ≤ 8 := by decide
  refine ap_solve1 (n := 8) (tv := 7) (A := ap_Bq1) (cv := [-3, -4, -1]) (sv := [-1, -1, -1]) (wo := -1) (asked := ap_gl) (by decide) hD (hwo.trans (by rfl)) (by decide) (fun i h => ⟨(hlo i h).1, by have := (hlo i h).2; omega⟩) (fun i h => ⟨(hhi i h).1, by have := (hhi i h).2; omega⟩) (fun i h => ⟨has i h, hg i h⟩) (by decide) (by rw [ap_pl1]; rfl) ap_Bq1_ok (by decide) (by decide) ap_cl1 ?_ ?_
  · intro u W X qrw' qtu' qun' qco' qfw' qwc' a8' a9' a10' a11' a12' a13' hl h13
    obtain ⟨l1, l2, l3, l4, l5, l6, l7⟩ := hl
    have hb8 : ap_be (Nat.testBit 7) ap_nu1 (ap_bo b d e) lo hi ap_gl (ap_pl 15 ap_kd1 (-1) 5) 8 = 3 * hi 0 + 4 * hi 1 + 1 * hi 2 := ap_w1 (L := ap_pl 15 ap_kd1 (-1) 5)
    rw [hb8] at l6 l7
    have l6' : W = u * (3 * hi 0 + 4 * hi 1 + 1 * hi 2) + (-3 * X 0 + -4 * X 1 + -1 * X 2) := l6
    refine H1 u W (u * hi 0 - X 0) (u * hi 1 - X 1) (u * hi 2 - X 2) _ _ _ _ _ _ _ _ _ _ _ _ ⟨l1, l2, ap_fe1t.mp l5, ?_, fun s p0 p1 p2 hp => ?_⟩ ?_ ?_ ?_
    · rw [l6']
      grind
    · have hf : ap_fe 8 ap_Bq1 (ap_be (Nat.testBit 7) ap_nu1 (ap_bo b d e) lo hi ap_gl (ap_pl 15 ap_kd1 (-1) 5)) s (s * hi 0 - p0) (s * hi 1 - p1) (s * hi 2 - p2) := by
        rw [ap_fe1t, show s * hi 0 - (s * hi 0 - p0) = p0 by omega, show s * hi 1 - (s * hi 1 - p1) = p1 by omega, show s * hi 2 - (s * hi 2 - p2) = p2 by omega]
        exact hp
      have h7 : u * (-3 * (s * hi 0 - p0) + -4 * (s * hi 1 - p1) + -1 * (s * hi 2 - p2)) ≤ s * (W - u * (3 * hi 0 + 4 * hi 1 + 1 * hi 2)) := l7 _ _ _ _ hf
      have e1 : u * (-3 * (s * hi 0 - p0) + -4 * (s * hi 1 - p1) + -1 * (s * hi 2 - p2)) = (3 * p0 + 4 * p1 + 1 * p2) * u - s * (u * (3 * hi 0 + 4 * hi 1 + 1 * hi 2)) := by grind
      have e2 : s * (W - u * (3 * hi 0 + 4 * hi 1 + 1 * hi 2)) = s * W - s * (u * (3 * hi 0 + 4 * hi 1 + 1 * hi 2)) := by rw [Int.mul_sub]
      omega
    · rw [h13 0 (by omega), if_pos (by decide), Int.mul_comm]
    · rw [h13 1 (by omega), if_pos (by decide), Int.mul_comm]
    · rw [h13 2 (by omega), if_pos (by decide), Int.mul_comm]
  · intro h
    refine H0 (fun s p0 p1 p2 hs hp => h s (s * hi 0 - p0) (s * hi 1 - p1) (s * hi 2 - p2) hs ?_)
    rw [ap_fe1t, show s * hi 0 - (s * hi 0 - p0) = p0 by omega, show s * hi 1 - (s * hi 1 - p1) = p1 by omega, show s * hi 2 - (s * hi 2 - p2) = p2 by omega]
    exact hp
end
end
section
/-! branches -/
abbrev ap_X : Type := (Nat → Int) × (Nat → Int)
def ap_vol (B : ap_X) : Int := (B.2 0 - B.1 0 + 1) * (B.2 1 - B.1 1 + 1) * (B.2 2 - B.1 2 + 1)
def ap_wd (B : ap_X) : Int := (B.2 0 - B.1 0) + (B.2 1 - B.1 1) + (B.2 2 - B.1 2)
def ap_in (B0 B : ap_X) : Prop := ∀ i, i < 3 → 0 ≤ B0.1 i ∧ B0.1 i ≤ B.1 i ∧ B.1 i ≤ B.2 i ∧ B.2 i ≤ B0.2 i ∧ B0.2 i ≤ 20
def ap_sg (S : List ap_X) (p : Nat) : ap_X := S.getD p (fun _ => 0, fun _ => 0)
def ap_Sk (S : List ap_X) (a18 a19 : Nat → Int32) : Prop := ∀ p, p < S.length → ∀ i, i < 3 → a18 (p * 3 + i) = ap_i ((ap_sg S p).1 i) ∧ a19 (p * 3 + i) = ap_i ((ap_sg S p).2 i)
def ap_sz : List ap_X → Int
  | [] => 0
  | B :: l => (2 * ap_vol B - 1) + ap_sz l
theorem ap_sz_app (B : ap_X) : ∀ S : List ap_X, ap_sz (S ++ [B]) = ap_sz S + (2 * ap_vol B - 1)
  | [] => by
    show (2 * ap_vol B - 1) + 0 = 0 + (2 * ap_vol B - 1)
    omega
  | C :: l => by
    show (2 * ap_vol C - 1) + ap_sz (l ++ [B]) = (2 * ap_vol C - 1) + ap_sz l + (2 * ap_vol B - 1)
    rw [ap_sz_app B l]
    omega
def ap_fs (f : Nat → Int) (i : Nat) (x : Int) : Nat → Int := fun j => if j = i then x else f j
def ap_b1 (B : ap_X) (i : Nat) (w : Int) : ap_X := (B.1, ap_fs B.2 i w)
def ap_b2 (B : ap_X) (i : Nat) (w : Int) : ap_X := (ap_fs B.1 i (w + 1), B.2)
theorem ap_3 {i : Nat} (h : i < 3) : i = 0 ∨ i = 1 ∨ i = 2 := by omega
theorem ap_vol_split (B : ap_X) {i : Nat} (hi : i < 3) (w : Int) : ap_vol (ap_b1 B i w) + ap_vol (ap_b2 B i w) = ap_vol B := by
  unfold ap_vol ap_b1 ap_b2 ap_fs
  rcases ap_3 hi with e | e | e <;> subst e <;> simp <;> grind
theorem ap_vol_pos {B0 B : ap_X} (h : ap_in B0 B) : 1 ≤ ap_vol B := by
  unfold ap_vol
  have h0 := h 0 (by omega)
  have h1 := h 1 (by omega)
  have h2 := h 2 (by omega)
  have p1 : 0 < (B.2 0 - B.1 0 + 1) * (B.2 1 - B.1 1 + 1) := Int.mul_pos (by omega) (by omega)
  have p2 := Int.mul_pos p1 (show 0 < B.2 2 - B.1 2 + 1 by omega)
  omega
theorem ap_vol_le {B0 B : ap_X} (h : ap_in B0 B) : ap_vol B ≤ 9261 := by
  unfold ap_vol
  have h0 := h 0 (by omega)
  have h1 := h 1 (by omega)
  have h2 := h 2 (by omega)
  have m1 := ap_mul_bd (A := 21) (B := 21) (a := B.2 0 - B.1 0 + 1) (b := B.2 1 - B.1 1 + 1) (by decide) (by decide) (by omega) (by omega)
  have m2 := ap_mul_bd (A := 441) (B := 21) (a := (B.2 0 - B.1 0 + 1) * (B.2 1 - B.1 1 + 1)) (b := B.2 2 - B.1 2 + 1) (by decide) (by decide) (by omega) (by omega)
  omega
theorem ap_wd_split (B : ap_X) {i : Nat} (hi : i < 3) {w : Int} (h1 : B.1 i ≤ w) (h2 : w < B.2 i) : ap_wd (ap_b1 B i w) + 1 ≤ ap_wd B ∧ ap_wd (ap_b2 B i w) + 1 ≤ ap_wd B := by
  unfold ap_wd ap_b1 ap_b2 ap_fs
  rcases ap_3 hi with e | e | e <;> subst e <;> simp <;> omega
theorem ap_wd_le {B0 B : ap_X} (h : ap_in B0 B) : 0 ≤ ap_wd B ∧ ap_wd B ≤ 60 := by
  unfold ap_wd
  have h0 := h 0 (by omega)
  have h1 := h 1 (by omega)
  have h2 := h 2 (by omega)
  omega
theorem ap_in_split {B0 B : ap_X} (h : ap_in B0 B) {i : Nat} {w : Int} (h1 : B.1 i ≤ w) (h2 : w < B.2 i) : ap_in B0 (ap_b1 B i w) ∧ ap_in B0 (ap_b2 B i w) := by
  constructor
  · intro j hj
    have hh := h j hj
    show 0 ≤ B0.1 j ∧ B0.1 j ≤ B.1 j ∧ B.1 j ≤ ap_fs B.2 i w j ∧ ap_fs B.2 i w j ≤ B0.2 j ∧ B0.2 j ≤ 20
    unfold ap_fs
    by_cases e : j = i
    · subst e
      rw [if_pos rfl]; omega
    · rw [if_neg e]; exact hh
  · intro j hj
    have hh := h j hj
    show 0 ≤ B0.1 j ∧ B0.1 j ≤ ap_fs B.1 i (w + 1) j ∧ ap_fs B.1 i (w + 1) j ≤ B.2 j ∧ B.2 j ≤ B0.2 j ∧ B0.2 j ≤ 20
    unfold ap_fs
    by_cases e : j = i
    · subst e
      rw [if_pos rfl]; omega
    · rw [if_neg e]; exact hh
/-- whole points -/
def ap_zp (b d e : Int) (B : ap_X) (z0 z1 z2 : Int) : Prop := ap_pt b d e B.1 B.2 1 z0 z1 z2
theorem ap_zp_split {b d e : Int} {B : ap_X} {i : Nat} (hi : i < 3) {w z0 z1 z2 : Int} (h : ap_zp b d e B z0 z1 z2) : ap_zp b d e (ap_b1 B i w) z0 z1 z2 ∨ ap_zp b d e (ap_b2 B i w) z0 z1 z2 := by
  unfold ap_zp ap_pt ap_b1 ap_b2 ap_fs at *
  rcases ap_3 hi with e | e | e <;> subst e <;> simp at * <;> omega
theorem ap_zp_mono {b d e : Int} {B0 B : ap_X} (hB : ap_in B0 B) {z0 z1 z2 : Int} (h : ap_zp b d e B z0 z1 z2) : ap_zp b d e B0 z0 z1 z2 := by
  have h0 := hB 0 (by omega)
  have h1 := hB 1 (by omega)
  have h2 := hB 2 (by omega)
  unfold ap_zp ap_pt at *
  omega
theorem ap_zp_nn {b d e : Int} {B0 B : ap_X} (hB : ap_in B0 B) {z0 z1 z2 : Int} (h : ap_zp b d e B z0 z1 z2) : 0 ≤ z0 ∧ 0 ≤ z1 ∧ 0 ≤ z2 ∧ z0 ≤ 20 ∧ z1 ≤ 20 ∧ z2 ≤ 20 := by
  have h0 := hB 0 (by omega)
  have h1 := hB 1 (by omega)
  have h2 := hB 2 (by omega)
  unfold ap_zp ap_pt at *
  omega
def ap_ob (z0 z1 z2 : Int) : Int := 3 * z0 + 4 * z1 + 1 * z2
def ap_bst (b d e : Int) (B0 : ap_X) (best : Int) : Prop := best = -30000000 ∨ ∃ z0 z1 z2, ap_zp b d e B0 z0 z1 z2 ∧ best = ap_ob z0 z1 z2
def ap_cov (b d e : Int) (B0 : ap_X) (best : Int) (S : List ap_X) : Prop := ∀ z0 z1 z2, ap_zp b d e B0 z0 z1 z2 → ap_ob z0 z1 z2 ≤ best ∨ ∃ B, B ∈ S ∧ ap_zp b d e B z0 z1 z2
/-- the answer of bestWhole -/
def ap_res (b d e : Int) (B0 : ap_X) (r : Int) : Prop := (r = -30000000 ∧ ∀ z0 z1 z2, ¬ ap_zp b d e B0 z0 z1 z2) ∨ ∃ z0 z1 z2, ap_zp b d e B0 z0 z1 z2 ∧ r = ap_ob z0 z1 z2 ∧ ∀ y0 y1 y2, ap_zp b d e B0 y0 y1 y2 → ap_ob y0 y1 y2 ≤ r
theorem ap_res_of {b d e : Int} {B0 : ap_X} (h0 : ap_in B0 B0) {best : Int} (h1 : ap_bst b d e B0 best) (h2 : ap_cov b d e B0 best []) : ap_res b d e B0 best := by
  have h3 : ∀ y0 y1 y2, ap_zp b d e B0 y0 y1 y2 → ap_ob y0 y1 y2 ≤ best := by
    intro y0 y1 y2 hy
    rcases h2 y0 y1 y2 hy with h | ⟨B, hB, _⟩
    · exact h
    · exact absurd hB (by simp)
  rcases h1 with h | ⟨z0, z1, z2, hz, h⟩
  · refine Or.inl ⟨h, fun z0 z1 z2 hz => ?_⟩
    have := h3 z0 z1 z2 hz
    have := ap_zp_nn h0 hz
    unfold ap_ob at *
    omega
  · exact Or.inr ⟨z0, z1, z2, hz, h, h3⟩
theorem ap_sg_app {S : List ap_X} {B : ap_X} {p : Nat} (h : p < S.length + 1) : ap_sg (S ++ [B]) p = if p = S.length then B else ap_sg S p := ap_getD_app S B _ p (by rw [List.length_append]; exact h)
theorem ap_floor {post : Int64 → Prop} {a u : Int} (ha : -4000000000000 ≤ a ∧ a ≤ 4000000000000) (hu : 0 < u) (hu2 : u ≤ 1000000) (hp : post (ap_l (a / u))) : wpX_floor post () (ap_l a) (ap_l u) := by
  have e0 := Int.mul_ediv_add_emod a u
  have e1 := Int.emod_nonneg a (show u ≠ 0 by omega)
  have e2 := Int.emod_lt_of_pos a hu
  have hne : ¬ ap_l u = 0 := fun z => absurd ((ap_l_eq (by omega) (by omega)).mp (show ap_l u = ap_l 0 from z)) (by omega)
  unfold wpX_floor
  refine ap_lle u 0 rfl rfl (fun z => absurd z (by omega)) (fun _ => ⟨hne, ?_⟩)
  rw [ap_l_div (by omega) (by omega)]
  unfold wX_floor_13
  rw [ap_l_mul]
  have key : a.tdiv u = a / u ∨ (a.tdiv u = a / u + 1 ∧ ¬ a.tdiv u * u ≤ a) := by
    rw [Int.tdiv_eq_ediv]
    by_cases h : 0 ≤ a ∨ u ∣ a
    · rw [if_pos h]; exact Or.inl (Int.add_zero _)
    · rw [if_neg h, Int.sign_eq_one_of_pos hu]
      refine Or.inr ⟨rfl, ?_⟩
      rw [Int.add_mul, Int.one_mul, Int.mul_comm]
      omega
  have hb : -4000000000001 ≤ a.tdiv u ∧ a.tdiv u ≤ 4000000000001 := by
    have h1 : -4000000000000 ≤ a / u := by
      have := Int.ediv_le_ediv hu ha.1
      have h2 : -4000000000000 ≤ -4000000000000 / u := by
        rw [Int.le_ediv_iff_mul_le hu]
        omega
      omega
    have h2 : a / u ≤ 4000000000000 := by
      have := Int.ediv_le_ediv hu ha.2
      have h2 := Int.ediv_le_self u (show (0 : Int) ≤ 4000000000000 by decide)
      omega
    omega
  have hm := ap_mul_bd (A := 4000000000001) (B := 1000000) (by decide) (by decide) hb (show -1000000 ≤ u ∧ u ≤ 1000000 by omega)
  refine ap_lle (a.tdiv u * u) a rfl rfl (fun z => ?_) (fun z => ?_)
  · rcases key with k | ⟨_, k⟩
    · rw [k]; exact hp
    · exact absurd z k
  · rcases key with k | ⟨k, _⟩
    · rw [k, Int.mul_comm] at z
      omega
    · rw [k, show (1 : Int64) = ap_l 1 from rfl, ap_l_sub, Int.add_sub_cancel]
      exact hp
section
variable {qpr : Int32} {qwo : Int32} {qrw : Int32} {qtu : Int32} {qun : Int64} {qco : Int32} {qfw : Int32} {qwc : Int32} {qwt : Int64} {qwb : Int64} {qln : Int32} {qem : Int32} {qhh : Int32} {qht : Int64} {qhb : Int64} {qhl : Int32} {qlt : Int64} {qlb : Int64} {qbr : Int32} {ql3 : Int32} {qg3 : Int32} {a1 : Nat → Int32} {a2 : Nat → Int32} {a3 : Nat → Int32} {a4 : Nat → Int32} {a5 : Nat → Int32} {a6 : Nat → Int32} {a7 : Nat → Int32} {a8 : Nat → Int32} {a9 : Nat → Int32} {a10 : Nat → Int64} {a11 : Nat → Int32} {a12 : Nat → Int32} {a13 : Nat → Int64} {a14 : Nat → Int64} {a15 : Nat → Int64} {a16 : Nat → Int64} {a17 : Nat → Int64} {a18 : Nat → Int32} {a19 : Nat → Int32}
theorem ap_push {post : St2 → Prop} {S : List ap_X} {lo hi : Nat → Int} (hS : S.length ≤ 62) (hbr : qbr = nI S.length) (hlo : ∀ i, i < 3 → a5 i = ap_i (lo i) ∧ 0 ≤ lo i ∧ lo i ≤ 20) (hhi : ∀ i, i < 3 → a6 i = ap_i (hi i) ∧ 0 ≤ hi i ∧ hi i ≤ 20) (hSk : ap_Sk S a18 a19)
    (H : ∀ (a18' : Nat → Int32) (a19' : Nat → Int32), ap_Sk (S ++ [(lo, hi)]) a18' a19' → post (qpr, qwo, qrw, qtu, qun, qco, qfw, qwc, qwt, qwb, qln, qem, qhh, qht, qhb, qhl, qlt, qlb, nI (S.length + 1), ql3, qg3, a1, a2, a3, a4, a5, a6, a7, a8, a9, a10, a11, a12, a13, a14, a15, a16, a17, a18', a19')) : wpX_pushBranch post (qpr, qwo, qrw, qtu, qun, qco, qfw, qwc, qwt, qwb, qln, qem, qhh, qht, qhb, qhl, qlt, qlb, qbr, ql3, qg3, a1, a2, a3, a4, a5, a6, a7, a8, a9, a10, a11, a12, a13, a14, a15, a16, a17, a18, a19) := by
  unfold wpX_pushBranch
  refine pk_loop (fun q i t => wX_pushBranch_2 post qpr qwo qrw qtu qun qco qfw qwc qwt qwb qln qem qhh qht qhb qhl qlt qlb qbr ql3 qg3 q (nI i) a1 a2 a3 a4 a5 a6 a7 a8 a9 a10 a11 a12 a13 a14 a15 a16 a17 t.1 t.2) (fun i t => (∀ j, j < i → t.1 (S.length * 3 + j) = ap_i (lo j) ∧ t.2 (S.length * 3 + j) = ap_i (hi j)) ∧ ap_Sk S t.1 t.2) 3 0 (a18, a19) (by omega) ⟨fun j hj => absurd hj (by omega), hSk⟩ ?_ ?_
  · intro q t h
    refine pk_le 3 3 (fun _ => nm_r (e' := nI (S.length + 1)) (by rw [hbr, nI_1]) (H _ _ (fun p hp i hi3 => ?_))) (fun z => absurd z (by omega))
    rw [List.length_append] at hp
    have hp' : p < S.length + 1 := hp
    rw [ap_sg_app hp']
    by_cases e : p = S.length
    · rw [if_pos e, e]
      exact h.1 i hi3
    · rw [if_neg e]
      exact h.2 p (by omega) i hi3
  · intro q i t hi3 h hs
    have e3 : qbr * 3 + nI i = nI (S.length * 3 + i) := by rw [hbr]; exact ap_ix3 _ _
    have hl := hlo i hi3
    have hh := hhi i hi3
    refine pk_le 3 i (fun z => absurd z (by omega)) (fun _ => ?_)
    refine ⟨pk_in i 3 hi3, pk_in (S.length * 3 + i) 192 (by omega) e3, nm_r (e' := upd t.1 (S.length * 3 + i) (ap_i (lo i))) (by rw [e3, nI_clamp (by omega), nI_clamp (by omega), hl.1, ap_vb (by omega)]) ?_⟩
    refine ⟨pk_in i 3 hi3, pk_in (S.length * 3 + i) 192 (by omega) e3, nm_r (e' := upd t.2 (S.length * 3 + i) (ap_i (hi i))) (by rw [e3, nI_clamp (by omega), nI_clamp (by omega), hh.1, ap_vb (by omega)]) ?_⟩
    refine nm_r (nI_1 i) (hs (_, _) ⟨fun j hj => ?_, fun p hp j hj => ?_⟩)
    · show upd t.1 _ _ _ = _ ∧ upd t.2 _ _ _ = _
      by_cases e : j = i
      · rw [e, pk_us, pk_us]; exact ⟨rfl, rfl⟩
      · rw [pk_un (by omega), pk_un (by omega)]; exact h.1 j (by omega)
    · show upd t.1 _ _ _ = _ ∧ upd t.2 _ _ _ = _
      rw [pk_un (by omega), pk_un (by omega)]; exact h.2 p hp j hj
theorem ap_brokenA {post : Int32 → Prop} {u : Int} {t : Nat → Int} (hu : 0 < u) (hu2 : u ≤ 1000000) (hwb : qwb = ap_l u) (ht : ∀ i, i < 3 → a13 i = ap_l (t i) ∧ -4000000 ≤ t i ∧ t i ≤ 4000000)
    (H0 : (∀ i, i < 3 → u ∣ t i) → post (-1)) (H1 : ∀ i, i < 3 → ¬ u ∣ t i → post (nI i)) : wpX_brokenAmount post (qpr, qwo, qrw, qtu, qun, qco, qfw, qwc, qwt, qwb, qln, qem, qhh, qht, qhb, qhl, qlt, qlb, qbr, ql3, qg3, a1, a2, a3, a4, a5, a6, a7, a8, a9, a10, a11, a12, a13, a14, a15, a16, a17, a18, a19) := by
  have hne : ¬ qwb = 0 := by
    rw [hwb]
    exact fun z => absurd ((ap_l_eq (by omega) (by omega)).mp (show ap_l u = ap_l 0 from z)) (by omega)
  unfold wpX_brokenAmount
  refine pk_loop (σ := Unit) (fun q i _ => wX_brokenAmount_2 post qpr qwo qrw qtu qun qco qfw qwc qwt qwb qln qem qhh qht qhb qhl qlt qlb qbr ql3 qg3 a1 a2 a3 a4 a5 a6 a7 a8 a9 a10 a11 a12 a13 a14 a15 a16 a17 a18 a19 q (nI i)) (fun i _ => ∀ j, j < i → u ∣ t j) 3 0 () (by omega) (fun j hj => absurd hj (by omega)) ?_ ?_
  · intro q _ h
    exact pk_le 3 3 (fun _ => H0 h) (fun z => absurd z (by omega))
  · intro q i _ hi3 h hs
    have hti := ht i hi3
    refine pk_le 3 i (fun z => absurd z (by omega)) (fun _ => br_f hne ⟨pk_in i 3 hi3, hne, ?_⟩)
    have em : (t i).tmod u = 0 ↔ u ∣ t i := ⟨fun z => Int.dvd_of_tmod_eq_zero z, fun z => Int.tmod_eq_zero_of_dvd z⟩
    have hb : -1000000 ≤ (t i).tmod u ∧ (t i).tmod u ≤ 1000000 := by
      have h1 := Int.tmod_lt_of_pos (t i) hu
      have h2 := Int.lt_tmod_of_pos (t i) hu
      omega
    refine ap_leq ((t i).tmod u) 0 (by rw [nI_clamp (by omega), hti.1, hwb]; exact ap_l_rem (by omega) (by omega)) rfl (fun z => nm_r (nI_1 i) (hs () (fun j hj => ?_))) (fun z => H1 i hi3 (fun y => z (em.mpr y)))
    by_cases e : j = i
    · rw [e]; exact em.mp z
    · exact h j (by omega)
theorem ap_branch {post : Int32 → St2 → Prop} {S : List ap_X} {lo hi t : Nat → Int} {u best most : Int} (hu : 0 < u) (hu2 : u ≤ 64) (hwb : qwb = ap_l u) (ht : ∀ i, i < 3 → a13 i = ap_l (t i) ∧ u * lo i ≤ t i ∧ t i ≤ u * hi i)
    (hS : S.length ≤ 60) (hbr : qbr = nI S.length) (hlo : ∀ i, i < 3 → a5 i = ap_i (lo i) ∧ 0 ≤ lo i ∧ lo i ≤ 20) (hhi : ∀ i, i < 3 → a6 i = ap_i (hi i) ∧ 0 ≤ hi i ∧ hi i ≤ 20) (hSk : ap_Sk S a18 a19)
    (H0 : (∀ i, i < 3 → u ∣ t i) → post (ap_i most) (qpr, qwo, qrw, qtu, qun, qco, qfw, qwc, qwt, qwb, qln, qem, qhh, qht, qhb, qhl, qlt, qlb, qbr, ql3, qg3, a1, a2, a3, a4, a5, a6, a7, a8, a9, a10, a11, a12, a13, a14, a15, a16, a17, a18, a19))
    (H1 : ∀ (i : Nat) (w : Int) (a5' : Nat → Int32) (a6' : Nat → Int32) (a18' : Nat → Int32) (a19' : Nat → Int32), i < 3 → lo i ≤ w → w < hi i → ap_Sk (S ++ [ap_b1 (lo, hi) i w] ++ [ap_b2 (lo, hi) i w]) a18' a19' → post (ap_i best) (qpr, qwo, qrw, qtu, qun, qco, qfw, qwc, qwt, qwb, qln, qem, qhh, qht, qhb, qhl, qlt, qlb, nI (S.length + 2), ql3, qg3, a1, a2, a3, a4, a5', a6', a7, a8, a9, a10, a11, a12, a13, a14, a15, a16, a17, a18', a19')) :
    wpX_branch post (qpr, qwo, qrw, qtu, qun, qco, qfw, qwc, qwt, qwb, qln, qem, qhh, qht, qhb, qhl, qlt, qlb, qbr, ql3, qg3, a1, a2, a3, a4, a5, a6, a7, a8, a9, a10, a11, a12, a13, a14, a15, a16, a17, a18, a19) (ap_i best) (ap_i most) := by
  have htb : ∀ i, i < 3 → 0 ≤ t i ∧ t i ≤ 1280 := by
    intro i hi3
    have h1 := ht i hi3
    have h2 := Int.mul_nonneg (Int.le_of_lt hu) (hlo i hi3).2.1
    have h3 := ap_mul_bd (A := 64) (B := 20) (by decide) (by decide) (show -64 ≤ u ∧ u ≤ 64 by omega) (show -20 ≤ hi i ∧ hi i ≤ 20 by have := (hhi i hi3).2; omega)
    omega
  unfold wpX_branch
  refine ap_brokenA hu (by omega) hwb (fun i h => ⟨(ht i h).1, by have := htb i h; omega⟩) (fun h => br_f (by decide) (H0 h)) (fun i hi3 hnd => br_t (nI_pos' (by omega)) ⟨pk_in i 3 hi3, ?_⟩)
  have hti := ht i hi3
  have htbi := htb i hi3
  have hl := hlo i hi3
  have hh := hhi i hi3
  have ei : (nI i).toNatClampNeg = i := nI_clamp (by omega)
  have vi : vp_in (nI i) 3 := pk_in i 3 hi3
  rw [ei, hti.1, hwb]
  refine ap_floor (by omega) hu (by omega) ?_
  have w1 : lo i ≤ t i / u := by
    rw [Int.le_ediv_iff_mul_le hu, Int.mul_comm]
    exact hti.2.1
  have w2 : t i / u < hi i := by
    rw [Int.ediv_lt_iff_lt_mul hu, Int.mul_comm]
    rcases ap_lg (t i) (u * hi i) with z | z
    · exact z
    · exact absurd ⟨hi i, by omega⟩ hnd
  generalize t i / u = w at w1 w2 ⊢
  rw [ap_li]
  refine ⟨vi, nm_r (e' := ap_i (lo i)) hl.1 ⟨vi, nm_r (e' := ap_i (hi i)) hh.1 ⟨vi, nm_r (e' := upd a6 i (ap_i w)) (by rw [ap_nb (by omega)]) ?_⟩⟩⟩
  refine ap_push (hi := ap_fs hi i w) (by omega) hbr hlo (fun j hj => ?_) hSk (fun b18 b19 k1 => ?_)
  · unfold ap_fs
    by_cases e : j = i
    · rw [if_pos e, e, pk_us]
      exact ⟨rfl, by omega, by omega⟩
    · rw [if_neg e, pk_un e]
      exact hhi j hj
  · have e1 : ap_i w + 1 = ap_i (w + 1) := ap_i_add w 1
    refine ⟨vi, nm_r (e' := upd a5 i (ap_i (w + 1))) (by rw [e1, ap_nb (by omega)]) ⟨vi, nm_r (e' := upd (upd a6 i (ap_i w)) i (ap_i (hi i))) (by rw [ap_vb (by omega)]) ?_⟩⟩
    have k1' : ap_Sk (S ++ [ap_b1 (lo, hi) i w]) b18 b19 := k1
    refine ap_push (S := S ++ [ap_b1 (lo, hi) i w]) (lo := ap_fs lo i (w + 1)) (hi := hi) (by rw [List.length_append]; show S.length + 1 ≤ 62; omega) (by rw [List.length_append]; rfl) (fun j hj => ?_) (fun j hj => ?_) k1' (fun c18 c19 k2 => ?_)
    · unfold ap_fs
      by_cases e : j = i
      · rw [if_pos e, e, pk_us]
        exact ⟨rfl, by omega, by omega⟩
      · rw [if_neg e, pk_un e]
        exact hlo j hj
    · by_cases e : j = i
      · rw [e, pk_us]
        exact ⟨rfl, hh.2⟩
      · rw [pk_un e, pk_un e]
        exact hhi j hj
    · have k2' : ap_Sk (S ++ [ap_b1 (lo, hi) i w] ++ [ap_b2 (lo, hi) i w]) c18 c19 := k2
      refine ⟨vi, nm_r (e' := upd (upd a5 i (ap_i (w + 1))) i (ap_i (lo i))) (by rw [ap_vb (by omega)]) ?_⟩
      have := H1 i w (upd (upd a5 i (ap_i (w + 1))) i (ap_i (lo i))) (upd (upd a6 i (ap_i w)) i (ap_i (hi i))) c18 c19 hi3 w1 w2 k2'
      have e2 : (S ++ [ap_b1 (lo, hi) i w]).length + 1 = S.length + 2 := by rw [List.length_append]; rfl
      rw [e2]
      rw [hwb] at this
      exact this
end
end
section
/-! the best whole point of a box -/
theorem ap_edge {u t w : Int} (hu : 0 < u) (h : t = u * w) : t / u = w := by
  rw [h, Int.mul_ediv_cancel_left _ (by omega)]
theorem ap_pt_dvd {b d e : Int} {lo hi : Nat → Int} {u z0 z1 z2 : Int} (hu : 0 < u) (h : ap_pt b d e lo hi u (u * z0) (u * z1) (u * z2)) : ap_pt b d e lo hi 1 z0 z1 z2 := by
  have le : ∀ x y : Int, u * x ≤ u * y → x ≤ y := fun x y h => Int.le_of_mul_le_mul_left h hu
  obtain ⟨⟨a1, a2⟩, ⟨b1, b2⟩, ⟨c1, c2⟩, h1, h2, h3, h4⟩ := h
  refine ⟨⟨?_, ?_⟩, ⟨?_, ?_⟩, ⟨?_, ?_⟩, ?_, ?_, ?_, ?_⟩
  · rw [Int.one_mul]; exact le _ _ a1
  · rw [Int.one_mul]; exact le _ _ a2
  · rw [Int.one_mul]; exact le _ _ b1
  · rw [Int.one_mul]; exact le _ _ b2
  · rw [Int.one_mul]; exact le _ _ c1
  · rw [Int.one_mul]; exact le _ _ c2
  · rw [Int.one_mul]
    exact le _ _ (by rw [Int.mul_add, ← Int.mul_assoc, Int.mul_comm u 2, Int.mul_assoc]; exact h1)
  · rw [Int.one_mul]
    exact le _ _ (by rw [Int.mul_add, ← Int.mul_assoc u 3, Int.mul_comm u 3, Int.mul_assoc]; exact h2)
  · rw [Int.one_mul]
    exact le _ _ (by rw [Int.mul_add]; exact h3)
  · rw [Int.one_mul]
    have h4' : u * (2 * z2) = u * e := by rw [← Int.mul_assoc, Int.mul_comm u 2, Int.mul_assoc]; exact h4
    exact Int.eq_of_mul_eq_mul_left (by omega) h4'
section
variable {qpr : Int32} {qwo : Int32} {qrw : Int32} {qtu : Int32} {qun : Int64} {qco : Int32} {qfw : Int32} {qwc : Int32} {qwt : Int64} {qwb : Int64} {qln : Int32} {qem : Int32} {qhh : Int32} {qht : Int64} {qhb : Int64} {qhl : Int32} {qlt : Int64} {qlb : Int64} {qbr : Int32} {ql3 : Int32} {qg3 : Int32} {a1 : Nat → Int32} {a2 : Nat → Int32} {a3 : Nat → Int32} {a4 : Nat → Int32} {a5 : Nat → Int32} {a6 : Nat → Int32} {a7 : Nat → Int32} {a8 : Nat → Int32} {a9 : Nat → Int32} {a10 : Nat → Int64} {a11 : Nat → Int32} {a12 : Nat → Int32} {a13 : Nat → Int64} {a14 : Nat → Int64} {a15 : Nat → Int64} {a16 : Nat → Int64} {a17 : Nat → Int64} {a18 : Nat → Int32} {a19 : Nat → Int32}
variable {b d e : Int} {B0 : ap_X}
theorem ap_bw14 {post : Int32 → St2 → Prop} (hD : ap_dat 15 ap_nu1 ap_kd1 (ap_bo b d e) qpr a1 a2 a3) (hwo : qwo = -1) (has : ∀ i, i < 3 → a7 i = ap_i (ap_gl i)) (h00 : ap_in B0 B0)
    (H : ∀ (r : Int) (qrw' : Int32) (qtu' : Int32) (qun' : Int64) (qco' : Int32) (qfw' : Int32) (qwc' : Int32) (qwt' : Int64) (qwb' : Int64) (qbr' : Int32) (a5' : Nat → Int32) (a6' : Nat → Int32) (a8' : Nat → Int32) (a9' : Nat → Int32) (a10' : Nat → Int64) (a11' : Nat → Int32) (a12' : Nat → Int32) (a13' : Nat → Int64) (a18' : Nat → Int32) (a19' : Nat → Int32), ap_res b d e B0 r → post (ap_i r) (qpr, qwo, qrw', qtu', qun', qco', qfw', qwc', qwt', qwb', qln, qem, qhh, qht, qhb, qhl, qlt, qlb, qbr', ql3, qg3, a1, a2, a3, a4, a5', a6', a7, a8', a9', a10', a11', a12', a13', a14, a15, a16, a17, a18', a19')) :
    ∀ (q i : Nat) (best : Int) (S : List ap_X) (qrw : Int32) (qtu : Int32) (qun : Int64) (qco : Int32) (qfw : Int32) (qwc : Int32) (qwt : Int64) (qwb : Int64) (qbr : Int32) (a5 : Nat → Int32) (a6 : Nat → Int32) (a8 : Nat → Int32) (a9 : Nat → Int32) (a10 : Nat → Int64) (a11 : Nat → Int32) (a12 : Nat → Int32) (a13 : Nat → Int64) (a18 : Nat → Int32) (a19 : Nat → Int32), qbr = nI S.length → ap_Sk S a18 a19 → (∀ B, B ∈ S → ap_in B0 B) → (∀ p, p < S.length → (p : Int) + ap_wd (ap_sg S p) ≤ 60) → ap_sz S + i ≤ 20000 → ap_sz S < q → (-30000000 ≤ best ∧ best ≤ 1000) → ap_bst b d e B0 best → ap_cov b d e B0 best S → wX_bestWhole_14 post q (ap_i best) (nI i) qpr qwo qrw qtu qun qco qfw qwc qwt qwb qln qem qhh qht qhb qhl qlt qlb qbr ql3 qg3 a1 a2 a3 a4 a5 a6 a7 a8 a9 a10 a11 a12 a13 a14 a15 a16 a17 a18 a19
  | 0, i, best, S, qrw, qtu, qun, qco, qfw, qwc, qwt, qwb, qbr, a5, a6, a8, a9, a10, a11, a12, a13, a18, a19, _, _, hin, _, _, hq, _, _, _ => by
    have : ∀ S : List ap_X, (∀ B, B ∈ S → ap_in B0 B) → 0 ≤ ap_sz S := by
      intro S
      induction S with
      | nil => intro _; exact Int.le_refl 0
      | cons B l ih =>
        intro h
        have h1 := ih (fun C hC => h C (List.mem_cons_of_mem _ hC))
        have h2 := ap_vol_pos (h B (List.mem_cons_self ..))
        show 0 ≤ (2 * ap_vol B - 1) + ap_sz l
        omega
    have := this S hin
    omega
  | q + 1, i, best, S, qrw, qtu, qun, qco, qfw, qwc, qwt, qwb, qbr, a5, a6, a8, a9, a10, a11, a12, a13, a18, a19, hbr, hSk, hin, hwd, hsz, hq, hbb, hbst, hcov => by
    rcases List.eq_nil_or_concat S with hS | ⟨S', B, hS⟩
    · subst hS
      have fin : post (ap_i best) (qpr, qwo, qrw, qtu, qun, qco, qfw, qwc, qwt, qwb, qln, qem, qhh, qht, qhb, qhl, qlt, qlb, qbr, ql3, qg3, a1, a2, a3, a4, a5, a6, a7, a8, a9, a10, a11, a12, a13, a14, a15, a16, a17, a18, a19) := H best _ _ _ _ _ _ _ _ _ _ _ _ _ _ _ _ _ _ _ (ap_res_of h00 hbst hcov)
      have hi : i ≤ 20000 := by
        have h0 : ap_sz [] = 0 := rfl
        omega
      refine pk_le 20000 i (fun _ => fin) (fun _ => ?_)
      refine br_t ?_ fin
      rw [hbr]
      decide
    · subst hS
      rw [List.concat_eq_append] at *
      have hBin : ap_in B0 B := hin B (List.mem_append_right _ (List.mem_singleton.mpr rfl))
      have hS'in : ∀ C, C ∈ S' → ap_in B0 C := fun C hC => hin C (List.mem_append_left _ hC)
      have hvol := ap_vol_pos hBin
      rw [ap_sz_app] at hsz hq
      have hnn : 0 ≤ ap_sz S' := by
        have : ∀ S : List ap_X, (∀ B, B ∈ S → ap_in B0 B) → 0 ≤ ap_sz S := by
          intro S
          induction S with
          | nil => intro _; exact Int.le_refl 0
          | cons B l ih =>
            intro h
            have h1 := ih (fun C hC => h C (List.mem_cons_of_mem _ hC))
            have h2 := ap_vol_pos (h B (List.mem_cons_self ..))
            show 0 ≤ (2 * ap_vol B - 1) + ap_sz l
            omega
        exact this S' hS'in
      have hlen : (S' ++ [B]).length = S'.length + 1 := by rw [List.length_append]; rfl
      rw [hlen] at hbr hwd
      have hdep := hwd S'.length (by omega)
      rw [ap_sg_app (by omega), if_pos rfl] at hdep
      have hwdB := ap_wd_le hBin
      have hwd' : ∀ p, p < S'.length → (p : Int) + ap_wd (ap_sg S' p) ≤ 60 := by
        intro p hp
        have h := hwd p (by omega)
        rw [ap_sg_app (by omega), if_neg (by omega)] at h
        exact h
      have hSk' : ap_Sk S' a18 a19 := by
        intro p hp j hj
        have h := hSk p (by omega) j hj
        rw [ap_sg_app (by omega), if_neg (by omega)] at h
        exact h
      have hSkB : ∀ j, j < 3 → a18 (S'.length * 3 + j) = ap_i (B.1 j) ∧ a19 (S'.length * 3 + j) = ap_i (B.2 j) := by
        intro j hj
        have h := hSk S'.length (by omega) j hj
        rw [ap_sg_app (by omega), if_pos rfl] at h
        exact h
      refine pk_le 20000 i (fun z => absurd z (by omega)) (fun _ => ?_)
      refine pk_le (S'.length + 1) 0 (fun z => absurd z (by omega)) (fun _ => ?_) hbr
      refine nm_r (e' := nI S'.length) (by rw [hbr]; exact nI_pred _) ?_
      refine pk_loop (fun g c t => wX_bestWhole_40 post (wX_bestWhole_14 post q) (ap_i best) (nI i) qpr qwo qrw qtu qun qco qfw qwc qwt qwb qln qem qhh qht qhb qhl qlt qlb (nI S'.length) ql3 qg3 g (nI c) a1 a2 a3 a4 t.1 t.2 a7 a8 a9 a10 a11 a12 a13 a14 a15 a16 a17 a18 a19) (fun c t => ∀ j, j < c → t.1 j = ap_i (B.1 j) ∧ t.2 j = ap_i (B.2 j)) 3 0 (a5, a6) (by omega) (fun j hj => absurd hj (by omega)) ?_ ?_
      · intro g t ht
        refine pk_le 3 3 (fun _ => ?_) (fun z => absurd z (by omega))
        have hlo : ∀ j, j < 3 → t.1 j = ap_i (B.1 j) ∧ 0 ≤ B.1 j ∧ B.1 j ≤ 20 := fun j hj => ⟨(ht j hj).1, by have := hBin j hj; omega, by have := hBin j hj; omega⟩
        have hhi : ∀ j, j < 3 → t.2 j = ap_i (B.2 j) ∧ 0 ≤ B.2 j ∧ B.2 j ≤ 20 := fun j hj => ⟨(ht j hj).2, by have := hBin j hj; omega, by have := hBin j hj; omega⟩
        -- the box is left: what it holds is no better
        have drop : ∀ (qrw' : Int32) (qtu' : Int32) (qun' : Int64) (qco' : Int32) (qfw' : Int32) (qwc' : Int32) (qwt' : Int64) (qwb' : Int64) (a5' : Nat → Int32) (a6' : Nat → Int32) (a8' : Nat → Int32) (a9' : Nat → Int32) (a10' : Nat → Int64) (a11' : Nat → Int32) (a12' : Nat → Int32) (a13' : Nat → Int64), (∀ z0 z1 z2, ap_zp b d e B z0 z1 z2 → ap_ob z0 z1 z2 ≤ best) → wX_bestWhole_14 post q (ap_i best) (nI (i + 1)) qpr qwo qrw' qtu' qun' qco' qfw' qwc' qwt' qwb' qln qem qhh qht qhb qhl qlt qlb (nI S'.length) ql3 qg3 a1 a2 a3 a4 a5' a6' a7 a8' a9' a10' a11' a12' a13' a14 a15 a16 a17 a18 a19 := by
          intro qrw' qtu' qun' qco' qfw' qwc' qwt' qwb' a5' a6' a8' a9' a10' a11' a12' a13' hB
          refine ap_bw14 hD hwo has h00 H q (i + 1) best S' qrw' qtu' qun' qco' qfw' qwc' qwt' qwb' (nI S'.length) a5' a6' a8' a9' a10' a11' a12' a13' a18 a19 rfl hSk' hS'in hwd' (by omega) (by omega) hbb hbst (fun z0 z1 z2 hz => ?_)
          rcases hcov z0 z1 z2 hz with h | ⟨C, hC, hz2⟩
          · exact Or.inl h
          · rcases List.mem_append.mp hC with h | h
            · exact Or.inr ⟨C, h, hz2⟩
            · rw [List.mem_singleton.mp h] at hz2
              exact Or.inl (hB z0 z1 z2 hz2)
        refine ap_e0 (lo := B.1) (hi := B.2) hD hwo hlo hhi has (fun u W t0 t1 t2 qrw' qtu' qun' qco' qfw' qwc' a8' a9' a10' a11' a12' a13' hsol k0 k1 k2 => ?_) (fun hno qrw' qtu' qun' qco' qfw' qwc' a8' a9' a10' a11' a12' => ?_)
        · obtain ⟨u1, u2, hpt, hW, hopt⟩ := hsol
          have h0 := hBin 0 (by omega)
          have h1 := hBin 1 (by omega)
          have h2 := hBin 2 (by omega)
          have tb : ∀ (x y : Int), 0 ≤ x → x ≤ 20 → u * x ≤ y → ∀ x', 0 ≤ x' → x' ≤ 20 → y ≤ u * x' → 0 ≤ y ∧ y ≤ 1280 := by
            intro x y g1 g2 g3 x' g4 g5 g6
            have m0 := Int.mul_nonneg (Int.le_of_lt u1) g1
            have m1 := ap_mul_bd (A := 64) (B := 20) (by decide) (by decide) (show -64 ≤ u ∧ u ≤ 64 by omega) (show -20 ≤ x' ∧ x' ≤ 20 by omega)
            omega
          have b0 := tb _ _ (by omega) (by omega) hpt.1.1 _ (by omega) (by omega) hpt.1.2
          have b1 := tb _ _ (by omega) (by omega) hpt.2.1.1 _ (by omega) (by omega) hpt.2.1.2
          have b2 := tb _ _ (by omega) (by omega) hpt.2.2.1.1 _ (by omega) (by omega) hpt.2.2.1.2
          have most : ∀ z0 z1 z2, ap_zp b d e B z0 z1 z2 → ap_ob z0 z1 z2 ≤ W / u := by
            intro z0 z1 z2 hz
            have h := hopt 1 z0 z1 z2 hz
            rw [Int.le_ediv_iff_mul_le u1]
            unfold ap_ob
            omega
          have mW : 0 ≤ W / u ∧ W / u ≤ 12000 := by
            refine ⟨Int.ediv_nonneg (by omega) (by omega), ?_⟩
            have := Int.ediv_le_self u (show 0 ≤ W by omega)
            omega
          refine br_f (by decide) ?_
          refine ap_floor (by omega) u1 (by omega) ?_
          have s121 : (best = -30000000 ∨ best < W / u) → wX_bestWhole_121 post (wX_bestWhole_14 post q) (ap_i best) (nI i) (ap_l (W / u)) qpr qwo qrw' qtu' qun' qco' qfw' qwc' (ap_l W) (ap_l u) qln qem qhh qht qhb qhl qlt qlb (nI S'.length) ql3 qg3 a1 a2 a3 a4 t.1 t.2 a7 a8' a9' a10' a11' a12' a13' a14 a15 a16 a17 a18 a19 := by
            intro hbetter
            unfold wX_bestWhole_121
            rw [ap_li]
            refine ap_branch (S := S') (lo := B.1) (hi := B.2) (t := fun j => if j = 0 then t0 else if j = 1 then t1 else t2) u1 u2 rfl (fun j hj => ?_) (by omega) rfl hlo hhi hSk' (fun hdv => ?_) (fun j w c5 c6 c18 c19 hj w1 w2 hk => ?_)
            · rcases ap_3 hj with ej | ej | ej <;> subst ej
              · exact ⟨k0, hpt.1⟩
              · exact ⟨k1, hpt.2.1⟩
              · exact ⟨k2, hpt.2.2.1⟩
            · obtain ⟨z0, e0⟩ := hdv 0 (by omega)
              obtain ⟨z1, e1⟩ := hdv 1 (by omega)
              obtain ⟨z2, e2⟩ := hdv 2 (by omega)
              have e0' : t0 = u * z0 := e0
              have e1' : t1 = u * z1 := e1
              have e2' : t2 = u * z2 := e2
              rw [e0', e1', e2'] at hpt
              have hz : ap_zp b d e B z0 z1 z2 := ap_pt_dvd u1 hpt
              have hWz : W = u * ap_ob z0 z1 z2 := by
                rw [hW, e0', e1', e2']
                unfold ap_ob
                grind
              have hmo : W / u = ap_ob z0 z1 z2 := ap_edge u1 hWz
              have hzn := ap_zp_nn hBin hz
              refine nm_r (nI_1 i) ?_
              refine ap_bw14 hD hwo has h00 H q (i + 1) (W / u) S' qrw' qtu' qun' qco' qfw' qwc' (ap_l W) (ap_l u) (nI S'.length) t.1 t.2 a8' a9' a10' a11' a12' a13' a18 a19 rfl hSk' hS'in hwd' (by omega) (by omega) ?_ (Or.inr ⟨z0, z1, z2, ap_zp_mono hBin hz, hmo⟩) (fun y0 y1 y2 hy => ?_)
              · rw [hmo]
                unfold ap_ob
                omega
              · rcases hcov y0 y1 y2 hy with h | ⟨C, hC, hz2⟩
                · left
                  omega
                · rcases List.mem_append.mp hC with h | h
                  · exact Or.inr ⟨C, h, hz2⟩
                  · rw [List.mem_singleton.mp h] at hz2
                    exact Or.inl (most y0 y1 y2 hz2)
            · have hsp := ap_in_split hBin w1 w2
              have hvs := ap_vol_split B hj w
              have hws := ap_wd_split B hj w1 w2
              have hvp1 := ap_vol_pos hsp.1
              have hvp2 := ap_vol_pos hsp.2
              refine nm_r (nI_1 i) ?_
              refine ap_bw14 hD hwo has h00 H q (i + 1) best (S' ++ [ap_b1 B j w] ++ [ap_b2 B j w]) qrw' qtu' qun' qco' qfw' qwc' (ap_l W) (ap_l u) (nI (S'.length + 2)) c5 c6 a8' a9' a10' a11' a12' a13' c18 c19 ?_ hk (fun C hC => ?_) (fun p hp => ?_) ?_ ?_ hbb hbst (fun y0 y1 y2 hy => ?_)
              · rw [List.length_append, List.length_append]
                rfl
              · rcases List.mem_append.mp hC with h | h
                · rcases List.mem_append.mp h with h | h
                  · exact hS'in C h
                  · rw [List.mem_singleton.mp h]; exact hsp.1
                · rw [List.mem_singleton.mp h]; exact hsp.2
              · have hl1 : (S' ++ [ap_b1 B j w]).length = S'.length + 1 := by rw [List.length_append]; rfl
                rw [List.length_append, hl1] at hp
                have hp' : p < S'.length + 1 + 1 := hp
                rw [ap_sg_app (by rw [hl1]; exact hp'), hl1]
                by_cases e1 : p = S'.length + 1
                · rw [if_pos e1]
                  omega
                · rw [if_neg e1, ap_sg_app (by omega)]
                  by_cases e2 : p = S'.length
                  · rw [if_pos e2]
                    omega
                  · rw [if_neg e2]
                    exact hwd' p (by omega)
              · rw [ap_sz_app, ap_sz_app]
                omega
              · rw [ap_sz_app, ap_sz_app]
                omega
              · rcases hcov y0 y1 y2 hy with h | ⟨C, hC, hz2⟩
                · exact Or.inl h
                · rcases List.mem_append.mp hC with h | h
                  · exact Or.inr ⟨C, List.mem_append_left _ (List.mem_append_left _ h), hz2⟩
                  · rw [List.mem_singleton.mp h] at hz2
                    rcases ap_zp_split hj (w := w) hz2 with h | h
                    · exact Or.inr ⟨_, List.mem_append_left _ (List.mem_append_right _ (List.mem_singleton.mpr rfl)), h⟩
                    · exact Or.inr ⟨_, List.mem_append_right _ (List.mem_singleton.mpr rfl), h⟩
          refine ap_ieq best (-30000000) rfl rfl (fun z => s121 (Or.inl z)) (fun z => ?_)
          refine ap_lle (W / u) best rfl (ap_il (by omega)) (fun z2 => nm_r (nI_1 i) (drop _ _ _ _ _ _ _ _ _ _ _ _ _ _ _ _ (fun z0 z1 z2' hz => ?_))) (fun z2 => s121 (Or.inr z2))
          have := most z0 z1 z2' hz
          omega
        · refine br_t rfl (nm_r (nI_1 i) (drop _ _ _ _ _ _ _ _ _ _ _ _ _ _ _ _ (fun z0 z1 z2 hz => absurd hz (hno 1 z0 z1 z2 (by decide)))))
      · intro g c t hc ht hs
        have e3 : nI S'.length * 3 + nI c = nI (S'.length * 3 + c) := ap_ix3 _ _
        have hb := hSkB c hc
        have hBc := hBin c hc
        refine pk_le 3 c (fun z => absurd z (by omega)) (fun _ => ?_)
        refine ⟨pk_in (S'.length * 3 + c) 192 (by omega) e3, pk_in c 3 hc, nm_r (e' := upd t.1 c (ap_i (B.1 c))) (by rw [e3, nI_clamp (by omega), nI_clamp (by omega), hb.1, ap_vb (by omega)]) ?_⟩
        refine ⟨pk_in (S'.length * 3 + c) 192 (by omega) e3, pk_in c 3 hc, nm_r (e' := upd t.2 c (ap_i (B.2 c))) (by rw [e3, nI_clamp (by omega), nI_clamp (by omega), hb.2, ap_vb (by omega)]) ?_⟩
        refine nm_r (nI_1 c) (hs (_, _) (fun j hj => ?_))
        show upd t.1 _ _ _ = _ ∧ upd t.2 _ _ _ = _
        by_cases ej : j = c
        · rw [ej, pk_us, pk_us]; exact ⟨rfl, rfl⟩
        · rw [pk_un ej, pk_un ej]; exact ht j (by omega)
theorem ap_bestWhole {post : Int32 → St2 → Prop} (hD : ap_dat 15 ap_nu1 ap_kd1 (ap_bo b d e) qpr a1 a2 a3) (hwo : qwo = -1) (has : ∀ i, i < 3 → a7 i = ap_i (ap_gl i)) (h00 : ap_in B0 B0)
    (hlo : ∀ i, i < 3 → a5 i = ap_i (B0.1 i)) (hhi : ∀ i, i < 3 → a6 i = ap_i (B0.2 i))
    (H : ∀ (r : Int) (qrw' : Int32) (qtu' : Int32) (qun' : Int64) (qco' : Int32) (qfw' : Int32) (qwc' : Int32) (qwt' : Int64) (qwb' : Int64) (qbr' : Int32) (a5' : Nat → Int32) (a6' : Nat → Int32) (a8' : Nat → Int32) (a9' : Nat → Int32) (a10' : Nat → Int64) (a11' : Nat → Int32) (a12' : Nat → Int32) (a13' : Nat → Int64) (a18' : Nat → Int32) (a19' : Nat → Int32), ap_res b d e B0 r → post (ap_i r) (qpr, qwo, qrw', qtu', qun', qco', qfw', qwc', qwt', qwb', qln, qem, qhh, qht, qhb, qhl, qlt, qlb, qbr', ql3, qg3, a1, a2, a3, a4, a5', a6', a7, a8', a9', a10', a11', a12', a13', a14, a15, a16, a17, a18', a19')) :
    wpX_bestWhole post (qpr, qwo, qrw, qtu, qun, qco, qfw, qwc, qwt, qwb, qln, qem, qhh, qht, qhb, qhl, qlt, qlb, qbr, ql3, qg3, a1, a2, a3, a4, a5, a6, a7, a8, a9, a10, a11, a12, a13, a14, a15, a16, a17, a18, a19) := by
  unfold wpX_bestWhole
  have hv := ap_vol_le h00
  have hv2 := ap_vol_pos h00
  have hw := ap_wd_le h00
  refine ap_push (S := []) (lo := B0.1) (hi := B0.2) (by decide) rfl (fun i h => ⟨hlo i h, by have := h00 i h; omega⟩) (fun i h => ⟨hhi i h, by have := h00 i h; omega⟩) (fun p hp => absurd hp (Nat.not_lt_zero p)) (fun b18 b19 k => ?_)
  have hsz : ap_sz [B0] = 2 * ap_vol B0 - 1 := by
    show (2 * ap_vol B0 - 1) + 0 = _
    omega
  refine ⟨20000, ap_bw14 hD hwo has h00 H 20000 0 (-30000000) [B0] qrw qtu qun qco qfw qwc qwt qwb (nI 1) a5 a6 a8 a9 a10 a11 a12 a13 b18 b19 rfl k (fun C hC => ?_) (fun p hp => ?_) (by omega) (by omega) (by decide) (Or.inl rfl) (fun z0 z1 z2 hz => Or.inr ⟨B0, List.mem_singleton.mpr rfl, hz⟩)⟩
  · rw [List.mem_singleton.mp hC]; exact h00
  · have hp' : p = 0 := Nat.lt_one_iff.mp hp
    subst hp'
    show (0 : Int) + ap_wd B0 ≤ 60
    omega
end
end
section
/-! questions, and fractions in lowest terms -/
section
variable {qpr : Int32} {qwo : Int32} {qrw : Int32} {qtu : Int32} {qun : Int64} {qco : Int32} {qfw : Int32} {qwc : Int32} {qwt : Int64} {qwb : Int64} {qln : Int32} {qem : Int32} {qhh : Int32} {qht : Int64} {qhb : Int64} {qhl : Int32} {qlt : Int64} {qlb : Int64} {qbr : Int32} {ql3 : Int32} {qg3 : Int32} {a1 : Nat → Int32} {a2 : Nat → Int32} {a3 : Nat → Int32} {a4 : Nat → Int32} {a5 : Nat → Int32} {a6 : Nat → Int32} {a7 : Nat → Int32} {a8 : Nat → Int32} {a9 : Nat → Int32} {a10 : Nat → Int64} {a11 : Nat → Int32} {a12 : Nat → Int32} {a13 : Nat → Int64} {a14 : Nat → Int64} {a15 : Nat → Int64} {a16 : Nat → Int64} {a17 : Nat → Int64} {a18 : Nat → Int32} {a19 : Nat → Int32}
theorem ap_askWhole {post : St2 → Prop} (H : ∀ (a5' : Nat → Int32) (a6' : Nat → Int32), (∀ i, i < 3 → a5' i = ap_i 0) → (∀ i, i < 3 → a6' i = ap_i 20) → post (qpr, -1, qrw, qtu, qun, qco, qfw, qwc, qwt, qwb, qln, qem, qhh, qht, qhb, qhl, qlt, qlb, qbr, ql3, qg3, a1, a2, a3, a4, a5', a6', a7, a8, a9, a10, a11, a12, a13, a14, a15, a16, a17, a18, a19)) : wpX_askWhole post (qpr, qwo, qrw, qtu, qun, qco, qfw, qwc, qwt, qwb, qln, qem, qhh, qht, qhb, qhl, qlt, qlb, qbr, ql3, qg3, a1, a2, a3, a4, a5, a6, a7, a8, a9, a10, a11, a12, a13, a14, a15, a16, a17, a18, a19) := by
  unfold wpX_askWhole
  refine pk_loop (fun q i t => wX_askWhole_7 post qpr (-1) qrw qtu qun qco qfw qwc qwt qwb qln qem qhh qht qhb qhl qlt qlb qbr ql3 qg3 q (nI i) a1 a2 a3 a4 t.1 t.2 a7 a8 a9 a10 a11 a12 a13 a14 a15 a16 a17 a18 a19) (fun i t => ∀ j, j < i → t.1 j = ap_i 0 ∧ t.2 j = ap_i 20) 3 0 (a5, a6) (by omega) (fun j hj => absurd hj (by omega)) ?_ ?_
  · intro q t h
    exact pk_le 3 3 (fun _ => H _ _ (fun i hi => (h i hi).1) (fun i hi => (h i hi).2)) (fun z => absurd z (by omega))
  · intro q i t hi h hs
    refine pk_le 3 i (fun z => absurd z (by omega)) (fun _ => ⟨pk_in i 3 hi, nm_r (e' := upd t.1 i (ap_i 0)) (by rw [nI_clamp (by omega)]; rfl) ⟨pk_in i 3 hi, nm_r (e' := upd t.2 i (ap_i 20)) (by rw [nI_clamp (by omega)]; rfl) ?_⟩⟩)
    refine nm_r (nI_1 i) (hs (_, _) (fun j hj => ?_))
    show upd t.1 _ _ _ = _ ∧ upd t.2 _ _ _ = _
    by_cases e : j = i
    · rw [e, pk_us, pk_us]; exact ⟨rfl, rfl⟩
    · rw [pk_un e, pk_un e]; exact h j (by omega)
theorem ap_askGoal {post : St2 → Prop} {g : Nat → Int} (h4 : ∀ i, i < 3 → a4 i = ap_i (g i) ∧ -128 ≤ g i ∧ g i ≤ 127) (H : ∀ (a7' : Nat → Int32), (∀ i, i < 3 → a7' i = ap_i (g i)) → post (qpr, qwo, qrw, qtu, qun, qco, qfw, qwc, qwt, qwb, qln, qem, qhh, qht, qhb, qhl, qlt, qlb, qbr, ql3, qg3, a1, a2, a3, a4, a5, a6, a7', a8, a9, a10, a11, a12, a13, a14, a15, a16, a17, a18, a19)) : wpX_askGoal post (qpr, qwo, qrw, qtu, qun, qco, qfw, qwc, qwt, qwb, qln, qem, qhh, qht, qhb, qhl, qlt, qlb, qbr, ql3, qg3, a1, a2, a3, a4, a5, a6, a7, a8, a9, a10, a11, a12, a13, a14, a15, a16, a17, a18, a19) := by
  unfold wpX_askGoal
  refine pk_loop (fun q i t => wX_askGoal_2 post qpr qwo qrw qtu qun qco qfw qwc qwt qwb qln qem qhh qht qhb qhl qlt qlb qbr ql3 qg3 q (nI i) a1 a2 a3 a4 a5 a6 t a8 a9 a10 a11 a12 a13 a14 a15 a16 a17 a18 a19) (fun i t => ∀ j, j < i → t j = ap_i (g j)) 3 0 a7 (by omega) (fun j hj => absurd hj (by omega)) ?_ ?_
  · intro q t h
    exact pk_le 3 3 (fun _ => H _ h) (fun z => absurd z (by omega))
  · intro q i t hi h hs
    have hg := h4 i hi
    refine pk_le 3 i (fun z => absurd z (by omega)) (fun _ => ⟨pk_in i 3 hi, pk_in i 3 hi, nm_r (e' := upd t i (ap_i (g i))) (by rw [nI_clamp (by omega), hg.1, ap_vb hg.2]) (nm_r (nI_1 i) (hs _ (fun j hj => ?_)))⟩)
    by_cases e : j = i
    · rw [e, pk_us]
    · rw [pk_un e]; exact h j (by omega)
theorem ap_askAmount {post : St2 → Prop} {k : Nat} {s : Int} (hk : k < 3) (hs : -128 ≤ s ∧ s ≤ 127) (H : ∀ (a7' : Nat → Int32), (∀ i, i < 3 → a7' i = ap_i (if i = k then s else 0)) → post (qpr, qwo, qrw, qtu, qun, qco, qfw, qwc, qwt, qwb, qln, qem, qhh, qht, qhb, qhl, qlt, qlb, qbr, ql3, qg3, a1, a2, a3, a4, a5, a6, a7', a8, a9, a10, a11, a12, a13, a14, a15, a16, a17, a18, a19)) : wpX_askAmount post (qpr, qwo, qrw, qtu, qun, qco, qfw, qwc, qwt, qwb, qln, qem, qhh, qht, qhb, qhl, qlt, qlb, qbr, ql3, qg3, a1, a2, a3, a4, a5, a6, a7, a8, a9, a10, a11, a12, a13, a14, a15, a16, a17, a18, a19) (nI k) (ap_i s) := by
  unfold wpX_askAmount
  refine pk_loop (fun q i t => wX_askAmount_2 post (nI k) (ap_i s) qpr qwo qrw qtu qun qco qfw qwc qwt qwb qln qem qhh qht qhb qhl qlt qlb qbr ql3 qg3 q (nI i) a1 a2 a3 a4 a5 a6 t a8 a9 a10 a11 a12 a13 a14 a15 a16 a17 a18 a19) (fun i t => ∀ j, j < i → t j = ap_i (if j = k then s else 0)) 3 0 a7 (by omega) (fun j hj => absurd hj (by omega)) ?_ ?_
  · intro q t h
    exact pk_le 3 3 (fun _ => H _ h) (fun z => absurd z (by omega))
  · intro q i t hi h hs2
    have fin : ∀ x : Int32, x = ap_i (if i = k then s else 0) → ∀ j, j < i + 1 → upd t i x j = ap_i (if j = k then s else 0) := by
      intro x hx j hj
      by_cases e : j = i
      · rw [e, pk_us, hx]
      · rw [pk_un e]; exact h j (by omega)
    refine pk_le 3 i (fun z => absurd z (by omega)) (fun _ => ?_)
    refine pk_eq i k (fun z => ⟨pk_in i 3 hi, nm_r (e' := upd t i (ap_i s)) (by rw [nI_clamp (by omega), ap_nb hs]) (nm_r (nI_1 i) (hs2 _ (fin _ (by rw [if_pos z]))))⟩)
      (fun z => ⟨pk_in i 3 hi, nm_r (e' := upd t i (ap_i 0)) (by rw [nI_clamp (by omega)]; rfl) (nm_r (nI_1 i) (hs2 _ (fin _ (by rw [if_neg z]))))⟩)
theorem ap_askCond {post : St2 → Prop} {k : Nat} {s : Int} {num : Nat → Nat → Int} (hk : k < 5) (hs : s = 1 ∨ s = -1) (hn : ∀ i, i < 3 → a1 (k * 3 + i) = ap_i (num k i) ∧ -7 ≤ num k i ∧ num k i ≤ 7)
    (H : ∀ (a7' : Nat → Int32), (∀ i, i < 3 → a7' i = ap_i (s * num k i)) → post (qpr, qwo, qrw, qtu, qun, qco, qfw, qwc, qwt, qwb, qln, qem, qhh, qht, qhb, qhl, qlt, qlb, qbr, ql3, qg3, a1, a2, a3, a4, a5, a6, a7', a8, a9, a10, a11, a12, a13, a14, a15, a16, a17, a18, a19)) : wpX_askCondition post (qpr, qwo, qrw, qtu, qun, qco, qfw, qwc, qwt, qwb, qln, qem, qhh, qht, qhb, qhl, qlt, qlb, qbr, ql3, qg3, a1, a2, a3, a4, a5, a6, a7, a8, a9, a10, a11, a12, a13, a14, a15, a16, a17, a18, a19) (nI k) (ap_i s) := by
  unfold wpX_askCondition
  refine pk_loop (fun q i t => wX_askCondition_2 post (nI k) (ap_i s) qpr qwo qrw qtu qun qco qfw qwc qwt qwb qln qem qhh qht qhb qhl qlt qlb qbr ql3 qg3 q (nI i) a1 a2 a3 a4 a5 a6 t a8 a9 a10 a11 a12 a13 a14 a15 a16 a17 a18 a19) (fun i t => ∀ j, j < i → t j = ap_i (s * num k j)) 3 0 a7 (by omega) (fun j hj => absurd hj (by omega)) ?_ ?_
  · intro q t h
    exact pk_le 3 3 (fun _ => H _ h) (fun z => absurd z (by omega))
  · intro q i t hi h hs2
    have hg := hn i hi
    have hb := ap_sgn hs hg.2
    refine pk_le 3 i (fun z => absurd z (by omega)) (fun _ => ⟨pk_in (k * 3 + i) 15 (by omega) (ap_ix3 k i), pk_in i 3 hi, nm_r (e' := upd t i (ap_i (s * num k i))) (by rw [ap_ix3, nI_clamp (by omega), nI_clamp (by omega), hg.1, ap_i_mul, ap_nb (by omega)]) (nm_r (nI_1 i) (hs2 _ (fun j hj => ?_)))⟩)
    by_cases e : j = i
    · rw [e, pk_us]
    · rw [pk_un e]; exact h j (by omega)
end
def ap_tp (a b : Int) : Int := a / ap_gc a b
def ap_bm (a b : Int) : Int := b / ap_gc a b
theorem ap_topOf {post : Int32 → Prop} {a b : Int} (ha : -4000000000000 ≤ a ∧ a ≤ 4000000000000) (hb : -4000000000000 ≤ b ∧ b ≤ 4000000000000) (hp : post (ap_i (ap_tp a b))) : wpX_topOf post () (ap_l a) (ap_l b) := by
  have g0 := ap_gc_pos a b
  have g1 := ap_gc_le (B := 4000000000000) (by decide) ha hb
  unfold wpX_topOf
  refine ap_divisor (by omega) (by omega) ?_
  have hne : ¬ ap_l (ap_gc a b) = 0 := fun z => absurd ((ap_l_eq (by omega) (by omega)).mp (show ap_l (ap_gc a b) = ap_l 0 from z)) (by omega)
  refine br_f hne ⟨hne, ?_⟩
  obtain ⟨k, hk⟩ := (ap_gc_dvd a b).1
  rw [ap_l_div (by omega) (by omega), ap_tdiv_eq g0 hk, ap_li]
  unfold ap_tp at hp
  rw [ap_edge g0 hk] at hp
  exact hp
theorem ap_bottomOf {post : Int32 → Prop} {a b : Int} (ha : -4000000000000 ≤ a ∧ a ≤ 4000000000000) (hb : -4000000000000 ≤ b ∧ b ≤ 4000000000000) (hp : post (ap_i (ap_bm a b))) : wpX_bottomOf post () (ap_l a) (ap_l b) := by
  have g0 := ap_gc_pos a b
  have g1 := ap_gc_le (B := 4000000000000) (by decide) ha hb
  unfold wpX_bottomOf
  refine ap_divisor (by omega) (by omega) ?_
  have hne : ¬ ap_l (ap_gc a b) = 0 := fun z => absurd ((ap_l_eq (by omega) (by omega)).mp (show ap_l (ap_gc a b) = ap_l 0 from z)) (by omega)
  refine br_f hne ⟨hne, ?_⟩
  obtain ⟨k, hk⟩ := (ap_gc_dvd a b).2
  rw [ap_l_div (by omega) (by omega), ap_tdiv_eq g0 hk, ap_li]
  unfold ap_bm at hp
  rw [ap_edge g0 hk] at hp
  exact hp
/-- a fraction of the same worth has the same lowest terms -/
theorem ap_low {a b q k : Int} (hb : 0 < b) (hk : 0 < k) (h : a * k = q * b) : ap_tp a b = ap_tp q k ∧ ap_bm a b = ap_bm q k := by
  have e1 : Int.gcd (a * k) (b * k) = Int.gcd a b * k.natAbs := Int.gcd_mul_right ..
  have e2 : Int.gcd (q * b) (k * b) = Int.gcd q k * b.natAbs := Int.gcd_mul_right ..
  rw [h, Int.mul_comm b k, e2] at e1
  have ga : Int.gcd a b ≠ 0 := by
    intro z
    have := (Int.gcd_eq_zero_iff.mp z).2
    omega
  have gq : Int.gcd q k ≠ 0 := by
    intro z
    have := (Int.gcd_eq_zero_iff.mp z).2
    omega
  have ha : ap_gc a b = Int.gcd a b := if_neg ga
  have hq : ap_gc q k = Int.gcd q k := if_neg gq
  obtain ⟨x, hx⟩ := (ap_gc_dvd a b).1
  obtain ⟨y, hy⟩ := (ap_gc_dvd a b).2
  obtain ⟨z, hz⟩ := (ap_gc_dvd q k).1
  obtain ⟨w, hw⟩ := (ap_gc_dvd q k).2
  have pa := ap_gc_pos a b
  have pq := ap_gc_pos q k
  have e3 : ap_gc q k * b = ap_gc a b * k := by
    rw [ha, hq]
    have e4 : ((Int.gcd q k * b.natAbs : Nat) : Int) = ((Int.gcd a b * k.natAbs : Nat) : Int) := by rw [e1]
    rw [Int.natCast_mul, Int.natCast_mul] at e4
    have e5 : (b.natAbs : Int) = b := by omega
    have e6 : (k.natAbs : Int) = k := by omega
    rw [e5, e6] at e4
    exact e4
  have hyw : y = w := by
    rw [hy, hw] at e3
    rw [← hy, ← hw] at e3
    have e4 : ap_gc q k * (ap_gc a b * y) = ap_gc a b * (ap_gc q k * w) := by
      rw [← hy, ← hw]; exact e3
    have e5 : ap_gc a b * (ap_gc q k * w) = ap_gc q k * (ap_gc a b * w) := by grind
    rw [e5] at e4
    have e6 := Int.eq_of_mul_eq_mul_left (show ap_gc q k ≠ 0 by omega) e4
    exact Int.eq_of_mul_eq_mul_left (show ap_gc a b ≠ 0 by omega) e6
  have hxz : x = z := by
    have e4 : a * k = q * b := h
    have e5 : a * k = ap_gc a b * (ap_gc q k * (x * w)) := by
      have : a * k = (ap_gc a b * x) * (ap_gc q k * w) := by rw [← hx, ← hw]
      rw [this]; grind
    have e6 : q * b = ap_gc a b * (ap_gc q k * (z * y)) := by
      have : q * b = (ap_gc q k * z) * (ap_gc a b * y) := by rw [← hz, ← hy]
      rw [this]; grind
    rw [e5, e6] at e4
    have e7 := Int.eq_of_mul_eq_mul_left (show ap_gc a b ≠ 0 by omega) e4
    have e8 := Int.eq_of_mul_eq_mul_left (show ap_gc q k ≠ 0 by omega) e7
    rw [hyw] at e8
    have hwne : w ≠ 0 := by
      intro e
      rw [e, Int.mul_zero] at hw
      omega
    exact Int.eq_of_mul_eq_mul_right hwne e8
  unfold ap_tp ap_bm
  rw [ap_edge pa hx, ap_edge pa hy, ap_edge pq hz, ap_edge pq hw]
  exact ⟨hxz, hyw⟩
end
section
/-! the other questions of the law -/
def ap_Lo (_ : Nat) : Int := 0
def ap_Hi (_ : Nat) : Int := 20
theorem ap_lohi {a5 a6 : Nat → Int32} (h5 : ∀ i, i < 3 → a5 i = ap_i 0) (h6 : ∀ i, i < 3 → a6 i = ap_i 20) : (∀ i, i < 3 → a5 i = ap_i (ap_Lo i) ∧ -128 ≤ ap_Lo i ∧ ap_Lo i ≤ 127) ∧ (∀ i, i < 3 → a6 i = ap_i (ap_Hi i) ∧ -128 ≤ ap_Hi i ∧ ap_Hi i ≤ 127) :=
  ⟨fun i h => ⟨h5 i h, by unfold ap_Lo; omega⟩, fun i h => ⟨h6 i h, by unfold ap_Hi; omega⟩⟩
theorem ap_A2_ok : ∀ r, r < 7 → ∀ i, i < 3 → ap_A ap_A2 r i = ap_mx (fun _ => false) ap_nu1 (ap_pl 15 ap_kd1 2 5) r i := by decide
theorem ap_A3_ok : ∀ r, r < 6 → ∀ i, i < 3 → ap_A ap_A3 r i = ap_mx (fun _ => false) ap_nu1 (ap_pl 15 ap_kd1 3 5) r i := by decide
theorem ap_A5_ok : ∀ r, r < 7 → ∀ i, i < 3 → ap_A ap_A5 r i = ap_mx (fun _ => false) ap_nu2 (ap_pl 15 ap_kd2 (-1) 5) r i := by decide
theorem ap_Bq2_ok : ∀ r, r < 8 → ∀ i, i < 3 → ap_A ap_Bq2 r i = ap_mx (Nat.testBit 0) ap_nu1 (ap_pl 15 ap_kd1 (-1) 5) r i := by decide
theorem ap_Bq4_ok : ∀ r, r < 7 → ∀ i, i < 3 → ap_A ap_Bq4 r i = ap_mx (Nat.testBit 1) ap_nu2 (ap_pl 15 ap_kd2 (-1) 5) r i := by decide
theorem ap_Bq5_ok : ∀ r, r < 7 → ∀ i, i < 3 → ap_A ap_Bq5 r i = ap_mx (Nat.testBit 7) ap_nu2 (ap_pl 15 ap_kd2 (-1) 5) r i := by decide
theorem ap_fe2 {b d e : Int} {asked : Nat → Int} {s x0 x1 x2 : Int} (h : ap_fe 7 ap_A2 (ap_be (fun _ => false) ap_nu1 (ap_bo b d e) ap_Lo ap_Hi asked (ap_pl 15 ap_kd1 2 5)) s x0 x1 x2) : x0 ≤ s * 20 ∧ x1 ≤ s * 20 := by
  rw [ap_pl2] at h
  unfold ap_fe at h
  rw [ap_lt7] at h
  simp [ap_A, ap_A2, ap_be, ap_rb, ap_sum, ap_frm, ap_nu1, ap_bo, ap_Lo, ap_Hi] at h
  omega
theorem ap_fe3 {b d e : Int} {asked : Nat → Int} {x2 : Int} (hb : 0 ≤ b) (hd : 0 ≤ d) (hx : 0 ≤ x2 ∧ x2 ≤ 20) : ap_fe 6 ap_A3 (ap_be (fun _ => false) ap_nu1 (ap_bo b d e) ap_Lo ap_Hi asked (ap_pl 15 ap_kd1 3 5)) 1 0 0 x2 := by
  rw [ap_pl3]
  unfold ap_fe
  rw [ap_lt6]
  simp [ap_A, ap_A3, ap_be, ap_rb, ap_sum, ap_frm, ap_nu1, ap_bo, ap_Lo, ap_Hi]
  omega
theorem ap_fe5 {b d : Int} {asked : Nat → Int} {s x0 x1 x2 : Int} (hs : 0 < s) : ¬ ap_fe 7 ap_A5 (ap_be (fun _ => false) ap_nu2 (ap_bo b d 21) ap_Lo ap_Hi asked (ap_pl 15 ap_kd2 (-1) 5)) s x0 x1 x2 := by
  intro h
  rw [ap_pl5] at h
  unfold ap_fe at h
  rw [ap_lt7] at h
  simp [ap_A, ap_A5, ap_be, ap_rb, ap_sum, ap_frm, ap_nu2, ap_bo, ap_Lo, ap_Hi] at h
  omega
theorem ap_tb1 : Nat.testBit 1 0 = true ∧ Nat.testBit 1 1 = false ∧ Nat.testBit 1 2 = false := by decide
theorem ap_fe5t {b d : Int} {asked : Nat → Int} {s x0 x1 x2 : Int} (hs : 0 < s) : ¬ ap_fe 7 ap_Bq5 (ap_be (Nat.testBit 7) ap_nu2 (ap_bo b d 21) ap_Lo ap_Hi asked (ap_pl 15 ap_kd2 (-1) 5)) s x0 x1 x2 := by
  intro h
  rw [ap_pl5] at h
  unfold ap_fe at h
  rw [ap_lt7] at h
  simp [ap_A, ap_Bq5, ap_be, ap_rb, ap_sum, ap_frm, ap_nu2, ap_bo, ap_Lo, ap_Hi, ap_tb7.1, ap_tb7.2.1, ap_tb7.2.2] at h
  omega
theorem ap_fe4t {b d : Int} {asked : Nat → Int} {s x0 x1 x2 : Int} (hs : 0 < s) : ¬ ap_fe 7 ap_Bq4 (ap_be (Nat.testBit 1) ap_nu2 (ap_bo b d 21) ap_Lo ap_Hi asked (ap_pl 15 ap_kd2 (-1) 5)) s x0 x1 x2 := by
  intro h
  rw [ap_pl5] at h
  unfold ap_fe at h
  rw [ap_lt7] at h
  simp [ap_A, ap_Bq4, ap_be, ap_rb, ap_sum, ap_frm, ap_nu2, ap_bo, ap_Lo, ap_Hi, ap_tb1.1, ap_tb1.2.1, ap_tb1.2.2] at h
  omega
theorem ap_feq {b d e : Int} {asked : Nat → Int} {s x0 x1 x2 : Int} :
    ap_fe 8 ap_Bq2 (ap_be (Nat.testBit 0) ap_nu1 (ap_bo b d e) ap_Lo ap_Hi asked (ap_pl 15 ap_kd1 (-1) 5)) s x0 x1 x2 ↔ ap_pt b d e ap_Lo ap_Hi s x0 x1 x2 := by
  rw [ap_pl1]
  unfold ap_fe ap_pt
  rw [ap_lt8]
  simp [ap_A, ap_Bq2, ap_be, ap_rb, ap_sum, ap_frm, ap_nu1, ap_bo, ap_Lo, ap_Hi, Int.mul_neg]
  constructor
  · intro h
    omega
  · intro h
    omega
section
variable {qpr : Int32} {qwo : Int32} {qrw : Int32} {qtu : Int32} {qun : Int64} {qco : Int32} {qfw : Int32} {qwc : Int32} {qwt : Int64} {qwb : Int64} {qln : Int32} {qem : Int32} {qhh : Int32} {qht : Int64} {qhb : Int64} {qhl : Int32} {qlt : Int64} {qlb : Int64} {qbr : Int32} {ql3 : Int32} {qg3 : Int32} {a1 : Nat → Int32} {a2 : Nat → Int32} {a3 : Nat → Int32} {a4 : Nat → Int32} {a5 : Nat → Int32} {a6 : Nat → Int32} {a7 : Nat → Int32} {a8 : Nat → Int32} {a9 : Nat → Int32} {a10 : Nat → Int64} {a11 : Nat → Int32} {a12 : Nat → Int32} {a13 : Nat → Int64} {a14 : Nat → Int64} {a15 : Nat → Int64} {a16 : Nat → Int64} {a17 : Nat → Int64} {a18 : Nat → Int32} {a19 : Nat → Int32}
variable {b d e : Int}
/-- condition 2 left out, its own numbers asked for -/
theorem ap_e0_2 {post : Int32 → St2 → Prop} (hD : ap_dat 15 ap_nu1 ap_kd1 (ap_bo b d e) qpr a1 a2 a3) (hwo : qwo = 2) (h5 : ∀ i, i < 3 → a5 i = ap_i 0) (h6 : ∀ i, i < 3 → a6 i = ap_i 20) (h7 : ∀ i, i < 3 → a7 i = ap_i (1 * ap_nu1 2 i))
    (H1 : ∀ (u W : Int) (qrw' : Int32) (qtu' : Int32) (qun' : Int64) (qco' : Int32) (qfw' : Int32) (qwc' : Int32) (a8' : Nat → Int32) (a9' : Nat → Int32) (a10' : Nat → Int64) (a11' : Nat → Int32) (a12' : Nat → Int32) (a13' : Nat → Int64), 0 < u → u ≤ 64 → -1310720 ≤ W → W ≤ u * 40 → post 1 (qpr, qwo, qrw', qtu', qun', qco', qfw', qwc', ap_l W, ap_l u, qln, qem, qhh, qht, qhb, qhl, qlt, qlb, qbr, ql3, qg3, a1, a2, a3, a4, a5, a6, a7, a8', a9', a10', a11', a12', a13', a14, a15, a16, a17, a18, a19))
    (H0 : ∀ (qrw' : Int32) (qtu' : Int32) (qun' : Int64) (qco' : Int32) (qfw' : Int32) (qwc' : Int32) (a8' : Nat → Int32) (a9' : Nat → Int32) (a10' : Nat → Int64) (a11' : Nat → Int32) (a12' : Nat → Int32), post 0 (qpr, qwo, qrw', qtu', qun', qco', qfw', qwc', qwt, qwb, qln, qem, qhh, qht, qhb, qhl, qlt, qlb, qbr, ql3, qg3, a1, a2, a3, a4, a5, a6, a7, a8', a9', a10', a11', a12', a13, a14, a15, a16, a17, a18, a19)) :
    wpX_solveByPoints post (qpr, qwo, qrw, qtu, qun, qco, qfw, qwc, qwt, qwb, qln, qem, qhh, qht, qhb, qhl, qlt, qlb, qbr, ql3, qg3, a1, a2, a3, a4, a5, a6, a7, a8, a9, a10, a11, a12, a13, a14, a15, a16, a17, a18, a19) := by
  have hg : ∀ i, i < 3 → -8 ≤ 1 * ap_nu1 2 i ∧ 1 * ap_nu1 2 i ≤ 8 := by decide
  have hlh := ap_lohi h5 h6
  refine ap_solve0 (n := 7) (A := ap_A2) (cv := [1, 1, 0]) (wo := 2) (asked := fun i => 1 * ap_nu1 2 i) hD (hwo.trans (by rfl)) (by decide) hlh.1 hlh.2 (fun i h => ⟨h7 i h, hg i h⟩) (by rw [ap_pl2]; rfl) ap_A2_ok (by decide) ap_pc2 ?_ (fun _ => H0)
  intro u W X qrw' qtu' qun' qco' qfw' qwc' a8' a9' a10' a11' a12' a13' hl _
  obtain ⟨l1, l2, l3, l4, l5, l6, l7⟩ := hl
  have hb7 : ap_be (fun _ => false) ap_nu1 (ap_bo b d e) ap_Lo ap_Hi (fun i => 1 * ap_nu1 2 i) (ap_pl 15 ap_kd1 2 5) 7 = _ := ap_w1 (L := ap_pl 15 ap_kd1 2 5)
  have hb7' : ap_be (fun _ => false) ap_nu1 (ap_bo b d e) ap_Lo ap_Hi (fun i => 1 * ap_nu1 2 i) (ap_pl 15 ap_kd1 2 5) 7 = 0 := hb7.trans (by decide)
  rw [hb7', Int.mul_zero] at l6
  have l6' : W = 0 + (1 * X 0 + 1 * X 1 + 0 * X 2) := l6
  have h2 := ap_fe2 l5
  exact H1 u W _ _ _ _ _ _ _ _ _ _ _ _ l1 l2 l3.1 (by omega)
/-- condition 3 left out -/
theorem ap_e0_3 {post : Int32 → St2 → Prop} {s : Int} (hs : s = 1 ∨ s = -1) (hbp : 0 ≤ b) (hdp : 0 ≤ d) (hD : ap_dat 15 ap_nu1 ap_kd1 (ap_bo b d e) qpr a1 a2 a3) (hwo : qwo = 3) (h5 : ∀ i, i < 3 → a5 i = ap_i 0) (h6 : ∀ i, i < 3 → a6 i = ap_i 20) (h7 : ∀ i, i < 3 → a7 i = ap_i (s * ap_nu1 3 i))
    (H1 : ∀ (u W : Int) (qrw' : Int32) (qtu' : Int32) (qun' : Int64) (qco' : Int32) (qfw' : Int32) (qwc' : Int32) (a8' : Nat → Int32) (a9' : Nat → Int32) (a10' : Nat → Int64) (a11' : Nat → Int32) (a12' : Nat → Int32) (a13' : Nat → Int64), 0 < u → u ≤ 64 → (-1310720 ≤ W ∧ W ≤ 1310720) → (s = 1 → u * 40 ≤ W) → 0 ≤ W → post 1 (qpr, qwo, qrw', qtu', qun', qco', qfw', qwc', ap_l W, ap_l u, qln, qem, qhh, qht, qhb, qhl, qlt, qlb, qbr, ql3, qg3, a1, a2, a3, a4, a5, a6, a7, a8', a9', a10', a11', a12', a13', a14, a15, a16, a17, a18, a19)) :
    wpX_solveByPoints post (qpr, qwo, qrw, qtu, qun, qco, qfw, qwc, qwt, qwb, qln, qem, qhh, qht, qhb, qhl, qlt, qlb, qbr, ql3, qg3, a1, a2, a3, a4, a5, a6, a7, a8, a9, a10, a11, a12, a13, a14, a15, a16, a17, a18, a19) := by
  have hlh := ap_lohi h5 h6
  rcases hs with es | es
  · subst es
    have hg : ∀ i, i < 3 → -8 ≤ 1 * ap_nu1 3 i ∧ 1 * ap_nu1 3 i ≤ 8 := by decide
    refine ap_solve0 (n := 6) (A := ap_A3) (cv := [0, 0, 2]) (wo := 3) (asked := fun i => 1 * ap_nu1 3 i) hD (hwo.trans (by rfl)) (by decide) hlh.1 hlh.2 (fun i h => ⟨h7 i h, hg i h⟩) (by rw [ap_pl3]; rfl) ap_A3_ok (by decide) ap_pc3 ?_ (fun h => absurd (ap_fe3 (x2 := 0) hbp hdp (by decide)) (h 1 0 0 0 (by decide)))
    intro u W X qrw' qtu' qun' qco' qfw' qwc' a8' a9' a10' a11' a12' a13' hl _
    obtain ⟨l1, l2, l3, l4, l5, l6, l7⟩ := hl
    have hb6 : ap_be (fun _ => false) ap_nu1 (ap_bo b d e) ap_Lo ap_Hi (fun i => 1 * ap_nu1 3 i) (ap_pl 15 ap_kd1 3 5) 6 = 0 := (ap_w1 (L := ap_pl 15 ap_kd1 3 5)).trans (by decide)
    have h7' := l7 1 0 0 20 (ap_fe3 hbp hdp (by decide))
    rw [hb6] at h7'
    have h8 : u * (0 * 0 + 0 * 0 + 2 * 20) ≤ 1 * (W - u * 0) := h7'
    exact H1 u W _ _ _ _ _ _ _ _ _ _ _ _ l1 l2 l3 (fun _ => by omega) (by omega)
  · subst es
    have hg : ∀ i, i < 3 → -8 ≤ -1 * ap_nu1 3 i ∧ -1 * ap_nu1 3 i ≤ 8 := by decide
    refine ap_solve0 (n := 6) (A := ap_A3) (cv := [0, 0, -2]) (wo := 3) (asked := fun i => -1 * ap_nu1 3 i) hD (hwo.trans (by rfl)) (by decide) hlh.1 hlh.2 (fun i h => ⟨h7 i h, hg i h⟩) (by rw [ap_pl3]; rfl) ap_A3_ok (by decide) ap_pc4 ?_ (fun h => absurd (ap_fe3 (x2 := 0) hbp hdp (by decide)) (h 1 0 0 0 (by decide)))
    intro u W X qrw' qtu' qun' qco' qfw' qwc' a8' a9' a10' a11' a12' a13' hl _
    obtain ⟨l1, l2, l3, l4, l5, l6, l7⟩ := hl
    have hb6 : ap_be (fun _ => false) ap_nu1 (ap_bo b d e) ap_Lo ap_Hi (fun i => -1 * ap_nu1 3 i) (ap_pl 15 ap_kd1 3 5) 6 = 0 := (ap_w1 (L := ap_pl 15 ap_kd1 3 5)).trans (by decide)
    have h7' := l7 1 0 0 0 (ap_fe3 hbp hdp (by decide))
    rw [hb6] at h7'
    have h8 : u * (0 * 0 + 0 * 0 + -2 * 0) ≤ 1 * (W - u * 0) := h7'
    exact H1 u W _ _ _ _ _ _ _ _ _ _ _ _ l1 l2 l3 (fun z => absurd z (by decide)) (by omega)
/-- no point: the third amount at least 21 -/
theorem ap_e0_5 {post : Int32 → St2 → Prop} (hD : ap_dat 15 ap_nu2 ap_kd2 (ap_bo b d 21) qpr a1 a2 a3) (hwo : qwo = -1) (h5 : ∀ i, i < 3 → a5 i = ap_i 0) (h6 : ∀ i, i < 3 → a6 i = ap_i 20) (h7 : ∀ i, i < 3 → a7 i = ap_i (ap_gl i))
    (H0 : ∀ (qrw' : Int32) (qtu' : Int32) (qun' : Int64) (qco' : Int32) (qfw' : Int32) (qwc' : Int32) (a8' : Nat → Int32) (a9' : Nat → Int32) (a10' : Nat → Int64) (a11' : Nat → Int32) (a12' : Nat → Int32), post 0 (qpr, qwo, qrw', qtu', qun', qco', qfw', qwc', qwt, qwb, qln, qem, qhh, qht, qhb, qhl, qlt, qlb, qbr, ql3, qg3, a1, a2, a3, a4, a5, a6, a7, a8', a9', a10', a11', a12', a13, a14, a15, a16, a17, a18, a19)) : wpX_solveByPoints post (qpr, qwo, qrw, qtu, qun, qco, qfw, qwc, qwt, qwb, qln, qem, qhh, qht, qhb, qhl, qlt, qlb, qbr, ql3, qg3, a1, a2, a3, a4, a5, a6, a7, a8, a9, a10, a11, a12, a13, a14, a15, a16, a17, a18, a19) := by
  have hg : ∀ i, i < 3 → -8 ≤ ap_gl i ∧ ap_gl i ≤ 8 := by decide
  have hlh := ap_lohi h5 h6
  refine ap_solve0 (n := 7) (A := ap_A5) (cv := [3, 4, 1]) (wo := -1) (asked := ap_gl) hD (hwo.trans (by rfl)) (by decide) hlh.1 hlh.2 (fun i h => ⟨h7 i h, hg i h⟩) (by rw [ap_pl5]; rfl) ap_A5_ok (by decide) ap_pc5 ?_ (fun _ => H0)
  intro u W X qrw' qtu' qun' qco' qfw' qwc' a8' a9' a10' a11' a12' a13' hl _
  exact absurd hl.2.2.2.2.1 (ap_fe5 hl.1)
theorem ap_e1_5 {post : Int32 → St2 → Prop} (hD : ap_dat 15 ap_nu2 ap_kd2 (ap_bo b d 21) qpr a1 a2 a3) (hwo : qwo = -1) (h5 : ∀ i, i < 3 → a5 i = ap_i 0) (h6 : ∀ i, i < 3 → a6 i = ap_i 20) (h7 : ∀ i, i < 3 → a7 i = ap_i (ap_gl i))
    (H0 : ∀ (qrw' : Int32) (qtu' : Int32) (qun' : Int64) (qco' : Int32) (qfw' : Int32) (qwc' : Int32) (a8' : Nat → Int32) (a9' : Nat → Int32) (a10' : Nat → Int64) (a11' : Nat → Int32) (a12' : Nat → Int32), post 0 (qpr, qwo, qrw', qtu', qun', qco', qfw', qwc', qwt, qwb, qln, qem, qhh, qht, qhb, qhl, qlt, qlb, qbr, ql3, qg3, a1, a2, a3, a4, a5, a6, a7, a8', a9', a10', a11', a12', a13, a14, a15, a16, a17, a18, a19)) : wpX_solveByWorth post (qpr, qwo, qrw, qtu, qun, qco, qfw, qwc, qwt, qwb, qln, qem, qhh, qht, qhb, qhl, qlt, qlb, qbr, ql3, qg3, a1, a2, a3, a4, a5, a6, a7, a8, a9, a10, a11, a12, a13, a14, a15, a16, a17, a18, a19) := by
  have hg : ∀ i, i < 3 → -8 ≤ ap_gl i ∧ ap_gl i ≤ 8 := by decide
  have hlh := ap_lohi h5 h6
  refine ap_solve1 (n := 7) (tv := 7) (A := ap_Bq5) (cv := [-3, -4, -1]) (sv := [-1, -1, -1]) (wo := -1) (asked := ap_gl) (by decide) hD (hwo.trans (by rfl)) (by decide) hlh.1 hlh.2 (fun i h => ⟨h7 i h, hg i h⟩) (by decide) (by rw [ap_pl5]; rfl) ap_Bq5_ok (by decide) (by decide) ap_cl5 ?_ (fun _ => H0)
  intro u W X qrw' qtu' qun' qco' qfw' qwc' a8' a9' a10' a11' a12' a13' hl _
  exact absurd hl.2.2.2.2.1 (ap_fe5t hl.1)
theorem ap_e1_4 {post : Int32 → St2 → Prop} (hD : ap_dat 15 ap_nu2 ap_kd2 (ap_bo b d 21) qpr a1 a2 a3) (hwo : qwo = -1) (h5 : ∀ i, i < 3 → a5 i = ap_i 0) (h6 : ∀ i, i < 3 → a6 i = ap_i 20) (h7 : ∀ i, i < 3 → a7 i = ap_i (if i = 0 then 1 else 0))
    (H0 : ∀ (qrw' : Int32) (qtu' : Int32) (qun' : Int64) (qco' : Int32) (qfw' : Int32) (qwc' : Int32) (a8' : Nat → Int32) (a9' : Nat → Int32) (a10' : Nat → Int64) (a11' : Nat → Int32) (a12' : Nat → Int32), post 0 (qpr, qwo, qrw', qtu', qun', qco', qfw', qwc', qwt, qwb, qln, qem, qhh, qht, qhb, qhl, qlt, qlb, qbr, ql3, qg3, a1, a2, a3, a4, a5, a6, a7, a8', a9', a10', a11', a12', a13, a14, a15, a16, a17, a18, a19)) : wpX_solveByWorth post (qpr, qwo, qrw, qtu, qun, qco, qfw, qwc, qwt, qwb, qln, qem, qhh, qht, qhb, qhl, qlt, qlb, qbr, ql3, qg3, a1, a2, a3, a4, a5, a6, a7, a8, a9, a10, a11, a12, a13, a14, a15, a16, a17, a18, a19) := by
  have hg : ∀ i, i < 3 → -8 ≤ (if i = 0 then (1 : Int) else 0) ∧ (if i = 0 then (1 : Int) else 0) ≤ 8 := by decide
  have hlh := ap_lohi h5 h6
  refine ap_solve1 (n := 7) (tv := 1) (A := ap_Bq4) (cv := [-1, 0, 0]) (sv := [-1, 1, 1]) (wo := -1) (asked := fun i => if i = 0 then 1 else 0) (by decide) hD (hwo.trans (by rfl)) (by decide) hlh.1 hlh.2 (fun i h => ⟨h7 i h, hg i h⟩) (by decide) (by rw [ap_pl5]; rfl) ap_Bq4_ok (by decide) (by decide) ap_cl4 ?_ (fun _ => H0)
  intro u W X qrw' qtu' qun' qco' qfw' qwc' a8' a9' a10' a11' a12' a13' hl _
  exact absurd hl.2.2.2.2.1 (ap_fe4t hl.1)
/-- the least of the third amount, the least of the first one -/
theorem ap_e1_2 {post : Int32 → St2 → Prop} (hD : ap_dat 15 ap_nu1 ap_kd1 (ap_bo b d e) qpr a1 a2 a3) (hwo : qwo = -1) (h5 : ∀ i, i < 3 → a5 i = ap_i 0) (h6 : ∀ i, i < 3 → a6 i = ap_i 20) (h7 : ∀ i, i < 3 → a7 i = ap_i (if i = 2 then -1 else 0))
    (hfe : ap_pt b d e ap_Lo ap_Hi 2 0 0 e)
    (H1 : ∀ (u W t2 : Int) (qrw' : Int32) (qtu' : Int32) (qun' : Int64) (qco' : Int32) (qfw' : Int32) (qwc' : Int32) (a8' : Nat → Int32) (a9' : Nat → Int32) (a10' : Nat → Int64) (a11' : Nat → Int32) (a12' : Nat → Int32) (a13' : Nat → Int64), 0 < u → u ≤ 64 → 2 * t2 = u * e → a13' 2 = ap_l t2 → post 1 (qpr, qwo, qrw', qtu', qun', qco', qfw', qwc', ap_l W, ap_l u, qln, qem, qhh, qht, qhb, qhl, qlt, qlb, qbr, ql3, qg3, a1, a2, a3, a4, a5, a6, a7, a8', a9', a10', a11', a12', a13', a14, a15, a16, a17, a18, a19)) : wpX_solveByWorth post (qpr, qwo, qrw, qtu, qun, qco, qfw, qwc, qwt, qwb, qln, qem, qhh, qht, qhb, qhl, qlt, qlb, qbr, ql3, qg3, a1, a2, a3, a4, a5, a6, a7, a8, a9, a10, a11, a12, a13, a14, a15, a16, a17, a18, a19) := by
  have hg : ∀ i, i < 3 → -8 ≤ (if i = 2 then (-1 : Int) else 0) ∧ (if i = 2 then (-1 : Int) else 0) ≤ 8 := by decide
  have hlh := ap_lohi h5 h6
  refine ap_solve1 (n := 8) (tv := 0) (A := ap_Bq2) (cv := [0, 0, -1]) (sv := [1, 1, 1]) (wo := -1) (asked := fun i => if i = 2 then -1 else 0) (by decide) hD (hwo.trans (by rfl)) (by decide) hlh.1 hlh.2 (fun i h => ⟨h7 i h, hg i h⟩) (by decide) (by rw [ap_pl1]; rfl) ap_Bq2_ok (by decide) (by decide) ap_cl2 ?_ (fun h => absurd (ap_feq.mpr hfe) (h 2 0 0 e (by decide)))
  intro u W X qrw' qtu' qun' qco' qfw' qwc' a8' a9' a10' a11' a12' a13' hl h13
  have h5' := ap_feq.mp hl.2.2.2.2.1
  refine H1 u W (X 2) _ _ _ _ _ _ _ _ _ _ _ _ hl.1 hl.2.1 h5'.2.2.2.2.2.2 ?_
  rw [h13 2 (by omega), if_neg (by decide)]
  congr 1
  show 0 * u + X 2 = X 2
  omega
theorem ap_e1_3 {post : Int32 → St2 → Prop} (hD : ap_dat 15 ap_nu1 ap_kd1 (ap_bo b d e) qpr a1 a2 a3) (hwo : qwo = -1) (h5 : ∀ i, i < 3 → a5 i = ap_i 0) (h6 : ∀ i, i < 3 → a6 i = ap_i 20) (h7 : ∀ i, i < 3 → a7 i = ap_i (if i = 0 then -1 else 0))
    (hfe : ap_pt b d e ap_Lo ap_Hi 2 0 0 e)
    (H1 : ∀ (u W : Int) (qrw' : Int32) (qtu' : Int32) (qun' : Int64) (qco' : Int32) (qfw' : Int32) (qwc' : Int32) (a8' : Nat → Int32) (a9' : Nat → Int32) (a10' : Nat → Int64) (a11' : Nat → Int32) (a12' : Nat → Int32) (a13' : Nat → Int64), 0 < u → u ≤ 64 → a13' 0 = ap_l 0 → post 1 (qpr, qwo, qrw', qtu', qun', qco', qfw', qwc', ap_l W, ap_l u, qln, qem, qhh, qht, qhb, qhl, qlt, qlb, qbr, ql3, qg3, a1, a2, a3, a4, a5, a6, a7, a8', a9', a10', a11', a12', a13', a14, a15, a16, a17, a18, a19)) : wpX_solveByWorth post (qpr, qwo, qrw, qtu, qun, qco, qfw, qwc, qwt, qwb, qln, qem, qhh, qht, qhb, qhl, qlt, qlb, qbr, ql3, qg3, a1, a2, a3, a4, a5, a6, a7, a8, a9, a10, a11, a12, a13, a14, a15, a16, a17, a18, a19) := by
  have hg : ∀ i, i < 3 → -8 ≤ (if i = 0 then (-1 : Int) else 0) ∧ (if i = 0 then (-1 : Int) else 0) ≤ 8 := by decide
  have hlh := ap_lohi h5 h6
  refine ap_solve1 (n := 8) (tv := 0) (A := ap_Bq2) (cv := [-1, 0, 0]) (sv := [1, 1, 1]) (wo := -1) (asked := fun i => if i = 0 then -1 else 0) (by decide) hD (hwo.trans (by rfl)) (by decide) hlh.1 hlh.2 (fun i h => ⟨h7 i h, hg i h⟩) (by decide) (by rw [ap_pl1]; rfl) ap_Bq2_ok (by decide) (by decide) ap_cl3 ?_ (fun h => absurd (ap_feq.mpr hfe) (h 2 0 0 e (by decide)))
  intro u W X qrw' qtu' qun' qco' qfw' qwc' a8' a9' a10' a11' a12' a13' hl h13
  obtain ⟨l1, l2, l3, l4, l5, l6, l7⟩ := hl
  have hb8 : ap_be (Nat.testBit 0) ap_nu1 (ap_bo b d e) ap_Lo ap_Hi (fun i => if i = 0 then -1 else 0) (ap_pl 15 ap_kd1 (-1) 5) 8 = 0 := (ap_w1 (L := ap_pl 15 ap_kd1 (-1) 5)).trans (by decide)
  have h7' := l7 2 0 0 e (ap_feq.mpr hfe)
  rw [hb8] at h7'
  rw [hb8, Int.mul_zero] at l6
  have l6' : W = 0 + (-1 * X 0 + 0 * X 1 + 0 * X 2) := l6
  have h8 : u * (-1 * 0 + 0 * 0 + 0 * e) ≤ 2 * (W - u * 0) := h7'
  have hz : u * (-1 * 0 + 0 * 0 + 0 * e) = 0 := by grind
  have h0 := l4 0 (by omega)
  refine H1 u W _ _ _ _ _ _ _ _ _ _ _ _ l1 l2 ?_
  rw [h13 0 (by omega), if_neg (by decide)]
  congr 1
  show 0 * u + X 0 = 0
  omega
end
end
section
/-! the greatest worth, over 30 -/
def ap_mm (b d : Int) : Int := min (30 * (b + d)) (min (120 * b) (min (90 * d) (min (40 * d + 1000) (min (45 * b + 1500) 4200))))
def ap_q (b d e : Int) : Int := ap_mm b d + 15 * e
theorem ap_mm_cases (b d : Int) : ap_mm b d = 30 * (b + d) ∨ ap_mm b d = 120 * b ∨ ap_mm b d = 90 * d ∨ ap_mm b d = 40 * d + 1000 ∨ ap_mm b d = 45 * b + 1500 ∨ ap_mm b d = 4200 := by
  unfold ap_mm
  omega
theorem ap_mm_le (b d : Int) : ap_mm b d ≤ 30 * (b + d) ∧ ap_mm b d ≤ 120 * b ∧ ap_mm b d ≤ 90 * d ∧ ap_mm b d ≤ 40 * d + 1000 ∧ ap_mm b d ≤ 45 * b + 1500 ∧ ap_mm b d ≤ 4200 := by
  unfold ap_mm
  omega
/-- the law's inputs -/
def ap_bde (b d e : Int) : Prop := (1 ≤ b ∧ b ≤ 60) ∧ (1 ≤ d ∧ d ≤ 60) ∧ (0 ≤ e ∧ e ≤ 40)
theorem ap_vx {b d e : Int} (h : ap_bde b d e) : ∃ p0 p1, ap_pt b d e ap_Lo ap_Hi 30 p0 p1 (15 * e) ∧ 3 * p0 + 4 * p1 = ap_mm b d := by
  obtain ⟨h1, h2, h3⟩ := h
  have hl := ap_mm_le b d
  unfold ap_pt ap_Lo ap_Hi
  rcases ap_mm_cases b d with c | c | c | c | c | c
  · exact ⟨18 * b - 6 * d, 12 * d - 6 * b, by omega, by omega⟩
  · exact ⟨0, 30 * b, by omega, by omega⟩
  · exact ⟨30 * d, 0, by omega, by omega⟩
  · exact ⟨600, 10 * d - 200, by omega, by omega⟩
  · exact ⟨15 * b - 300, 600, by omega, by omega⟩
  · exact ⟨600, 600, by omega, by omega⟩
theorem ap_p0 {b d e : Int} (h : ap_bde b d e) : ap_pt b d e ap_Lo ap_Hi 2 0 0 e := by
  obtain ⟨h1, h2, h3⟩ := h
  unfold ap_pt ap_Lo ap_Hi
  omega
/-- what every engine answers -/
def ap_ans (b d e WT WB : Int) : Prop := 0 < WB ∧ WB ≤ 100000 ∧ (-4000000 ≤ WT ∧ WT ≤ 4000000) ∧ WT * 30 = ap_q b d e * WB
theorem ap_up6 {b d e WT WB : Int} (h1 : WT * 30 ≤ (30 * (b + d) + 15 * e) * WB) (h2 : WT * 30 ≤ (120 * b + 15 * e) * WB) (h3 : WT * 30 ≤ (90 * d + 15 * e) * WB) (h4 : WT * 30 ≤ (40 * d + 1000 + 15 * e) * WB) (h5 : WT * 30 ≤ (45 * b + 1500 + 15 * e) * WB) (h6 : WT * 30 ≤ (4200 + 15 * e) * WB) : WT * 30 ≤ ap_q b d e * WB := by
  unfold ap_q
  rcases ap_mm_cases b d with c | c | c | c | c | c <;> rw [c] <;> assumption
theorem ap_sol_ans {b d e u W t0 t1 t2 : Int} (hb : ap_bde b d e) (h : ap_sol b d e 3 4 1 ap_Lo ap_Hi u W t0 t1 t2) : ap_ans b d e W u := by
  obtain ⟨h1, h2, h3, h4, h5⟩ := h
  obtain ⟨p0, p1, hp, hv⟩ := ap_vx hb
  have hlow := h5 30 p0 p1 (15 * e) hp
  have hq : 3 * p0 + 4 * p1 + 1 * (15 * e) = ap_q b d e := by
    unfold ap_q
    omega
  rw [hq] at hlow
  obtain ⟨⟨a1, a2⟩, ⟨b1, b2⟩, ⟨c1, c2⟩, k1, k2, k3, k4⟩ := h3
  have a1' : u * 0 ≤ t0 := a1
  have b1' : u * 0 ≤ t1 := b1
  have c1' : u * 0 ≤ t2 := c1
  have a2' : t0 ≤ u * 20 := a2
  have b2' : t1 ≤ u * 20 := b2
  have c2' : t2 ≤ u * 20 := c2
  have e1 : (30 * (b + d) + 15 * e) * u = 30 * (u * b) + 30 * (u * d) + 15 * (u * e) := by grind
  have e2 : (120 * b + 15 * e) * u = 120 * (u * b) + 15 * (u * e) := by grind
  have e3 : (90 * d + 15 * e) * u = 90 * (u * d) + 15 * (u * e) := by grind
  have e4 : (40 * d + 1000 + 15 * e) * u = 40 * (u * d) + 1000 * u + 15 * (u * e) := by grind
  have e5 : (45 * b + 1500 + 15 * e) * u = 45 * (u * b) + 1500 * u + 15 * (u * e) := by grind
  have e6 : (4200 + 15 * e) * u = 4200 * u + 15 * (u * e) := by grind
  have hup := ap_up6 (b := b) (d := d) (e := e) (WT := W) (WB := u) (by omega) (by omega) (by omega) (by omega) (by omega) (by omega)
  refine ⟨h1, by omega, by omega, by omega⟩
/-- whole points are worth no more -/
theorem ap_zq {b d e z0 z1 z2 : Int} (h : ap_pt b d e ap_Lo ap_Hi 1 z0 z1 z2) : ap_ob z0 z1 z2 * 30 ≤ ap_q b d e := by
  unfold ap_pt ap_Lo ap_Hi at h
  unfold ap_q ap_ob
  rcases ap_mm_cases b d with c | c | c | c | c | c <;> rw [c] <;> omega
/-! the third engine -/
theorem ap_be0 {b d e : Int} {asked : Nat → Int} : ap_be (fun _ => false) ap_nu1 (ap_bo b d e) ap_Lo ap_Hi asked [(0, 1), (1, 1), (2, 1), (3, 1), (3, -1)] 0 = b ∧ ap_be (fun _ => false) ap_nu1 (ap_bo b d e) ap_Lo ap_Hi asked [(0, 1), (1, 1), (2, 1), (3, 1), (3, -1)] 1 = d ∧ ap_be (fun _ => false) ap_nu1 (ap_bo b d e) ap_Lo ap_Hi asked [(0, 1), (1, 1), (2, 1), (3, 1), (3, -1)] 2 = 80 ∧ ap_be (fun _ => false) ap_nu1 (ap_bo b d e) ap_Lo ap_Hi asked [(0, 1), (1, 1), (2, 1), (3, 1), (3, -1)] 3 = e ∧ ap_be (fun _ => false) ap_nu1 (ap_bo b d e) ap_Lo ap_Hi asked [(0, 1), (1, 1), (2, 1), (3, 1), (3, -1)] 4 = -e ∧ ap_be (fun _ => false) ap_nu1 (ap_bo b d e) ap_Lo ap_Hi asked [(0, 1), (1, 1), (2, 1), (3, 1), (3, -1)] 5 = 20 ∧ ap_be (fun _ => false) ap_nu1 (ap_bo b d e) ap_Lo ap_Hi asked [(0, 1), (1, 1), (2, 1), (3, 1), (3, -1)] 6 = 20 ∧ ap_be (fun _ => false) ap_nu1 (ap_bo b d e) ap_Lo ap_Hi asked [(0, 1), (1, 1), (2, 1), (3, 1), (3, -1)] 7 = 20 := by
  obtain ⟨b0, b1, b2, b3, b4, b5, b6, b7⟩ := ap_be1 (b := b) (d := d) (e := e) (lo := ap_Lo) (hi := ap_Hi) (asked := asked)
  rw [b0, b1, b2, b3, b4, b5, b6, b7]
  unfold ap_Lo ap_Hi
  omega
theorem ap_ln1 {b d e : Int} {asked : Nat → Int} {β : Nat → Int} (hβ : β = ap_be (fun _ => false) ap_nu1 (ap_bo b d e) ap_Lo ap_Hi asked [(0, 1), (1, 1), (2, 1), (3, 1), (3, -1)]) :
    ap_ln ap_A1 β (0, 1) = (2, -5, -2, 3 * b) ∧ ap_ln ap_A1 β (1, 1) = (1, 5, -1, 3 * d) ∧ ap_ln ap_A1 β (2, 1) = (1, -1, -1, 3 * 80) ∧ ap_ln ap_A1 β (3, 1) = (0, 0, 6, 3 * e) ∧ ap_ln ap_A1 β (4, 1) = (0, 0, -6, 3 * -e) ∧ ap_ln ap_A1 β (5, 1) = (1, -4, -1, 3 * 20) ∧ ap_ln ap_A1 β (6, 1) = (0, 3, 0, 3 * 20) ∧ ap_ln ap_A1 β (7, 1) = (0, 0, 3, 3 * 20) ∧
    ap_ln ap_A1 β (5, -1) = (-1, 4, 1, 3 * 0) ∧ ap_ln ap_A1 β (6, -1) = (0, -3, 0, 3 * 0) ∧ ap_ln ap_A1 β (7, -1) = (0, 0, -3, 3 * 0) := by
  obtain ⟨b0, b1, b2, b3, b4, b5, b6, b7⟩ := ap_be0 (b := b) (d := d) (e := e) (asked := asked)
  rw [← hβ] at b0 b1 b2 b3 b4 b5 b6 b7
  have f : ∀ (r : Nat) (v : Int), β r = v → ∀ w x y : Int, w = 1 * ap_A ap_A1 r 0 → x = 3 * (1 * ap_A ap_A1 r 1) - 1 * ap_A ap_A1 r 0 * 4 → y = 3 * (1 * ap_A ap_A1 r 2) - 1 * ap_A ap_A1 r 0 * 1 → ap_ln ap_A1 β (r, 1) = (w, x, y, 3 * v) := by
    intro r v hv w x y hw hx hy
    rw [hw, hx, hy, ← hv]
    rfl
  exact ⟨f 0 _ b0 _ _ _ (by decide) (by decide) (by decide), f 1 _ b1 _ _ _ (by decide) (by decide) (by decide), f 2 _ b2 _ _ _ (by decide) (by decide) (by decide), f 3 _ b3 _ _ _ (by decide) (by decide) (by decide), f 4 _ b4 _ _ _ (by decide) (by decide) (by decide), f 5 _ b5 _ _ _ (by decide) (by decide) (by decide), f 6 _ b6 _ _ _ (by decide) (by decide) (by decide), f 7 _ b7 _ _ _ (by decide) (by decide) (by decide), rfl, rfl, rfl⟩
theorem ap_Ln8 {x : Nat × Int} (h : ap_Ln 8 x) : x = (0, 1) ∨ x = (1, 1) ∨ x = (2, 1) ∨ x = (3, 1) ∨ x = (4, 1) ∨ x = (5, 1) ∨ x = (6, 1) ∨ x = (7, 1) ∨ x = (5, -1) ∨ x = (6, -1) ∨ x = (7, -1) := by
  obtain ⟨r, s⟩ := x
  obtain ⟨h1, h2⟩ := h
  have h1' : r < 8 := h1
  have h2' : s = 1 ∨ (s = -1 ∧ 8 ≤ r + 3) := h2
  have hr : r = 0 ∨ r = 1 ∨ r = 2 ∨ r = 3 ∨ r = 4 ∨ r = 5 ∨ r = 6 ∨ r = 7 := by omega
  rcases h2' with e | ⟨e, h3⟩
  · subst e
    rcases hr with e | e | e | e | e | e | e | e <;> subst e <;> simp
  · subst e
    have hr' : r = 5 ∨ r = 6 ∨ r = 7 := by omega
    rcases hr' with e | e | e <;> subst e <;> simp
section
variable {qpr : Int32} {qwo : Int32} {qrw : Int32} {qtu : Int32} {qun : Int64} {qco : Int32} {qfw : Int32} {qwc : Int32} {qwt : Int64} {qwb : Int64} {qln : Int32} {qem : Int32} {qhh : Int32} {qht : Int64} {qhb : Int64} {qhl : Int32} {qlt : Int64} {qlb : Int64} {qbr : Int32} {ql3 : Int32} {qg3 : Int32} {a1 : Nat → Int32} {a2 : Nat → Int32} {a3 : Nat → Int32} {a4 : Nat → Int32} {a5 : Nat → Int32} {a6 : Nat → Int32} {a7 : Nat → Int32} {a8 : Nat → Int32} {a9 : Nat → Int32} {a10 : Nat → Int64} {a11 : Nat → Int32} {a12 : Nat → Int32} {a13 : Nat → Int64} {a14 : Nat → Int64} {a15 : Nat → Int64} {a16 : Nat → Int64} {a17 : Nat → Int64} {a18 : Nat → Int32} {a19 : Nat → Int32}
variable {b d e : Int}
theorem ap_e2 {post : Int32 → St2 → Prop} (hb : ap_bde b d e) (hD : ap_dat 15 ap_nu1 ap_kd1 (ap_bo b d e) qpr a1 a2 a3) (hwo : qwo = -1) (h5 : ∀ i, i < 3 → a5 i = ap_i 0) (h6 : ∀ i, i < 3 → a6 i = ap_i 20) (h7 : ∀ i, i < 3 → a7 i = ap_i (ap_gl i))
    (H1 : ∀ (WT WB : Int) (qrw' : Int32) (qtu' : Int32) (qln' : Int32) (qem' : Int32) (qhh' : Int32) (qht' : Int64) (qhb' : Int64) (qhl' : Int32) (qlt' : Int64) (qlb' : Int64) (a8' : Nat → Int32) (a9' : Nat → Int32) (a14' : Nat → Int64) (a15' : Nat → Int64) (a16' : Nat → Int64) (a17' : Nat → Int64), ap_ans b d e WT WB → post 1 (qpr, qwo, qrw', qtu', qun, qco, qfw, qwc, ap_l WT, ap_l WB, qln', qem', qhh', qht', qhb', qhl', qlt', qlb', qbr, ql3, qg3, a1, a2, a3, a4, a5, a6, a7, a8', a9', a10, a11, a12, a13, a14', a15', a16', a17', a18, a19)) : wpX_solveByTakingOut post (qpr, qwo, qrw, qtu, qun, qco, qfw, qwc, qwt, qwb, qln, qem, qhh, qht, qhb, qhl, qlt, qlb, qbr, ql3, qg3, a1, a2, a3, a4, a5, a6, a7, a8, a9, a10, a11, a12, a13, a14, a15, a16, a17, a18, a19) := by
  have hlh := ap_lohi h5 h6
  have hg : ∀ i, i < 3 → -8 ≤ ap_gl i ∧ ap_gl i ≤ 8 := by decide
  have hbb := hb
  obtain ⟨hb1, hb2, hb3⟩ := hbb
  have hln := ap_ln1 (b := b) (d := d) (e := e) (asked := ap_gl) rfl
  rw [← ap_pl1] at hln
  have hfe : ∀ s x0 x1 x2, ap_pt b d e ap_Lo ap_Hi s x0 x1 x2 → ap_fe 8 ap_A1 (ap_be (fun _ => false) ap_nu1 (ap_bo b d e) ap_Lo ap_Hi ap_gl (ap_pl 15 ap_kd1 (-1) 5)) s x0 x1 x2 := by
    intro s x0 x1 x2 hp
    rw [ap_fe1]
    have z : ∀ i x, s * ap_Lo i + x = x := by
      intro i x
      show s * 0 + x = x
      omega
    rw [z, z, z]
    exact hp
  obtain ⟨l0, l1, l2, l3, l4, l5, l6, l7, m5, m6, m7⟩ := hln
  generalize hβ : ap_be (fun _ => false) ap_nu1 (ap_bo b d e) ap_Lo ap_Hi ap_gl (ap_pl 15 ap_kd1 (-1) 5) = β at *
  have L0 : ap_Ln 8 (0, 1) := ⟨by decide, Or.inl rfl⟩
  have L1 : ap_Ln 8 (1, 1) := ⟨by decide, Or.inl rfl⟩
  have L3 : ap_Ln 8 (3, 1) := ⟨by decide, Or.inl rfl⟩
  have L5 : ap_Ln 8 (5, 1) := ⟨by decide, Or.inl rfl⟩
  have L6 : ap_Ln 8 (6, 1) := ⟨by decide, Or.inl rfl⟩
  have N5 : ap_Ln 8 (5, -1) := ⟨by decide, Or.inr ⟨rfl, by decide⟩⟩
  have N6 : ap_Ln 8 (6, -1) := ⟨by decide, Or.inr ⟨rfl, by decide⟩⟩
  -- the six bounds
  have six : ∀ st : ap_W, ap_fmr 8 ap_A1 β st → (∀ x y : Nat × Int, ap_Ln 8 x → ap_Ln 8 y → 0 < (ap_ln ap_A1 β x).2.1 → (ap_ln ap_A1 β y).2.1 < 0 → (ap_cp (ap_ln ap_A1 β x) (ap_ln ap_A1 β y)).2.2.1 < 0 → ap_cq st (ap_c2f (0, 0, 6, 3 * e) (ap_cp (ap_ln ap_A1 β x) (ap_ln ap_A1 β y))) (ap_c2b (0, 0, 6, 3 * e) (ap_cp (ap_ln ap_A1 β x) (ap_ln ap_A1 β y)))) := by
    intro st hf x y hx hy z1 z2 z3
    have := hf.2.2.1 x y (3, 1) hx hy L3 z1 z2 (by rw [l3]) (by rw [l3]; simp [ap_cp, ap_c2f]) z3
    rw [l3] at this
    exact this
  refine ap_solve2 (n := 8) (A := ap_A1) (wo := -1) (asked := ap_gl) hD (hwo.trans (by rfl)) (by decide) hlh.1 hlh.2 hg (h7 0 (by decide)) (h7 1 (by decide)) (h7 2 (by decide)) (by rw [ap_pl1]; rfl) (by decide) ap_A1_ok ?_ ?_ ?_ ?_
  · intro x hx
    rw [hβ]
    have fin : ∀ w f s c : Int, (-10 ≤ w ∧ w ≤ 10) → (-10 ≤ f ∧ f ≤ 10) → (-10 ≤ s ∧ s ≤ 10) → (-400 ≤ c ∧ c ≤ 400) → ap_lb 10 400 (w, f, s, c) := fun w f s c k1 k2 k3 k4 => ⟨k1, k2, k3, k4⟩
    rcases ap_Ln8 hx with h | h | h | h | h | h | h | h | h | h | h <;> subst h
    · rw [l0]; exact fin _ _ _ _ (by decide) (by decide) (by decide) (by omega)
    · rw [l1]; exact fin _ _ _ _ (by decide) (by decide) (by decide) (by omega)
    · rw [l2]; exact fin _ _ _ _ (by decide) (by decide) (by decide) (by omega)
    · rw [l3]; exact fin _ _ _ _ (by decide) (by decide) (by decide) (by omega)
    · rw [l4]; exact fin _ _ _ _ (by decide) (by decide) (by decide) (by omega)
    · rw [l5]; exact fin _ _ _ _ (by decide) (by decide) (by decide) (by omega)
    · rw [l6]; exact fin _ _ _ _ (by decide) (by decide) (by decide) (by omega)
    · rw [l7]; exact fin _ _ _ _ (by decide) (by decide) (by decide) (by omega)
    · rw [m5]; exact fin _ _ _ _ (by decide) (by decide) (by decide) (by omega)
    · rw [m6]; exact fin _ _ _ _ (by decide) (by decide) (by decide) (by omega)
    · rw [m7]; exact fin _ _ _ _ (by decide) (by decide) (by decide) (by omega)
  · intro st hf _ hn
    rw [hβ] at hf
    have h1 := six st hf (1, 1) (0, 1) L1 L0 (by rw [l1]; simp [ap_cp, ap_c2f]) (by rw [l0]; simp [ap_cp, ap_c2f]) (by rw [l1, l0]; simp [ap_cp, ap_c2f])
    rw [l1, l0] at h1
    obtain ⟨p, hp, _⟩ := h1.1 (by simp [ap_cp, ap_c2f])
    rw [hn] at hp
    exact nomatch hp
  · intro st p qrw' qtu' qln' qem' qhh' qht' qhb' qhl' qlt' qlb' a8' a9' a14' a15' a16' a17' hf _ hp _
    rw [hβ] at hf
    have hpb := hf.1.1 p hp
    have get : ∀ f c : Int, 0 < f → ap_cq st f c → p.1 * f ≤ c * p.2 := by
      intro f c h0 hc
      obtain ⟨p', hp', hq⟩ := hc.1 h0
      rw [hp] at hp'
      rw [Option.some.inj hp']
      exact hq
    have d1 := get _ _ (by rw [l1, l0]; simp [ap_cp, ap_c2f]) (six st hf (1, 1) (0, 1) L1 L0 (by rw [l1]; simp [ap_cp, ap_c2f]) (by rw [l0]; simp [ap_cp, ap_c2f]) (by rw [l1, l0]; simp [ap_cp, ap_c2f]))
    have d2 := get _ _ (by rw [m5, l0]; simp [ap_cp, ap_c2f]) (six st hf (5, -1) (0, 1) N5 L0 (by rw [m5]; simp [ap_cp, ap_c2f]) (by rw [l0]; simp [ap_cp, ap_c2f]) (by rw [m5, l0]; simp [ap_cp, ap_c2f]))
    have d3 := get _ _ (by rw [l1, m6]; simp [ap_cp, ap_c2f]) (six st hf (1, 1) (6, -1) L1 N6 (by rw [l1]; simp [ap_cp, ap_c2f]) (by rw [m6]; simp [ap_cp, ap_c2f]) (by rw [l1, m6]; simp [ap_cp, ap_c2f]))
    have d4 := get _ _ (by rw [l1, l5]; simp [ap_cp, ap_c2f]) (six st hf (1, 1) (5, 1) L1 L5 (by rw [l1]; simp [ap_cp, ap_c2f]) (by rw [l5]; simp [ap_cp, ap_c2f]) (by rw [l1, l5]; simp [ap_cp, ap_c2f]))
    have d5 := get _ _ (by rw [l6, l0]; simp [ap_cp, ap_c2f]) (six st hf (6, 1) (0, 1) L6 L0 (by rw [l6]; simp [ap_cp, ap_c2f]) (by rw [l0]; simp [ap_cp, ap_c2f]) (by rw [l6, l0]; simp [ap_cp, ap_c2f]))
    have d6 := get _ _ (by rw [l6, l5]; simp [ap_cp, ap_c2f]) (six st hf (6, 1) (5, 1) L6 L5 (by rw [l6]; simp [ap_cp, ap_c2f]) (by rw [l5]; simp [ap_cp, ap_c2f]) (by rw [l6, l5]; simp [ap_cp, ap_c2f]))
    rw [l1, l0] at d1
    rw [m5, l0] at d2
    rw [l1, m6] at d3
    rw [l1, l5] at d4
    rw [l6, l0] at d5
    rw [l6, l5] at d6
    unfold ap_c2f ap_c2b ap_cp at d1 d2 d3 d4 d5 d6
    dsimp only at d1 d2 d3 d4 d5 d6
    obtain ⟨p0, p1, hpt, hv⟩ := ap_vx hb
    have hlow := (hf.2.1 30 p0 p1 (15 * e) (hfe 30 p0 p1 (15 * e) hpt)).2.1 p hp
    have hq : 3 * p0 + 4 * p1 + 15 * e = ap_q b d e := by
      unfold ap_q
      omega
    rw [hq] at hlow
    obtain ⟨WT, WB⟩ := p
    dsimp only at d1 d2 d3 d4 d5 d6 hlow
    obtain ⟨hw1, hw2, hw3⟩ := hpb
    have hw1' : -4000000 ≤ WT ∧ WT ≤ 4000000 := hw1
    have hw2' : 0 < WB := hw2
    have hw3' : WB ≤ 100000 := hw3
    refine H1 WT WB _ _ _ _ _ _ _ _ _ _ _ _ _ _ _ _ ⟨hw2', hw3', hw1', ?_⟩
    have hup : WT * 30 ≤ ap_q b d e * WB := by
      refine ap_up6 ?_ ?_ ?_ ?_ ?_ ?_
      · have x1 : (30 * (b + d) + 15 * e) * WB = 30 * (b * WB) + 30 * (d * WB) + 15 * (e * WB) := by grind
        have x2 : (3 * e * - -15 + (3 * d * - -5 + 3 * b * 5) * 6) * WB = 45 * (e * WB) + 90 * (d * WB) + 90 * (b * WB) := by grind
        have d1' : WT * 90 ≤ (3 * e * - -15 + (3 * d * - -5 + 3 * b * 5) * 6) * WB := d1
        omega
      · have x1 : (120 * b + 15 * e) * WB = 120 * (b * WB) + 15 * (e * WB) := by grind
        have x2 : (3 * e * - -3 + (3 * 0 * - -5 + 3 * b * 4) * 6) * WB = 9 * (e * WB) + 72 * (b * WB) := by grind
        have d2' : WT * 18 ≤ (3 * e * - -3 + (3 * 0 * - -5 + 3 * b * 4) * 6) * WB := d2
        omega
      · have x1 : (90 * d + 15 * e) * WB = 90 * (d * WB) + 15 * (e * WB) := by grind
        have x2 : (3 * e * - -3 + (3 * d * - -3 + 3 * 0 * 5) * 6) * WB = 9 * (e * WB) + 54 * (d * WB) := by grind
        have d3' : WT * 18 ≤ (3 * e * - -3 + (3 * d * - -3 + 3 * 0 * 5) * 6) * WB := d3
        omega
      · have x1 : (40 * d + 1000 + 15 * e) * WB = 40 * (d * WB) + 1000 * WB + 15 * (e * WB) := by grind
        have x2 : (3 * e * - -9 + (3 * d * - -4 + 3 * 20 * 5) * 6) * WB = 27 * (e * WB) + 72 * (d * WB) + 1800 * WB := by grind
        have d4' : WT * 54 ≤ (3 * e * - -9 + (3 * d * - -4 + 3 * 20 * 5) * 6) * WB := d4
        omega
      · have x1 : (45 * b + 1500 + 15 * e) * WB = 45 * (b * WB) + 1500 * WB + 15 * (e * WB) := by grind
        have x2 : (3 * e * - -6 + (3 * 20 * - -5 + 3 * b * 3) * 6) * WB = 18 * (e * WB) + 1800 * WB + 54 * (b * WB) := by grind
        have d5' : WT * 36 ≤ (3 * e * - -6 + (3 * 20 * - -5 + 3 * b * 3) * 6) * WB := d5
        omega
      · have x1 : (4200 + 15 * e) * WB = 4200 * WB + 15 * (e * WB) := by grind
        have x2 : (3 * e * - -3 + (3 * 20 * - -4 + 3 * 20 * 3) * 6) * WB = 9 * (e * WB) + 2520 * WB := by grind
        have d6' : WT * 18 ≤ (3 * e * - -3 + (3 * 20 * - -4 + 3 * 20 * 3) * 6) * WB := d6
        omega
    omega
  · intro st qrw' qtu' qln' qem' qhh' qht' qhb' qhl' qlt' qlb' a8' a9' a14' a15' a16' a17' hf hor
    rw [hβ] at hf
    have hp := hf.2.1 2 0 0 e (hfe 2 0 0 e (ap_p0 hb))
    exfalso
    rcases hor with z | ⟨p, q, hp1, hq1, z⟩
    · have := hp.1 z
      omega
    · have g1 := hp.2.1 p hp1
      have g2 := hp.2.2 q hq1
      have p2 := (hf.1.1 p hp1).2.1
      have q2 := (hf.1.2 q hq1).2.1
      have m1 := Int.mul_le_mul_of_nonneg_right g1 (Int.le_of_lt q2)
      have m2 := Int.mul_le_mul_of_nonneg_right g2 (Int.le_of_lt p2)
      have e1 : 2 * p.1 * q.2 = 2 * (p.1 * q.2) := Int.mul_assoc _ _ _
      have e2 : 2 * q.1 * p.2 = 2 * (q.1 * p.2) := Int.mul_assoc _ _ _
      have e3 : (3 * 0 + 4 * 0 + e) * q.2 * p.2 = (3 * 0 + 4 * 0 + e) * p.2 * q.2 := by rw [Int.mul_assoc, Int.mul_comm q.2, ← Int.mul_assoc]
      omega
/-- no point for the third engine -/
theorem ap_e2_5 {post : Int32 → St2 → Prop} (hb : 1 ≤ b ∧ b ≤ 60) (hd : 1 ≤ d ∧ d ≤ 60) (hD : ap_dat 15 ap_nu2 ap_kd2 (ap_bo b d 21) qpr a1 a2 a3) (hwo : qwo = -1) (h5 : ∀ i, i < 3 → a5 i = ap_i 0) (h6 : ∀ i, i < 3 → a6 i = ap_i 20) (h7 : ∀ i, i < 3 → a7 i = ap_i (ap_gl i))
    (H0 : ∀ (qrw' : Int32) (qtu' : Int32) (qln' : Int32) (qem' : Int32) (qhh' : Int32) (qht' : Int64) (qhb' : Int64) (qhl' : Int32) (qlt' : Int64) (qlb' : Int64) (a8' : Nat → Int32) (a9' : Nat → Int32) (a14' : Nat → Int64) (a15' : Nat → Int64) (a16' : Nat → Int64) (a17' : Nat → Int64), post 0 (qpr, qwo, qrw', qtu', qun, qco, qfw, qwc, qwt, qwb, qln', qem', qhh', qht', qhb', qhl', qlt', qlb', qbr, ql3, qg3, a1, a2, a3, a4, a5, a6, a7, a8', a9', a10, a11, a12, a13, a14', a15', a16', a17', a18, a19)) : wpX_solveByTakingOut post (qpr, qwo, qrw, qtu, qun, qco, qfw, qwc, qwt, qwb, qln, qem, qhh, qht, qhb, qhl, qlt, qlb, qbr, ql3, qg3, a1, a2, a3, a4, a5, a6, a7, a8, a9, a10, a11, a12, a13, a14, a15, a16, a17, a18, a19) := by
  have hlh := ap_lohi h5 h6
  have hg : ∀ i, i < 3 → -8 ≤ ap_gl i ∧ ap_gl i ≤ 8 := by decide
  have hv : ∀ r, r < 7 → ap_be (fun _ => false) ap_nu2 (ap_bo b d 21) ap_Lo ap_Hi ap_gl (ap_pl 15 ap_kd2 (-1) 5) r = [b, d, 80, -21, 20, 20, 20].getD r 0 := by
    rw [ap_pl5, ap_lt7]
    refine ⟨?_, ?_, ?_, ?_, ?_, ?_, ?_⟩ <;> simp [ap_be, ap_rb, ap_sum, ap_frm, ap_nu2, ap_bo, ap_A, ap_Lo, ap_Hi]
  have emp : ∀ st : ap_W, ap_fmr 7 ap_A5 (ap_be (fun _ => false) ap_nu2 (ap_bo b d 21) ap_Lo ap_Hi ap_gl (ap_pl 15 ap_kd2 (-1) 5)) st → st.1 = true := by
    intro st hf
    have l6 : ap_ln ap_A5 (ap_be (fun _ => false) ap_nu2 (ap_bo b d 21) ap_Lo ap_Hi ap_gl (ap_pl 15 ap_kd2 (-1) 5)) (6, 1) = (0, 0, 3, 3 * 20) := by
      have h : ap_ln ap_A5 (ap_be (fun _ => false) ap_nu2 (ap_bo b d 21) ap_Lo ap_Hi ap_gl (ap_pl 15 ap_kd2 (-1) 5)) (6, 1) = (0, 0, 3, 3 * ap_be (fun _ => false) ap_nu2 (ap_bo b d 21) ap_Lo ap_Hi ap_gl (ap_pl 15 ap_kd2 (-1) 5) 6) := rfl
      rw [h, hv 6 (by decide)]
      rfl
    have l3 : ap_ln ap_A5 (ap_be (fun _ => false) ap_nu2 (ap_bo b d 21) ap_Lo ap_Hi ap_gl (ap_pl 15 ap_kd2 (-1) 5)) (3, 1) = (0, 0, -3, 3 * -21) := by
      have h : ap_ln ap_A5 (ap_be (fun _ => false) ap_nu2 (ap_bo b d 21) ap_Lo ap_Hi ap_gl (ap_pl 15 ap_kd2 (-1) 5)) (3, 1) = (0, 0, -3, 3 * ap_be (fun _ => false) ap_nu2 (ap_bo b d 21) ap_Lo ap_Hi ap_gl (ap_pl 15 ap_kd2 (-1) 5) 3) := rfl
      rw [h, hv 3 (by decide)]
      rfl
    have h := hf.2.2.2 (6, 1) (3, 1) ⟨by decide, Or.inl rfl⟩ ⟨by decide, Or.inl rfl⟩ (by rw [l6]) (by rw [l3]) (by rw [l6]; decide) (by rw [l3]; decide)
    rw [l6, l3] at h
    exact h.2 (by decide) (by decide)
  refine ap_solve2 (n := 7) (A := ap_A5) (wo := -1) (asked := ap_gl) hD (hwo.trans (by rfl)) (by decide) hlh.1 hlh.2 hg (h7 0 (by decide)) (h7 1 (by decide)) (h7 2 (by decide)) (by rw [ap_pl5]; rfl) (by decide) ap_A5_ok ?_ ?_ ?_ ?_
  · intro x hx
    obtain ⟨r, s⟩ := x
    obtain ⟨k1, k2⟩ := hx
    have k1' : r < 7 := k1
    have k2' : s = 1 ∨ (s = -1 ∧ 7 ≤ r + 3) := k2
    have fin : ∀ y : ap_Q, (-10 ≤ y.1 ∧ y.1 ≤ 10) → (-10 ≤ y.2.1 ∧ y.2.1 ≤ 10) → (-10 ≤ y.2.2.1 ∧ y.2.2.1 ≤ 10) → (-400 ≤ y.2.2.2 ∧ y.2.2.2 ≤ 400) → ap_lb 10 400 y := fun y k1 k2 k3 k4 => ⟨k1, k2, k3, k4⟩
    have hbd : -400 ≤ 3 * ap_be (fun _ => false) ap_nu2 (ap_bo b d 21) ap_Lo ap_Hi ap_gl (ap_pl 15 ap_kd2 (-1) 5) r ∧ 3 * ap_be (fun _ => false) ap_nu2 (ap_bo b d 21) ap_Lo ap_Hi ap_gl (ap_pl 15 ap_kd2 (-1) 5) r ≤ 400 := by
      rw [hv r k1']
      have hr : r = 0 ∨ r = 1 ∨ r = 2 ∨ r = 3 ∨ r = 4 ∨ r = 5 ∨ r = 6 := by omega
      rcases hr with e | e | e | e | e | e | e <;> subst e <;> simp <;> omega
    have hA : ∀ r, r < 7 → ∀ s : Int, (s = 1 ∨ s = -1) → (-10 ≤ s * ap_A ap_A5 r 0 ∧ s * ap_A ap_A5 r 0 ≤ 10) ∧ (-10 ≤ 3 * (s * ap_A ap_A5 r 1) - s * ap_A ap_A5 r 0 * 4 ∧ 3 * (s * ap_A ap_A5 r 1) - s * ap_A ap_A5 r 0 * 4 ≤ 10) ∧ (-10 ≤ 3 * (s * ap_A ap_A5 r 2) - s * ap_A ap_A5 r 0 * 1 ∧ 3 * (s * ap_A ap_A5 r 2) - s * ap_A ap_A5 r 0 * 1 ≤ 10) := by
      intro r hr s hs
      have hr : r = 0 ∨ r = 1 ∨ r = 2 ∨ r = 3 ∨ r = 4 ∨ r = 5 ∨ r = 6 := by omega
      rcases hs with e | e <;> subst e <;> rcases hr with e | e | e | e | e | e | e <;> subst e <;> decide
    have hs1 : s = 1 ∨ s = -1 := by omega
    have h3 := hA r k1' s hs1
    refine fin _ h3.1 h3.2.1 h3.2.2 ?_
    show -400 ≤ 3 * (if s = 1 then ap_be (fun _ => false) ap_nu2 (ap_bo b d 21) ap_Lo ap_Hi ap_gl (ap_pl 15 ap_kd2 (-1) 5) r else 0) ∧ 3 * (if s = 1 then ap_be (fun _ => false) ap_nu2 (ap_bo b d 21) ap_Lo ap_Hi ap_gl (ap_pl 15 ap_kd2 (-1) 5) r else 0) ≤ 400
    by_cases e : s = 1
    · rw [if_pos e]; exact hbd
    · rw [if_neg e]; decide
  · intro st hf h0 _
    have := emp st hf
    rw [h0] at this
    exact Bool.noConfusion this
  · intro st p qrw' qtu' qln' qem' qhh' qht' qhb' qhl' qlt' qlb' a8' a9' a14' a15' a16' a17' hf h0 _ _
    have := emp st hf
    rw [h0] at this
    exact Bool.noConfusion this
  · intro st qrw' qtu' qln' qem' qhh' qht' qhb' qhl' qlt' qlb' a8' a9' a14' a15' a16' a17' _ _
    exact H0 _ _ _ _ _ _ _ _ _ _ _ _ _ _ _ _
end
end
section
/-! the public questions -/
def ap_g1 (b d e : Int) (pr : Int32) (a1 a2 a3 a4 : Nat → Int32) : Prop := ap_dat 15 ap_nu1 ap_kd1 (ap_bo b d e) pr a1 a2 a3 ∧ ∀ i, i < 3 → a4 i = ap_i (ap_gl i)
def ap_g2 (b d : Int) (pr : Int32) (a1 a2 a3 a4 : Nat → Int32) : Prop := ap_dat 15 ap_nu2 ap_kd2 (ap_bo b d 21) pr a1 a2 a3 ∧ ∀ i, i < 3 → a4 i = ap_i (ap_gl i)
def ap_U1 (b d e : Int) (u : St2) : Prop := match u with
  | (qpr, qwo, qrw, qtu, qun, qco, qfw, qwc, qwt, qwb, qln, qem, qhh, qht, qhb, qhl, qlt, qlb, qbr, ql3, qg3, a1, a2, a3, a4, a5, a6, a7, a8, a9, a10, a11, a12, a13, a14, a15, a16, a17, a18, a19) => ap_g1 b d e qpr a1 a2 a3 a4
def ap_U2 (b d : Int) (u : St2) : Prop := match u with
  | (qpr, qwo, qrw, qtu, qun, qco, qfw, qwc, qwt, qwb, qln, qem, qhh, qht, qhb, qhl, qlt, qlb, qbr, ql3, qg3, a1, a2, a3, a4, a5, a6, a7, a8, a9, a10, a11, a12, a13, a14, a15, a16, a17, a18, a19) => ap_g2 b d qpr a1 a2 a3 a4
theorem ap_isEng {post : Int32 → Prop} {k : Nat} (hk : k < 3) (hp : post 1) : wpX_isEngine post () (nI k) := by
  unfold wpX_isEngine
  exact br_f (nI_pos (by omega)) (br_f (nI_nlt (b := k) (a := 2) (by omega) (by decide)) hp)
theorem ap_isAm {post : Int32 → Prop} {k : Nat} (hk : k < 3) (hp : post 1) : wpX_isAmount post () (nI k) := by
  unfold wpX_isAmount
  exact br_f (nI_pos (by omega)) (br_f (nI_ge (b := 3) hk (by decide)) hp)
def ap_sel (i : Nat) (x y z : Int) : Int := if i = 0 then x else if i = 1 then y else z
theorem ap_gl_b : ∀ i, i < 3 → -128 ≤ ap_gl i ∧ ap_gl i ≤ 127 := by decide
theorem ap_sol_bd {b d e u W t0 t1 t2 : Int} (h : ap_sol b d e 3 4 1 ap_Lo ap_Hi u W t0 t1 t2) : (0 ≤ t0 ∧ t0 ≤ 1280) ∧ (0 ≤ t1 ∧ t1 ≤ 1280) ∧ (0 ≤ t2 ∧ t2 ≤ 1280) := by
  obtain ⟨h1, h2, h3, h4, h5⟩ := h
  obtain ⟨⟨a1, a2⟩, ⟨b1, b2⟩, ⟨c1, c2⟩, k1, k2, k3, k4⟩ := h3
  have a1' : u * 0 ≤ t0 := a1
  have b1' : u * 0 ≤ t1 := b1
  have c1' : u * 0 ≤ t2 := c1
  have a2' : t0 ≤ u * 20 := a2
  have b2' : t1 ≤ u * 20 := b2
  have c2' : t2 ≤ u * 20 := c2
  omega
section
variable {qpr : Int32} {qwo : Int32} {qrw : Int32} {qtu : Int32} {qun : Int64} {qco : Int32} {qfw : Int32} {qwc : Int32} {qwt : Int64} {qwb : Int64} {qln : Int32} {qem : Int32} {qhh : Int32} {qht : Int64} {qhb : Int64} {qhl : Int32} {qlt : Int64} {qlb : Int64} {qbr : Int32} {ql3 : Int32} {qg3 : Int32} {a1 : Nat → Int32} {a2 : Nat → Int32} {a3 : Nat → Int32} {a4 : Nat → Int32} {a5 : Nat → Int32} {a6 : Nat → Int32} {a7 : Nat → Int32} {a8 : Nat → Int32} {a9 : Nat → Int32} {a10 : Nat → Int64} {a11 : Nat → Int32} {a12 : Nat → Int32} {a13 : Nat → Int64} {a14 : Nat → Int64} {a15 : Nat → Int64} {a16 : Nat → Int64} {a17 : Nat → Int64} {a18 : Nat → Int32} {a19 : Nat → Int32}
variable {b d e : Int}
theorem ap_goal1 {post : Int32 → St2 → Prop} {k : Nat} (hk : k < 3) (hb : ap_bde b d e) (hG : ap_g1 b d e qpr a1 a2 a3 a4)
    (H : ∀ (WT WB t0 t1 t2 : Int) (qwo' : Int32) (qrw' : Int32) (qtu' : Int32) (qun' : Int64) (qco' : Int32) (qfw' : Int32) (qwc' : Int32) (qln' : Int32) (qem' : Int32) (qhh' : Int32) (qht' : Int64) (qhb' : Int64) (qhl' : Int32) (qlt' : Int64) (qlb' : Int64) (a5' : Nat → Int32) (a6' : Nat → Int32) (a7' : Nat → Int32) (a8' : Nat → Int32) (a9' : Nat → Int32) (a10' : Nat → Int64) (a11' : Nat → Int32) (a12' : Nat → Int32) (a13' : Nat → Int64) (a14' : Nat → Int64) (a15' : Nat → Int64) (a16' : Nat → Int64) (a17' : Nat → Int64), ap_ans b d e WT WB → (k < 2 → ap_sol b d e 3 4 1 ap_Lo ap_Hi WB WT t0 t1 t2 ∧ a13' 0 = ap_l t0 ∧ a13' 1 = ap_l t1 ∧ a13' 2 = ap_l t2) → post 1 (qpr, qwo', qrw', qtu', qun', qco', qfw', qwc', ap_l WT, ap_l WB, qln', qem', qhh', qht', qhb', qhl', qlt', qlb', qbr, ql3, qg3, a1, a2, a3, a4, a5', a6', a7', a8', a9', a10', a11', a12', a13', a14', a15', a16', a17', a18, a19)) :
    wpX_solveGoal post (qpr, qwo, qrw, qtu, qun, qco, qfw, qwc, qwt, qwb, qln, qem, qhh, qht, qhb, qhl, qlt, qlb, qbr, ql3, qg3, a1, a2, a3, a4, a5, a6, a7, a8, a9, a10, a11, a12, a13, a14, a15, a16, a17, a18, a19) (nI k) := by
  unfold wpX_solveGoal
  refine ap_askWhole (fun b5 b6 h5 h6 => ?_)
  refine ap_askGoal (g := ap_gl) (fun i h => ⟨hG.2 i h, ap_gl_b i h⟩) (fun b7 h7 => ?_)
  have h5' : ∀ i, i < 3 → b5 i = ap_i (ap_Lo i) ∧ 0 ≤ ap_Lo i ∧ ap_Lo i ≤ 20 := fun i h => ⟨h5 i h, by unfold ap_Lo; omega⟩
  have h6' : ∀ i, i < 3 → b6 i = ap_i (ap_Hi i) ∧ 0 ≤ ap_Hi i ∧ ap_Hi i ≤ 20 := fun i h => ⟨h6 i h, by unfold ap_Hi; omega⟩
  have hk' : k = 0 ∨ k = 1 ∨ k = 2 := by omega
  rcases hk' with ek | ek | ek
  · subst ek
    unfold wpX_solve
    refine br_t rfl ?_
    refine ap_e0 (lo := ap_Lo) (hi := ap_Hi) hG.1 rfl h5' h6' h7 (fun u W t0 t1 t2 qrw' qtu' qun' qco' qfw' qwc' a8' a9' a10' a11' a12' a13' hs k0 k1 k2 => ?_) (fun h => absurd (ap_p0 hb) (h 2 0 0 e (by decide)))
    exact ⟨rfl, rfl, H W u t0 t1 t2 _ _ _ _ _ _ _ _ _ _ _ _ _ _ _ _ _ _ _ _ _ _ _ _ _ _ _ _ (ap_sol_ans hb hs) (fun _ => ⟨hs, k0, k1, k2⟩)⟩
  · subst ek
    unfold wpX_solve
    refine br_f (by decide) (br_t rfl ?_)
    refine ap_e1 (lo := ap_Lo) (hi := ap_Hi) hG.1 rfl h5' h6' h7 (fun u W t0 t1 t2 qrw' qtu' qun' qco' qfw' qwc' a8' a9' a10' a11' a12' a13' hs k0 k1 k2 => ?_) (fun h => absurd (ap_p0 hb) (h 2 0 0 e (by decide)))
    exact ⟨rfl, rfl, H W u t0 t1 t2 _ _ _ _ _ _ _ _ _ _ _ _ _ _ _ _ _ _ _ _ _ _ _ _ _ _ _ _ (ap_sol_ans hb hs) (fun _ => ⟨hs, k0, k1, k2⟩)⟩
  · subst ek
    unfold wpX_solve
    refine br_f (by decide) (br_f (by decide) ?_)
    refine ap_e2 hb hG.1 rfl h5 h6 h7 (fun WT WB qrw' qtu' qln' qem' qhh' qht' qhb' qhl' qlt' qlb' a8' a9' a14' a15' a16' a17' ha => ?_)
    exact ⟨rfl, rfl, H WT WB 0 0 0 _ _ _ _ _ _ _ _ _ _ _ _ _ _ _ _ _ _ _ _ _ _ _ _ _ _ _ _ ha (fun z => absurd z (by omega))⟩
theorem ap_goal2 {post : Int32 → St2 → Prop} {k : Nat} (hk : k < 3) (hb : 1 ≤ b ∧ b ≤ 60) (hd : 1 ≤ d ∧ d ≤ 60) (hG : ap_g2 b d qpr a1 a2 a3 a4) (H : ∀ u', ap_U2 b d u' → post 0 u') : wpX_solveGoal post (qpr, qwo, qrw, qtu, qun, qco, qfw, qwc, qwt, qwb, qln, qem, qhh, qht, qhb, qhl, qlt, qlb, qbr, ql3, qg3, a1, a2, a3, a4, a5, a6, a7, a8, a9, a10, a11, a12, a13, a14, a15, a16, a17, a18, a19) (nI k) := by
  unfold wpX_solveGoal
  refine ap_askWhole (fun b5 b6 h5 h6 => ?_)
  refine ap_askGoal (g := ap_gl) (fun i h => ⟨hG.2 i h, ap_gl_b i h⟩) (fun b7 h7 => ?_)
  have hk' : k = 0 ∨ k = 1 ∨ k = 2 := by omega
  rcases hk' with ek | ek | ek
  · subst ek
    unfold wpX_solve
    refine br_t rfl ?_
    refine ap_e0_5 hG.1 rfl h5 h6 h7 (fun qrw' qtu' qun' qco' qfw' qwc' a8' a9' a10' a11' a12' => ⟨rfl, rfl, H _ hG⟩)
  · subst ek
    unfold wpX_solve
    refine br_f (by decide) (br_t rfl ?_)
    refine ap_e1_5 hG.1 rfl h5 h6 h7 (fun qrw' qtu' qun' qco' qfw' qwc' a8' a9' a10' a11' a12' => ⟨rfl, rfl, H _ hG⟩)
  · subst ek
    unfold wpX_solve
    refine br_f (by decide) (br_f (by decide) ?_)
    refine ap_e2_5 hb hd hG.1 rfl h5 h6 h7 (fun qrw' qtu' qln' qem' qhh' qht' qhb' qhl' qlt' qlb' a8' a9' a14' a15' a16' a17' => ⟨rfl, rfl, H _ hG⟩)
theorem ap_feasible1 {post : Int32 → St2 → Prop} {k : Nat} (hk : k < 3) (hb : ap_bde b d e) (hG : ap_g1 b d e qpr a1 a2 a3 a4) (H : ∀ u', ap_U1 b d e u' → post 1 u') : wpX_feasible post (qpr, qwo, qrw, qtu, qun, qco, qfw, qwc, qwt, qwb, qln, qem, qhh, qht, qhb, qhl, qlt, qlb, qbr, ql3, qg3, a1, a2, a3, a4, a5, a6, a7, a8, a9, a10, a11, a12, a13, a14, a15, a16, a17, a18, a19) (nI k) := by
  unfold wpX_feasible
  refine ap_isEng hk (br_f (by decide) ?_)
  refine ap_goal1 hk hb hG ?_
  intros
  exact br_f (by decide) (H _ hG)
theorem ap_feasible2 {post : Int32 → St2 → Prop} {k : Nat} (hk : k < 3) (hb : 1 ≤ b ∧ b ≤ 60) (hd : 1 ≤ d ∧ d ≤ 60) (hG : ap_g2 b d qpr a1 a2 a3 a4) (H : ∀ u', ap_U2 b d u' → post 0 u') : wpX_feasible post (qpr, qwo, qrw, qtu, qun, qco, qfw, qwc, qwt, qwb, qln, qem, qhh, qht, qhb, qhl, qlt, qlb, qbr, ql3, qg3, a1, a2, a3, a4, a5, a6, a7, a8, a9, a10, a11, a12, a13, a14, a15, a16, a17, a18, a19) (nI k) := by
  unfold wpX_feasible
  refine ap_isEng hk (br_f (by decide) ?_)
  refine ap_goal2 hk hb hd hG (fun u' h => ?_)
  obtain ⟨qpr, qwo, qrw, qtu, qun, qco, qfw, qwc, qwt, qwb, qln, qem, qhh, qht, qhb, qhl, qlt, qlb, qbr, ql3, qg3, a1, a2, a3, a4, a5, a6, a7, a8, a9, a10, a11, a12, a13, a14, a15, a16, a17, a18, a19⟩ := u'
  exact br_t rfl (H _ h)
theorem ap_bestTop1 {post : Int32 → St2 → Prop} {k : Nat} (hk : k < 3) (hb : ap_bde b d e) (hG : ap_g1 b d e qpr a1 a2 a3 a4) (H : ∀ u', ap_U1 b d e u' → post (ap_i (ap_tp (ap_q b d e) 30)) u') : wpX_bestTop post (qpr, qwo, qrw, qtu, qun, qco, qfw, qwc, qwt, qwb, qln, qem, qhh, qht, qhb, qhl, qlt, qlb, qbr, ql3, qg3, a1, a2, a3, a4, a5, a6, a7, a8, a9, a10, a11, a12, a13, a14, a15, a16, a17, a18, a19) (nI k) := by
  unfold wpX_bestTop
  refine ap_isEng hk (br_f (by decide) ?_)
  refine ap_goal1 hk hb hG ?_
  intro WT WB t0 t1 t2 qwo' qrw' qtu' qun' qco' qfw' qwc' qln' qem' qhh' qht' qhb' qhl' qlt' qlb' a5' a6' a7' a8' a9' a10' a11' a12' a13' a14' a15' a16' a17' ha _
  refine br_f (by decide) ?_
  obtain ⟨w1, w2, w3, w4⟩ := ha
  refine ap_topOf (by omega) (by omega) ?_
  rw [(ap_low w1 (by decide) w4).1]
  exact H _ hG
theorem ap_bestBot1 {post : Int32 → St2 → Prop} {k : Nat} (hk : k < 3) (hb : ap_bde b d e) (hG : ap_g1 b d e qpr a1 a2 a3 a4) (H : ∀ u', ap_U1 b d e u' → post (ap_i (ap_bm (ap_q b d e) 30)) u') : wpX_bestBottom post (qpr, qwo, qrw, qtu, qun, qco, qfw, qwc, qwt, qwb, qln, qem, qhh, qht, qhb, qhl, qlt, qlb, qbr, ql3, qg3, a1, a2, a3, a4, a5, a6, a7, a8, a9, a10, a11, a12, a13, a14, a15, a16, a17, a18, a19) (nI k) := by
  unfold wpX_bestBottom
  refine ap_isEng hk (br_f (by decide) ?_)
  refine ap_goal1 hk hb hG ?_
  intro WT WB t0 t1 t2 qwo' qrw' qtu' qun' qco' qfw' qwc' qln' qem' qhh' qht' qhb' qhl' qlt' qlb' a5' a6' a7' a8' a9' a10' a11' a12' a13' a14' a15' a16' a17' ha _
  refine br_f (by decide) ?_
  obtain ⟨w1, w2, w3, w4⟩ := ha
  refine ap_bottomOf (by omega) (by omega) ?_
  rw [(ap_low w1 (by decide) w4).2]
  exact H _ hG
theorem ap_bestTop2 {post : Int32 → St2 → Prop} {k : Nat} (hk : k < 3) (hb : 1 ≤ b ∧ b ≤ 60) (hd : 1 ≤ d ∧ d ≤ 60) (hG : ap_g2 b d qpr a1 a2 a3 a4) (H : ∀ u', ap_U2 b d u' → post (-30000000) u') : wpX_bestTop post (qpr, qwo, qrw, qtu, qun, qco, qfw, qwc, qwt, qwb, qln, qem, qhh, qht, qhb, qhl, qlt, qlb, qbr, ql3, qg3, a1, a2, a3, a4, a5, a6, a7, a8, a9, a10, a11, a12, a13, a14, a15, a16, a17, a18, a19) (nI k) := by
  unfold wpX_bestTop
  refine ap_isEng hk (br_f (by decide) ?_)
  refine ap_goal2 hk hb hd hG (fun u' h => ?_)
  obtain ⟨qpr, qwo, qrw, qtu, qun, qco, qfw, qwc, qwt, qwb, qln, qem, qhh, qht, qhb, qhl, qlt, qlb, qbr, ql3, qg3, a1, a2, a3, a4, a5, a6, a7, a8, a9, a10, a11, a12, a13, a14, a15, a16, a17, a18, a19⟩ := u'
  exact br_t rfl (H _ h)
theorem ap_pointTop1 {post : Int32 → St2 → Prop} {i : Nat} {q k : Int} (hi : i < 3) (hk : 0 < k) (hs : ∀ u W t0 t1 t2, ap_sol b d e 3 4 1 ap_Lo ap_Hi u W t0 t1 t2 → ap_sel i t0 t1 t2 * k = q * u) (hb : ap_bde b d e) (hG : ap_g1 b d e qpr a1 a2 a3 a4)
    (H : ∀ u', ap_U1 b d e u' → post (ap_i (ap_tp q k)) u') : wpX_pointTop post (qpr, qwo, qrw, qtu, qun, qco, qfw, qwc, qwt, qwb, qln, qem, qhh, qht, qhb, qhl, qlt, qlb, qbr, ql3, qg3, a1, a2, a3, a4, a5, a6, a7, a8, a9, a10, a11, a12, a13, a14, a15, a16, a17, a18, a19) (nI i) := by
  unfold wpX_pointTop
  refine ap_isAm hi (br_f (by decide) ?_)
  refine ap_goal1 (k := 0) (by decide) hb hG ?_
  intro WT WB t0 t1 t2 qwo' qrw' qtu' qun' qco' qfw' qwc' qln' qem' qhh' qht' qhb' qhl' qlt' qlb' a5' a6' a7' a8' a9' a10' a11' a12' a13' a14' a15' a16' a17' ha hsol
  obtain ⟨g1, g2, g3, g4⟩ := hsol (by decide)
  have hbd := ap_sol_bd g1
  have he := hs _ _ _ _ _ g1
  refine br_f (by decide) ⟨pk_in i 3 hi, ?_⟩
  rw [nI_clamp (by omega)]
  obtain ⟨w1, w2, w3, w4⟩ := ha
  have h13 : a13' i = ap_l (ap_sel i t0 t1 t2) := by
    rcases ap_3 hi with ei | ei | ei <;> subst ei
    · exact g2
    · exact g3
    · exact g4
  have hb13 : 0 ≤ ap_sel i t0 t1 t2 ∧ ap_sel i t0 t1 t2 ≤ 1280 := by
    rcases ap_3 hi with ei | ei | ei <;> subst ei
    · exact hbd.1
    · exact hbd.2.1
    · exact hbd.2.2
  rw [h13]
  refine ap_topOf (by omega) (by omega) ?_
  rw [(ap_low w1 hk he).1]
  exact H _ hG
theorem ap_pointBot1 {post : Int32 → St2 → Prop} {i : Nat} {q k : Int} (hi : i < 3) (hk : 0 < k) (hs : ∀ u W t0 t1 t2, ap_sol b d e 3 4 1 ap_Lo ap_Hi u W t0 t1 t2 → ap_sel i t0 t1 t2 * k = q * u) (hb : ap_bde b d e) (hG : ap_g1 b d e qpr a1 a2 a3 a4)
    (H : ∀ u', ap_U1 b d e u' → post (ap_i (ap_bm q k)) u') : wpX_pointBottom post (qpr, qwo, qrw, qtu, qun, qco, qfw, qwc, qwt, qwb, qln, qem, qhh, qht, qhb, qhl, qlt, qlb, qbr, ql3, qg3, a1, a2, a3, a4, a5, a6, a7, a8, a9, a10, a11, a12, a13, a14, a15, a16, a17, a18, a19) (nI i) := by
  unfold wpX_pointBottom
  refine ap_isAm hi (br_f (by decide) ?_)
  refine ap_goal1 (k := 1) (by decide) hb hG ?_
  intro WT WB t0 t1 t2 qwo' qrw' qtu' qun' qco' qfw' qwc' qln' qem' qhh' qht' qhb' qhl' qlt' qlb' a5' a6' a7' a8' a9' a10' a11' a12' a13' a14' a15' a16' a17' ha hsol
  obtain ⟨g1, g2, g3, g4⟩ := hsol (by decide)
  have hbd := ap_sol_bd g1
  have he := hs _ _ _ _ _ g1
  refine br_f (by decide) ⟨pk_in i 3 hi, ?_⟩
  rw [nI_clamp (by omega)]
  obtain ⟨w1, w2, w3, w4⟩ := ha
  have h13 : a13' i = ap_l (ap_sel i t0 t1 t2) := by
    rcases ap_3 hi with ei | ei | ei <;> subst ei
    · exact g2
    · exact g3
    · exact g4
  have hb13 : 0 ≤ ap_sel i t0 t1 t2 ∧ ap_sel i t0 t1 t2 ≤ 1280 := by
    rcases ap_3 hi with ei | ei | ei <;> subst ei
    · exact hbd.1
    · exact hbd.2.1
    · exact hbd.2.2
  rw [h13]
  refine ap_bottomOf (by omega) (by omega) ?_
  rw [(ap_low w1 hk he).2]
  exact H _ hG
theorem ap_pointTop2 {post : Int32 → St2 → Prop} {i : Nat} (hi : i < 3) (hb : 1 ≤ b ∧ b ≤ 60) (hd : 1 ≤ d ∧ d ≤ 60) (hG : ap_g2 b d qpr a1 a2 a3 a4) (H : ∀ u', ap_U2 b d u' → post (-30000000) u') : wpX_pointTop post (qpr, qwo, qrw, qtu, qun, qco, qfw, qwc, qwt, qwb, qln, qem, qhh, qht, qhb, qhl, qlt, qlb, qbr, ql3, qg3, a1, a2, a3, a4, a5, a6, a7, a8, a9, a10, a11, a12, a13, a14, a15, a16, a17, a18, a19) (nI i) := by
  unfold wpX_pointTop
  refine ap_isAm hi (br_f (by decide) ?_)
  refine ap_goal2 (k := 0) (by decide) hb hd hG (fun u' h => ?_)
  obtain ⟨qpr, qwo, qrw, qtu, qun, qco, qfw, qwc, qwt, qwb, qln, qem, qhh, qht, qhb, qhl, qlt, qlb, qbr, ql3, qg3, a1, a2, a3, a4, a5, a6, a7, a8, a9, a10, a11, a12, a13, a14, a15, a16, a17, a18, a19⟩ := u'
  exact br_t rfl (H _ h)
theorem ap_tight2 {post : Int32 → St2 → Prop} (hb : 1 ≤ b ∧ b ≤ 60) (hd : 1 ≤ d ∧ d ≤ 60) (hG : ap_g2 b d qpr a1 a2 a3 a4) (H : ∀ u', ap_U2 b d u' → post (-30000000) u') : wpX_tight post (qpr, qwo, qrw, qtu, qun, qco, qfw, qwc, qwt, qwb, qln, qem, qhh, qht, qhb, qhl, qlt, qlb, qbr, ql3, qg3, a1, a2, a3, a4, a5, a6, a7, a8, a9, a10, a11, a12, a13, a14, a15, a16, a17, a18, a19) := by
  unfold wpX_tight
  refine ap_goal2 (k := 0) (by decide) hb hd hG (fun u' h => ?_)
  obtain ⟨qpr, qwo, qrw, qtu, qun, qco, qfw, qwc, qwt, qwb, qln, qem, qhh, qht, qhb, qhl, qlt, qlb, qbr, ql3, qg3, a1, a2, a3, a4, a5, a6, a7, a8, a9, a10, a11, a12, a13, a14, a15, a16, a17, a18, a19⟩ := u'
  exact br_t rfl (H _ h)
/-! reaches -/
theorem ap_reach1 {post : Int32 → St2 → Prop} {i : Nat} (hi : i = 0 ∨ i = 2) (hb : ap_bde b d e) (hG : ap_g1 b d e qpr a1 a2 a3 a4)
    (H : ∀ (u t : Int) (qwo' : Int32) (qrw' : Int32) (qtu' : Int32) (qun' : Int64) (qco' : Int32) (qfw' : Int32) (qwc' : Int32) (qwt' : Int64) (a5' : Nat → Int32) (a6' : Nat → Int32) (a7' : Nat → Int32) (a8' : Nat → Int32) (a9' : Nat → Int32) (a10' : Nat → Int64) (a11' : Nat → Int32) (a12' : Nat → Int32) (a13' : Nat → Int64), 0 < u → u ≤ 64 → (i = 0 → t = 0) → (i = 2 → 2 * t = u * e) → a13' i = ap_l t → post 1 (qpr, qwo', qrw', qtu', qun', qco', qfw', qwc', qwt', ap_l u, qln, qem, qhh, qht, qhb, qhl, qlt, qlb, qbr, ql3, qg3, a1, a2, a3, a4, a5', a6', a7', a8', a9', a10', a11', a12', a13', a14, a15, a16, a17, a18, a19)) :
    wpX_solveReach post (qpr, qwo, qrw, qtu, qun, qco, qfw, qwc, qwt, qwb, qln, qem, qhh, qht, qhb, qhl, qlt, qlb, qbr, ql3, qg3, a1, a2, a3, a4, a5, a6, a7, a8, a9, a10, a11, a12, a13, a14, a15, a16, a17, a18, a19) (nI i) 0 := by
  unfold wpX_solveReach
  refine ap_askWhole (fun b5 b6 h5 h6 => br_t rfl ?_)
  unfold wX_solveReach_15
  refine ap_askAmount (k := i) (s := -1) (by omega) (by decide) (fun b7 h7 => ?_)
  unfold wpX_solve
  refine br_f (by decide) (br_t rfl ?_)
  rcases hi with ei | ei
  · subst ei
    refine ap_e1_3 hG.1 rfl h5 h6 h7 (ap_p0 hb) (fun u W qrw' qtu' qun' qco' qfw' qwc' a8' a9' a10' a11' a12' a13' u1 u2 h => ⟨rfl, rfl, H u 0 _ _ _ _ _ _ _ _ _ _ _ _ _ _ _ _ _ u1 u2 (fun _ => rfl) (fun z => absurd z (by decide)) h⟩)
  · subst ei
    refine ap_e1_2 hG.1 rfl h5 h6 h7 (ap_p0 hb) (fun u W t qrw' qtu' qun' qco' qfw' qwc' a8' a9' a10' a11' a12' a13' u1 u2 h2 h => ⟨rfl, rfl, H u t _ _ _ _ _ _ _ _ _ _ _ _ _ _ _ _ _ u1 u2 (fun z => absurd z (by decide)) (fun _ => h2) h⟩)
theorem ap_reachTop2 {post : Int32 → St2 → Prop} (hb : ap_bde b d e) (hG : ap_g1 b d e qpr a1 a2 a3 a4) (H : ∀ u', ap_U1 b d e u' → post (ap_i (ap_tp e 2)) u') : wpX_reachTop post (qpr, qwo, qrw, qtu, qun, qco, qfw, qwc, qwt, qwb, qln, qem, qhh, qht, qhb, qhl, qlt, qlb, qbr, ql3, qg3, a1, a2, a3, a4, a5, a6, a7, a8, a9, a10, a11, a12, a13, a14, a15, a16, a17, a18, a19) 2 0 := by
  unfold wpX_reachTop
  refine ap_isAm (k := 2) (by decide) (br_f (by decide) (br_f (by decide) (br_t (by decide) ?_)))
  refine ap_reach1 (i := 2) (Or.inr rfl) hb hG (fun u t qwo' qrw' qtu' qun' qco' qfw' qwc' qwt' a5' a6' a7' a8' a9' a10' a11' a12' a13' u1 u2 _ h2 h13 => ?_)
  have ht := h2 rfl
  have hbb := hb.2.2
  have hm := ap_mul_bd (A := 64) (B := 40) (by decide) (by decide) (show -64 ≤ u ∧ u ≤ 64 by omega) (show -40 ≤ e ∧ e ≤ 40 by omega)
  refine br_f (by decide) ⟨pk_in 2 3 (by decide), ?_⟩
  have e13 : a13' (2 : Int32).toNatClampNeg = ap_l t := h13
  rw [e13]
  refine ap_topOf (by omega) (by omega) ?_
  rw [(ap_low (q := e) (k := 2) u1 (by decide) (by rw [Int.mul_comm e]; omega)).1]
  exact H _ hG
theorem ap_reachBot2 {post : Int32 → St2 → Prop} (hb : ap_bde b d e) (hG : ap_g1 b d e qpr a1 a2 a3 a4) (H : ∀ u', ap_U1 b d e u' → post (ap_i (ap_bm e 2)) u') : wpX_reachBottom post (qpr, qwo, qrw, qtu, qun, qco, qfw, qwc, qwt, qwb, qln, qem, qhh, qht, qhb, qhl, qlt, qlb, qbr, ql3, qg3, a1, a2, a3, a4, a5, a6, a7, a8, a9, a10, a11, a12, a13, a14, a15, a16, a17, a18, a19) 2 0 := by
  unfold wpX_reachBottom
  refine ap_isAm (k := 2) (by decide) (br_f (by decide) (br_f (by decide) (br_t (by decide) ?_)))
  refine ap_reach1 (i := 2) (Or.inr rfl) hb hG (fun u t qwo' qrw' qtu' qun' qco' qfw' qwc' qwt' a5' a6' a7' a8' a9' a10' a11' a12' a13' u1 u2 _ h2 h13 => ?_)
  have ht := h2 rfl
  have hbb := hb.2.2
  have hm := ap_mul_bd (A := 64) (B := 40) (by decide) (by decide) (show -64 ≤ u ∧ u ≤ 64 by omega) (show -40 ≤ e ∧ e ≤ 40 by omega)
  refine br_f (by decide) ⟨pk_in 2 3 (by decide), ?_⟩
  have e13 : a13' (2 : Int32).toNatClampNeg = ap_l t := h13
  rw [e13]
  refine ap_bottomOf (by omega) (by omega) ?_
  rw [(ap_low (q := e) (k := 2) u1 (by decide) (by rw [Int.mul_comm e]; omega)).2]
  exact H _ hG
theorem ap_reachTop0 {post : Int32 → St2 → Prop} (hb : ap_bde b d e) (hG : ap_g1 b d e qpr a1 a2 a3 a4) (H : ∀ u', ap_U1 b d e u' → post 0 u') : wpX_reachTop post (qpr, qwo, qrw, qtu, qun, qco, qfw, qwc, qwt, qwb, qln, qem, qhh, qht, qhb, qhl, qlt, qlb, qbr, ql3, qg3, a1, a2, a3, a4, a5, a6, a7, a8, a9, a10, a11, a12, a13, a14, a15, a16, a17, a18, a19) 0 0 := by
  unfold wpX_reachTop
  refine ap_isAm (k := 0) (by decide) (br_f (by decide) (br_f (by decide) (br_t (by decide) ?_)))
  refine ap_reach1 (i := 0) (Or.inl rfl) hb hG (fun u t qwo' qrw' qtu' qun' qco' qfw' qwc' qwt' a5' a6' a7' a8' a9' a10' a11' a12' a13' u1 u2 h1 _ h13 => ?_)
  have ht := h1 rfl
  subst ht
  refine br_f (by decide) ⟨pk_in 0 3 (by decide), ?_⟩
  have e13 : a13' (0 : Int32).toNatClampNeg = ap_l 0 := h13
  rw [e13]
  refine ap_topOf (by omega) (by omega) ?_
  have e0 : ap_tp 0 u = 0 := by
    unfold ap_tp
    exact Int.zero_ediv _
  rw [e0]
  exact H _ hG
theorem ap_reachTopN {post : Int32 → St2 → Prop} (hG : ap_g2 b d qpr a1 a2 a3 a4) (H : ∀ u', ap_U2 b d u' → post (-30000000) u') : wpX_reachTop post (qpr, qwo, qrw, qtu, qun, qco, qfw, qwc, qwt, qwb, qln, qem, qhh, qht, qhb, qhl, qlt, qlb, qbr, ql3, qg3, a1, a2, a3, a4, a5, a6, a7, a8, a9, a10, a11, a12, a13, a14, a15, a16, a17, a18, a19) 0 1 := by
  unfold wpX_reachTop
  refine ap_isAm (k := 0) (by decide) (br_f (by decide) (br_f (by decide) (br_t (by decide) ?_)))
  unfold wpX_solveReach
  refine ap_askWhole (fun b5 b6 h5 h6 => br_f (by decide) ?_)
  unfold wX_solveReach_15
  refine ap_askAmount (k := 0) (s := 1) (by decide) (by decide) (fun b7 h7 => ?_)
  unfold wpX_solve
  refine br_f (by decide) (br_t rfl ?_)
  refine ap_e1_4 hG.1 rfl h5 h6 h7 (fun qrw' qtu' qun' qco' qfw' qwc' a8' a9' a10' a11' a12' => ⟨rfl, rfl, br_t rfl (H _ hG)⟩)
end
end
section
/-! conditions and goal -/
def ap_dg (n i : Nat) : Int := (((if i = 0 then n else if i = 1 then n / 15 else n / 225) % 15 : Nat) : Int) - 7
theorem ap_dg_b (n i : Nat) : -7 ≤ ap_dg n i ∧ ap_dg n i ≤ 7 := by
  unfold ap_dg
  omega
theorem ap_rem7 {m : Nat} (h : m < 2 ^ 31) : (nI m - nI m / 15 * 15) - 7 = ap_i (((m % 15 : Nat) : Int) - 7) := by
  have e : nI m - nI m / 15 * 15 = nI (m % 15) := pk_rem (d := 15) h (by decide) (by decide)
  rw [e, ap_i_nat]
  exact ap_i_sub _ 7
theorem ap_numberOf {post : Int32 → Prop} {n i : Nat} (hn : n < 3375) (hi : i < 3) (hp : post (ap_i (ap_dg n i))) : wpX_numberOf post () (nI n) (nI i) := by
  unfold wpX_numberOf
  rcases ap_3 hi with e | e | e <;> subst e
  · refine br_t rfl ⟨by decide, ?_⟩
    rw [ap_rem7 (by omega)]
    exact hp
  · refine br_f (by decide) (br_t rfl ⟨by decide, nm_r (e' := nI (n / 15)) (pk_div (d := 15) (by omega) (by decide) (by decide)) ⟨by decide, ?_⟩⟩)
    rw [ap_rem7 (by omega)]
    exact hp
  · refine br_f (by decide) (br_f (by decide) ⟨by decide, nm_r (e' := nI (n / 225)) (pk_div (d := 225) (by omega) (by decide) (by decide)) ⟨by decide, ?_⟩⟩)
    rw [ap_rem7 (by omega)]
    exact hp
theorem ap_setb : ∀ P, P < 32 → ∀ k, k < 5 → Nat.testBit P k = false → nI P ||| ((1 : Int32) <<< (nI k &&& 31)) = nI (P + 2 ^ k) := by decide +kernel
section
variable {qpr : Int32} {qwo : Int32} {qrw : Int32} {qtu : Int32} {qun : Int64} {qco : Int32} {qfw : Int32} {qwc : Int32} {qwt : Int64} {qwb : Int64} {qln : Int32} {qem : Int32} {qhh : Int32} {qht : Int64} {qhb : Int64} {qhl : Int32} {qlt : Int64} {qlb : Int64} {qbr : Int32} {ql3 : Int32} {qg3 : Int32} {a1 : Nat → Int32} {a2 : Nat → Int32} {a3 : Nat → Int32} {a4 : Nat → Int32} {a5 : Nat → Int32} {a6 : Nat → Int32} {a7 : Nat → Int32} {a8 : Nat → Int32} {a9 : Nat → Int32} {a10 : Nat → Int64} {a11 : Nat → Int32} {a12 : Nat → Int32} {a13 : Nat → Int64} {a14 : Nat → Int64} {a15 : Nat → Int64} {a16 : Nat → Int64} {a17 : Nat → Int64} {a18 : Nat → Int32} {a19 : Nat → Int32}
theorem ap_goalM {post : Int32 → St2 → Prop} {n : Nat} (hn : n < 3375) (H : ∀ (a4' : Nat → Int32), (∀ i, i < 3 → a4' i = ap_i (ap_dg n i)) → post 1 (qpr, qwo, qrw, qtu, qun, qco, qfw, qwc, qwt, qwb, qln, qem, qhh, qht, qhb, qhl, qlt, qlb, qbr, ql3, qg3, a1, a2, a3, a4', a5, a6, a7, a8, a9, a10, a11, a12, a13, a14, a15, a16, a17, a18, a19)) : wpX_goal post (qpr, qwo, qrw, qtu, qun, qco, qfw, qwc, qwt, qwb, qln, qem, qhh, qht, qhb, qhl, qlt, qlb, qbr, ql3, qg3, a1, a2, a3, a4, a5, a6, a7, a8, a9, a10, a11, a12, a13, a14, a15, a16, a17, a18, a19) (nI n) := by
  unfold wpX_goal
  refine br_f (nI_pos (by omega)) (br_t (nI_lt (b := 3375) hn (by decide)) ?_)
  refine pk_loop (fun q i t => wX_goal_15 post (nI n) qpr qwo qrw qtu qun qco qfw qwc qwt qwb qln qem qhh qht qhb qhl qlt qlb qbr ql3 qg3 q (nI i) a1 a2 a3 t a5 a6 a7 a8 a9 a10 a11 a12 a13 a14 a15 a16 a17 a18 a19) (fun i t => ∀ j, j < i → t j = ap_i (ap_dg n j)) 3 0 a4 (by omega) (fun j hj => absurd hj (by omega)) ?_ ?_
  · intro q t h
    exact pk_le 3 3 (fun _ => H _ h) (fun z => absurd z (by omega))
  · intro q i t hi h hs
    refine pk_le 3 i (fun z => absurd z (by omega)) (fun _ => ?_)
    refine ap_numberOf hn hi ⟨pk_in i 3 hi, nm_r (e' := upd t i (ap_i (ap_dg n i))) (by rw [nI_clamp (by omega), ap_nb (by have := ap_dg_b n i; omega)]) (nm_r (nI_1 i) (hs _ (fun j hj => ?_)))⟩
    by_cases e : j = i
    · rw [e, pk_us]
    · rw [pk_un e]; exact h j (by omega)
theorem ap_addM {post : Int32 → St2 → Prop} {n P k : Nat} {kd bv : Int} {xk xb : Int32} (hxk : xk = ap_i kd) (hxb : xb = ap_i bv) (hn : n < 3375) (hpr : qpr = nI P) (hP : P < 32) (hk : k < 5) (hfull : ∀ j, j < k → Nat.testBit P j = true) (hfree : Nat.testBit P k = false) (hkd : 0 ≤ kd ∧ kd ≤ 2) (hbv : -99 ≤ bv ∧ bv ≤ 99)
    (H : ∀ (a1' : Nat → Int32) (a2' : Nat → Int32) (a3' : Nat → Int32), (∀ i, i < 3 → a1' (k * 3 + i) = ap_i (ap_dg n i)) → (∀ j, (j < k * 3 ∨ k * 3 + 3 ≤ j) → a1' j = a1 j) → a2' k = ap_i kd → (∀ j, j ≠ k → a2' j = a2 j) → a3' k = ap_i bv → (∀ j, j ≠ k → a3' j = a3 j) → post (nI k) (nI (P + 2 ^ k), qwo, qrw, qtu, qun, qco, qfw, qwc, qwt, qwb, qln, qem, qhh, qht, qhb, qhl, qlt, qlb, qbr, ql3, qg3, a1', a2', a3', a4, a5, a6, a7, a8, a9, a10, a11, a12, a13, a14, a15, a16, a17, a18, a19)) :
    wpX_add post (qpr, qwo, qrw, qtu, qun, qco, qfw, qwc, qwt, qwb, qln, qem, qhh, qht, qhb, qhl, qlt, qlb, qbr, ql3, qg3, a1, a2, a3, a4, a5, a6, a7, a8, a9, a10, a11, a12, a13, a14, a15, a16, a17, a18, a19) (nI n) xk xb := by
  subst hxk hxb
  unfold wpX_add
  refine br_f (nI_pos (by omega)) (br_f (nI_ge (b := 3375) hn (by decide)) ?_)
  refine ap_ilt kd 0 rfl rfl (fun z => absurd z (by omega)) (fun _ => ?_)
  refine ap_ilt 2 kd rfl rfl (fun z => absurd z (by omega)) (fun _ => ?_)
  refine ap_ilt bv (-99) rfl rfl (fun z => absurd z (by omega)) (fun _ => ?_)
  refine ap_ile bv 99 rfl rfl (fun _ => ?_) (fun z => absurd z (by omega))
  refine pk_loop (σ := Unit) (fun q j _ => wX_add_38 post (nI n) (ap_i kd) (ap_i bv) qpr qwo qrw qtu qun qco qfw qwc qwt qwb qln qem qhh qht qhb qhl qlt qlb qbr ql3 qg3 a1 a2 a3 a4 a5 a6 a7 a8 a9 a10 a11 a12 a13 a14 a15 a16 a17 a18 a19 q (nI j)) (fun _ _ => True) k 0 () (by omega) trivial ?_ ?_
  · intro q _ _
    refine pk_le 5 k (fun z => absurd z (by omega)) (fun _ => ?_)
    refine ap_has hk hpr hP (ap_b0 (fun _ => ?_) (fun z => by rw [hfree] at z; exact Bool.noConfusion z))
    have vk : vp_in (nI k) 5 := pk_in k 5 hk
    refine nm_r (e' := nI (P + 2 ^ k)) (by rw [hpr]; exact ap_setb P hP k hk hfree) ⟨vk, nm_r (e' := upd a2 k (ap_i kd)) (by rw [nI_clamp (by omega), ap_nb (by omega)]) ⟨vk, nm_r (e' := upd a3 k (ap_i bv)) (by rw [nI_clamp (by omega), ap_nb (by omega)]) ?_⟩⟩
    refine pk_loop (fun q i t => wX_add_87 post (nI n) (nI k) (nI (P + 2 ^ k)) qwo qrw qtu qun qco qfw qwc qwt qwb qln qem qhh qht qhb qhl qlt qlb qbr ql3 qg3 q (nI i) t (upd a2 k (ap_i kd)) (upd a3 k (ap_i bv)) a4 a5 a6 a7 a8 a9 a10 a11 a12 a13 a14 a15 a16 a17 a18 a19) (fun i t => (∀ j, j < i → t (k * 3 + j) = ap_i (ap_dg n j)) ∧ ∀ j, (j < k * 3 ∨ k * 3 + 3 ≤ j) → t j = a1 j) 3 0 a1 (by omega) ⟨fun j hj => absurd hj (by omega), fun j _ => rfl⟩ ?_ ?_
    · intro g t h
      refine pk_le 3 3 (fun _ => H _ _ _ h.1 h.2 pk_us (fun j hj => pk_un hj) pk_us (fun j hj => pk_un hj)) (fun z => absurd z (by omega))
    · intro g i t hi h hs
      refine pk_le 3 i (fun z => absurd z (by omega)) (fun _ => ?_)
      refine ap_numberOf hn hi ⟨pk_in (k * 3 + i) 15 (by omega) (ap_ix3 k i), nm_r (e' := upd t (k * 3 + i) (ap_i (ap_dg n i))) (by rw [ap_ix3, nI_clamp (by omega), ap_nb (by have := ap_dg_b n i; omega)]) (nm_r (nI_1 i) (hs _ ⟨fun j hj => ?_, fun j hj => ?_⟩))⟩
      · by_cases e : j = i
        · rw [e, pk_us]
        · rw [pk_un (by omega)]; exact h.1 j (by omega)
      · rw [pk_un (by omega)]; exact h.2 j hj
  · intro q j _ hj _ hs
    refine pk_le 5 j (fun z => absurd z (by omega)) (fun _ => ?_)
    exact ap_has (by omega) hpr hP (ap_b0 (fun z => by rw [hfull j hj] at z; exact Bool.noConfusion z) (fun _ => nm_r (nI_1 j) (hs () trivial)))
theorem ap_addFull {post : Int32 → St2 → Prop} {n : Nat} {kd bv : Int} {xk xb : Int32} (hxk : xk = ap_i kd) (hxb : xb = ap_i bv) (hn : n < 3375) (hpr : qpr = nI 31) (hkd : 0 ≤ kd ∧ kd ≤ 2) (hbv : -99 ≤ bv ∧ bv ≤ 99) (H : post (-20000000) (qpr, qwo, qrw, qtu, qun, qco, qfw, qwc, qwt, qwb, qln, qem, qhh, qht, qhb, qhl, qlt, qlb, qbr, ql3, qg3, a1, a2, a3, a4, a5, a6, a7, a8, a9, a10, a11, a12, a13, a14, a15, a16, a17, a18, a19)) : wpX_add post (qpr, qwo, qrw, qtu, qun, qco, qfw, qwc, qwt, qwb, qln, qem, qhh, qht, qhb, qhl, qlt, qlb, qbr, ql3, qg3, a1, a2, a3, a4, a5, a6, a7, a8, a9, a10, a11, a12, a13, a14, a15, a16, a17, a18, a19) (nI n) xk xb := by
  subst hxk hxb
  unfold wpX_add
  refine br_f (nI_pos (by omega)) (br_f (nI_ge (b := 3375) hn (by decide)) ?_)
  refine ap_ilt kd 0 rfl rfl (fun z => absurd z (by omega)) (fun _ => ?_)
  refine ap_ilt 2 kd rfl rfl (fun z => absurd z (by omega)) (fun _ => ?_)
  refine ap_ilt bv (-99) rfl rfl (fun z => absurd z (by omega)) (fun _ => ?_)
  refine ap_ile bv 99 rfl rfl (fun _ => ?_) (fun z => absurd z (by omega))
  have hall : ∀ j, j < 5 → Nat.testBit 31 j = true := by decide
  refine pk_loop (σ := Unit) (fun q j _ => wX_add_38 post (nI n) (ap_i kd) (ap_i bv) qpr qwo qrw qtu qun qco qfw qwc qwt qwb qln qem qhh qht qhb qhl qlt qlb qbr ql3 qg3 a1 a2 a3 a4 a5 a6 a7 a8 a9 a10 a11 a12 a13 a14 a15 a16 a17 a18 a19 q (nI j)) (fun _ _ => True) 5 0 () (by omega) trivial ?_ ?_
  · intro q _ _
    exact pk_le 5 5 (fun _ => H) (fun z => absurd z (by omega))
  · intro q j _ hj _ hs
    refine pk_le 5 j (fun z => absurd z (by omega)) (fun _ => ?_)
    exact ap_has hj hpr (by decide) (ap_b0 (fun z => by rw [hall j hj] at z; exact Bool.noConfusion z) (fun _ => nm_r (nI_1 j) (hs () trivial)))
theorem ap_remove3 {post : Int32 → St2 → Prop} (hpr : qpr = nI 15) (H : post 1 (nI 7, qwo, qrw, qtu, qun, qco, qfw, qwc, qwt, qwb, qln, qem, qhh, qht, qhb, qhl, qlt, qlb, qbr, ql3, qg3, a1, a2, a3, a4, a5, a6, a7, a8, a9, a10, a11, a12, a13, a14, a15, a16, a17, a18, a19)) : wpX_remove post (qpr, qwo, qrw, qtu, qun, qco, qfw, qwc, qwt, qwb, qln, qem, qhh, qht, qhb, qhl, qlt, qlb, qbr, ql3, qg3, a1, a2, a3, a4, a5, a6, a7, a8, a9, a10, a11, a12, a13, a14, a15, a16, a17, a18, a19) 3 := by
  unfold wpX_remove
  refine ap_has (k := 3) (by decide) hpr (by decide) (ap_b0 (fun z => absurd z (by decide)) (fun _ => ?_))
  exact nm_r (e' := nI 7) (by rw [hpr]; decide) H
/-! data that adds leave -/
theorem ap_dat_add {P k n : Nat} {num : Nat → Nat → Int} {kind bnd : Nat → Int} {pr pr' : Int32} {a1 a2 a3 b1 b2 b3 : Nat → Int32} {num' : Nat → Nat → Int} {kind' bnd' : Nat → Int} (h : ap_dat P num kind bnd pr a1 a2 a3) (hk : k < 5) (hpr : pr' = nI (P + 2 ^ k)) (hP : P + 2 ^ k < 32)
    (h1 : ∀ i, i < 3 → b1 (k * 3 + i) = ap_i (ap_dg n i)) (h2 : ∀ j, (j < k * 3 ∨ k * 3 + 3 ≤ j) → b1 j = a1 j) (h3 : b2 k = ap_i (kind' k)) (h4 : ∀ j, j ≠ k → b2 j = a2 j) (h5 : b3 k = ap_i (bnd' k)) (h6 : ∀ j, j ≠ k → b3 j = a3 j)
    (hn : ∀ i, i < 3 → ap_dg n i = num' k i) (hkd : 0 ≤ kind' k ∧ kind' k ≤ 2) (hbd : -99 ≤ bnd' k ∧ bnd' k ≤ 99)
    (ho : ∀ j, j < 5 → j ≠ k → Nat.testBit (P + 2 ^ k) j = true → Nat.testBit P j = true ∧ (∀ i, i < 3 → num' j i = num j i) ∧ kind' j = kind j ∧ bnd' j = bnd j) : ap_dat (P + 2 ^ k) num' kind' bnd' pr' b1 b2 b3 := by
  refine ⟨hpr, hP, fun j hj ht => ?_⟩
  by_cases e : j = k
  · subst e
    refine ⟨fun i hi => ⟨?_, ?_⟩, ⟨h3, hkd⟩, ⟨h5, hbd⟩⟩
    · rw [h1 i hi, hn i hi]
    · rw [← hn i hi]; exact ap_dg_b n i
  · obtain ⟨o1, o2, o3, o4⟩ := ho j hj e ht
    obtain ⟨g1, g2, g3⟩ := h.2.2 j hj o1
    refine ⟨fun i hi => ?_, ?_, ?_⟩
    · rw [h2 _ (by omega), o2 i hi]; exact g1 i hi
    · rw [h4 j e, o3]; exact g2
    · rw [h6 j e, o4]; exact g3
/-! redundant conditions -/
variable {b d e : Int}
theorem ap_red29 {post : Int32 → St2 → Prop} (h2 : a2 2 = 0) (H : post 1 (qpr, qwo, qrw, qtu, qun, qco, qfw, qwc, qwt, qwb, qln, qem, qhh, qht, qhb, qhl, qlt, qlb, qbr, ql3, qg3, a1, a2, a3, a4, a5, a6, a7, a8, a9, a10, a11, a12, a13, a14, a15, a16, a17, a18, a19)) : wX_redundant_29 post 2 qpr qwo qrw qtu qun qco qfw qwc qwt qwb qln qem qhh qht qhb qhl qlt qlb qbr ql3 qg3 a1 a2 a3 a4 a5 a6 a7 a8 a9 a10 a11 a12 a13 a14 a15 a16 a17 a18 a19 := by
  have ea2 : a2 (2 : Int32).toNatClampNeg = 0 := h2
  unfold wX_redundant_29 wX_redundant_34
  exact br_f (by decide) ⟨pk_in 2 5 (by decide), br_t ea2 H⟩
theorem ap_redundant2 {post : Int32 → St2 → Prop} (hG : ap_g1 b d e qpr a1 a2 a3 a4) (H : ∀ u', ap_U1 b d e u' → post 1 u') : wpX_redundant post (qpr, qwo, qrw, qtu, qun, qco, qfw, qwc, qwt, qwb, qln, qem, qhh, qht, qhb, qhl, qlt, qlb, qbr, ql3, qg3, a1, a2, a3, a4, a5, a6, a7, a8, a9, a10, a11, a12, a13, a14, a15, a16, a17, a18, a19) 2 := by
  obtain ⟨g1, g2, g3⟩ := hG.1.2.2 2 (by decide) (by decide)
  have ea2 : a2 (2 : Int32).toNatClampNeg = 0 := g2.1
  have ea3 : a3 (2 : Int32).toNatClampNeg = ap_i 80 := g3.1
  unfold wpX_redundant
  refine ap_has (k := 2) (by decide) hG.1.1 (by decide) (ap_b0 (fun z => absurd z (by decide)) (fun _ => ⟨pk_in 2 5 (by decide), ?_⟩))
  refine br_f (by rw [ea2]; decide) ?_
  unfold wpX_staysWithin
  refine ap_askWhole (fun b5 b6 h5 h6 => ?_)
  refine ap_askCond (k := 2) (s := 1) (num := ap_nu1) (by decide) (Or.inl rfl) g1 (fun b7 h7 => ?_)
  unfold wpX_solve
  refine br_t rfl ?_
  refine ap_e0_2 hG.1 rfl h5 h6 h7 (fun u W qrw' qtu' qun' qco' qfw' qwc' a8' a9' a10' a11' a12' a13' u1 u2 w1 w2 => ⟨rfl, br_f (by decide) ⟨pk_in 2 5 (by decide), ?_⟩⟩) (fun qrw' qtu' qun' qco' qfw' qwc' a8' a9' a10' a11' a12' => ⟨rfl, br_t rfl (br_f (by decide) (ap_red29 g2.1 (H _ hG)))⟩)
  rw [ea3]
  refine ap_llt (1 * 80 * u) W (by rw [show (1 : Int32) = ap_i 1 from rfl, ap_i_mul, ap_il (by decide), ap_l_mul]) rfl (fun z => absurd z (by omega)) (fun _ => br_f (by decide) (ap_red29 g2.1 (H _ hG)))
theorem ap_stays3 {post : Int32 → St2 → Prop} {s : Int} {xs : Int32} (hxs : xs = ap_i s) (hs : s = 1 ∨ s = -1) (hb : ap_bde b d e) (hG : ap_g1 b d e qpr a1 a2 a3 a4)
    (H : ∀ (u W : Int) u', ap_U1 b d e u' → 0 < u → (s = 1 → u * 40 ≤ W) → 0 ≤ W → post (ap_b (decide (W ≤ s * e * u))) u') : wpX_staysWithin post (qpr, qwo, qrw, qtu, qun, qco, qfw, qwc, qwt, qwb, qln, qem, qhh, qht, qhb, qhl, qlt, qlb, qbr, ql3, qg3, a1, a2, a3, a4, a5, a6, a7, a8, a9, a10, a11, a12, a13, a14, a15, a16, a17, a18, a19) 3 xs := by
  subst hxs
  obtain ⟨g1, g2, g3⟩ := hG.1.2.2 3 (by decide) (by decide)
  have ea3 : a3 (3 : Int32).toNatClampNeg = ap_i e := g3.1
  have hbe := hb.2.2
  unfold wpX_staysWithin
  refine ap_askWhole (fun b5 b6 h5 h6 => ?_)
  refine ap_askCond (k := 3) (s := s) (num := ap_nu1) (by decide) hs g1 (fun b7 h7 => ?_)
  unfold wpX_solve
  refine br_t rfl ?_
  refine ap_e0_3 hs (by have := hb.1; omega) (by have := hb.2.1; omega) hG.1 rfl h5 h6 h7 (fun u W qrw' qtu' qun' qco' qfw' qwc' a8' a9' a10' a11' a12' a13' u1 u2 w1 w2 w3 => ⟨rfl, br_f (by decide) ⟨pk_in 3 5 (by decide), ?_⟩⟩)
  rw [ea3]
  have hse := ap_sgn hs (show -40 ≤ e ∧ e ≤ 40 by omega)
  have hm := ap_mul_bd (A := 40) (B := 64) (by decide) (by decide) hse (show -64 ≤ u ∧ u ≤ 64 by omega)
  have HH := H u W ((qpr, 3, qrw', qtu', qun', qco', qfw', qwc', ap_l W, ap_l u, qln, qem, qhh, qht, qhb, qhl, qlt, qlb, qbr, ql3, qg3, a1, a2, a3, a4, b5, b6, b7, a8', a9', a10', a11', a12', a13', a14, a15, a16, a17, a18, a19)) hG u1 w2 w3
  refine ap_llt (s * e * u) W (by rw [ap_i_mul, ap_il (by omega), ap_l_mul]) rfl (fun z => ?_) (fun z => ?_)
  · rw [decide_eq_false (by omega)] at HH
    exact HH
  · rw [decide_eq_true (by omega)] at HH
    exact HH
theorem ap_redundant3 {post : Int32 → St2 → Prop} (hb : ap_bde b d e) (hG : ap_g1 b d e qpr a1 a2 a3 a4) (H : ∀ u', ap_U1 b d e u' → post 0 u') : wpX_redundant post (qpr, qwo, qrw, qtu, qun, qco, qfw, qwc, qwt, qwb, qln, qem, qhh, qht, qhb, qhl, qlt, qlb, qbr, ql3, qg3, a1, a2, a3, a4, a5, a6, a7, a8, a9, a10, a11, a12, a13, a14, a15, a16, a17, a18, a19) 3 := by
  obtain ⟨g1, g2, g3⟩ := hG.1.2.2 3 (by decide) (by decide)
  have ea2 : a2 (3 : Int32).toNatClampNeg = 1 := g2.1
  have hbe := hb.2.2
  unfold wpX_redundant
  refine ap_has (k := 3) (by decide) hG.1.1 (by decide) (ap_b0 (fun z => absurd z (by decide)) (fun _ => ⟨pk_in 3 5 (by decide), ?_⟩))
  refine br_f (by rw [ea2]; decide) ?_
  refine ap_stays3 (s := 1) rfl (Or.inl rfl) hb hG (fun u W u' hU u1 w1 w2 => ?_)
  have w1' := w1 rfl
  obtain ⟨qpr, qwo, qrw, qtu, qun, qco, qfw, qwc, qwt, qwb, qln, qem, qhh, qht, qhb, qhl, qlt, qlb, qbr, ql3, qg3, a1, a2, a3, a4, a5, a6, a7, a8, a9, a10, a11, a12, a13, a14, a15, a16, a17, a18, a19⟩ := u'
  have hU' : ap_g1 b d e qpr a1 a2 a3 a4 := hU
  obtain ⟨k1, k2, k3⟩ := hU'.1.2.2 3 (by decide) (by decide)
  have fa2 : a2 (3 : Int32).toNatClampNeg = 1 := k2.1
  refine ap_b0 (fun _ => ?_) (fun z => ?_)
  · unfold wX_redundant_34
    exact br_t rfl (H _ hU)
  · have z' : W ≤ 1 * e * u := of_decide_eq_true z
    have he : 40 ≤ e := by
      rcases ap_lg e 40 with y | y
      · have m := Int.mul_le_mul_of_nonneg_right (show e ≤ 39 by omega) (Int.le_of_lt u1)
        rw [Int.one_mul] at z'
        omega
      · exact y
    unfold wX_redundant_29 wX_redundant_34
    refine br_f (by decide) ⟨pk_in 3 5 (by decide), br_f (by rw [fa2]; decide) ?_⟩
    refine ap_stays3 (s := -1) (by rfl) (Or.inr rfl) hb hU' (fun u2 W2 u'' hU2 v1 _ v3 => ?_)
    obtain ⟨qpr, qwo, qrw, qtu, qun, qco, qfw, qwc, qwt, qwb, qln, qem, qhh, qht, qhb, qhl, qlt, qlb, qbr, ql3, qg3, a1, a2, a3, a4, a5, a6, a7, a8, a9, a10, a11, a12, a13, a14, a15, a16, a17, a18, a19⟩ := u''
    refine ap_b0 (fun _ => H _ hU2) (fun z2 => ?_)
    have z3 : W2 ≤ -1 * e * u2 := of_decide_eq_true z2
    have m := Int.mul_le_mul_of_nonneg_right he (Int.le_of_lt v1)
    have e1 : -1 * e * u2 = -(e * u2) := by rw [Int.mul_assoc]; omega
    omega
/-! tight conditions -/
theorem ap_orb : ∀ k, k < 5 → ∀ a, a < 2 ^ k → nI a ||| ((1 : Int32) <<< (nI k &&& 31)) = nI (a + 2 ^ k) ∧ nI a ||| 0 = nI a := by decide +kernel
def ap_tb (P : Nat) (c : Nat → Bool) : Nat → Nat
  | 0 => 0
  | k + 1 => ap_tb P c k + (if Nat.testBit P k = true ∧ c k = true then 2 ^ k else 0)
theorem ap_tb_lt (P : Nat) (c : Nat → Bool) : ∀ k, ap_tb P c k < 2 ^ k
  | 0 => Nat.one_pos
  | k + 1 => by
    have := ap_tb_lt P c k
    show ap_tb P c k + (if Nat.testBit P k = true ∧ c k = true then 2 ^ k else 0) < 2 ^ (k + 1)
    rw [Nat.pow_succ]
    by_cases h : Nat.testBit P k = true ∧ c k = true
    · rw [if_pos h]; omega
    · rw [if_neg h]; omega
theorem ap_tight1 {post : Int32 → St2 → Prop} (hb : ap_bde b d e) (hG : ap_g1 b d e qpr a1 a2 a3 a4)
    (H : ∀ u W t0 t1 t2, ap_sol b d e 3 4 1 ap_Lo ap_Hi u W t0 t1 t2 → ∀ u', ap_U1 b d e u' → post (nI (ap_tb 15 (fun k => decide (ap_nu1 k 0 * t0 + ap_nu1 k 1 * t1 + ap_nu1 k 2 * t2 = ap_bo b d e k * u)) 5)) u') : wpX_tight post (qpr, qwo, qrw, qtu, qun, qco, qfw, qwc, qwt, qwb, qln, qem, qhh, qht, qhb, qhl, qlt, qlb, qbr, ql3, qg3, a1, a2, a3, a4, a5, a6, a7, a8, a9, a10, a11, a12, a13, a14, a15, a16, a17, a18, a19) := by
  unfold wpX_tight
  refine ap_goal1 (k := 0) (by decide) hb hG ?_
  intro WT WB t0 t1 t2 qwo' qrw' qtu' qun' qco' qfw' qwc' qln' qem' qhh' qht' qhb' qhl' qlt' qlb' a5' a6' a7' a8' a9' a10' a11' a12' a13' a14' a15' a16' a17' ha hsol
  obtain ⟨s1, s2, s3, s4⟩ := hsol (by decide)
  obtain ⟨w1, w2, w3, w4⟩ := ha
  have hbd := ap_sol_bd s1
  have hu2 := s1.2.1
  have HH := H _ _ _ _ _ s1 (qpr, qwo', qrw', qtu', qun', qco', qfw', qwc', ap_l WT, ap_l WB, qln', qem', qhh', qht', qhb', qhl', qlt', qlb', qbr, ql3, qg3, a1, a2, a3, a4, a5', a6', a7', a8', a9', a10', a11', a12', a13', a14', a15', a16', a17', a18, a19) hG
  revert HH
  generalize hc : (fun k => decide (ap_nu1 k 0 * t0 + ap_nu1 k 1 * t1 + ap_nu1 k 2 * t2 = ap_bo b d e k * WB)) = c
  intro HH
  refine br_f (by decide) ?_
  refine pk_loop (fun q k s => wX_tight_15 post qpr qwo' qrw' qtu' qun' qco' qfw' qwc' (ap_l WT) (ap_l WB) qln' qem' qhh' qht' qhb' qhl' qlt' qlb' qbr ql3 qg3 a1 a2 a3 a4 a5' a6' a7' a8' a9' a10' a11' a12' a13' a14' a15' a16' a17' a18 a19 q s (nI k)) (fun k s => s = nI (ap_tb 15 c k)) 5 0 0 (by omega) rfl ?_ ?_
  · intro q s hs
    subst hs
    exact pk_le 5 5 (fun _ => HH) (fun z => absurd z (by omega))
  · intro q k s hk hs hnext
    subst hs
    refine pk_le 5 k (fun z => absurd z (by omega)) (fun _ => ?_)
    have hlt := ap_tb_lt 15 c k
    have hor := ap_orb k hk (ap_tb 15 c k) hlt
    -- the sum, known for a present condition
    refine pk_loop (fun g i x => wX_tight_25 post (wX_tight_15 post qpr qwo' qrw' qtu' qun' qco' qfw' qwc' (ap_l WT) (ap_l WB) qln' qem' qhh' qht' qhb' qhl' qlt' qlb' qbr ql3 qg3 a1 a2 a3 a4 a5' a6' a7' a8' a9' a10' a11' a12' a13' a14' a15' a16' a17' a18 a19 q) (nI (ap_tb 15 c k)) (nI k) qpr qwo' qrw' qtu' qun' qco' qfw' qwc' (ap_l WT) (ap_l WB) qln' qem' qhh' qht' qhb' qhl' qlt' qlb' qbr ql3 qg3 a1 a2 a3 a4 a5' a6' a7' a8' a9' a10' a11' a12' a13' a14' a15' a16' a17' a18 a19 g x (nI i)) (fun i x => Nat.testBit 15 k = true → x = ap_l (ap_sum (fun j => ap_nu1 k j * ap_sel j t0 t1 t2) i)) 3 0 0 (by omega) (fun _ => rfl) ?_ ?_
    · intro g x hx
      refine pk_le 3 3 (fun _ => ?_) (fun z => absurd z (by omega))
      refine ap_has hk hG.1.1 (by decide) (ap_b0 (fun z => ?_) (fun z => ⟨pk_in k 5 hk, ?_⟩))
      · refine nm_r hor.2 (nm_r (nI_1 k) (hnext _ ?_))
        show _ = nI (ap_tb 15 c k + (if Nat.testBit 15 k = true ∧ c k = true then 2 ^ k else 0))
        rw [if_neg (by rw [z]; exact fun y => Bool.noConfusion y.1), Nat.add_zero]
      · obtain ⟨g1, g2, g3⟩ := hG.1.2.2 k hk z
        have hx' := hx z
        have n0 := (g1 0 (by decide)).2
        have n1 := (g1 1 (by decide)).2
        have n2 := (g1 2 (by decide)).2
        have m0 := ap_mul_bd (A := 7) (B := 1280) (by decide) (by decide) n0 (show -1280 ≤ t0 ∧ t0 ≤ 1280 by omega)
        have m1 := ap_mul_bd (A := 7) (B := 1280) (by decide) (by decide) n1 (show -1280 ≤ t1 ∧ t1 ≤ 1280 by omega)
        have m2 := ap_mul_bd (A := 7) (B := 1280) (by decide) (by decide) n2 (show -1280 ≤ t2 ∧ t2 ≤ 1280 by omega)
        have m3 := ap_mul_bd (A := 99) (B := 64) (by decide) (by decide) g3.2 (show -64 ≤ WB ∧ WB ≤ 64 by omega)
        have hsum : ap_sum (fun j => ap_nu1 k j * ap_sel j t0 t1 t2) 3 = ap_nu1 k 0 * t0 + ap_nu1 k 1 * t1 + ap_nu1 k 2 * t2 := ap_sum_3 _
        rw [hsum] at hx'
        refine ap_leq (ap_nu1 k 0 * t0 + ap_nu1 k 1 * t1 + ap_nu1 k 2 * t2) (ap_bo b d e k * WB) hx' (by rw [nI_clamp (by omega), g3.1, ap_il (by have := g3.2; omega), ap_l_mul]) (fun y => ?_) (fun y => ?_)
        · refine nm_r hor.1 (nm_r (nI_1 k) (hnext _ ?_))
          show _ = nI (ap_tb 15 c k + (if Nat.testBit 15 k = true ∧ c k = true then 2 ^ k else 0))
          rw [if_pos ⟨z, by rw [← hc]; exact decide_eq_true y⟩]
        · refine nm_r hor.2 (nm_r (nI_1 k) (hnext _ ?_))
          show _ = nI (ap_tb 15 c k + (if Nat.testBit 15 k = true ∧ c k = true then 2 ^ k else 0))
          rw [if_neg (fun w => by have h2 := w.2; rw [← hc] at h2; exact y (of_decide_eq_true h2)), Nat.add_zero]
    · intro g i x hi hx hs2
      refine pk_le 3 i (fun z => absurd z (by omega)) (fun _ => ⟨pk_in (k * 3 + i) 15 (by omega) (ap_ix3 k i), pk_in i 3 hi, nm_e (nm_r (nI_1 i) (hs2 _ (fun z => ?_)))⟩)
      obtain ⟨g1, g2, g3⟩ := hG.1.2.2 k hk z
      have n0 := g1 i hi
      have h13 : a13' i = ap_l (ap_sel i t0 t1 t2) := by
        rcases ap_3 hi with ei | ei | ei <;> subst ei
        · exact s2
        · exact s3
        · exact s4
      rw [ap_ix3, nI_clamp (by omega), nI_clamp (by omega), n0.1, h13, ap_il (by omega), ap_l_mul, hx z, ap_l_add]
      rfl
end
end
section
/-! counting whole points -/
def ap_nr (a r : Int) (p : Int × Int) : Int × Int := if a ≤ 0 then (if 0 ≤ a then (p.1, if 0 ≤ r then p.2 else -1) else (if -(r / -a) ≤ p.1 then p.1 else -(r / -a), p.2)) else (p.1, if p.2 ≤ r / a then p.2 else r / a)
theorem ap_div_bd {r a : Int} (ha : 0 < a) (h : -500 ≤ r ∧ r ≤ 500) : -500 ≤ r / a ∧ r / a ≤ 500 := by
  constructor
  · rw [Int.le_ediv_iff_mul_le ha]
    omega
  · have h1 := Int.ediv_le_ediv ha h.2
    have h2 := Int.ediv_le_self a (show (0 : Int) ≤ 500 by decide)
    omega
def ap_pbd (p : Int × Int) : Prop := (-1000 ≤ p.1 ∧ p.1 ≤ 1000) ∧ (-1000 ≤ p.2 ∧ p.2 ≤ 1000)
theorem ap_nr_bd {a r : Int} {p : Int × Int} (h : -500 ≤ r ∧ r ≤ 500) (hp : ap_pbd p) : ap_pbd (ap_nr a r p) := by
  unfold ap_nr ap_pbd at *
  by_cases h1 : a ≤ 0
  · rw [if_pos h1]
    by_cases h2 : 0 ≤ a
    · rw [if_pos h2]
      by_cases h3 : 0 ≤ r
      · rw [if_pos h3]; exact hp
      · rw [if_neg h3]; exact ⟨hp.1, by show (-1000 : Int) ≤ -1 ∧ (-1 : Int) ≤ 1000; decide⟩
    · rw [if_neg h2]
      have hd := ap_div_bd (r := r) (show 0 < -a by omega) h
      by_cases h3 : -(r / -a) ≤ p.1
      · rw [if_pos h3]; exact hp
      · rw [if_neg h3]
        exact ⟨by show -1000 ≤ -(r / -a) ∧ -(r / -a) ≤ 1000; omega, hp.2⟩
  · rw [if_neg h1]
    have hd := ap_div_bd (r := r) (show 0 < a by omega) h
    by_cases h3 : p.2 ≤ r / a
    · rw [if_pos h3]; exact hp
    · rw [if_neg h3]
      exact ⟨hp.1, by show -1000 ≤ r / a ∧ r / a ≤ 1000; omega⟩
def ap_rs (num : Nat → Nat → Int) (bnd : Nat → Int) (x y : Nat) (k : Nat) : Int := bnd k - num k 0 * x - num k 1 * y
def ap_ts (num : Nat → Nat → Int) (kind bnd : Nat → Int) (x y : Nat) (k : Nat) (p : Int × Int) : Int × Int :=
  (fun p' => if kind k = 0 then p' else ap_nr (- num k 2) (- ap_rs num bnd x y k) p') (if kind k = 2 then p else ap_nr (num k 2) (ap_rs num bnd x y k) p)
def ap_th (P : Nat) (num : Nat → Nat → Int) (kind bnd : Nat → Int) (x y : Nat) : Nat → Int × Int
  | 0 => (0, 20)
  | k + 1 => if Nat.testBit P k = true then ap_ts num kind bnd x y k (ap_th P num kind bnd x y k) else ap_th P num kind bnd x y k
def ap_ft (P : Nat) (num : Nat → Nat → Int) (kind bnd : Nat → Int) (x y : Nat) : Int := if (ap_th P num kind bnd x y 5).2 < (ap_th P num kind bnd x y 5).1 then 0 else (ap_th P num kind bnd x y 5).2 - (ap_th P num kind bnd x y 5).1 + 1
section
variable {qpr : Int32} {qwo : Int32} {qrw : Int32} {qtu : Int32} {qun : Int64} {qco : Int32} {qfw : Int32} {qwc : Int32} {qwt : Int64} {qwb : Int64} {qln : Int32} {qem : Int32} {qhh : Int32} {qht : Int64} {qhb : Int64} {qhl : Int32} {qlt : Int64} {qlb : Int64} {qbr : Int32} {ql3 : Int32} {qg3 : Int32} {a1 : Nat → Int32} {a2 : Nat → Int32} {a3 : Nat → Int32} {a4 : Nat → Int32} {a5 : Nat → Int32} {a6 : Nat → Int32} {a7 : Nat → Int32} {a8 : Nat → Int32} {a9 : Nat → Int32} {a10 : Nat → Int64} {a11 : Nat → Int32} {a12 : Nat → Int32} {a13 : Nat → Int64} {a14 : Nat → Int64} {a15 : Nat → Int64} {a16 : Nat → Int64} {a17 : Nat → Int64} {a18 : Nat → Int32} {a19 : Nat → Int32}
variable {P : Nat} {num : Nat → Nat → Int} {kind bnd : Nat → Int}
theorem ap_narrow {post : St2 → Prop} {a r : Int} {p : Int × Int} {x0 x1 : Int32} (hx0 : x0 = ap_i a) (hx1 : x1 = ap_i r) (ha : -7 ≤ a ∧ a ≤ 7) (hr : -500 ≤ r ∧ r ≤ 500) (hp : ap_pbd p) (h3 : ql3 = ap_i p.1) (hg : qg3 = ap_i p.2)
    (H : ∀ (ql3' : Int32) (qg3' : Int32), ql3' = ap_i (ap_nr a r p).1 → qg3' = ap_i (ap_nr a r p).2 → post (qpr, qwo, qrw, qtu, qun, qco, qfw, qwc, qwt, qwb, qln, qem, qhh, qht, qhb, qhl, qlt, qlb, qbr, ql3', qg3', a1, a2, a3, a4, a5, a6, a7, a8, a9, a10, a11, a12, a13, a14, a15, a16, a17, a18, a19)) : wpX_narrow post (qpr, qwo, qrw, qtu, qun, qco, qfw, qwc, qwt, qwb, qln, qem, qhh, qht, qhb, qhl, qlt, qlb, qbr, ql3, qg3, a1, a2, a3, a4, a5, a6, a7, a8, a9, a10, a11, a12, a13, a14, a15, a16, a17, a18, a19) x0 x1 := by
  subst hx0 hx1
  obtain ⟨hp1, hp2⟩ := hp
  unfold wpX_narrow
  refine ap_ile a 0 rfl rfl (fun z => ?_) (fun z => ?_)
  · refine ap_ile 0 a rfl rfl (fun z2 => ?_) (fun z2 => ?_)
    · have e : ap_nr a r p = (p.1, if 0 ≤ r then p.2 else -1) := by unfold ap_nr; rw [if_pos z, if_pos z2]
      rw [e] at H
      refine ap_ile 0 r rfl rfl (fun z3 => H _ _ h3 ?_) (fun z3 => H _ _ h3 ?_)
      · rw [if_pos z3]; exact hg
      · rw [if_neg (by omega)]; rfl
    · have e : ap_nr a r p = (if -(r / -a) ≤ p.1 then p.1 else -(r / -a), p.2) := by unfold ap_nr; rw [if_pos z, if_neg (by omega)]
      rw [e] at H
      have hd := ap_div_bd (r := r) (show 0 < -a by omega) hr
      rw [ap_il (by omega), ap_i_neg, ap_il (by omega)]
      refine ap_floor (by omega) (by omega) (by omega) ?_
      refine nm_r (e' := ap_i (-(r / -a))) (by rw [ap_l_neg, ap_li]) ?_
      refine ap_ile (-(r / -a)) p.1 rfl h3 (fun z3 => H _ _ ?_ hg) (fun z3 => H _ _ ?_ hg)
      · rw [if_pos z3]; exact h3
      · rw [if_neg (by omega)]
  · have e : ap_nr a r p = (p.1, if p.2 ≤ r / a then p.2 else r / a) := by unfold ap_nr; rw [if_neg (by omega)]
    rw [e] at H
    have hd := ap_div_bd (r := r) (show 0 < a by omega) hr
    rw [ap_il (by omega), ap_il (by omega)]
    refine ap_floor (by omega) (by omega) (by omega) ?_
    rw [ap_li]
    refine ap_ile p.2 (r / a) hg rfl (fun z3 => H _ _ h3 ?_) (fun z3 => H _ _ h3 ?_)
    · rw [if_pos z3]; exact hg
    · rw [if_neg (by omega)]
theorem ap_thirds {post : Int32 → St2 → Prop} {x y : Nat} (hx : x ≤ 20) (hy : y ≤ 20) (hD : ap_dat P num kind bnd qpr a1 a2 a3) (H : ∀ (ql3' : Int32) (qg3' : Int32), post (ap_i (ap_ft P num kind bnd x y)) (qpr, qwo, qrw, qtu, qun, qco, qfw, qwc, qwt, qwb, qln, qem, qhh, qht, qhb, qhl, qlt, qlb, qbr, ql3', qg3', a1, a2, a3, a4, a5, a6, a7, a8, a9, a10, a11, a12, a13, a14, a15, a16, a17, a18, a19)) : wpX_thirds post (qpr, qwo, qrw, qtu, qun, qco, qfw, qwc, qwt, qwb, qln, qem, qhh, qht, qhb, qhl, qlt, qlb, qbr, ql3, qg3, a1, a2, a3, a4, a5, a6, a7, a8, a9, a10, a11, a12, a13, a14, a15, a16, a17, a18, a19) (nI x) (nI y) := by
  unfold wpX_thirds
  refine pk_loop (fun q k s => wX_thirds_13 post (nI x) (nI y) q (nI k) qpr qwo qrw qtu qun qco qfw qwc qwt qwb qln qem qhh qht qhb qhl qlt qlb qbr s.1 s.2 a1 a2 a3 a4 a5 a6 a7 a8 a9 a10 a11 a12 a13 a14 a15 a16 a17 a18 a19) (fun k s => s.1 = ap_i (ap_th P num kind bnd x y k).1 ∧ s.2 = ap_i (ap_th P num kind bnd x y k).2 ∧ ap_pbd (ap_th P num kind bnd x y k)) 5 0 (0, 20) (by omega) ⟨rfl, rfl, by unfold ap_pbd ap_th; decide⟩ ?_ ?_
  · intro q s h
    refine pk_le 5 5 (fun _ => ?_) (fun z => absurd z (by omega))
    obtain ⟨h1, h2, h3, h4⟩ := h
    have HH := H s.1 s.2
    unfold ap_ft at HH
    refine ap_ilt (ap_th P num kind bnd x y 5).2 (ap_th P num kind bnd x y 5).1 h2 h1 (fun z => ?_) (fun z => ?_)
    · rw [if_pos z] at HH
      exact HH
    · rw [if_neg (by omega)] at HH
      rw [← ap_i_add, ← ap_i_sub, ← h1, ← h2] at HH
      exact HH
  · intro q k s hk h hs
    obtain ⟨h1, h2, h3⟩ := h
    refine pk_le 5 k (fun z => absurd z (by omega)) (fun _ => ?_)
    have hth : ap_th P num kind bnd x y (k + 1) = if Nat.testBit P k = true then ap_ts num kind bnd x y k (ap_th P num kind bnd x y k) else ap_th P num kind bnd x y k := rfl
    refine ap_has hk hD.1 hD.2.1 (ap_b0 (fun z => nm_r (nI_1 k) (hs s ?_)) (fun z => ?_))
    · rw [hth, if_neg (by rw [z]; exact fun w => Bool.noConfusion w)]
      exact ⟨h1, h2, h3⟩
    · rw [hth, if_pos z] at hs
      obtain ⟨d1, d2, d3⟩ := hD.2.2 k hk z
      have n0 := d1 0 (by decide)
      have n1 := d1 1 (by decide)
      have n2 := d1 2 (by decide)
      have i0 : nI k * 3 = nI (k * 3) := pk_mul k 3
      have i1 : nI k * 3 + 1 = nI (k * 3 + 1) := ap_ix3 k 1
      have i2 : nI k * 3 + 2 = nI (k * 3 + 2) := ap_ix3 k 2
      have m0 := ap_mul_bd (A := 7) (B := 20) (by decide) (by decide) n0.2 (show -20 ≤ (x : Int) ∧ (x : Int) ≤ 20 by omega)
      have m1 := ap_mul_bd (A := 7) (B := 20) (by decide) (by decide) n1.2 (show -20 ≤ (y : Int) ∧ (y : Int) ≤ 20 by omega)
      have hrs : -500 ≤ ap_rs num bnd x y k ∧ ap_rs num bnd x y k ≤ 500 := by
        unfold ap_rs
        have := d3.2
        omega
      refine ⟨pk_in (k * 3 + 2) 15 (by omega) i2, nm_r (e' := ap_i (num k 2)) (by rw [i2, nI_clamp (by omega)]; exact n2.1) ⟨pk_in k 5 hk, pk_in (k * 3) 15 (by omega) i0, pk_in (k * 3 + 1) 15 (by omega) i1, nm_r (e' := ap_i (ap_rs num bnd x y k)) ?_ ⟨pk_in k 5 hk, ?_⟩⟩⟩
      · rw [i1, i0, nI_clamp (by omega), nI_clamp (by omega), nI_clamp (by omega), d3.1, n1.1]
        have n0' : a1 (k * 3) = ap_i (num k 0) := n0.1
        rw [n0', ap_i_nat, ap_i_nat, ap_i_mul, ap_i_mul, ap_i_sub, ap_i_sub]
        rfl
      have s88 : ∀ (p : Int × Int) (s : Int32 × Int32), p = (if kind k = 2 then ap_th P num kind bnd x y k else ap_nr (num k 2) (ap_rs num bnd x y k) (ap_th P num kind bnd x y k)) → ap_pbd p → s.1 = ap_i p.1 → s.2 = ap_i p.2 →
          wX_thirds_88 post (wX_thirds_13 post (nI x) (nI y) q) (nI x) (nI y) (nI k) (ap_i (num k 2)) (ap_i (ap_rs num bnd x y k)) qpr qwo qrw qtu qun qco qfw qwc qwt qwb qln qem qhh qht qhb qhl qlt qlb qbr s.1 s.2 a1 a2 a3 a4 a5 a6 a7 a8 a9 a10 a11 a12 a13 a14 a15 a16 a17 a18 a19 := by
        intro p s hpe hpb hs1 hs2
        unfold wX_thirds_88
        refine ⟨pk_in k 5 hk, ?_⟩
        have hts : ap_ts num kind bnd x y k (ap_th P num kind bnd x y k) = if kind k = 0 then p else ap_nr (- num k 2) (- ap_rs num bnd x y k) p := by
          rw [hpe]
          rfl
        rw [hts] at hs
        refine ap_ieq (kind k) 0 (by rw [nI_clamp (by omega)]; exact d2.1) rfl (fun z3 => nm_r (nI_1 k) (hs s ?_)) (fun z3 => ?_)
        · rw [if_pos z3]
          exact ⟨hs1, hs2, hpb⟩
        · rw [if_neg z3] at hs
          refine ap_narrow (a := - num k 2) (r := - ap_rs num bnd x y k) (p := p) (ap_i_neg _) (ap_i_neg _) (by omega) (by omega) hpb hs1 hs2 (fun l' g' k1 k2 => nm_r (nI_1 k) (hs (l', g') ⟨k1, k2, ap_nr_bd (by omega) hpb⟩))
      refine ap_ieq (kind k) 2 (by rw [nI_clamp (by omega)]; exact d2.1) rfl (fun z3 => ?_) (fun z3 => ?_)
      · exact s88 (ap_th P num kind bnd x y k) s (by rw [if_pos z3]) h3 h1 h2
      · refine ap_narrow (a := num k 2) (r := ap_rs num bnd x y k) rfl rfl n2.2 hrs h3 h1 h2 (fun l' g' k1 k2 => ?_)
        exact s88 _ (l', g') (by rw [if_neg z3]) (ap_nr_bd hrs h3) k1 k2
theorem ap_wholes {post : Int32 → St2 → Prop} (hD : ap_dat P num kind bnd qpr a1 a2 a3) (H : ∀ (qwo' : Int32) (ql3' : Int32) (qg3' : Int32) (a5' : Nat → Int32) (a6' : Nat → Int32), post (ap_i (ap_sum (fun x => ap_sum (fun y => ap_ft P num kind bnd x y) 21) 21)) (qpr, qwo', qrw, qtu, qun, qco, qfw, qwc, qwt, qwb, qln, qem, qhh, qht, qhb, qhl, qlt, qlb, qbr, ql3', qg3', a1, a2, a3, a4, a5', a6', a7, a8, a9, a10, a11, a12, a13, a14, a15, a16, a17, a18, a19)) : wpX_wholes post (qpr, qwo, qrw, qtu, qun, qco, qfw, qwc, qwt, qwb, qln, qem, qhh, qht, qhb, qhl, qlt, qlb, qbr, ql3, qg3, a1, a2, a3, a4, a5, a6, a7, a8, a9, a10, a11, a12, a13, a14, a15, a16, a17, a18, a19) := by
  unfold wpX_wholes
  refine ap_askWhole (fun b5 b6 _ _ => ?_)
  refine pk_loop (fun q x s => wX_wholes_8 post q s.1 (nI x) qpr (-1) qrw qtu qun qco qfw qwc qwt qwb qln qem qhh qht qhb qhl qlt qlb qbr s.2.1 s.2.2 a1 a2 a3 a4 b5 b6 a7 a8 a9 a10 a11 a12 a13 a14 a15 a16 a17 a18 a19) (fun x s => s.1 = ap_i (ap_sum (fun x => ap_sum (fun y => ap_ft P num kind bnd x y) 21) x)) 21 0 (0, ql3, qg3) (by omega) rfl ?_ ?_
  · intro q s h
    refine pk_lt 20 21 (fun _ => ?_) (fun z => absurd z (by omega))
    rw [h]
    exact H _ _ _ _ _
  · intro q x s hx h hs
    refine pk_lt 20 x (fun z => absurd z (by omega)) (fun _ => ?_)
    refine pk_loop (fun g y t => wX_wholes_16 post (wX_wholes_8 post q) (nI x) g t.1 (nI y) qpr (-1) qrw qtu qun qco qfw qwc qwt qwb qln qem qhh qht qhb qhl qlt qlb qbr t.2.1 t.2.2 a1 a2 a3 a4 b5 b6 a7 a8 a9 a10 a11 a12 a13 a14 a15 a16 a17 a18 a19) (fun y t => t.1 = ap_i (ap_sum (fun x => ap_sum (fun y => ap_ft P num kind bnd x y) 21) x + ap_sum (fun y => ap_ft P num kind bnd x y) y)) 21 0 s (by omega) (by rw [h]; congr 1; show _ = _ + 0; omega) ?_ ?_
    · intro g t ht
      exact pk_lt 20 21 (fun _ => nm_r (nI_1 x) (hs t ht)) (fun z => absurd z (by omega))
    · intro g y t hy ht hs2
      refine pk_lt 20 y (fun z => absurd z (by omega)) (fun _ => ?_)
      refine ap_thirds (by omega) (by omega) hD (fun l' g' => ?_)
      refine nm_r (e' := ap_i (ap_sum (fun x => ap_sum (fun y => ap_ft P num kind bnd x y) 21) x + ap_sum (fun y => ap_ft P num kind bnd x y) (y + 1))) ?_ (nm_r (nI_1 y) (hs2 (_, l', g') rfl))
      rw [ht, ap_i_add]
      congr 1
      show _ = _ + (ap_sum (fun y => ap_ft P num kind bnd x y) y + ap_ft P num kind bnd x y)
      omega
end
/-- the law's conditions: one whole third amount or none -/
def ap_c1 (b d e : Int) (x y : Nat) : Int := if 2 * (x : Int) + y ≤ b ∧ (x : Int) + 3 * y ≤ d ∧ e % 2 = 0 then 1 else 0
theorem ap_ft1 {b d e : Int} (he : 0 ≤ e ∧ e ≤ 40) {x y : Nat} (hx : x ≤ 20) (hy : y ≤ 20) : ap_ft 15 ap_nu1 ap_kd1 (ap_bo b d e) x y = ap_c1 b d e x y := by
  have r0 : ap_rs ap_nu1 (ap_bo b d e) x y 0 = b - 2 * x - y := by unfold ap_rs; show b - 2 * (x : Int) - 1 * y = _; omega
  have r1 : ap_rs ap_nu1 (ap_bo b d e) x y 1 = d - x - 3 * y := by unfold ap_rs; show d - 1 * (x : Int) - 3 * y = _; omega
  have r2 : ap_rs ap_nu1 (ap_bo b d e) x y 2 = 80 - x - y := by unfold ap_rs; show 80 - 1 * (x : Int) - 1 * y = _; omega
  have r3 : ap_rs ap_nu1 (ap_bo b d e) x y 3 = e := by unfold ap_rs; show e - 0 * (x : Int) - 0 * y = _; omega
  have t1 : ap_th 15 ap_nu1 ap_kd1 (ap_bo b d e) x y 1 = (0, if 0 ≤ b - 2 * (x : Int) - y then 20 else -1) := by
    show ap_nr 0 (ap_rs ap_nu1 (ap_bo b d e) x y 0) (0, 20) = _
    rw [r0]; rfl
  have t2 : ap_th 15 ap_nu1 ap_kd1 (ap_bo b d e) x y 2 = (0, if 0 ≤ d - (x : Int) - 3 * y then (if 0 ≤ b - 2 * (x : Int) - y then 20 else -1) else -1) := by
    show ap_nr 0 (ap_rs ap_nu1 (ap_bo b d e) x y 1) (ap_th 15 ap_nu1 ap_kd1 (ap_bo b d e) x y 1) = _
    rw [r1, t1]; rfl
  have t3 : ap_th 15 ap_nu1 ap_kd1 (ap_bo b d e) x y 3 = (0, if 0 ≤ d - (x : Int) - 3 * y then (if 0 ≤ b - 2 * (x : Int) - y then 20 else -1) else -1) := by
    show ap_nr 0 (ap_rs ap_nu1 (ap_bo b d e) x y 2) (ap_th 15 ap_nu1 ap_kd1 (ap_bo b d e) x y 2) = _
    rw [r2, t2]
    show (0, if 0 ≤ 80 - (x : Int) - y then _ else _) = _
    rw [if_pos (by omega)]
  generalize hG : (if 0 ≤ d - (x : Int) - 3 * y then (if 0 ≤ b - 2 * (x : Int) - y then (20 : Int) else -1) else -1) = G at t3
  have t4 : ap_th 15 ap_nu1 ap_kd1 (ap_bo b d e) x y 5 = (if -(-e / 2) ≤ 0 then 0 else -(-e / 2), if G ≤ e / 2 then G else e / 2) := by
    show ap_nr (-2) (- ap_rs ap_nu1 (ap_bo b d e) x y 3) (ap_nr 2 (ap_rs ap_nu1 (ap_bo b d e) x y 3) (ap_th 15 ap_nu1 ap_kd1 (ap_bo b d e) x y 3)) = _
    rw [r3, t3]; rfl
  unfold ap_ft ap_c1
  rw [t4]
  dsimp only
  have hG2 : (0 ≤ d - (x : Int) - 3 * y ∧ 0 ≤ b - 2 * (x : Int) - y ∧ G = 20) ∨ (¬ (0 ≤ d - (x : Int) - 3 * y ∧ 0 ≤ b - 2 * (x : Int) - y) ∧ G = -1) := by
    rw [← hG]
    by_cases h1 : 0 ≤ d - (x : Int) - 3 * y
    · rw [if_pos h1]
      by_cases h2 : 0 ≤ b - 2 * (x : Int) - y
      · rw [if_pos h2]; exact Or.inl ⟨h1, h2, rfl⟩
      · rw [if_neg h2]; exact Or.inr ⟨fun z => h2 z.2, rfl⟩
    · rw [if_neg h1]; exact Or.inr ⟨fun z => h1 z.1, rfl⟩
  have hlow : (if -(-e / 2) ≤ 0 then 0 else -(-e / 2)) = -(-e / 2) := by
    by_cases h : -(-e / 2) ≤ 0
    · rw [if_pos h]; omega
    · rw [if_neg h]
  rw [hlow]
  rcases hG2 with ⟨g1, g2, g3⟩ | ⟨g1, g3⟩
  · rw [g3]
    have hh : (if (20 : Int) ≤ e / 2 then 20 else e / 2) = e / 2 := by
      by_cases h : (20 : Int) ≤ e / 2
      · rw [if_pos h]; omega
      · rw [if_neg h]
    rw [hh]
    by_cases hev : e % 2 = 0
    · rw [if_neg (by omega), if_pos (by omega)]; omega
    · rw [if_pos (by omega), if_neg (by omega)]
  · rw [g3]
    rw [if_pos (show (-1 : Int) ≤ e / 2 by omega), if_pos (by omega), if_neg (by omega)]
theorem ap_ft2 {b d : Int} {x y : Nat} : ap_ft 15 ap_nu2 ap_kd2 (ap_bo b d 21) x y = 0 := by
  have r3 : ap_rs ap_nu2 (ap_bo b d 21) x y 3 = 21 := by unfold ap_rs; show 21 - 0 * (x : Int) - 0 * y = _; omega
  have st : ∀ (r : Int) (p : Int × Int), p.2 ≤ 20 → (ap_nr 0 r p).2 ≤ 20 := by
    intro r p hp
    show (if 0 ≤ r then p.2 else -1) ≤ 20
    by_cases h : 0 ≤ r
    · rw [if_pos h]; exact hp
    · rw [if_neg h]; decide
  have t3 : (ap_th 15 ap_nu2 ap_kd2 (ap_bo b d 21) x y 3).2 ≤ 20 :=
    st (ap_rs ap_nu2 (ap_bo b d 21) x y 2) _ (st (ap_rs ap_nu2 (ap_bo b d 21) x y 1) _ (st (ap_rs ap_nu2 (ap_bo b d 21) x y 0) (0, 20) (by decide)))
  have t5 : ap_th 15 ap_nu2 ap_kd2 (ap_bo b d 21) x y 5 = ap_nr (-1) (- ap_rs ap_nu2 (ap_bo b d 21) x y 3) (ap_th 15 ap_nu2 ap_kd2 (ap_bo b d 21) x y 3) := rfl
  unfold ap_ft
  rw [t5, r3]
  have e2 : ap_nr (-1) (-21) (ap_th 15 ap_nu2 ap_kd2 (ap_bo b d 21) x y 3) = (if 21 ≤ (ap_th 15 ap_nu2 ap_kd2 (ap_bo b d 21) x y 3).1 then (ap_th 15 ap_nu2 ap_kd2 (ap_bo b d 21) x y 3).1 else 21, (ap_th 15 ap_nu2 ap_kd2 (ap_bo b d 21) x y 3).2) := rfl
  rw [e2]
  dsimp only
  refine if_pos ?_
  by_cases h : 21 ≤ (ap_th 15 ap_nu2 ap_kd2 (ap_bo b d 21) x y 3).1
  · rw [if_pos h]; omega
  · rw [if_neg h]; omega
end
section
/-! the best whole point, settled one amount after the other -/
def ap_BX : ap_X := (ap_Lo, ap_Hi)
theorem ap_BX_in : ap_in ap_BX ap_BX := by
  intro i _
  show 0 ≤ (0 : Int) ∧ (0 : Int) ≤ 0 ∧ (0 : Int) ≤ 20 ∧ (20 : Int) ≤ 20 ∧ (20 : Int) ≤ 20
  decide
def ap_dj (code j : Nat) : Nat := code / 21 ^ j % 21
def ap_bx (code i v : Nat) : ap_X := (fun j => if j < i then (ap_dj code j : Int) else if j = i then (v : Int) else 0, fun j => if j < i then (ap_dj code j : Int) else if j = i then (v : Int) else 20)
theorem ap_dj_lt (code j : Nat) : ap_dj code j < 21 := Nat.mod_lt _ (by decide)
theorem ap_bx_in {code i v : Nat} (hv : v ≤ 20) : ap_in (ap_bx code i v) (ap_bx code i v) := by
  intro j _
  have hd := ap_dj_lt code j
  show 0 ≤ (if j < i then (ap_dj code j : Int) else if j = i then (v : Int) else 0) ∧ (if j < i then (ap_dj code j : Int) else if j = i then (v : Int) else 0) ≤ (if j < i then (ap_dj code j : Int) else if j = i then (v : Int) else 0) ∧ (if j < i then (ap_dj code j : Int) else if j = i then (v : Int) else 0) ≤ (if j < i then (ap_dj code j : Int) else if j = i then (v : Int) else 20) ∧ (if j < i then (ap_dj code j : Int) else if j = i then (v : Int) else 20) ≤ (if j < i then (ap_dj code j : Int) else if j = i then (v : Int) else 20) ∧ (if j < i then (ap_dj code j : Int) else if j = i then (v : Int) else 20) ≤ 20
  by_cases h1 : j < i
  · rw [if_pos h1, if_pos h1]; omega
  · rw [if_neg h1, if_neg h1]
    by_cases h2 : j = i
    · rw [if_pos h2, if_pos h2]; omega
    · rw [if_neg h2, if_neg h2]; omega
/-- a point with its first amounts settled -/
def ap_pf (code i : Nat) (z0 z1 z2 : Int) : Prop := ∀ j, j < i → ap_sel j z0 z1 z2 = (ap_dj code j : Int)
theorem ap_bx_zp {b d e : Int} {code i v : Nat} (hi : i < 3) (hv : v ≤ 20) {z0 z1 z2 : Int} : ap_zp b d e (ap_bx code i v) z0 z1 z2 ↔ ap_zp b d e ap_BX z0 z1 z2 ∧ ap_pf code i z0 z1 z2 ∧ ap_sel i z0 z1 z2 = (v : Int) := by
  have d0 := ap_dj_lt code 0
  have d1 := ap_dj_lt code 1
  unfold ap_zp ap_pt ap_bx ap_BX ap_pf
  rcases ap_3 hi with e | e | e <;> subst e
  · have hs : ap_sel 0 z0 z1 z2 = z0 := rfl
    rw [hs]
    simp only [ap_Lo, ap_Hi]
    simp
    omega
  · have hs : ap_sel 1 z0 z1 z2 = z1 := rfl
    have hp : (∀ j, j < 1 → ap_sel j z0 z1 z2 = (ap_dj code j : Int)) ↔ z0 = ap_dj code 0 := ⟨fun h => h 0 (by decide), fun h j hj => by rw [show j = 0 by omega]; exact h⟩
    rw [hs, hp]
    simp only [ap_Lo, ap_Hi]
    simp
    omega
  · have hs : ap_sel 2 z0 z1 z2 = z2 := rfl
    have hp : (∀ j, j < 2 → ap_sel j z0 z1 z2 = (ap_dj code j : Int)) ↔ z0 = ap_dj code 0 ∧ z1 = ap_dj code 1 := ⟨fun h => ⟨h 0 (by decide), h 1 (by decide)⟩, fun h j hj => by
      have : j = 0 ∨ j = 1 := by omega
      rcases this with e | e <;> subst e
      · exact h.1
      · exact h.2⟩
    rw [hs, hp]
    simp only [ap_Lo, ap_Hi]
    simp
    omega
section
variable {qpr : Int32} {qwo : Int32} {qrw : Int32} {qtu : Int32} {qun : Int64} {qco : Int32} {qfw : Int32} {qwc : Int32} {qwt : Int64} {qwb : Int64} {qln : Int32} {qem : Int32} {qhh : Int32} {qht : Int64} {qhb : Int64} {qhl : Int32} {qlt : Int64} {qlb : Int64} {qbr : Int32} {ql3 : Int32} {qg3 : Int32} {a1 : Nat → Int32} {a2 : Nat → Int32} {a3 : Nat → Int32} {a4 : Nat → Int32} {a5 : Nat → Int32} {a6 : Nat → Int32} {a7 : Nat → Int32} {a8 : Nat → Int32} {a9 : Nat → Int32} {a10 : Nat → Int64} {a11 : Nat → Int32} {a12 : Nat → Int32} {a13 : Nat → Int64} {a14 : Nat → Int64} {a15 : Nat → Int64} {a16 : Nat → Int64} {a17 : Nat → Int64} {a18 : Nat → Int32} {a19 : Nat → Int32}
variable {b d e : Int}
theorem ap_whole {post : Int32 → St2 → Prop} (hG : ap_g1 b d e qpr a1 a2 a3 a4) (H : ∀ (r : Int) u', ap_U1 b d e u' → ap_res b d e ap_BX r → post (ap_i r) u') : wpX_whole post (qpr, qwo, qrw, qtu, qun, qco, qfw, qwc, qwt, qwb, qln, qem, qhh, qht, qhb, qhl, qlt, qlb, qbr, ql3, qg3, a1, a2, a3, a4, a5, a6, a7, a8, a9, a10, a11, a12, a13, a14, a15, a16, a17, a18, a19) := by
  unfold wpX_whole
  refine ap_askWhole (fun b5 b6 h5 h6 => ?_)
  refine ap_askGoal (g := ap_gl) (fun i h => ⟨hG.2 i h, ap_gl_b i h⟩) (fun b7 h7 => ?_)
  refine ap_bestWhole (B0 := ap_BX) hG.1 rfl h7 ap_BX_in h5 h6 ?_
  intros
  rename_i hr
  exact H _ _ hG hr
theorem ap_bestWith {post : Int32 → St2 → Prop} {code i v : Nat} (hc : code < 441) (hi : i < 3) (hv : v ≤ 20) (hG : ap_g1 b d e qpr a1 a2 a3 a4) (H : ∀ (r : Int) u', ap_U1 b d e u' → ap_res b d e (ap_bx code i v) r → post (ap_i r) u') :
    wpX_bestWith post (qpr, qwo, qrw, qtu, qun, qco, qfw, qwc, qwt, qwb, qln, qem, qhh, qht, qhb, qhl, qlt, qlb, qbr, ql3, qg3, a1, a2, a3, a4, a5, a6, a7, a8, a9, a10, a11, a12, a13, a14, a15, a16, a17, a18, a19) (nI i) (nI code) (nI i) (nI v) := by
  unfold wpX_bestWith
  refine ap_askWhole (fun b5 b6 h5 h6 => ?_)
  refine ap_askGoal (g := ap_gl) (fun i h => ⟨hG.2 i h, ap_gl_b i h⟩) (fun b7 h7 => ?_)
  refine pk_loop (fun q j t => wX_bestWith_14 post (nI i) (nI i) (nI v) qpr (-1) qrw qtu qun qco qfw qwc qwt qwb qln qem qhh qht qhb qhl qlt qlb qbr ql3 qg3 q (nI (code / 21 ^ j)) (nI j) a1 a2 a3 a4 t.1 t.2 b7 a8 a9 a10 a11 a12 a13 a14 a15 a16 a17 a18 a19) (fun j t => (∀ k, k < j → t.1 k = ap_i (ap_dj code k) ∧ t.2 k = ap_i (ap_dj code k)) ∧ ∀ k, j ≤ k → k < 3 → t.1 k = ap_i 0 ∧ t.2 k = ap_i 20) i 0 (b5, b6) (by omega) ⟨fun k hk => absurd hk (by omega), fun k _ hk => ⟨h5 k hk, h6 k hk⟩⟩ ?_ ?_ |> fun h => ?_
  · obtain ⟨n, hn⟩ := h
    have hn' : wX_bestWith_14 post (nI i) (nI i) (nI v) qpr (-1) qrw qtu qun qco qfw qwc qwt qwb qln qem qhh qht qhb qhl qlt qlb qbr ql3 qg3 n (nI (code / 21 ^ 0)) (nI 0) a1 a2 a3 a4 b5 b6 b7 a8 a9 a10 a11 a12 a13 a14 a15 a16 a17 a18 a19 := hn
    rw [Nat.pow_zero, Nat.div_one] at hn'
    exact ⟨n, hn'⟩
  · intro q t h
    refine pk_le i i (fun _ => ?_) (fun z => absurd z (by omega))
    have vi : vp_in (nI i) 3 := pk_in i 3 hi
    refine ⟨vi, nm_r (e' := upd t.1 i (ap_i v)) (by rw [nI_clamp (by omega), ap_i_nat, ap_nb (by omega)]) ⟨vi, nm_r (e' := upd t.2 i (ap_i v)) (by rw [nI_clamp (by omega), ap_i_nat, ap_nb (by omega)]) ?_⟩⟩
    refine ap_bestWhole (B0 := ap_bx code i v) hG.1 rfl h7 (ap_bx_in hv) (fun j hj => ?_) (fun j hj => ?_) ?_
    · show _ = ap_i (if j < i then (ap_dj code j : Int) else if j = i then (v : Int) else 0)
      by_cases h1 : j < i
      · rw [if_pos h1, pk_un (by omega)]; exact (h.1 j h1).1
      · rw [if_neg h1]
        by_cases h2 : j = i
        · rw [if_pos h2, h2, pk_us]
        · rw [if_neg h2, pk_un h2]; exact (h.2 j (by omega) hj).1
    · show _ = ap_i (if j < i then (ap_dj code j : Int) else if j = i then (v : Int) else 20)
      by_cases h1 : j < i
      · rw [if_pos h1, pk_un (by omega)]; exact (h.1 j h1).2
      · rw [if_neg h1]
        by_cases h2 : j = i
        · rw [if_pos h2, h2, pk_us]
        · rw [if_neg h2, pk_un h2]; exact (h.2 j (by omega) hj).2
    · intros
      rename_i hr
      exact H _ _ hG hr
  · intro q j t hj h hs
    refine pk_le i j (fun z => absurd z (by omega)) (fun _ => ?_)
    have vj : vp_in (nI j) 3 := pk_in j 3 (by omega)
    have hdl := ap_dj_lt code j
    have hcj : code / 21 ^ j < 2 ^ 31 := by
      have := Nat.div_le_self code (21 ^ j)
      omega
    have er : nI (code / 21 ^ j) - nI (code / 21 ^ j) / 21 * 21 = nI (ap_dj code j) := pk_rem (d := 21) hcj (by decide) (by decide)
    have ed : nI (code / 21 ^ j) / 21 = nI (code / 21 ^ (j + 1)) := by
      rw [Nat.pow_succ, ← Nat.div_div_eq_div_mul]
      exact pk_div (d := 21) hcj (by decide) (by decide)
    refine ⟨by decide, vj, nm_r (e' := upd t.1 j (ap_i (ap_dj code j))) (by rw [nI_clamp (by omega), er, ap_i_nat, ap_nb (by omega)]) ⟨vj, vj, nm_r (e' := upd t.2 j (ap_i (ap_dj code j))) (by rw [nI_clamp (by omega), pk_us, ap_vb (by omega)]) ⟨by decide, nm_r ed (nm_r (nI_1 j) (hs (_, _) ⟨fun k hk => ?_, fun k hk hk3 => ?_⟩))⟩⟩⟩
    · show upd t.1 j _ k = _ ∧ upd t.2 j _ k = _
      by_cases e : k = j
      · rw [e, pk_us, pk_us]; exact ⟨rfl, rfl⟩
      · rw [pk_un e, pk_un e]; exact h.1 k (by omega)
    · show upd t.1 j _ k = _ ∧ upd t.2 j _ k = _
      rw [pk_un (by omega), pk_un (by omega)]
      exact h.2 k (by omega) hk3
/-- the least value of amount i for which the worth stays -/
theorem ap_wp33 {post : Int32 → St2 → Prop} {J : Int32 → Int32 → Int32 → Int32 → Int32 → Int32 → Int32 → Int32 → Int64 → Int32 → Int32 → Int32 → Int64 → Int64 → Int32 → Int32 → Int32 → Int64 → Int64 → Int32 → Int64 → Int64 → Int32 → Int32 → Int32 → (Nat → Int32) → (Nat → Int32) → (Nat → Int32) → (Nat → Int32) → (Nat → Int32) → (Nat → Int32) → (Nat → Int32) → (Nat → Int32) → (Nat → Int32) → (Nat → Int64) → (Nat → Int32) → (Nat → Int32) → (Nat → Int64) → (Nat → Int64) → (Nat → Int64) → (Nat → Int64) → (Nat → Int64) → (Nat → Int32) → (Nat → Int32) → Prop} {code i : Nat} {G : Int} (hc : code < 21 ^ i) (hi : i < 3) (hG0 : 0 ≤ G ∧ G ≤ 1000)
    (hmax : ∀ z0 z1 z2, ap_zp b d e ap_BX z0 z1 z2 → ap_ob z0 z1 z2 ≤ G) (hex : ∃ z0 z1 z2, ap_zp b d e ap_BX z0 z1 z2 ∧ ap_pf code i z0 z1 z2 ∧ ap_ob z0 z1 z2 = G)
    (H : ∀ (v : Nat) (qpr : Int32) (qwo : Int32) (qrw : Int32) (qtu : Int32) (qun : Int64) (qco : Int32) (qfw : Int32) (qwc : Int32) (qwt : Int64) (qwb : Int64) (qln : Int32) (qem : Int32) (qhh : Int32) (qht : Int64) (qhb : Int64) (qhl : Int32) (qlt : Int64) (qlb : Int64) (qbr : Int32) (ql3 : Int32) (qg3 : Int32) (a1 : Nat → Int32) (a2 : Nat → Int32) (a3 : Nat → Int32) (a4 : Nat → Int32) (a5 : Nat → Int32) (a6 : Nat → Int32) (a7 : Nat → Int32) (a8 : Nat → Int32) (a9 : Nat → Int32) (a10 : Nat → Int64) (a11 : Nat → Int32) (a12 : Nat → Int32) (a13 : Nat → Int64) (a14 : Nat → Int64) (a15 : Nat → Int64) (a16 : Nat → Int64) (a17 : Nat → Int64) (a18 : Nat → Int32) (a19 : Nat → Int32), ap_g1 b d e qpr a1 a2 a3 a4 → v ≤ 20 → (∃ z0 z1 z2, ap_zp b d e ap_BX z0 z1 z2 ∧ ap_pf code i z0 z1 z2 ∧ ap_sel i z0 z1 z2 = (v : Int) ∧ ap_ob z0 z1 z2 = G) → J (nI (code + 21 ^ i * v)) (nI (21 ^ (i + 1))) (nI (i + 1)) (nI (i + 1)) qpr qwo qrw qtu qun qco qfw qwc qwt qwb qln qem qhh qht qhb qhl qlt qlb qbr ql3 qg3 a1 a2 a3 a4 a5 a6 a7 a8 a9 a10 a11 a12 a13 a14 a15 a16 a17 a18 a19) :
    ∀ (m v : Nat) (qpr : Int32) (qwo : Int32) (qrw : Int32) (qtu : Int32) (qun : Int64) (qco : Int32) (qfw : Int32) (qwc : Int32) (qwt : Int64) (qwb : Int64) (qln : Int32) (qem : Int32) (qhh : Int32) (qht : Int64) (qhb : Int64) (qhl : Int32) (qlt : Int64) (qlb : Int64) (qbr : Int32) (ql3 : Int32) (qg3 : Int32) (a1 : Nat → Int32) (a2 : Nat → Int32) (a3 : Nat → Int32) (a4 : Nat → Int32) (a5 : Nat → Int32) (a6 : Nat → Int32) (a7 : Nat → Int32) (a8 : Nat → Int32) (a9 : Nat → Int32) (a10 : Nat → Int64) (a11 : Nat → Int32) (a12 : Nat → Int32) (a13 : Nat → Int64) (a14 : Nat → Int64) (a15 : Nat → Int64) (a16 : Nat → Int64) (a17 : Nat → Int64) (a18 : Nat → Int32) (a19 : Nat → Int32), v + m = 20 → ap_g1 b d e qpr a1 a2 a3 a4 → (∀ w : Nat, w < v → ∀ z0 z1 z2, ap_zp b d e ap_BX z0 z1 z2 → ap_pf code i z0 z1 z2 → ap_sel i z0 z1 z2 = (w : Int) → ap_ob z0 z1 z2 ≠ G) →
      wX_wholePoint_33 post J (ap_i G) (nI code) (nI (21 ^ i)) (nI i) (nI i) (m + 1) (nI v) qpr qwo qrw qtu qun qco qfw qwc qwt qwb qln qem qhh qht qhb qhl qlt qlb qbr ql3 qg3 a1 a2 a3 a4 a5 a6 a7 a8 a9 a10 a11 a12 a13 a14 a15 a16 a17 a18 a19 := by
  have hpow : 21 ^ i ≤ 441 := by
    rcases ap_3 hi with e | e | e <;> subst e <;> decide
  have s61 : ∀ (v : Nat) (qpr : Int32) (qwo : Int32) (qrw : Int32) (qtu : Int32) (qun : Int64) (qco : Int32) (qfw : Int32) (qwc : Int32) (qwt : Int64) (qwb : Int64) (qln : Int32) (qem : Int32) (qhh : Int32) (qht : Int64) (qhb : Int64) (qhl : Int32) (qlt : Int64) (qlb : Int64) (qbr : Int32) (ql3 : Int32) (qg3 : Int32) (a1 : Nat → Int32) (a2 : Nat → Int32) (a3 : Nat → Int32) (a4 : Nat → Int32) (a5 : Nat → Int32) (a6 : Nat → Int32) (a7 : Nat → Int32) (a8 : Nat → Int32) (a9 : Nat → Int32) (a10 : Nat → Int64) (a11 : Nat → Int32) (a12 : Nat → Int32) (a13 : Nat → Int64) (a14 : Nat → Int64) (a15 : Nat → Int64) (a16 : Nat → Int64) (a17 : Nat → Int64) (a18 : Nat → Int32) (a19 : Nat → Int32), ap_g1 b d e qpr a1 a2 a3 a4 → v ≤ 20 → (∃ z0 z1 z2, ap_zp b d e ap_BX z0 z1 z2 ∧ ap_pf code i z0 z1 z2 ∧ ap_sel i z0 z1 z2 = (v : Int) ∧ ap_ob z0 z1 z2 = G) → wX_wholePoint_61 post J (ap_i G) (nI code) (nI (21 ^ i)) (nI i) (nI i) (nI v) qpr qwo qrw qtu qun qco qfw qwc qwt qwb qln qem qhh qht qhb qhl qlt qlb qbr ql3 qg3 a1 a2 a3 a4 a5 a6 a7 a8 a9 a10 a11 a12 a13 a14 a15 a16 a17 a18 a19 := by
    intro v qpr qwo qrw qtu qun qco qfw qwc qwt qwb qln qem qhh qht qhb qhl qlt qlb qbr ql3 qg3 a1 a2 a3 a4 a5 a6 a7 a8 a9 a10 a11 a12 a13 a14 a15 a16 a17 a18 a19 hg hv hz
    unfold wX_wholePoint_61
    refine nm_r (e' := nI (code + 21 ^ i * v)) (by rw [pk_mul, nI_add]) (nm_r (e' := nI (21 ^ (i + 1))) (by rw [Nat.pow_succ]; exact pk_mul (21 ^ i) 21) (nm_r (nI_1 i) (nm_r (nI_1 i) ?_)))
    exact H v _ _ _ _ _ _ _ _ _ _ _ _ _ _ _ _ _ _ _ _ _ _ _ _ _ _ _ _ _ _ _ _ _ _ _ _ _ _ _ _ hg hv hz
  intro m
  induction m with
  | zero =>
    intro v qpr qwo qrw qtu qun qco qfw qwc qwt qwb qln qem qhh qht qhb qhl qlt qlb qbr ql3 qg3 a1 a2 a3 a4 a5 a6 a7 a8 a9 a10 a11 a12 a13 a14 a15 a16 a17 a18 a19 hv hg hno
    refine pk_le 20 v (fun _ => s61 v _ _ _ _ _ _ _ _ _ _ _ _ _ _ _ _ _ _ _ _ _ _ _ _ _ _ _ _ _ _ _ _ _ _ _ _ _ _ _ _ hg (by omega) ?_) (fun z => absurd z (by omega))
    obtain ⟨z0, z1, z2, h1, h2, h3⟩ := hex
    have hz := ap_zp_nn ap_BX_in h1
    refine ⟨z0, z1, z2, h1, h2, ?_, h3⟩
    have hr : 0 ≤ ap_sel i z0 z1 z2 ∧ ap_sel i z0 z1 z2 ≤ 20 := by
      rcases ap_3 hi with e | e | e <;> subst e
      · show 0 ≤ z0 ∧ z0 ≤ 20; omega
      · show 0 ≤ z1 ∧ z1 ≤ 20; omega
      · show 0 ≤ z2 ∧ z2 ≤ 20; omega
    obtain ⟨w, hw⟩ : ∃ w : Nat, ap_sel i z0 z1 z2 = (w : Int) := ⟨(ap_sel i z0 z1 z2).toNat, by omega⟩
    rcases Nat.lt_or_ge w v with y | y
    · exact absurd h3 (hno w y z0 z1 z2 h1 h2 hw)
    · omega
  | succ m ih =>
    intro v qpr qwo qrw qtu qun qco qfw qwc qwt qwb qln qem qhh qht qhb qhl qlt qlb qbr ql3 qg3 a1 a2 a3 a4 a5 a6 a7 a8 a9 a10 a11 a12 a13 a14 a15 a16 a17 a18 a19 hv hg hno
    refine pk_le 20 v (fun z => absurd z (by omega)) (fun _ => ?_)
    refine ap_bestWith (by omega) hi (by omega) hg (fun r u' hU hr => ?_)
    obtain ⟨qpr, qwo, qrw, qtu, qun, qco, qfw, qwc, qwt, qwb, qln, qem, qhh, qht, qhb, qhl, qlt, qlb, qbr, ql3, qg3, a1, a2, a3, a4, a5, a6, a7, a8, a9, a10, a11, a12, a13, a14, a15, a16, a17, a18, a19⟩ := u'
    have hrb : -30000000 ≤ r ∧ r ≤ 1000 := by
      rcases hr with ⟨h, _⟩ | ⟨z0, z1, z2, h1, h2, _⟩
      · omega
      · have := hmax z0 z1 z2 ((ap_bx_zp hi (by omega)).mp h1).1
        have := ap_zp_nn (ap_bx_in (code := code) (i := i) (show v ≤ 20 by omega)) h1
        unfold ap_ob at *
        omega
    refine ap_ieq r G rfl rfl (fun z => ?_) (fun z => nm_r (nI_1 v) ?_)
    · refine s61 v _ _ _ _ _ _ _ _ _ _ _ _ _ _ _ _ _ _ _ _ _ _ _ _ _ _ _ _ _ _ _ _ _ _ _ _ _ _ _ _ hU (by omega) ?_
      rcases hr with ⟨h, _⟩ | ⟨z0, z1, z2, h1, h2, _⟩
      · omega
      · obtain ⟨k1, k2, k3⟩ := (ap_bx_zp hi (by omega)).mp h1
        exact ⟨z0, z1, z2, k1, k2, k3, by omega⟩
    · refine ih (v + 1) _ _ _ _ _ _ _ _ _ _ _ _ _ _ _ _ _ _ _ _ _ _ _ _ _ _ _ _ _ _ _ _ _ _ _ _ _ _ _ _ (by omega) hU (fun w hw z0 z1 z2 h1 h2 h3 h4 => ?_)
      by_cases ew : w = v
      · subst ew
        have hz : ap_zp b d e (ap_bx code i w) z0 z1 z2 := (ap_bx_zp hi (by omega)).mpr ⟨h1, h2, h3⟩
        rcases hr with ⟨_, hn⟩ | ⟨y0, y1, y2, k1, k2, k3⟩
        · exact hn z0 z1 z2 hz
        · have g1 := k3 z0 z1 z2 hz
          have g2 := hmax y0 y1 y2 ((ap_bx_zp hi (by omega)).mp k1).1
          omega
      · exact hno w (by omega) z0 z1 z2 h1 h2 h3 h4
theorem ap_dj_add {code i v j : Nat} (hc : code < 21 ^ i) (hi : i < 3) (hv : v ≤ 20) (hj : j < i + 1) : ap_dj (code + 21 ^ i * v) j = if j = i then v else ap_dj code j := by
  unfold ap_dj
  rcases ap_3 hi with e | e | e <;> subst e
  · have : j = 0 := by omega
    subst this
    simp at *
    omega
  · have : j = 0 ∨ j = 1 := by omega
    rcases this with e | e <;> subst e <;> simp at * <;> omega
  · have : j = 0 ∨ j = 1 ∨ j = 2 := by omega
    rcases this with e | e | e <;> subst e <;> simp at * <;> omega
theorem ap_wp24 {post : Int32 → St2 → Prop} {G : Int} (hG0 : 0 ≤ G ∧ G ≤ 1000)
    (hmax : ∀ z0 z1 z2, ap_zp b d e ap_BX z0 z1 z2 → ap_ob z0 z1 z2 ≤ G)
    (H : ∀ (code : Nat) u', ap_U1 b d e u' → (∃ z0 z1 z2, ap_zp b d e ap_BX z0 z1 z2 ∧ ap_ob z0 z1 z2 = G ∧ (code : Int) = z0 + 21 * z1 + 441 * z2) → post (nI code) u') :
    ∀ (m i code : Nat) (qpr : Int32) (qwo : Int32) (qrw : Int32) (qtu : Int32) (qun : Int64) (qco : Int32) (qfw : Int32) (qwc : Int32) (qwt : Int64) (qwb : Int64) (qln : Int32) (qem : Int32) (qhh : Int32) (qht : Int64) (qhb : Int64) (qhl : Int32) (qlt : Int64) (qlb : Int64) (qbr : Int32) (ql3 : Int32) (qg3 : Int32) (a1 : Nat → Int32) (a2 : Nat → Int32) (a3 : Nat → Int32) (a4 : Nat → Int32) (a5 : Nat → Int32) (a6 : Nat → Int32) (a7 : Nat → Int32) (a8 : Nat → Int32) (a9 : Nat → Int32) (a10 : Nat → Int64) (a11 : Nat → Int32) (a12 : Nat → Int32) (a13 : Nat → Int64) (a14 : Nat → Int64) (a15 : Nat → Int64) (a16 : Nat → Int64) (a17 : Nat → Int64) (a18 : Nat → Int32) (a19 : Nat → Int32), i + m = 3 → ap_g1 b d e qpr a1 a2 a3 a4 → code < 21 ^ i → (∃ z0 z1 z2, ap_zp b d e ap_BX z0 z1 z2 ∧ ap_pf code i z0 z1 z2 ∧ ap_ob z0 z1 z2 = G) →
      wX_wholePoint_24 post (ap_i G) (m + 1) (nI code) (nI (21 ^ i)) (nI i) (nI i) qpr qwo qrw qtu qun qco qfw qwc qwt qwb qln qem qhh qht qhb qhl qlt qlb qbr ql3 qg3 a1 a2 a3 a4 a5 a6 a7 a8 a9 a10 a11 a12 a13 a14 a15 a16 a17 a18 a19 := by
  intro m
  induction m with
  | zero =>
    intro i code qpr qwo qrw qtu qun qco qfw qwc qwt qwb qln qem qhh qht qhb qhl qlt qlb qbr ql3 qg3 a1 a2 a3 a4 a5 a6 a7 a8 a9 a10 a11 a12 a13 a14 a15 a16 a17 a18 a19 him hg hc hex
    have hi : i = 3 := by omega
    subst hi
    refine pk_le 3 3 (fun _ => H code _ hg ?_) (fun z => absurd z (by omega))
    obtain ⟨z0, z1, z2, h1, h2, h3⟩ := hex
    refine ⟨z0, z1, z2, h1, h3, ?_⟩
    have k0 : z0 = (ap_dj code 0 : Int) := h2 0 (by decide)
    have k1 : z1 = (ap_dj code 1 : Int) := h2 1 (by decide)
    have k2 : z2 = (ap_dj code 2 : Int) := h2 2 (by decide)
    have hc' : code < 9261 := hc
    rw [k0, k1, k2]
    unfold ap_dj
    simp
    omega
  | succ m ih =>
    intro i code qpr qwo qrw qtu qun qco qfw qwc qwt qwb qln qem qhh qht qhb qhl qlt qlb qbr ql3 qg3 a1 a2 a3 a4 a5 a6 a7 a8 a9 a10 a11 a12 a13 a14 a15 a16 a17 a18 a19 him hg hc hex
    have hi : i < 3 := by omega
    refine pk_le 3 i (fun z => absurd z (by omega)) (fun _ => ⟨21, ?_⟩)
    refine ap_wp33 hc hi hG0 hmax hex ?_ 20 0 _ _ _ _ _ _ _ _ _ _ _ _ _ _ _ _ _ _ _ _ _ _ _ _ _ _ _ _ _ _ _ _ _ _ _ _ _ _ _ _ (by omega) hg (fun w hw => absurd hw (by omega))
    intro v qpr qwo qrw qtu qun qco qfw qwc qwt qwb qln qem qhh qht qhb qhl qlt qlb qbr ql3 qg3 a1 a2 a3 a4 a5 a6 a7 a8 a9 a10 a11 a12 a13 a14 a15 a16 a17 a18 a19 hg' hv hz
    obtain ⟨z0, z1, z2, h1, h2, h3, h4⟩ := hz
    refine ih (i + 1) (code + 21 ^ i * v) _ _ _ _ _ _ _ _ _ _ _ _ _ _ _ _ _ _ _ _ _ _ _ _ _ _ _ _ _ _ _ _ _ _ _ _ _ _ _ _ (by omega) hg' ?_ ⟨z0, z1, z2, h1, fun j hj => ?_, h4⟩
    · rw [Nat.pow_succ]
      have := Nat.mul_le_mul_left (21 ^ i) hv
      omega
    · rw [ap_dj_add hc hi hv hj]
      by_cases ej : j = i
      · rw [if_pos ej, ej]; exact h3
      · rw [if_neg ej]; exact h2 j (by omega)
theorem ap_wholePoint {post : Int32 → St2 → Prop} (hG : ap_g1 b d e qpr a1 a2 a3 a4)
    (H0 : (∀ z0 z1 z2, ¬ ap_zp b d e ap_BX z0 z1 z2) → ∀ u', ap_U1 b d e u' → post (-30000000) u')
    (H1 : ∀ (G : Int) (code : Nat) u', ap_U1 b d e u' → (∀ z0 z1 z2, ap_zp b d e ap_BX z0 z1 z2 → ap_ob z0 z1 z2 ≤ G) → (∃ z0 z1 z2, ap_zp b d e ap_BX z0 z1 z2 ∧ ap_ob z0 z1 z2 = G ∧ (code : Int) = z0 + 21 * z1 + 441 * z2) → post (nI code) u') : wpX_wholePoint post (qpr, qwo, qrw, qtu, qun, qco, qfw, qwc, qwt, qwb, qln, qem, qhh, qht, qhb, qhl, qlt, qlb, qbr, ql3, qg3, a1, a2, a3, a4, a5, a6, a7, a8, a9, a10, a11, a12, a13, a14, a15, a16, a17, a18, a19) := by
  unfold wpX_wholePoint
  refine ap_whole hG (fun r u' hU hr => ?_)
  obtain ⟨qpr, qwo, qrw, qtu, qun, qco, qfw, qwc, qwt, qwb, qln, qem, qhh, qht, qhb, qhl, qlt, qlb, qbr, ql3, qg3, a1, a2, a3, a4, a5, a6, a7, a8, a9, a10, a11, a12, a13, a14, a15, a16, a17, a18, a19⟩ := u'
  rcases hr with ⟨h, hn⟩ | ⟨z0, z1, z2, h1, h2, h3⟩
  · subst h
    exact br_t rfl (H0 hn _ hU)
  · have hz := ap_zp_nn ap_BX_in h1
    have hr0 : 0 ≤ r ∧ r ≤ 1000 := by
      rw [h2]
      unfold ap_ob
      omega
    refine ap_ieq r (-30000000) rfl rfl (fun z => absurd z (by omega)) (fun _ => ⟨4, ?_⟩)
    exact ap_wp24 hr0 h3 (fun code u' hU' hz => H1 r code u' hU' h3 hz) 3 0 0 _ _ _ _ _ _ _ _ _ _ _ _ _ _ _ _ _ _ _ _ _ _ _ _ _ _ _ _ _ _ _ _ _ _ _ _ _ _ _ _ (by omega) hU (by decide) ⟨z0, z1, z2, h1, fun j hj => absurd hj (by omega), h2.symm⟩
end
end
section
/-! the plain law -/
def ap_xx (b d : Int) : Int := if 3 * b < d then 0 else if 2 * d < b then 5 * d else 3 * b - d
def ap_yy (b d : Int) : Int := if 3 * b < d then 5 * b else if 2 * d < b then 0 else 2 * d - b
def ap_pn (b d : Int) : Bool := decide (ap_xx b d ≤ 100) && decide (ap_yy b d ≤ 100)
theorem ap_three (b d : Int) : (3 * b < d ∧ ap_xx b d = 0 ∧ ap_yy b d = 5 * b) ∨ (¬ 3 * b < d ∧ 2 * d < b ∧ ap_xx b d = 5 * d ∧ ap_yy b d = 0) ∨ (¬ 3 * b < d ∧ ¬ 2 * d < b ∧ ap_xx b d = 3 * b - d ∧ ap_yy b d = 2 * d - b) := by
  unfold ap_xx ap_yy
  by_cases h1 : 3 * b < d
  · rw [if_pos h1, if_pos h1]; exact Or.inl ⟨h1, rfl, rfl⟩
  · rw [if_neg h1, if_neg h1]
    by_cases h2 : 2 * d < b
    · rw [if_pos h2, if_pos h2]; exact Or.inr (Or.inl ⟨h1, h2, rfl, rfl⟩)
    · rw [if_neg h2, if_neg h2]; exact Or.inr (Or.inr ⟨h1, h2, rfl, rfl⟩)
theorem ap_pn_iff {b d : Int} (h : ap_pn b d = true) : ap_xx b d ≤ 100 ∧ ap_yy b d ≤ 100 := by
  unfold ap_pn at h
  rw [Bool.and_eq_true, decide_eq_true_eq, decide_eq_true_eq] at h
  exact h
theorem ap_pq {b d e : Int} (hb : ap_bde b d e) (h : ap_pn b d = true) : ap_q b d e = 3 * (2 * (3 * ap_xx b d + 4 * ap_yy b d) + 5 * e) := by
  obtain ⟨h1, h2⟩ := ap_pn_iff h
  obtain ⟨k1, k2, k3⟩ := hb
  unfold ap_q ap_mm
  rcases ap_three b d with ⟨c, e1, e2⟩ | ⟨c, c', e1, e2⟩ | ⟨c, c', e1, e2⟩ <;> rw [e1] at h1 <;> rw [e2] at h2 <;> rw [e1, e2] <;> omega
theorem ap_pt2 {b d e u W t0 t1 t2 : Int} (hb : ap_bde b d e) (h : ap_pn b d = true) (hs : ap_sol b d e 3 4 1 ap_Lo ap_Hi u W t0 t1 t2) :
    t0 * 5 = ap_xx b d * u ∧ t1 * 5 = ap_yy b d * u ∧ (3 * b < d → t0 = 0 ∧ t1 = b * u) ∧ (¬ 3 * b < d → 2 * d < b → t0 = d * u ∧ t1 = 0) ∧ (¬ 3 * b < d → ¬ 2 * d < b → 2 * t0 + t1 = b * u ∧ t0 + 3 * t1 = d * u) := by
  have ha := ap_sol_ans hb hs
  have hq := ap_pq hb h
  obtain ⟨_, _, _, hW⟩ := ha
  rw [hq] at hW
  obtain ⟨u1, u2, hp, hv, _⟩ := hs
  obtain ⟨⟨a1, a2⟩, ⟨b1, b2⟩, ⟨c1, c2⟩, p1, p2, p3, p4⟩ := hp
  have a1' : u * 0 ≤ t0 := a1
  have b1' : u * 0 ≤ t1 := b1
  rw [hv] at hW
  have cb : u * b = b * u := Int.mul_comm _ _
  have cd : u * d = d * u := Int.mul_comm _ _
  have ce : u * e = e * u := Int.mul_comm _ _
  rcases ap_three b d with ⟨c, e1, e2⟩ | ⟨c, c', e1, e2⟩ | ⟨c, c', e1, e2⟩ <;> rw [e1, e2] at hW <;> rw [e1, e2] <;> clear e1 e2
  · have x1 : 3 * (2 * (3 * 0 + 4 * (5 * b)) + 5 * e) * u = 120 * (b * u) + 15 * (e * u) := by grind
    have x2 : 5 * b * u = 5 * (b * u) := by grind
    rw [x1] at hW
    refine ⟨by omega, by omega, fun _ => by omega, fun z => absurd c z, fun z => absurd c z⟩
  · have x1 : 3 * (2 * (3 * (5 * d) + 4 * 0) + 5 * e) * u = 90 * (d * u) + 15 * (e * u) := by grind
    have x2 : 5 * d * u = 5 * (d * u) := by grind
    rw [x1] at hW
    refine ⟨by omega, by omega, fun z => absurd z c, fun _ _ => by omega, fun _ z => absurd c' z⟩
  · have x1 : 3 * (2 * (3 * (3 * b - d) + 4 * (2 * d - b)) + 5 * e) * u = 30 * (b * u) + 30 * (d * u) + 15 * (e * u) := by grind
    have x2 : (3 * b - d) * u = 3 * (b * u) - d * u := by grind
    have x3 : (2 * d - b) * u = 2 * (d * u) - b * u := by grind
    rw [x1] at hW
    refine ⟨by omega, by omega, fun z => absurd z c, fun _ z => absurd z c', fun _ _ => by omega⟩
theorem ap_tb_rel (q : Int) {k : Int} (hk : 0 < k) : ap_tp q k * k = q * ap_bm q k ∧ 0 < ap_bm q k ∧ ap_bm q k ≤ k := by
  obtain ⟨x, hx⟩ := (ap_gc_dvd q k).1
  obtain ⟨y, hy⟩ := (ap_gc_dvd q k).2
  have hp := ap_gc_pos q k
  unfold ap_tp ap_bm
  rw [ap_edge hp hx, ap_edge hp hy]
  have hy0 : 0 < y := ap_sgn_pos hp (by omega)
  refine ⟨?_, hy0, ?_⟩
  · have e1 : x * k = x * (ap_gc q k * y) := by rw [← hy]
    have e2 : q * y = ap_gc q k * x * y := by rw [← hx]
    rw [e1, e2]
    generalize ap_gc q k = g
    grind
  · have := ap_div_lb (c := k) hp (show -k ≤ ap_gc q k * y ∧ ap_gc q k * y ≤ k by omega)
    omega
theorem ap_tp_bd {q k B : Int} (hB : 0 ≤ B) (hk : 0 < k) (h : 0 ≤ q ∧ q ≤ B) : 0 ≤ ap_tp q k ∧ ap_tp q k ≤ B := by
  obtain ⟨x, hx⟩ := (ap_gc_dvd q k).1
  have hp := ap_gc_pos q k
  unfold ap_tp
  rw [ap_edge hp hx]
  have h1 := ap_div_lb (c := B) (x := x) hp (by omega)
  have h2 : 0 ≤ x := ap_pos_of_mul hp (by omega)
  omega
theorem ap_q_bd {b d e : Int} (hb : ap_bde b d e) : 0 ≤ ap_q b d e ∧ ap_q b d e ≤ 4800 := by
  obtain ⟨k1, k2, k3⟩ := hb
  unfold ap_q ap_mm
  omega
/-- whole points: even third bound -/
theorem ap_even {b d : Int} {en : Nat} (hb : 1 ≤ b) (hd : 1 ≤ d) (he : en ≤ 40) (h : en % 2 = 0) : ap_zp b d en ap_BX 0 0 ((en / 2 : Nat) : Int) := by
  unfold ap_zp ap_pt
  show (1 * (0 : Int) ≤ 0 ∧ (0 : Int) ≤ 1 * 20) ∧ (1 * (0 : Int) ≤ 0 ∧ (0 : Int) ≤ 1 * 20) ∧ (1 * (0 : Int) ≤ ((en / 2 : Nat) : Int) ∧ ((en / 2 : Nat) : Int) ≤ 1 * 20) ∧ 2 * (0 : Int) + 0 ≤ 1 * b ∧ (0 : Int) + 3 * 0 ≤ 1 * d ∧ (0 : Int) + 0 ≤ 1 * 80 ∧ 2 * ((en / 2 : Nat) : Int) = 1 * (en : Int)
  omega
theorem ap_odd {b d : Int} {en : Nat} (h : en % 2 = 1) (z0 z1 z2 : Int) : ¬ ap_zp b d en ap_BX z0 z1 z2 := by
  intro hz
  have h1 : 2 * z2 = 1 * (en : Int) := hz.2.2.2.2.2.2
  omega
/-! the count -/
theorem ap_sum_cut {f : Nat → Int} (h : ∀ j, 7 ≤ j → f j = 0) : ap_sum f 21 = ap_sum f 7 := by
  show ap_sum f 7 + f 7 + f 8 + f 9 + f 10 + f 11 + f 12 + f 13 + f 14 + f 15 + f 16 + f 17 + f 18 + f 19 + f 20 = _
  rw [h 7 (by decide), h 8 (by decide), h 9 (by decide), h 10 (by decide), h 11 (by decide), h 12 (by decide), h 13 (by decide), h 14 (by decide), h 15 (by decide), h 16 (by decide), h 17 (by decide), h 18 (by decide), h 19 (by decide), h 20 (by decide)]
  omega
theorem ap_cnt1 {b d e : Int} (he : 0 ≤ e ∧ e ≤ 40) : ap_sum (fun x => ap_sum (fun y => ap_ft 15 ap_nu1 ap_kd1 (ap_bo b d e) x y) 21) 21 = ap_sum (fun x => ap_sum (fun y => ap_c1 b d e x y) 21) 21 :=
  ap_sum_congr (fun x hx => ap_sum_congr (fun y hy => ap_ft1 he (by omega) (by omega)))
theorem ap_cnt7 {b d e : Int} (hb : b ≤ 6) (hd : d ≤ 6) : ap_sum (fun x => ap_sum (fun y => ap_c1 b d e x y) 21) 21 = ap_sum (fun x => ap_sum (fun y => ap_c1 b d e x y) 7) 7 := by
  have h1 : ∀ x : Nat, ap_sum (fun y => ap_c1 b d e x y) 21 = ap_sum (fun y => ap_c1 b d e x y) 7 := fun x => ap_sum_cut (fun y hy => by
    unfold ap_c1
    exact if_neg (by omega))
  have h2 : ap_sum (fun x => ap_sum (fun y => ap_c1 b d e x y) 21) 21 = ap_sum (fun x => ap_sum (fun y => ap_c1 b d e x y) 7) 21 := ap_sum_congr (fun x _ => h1 x)
  rw [h2]
  exact ap_sum_cut (fun x hx => by
    show ap_sum (fun y => ap_c1 b d e x y) 7 = 0
    rw [ap_sum_congr (g := fun _ => 0) (fun y _ => by
      unfold ap_c1
      exact if_neg (by omega)), ap_sum_zero])
theorem ap_cnt0 {b d e : Int} (h : e % 2 ≠ 0) (n : Nat) : ap_sum (fun x => ap_sum (fun y => ap_c1 b d e x y) n) n = 0 := by
  rw [ap_sum_congr (g := fun _ => 0) (fun x _ => by
    rw [ap_sum_congr (g := fun _ => 0) (fun y _ => by
      unfold ap_c1
      exact if_neg (fun z => h z.2.2)), ap_sum_zero]), ap_sum_zero]
theorem ap_cnt_b {b d e : Int} (n m : Nat) (x : Nat) : 0 ≤ ap_sum (fun y => ap_c1 b d e x y) n ∧ ap_sum (fun y => ap_c1 b d e x y) n ≤ n := by
  have h : ∀ y : Nat, 0 ≤ ap_c1 b d e x y ∧ ap_c1 b d e x y ≤ 1 := by
    intro y
    unfold ap_c1
    by_cases c : 2 * (x : Int) + y ≤ b ∧ (x : Int) + 3 * y ≤ d ∧ e % 2 = 0
    · rw [if_pos c]; decide
    · rw [if_neg c]; decide
  have h1 := ap_sum_nonneg (f := fun y => ap_c1 b d e x y) (n := n) (fun j _ => (h j).1)
  have h2 := ap_sum_bd (f := fun y => ap_c1 b d e x y) (B := 1) (n := n) (fun j _ => by have := h j; omega)
  omega
/-! tight bits -/
theorem ap_tbits {c : Nat → Bool} (h2 : c 2 = false) (h3 : c 3 = true) : ap_tb 15 c 5 = 8 + (if c 0 = true then 1 else 0) + (if c 1 = true then 2 else 0) := by
  show 0 + (if Nat.testBit 15 0 = true ∧ c 0 = true then 2 ^ 0 else 0) + (if Nat.testBit 15 1 = true ∧ c 1 = true then 2 ^ 1 else 0) + (if Nat.testBit 15 2 = true ∧ c 2 = true then 2 ^ 2 else 0) + (if Nat.testBit 15 3 = true ∧ c 3 = true then 2 ^ 3 else 0) + (if Nat.testBit 15 4 = true ∧ c 4 = true then 2 ^ 4 else 0) = _
  rw [h2, h3, show Nat.testBit 15 0 = true by decide, show Nat.testBit 15 1 = true by decide, show Nat.testBit 15 2 = true by decide, show Nat.testBit 15 3 = true by decide, show Nat.testBit 15 4 = false by decide]
  cases c 0 <;> cases c 1 <;> rfl
end
section
/-! the law -/
theorem ap_nums {post : Int32 → Prop} {a b c : Int32} (n : Nat) (h : ((a + 7) + (15 * (b + 7))) + (225 * (c + 7)) = nI n) (hp : post (nI n)) : wpL_numbers post () a b c := by
  unfold wpL_numbers
  rw [h]
  exact hp
theorem ap_kd_ok : ∀ j, j < 5 → j ≠ 3 → Nat.testBit 15 j = true → Nat.testBit 7 j = true ∧ (∀ i, i < 3 → ap_nu2 j i = ap_nu1 j i) ∧ ap_kd2 j = ap_kd1 j := by decide
theorem ap_bo_ok {b d e : Int} : ∀ j, j < 5 → j ≠ 3 → Nat.testBit 15 j = true → ap_bo b d 21 j = ap_bo b d e j := by
  intro j hj h3 ht
  have : j = 0 ∨ j = 1 ∨ j = 2 ∨ j = 4 := by omega
  rcases this with e | e | e | e <;> subst e
  · rfl
  · rfl
  · rfl
  · exact absurd ht (by decide)
section
variable {qpr : Int32} {qwo : Int32} {qrw : Int32} {qtu : Int32} {qun : Int64} {qco : Int32} {qfw : Int32} {qwc : Int32} {qwt : Int64} {qwb : Int64} {qln : Int32} {qem : Int32} {qhh : Int32} {qht : Int64} {qhb : Int64} {qhl : Int32} {qlt : Int64} {qlb : Int64} {qbr : Int32} {ql3 : Int32} {qg3 : Int32} {a1 : Nat → Int32} {a2 : Nat → Int32} {a3 : Nat → Int32} {a4 : Nat → Int32} {a5 : Nat → Int32} {a6 : Nat → Int32} {a7 : Nat → Int32} {a8 : Nat → Int32} {a9 : Nat → Int32} {a10 : Nat → Int64} {a11 : Nat → Int32} {a12 : Nat → Int32} {a13 : Nat → Int64} {a14 : Nat → Int64} {a15 : Nat → Int64} {a16 : Nat → Int64} {a17 : Nat → Int64} {a18 : Nat → Int32} {a19 : Nat → Int32}
variable {b d e : Int}
theorem ap_l834 {post : Int32 → St0 → Prop} {mc ms kc ks k : Nat} (hk : k < 3) (hb : 1 ≤ b ∧ b ≤ 60) (hd : 1 ≤ d ∧ d ≤ 60) (hG : ap_g1 b d e qpr a1 a2 a3 a4) (H : post 1 ()) : wL_lawOf_834 post mc ms (nI k) 1 kc ks qpr qwo qrw qtu qun qco qfw qwc qwt qwb qln qem qhh qht qhb qhl qlt qlb qbr ql3 qg3 a1 a2 a3 a4 a5 a6 a7 a8 a9 a10 a11 a12 a13 a14 a15 a16 a17 a18 a19 := by
  unfold wL_lawOf_834
  refine ap_remove3 hG.1.1 ?_
  have h7 : ap_dat 7 ap_nu1 ap_kd1 (ap_bo b d e) (nI 7) a1 a2 a3 := by
    refine ⟨rfl, by decide, fun j hj ht => hG.1.2.2 j hj ?_⟩
    have : ∀ j, j < 5 → Nat.testBit 7 j = true → Nat.testBit 15 j = true := by decide
    exact this j hj ht
  refine ap_nums 1912 (by decide) ?_
  refine ap_addM (n := 1912) (P := 7) (k := 3) (kd := 2) (bv := 21) (by rfl) (by rfl) (by decide) rfl (by decide) (by decide) (by decide) (by decide) (by decide) (by decide) (fun c1 c2 c3 f1 f2 f3 f4 f5 f6 => ?_)
  have hD : ap_dat 15 ap_nu2 ap_kd2 (ap_bo b d 21) (nI 15) c1 c2 c3 :=
    ap_dat_add (n := 1912) (P := 7) (k := 3) h7 (by decide) rfl (by decide) f1 f2 f3 f4 f5 f6 (by decide) (by decide) (by show -99 ≤ (21 : Int) ∧ (21 : Int) ≤ 99; decide) (fun j hj h3 ht => by
      obtain ⟨g1, g2, g3⟩ := ap_kd_ok j hj h3 ht
      exact ⟨g1, g2, g3, ap_bo_ok j hj h3 ht⟩)
  have hG2 : ap_g2 b d (nI 15) c1 c2 c3 a4 := ⟨hD, hG.2⟩
  refine br_f (by decide) (br_f (by decide) (br_t rfl ?_))
  refine ap_feasible2 hk hb hd hG2 (fun u' hU => ?_)
  obtain ⟨qpr, qwo, qrw, qtu, qun, qco, qfw, qwc, qwt, qwb, qln, qem, qhh, qht, qhb, qhl, qlt, qlb, qbr, ql3, qg3, a1, a2, a3, a4, a5, a6, a7, a8, a9, a10, a11, a12, a13, a14, a15, a16, a17, a18, a19⟩ := u'
  refine br_t rfl ?_
  refine ap_bestTop2 hk hb hd hU (fun u' hU => ?_)
  obtain ⟨qpr, qwo, qrw, qtu, qun, qco, qfw, qwc, qwt, qwb, qln, qem, qhh, qht, qhb, qhl, qlt, qlb, qbr, ql3, qg3, a1, a2, a3, a4, a5, a6, a7, a8, a9, a10, a11, a12, a13, a14, a15, a16, a17, a18, a19⟩ := u'
  refine br_t rfl ?_
  refine ap_pointTop2 (i := 0) (by decide) hb hd hU (fun u' hU => ?_)
  obtain ⟨qpr, qwo, qrw, qtu, qun, qco, qfw, qwc, qwt, qwb, qln, qem, qhh, qht, qhb, qhl, qlt, qlb, qbr, ql3, qg3, a1, a2, a3, a4, a5, a6, a7, a8, a9, a10, a11, a12, a13, a14, a15, a16, a17, a18, a19⟩ := u'
  refine br_t rfl ?_
  refine ap_tight2 hb hd hU (fun u' hU => ?_)
  obtain ⟨qpr, qwo, qrw, qtu, qun, qco, qfw, qwc, qwt, qwb, qln, qem, qhh, qht, qhb, qhl, qlt, qlb, qbr, ql3, qg3, a1, a2, a3, a4, a5, a6, a7, a8, a9, a10, a11, a12, a13, a14, a15, a16, a17, a18, a19⟩ := u'
  refine br_t rfl ?_
  have hU' : ap_g2 b d qpr a1 a2 a3 a4 := hU
  refine ap_wholes hU'.1 (fun qwo' ql3' qg3' a5' a6' => ?_)
  have hz : ap_sum (fun x => ap_sum (fun y => ap_ft 15 ap_nu2 ap_kd2 (ap_bo b d 21) x y) 21) 21 = 0 := by
    rw [ap_sum_congr (g := fun _ => 0) (fun x _ => by
      rw [ap_sum_congr (g := fun _ => 0) (fun y _ => ap_ft2), ap_sum_zero]), ap_sum_zero]
  rw [hz]
  refine br_t rfl ?_
  refine ap_reachTopN hU' (fun u' hU => ?_)
  obtain ⟨qpr, qwo, qrw, qtu, qun, qco, qfw, qwc, qwt, qwb, qln, qem, qhh, qht, qhb, qhl, qlt, qlb, qbr, ql3, qg3, a1, a2, a3, a4, a5, a6, a7, a8, a9, a10, a11, a12, a13, a14, a15, a16, a17, a18, a19⟩ := u'
  have hU' : ap_g2 b d qpr a1 a2 a3 a4 := hU
  refine br_t rfl ?_
  refine ap_nums 1928 (by decide) ?_
  refine ap_addM (n := 1928) (P := 15) (k := 4) (kd := 0) (bv := 5) (by rfl) (by rfl) (by decide) hU'.1.1 (by decide) (by decide) (by decide) (by decide) (by decide) (by decide) (fun c1 c2 c3 f1 f2 f3 f4 f5 f6 => ?_)
  refine br_t rfl ?_
  refine ap_nums 1928 (by decide) ?_
  refine ap_addFull (n := 1928) (kd := 0) (bv := 5) (by rfl) (by rfl) (by decide) rfl (by decide) (by decide) ?_
  refine br_t rfl ?_
  unfold wpX_add
  refine br_f (by decide) (br_t (by decide) ?_)
  refine br_t rfl ?_
  unfold wpX_goal
  refine br_t (by decide) ?_
  refine br_t rfl ?_
  unfold wpX_pointTop
  unfold wpX_isAmount
  refine br_f (by decide) (br_t (by decide) ?_)
  exact br_t rfl (br_t rfl H)
end
end
section
/-! the law, from its end to its beginning -/
section
variable {qpr : Int32} {qwo : Int32} {qrw : Int32} {qtu : Int32} {qun : Int64} {qco : Int32} {qfw : Int32} {qwc : Int32} {qwt : Int64} {qwb : Int64} {qln : Int32} {qem : Int32} {qhh : Int32} {qht : Int64} {qhb : Int64} {qhl : Int32} {qlt : Int64} {qlb : Int64} {qbr : Int32} {ql3 : Int32} {qg3 : Int32} {a1 : Nat → Int32} {a2 : Nat → Int32} {a3 : Nat → Int32} {a4 : Nat → Int32} {a5 : Nat → Int32} {a6 : Nat → Int32} {a7 : Nat → Int32} {a8 : Nat → Int32} {a9 : Nat → Int32} {a10 : Nat → Int64} {a11 : Nat → Int32} {a12 : Nat → Int32} {a13 : Nat → Int64} {a14 : Nat → Int64} {a15 : Nat → Int64} {a16 : Nat → Int64} {a17 : Nat → Int64} {a18 : Nat → Int32} {a19 : Nat → Int32}
variable {bn dn en : Nat}
theorem ap_l786 {post : Int32 → St0 → Prop} {mc ms kc ks k : Nat} {x29 : Int32} (hk : k < 3) (hb : 1 ≤ bn ∧ bn ≤ 60) (hd : 1 ≤ dn ∧ dn ≤ 60) (he : en ≤ 40) (hG : ap_g1 bn dn en qpr a1 a2 a3 a4)
    (h29 : x29 = ap_i (ap_sum (fun x => ap_sum (fun y => ap_c1 bn dn en x y) 7) 7)) (H : post 1 ()) : wL_lawOf_786 post mc ms (nI bn) (nI dn) (nI en) (nI k) x29 kc ks qpr qwo qrw qtu qun qco qfw qwc qwt qwb qln qem qhh qht qhb qhl qlt qlb qbr ql3 qg3 a1 a2 a3 a4 a5 a6 a7 a8 a9 a10 a11 a12 a13 a14 a15 a16 a17 a18 a19 := by
  have er : nI en - nI en / 2 * 2 = nI (en % 2) := pk_rem (d := 2) (by omega) (by decide) (by decide)
  have last : ∀ (qwo' : Int32) (ql3' : Int32) (qg3' : Int32) (a5' : Nat → Int32) (a6' : Nat → Int32), wL_lawOf_829 post mc ms (nI k) kc ks qpr qwo' qrw qtu qun qco qfw qwc qwt qwb qln qem qhh qht qhb qhl qlt qlb qbr ql3' qg3' a1 a2 a3 a4 a5' a6' a7 a8 a9 a10 a11 a12 a13 a14 a15 a16 a17 a18 a19 := by
    intro qwo' ql3' qg3' a5' a6'
    unfold wL_lawOf_829
    exact ap_l834 hk (by omega) (by omega) hG H
  unfold wL_lawOf_786
  refine ⟨by decide, ?_⟩
  rw [er]
  refine pk_eq (en % 2) 1 (fun z => ?_) (fun z => ?_)
  · refine ap_wholes hG.1 (fun qwo' ql3' qg3' a5' a6' => ?_)
    rw [ap_cnt1 (by omega), ap_cnt0 (by omega)]
    exact br_t rfl (last _ _ _ _ _)
  · refine pk_lt 6 bn (fun _ => last _ _ _ _ _) (fun z1 => ?_)
    refine pk_lt 6 dn (fun _ => last _ _ _ _ _) (fun z2 => ?_)
    refine ap_wholes hG.1 (fun qwo' ql3' qg3' a5' a6' => ?_)
    rw [ap_cnt1 (by omega), ap_cnt7 (by omega) (by omega)]
    exact br_t h29.symm (last _ _ _ _ _)
/-- the law's own count -/
theorem ap_l608 {post : Int32 → St0 → Prop} {mc ms kc ks : Nat} {J : Int32 → Int32 → Prop} {x8 x14 : Int32} {x22 x24 : Int64} {p : Nat} {n0 : Int} (hp : p < 7) (hb : bn ≤ 60) (hd : dn ≤ 60) (he : en ≤ 40)
    (H : J (ap_i (n0 + ap_sum (fun y => ap_c1 bn dn en p y) 7)) (nI (p + 1))) : ∃ q, wL_lawOf_608 post mc ms J (nI bn) (nI dn) (nI en) x8 x14 x22 x24 (nI p) kc ks qpr qwo qrw qtu qun qco qfw qwc qwt qwb qln qem qhh qht qhb qhl qlt qlb qbr ql3 qg3 a1 a2 a3 a4 a5 a6 a7 a8 a9 a10 a11 a12 a13 a14 a15 a16 a17 a18 a19 q (ap_i n0) 0 := by
  have er : nI en - nI en / 2 * 2 = nI (en % 2) := pk_rem (d := 2) (by omega) (by decide) (by decide)
  refine pk_loop (fun q y s => wL_lawOf_608 post mc ms J (nI bn) (nI dn) (nI en) x8 x14 x22 x24 (nI p) kc ks qpr qwo qrw qtu qun qco qfw qwc qwt qwb qln qem qhh qht qhb qhl qlt qlb qbr ql3 qg3 a1 a2 a3 a4 a5 a6 a7 a8 a9 a10 a11 a12 a13 a14 a15 a16 a17 a18 a19 q s (nI y)) (fun y s => s = ap_i (n0 + ap_sum (fun y => ap_c1 bn dn en p y) y)) 7 0 (ap_i n0) (by omega) (by show _ = ap_i (n0 + 0); rw [Int.add_zero]) ?_ ?_
  · intro q s hs
    subst hs
    exact pk_le 7 7 (fun _ => nm_r (nI_1 p) H) (fun z => absurd z (by omega))
  · intro q y s hy hs hs2
    subst hs
    have hsum : ap_sum (fun y => ap_c1 bn dn en p y) (y + 1) = ap_sum (fun y => ap_c1 bn dn en p y) y + ap_c1 bn dn en p y := rfl
    have no : ¬ (2 * (p : Int) + y ≤ bn ∧ (p : Int) + 3 * y ≤ dn ∧ (en : Int) % 2 = 0) → wL_lawOf_650 post mc ms J (wL_lawOf_608 post mc ms J (nI bn) (nI dn) (nI en) x8 x14 x22 x24 (nI p) kc ks qpr qwo qrw qtu qun qco qfw qwc qwt qwb qln qem qhh qht qhb qhl qlt qlb qbr ql3 qg3 a1 a2 a3 a4 a5 a6 a7 a8 a9 a10 a11 a12 a13 a14 a15 a16 a17 a18 a19 q) (nI bn) (nI dn) (nI en) x8 x14 x22 x24 (ap_i (n0 + ap_sum (fun y => ap_c1 bn dn en p y) y)) (nI p) (nI y) kc ks qpr qwo qrw qtu qun qco qfw qwc qwt qwb qln qem qhh qht qhb qhl qlt qlb qbr ql3 qg3 a1 a2 a3 a4 a5 a6 a7 a8 a9 a10 a11 a12 a13 a14 a15 a16 a17 a18 a19 := by
      intro hn
      unfold wL_lawOf_650 wL_lawOf_651
      refine br_t rfl (nm_r (nI_1 y) (hs2 _ ?_))
      rw [hsum]
      unfold ap_c1
      rw [if_neg hn, Int.add_zero]
    refine pk_le 7 y (fun z => absurd z (by omega)) (fun _ => ?_)
    have e1 : 2 * nI p + nI y = nI (2 * p + y) := by
      have : 2 * nI p = nI (2 * p) := pk_mul 2 p
      rw [this, nI_add]
    have e2 : nI p + 3 * nI y = nI (p + 3 * y) := by
      have : 3 * nI y = nI (3 * y) := pk_mul 3 y
      rw [this, nI_add]
    refine pk_lt bn (2 * p + y) (fun z => no (by omega)) (fun z1 => ?_) (hy := e1)
    refine pk_lt dn (p + 3 * y) (fun z => no (by omega)) (fun z2 => ⟨by decide, ?_⟩) (hy := e2)
    rw [er]
    refine pk_eq (en % 2) 0 (fun z3 => ?_) (fun z3 => no (by omega))
    unfold wL_lawOf_651
    refine br_f (by decide) (nm_r (e' := ap_i (n0 + ap_sum (fun y => ap_c1 bn dn en p y) (y + 1))) ?_ (nm_r (nI_1 y) (hs2 _ rfl)))
    rw [hsum, show (1 : Int32) = ap_i 1 from rfl, ap_i_add]
    unfold ap_c1
    rw [if_pos (by omega), Int.add_assoc]
theorem ap_l598 {post : Int32 → St0 → Prop} {mc ms kc ks k : Nat} (hk : k < 3) (hb : 1 ≤ bn ∧ bn ≤ 60) (hd : 1 ≤ dn ∧ dn ≤ 60) (he : en ≤ 40) (hG : ap_g1 bn dn en qpr a1 a2 a3 a4) (H : post 1 ()) :
    ∃ q, wL_lawOf_598 post mc ms (nI bn) (nI dn) (nI en) (nI k) 1 (ap_l (ap_tp (ap_q bn dn en) 30)) (ap_l (ap_bm (ap_q bn dn en) 30)) kc ks qpr qwo qrw qtu qun qco qfw qwc qwt qwb qln qem qhh qht qhb qhl qlt qlb qbr ql3 qg3 a1 a2 a3 a4 a5 a6 a7 a8 a9 a10 a11 a12 a13 a14 a15 a16 a17 a18 a19 q 0 0 := by
  have er : nI en - nI en / 2 * 2 = nI (en % 2) := pk_rem (d := 2) (by omega) (by decide) (by decide)
  have eh : nI en / 2 = nI (en / 2) := pk_div (d := 2) (by omega) (by decide) (by decide)
  have hbde : ap_bde bn dn en := ⟨by omega, by omega, by omega⟩
  refine pk_loop (fun q p s => wL_lawOf_598 post mc ms (nI bn) (nI dn) (nI en) (nI k) 1 (ap_l (ap_tp (ap_q bn dn en) 30)) (ap_l (ap_bm (ap_q bn dn en) 30)) kc ks qpr qwo qrw qtu qun qco qfw qwc qwt qwb qln qem qhh qht qhb qhl qlt qlb qbr ql3 qg3 a1 a2 a3 a4 a5 a6 a7 a8 a9 a10 a11 a12 a13 a14 a15 a16 a17 a18 a19 q s (nI p)) (fun p s => s = ap_i (ap_sum (fun x => ap_sum (fun y => ap_c1 bn dn en x y) 7) p)) 7 0 0 (by omega) rfl ?_ ?_
  · intro q s hs
    subst hs
    refine pk_le 7 7 (fun _ => ?_) (fun z => absurd z (by omega))
    refine ap_whole hG (fun r u' hU hr => ?_)
    obtain ⟨qpr, qwo, qrw, qtu, qun, qco, qfw, qwc, qwt, qwb, qln, qem, qhh, qht, qhb, qhl, qlt, qlb, qbr, ql3, qg3, a1, a2, a3, a4, a5, a6, a7, a8, a9, a10, a11, a12, a13, a14, a15, a16, a17, a18, a19⟩ := u'
    have last : ∀ u', ap_U1 bn dn en u' → ∀ (qpr : Int32) (qwo : Int32) (qrw : Int32) (qtu : Int32) (qun : Int64) (qco : Int32) (qfw : Int32) (qwc : Int32) (qwt : Int64) (qwb : Int64) (qln : Int32) (qem : Int32) (qhh : Int32) (qht : Int64) (qhb : Int64) (qhl : Int32) (qlt : Int64) (qlb : Int64) (qbr : Int32) (ql3 : Int32) (qg3 : Int32) (a1 : Nat → Int32) (a2 : Nat → Int32) (a3 : Nat → Int32) (a4 : Nat → Int32) (a5 : Nat → Int32) (a6 : Nat → Int32) (a7 : Nat → Int32) (a8 : Nat → Int32) (a9 : Nat → Int32) (a10 : Nat → Int64) (a11 : Nat → Int32) (a12 : Nat → Int32) (a13 : Nat → Int64) (a14 : Nat → Int64) (a15 : Nat → Int64) (a16 : Nat → Int64) (a17 : Nat → Int64) (a18 : Nat → Int32) (a19 : Nat → Int32), u' = (qpr, qwo, qrw, qtu, qun, qco, qfw, qwc, qwt, qwb, qln, qem, qhh, qht, qhb, qhl, qlt, qlb, qbr, ql3, qg3, a1, a2, a3, a4, a5, a6, a7, a8, a9, a10, a11, a12, a13, a14, a15, a16, a17, a18, a19) → wL_lawOf_786 post mc ms (nI bn) (nI dn) (nI en) (nI k) (ap_i (ap_sum (fun x => ap_sum (fun y => ap_c1 bn dn en x y) 7) 7)) kc ks qpr qwo qrw qtu qun qco qfw qwc qwt qwb qln qem qhh qht qhb qhl qlt qlb qbr ql3 qg3 a1 a2 a3 a4 a5 a6 a7 a8 a9 a10 a11 a12 a13 a14 a15 a16 a17 a18 a19 := by
      intro u' hU' qpr qwo qrw qtu qun qco qfw qwc qwt qwb qln qem qhh qht qhb qhl qlt qlb qbr ql3 qg3 a1 a2 a3 a4 a5 a6 a7 a8 a9 a10 a11 a12 a13 a14 a15 a16 a17 a18 a19 eu
      subst eu
      exact ap_l786 hk hb hd he hU' rfl H
    refine ap_wholePoint hU (fun hn u' hU2 => ?_) (fun G code u' hU2 hmax hz => ?_)
    · obtain ⟨qpr, qwo, qrw, qtu, qun, qco, qfw, qwc, qwt, qwb, qln, qem, qhh, qht, qhb, qhl, qlt, qlb, qbr, ql3, qg3, a1, a2, a3, a4, a5, a6, a7, a8, a9, a10, a11, a12, a13, a14, a15, a16, a17, a18, a19⟩ := u'
      have ho : ¬ en % 2 = 0 := fun z => hn _ _ _ (ap_even (by omega) (by omega) he z)
      have hr0 : r = -30000000 := by
        rcases hr with ⟨h, _⟩ | ⟨z0, z1, z2, h1, _⟩
        · exact h
        · exact absurd h1 (hn z0 z1 z2)
      subst hr0
      refine br_f (by decide) ⟨by decide, ?_⟩
      rw [er]
      refine pk_eq (en % 2) 0 (fun z => absurd z ho) (fun _ => br_t rfl (br_t rfl (last _ hU2 _ _ _ _ _ _ _ _ _ _ _ _ _ _ _ _ _ _ _ _ _ _ _ _ _ _ _ _ _ _ _ _ _ _ _ _ _ _ _ _ rfl)))
    · obtain ⟨qpr, qwo, qrw, qtu, qun, qco, qfw, qwc, qwt, qwb, qln, qem, qhh, qht, qhb, qhl, qlt, qlb, qbr, ql3, qg3, a1, a2, a3, a4, a5, a6, a7, a8, a9, a10, a11, a12, a13, a14, a15, a16, a17, a18, a19⟩ := u'
      obtain ⟨z0, z1, z2, hz1, hz2, hz3⟩ := hz
      have hzn := ap_zp_nn ap_BX_in hz1
      have h2z : 2 * z2 = 1 * (en : Int) := hz1.2.2.2.2.2.2
      have hev : en % 2 = 0 := by omega
      have hrG : r = G := by
        rcases hr with ⟨_, hn⟩ | ⟨y0, y1, y2, h1, h2, h3⟩
        · exact absurd hz1 (hn z0 z1 z2)
        · have g1 := h3 z0 z1 z2 hz1
          have g2 := hmax y0 y1 y2 h1
          omega
      have hob : r = 3 * z0 + 4 * z1 + 1 * z2 := by
        rw [hrG, ← hz2]
        rfl
      have hq := ap_zq hz1
      rw [hz2, ← hrG] at hq
      obtain ⟨t1, t2, t3⟩ := ap_tb_rel (ap_q bn dn en) (k := 30) (by decide)
      have tq := ap_q_bd hbde
      have tb := ap_tp_bd (k := 30) (B := 4800) (by decide) (by decide) tq
      have hcode : code < 9261 := by omega
      refine br_f (by decide) ⟨by decide, ?_⟩
      rw [er, eh]
      refine pk_eq (en % 2) 0 (fun _ => ⟨by decide, ?_⟩) (fun z => absurd hev z)
      refine ap_ilt r ((en / 2 : Nat) : Int) rfl (ap_i_nat _) (fun z => absurd z (by omega)) (fun _ => ?_)
      have hrb : r * ap_bm (ap_q bn dn en) 30 ≤ ap_tp (ap_q bn dn en) 30 := by
        have m := Int.mul_le_mul_of_nonneg_right hq (Int.le_of_lt t2)
        rw [← t1] at m
        have e1 : r * 30 * ap_bm (ap_q bn dn en) 30 = 30 * (r * ap_bm (ap_q bn dn en) 30) := by
          generalize ap_bm (ap_q bn dn en) 30 = x
          grind
        omega
      have hm := ap_mul_bd (A := 200) (B := 30) (by decide) (by decide) (show -200 ≤ r ∧ r ≤ 200 by omega) (show -30 ≤ ap_bm (ap_q bn dn en) 30 ∧ ap_bm (ap_q bn dn en) 30 ≤ 30 by omega)
      refine ap_llt (ap_tp (ap_q bn dn en) 30) (r * ap_bm (ap_q bn dn en) 30) rfl (by rw [ap_il (by omega), ap_l_mul]) (fun z => absurd z (by omega)) (fun _ => ⟨by decide, by decide, ?_⟩)
      have ec : nI code / 441 = nI (code / 441) := pk_div (d := 441) (by omega) (by decide) (by decide)
      have ec2 : nI code / 21 = nI (code / 21) := pk_div (d := 21) (by omega) (by decide) (by decide)
      have er1 : nI code - nI code / 21 * 21 = nI (code % 21) := pk_rem (d := 21) (by omega) (by decide) (by decide)
      have er2 : nI (code / 21) - nI (code / 21) / 21 * 21 = nI (code / 21 % 21) := pk_rem (d := 21) (by omega) (by decide) (by decide)
      rw [ec]
      refine pk_eq (code / 441) (en / 2) (fun _ => ⟨by decide, by decide, by decide, by decide, ?_⟩) (fun z => absurd (show code / 441 = en / 2 by omega) z)
      rw [er1, ec2, er2]
      refine br_t ?_ (last _ hU2 _ _ _ _ _ _ _ _ _ _ _ _ _ _ _ _ _ _ _ _ _ _ _ _ _ _ _ _ _ _ _ _ _ _ _ _ _ _ _ _ rfl)
      have e3 : 3 * nI (code % 21) = nI (3 * (code % 21)) := pk_mul 3 _
      have e4 : 4 * nI (code / 21 % 21) = nI (4 * (code / 21 % 21)) := pk_mul 4 _
      obtain ⟨n0, hn0⟩ : ∃ n0 : Nat, z0 = (n0 : Int) := ⟨z0.toNat, by omega⟩
      obtain ⟨n1, hn1⟩ : ∃ n1 : Nat, z1 = (n1 : Int) := ⟨z1.toNat, by omega⟩
      obtain ⟨n2, hn2⟩ : ∃ n2 : Nat, z2 = (n2 : Int) := ⟨z2.toNat, by omega⟩
      have hcd : code = n0 + 21 * n1 + 441 * n2 := by omega
      have q0 : code % 21 = n0 := by omega
      have q1 : code / 21 = n1 + 21 * n2 := by omega
      have q2 : code / 21 % 21 = n1 := by omega
      rw [e3, e4, nI_add, nI_add, ap_i_nat, q0, q2]
      congr 1
      omega
  · intro q p s hp hs hs2
    subst hs
    refine pk_le 7 p (fun z => absurd z (by omega)) (fun _ => ?_)
    exact ap_l608 hp (by omega) (by omega) he (hs2 _ rfl)
end
end
section
/-! the law's beginning -/
theorem ap_and12 : ∀ i, i < 2 → ∀ j, j < 2 → (nI (8 + i + 2 * j) &&& 12) = 8 ∧ (nI (8 + i + 2 * j) &&& 3) = nI (i + 2 * j) := by decide
section
variable {qpr : Int32} {qwo : Int32} {qrw : Int32} {qtu : Int32} {qun : Int64} {qco : Int32} {qfw : Int32} {qwc : Int32} {qwt : Int64} {qwb : Int64} {qln : Int32} {qem : Int32} {qhh : Int32} {qht : Int64} {qhb : Int64} {qhl : Int32} {qlt : Int64} {qlb : Int64} {qbr : Int32} {ql3 : Int32} {qg3 : Int32} {a1 : Nat → Int32} {a2 : Nat → Int32} {a3 : Nat → Int32} {a4 : Nat → Int32} {a5 : Nat → Int32} {a6 : Nat → Int32} {a7 : Nat → Int32} {a8 : Nat → Int32} {a9 : Nat → Int32} {a10 : Nat → Int64} {a11 : Nat → Int32} {a12 : Nat → Int32} {a13 : Nat → Int64} {a14 : Nat → Int64} {a15 : Nat → Int64} {a16 : Nat → Int64} {a17 : Nat → Int64} {a18 : Nat → Int32} {a19 : Nat → Int32}
variable {bn dn en : Nat}
theorem ap_l575 {post : Int32 → St0 → Prop} {mc ms kc ks k i j : Nat} (hi : i < 2) (hj : j < 2) (hk : k < 3) (hb : 1 ≤ bn ∧ bn ≤ 60) (hd : 1 ≤ dn ∧ dn ≤ 60) (he : en ≤ 40) (hG : ap_g1 bn dn en qpr a1 a2 a3 a4) (H : post 1 ()) :
    wL_lawOf_575 post mc ms (nI bn) (nI dn) (nI en) (nI k) (ap_l (ap_tp (ap_q bn dn en) 30)) (ap_l (ap_bm (ap_q bn dn en) 30)) (nI (8 + i + 2 * j)) kc ks qpr qwo qrw qtu qun qco qfw qwc qwt qwb qln qem qhh qht qhb qhl qlt qlb qbr ql3 qg3 a1 a2 a3 a4 a5 a6 a7 a8 a9 a10 a11 a12 a13 a14 a15 a16 a17 a18 a19 := by
  unfold wL_lawOf_575
  exact br_t (ap_and12 i hi j hj).1 (ap_l598 hk hb hd he hG H)
theorem ap_l530 {post : Int32 → St0 → Prop} {mc ms kc ks k : Nat} {x15 x16 x21 : Int32} (hx15 : x15 = ap_b (decide (3 * (bn : Int) < dn))) (hx16 : x16 = ap_b (decide (2 * (dn : Int) < bn))) (hx21 : x21 = ap_b (ap_pn bn dn)) (hk : k < 3) (hb : 1 ≤ bn ∧ bn ≤ 60) (hd : 1 ≤ dn ∧ dn ≤ 60) (he : en ≤ 40) (hG : ap_g1 bn dn en qpr a1 a2 a3 a4) (H : post 1 ()) :
    wL_lawOf_530 post mc ms (nI bn) (nI dn) (nI en) (nI k) x15 x16 x21 (ap_l (ap_tp (ap_q bn dn en) 30)) (ap_l (ap_bm (ap_q bn dn en) 30)) 1 kc ks qpr qwo qrw qtu qun qco qfw qwc qwt qwb qln qem qhh qht qhb qhl qlt qlb qbr ql3 qg3 a1 a2 a3 a4 a5 a6 a7 a8 a9 a10 a11 a12 a13 a14 a15 a16 a17 a18 a19 := by
  have hbde : ap_bde bn dn en := ⟨by omega, by omega, by omega⟩
  subst hx15 hx16 hx21
  unfold wL_lawOf_530
  refine ap_tight1 hbde hG (fun u W t0 t1 t2 hs u' hU => ?_)
  obtain ⟨qpr, qwo, qrw, qtu, qun, qco, qfw, qwc, qwt, qwb, qln, qem, qhh, qht, qhb, qhl, qlt, qlb, qbr, ql3, qg3, a1, a2, a3, a4, a5, a6, a7, a8, a9, a10, a11, a12, a13, a14, a15, a16, a17, a18, a19⟩ := u'
  have hu := hs.1
  have hpt := hs.2.2.1
  have h2z : 2 * t2 = u * (en : Int) := hpt.2.2.2.2.2.2
  have t0b : t0 ≤ u * 20 := hpt.1.2
  have t1b : t1 ≤ u * 20 := hpt.2.1.2
  generalize hc : (fun k => decide (ap_nu1 k 0 * t0 + ap_nu1 k 1 * t1 + ap_nu1 k 2 * t2 = ap_bo bn dn en k * u)) = c
  have c0 : c 0 = decide (2 * t0 + 1 * t1 + 0 * t2 = (bn : Int) * u) := by rw [← hc]; rfl
  have c1 : c 1 = decide (1 * t0 + 3 * t1 + 0 * t2 = (dn : Int) * u) := by rw [← hc]; rfl
  have c2 : c 2 = false := by
    rw [← hc]
    show decide (1 * t0 + 1 * t1 + 0 * t2 = 80 * u) = false
    exact decide_eq_false (by omega)
  have c3 : c 3 = true := by
    rw [← hc]
    show decide (0 * t0 + 0 * t1 + 2 * t2 = (en : Int) * u) = true
    rw [Int.mul_comm (en : Int)]
    exact decide_eq_true (by omega)
  obtain ⟨i, hi, ei⟩ : ∃ i, i < 2 ∧ (if c 0 = true then 1 else 0) = i := ⟨if c 0 = true then 1 else 0, by cases c 0 <;> decide, rfl⟩
  obtain ⟨j, hj, ej⟩ : ∃ j, j < 2 ∧ (if c 1 = true then 2 else 0) = 2 * j := ⟨if c 1 = true then 1 else 0, by cases c 1 <;> decide, by cases c 1 <;> rfl⟩
  rw [ap_tbits c2 c3, ei, ej]
  refine br_f (by decide) ?_
  have l575 : wL_lawOf_575 post mc ms (nI bn) (nI dn) (nI en) (nI k) (ap_l (ap_tp (ap_q bn dn en) 30)) (ap_l (ap_bm (ap_q bn dn en) 30)) (nI (8 + i + 2 * j)) kc ks qpr qwo qrw qtu qun qco qfw qwc qwt qwb qln qem qhh qht qhb qhl qlt qlb qbr ql3 qg3 a1 a2 a3 a4 a5 a6 a7 a8 a9 a10 a11 a12 a13 a14 a15 a16 a17 a18 a19 := ap_l575 hi hj hk hb hd he hU H
  refine ap_b0 (fun _ => l575) (fun hpn => ?_)
  obtain ⟨_, _, p1, p2, p3⟩ := ap_pt2 hbde hpn hs
  have l572 : ∀ z0 : Int32, z0 = nI (i + 2 * j) → wL_lawOf_572 post mc ms (nI bn) (nI dn) (nI en) (nI k) (ap_l (ap_tp (ap_q bn dn en) 30)) (ap_l (ap_bm (ap_q bn dn en) 30)) (nI (8 + i + 2 * j)) z0 (nI (8 + i + 2 * j) &&& 3) kc ks qpr qwo qrw qtu qun qco qfw qwc qwt qwb qln qem qhh qht qhb qhl qlt qlb qbr ql3 qg3 a1 a2 a3 a4 a5 a6 a7 a8 a9 a10 a11 a12 a13 a14 a15 a16 a17 a18 a19 := by
    intro z0 hz
    unfold wL_lawOf_572
    exact br_t (by rw [(ap_and12 i hi j hj).2, hz]) l575
  refine ap_b0 (fun hl => ?_) (fun hl => ?_)
  · have hl' : ¬ 3 * (bn : Int) < dn := of_decide_eq_false hl
    refine ap_b0 (fun hr => ?_) (fun hr => ?_)
    · have hr' : ¬ 2 * (dn : Int) < bn := of_decide_eq_false hr
      obtain ⟨g1, g2⟩ := p3 hl' hr'
      have d0 : c 0 = true := by rw [c0]; exact decide_eq_true (by omega)
      have d1 : c 1 = true := by rw [c1]; exact decide_eq_true (by omega)
      rw [d0] at ei
      rw [d1] at ej
      have ei' : 1 = i := ei
      have ej' : 2 = 2 * j := ej
      refine l572 3 ?_
      have e1 : i + 2 * j = 3 := by omega
      rw [e1]
      rfl
    · have hr' : 2 * (dn : Int) < bn := of_decide_eq_true hr
      obtain ⟨g1, g2⟩ := p2 hl' hr'
      have m : 0 < ((bn : Int) - 2 * dn) * u := Int.mul_pos (by omega) hu
      have m' : ((bn : Int) - 2 * dn) * u = bn * u - 2 * (dn * u) := by grind
      have d0 : c 0 = false := by rw [c0]; exact decide_eq_false (by omega)
      have d1 : c 1 = true := by rw [c1]; exact decide_eq_true (by omega)
      rw [d0] at ei
      rw [d1] at ej
      have ei' : 0 = i := ei
      have ej' : 2 = 2 * j := ej
      refine l572 2 ?_
      have e1 : i + 2 * j = 2 := by omega
      rw [e1]
      rfl
  · have hl' : 3 * (bn : Int) < dn := of_decide_eq_true hl
    obtain ⟨g1, g2⟩ := p1 hl'
    have m : 0 < ((dn : Int) - 3 * bn) * u := Int.mul_pos (by omega) hu
    have m' : ((dn : Int) - 3 * bn) * u = dn * u - 3 * (bn * u) := by grind
    have d0 : c 0 = true := by rw [c0]; exact decide_eq_true (by omega)
    have d1 : c 1 = false := by rw [c1]; exact decide_eq_false (by omega)
    rw [d0] at ei
    rw [d1] at ej
    have ei' : 1 = i := ei
    have ej' : 0 = 2 * j := ej
    refine l572 1 ?_
    have e1 : i + 2 * j = 1 := by omega
    rw [e1]
    rfl
theorem ap_l473 {post : Int32 → St0 → Prop} {mc ms kc ks k : Nat} {x15 x16 x21 : Int32} (hx15 : x15 = ap_b (decide (3 * (bn : Int) < dn))) (hx16 : x16 = ap_b (decide (2 * (dn : Int) < bn))) (hx21 : x21 = ap_b (ap_pn bn dn)) (hk : k < 3) (hb : 1 ≤ bn ∧ bn ≤ 60) (hd : 1 ≤ dn ∧ dn ≤ 60) (he : en ≤ 40) (hG : ap_g1 bn dn en qpr a1 a2 a3 a4) (H : post 1 ()) :
    wL_lawOf_473 post mc ms (nI bn) (nI dn) (nI en) (nI k) x15 x16 x21 (ap_l (ap_tp (ap_q bn dn en) 30)) (ap_l (ap_bm (ap_q bn dn en) 30)) kc ks qpr qwo qrw qtu qun qco qfw qwc qwt qwb qln qem qhh qht qhb qhl qlt qlb qbr ql3 qg3 a1 a2 a3 a4 a5 a6 a7 a8 a9 a10 a11 a12 a13 a14 a15 a16 a17 a18 a19 := by
  have hbde : ap_bde bn dn en := ⟨by omega, by omega, by omega⟩
  have hsel : ∀ u W t0 t1 t2, ap_sol bn dn en 3 4 1 ap_Lo ap_Hi u W t0 t1 t2 → ap_sel 2 t0 t1 t2 * 2 = (en : Int) * u := by
    intro u W t0 t1 t2 hs
    have h2z : 2 * t2 = u * (en : Int) := hs.2.2.1.2.2.2.2.2.2
    show t2 * 2 = _
    rw [Int.mul_comm (en : Int)]
    omega
  have hrel : ap_i (ap_tp en 2) * 2 = nI en * ap_i (ap_bm en 2) := by
    rw [ap_i_nat, show (2 : Int32) = ap_i 2 from rfl, ap_i_mul, ap_i_mul, (ap_tb_rel en (k := 2) (by decide)).1]
  unfold wL_lawOf_473
  refine ap_pointTop1 (i := 2) (q := en) (k := 2) (by decide) (by decide) hsel hbde hG (fun u' hU => ?_)
  obtain ⟨qpr, qwo, qrw, qtu, qun, qco, qfw, qwc, qwt, qwb, qln, qem, qhh, qht, qhb, qhl, qlt, qlb, qbr, ql3, qg3, a1, a2, a3, a4, a5, a6, a7, a8, a9, a10, a11, a12, a13, a14, a15, a16, a17, a18, a19⟩ := u'
  refine ap_pointBot1 (i := 2) (q := en) (k := 2) (by decide) (by decide) hsel hbde hU (fun u' hU => ?_)
  obtain ⟨qpr, qwo, qrw, qtu, qun, qco, qfw, qwc, qwt, qwb, qln, qem, qhh, qht, qhb, qhl, qlt, qlb, qbr, ql3, qg3, a1, a2, a3, a4, a5, a6, a7, a8, a9, a10, a11, a12, a13, a14, a15, a16, a17, a18, a19⟩ := u'
  refine br_t hrel ?_
  refine ap_reachTop2 hbde hU (fun u' hU => ?_)
  obtain ⟨qpr, qwo, qrw, qtu, qun, qco, qfw, qwc, qwt, qwb, qln, qem, qhh, qht, qhb, qhl, qlt, qlb, qbr, ql3, qg3, a1, a2, a3, a4, a5, a6, a7, a8, a9, a10, a11, a12, a13, a14, a15, a16, a17, a18, a19⟩ := u'
  refine ap_reachBot2 hbde hU (fun u' hU => ?_)
  obtain ⟨qpr, qwo, qrw, qtu, qun, qco, qfw, qwc, qwt, qwb, qln, qem, qhh, qht, qhb, qhl, qlt, qlb, qbr, ql3, qg3, a1, a2, a3, a4, a5, a6, a7, a8, a9, a10, a11, a12, a13, a14, a15, a16, a17, a18, a19⟩ := u'
  refine br_t hrel ?_
  refine ap_reachTop0 hbde hU (fun u' hU => ?_)
  obtain ⟨qpr, qwo, qrw, qtu, qun, qco, qfw, qwc, qwt, qwb, qln, qem, qhh, qht, qhb, qhl, qlt, qlb, qbr, ql3, qg3, a1, a2, a3, a4, a5, a6, a7, a8, a9, a10, a11, a12, a13, a14, a15, a16, a17, a18, a19⟩ := u'
  exact br_t rfl (ap_l530 hx15 hx16 hx21 hk hb hd he hU H)
theorem ap_xy_bd {b d e : Int} (hb : ap_bde b d e) : (0 ≤ ap_xx b d ∧ ap_xx b d ≤ 300) ∧ (0 ≤ ap_yy b d ∧ ap_yy b d ≤ 300) := by
  obtain ⟨k1, k2, k3⟩ := hb
  rcases ap_three b d with ⟨c, e1, e2⟩ | ⟨c, c', e1, e2⟩ | ⟨c, c', e1, e2⟩ <;> rw [e1, e2] <;> omega
/-- a fraction over 5 against its lowest terms, as longs -/
theorem ap_lrel {q : Int} (h : 0 ≤ q ∧ q ≤ 300) : (ap_i (ap_tp q 5)).toInt64 * 5 = (ap_i q).toInt64 * (ap_i (ap_bm q 5)).toInt64 := by
  obtain ⟨r1, r2, r3⟩ := ap_tb_rel q (k := 5) (by decide)
  have r4 := ap_tp_bd (k := 5) (B := 300) (by decide) (by decide) h
  rw [ap_il (by omega), ap_il (by omega), ap_il (by omega), show (5 : Int64) = ap_l 5 from rfl, ap_l_mul, ap_l_mul, r1]
theorem ap_l442 {post : Int32 → St0 → Prop} {mc ms kc ks k : Nat} {x15 x16 x18 x21 : Int32} (hx15 : x15 = ap_b (decide (3 * (bn : Int) < dn))) (hx16 : x16 = ap_b (decide (2 * (dn : Int) < bn))) (hx18 : x18 = ap_i (ap_yy bn dn)) (hx21 : x21 = ap_b (ap_pn bn dn)) (hk : k < 3) (hb : 1 ≤ bn ∧ bn ≤ 60) (hd : 1 ≤ dn ∧ dn ≤ 60) (he : en ≤ 40) (hG : ap_g1 bn dn en qpr a1 a2 a3 a4) (H : post 1 ()) :
    wL_lawOf_442 post mc ms (nI bn) (nI dn) (nI en) (nI k) x15 x16 x18 x21 (ap_l (ap_tp (ap_q bn dn en) 30)) (ap_l (ap_bm (ap_q bn dn en) 30)) kc ks qpr qwo qrw qtu qun qco qfw qwc qwt qwb qln qem qhh qht qhb qhl qlt qlb qbr ql3 qg3 a1 a2 a3 a4 a5 a6 a7 a8 a9 a10 a11 a12 a13 a14 a15 a16 a17 a18 a19 := by
  have hbde : ap_bde bn dn en := ⟨by omega, by omega, by omega⟩
  unfold wL_lawOf_442
  cases hpn : ap_pn bn dn
  · have h21 : x21 = 0 := by rw [hx21, hpn]; rfl
    exact br_t h21 (ap_l473 hx15 hx16 hx21 hk hb hd he hG H)
  · have h21 : ¬ x21 = 0 := by rw [hx21, hpn]; decide
    refine br_f h21 ?_
    have hsel : ∀ u W t0 t1 t2, ap_sol bn dn en 3 4 1 ap_Lo ap_Hi u W t0 t1 t2 → ap_sel 1 t0 t1 t2 * 5 = ap_yy bn dn * u := fun u W t0 t1 t2 hs => (ap_pt2 hbde hpn hs).2.1
    refine ap_pointTop1 (i := 1) (q := ap_yy bn dn) (k := 5) (by decide) (by decide) hsel hbde hG (fun u' hU => ?_)
    obtain ⟨qpr, qwo, qrw, qtu, qun, qco, qfw, qwc, qwt, qwb, qln, qem, qhh, qht, qhb, qhl, qlt, qlb, qbr, ql3, qg3, a1, a2, a3, a4, a5, a6, a7, a8, a9, a10, a11, a12, a13, a14, a15, a16, a17, a18, a19⟩ := u'
    refine ap_pointBot1 (i := 1) (q := ap_yy bn dn) (k := 5) (by decide) (by decide) hsel hbde hU (fun u' hU => ?_)
    obtain ⟨qpr, qwo, qrw, qtu, qun, qco, qfw, qwc, qwt, qwb, qln, qem, qhh, qht, qhb, qhl, qlt, qlb, qbr, ql3, qg3, a1, a2, a3, a4, a5, a6, a7, a8, a9, a10, a11, a12, a13, a14, a15, a16, a17, a18, a19⟩ := u'
    exact br_t (by rw [hx18]; exact ap_lrel (ap_xy_bd hbde).2) (ap_l473 hx15 hx16 hx21 hk hb hd he hU H)
theorem ap_l411 {post : Int32 → St0 → Prop} {mc ms kc ks k : Nat} {x15 x16 x17 x18 x21 : Int32} (hx15 : x15 = ap_b (decide (3 * (bn : Int) < dn))) (hx16 : x16 = ap_b (decide (2 * (dn : Int) < bn))) (hx17 : x17 = ap_i (ap_xx bn dn)) (hx18 : x18 = ap_i (ap_yy bn dn)) (hx21 : x21 = ap_b (ap_pn bn dn)) (hk : k < 3) (hb : 1 ≤ bn ∧ bn ≤ 60) (hd : 1 ≤ dn ∧ dn ≤ 60) (he : en ≤ 40) (hG : ap_g1 bn dn en qpr a1 a2 a3 a4) (H : post 1 ()) :
    wL_lawOf_411 post mc ms (nI bn) (nI dn) (nI en) (nI k) x15 x16 x17 x18 x21 (ap_l (ap_tp (ap_q bn dn en) 30)) (ap_l (ap_bm (ap_q bn dn en) 30)) kc ks qpr qwo qrw qtu qun qco qfw qwc qwt qwb qln qem qhh qht qhb qhl qlt qlb qbr ql3 qg3 a1 a2 a3 a4 a5 a6 a7 a8 a9 a10 a11 a12 a13 a14 a15 a16 a17 a18 a19 := by
  have hbde : ap_bde bn dn en := ⟨by omega, by omega, by omega⟩
  unfold wL_lawOf_411
  cases hpn : ap_pn bn dn
  · have h21 : x21 = 0 := by rw [hx21, hpn]; rfl
    exact br_t h21 (ap_l442 hx15 hx16 hx18 hx21 hk hb hd he hG H)
  · have h21 : ¬ x21 = 0 := by rw [hx21, hpn]; decide
    refine br_f h21 ?_
    have hsel : ∀ u W t0 t1 t2, ap_sol bn dn en 3 4 1 ap_Lo ap_Hi u W t0 t1 t2 → ap_sel 0 t0 t1 t2 * 5 = ap_xx bn dn * u := fun u W t0 t1 t2 hs => (ap_pt2 hbde hpn hs).1
    refine ap_pointTop1 (i := 0) (q := ap_xx bn dn) (k := 5) (by decide) (by decide) hsel hbde hG (fun u' hU => ?_)
    obtain ⟨qpr, qwo, qrw, qtu, qun, qco, qfw, qwc, qwt, qwb, qln, qem, qhh, qht, qhb, qhl, qlt, qlb, qbr, ql3, qg3, a1, a2, a3, a4, a5, a6, a7, a8, a9, a10, a11, a12, a13, a14, a15, a16, a17, a18, a19⟩ := u'
    refine ap_pointBot1 (i := 0) (q := ap_xx bn dn) (k := 5) (by decide) (by decide) hsel hbde hU (fun u' hU => ?_)
    obtain ⟨qpr, qwo, qrw, qtu, qun, qco, qfw, qwc, qwt, qwb, qln, qem, qhh, qht, qhb, qhl, qlt, qlb, qbr, ql3, qg3, a1, a2, a3, a4, a5, a6, a7, a8, a9, a10, a11, a12, a13, a14, a15, a16, a17, a18, a19⟩ := u'
    exact br_t (by rw [hx17]; exact ap_lrel (ap_xy_bd hbde).1) (ap_l442 hx15 hx16 hx18 hx21 hk hb hd he hU H)
theorem ap_l333 {post : Int32 → St0 → Prop} {mc ms kc ks k : Nat} {x15 x16 x17 x18 z0 : Int32} (hx15 : x15 = ap_b (decide (3 * (bn : Int) < dn))) (hx16 : x16 = ap_b (decide (2 * (dn : Int) < bn))) (hx17 : x17 = ap_i (ap_xx bn dn)) (hx18 : x18 = ap_i (ap_yy bn dn)) (hz0 : z0 = ap_b (ap_pn bn dn)) (hk : k < 3) (hb : 1 ≤ bn ∧ bn ≤ 60) (hd : 1 ≤ dn ∧ dn ≤ 60) (he : en ≤ 40) (hG : ap_g1 bn dn en qpr a1 a2 a3 a4) (H : post 1 ()) :
    wL_lawOf_333 post mc ms (nI bn) (nI dn) (nI en) (nI k) 1 x15 x16 x17 x18 z0 kc ks qpr qwo qrw qtu qun qco qfw qwc qwt qwb qln qem qhh qht qhb qhl qlt qlb qbr ql3 qg3 a1 a2 a3 a4 a5 a6 a7 a8 a9 a10 a11 a12 a13 a14 a15 a16 a17 a18 a19 := by
  have hbde : ap_bde bn dn en := ⟨by omega, by omega, by omega⟩
  obtain ⟨r1, r2, r3⟩ := ap_tb_rel (ap_q bn dn en) (k := 30) (by decide)
  have tq := ap_q_bd hbde
  have r4 := ap_tp_bd (k := 30) (B := 4800) (by decide) (by decide) tq
  have hxy := ap_xy_bd hbde
  unfold wL_lawOf_333
  refine ap_bestTop1 hk hbde hG (fun u' hU => ?_)
  obtain ⟨qpr, qwo, qrw, qtu, qun, qco, qfw, qwc, qwt, qwb, qln, qem, qhh, qht, qhb, qhl, qlt, qlb, qbr, ql3, qg3, a1, a2, a3, a4, a5, a6, a7, a8, a9, a10, a11, a12, a13, a14, a15, a16, a17, a18, a19⟩ := u'
  refine ap_bestBot1 hk hbde hU (fun u' hU => ?_)
  obtain ⟨qpr, qwo, qrw, qtu, qun, qco, qfw, qwc, qwt, qwb, qln, qem, qhh, qht, qhb, qhl, qlt, qlb, qbr, ql3, qg3, a1, a2, a3, a4, a5, a6, a7, a8, a9, a10, a11, a12, a13, a14, a15, a16, a17, a18, a19⟩ := u'
  rw [ap_il (z := ap_tp (ap_q bn dn en) 30) (by omega), ap_il (z := ap_bm (ap_q bn dn en) 30) (by omega)]
  refine nm_r (e' := ap_l (2 * (3 * ap_xx bn dn + 4 * ap_yy bn dn) + 5 * en)) ?_ ?_
  · rw [hx17, hx18, show (3 : Int32) = ap_i 3 from rfl, show (4 : Int32) = ap_i 4 from rfl, ap_i_mul, ap_i_mul, ap_i_add, ap_il (by omega), ap_i_nat, ap_il (by omega), show (2 : Int64) = ap_l 2 from rfl, show (5 : Int64) = ap_l 5 from rfl, ap_l_mul, ap_l_mul, ap_l_add]
  refine br_f (by decide) ?_
  refine ap_llt (ap_bm (ap_q bn dn en) 30) 1 rfl rfl (fun z => absurd z (by omega)) (fun _ => ?_)
  cases hpn : ap_pn bn dn
  · have h0 : z0 = 0 := by rw [hz0, hpn]; rfl
    exact br_t h0 (ap_l411 hx15 hx16 hx17 hx18 hz0 hk hb hd he hU H)
  · have h0 : ¬ z0 = 0 := by rw [hz0, hpn]; decide
    refine br_f h0 ?_
    refine br_t ?_ (ap_l411 hx15 hx16 hx17 hx18 hz0 hk hb hd he hU H)
    rw [show (10 : Int64) = ap_l 10 from rfl, ap_l_mul, ap_l_mul]
    have hq := ap_pq hbde hpn
    rw [hq] at r1
    rw [← hq] at r1
    congr 1
    have e1 : ap_tp (ap_q bn dn en) 30 * 30 = 3 * (2 * (3 * ap_xx bn dn + 4 * ap_yy bn dn) + 5 * en) * ap_bm (ap_q bn dn en) 30 := by
      rw [r1]
      exact congrArg (· * ap_bm (ap_q bn dn en) 30) hq
    have e2 : 3 * (2 * (3 * ap_xx bn dn + 4 * ap_yy bn dn) + 5 * (en : Int)) * ap_bm (ap_q bn dn en) 30 = 3 * ((2 * (3 * ap_xx bn dn + 4 * ap_yy bn dn) + 5 * en) * ap_bm (ap_q bn dn en) 30) := Int.mul_assoc _ _ _
    omega
theorem ap_l196 {post : Int32 → St0 → Prop} {mc ms kc ks k : Nat} (hk : k < 3) (hb : 1 ≤ bn ∧ bn ≤ 60) (hd : 1 ≤ dn ∧ dn ≤ 60) (he : en ≤ 40) (hG : ap_g1 bn dn en qpr a1 a2 a3 a4) (H : post 1 ()) :
    wL_lawOf_196 post mc ms (nI bn) (nI dn) (nI en) (nI k) 1 kc ks qpr qwo qrw qtu qun qco qfw qwc qwt qwb qln qem qhh qht qhb qhl qlt qlb qbr ql3 qg3 a1 a2 a3 a4 a5 a6 a7 a8 a9 a10 a11 a12 a13 a14 a15 a16 a17 a18 a19 := by
  have hbde : ap_bde bn dn en := ⟨by omega, by omega, by omega⟩
  have hxy := ap_xy_bd hbde
  have l288 : ∀ x15 x16 x17 x18 : Int32, x15 = ap_b (decide (3 * (bn : Int) < dn)) → x16 = ap_b (decide (2 * (dn : Int) < bn)) → x17 = ap_i (ap_xx bn dn) → x18 = ap_i (ap_yy bn dn) → wL_lawOf_288 post mc ms (nI bn) (nI dn) (nI en) (nI k) 1 x15 x16 x17 x18 kc ks qpr qwo qrw qtu qun qco qfw qwc qwt qwb qln qem qhh qht qhb qhl qlt qlb qbr ql3 qg3 a1 a2 a3 a4 a5 a6 a7 a8 a9 a10 a11 a12 a13 a14 a15 a16 a17 a18 a19 := by
    intro x15 x16 x17 x18 h15 h16 h17 h18
    have fin : ∀ z0 : Int32, z0 = ap_b (ap_pn bn dn) → wL_lawOf_333 post mc ms (nI bn) (nI dn) (nI en) (nI k) 1 x15 x16 x17 x18 z0 kc ks qpr qwo qrw qtu qun qco qfw qwc qwt qwb qln qem qhh qht qhb qhl qlt qlb qbr ql3 qg3 a1 a2 a3 a4 a5 a6 a7 a8 a9 a10 a11 a12 a13 a14 a15 a16 a17 a18 a19 := fun z0 hz => ap_l333 h15 h16 h17 h18 hz hk hb hd he hG H
    unfold wL_lawOf_288
    refine ap_ile (ap_xx bn dn) 100 h17 rfl (fun z => ?_) (fun z => ?_)
    · unfold wL_lawOf_302
      refine ap_ile (ap_yy bn dn) 100 h18 rfl (fun y => ?_) (fun y => ?_)
      · unfold wL_lawOf_316
        refine br_t rfl (br_t rfl (fin 1 ?_))
        unfold ap_pn
        rw [decide_eq_true z, decide_eq_true y]
        rfl
      · unfold wL_lawOf_316
        refine br_t rfl (br_f (by decide) ?_)
        unfold wL_lawOf_332
        refine fin 0 ?_
        unfold ap_pn
        rw [decide_eq_true z, decide_eq_false (by omega)]
        rfl
    · unfold wL_lawOf_302
      have h0 : (0 : Int32) = ap_b (ap_pn bn dn) := by
        unfold ap_pn
        rw [decide_eq_false (by omega)]
        rfl
      refine ap_ile (ap_yy bn dn) 100 h18 rfl (fun y => ?_) (fun y => ?_)
      · unfold wL_lawOf_316
        refine br_f (by decide) ?_
        unfold wL_lawOf_332
        exact fin 0 h0
      · unfold wL_lawOf_316
        refine br_f (by decide) ?_
        unfold wL_lawOf_332
        exact fin 0 h0
  have e3 : 3 * nI bn = nI (3 * bn) := pk_mul 3 bn
  have e2 : 2 * nI dn = nI (2 * dn) := pk_mul 2 dn
  have t3 : 3 * nI bn = ap_i (3 * bn) := by rw [ap_i_nat]; exact ap_i_mul 3 bn
  have t2 : 2 * nI dn = ap_i (2 * dn) := by rw [ap_i_nat]; exact ap_i_mul 2 dn
  have t5b : 5 * nI bn = ap_i (5 * bn) := by rw [ap_i_nat]; exact ap_i_mul 5 bn
  have t5d : 5 * nI dn = ap_i (5 * dn) := by rw [ap_i_nat]; exact ap_i_mul 5 dn
  unfold wL_lawOf_196
  refine pk_le dn (3 * bn) (fun hl => ?_) (fun hl => ?_) (hy := e3)
  · have dl : decide (3 * (bn : Int) < dn) = false := decide_eq_false (by omega)
    have three := ap_three bn dn
    unfold wL_lawOf_212
    refine pk_le bn (2 * dn) (fun hr => ?_) (fun hr => ?_) (hy := e2)
    · have dr : decide (2 * (dn : Int) < bn) = false := decide_eq_false (by omega)
      unfold wL_lawOf_228
      refine br_t rfl (br_t rfl ?_)
      unfold wL_lawOf_258
      refine br_t rfl (br_t rfl ?_)
      refine l288 _ _ _ _ (by rw [dl]; rfl) (by rw [dr]; rfl) ?_ ?_
      · rw [t3, ap_i_nat, ap_i_sub]
        congr 1
        omega
      · rw [t2, ap_i_nat, ap_i_sub]
        congr 1
        omega
    · have dr : decide (2 * (dn : Int) < bn) = true := decide_eq_true (by omega)
      unfold wL_lawOf_228
      refine br_t rfl (br_f (by decide) ?_)
      unfold wL_lawOf_258
      refine br_t rfl (br_f (by decide) ?_)
      refine l288 _ _ _ _ (by rw [dl]; rfl) (by rw [dr]; rfl) ?_ ?_
      · rw [t5d]
        congr 1
        omega
      · show ap_i 0 = _
        congr 1
        omega
  · have dl : decide (3 * (bn : Int) < dn) = true := decide_eq_true (by omega)
    have three := ap_three bn dn
    unfold wL_lawOf_212
    have fin : ∀ x16 : Int32, x16 = ap_b (decide (2 * (dn : Int) < bn)) → wL_lawOf_228 post mc ms (nI bn) (nI dn) (nI en) (nI k) 1 1 x16 kc ks qpr qwo qrw qtu qun qco qfw qwc qwt qwb qln qem qhh qht qhb qhl qlt qlb qbr ql3 qg3 a1 a2 a3 a4 a5 a6 a7 a8 a9 a10 a11 a12 a13 a14 a15 a16 a17 a18 a19 := by
      intro x16 h16
      unfold wL_lawOf_228
      refine br_f (by decide) ?_
      unfold wL_lawOf_258
      refine br_f (by decide) ?_
      refine l288 _ _ _ _ (by rw [dl]; rfl) h16 ?_ ?_
      · show ap_i 0 = _
        congr 1
        omega
      · rw [t5b]
        congr 1
        omega
    refine pk_le bn (2 * dn) (fun hr => fin 0 ?_) (fun hr => fin 1 ?_) (hy := e2)
    · rw [decide_eq_false (by omega)]; rfl
    · rw [decide_eq_true (by omega)]; rfl
end
end
section
/-! the owed statement -/
theorem ap_st0 : ∀ j, j < 5 → j ≠ 0 → Nat.testBit (0 + 2 ^ 0) j = true → Nat.testBit 0 j = true := by decide
theorem ap_st1 : ∀ j, j < 5 → j ≠ 1 → Nat.testBit (1 + 2 ^ 1) j = true → Nat.testBit 1 j = true := by decide
theorem ap_st2 : ∀ j, j < 5 → j ≠ 2 → Nat.testBit (3 + 2 ^ 2) j = true → Nat.testBit 3 j = true := by decide
theorem ap_st3 : ∀ j, j < 5 → j ≠ 3 → Nat.testBit (7 + 2 ^ 3) j = true → Nat.testBit 7 j = true := by decide
theorem ap_lawOf {post : Int32 → St0 → Prop} {p0 p1 p2 p3 : Int32} (H : post 1 ()) : wpL_lawOf post 20 2701 () p0 p1 p2 p3 := by
  obtain ⟨j0, hj0, e0⟩ := pk_andE p0 (m := 65535) 16 (by decide)
  obtain ⟨j1, hj1, e1⟩ := pk_andE p1 (m := 65535) 16 (by decide)
  obtain ⟨j2, hj2, e2⟩ := pk_andE p2 (m := 65535) 16 (by decide)
  obtain ⟨j3, hj3, e3⟩ := pk_andE p3 (m := 65535) 16 (by decide)
  have f0 : 1 + (nI j0 - nI j0 / 60 * 60) = nI (1 + j0 % 60) := by
    have : nI j0 - nI j0 / 60 * 60 = nI (j0 % 60) := pk_rem (d := 60) (by omega) (by decide) (by decide)
    rw [this]
    exact nI_add 1 _
  have f1 : 1 + (nI j1 - nI j1 / 60 * 60) = nI (1 + j1 % 60) := by
    have : nI j1 - nI j1 / 60 * 60 = nI (j1 % 60) := pk_rem (d := 60) (by omega) (by decide) (by decide)
    rw [this]
    exact nI_add 1 _
  have f2 : nI j2 - nI j2 / 41 * 41 = nI (j2 % 41) := pk_rem (d := 41) (by omega) (by decide) (by decide)
  have f3 : nI j3 - nI j3 / 3 * 3 = nI (j3 % 3) := pk_rem (d := 3) (by omega) (by decide) (by decide)
  have hbn : 1 ≤ 1 + j0 % 60 ∧ 1 + j0 % 60 ≤ 60 := by omega
  have hdn : 1 ≤ 1 + j1 % 60 ∧ 1 + j1 % 60 ≤ 60 := by omega
  have hen : j2 % 41 ≤ 40 := by omega
  have hkn : j3 % 3 < 3 := by omega
  generalize 1 + j0 % 60 = bn at f0 hbn
  generalize 1 + j1 % 60 = dn at f1 hdn
  generalize j2 % 41 = en at f2 hen
  generalize j3 % 3 = k at f3 hkn
  have hbde : ap_bde bn dn en := ⟨by omega, by omega, by omega⟩
  unfold wpL_lawOf
  rw [e0, e1, e2, e3]
  refine ⟨by decide, by decide, 19, 2661, by decide, by decide, ?_⟩
  unfold wpX_init
  dsimp only
  refine ⟨by decide, by decide, by decide, by decide, by decide, by decide, by decide, by decide, by decide, by decide, by decide, by decide, by decide, by decide, by decide, by decide, by decide, by decide, by decide, by decide, by decide, by decide, by decide, by decide, by decide, by decide, by decide, by decide, by decide, by decide, by decide, by decide, by decide, by decide, by decide, by decide, by decide, by decide, ?_⟩
  refine ⟨by decide, nm_r f0 ⟨by decide, nm_r f1 ⟨by decide, nm_r f2 ⟨by decide, nm_r f3 ?_⟩⟩⟩⟩
  have d0 : ap_dat 0 ap_nu1 ap_kd1 (ap_bo bn dn en) 0 (fun _ => 0) (fun _ => 0) (fun _ => 0) := ⟨rfl, by decide, fun j hj ht => absurd ht (by rw [Nat.zero_testBit]; decide)⟩
  refine ap_nums 1704 (by decide) ?_
  refine ap_addM (n := 1704) (P := 0) (k := 0) (kd := 0) (bv := bn) (by rfl) (ap_i_nat bn) (by decide) rfl (by decide) (by decide) (by decide) (by decide) (by decide) (by omega) (fun u1 u2 u3 g1 g2 g3 g4 g5 g6 => ?_)
  have d1 : ap_dat (0 + 2 ^ 0) ap_nu1 ap_kd1 (ap_bo bn dn en) (nI (0 + 2 ^ 0)) u1 u2 u3 := ap_dat_add (n := 1704) d0 (by decide) rfl (by decide) g1 g2 g3 g4 g5 g6 (by decide) (by decide) (by show -99 ≤ (bn : Int) ∧ (bn : Int) ≤ 99; omega) (fun j hj h3 ht => ⟨ap_st0 j hj h3 ht, fun _ _ => rfl, rfl, rfl⟩)
  refine ap_nums 1733 (by decide) ?_
  refine ap_addM (n := 1733) (P := 1) (k := 1) (kd := 0) (bv := dn) (by rfl) (ap_i_nat dn) (by decide) rfl (by decide) (by decide) (by decide) (by decide) (by decide) (by omega) (fun v1 v2 v3 g1 g2 g3 g4 g5 g6 => ?_)
  have d2 : ap_dat (1 + 2 ^ 1) ap_nu1 ap_kd1 (ap_bo bn dn en) (nI (1 + 2 ^ 1)) v1 v2 v3 := ap_dat_add (n := 1733) d1 (by decide) rfl (by decide) g1 g2 g3 g4 g5 g6 (by decide) (by decide) (by show -99 ≤ (dn : Int) ∧ (dn : Int) ≤ 99; omega) (fun j hj h3 ht => ⟨ap_st1 j hj h3 ht, fun _ _ => rfl, rfl, rfl⟩)
  refine ap_nums 1703 (by decide) ?_
  refine ap_addM (n := 1703) (P := 3) (k := 2) (kd := 0) (bv := 80) (by rfl) (by rfl) (by decide) rfl (by decide) (by decide) (by decide) (by decide) (by decide) (by decide) (fun w1 w2 w3 g1 g2 g3 g4 g5 g6 => ?_)
  have d3 : ap_dat (3 + 2 ^ 2) ap_nu1 ap_kd1 (ap_bo bn dn en) (nI (3 + 2 ^ 2)) w1 w2 w3 := ap_dat_add (n := 1703) d2 (by decide) rfl (by decide) g1 g2 g3 g4 g5 g6 (by decide) (by decide) (by show -99 ≤ (80 : Int) ∧ (80 : Int) ≤ 99; decide) (fun j hj h3 ht => ⟨ap_st2 j hj h3 ht, fun _ _ => rfl, rfl, rfl⟩)
  refine ap_nums 2137 (by decide) ?_
  refine ap_addM (n := 2137) (P := 7) (k := 3) (kd := 1) (bv := en) (by rfl) (ap_i_nat en) (by decide) rfl (by decide) (by decide) (by decide) (by decide) (by decide) (by omega) (fun z1 z2 z3 g1 g2 g3 g4 g5 g6 => ?_)
  have d4 : ap_dat (7 + 2 ^ 3) ap_nu1 ap_kd1 (ap_bo bn dn en) (nI (7 + 2 ^ 3)) z1 z2 z3 := ap_dat_add (n := 2137) d3 (by decide) rfl (by decide) g1 g2 g3 g4 g5 g6 (by decide) (by decide) (by show -99 ≤ (en : Int) ∧ (en : Int) ≤ 99; omega) (fun j hj h3 ht => ⟨ap_st3 j hj h3 ht, fun _ _ => rfl, rfl, rfl⟩)
  refine ap_nums 1975 (by decide) ?_
  refine ap_goalM (n := 1975) (by decide) (fun b4 h4 => ?_)
  have hdg : ∀ i, i < 3 → ap_dg 1975 i = ap_gl i := by decide
  have hG : ap_g1 bn dn en (nI (7 + 2 ^ 3)) z1 z2 z3 b4 := ⟨d4, fun i hi => by rw [h4 i hi, hdg i hi]⟩
  refine br_t rfl (br_t rfl (br_t rfl (br_t rfl (br_f (by decide) ?_))))
  unfold wpX_conditions
  refine br_t rfl ?_
  refine ap_redundant2 hG (fun u' hU => ?_)
  obtain ⟨qpr, qwo, qrw, qtu, qun, qco, qfw, qwc, qwt, qwb, qln, qem, qhh, qht, qhb, qhl, qlt, qlb, qbr, ql3, qg3, a1, a2, a3, a4, a5, a6, a7, a8, a9, a10, a11, a12, a13, a14, a15, a16, a17, a18, a19⟩ := u'
  refine br_f (by decide) ?_
  refine ap_redundant3 hbde hU (fun u' hU => ?_)
  obtain ⟨qpr, qwo, qrw, qtu, qun, qco, qfw, qwc, qwt, qwb, qln, qem, qhh, qht, qhb, qhl, qlt, qlb, qbr, ql3, qg3, a1, a2, a3, a4, a5, a6, a7, a8, a9, a10, a11, a12, a13, a14, a15, a16, a17, a18, a19⟩ := u'
  refine br_t rfl ?_
  refine ap_feasible1 hkn hbde hU (fun u' hU => ?_)
  obtain ⟨qpr, qwo, qrw, qtu, qun, qco, qfw, qwc, qwt, qwb, qln, qem, qhh, qht, qhb, qhl, qlt, qlb, qbr, ql3, qg3, a1, a2, a3, a4, a5, a6, a7, a8, a9, a10, a11, a12, a13, a14, a15, a16, a17, a18, a19⟩ := u'
  exact br_f (by decide) (ap_l196 hkn hbn hdn hen hU H)
theorem ap_cellAt {post : Int32 → Prop} {L : Nat} {xs : Nat → Int32} {i : Nat} (hi : i < 4) (hL : L ≤ 4) (H : ∀ r, post r) : wpL_cellAt post L xs () (nI i) := by
  unfold wpL_cellAt
  refine pk_le L i (fun _ => H _) (fun z => ⟨pk_in i L z, H _⟩)
theorem i_vc (xs : Nat → Int32) (L : Nat) (hL : L ≤ 4) : wpL_law (fun r => r = 1) L xs := by
  unfold wpL_law
  refine ap_cellAt (i := 0) (by decide) hL (fun r1 => ?_)
  refine ap_cellAt (i := 1) (by decide) hL (fun r2 => ?_)
  refine ap_cellAt (i := 2) (by decide) hL (fun r3 => ?_)
  refine ap_cellAt (i := 3) (by decide) hL (fun r4 => ?_)
  exact ⟨20, 2701, by decide, by decide, ap_lawOf rfl⟩
end
