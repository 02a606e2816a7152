section
/-! rows of the kit's rows to paste (PURE-ROWS, BITS): a starting text -/
theorem pk_us {f : Nat → Int32} {k : Nat} {x : Int32} : upd f k x k = x := if_pos rfl
theorem pk_un {f : Nat → Int32} {k j : Nat} {x : Int32} (h : j ≠ k) : upd f k x j = f j := if_neg h
theorem pk_sub {a b : Nat} (h : b ≤ a) : nI a - nI b = nI (a - b) := by
  obtain ⟨c, rfl⟩ : ∃ c, a = c + b := ⟨a - b, by omega⟩
  rw [← nI_add, Int32.add_sub_cancel, Nat.add_sub_cancel]
theorem pk_m1 (n : Nat) : nI (n + 1) + (-1) = nI n := by
  rw [← nI_1, Int32.add_assoc, show (1 : Int32) + (-1) = 0 from rfl, Int32.add_zero]
theorem pk_mul (a b : Nat) : nI a * nI b = nI (a * b) := (Int32.ofNat_mul a b).symm
theorem pk_ix (x : Int32) {n : Nat} (hn : n < 2 ^ 31) : x < 0 ∨ nI n ≤ x ∨ ∃ j : Nat, j < n ∧ x = nI j := by
  by_cases h : x < 0
  · exact Or.inl h
  · obtain ⟨j, hj, rfl⟩ := nI_of h
    by_cases h2 : j < n
    · exact Or.inr (Or.inr ⟨j, h2, rfl⟩)
    · exact Or.inr (Or.inl (nI_le (by omega) hj))
theorem pk_le {x y : Int32} {A B : Prop} (a b : Nat) (f : a ≤ b → A) (g : b < a → B) (hx : x = nI a := by rfl) (hy : y = nI b := by rfl) (ha : a < 2 ^ 31 := by omega) (hb : b < 2 ^ 31 := by omega) : (x ≤ y → A) ∧ (¬ x ≤ y → B) := by
  subst hx hy
  rw [nI_leI ha hb]
  exact ⟨f, fun z => g (by omega)⟩
theorem pk_lt {x y : Int32} {A B : Prop} (a b : Nat) (f : a < b → A) (g : b ≤ a → B) (hx : x = nI a := by rfl) (hy : y = nI b := by rfl) (ha : a < 2 ^ 31 := by omega) (hb : b < 2 ^ 31 := by omega) : (x < y → A) ∧ (¬ x < y → B) := by
  subst hx hy
  rw [nI_ltI ha hb]
  exact ⟨f, fun z => g (by omega)⟩
theorem pk_eq {x y : Int32} {A B : Prop} (a b : Nat) (f : a = b → A) (g : a ≠ b → B) (hx : x = nI a := by rfl) (hy : y = nI b := by rfl) (ha : a < 2 ^ 31 := by omega) (hb : b < 2 ^ 31 := by omega) : (x = y → A) ∧ (¬ x = y → B) := by
  subst hx hy
  rw [nI_eq ha hb]
  exact ⟨f, g⟩
theorem pk_in {x : Int32} (n N : Nat) (h : n < N) (hx : x = nI n := by rfl) (hN : N < 2 ^ 31 := by omega) : vp_in x N := by
  subst hx
  exact vp_in_nI h hN
theorem pk_cl {x : Int32} (n : Nat) (hx : x = nI n := by rfl) (h : n < 2 ^ 31 := by omega) : x.toNatClampNeg = n := by
  subst hx
  exact nI_clamp h
theorem pk_tn {n : Nat} (h : n < 2 ^ 32) : (nI n).toBitVec.toNat = n := Nat.mod_eq_of_lt h
def bt (x : Int32) (i : Nat) : Bool := x.toBitVec.getLsbD i
theorem b_ext {x y : Int32} (h : ∀ i, i < 32 → bt x i = bt y i) : x = y := Int32.toBitVec_inj.mp (BitVec.eq_of_getLsbD_eq (fun i hi => h i hi))
theorem b_or (x y : Int32) (i : Nat) : bt (x ||| y) i = (bt x i || bt y i) := by unfold bt; rw [Int32.toBitVec_or, BitVec.getLsbD_or]
theorem b_and (x y : Int32) (i : Nat) : bt (x &&& y) i = (bt x i && bt y i) := by unfold bt; rw [Int32.toBitVec_and, BitVec.getLsbD_and]
theorem b_xor (x y : Int32) (i : Nat) : bt (x ^^^ y) i = (bt x i ^^ bt y i) := by unfold bt; rw [Int32.toBitVec_xor, BitVec.getLsbD_xor]
theorem b_big {x : Int32} {i : Nat} (h : 32 ≤ i) : bt x i = false := BitVec.getLsbD_of_ge _ _ h
theorem b_m1 : ∀ i, i < 32 → bt (-1) i = true := by decide +kernel
theorem b_0 (i : Nat) : bt 0 i = false := BitVec.getLsbD_zero
theorem s_l : ∀ n, n < 32 → ((nI n &&& 31).toBitVec.smod 32).toNat = n := by decide +kernel
theorem b_shl (n : Nat) (hn : n < 32) (x : Int32) {i : Nat} (hi : i < 32) : bt (x <<< (nI n &&& 31)) i = (decide (n ≤ i) && bt x (i - n)) := by
  unfold bt
  rw [Int32.toBitVec_shiftLeft]
  show (x.toBitVec <<< ((nI n &&& 31).toBitVec.smod 32).toNat).getLsbD i = _
  rw [s_l n hn, BitVec.getLsbD_shiftLeft]
  rcases Nat.lt_or_ge i n with h | h
  · simp [h, Nat.not_le.mpr h]
  · simp [hi, h, Nat.not_lt.mpr h]
theorem pk_least (P : Nat → Prop) (h : ∃ k, P k) : ∃ k, P k ∧ ∀ j, j < k → ¬ P j := by
  obtain ⟨k, hk⟩ := h
  induction k using Nat.strongRecOn with
  | ind k ih =>
    by_cases e : ∃ j, j < k ∧ P j
    · obtain ⟨j, hj, pj⟩ := e
      exact ih j hj pj
    · exact ⟨k, hk, fun j hj pj => e ⟨j, hj, pj⟩⟩
end
section
/-! ===== bits of a mask, indices, counts: plain rows ===== -/
theorem zz_if {α : Sort _} {p q : Prop} [Decidable p] [Decidable q] {a b : α} (h : p ↔ q) : (if p then a else b) = (if q then a else b) := by
  by_cases hp : p
  · rw [if_pos hp, if_pos (h.mp hp)]
  · rw [if_neg hp, if_neg (fun z => hp (h.mpr z))]
theorem zz_nf {b : Bool} (h : ¬ b = true) : b = false := by cases b with
  | false => rfl
  | true => exact absurd rfl h
theorem zz_nt {b : Bool} (h : ¬ b = false) : b = true := by cases b with
  | true => rfl
  | false => exact absurd rfl h
theorem zb_1 : ∀ j, j < 32 → bt 1 j = decide (j = 0) := by decide +kernel
theorem zb_one {c i : Nat} (hc : c < 32) (hi : i < 32) : bt ((1 : Int32) <<< (nI c &&& 31)) i = decide (i = c) := by
  rw [b_shl c hc 1 hi, zb_1 (i - c) (by omega)]
  by_cases h : c ≤ i
  · by_cases e : i = c
    · rw [decide_eq_true h, decide_eq_true e, decide_eq_true (by omega : i - c = 0)]; rfl
    · rw [decide_eq_true h, decide_eq_false e, decide_eq_false (by omega : ¬ i - c = 0)]; rfl
  · rw [decide_eq_false h, decide_eq_false (by omega : ¬ i = c)]; rfl
theorem zb_tst (m : Int32) {c : Nat} (hc : c < 32) : m &&& ((1 : Int32) <<< (nI c &&& 31)) = 0 ↔ bt m c = false := by
  constructor
  · intro h
    have h2 : bt (m &&& ((1 : Int32) <<< (nI c &&& 31))) c = false := by rw [h]; exact b_0 c
    rw [b_and, zb_one hc hc, decide_eq_true rfl, Bool.and_true] at h2
    exact h2
  · intro h
    apply b_ext
    intro i hi
    rw [b_and, zb_one hc hi, b_0]
    by_cases e : i = c
    · rw [e, h]; rfl
    · rw [decide_eq_false e, Bool.and_false]
theorem zb_set (m : Int32) {c i : Nat} (hc : c < 32) (hi : i < 32) : bt (m ||| ((1 : Int32) <<< (nI c &&& 31))) i = (bt m i || decide (i = c)) := by rw [b_or, zb_one hc hi]
theorem zb_not (m : Int32) {i : Nat} (hi : i < 32) : bt (m ^^^ (-1)) i = !bt m i := by rw [b_xor, b_m1 i hi, Bool.xor_true]
theorem zb_dif (m h : Int32) {i : Nat} (hi : i < 32) : bt (m &&& (h ^^^ (-1))) i = (bt m i && !bt h i) := by rw [b_and, zb_not h hi]
theorem zb_clr (m : Int32) {c i : Nat} (hc : c < 32) (hi : i < 32) : bt (m &&& (((1 : Int32) <<< (nI c &&& 31)) ^^^ (-1))) i = (bt m i && !decide (i = c)) := by rw [zb_dif _ _ hi, zb_one hc hi]
theorem zb_z {m : Int32} (h : ∀ i, i < 32 → bt m i = false) : m = 0 := b_ext (fun i hi => by rw [h i hi, b_0])
theorem zb_nz {m : Int32} (h : ¬ m = 0) : ∃ i, i < 32 ∧ bt m i = true := by
  apply Classical.byContradiction
  intro z
  exact h (zb_z (fun i hi => zz_nf (fun e => z ⟨i, hi, e⟩)))
theorem zi_8 (t c : Nat) : nI t * 8 + nI c = nI (t * 8 + c) := by
  rw [show (8 : Int32) = nI 8 from rfl, pk_mul, nI_add]
theorem zi_4 (c j : Nat) : nI c * 4 + nI j = nI (c * 4 + j) := by
  rw [show (4 : Int32) = nI 4 from rfl, pk_mul, nI_add]
theorem zi_q : ∀ q, q < 4 → ∀ k, k < 4 → (nI q - nI k) &&& 3 = nI ((q + 4 - k) % 4) := by decide +kernel
theorem zi_q0 : ∀ q, q < 4 → (nI q - 0) &&& 3 = nI q := by decide +kernel
theorem zi_q1 : ∀ q, q < 4 → (nI q + 1) &&& 3 = nI ((q + 1) % 4) := by decide +kernel
theorem zi_n0 : vp_nar .boolean 0 = 0 := rfl
theorem zi_n1 : vp_nar .boolean 1 = 1 := rfl
theorem zi_le {x y : Int32} : x ≤ y ↔ x.toInt ≤ y.toInt := Int32.le_iff_toInt_le
theorem zi_lt {x y : Int32} : x < y ↔ x.toInt < y.toInt := Int32.lt_iff_toInt_lt
theorem zi_eq {x y : Int32} : x = y ↔ x.toInt = y.toInt := Int32.toInt_inj.symm
theorem zi_m1n {n : Nat} (h : n < 2 ^ 31) : ¬ nI n = -1 := by
  rw [zi_eq, nI_toInt h, show (-1 : Int32).toInt = -1 from by decide]; omega
/-- n of the first numbers satisfy p -/
def zc_n (p : Nat → Bool) : Nat → Nat
  | 0 => 0
  | n + 1 => zc_n p n + (if p n = true then 1 else 0)
theorem zc_t {p : Nat → Bool} {n : Nat} (h : p n = true) : zc_n p (n + 1) = zc_n p n + 1 := by
  show zc_n p n + (if p n = true then 1 else 0) = _
  rw [if_pos h]
theorem zc_f {p : Nat → Bool} {n : Nat} (h : p n = false) : zc_n p (n + 1) = zc_n p n := by
  show zc_n p n + (if p n = true then 1 else 0) = _
  rw [if_neg (by rw [h]; exact Bool.false_ne_true)]; rfl
theorem zc_le (p : Nat → Bool) : ∀ n, zc_n p n ≤ n := by
  intro n
  induction n with
  | zero => exact Nat.le_refl 0
  | succ n ih =>
    cases h : p n with
    | true => rw [zc_t h]; omega
    | false => rw [zc_f h]; omega
theorem zc_z {p : Nat → Bool} : ∀ {n : Nat}, zc_n p n = 0 ↔ ∀ i, i < n → p i = false := by
  intro n
  induction n with
  | zero => exact ⟨fun _ i h => absurd h (Nat.not_lt_zero i), fun _ => rfl⟩
  | succ n ih =>
    cases h : p n with
    | true =>
      rw [zc_t h]
      exact ⟨fun z => by omega, fun z => absurd ((z n (by omega)).symm.trans h) Bool.false_ne_true⟩
    | false =>
      rw [zc_f h, ih]
      exact ⟨fun z => lt_s z h, fun z i hi => z i (by omega)⟩
theorem zc_pos {p : Nat → Bool} {n : Nat} (h : ¬ zc_n p n = 0) : ∃ i, i < n ∧ p i = true := by
  apply Classical.byContradiction
  intro z
  exact h (zc_z.mpr (fun i hi => zz_nf (fun e => z ⟨i, hi, e⟩)))
theorem zc_ext {p q : Nat → Bool} : ∀ {n : Nat}, (∀ i, i < n → p i = q i) → zc_n p n = zc_n q n := by
  intro n
  induction n with
  | zero => intro _; rfl
  | succ n ih =>
    intro h
    show zc_n p n + (if p n = true then 1 else 0) = zc_n q n + (if q n = true then 1 else 0)
    rw [ih (fun i hi => h i (by omega)), h n (by omega)]
theorem zc_pad {p : Nat → Bool} {n : Nat} : ∀ {d : Nat}, (∀ i, n ≤ i → i < n + d → p i = false) → zc_n p (n + d) = zc_n p n := by
  intro d
  induction d with
  | zero => intro _; rfl
  | succ d ih =>
    intro h
    rw [show n + (d + 1) = (n + d) + 1 from rfl, zc_f (h (n + d) (by omega) (by omega)), ih (fun i h1 h2 => h i h1 (by omega))]
/-- how many s with 60 - d < s <= 60 satisfy p -/
def za_b (p : Nat → Bool) : Nat → Nat
  | 0 => 0
  | d + 1 => za_b p d + (if p (60 - d) = true then 1 else 0)
theorem za_s {p : Nat → Bool} {s : Nat} (h : s < 60) : za_b p (60 - s) = za_b p (60 - (s + 1)) + (if p (s + 1) = true then 1 else 0) := by
  have e : 60 - s = (60 - (s + 1)) + 1 := by omega
  rw [e]
  show za_b p (60 - (s + 1)) + (if p (60 - (60 - (s + 1))) = true then 1 else 0) = _
  rw [show 60 - (60 - (s + 1)) = s + 1 from by omega]
theorem za_t {p : Nat → Bool} {s : Nat} (h : s < 60) (hp : p (s + 1) = true) : za_b p (60 - s) = za_b p (60 - (s + 1)) + 1 := by
  rw [za_s h, if_pos hp]
theorem za_f {p : Nat → Bool} {s : Nat} (h : s < 60) (hp : p (s + 1) = false) : za_b p (60 - s) = za_b p (60 - (s + 1)) := by
  rw [za_s h, if_neg (by rw [hp]; exact Bool.false_ne_true)]; rfl
theorem za_mono {p : Nat → Bool} {s : Nat} : ∀ d, s + d ≤ 60 → za_b p (60 - (s + d)) ≤ za_b p (60 - s) := by
  intro d
  induction d with
  | zero => intro _; exact Nat.le_refl _
  | succ d ih =>
    intro h
    have h1 := ih (by omega)
    have h2 := za_s (p := p) (s := s + d) (by omega)
    rw [show s + (d + 1) = s + d + 1 from rfl]
    omega
theorem za_lt {p : Nat → Bool} {s s' : Nat} (h : s < s') (h60 : s' ≤ 60) (hp : p s' = true) : za_b p (60 - s') + 1 ≤ za_b p (60 - s) := by
  obtain ⟨d, rfl⟩ : ∃ d, s' = s + d + 1 := ⟨s' - s - 1, by omega⟩
  have h1 := za_mono (p := p) (s := s) d (by omega)
  rw [za_t (by omega) hp] at h1
  exact h1
theorem za_ex {p : Nat → Bool} {k : Nat} : ∀ d s, s + d = 60 → k < za_b p (60 - s) → ∃ s', s < s' ∧ s' ≤ 60 ∧ p s' = true ∧ za_b p (60 - s') = k := by
  intro d
  induction d with
  | zero =>
    intro s hs hk
    rw [show 60 - s = 0 from by omega] at hk
    exact absurd hk (Nat.not_lt_zero k)
  | succ d ih =>
    intro s hs hk
    cases h : p (s + 1) with
    | true =>
      rw [za_t (by omega) h] at hk
      by_cases e : za_b p (60 - (s + 1)) = k
      · exact ⟨s + 1, by omega, by omega, h, e⟩
      · obtain ⟨s', h1, h2⟩ := ih (s + 1) (by omega) (by omega)
        exact ⟨s', by omega, h2⟩
    | false =>
      rw [za_f (by omega) h] at hk
      obtain ⟨s', h1, h2⟩ := ih (s + 1) (by omega) hk
      exact ⟨s', by omega, h2⟩
theorem za_eq {p : Nat → Bool} {s s' j : Nat} (h60 : s' ≤ 60) (e : za_b p (60 - s) = za_b p (60 - s')) (h1 : s < j) (h2 : j ≤ s') : p j = false := by
  apply zz_nf
  intro hp
  have a := za_lt h1 (by omega) hp
  obtain ⟨d, rfl⟩ : ∃ d, s' = j + d := ⟨s' - j, by omega⟩
  have b := za_mono (p := p) (s := j) d (by omega)
  omega
theorem za_ext {p q : Nat → Bool} : ∀ d s, s + d = 60 → (∀ j, s < j → j ≤ 60 → p j = q j) → za_b p (60 - s) = za_b q (60 - s) := by
  intro d
  induction d with
  | zero =>
    intro s hs _
    rw [show 60 - s = 0 from by omega]; rfl
  | succ d ih =>
    intro s hs h
    rw [za_s (p := p) (s := s) (by omega), za_s (p := q) (s := s) (by omega), ih (s + 1) (by omega) (fun j h1 h2 => h j (by omega) h2), h (s + 1) (by omega) (by omega)]
theorem za_none {p : Nat → Bool} : ∀ d s, s + d = 60 → (∀ j, s < j → j ≤ 60 → p j = false) → za_b p (60 - s) = 0 := by
  intro d
  induction d with
  | zero =>
    intro s hs _
    rw [show 60 - s = 0 from by omega]; rfl
  | succ d ih =>
    intro s hs h
    rw [za_f (by omega) (h (s + 1) (by omega) (by omega)), ih (s + 1) (by omega) (fun j h1 h2 => h j (by omega) h2)]
/-- one s* more, above all others: everything below counts one more -/
theorem za_new {p q : Nat → Bool} {z : Nat} (hz : 1 ≤ z) (h60 : z ≤ 60) (hq : q z = true) (hne : ∀ j, j ≠ z → q j = p j) (htop : ∀ j, z ≤ j → j ≤ 60 → p j = false) :
    ∀ d s, s + d + 1 = z → za_b q (60 - s) = za_b p (60 - s) + 1 := by
  intro d
  induction d with
  | zero =>
    intro s hs
    have e : s + 1 = z := by omega
    rw [za_t (by omega) (by rw [e]; exact hq), za_f (p := p) (by omega) (by rw [e]; exact htop z (by omega) (by omega))]
    rw [za_none (p := q) (60 - z) (s + 1) (by omega) (fun j h1 h2 => (hne j (by omega)).trans (htop j (by omega) h2)), za_none (p := p) (60 - z) (s + 1) (by omega) (fun j h1 h2 => htop j (by omega) h2)]
  | succ d ih =>
    intro s hs
    rw [za_s (p := q) (by omega), za_s (p := p) (by omega), ih (s + 1) (by omega), hne (s + 1) (by omega)]
    omega
/-- the count from below, of those above m, is the count from above -/
theorem za_c0 {p : Nat → Bool} {m : Nat} : ∀ n, n ≤ m → zc_n (fun j => p (j + 1) && decide (m < j + 1)) n = 0 := by
  intro n h
  exact zc_z.mpr (fun i hi => by rw [decide_eq_false (by omega : ¬ m < i + 1), Bool.and_false])
theorem za_c {p : Nat → Bool} {m : Nat} : ∀ d, m + d ≤ 60 → zc_n (fun j => p (j + 1) && decide (m < j + 1)) (m + d) + za_b p (60 - (m + d)) = za_b p (60 - m) := by
  intro d
  induction d with
  | zero => intro _; rw [show m + 0 = m from rfl, za_c0 m (Nat.le_refl m), Nat.zero_add]
  | succ d ih =>
    intro h
    have h1 := ih (by omega)
    cases hp : p (m + d + 1) with
    | true =>
      rw [za_t (s := m + d) (by omega) hp] at h1
      rw [show m + (d + 1) = m + d + 1 from rfl, zc_t (by show (p (m + d + 1) && decide (m < m + d + 1)) = true; rw [hp, decide_eq_true (by omega)]; rfl)]
      omega
    | false =>
      rw [za_f (s := m + d) (by omega) hp] at h1
      rw [show m + (d + 1) = m + d + 1 from rfl, zc_f (by show (p (m + d + 1) && decide (m < m + d + 1)) = false; rw [hp]; rfl)]
      exact h1
theorem za_cc {p : Nat → Bool} {m : Nat} (h : m ≤ 60) : zc_n (fun j => p (j + 1) && decide (m < j + 1)) 60 = za_b p (60 - m) := by
  have h1 := za_c (p := p) (m := m) (60 - m) (by omega)
  rw [show m + (60 - m) = 60 from by omega] at h1
  exact h1
end
section
/-! ===== X: the helpers, each once, over a general post ===== -/
section
variable {T C D L K : Nat} {st ca sn sp se bu xr xw xh xp xl ho ne ke vv vs : Nat → Int32}
/-- the states of a thread that is committing -/
def zs_cm (s : Int32) : Prop := s = 2 ∨ s = 3 ∨ s = 4 ∨ s = 5
theorem zs_cm_iff (s : Int32) : zs_cm s ↔ ¬ s < 2 ∧ ¬ 5 < s := by
  unfold zs_cm
  rw [zi_eq, zi_eq, zi_eq, zi_eq, zi_lt, zi_lt, show (2 : Int32).toInt = 2 from by decide, show (3 : Int32).toInt = 3 from by decide, show (4 : Int32).toInt = 4 from by decide, show (5 : Int32).toInt = 5 from by decide]
  omega
theorem xx_thY {A B : Prop} {t : Nat} (hT : T ≤ 4) (ht : t < T) (h : B) : wpX_isThread (fun r => (r = 0 → A) ∧ (¬ r = 0 → B)) (nI T, nI C, nI D, nI L, nI K, st, ca, sn, sp, xr, xw, xh, xp, xl, se, bu, ho, ne, ke, vv, vs) (nI t) :=
  br_f (nI_pos (by omega)) (br_f (nI_ge ht (by omega)) (br_f (by decide) h))
theorem xx_thN {A B : Prop} {v : Int32} (hv : v < 0 ∨ nI T ≤ v) (h : A) : wpX_isThread (fun r => (r = 0 → A) ∧ (¬ r = 0 → B)) (nI T, nI C, nI D, nI L, nI K, st, ca, sn, sp, xr, xw, xh, xp, xl, se, bu, ho, ne, ke, vv, vs) v := by
  by_cases h0 : v < 0
  · exact br_t h0 (br_t rfl h)
  · exact br_f h0 (br_t (hv.resolve_left h0) (br_t rfl h))
theorem xx_ceY {A B : Prop} {c : Nat} (hC : C ≤ 8) (hc : c < C) (h : B) : wpX_isCell (fun r => (r = 0 → A) ∧ (¬ r = 0 → B)) (nI T, nI C, nI D, nI L, nI K, st, ca, sn, sp, xr, xw, xh, xp, xl, se, bu, ho, ne, ke, vv, vs) (nI c) :=
  br_f (nI_pos (by omega)) (br_f (nI_ge hc (by omega)) (br_f (by decide) h))
theorem xx_ceN {A B : Prop} {v : Int32} (hv : v < 0 ∨ nI C ≤ v) (h : A) : wpX_isCell (fun r => (r = 0 → A) ∧ (¬ r = 0 → B)) (nI T, nI C, nI D, nI L, nI K, st, ca, sn, sp, xr, xw, xh, xp, xl, se, bu, ho, ne, ke, vv, vs) v := by
  by_cases h0 : v < 0
  · exact br_t h0 (br_t rfl h)
  · exact br_f h0 (br_t (hv.resolve_left h0) (br_t rfl h))
theorem xx_cmY {A B : Prop} {t : Nat} (ht : t < 4) (hs : zs_cm (st t)) (h : B) : wpX_isCommitting (fun r => (r = 0 → A) ∧ (¬ r = 0 → B)) (nI T, nI C, nI D, nI L, nI K, st, ca, sn, sp, xr, xw, xh, xp, xl, se, bu, ho, ne, ke, vv, vs) (nI t) := by
  have v : vp_in (nI t) 4 := vp_in_nI ht (by decide)
  have hs' := (zs_cm_iff (st t)).mp hs
  unfold wpX_isCommitting
  rw [nI_clamp (n := t) (by omega)]
  exact ⟨v, br_f hs'.1 ⟨v, br_f hs'.2 (br_f (by decide) h)⟩⟩
theorem xx_cmN {A B : Prop} {t : Nat} (ht : t < 4) (hs : ¬ zs_cm (st t)) (h : A) : wpX_isCommitting (fun r => (r = 0 → A) ∧ (¬ r = 0 → B)) (nI T, nI C, nI D, nI L, nI K, st, ca, sn, sp, xr, xw, xh, xp, xl, se, bu, ho, ne, ke, vv, vs) (nI t) := by
  have v : vp_in (nI t) 4 := vp_in_nI ht (by decide)
  rw [zs_cm_iff] at hs
  unfold wpX_isCommitting
  rw [nI_clamp (n := t) (by omega)]
  refine ⟨v, br_c (fun _ => br_t rfl h) (fun h1 => ⟨v, br_t ?_ (br_t rfl h)⟩)⟩
  exact Classical.byContradiction (fun h2 => hs ⟨h1, h2⟩)
/-- holders with those of t freed, among the first i cells -/
def xx_fr (ho : Nat → Int32) (t i : Nat) : Nat → Int32 := fun c => if c < i ∧ ho c = nI t then -1 else ho c
theorem xx_fr0 {t : Nat} : xx_fr ho t 0 = ho := by
  funext c
  exact if_neg (fun z => Nat.not_lt_zero c z.1)
theorem xx_frT {t i : Nat} (h : ho i = nI t) : upd (xx_fr ho t i) i (-1) = xx_fr ho t (i + 1) := by
  funext c
  show (if c = i then -1 else (if c < i ∧ ho c = nI t then -1 else ho c)) = (if c < i + 1 ∧ ho c = nI t then -1 else ho c)
  by_cases e : c = i
  · rw [if_pos e, if_pos ⟨by omega, by rw [e]; exact h⟩]
  · rw [if_neg e]
    exact zz_if ⟨fun z => ⟨by omega, z.2⟩, fun z => ⟨by omega, z.2⟩⟩
theorem xx_frF {t i : Nat} (h : ¬ ho i = nI t) : xx_fr ho t i = xx_fr ho t (i + 1) := by
  funext c
  refine zz_if ⟨fun z => ⟨by omega, z.2⟩, fun z => ⟨?_, z.2⟩⟩
  by_cases e : c = i
  · exact absurd (e ▸ z.2) h
  · omega
theorem xx_frI {t i : Nat} : xx_fr ho t i i = ho i := if_neg (fun z => Nat.lt_irrefl i z.1)
theorem xx_clear_lp {post : SX → Prop} {t : Nat} (hC : C ≤ 8) (ht : t < 4) (hp : post (nI T, nI C, nI D, nI L, nI K, st, ca, sn, sp, upd xr t 0, upd xw t 0, upd xh t 0, upd xp t 0, upd xl t 0, se, bu, xx_fr ho t C, ne, ke, vv, vs)) :
    ∀ d n i, i + d = C → d < n → wX_clearSets_2 post (nI t) (nI T) (nI C) (nI D) (nI L) (nI K) n (nI i) st ca sn sp xr xw xh xp xl se bu (xx_fr ho t i) ne ke vv vs := by
  intro d
  induction d with
  | zero =>
    intro n i hi hn
    obtain ⟨n, rfl⟩ : ∃ m, n = m + 1 := ⟨n - 1, by omega⟩
    have e : i = C := by omega
    rw [e]
    refine br_t (nI_le (Nat.le_refl C) (by omega)) ?_
    rw [nI_clamp (n := t) (by omega)]
    have v : vp_in (nI t) 4 := vp_in_nI ht (by decide)
    exact ⟨v, nm_e ⟨v, nm_e ⟨v, nm_e ⟨v, nm_e ⟨v, nm_e hp⟩⟩⟩⟩⟩
  | succ d ih =>
    intro n i hi hn
    obtain ⟨n, rfl⟩ : ∃ m, n = m + 1 := ⟨n - 1, by omega⟩
    refine br_f (nI_ge (a := i) (b := C) (by omega) (by omega)) ?_
    rw [nI_clamp (n := i) (by omega)]
    have v : vp_in (nI i) 8 := vp_in_nI (by omega) (by decide)
    have k := ih n (i + 1) (by omega) (by omega)
    refine ⟨v, ?_⟩
    by_cases h : ho i = nI t
    · exact br_t (xx_frI.trans h) ⟨v, nm_r (xx_frT h) (nm_r (nI_1 i) k)⟩
    · rw [← xx_frF h] at k
      exact br_f (fun z => h (xx_frI.symm.trans z)) (nm_r (nI_1 i) k)
theorem xx_clear {post : SX → Prop} {t : Nat} (hC : C ≤ 8) (ht : t < 4) (hp : post (nI T, nI C, nI D, nI L, nI K, st, ca, sn, sp, upd xr t 0, upd xw t 0, upd xh t 0, upd xp t 0, upd xl t 0, se, bu, xx_fr ho t C, ne, ke, vv, vs)) :
    wpX_clearSets post (nI T, nI C, nI D, nI L, nI K, st, ca, sn, sp, xr, xw, xh, xp, xl, se, bu, ho, ne, ke, vv, vs) (nI t) := by
  have k := xx_clear_lp hC ht hp C (C + 1) 0 (by omega) (by omega)
  rw [xx_fr0] at k
  exact ⟨C + 1, k⟩
theorem xx_uwN {post : Int32 → Prop} {c : Nat} (hc : c < 8) (h : ho c = -1 ∨ ∃ w, w < 4 ∧ ho c = nI w ∧ ¬ st w = 4) (hp : post (-1)) : wpX_undecidedWriter post (nI T, nI C, nI D, nI L, nI K, st, ca, sn, sp, xr, xw, xh, xp, xl, se, bu, ho, ne, ke, vv, vs) (nI c) := by
  unfold wpX_undecidedWriter
  rw [nI_clamp (n := c) (by omega)]
  refine ⟨vp_in_nI hc (by decide), ?_⟩
  rcases h with h | ⟨w, hw, h, h4⟩
  · exact nm_r h (br_t (by decide) hp)
  · refine nm_r h (br_f (nI_pos (by omega)) ?_)
    rw [nI_clamp (n := w) (by omega)]
    exact ⟨vp_in_nI hw (by decide), br_f h4 hp⟩
theorem xx_uwS {post : Int32 → Prop} {c w : Nat} (hc : c < 8) (hw : w < 4) (h : ho c = nI w) (h4 : st w = 4) (hp : post (nI w)) : wpX_undecidedWriter post (nI T, nI C, nI D, nI L, nI K, st, ca, sn, sp, xr, xw, xh, xp, xl, se, bu, ho, ne, ke, vv, vs) (nI c) := by
  unfold wpX_undecidedWriter
  rw [nI_clamp (n := c) (by omega)]
  refine ⟨vp_in_nI hc (by decide), nm_r h (br_f (nI_pos (by omega)) ?_)⟩
  rw [nI_clamp (n := w) (by omega)]
  exact ⟨vp_in_nI hw (by decide), br_t h4 hp⟩
theorem xx_slot {post : Int32 → Prop} {c q k : Nat} (hc : c < 8) (hq : q < 4) (e : ne c = nI q) (hk : k < 4) (hp : post (nI (c * 4 + (q + 4 - k) % 4))) : wpX_slotOf post (nI T, nI C, nI D, nI L, nI K, st, ca, sn, sp, xr, xw, xh, xp, xl, se, bu, ho, ne, ke, vv, vs) (nI c) (nI k) := by
  unfold wpX_slotOf
  rw [nI_clamp (n := c) (by omega)]
  refine ⟨vp_in_nI hc (by decide), ?_⟩
  rw [e, zi_q q hq k hk, zi_4]
  exact hp
theorem xx_slot0 {post : Int32 → Prop} {c q : Nat} (hc : c < 8) (hq : q < 4) (e : ne c = nI q) (hp : post (nI (c * 4 + q))) : wpX_slotOf post (nI T, nI C, nI D, nI L, nI K, st, ca, sn, sp, xr, xw, xh, xp, xl, se, bu, ho, ne, ke, vv, vs) (nI c) 0 := by
  unfold wpX_slotOf
  rw [nI_clamp (n := c) (by omega)]
  refine ⟨vp_in_nI hc (by decide), ?_⟩
  rw [e, zi_q0 q hq, zi_4]
  exact hp
/-- kept version k of c is newer than s -/
def xx_nw (ne' kp c : Nat) (vs : Nat → Int32) (s : Int32) (k : Nat) : Bool := decide (k < kp) && decide (¬ vs (c * 4 + (ne' + 4 - k) % 4) ≤ s)
theorem xx_newer_lp {post : Int32 → Prop} {c q kp : Nat} {s : Int32} (hc : c < 8) (hq : q < 4) (e : ne c = nI q) (hkp : kp ≤ 4) (e2 : ke c = nI kp) (hp : post (nI (zc_n (xx_nw q kp c vs s) 4))) :
    ∀ d n i, i + d = 4 → d < n → wX_countNewer_5 post (nI c) s (nI T) (nI C) (nI D) (nI L) (nI K) st ca sn sp xr xw xh xp xl se bu ho ne ke vv vs n (nI (zc_n (xx_nw q kp c vs s) i)) (nI i) := by
  intro d
  induction d with
  | zero =>
    intro n i hi hn
    obtain ⟨n, rfl⟩ : ∃ m, n = m + 1 := ⟨n - 1, by omega⟩
    have e : i = 4 := by omega
    rw [e]
    exact br_t (nI_le (a := 4) (Nat.le_refl 4) (by decide)) hp
  | succ d ih =>
    intro n i hi hn
    obtain ⟨n, rfl⟩ : ∃ m, n = m + 1 := ⟨n - 1, by omega⟩
    refine br_f (nI_ge (a := i) (b := 4) (by omega) (by decide)) ?_
    rw [nI_clamp (n := c) (by omega)]
    have v : vp_in (nI c) 8 := vp_in_nI (by omega) (by decide)
    have k := ih n (i + 1) (by omega) (by omega)
    refine ⟨v, ?_⟩
    by_cases h : i < kp
    · refine br_f (by rw [e2]; exact nI_ge h (by omega)) (xx_slot hc hq e (by omega) ?_)
      rw [nI_clamp (n := c * 4 + (q + 4 - i) % 4) (by omega)]
      refine ⟨vp_in_nI (by omega) (by decide), ?_⟩
      by_cases h2 : vs (c * 4 + (q + 4 - i) % 4) ≤ s
      · rw [zc_f (by unfold xx_nw; rw [decide_eq_false (p := ¬ vs (c * 4 + (q + 4 - i) % 4) ≤ s) (fun z => z h2), Bool.and_false])] at k
        exact br_t h2 (nm_r (nI_1 i) k)
      · rw [zc_t (by unfold xx_nw; rw [decide_eq_true h, decide_eq_true h2]; rfl)] at k
        exact br_f h2 (nm_r (nI_1 _) (nm_r (nI_1 i) k))
    · rw [zc_f (by unfold xx_nw; rw [decide_eq_false h, Bool.false_and])] at k
      exact br_t (by rw [e2]; exact nI_le (by omega) (by omega)) (nm_r (nI_1 i) k)
theorem xx_newer {post : Int32 → Prop} {c q kp : Nat} {s : Int32} (hc : c < 8) (hq : q < 4) (e : ne c = nI q) (hkp : kp ≤ 4) (e2 : ke c = nI kp) (hp : post (nI (zc_n (xx_nw q kp c vs s) 4))) :
    wpX_countNewer post (nI T, nI C, nI D, nI L, nI K, st, ca, sn, sp, xr, xw, xh, xp, xl, se, bu, ho, ne, ke, vv, vs) (nI c) s := ⟨5, xx_newer_lp hc hq e hkp e2 hp 4 5 0 (by omega) (by omega)⟩
theorem xx_entY {post : Int32 → Prop} {c q kp k : Nat} (hc : c < 8) (hq : q < 4) (e : ne c = nI q) (hkp : kp ≤ 4) (e2 : ke c = nI kp) (hk : k < kp) (hp : post (vv (c * 4 + (q + 4 - k) % 4))) :
    wpX_entryValue post (nI T, nI C, nI D, nI L, nI K, st, ca, sn, sp, xr, xw, xh, xp, xl, se, bu, ho, ne, ke, vv, vs) (nI c) (nI k) := by
  unfold wpX_entryValue
  rw [nI_clamp (n := c) (by omega)]
  refine ⟨vp_in_nI hc (by decide), br_f (by rw [e2]; exact nI_ge hk (by omega)) (xx_slot hc hq e (by omega) ?_)⟩
  rw [nI_clamp (n := c * 4 + (q + 4 - k) % 4) (by omega)]
  exact ⟨vp_in_nI (by omega) (by decide), hp⟩
theorem xx_entN {post : Int32 → Prop} {c kp k : Nat} (hc : c < 8) (hk4 : k < 8) (e2 : ke c = nI kp) (hk : kp ≤ k) (hp : post 0) :
    wpX_entryValue post (nI T, nI C, nI D, nI L, nI K, st, ca, sn, sp, xr, xw, xh, xp, xl, se, bu, ho, ne, ke, vv, vs) (nI c) (nI k) := by
  unfold wpX_entryValue
  rw [nI_clamp (n := c) (by omega)]
  exact ⟨vp_in_nI hc (by decide), br_t (by rw [e2]; exact nI_le hk (by omega)) hp⟩
theorem xx_bits_lp {post : Int32 → Prop} {m : Int32} (hp : post (nI (zc_n (bt m) 8))) :
    ∀ d n i, i + d = 8 → d < n → wX_countBits_4 post m (nI T) (nI C) (nI D) (nI L) (nI K) st ca sn sp xr xw xh xp xl se bu ho ne ke vv vs n (nI (zc_n (bt m) i)) (nI i) := by
  intro d
  induction d with
  | zero =>
    intro n i hi hn
    obtain ⟨n, rfl⟩ : ∃ m, n = m + 1 := ⟨n - 1, by omega⟩
    have e : i = 8 := by omega
    rw [e]
    exact br_t (nI_le (a := 8) (Nat.le_refl 8) (by decide)) hp
  | succ d ih =>
    intro n i hi hn
    obtain ⟨n, rfl⟩ : ∃ m, n = m + 1 := ⟨n - 1, by omega⟩
    have k := ih n (i + 1) (by omega) (by omega)
    refine br_f (nI_ge (a := i) (b := 8) (by omega) (by decide)) ?_
    cases h : bt m i with
    | false =>
      rw [zc_f h] at k
      exact br_t ((zb_tst m (by omega)).mpr h) (nm_r (nI_1 i) k)
    | true =>
      rw [zc_t h] at k
      exact br_f (fun z => Bool.false_ne_true (((zb_tst m (by omega)).mp z).symm.trans h)) (nm_r (nI_1 _) (nm_r (nI_1 i) k))
theorem xx_bits {post : Int32 → Prop} {m : Int32} (hp : post (nI (zc_n (bt m) 8))) : wpX_countBits post (nI T, nI C, nI D, nI L, nI K, st, ca, sn, sp, xr, xw, xh, xp, xl, se, bu, ho, ne, ke, vv, vs) m :=
  ⟨9, xx_bits_lp hp 8 9 0 (by omega) (by omega)⟩
theorem xx_low_lp {post : Int32 → Prop} {m : Int32} {c : Nat} (hc : c < 8) (h1 : bt m c = true) (h2 : ∀ j, j < c → bt m j = false) (hp : post (nI c)) :
    ∀ d n i, i + d = c → d < n → wX_lowestBit_2 post m (nI T) (nI C) (nI D) (nI L) (nI K) st ca sn sp xr xw xh xp xl se bu ho ne ke vv vs n (nI i) := by
  intro d
  induction d with
  | zero =>
    intro n i hi hn
    obtain ⟨n, rfl⟩ : ∃ m, n = m + 1 := ⟨n - 1, by omega⟩
    have e : i = c := by omega
    rw [e]
    exact br_f (nI_ge (a := c) (b := 8) hc (by decide)) (br_f (fun z => Bool.false_ne_true (((zb_tst m (by omega)).mp z).symm.trans h1)) hp)
  | succ d ih =>
    intro n i hi hn
    obtain ⟨n, rfl⟩ : ∃ m, n = m + 1 := ⟨n - 1, by omega⟩
    have k := ih n (i + 1) (by omega) (by omega)
    exact br_f (nI_ge (a := i) (b := 8) (by omega) (by decide)) (br_t ((zb_tst m (by omega)).mpr (h2 i (by omega))) (nm_r (nI_1 i) k))
theorem xx_low {post : Int32 → Prop} {m : Int32} {c : Nat} (hc : c < 8) (h1 : bt m c = true) (h2 : ∀ j, j < c → bt m j = false) (hp : post (nI c)) :
    wpX_lowestBit post (nI T, nI C, nI D, nI L, nI K, st, ca, sn, sp, xr, xw, xh, xp, xl, se, bu, ho, ne, ke, vv, vs) m := ⟨c + 1, xx_low_lp hc h1 h2 hp c (c + 1) 0 (by omega) (by omega)⟩
theorem xx_endC {post : SX → Prop} {t : Nat} (hC : C ≤ 8) (ht : t < 4) (hp : post (nI T, nI C, nI D, nI L, nI K, upd st t 6, ca, sn, sp, upd xr t 0, upd xw t 0, upd xh t 0, upd xp t 0, upd xl t 0, se, bu, xx_fr ho t C, ne, ke, vv, vs)) :
    wpX_endCommitted post (nI T, nI C, nI D, nI L, nI K, st, ca, sn, sp, xr, xw, xh, xp, xl, se, bu, ho, ne, ke, vv, vs) (nI t) := by
  unfold wpX_endCommitted
  rw [nI_clamp (n := t) (by omega)]
  exact xx_clear hC ht ⟨vp_in_nI ht (by decide), nm_e hp⟩
theorem xx_endA {post : SX → Prop} {t : Nat} {w : Int32} (hC : C ≤ 8) (ht : t < 4) (hp : post (nI T, nI C, nI D, nI L, nI K, upd st t 7, upd ca t w, sn, upd sp t 0, upd xr t 0, upd xw t 0, upd xh t 0, upd xp t 0, upd xl t 0, se, bu, xx_fr ho t C, ne, ke, vv, vs)) :
    wpX_endAborted post (nI T, nI C, nI D, nI L, nI K, st, ca, sn, sp, xr, xw, xh, xp, xl, se, bu, ho, ne, ke, vv, vs) (nI t) w := by
  unfold wpX_endAborted
  rw [nI_clamp (n := t) (by omega)]
  have v : vp_in (nI t) 4 := vp_in_nI ht (by decide)
  exact xx_clear hC ht ⟨v, nm_e ⟨v, nm_e ⟨v, nm_e hp⟩⟩⟩
/-- the kept count behind a push -/
def xx_kp (ke : Nat → Int32) (D c kp : Nat) : Nat → Int32 := if kp ≤ D then upd ke c (nI (kp + 1)) else ke
theorem xx_push {post : SX → Prop} {c q kp : Nat} {x s : Int32} (hD : D ≤ 3) (hc : c < 8) (hq : q < 4) (e : ne c = nI q) (hkp : kp ≤ 4) (e2 : ke c = nI kp)
    (hp : post (nI T, nI C, nI D, nI L, nI K, st, ca, sn, sp, xr, xw, xh, xp, xl, se, bu, ho, upd ne c (nI ((q + 1) % 4)), xx_kp ke D c kp, upd vv (c * 4 + (q + 1) % 4) x, upd vs (c * 4 + (q + 1) % 4) s)) : wpX_pushVersion post (nI T, nI C, nI D, nI L, nI K, st, ca, sn, sp, xr, xw, xh, xp, xl, se, bu, ho, ne, ke, vv, vs) (nI c) x s := by
  unfold wpX_pushVersion
  rw [nI_clamp (n := c) (by omega)]
  have v : vp_in (nI c) 8 := vp_in_nI hc (by decide)
  refine ⟨v, v, nm_r (by rw [e, zi_q1 q hq]) (xx_slot0 hc (q := (q + 1) % 4) (by omega) pk_us ?_)⟩
  have v2 : vp_in (nI (c * 4 + (q + 1) % 4)) 32 := vp_in_nI (by omega) (by decide)
  rw [nI_clamp (n := c * 4 + (q + 1) % 4) (by omega)]
  refine ⟨v2, nm_e ⟨v2, nm_e ⟨v, ?_⟩⟩⟩
  by_cases h : kp ≤ D
  · unfold xx_kp at hp
    rw [if_pos h] at hp
    exact br_f (by rw [e2]; exact nI_nlt h (by omega)) ⟨v, v, nm_r (by rw [e2, nI_1]) hp⟩
  · unfold xx_kp at hp
    rw [if_neg h] at hp
    exact br_t (by rw [e2]; exact nI_lt (by omega) (by omega)) hp
/-- r is a reader of c that s concerns -/
def xx_mk (t c : Nat) (s : Int32) (xr sn sp : Nat → Int32) (r : Nat) : Prop := ¬ r = t ∧ bt (xr r) c = true ∧ ¬ s ≤ sn r ∧ (sp r = 0 ∨ ¬ sp r ≤ s)
/-- the first i threads for which P holds get the bits b -/
noncomputable def xx_ml (xl : Nat → Int32) (P : Nat → Prop) (b : Int32) (i : Nat) : Nat → Int32 := fun r => @ite Int32 (r < i ∧ P r) (Classical.propDecidable _) (xl r ||| b) (xl r)
theorem xx_ml0 {P : Nat → Prop} {b : Int32} : xx_ml xl P b 0 = xl := by
  funext r
  exact if_neg (fun z => Nat.not_lt_zero r z.1)
theorem xx_mlI {P : Nat → Prop} {b : Int32} {i : Nat} : xx_ml xl P b i i = xl i := if_neg (fun z => Nat.lt_irrefl i z.1)
theorem xx_mlY {P : Nat → Prop} {b : Int32} {i r : Nat} (h : r < i) (hP : P r) : xx_ml xl P b i r = xl r ||| b := if_pos ⟨h, hP⟩
theorem xx_mlN {P : Nat → Prop} {b : Int32} {i r : Nat} (hP : ¬ P r) : xx_ml xl P b i r = xl r := if_neg (fun z => hP z.2)
theorem xx_mlT {P : Nat → Prop} {b : Int32} {i : Nat} (h : P i) : upd (xx_ml xl P b i) i (xx_ml xl P b i i ||| b) = xx_ml xl P b (i + 1) := by
  funext r
  by_cases e : r = i
  · rw [e, pk_us, xx_mlI, xx_mlY (by omega) h]
  · rw [pk_un e]
    exact @zz_if _ _ _ (Classical.propDecidable _) (Classical.propDecidable _) _ _ ⟨fun z => ⟨by omega, z.2⟩, fun z => ⟨by omega, z.2⟩⟩
theorem xx_mlF {P : Nat → Prop} {b : Int32} {i : Nat} (h : ¬ P i) : xx_ml xl P b i = xx_ml xl P b (i + 1) := by
  funext r
  refine @zz_if _ _ _ (Classical.propDecidable _) (Classical.propDecidable _) _ _ ⟨fun z => ⟨by omega, z.2⟩, fun z => ⟨?_, z.2⟩⟩
  by_cases e : r = i
  · exact absurd (e ▸ z.2) h
  · omega
theorem xx_mark_lp {post : SX → Prop} {t c : Nat} {s : Int32} (hT : T ≤ 4) (ht : t < 4) (hc : c < 8)
    (hp : post (nI T, nI C, nI D, nI L, nI K, st, ca, sn, sp, xr, xw, xh, xp, xx_ml xl (xx_mk t c s xr sn sp) ((1 : Int32) <<< (nI c &&& 31)) T, se, bu, ho, ne, ke, vv, vs)) :
    ∀ d n i, i + d = T → d < n →
      wX_markReaders_8 post (nI t) s ((1 : Int32) <<< (nI c &&& 31)) (nI T) (nI C) (nI D) (nI L) (nI K) n (nI i) st ca sn sp xr xw xh xp (xx_ml xl (xx_mk t c s xr sn sp) ((1 : Int32) <<< (nI c &&& 31)) i) se bu ho ne ke vv vs := by
  intro d
  induction d with
  | zero =>
    intro n i hi hn
    obtain ⟨n, rfl⟩ : ∃ m, n = m + 1 := ⟨n - 1, by omega⟩
    have e : i = T := by omega
    rw [e]
    exact br_t (nI_le (Nat.le_refl T) (by omega)) hp
  | succ d ih =>
    intro n i hi hn
    obtain ⟨n, rfl⟩ : ∃ m, n = m + 1 := ⟨n - 1, by omega⟩
    have v : vp_in (nI i) 4 := vp_in_nI (by omega) (by decide)
    have k := ih n (i + 1) (by omega) (by omega)
    have kN : ¬ xx_mk t c s xr sn sp i → wX_markReaders_8 post (nI t) s ((1 : Int32) <<< (nI c &&& 31)) (nI T) (nI C) (nI D) (nI L) (nI K) n (nI (i + 1)) st ca sn sp xr xw xh xp (xx_ml xl (xx_mk t c s xr sn sp) ((1 : Int32) <<< (nI c &&& 31)) i) se bu ho ne ke vv vs := fun hm => by
      rw [xx_mlF hm]; exact k
    have kY : xx_mk t c s xr sn sp i → wX_markReaders_68 post (wX_markReaders_8 post (nI t) s ((1 : Int32) <<< (nI c &&& 31)) (nI T) (nI C) (nI D) (nI L) (nI K) n) (nI t) s ((1 : Int32) <<< (nI c &&& 31)) (nI i) (nI T) (nI C) (nI D) (nI L) (nI K) st ca sn sp xr xw xh xp (xx_ml xl (xx_mk t c s xr sn sp) ((1 : Int32) <<< (nI c &&& 31)) i) se bu ho ne ke vv vs := fun hm => by
      unfold wX_markReaders_68
      rw [nI_clamp (n := i) (by omega)]
      exact ⟨v, v, nm_r (xx_mlT hm) (nm_r (nI_1 i) k)⟩
    refine br_f (nI_ge (a := i) (b := T) (by omega) (by omega)) (br_c (fun h => ?_) (fun h => ?_))
    · rw [nI_eq (by omega) (by omega)] at h
      exact nm_r (nI_1 i) (kN (fun z => z.1 h))
    · rw [nI_eq (by omega) (by omega)] at h
      rw [nI_clamp (n := i) (by omega)]
      refine ⟨v, br_c (fun h3 => ?_) (fun h3 => ?_)⟩
      · rw [zb_tst _ (by omega)] at h3
        exact nm_r (nI_1 i) (kN (fun z => Bool.false_ne_true (h3.symm.trans z.2.1)))
      · rw [zb_tst _ (by omega)] at h3
        refine ⟨v, br_c (fun h4 => nm_r (nI_1 i) (kN (fun z => z.2.2.1 h4))) (fun h4 => ⟨v, br_c (fun h5 => kY ⟨h, zz_nt h3, h4, Or.inl h5⟩) (fun h5 => ⟨v, br_c (fun h6 => ?_) (fun h6 => kY ⟨h, zz_nt h3, h4, Or.inr h6⟩)⟩)⟩)⟩
        exact nm_r (nI_1 i) (kN (fun z => z.2.2.2.elim h5 (fun z2 => z2 h6)))
theorem xx_mark {post : SX → Prop} {t c : Nat} {s : Int32} (hT : T ≤ 4) (ht : t < 4) (hc : c < 8)
    (hp : post (nI T, nI C, nI D, nI L, nI K, st, ca, sn, sp, xr, xw, xh, xp, xx_ml xl (xx_mk t c s xr sn sp) ((1 : Int32) <<< (nI c &&& 31)) T, se, bu, ho, ne, ke, vv, vs)) :
    wpX_markReaders post (nI T, nI C, nI D, nI L, nI K, st, ca, sn, sp, xr, xw, xh, xp, xl, se, bu, ho, ne, ke, vv, vs) (nI t) (nI c) s := by
  have k := xx_mark_lp hT ht hc hp T (T + 1) 0 (by omega) (by omega)
  rw [xx_ml0] at k
  exact nm_e ⟨T + 1, k⟩
end
end
section
/-! ===== Y: the helpers, each once, over a general post ===== -/
section
variable {T C D L K : Nat} {st ca sn sp se bu yr yp yw yh yd yv : Nat → Int32}
theorem yy_thY {A B : Prop} {t : Nat} (hT : T ≤ 4) (ht : t < T) (h : B) : wpY_isThread (fun r => (r = 0 → A) ∧ (¬ r = 0 → B)) (nI T, nI C, nI D, nI L, nI K, st, ca, sn, sp, yr, se, yp, yw, bu, yh, yd, yv) (nI t) :=
  br_f (nI_pos (by omega)) (br_f (nI_ge ht (by omega)) (br_f (by decide) h))
theorem yy_thN {A B : Prop} {v : Int32} (hv : v < 0 ∨ nI T ≤ v) (h : A) : wpY_isThread (fun r => (r = 0 → A) ∧ (¬ r = 0 → B)) (nI T, nI C, nI D, nI L, nI K, st, ca, sn, sp, yr, se, yp, yw, bu, yh, yd, yv) v := by
  by_cases h0 : v < 0
  · exact br_t h0 (br_t rfl h)
  · exact br_f h0 (br_t (hv.resolve_left h0) (br_t rfl h))
theorem yy_ceY {A B : Prop} {c : Nat} (hC : C ≤ 8) (hc : c < C) (h : B) : wpY_isCell (fun r => (r = 0 → A) ∧ (¬ r = 0 → B)) (nI T, nI C, nI D, nI L, nI K, st, ca, sn, sp, yr, se, yp, yw, bu, yh, yd, yv) (nI c) :=
  br_f (nI_pos (by omega)) (br_f (nI_ge hc (by omega)) (br_f (by decide) h))
theorem yy_ceN {A B : Prop} {v : Int32} (hv : v < 0 ∨ nI C ≤ v) (h : A) : wpY_isCell (fun r => (r = 0 → A) ∧ (¬ r = 0 → B)) (nI T, nI C, nI D, nI L, nI K, st, ca, sn, sp, yr, se, yp, yw, bu, yh, yd, yv) v := by
  by_cases h0 : v < 0
  · exact br_t h0 (br_t rfl h)
  · exact br_f h0 (br_t (hv.resolve_left h0) (br_t rfl h))
theorem yy_cmY {A B : Prop} {t : Nat} (ht : t < 4) (hs : zs_cm (st t)) (h : B) : wpY_committing (fun r => (r = 0 → A) ∧ (¬ r = 0 → B)) (nI T, nI C, nI D, nI L, nI K, st, ca, sn, sp, yr, se, yp, yw, bu, yh, yd, yv) (nI t) := by
  have v : vp_in (nI t) 4 := vp_in_nI ht (by decide)
  have k : ((1 : Int32) = 0 → A) ∧ (¬ (1 : Int32) = 0 → B) := br_f (by decide) h
  unfold wpY_committing
  rw [nI_clamp (n := t) (by omega)]
  refine ⟨v, br_c (fun _ => k) (fun h2 => ⟨v, br_c (fun _ => k) (fun h3 => ⟨v, br_c (fun _ => k) (fun h4 => ⟨v, br_t ?_ k⟩)⟩)⟩)⟩
  rcases hs with z | z | z | z
  · exact absurd z h2
  · exact absurd z h3
  · exact absurd z h4
  · exact z
theorem yy_cmN {A B : Prop} {t : Nat} (ht : t < 4) (hs : ¬ zs_cm (st t)) (h : A) : wpY_committing (fun r => (r = 0 → A) ∧ (¬ r = 0 → B)) (nI T, nI C, nI D, nI L, nI K, st, ca, sn, sp, yr, se, yp, yw, bu, yh, yd, yv) (nI t) := by
  have v : vp_in (nI t) 4 := vp_in_nI ht (by decide)
  unfold wpY_committing
  rw [nI_clamp (n := t) (by omega)]
  exact ⟨v, br_f (fun z => hs (Or.inl z)) ⟨v, br_f (fun z => hs (Or.inr (Or.inl z))) ⟨v, br_f (fun z => hs (Or.inr (Or.inr (Or.inl z)))) ⟨v, br_f (fun z => hs (Or.inr (Or.inr (Or.inr z)))) (br_t rfl h)⟩⟩⟩⟩
/-- a decided write of c with stamp s -/
def yy_d (yd : Nat → Int32) (c s : Nat) : Bool := decide (¬ yd (s * 8 + c) = 0)
theorem yy_dT {c s : Nat} : yy_d yd c s = true ↔ ¬ yd (s * 8 + c) = 0 := decide_eq_true_iff
theorem yy_dF {c s : Nat} : yy_d yd c s = false ↔ yd (s * 8 + c) = 0 := by
  unfold yy_d
  rw [decide_eq_false_iff_not, Classical.not_not]
def yy_q (yd : Nat → Int32) (c : Nat) (x2 x3 : Int32) (j : Nat) : Bool := yy_d yd c (j + 1) && (decide (¬ nI (j + 1) ≤ x2) && decide (¬ x3 ≤ nI (j + 1)))
theorem yy_cd_lp {post : Int32 → Prop} {c : Nat} {x2 x3 : Int32} (hc : c < 8) (hp : post (nI (zc_n (yy_q yd c x2 x3) 60))) :
    ∀ d n i, i + d = 60 → d < n → wY_countDecided_6 post (nI c) x2 x3 (nI T) (nI C) (nI D) (nI L) (nI K) st ca sn sp yr se yp yw bu yh yd yv n (nI (zc_n (yy_q yd c x2 x3) i)) (nI (i + 1)) := by
  intro d
  induction d with
  | zero =>
    intro n i hi hn
    obtain ⟨n, rfl⟩ : ∃ m, n = m + 1 := ⟨n - 1, by omega⟩
    have e : i = 60 := by omega
    rw [e]
    exact br_t (nI_lt (a := 60) (b := 61) (by decide) (by decide)) hp
  | succ d ih =>
    intro n i hi hn
    obtain ⟨n, rfl⟩ : ∃ m, n = m + 1 := ⟨n - 1, by omega⟩
    have k := ih n (i + 1) (by omega) (by omega)
    refine br_f (nI_nlt (a := 60) (b := i + 1) (by omega) (by decide)) ?_
    rw [zi_8, nI_clamp (n := (i + 1) * 8 + c) (by omega)]
    refine ⟨vp_in_nI (by omega) (by decide), br_c (fun h => ?_) (fun h => br_c (fun h2 => ?_) (fun h2 => br_c (fun h3 => ?_) (fun h3 => ?_)))⟩
    · rw [zc_f (by unfold yy_q; rw [yy_dF.mpr h, Bool.false_and])] at k
      exact nm_r (nI_1 _) k
    · rw [zc_f (by unfold yy_q; rw [decide_eq_false (p := ¬ nI (i + 1) ≤ x2) (fun z => z h2), Bool.false_and, Bool.and_false])] at k
      exact nm_r (nI_1 _) k
    · rw [zc_f (by unfold yy_q; rw [decide_eq_false (p := ¬ x3 ≤ nI (i + 1)) (fun z => z h3), Bool.and_false, Bool.and_false])] at k
      exact nm_r (nI_1 _) k
    · rw [zc_t (by unfold yy_q; rw [yy_dT.mpr h, decide_eq_true h2, decide_eq_true h3]; rfl)] at k
      exact nm_r (nI_1 _) (nm_r (nI_1 _) k)
theorem yy_cd {post : Int32 → Prop} {c : Nat} {x2 x3 : Int32} (hc : c < 8) (hp : post (nI (zc_n (yy_q yd c x2 x3) 60))) : wpY_countDecided post (nI T, nI C, nI D, nI L, nI K, st, ca, sn, sp, yr, se, yp, yw, bu, yh, yd, yv) (nI c) x2 x3 :=
  ⟨61, yy_cd_lp hc hp 60 61 0 (by omega) (by omega)⟩
/-- some decided write of c has a stamp between -/
def yy_some (yd : Nat → Int32) (c : Nat) (x2 x3 : Int32) : Prop := ∃ s, 1 ≤ s ∧ s ≤ 60 ∧ yy_d yd c s = true ∧ ¬ nI s ≤ x2 ∧ ¬ x3 ≤ nI s
theorem yy_some_iff {c : Nat} {x2 x3 : Int32} : ¬ zc_n (yy_q yd c x2 x3) 60 = 0 ↔ yy_some yd c x2 x3 := by
  constructor
  · intro h
    obtain ⟨i, hi, h2⟩ := zc_pos h
    unfold yy_q at h2
    rw [Bool.and_eq_true, Bool.and_eq_true, decide_eq_true_iff, decide_eq_true_iff] at h2
    exact ⟨i + 1, by omega, by omega, h2.1, h2.2.1, h2.2.2⟩
  · rintro ⟨s, h1, h2, h3, h4, h5⟩ h
    have k := zc_z.mp h (s - 1) (by omega)
    unfold yy_q at k
    rw [show s - 1 + 1 = s from by omega, h3, decide_eq_true h4, decide_eq_true h5] at k
    exact Bool.false_ne_true k.symm
theorem yy_cdS {A B : Prop} {c : Nat} {x2 x3 : Int32} (hc : c < 8) (h : yy_some yd c x2 x3) (hb : B) : wpY_countDecided (fun r => (r ≤ 0 → A) ∧ (¬ r ≤ 0 → B)) (nI T, nI C, nI D, nI L, nI K, st, ca, sn, sp, yr, se, yp, yw, bu, yh, yd, yv) (nI c) x2 x3 := by
  have h1 := yy_some_iff.mpr h
  have h2 := zc_le (yy_q yd c x2 x3) 60
  exact yy_cd hc (br_f (nI_nle (by omega) (by omega)) hb)
theorem yy_cdN {A B : Prop} {c : Nat} {x2 x3 : Int32} (hc : c < 8) (h : ¬ yy_some yd c x2 x3) (ha : A) : wpY_countDecided (fun r => (r ≤ 0 → A) ∧ (¬ r ≤ 0 → B)) (nI T, nI C, nI D, nI L, nI K, st, ca, sn, sp, yr, se, yp, yw, bu, yh, yd, yv) (nI c) x2 x3 := by
  have h1 : zc_n (yy_q yd c x2 x3) 60 = 0 := Classical.byContradiction (fun z => h (yy_some_iff.mp z))
  refine yy_cd hc (br_t ?_ ha)
  rw [h1]
  decide
/-- u is an undecided writer of c, other than t, with a stamp between -/
def yy_u (t c : Nat) (x3 x4 : Int32) (st sp yw : Nat → Int32) (u : Nat) : Prop := ¬ u = t ∧ st u = 4 ∧ ¬ yw (u * 8 + c) = 0 ∧ ¬ sp u ≤ x3 ∧ ¬ x4 ≤ sp u
theorem yy_uw_lp {post : Int32 → Prop} {t c : Nat} {x3 x4 : Int32} (hT : T ≤ 4) (ht : t < 4) (hc : c < 8) :
    ∀ d n i, i + d = T → d < n → ((∃ u, u < T ∧ yy_u t c x3 x4 st sp yw u) → post 1) → ((∀ u, i ≤ u → u < T → ¬ yy_u t c x3 x4 st sp yw u) → post 0) →
      wY_undecidedWriter_3 post (nI t) (nI c) x3 x4 (nI T) (nI C) (nI D) (nI L) (nI K) st ca sn sp yr se yp yw bu yh yd yv n (nI i) := by
  intro d
  induction d with
  | zero =>
    intro n i hi hn h1 h0
    obtain ⟨n, rfl⟩ : ∃ m, n = m + 1 := ⟨n - 1, by omega⟩
    exact br_t (nI_le (by omega) (by omega)) (h0 (fun u a b => by omega))
  | succ d ih =>
    intro n i hi hn h1 h0
    obtain ⟨n, rfl⟩ : ∃ m, n = m + 1 := ⟨n - 1, by omega⟩
    have k : ¬ yy_u t c x3 x4 st sp yw i → wY_undecidedWriter_3 post (nI t) (nI c) x3 x4 (nI T) (nI C) (nI D) (nI L) (nI K) st ca sn sp yr se yp yw bu yh yd yv n (nI (i + 1)) := fun hm =>
      ih n (i + 1) (by omega) (by omega) h1 (fun z => h0 (fun u a b => by
        by_cases e : u = i
        · rw [e]; exact hm
        · exact z u (by omega) b))
    have v : vp_in (nI i) 4 := vp_in_nI (by omega) (by decide)
    have v2 : vp_in (nI (i * 8 + c)) 32 := vp_in_nI (by omega) (by decide)
    refine br_f (nI_ge (a := i) (b := T) (by omega) (by omega)) ?_
    rw [zi_8, nI_clamp (n := i * 8 + c) (by omega), nI_clamp (n := i) (by omega), nI_eq (a := i) (b := t) (by omega) (by omega)]
    refine br_c (fun h => nm_r (nI_1 i) (k (fun z => z.1 h))) (fun h => ⟨v, br_c (fun h4 => ⟨v2, br_c (fun h5 => nm_r (nI_1 i) (k (fun z => z.2.2.1 h5))) (fun h5 => ⟨v, br_c (fun h6 => nm_r (nI_1 i) (k (fun z => z.2.2.2.1 h6))) (fun h6 => ⟨v, br_c (fun h7 => nm_r (nI_1 i) (k (fun z => z.2.2.2.2 h7))) (fun h7 => ?_)⟩)⟩)⟩) (fun h4 => nm_r (nI_1 i) (k (fun z => h4 z.2.1)))⟩)
    exact h1 ⟨i, by omega, h, h4, h5, h6, h7⟩
theorem yy_uwT {post : Int32 → Prop} {t c : Nat} {x3 x4 : Int32} (hT : T ≤ 4) (ht : t < 4) (hc : c < 8) (h : ∃ u, u < T ∧ yy_u t c x3 x4 st sp yw u) (hp : post 1) : wpY_undecidedWriter post (nI T, nI C, nI D, nI L, nI K, st, ca, sn, sp, yr, se, yp, yw, bu, yh, yd, yv) (nI t) (nI c) x3 x4 := by
  obtain ⟨u, hu, h2⟩ := h
  exact ⟨T + 1, yy_uw_lp hT ht hc T (T + 1) 0 (by omega) (by omega) (fun _ => hp) (fun z => absurd h2 (z u (by omega) hu))⟩
theorem yy_uwF {post : Int32 → Prop} {t c : Nat} {x3 x4 : Int32} (hT : T ≤ 4) (ht : t < 4) (hc : c < 8) (h : ¬ ∃ u, u < T ∧ yy_u t c x3 x4 st sp yw u) (hp : post 0) : wpY_undecidedWriter post (nI T, nI C, nI D, nI L, nI K, st, ca, sn, sp, yr, se, yp, yw, bu, yh, yd, yv) (nI t) (nI c) x3 x4 :=
  ⟨T + 1, yy_uw_lp hT ht hc T (T + 1) 0 (by omega) (by omega) (fun z => absurd z h) (fun _ => hp)⟩
/-- a row of a table of booleans -/
def yy_b (a : Nat → Int32) (t c : Nat) : Bool := decide (¬ a (t * 8 + c) = 0)
theorem yy_bT {a : Nat → Int32} {t c : Nat} : yy_b a t c = true ↔ ¬ a (t * 8 + c) = 0 := decide_eq_true_iff
theorem yy_bF {a : Nat → Int32} {t c : Nat} : yy_b a t c = false ↔ a (t * 8 + c) = 0 := by
  unfold yy_b
  rw [decide_eq_false_iff_not, Classical.not_not]
theorem yy_cr_lp {post : Int32 → Prop} {t : Nat} (hC : C ≤ 8) (ht : t < 4) (hp : post (nI (zc_n (yy_b yr t) C))) :
    ∀ d n i, i + d = C → d < n → wY_countReads_4 post (nI t) (nI T) (nI C) (nI D) (nI L) (nI K) st ca sn sp yr se yp yw bu yh yd yv n (nI (zc_n (yy_b yr t) i)) (nI i) := by
  intro d
  induction d with
  | zero =>
    intro n i hi hn
    obtain ⟨n, rfl⟩ : ∃ m, n = m + 1 := ⟨n - 1, by omega⟩
    have e : i = C := by omega
    rw [e]
    exact br_t (nI_le (Nat.le_refl C) (by omega)) hp
  | succ d ih =>
    intro n i hi hn
    obtain ⟨n, rfl⟩ : ∃ m, n = m + 1 := ⟨n - 1, by omega⟩
    have k := ih n (i + 1) (by omega) (by omega)
    refine br_f (nI_ge (a := i) (b := C) (by omega) (by omega)) ?_
    rw [zi_8, nI_clamp (n := t * 8 + i) (by omega)]
    refine ⟨vp_in_nI (by omega) (by decide), br_c (fun h => ?_) (fun h => ?_)⟩
    · rw [zc_f (yy_bF.mpr h)] at k
      exact nm_r (nI_1 _) k
    · rw [zc_t (yy_bT.mpr h)] at k
      exact nm_r (nI_1 _) (nm_r (nI_1 _) k)
theorem yy_cr {post : Int32 → Prop} {t : Nat} (hC : C ≤ 8) (ht : t < 4) (hp : post (nI (zc_n (yy_b yr t) C))) : wpY_countReads post (nI T, nI C, nI D, nI L, nI K, st, ca, sn, sp, yr, se, yp, yw, bu, yh, yd, yv) (nI t) :=
  ⟨C + 1, yy_cr_lp hC ht hp C (C + 1) 0 (by omega) (by omega)⟩
theorem yy_cw_lp {post : Int32 → Prop} {t : Nat} (hC : C ≤ 8) (ht : t < 4) (hp : post (nI (zc_n (yy_b yw t) C))) :
    ∀ d n i, i + d = C → d < n → wY_countWrites_4 post (nI t) (nI T) (nI C) (nI D) (nI L) (nI K) st ca sn sp yr se yp yw bu yh yd yv n (nI (zc_n (yy_b yw t) i)) (nI i) := by
  intro d
  induction d with
  | zero =>
    intro n i hi hn
    obtain ⟨n, rfl⟩ : ∃ m, n = m + 1 := ⟨n - 1, by omega⟩
    have e : i = C := by omega
    rw [e]
    exact br_t (nI_le (Nat.le_refl C) (by omega)) hp
  | succ d ih =>
    intro n i hi hn
    obtain ⟨n, rfl⟩ : ∃ m, n = m + 1 := ⟨n - 1, by omega⟩
    have k := ih n (i + 1) (by omega) (by omega)
    refine br_f (nI_ge (a := i) (b := C) (by omega) (by omega)) ?_
    rw [zi_8, nI_clamp (n := t * 8 + i) (by omega)]
    refine ⟨vp_in_nI (by omega) (by decide), br_c (fun h => ?_) (fun h => ?_)⟩
    · rw [zc_f (yy_bF.mpr h)] at k
      exact nm_r (nI_1 _) k
    · rw [zc_t (yy_bT.mpr h)] at k
      exact nm_r (nI_1 _) (nm_r (nI_1 _) k)
theorem yy_cw {post : Int32 → Prop} {t : Nat} (hC : C ≤ 8) (ht : t < 4) (hp : post (nI (zc_n (yy_b yw t) C))) : wpY_countWrites post (nI T, nI C, nI D, nI L, nI K, st, ca, sn, sp, yr, se, yp, yw, bu, yh, yd, yv) (nI t) :=
  ⟨C + 1, yy_cw_lp hC ht hp C (C + 1) 0 (by omega) (by omega)⟩
/-- row t with its first i cells emptied -/
def yy_cl (a : Nat → Int32) (t i : Nat) : Nat → Int32 := fun j => if t * 8 ≤ j ∧ j < t * 8 + i then 0 else a j
theorem yy_cl0 {a : Nat → Int32} {t : Nat} : yy_cl a t 0 = a := by
  funext j
  exact if_neg (fun z => by omega)
theorem yy_clS {a : Nat → Int32} {t i : Nat} : upd (yy_cl a t i) (t * 8 + i) (vp_nar .boolean 0) = yy_cl a t (i + 1) := by
  funext j
  show (if j = t * 8 + i then vp_nar .boolean 0 else (if t * 8 ≤ j ∧ j < t * 8 + i then 0 else a j)) = (if t * 8 ≤ j ∧ j < t * 8 + (i + 1) then 0 else a j)
  by_cases e : j = t * 8 + i
  · rw [if_pos e, if_pos ⟨by omega, by omega⟩]; rfl
  · rw [if_neg e]
    exact zz_if ⟨fun z => ⟨z.1, by omega⟩, fun z => ⟨z.1, by omega⟩⟩
theorem yy_clI {a : Nat → Int32} {t i c : Nat} (h : c < i) : yy_cl a t i (t * 8 + c) = 0 := if_pos ⟨by omega, by omega⟩
theorem yy_clO {a : Nat → Int32} {t i j : Nat} (h : j < t * 8 ∨ t * 8 + i ≤ j) : yy_cl a t i j = a j := if_neg (fun z => by omega)
theorem yy_clear_lp {post : SY → Prop} {t : Nat} (hC : C ≤ 8) (ht : t < 4) (hp : post (nI T, nI C, nI D, nI L, nI K, st, ca, sn, sp, yy_cl yr t C, se, yy_cl yp t C, yy_cl yw t C, bu, yy_cl yh t C, yd, yv)) :
    ∀ d n i, i + d = C → d < n → wY_clear_2 post (nI t) (nI T) (nI C) (nI D) (nI L) (nI K) n (nI i) st ca sn sp (yy_cl yr t i) se (yy_cl yp t i) (yy_cl yw t i) bu (yy_cl yh t i) yd yv := by
  intro d
  induction d with
  | zero =>
    intro n i hi hn
    obtain ⟨n, rfl⟩ : ∃ m, n = m + 1 := ⟨n - 1, by omega⟩
    have e : i = C := by omega
    rw [e]
    exact br_t (nI_le (Nat.le_refl C) (by omega)) hp
  | succ d ih =>
    intro n i hi hn
    obtain ⟨n, rfl⟩ : ∃ m, n = m + 1 := ⟨n - 1, by omega⟩
    have k := ih n (i + 1) (by omega) (by omega)
    have v : vp_in (nI (t * 8 + i)) 32 := vp_in_nI (by omega) (by decide)
    refine br_f (nI_ge (a := i) (b := C) (by omega) (by omega)) ?_
    rw [zi_8, nI_clamp (n := t * 8 + i) (by omega)]
    exact ⟨v, nm_r yy_clS ⟨v, nm_r yy_clS ⟨v, nm_r yy_clS ⟨v, nm_r yy_clS (nm_r (nI_1 i) k)⟩⟩⟩⟩
theorem yy_clear {post : SY → Prop} {t : Nat} (hC : C ≤ 8) (ht : t < 4) (hp : post (nI T, nI C, nI D, nI L, nI K, st, ca, sn, sp, yy_cl yr t C, se, yy_cl yp t C, yy_cl yw t C, bu, yy_cl yh t C, yd, yv)) :
    wpY_clear post (nI T, nI C, nI D, nI L, nI K, st, ca, sn, sp, yr, se, yp, yw, bu, yh, yd, yv) (nI t) := by
  have k := yy_clear_lp hC ht hp C (C + 1) 0 (by omega) (by omega)
  rw [yy_cl0, yy_cl0, yy_cl0, yy_cl0] at k
  exact ⟨C + 1, k⟩
theorem yy_endC {post : SY → Prop} {t : Nat} (hC : C ≤ 8) (ht : t < 4) (hp : post (nI T, nI C, nI D, nI L, nI K, upd st t 6, ca, sn, sp, yy_cl yr t C, se, yy_cl yp t C, yy_cl yw t C, bu, yy_cl yh t C, yd, yv)) :
    wpY_endCommitted post (nI T, nI C, nI D, nI L, nI K, st, ca, sn, sp, yr, se, yp, yw, bu, yh, yd, yv) (nI t) := by
  unfold wpY_endCommitted
  rw [nI_clamp (n := t) (by omega)]
  exact ⟨vp_in_nI ht (by decide), nm_e (yy_clear hC ht hp)⟩
theorem yy_endA {post : SY → Prop} {t : Nat} {w : Int32} (hC : C ≤ 8) (ht : t < 4) (hp : post (nI T, nI C, nI D, nI L, nI K, upd st t 7, upd ca t w, sn, upd sp t 0, yy_cl yr t C, se, yy_cl yp t C, yy_cl yw t C, bu, yy_cl yh t C, yd, yv)) :
    wpY_endAborted post (nI T, nI C, nI D, nI L, nI K, st, ca, sn, sp, yr, se, yp, yw, bu, yh, yd, yv) (nI t) w := by
  unfold wpY_endAborted
  rw [nI_clamp (n := t) (by omega)]
  have v : vp_in (nI t) 4 := vp_in_nI ht (by decide)
  exact ⟨v, nm_e ⟨v, nm_e ⟨v, nm_e (yy_clear hC ht hp)⟩⟩⟩
/-- overtaken's loop -/
theorem yy_ov_lp {post : Int32 → Prop} {t : Nat} {x2 : Int32} (hC : C ≤ 8) (ht : t < 4) :
    ∀ d n i, i + d = C → d < n → ((∃ c, c < C ∧ ¬ yr (t * 8 + c) = 0 ∧ yy_some yd c (sn t) x2) → post 1) → ((∀ c, i ≤ c → c < C → ¬ (¬ yr (t * 8 + c) = 0 ∧ yy_some yd c (sn t) x2)) → post 0) →
      wY_overtaken_78 post (nI t) x2 (nI T) (nI C) (nI D) (nI L) (nI K) st ca sn sp yr se yp yw bu yh yd yv n (nI i) := by
  intro d
  induction d with
  | zero =>
    intro n i hi hn h1 h0
    obtain ⟨n, rfl⟩ : ∃ m, n = m + 1 := ⟨n - 1, by omega⟩
    exact br_t (nI_le (by omega) (by omega)) (h0 (fun u a b => by omega))
  | succ d ih =>
    intro n i hi hn h1 h0
    obtain ⟨n, rfl⟩ : ∃ m, n = m + 1 := ⟨n - 1, by omega⟩
    have k : ¬ (¬ yr (t * 8 + i) = 0 ∧ yy_some yd i (sn t) x2) → wY_overtaken_78 post (nI t) x2 (nI T) (nI C) (nI D) (nI L) (nI K) st ca sn sp yr se yp yw bu yh yd yv n (nI (i + 1)) := fun hm =>
      ih n (i + 1) (by omega) (by omega) h1 (fun z => h0 (fun u a b => by
        by_cases e : u = i
        · rw [e]; exact hm
        · exact z u (by omega) b))
    refine br_f (nI_ge (a := i) (b := C) (by omega) (by omega)) ?_
    rw [zi_8, nI_clamp (n := t * 8 + i) (by omega), nI_clamp (n := t) (by omega)]
    refine ⟨vp_in_nI (by omega) (by decide), br_c (fun h => nm_r (nI_1 i) (k (fun z => z.1 h))) (fun h => ⟨vp_in_nI ht (by decide), ?_⟩)⟩
    by_cases h2 : yy_some yd i (sn t) x2
    · exact yy_cdS (by omega) h2 (h1 ⟨i, by omega, h, h2⟩)
    · exact yy_cdN (by omega) h2 (nm_r (nI_1 i) (k (fun z => h2 z.2)))
/-- t reads an overwritten cell -/
def yy_ot (C t : Nat) (yr yd sn : Nat → Int32) (x2 : Int32) : Prop := ∃ c, c < C ∧ ¬ yr (t * 8 + c) = 0 ∧ yy_some yd c (sn t) x2
theorem yy_ov {post : Int32 → Prop} {t : Nat} {x2 : Int32} (hC : C ≤ 8) (ht : t < 4) (h1 : yy_ot C t yr yd sn x2 → post 1) (h0 : ¬ yy_ot C t yr yd sn x2 → post 0) :
    ∃ n, wY_overtaken_78 post (nI t) x2 (nI T) (nI C) (nI D) (nI L) (nI K) st ca sn sp yr se yp yw bu yh yd yv n 0 :=
  ⟨C + 1, yy_ov_lp hC ht C (C + 1) 0 (by omega) (by omega) h1 (fun z => h0 (fun ⟨c, a, b⟩ => z c (by omega) a b))⟩
theorem yy_hoS_lp {post : Int32 → Prop} {c w : Nat} (hT : T ≤ 4) (hc : c < 8) (hw : w < T) (h1 : ¬ yh (w * 8 + c) = 0) (h2 : ∀ j, j < w → yh (j * 8 + c) = 0) (hp : post (nI w)) :
    ∀ d n i, i + d = w → d < n → wY_holderOf_13 post (nI c) (nI T) (nI C) (nI D) (nI L) (nI K) st ca sn sp yr se yp yw bu yh yd yv n (nI i) := by
  intro d
  induction d with
  | zero =>
    intro n i hi hn
    obtain ⟨n, rfl⟩ : ∃ m, n = m + 1 := ⟨n - 1, by omega⟩
    have e : i = w := by omega
    rw [e]
    refine br_f (nI_ge (a := w) (b := T) (by omega) (by omega)) ?_
    rw [zi_8, nI_clamp (n := w * 8 + c) (by omega)]
    exact ⟨vp_in_nI (by omega) (by decide), br_f h1 hp⟩
  | succ d ih =>
    intro n i hi hn
    obtain ⟨n, rfl⟩ : ∃ m, n = m + 1 := ⟨n - 1, by omega⟩
    have k := ih n (i + 1) (by omega) (by omega)
    refine br_f (nI_ge (a := i) (b := T) (by omega) (by omega)) ?_
    rw [zi_8, nI_clamp (n := i * 8 + c) (by omega)]
    exact ⟨vp_in_nI (by omega) (by decide), br_t (h2 i (by omega)) (nm_r (nI_1 i) k)⟩
theorem yy_hoN_lp {post : Int32 → Prop} {c : Nat} (hT : T ≤ 4) (hc : c < 8) (h2 : ∀ j, j < T → yh (j * 8 + c) = 0) (hp : post (-1)) :
    ∀ d n i, i + d = T → d < n → wY_holderOf_13 post (nI c) (nI T) (nI C) (nI D) (nI L) (nI K) st ca sn sp yr se yp yw bu yh yd yv n (nI i) := by
  intro d
  induction d with
  | zero =>
    intro n i hi hn
    obtain ⟨n, rfl⟩ : ∃ m, n = m + 1 := ⟨n - 1, by omega⟩
    exact br_t (nI_le (by omega) (by omega)) hp
  | succ d ih =>
    intro n i hi hn
    obtain ⟨n, rfl⟩ : ∃ m, n = m + 1 := ⟨n - 1, by omega⟩
    have k := ih n (i + 1) (by omega) (by omega)
    refine br_f (nI_ge (a := i) (b := T) (by omega) (by omega)) ?_
    rw [zi_8, nI_clamp (n := i * 8 + c) (by omega)]
    exact ⟨vp_in_nI (by omega) (by decide), br_t (h2 i (by omega)) (nm_r (nI_1 i) k)⟩
theorem yy_hoS {post : Int32 → Prop} {c w : Nat} (hT : T ≤ 4) (hC : C ≤ 8) (hc : c < C) (hw : w < T) (h1 : ¬ yh (w * 8 + c) = 0) (h2 : ∀ j, j < w → yh (j * 8 + c) = 0) (hp : post (nI w)) : wpY_holderOf post (nI T, nI C, nI D, nI L, nI K, st, ca, sn, sp, yr, se, yp, yw, bu, yh, yd, yv) (nI c) := by
  unfold wpY_holderOf
  exact yy_ceY hC hc ⟨w + 1, yy_hoS_lp hT (by omega) hw h1 h2 hp w (w + 1) 0 (by omega) (by omega)⟩
theorem yy_hoN {post : Int32 → Prop} {c : Nat} (hT : T ≤ 4) (hC : C ≤ 8) (hc : c < C) (h2 : ∀ j, j < T → yh (j * 8 + c) = 0) (hp : post (-1)) : wpY_holderOf post (nI T, nI C, nI D, nI L, nI K, st, ca, sn, sp, yr, se, yp, yw, bu, yh, yd, yv) (nI c) := by
  unfold wpY_holderOf
  exact yy_ceY hC hc ⟨T + 1, yy_hoN_lp hT (by omega) h2 hp T (T + 1) 0 (by omega) (by omega)⟩
end
end
section
/-! ===== Y: leftOf, cellStamp, read's search ===== -/
section
variable {T C D L K : Nat} {st ca sn sp se bu yr yp yw yh yd yv : Nat → Int32}
/-- cell c is still left to thread t in state s -/
def yy_lf (s : Int32) (t : Nat) (yr yp yw yh : Nat → Int32) (c : Nat) : Prop :=
  (s = 2 ∧ ¬ yw (t * 8 + c) = 0 ∧ yh (t * 8 + c) = 0) ∨ (s = 4 ∧ ¬ yr (t * 8 + c) = 0 ∧ yp (t * 8 + c) = 0) ∨ (s = 5 ∧ ¬ yh (t * 8 + c) = 0)
noncomputable def yy_lb (s : Int32) (t : Nat) (yr yp yw yh : Nat → Int32) (c : Nat) : Bool := @decide (yy_lf s t yr yp yw yh c) (Classical.propDecidable _)
theorem yy_lbT {s : Int32} {t c : Nat} (h : yy_lf s t yr yp yw yh c) : yy_lb s t yr yp yw yh c = true := @decide_eq_true _ (Classical.propDecidable _) h
theorem yy_lbF {s : Int32} {t c : Nat} (h : ¬ yy_lf s t yr yp yw yh c) : yy_lb s t yr yp yw yh c = false := @decide_eq_false _ (Classical.propDecidable _) h
theorem yy_l108 {post : Int32 → Prop} {J : Int32 → Int32 → Prop} {t i m : Nat} (ht : t < 4) (hi : i < 8)
    (hA : st t = 5 ∧ ¬ yh (t * 8 + i) = 0 → J (nI (m + 1)) (nI (i + 1))) (hB : ¬ (st t = 5 ∧ ¬ yh (t * 8 + i) = 0) → J (nI m) (nI (i + 1))) :
    wY_leftOf_108 post J (nI t) (nI m) (nI i) (nI (t * 8 + i)) (nI T) (nI C) (nI D) (nI L) (nI K) st ca sn sp yr se yp yw bu yh yd yv := by
  unfold wY_leftOf_108
  rw [nI_clamp (n := t) (by omega), nI_clamp (n := t * 8 + i) (by omega)]
  exact ⟨vp_in_nI ht (by decide), br_c (fun h => ⟨vp_in_nI (by omega) (by decide), br_c (fun h2 => nm_r (nI_1 i) (hB (fun z => z.2 h2))) (fun h2 => nm_r (nI_1 m) (nm_r (nI_1 i) (hA ⟨h, h2⟩)))⟩) (fun h => nm_r (nI_1 i) (hB (fun z => h z.1)))⟩
theorem yy_l75 {post : Int32 → Prop} {J : Int32 → Int32 → Prop} {t i m : Nat} (ht : t < 4) (hi : i < 8)
    (hA : (st t = 4 ∧ ¬ yr (t * 8 + i) = 0 ∧ yp (t * 8 + i) = 0) ∨ (st t = 5 ∧ ¬ yh (t * 8 + i) = 0) → J (nI (m + 1)) (nI (i + 1)))
    (hB : ¬ ((st t = 4 ∧ ¬ yr (t * 8 + i) = 0 ∧ yp (t * 8 + i) = 0) ∨ (st t = 5 ∧ ¬ yh (t * 8 + i) = 0)) → J (nI m) (nI (i + 1))) :
    wY_leftOf_75 post J (nI t) (nI m) (nI i) (nI (t * 8 + i)) (nI T) (nI C) (nI D) (nI L) (nI K) st ca sn sp yr se yp yw bu yh yd yv := by
  have v : vp_in (nI (t * 8 + i)) 32 := vp_in_nI (by omega) (by decide)
  have z45 : st t = 4 → ¬ st t = 5 := fun a b => absurd (a.symm.trans b) (by decide)
  unfold wY_leftOf_75
  rw [nI_clamp (n := t) (by omega), nI_clamp (n := t * 8 + i) (by omega)]
  refine ⟨vp_in_nI ht (by decide), br_c (fun h => ⟨v, br_c (fun h2 => ?_) (fun h2 => ⟨v, br_c (fun h3 => nm_r (nI_1 m) ?_) (fun h3 => ?_)⟩)⟩) (fun h => ?_)⟩
  · exact yy_l108 ht hi (fun z => absurd z.1 (z45 h)) (fun _ => hB (fun z => z.elim (fun y => y.2.1 h2) (fun y => z45 h y.1)))
  · exact yy_l108 ht hi (fun z => absurd z.1 (z45 h)) (fun _ => hA (Or.inl ⟨h, h2, h3⟩))
  · exact yy_l108 ht hi (fun z => absurd z.1 (z45 h)) (fun _ => hB (fun z => z.elim (fun y => h3 y.2.2) (fun y => z45 h y.1)))
  · exact yy_l108 ht hi (fun z => hA (Or.inr z)) (fun z => hB (fun y => y.elim (fun x => h x.1) z))
theorem yy_left_lp {post : Int32 → Prop} {t : Nat} (hC : C ≤ 8) (ht : t < 4) (hp : post (nI (zc_n (yy_lb (st t) t yr yp yw yh) C))) :
    ∀ d n i, i + d = C → d < n → wY_leftOf_26 post (nI t) (nI T) (nI C) (nI D) (nI L) (nI K) st ca sn sp yr se yp yw bu yh yd yv n (nI (zc_n (yy_lb (st t) t yr yp yw yh) i)) (nI i) := by
  intro d
  induction d with
  | zero =>
    intro n i hi hn
    obtain ⟨n, rfl⟩ : ∃ m, n = m + 1 := ⟨n - 1, by omega⟩
    have e : i = C := by omega
    rw [e]
    exact br_t (nI_le (Nat.le_refl C) (by omega)) hp
  | succ d ih =>
    intro n i hi hn
    obtain ⟨n, rfl⟩ : ∃ m, n = m + 1 := ⟨n - 1, by omega⟩
    have k := ih n (i + 1) (by omega) (by omega)
    have kA : yy_lf (st t) t yr yp yw yh i → wY_leftOf_26 post (nI t) (nI T) (nI C) (nI D) (nI L) (nI K) st ca sn sp yr se yp yw bu yh yd yv n (nI (zc_n (yy_lb (st t) t yr yp yw yh) i + 1)) (nI (i + 1)) := fun h => by
      rw [zc_t (yy_lbT h)] at k; exact k
    have kB : ¬ yy_lf (st t) t yr yp yw yh i → wY_leftOf_26 post (nI t) (nI T) (nI C) (nI D) (nI L) (nI K) st ca sn sp yr se yp yw bu yh yd yv n (nI (zc_n (yy_lb (st t) t yr yp yw yh) i)) (nI (i + 1)) := fun h => by
      rw [zc_f (yy_lbF h)] at k; exact k
    have v : vp_in (nI (t * 8 + i)) 32 := vp_in_nI (by omega) (by decide)
    have z24 : st t = 2 → ¬ st t = 4 := fun a b => absurd (a.symm.trans b) (by decide)
    have z25 : st t = 2 → ¬ st t = 5 := fun a b => absurd (a.symm.trans b) (by decide)
    have g : st t = 2 → ¬ ((st t = 4 ∧ ¬ yr (t * 8 + i) = 0 ∧ yp (t * 8 + i) = 0) ∨ (st t = 5 ∧ ¬ yh (t * 8 + i) = 0)) := fun a z => z.elim (fun y => z24 a y.1) (fun y => z25 a y.1)
    refine br_f (nI_ge (a := i) (b := C) (by omega) (by omega)) (nm_r (zi_8 t i) ?_)
    rw [nI_clamp (n := t) (by omega), nI_clamp (n := t * 8 + i) (by omega)]
    refine ⟨vp_in_nI ht (by decide), br_c (fun h => ⟨v, br_c (fun h2 => ?_) (fun h2 => ⟨v, br_c (fun h3 => nm_r (nI_1 _) ?_) (fun h3 => ?_)⟩)⟩) (fun h => ?_)⟩
    · exact yy_l75 ht (by omega) (fun z => absurd z (g h)) (fun _ => kB (fun z => z.elim (fun y => y.2.1 h2) (g h)))
    · exact yy_l75 ht (by omega) (fun z => absurd z (g h)) (fun _ => kA (Or.inl ⟨h, h2, h3⟩))
    · exact yy_l75 ht (by omega) (fun z => absurd z (g h)) (fun _ => kB (fun z => z.elim (fun y => h3 y.2.2) (g h)))
    · exact yy_l75 ht (by omega) (fun z => kA (Or.inr z)) (fun z => kB (fun y => y.elim (fun x => h x.1) z))
theorem yy_left {post : Int32 → Prop} {t : Nat} (hT : T ≤ 4) (hC : C ≤ 8) (ht : t < T) (h3 : st t = 3 → post 1) (h : ¬ st t = 3 → post (nI (zc_n (yy_lb (st t) t yr yp yw yh) C))) : wpY_leftOf post (nI T, nI C, nI D, nI L, nI K, st, ca, sn, sp, yr, se, yp, yw, bu, yh, yd, yv) (nI t) := by
  unfold wpY_leftOf
  rw [nI_clamp (n := t) (by omega)]
  refine yy_thY hT ht ⟨vp_in_nI (by omega) (by decide), br_c h3 (fun z => ⟨C + 1, yy_left_lp hC (by omega) (h z) C (C + 1) 0 (by omega) (by omega)⟩)⟩
theorem yy_leftZ {A B : Prop} {t : Nat} (hT : T ≤ 4) (hC : C ≤ 8) (ht : t < T) (h3 : ¬ st t = 3) (h : ∀ c, c < C → ¬ yy_lf (st t) t yr yp yw yh c) (ha : A) : wpY_leftOf (fun r => (r = 0 → A) ∧ (¬ r = 0 → B)) (nI T, nI C, nI D, nI L, nI K, st, ca, sn, sp, yr, se, yp, yw, bu, yh, yd, yv) (nI t) := by
  refine yy_left hT hC ht (fun z => absurd z h3) (fun _ => br_t ?_ ha)
  rw [zc_z.mpr (fun c hc => yy_lbF (h c hc))]
  rfl
theorem yy_leftS {A B : Prop} {t : Nat} (hT : T ≤ 4) (hC : C ≤ 8) (ht : t < T) (h3 : ¬ st t = 3) (h : ∃ c, c < C ∧ yy_lf (st t) t yr yp yw yh c) (hb : B) : wpY_leftOf (fun r => (r = 0 → A) ∧ (¬ r = 0 → B)) (nI T, nI C, nI D, nI L, nI K, st, ca, sn, sp, yr, se, yp, yw, bu, yh, yd, yv) (nI t) := by
  obtain ⟨c, hc, h⟩ := h
  have h2 := zc_le (yy_lb (st t) t yr yp yw yh) C
  refine yy_left hT hC ht (fun z => absurd z h3) (fun _ => br_f (nI_ne0 ?_ (by omega)) hb)
  apply Nat.pos_of_ne_zero
  intro z
  exact Bool.false_ne_true ((zc_z.mp z c hc).symm.trans (yy_lbT h))
theorem yy_cs_lp {post : Int32 → Prop} {c k : Nat} (hc : c < 8) (hk : k < 2 ^ 31)
    (h1 : ∀ s, 1 ≤ s → s ≤ 60 → yy_d yd c s = true → za_b (yy_d yd c) (60 - s) = k → post (nI s)) (h2 : za_b (yy_d yd c) 60 = k → post 0) (h3 : ¬ za_b (yy_d yd c) 60 = k → (∀ s, 1 ≤ s → s ≤ 60 → yy_d yd c s = true → ¬ za_b (yy_d yd c) (60 - s) = k) → post (-1)) :
    ∀ s n, s ≤ 60 → s < n → (∀ j, s < j → j ≤ 60 → yy_d yd c j = true → ¬ za_b (yy_d yd c) (60 - j) = k) → wY_cellStamp_28 post (nI c) (nI k) (nI T) (nI C) (nI D) (nI L) (nI K) st ca sn sp yr se yp yw bu yh yd yv n (nI (za_b (yy_d yd c) (60 - s))) (nI s) := by
  have hb : ∀ s, za_b (yy_d yd c) (60 - s) ≤ 60 := by
    intro s
    have g : ∀ d, za_b (yy_d yd c) d ≤ d := by
      intro d
      induction d with
      | zero => exact Nat.le_refl 0
      | succ d ih =>
        show za_b (yy_d yd c) d + (if yy_d yd c (60 - d) = true then 1 else 0) ≤ d + 1
        by_cases z : yy_d yd c (60 - d) = true
        · rw [if_pos z]; omega
        · rw [if_neg z]; omega
    have := g (60 - s)
    omega
  intro s
  induction s with
  | zero =>
    intro n hs hn hN
    obtain ⟨n, rfl⟩ : ∃ m, n = m + 1 := ⟨n - 1, by omega⟩
    refine br_t (nI_lt (a := 0) (b := 1) (by decide) (by decide)) ?_
    rw [nI_eq (Nat.lt_of_le_of_lt (hb 0) (by decide)) hk]
    exact br_c h2 (fun z => h3 z (fun j a b => hN j (by omega) b))
  | succ s ih =>
    intro n hs hn hN
    obtain ⟨n, rfl⟩ : ∃ m, n = m + 1 := ⟨n - 1, by omega⟩
    refine br_f (nI_nlt (a := s + 1) (b := 1) (by omega) (by omega)) ?_
    rw [zi_8, nI_clamp (n := (s + 1) * 8 + c) (by omega)]
    refine ⟨vp_in_nI (by omega) (by decide), br_c (fun h => ?_) (fun h => ?_)⟩
    · have kk := ih n (by omega) (by omega) (fun j a b e => by
        by_cases z : j = s + 1
        · exact absurd (yy_dT.mp (z ▸ e)) (fun y => y h)
        · exact hN j (by omega) b e)
      rw [za_f (by omega) (yy_dF.mpr h)] at kk
      exact nm_r (pk_m1 s) kk
    · rw [nI_eq (Nat.lt_of_le_of_lt (hb (s + 1)) (by decide)) hk]
      refine br_c (fun e => h1 (s + 1) (by omega) hs (yy_dT.mpr h) e) (fun e => ?_)
      have kk := ih n (by omega) (by omega) (fun j a b e2 => by
        by_cases z : j = s + 1
        · rw [z]; exact e
        · exact hN j (by omega) b e2)
      rw [za_t (by omega) (yy_dT.mpr h)] at kk
      exact nm_r (nI_1 _) (nm_r (pk_m1 s) kk)
theorem yy_cs {post : Int32 → Prop} {c k : Nat} (hC : C ≤ 8) (hD : D ≤ 3) (hc : c < C) (hk : k ≤ D)
    (h1 : ∀ s, 1 ≤ s → s ≤ 60 → yy_d yd c s = true → za_b (yy_d yd c) (60 - s) = k → post (nI s)) (h2 : za_b (yy_d yd c) 60 = k → post 0) (h3 : ¬ za_b (yy_d yd c) 60 = k → (∀ s, 1 ≤ s → s ≤ 60 → yy_d yd c s = true → ¬ za_b (yy_d yd c) (60 - s) = k) → post (-1)) :
    wpY_cellStamp post (nI T, nI C, nI D, nI L, nI K, st, ca, sn, sp, yr, se, yp, yw, bu, yh, yd, yv) (nI c) (nI k) := by
  unfold wpY_cellStamp
  exact yy_ceY hC hc (br_f (nI_pos (by omega)) (br_t (nI_le hk (by omega)) ⟨61, yy_cs_lp (by omega) (by omega) h1 h2 h3 60 61 (by omega) (by omega) (fun j a b => by omega)⟩))
/-- the value of the last decided write with a stamp of at most j and n -/
def yy_lv (yd yv : Nat → Int32) (c : Nat) (n : Int32) : Nat → Int32
  | 0 => 0
  | j + 1 => if ¬ n < nI (j + 1) ∧ yy_d yd c (j + 1) = true then yv ((j + 1) * 8 + c) else yy_lv yd yv c n j
theorem yy_lvT {c j : Nat} {n : Int32} (h : ¬ n < nI (j + 1)) (h2 : yy_d yd c (j + 1) = true) : yy_lv yd yv c n (j + 1) = yv ((j + 1) * 8 + c) := if_pos ⟨h, h2⟩
theorem yy_lvF {c j : Nat} {n : Int32} (h : ¬ (¬ n < nI (j + 1) ∧ yy_d yd c (j + 1) = true)) : yy_lv yd yv c n (j + 1) = yy_lv yd yv c n j := if_neg h
theorem yy_rd_lp {post : Int32 → SY → Prop} {t c : Nat} (ht : t < 4) (hc : c < 8)
    (hp : post 1 (nI T, nI C, nI D, nI L, nI K, st, ca, sn, sp, upd yr (t * 8 + c) 1, upd se (t * 8 + c) (yy_lv yd yv c (sn t) 60), yp, yw, bu, yh, yd, yv)) :
    ∀ d n i, i + d = 60 → d < n → wY_read_111 post (nI t) (nI c) (nI T) (nI C) (nI D) (nI L) (nI K) st ca sn sp yr se yp yw bu yh yd yv n (yy_lv yd yv c (sn t) i) (nI (i + 1)) := by
  intro d
  have v2 : vp_in (nI (t * 8 + c)) 32 := vp_in_nI (by omega) (by decide)
  induction d with
  | zero =>
    intro n i hi hn
    obtain ⟨n, rfl⟩ : ∃ m, n = m + 1 := ⟨n - 1, by omega⟩
    have e : i = 60 := by omega
    rw [e]
    refine br_t (nI_lt (a := 60) (b := 61) (by decide) (by decide)) ?_
    rw [zi_8, nI_clamp (n := t * 8 + c) (by omega)]
    exact ⟨v2, nm_r (by rw [zi_n1]) ⟨v2, nm_e hp⟩⟩
  | succ d ih =>
    intro n i hi hn
    obtain ⟨n, rfl⟩ : ∃ m, n = m + 1 := ⟨n - 1, by omega⟩
    have k := ih n (i + 1) (by omega) (by omega)
    have v : vp_in (nI ((i + 1) * 8 + c)) 488 := vp_in_nI (by omega) (by decide)
    refine br_f (nI_nlt (a := 60) (b := i + 1) (by omega) (by decide)) ?_
    rw [zi_8, nI_clamp (n := (i + 1) * 8 + c) (by omega), nI_clamp (n := t) (by omega)]
    refine ⟨vp_in_nI ht (by decide), br_c (fun h => ?_) (fun h => ⟨v, br_c (fun h2 => ?_) (fun h2 => ?_)⟩)⟩
    · rw [yy_lvF (fun z => z.1 h)] at k
      exact nm_r (nI_1 _) k
    · rw [yy_lvF (fun z => yy_dT.mp z.2 h2)] at k
      exact nm_r (nI_1 _) k
    · rw [yy_lvT h (yy_dT.mpr h2)] at k
      exact ⟨v, nm_e (nm_r (nI_1 _) k)⟩
/-- the search meets the write s, if it is the last one up to n -/
theorem yy_lvS {c s : Nat} {n : Int32} (hs : 1 ≤ s) (h : ¬ n < nI s) (h2 : yy_d yd c s = true) : ∀ d, (∀ j, s < j → j ≤ s + d → ¬ n < nI j → yy_d yd c j = false) → yy_lv yd yv c n (s + d) = yv (s * 8 + c) := by
  intro d
  induction d with
  | zero =>
    intro _
    obtain ⟨j, rfl⟩ : ∃ j, s = j + 1 := ⟨s - 1, by omega⟩
    exact yy_lvT h h2
  | succ d ih =>
    intro hn
    rw [show s + (d + 1) = (s + d) + 1 from rfl, yy_lvF (fun z => Bool.false_ne_true ((hn (s + d + 1) (by omega) (by omega) z.1).symm.trans z.2))]
    exact ih (fun j a b => hn j a (by omega))
theorem yy_lvN {c : Nat} {n : Int32} : ∀ d, (∀ j, 0 < j → j ≤ d → ¬ n < nI j → yy_d yd c j = false) → yy_lv yd yv c n d = 0 := by
  intro d
  induction d with
  | zero => intro _; rfl
  | succ d ih =>
    intro hn
    rw [yy_lvF (fun z => Bool.false_ne_true ((hn (d + 1) (by omega) (by omega) z.1).symm.trans z.2))]
    exact ih (fun j a b => hn j a (by omega))
end
end
section
/-! ===== the relation, and how it lasts (no walk here) ===== -/
def rr_act (s : Int32) : Prop := s = 1 ∨ s = 2 ∨ s = 3 ∨ s = 8
/-- what a state says of the masks: read, write, held, passed -/
def rr_ST (s mr mw mh mp : Int32) : Prop :=
  (¬ zs_cm s → mh = 0) ∧ (¬ s = 4 → ¬ s = 5 → mp = 0) ∧
  (s = 2 → (∀ i, i < 32 → bt mh i = true → bt mw i = true) ∧ ∃ i, i < 32 ∧ bt mw i = true ∧ bt mh i = false) ∧
  (s = 3 ∨ s = 4 → mh = mw ∧ ¬ mw = 0) ∧
  (s = 4 → (∀ i, i < 32 → bt mp i = true → bt mr i = true) ∧ ∃ i, i < 32 ∧ bt mr i = true ∧ bt mp i = false) ∧
  (s = 5 → ¬ mh = 0)
/-- a decided write of c behind the snapshot n (and, validating, ahead of the stamp p) -/
def rr_ov (yd : Nat → Int32) (c : Nat) (s n p : Int32) : Prop := ∃ z : Nat, 1 ≤ z ∧ z ≤ 60 ∧ yy_d yd c z = true ∧ n.toInt < (z : Int) ∧ (s = 4 → (z : Int) < p.toInt)
def rr_LT (C : Nat) (s n p mr ml : Int32) (yd : Nat → Int32) : Prop :=
  rr_act s ∨ s = 4 → ∀ c, c < C → (bt ml c = true ↔ bt mr c = true ∧ rr_ov yd c s n p)
def rr_OR (C : Nat) (s p mw : Int32) (yd : Nat → Int32) : Prop :=
  s = 4 → ∀ c, c < C → bt mw c = true → ∀ z : Nat, 1 ≤ z → z ≤ 60 → yy_d yd c z = true → (z : Int) < p.toInt
def rr_NU (K : Nat) (s n p : Int32) : Prop := (0 ≤ n.toInt ∧ n.toInt ≤ (K : Int)) ∧ (rr_act s → p = 0) ∧ (s = 4 ∨ s = 5 → 1 ≤ p.toInt ∧ p.toInt ≤ (K : Int))
def rr_HI (C : Nat) (mr mw mh mp ml : Int32) : Prop := ∀ i, C ≤ i → i < 32 → bt mr i = false ∧ bt mw i = false ∧ bt mh i = false ∧ bt mp i = false ∧ bt ml i = false
def rr_row (C t : Nat) (y : Nat → Int32) (m : Int32) : Prop := ∀ c, c < C → (y (t * 8 + c) = 0 ↔ bt m c = false)
def rr_TH (t C K : Nat) (s n p mr mw mh mp ml : Int32) (yr yp yw yh yd : Nat → Int32) : Prop :=
  rr_NU K s n p ∧ rr_HI C mr mw mh mp ml ∧ (rr_row C t yr mr ∧ rr_row C t yp mp ∧ rr_row C t yw mw ∧ rr_row C t yh mh) ∧
  rr_ST s mr mw mh mp ∧ rr_LT C s n p mr ml yd ∧ rr_OR C s p mw yd
def rr_HO (T c : Nat) (ho xh : Nat → Int32) : Prop := (ho c = -1 ∨ ∃ w, w < T ∧ ho c = nI w) ∧ ∀ t, t < T → (bt (xh t) c = true ↔ ho c = nI t)
def rr_CH (D c K : Nat) (ne ke vv vs yd yv : Nat → Int32) : Prop :=
  (∀ z : Nat, 1 ≤ z → z ≤ 60 → yy_d yd c z = true → z ≤ K) ∧
  ∃ q, q < 4 ∧ ne c = nI q ∧ ke c = nI (min (za_b (yy_d yd c) 60) (D + 1)) ∧
    ∀ z : Nat, 1 ≤ z → z ≤ 60 → yy_d yd c z = true → za_b (yy_d yd c) (60 - z) ≤ D →
      vs (c * 4 + (q + 4 - za_b (yy_d yd c) (60 - z)) % 4) = nI z ∧ vv (c * 4 + (q + 4 - za_b (yy_d yd c) (60 - z)) % 4) = yv (z * 8 + c)
def rr_R (T C D L K : Nat) (st sn sp xr xw xh xp xl ho ne ke vv vs yr yp yw yh yd yv : Nat → Int32) : Prop :=
  (T ≤ 4 ∧ C ≤ 8 ∧ D ≤ 3 ∧ L ≤ 60 ∧ K ≤ L) ∧
  (∀ t, t < T → rr_TH t C K (st t) (sn t) (sp t) (xr t) (xw t) (xh t) (xp t) (xl t) yr yp yw yh yd) ∧
  (∀ c, c < C → rr_HO T c ho xh) ∧
  (∀ c, c < C → rr_CH D c K ne ke vv vs yd yv)
/-- related states, with T threads -/
def rr_RT (T : Nat) (u : SX) (v : SY) : Prop :=
  ∃ (C D L K : Nat) (st ca sn sp xr xw xh xp xl se bu ho ne ke vv vs yr yp yw yh yd yv : Nat → Int32), u = (nI T, nI C, nI D, nI L, nI K, st, ca, sn, sp, xr, xw, xh, xp, xl, se, bu, ho, ne, ke, vv, vs) ∧ v = (nI T, nI C, nI D, nI L, nI K, st, ca, sn, sp, yr, se, yp, yw, bu, yh, yd, yv) ∧ rr_R T C D L K st sn sp xr xw xh xp xl ho ne ke vv vs yr yp yw yh yd yv
def i_Rel (_ : Nat) (u : SX) (v : SY) : Prop := ∃ T, rr_RT T u v
theorem i_up {k : Nat} {u : SX} {v : SY} (h : i_Rel k u v) : i_Rel (k + 4) u v := h
section
variable {T C D L K : Nat} {st ca sn sp se bu xr xw xh xp xl ho ne ke vv vs yr yp yw yh yd yv : Nat → Int32}
theorem rr_in (h : rr_R T C D L K st sn sp xr xw xh xp xl ho ne ke vv vs yr yp yw yh yd yv) : rr_RT T (nI T, nI C, nI D, nI L, nI K, st, ca, sn, sp, xr, xw, xh, xp, xl, se, bu, ho, ne, ke, vv, vs) (nI T, nI C, nI D, nI L, nI K, st, ca, sn, sp, yr, se, yp, yw, bu, yh, yd, yv) :=
  ⟨C, D, L, K, st, ca, sn, sp, xr, xw, xh, xp, xl, se, bu, ho, ne, ke, vv, vs, yr, yp, yw, yh, yd, yv, rfl, rfl, h⟩
end
theorem rr_elT {T : Nat} {u : SX} {v : SY} {P : SX → SY → Prop} (I : rr_RT T u v)
    (h : ∀ (C D L K : Nat) (st ca sn sp xr xw xh xp xl se bu ho ne ke vv vs yr yp yw yh yd yv : Nat → Int32), rr_R T C D L K st sn sp xr xw xh xp xl ho ne ke vv vs yr yp yw yh yd yv → P (nI T, nI C, nI D, nI L, nI K, st, ca, sn, sp, xr, xw, xh, xp, xl, se, bu, ho, ne, ke, vv, vs) (nI T, nI C, nI D, nI L, nI K, st, ca, sn, sp, yr, se, yp, yw, bu, yh, yd, yv)) : P u v := by
  obtain ⟨C, D, L, K, st, ca, sn, sp, xr, xw, xh, xp, xl, se, bu, ho, ne, ke, vv, vs, yr, yp, yw, yh, yd, yv, eu, ev, R⟩ := I
  rw [eu, ev]
  exact h C D L K st ca sn sp xr xw xh xp xl se bu ho ne ke vv vs yr yp yw yh yd yv R
theorem rr_el {k : Nat} {u : SX} {v : SY} {P : SX → SY → Prop} (I : i_Rel k u v)
    (h : ∀ (T C D L K : Nat) (st ca sn sp xr xw xh xp xl se bu ho ne ke vv vs yr yp yw yh yd yv : Nat → Int32), rr_R T C D L K st sn sp xr xw xh xp xl ho ne ke vv vs yr yp yw yh yd yv → P (nI T, nI C, nI D, nI L, nI K, st, ca, sn, sp, xr, xw, xh, xp, xl, se, bu, ho, ne, ke, vv, vs) (nI T, nI C, nI D, nI L, nI K, st, ca, sn, sp, yr, se, yp, yw, bu, yh, yd, yv)) : P u v :=
  Exists.elim I (fun T I => rr_elT I (h T))
section
variable {T C D L K : Nat} {st ca sn sp se bu xr xw xh xp xl ho ne ke vv vs yr yp yw yh yd yv : Nat → Int32}
theorem rr_THf {t K' : Nat} {s n p mr mw mh mp ml : Int32} {yr' yp' yw' yh' : Nat → Int32} (hK : K ≤ K')
    (e1 : ∀ c, c < C → yr' (t * 8 + c) = yr (t * 8 + c)) (e2 : ∀ c, c < C → yp' (t * 8 + c) = yp (t * 8 + c)) (e3 : ∀ c, c < C → yw' (t * 8 + c) = yw (t * 8 + c)) (e4 : ∀ c, c < C → yh' (t * 8 + c) = yh (t * 8 + c))
    (h : rr_TH t C K s n p mr mw mh mp ml yr yp yw yh yd) : rr_TH t C K' s n p mr mw mh mp ml yr' yp' yw' yh' yd := by
  obtain ⟨⟨⟨a1, a2⟩, a3, a4⟩, b, ⟨r1, r2, r3, r4⟩, d⟩ := h
  refine ⟨⟨⟨a1, by omega⟩, a3, fun z => ⟨(a4 z).1, by have := (a4 z).2; omega⟩⟩, b, ⟨fun c hc => ?_, fun c hc => ?_, fun c hc => ?_, fun c hc => ?_⟩, d⟩
  · rw [e1 c hc]; exact r1 c hc
  · rw [e2 c hc]; exact r2 c hc
  · rw [e3 c hc]; exact r3 c hc
  · rw [e4 c hc]; exact r4 c hc
/-- a change of thread t alone -/
theorem rr_upd {t K' : Nat} {st' sn' sp' xr' xw' xh' xp' xl' ho' yr' yp' yw' yh' : Nat → Int32}
    (R : rr_R T C D L K st sn sp xr xw xh xp xl ho ne ke vv vs yr yp yw yh yd yv)
    (e1 : ∀ r, r ≠ t → st' r = st r) (e2 : ∀ r, r ≠ t → sn' r = sn r) (e3 : ∀ r, r ≠ t → sp' r = sp r) (e4 : ∀ r, r ≠ t → xr' r = xr r)
    (e5 : ∀ r, r ≠ t → xw' r = xw r) (e6 : ∀ r, r ≠ t → xh' r = xh r) (e7 : ∀ r, r ≠ t → xp' r = xp r) (e8 : ∀ r, r ≠ t → xl' r = xl r)
    (f1 : ∀ j, j < t * 8 ∨ t * 8 + 8 ≤ j → yr' j = yr j) (f2 : ∀ j, j < t * 8 ∨ t * 8 + 8 ≤ j → yp' j = yp j) (f3 : ∀ j, j < t * 8 ∨ t * 8 + 8 ≤ j → yw' j = yw j) (f4 : ∀ j, j < t * 8 ∨ t * 8 + 8 ≤ j → yh' j = yh j)
    (hK : K ≤ K') (hL : K' ≤ L)
    (hT : rr_TH t C K' (st' t) (sn' t) (sp' t) (xr' t) (xw' t) (xh' t) (xp' t) (xl' t) yr' yp' yw' yh' yd)
    (hH : ∀ c, c < C → rr_HO T c ho' xh') : rr_R T C D L K' st' sn' sp' xr' xw' xh' xp' xl' ho' ne ke vv vs yr' yp' yw' yh' yd yv := by
  obtain ⟨⟨g1, g2, g3, g4, g5⟩, hth, hho, hch⟩ := R
  refine ⟨⟨g1, g2, g3, g4, hL⟩, fun r hr => ?_, hH, fun c hc => ?_⟩
  · by_cases e : r = t
    · rw [e]; exact hT
    · rw [e1 r e, e2 r e, e3 r e, e4 r e, e5 r e, e6 r e, e7 r e, e8 r e]
      exact rr_THf hK (fun c hc => f1 _ (by omega)) (fun c hc => f2 _ (by omega)) (fun c hc => f3 _ (by omega)) (fun c hc => f4 _ (by omega)) (hth r hr)
  · obtain ⟨a, b⟩ := hch c hc
    exact ⟨fun z z1 z2 z3 => Nat.le_trans (a z z1 z2 z3) hK, b⟩
theorem rr_rowS {t c0 : Nat} {y : Nat → Int32} {m m' : Int32} (h : rr_row C t y m) (hC : C ≤ 8) (hm : ∀ i, i < 32 → bt m' i = (bt m i || decide (i = c0))) : rr_row C t (upd y (t * 8 + c0) 1) m' := by
  intro c hc
  rw [hm c (by omega)]
  by_cases e : c = c0
  · rw [e, pk_us, decide_eq_true rfl, Bool.or_true]
    exact ⟨fun z => absurd z (by decide), fun z => absurd z (by decide)⟩
  · rw [pk_un (by omega), decide_eq_false e, Bool.or_false]
    exact h c hc
theorem rr_rowC {t c0 : Nat} {y : Nat → Int32} {m m' : Int32} (h : rr_row C t y m) (hC : C ≤ 8) (hm : ∀ i, i < 32 → bt m' i = (bt m i && !decide (i = c0))) : rr_row C t (upd y (t * 8 + c0) 0) m' := by
  intro c hc
  rw [hm c (by omega)]
  by_cases e : c = c0
  · rw [e, pk_us, decide_eq_true rfl, Bool.not_true, Bool.and_false]
    exact ⟨fun _ => rfl, fun _ => rfl⟩
  · rw [pk_un (by omega), decide_eq_false e, Bool.not_false, Bool.and_true]
    exact h c hc
theorem rr_rowZ {t : Nat} {y : Nat → Int32} : rr_row C t (yy_cl y t C) 0 := fun c hc => ⟨fun _ => b_0 c, fun _ => yy_clI hc⟩
theorem rr_ov_ns {c : Nat} {s s' n p p' : Int32} (h : ¬ s' = 4) (o : rr_ov yd c s n p) : rr_ov yd c s' n p' := by
  obtain ⟨z, a, b, d, e, _⟩ := o
  exact ⟨z, a, b, d, e, fun y => absurd y h⟩
theorem rr_HI0 : rr_HI C 0 0 0 0 0 := fun i _ _ => ⟨b_0 i, b_0 i, b_0 i, b_0 i, b_0 i⟩
theorem rr_zNU {s n p : Int32} (hs : s = 1 ∨ s = 6 ∨ s = 7) (hn : 0 ≤ n.toInt ∧ n.toInt ≤ (K : Int)) (hp : s = 1 → p = 0) : rr_NU K s n p := by
  refine ⟨hn, fun z => ?_, fun z => ?_⟩
  · rcases hs with e | e | e
    · exact hp e
    · rw [e] at z; exact absurd z (by unfold rr_act; decide)
    · rw [e] at z; exact absurd z (by unfold rr_act; decide)
  · rcases hs with e | e | e <;> (rw [e] at z; exact absurd z (by decide))
theorem rr_zST {s : Int32} (hs : s = 1 ∨ s = 6 ∨ s = 7) : rr_ST s 0 0 0 0 := by
  refine ⟨fun _ => rfl, fun _ _ => rfl, fun z => ?_, fun z => ?_, fun z => ?_, fun z => ?_⟩ <;>
    (rcases hs with e | e | e <;> (rw [e] at z; exact absurd z (by decide)))
theorem rr_zTH {t : Nat} {s n p : Int32} (hs : s = 1 ∨ s = 6 ∨ s = 7) (hn : 0 ≤ n.toInt ∧ n.toInt ≤ (K : Int)) (hp : s = 1 → p = 0) :
    rr_TH t C K s n p 0 0 0 0 0 (yy_cl yr t C) (yy_cl yp t C) (yy_cl yw t C) (yy_cl yh t C) yd := by
  refine ⟨rr_zNU hs hn hp, rr_HI0, ⟨rr_rowZ, rr_rowZ, rr_rowZ, rr_rowZ⟩, rr_zST hs, fun _ c hc => ?_, fun z => ?_⟩
  · rw [b_0]
    exact ⟨fun z => absurd z Bool.false_ne_true, fun z => absurd z.1 Bool.false_ne_true⟩
  · rcases hs with e | e | e <;> (rw [e] at z; exact absurd z (by decide))
theorem rr_nIne {a b : Nat} (ha : a < 8) (hb : b < 8) (h : a ≠ b) : ¬ nI a = nI b := fun z => h ((nI_eq (by omega) (by omega)).mp z)
theorem rr_frHO {t c : Nat} (hT : T ≤ 4) (ht : t < T) (hc : c < C) (h : rr_HO T c ho xh) : rr_HO T c (xx_fr ho t C) (upd xh t 0) := by
  obtain ⟨h1, h2⟩ := h
  by_cases e : ho c = nI t
  · have e2 : xx_fr ho t C c = -1 := if_pos ⟨hc, e⟩
    refine ⟨Or.inl e2, fun r hr => ?_⟩
    rw [e2]
    have g : ¬ (-1 : Int32) = nI r := fun z => zi_m1n (n := r) (by omega) z.symm
    by_cases er : r = t
    · rw [er, pk_us, b_0]
      exact ⟨fun z => absurd z Bool.false_ne_true, fun z => absurd (er ▸ z) g⟩
    · rw [pk_un er, h2 r hr, e]
      exact ⟨fun z => absurd z (rr_nIne (by omega) (by omega) (fun y => er y.symm)), fun z => absurd z g⟩
  · have e2 : xx_fr ho t C c = ho c := if_neg (fun z => e z.2)
    refine ⟨by rw [e2]; exact h1, fun r hr => ?_⟩
    rw [e2]
    by_cases er : r = t
    · rw [er, pk_us, b_0]
      exact ⟨fun z => absurd z Bool.false_ne_true, fun z => absurd z e⟩
    · rw [pk_un er]
      exact h2 r hr
/-- the sets of t emptied (one of its cells may have been freed ahead of it) -/
theorem rr_clrG {t : Nat} {s : Int32} {sn' sp' ho1 xh1 yh1 : Nat → Int32} (R : rr_R T C D L K st sn sp xr xw xh xp xl ho ne ke vv vs yr yp yw yh yd yv) (ht : t < T) (hs : s = 1 ∨ s = 6 ∨ s = 7)
    (e2 : ∀ r, r ≠ t → sn' r = sn r) (e3 : ∀ r, r ≠ t → sp' r = sp r) (hn : 0 ≤ (sn' t).toInt ∧ (sn' t).toInt ≤ (K : Int)) (hp : s = 1 → sp' t = 0)
    (e6 : ∀ r, r ≠ t → xh1 r = xh r) (f4 : ∀ j, j < t * 8 ∨ t * 8 + 8 ≤ j → yh1 j = yh j) (hH : ∀ c, c < C → rr_HO T c ho1 xh1) :
    rr_R T C D L K (upd st t s) sn' sp' (upd xr t 0) (upd xw t 0) (upd xh1 t 0) (upd xp t 0) (upd xl t 0) (xx_fr ho1 t C) ne ke vv vs (yy_cl yr t C) (yy_cl yp t C) (yy_cl yw t C) (yy_cl yh1 t C) yd yv := by
  have g := R.1
  have g2 := g.2.1
  refine rr_upd (t := t) R (fun r h => pk_un h) e2 e3 (fun r h => pk_un h) (fun r h => pk_un h) (fun r h => (pk_un h).trans (e6 r h)) (fun r h => pk_un h) (fun r h => pk_un h)
    (fun j h => yy_clO (by omega)) (fun j h => yy_clO (by omega)) (fun j h => yy_clO (by omega)) (fun j h => (yy_clO (by omega)).trans (f4 j h)) (Nat.le_refl K) g.2.2.2.2 ?_ (fun c hc => rr_frHO g.1 ht hc (hH c hc))
  rw [pk_us, pk_us, pk_us, pk_us, pk_us, pk_us]
  exact rr_zTH hs hn hp
theorem rr_clr {t : Nat} {s : Int32} {sn' sp' : Nat → Int32} (R : rr_R T C D L K st sn sp xr xw xh xp xl ho ne ke vv vs yr yp yw yh yd yv) (ht : t < T) (hs : s = 1 ∨ s = 6 ∨ s = 7)
    (e2 : ∀ r, r ≠ t → sn' r = sn r) (e3 : ∀ r, r ≠ t → sp' r = sp r) (hn : 0 ≤ (sn' t).toInt ∧ (sn' t).toInt ≤ (K : Int)) (hp : s = 1 → sp' t = 0) :
    rr_R T C D L K (upd st t s) sn' sp' (upd xr t 0) (upd xw t 0) (upd xh t 0) (upd xp t 0) (upd xl t 0) (xx_fr ho t C) ne ke vv vs (yy_cl yr t C) (yy_cl yp t C) (yy_cl yw t C) (yy_cl yh t C) yd yv :=
  rr_clrG R ht hs e2 e3 hn hp (fun _ _ => rfl) (fun _ _ => rfl) R.2.2.1
end
end
section
/-! ===== each call's change keeps the relation (no walk here) ===== -/
section
variable {T C D L K : Nat} {st ca sn sp se bu xr xw xh xp xl ho ne ke vv vs yr yp yw yh yd yv : Nat → Int32}
theorem rr_write {t c : Nat} {xw' : Nat → Int32} (R : rr_R T C D L K st sn sp xr xw xh xp xl ho ne ke vv vs yr yp yw yh yd yv) (ht : t < T) (hc : c < C) (h1 : st t = 1)
    (e5 : ∀ r, r ≠ t → xw' r = xw r) (hm : ∀ i, i < 32 → bt (xw' t) i = (bt (xw t) i || decide (i = c))) :
    rr_R T C D L K st sn sp xr xw' xh xp xl ho ne ke vv vs yr yp (upd yw (t * 8 + c) 1) yh yd yv := by
  have g := R.1
  have g2 := g.2.1
  obtain ⟨nu, hi, ⟨r1, r2, r3, r4⟩, S, l, o⟩ := R.2.1 t ht
  refine rr_upd (t := t) R (fun _ _ => rfl) (fun _ _ => rfl) (fun _ _ => rfl) (fun _ _ => rfl) e5 (fun _ _ => rfl) (fun _ _ => rfl) (fun _ _ => rfl)
    (fun _ _ => rfl) (fun _ _ => rfl) (fun j h => pk_un (by omega)) (fun _ _ => rfl) (Nat.le_refl K) g.2.2.2.2 ?_ R.2.2.1
  refine ⟨nu, fun i a b => ?_, ⟨r1, r2, rr_rowS r3 g2 hm, r4⟩, ?_, l, fun z => absurd (h1.symm.trans z) (by decide)⟩
  · obtain ⟨q1, q2, q3, q4, q5⟩ := hi i a b
    refine ⟨q1, ?_, q3, q4, q5⟩
    rw [hm i b, q2, decide_eq_false (by omega : ¬ i = c)]; rfl
  · rw [h1] at S ⊢
    exact ⟨S.1, S.2.1, fun z => absurd z (by decide), fun z => absurd z (by decide), fun z => absurd z (by decide), fun z => absurd z (by decide)⟩
theorem rr_read {t c : Nat} {xl' : Nat → Int32} (R : rr_R T C D L K st sn sp xr xw xh xp xl ho ne ke vv vs yr yp yw yh yd yv) (ht : t < T) (hc : c < C) (h1 : st t = 1)
    (e8 : ∀ r, r ≠ t → xl' r = xl r) (hm : ∀ i, i < 32 → (bt (xl' t) i = true ↔ bt (xl t) i = true ∨ (i = c ∧ rr_ov yd c (st t) (sn t) (sp t)))) :
    rr_R T C D L K st sn sp (upd xr t (xr t ||| ((1 : Int32) <<< (nI c &&& 31)))) xw xh xp xl' ho ne ke vv vs (upd yr (t * 8 + c) 1) yp yw yh yd yv := by
  have g := R.1
  have g2 := g.2.1
  obtain ⟨nu, hi, ⟨r1, r2, r3, r4⟩, S, l, o⟩ := R.2.1 t ht
  have hx : ∀ i, i < 32 → bt (xr t ||| ((1 : Int32) <<< (nI c &&& 31))) i = (bt (xr t) i || decide (i = c)) := fun i h => zb_set _ (by omega) h
  refine rr_upd (t := t) R (fun _ _ => rfl) (fun _ _ => rfl) (fun _ _ => rfl) (fun r h => pk_un h) (fun _ _ => rfl) (fun _ _ => rfl) (fun _ _ => rfl) e8
    (fun j h => pk_un (by omega)) (fun _ _ => rfl) (fun _ _ => rfl) (fun _ _ => rfl) (Nat.le_refl K) g.2.2.2.2 ?_ R.2.2.1
  rw [pk_us]
  refine ⟨nu, fun i a b => ?_, ⟨rr_rowS r1 g2 hx, r2, r3, r4⟩, ?_, fun ha i hi2 => ?_, o⟩
  · obtain ⟨q1, q2, q3, q4, q5⟩ := hi i a b
    refine ⟨?_, q2, q3, q4, zz_nf (fun z => ?_)⟩
    · rw [hx i b, q1, decide_eq_false (by omega : ¬ i = c)]; rfl
    · rcases (hm i b).mp z with y | y
      · exact Bool.false_ne_true (q5.symm.trans y)
      · omega
  · rw [h1] at S ⊢
    exact ⟨S.1, S.2.1, fun z => absurd z (by decide), fun z => absurd z (by decide), fun z => absurd z (by decide), fun z => absurd z (by decide)⟩
  · rw [hm i (by omega), hx i (by omega), l ha i hi2]
    by_cases e : i = c
    · rw [decide_eq_true e, Bool.or_true, e]
      exact ⟨fun z => ⟨rfl, z.elim (fun y => y.2) (fun y => y.2)⟩, fun z => Or.inr ⟨rfl, z.2⟩⟩
    · rw [decide_eq_false e, Bool.or_false]
      exact ⟨fun z => z.elim id (fun y => absurd y.1 e), fun z => Or.inl z⟩
theorem rr_ext {t : Nat} (R : rr_R T C D L K st sn sp xr xw xh xp xl ho ne ke vv vs yr yp yw yh yd yv) (ht : t < T) (h1 : st t = 1) (hl : xl t = 0) :
    rr_R T C D L K st (upd sn t (nI K)) sp xr xw xh xp xl ho ne ke vv vs yr yp yw yh yd yv := by
  have g := R.1
  have gL := g.2.2.2.1
  have gK := g.2.2.2.2
  obtain ⟨nu, hi, rw4, S, l, o⟩ := R.2.1 t ht
  refine rr_upd (t := t) R (fun _ _ => rfl) (fun r h => pk_un h) (fun _ _ => rfl) (fun _ _ => rfl) (fun _ _ => rfl) (fun _ _ => rfl) (fun _ _ => rfl) (fun _ _ => rfl)
    (fun _ _ => rfl) (fun _ _ => rfl) (fun _ _ => rfl) (fun _ _ => rfl) (Nat.le_refl K) gK ?_ R.2.2.1
  rw [pk_us]
  refine ⟨⟨?_, nu.2⟩, hi, rw4, S, fun ha c hc => ?_, o⟩
  · rw [nI_toInt (by omega)]; omega
  · rw [hl, b_0]
    refine ⟨fun z => absurd z Bool.false_ne_true, fun z => ?_⟩
    obtain ⟨_, y, y1, y2, y3, y4, _⟩ := z
    have := (R.2.2.2 c hc).1 y y1 y2 y3
    rw [nI_toInt (by omega)] at y4
    omega
theorem rr_com {t : Nat} (R : rr_R T C D L K st sn sp xr xw xh xp xl ho ne ke vv vs yr yp yw yh yd yv) (ht : t < T) (h1 : st t = 1) (hw : ¬ xw t = 0) :
    rr_R T C D L K (upd st t 2) sn sp xr xw xh xp xl ho ne ke vv vs yr yp yw yh yd yv := by
  have g := R.1
  obtain ⟨nu, hi, rw4, S, l, o⟩ := R.2.1 t ht
  rw [h1] at nu S l o
  refine rr_upd (t := t) R (fun r h => pk_un h) (fun _ _ => rfl) (fun _ _ => rfl) (fun _ _ => rfl) (fun _ _ => rfl) (fun _ _ => rfl) (fun _ _ => rfl) (fun _ _ => rfl)
    (fun _ _ => rfl) (fun _ _ => rfl) (fun _ _ => rfl) (fun _ _ => rfl) (Nat.le_refl K) g.2.2.2.2 ?_ R.2.2.1
  rw [pk_us]
  have h0 : xh t = 0 := S.1 (by unfold zs_cm; decide)
  refine ⟨⟨nu.1, fun _ => nu.2.1 (Or.inl rfl), fun z => absurd z (by decide)⟩, hi, rw4, ⟨fun z => absurd (Or.inl rfl) z, fun _ _ => S.2.1 (by decide) (by decide), fun _ => ⟨fun i _ z => ?_, ?_⟩, fun z => absurd z (by decide), fun z => absurd z (by decide), fun z => absurd z (by decide)⟩, fun _ c hc => ?_, fun z => absurd z (by decide)⟩
  · rw [h0, b_0] at z; exact absurd z Bool.false_ne_true
  · obtain ⟨i, a, b⟩ := zb_nz hw
    exact ⟨i, a, b, by rw [h0, b_0]⟩
  · rw [l (Or.inl (Or.inl rfl)) c hc]
    exact ⟨fun z => ⟨z.1, rr_ov_ns (by decide) z.2⟩, fun z => ⟨z.1, rr_ov_ns (by decide) z.2⟩⟩
theorem rr_ret {t : Nat} (R : rr_R T C D L K st sn sp xr xw xh xp xl ho ne ke vv vs yr yp yw yh yd yv) (ht : t < T) (h1 : st t = 1) :
    rr_R T C D L K (upd st t 8) sn sp xr (upd xw t 0) xh xp xl ho ne ke vv vs yr yp (yy_cl yw t C) yh yd yv := by
  have g := R.1
  have g2 := g.2.1
  obtain ⟨nu, hi, ⟨r1, r2, r3, r4⟩, S, l, o⟩ := R.2.1 t ht
  rw [h1] at nu S l o
  refine rr_upd (t := t) R (fun r h => pk_un h) (fun _ _ => rfl) (fun _ _ => rfl) (fun _ _ => rfl) (fun r h => pk_un h) (fun _ _ => rfl) (fun _ _ => rfl) (fun _ _ => rfl)
    (fun _ _ => rfl) (fun _ _ => rfl) (fun j h => yy_clO (by omega)) (fun _ _ => rfl) (Nat.le_refl K) g.2.2.2.2 ?_ R.2.2.1
  rw [pk_us, pk_us]
  refine ⟨⟨nu.1, fun _ => nu.2.1 (Or.inl rfl), fun z => absurd z (by decide)⟩, fun i a b => ⟨(hi i a b).1, b_0 i, (hi i a b).2.2⟩, ⟨r1, r2, rr_rowZ, r4⟩, ⟨fun _ => S.1 (by unfold zs_cm; decide), fun _ _ => S.2.1 (by decide) (by decide), fun z => absurd z (by decide), fun z => absurd z (by decide), fun z => absurd z (by decide), fun z => absurd z (by decide)⟩, fun _ c hc => ?_, fun z => absurd z (by decide)⟩
  rw [l (Or.inl (Or.inl rfl)) c hc]
  exact ⟨fun z => ⟨z.1, rr_ov_ns (by decide) z.2⟩, fun z => ⟨z.1, rr_ov_ns (by decide) z.2⟩⟩
theorem rr_lockHO {t c : Nat} (hT : T ≤ 4) (hC : C ≤ 8) (ht : t < T) (hc : c < C) (hn : ho c = -1) (h : ∀ c, c < C → rr_HO T c ho xh) :
    ∀ c', c' < C → rr_HO T c' (upd ho c (nI t)) (upd xh t (xh t ||| ((1 : Int32) <<< (nI c &&& 31)))) := by
  intro c' hc'
  obtain ⟨a, b⟩ := h c' hc'
  by_cases e : c' = c
  · rw [e] at a b ⊢
    refine ⟨Or.inr ⟨t, ht, pk_us⟩, fun r hr => ?_⟩
    rw [pk_us]
    by_cases er : r = t
    · rw [er, pk_us, zb_set _ (by omega) (by omega), decide_eq_true rfl, Bool.or_true]
      exact ⟨fun _ => rfl, fun _ => rfl⟩
    · rw [pk_un er, b r hr, hn]
      exact ⟨fun z => absurd z.symm (zi_m1n (by omega)), fun z => absurd z (rr_nIne (by omega) (by omega) (fun y => er y.symm))⟩
  · refine ⟨by rw [pk_un e]; exact a, fun r hr => ?_⟩
    rw [pk_un e]
    by_cases er : r = t
    · rw [er, pk_us, zb_set _ (by omega) (by omega), decide_eq_false e, Bool.or_false]
      exact b t ht
    · rw [pk_un er]; exact b r hr
theorem rr_lock2 {t c : Nat} (R : rr_R T C D L K st sn sp xr xw xh xp xl ho ne ke vv vs yr yp yw yh yd yv) (ht : t < T) (hc : c < C) (h2 : st t = 2) (hw : bt (xw t) c = true) (hn : ho c = -1)
    (hx : ∃ i, i < 32 ∧ bt (xw t) i = true ∧ bt (xh t ||| ((1 : Int32) <<< (nI c &&& 31))) i = false) :
    rr_R T C D L K st sn sp xr xw (upd xh t (xh t ||| ((1 : Int32) <<< (nI c &&& 31)))) xp xl (upd ho c (nI t)) ne ke vv vs yr yp yw (upd yh (t * 8 + c) 1) yd yv := by
  have g := R.1
  have g2 := g.2.1
  obtain ⟨nu, hi, ⟨r1, r2, r3, r4⟩, S, l, o⟩ := R.2.1 t ht
  have hm : ∀ i, i < 32 → bt (xh t ||| ((1 : Int32) <<< (nI c &&& 31))) i = (bt (xh t) i || decide (i = c)) := fun i h => zb_set _ (by omega) h
  refine rr_upd (t := t) R (fun _ _ => rfl) (fun _ _ => rfl) (fun _ _ => rfl) (fun _ _ => rfl) (fun _ _ => rfl) (fun r h => pk_un h) (fun _ _ => rfl) (fun _ _ => rfl)
    (fun _ _ => rfl) (fun _ _ => rfl) (fun _ _ => rfl) (fun j h => pk_un (by omega)) (Nat.le_refl K) g.2.2.2.2 ?_ (rr_lockHO g.1 g2 ht hc hn R.2.2.1)
  rw [pk_us]
  refine ⟨nu, fun i a b => ?_, ⟨r1, r2, r3, rr_rowS r4 g2 hm⟩, ?_, l, o⟩
  · obtain ⟨q1, q2, q3, q4, q5⟩ := hi i a b
    refine ⟨q1, q2, ?_, q4, q5⟩
    rw [hm i b, q3, decide_eq_false (by omega : ¬ i = c)]; rfl
  · rw [h2] at S ⊢
    refine ⟨fun z => absurd (Or.inl rfl) z, S.2.1, fun _ => ⟨fun i a b => ?_, hx⟩, fun z => absurd z (by decide), fun z => absurd z (by decide), fun z => absurd z (by decide)⟩
    rw [hm i a] at b
    by_cases e : i = c
    · rw [e]; exact hw
    · rw [decide_eq_false e, Bool.or_false] at b
      exact (S.2.2.1 rfl).1 i a b
theorem rr_lock3 {t c : Nat} (R : rr_R T C D L K st sn sp xr xw xh xp xl ho ne ke vv vs yr yp yw yh yd yv) (ht : t < T) (hc : c < C) (h2 : st t = 2) (hw : bt (xw t) c = true) (hn : ho c = -1)
    (hx : (xh t ||| ((1 : Int32) <<< (nI c &&& 31))) = xw t) :
    rr_R T C D L K (upd st t 3) sn sp xr xw (upd xh t (xh t ||| ((1 : Int32) <<< (nI c &&& 31)))) xp xl (upd ho c (nI t)) ne ke vv vs yr yp yw (upd yh (t * 8 + c) 1) yd yv := by
  have g := R.1
  have g2 := g.2.1
  obtain ⟨nu, hi, ⟨r1, r2, r3, r4⟩, S, l, o⟩ := R.2.1 t ht
  rw [h2] at nu S l o
  have hm : ∀ i, i < 32 → bt (xh t ||| ((1 : Int32) <<< (nI c &&& 31))) i = (bt (xh t) i || decide (i = c)) := fun i h => zb_set _ (by omega) h
  refine rr_upd (t := t) R (fun r h => pk_un h) (fun _ _ => rfl) (fun _ _ => rfl) (fun _ _ => rfl) (fun _ _ => rfl) (fun r h => pk_un h) (fun _ _ => rfl) (fun _ _ => rfl)
    (fun _ _ => rfl) (fun _ _ => rfl) (fun _ _ => rfl) (fun j h => pk_un (by omega)) (Nat.le_refl K) g.2.2.2.2 ?_ (rr_lockHO g.1 g2 ht hc hn R.2.2.1)
  rw [pk_us, pk_us]
  refine ⟨⟨nu.1, fun _ => nu.2.1 (Or.inr (Or.inl rfl)), fun z => absurd z (by decide)⟩, fun i a b => ?_, ⟨r1, r2, r3, rr_rowS r4 g2 hm⟩, ⟨fun z => absurd (Or.inr (Or.inl rfl)) z, fun _ _ => S.2.1 (by decide) (by decide), fun z => absurd z (by decide), fun _ => ⟨hx, fun z => ?_⟩, fun z => absurd z (by decide), fun z => absurd z (by decide)⟩, fun _ i hi2 => ?_, fun z => absurd z (by decide)⟩
  · obtain ⟨q1, q2, q3, q4, q5⟩ := hi i a b
    refine ⟨q1, q2, ?_, q4, q5⟩
    rw [hm i b, q3, decide_eq_false (by omega : ¬ i = c)]; rfl
  · rw [z, b_0] at hw
    exact absurd hw Bool.false_ne_true
  · rw [l (Or.inl (Or.inr (Or.inl rfl))) i hi2]
    exact ⟨fun z => ⟨z.1, rr_ov_ns (by decide) z.2⟩, fun z => ⟨z.1, rr_ov_ns (by decide) z.2⟩⟩
theorem rr_tick4 {t : Nat} (R : rr_R T C D L K st sn sp xr xw xh xp xl ho ne ke vv vs yr yp yw yh yd yv) (ht : t < T) (h3 : st t = 3) (hK : K < L) (hr : ¬ xr t = 0) :
    rr_R T C D L (K + 1) (upd st t 4) sn (upd sp t (nI (K + 1))) xr xw xh (upd xp t 0) xl ho ne ke vv vs yr yp yw yh yd yv := by
  have g := R.1
  have gL := g.2.2.2.1
  obtain ⟨nu, hi, ⟨r1, r2, r3, r4⟩, S, l, o⟩ := R.2.1 t ht
  rw [h3] at nu S l o
  have p0 : xp t = 0 := S.2.1 (by decide) (by decide)
  refine rr_upd (t := t) R (fun r h => pk_un h) (fun _ _ => rfl) (fun r h => pk_un h) (fun _ _ => rfl) (fun _ _ => rfl) (fun _ _ => rfl) (fun r h => pk_un h) (fun _ _ => rfl)
    (fun _ _ => rfl) (fun _ _ => rfl) (fun _ _ => rfl) (fun _ _ => rfl) (Nat.le_succ K) hK ?_ R.2.2.1
  rw [pk_us, pk_us, pk_us]
  rw [p0] at r2 hi S
  have eK : (nI (K + 1)).toInt = ((K + 1 : Nat) : Int) := nI_toInt (by omega)
  have n1 := nu.1
  refine ⟨⟨⟨n1.1, by omega⟩, fun z => absurd z (by unfold rr_act; decide), fun _ => by rw [eK]; omega⟩, hi, ⟨r1, r2, r3, r4⟩, ⟨fun z => absurd (Or.inr (Or.inr (Or.inl rfl))) z, fun z => absurd rfl z, fun z => absurd z (by decide), fun _ => S.2.2.2.1 (Or.inl rfl), fun _ => ⟨fun i _ z => ?_, ?_⟩, fun z => absurd z (by decide)⟩, fun _ c hc => ?_, fun _ c hc hw z z1 z2 z3 => ?_⟩
  · rw [b_0] at z; exact absurd z Bool.false_ne_true
  · obtain ⟨i, a, b⟩ := zb_nz hr
    exact ⟨i, a, b, b_0 i⟩
  · rw [l (Or.inl (Or.inr (Or.inr (Or.inl rfl)))) c hc]
    refine ⟨fun z => ⟨z.1, ?_⟩, fun z => ⟨z.1, rr_ov_ns (by decide) z.2⟩⟩
    obtain ⟨_, y, y1, y2, y3, y4, _⟩ := z
    have := (R.2.2.2 c hc).1 y y1 y2 y3
    exact ⟨y, y1, y2, y3, y4, fun _ => by rw [eK]; omega⟩
  · have := (R.2.2.2 c hc).1 z z1 z2 z3
    rw [eK]; omega
theorem rr_tick5 {t : Nat} (R : rr_R T C D L K st sn sp xr xw xh xp xl ho ne ke vv vs yr yp yw yh yd yv) (ht : t < T) (h3 : st t = 3) (hK : K < L) :
    rr_R T C D L (K + 1) (upd st t 5) sn (upd sp t (nI (K + 1))) xr xw xh (upd xp t 0) xl ho ne ke vv vs yr yp yw yh yd yv := by
  have g := R.1
  have gL := g.2.2.2.1
  obtain ⟨nu, hi, ⟨r1, r2, r3, r4⟩, S, l, o⟩ := R.2.1 t ht
  rw [h3] at nu S l o
  have p0 : xp t = 0 := S.2.1 (by decide) (by decide)
  refine rr_upd (t := t) R (fun r h => pk_un h) (fun _ _ => rfl) (fun r h => pk_un h) (fun _ _ => rfl) (fun _ _ => rfl) (fun _ _ => rfl) (fun r h => pk_un h) (fun _ _ => rfl)
    (fun _ _ => rfl) (fun _ _ => rfl) (fun _ _ => rfl) (fun _ _ => rfl) (Nat.le_succ K) hK ?_ R.2.2.1
  rw [pk_us, pk_us, pk_us]
  rw [p0] at r2 hi S
  have eK : (nI (K + 1)).toInt = ((K + 1 : Nat) : Int) := nI_toInt (by omega)
  have n1 := nu.1
  have s4 := S.2.2.2.1 (Or.inl rfl)
  refine ⟨⟨⟨n1.1, by omega⟩, fun z => absurd z (by unfold rr_act; decide), fun _ => by rw [eK]; omega⟩, hi, ⟨r1, r2, r3, r4⟩, ⟨fun z => absurd (Or.inr (Or.inr (Or.inr rfl))) z, fun _ z => absurd rfl z, fun z => absurd z (by decide), fun z => absurd z (by decide), fun z => absurd z (by decide), fun _ z => s4.2 (s4.1.symm.trans z)⟩, fun z => absurd z (by unfold rr_act; decide), fun z => absurd z (by decide)⟩
theorem rr_pass4 {t c : Nat} (R : rr_R T C D L K st sn sp xr xw xh xp xl ho ne ke vv vs yr yp yw yh yd yv) (ht : t < T) (hc : c < C) (h4 : st t = 4) (hr : bt (xr t) c = true)
    (hx : ∃ i, i < 32 ∧ bt (xr t) i = true ∧ bt (xp t ||| ((1 : Int32) <<< (nI c &&& 31))) i = false) :
    rr_R T C D L K st sn sp xr xw xh (upd xp t (xp t ||| ((1 : Int32) <<< (nI c &&& 31)))) xl ho ne ke vv vs yr (upd yp (t * 8 + c) 1) yw yh yd yv := by
  have g := R.1
  have g2 := g.2.1
  obtain ⟨nu, hi, ⟨r1, r2, r3, r4⟩, S, l, o⟩ := R.2.1 t ht
  have hm : ∀ i, i < 32 → bt (xp t ||| ((1 : Int32) <<< (nI c &&& 31))) i = (bt (xp t) i || decide (i = c)) := fun i h => zb_set _ (by omega) h
  refine rr_upd (t := t) R (fun _ _ => rfl) (fun _ _ => rfl) (fun _ _ => rfl) (fun _ _ => rfl) (fun _ _ => rfl) (fun _ _ => rfl) (fun r h => pk_un h) (fun _ _ => rfl)
    (fun _ _ => rfl) (fun j h => pk_un (by omega)) (fun _ _ => rfl) (fun _ _ => rfl) (Nat.le_refl K) g.2.2.2.2 ?_ R.2.2.1
  rw [pk_us]
  refine ⟨nu, fun i a b => ?_, ⟨r1, rr_rowS r2 g2 hm, r3, r4⟩, ?_, l, o⟩
  · obtain ⟨q1, q2, q3, q4, q5⟩ := hi i a b
    refine ⟨q1, q2, q3, ?_, q5⟩
    rw [hm i b, q4, decide_eq_false (by omega : ¬ i = c)]; rfl
  · rw [h4] at S ⊢
    refine ⟨S.1, fun z => absurd rfl z, fun z => absurd z (by decide), S.2.2.2.1, fun _ => ⟨fun i a b => ?_, hx⟩, fun z => absurd z (by decide)⟩
    rw [hm i a] at b
    by_cases e : i = c
    · rw [e]; exact hr
    · rw [decide_eq_false e, Bool.or_false] at b
      exact (S.2.2.2.2.1 rfl).1 i a b
theorem rr_pass5 {t c : Nat} (R : rr_R T C D L K st sn sp xr xw xh xp xl ho ne ke vv vs yr yp yw yh yd yv) (ht : t < T) (hc : c < C) (h4 : st t = 4) :
    rr_R T C D L K (upd st t 5) sn sp xr xw xh (upd xp t (xp t ||| ((1 : Int32) <<< (nI c &&& 31)))) xl ho ne ke vv vs yr (upd yp (t * 8 + c) 1) yw yh yd yv := by
  have g := R.1
  have g2 := g.2.1
  obtain ⟨nu, hi, ⟨r1, r2, r3, r4⟩, S, l, o⟩ := R.2.1 t ht
  rw [h4] at nu S l o
  have hm : ∀ i, i < 32 → bt (xp t ||| ((1 : Int32) <<< (nI c &&& 31))) i = (bt (xp t) i || decide (i = c)) := fun i h => zb_set _ (by omega) h
  refine rr_upd (t := t) R (fun r h => pk_un h) (fun _ _ => rfl) (fun _ _ => rfl) (fun _ _ => rfl) (fun _ _ => rfl) (fun _ _ => rfl) (fun r h => pk_un h) (fun _ _ => rfl)
    (fun _ _ => rfl) (fun j h => pk_un (by omega)) (fun _ _ => rfl) (fun _ _ => rfl) (Nat.le_refl K) g.2.2.2.2 ?_ R.2.2.1
  rw [pk_us, pk_us]
  have s4 := S.2.2.2.1 (Or.inr rfl)
  refine ⟨⟨nu.1, fun z => absurd z (by unfold rr_act; decide), fun _ => nu.2.2 (Or.inl rfl)⟩, fun i a b => ?_, ⟨r1, rr_rowS r2 g2 hm, r3, r4⟩, ⟨fun z => absurd (Or.inr (Or.inr (Or.inr rfl))) z, fun _ z => absurd rfl z, fun z => absurd z (by decide), fun z => absurd z (by decide), fun z => absurd z (by decide), fun _ z => s4.2 (s4.1.symm.trans z)⟩, fun z => absurd z (by unfold rr_act; decide), fun z => absurd z (by decide)⟩
  obtain ⟨q1, q2, q3, q4, q5⟩ := hi i a b
  refine ⟨q1, q2, q3, ?_, q5⟩
  rw [hm i b, q4, decide_eq_false (by omega : ¬ i = c)]; rfl
theorem rr_wbHO {t c : Nat} (hT : T ≤ 4) (hC : C ≤ 8) (ht : t < T) (hc : c < C) (hx : bt (xh t) c = true) (h : ∀ c, c < C → rr_HO T c ho xh) :
    ∀ c', c' < C → rr_HO T c' (upd ho c (-1)) (upd xh t (xh t &&& (((1 : Int32) <<< (nI c &&& 31)) ^^^ (-1)))) := by
  intro c' hc'
  obtain ⟨a, b⟩ := h c' hc'
  by_cases e : c' = c
  · rw [e] at a b ⊢
    have e0 := (b t ht).mp hx
    refine ⟨Or.inl pk_us, fun r hr => ?_⟩
    have g : ¬ (-1 : Int32) = nI r := fun z => zi_m1n (n := r) (by omega) z.symm
    rw [pk_us]
    by_cases er : r = t
    · rw [er, pk_us, zb_clr _ (by omega) (by omega), decide_eq_true rfl, Bool.not_true, Bool.and_false]
      exact ⟨fun z => absurd z Bool.false_ne_true, fun z => absurd (er ▸ z) g⟩
    · rw [pk_un er, b r hr, e0]
      exact ⟨fun z => absurd z (rr_nIne (by omega) (by omega) (fun y => er y.symm)), fun z => absurd z g⟩
  · refine ⟨by rw [pk_un e]; exact a, fun r hr => ?_⟩
    rw [pk_un e]
    by_cases er : r = t
    · rw [er, pk_us, zb_clr _ (by omega) (by omega), decide_eq_false e, Bool.not_false, Bool.and_true]
      exact b t ht
    · rw [pk_un er]; exact b r hr
theorem rr_wb5 {t c : Nat} (R : rr_R T C D L K st sn sp xr xw xh xp xl ho ne ke vv vs yr yp yw yh yd yv) (ht : t < T) (hc : c < C) (h5 : st t = 5) (hx : bt (xh t) c = true)
    (hz : ¬ (xh t &&& (((1 : Int32) <<< (nI c &&& 31)) ^^^ (-1))) = 0) :
    rr_R T C D L K st sn sp xr xw (upd xh t (xh t &&& (((1 : Int32) <<< (nI c &&& 31)) ^^^ (-1)))) xp xl (upd ho c (-1)) ne ke vv vs yr yp yw (upd yh (t * 8 + c) 0) yd yv := by
  have g := R.1
  have g2 := g.2.1
  obtain ⟨nu, hi, ⟨r1, r2, r3, r4⟩, S, l, o⟩ := R.2.1 t ht
  have hm : ∀ i, i < 32 → bt (xh t &&& (((1 : Int32) <<< (nI c &&& 31)) ^^^ (-1))) i = (bt (xh t) i && !decide (i = c)) := fun i h => zb_clr _ (by omega) h
  refine rr_upd (t := t) R (fun _ _ => rfl) (fun _ _ => rfl) (fun _ _ => rfl) (fun _ _ => rfl) (fun _ _ => rfl) (fun r h => pk_un h) (fun _ _ => rfl) (fun _ _ => rfl)
    (fun _ _ => rfl) (fun _ _ => rfl) (fun _ _ => rfl) (fun j h => pk_un (by omega)) (Nat.le_refl K) g.2.2.2.2 ?_ (rr_wbHO g.1 g2 ht hc hx R.2.2.1)
  rw [pk_us]
  refine ⟨nu, fun i a b => ?_, ⟨r1, r2, r3, rr_rowC r4 g2 hm⟩, ?_, l, o⟩
  · obtain ⟨q1, q2, q3, q4, q5⟩ := hi i a b
    refine ⟨q1, q2, ?_, q4, q5⟩
    rw [hm i b, q3]; rfl
  · rw [h5]
    exact ⟨fun z => absurd (Or.inr (Or.inr (Or.inr rfl))) z, fun _ z => absurd rfl z, fun z => absurd z (by decide), fun z => absurd z (by decide), fun z => absurd z (by decide), fun _ => hz⟩
theorem rr_wb6 {t c : Nat} (R : rr_R T C D L K st sn sp xr xw xh xp xl ho ne ke vv vs yr yp yw yh yd yv) (ht : t < T) (hc : c < C) (hx : bt (xh t) c = true) :
    rr_R T C D L K (upd st t 6) sn sp (upd xr t 0) (upd xw t 0) (upd (upd xh t (xh t &&& (((1 : Int32) <<< (nI c &&& 31)) ^^^ (-1)))) t 0) (upd xp t 0) (upd xl t 0) (xx_fr (upd ho c (-1)) t C) ne ke vv vs (yy_cl yr t C) (yy_cl yp t C) (yy_cl yw t C) (yy_cl (upd yh (t * 8 + c) 0) t C) yd yv := by
  have g := R.1
  have g2 := g.2.1
  exact rr_clrG R ht (Or.inr (Or.inl rfl)) (fun _ _ => rfl) (fun _ _ => rfl) (R.2.1 t ht).1.1 (fun z => absurd z (by decide)) (fun r h => pk_un h) (fun j h => pk_un (by omega)) (rr_wbHO g.1 g2 ht hc hx R.2.2.1)
end
end
section
/-! ===== one decided write: the ring, the late readers (no walk here) ===== -/
section
variable {T C D L K : Nat} {st ca sn sp se bu xr xw xh xp xl ho ne ke vv vs yr yp yw yh yd yv : Nat → Int32}
theorem dd_d {c i z zz : Nat} (hc : c < 8) (hi : i < 8) : yy_d (upd yd (zz * 8 + i) 1) c z = (yy_d yd c z || decide (c = i ∧ z = zz)) := by
  unfold yy_d
  by_cases h : c = i ∧ z = zz
  · rw [h.1, h.2, pk_us, decide_eq_true (by decide : ¬ (1 : Int32) = 0), decide_eq_true (⟨rfl, rfl⟩ : i = i ∧ zz = zz), Bool.or_true]
  · rw [pk_un (fun e => h ⟨by omega, by omega⟩), decide_eq_false h, Bool.or_false]
theorem dd_dN {c i z zz : Nat} (hc : c < 8) (hi : i < 8) (h : ¬ (c = i ∧ z = zz)) : yy_d (upd yd (zz * 8 + i) 1) c z = yy_d yd c z := by
  rw [dd_d hc hi, decide_eq_false h, Bool.or_false]
theorem dd_dY {i zz : Nat} (hi : i < 8) : yy_d (upd yd (zz * 8 + i) 1) i zz = true := by
  rw [dd_d hi hi, decide_eq_true (⟨rfl, rfl⟩ : i = i ∧ zz = zz), Bool.or_true]
/-- the ring of another cell -/
theorem dd_chN {c i q kp zz : Nat} {x s : Int32} (hc : c < 8) (hi : i < 8) (hne : c ≠ i) (h : rr_CH D c K ne ke vv vs yd yv) (hq : q < 4) :
    rr_CH D c K (upd ne i (nI ((q + 1) % 4))) (xx_kp ke D i kp) (upd vv (i * 4 + (q + 1) % 4) x) (upd vs (i * 4 + (q + 1) % 4) s) (upd yd (zz * 8 + i) 1) (upd yv (zz * 8 + i) x) := by
  have ed : yy_d (upd yd (zz * 8 + i) 1) c = yy_d yd c := funext (fun z => dd_dN hc hi (fun y => hne y.1))
  have ek : xx_kp ke D i kp c = ke c := by
    unfold xx_kp
    by_cases hk : kp ≤ D
    · rw [if_pos hk, pk_un hne]
    · rw [if_neg hk]
  obtain ⟨a, q', b1, b2, b3, b4⟩ := h
  unfold rr_CH
  rw [ed, ek, pk_un hne]
  refine ⟨a, q', b1, b2, b3, fun z z1 z2 z3 z4 => ?_⟩
  rw [pk_un (by omega), pk_un (by omega), pk_un (by omega)]
  exact b4 z z1 z2 z3 z4
/-- the ring of the cell itself -/
theorem dd_chY {i q kp zz : Nat} {x : Int32} (hD : D ≤ 3) (hi : i < 8) (h1 : 1 ≤ zz) (hK : zz ≤ K) (h60 : zz ≤ 60) (h : rr_CH D i K ne ke vv vs yd yv) (hq : q < 4) (e : ne i = nI q) (hkp : kp = min (za_b (yy_d yd i) 60) (D + 1))
    (htop : ∀ z : Nat, 1 ≤ z → z ≤ 60 → yy_d yd i z = true → z < zz) :
    rr_CH D i K (upd ne i (nI ((q + 1) % 4))) (xx_kp ke D i kp) (upd vv (i * 4 + (q + 1) % 4) x) (upd vs (i * 4 + (q + 1) % 4) (nI zz)) (upd yd (zz * 8 + i) 1) (upd yv (zz * 8 + i) x) := by
  obtain ⟨a, q', b1, b2, b3, b4⟩ := h
  have eq : q' = q := (nI_eq (by omega) (by omega)).mp (b2.symm.trans e)
  rw [eq] at b4
  have hT : ∀ j, zz ≤ j → j ≤ 60 → yy_d yd i j = false := fun j j1 j2 => zz_nf (fun z => by have := htop j (by omega) j2 z; omega)
  have hnew : ∀ s, s < zz → za_b (yy_d (upd yd (zz * 8 + i) 1) i) (60 - s) = za_b (yy_d yd i) (60 - s) + 1 := fun s hs =>
    za_new h1 h60 (dd_dY hi) (fun j hj => dd_dN hi hi (fun y => hj y.2)) hT (zz - s - 1) s (by omega)
  have h0 : za_b (yy_d (upd yd (zz * 8 + i) 1) i) 60 = za_b (yy_d yd i) 60 + 1 := hnew 0 (by omega)
  refine ⟨fun z z1 z2 z3 => ?_, (q + 1) % 4, by omega, pk_us, ?_, fun z z1 z2 z3 z4 => ?_⟩
  · by_cases ez : z = zz
    · rw [ez]; exact hK
    · rw [dd_dN hi hi (fun y => ez y.2)] at z3
      exact a z z1 z2 z3
  · rw [h0]
    unfold xx_kp
    by_cases hk : kp ≤ D
    · rw [if_pos hk, pk_us]
      exact congrArg nI (by omega)
    · rw [if_neg hk, b3]
      exact congrArg nI (by omega)
  · by_cases ez : z = zz
    · rw [ez] at z4 ⊢
      have e0 : za_b (yy_d (upd yd (zz * 8 + i) 1) i) (60 - zz) = 0 := za_none (60 - zz) zz (by omega) (fun j j1 j2 => by
        rw [dd_dN hi hi (fun y => by omega)]; exact hT j (by omega) j2)
      rw [e0, show ((q + 1) % 4 + 4 - 0) % 4 = (q + 1) % 4 from by omega, pk_us, pk_us, pk_us]
      exact ⟨rfl, rfl⟩
    · rw [dd_dN hi hi (fun y => ez y.2)] at z3
      have zl := htop z z1 z2 z3
      rw [hnew z zl] at z4 ⊢
      have k := b4 z z1 z2 z3 (by omega)
      have ei : ((q + 1) % 4 + 4 - (za_b (yy_d yd i) (60 - z) + 1)) % 4 = (q + 4 - za_b (yy_d yd i) (60 - z)) % 4 := by omega
      rw [ei, pk_un (by omega), pk_un (by omega), pk_un (by omega)]
      exact k
/-- a thread's late mask behind a decided write -/
theorem dd_late {i zz : Nat} {s n p mr ml ml' : Int32} (hC : C ≤ 8) (hi : i < C) (h1 : 1 ≤ zz) (h60 : zz ≤ 60)
    (hN : rr_NU K s n p) (h : rr_LT C s n p mr ml yd)
    (hml : ∀ c, c < C → (bt ml' c = true ↔ bt ml c = true ∨ (c = i ∧ bt mr c = true ∧ n.toInt < (zz : Int) ∧ (p = 0 ∨ (zz : Int) < p.toInt)))) :
    rr_LT C s n p mr ml' (upd yd (zz * 8 + i) 1) := by
  intro ha c hc
  rw [hml c hc, h ha c hc]
  have hp : (p = 0 ∨ (zz : Int) < p.toInt) ↔ (s = 4 → (zz : Int) < p.toInt) := by
    rcases ha with ha | ha
    · have hs : ¬ s = 4 := by
        rcases ha with z | z | z | z <;> (rw [z]; decide)
      exact ⟨fun _ z => absurd z hs, fun _ => Or.inl (hN.2.1 ha)⟩
    · have hp1 := (hN.2.2 (Or.inl ha)).1
      have hp0 : ¬ p = 0 := fun z => by
        rw [z, show (0 : Int32).toInt = 0 from by decide] at hp1
        omega
      exact ⟨fun z _ => z.resolve_left hp0, fun z => Or.inr (z ha)⟩
  rw [hp]
  constructor
  · rintro (⟨a, z, z1, z2, z3, z4⟩ | ⟨e, a, b, d⟩)
    · refine ⟨a, z, z1, z2, ?_, z4⟩
      rw [dd_d (by omega) (by omega), z3, Bool.true_or]
    · rw [e] at a ⊢
      exact ⟨a, zz, h1, h60, dd_dY (by omega), b, d⟩
  · rintro ⟨a, z, z1, z2, z3, z4, z5⟩
    by_cases e : c = i ∧ z = zz
    · rw [e.2] at z4 z5
      exact Or.inr ⟨e.1, a, z4, z5⟩
    · rw [dd_dN (by omega) (by omega) e] at z3
      exact Or.inl ⟨a, z, z1, z2, z3, z4, z5⟩
theorem dd_step {t i q kp zz : Nat} {x : Int32} (R : rr_R T C D L K st sn sp xr xw xh xp xl ho ne ke vv vs yr yp yw yh yd yv) (ht : t < T) (h5 : st t = 5) (hi : i < C) (hx : bt (xh t) i = true)
    (hzz : zz ≤ 60) (es : sp t = nI zz) (hq : q < 4) (e : ne i = nI q) (hkp : kp = min (za_b (yy_d yd i) 60) (D + 1)) (htop : ∀ z : Nat, 1 ≤ z → z ≤ 60 → yy_d yd i z = true → z < zz) :
    rr_R T C D L K st sn sp xr xw xh xp (xx_ml xl (xx_mk t i (sp t) xr sn sp) ((1 : Int32) <<< (nI i &&& 31)) T) ho (upd ne i (nI ((q + 1) % 4))) (xx_kp ke D i kp) (upd vv (i * 4 + (q + 1) % 4) x) (upd vs (i * 4 + (q + 1) % 4) (sp t)) yr yp yw yh (upd yd (zz * 8 + i) 1) (upd yv (zz * 8 + i) x) := by
  obtain ⟨⟨g1, g2, g3, g4, g5⟩, hth, hho, hch⟩ := R
  have nt := (hth t ht).1.2.2 (Or.inr h5)
  have hz : 1 ≤ zz ∧ zz ≤ K := by
    rw [es, nI_toInt (by omega)] at nt
    omega
  refine ⟨⟨g1, g2, g3, g4, g5⟩, fun r hr => ?_, hho, fun c hc => ?_⟩
  · obtain ⟨nu, hh, rows, S, l, o⟩ := hth r hr
    have hbit : ∀ c, c < 32 → (bt (xx_ml xl (xx_mk t i (sp t) xr sn sp) ((1 : Int32) <<< (nI i &&& 31)) T r) c = true ↔ bt (xl r) c = true ∨ (c = i ∧ xx_mk t i (sp t) xr sn sp r)) := by
      intro c hc
      by_cases hm : xx_mk t i (sp t) xr sn sp r
      · rw [xx_mlY hr hm, zb_set _ (by omega) hc, Bool.or_eq_true, decide_eq_true_iff]
        exact ⟨fun z => z.elim Or.inl (fun y => Or.inr ⟨y, hm⟩), fun z => z.elim Or.inl (fun y => Or.inr y.1)⟩
      · rw [xx_mlN hm]
        exact ⟨Or.inl, fun z => z.elim id (fun y => absurd y.2 hm)⟩
    refine ⟨nu, fun c a b => ?_, rows, S, ?_, fun r4 c hc hw z z1 z2 z3 => ?_⟩
    · obtain ⟨q1, q2, q3, q4, q5⟩ := hh c a b
      refine ⟨q1, q2, q3, q4, zz_nf (fun z => ?_)⟩
      rcases (hbit c b).mp z with y | y
      · exact Bool.false_ne_true (q5.symm.trans y)
      · omega
    · by_cases er : r = t
      · rw [er, h5]
        exact fun z => absurd z (by unfold rr_act; decide)
      · refine dd_late g2 hi hz.1 (by omega) nu l (fun c hc => ?_)
        rw [hbit c (by omega)]
        have em : (c = i ∧ xx_mk t i (sp t) xr sn sp r) ↔ (c = i ∧ bt (xr r) c = true ∧ (sn r).toInt < (zz : Int) ∧ (sp r = 0 ∨ (zz : Int) < (sp r).toInt)) := by
          unfold xx_mk
          rw [es, zi_le, zi_le, nI_toInt (by omega)]
          constructor
          · rintro ⟨a, _, b, d, f⟩
            refine ⟨a, by rw [a]; exact b, by omega, f.elim Or.inl (fun y => Or.inr (by omega))⟩
          · rintro ⟨a, b, d, f⟩
            refine ⟨a, er, by rw [a] at b; exact b, by omega, f.elim Or.inl (fun y => Or.inr (by omega))⟩
        rw [em]
    · by_cases ez : c = i ∧ z = zz
      · have hs := (S.2.2.2.1 (Or.inr r4)).1
        have k1 := (hho c hc).2 r hr
        have k2 := (hho c hc).2 t ht
        rw [hs] at k1
        rw [ez.1] at k1 k2 hw
        have k3 := (k1.mp hw).symm.trans (k2.mp hx)
        have k4 := (nI_eq (by omega) (by omega)).mp k3
        rw [k4, h5] at r4
        exact absurd r4 (by decide)
      · rw [dd_dN (by omega) (by omega) ez] at z3
        exact o r4 c hc hw z z1 z2 z3
  · by_cases ec : c = i
    · rw [ec, es]
      exact dd_chY g3 (by omega) hz.1 hz.2 (by omega) (hch i hi) hq e hkp htop
    · exact dd_chN (by omega) (by omega) ec (hch c hc) hq
end
end
section
/-! ===== a step of both sides: one outcome ===== -/
/-- both walks end with one answer, in related states -/
def oo_O (T : Nat) (wx : (Int32 → SX → Prop) → Prop) (wy : (Int32 → SY → Prop) → Prop) : Prop :=
  ∃ (r : Int32) (u : SX) (v : SY), rr_RT T u v ∧ (∀ post : Int32 → SX → Prop, post r u → wx post) ∧ (∀ post : Int32 → SY → Prop, post r v → wy post)
theorem oo_use {k T : Nat} {wx : (Int32 → SX → Prop) → Prop} {wy : (Int32 → SY → Prop) → Prop} (h : oo_O T wx wy) : wx (fun r u' => wy (fun r' v' => r' = r ∧ i_Rel (k + 4) u' v')) := by
  obtain ⟨r, u, v, R, hx, hy⟩ := h
  exact hx _ (hy _ ⟨rfl, T, R⟩)
theorem oo_least {C : Nat} {m : Int32} (h : ∃ i, i < 32 ∧ bt m i = true) (hC : ∀ i, C ≤ i → i < 32 → bt m i = false) : ∃ c, c < C ∧ bt m c = true ∧ ∀ j, j < c → bt m j = false := by
  obtain ⟨c, ⟨h1, h2⟩, h3⟩ := pk_least _ h
  refine ⟨c, ?_, h2, fun j hj => zz_nf (fun z => h3 j hj ⟨by omega, z⟩)⟩
  apply Classical.byContradiction
  intro z
  exact Bool.false_ne_true ((hC c (by omega) h1).symm.trans h2)
section
variable {T C D L K : Nat} {st ca sn sp se bu xr xw xh xp xl ho ne ke vv vs yr yp yw yh yd yv : Nat → Int32}
/-- rows of the two sides -/
theorem oo_b {t c : Nat} {y : Nat → Int32} {m : Int32} (h : rr_row C t y m) (hc : c < C) : ¬ y (t * 8 + c) = 0 ↔ bt m c = true := by
  rw [h c hc]
  exact ⟨zz_nt, fun z y => Bool.false_ne_true (y.symm.trans z)⟩
theorem oo_yh {t c : Nat} (R : rr_R T C D L K st sn sp xr xw xh xp xl ho ne ke vv vs yr yp yw yh yd yv) (ht : t < T) (hc : c < C) : ¬ yh (t * 8 + c) = 0 ↔ ho c = nI t := by
  rw [oo_b (R.2.1 t ht).2.2.1.2.2.2 hc]
  exact (R.2.2.1 c hc).2 t ht
theorem oo_hoS {post : Int32 → Prop} {c w : Nat} (R : rr_R T C D L K st sn sp xr xw xh xp xl ho ne ke vv vs yr yp yw yh yd yv) (hc : c < C) (hw : w < T) (e : ho c = nI w) (hp : post (nI w)) : wpY_holderOf post (nI T, nI C, nI D, nI L, nI K, st, ca, sn, sp, yr, se, yp, yw, bu, yh, yd, yv) (nI c) := by
  have g := R.1
  have g1 := g.1
  refine yy_hoS g.1 g.2.1 hc hw ((oo_yh R hw hc).mpr e) (fun j hj => ?_) hp
  apply Classical.byContradiction
  intro z
  have := (oo_yh R (by omega) hc).mp z
  rw [e, nI_eq (by omega) (by omega)] at this
  omega
theorem oo_hoN {post : Int32 → Prop} {c : Nat} (R : rr_R T C D L K st sn sp xr xw xh xp xl ho ne ke vv vs yr yp yw yh yd yv) (hc : c < C) (e : ho c = -1) (hp : post (-1)) : wpY_holderOf post (nI T, nI C, nI D, nI L, nI K, st, ca, sn, sp, yr, se, yp, yw, bu, yh, yd, yv) (nI c) := by
  have g := R.1
  have g1 := g.1
  refine yy_hoN g.1 g.2.1 hc (fun j hj => ?_) hp
  apply Classical.byContradiction
  intro z
  have := (oo_yh R hj hc).mp z
  rw [e] at this
  exact zi_m1n (n := j) (by omega) this.symm
/-- Y's search for a cell to lock -/
theorem oo_lockY {post : Int32 → SY → Prop} {t c n : Nat} (hC : C ≤ 8) (ht : t < 4) (hc : c < C) (h : ∀ j, j < c → yw (t * 8 + j) = 0 ∨ ¬ yh (t * 8 + j) = 0) (hb : wY_lockStep_2 post (nI t) (nI T) (nI C) (nI D) (nI L) (nI K) st ca sn sp yr se yp yw bu yh yd yv (n + 1) (nI c)) :
    ∀ d i, i + d = c → wY_lockStep_2 post (nI t) (nI T) (nI C) (nI D) (nI L) (nI K) st ca sn sp yr se yp yw bu yh yd yv (n + 1 + d) (nI i) := by
  intro d
  induction d with
  | zero =>
    intro i hi
    have e : i = c := by omega
    rw [e]; exact hb
  | succ d ih =>
    intro i hi
    have k := ih (i + 1) (by omega)
    have v : vp_in (nI (t * 8 + i)) 32 := vp_in_nI (by omega) (by decide)
    show wY_lockStep_2 post (nI t) (nI T) (nI C) (nI D) (nI L) (nI K) st ca sn sp yr se yp yw bu yh yd yv ((n + 1 + d) + 1) (nI i)
    refine br_f (nI_ge (a := i) (b := C) (by omega) (by omega)) ?_
    rw [zi_8, nI_clamp (n := t * 8 + i) (by omega)]
    refine ⟨v, ?_⟩
    by_cases h1 : yw (t * 8 + i) = 0
    · exact br_t h1 (nm_r (nI_1 i) k)
    · exact br_f h1 ⟨v, br_f ((h i (by omega)).resolve_left h1) (nm_r (nI_1 i) k)⟩
theorem oo_lock {t : Nat} (R : rr_R T C D L K st sn sp xr xw xh xp xl ho ne ke vv vs yr yp yw yh yd yv) (ht : t < T) (h2 : st t = 2) :
    oo_O T (fun p => wpX_stepLock p (nI T, nI C, nI D, nI L, nI K, st, ca, sn, sp, xr, xw, xh, xp, xl, se, bu, ho, ne, ke, vv, vs) (nI t)) (fun p => wpY_lockStep p (nI T, nI C, nI D, nI L, nI K, st, ca, sn, sp, yr, se, yp, yw, bu, yh, yd, yv) (nI t)) := by
  have g1 := R.1.1
  have g2 := R.1.2.1
  have ht4 : t < 4 := by omega
  obtain ⟨nu, hi, ⟨r1, r2, r3, r4⟩, S, l, o⟩ := R.2.1 t ht
  have s2 := S.2.2.1 h2
  have vt : vp_in (nI t) 4 := vp_in_nI ht4 (by decide)
  obtain ⟨c, hc, c1, c2⟩ : ∃ c, c < C ∧ bt (xw t &&& (xh t ^^^ (-1))) c = true ∧ ∀ j, j < c → bt (xw t &&& (xh t ^^^ (-1))) j = false := by
    refine oo_least ?_ (fun i a b => ?_)
    · obtain ⟨i, a, b, d⟩ := s2.2
      exact ⟨i, a, by rw [zb_dif _ _ a, b, d]; rfl⟩
    · rw [zb_dif _ _ b, (hi i a b).2.1]; rfl
  have vc : vp_in (nI c) 8 := vp_in_nI (by omega) (by decide)
  have v2 : vp_in (nI (t * 8 + c)) 32 := vp_in_nI (by omega) (by decide)
  have d1 := c1
  rw [zb_dif _ _ (by omega), Bool.and_eq_true, Bool.not_eq_true'] at d1
  have y1 : ¬ yw (t * 8 + c) = 0 := (oo_b r3 hc).mpr d1.1
  have y2 : yh (t * 8 + c) = 0 := (r4 c hc).mpr d1.2
  have yj : ∀ j, j < c → yw (t * 8 + j) = 0 ∨ ¬ yh (t * 8 + j) = 0 := fun j hj => by
    have k := c2 j hj
    rw [zb_dif _ _ (by omega)] at k
    by_cases z : yw (t * 8 + j) = 0
    · exact Or.inl z
    · refine Or.inr ((oo_b r4 (by omega)).mpr ?_)
      rw [(oo_b r3 (by omega)).mp z, Bool.true_and] at k
      cases e : bt (xh t) j with
      | true => rfl
      | false => rw [e] at k; exact absurd k (by decide)
  have hm : ∀ i, i < 32 → bt (xh t ||| ((1 : Int32) <<< (nI c &&& 31))) i = (bt (xh t) i || decide (i = c)) := fun i h => zb_set _ (by omega) h
  have rh : rr_row C t (upd yh (t * 8 + c) 1) (xh t ||| ((1 : Int32) <<< (nI c &&& 31))) := rr_rowS r4 g2 hm
  rcases (R.2.2.1 c hc).1 with e | ⟨w, hw, e⟩
  · have n3 : ¬ st t = 3 := fun z => absurd (h2.symm.trans z) (by decide)
    by_cases hx : (xh t ||| ((1 : Int32) <<< (nI c &&& 31))) = xw t
    · refine ⟨1, _, _, rr_in (ca := ca) (se := se) (bu := bu) (rr_lock3 R ht hc h2 d1.1 e hx), fun post hp => ?_, fun post hp => ?_⟩
      · show wpX_stepLock post (nI T, nI C, nI D, nI L, nI K, st, ca, sn, sp, xr, xw, xh, xp, xl, se, bu, ho, ne, ke, vv, vs) (nI t)
        unfold wpX_stepLock
        rw [nI_clamp (n := t) (by omega)]
        refine ⟨vt, vt, xx_low (by omega) c1 c2 ?_⟩
        rw [nI_clamp (n := c) (by omega)]
        exact ⟨vc, br_t (by rw [e]; decide) ⟨vc, nm_e ⟨vt, vt, nm_e ⟨vt, vt, br_t (pk_us.trans hx) ⟨vt, nm_e hp⟩⟩⟩⟩⟩
      · refine ⟨0 + 1 + c, oo_lockY g2 ht4 hc yj ?_ c 0 (by omega)⟩
        refine br_f (nI_ge (a := c) (b := C) hc (by omega)) ?_
        rw [zi_8, nI_clamp (n := t * 8 + c) (by omega), nI_clamp (n := t) (by omega)]
        refine ⟨v2, br_f y1 ⟨v2, br_t y2 (oo_hoN R hc e (br_t rfl ⟨v2, nm_r (by rw [zi_n1]) (yy_leftZ g1 g2 ht n3 (fun i hi z => ?_) ⟨vt, nm_e hp⟩)⟩))⟩⟩
        rw [h2] at z
        rcases z with z | z | z
        · have k := (oo_b r3 hi).mp z.2.1
          rw [← hx, ← oo_b rh hi] at k
          exact k z.2.2
        · exact absurd z.1 (by decide)
        · exact absurd z.1 (by decide)
    · obtain ⟨j, j1, j2, j3⟩ : ∃ i, i < 32 ∧ bt (xw t) i = true ∧ bt (xh t ||| ((1 : Int32) <<< (nI c &&& 31))) i = false := by
        apply Classical.byContradiction
        intro z
        apply hx
        apply b_ext
        intro i a
        cases e1 : bt (xw t) i with
        | true =>
          cases e2 : bt (xh t ||| ((1 : Int32) <<< (nI c &&& 31))) i with
          | true => rfl
          | false => exact absurd ⟨i, a, e1, e2⟩ z
        | false =>
          apply zz_nf
          intro e2
          rw [hm i a, Bool.or_eq_true, decide_eq_true_iff] at e2
          rcases e2 with e2 | e2
          · exact Bool.false_ne_true (e1.symm.trans (s2.1 i a e2))
          · rw [e2] at e1
            exact Bool.false_ne_true (e1.symm.trans d1.1)
      refine ⟨1, _, _, rr_in (ca := ca) (se := se) (bu := bu) (rr_lock2 R ht hc h2 d1.1 e ⟨j, j1, j2, j3⟩), fun post hp => ?_, fun post hp => ?_⟩
      · show wpX_stepLock post (nI T, nI C, nI D, nI L, nI K, st, ca, sn, sp, xr, xw, xh, xp, xl, se, bu, ho, ne, ke, vv, vs) (nI t)
        unfold wpX_stepLock
        rw [nI_clamp (n := t) (by omega)]
        refine ⟨vt, vt, xx_low (by omega) c1 c2 ?_⟩
        rw [nI_clamp (n := c) (by omega)]
        exact ⟨vc, br_t (by rw [e]; decide) ⟨vc, nm_e ⟨vt, vt, nm_e ⟨vt, vt, br_f (fun z => hx (pk_us.symm.trans z)) hp⟩⟩⟩⟩
      · have hj : j < C := by
          apply Classical.byContradiction
          intro z
          exact Bool.false_ne_true ((hi j (by omega) j1).2.1.symm.trans j2)
        refine ⟨0 + 1 + c, oo_lockY g2 ht4 hc yj ?_ c 0 (by omega)⟩
        refine br_f (nI_ge (a := c) (b := C) hc (by omega)) ?_
        rw [zi_8, nI_clamp (n := t * 8 + c) (by omega), nI_clamp (n := t) (by omega)]
        exact ⟨v2, br_f y1 ⟨v2, br_t y2 (oo_hoN R hc e (br_t rfl ⟨v2, nm_r (by rw [zi_n1]) (yy_leftS g1 g2 ht n3 ⟨j, hj, Or.inl ⟨h2, (oo_b r3 hj).mpr j2, (rh j hj).mpr j3⟩⟩ hp)⟩))⟩⟩
  · refine ⟨2, _, _, rr_in (ca := ca) (se := se) (bu := bu) R, fun post hp => ?_, fun post hp => ?_⟩
    · show wpX_stepLock post (nI T, nI C, nI D, nI L, nI K, st, ca, sn, sp, xr, xw, xh, xp, xl, se, bu, ho, ne, ke, vv, vs) (nI t)
      unfold wpX_stepLock
      rw [nI_clamp (n := t) (by omega)]
      refine ⟨vt, vt, xx_low (by omega) c1 c2 ?_⟩
      rw [nI_clamp (n := c) (by omega)]
      exact ⟨vc, br_f (by rw [e]; exact nI_pos (by omega)) hp⟩
    · refine ⟨0 + 1 + c, oo_lockY g2 ht4 hc yj ?_ c 0 (by omega)⟩
      refine br_f (nI_ge (a := c) (b := C) hc (by omega)) ?_
      rw [zi_8, nI_clamp (n := t * 8 + c) (by omega)]
      exact ⟨v2, br_f y1 ⟨v2, br_t y2 (oo_hoS R hc hw e (br_f (zi_m1n (by omega)) hp))⟩⟩
end
end
section
/-! ===== decide, in lockstep ===== -/
section
variable {T C D L K : Nat} {st ca sn sp se bu xr xw xh xp ho yr yp yw yh : Nat → Int32}
theorem dd_lp {t zz : Nat} (ht : t < T) (h5 : st t = 5) (hzz : zz ≤ 60) (es : sp t = nI zz) :
    ∀ (d i : Nat) (ne ke vv vs xl yd yv : Nat → Int32), i + d = C → rr_R T C D L K st sn sp xr xw xh xp xl ho ne ke vv vs yr yp yw yh yd yv →
      (∀ c, i ≤ c → c < C → bt (xw t) c = true → bt (xh t) c = true ∧ ∀ z : Nat, 1 ≤ z → z ≤ 60 → yy_d yd c z = true → z < zz) →
      ∃ ne' ke' vv' vs' xl' yd' yv' : Nat → Int32, rr_R T C D L K st sn sp xr xw xh xp xl' ho ne' ke' vv' vs' yr yp yw yh yd' yv' ∧
        (∀ (post : SX → Prop) (n : Nat), d < n → post (nI T, nI C, nI D, nI L, nI K, st, ca, sn, sp, xr, xw, xh, xp, xl', se, bu, ho, ne', ke', vv', vs') → wX_decide_9 post (nI t) n (nI i) (nI T) (nI C) (nI D) (nI L) (nI K) st ca sn sp xr xw xh xp xl se bu ho ne ke vv vs) ∧
        (∀ (post : SY → Prop) (n : Nat), d < n → post (nI T, nI C, nI D, nI L, nI K, st, ca, sn, sp, yr, se, yp, yw, bu, yh, yd', yv') → wY_decide_9 post (nI t) (nI T) (nI C) (nI D) (nI L) (nI K) n (nI i) st ca sn sp yr se yp yw bu yh yd yv) := by
  intro d
  induction d with
  | zero =>
    intro i ne ke vv vs xl yd yv hi R _
    have g2 := R.1.2.1
    refine ⟨ne, ke, vv, vs, xl, yd, yv, R, fun post n hn hp => ?_, fun post n hn hp => ?_⟩
    · obtain ⟨n, rfl⟩ : ∃ m, n = m + 1 := ⟨n - 1, by omega⟩
      exact br_t (nI_le (by omega) (by omega)) hp
    · obtain ⟨n, rfl⟩ : ∃ m, n = m + 1 := ⟨n - 1, by omega⟩
      exact br_t (nI_le (by omega) (by omega)) hp
  | succ d ih =>
    intro i ne ke vv vs xl yd yv hi R H
    have g1 := R.1.1
    have g2 := R.1.2.1
    have g3 := R.1.2.2.1
    have ht4 : t < 4 := by omega
    have hiC : i < C := by omega
    have vt : vp_in (nI t) 4 := vp_in_nI ht4 (by decide)
    have v2 : vp_in (nI (t * 8 + i)) 32 := vp_in_nI (by omega) (by decide)
    have v3 : vp_in (nI (zz * 8 + i)) 488 := vp_in_nI (by omega) (by decide)
    have r3 := (R.2.1 t ht).2.2.1.2.2.1
    cases hb : bt (xw t) i with
    | false =>
      obtain ⟨ne', ke', vv', vs', xl', yd', yv', R', hX, hY⟩ := ih (i + 1) ne ke vv vs xl yd yv (by omega) R (fun c a b => H c (by omega) b)
      refine ⟨ne', ke', vv', vs', xl', yd', yv', R', fun post n hn hp => ?_, fun post n hn hp => ?_⟩
      · obtain ⟨n, rfl⟩ : ∃ m, n = m + 1 := ⟨n - 1, by omega⟩
        refine br_f (nI_ge (a := i) (b := C) (by omega) (by omega)) ?_
        rw [nI_clamp (n := t) (by omega)]
        exact ⟨vt, br_t ((zb_tst _ (by omega)).mpr hb) (nm_r (nI_1 i) (hX post n (by omega) hp))⟩
      · obtain ⟨n, rfl⟩ : ∃ m, n = m + 1 := ⟨n - 1, by omega⟩
        refine br_f (nI_ge (a := i) (b := C) (by omega) (by omega)) ?_
        rw [zi_8 t i, nI_clamp (n := t * 8 + i) (by omega)]
        exact ⟨v2, br_t ((r3 i hiC).mpr hb) (nm_r (nI_1 i) (hY post n (by omega) hp))⟩
    | true =>
      obtain ⟨hx, htop⟩ := H i (Nat.le_refl i) hiC hb
      obtain ⟨_, q, hq, e, e2, _⟩ := R.2.2.2 i hiC
      have hk4 : min (za_b (yy_d yd i) 60) (D + 1) ≤ 4 := by omega
      have R1 := dd_step (x := bu (t * 8 + i)) R ht h5 hiC hx hzz es hq e rfl htop
      obtain ⟨ne', ke', vv', vs', xl', yd', yv', R', hX, hY⟩ := ih (i + 1) _ _ _ _ _ _ _ (by omega) R1 (fun c a b w => ⟨(H c (by omega) b w).1, fun z z1 z2 z3 => (H c (by omega) b w).2 z z1 z2 (by
        rw [dd_dN (by omega) (by omega) (fun y => by omega)] at z3
        exact z3)⟩)
      refine ⟨ne', ke', vv', vs', xl', yd', yv', R', fun post n hn hp => ?_, fun post n hn hp => ?_⟩
      · obtain ⟨n, rfl⟩ : ∃ m, n = m + 1 := ⟨n - 1, by omega⟩
        refine br_f (nI_ge (a := i) (b := C) (by omega) (by omega)) ?_
        rw [nI_clamp (n := t) (by omega), zi_8 t i, nI_clamp (n := t * 8 + i) (by omega)]
        refine And.intro vt (br_f (fun z => Bool.false_ne_true (((zb_tst _ (by omega)).mp z).symm.trans hb)) (And.intro v2 (And.intro vt (xx_push g3 (by omega) hq e hk4 e2 ?_))))
        exact And.intro vt (xx_mark g1 ht4 (by omega) (nm_r (nI_1 i) (hX post n (by omega) hp)))
      · obtain ⟨n, rfl⟩ : ∃ m, n = m + 1 := ⟨n - 1, by omega⟩
        refine br_f (nI_ge (a := i) (b := C) (by omega) (by omega)) ?_
        rw [zi_8 t i, nI_clamp (n := t * 8 + i) (by omega), nI_clamp (n := t) (by omega), es, zi_8 zz i, nI_clamp (n := zz * 8 + i) (by omega)]
        exact And.intro v2 (br_f (fun z => Bool.false_ne_true (((r3 i hiC).mp z).symm.trans hb)) ⟨vt, v3, nm_r (by rw [zi_n1]) ⟨vt, v2, v3, nm_e (nm_r (nI_1 i) (hY post n (by omega) hp))⟩⟩)
end
section
variable {T C D L K : Nat} {st ca sn sp se bu xr xw xh xp xl ho ne ke vv vs yr yp yw yh yd yv : Nat → Int32}
theorem dd_all {t zz : Nat} (ht : t < T) (hzz : zz ≤ 60) (es : sp t = nI zz) (R : rr_R T C D L K (upd st t 5) sn sp xr xw xh xp xl ho ne ke vv vs yr yp yw yh yd yv)
    (H : ∀ c, c < C → bt (xw t) c = true → bt (xh t) c = true ∧ ∀ z : Nat, 1 ≤ z → z ≤ 60 → yy_d yd c z = true → z < zz) :
    ∃ ne' ke' vv' vs' xl' yd' yv' : Nat → Int32, rr_R T C D L K (upd st t 5) sn sp xr xw xh xp xl' ho ne' ke' vv' vs' yr yp yw yh yd' yv' ∧
      (∀ (post : SX → Prop), post (nI T, nI C, nI D, nI L, nI K, upd st t 5, ca, sn, sp, xr, xw, xh, xp, xl', se, bu, ho, ne', ke', vv', vs') → wpX_decide post (nI T, nI C, nI D, nI L, nI K, st, ca, sn, sp, xr, xw, xh, xp, xl, se, bu, ho, ne, ke, vv, vs) (nI t)) ∧
      (∀ (post : SY → Prop), post (nI T, nI C, nI D, nI L, nI K, upd st t 5, ca, sn, sp, yr, se, yp, yw, bu, yh, yd', yv') → wpY_decide post (nI T, nI C, nI D, nI L, nI K, st, ca, sn, sp, yr, se, yp, yw, bu, yh, yd, yv) (nI t)) := by
  have g1 := R.1.1
  have vt : vp_in (nI t) 4 := vp_in_nI (by omega) (by decide)
  obtain ⟨ne', ke', vv', vs', xl', yd', yv', R', hX, hY⟩ := dd_lp (ca := ca) (se := se) (bu := bu) ht pk_us hzz es C 0 ne ke vv vs xl yd yv (by omega) R (fun c _ b w => H c b w)
  refine ⟨ne', ke', vv', vs', xl', yd', yv', R', fun post hp => ?_, fun post hp => ?_⟩
  · unfold wpX_decide
    rw [nI_clamp (n := t) (by omega)]
    exact And.intro vt (nm_e ⟨C + 1, hX post (C + 1) (by omega) hp⟩)
  · unfold wpY_decide
    rw [nI_clamp (n := t) (by omega)]
    exact And.intro vt (nm_e ⟨C + 1, hY post (C + 1) (by omega) hp⟩)
end
end
section
/-! ===== tick, validate, write back: one outcome each ===== -/
section
variable {T C D L K : Nat} {st ca sn sp se bu xr xw xh xp xl ho ne ke vv vs yr yp yw yh yd yv : Nat → Int32}
theorem oo_cz {t : Nat} {y : Nat → Int32} {m : Int32} (h : rr_row C t y m) (hh : ∀ i, C ≤ i → i < 32 → bt m i = false) : zc_n (yy_b y t) C = 0 ↔ m = 0 := by
  constructor
  · intro z
    refine zb_z (fun i hi => ?_)
    by_cases hc : i < C
    · exact (h i hc).mp (yy_bF.mp (zc_z.mp z i hc))
    · exact hh i (by omega) hi
  · intro z
    refine zc_z.mpr (fun i hi => yy_bF.mpr ((h i hi).mpr ?_))
    rw [z, b_0]
theorem oo_nat {x : Int32} (h0 : 0 ≤ x.toInt) (h : x.toInt ≤ 60) : ∃ z : Nat, z ≤ 60 ∧ x = nI z := by
  obtain ⟨j, hj, e⟩ := nI_of (x := x) (by rw [zi_lt, show (0 : Int32).toInt = 0 from by decide]; omega)
  rw [e, nI_toInt hj] at h
  exact ⟨j, by omega, e⟩
theorem oo_tick {t : Nat} (R : rr_R T C D L K st sn sp xr xw xh xp xl ho ne ke vv vs yr yp yw yh yd yv) (ht : t < T) (h3 : st t = 3) :
    oo_O T (fun p => wpX_stepTick p (nI T, nI C, nI D, nI L, nI K, st, ca, sn, sp, xr, xw, xh, xp, xl, se, bu, ho, ne, ke, vv, vs) (nI t)) (fun p => wpY_tickStep p (nI T, nI C, nI D, nI L, nI K, st, ca, sn, sp, yr, se, yp, yw, bu, yh, yd, yv) (nI t)) := by
  have g1 := R.1.1
  have g2 := R.1.2.1
  have g4 := R.1.2.2.2.1
  have g5 := R.1.2.2.2.2
  have ht4 : t < 4 := by omega
  obtain ⟨nu, hi, ⟨r1, r2, r3, r4⟩, S, l, o⟩ := R.2.1 t ht
  have s3 := S.2.2.2.1 (Or.inl h3)
  have vt : vp_in (nI t) 4 := vp_in_nI ht4 (by decide)
  by_cases hL : K < L
  · by_cases hr : xr t = 0
    · obtain ⟨ne', ke', vv', vs', xl', yd', yv', R', hX, hY⟩ := dd_all (ca := ca) (se := se) (bu := bu) ht (by omega : K + 1 ≤ 60) pk_us (rr_tick5 R ht h3 hL) (fun c hc hw => ⟨by rw [s3.1]; exact hw, fun z z1 z2 z3 => by
        have := (R.2.2.2 c hc).1 z z1 z2 z3
        omega⟩)
      refine ⟨1, _, _, rr_in (ca := ca) (se := se) (bu := bu) R', fun post hp => ?_, fun post hp => ?_⟩
      · show wpX_stepTick post (nI T, nI C, nI D, nI L, nI K, st, ca, sn, sp, xr, xw, xh, xp, xl, se, bu, ho, ne, ke, vv, vs) (nI t)
        unfold wpX_stepTick
        rw [nI_clamp (n := t) (by omega)]
        exact br_t (nI_lt hL (by omega)) (nm_r (nI_1 K) ⟨vt, nm_e ⟨vt, nm_e ⟨vt, br_t hr (hX _ hp)⟩⟩⟩)
      · show wpY_tickStep post (nI T, nI C, nI D, nI L, nI K, st, ca, sn, sp, yr, se, yp, yw, bu, yh, yd, yv) (nI t)
        unfold wpY_tickStep
        rw [nI_clamp (n := t) (by omega)]
        refine br_t (nI_lt hL (by omega)) (nm_r (nI_1 K) ⟨vt, nm_e (yy_cr g2 ht4 (br_t ?_ (hY _ hp)))⟩)
        rw [(oo_cz r1 (fun i a b => (hi i a b).1)).mpr hr]
        decide
    · refine ⟨1, _, _, rr_in (ca := ca) (se := se) (bu := bu) (rr_tick4 R ht h3 hL hr), fun post hp => ?_, fun post hp => ?_⟩
      · show wpX_stepTick post (nI T, nI C, nI D, nI L, nI K, st, ca, sn, sp, xr, xw, xh, xp, xl, se, bu, ho, ne, ke, vv, vs) (nI t)
        unfold wpX_stepTick
        rw [nI_clamp (n := t) (by omega)]
        exact br_t (nI_lt hL (by omega)) (nm_r (nI_1 K) ⟨vt, nm_e ⟨vt, nm_e ⟨vt, br_f hr ⟨vt, nm_e hp⟩⟩⟩⟩)
      · show wpY_tickStep post (nI T, nI C, nI D, nI L, nI K, st, ca, sn, sp, yr, se, yp, yw, bu, yh, yd, yv) (nI t)
        unfold wpY_tickStep
        rw [nI_clamp (n := t) (by omega)]
        refine br_t (nI_lt hL (by omega)) (nm_r (nI_1 K) ⟨vt, nm_e (yy_cr g2 ht4 (br_f (nI_nle ?_ ?_) ⟨vt, nm_e hp⟩))⟩)
        · exact Nat.pos_of_ne_zero (fun z => hr ((oo_cz r1 (fun i a b => (hi i a b).1)).mp z))
        · have := zc_le (yy_b yr t) C
          omega
  · have R' := rr_clr (s := 7) (sn' := sn) (sp' := upd sp t 0) R ht (Or.inr (Or.inr rfl)) (fun _ _ => rfl) (fun r h => pk_un h) nu.1 (fun z => absurd z (by decide))
    refine ⟨4, _, _, rr_in (ca := upd ca t 3) (se := se) (bu := bu) R', fun post hp => ?_, fun post hp => ?_⟩
    · show wpX_stepTick post (nI T, nI C, nI D, nI L, nI K, st, ca, sn, sp, xr, xw, xh, xp, xl, se, bu, ho, ne, ke, vv, vs) (nI t)
      unfold wpX_stepTick
      exact br_f (nI_nlt (by omega) (by omega)) (xx_endA g2 ht4 hp)
    · show wpY_tickStep post (nI T, nI C, nI D, nI L, nI K, st, ca, sn, sp, yr, se, yp, yw, bu, yh, yd, yv) (nI t)
      unfold wpY_tickStep
      exact br_f (nI_nlt (by omega) (by omega)) (yy_endA g2 ht4 hp)
/-- an undecided writer, of both sides -/
theorem oo_u {t c w : Nat} {x3 x4 : Int32} (R : rr_R T C D L K st sn sp xr xw xh xp xl ho ne ke vv vs yr yp yw yh yd yv) (hc : c < C) (hw : w < T) :
    yy_u t c x3 x4 st sp yw w ↔ (¬ w = t ∧ st w = 4 ∧ ho c = nI w ∧ ¬ sp w ≤ x3 ∧ ¬ x4 ≤ sp w) := by
  obtain ⟨nu, hi, ⟨r1, r2, r3, r4⟩, S, l, o⟩ := R.2.1 w hw
  have k : st w = 4 → (¬ yw (w * 8 + c) = 0 ↔ ho c = nI w) := fun h4 => by
    rw [oo_b r3 hc, ← (S.2.2.2.1 (Or.inr h4)).1]
    exact (R.2.2.1 c hc).2 w hw
  unfold yy_u
  exact ⟨fun ⟨a, b, d, e⟩ => ⟨a, b, (k b).mp d, e⟩, fun ⟨a, b, d, e⟩ => ⟨a, b, (k b).mpr d, e⟩⟩
theorem oo_uwX {J : Prop} {F : Int32 → Prop} {t c : Nat} (R : rr_R T C D L K st sn sp xr xw xh xp xl ho ne ke vv vs yr yp yw yh yd yv) (ht : t < T) (hc : c < C)
    (hJ : (∀ w, w < T → ¬ w = t → st w = 4 → ho c = nI w → False) → J) (hF : ∀ w, w < T → ¬ w = t → st w = 4 → ho c = nI w → F (nI w)) :
    wpX_undecidedWriter (fun r => (r < 0 → J) ∧ (¬ r < 0 → ((r = nI t → J) ∧ (¬ r = nI t → F r)))) (nI T, nI C, nI D, nI L, nI K, st, ca, sn, sp, xr, xw, xh, xp, xl, se, bu, ho, ne, ke, vv, vs) (nI c) := by
  have g1 := R.1.1
  have g2 := R.1.2.1
  rcases (R.2.2.1 c hc).1 with e | ⟨w, hw, e⟩
  · exact xx_uwN (by omega) (Or.inl e) (br_t (by decide) (hJ (fun w hw _ _ z => zi_m1n (n := w) (by omega) (z.symm.trans e))))
  · have un : ∀ w', w' < T → ho c = nI w' → w' = w := fun w' hw' z => (nI_eq (by omega) (by omega)).mp (z.symm.trans e)
    by_cases h4 : st w = 4
    · refine xx_uwS (by omega) (by omega : w < 4) e h4 (br_f (nI_pos (by omega)) ?_)
      by_cases et : w = t
      · exact br_t (by rw [et]) (hJ (fun w' hw' n _ z => n ((un w' hw' z).trans et)))
      · exact br_f (rr_nIne (by omega) (by omega) et) (hF w hw et h4 e)
    · exact xx_uwN (by omega) (Or.inr ⟨w, by omega, e, h4⟩) (br_t (by decide) (hJ (fun w' hw' _ z4 z => h4 (by rw [← un w' hw' z]; exact z4))))
theorem oo_some4 {c : Nat} {n p : Int32} : yy_some yd c n p ↔ rr_ov yd c 4 n p := by
  constructor
  · rintro ⟨s, a, b, d, e, f⟩
    rw [zi_le, nI_toInt (by omega)] at e f
    exact ⟨s, a, b, d, by omega, fun _ => by omega⟩
  · rintro ⟨s, a, b, d, e, f⟩
    have f := f rfl
    refine ⟨s, a, b, d, ?_, ?_⟩
    · rw [zi_le, nI_toInt (by omega)]; omega
    · rw [zi_le, nI_toInt (by omega)]; omega
theorem oo_some61 {c : Nat} {s n p : Int32} (hs : ¬ s = 4) : yy_some yd c n 61 ↔ rr_ov yd c s n p := by
  constructor
  · rintro ⟨s, a, b, d, e, f⟩
    rw [zi_le, nI_toInt (by omega)] at e
    exact ⟨s, a, b, d, by omega, fun z => absurd z hs⟩
  · rintro ⟨s, a, b, d, e, f⟩
    refine ⟨s, a, b, d, ?_, ?_⟩
    · rw [zi_le, nI_toInt (by omega)]; omega
    · exact nI_ge (a := s) (b := 61) (by omega) (by decide)
/-- Y's search for a cell to check -/
theorem oo_chkY {post : Int32 → SY → Prop} {t c n : Nat} (hC : C ≤ 8) (ht : t < 4) (hc : c < C) (h : ∀ j, j < c → yr (t * 8 + j) = 0 ∨ ¬ yp (t * 8 + j) = 0) (hb : wY_checkStep_2 post (nI t) (nI T) (nI C) (nI D) (nI L) (nI K) st ca sn sp yr se yp yw bu yh yd yv (n + 1) (nI c)) :
    ∀ d i, i + d = c → wY_checkStep_2 post (nI t) (nI T) (nI C) (nI D) (nI L) (nI K) st ca sn sp yr se yp yw bu yh yd yv (n + 1 + d) (nI i) := by
  intro d
  induction d with
  | zero =>
    intro i hi
    have e : i = c := by omega
    rw [e]; exact hb
  | succ d ih =>
    intro i hi
    have k := ih (i + 1) (by omega)
    have v : vp_in (nI (t * 8 + i)) 32 := vp_in_nI (by omega) (by decide)
    show wY_checkStep_2 post (nI t) (nI T) (nI C) (nI D) (nI L) (nI K) st ca sn sp yr se yp yw bu yh yd yv ((n + 1 + d) + 1) (nI i)
    refine br_f (nI_ge (a := i) (b := C) (by omega) (by omega)) ?_
    rw [zi_8, nI_clamp (n := t * 8 + i) (by omega)]
    refine ⟨v, ?_⟩
    by_cases h1 : yr (t * 8 + i) = 0
    · exact br_t h1 (nm_r (nI_1 i) k)
    · exact br_f h1 ⟨v, br_f ((h i (by omega)).resolve_left h1) (nm_r (nI_1 i) k)⟩
theorem oo_val {t : Nat} (R : rr_R T C D L K st sn sp xr xw xh xp xl ho ne ke vv vs yr yp yw yh yd yv) (ht : t < T) (h4 : st t = 4) :
    oo_O T (fun p => wpX_stepValidate p (nI T, nI C, nI D, nI L, nI K, st, ca, sn, sp, xr, xw, xh, xp, xl, se, bu, ho, ne, ke, vv, vs) (nI t)) (fun p => wpY_checkStep p (nI T, nI C, nI D, nI L, nI K, st, ca, sn, sp, yr, se, yp, yw, bu, yh, yd, yv) (nI t)) := by
  have g1 := R.1.1
  have g2 := R.1.2.1
  have g4 := R.1.2.2.2.1
  have g5 := R.1.2.2.2.2
  have ht4 : t < 4 := by omega
  obtain ⟨nu, hi, ⟨r1, r2, r3, r4⟩, S, l, o⟩ := R.2.1 t ht
  have s4 := S.2.2.2.2.1 h4
  have sw := S.2.2.2.1 (Or.inr h4)
  have vt : vp_in (nI t) 4 := vp_in_nI ht4 (by decide)
  have n3 : ¬ st t = 3 := fun z => absurd (h4.symm.trans z) (by decide)
  obtain ⟨c, hc, c1, c2⟩ : ∃ c, c < C ∧ bt (xr t &&& (xp t ^^^ (-1))) c = true ∧ ∀ j, j < c → bt (xr t &&& (xp t ^^^ (-1))) j = false := by
    refine oo_least ?_ (fun i a b => ?_)
    · obtain ⟨i, a, b, d⟩ := s4.2
      exact ⟨i, a, by rw [zb_dif _ _ a, b, d]; rfl⟩
    · rw [zb_dif _ _ b, (hi i a b).1]; rfl
  have v2 : vp_in (nI (t * 8 + c)) 32 := vp_in_nI (by omega) (by decide)
  have d1 := c1
  rw [zb_dif _ _ (by omega), Bool.and_eq_true, Bool.not_eq_true'] at d1
  have y1 : ¬ yr (t * 8 + c) = 0 := (oo_b r1 hc).mpr d1.1
  have y2 : yp (t * 8 + c) = 0 := (r2 c hc).mpr d1.2
  have yj : ∀ j, j < c → yr (t * 8 + j) = 0 ∨ ¬ yp (t * 8 + j) = 0 := fun j hj => by
    have k := c2 j hj
    rw [zb_dif _ _ (by omega)] at k
    by_cases z : yr (t * 8 + j) = 0
    · exact Or.inl z
    · refine Or.inr ((oo_b r2 (by omega)).mpr ?_)
      rw [(oo_b r1 (by omega)).mp z, Bool.true_and] at k
      cases e : bt (xp t) j with
      | true => rfl
      | false => rw [e] at k; exact absurd k (by decide)
  have hm : ∀ i, i < 32 → bt (xp t ||| ((1 : Int32) <<< (nI c &&& 31))) i = (bt (xp t) i || decide (i = c)) := fun i h => zb_set _ (by omega) h
  have rp : rr_row C t (upd yp (t * 8 + c) 1) (xp t ||| ((1 : Int32) <<< (nI c &&& 31))) := rr_rowS r2 g2 hm
  have lt := l (Or.inr h4) c hc
  rw [h4] at lt
  cases hl : bt (xl t) c with
  | true =>
    have ov := oo_some4.mpr (lt.mp hl).2
    have R' := rr_clr (s := 7) (sn' := sn) (sp' := upd sp t 0) R ht (Or.inr (Or.inr rfl)) (fun _ _ => rfl) (fun r h => pk_un h) nu.1 (fun z => absurd z (by decide))
    refine ⟨4, _, _, rr_in (ca := upd ca t 2) (se := se) (bu := bu) R', fun post hp => ?_, fun post hp => ?_⟩
    · show wpX_stepValidate post (nI T, nI C, nI D, nI L, nI K, st, ca, sn, sp, xr, xw, xh, xp, xl, se, bu, ho, ne, ke, vv, vs) (nI t)
      unfold wpX_stepValidate
      rw [nI_clamp (n := t) (by omega)]
      exact ⟨vt, vt, xx_low (by omega) c1 c2 (nm_e ⟨vt, br_f (fun z => Bool.false_ne_true (((zb_tst _ (by omega)).mp z).symm.trans hl)) (xx_endA g2 ht4 hp)⟩)⟩
    · refine ⟨0 + 1 + c, oo_chkY g2 ht4 hc yj ?_ c 0 (by omega)⟩
      refine br_f (nI_ge (a := c) (b := C) hc (by omega)) ?_
      rw [zi_8, nI_clamp (n := t * 8 + c) (by omega), nI_clamp (n := t) (by omega)]
      exact ⟨v2, br_f y1 ⟨v2, br_t y2 ⟨vt, vt, yy_cdS (by omega) ov (yy_endA g2 ht4 hp)⟩⟩⟩
  | false =>
    have nov : ¬ yy_some yd c (sn t) (sp t) := fun z => Bool.false_ne_true (hl.symm.trans (lt.mpr ⟨d1.1, oo_some4.mp z⟩))
    by_cases U : ∃ w, w < T ∧ yy_u t c (sn t) (sp t) st sp yw w
    · refine ⟨2, _, _, rr_in (ca := ca) (se := se) (bu := bu) R, fun post hp => ?_, fun post hp => ?_⟩
      · show wpX_stepValidate post (nI T, nI C, nI D, nI L, nI K, st, ca, sn, sp, xr, xw, xh, xp, xl, se, bu, ho, ne, ke, vv, vs) (nI t)
        unfold wpX_stepValidate
        rw [nI_clamp (n := t) (by omega)]
        refine ⟨vt, vt, xx_low (by omega) c1 c2 (nm_e ⟨vt, br_t ((zb_tst _ (by omega)).mpr hl) (oo_uwX R ht hc (fun z => ?_) (fun w hw et w4 e => ?_))⟩)⟩
        · obtain ⟨w, hw, u⟩ := U
          have u := (oo_u R hc hw).mp u
          exact (z w hw u.1 u.2.1 u.2.2.1).elim
        · have vw : vp_in (nI w) 4 := vp_in_nI (by omega) (by decide)
          obtain ⟨w', hw', u⟩ := U
          have u := (oo_u R hc hw').mp u
          have ew : w' = w := (nI_eq (by omega) (by omega)).mp (u.2.2.1.symm.trans e)
          rw [ew] at u
          rw [nI_clamp (n := w) (by omega)]
          exact ⟨vw, vt, br_f u.2.2.2.1 ⟨vw, vt, br_f u.2.2.2.2 hp⟩⟩
      · refine ⟨0 + 1 + c, oo_chkY g2 ht4 hc yj ?_ c 0 (by omega)⟩
        refine br_f (nI_ge (a := c) (b := C) hc (by omega)) ?_
        rw [zi_8, nI_clamp (n := t * 8 + c) (by omega), nI_clamp (n := t) (by omega)]
        exact ⟨v2, br_f y1 ⟨v2, br_t y2 ⟨vt, vt, yy_cdN (by omega) nov ⟨vt, vt, yy_uwT g1 ht4 (by omega) U (br_f (by decide) hp)⟩⟩⟩⟩
    · have uX : ∀ {J Q : Prop}, J → wpX_undecidedWriter (fun r => (r < 0 → J) ∧ (¬ r < 0 → ((r = nI t → J) ∧ (¬ r = nI t → (vp_in r 4 ∧ (vp_in (nI t) 4 ∧ ((sp r.toNatClampNeg ≤ sn t → J) ∧ (¬ sp r.toNatClampNeg ≤ sn t → (vp_in r 4 ∧ (vp_in (nI t) 4 ∧ ((sp t ≤ sp r.toNatClampNeg → J) ∧ (¬ sp t ≤ sp r.toNatClampNeg → Q)))))))))))) (nI T, nI C, nI D, nI L, nI K, st, ca, sn, sp, xr, xw, xh, xp, xl, se, bu, ho, ne, ke, vv, vs) (nI c) := fun {J Q} j =>
        oo_uwX R ht hc (fun _ => j) (fun w hw et w4 e => by
          have vw : vp_in (nI w) 4 := vp_in_nI (by omega) (by decide)
          rw [nI_clamp (n := w) (by omega)]
          exact ⟨vw, vt, br_c (fun _ => j) (fun z1 => ⟨vw, vt, br_c (fun _ => j) (fun z2 => absurd ⟨w, hw, (oo_u R hc hw).mpr ⟨et, w4, e, z1, z2⟩⟩ U)⟩)⟩)
      by_cases hx : (xp t ||| ((1 : Int32) <<< (nI c &&& 31))) = xr t
      · have np := nu.2.2 (Or.inl h4)
        obtain ⟨zz, hzz, es⟩ := oo_nat (x := sp t) (by omega) (by omega)
        obtain ⟨ne', ke', vv', vs', xl', yd', yv', R', hX, hY⟩ := dd_all (ca := ca) (se := se) (bu := bu) ht hzz es (rr_pass5 R ht hc h4) (fun c hc hw => ⟨by rw [sw.1]; exact hw, fun z z1 z2 z3 => by
          have := o h4 c hc hw z z1 z2 z3
          rw [es, nI_toInt (by omega)] at this
          omega⟩)
        refine ⟨1, _, _, rr_in (ca := ca) (se := se) (bu := bu) R', fun post hp => ?_, fun post hp => ?_⟩
        · show wpX_stepValidate post (nI T, nI C, nI D, nI L, nI K, st, ca, sn, sp, xr, xw, xh, xp, xl, se, bu, ho, ne, ke, vv, vs) (nI t)
          unfold wpX_stepValidate
          rw [nI_clamp (n := t) (by omega)]
          refine ⟨vt, vt, xx_low (by omega) c1 c2 (nm_e ⟨vt, br_t ((zb_tst _ (by omega)).mpr hl) (uX ?_)⟩)⟩
          unfold wX_stepValidate_95
          rw [nI_clamp (n := t) (by omega)]
          exact ⟨vt, vt, nm_e ⟨vt, vt, br_t (pk_us.trans hx) (hX _ hp)⟩⟩
        · refine ⟨0 + 1 + c, oo_chkY g2 ht4 hc yj ?_ c 0 (by omega)⟩
          refine br_f (nI_ge (a := c) (b := C) hc (by omega)) ?_
          rw [zi_8, nI_clamp (n := t * 8 + c) (by omega), nI_clamp (n := t) (by omega)]
          refine ⟨v2, br_f y1 ⟨v2, br_t y2 ⟨vt, vt, yy_cdN (by omega) nov ⟨vt, vt, yy_uwF g1 ht4 (by omega) U (br_t rfl ⟨v2, nm_r (by rw [zi_n1]) (yy_leftZ g1 g2 ht n3 (fun i hi z => ?_) (hY _ hp))⟩)⟩⟩⟩⟩
          rw [h4] at z
          rcases z with z | z | z
          · exact absurd z.1 (by decide)
          · have k := (oo_b r1 hi).mp z.2.1
            rw [← hx, ← oo_b rp hi] at k
            exact k z.2.2
          · exact absurd z.1 (by decide)
      · obtain ⟨j, j1, j2, j3⟩ : ∃ i, i < 32 ∧ bt (xr t) i = true ∧ bt (xp t ||| ((1 : Int32) <<< (nI c &&& 31))) i = false := by
          apply Classical.byContradiction
          intro z
          apply hx
          apply b_ext
          intro i a
          cases e1 : bt (xr t) i with
          | true =>
            cases e2 : bt (xp t ||| ((1 : Int32) <<< (nI c &&& 31))) i with
            | true => rfl
            | false => exact absurd ⟨i, a, e1, e2⟩ z
          | false =>
            apply zz_nf
            intro e2
            rw [hm i a, Bool.or_eq_true, decide_eq_true_iff] at e2
            rcases e2 with e2 | e2
            · exact Bool.false_ne_true (e1.symm.trans (s4.1 i a e2))
            · rw [e2] at e1
              exact Bool.false_ne_true (e1.symm.trans d1.1)
        refine ⟨1, _, _, rr_in (ca := ca) (se := se) (bu := bu) (rr_pass4 R ht hc h4 d1.1 ⟨j, j1, j2, j3⟩), fun post hp => ?_, fun post hp => ?_⟩
        · show wpX_stepValidate post (nI T, nI C, nI D, nI L, nI K, st, ca, sn, sp, xr, xw, xh, xp, xl, se, bu, ho, ne, ke, vv, vs) (nI t)
          unfold wpX_stepValidate
          rw [nI_clamp (n := t) (by omega)]
          refine ⟨vt, vt, xx_low (by omega) c1 c2 (nm_e ⟨vt, br_t ((zb_tst _ (by omega)).mpr hl) (uX ?_)⟩)⟩
          unfold wX_stepValidate_95
          rw [nI_clamp (n := t) (by omega)]
          exact ⟨vt, vt, nm_e ⟨vt, vt, br_f (fun z => hx (pk_us.symm.trans z)) hp⟩⟩
        · have hj : j < C := by
            apply Classical.byContradiction
            intro z
            exact Bool.false_ne_true ((hi j (by omega) j1).1.symm.trans j2)
          refine ⟨0 + 1 + c, oo_chkY g2 ht4 hc yj ?_ c 0 (by omega)⟩
          refine br_f (nI_ge (a := c) (b := C) hc (by omega)) ?_
          rw [zi_8, nI_clamp (n := t * 8 + c) (by omega), nI_clamp (n := t) (by omega)]
          exact ⟨v2, br_f y1 ⟨v2, br_t y2 ⟨vt, vt, yy_cdN (by omega) nov ⟨vt, vt, yy_uwF g1 ht4 (by omega) U (br_t rfl ⟨v2, nm_r (by rw [zi_n1]) (yy_leftS g1 g2 ht n3 ⟨j, hj, Or.inr (Or.inl ⟨h4, (oo_b r1 hj).mpr j2, (rp j hj).mpr j3⟩)⟩ hp)⟩)⟩⟩⟩⟩
end
end
section
/-! ===== write back; advance; finish ===== -/
section
variable {T C D L K : Nat} {st ca sn sp se bu xr xw xh xp xl ho ne ke vv vs yr yp yw yh yd yv : Nat → Int32}
/-- Y's search for a held cell -/
theorem oo_wbY {post : Int32 → SY → Prop} {t c n : Nat} (hC : C ≤ 8) (ht : t < 4) (hc : c < C) (h : ∀ j, j < c → yh (t * 8 + j) = 0) (hb : wY_writeStep_2 post (nI t) (nI T) (nI C) (nI D) (nI L) (nI K) st ca sn sp yr se yp yw bu yh yd yv (n + 1) (nI c)) :
    ∀ d i, i + d = c → wY_writeStep_2 post (nI t) (nI T) (nI C) (nI D) (nI L) (nI K) st ca sn sp yr se yp yw bu yh yd yv (n + 1 + d) (nI i) := by
  intro d
  induction d with
  | zero =>
    intro i hi
    have e : i = c := by omega
    rw [e]; exact hb
  | succ d ih =>
    intro i hi
    have k := ih (i + 1) (by omega)
    have v : vp_in (nI (t * 8 + i)) 32 := vp_in_nI (by omega) (by decide)
    show wY_writeStep_2 post (nI t) (nI T) (nI C) (nI D) (nI L) (nI K) st ca sn sp yr se yp yw bu yh yd yv ((n + 1 + d) + 1) (nI i)
    refine br_f (nI_ge (a := i) (b := C) (by omega) (by omega)) ?_
    rw [zi_8, nI_clamp (n := t * 8 + i) (by omega)]
    exact ⟨v, br_t (h i (by omega)) (nm_r (nI_1 i) k)⟩
theorem oo_wb {t : Nat} (R : rr_R T C D L K st sn sp xr xw xh xp xl ho ne ke vv vs yr yp yw yh yd yv) (ht : t < T) (h5 : st t = 5) :
    oo_O T (fun p => wpX_stepWriteBack p (nI T, nI C, nI D, nI L, nI K, st, ca, sn, sp, xr, xw, xh, xp, xl, se, bu, ho, ne, ke, vv, vs) (nI t)) (fun p => wpY_writeStep p (nI T, nI C, nI D, nI L, nI K, st, ca, sn, sp, yr, se, yp, yw, bu, yh, yd, yv) (nI t)) := by
  have g1 := R.1.1
  have g2 := R.1.2.1
  have ht4 : t < 4 := by omega
  obtain ⟨nu, hi, ⟨r1, r2, r3, r4⟩, S, l, o⟩ := R.2.1 t ht
  have s5 := S.2.2.2.2.2 h5
  have vt : vp_in (nI t) 4 := vp_in_nI ht4 (by decide)
  have n3 : ¬ st t = 3 := fun z => absurd (h5.symm.trans z) (by decide)
  obtain ⟨c, hc, c1, c2⟩ := oo_least (C := C) (m := xh t) (zb_nz s5) (fun i a b => (hi i a b).2.2.1)
  have vc : vp_in (nI c) 8 := vp_in_nI (by omega) (by decide)
  have v2 : vp_in (nI (t * 8 + c)) 32 := vp_in_nI (by omega) (by decide)
  have y1 : ¬ yh (t * 8 + c) = 0 := (oo_b r4 hc).mpr c1
  have yj : ∀ j, j < c → yh (t * 8 + j) = 0 := fun j hj => (r4 j (by omega)).mpr (c2 j hj)
  have hm : ∀ i, i < 32 → bt (xh t &&& (((1 : Int32) <<< (nI c &&& 31)) ^^^ (-1))) i = (bt (xh t) i && !decide (i = c)) := fun i h => zb_clr _ (by omega) h
  have rh : rr_row C t (upd yh (t * 8 + c) 0) (xh t &&& (((1 : Int32) <<< (nI c &&& 31)) ^^^ (-1))) := rr_rowC r4 g2 hm
  by_cases hz : (xh t &&& (((1 : Int32) <<< (nI c &&& 31)) ^^^ (-1))) = 0
  · refine ⟨1, _, _, rr_in (ca := ca) (se := se) (bu := bu) (rr_wb6 R ht hc c1), fun post hp => ?_, fun post hp => ?_⟩
    · show wpX_stepWriteBack post (nI T, nI C, nI D, nI L, nI K, st, ca, sn, sp, xr, xw, xh, xp, xl, se, bu, ho, ne, ke, vv, vs) (nI t)
      unfold wpX_stepWriteBack
      rw [nI_clamp (n := t) (by omega)]
      refine ⟨vt, xx_low (by omega) c1 c2 ?_⟩
      rw [nI_clamp (n := c) (by omega)]
      exact ⟨vc, nm_e ⟨vt, vt, nm_e ⟨vt, br_t (pk_us.trans hz) (xx_endC g2 ht4 hp)⟩⟩⟩
    · refine ⟨0 + 1 + c, oo_wbY g2 ht4 hc yj ?_ c 0 (by omega)⟩
      refine br_f (nI_ge (a := c) (b := C) hc (by omega)) ?_
      rw [zi_8, nI_clamp (n := t * 8 + c) (by omega)]
      refine ⟨v2, br_f y1 ⟨v2, nm_r (by rw [zi_n0]) (yy_leftZ g1 g2 ht n3 (fun i hi z => ?_) (yy_endC g2 ht4 hp))⟩⟩
      rw [h5] at z
      rcases z with z | z | z
      · exact absurd z.1 (by decide)
      · exact absurd z.1 (by decide)
      · have k := (oo_b rh hi).mp z.2
        rw [hz, b_0] at k
        exact Bool.false_ne_true k
  · refine ⟨1, _, _, rr_in (ca := ca) (se := se) (bu := bu) (rr_wb5 R ht hc h5 c1 hz), fun post hp => ?_, fun post hp => ?_⟩
    · show wpX_stepWriteBack post (nI T, nI C, nI D, nI L, nI K, st, ca, sn, sp, xr, xw, xh, xp, xl, se, bu, ho, ne, ke, vv, vs) (nI t)
      unfold wpX_stepWriteBack
      rw [nI_clamp (n := t) (by omega)]
      refine ⟨vt, xx_low (by omega) c1 c2 ?_⟩
      rw [nI_clamp (n := c) (by omega)]
      exact ⟨vc, nm_e ⟨vt, vt, nm_e ⟨vt, br_f (fun z => hz (pk_us.symm.trans z)) hp⟩⟩⟩
    · obtain ⟨j, j1, j2⟩ := zb_nz hz
      have hj : j < C := by
        apply Classical.byContradiction
        intro z
        rw [hm j j1, (hi j (by omega) j1).2.2.1] at j2
        exact Bool.false_ne_true j2
      refine ⟨0 + 1 + c, oo_wbY g2 ht4 hc yj ?_ c 0 (by omega)⟩
      refine br_f (nI_ge (a := c) (b := C) hc (by omega)) ?_
      rw [zi_8, nI_clamp (n := t * 8 + c) (by omega)]
      exact ⟨v2, br_f y1 ⟨v2, nm_r (by rw [zi_n0]) (yy_leftS g1 g2 ht n3 ⟨j, hj, Or.inr (Or.inr ⟨h5, (oo_b rh hj).mpr j2⟩)⟩ hp)⟩⟩
/-- one step of both, in any state -/
theorem oo_adv {t : Nat} (R : rr_R T C D L K st sn sp xr xw xh xp xl ho ne ke vv vs yr yp yw yh yd yv) (ht : t < T) :
    oo_O T (fun p => wpX_advance p (nI T, nI C, nI D, nI L, nI K, st, ca, sn, sp, xr, xw, xh, xp, xl, se, bu, ho, ne, ke, vv, vs) (nI t)) (fun p => wpY_step p (nI T, nI C, nI D, nI L, nI K, st, ca, sn, sp, yr, se, yp, yw, bu, yh, yd, yv) (nI t)) := by
  have g1 := R.1.1
  have ht4 : t < 4 := by omega
  have vt : vp_in (nI t) 4 := vp_in_nI ht4 (by decide)
  by_cases h2 : st t = 2
  · obtain ⟨r, u, v, I, hx, hy⟩ := oo_lock (ca := ca) (se := se) (bu := bu) R ht h2
    refine ⟨r, u, v, I, fun post hp => ?_, fun post hp => ?_⟩
    · show wpX_advance post (nI T, nI C, nI D, nI L, nI K, st, ca, sn, sp, xr, xw, xh, xp, xl, se, bu, ho, ne, ke, vv, vs) (nI t)
      unfold wpX_advance
      rw [nI_clamp (n := t) (by omega)]
      exact And.intro vt (br_t h2 (hx _ hp))
    · show wpY_step post (nI T, nI C, nI D, nI L, nI K, st, ca, sn, sp, yr, se, yp, yw, bu, yh, yd, yv) (nI t)
      unfold wpY_step
      rw [nI_clamp (n := t) (by omega)]
      exact yy_thY g1 ht (And.intro vt (br_t h2 (hy _ hp)))
  by_cases h3 : st t = 3
  · obtain ⟨r, u, v, I, hx, hy⟩ := oo_tick (ca := ca) (se := se) (bu := bu) R ht h3
    refine ⟨r, u, v, I, fun post hp => ?_, fun post hp => ?_⟩
    · show wpX_advance post (nI T, nI C, nI D, nI L, nI K, st, ca, sn, sp, xr, xw, xh, xp, xl, se, bu, ho, ne, ke, vv, vs) (nI t)
      unfold wpX_advance
      rw [nI_clamp (n := t) (by omega)]
      exact And.intro vt (br_f h2 (And.intro vt (br_t h3 (hx _ hp))))
    · show wpY_step post (nI T, nI C, nI D, nI L, nI K, st, ca, sn, sp, yr, se, yp, yw, bu, yh, yd, yv) (nI t)
      unfold wpY_step
      rw [nI_clamp (n := t) (by omega)]
      exact yy_thY g1 ht (And.intro vt (br_f h2 (And.intro vt (br_t h3 (hy _ hp)))))
  by_cases h4 : st t = 4
  · obtain ⟨r, u, v, I, hx, hy⟩ := oo_val (ca := ca) (se := se) (bu := bu) R ht h4
    refine ⟨r, u, v, I, fun post hp => ?_, fun post hp => ?_⟩
    · show wpX_advance post (nI T, nI C, nI D, nI L, nI K, st, ca, sn, sp, xr, xw, xh, xp, xl, se, bu, ho, ne, ke, vv, vs) (nI t)
      unfold wpX_advance
      rw [nI_clamp (n := t) (by omega)]
      exact And.intro vt (br_f h2 (And.intro vt (br_f h3 (And.intro vt (br_t h4 (hx _ hp))))))
    · show wpY_step post (nI T, nI C, nI D, nI L, nI K, st, ca, sn, sp, yr, se, yp, yw, bu, yh, yd, yv) (nI t)
      unfold wpY_step
      rw [nI_clamp (n := t) (by omega)]
      exact yy_thY g1 ht (And.intro vt (br_f h2 (And.intro vt (br_f h3 (And.intro vt (br_t h4 (hy _ hp)))))))
  by_cases h5 : st t = 5
  · obtain ⟨r, u, v, I, hx, hy⟩ := oo_wb (ca := ca) (se := se) (bu := bu) R ht h5
    refine ⟨r, u, v, I, fun post hp => ?_, fun post hp => ?_⟩
    · show wpX_advance post (nI T, nI C, nI D, nI L, nI K, st, ca, sn, sp, xr, xw, xh, xp, xl, se, bu, ho, ne, ke, vv, vs) (nI t)
      unfold wpX_advance
      rw [nI_clamp (n := t) (by omega)]
      exact And.intro vt (br_f h2 (And.intro vt (br_f h3 (And.intro vt (br_f h4 (And.intro vt (br_t h5 (hx _ hp))))))))
    · show wpY_step post (nI T, nI C, nI D, nI L, nI K, st, ca, sn, sp, yr, se, yp, yw, bu, yh, yd, yv) (nI t)
      unfold wpY_step
      rw [nI_clamp (n := t) (by omega)]
      exact yy_thY g1 ht (And.intro vt (br_f h2 (And.intro vt (br_f h3 (And.intro vt (br_f h4 (And.intro vt (br_t h5 (hy _ hp)))))))))
  · refine ⟨7, _, _, rr_in (ca := ca) (se := se) (bu := bu) R, fun post hp => ?_, fun post hp => ?_⟩
    · show wpX_advance post (nI T, nI C, nI D, nI L, nI K, st, ca, sn, sp, xr, xw, xh, xp, xl, se, bu, ho, ne, ke, vv, vs) (nI t)
      unfold wpX_advance
      rw [nI_clamp (n := t) (by omega)]
      exact And.intro vt (br_f h2 (And.intro vt (br_f h3 (And.intro vt (br_f h4 (And.intro vt (br_f h5 hp)))))))
    · show wpY_step post (nI T, nI C, nI D, nI L, nI K, st, ca, sn, sp, yr, se, yp, yw, bu, yh, yd, yv) (nI t)
      unfold wpY_step
      rw [nI_clamp (n := t) (by omega)]
      exact yy_thY g1 ht (And.intro vt (br_f h2 (And.intro vt (br_f h3 (And.intro vt (br_f h4 (And.intro vt (br_f h5 hp))))))))
end
theorem oo_fin {T t : Nat} (ht : t < T) : ∀ (d i C D L K : Nat) (st ca sn sp xr xw xh xp xl se bu ho ne ke vv vs yr yp yw yh yd yv : Nat → Int32), i + d = 18 → rr_R T C D L K st sn sp xr xw xh xp xl ho ne ke vv vs yr yp yw yh yd yv →
    oo_O T (fun p => wX_finish_26 p (nI t) (d + 1) 1 (nI i) (nI T) (nI C) (nI D) (nI L) (nI K) st ca sn sp xr xw xh xp xl se bu ho ne ke vv vs) (fun p => wY_finish_24 p (nI t) (d + 1) (nI i) (nI T) (nI C) (nI D) (nI L) (nI K) st ca sn sp yr se yp yw bu yh yd yv) := by
  intro d
  induction d with
  | zero =>
    intro i C D L K st ca sn sp xr xw xh xp xl se bu ho ne ke vv vs yr yp yw yh yd yv hi R
    have k : (18 : Int32) ≤ nI i := nI_le (a := 18) (by omega) (by omega)
    exact ⟨1, _, _, rr_in (ca := ca) (se := se) (bu := bu) R, fun post hp => br_t k hp, fun post hp => br_t k hp⟩
  | succ d ih =>
    intro i C D L K st ca sn sp xr xw xh xp xl se bu ho ne ke vv vs yr yp yw yh yd yv hi R
    have g1 := R.1.1
    have k : ¬ (18 : Int32) ≤ nI i := nI_ge (b := 18) (by omega) (by decide)
    have vt : vp_in (nI t) 4 := vp_in_nI (by omega) (by decide)
    have et : (nI t).toNatClampNeg = t := nI_clamp (by omega)
    obtain ⟨r, u, v, I, hx, hy⟩ := oo_adv (ca := ca) (se := se) (bu := bu) R ht
    revert hx hy
    refine rr_elT (P := fun u v => (∀ post : Int32 → SX → Prop, post r u → wpX_advance post (nI T, nI C, nI D, nI L, nI K, st, ca, sn, sp, xr, xw, xh, xp, xl, se, bu, ho, ne, ke, vv, vs) (nI t)) → (∀ post : Int32 → SY → Prop, post r v → wpY_step post (nI T, nI C, nI D, nI L, nI K, st, ca, sn, sp, yr, se, yp, yw, bu, yh, yd, yv) (nI t)) →
      oo_O T (fun p => wX_finish_26 p (nI t) (d + 1 + 1) 1 (nI i) (nI T) (nI C) (nI D) (nI L) (nI K) st ca sn sp xr xw xh xp xl se bu ho ne ke vv vs) (fun p => wY_finish_24 p (nI t) (d + 1 + 1) (nI i) (nI T) (nI C) (nI D) (nI L) (nI K) st ca sn sp yr se yp yw bu yh yd yv)) I ?_
    intro C' D' L' K' st' ca' sn' sp' xr' xw' xh' xp' xl' se' bu' ho' ne' ke' vv' vs' yr' yp' yw' yh' yd' yv' R' hx hy
    by_cases hr : r = 1
    · subst hr
      by_cases h6 : st' t = 6
      · refine ⟨1, _, _, rr_in (ca := ca') (se := se') (bu := bu') R', fun post hp => br_f k (hx _ ?_), fun post hp => br_f k (hy _ ?_)⟩
        · exact br_t rfl (And.intro vt (br_t (by rw [et]; exact h6) hp))
        · exact br_t rfl (And.intro vt (br_t (by rw [et]; exact h6) hp))
      · obtain ⟨r2, u2, v2, I2, hx2, hy2⟩ := ih (i + 1) C' D' L' K' st' ca' sn' sp' xr' xw' xh' xp' xl' se' bu' ho' ne' ke' vv' vs' yr' yp' yw' yh' yd' yv' (by omega) R'
        refine ⟨r2, u2, v2, I2, fun post hp => br_f k (hx _ ?_), fun post hp => br_f k (hy _ ?_)⟩
        · exact br_t rfl (And.intro vt (br_f (by rw [et]; exact h6) (nm_r (nI_1 i) (hx2 post hp))))
        · exact br_t rfl (And.intro vt (br_f (by rw [et]; exact h6) (nm_r (nI_1 i) (hy2 post hp))))
    · exact ⟨r, _, _, rr_in (ca := ca') (se := se') (bu := bu') R', fun post hp => br_f k (hx _ (br_f hr hp)), fun post hp => br_f k (hy _ (br_f hr hp))⟩
end
section
/-! ===== drive ===== -/
def oo_J (J : Int32 → Int32 → Int32 → Int32 → Int32 → (Nat → Int32) → (Nat → Int32) → (Nat → Int32) → (Nat → Int32) → (Nat → Int32) → (Nat → Int32) → (Nat → Int32) → (Nat → Int32) → (Nat → Int32) → (Nat → Int32) → (Nat → Int32) → (Nat → Int32) → Prop) (v : SY) : Prop :=
  match v with
  | (f1, f2, f3, f4, f5, a1, a2, a3, a4, a5, a6, a7, a8, a9, a10, a11, a12) => J f1 f2 f3 f4 f5 a1 a2 a3 a4 a5 a6 a7 a8 a9 a10 a11 a12
theorem oo_round {T : Nat} (tot : Nat) : ∀ (d i m C D L K : Nat) (st ca sn sp xr xw xh xp xl se bu ho ne ke vv vs yr yp yw yh yd yv : Nat → Int32), i + d = T → rr_R T C D L K st sn sp xr xw xh xp xl ho ne ke vv vs yr yp yw yh yd yv →
    ∃ (m' : Nat) (u : SX) (v : SY), rr_RT T u v ∧ m' ≤ m + d ∧
      (∀ post : Int32 → SX → Prop, post (nI m') u → wX_driveRound_4 post (d + 1) (nI m) (nI i) (nI T) (nI C) (nI D) (nI L) (nI K) st ca sn sp xr xw xh xp xl se bu ho ne ke vv vs) ∧
      (∀ (post : Int32 → SY → Prop) (J : Int32 → Int32 → Int32 → Int32 → Int32 → Int32 → Int32 → (Nat → Int32) → (Nat → Int32) → (Nat → Int32) → (Nat → Int32) → (Nat → Int32) → (Nat → Int32) → (Nat → Int32) → (Nat → Int32) → (Nat → Int32) → (Nat → Int32) → (Nat → Int32) → (Nat → Int32) → Prop) (x2 x3 : Int32),
        (nI (tot + m') = x3 → post (nI (tot + m')) v) → (¬ nI (tot + m') = x3 → oo_J (J (nI (tot + m')) (x2 + 1)) v) → wY_drive_15 post J x2 x3 (d + 1) (nI (tot + m)) (nI i) (nI T) (nI C) (nI D) (nI L) (nI K) st ca sn sp yr se yp yw bu yh yd yv) := by
  intro d
  induction d with
  | zero =>
    intro i m C D L K st ca sn sp xr xw xh xp xl se bu ho ne ke vv vs yr yp yw yh yd yv hi R
    have g1 := R.1.1
    have k : nI T ≤ nI i := nI_le (by omega) (by omega)
    exact ⟨m, _, _, rr_in (ca := ca) (se := se) (bu := bu) R, Nat.le_refl m, fun post hp => br_t k hp, fun post J x2 x3 h1 h2 => br_t k (br_c h1 (fun z => nm_e (h2 z)))⟩
  | succ d ih =>
    intro i m C D L K st ca sn sp xr xw xh xp xl se bu ho ne ke vv vs yr yp yw yh yd yv hi R
    have g1 := R.1.1
    have hiT : i < T := by omega
    have k : ¬ nI T ≤ nI i := nI_ge hiT (by omega)
    by_cases hcm : zs_cm (st i)
    · obtain ⟨r, u, v, I, hx, hy⟩ := oo_adv (ca := ca) (se := se) (bu := bu) R hiT
      revert hx hy
      refine rr_elT (P := fun u v => (∀ post : Int32 → SX → Prop, post r u → wpX_advance post (nI T, nI C, nI D, nI L, nI K, st, ca, sn, sp, xr, xw, xh, xp, xl, se, bu, ho, ne, ke, vv, vs) (nI i)) → (∀ post : Int32 → SY → Prop, post r v → wpY_step post (nI T, nI C, nI D, nI L, nI K, st, ca, sn, sp, yr, se, yp, yw, bu, yh, yd, yv) (nI i)) → _) I ?_
      intro C' D' L' K' st' ca' sn' sp' xr' xw' xh' xp' xl' se' bu' ho' ne' ke' vv' vs' yr' yp' yw' yh' yd' yv' R' hx hy
      by_cases hr : r = 1 ∨ r = 4
      · obtain ⟨m', u2, v2, I2, hm, hx2, hy2⟩ := ih (i + 1) (m + 1) C' D' L' K' st' ca' sn' sp' xr' xw' xh' xp' xl' se' bu' ho' ne' ke' vv' vs' yr' yp' yw' yh' yd' yv' (by omega) R'
        refine ⟨m', u2, v2, I2, by omega, fun post hp => br_f k (xx_cmY (by omega) hcm (hx _ ?_)), fun post J x2 x3 h1 h2 => br_f k (yy_cmY (by omega) hcm (hy _ ?_))⟩
        · have q := hx2 post hp
          by_cases h1 : r = 1
          · exact br_t h1 (nm_r (nI_1 m) (nm_r (nI_1 i) q))
          · exact br_f h1 (br_t (hr.resolve_left h1) (nm_r (nI_1 m) (nm_r (nI_1 i) q)))
        · have q := hy2 post J x2 x3 h1 h2
          by_cases h1 : r = 1
          · exact br_t h1 (nm_r (nI_1 (tot + m)) (nm_r (nI_1 i) q))
          · exact br_f h1 (br_t (hr.resolve_left h1) (nm_r (nI_1 (tot + m)) (nm_r (nI_1 i) q)))
      · obtain ⟨m', u2, v2, I2, hm, hx2, hy2⟩ := ih (i + 1) m C' D' L' K' st' ca' sn' sp' xr' xw' xh' xp' xl' se' bu' ho' ne' ke' vv' vs' yr' yp' yw' yh' yd' yv' (by omega) R'
        refine ⟨m', u2, v2, I2, by omega, fun post hp => br_f k (xx_cmY (by omega) hcm (hx _ ?_)), fun post J x2 x3 h1 h2 => br_f k (yy_cmY (by omega) hcm (hy _ ?_))⟩
        · exact br_f (fun z => hr (Or.inl z)) (br_f (fun z => hr (Or.inr z)) (nm_r (nI_1 i) (hx2 post hp)))
        · exact br_f (fun z => hr (Or.inl z)) (br_f (fun z => hr (Or.inr z)) (nm_r (nI_1 i) (hy2 post J x2 x3 h1 h2)))
    · obtain ⟨m', u2, v2, I2, hm, hx2, hy2⟩ := ih (i + 1) m C D L K st ca sn sp xr xw xh xp xl se bu ho ne ke vv vs yr yp yw yh yd yv (by omega) R
      exact ⟨m', u2, v2, I2, by omega, fun post hp => br_f k (xx_cmN (by omega) hcm (nm_r (nI_1 i) (hx2 post hp))), fun post J x2 x3 h1 h2 => br_f k (yy_cmN (by omega) hcm (nm_r (nI_1 i) (hy2 post J x2 x3 h1 h2)))⟩
theorem oo_drive {T : Nat} : ∀ (d i tot C D L K : Nat) (st ca sn sp xr xw xh xp xl se bu ho ne ke vv vs yr yp yw yh yd yv : Nat → Int32), i + d = 70 → tot ≤ 4 * i → rr_R T C D L K st sn sp xr xw xh xp xl ho ne ke vv vs yr yp yw yh yd yv →
    oo_O T (fun p => wX_drive_4 p (d + 1) (nI tot) (nI i) (nI T) (nI C) (nI D) (nI L) (nI K) st ca sn sp xr xw xh xp xl se bu ho ne ke vv vs) (fun p => wY_drive_4 p (d + 1) (nI tot) (nI i) (nI T) (nI C) (nI D) (nI L) (nI K) st ca sn sp yr se yp yw bu yh yd yv) := by
  intro d
  induction d with
  | zero =>
    intro i tot C D L K st ca sn sp xr xw xh xp xl se bu ho ne ke vv vs yr yp yw yh yd yv hi htot R
    have k : (70 : Int32) ≤ nI i := nI_le (a := 70) (by omega) (by omega)
    exact ⟨nI tot, _, _, rr_in (ca := ca) (se := se) (bu := bu) R, fun post hp => br_t k hp, fun post hp => br_t k hp⟩
  | succ d ih =>
    intro i tot C D L K st ca sn sp xr xw xh xp xl se bu ho ne ke vv vs yr yp yw yh yd yv hi htot R
    have g1 := R.1.1
    have k : ¬ (70 : Int32) ≤ nI i := nI_ge (b := 70) (by omega) (by decide)
    obtain ⟨m', u, v, I, hm, hx, hy⟩ := oo_round tot T 0 0 C D L K st ca sn sp xr xw xh xp xl se bu ho ne ke vv vs yr yp yw yh yd yv (by omega) R
    by_cases h0 : m' = 0
    · subst h0
      refine ⟨nI tot, u, v, I, fun post hp => br_f k ⟨T + 1, hx _ ?_⟩, fun post hp => br_f k ⟨T + 1, hy post _ (nI i) (nI tot) (fun _ => hp) (fun z => absurd rfl z)⟩⟩
      exact br_t rfl hp
    · revert hx hy
      refine rr_elT (P := fun u v => (∀ post : Int32 → SX → Prop, post (nI m') u → wX_driveRound_4 post (T + 1) (nI 0) (nI 0) (nI T) (nI C) (nI D) (nI L) (nI K) st ca sn sp xr xw xh xp xl se bu ho ne ke vv vs) → (∀ (post : Int32 → SY → Prop) (J : Int32 → Int32 → Int32 → Int32 → Int32 → Int32 → Int32 → (Nat → Int32) → (Nat → Int32) → (Nat → Int32) → (Nat → Int32) → (Nat → Int32) → (Nat → Int32) → (Nat → Int32) → (Nat → Int32) → (Nat → Int32) → (Nat → Int32) → (Nat → Int32) → (Nat → Int32) → Prop) (x2 x3 : Int32),
        (nI (tot + m') = x3 → post (nI (tot + m')) v) → (¬ nI (tot + m') = x3 → oo_J (J (nI (tot + m')) (x2 + 1)) v) → wY_drive_15 post J x2 x3 (T + 1) (nI (tot + 0)) (nI 0) (nI T) (nI C) (nI D) (nI L) (nI K) st ca sn sp yr se yp yw bu yh yd yv) → _) I ?_
      intro C' D' L' K' st' ca' sn' sp' xr' xw' xh' xp' xl' se' bu' ho' ne' ke' vv' vs' yr' yp' yw' yh' yd' yv' R' hx hy
      obtain ⟨r2, u2, v2, I2, hx2, hy2⟩ := ih (i + 1) (tot + m') C' D' L' K' st' ca' sn' sp' xr' xw' xh' xp' xl' se' bu' ho' ne' ke' vv' vs' yr' yp' yw' yh' yd' yv' (by omega) (by omega) R'
      refine ⟨r2, u2, v2, I2, fun post hp => br_f k ⟨T + 1, hx _ ?_⟩, fun post hp => br_f k ⟨T + 1, hy post _ (nI i) (nI tot) (fun z => ?_) (fun z => ?_)⟩⟩
      · exact br_f (nI_ne0 (by omega) (by omega)) (nm_r (nI_add tot m') (nm_r (nI_1 i) (hx2 post hp)))
      · rw [nI_eq (by omega) (by omega)] at z
        omega
      · rw [nI_1 i]
        exact hy2 post hp
end
section
/-! ===== what the two sides' counts and searches have in common ===== -/
theorem zc_lt {m : Nat} : ∀ n, zc_n (fun k => decide (k < m)) n = min m n := by
  intro n
  induction n with
  | zero => exact (Nat.min_zero m).symm
  | succ n ih =>
    by_cases h : n < m
    · rw [zc_t (decide_eq_true h), ih]; omega
    · rw [zc_f (decide_eq_false h), ih]; omega
section
variable {T C D L K : Nat} {st ca sn sp se bu xr xw xh xp xl ho ne ke vv vs yr yp yw yh yd yv : Nat → Int32}
theorem oo_cnt {t : Nat} {y : Nat → Int32} {m : Int32} (hC : C ≤ 8) (h : rr_row C t y m) (hh : ∀ i, C ≤ i → i < 32 → bt m i = false) : zc_n (bt m) 8 = zc_n (yy_b y t) C := by
  obtain ⟨d, e⟩ : ∃ d, 8 = C + d := ⟨8 - C, by omega⟩
  rw [e, zc_pad (fun i a b => hh i a (by omega))]
  refine zc_ext (fun i hi => ?_)
  cases hb : bt m i with
  | true => exact (yy_bT.mpr ((oo_b h hi).mpr hb)).symm
  | false => exact (yy_bF.mpr ((h i hi).mpr hb)).symm
theorem oo_left {t : Nat} {s m : Int32} (hC : C ≤ 8) (h : ∀ i, i < C → (bt m i = true ↔ yy_lf s t yr yp yw yh i)) (hh : ∀ i, C ≤ i → i < 32 → bt m i = false) : zc_n (bt m) 8 = zc_n (yy_lb s t yr yp yw yh) C := by
  obtain ⟨d, e⟩ : ∃ d, 8 = C + d := ⟨8 - C, by omega⟩
  rw [e, zc_pad (fun i a b => hh i a (by omega))]
  refine zc_ext (fun i hi => ?_)
  cases hb : bt m i with
  | true => exact (yy_lbT ((h i hi).mp hb)).symm
  | false => exact (yy_lbF (fun z => Bool.false_ne_true (hb.symm.trans ((h i hi).mpr z)))).symm
/-- overtaken: both sides -/
theorem oo_ot {t : Nat} {x2 : Int32} (R : rr_R T C D L K st sn sp xr xw xh xp xl ho ne ke vv vs yr yp yw yh yd yv) (ht : t < T) (ha : rr_act (st t) ∨ st t = 4)
    (h : ∀ c, yy_some yd c (sn t) x2 ↔ rr_ov yd c (st t) (sn t) (sp t)) : yy_ot C t yr yd sn x2 ↔ ¬ xl t = 0 := by
  have g2 := R.1.2.1
  obtain ⟨nu, hi, ⟨r1, r2, r3, r4⟩, S, l, o⟩ := R.2.1 t ht
  constructor
  · rintro ⟨c, hc, a, b⟩ z
    have k := (l ha c hc).mpr ⟨(oo_b r1 hc).mp a, (h c).mp b⟩
    rw [z, b_0] at k
    exact Bool.false_ne_true k
  · intro z
    obtain ⟨i, a, b⟩ := zb_nz z
    have hc : i < C := by
      apply Classical.byContradiction
      intro y
      exact Bool.false_ne_true ((hi i (by omega) a).2.2.2.2.symm.trans b)
    have k := (l ha i hc).mp b
    exact ⟨i, hc, (oo_b r1 hc).mpr k.1, (h i).mpr k.2⟩
theorem oo_over {post : Int32 → Prop} {t : Nat} (R : rr_R T C D L K st sn sp xr xw xh xp xl ho ne ke vv vs yr yp yw yh yd yv) (ht : t < T)
    (h1 : rr_act (st t) ∨ st t = 4 → ¬ xl t = 0 → post 1) (h0 : ¬ ((rr_act (st t) ∨ st t = 4) ∧ ¬ xl t = 0) → post 0) : wpY_overtaken post (nI T, nI C, nI D, nI L, nI K, st, ca, sn, sp, yr, se, yp, yw, bu, yh, yd, yv) (nI t) := by
  have g1 := R.1.1
  have g2 := R.1.2.1
  have ht4 : t < 4 := by omega
  have vt : vp_in (nI t) 4 := vp_in_nI ht4 (by decide)
  have kA : rr_act (st t) → ∃ n, wY_overtaken_78 post (nI t) 61 (nI T) (nI C) (nI D) (nI L) (nI K) st ca sn sp yr se yp yw bu yh yd yv n 0 := fun a => by
    have n4 : ¬ st t = 4 := by
      rcases a with z | z | z | z <;> (rw [z]; decide)
    have e := oo_ot (x2 := 61) R ht (Or.inl a) (fun c => oo_some61 n4)
    exact yy_ov g2 ht4 (fun z => h1 (Or.inl a) (e.mp z)) (fun z => h0 (fun y => z (e.mpr y.2)))
  unfold wpY_overtaken
  rw [nI_clamp (n := t) (by omega)]
  refine yy_thY g1 ht (And.intro vt (br_c (fun a => And.intro vt (nm_e ?_)) (fun n4 => And.intro vt (br_c (fun a => kA (Or.inl a)) (fun n1 => And.intro vt (br_c (fun a => kA (Or.inr (Or.inr (Or.inr a)))) (fun n8 => And.intro vt (br_c (fun a => kA (Or.inr (Or.inl a))) (fun n2 => And.intro vt (br_c (fun a => kA (Or.inr (Or.inr (Or.inl a)))) (fun n3 => h0 (fun y => ?_))))))))))))
  · have e := oo_ot (x2 := sp t) R ht (Or.inr a) (fun c => by rw [a]; exact oo_some4)
    exact yy_ov g2 ht4 (fun z => h1 (Or.inr a) (e.mp z)) (fun z => h0 (fun y => z (e.mpr y.2)))
  · rcases y.1 with (z | z | z | z) | z
    · exact n1 z
    · exact n2 z
    · exact n3 z
    · exact n8 z
    · exact n4 z
/-- kept versions above n: as many as the decided ones, or all -/
theorem oo_newer {c q n : Nat} (hD : D ≤ 3) (hn : n ≤ 60)
    (h : ∀ z : Nat, 1 ≤ z → z ≤ 60 → yy_d yd c z = true → za_b (yy_d yd c) (60 - z) ≤ D → vs (c * 4 + (q + 4 - za_b (yy_d yd c) (60 - z)) % 4) = nI z ∧ vv (c * 4 + (q + 4 - za_b (yy_d yd c) (60 - z)) % 4) = yv (z * 8 + c)) :
    zc_n (xx_nw q (min (za_b (yy_d yd c) 60) (D + 1)) c vs (nI n)) 4 = min (za_b (yy_d yd c) (60 - n)) (min (za_b (yy_d yd c) 60) (D + 1)) := by
  have e : ∀ k, k < 4 → xx_nw q (min (za_b (yy_d yd c) 60) (D + 1)) c vs (nI n) k = decide (k < min (za_b (yy_d yd c) (60 - n)) (min (za_b (yy_d yd c) 60) (D + 1))) := by
    intro k hk
    unfold xx_nw
    by_cases h1 : k < min (za_b (yy_d yd c) 60) (D + 1)
    · obtain ⟨z, z1, z2, z3, z4⟩ := za_ex (p := yy_d yd c) (k := k) 60 0 (by omega) (by show k < za_b (yy_d yd c) 60; omega)
      have f := (h z (by omega) z2 z3 (by omega)).1
      rw [z4] at f
      rw [decide_eq_true h1, Bool.true_and, f]
      by_cases h2 : n < z
      · have := za_lt h2 z2 z3
        rw [decide_eq_true (p := ¬ nI z ≤ nI n) (nI_ge h2 (by omega)), decide_eq_true (by omega)]
      · obtain ⟨d, rfl⟩ : ∃ d, n = z + d := ⟨n - z, by omega⟩
        have := za_mono (p := yy_d yd c) (s := z) d (by omega)
        rw [decide_eq_false (p := ¬ nI z ≤ nI (z + d)) (fun y => y (nI_le (by omega) (by omega))), decide_eq_false (by omega)]
    · rw [decide_eq_false h1, Bool.false_and, decide_eq_false (by omega)]
  rw [zc_ext e, zc_lt]
  omega
theorem oo_cdec {c n : Nat} (hn : n ≤ 60) : zc_n (yy_q yd c (nI n) 61) 60 = za_b (yy_d yd c) (60 - n) := by
  rw [← za_cc (p := yy_d yd c) hn]
  refine zc_ext (fun j hj => ?_)
  unfold yy_q
  rw [decide_eq_true (p := ¬ (61 : Int32) ≤ nI (j + 1)) (nI_ge (b := 61) (by omega) (by decide)), Bool.and_true]
  by_cases h : n < j + 1
  · rw [decide_eq_true h, decide_eq_true (p := ¬ nI (j + 1) ≤ nI n) (nI_ge h (by omega))]
  · rw [decide_eq_false h, decide_eq_false (p := ¬ nI (j + 1) ≤ nI n) (fun y => y (nI_le (by omega) (by omega)))]
/-- the value that a read sees -/
theorem oo_valY {c q n : Nat} (hn : n ≤ 60) (hA : za_b (yy_d yd c) (60 - n) ≤ D) (hk : za_b (yy_d yd c) (60 - n) < min (za_b (yy_d yd c) 60) (D + 1))
    (h : ∀ z : Nat, 1 ≤ z → z ≤ 60 → yy_d yd c z = true → za_b (yy_d yd c) (60 - z) ≤ D → vs (c * 4 + (q + 4 - za_b (yy_d yd c) (60 - z)) % 4) = nI z ∧ vv (c * 4 + (q + 4 - za_b (yy_d yd c) (60 - z)) % 4) = yv (z * 8 + c)) :
    vv (c * 4 + (q + 4 - za_b (yy_d yd c) (60 - n)) % 4) = yy_lv yd yv c (nI n) 60 := by
  obtain ⟨z, z1, z2, z3, z4⟩ := za_ex (p := yy_d yd c) (k := za_b (yy_d yd c) (60 - n)) 60 0 (by omega) (by show _ < za_b (yy_d yd c) 60; omega)
  have f := (h z (by omega) z2 z3 (by omega)).2
  rw [z4] at f
  have zn : z ≤ n := by
    apply Classical.byContradiction
    intro y
    have := za_lt (p := yy_d yd c) (s := n) (s' := z) (by omega) z2 z3
    omega
  rw [f]
  have k := yy_lvS (yd := yd) (yv := yv) (c := c) (s := z) (n := nI n) (by omega) (nI_nlt zn (by omega)) z3 (60 - z) (fun j j1 j2 j3 => by
    rw [nI_ltI (by omega) (by omega)] at j3
    exact za_eq hn z4 j1 (by omega))
  rw [show z + (60 - z) = 60 from by omega] at k
  exact k.symm
theorem oo_valN {c n : Nat} (hn : n ≤ 60) (hA : za_b (yy_d yd c) (60 - n) ≤ D) (hk : min (za_b (yy_d yd c) 60) (D + 1) ≤ za_b (yy_d yd c) (60 - n)) :
    yy_lv yd yv c (nI n) 60 = 0 := by
  have m := za_mono (p := yy_d yd c) (s := 0) n (by omega)
  rw [Nat.zero_add] at m
  have e : za_b (yy_d yd c) (60 - 0) = za_b (yy_d yd c) (60 - n) := by
    have m2 : za_b (yy_d yd c) (60 - n) ≤ za_b (yy_d yd c) 60 := m
    show za_b (yy_d yd c) 60 = _
    omega
  refine yy_lvN 60 (fun j j1 j2 j3 => ?_)
  rw [nI_ltI (by omega) (by omega)] at j3
  exact za_eq hn e j1 (by omega)
end
end
section
/-! ===== the getters: one answer ===== -/
def oo_G (wx wy : (Int32 → Prop) → Prop) : Prop := ∃ r : Int32, (∀ post : Int32 → Prop, post r → wx post) ∧ (∀ post : Int32 → Prop, post r → wy post)
theorem oo_useG {Q : Prop} {wx wy : (Int32 → Prop) → Prop} (q : Q) (h : oo_G wx wy) : wx (fun r => wy (fun r' => r' = r ∧ Q)) := by
  obtain ⟨r, hx, hy⟩ := h
  exact hx _ (hy _ ⟨rfl, q⟩)
theorem gg_ix {n : Nat} (hn : n ≤ 8) (v : Int32) : (v < 0 ∨ nI n ≤ v) ∨ ∃ t, t < n ∧ v = nI t := by
  rcases pk_ix v (n := n) (by omega) with h | h | h
  · exact Or.inl (Or.inl h)
  · exact Or.inl (Or.inr h)
  · exact Or.inr h
section
variable {T C D L K : Nat} {st ca sn sp se bu xr xw xh xp xl ho ne ke vv vs yr yp yw yh yd yv : Nat → Int32}
theorem gg_stateOf (v1 : Int32) (R : rr_R T C D L K st sn sp xr xw xh xp xl ho ne ke vv vs yr yp yw yh yd yv) : oo_G (fun p => wpX_stateOf p (nI T, nI C, nI D, nI L, nI K, st, ca, sn, sp, xr, xw, xh, xp, xl, se, bu, ho, ne, ke, vv, vs) v1) (fun p => wpY_stateOf p (nI T, nI C, nI D, nI L, nI K, st, ca, sn, sp, yr, se, yp, yw, bu, yh, yd, yv) v1) := by
  have g1 := R.1.1
  rcases gg_ix (n := T) (by omega) v1 with hv | ⟨t, ht, rfl⟩
  · refine ⟨-1, fun post hp => ?_, fun post hp => ?_⟩
    · show wpX_stateOf post (nI T, nI C, nI D, nI L, nI K, st, ca, sn, sp, xr, xw, xh, xp, xl, se, bu, ho, ne, ke, vv, vs) v1
      unfold wpX_stateOf
      exact xx_thN hv hp
    · show wpY_stateOf post (nI T, nI C, nI D, nI L, nI K, st, ca, sn, sp, yr, se, yp, yw, bu, yh, yd, yv) v1
      unfold wpY_stateOf
      exact yy_thN hv hp
  · have vt : vp_in (nI t) 4 := vp_in_nI (by omega) (by decide)
    refine ⟨st t, fun post hp => ?_, fun post hp => ?_⟩
    · show wpX_stateOf post (nI T, nI C, nI D, nI L, nI K, st, ca, sn, sp, xr, xw, xh, xp, xl, se, bu, ho, ne, ke, vv, vs) (nI t)
      unfold wpX_stateOf
      rw [nI_clamp (n := t) (by omega)]
      exact xx_thY g1 ht ⟨vt, hp⟩
    · show wpY_stateOf post (nI T, nI C, nI D, nI L, nI K, st, ca, sn, sp, yr, se, yp, yw, bu, yh, yd, yv) (nI t)
      unfold wpY_stateOf
      rw [nI_clamp (n := t) (by omega)]
      exact yy_thY g1 ht ⟨vt, hp⟩
theorem gg_causeOf (v1 : Int32) (R : rr_R T C D L K st sn sp xr xw xh xp xl ho ne ke vv vs yr yp yw yh yd yv) : oo_G (fun p => wpX_causeOf p (nI T, nI C, nI D, nI L, nI K, st, ca, sn, sp, xr, xw, xh, xp, xl, se, bu, ho, ne, ke, vv, vs) v1) (fun p => wpY_causeOf p (nI T, nI C, nI D, nI L, nI K, st, ca, sn, sp, yr, se, yp, yw, bu, yh, yd, yv) v1) := by
  have g1 := R.1.1
  rcases gg_ix (n := T) (by omega) v1 with hv | ⟨t, ht, rfl⟩
  · refine ⟨-1, fun post hp => ?_, fun post hp => ?_⟩
    · show wpX_causeOf post (nI T, nI C, nI D, nI L, nI K, st, ca, sn, sp, xr, xw, xh, xp, xl, se, bu, ho, ne, ke, vv, vs) v1
      unfold wpX_causeOf
      exact xx_thN hv hp
    · show wpY_causeOf post (nI T, nI C, nI D, nI L, nI K, st, ca, sn, sp, yr, se, yp, yw, bu, yh, yd, yv) v1
      unfold wpY_causeOf
      exact yy_thN hv hp
  · have vt : vp_in (nI t) 4 := vp_in_nI (by omega) (by decide)
    refine ⟨ca t, fun post hp => ?_, fun post hp => ?_⟩
    · show wpX_causeOf post (nI T, nI C, nI D, nI L, nI K, st, ca, sn, sp, xr, xw, xh, xp, xl, se, bu, ho, ne, ke, vv, vs) (nI t)
      unfold wpX_causeOf
      rw [nI_clamp (n := t) (by omega)]
      exact xx_thY g1 ht ⟨vt, hp⟩
    · show wpY_causeOf post (nI T, nI C, nI D, nI L, nI K, st, ca, sn, sp, yr, se, yp, yw, bu, yh, yd, yv) (nI t)
      unfold wpY_causeOf
      rw [nI_clamp (n := t) (by omega)]
      exact yy_thY g1 ht ⟨vt, hp⟩
theorem gg_snapshotOf (v1 : Int32) (R : rr_R T C D L K st sn sp xr xw xh xp xl ho ne ke vv vs yr yp yw yh yd yv) : oo_G (fun p => wpX_snapshotOf p (nI T, nI C, nI D, nI L, nI K, st, ca, sn, sp, xr, xw, xh, xp, xl, se, bu, ho, ne, ke, vv, vs) v1) (fun p => wpY_snapshotOf p (nI T, nI C, nI D, nI L, nI K, st, ca, sn, sp, yr, se, yp, yw, bu, yh, yd, yv) v1) := by
  have g1 := R.1.1
  rcases gg_ix (n := T) (by omega) v1 with hv | ⟨t, ht, rfl⟩
  · refine ⟨-1, fun post hp => ?_, fun post hp => ?_⟩
    · show wpX_snapshotOf post (nI T, nI C, nI D, nI L, nI K, st, ca, sn, sp, xr, xw, xh, xp, xl, se, bu, ho, ne, ke, vv, vs) v1
      unfold wpX_snapshotOf
      exact xx_thN hv hp
    · show wpY_snapshotOf post (nI T, nI C, nI D, nI L, nI K, st, ca, sn, sp, yr, se, yp, yw, bu, yh, yd, yv) v1
      unfold wpY_snapshotOf
      exact yy_thN hv hp
  · have vt : vp_in (nI t) 4 := vp_in_nI (by omega) (by decide)
    refine ⟨sn t, fun post hp => ?_, fun post hp => ?_⟩
    · show wpX_snapshotOf post (nI T, nI C, nI D, nI L, nI K, st, ca, sn, sp, xr, xw, xh, xp, xl, se, bu, ho, ne, ke, vv, vs) (nI t)
      unfold wpX_snapshotOf
      rw [nI_clamp (n := t) (by omega)]
      exact xx_thY g1 ht ⟨vt, hp⟩
    · show wpY_snapshotOf post (nI T, nI C, nI D, nI L, nI K, st, ca, sn, sp, yr, se, yp, yw, bu, yh, yd, yv) (nI t)
      unfold wpY_snapshotOf
      rw [nI_clamp (n := t) (by omega)]
      exact yy_thY g1 ht ⟨vt, hp⟩
theorem gg_stampOf (v1 : Int32) (R : rr_R T C D L K st sn sp xr xw xh xp xl ho ne ke vv vs yr yp yw yh yd yv) : oo_G (fun p => wpX_stampOf p (nI T, nI C, nI D, nI L, nI K, st, ca, sn, sp, xr, xw, xh, xp, xl, se, bu, ho, ne, ke, vv, vs) v1) (fun p => wpY_stampOf p (nI T, nI C, nI D, nI L, nI K, st, ca, sn, sp, yr, se, yp, yw, bu, yh, yd, yv) v1) := by
  have g1 := R.1.1
  rcases gg_ix (n := T) (by omega) v1 with hv | ⟨t, ht, rfl⟩
  · refine ⟨-1, fun post hp => ?_, fun post hp => ?_⟩
    · show wpX_stampOf post (nI T, nI C, nI D, nI L, nI K, st, ca, sn, sp, xr, xw, xh, xp, xl, se, bu, ho, ne, ke, vv, vs) v1
      unfold wpX_stampOf
      exact xx_thN hv hp
    · show wpY_stampOf post (nI T, nI C, nI D, nI L, nI K, st, ca, sn, sp, yr, se, yp, yw, bu, yh, yd, yv) v1
      unfold wpY_stampOf
      exact yy_thN hv hp
  · have vt : vp_in (nI t) 4 := vp_in_nI (by omega) (by decide)
    refine ⟨sp t, fun post hp => ?_, fun post hp => ?_⟩
    · show wpX_stampOf post (nI T, nI C, nI D, nI L, nI K, st, ca, sn, sp, xr, xw, xh, xp, xl, se, bu, ho, ne, ke, vv, vs) (nI t)
      unfold wpX_stampOf
      rw [nI_clamp (n := t) (by omega)]
      exact xx_thY g1 ht ⟨vt, hp⟩
    · show wpY_stampOf post (nI T, nI C, nI D, nI L, nI K, st, ca, sn, sp, yr, se, yp, yw, bu, yh, yd, yv) (nI t)
      unfold wpY_stampOf
      rw [nI_clamp (n := t) (by omega)]
      exact yy_thY g1 ht ⟨vt, hp⟩
theorem gg_leftOf (v1 : Int32) (R : rr_R T C D L K st sn sp xr xw xh xp xl ho ne ke vv vs yr yp yw yh yd yv) : oo_G (fun p => wpX_leftOf p (nI T, nI C, nI D, nI L, nI K, st, ca, sn, sp, xr, xw, xh, xp, xl, se, bu, ho, ne, ke, vv, vs) v1) (fun p => wpY_leftOf p (nI T, nI C, nI D, nI L, nI K, st, ca, sn, sp, yr, se, yp, yw, bu, yh, yd, yv) v1) := by
  have g1 := R.1.1
  have g2 := R.1.2.1
  rcases gg_ix (n := T) (by omega) v1 with hv | ⟨t, ht, rfl⟩
  · refine ⟨-1, fun post hp => ?_, fun post hp => ?_⟩
    · show wpX_leftOf post (nI T, nI C, nI D, nI L, nI K, st, ca, sn, sp, xr, xw, xh, xp, xl, se, bu, ho, ne, ke, vv, vs) v1
      unfold wpX_leftOf
      exact xx_thN hv hp
    · show wpY_leftOf post (nI T, nI C, nI D, nI L, nI K, st, ca, sn, sp, yr, se, yp, yw, bu, yh, yd, yv) v1
      unfold wpY_leftOf
      exact yy_thN hv hp
  · have vt : vp_in (nI t) 4 := vp_in_nI (by omega) (by decide)
    obtain ⟨nu, hi, ⟨r1, r2, r3, r4⟩, S, l, o⟩ := R.2.1 t ht
    by_cases h2 : st t = 2
    · have e : zc_n (bt (xw t &&& (xh t ^^^ (-1)))) 8 = zc_n (yy_lb (st t) t yr yp yw yh) C := by
        refine oo_left g2 (fun i hc => ?_) (fun i a b => by rw [zb_dif _ _ b, (hi i a b).2.1]; rfl)
        rw [zb_dif _ _ (by omega), h2, Bool.and_eq_true, Bool.not_eq_true', ← oo_b r3 hc, ← r4 i hc]
        exact ⟨fun z => Or.inl ⟨rfl, z.1, z.2⟩, fun z => z.elim (fun y => y.2) (fun y => y.elim (fun x => absurd x.1 (by decide)) (fun x => absurd x.1 (by decide)))⟩
      refine ⟨nI (zc_n (bt (xw t &&& (xh t ^^^ (-1)))) 8), fun post hp => ?_, fun post hp => ?_⟩
      · show wpX_leftOf post (nI T, nI C, nI D, nI L, nI K, st, ca, sn, sp, xr, xw, xh, xp, xl, se, bu, ho, ne, ke, vv, vs) (nI t)
        unfold wpX_leftOf
        rw [nI_clamp (n := t) (by omega)]
        exact xx_thY g1 ht ⟨vt, br_t h2 ⟨vt, vt, xx_bits hp⟩⟩
      · rw [e] at hp
        exact yy_left g1 g2 ht (fun z => absurd (h2.symm.trans z) (by decide)) (fun _ => hp)
    by_cases h3 : st t = 3
    · refine ⟨1, fun post hp => ?_, fun post hp => ?_⟩
      · show wpX_leftOf post (nI T, nI C, nI D, nI L, nI K, st, ca, sn, sp, xr, xw, xh, xp, xl, se, bu, ho, ne, ke, vv, vs) (nI t)
        unfold wpX_leftOf
        rw [nI_clamp (n := t) (by omega)]
        exact xx_thY g1 ht ⟨vt, br_f h2 ⟨vt, br_t h3 hp⟩⟩
      · exact yy_left g1 g2 ht (fun _ => hp) (fun z => absurd h3 z)
    by_cases h4 : st t = 4
    · have e : zc_n (bt (xr t &&& (xp t ^^^ (-1)))) 8 = zc_n (yy_lb (st t) t yr yp yw yh) C := by
        refine oo_left g2 (fun i hc => ?_) (fun i a b => by rw [zb_dif _ _ b, (hi i a b).1]; rfl)
        rw [zb_dif _ _ (by omega), h4, Bool.and_eq_true, Bool.not_eq_true', ← oo_b r1 hc, ← r2 i hc]
        exact ⟨fun z => Or.inr (Or.inl ⟨rfl, z.1, z.2⟩), fun z => z.elim (fun x => absurd x.1 (by decide)) (fun y => y.elim (fun x => x.2) (fun x => absurd x.1 (by decide)))⟩
      refine ⟨nI (zc_n (bt (xr t &&& (xp t ^^^ (-1)))) 8), fun post hp => ?_, fun post hp => ?_⟩
      · show wpX_leftOf post (nI T, nI C, nI D, nI L, nI K, st, ca, sn, sp, xr, xw, xh, xp, xl, se, bu, ho, ne, ke, vv, vs) (nI t)
        unfold wpX_leftOf
        rw [nI_clamp (n := t) (by omega)]
        exact xx_thY g1 ht ⟨vt, br_f h2 ⟨vt, br_f h3 ⟨vt, br_t h4 ⟨vt, vt, xx_bits hp⟩⟩⟩⟩
      · rw [e] at hp
        exact yy_left g1 g2 ht (fun z => absurd z h3) (fun _ => hp)
    by_cases h5 : st t = 5
    · have e : zc_n (bt (xh t)) 8 = zc_n (yy_lb (st t) t yr yp yw yh) C := by
        refine oo_left g2 (fun i hc => ?_) (fun i a b => (hi i a b).2.2.1)
        rw [h5, ← oo_b r4 hc]
        exact ⟨fun z => Or.inr (Or.inr ⟨rfl, z⟩), fun z => z.elim (fun x => absurd x.1 (by decide)) (fun y => y.elim (fun x => absurd x.1 (by decide)) (fun x => x.2))⟩
      refine ⟨nI (zc_n (bt (xh t)) 8), fun post hp => ?_, fun post hp => ?_⟩
      · show wpX_leftOf post (nI T, nI C, nI D, nI L, nI K, st, ca, sn, sp, xr, xw, xh, xp, xl, se, bu, ho, ne, ke, vv, vs) (nI t)
        unfold wpX_leftOf
        rw [nI_clamp (n := t) (by omega)]
        exact xx_thY g1 ht ⟨vt, br_f h2 ⟨vt, br_f h3 ⟨vt, br_f h4 ⟨vt, br_t h5 ⟨vt, xx_bits hp⟩⟩⟩⟩⟩
      · rw [e] at hp
        exact yy_left g1 g2 ht (fun z => absurd z h3) (fun _ => hp)
    · refine ⟨0, fun post hp => ?_, fun post hp => ?_⟩
      · show wpX_leftOf post (nI T, nI C, nI D, nI L, nI K, st, ca, sn, sp, xr, xw, xh, xp, xl, se, bu, ho, ne, ke, vv, vs) (nI t)
        unfold wpX_leftOf
        rw [nI_clamp (n := t) (by omega)]
        exact xx_thY g1 ht ⟨vt, br_f h2 ⟨vt, br_f h3 ⟨vt, br_f h4 ⟨vt, br_f h5 hp⟩⟩⟩⟩
      · refine yy_left g1 g2 ht (fun z => absurd z h3) (fun _ => ?_)
        rw [zc_z.mpr (fun i hi => yy_lbF (fun z => z.elim (fun x => h2 x.1) (fun y => y.elim (fun x => h4 x.1) (fun x => h5 x.1))))]
        exact hp
theorem gx_over {post : Int32 → Prop} {t : Nat} (hT : T ≤ 4) (ht : t < T)
    (h1 : rr_act (st t) ∨ st t = 4 → ¬ xl t = 0 → post 1) (h0 : ¬ ((rr_act (st t) ∨ st t = 4) ∧ ¬ xl t = 0) → post 0) : wpX_overtaken post (nI T, nI C, nI D, nI L, nI K, st, ca, sn, sp, xr, xw, xh, xp, xl, se, bu, ho, ne, ke, vv, vs) (nI t) := by
  have vt : vp_in (nI t) 4 := vp_in_nI (by omega) (by decide)
  have k : rr_act (st t) ∨ st t = 4 → wX_overtaken_43 post (nI t) (nI T) (nI C) (nI D) (nI L) (nI K) st ca sn sp xr xw xh xp xl se bu ho ne ke vv vs := fun a => by
    unfold wX_overtaken_43
    rw [nI_clamp (n := t) (by omega)]
    exact ⟨vt, br_c (fun z => h0 (fun y => y.2 z)) (fun z => h1 a z)⟩
  unfold wpX_overtaken
  rw [nI_clamp (n := t) (by omega)]
  refine xx_thY hT ht (And.intro vt (nm_e (br_c (fun a => k (Or.inl (Or.inl a))) (fun n1 => br_c (fun a => k (Or.inl (Or.inr (Or.inr (Or.inr a))))) (fun n8 => br_c (fun a => k (Or.inl (Or.inr (Or.inl a)))) (fun n2 => br_c (fun a => k (Or.inl (Or.inr (Or.inr (Or.inl a))))) (fun n3 => br_c (fun a => k (Or.inr a)) (fun n4 => h0 (fun y => ?_)))))))))
  rcases y.1 with (z | z | z | z) | z
  · exact n1 z
  · exact n2 z
  · exact n3 z
  · exact n8 z
  · exact n4 z
theorem gg_overtaken (v1 : Int32) (R : rr_R T C D L K st sn sp xr xw xh xp xl ho ne ke vv vs yr yp yw yh yd yv) : oo_G (fun p => wpX_overtaken p (nI T, nI C, nI D, nI L, nI K, st, ca, sn, sp, xr, xw, xh, xp, xl, se, bu, ho, ne, ke, vv, vs) v1) (fun p => wpY_overtaken p (nI T, nI C, nI D, nI L, nI K, st, ca, sn, sp, yr, se, yp, yw, bu, yh, yd, yv) v1) := by
  have g1 := R.1.1
  rcases gg_ix (n := T) (by omega) v1 with hv | ⟨t, ht, rfl⟩
  · refine ⟨0, fun post hp => ?_, fun post hp => ?_⟩
    · show wpX_overtaken post (nI T, nI C, nI D, nI L, nI K, st, ca, sn, sp, xr, xw, xh, xp, xl, se, bu, ho, ne, ke, vv, vs) v1
      unfold wpX_overtaken
      exact xx_thN hv hp
    · show wpY_overtaken post (nI T, nI C, nI D, nI L, nI K, st, ca, sn, sp, yr, se, yp, yw, bu, yh, yd, yv) v1
      unfold wpY_overtaken
      exact yy_thN hv hp
  · by_cases h : (rr_act (st t) ∨ st t = 4) ∧ ¬ xl t = 0
    · exact ⟨1, fun post hp => gx_over g1 ht (fun _ _ => hp) (fun z => absurd h z), fun post hp => oo_over R ht (fun _ _ => hp) (fun z => absurd h z)⟩
    · exact ⟨0, fun post hp => gx_over g1 ht (fun a b => absurd ⟨a, b⟩ h) (fun _ => hp), fun post hp => oo_over R ht (fun a b => absurd ⟨a, b⟩ h) (fun _ => hp)⟩
theorem gg_usesCell (v1 v2 : Int32) (R : rr_R T C D L K st sn sp xr xw xh xp xl ho ne ke vv vs yr yp yw yh yd yv) : oo_G (fun p => wpX_usesCell p (nI T, nI C, nI D, nI L, nI K, st, ca, sn, sp, xr, xw, xh, xp, xl, se, bu, ho, ne, ke, vv, vs) v1 v2) (fun p => wpY_usesCell p (nI T, nI C, nI D, nI L, nI K, st, ca, sn, sp, yr, se, yp, yw, bu, yh, yd, yv) v1 v2) := by
  have g1 := R.1.1
  have g2 := R.1.2.1
  rcases gg_ix (n := T) (by omega) v1 with hv | ⟨t, ht, rfl⟩
  · refine ⟨-1, fun post hp => ?_, fun post hp => ?_⟩
    · show wpX_usesCell post (nI T, nI C, nI D, nI L, nI K, st, ca, sn, sp, xr, xw, xh, xp, xl, se, bu, ho, ne, ke, vv, vs) v1 v2
      unfold wpX_usesCell
      exact xx_thN hv hp
    · show wpY_usesCell post (nI T, nI C, nI D, nI L, nI K, st, ca, sn, sp, yr, se, yp, yw, bu, yh, yd, yv) v1 v2
      unfold wpY_usesCell
      exact yy_thN hv hp
  rcases gg_ix (n := C) g2 v2 with hv | ⟨c, hc, rfl⟩
  · refine ⟨-1, fun post hp => ?_, fun post hp => ?_⟩
    · show wpX_usesCell post (nI T, nI C, nI D, nI L, nI K, st, ca, sn, sp, xr, xw, xh, xp, xl, se, bu, ho, ne, ke, vv, vs) (nI t) v2
      unfold wpX_usesCell
      exact xx_thY g1 ht (xx_ceN hv hp)
    · show wpY_usesCell post (nI T, nI C, nI D, nI L, nI K, st, ca, sn, sp, yr, se, yp, yw, bu, yh, yd, yv) (nI t) v2
      unfold wpY_usesCell
      exact yy_thY g1 ht (yy_ceN hv hp)
  · have vt : vp_in (nI t) 4 := vp_in_nI (by omega) (by decide)
    have v2 : vp_in (nI (t * 8 + c)) 32 := vp_in_nI (by omega) (by decide)
    obtain ⟨nu, hi, ⟨r1, r2, r3, r4⟩, S, l, o⟩ := R.2.1 t ht
    have fin : ∀ x3 : Int32, ∃ r : Int32, (∀ post : Int32 → Prop, post r → wX_usesCell_36 post (nI t) (nI c) x3 (nI T) (nI C) (nI D) (nI L) (nI K) st ca sn sp xr xw xh xp xl se bu ho ne ke vv vs) ∧ (∀ post : Int32 → Prop, post r → wY_usesCell_37 post (nI t) (nI c) x3 (nI T) (nI C) (nI D) (nI L) (nI K) st ca sn sp yr se yp yw bu yh yd yv) := fun x3 => by
      cases hw : bt (xw t) c with
      | false =>
        refine ⟨x3, fun post hp => ?_, fun post hp => ?_⟩
        · unfold wX_usesCell_36
          rw [nI_clamp (n := t) (by omega)]
          exact ⟨vt, br_t ((zb_tst _ (by omega)).mpr hw) hp⟩
        · unfold wY_usesCell_37
          rw [zi_8, nI_clamp (n := t * 8 + c) (by omega)]
          exact ⟨v2, br_t ((r3 c hc).mpr hw) hp⟩
      | true =>
        refine ⟨x3 + 2, fun post hp => ?_, fun post hp => ?_⟩
        · unfold wX_usesCell_36
          rw [nI_clamp (n := t) (by omega)]
          exact ⟨vt, br_f (fun z => Bool.false_ne_true (((zb_tst _ (by omega)).mp z).symm.trans hw)) (nm_e hp)⟩
        · unfold wY_usesCell_37
          rw [zi_8, nI_clamp (n := t * 8 + c) (by omega)]
          exact ⟨v2, br_f ((oo_b r3 hc).mpr hw) (nm_e hp)⟩
    cases hr : bt (xr t) c with
    | false =>
      obtain ⟨r, hx, hy⟩ := fin 0
      refine ⟨r, fun post hp => ?_, fun post hp => ?_⟩
      · show wpX_usesCell post (nI T, nI C, nI D, nI L, nI K, st, ca, sn, sp, xr, xw, xh, xp, xl, se, bu, ho, ne, ke, vv, vs) (nI t) (nI c)
        unfold wpX_usesCell
        rw [nI_clamp (n := t) (by omega)]
        exact xx_thY g1 ht (xx_ceY g2 hc ⟨vt, br_t ((zb_tst _ (by omega)).mpr hr) (hx post hp)⟩)
      · show wpY_usesCell post (nI T, nI C, nI D, nI L, nI K, st, ca, sn, sp, yr, se, yp, yw, bu, yh, yd, yv) (nI t) (nI c)
        unfold wpY_usesCell
        rw [zi_8, nI_clamp (n := t * 8 + c) (by omega)]
        exact yy_thY g1 ht (yy_ceY g2 hc ⟨v2, br_t ((r1 c hc).mpr hr) (hy post hp)⟩)
    | true =>
      obtain ⟨r, hx, hy⟩ := fin (0 + 1)
      refine ⟨r, fun post hp => ?_, fun post hp => ?_⟩
      · show wpX_usesCell post (nI T, nI C, nI D, nI L, nI K, st, ca, sn, sp, xr, xw, xh, xp, xl, se, bu, ho, ne, ke, vv, vs) (nI t) (nI c)
        unfold wpX_usesCell
        rw [nI_clamp (n := t) (by omega)]
        exact xx_thY g1 ht (xx_ceY g2 hc ⟨vt, br_f (fun z => Bool.false_ne_true (((zb_tst _ (by omega)).mp z).symm.trans hr)) (nm_e (hx post hp))⟩)
      · show wpY_usesCell post (nI T, nI C, nI D, nI L, nI K, st, ca, sn, sp, yr, se, yp, yw, bu, yh, yd, yv) (nI t) (nI c)
        unfold wpY_usesCell
        rw [zi_8, nI_clamp (n := t * 8 + c) (by omega)]
        exact yy_thY g1 ht (yy_ceY g2 hc ⟨v2, br_f ((oo_b r1 hc).mpr hr) (nm_e (hy post hp))⟩)
theorem gg_view (v1 v2 : Int32) (R : rr_R T C D L K st sn sp xr xw xh xp xl ho ne ke vv vs yr yp yw yh yd yv) : oo_G (fun p => wpX_view p (nI T, nI C, nI D, nI L, nI K, st, ca, sn, sp, xr, xw, xh, xp, xl, se, bu, ho, ne, ke, vv, vs) v1 v2) (fun p => wpY_view p (nI T, nI C, nI D, nI L, nI K, st, ca, sn, sp, yr, se, yp, yw, bu, yh, yd, yv) v1 v2) := by
  have g1 := R.1.1
  have g2 := R.1.2.1
  rcases gg_ix (n := T) (by omega) v1 with hv | ⟨t, ht, rfl⟩
  · refine ⟨0, fun post hp => ?_, fun post hp => ?_⟩
    · show wpX_view post (nI T, nI C, nI D, nI L, nI K, st, ca, sn, sp, xr, xw, xh, xp, xl, se, bu, ho, ne, ke, vv, vs) v1 v2
      unfold wpX_view
      exact xx_thN hv hp
    · show wpY_view post (nI T, nI C, nI D, nI L, nI K, st, ca, sn, sp, yr, se, yp, yw, bu, yh, yd, yv) v1 v2
      unfold wpY_view
      exact yy_thN hv hp
  rcases gg_ix (n := C) g2 v2 with hv | ⟨c, hc, rfl⟩
  · refine ⟨0, fun post hp => ?_, fun post hp => ?_⟩
    · show wpX_view post (nI T, nI C, nI D, nI L, nI K, st, ca, sn, sp, xr, xw, xh, xp, xl, se, bu, ho, ne, ke, vv, vs) (nI t) v2
      unfold wpX_view
      exact xx_thY g1 ht (xx_ceN hv hp)
    · show wpY_view post (nI T, nI C, nI D, nI L, nI K, st, ca, sn, sp, yr, se, yp, yw, bu, yh, yd, yv) (nI t) v2
      unfold wpY_view
      exact yy_thY g1 ht (yy_ceN hv hp)
  · have vt : vp_in (nI t) 4 := vp_in_nI (by omega) (by decide)
    have v2 : vp_in (nI (t * 8 + c)) 32 := vp_in_nI (by omega) (by decide)
    obtain ⟨nu, hi, ⟨r1, r2, r3, r4⟩, S, l, o⟩ := R.2.1 t ht
    have key : ∃ r : Int32, (∀ post : Int32 → Prop, post r → (vp_in (nI t) 4 ∧ ((st t = 8 → post 0) ∧ (¬ st t = 8 → (vp_in (nI t) 4 ∧ ((xw t &&& ((1 : Int32) <<< (nI c &&& 31)) = 0 → (vp_in (nI t) 4 ∧ ((xr t &&& ((1 : Int32) <<< (nI c &&& 31)) = 0 → post 0) ∧ (¬ xr t &&& ((1 : Int32) <<< (nI c &&& 31)) = 0 → (vp_in (nI (t * 8 + c)) 32 ∧ post (se (t * 8 + c))))))) ∧ (¬ xw t &&& ((1 : Int32) <<< (nI c &&& 31)) = 0 → (vp_in (nI (t * 8 + c)) 32 ∧ post (bu (t * 8 + c)))))))))) ∧
        (∀ post : Int32 → Prop, post r → (vp_in (nI t) 4 ∧ ((st t = 8 → post 0) ∧ (¬ st t = 8 → (vp_in (nI (t * 8 + c)) 32 ∧ ((yw (t * 8 + c) = 0 → (vp_in (nI (t * 8 + c)) 32 ∧ ((yr (t * 8 + c) = 0 → post 0) ∧ (¬ yr (t * 8 + c) = 0 → (vp_in (nI (t * 8 + c)) 32 ∧ post (se (t * 8 + c))))))) ∧ (¬ yw (t * 8 + c) = 0 → (vp_in (nI (t * 8 + c)) 32 ∧ post (bu (t * 8 + c)))))))))) := by
      by_cases h8 : st t = 8
      · exact ⟨0, fun post hp => ⟨vt, br_t h8 hp⟩, fun post hp => ⟨vt, br_t h8 hp⟩⟩
      cases hw : bt (xw t) c with
      | true => exact ⟨bu (t * 8 + c), fun post hp => ⟨vt, br_f h8 ⟨vt, br_f (fun z => Bool.false_ne_true (((zb_tst _ (by omega)).mp z).symm.trans hw)) ⟨v2, hp⟩⟩⟩, fun post hp => ⟨vt, br_f h8 ⟨v2, br_f ((oo_b r3 hc).mpr hw) ⟨v2, hp⟩⟩⟩⟩
      | false =>
        cases hr : bt (xr t) c with
        | true => exact ⟨se (t * 8 + c), fun post hp => ⟨vt, br_f h8 ⟨vt, br_t ((zb_tst _ (by omega)).mpr hw) ⟨vt, br_f (fun z => Bool.false_ne_true (((zb_tst _ (by omega)).mp z).symm.trans hr)) ⟨v2, hp⟩⟩⟩⟩, fun post hp => ⟨vt, br_f h8 ⟨v2, br_t ((r3 c hc).mpr hw) ⟨v2, br_f ((oo_b r1 hc).mpr hr) ⟨v2, hp⟩⟩⟩⟩⟩
        | false => exact ⟨0, fun post hp => ⟨vt, br_f h8 ⟨vt, br_t ((zb_tst _ (by omega)).mpr hw) ⟨vt, br_t ((zb_tst _ (by omega)).mpr hr) hp⟩⟩⟩, fun post hp => ⟨vt, br_f h8 ⟨v2, br_t ((r3 c hc).mpr hw) ⟨v2, br_t ((r1 c hc).mpr hr) hp⟩⟩⟩⟩
    obtain ⟨r, hx, hy⟩ := key
    refine ⟨r, fun post hp => ?_, fun post hp => ?_⟩
    · show wpX_view post (nI T, nI C, nI D, nI L, nI K, st, ca, sn, sp, xr, xw, xh, xp, xl, se, bu, ho, ne, ke, vv, vs) (nI t) (nI c)
      unfold wpX_view
      rw [nI_clamp (n := t) (by omega), zi_8, nI_clamp (n := t * 8 + c) (by omega)]
      exact xx_thY g1 ht (xx_ceY g2 hc (hx post hp))
    · show wpY_view post (nI T, nI C, nI D, nI L, nI K, st, ca, sn, sp, yr, se, yp, yw, bu, yh, yd, yv) (nI t) (nI c)
      unfold wpY_view
      rw [nI_clamp (n := t) (by omega), zi_8, nI_clamp (n := t * 8 + c) (by omega)]
      exact yy_thY g1 ht (yy_ceY g2 hc (hy post hp))
theorem gg_holderOf (v1 : Int32) (R : rr_R T C D L K st sn sp xr xw xh xp xl ho ne ke vv vs yr yp yw yh yd yv) : oo_G (fun p => wpX_holderOf p (nI T, nI C, nI D, nI L, nI K, st, ca, sn, sp, xr, xw, xh, xp, xl, se, bu, ho, ne, ke, vv, vs) v1) (fun p => wpY_holderOf p (nI T, nI C, nI D, nI L, nI K, st, ca, sn, sp, yr, se, yp, yw, bu, yh, yd, yv) v1) := by
  have g1 := R.1.1
  have g2 := R.1.2.1
  rcases gg_ix (n := C) g2 v1 with hv | ⟨c, hc, rfl⟩
  · refine ⟨-2, fun post hp => ?_, fun post hp => ?_⟩
    · show wpX_holderOf post (nI T, nI C, nI D, nI L, nI K, st, ca, sn, sp, xr, xw, xh, xp, xl, se, bu, ho, ne, ke, vv, vs) v1
      unfold wpX_holderOf
      exact xx_ceN hv hp
    · show wpY_holderOf post (nI T, nI C, nI D, nI L, nI K, st, ca, sn, sp, yr, se, yp, yw, bu, yh, yd, yv) v1
      unfold wpY_holderOf
      exact yy_ceN hv hp
  · refine ⟨ho c, fun post hp => ?_, fun post hp => ?_⟩
    · show wpX_holderOf post (nI T, nI C, nI D, nI L, nI K, st, ca, sn, sp, xr, xw, xh, xp, xl, se, bu, ho, ne, ke, vv, vs) (nI c)
      unfold wpX_holderOf
      rw [nI_clamp (n := c) (by omega)]
      exact xx_ceY g2 hc ⟨vp_in_nI (by omega) (by decide), hp⟩
    · show wpY_holderOf post (nI T, nI C, nI D, nI L, nI K, st, ca, sn, sp, yr, se, yp, yw, bu, yh, yd, yv) (nI c)
      rcases (R.2.2.1 c hc).1 with e | ⟨w, hw, e⟩
      · rw [e] at hp
        exact oo_hoN R hc e hp
      · rw [e] at hp
        exact oo_hoS R hc hw e hp
theorem gg_clockNow : oo_G (fun p => wpX_clockNow p (nI T, nI C, nI D, nI L, nI K, st, ca, sn, sp, xr, xw, xh, xp, xl, se, bu, ho, ne, ke, vv, vs)) (fun p => wpY_clockNow p (nI T, nI C, nI D, nI L, nI K, st, ca, sn, sp, yr, se, yp, yw, bu, yh, yd, yv)) := ⟨nI K, fun _ hp => hp, fun _ hp => hp⟩
end
end
section
/-! ===== cellValue, cellStamp; read ===== -/
section
variable {T C D L K : Nat} {st ca sn sp se bu xr xw xh xp xl ho ne ke vv vs yr yp yw yh yd yv : Nat → Int32}
theorem yy_csB1 {post : Int32 → Prop} {v1 v2 : Int32} (hv : v1 < 0 ∨ nI C ≤ v1) (hp : post (-1)) : wpY_cellStamp post (nI T, nI C, nI D, nI L, nI K, st, ca, sn, sp, yr, se, yp, yw, bu, yh, yd, yv) v1 v2 := by
  unfold wpY_cellStamp
  exact yy_ceN hv hp
theorem yy_csB2 {post : Int32 → Prop} {c : Nat} {v2 : Int32} (hC : C ≤ 8) (hc : c < C) (hv : v2 < 0 ∨ ¬ v2 ≤ nI D) (hp : post (-1)) : wpY_cellStamp post (nI T, nI C, nI D, nI L, nI K, st, ca, sn, sp, yr, se, yp, yw, bu, yh, yd, yv) (nI c) v2 := by
  unfold wpY_cellStamp
  exact yy_ceY hC hc (br_c (fun _ => hp) (fun h0 => br_f (hv.resolve_left h0) hp))
theorem gg_dix (hD : D ≤ 3) (v : Int32) : (v < 0 ∨ ¬ v ≤ nI D) ∨ ∃ k, k ≤ D ∧ v = nI k := by
  rcases gg_ix (n := D + 1) (by omega) v with (h | h) | ⟨k, hk, e⟩
  · exact Or.inl (Or.inl h)
  · refine Or.inl (Or.inr (fun z => ?_))
    rw [zi_le, nI_toInt (by omega)] at h z
    omega
  · exact Or.inr ⟨k, by omega, e⟩
theorem gg_cellStamp (v1 v2 : Int32) (R : rr_R T C D L K st sn sp xr xw xh xp xl ho ne ke vv vs yr yp yw yh yd yv) : oo_G (fun p => wpX_cellStamp p (nI T, nI C, nI D, nI L, nI K, st, ca, sn, sp, xr, xw, xh, xp, xl, se, bu, ho, ne, ke, vv, vs) v1 v2) (fun p => wpY_cellStamp p (nI T, nI C, nI D, nI L, nI K, st, ca, sn, sp, yr, se, yp, yw, bu, yh, yd, yv) v1 v2) := by
  have g2 := R.1.2.1
  have g3 := R.1.2.2.1
  rcases gg_ix (n := C) g2 v1 with hv | ⟨c, hc, rfl⟩
  · refine ⟨-1, fun post hp => ?_, fun post hp => yy_csB1 hv hp⟩
    show wpX_cellStamp post (nI T, nI C, nI D, nI L, nI K, st, ca, sn, sp, xr, xw, xh, xp, xl, se, bu, ho, ne, ke, vv, vs) v1 v2
    unfold wpX_cellStamp
    exact xx_ceN hv hp
  rcases gg_dix g3 v2 with hv | ⟨k, hk, rfl⟩
  · refine ⟨-1, fun post hp => ?_, fun post hp => yy_csB2 g2 hc hv hp⟩
    show wpX_cellStamp post (nI T, nI C, nI D, nI L, nI K, st, ca, sn, sp, xr, xw, xh, xp, xl, se, bu, ho, ne, ke, vv, vs) (nI c) v2
    unfold wpX_cellStamp
    exact xx_ceY g2 hc (br_c (fun _ => hp) (fun h0 => br_f (hv.resolve_left h0) hp))
  · obtain ⟨_, q, hq, e, e2, h⟩ := R.2.2.2 c hc
    have vc : vp_in (nI c) 8 := vp_in_nI (by omega) (by decide)
    by_cases h1 : k < min (za_b (yy_d yd c) 60) (D + 1)
    · obtain ⟨z, z1, z2, z3, z4⟩ := za_ex (p := yy_d yd c) (k := k) 60 0 (by omega) (by show k < za_b (yy_d yd c) 60; omega)
      have f := (h z (by omega) z2 z3 (by omega)).1
      rw [z4] at f
      refine ⟨nI z, fun post hp => ?_, fun post hp => yy_cs g2 g3 hc hk (fun s s1 s2 s3 s4 => ?_) (fun y => by omega) (fun _ y => absurd z4 (y z (by omega) z2 z3))⟩
      · show wpX_cellStamp post (nI T, nI C, nI D, nI L, nI K, st, ca, sn, sp, xr, xw, xh, xp, xl, se, bu, ho, ne, ke, vv, vs) (nI c) (nI k)
        unfold wpX_cellStamp
        rw [nI_clamp (n := c) (by omega)]
        refine xx_ceY g2 hc (br_f (nI_pos (by omega)) (br_t (nI_le hk (by omega)) ⟨vc, br_f (by rw [e2]; exact nI_ge h1 (by omega)) (xx_slot (by omega) hq e (by omega) ?_)⟩))
        rw [nI_clamp (n := c * 4 + (q + 4 - k) % 4) (by omega), f]
        exact ⟨vp_in_nI (by omega) (by decide), hp⟩
      · have f2 := (h s s1 s2 s3 (by omega)).1
        rw [s4] at f2
        rw [← f2, f]
        exact hp
    · have nf : ∀ s, 1 ≤ s → s ≤ 60 → yy_d yd c s = true → ¬ za_b (yy_d yd c) (60 - s) = k := fun s s1 s2 s3 s4 => by
        have := za_lt (p := yy_d yd c) (s := 0) (s' := s) (by omega) s2 s3
        rw [s4, show 60 - 0 = 60 from rfl] at this
        omega
      have eA : min (za_b (yy_d yd c) 60) (D + 1) = za_b (yy_d yd c) 60 := by omega
      rw [eA] at e2
      by_cases h2 : za_b (yy_d yd c) 60 = k
      · refine ⟨0, fun post hp => ?_, fun post hp => yy_cs g2 g3 hc hk (fun s s1 s2 s3 s4 => absurd s4 (nf s s1 s2 s3)) (fun _ => hp) (fun y => absurd h2 y)⟩
        show wpX_cellStamp post (nI T, nI C, nI D, nI L, nI K, st, ca, sn, sp, xr, xw, xh, xp, xl, se, bu, ho, ne, ke, vv, vs) (nI c) (nI k)
        unfold wpX_cellStamp
        rw [nI_clamp (n := c) (by omega)]
        exact xx_ceY g2 hc (br_f (nI_pos (by omega)) (br_t (nI_le hk (by omega)) ⟨vc, br_t (by rw [e2]; exact nI_le (by omega) (by omega)) ⟨vc, br_t (by rw [e2, h2]) hp⟩⟩))
      · refine ⟨-1, fun post hp => ?_, fun post hp => yy_cs g2 g3 hc hk (fun s s1 s2 s3 s4 => absurd s4 (nf s s1 s2 s3)) (fun y => absurd y h2) (fun _ _ => hp)⟩
        show wpX_cellStamp post (nI T, nI C, nI D, nI L, nI K, st, ca, sn, sp, xr, xw, xh, xp, xl, se, bu, ho, ne, ke, vv, vs) (nI c) (nI k)
        unfold wpX_cellStamp
        rw [nI_clamp (n := c) (by omega)]
        exact xx_ceY g2 hc (br_f (nI_pos (by omega)) (br_t (nI_le hk (by omega)) ⟨vc, br_t (by rw [e2]; exact nI_le (by omega) (by omega)) ⟨vc, br_f (by rw [e2]; exact rr_nIne (by omega) (by omega) (by omega)) hp⟩⟩))
theorem gg_cellValue (v1 v2 : Int32) (R : rr_R T C D L K st sn sp xr xw xh xp xl ho ne ke vv vs yr yp yw yh yd yv) : oo_G (fun p => wpX_cellValue p (nI T, nI C, nI D, nI L, nI K, st, ca, sn, sp, xr, xw, xh, xp, xl, se, bu, ho, ne, ke, vv, vs) v1 v2) (fun p => wpY_cellValue p (nI T, nI C, nI D, nI L, nI K, st, ca, sn, sp, yr, se, yp, yw, bu, yh, yd, yv) v1 v2) := by
  have g2 := R.1.2.1
  have g3 := R.1.2.2.1
  have m1 : ¬ (0 : Int32) < -1 := by decide
  rcases gg_ix (n := C) g2 v1 with hv | ⟨c, hc, rfl⟩
  · refine ⟨0, fun post hp => ?_, fun post hp => ?_⟩
    · show wpX_cellValue post (nI T, nI C, nI D, nI L, nI K, st, ca, sn, sp, xr, xw, xh, xp, xl, se, bu, ho, ne, ke, vv, vs) v1 v2
      unfold wpX_cellValue
      exact xx_ceN hv hp
    · show wpY_cellValue post (nI T, nI C, nI D, nI L, nI K, st, ca, sn, sp, yr, se, yp, yw, bu, yh, yd, yv) v1 v2
      unfold wpY_cellValue
      exact yy_csB1 hv (br_f m1 hp)
  rcases gg_dix g3 v2 with hv | ⟨k, hk, rfl⟩
  · refine ⟨0, fun post hp => ?_, fun post hp => ?_⟩
    · show wpX_cellValue post (nI T, nI C, nI D, nI L, nI K, st, ca, sn, sp, xr, xw, xh, xp, xl, se, bu, ho, ne, ke, vv, vs) (nI c) v2
      unfold wpX_cellValue
      exact xx_ceY g2 hc (br_c (fun _ => hp) (fun h0 => br_f (hv.resolve_left h0) hp))
    · show wpY_cellValue post (nI T, nI C, nI D, nI L, nI K, st, ca, sn, sp, yr, se, yp, yw, bu, yh, yd, yv) (nI c) v2
      unfold wpY_cellValue
      exact yy_csB2 g2 hc hv (br_f m1 hp)
  · obtain ⟨_, q, hq, e, e2, h⟩ := R.2.2.2 c hc
    by_cases h1 : k < min (za_b (yy_d yd c) 60) (D + 1)
    · obtain ⟨z, z1, z2, z3, z4⟩ := za_ex (p := yy_d yd c) (k := k) 60 0 (by omega) (by show k < za_b (yy_d yd c) 60; omega)
      refine ⟨vv (c * 4 + (q + 4 - k) % 4), fun post hp => ?_, fun post hp => ?_⟩
      · show wpX_cellValue post (nI T, nI C, nI D, nI L, nI K, st, ca, sn, sp, xr, xw, xh, xp, xl, se, bu, ho, ne, ke, vv, vs) (nI c) (nI k)
        unfold wpX_cellValue
        exact xx_ceY g2 hc (br_f (nI_pos (by omega)) (br_t (nI_le hk (by omega)) (xx_entY (by omega) hq e (by omega) e2 h1 hp)))
      · show wpY_cellValue post (nI T, nI C, nI D, nI L, nI K, st, ca, sn, sp, yr, se, yp, yw, bu, yh, yd, yv) (nI c) (nI k)
        unfold wpY_cellValue
        refine yy_cs g2 g3 hc hk (fun s s1 s2 s3 s4 => br_t (nI_lt (a := 0) (by omega) (by omega)) ?_) (fun y => by omega) (fun _ y => absurd z4 (y z (by omega) z2 z3))
        have f2 := (h s s1 s2 s3 (by omega)).2
        rw [s4] at f2
        rw [zi_8, nI_clamp (n := s * 8 + c) (by omega), ← f2]
        exact ⟨vp_in_nI (by omega) (by decide), hp⟩
    · have nf : ∀ s, 1 ≤ s → s ≤ 60 → yy_d yd c s = true → ¬ za_b (yy_d yd c) (60 - s) = k := fun s s1 s2 s3 s4 => by
        have := za_lt (p := yy_d yd c) (s := 0) (s' := s) (by omega) s2 s3
        rw [s4, show 60 - 0 = 60 from rfl] at this
        omega
      refine ⟨0, fun post hp => ?_, fun post hp => ?_⟩
      · show wpX_cellValue post (nI T, nI C, nI D, nI L, nI K, st, ca, sn, sp, xr, xw, xh, xp, xl, se, bu, ho, ne, ke, vv, vs) (nI c) (nI k)
        unfold wpX_cellValue
        exact xx_ceY g2 hc (br_f (nI_pos (by omega)) (br_t (nI_le hk (by omega)) (xx_entN (by omega) (by omega) e2 (by omega) hp)))
      · show wpY_cellValue post (nI T, nI C, nI D, nI L, nI K, st, ca, sn, sp, yr, se, yp, yw, bu, yh, yd, yv) (nI c) (nI k)
        unfold wpY_cellValue
        exact yy_cs g2 g3 hc hk (fun s s1 s2 s3 s4 => absurd s4 (nf s s1 s2 s3)) (fun _ => br_f (by decide) hp) (fun _ _ => br_f m1 hp)
/-- read, once the cell is neither read nor written and no undecided writer is in the way -/
theorem oo_read2 {t c : Nat} (R : rr_R T C D L K st sn sp xr xw xh xp xl ho ne ke vv vs yr yp yw yh yd yv) (ht : t < T) (hc : c < C) (h1 : st t = 1) :
    ∃ (r : Int32) (u : SX) (v : SY), rr_RT T u v ∧ (∀ post : Int32 → SX → Prop, post r u → wX_read_92 post (nI t) (nI c) ((1 : Int32) <<< (nI c &&& 31)) (nI T) (nI C) (nI D) (nI L) (nI K) st ca sn sp xr xw xh xp xl se bu ho ne ke vv vs) ∧
      (∀ post : Int32 → SY → Prop, post r v → wpY_countDecided (fun r_66 => (((r_66 ≤ nI D → (∃ n111 : Nat, wY_read_111 post (nI t) (nI c) (nI T) (nI C) (nI D) (nI L) (nI K) st ca sn sp yr se yp yw bu yh yd yv n111 0 1)) ∧ (¬ r_66 ≤ nI D → (post 3 (nI T, nI C, nI D, nI L, nI K, st, ca, sn, sp, yr, se, yp, yw, bu, yh, yd, yv)))))) (nI T, nI C, nI D, nI L, nI K, st, ca, sn, sp, yr, se, yp, yw, bu, yh, yd, yv) (nI c) (sn t) 61) := by
  have g1 := R.1.1
  have g2 := R.1.2.1
  have g3 := R.1.2.2.1
  have g4 := R.1.2.2.2.1
  have g5 := R.1.2.2.2.2
  have ht4 : t < 4 := by omega
  obtain ⟨nu, hi, ⟨r1, r2, r3, r4⟩, S, l, o⟩ := R.2.1 t ht
  obtain ⟨_, q, hq, e, e2, h⟩ := R.2.2.2 c hc
  have vt : vp_in (nI t) 4 := vp_in_nI ht4 (by decide)
  have v2 : vp_in (nI (t * 8 + c)) 32 := vp_in_nI (by omega) (by decide)
  have n1 := nu.1
  obtain ⟨n, hn, en⟩ := oo_nat (x := sn t) (by omega) (by omega)
  have eN := oo_newer (yv := yv) (vv := vv) g3 hn h
  have eD := oo_cdec (yd := yd) (c := c) hn
  have n4 : ¬ st t = 4 := by rw [h1]; decide
  have ov : rr_ov yd c (st t) (sn t) (sp t) ↔ ¬ za_b (yy_d yd c) (60 - n) = 0 := by
    rw [← oo_some61 n4, en, ← yy_some_iff, eD]
  have cX : ∀ P : Int32 → Prop, P (nI (min (za_b (yy_d yd c) (60 - n)) (min (za_b (yy_d yd c) 60) (D + 1)))) → wpX_countNewer P (nI T, nI C, nI D, nI L, nI K, st, ca, sn, sp, xr, xw, xh, xp, xl, se, bu, ho, ne, ke, vv, vs) (nI c) (sn t) := fun P hP => by
    refine xx_newer (by omega) hq e (by omega) e2 ?_
    rw [en, eN]
    exact hP
  have cY : ∀ P : Int32 → Prop, P (nI (za_b (yy_d yd c) (60 - n))) → wpY_countDecided P (nI T, nI C, nI D, nI L, nI K, st, ca, sn, sp, yr, se, yp, yw, bu, yh, yd, yv) (nI c) (sn t) 61 := fun P hP => by
    refine yy_cd (by omega) ?_
    rw [en, eD]
    exact hP
  have hA60 : za_b (yy_d yd c) (60 - n) ≤ 60 := by
    rw [← eD]
    exact zc_le _ 60
  by_cases hA : za_b (yy_d yd c) (60 - n) ≤ D
  · have m := za_mono (p := yy_d yd c) (s := 0) n (by omega)
    rw [Nat.zero_add] at m
    have m2 : za_b (yy_d yd c) (60 - n) ≤ za_b (yy_d yd c) 60 := m
    have emin : min (za_b (yy_d yd c) (60 - n)) (min (za_b (yy_d yd c) 60) (D + 1)) = za_b (yy_d yd c) (60 - n) := by omega
    rw [emin] at cX
    have eX : ∀ (xr' : Nat → Int32) (P : Int32 → Prop), P (yy_lv yd yv c (sn t) 60) → wpX_entryValue P (nI T, nI C, nI D, nI L, nI K, st, ca, sn, sp, xr', xw, xh, xp, xl, se, bu, ho, ne, ke, vv, vs) (nI c) (nI (za_b (yy_d yd c) (60 - n))) := fun xr' P hP => by
      rw [en] at hP
      by_cases hk : za_b (yy_d yd c) (60 - n) < min (za_b (yy_d yd c) 60) (D + 1)
      · refine xx_entY (by omega) hq e (by omega) e2 hk ?_
        rw [oo_valY (yv := yv) (vs := vs) hn hA hk h]
        exact hP
      · refine xx_entN (by omega) (by omega) e2 (by omega) ?_
        rw [oo_valN hn hA (by omega)] at hP
        exact hP
    have yR : ∀ post : Int32 → SY → Prop, post 1 (nI T, nI C, nI D, nI L, nI K, st, ca, sn, sp, upd yr (t * 8 + c) 1, upd se (t * 8 + c) (yy_lv yd yv c (sn t) 60), yp, yw, bu, yh, yd, yv) →
        wpY_countDecided (fun r_66 => (((r_66 ≤ nI D → (∃ n111 : Nat, wY_read_111 post (nI t) (nI c) (nI T) (nI C) (nI D) (nI L) (nI K) st ca sn sp yr se yp yw bu yh yd yv n111 0 1)) ∧ (¬ r_66 ≤ nI D → (post 3 (nI T, nI C, nI D, nI L, nI K, st, ca, sn, sp, yr, se, yp, yw, bu, yh, yd, yv)))))) (nI T, nI C, nI D, nI L, nI K, st, ca, sn, sp, yr, se, yp, yw, bu, yh, yd, yv) (nI c) (sn t) 61 := fun post hp =>
      cY _ (br_t (nI_le hA (by omega)) ⟨61, yy_rd_lp ht4 (by omega) hp 60 61 0 (by omega) (by omega)⟩)
    by_cases h0 : za_b (yy_d yd c) (60 - n) = 0
    · have R' := rr_read (xl' := xl) R ht hc h1 (fun _ _ => rfl) (fun i hi => ⟨Or.inl, fun z => z.elim id (fun y => absurd h0 (ov.mp y.2))⟩)
      refine ⟨1, _, _, rr_in (ca := ca) (se := upd se (t * 8 + c) (yy_lv yd yv c (sn t) 60)) (bu := bu) R', fun post hp => ?_, yR⟩
      unfold wX_read_92
      rw [nI_clamp (n := t) (by omega), zi_8, nI_clamp (n := t * 8 + c) (by omega)]
      refine And.intro vt (cX _ (br_t (nI_le hA (by omega)) (And.intro vt (And.intro vt (nm_e (eX _ _ (And.intro v2 (nm_e (br_t ?_ hp)))))))))
      rw [h0]
      decide
    · have R' := rr_read (xl' := upd xl t (xl t ||| ((1 : Int32) <<< (nI c &&& 31)))) R ht hc h1 (fun r h => pk_un h) (fun i hi => by
        rw [pk_us, zb_set _ (by omega) hi, Bool.or_eq_true, decide_eq_true_iff]
        exact ⟨fun z => z.elim Or.inl (fun y => Or.inr ⟨y, ov.mpr h0⟩), fun z => z.elim Or.inl (fun y => Or.inr y.1)⟩)
      refine ⟨1, _, _, rr_in (ca := ca) (se := upd se (t * 8 + c) (yy_lv yd yv c (sn t) 60)) (bu := bu) R', fun post hp => ?_, yR⟩
      unfold wX_read_92
      rw [nI_clamp (n := t) (by omega), zi_8, nI_clamp (n := t * 8 + c) (by omega)]
      exact And.intro vt (cX _ (br_t (nI_le hA (by omega)) (And.intro vt (And.intro vt (nm_e (eX _ _ (And.intro v2 (nm_e (br_f (nI_nle (by omega) (by omega)) (And.intro vt (And.intro vt (nm_e hp))))))))))))
  · have m := za_mono (p := yy_d yd c) (s := 0) n (by omega)
    rw [Nat.zero_add] at m
    have m2 : za_b (yy_d yd c) (60 - n) ≤ za_b (yy_d yd c) 60 := m
    refine ⟨3, _, _, rr_in (ca := ca) (se := se) (bu := bu) R, fun post hp => ?_, fun post hp => cY _ (br_f (nI_ge (by omega) (by omega)) hp)⟩
    unfold wX_read_92
    rw [nI_clamp (n := t) (by omega)]
    exact And.intro vt (cX _ (br_f (nI_ge (by omega) (by omega)) hp))
end
end
section
/-! ===== the calls: one outcome each ===== -/
section
variable {T C D L K : Nat} {st ca sn sp se bu xr xw xh xp xl ho ne ke vv vs yr yp yw yh yd yv : Nat → Int32}
theorem cc_begin (v1 : Int32) (R : rr_R T C D L K st sn sp xr xw xh xp xl ho ne ke vv vs yr yp yw yh yd yv) : oo_O T (fun p => wpX_begin p (nI T, nI C, nI D, nI L, nI K, st, ca, sn, sp, xr, xw, xh, xp, xl, se, bu, ho, ne, ke, vv, vs) v1) (fun p => wpY_begin p (nI T, nI C, nI D, nI L, nI K, st, ca, sn, sp, yr, se, yp, yw, bu, yh, yd, yv) v1) := by
  have g1 := R.1.1
  have g2 := R.1.2.1
  have g4 := R.1.2.2.2.1
  have g5 := R.1.2.2.2.2
  rcases gg_ix (n := T) (by omega) v1 with hv | ⟨t, ht, rfl⟩
  · refine ⟨8, _, _, rr_in (ca := ca) (se := se) (bu := bu) R, fun post hp => ?_, fun post hp => ?_⟩
    · show wpX_begin post (nI T, nI C, nI D, nI L, nI K, st, ca, sn, sp, xr, xw, xh, xp, xl, se, bu, ho, ne, ke, vv, vs) v1
      unfold wpX_begin
      exact xx_thN hv hp
    · show wpY_begin post (nI T, nI C, nI D, nI L, nI K, st, ca, sn, sp, yr, se, yp, yw, bu, yh, yd, yv) v1
      unfold wpY_begin
      exact yy_thN hv hp
  have ht4 : t < 4 := by omega
  have vt : vp_in (nI t) 4 := vp_in_nI ht4 (by decide)
  by_cases h1 : st t = 1
  · refine ⟨7, _, _, rr_in (ca := ca) (se := se) (bu := bu) R, fun post hp => ?_, fun post hp => ?_⟩
    · show wpX_begin post (nI T, nI C, nI D, nI L, nI K, st, ca, sn, sp, xr, xw, xh, xp, xl, se, bu, ho, ne, ke, vv, vs) (nI t)
      unfold wpX_begin
      rw [nI_clamp (n := t) (by omega)]
      exact xx_thY g1 ht (And.intro vt (br_t h1 hp))
    · show wpY_begin post (nI T, nI C, nI D, nI L, nI K, st, ca, sn, sp, yr, se, yp, yw, bu, yh, yd, yv) (nI t)
      unfold wpY_begin
      rw [nI_clamp (n := t) (by omega)]
      exact yy_thY g1 ht (And.intro vt (br_t h1 hp))
  by_cases hcm : zs_cm (st t)
  · refine ⟨7, _, _, rr_in (ca := ca) (se := se) (bu := bu) R, fun post hp => ?_, fun post hp => ?_⟩
    · show wpX_begin post (nI T, nI C, nI D, nI L, nI K, st, ca, sn, sp, xr, xw, xh, xp, xl, se, bu, ho, ne, ke, vv, vs) (nI t)
      unfold wpX_begin
      rw [nI_clamp (n := t) (by omega)]
      exact xx_thY g1 ht (And.intro vt (br_f h1 (xx_cmY ht4 hcm hp)))
    · show wpY_begin post (nI T, nI C, nI D, nI L, nI K, st, ca, sn, sp, yr, se, yp, yw, bu, yh, yd, yv) (nI t)
      unfold wpY_begin
      rw [nI_clamp (n := t) (by omega)]
      exact yy_thY g1 ht (And.intro vt (br_f h1 (yy_cmY ht4 hcm hp)))
  by_cases h8 : st t = 8 ∧ xl t = 0
  · refine ⟨2, _, _, rr_in (ca := ca) (se := se) (bu := bu) R, fun post hp => ?_, fun post hp => ?_⟩
    · show wpX_begin post (nI T, nI C, nI D, nI L, nI K, st, ca, sn, sp, xr, xw, xh, xp, xl, se, bu, ho, ne, ke, vv, vs) (nI t)
      unfold wpX_begin
      rw [nI_clamp (n := t) (by omega)]
      exact xx_thY g1 ht (And.intro vt (br_f h1 (xx_cmN ht4 hcm (And.intro vt (br_t h8.1 (And.intro vt (br_t h8.2 hp)))))))
    · show wpY_begin post (nI T, nI C, nI D, nI L, nI K, st, ca, sn, sp, yr, se, yp, yw, bu, yh, yd, yv) (nI t)
      unfold wpY_begin
      rw [nI_clamp (n := t) (by omega)]
      exact yy_thY g1 ht (And.intro vt (br_f h1 (yy_cmN ht4 hcm (And.intro vt (br_t h8.1 (oo_over R ht (fun _ z => absurd h8.2 z) (fun _ => br_t rfl hp)))))))
  · have eK : (nI K).toInt = (K : Int) := nI_toInt (by omega)
    have R' := rr_clr (s := 1) (sn' := upd sn t (nI K)) (sp' := upd sp t 0) R ht (Or.inl rfl) (fun r h => pk_un h) (fun r h => pk_un h) (by rw [pk_us, eK]; omega) (fun _ => pk_us)
    have jX : ∀ post : Int32 → SX → Prop, post 1 (nI T, nI C, nI D, nI L, nI K, upd st t 1, upd ca t 0, upd sn t (nI K), upd sp t 0, upd xr t 0, upd xw t 0, upd xh t 0, upd xp t 0, upd xl t 0, se, bu, xx_fr ho t C, ne, ke, vv, vs) → wX_begin_54 post (nI t) (nI T) (nI C) (nI D) (nI L) (nI K) st ca sn sp xr xw xh xp xl se bu ho ne ke vv vs := fun post hp => by
      unfold wX_begin_54
      rw [nI_clamp (n := t) (by omega)]
      exact xx_clear g2 ht4 (And.intro vt (nm_e (And.intro vt (nm_e (And.intro vt (nm_e (And.intro vt (nm_e hp))))))))
    have jY : ∀ post : Int32 → SY → Prop, post 1 (nI T, nI C, nI D, nI L, nI K, upd st t 1, upd ca t 0, upd sn t (nI K), upd sp t 0, yy_cl yr t C, se, yy_cl yp t C, yy_cl yw t C, bu, yy_cl yh t C, yd, yv) → wY_begin_53 post (nI t) (nI T) (nI C) (nI D) (nI L) (nI K) st ca sn sp yr se yp yw bu yh yd yv := fun post hp => by
      unfold wY_begin_53
      rw [nI_clamp (n := t) (by omega)]
      exact And.intro vt (nm_e (And.intro vt (nm_e (And.intro vt (nm_e (And.intro vt (nm_e (yy_clear g2 ht4 hp))))))))
    refine ⟨1, _, _, rr_in (ca := upd ca t 0) (se := se) (bu := bu) R', fun post hp => ?_, fun post hp => ?_⟩
    · show wpX_begin post (nI T, nI C, nI D, nI L, nI K, st, ca, sn, sp, xr, xw, xh, xp, xl, se, bu, ho, ne, ke, vv, vs) (nI t)
      unfold wpX_begin
      rw [nI_clamp (n := t) (by omega)]
      refine xx_thY g1 ht (And.intro vt (br_f h1 (xx_cmN ht4 hcm (And.intro vt (br_c (fun z8 => And.intro vt (br_f (fun z => h8 ⟨z8, z⟩) (jX post hp))) (fun _ => jX post hp))))))
    · show wpY_begin post (nI T, nI C, nI D, nI L, nI K, st, ca, sn, sp, yr, se, yp, yw, bu, yh, yd, yv) (nI t)
      unfold wpY_begin
      rw [nI_clamp (n := t) (by omega)]
      refine yy_thY g1 ht (And.intro vt (br_f h1 (yy_cmN ht4 hcm (And.intro vt (br_c (fun z8 => oo_over R ht (fun _ _ => br_f (by decide) (jY post hp)) (fun z => ?_)) (fun _ => jY post hp))))))
      exact absurd ⟨Or.inl (Or.inr (Or.inr (Or.inr z8))), fun y => h8 ⟨z8, y⟩⟩ z
theorem cc_read (v1 v2 : Int32) (R : rr_R T C D L K st sn sp xr xw xh xp xl ho ne ke vv vs yr yp yw yh yd yv) : oo_O T (fun p => wpX_read p (nI T, nI C, nI D, nI L, nI K, st, ca, sn, sp, xr, xw, xh, xp, xl, se, bu, ho, ne, ke, vv, vs) v1 v2) (fun p => wpY_read p (nI T, nI C, nI D, nI L, nI K, st, ca, sn, sp, yr, se, yp, yw, bu, yh, yd, yv) v1 v2) := by
  have g1 := R.1.1
  have g2 := R.1.2.1
  have g4 := R.1.2.2.2.1
  have g5 := R.1.2.2.2.2
  rcases gg_ix (n := T) (by omega) v1 with hv | ⟨t, ht, rfl⟩
  · refine ⟨8, _, _, rr_in (ca := ca) (se := se) (bu := bu) R, fun post hp => ?_, fun post hp => ?_⟩
    · show wpX_read post (nI T, nI C, nI D, nI L, nI K, st, ca, sn, sp, xr, xw, xh, xp, xl, se, bu, ho, ne, ke, vv, vs) v1 v2
      unfold wpX_read
      exact xx_thN hv hp
    · show wpY_read post (nI T, nI C, nI D, nI L, nI K, st, ca, sn, sp, yr, se, yp, yw, bu, yh, yd, yv) v1 v2
      unfold wpY_read
      exact yy_thN hv hp
  rcases gg_ix (n := C) g2 v2 with hv | ⟨c, hc, rfl⟩
  · refine ⟨8, _, _, rr_in (ca := ca) (se := se) (bu := bu) R, fun post hp => ?_, fun post hp => ?_⟩
    · show wpX_read post (nI T, nI C, nI D, nI L, nI K, st, ca, sn, sp, xr, xw, xh, xp, xl, se, bu, ho, ne, ke, vv, vs) (nI t) v2
      unfold wpX_read
      exact xx_thY g1 ht (xx_ceN hv hp)
    · show wpY_read post (nI T, nI C, nI D, nI L, nI K, st, ca, sn, sp, yr, se, yp, yw, bu, yh, yd, yv) (nI t) v2
      unfold wpY_read
      exact yy_thY g1 ht (yy_ceN hv hp)
  have ht4 : t < 4 := by omega
  have vt : vp_in (nI t) 4 := vp_in_nI ht4 (by decide)
  have v2 : vp_in (nI (t * 8 + c)) 32 := vp_in_nI (by omega) (by decide)
  obtain ⟨nu, hi, ⟨r1, r2, r3, r4⟩, S, l, o⟩ := R.2.1 t ht
  by_cases h1 : st t = 1
  · by_cases hb : bt (xr t) c = false ∧ bt (xw t) c = false
    · have eb : (xr t ||| xw t) &&& ((1 : Int32) <<< (nI c &&& 31)) = 0 := (zb_tst _ (by omega)).mpr (by rw [b_or, hb.1, hb.2]; rfl)
      have n1 := nu.1
      obtain ⟨n, hn, en⟩ := oo_nat (x := sn t) (by omega) (by omega)
      have e1 : sn t + 1 = nI (n + 1) := by rw [en, nI_1]
      -- the writers in the way, of both sides
      have uW : ∀ w, w < T → st w = 4 → (¬ sp w ≤ 0) ∧ (¬ sn t + 1 ≤ sp w ↔ ¬ sn t < sp w) := fun w hw w4 => by
        have np := (R.2.1 w hw).1.2.2 (Or.inl w4)
        obtain ⟨z, hz, ez⟩ := oo_nat (x := sp w) (by omega) (by omega)
        rw [ez, nI_toInt (by omega)] at np
        rw [e1, en, ez, nI_leI (by omega) (by omega), nI_ltI (by omega) (by omega)]
        exact ⟨nI_nle (by omega) (by omega), by omega⟩
      by_cases U : ∃ w, w < T ∧ yy_u t c 0 (sn t + 1) st sp yw w
      · refine ⟨2, _, _, rr_in (ca := ca) (se := se) (bu := bu) R, fun post hp => ?_, fun post hp => ?_⟩
        · show wpX_read post (nI T, nI C, nI D, nI L, nI K, st, ca, sn, sp, xr, xw, xh, xp, xl, se, bu, ho, ne, ke, vv, vs) (nI t) (nI c)
          unfold wpX_read
          rw [nI_clamp (n := t) (by omega)]
          refine xx_thY g1 ht (xx_ceY g2 hc (And.intro vt (br_t h1 (nm_e (And.intro vt (And.intro vt (br_t eb (oo_uwX R ht hc (fun z => ?_) (fun w hw et w4 e => ?_)))))))))
          · obtain ⟨w, hw, u⟩ := U
            have u := (oo_u R hc hw).mp u
            exact (z w hw u.1 u.2.1 u.2.2.1).elim
          · have vw : vp_in (nI w) 4 := vp_in_nI (by omega) (by decide)
            obtain ⟨w', hw', u⟩ := U
            have u := (oo_u R hc hw').mp u
            have ew : w' = w := (nI_eq (by omega) (by omega)).mp (u.2.2.1.symm.trans e)
            rw [ew] at u
            rw [nI_clamp (n := w) (by omega)]
            exact And.intro vw (And.intro vt (br_f ((uW w hw w4).2.mp u.2.2.2.2) hp))
        · show wpY_read post (nI T, nI C, nI D, nI L, nI K, st, ca, sn, sp, yr, se, yp, yw, bu, yh, yd, yv) (nI t) (nI c)
          unfold wpY_read
          rw [nI_clamp (n := t) (by omega), zi_8, nI_clamp (n := t * 8 + c) (by omega)]
          exact yy_thY g1 ht (yy_ceY g2 hc (And.intro vt (br_t h1 (And.intro v2 (br_t ((r3 c hc).mpr hb.2) (And.intro v2 (br_t ((r1 c hc).mpr hb.1) (And.intro vt (yy_uwT g1 ht4 (by omega) U (br_f (by decide) hp))))))))))
      · obtain ⟨r, u, v, I, hx, hy⟩ := oo_read2 (ca := ca) (se := se) (bu := bu) R ht hc h1
        refine ⟨r, u, v, I, fun post hp => ?_, fun post hp => ?_⟩
        · show wpX_read post (nI T, nI C, nI D, nI L, nI K, st, ca, sn, sp, xr, xw, xh, xp, xl, se, bu, ho, ne, ke, vv, vs) (nI t) (nI c)
          unfold wpX_read
          rw [nI_clamp (n := t) (by omega)]
          have j := hx post hp
          refine xx_thY g1 ht (xx_ceY g2 hc (And.intro vt (br_t h1 (nm_e (And.intro vt (And.intro vt (br_t eb (oo_uwX R ht hc (fun _ => j) (fun w hw et w4 e => ?_)))))))))
          have vw : vp_in (nI w) 4 := vp_in_nI (by omega) (by decide)
          rw [nI_clamp (n := w) (by omega)]
          refine And.intro vw (And.intro vt (br_c (fun _ => j) (fun z => ?_)))
          exact absurd ⟨w, hw, (oo_u R hc hw).mpr ⟨et, w4, e, (uW w hw w4).1, (uW w hw w4).2.mpr z⟩⟩ U
        · show wpY_read post (nI T, nI C, nI D, nI L, nI K, st, ca, sn, sp, yr, se, yp, yw, bu, yh, yd, yv) (nI t) (nI c)
          unfold wpY_read
          rw [nI_clamp (n := t) (by omega), zi_8, nI_clamp (n := t * 8 + c) (by omega)]
          exact yy_thY g1 ht (yy_ceY g2 hc (And.intro vt (br_t h1 (And.intro v2 (br_t ((r3 c hc).mpr hb.2) (And.intro v2 (br_t ((r1 c hc).mpr hb.1) (And.intro vt (yy_uwF g1 ht4 (by omega) U (br_t rfl (And.intro vt (hy post hp))))))))))))
    · refine ⟨1, _, _, rr_in (ca := ca) (se := se) (bu := bu) R, fun post hp => ?_, fun post hp => ?_⟩
      · show wpX_read post (nI T, nI C, nI D, nI L, nI K, st, ca, sn, sp, xr, xw, xh, xp, xl, se, bu, ho, ne, ke, vv, vs) (nI t) (nI c)
        unfold wpX_read
        rw [nI_clamp (n := t) (by omega)]
        refine xx_thY g1 ht (xx_ceY g2 hc (And.intro vt (br_t h1 (nm_e (And.intro vt (And.intro vt (br_f (fun z => hb ?_) hp)))))))
        have k := (zb_tst _ (by omega)).mp z
        rw [b_or, Bool.or_eq_false_iff] at k
        exact k
      · show wpY_read post (nI T, nI C, nI D, nI L, nI K, st, ca, sn, sp, yr, se, yp, yw, bu, yh, yd, yv) (nI t) (nI c)
        unfold wpY_read
        rw [nI_clamp (n := t) (by omega), zi_8, nI_clamp (n := t * 8 + c) (by omega)]
        exact yy_thY g1 ht (yy_ceY g2 hc (And.intro vt (br_t h1 (And.intro v2 (br_c (fun z1 => And.intro v2 (br_f (fun z2 => hb ⟨(r1 c hc).mp z2, (r3 c hc).mp z1⟩) hp)) (fun _ => hp))))))
  · refine ⟨7, _, _, rr_in (ca := ca) (se := se) (bu := bu) R, fun post hp => ?_, fun post hp => ?_⟩
    · show wpX_read post (nI T, nI C, nI D, nI L, nI K, st, ca, sn, sp, xr, xw, xh, xp, xl, se, bu, ho, ne, ke, vv, vs) (nI t) (nI c)
      unfold wpX_read
      rw [nI_clamp (n := t) (by omega)]
      exact xx_thY g1 ht (xx_ceY g2 hc (And.intro vt (br_f h1 hp)))
    · show wpY_read post (nI T, nI C, nI D, nI L, nI K, st, ca, sn, sp, yr, se, yp, yw, bu, yh, yd, yv) (nI t) (nI c)
      unfold wpY_read
      rw [nI_clamp (n := t) (by omega)]
      exact yy_thY g1 ht (yy_ceY g2 hc (And.intro vt (br_f h1 hp)))
theorem cc_write (v1 v2 v3 : Int32) (R : rr_R T C D L K st sn sp xr xw xh xp xl ho ne ke vv vs yr yp yw yh yd yv) : oo_O T (fun p => wpX_write p (nI T, nI C, nI D, nI L, nI K, st, ca, sn, sp, xr, xw, xh, xp, xl, se, bu, ho, ne, ke, vv, vs) v1 v2 v3) (fun p => wpY_write p (nI T, nI C, nI D, nI L, nI K, st, ca, sn, sp, yr, se, yp, yw, bu, yh, yd, yv) v1 v2 v3) := by
  have g1 := R.1.1
  have g2 := R.1.2.1
  rcases gg_ix (n := T) (by omega) v1 with hv | ⟨t, ht, rfl⟩
  · refine ⟨8, _, _, rr_in (ca := ca) (se := se) (bu := bu) R, fun post hp => ?_, fun post hp => ?_⟩
    · show wpX_write post (nI T, nI C, nI D, nI L, nI K, st, ca, sn, sp, xr, xw, xh, xp, xl, se, bu, ho, ne, ke, vv, vs) v1 v2 v3
      unfold wpX_write
      exact xx_thN hv hp
    · show wpY_write post (nI T, nI C, nI D, nI L, nI K, st, ca, sn, sp, yr, se, yp, yw, bu, yh, yd, yv) v1 v2 v3
      unfold wpY_write
      exact yy_thN hv hp
  rcases gg_ix (n := C) g2 v2 with hv | ⟨c, hc, rfl⟩
  · refine ⟨8, _, _, rr_in (ca := ca) (se := se) (bu := bu) R, fun post hp => ?_, fun post hp => ?_⟩
    · show wpX_write post (nI T, nI C, nI D, nI L, nI K, st, ca, sn, sp, xr, xw, xh, xp, xl, se, bu, ho, ne, ke, vv, vs) (nI t) v2 v3
      unfold wpX_write
      exact xx_thY g1 ht (xx_ceN hv hp)
    · show wpY_write post (nI T, nI C, nI D, nI L, nI K, st, ca, sn, sp, yr, se, yp, yw, bu, yh, yd, yv) (nI t) v2 v3
      unfold wpY_write
      exact yy_thY g1 ht (yy_ceN hv hp)
  have ht4 : t < 4 := by omega
  have vt : vp_in (nI t) 4 := vp_in_nI ht4 (by decide)
  have v2 : vp_in (nI (t * 8 + c)) 32 := vp_in_nI (by omega) (by decide)
  obtain ⟨nu, hi, ⟨r1, r2, r3, r4⟩, S, l, o⟩ := R.2.1 t ht
  by_cases h1 : st t = 1
  · have jY : ∀ post : Int32 → SY → Prop, post 1 (nI T, nI C, nI D, nI L, nI K, st, ca, sn, sp, yr, se, yp, upd yw (t * 8 + c) 1, upd bu (t * 8 + c) v3, yh, yd, yv) → wY_write_57 post (nI t) (nI c) v3 (nI T) (nI C) (nI D) (nI L) (nI K) st ca sn sp yr se yp yw bu yh yd yv := fun post hp => by
      unfold wY_write_57
      rw [zi_8, nI_clamp (n := t * 8 + c) (by omega)]
      exact And.intro v2 (nm_r (by rw [zi_n1]) (And.intro v2 (nm_e hp)))
    have jX : ∀ (xw' : Nat → Int32) (post : Int32 → SX → Prop), post 1 (nI T, nI C, nI D, nI L, nI K, st, ca, sn, sp, xr, xw', xh, xp, xl, se, upd bu (t * 8 + c) v3, ho, ne, ke, vv, vs) → wX_write_80 post (nI t) (nI c) v3 (nI T) (nI C) (nI D) (nI L) (nI K) st ca sn sp xr xw' xh xp xl se bu ho ne ke vv vs := fun xw' post hp => by
      unfold wX_write_80
      rw [zi_8, nI_clamp (n := t * 8 + c) (by omega)]
      exact And.intro v2 (nm_e hp)
    cases hb : bt (xw t) c with
    | true =>
      have R' := rr_write (xw' := xw) R ht hc h1 (fun _ _ => rfl) (fun i hi => by
        by_cases e : i = c
        · rw [e, hb]; rfl
        · rw [decide_eq_false e, Bool.or_false])
      refine ⟨1, _, _, rr_in (ca := ca) (se := se) (bu := upd bu (t * 8 + c) v3) R', fun post hp => ?_, fun post hp => ?_⟩
      · show wpX_write post (nI T, nI C, nI D, nI L, nI K, st, ca, sn, sp, xr, xw, xh, xp, xl, se, bu, ho, ne, ke, vv, vs) (nI t) (nI c) v3
        unfold wpX_write
        rw [nI_clamp (n := t) (by omega)]
        exact xx_thY g1 ht (xx_ceY g2 hc (And.intro vt (br_t h1 (nm_e (And.intro vt (br_f (fun z => Bool.false_ne_true (((zb_tst _ (by omega)).mp z).symm.trans hb)) (jX xw post hp)))))))
      · show wpY_write post (nI T, nI C, nI D, nI L, nI K, st, ca, sn, sp, yr, se, yp, yw, bu, yh, yd, yv) (nI t) (nI c) v3
        unfold wpY_write
        rw [nI_clamp (n := t) (by omega), zi_8, nI_clamp (n := t * 8 + c) (by omega)]
        exact yy_thY g1 ht (yy_ceY g2 hc (And.intro vt (br_t h1 (And.intro v2 (br_f ((oo_b r3 hc).mpr hb) (jY post hp))))))
    | false =>
      have ec := oo_cnt g2 r3 (fun i a b => (hi i a b).2.1)
      have le := zc_le (yy_b yw t) C
      by_cases h4 : zc_n (yy_b yw t) C < 4
      · have R' := rr_write (xw' := upd xw t (xw t ||| ((1 : Int32) <<< (nI c &&& 31)))) R ht hc h1 (fun r h => pk_un h) (fun i hi => by rw [pk_us]; exact zb_set _ (by omega) hi)
        refine ⟨1, _, _, rr_in (ca := ca) (se := se) (bu := upd bu (t * 8 + c) v3) R', fun post hp => ?_, fun post hp => ?_⟩
        · show wpX_write post (nI T, nI C, nI D, nI L, nI K, st, ca, sn, sp, xr, xw, xh, xp, xl, se, bu, ho, ne, ke, vv, vs) (nI t) (nI c) v3
          unfold wpX_write
          rw [nI_clamp (n := t) (by omega)]
          exact xx_thY g1 ht (xx_ceY g2 hc (And.intro vt (br_t h1 (nm_e (And.intro vt (br_t ((zb_tst _ (by omega)).mpr hb) (And.intro vt (xx_bits (br_t (by rw [ec]; exact nI_lt (b := 4) h4 (by decide)) (And.intro vt (And.intro vt (nm_e (jX _ post hp))))))))))))) 
        · show wpY_write post (nI T, nI C, nI D, nI L, nI K, st, ca, sn, sp, yr, se, yp, yw, bu, yh, yd, yv) (nI t) (nI c) v3
          unfold wpY_write
          rw [nI_clamp (n := t) (by omega), zi_8, nI_clamp (n := t * 8 + c) (by omega)]
          exact yy_thY g1 ht (yy_ceY g2 hc (And.intro vt (br_t h1 (And.intro v2 (br_t ((r3 c hc).mpr hb) (yy_cw g2 ht4 (br_t (nI_lt (b := 4) h4 (by decide)) (jY post hp))))))))
      · refine ⟨5, _, _, rr_in (ca := ca) (se := se) (bu := bu) R, fun post hp => ?_, fun post hp => ?_⟩
        · show wpX_write post (nI T, nI C, nI D, nI L, nI K, st, ca, sn, sp, xr, xw, xh, xp, xl, se, bu, ho, ne, ke, vv, vs) (nI t) (nI c) v3
          unfold wpX_write
          rw [nI_clamp (n := t) (by omega)]
          exact xx_thY g1 ht (xx_ceY g2 hc (And.intro vt (br_t h1 (nm_e (And.intro vt (br_t ((zb_tst _ (by omega)).mpr hb) (And.intro vt (xx_bits (br_f (by rw [ec]; exact nI_nlt (b := 4) (by omega) (by omega)) hp)))))))))
        · show wpY_write post (nI T, nI C, nI D, nI L, nI K, st, ca, sn, sp, yr, se, yp, yw, bu, yh, yd, yv) (nI t) (nI c) v3
          unfold wpY_write
          rw [nI_clamp (n := t) (by omega), zi_8, nI_clamp (n := t * 8 + c) (by omega)]
          exact yy_thY g1 ht (yy_ceY g2 hc (And.intro vt (br_t h1 (And.intro v2 (br_t ((r3 c hc).mpr hb) (yy_cw g2 ht4 (br_f (nI_nlt (b := 4) (by omega) (by omega)) hp)))))))
  · refine ⟨7, _, _, rr_in (ca := ca) (se := se) (bu := bu) R, fun post hp => ?_, fun post hp => ?_⟩
    · show wpX_write post (nI T, nI C, nI D, nI L, nI K, st, ca, sn, sp, xr, xw, xh, xp, xl, se, bu, ho, ne, ke, vv, vs) (nI t) (nI c) v3
      unfold wpX_write
      rw [nI_clamp (n := t) (by omega)]
      exact xx_thY g1 ht (xx_ceY g2 hc (And.intro vt (br_f h1 hp)))
    · show wpY_write post (nI T, nI C, nI D, nI L, nI K, st, ca, sn, sp, yr, se, yp, yw, bu, yh, yd, yv) (nI t) (nI c) v3
      unfold wpY_write
      rw [nI_clamp (n := t) (by omega)]
      exact yy_thY g1 ht (yy_ceY g2 hc (And.intro vt (br_f h1 hp)))
end
end
section
/-! ===== further calls: extend, commit, step, finish, drive, abort, retry ===== -/
section
variable {T C D L K : Nat} {st ca sn sp se bu xr xw xh xp xl ho ne ke vv vs yr yp yw yh yd yv : Nat → Int32}
/-- t reads c, and another thread is about to overwrite it -/
def cc_P (T t : Nat) (st sn sp xr yw : Nat → Int32) (c : Nat) : Prop := bt (xr t) c = true ∧ ∃ w, w < T ∧ yy_u t c (sn t) 61 st sp yw w
theorem cc_exX {post : Int32 → SX → Prop} {t : Nat} (R : rr_R T C D L K st sn sp xr xw xh xp xl ho ne ke vv vs yr yp yw yh yd yv) (ht : t < T) :
    ∀ d n i, i + d = C → d < n → ((∃ c, c < C ∧ cc_P T t st sn sp xr yw c) → post 2 (nI T, nI C, nI D, nI L, nI K, st, ca, sn, sp, xr, xw, xh, xp, xl, se, bu, ho, ne, ke, vv, vs)) → ((∀ c, i ≤ c → c < C → ¬ cc_P T t st sn sp xr yw c) → post 1 (nI T, nI C, nI D, nI L, nI K, st, ca, upd sn t (nI K), sp, xr, xw, xh, xp, xl, se, bu, ho, ne, ke, vv, vs)) →
      wX_extend_37 post (nI t) (nI T) (nI C) (nI D) (nI L) (nI K) st ca sn sp xr xw xh xp xl se bu ho ne ke vv vs n (nI i) := by
  have g1 := R.1.1
  have g2 := R.1.2.1
  have g4 := R.1.2.2.2.1
  have g5 := R.1.2.2.2.2
  have ht4 : t < 4 := by omega
  have vt : vp_in (nI t) 4 := vp_in_nI ht4 (by decide)
  intro d
  induction d with
  | zero =>
    intro n i hi hn h1 h0
    obtain ⟨n, rfl⟩ : ∃ m, n = m + 1 := ⟨n - 1, by omega⟩
    refine br_t (nI_le (by omega) (by omega)) ?_
    rw [nI_clamp (n := t) (by omega)]
    exact And.intro vt (nm_e (h0 (fun c a b => by omega)))
  | succ d ih =>
    intro n i hi hn h1 h0
    obtain ⟨n, rfl⟩ : ∃ m, n = m + 1 := ⟨n - 1, by omega⟩
    have hiC : i < C := by omega
    have k : ¬ cc_P T t st sn sp xr yw i → wX_extend_37 post (nI t) (nI T) (nI C) (nI D) (nI L) (nI K) st ca sn sp xr xw xh xp xl se bu ho ne ke vv vs n (nI (i + 1)) := fun hm =>
      ih n (i + 1) (by omega) (by omega) h1 (fun z => h0 (fun u a b => by
        by_cases e : u = i
        · rw [e]; exact hm
        · exact z u (by omega) b))
    refine br_f (nI_ge (a := i) (b := C) (by omega) (by omega)) ?_
    rw [nI_clamp (n := t) (by omega)]
    refine And.intro vt ?_
    cases hr : bt (xr t) i with
    | false => exact br_t ((zb_tst _ (by omega)).mpr hr) (nm_r (nI_1 i) (k (fun z => Bool.false_ne_true (hr.symm.trans z.1))))
    | true =>
      refine br_f (fun z => Bool.false_ne_true (((zb_tst _ (by omega)).mp z).symm.trans hr)) ?_
      by_cases U : ∃ w, w < T ∧ yy_u t i (sn t) 61 st sp yw w
      · have h2 := h1 ⟨i, hiC, hr, U⟩
        refine oo_uwX R ht hiC (fun z => ?_) (fun w hw et w4 e => ?_)
        · obtain ⟨w, hw, u⟩ := U
          have u := (oo_u R hiC hw).mp u
          exact (z w hw u.1 u.2.1 u.2.2.1).elim
        · have vw : vp_in (nI w) 4 := vp_in_nI (by omega) (by decide)
          obtain ⟨w', hw', u⟩ := U
          have u := (oo_u R hiC hw').mp u
          have ew : w' = w := (nI_eq (by omega) (by omega)).mp (u.2.2.1.symm.trans e)
          rw [ew] at u
          rw [nI_clamp (n := w) (by omega)]
          exact And.intro vw (And.intro vt (br_f u.2.2.2.1 h2))
      · have j := nm_r (P := fun x2_57 => wX_extend_37 post (nI t) (nI T) (nI C) (nI D) (nI L) (nI K) st ca sn sp xr xw xh xp xl se bu ho ne ke vv vs n x2_57) (nI_1 i) (k (fun z => U z.2))
        refine oo_uwX R ht hiC (fun _ => j) (fun w hw et w4 e => ?_)
        have vw : vp_in (nI w) 4 := vp_in_nI (by omega) (by decide)
        rw [nI_clamp (n := w) (by omega)]
        refine And.intro vw (And.intro vt (br_c (fun _ => j) (fun z => ?_)))
        have np := (R.2.1 w hw).1.2.2 (Or.inl w4)
        obtain ⟨y, hy, ey⟩ := oo_nat (x := sp w) (by omega) (by omega)
        refine absurd ⟨w, hw, (oo_u R hiC hw).mpr ⟨et, w4, e, z, ?_⟩⟩ U
        rw [ey]
        exact nI_ge (b := 61) (by omega) (by decide)
theorem cc_ex74 {post : Int32 → SY → Prop} {t : Nat} (R : rr_R T C D L K st sn sp xr xw xh xp xl ho ne ke vv vs yr yp yw yh yd yv) (ht : t < T) :
    ∀ d n i, i + d = C → d < n → ((∃ c, c < C ∧ cc_P T t st sn sp xr yw c) → post 2 (nI T, nI C, nI D, nI L, nI K, st, ca, sn, sp, yr, se, yp, yw, bu, yh, yd, yv)) → ((∀ c, i ≤ c → c < C → ¬ cc_P T t st sn sp xr yw c) → post 1 (nI T, nI C, nI D, nI L, nI K, st, ca, upd sn t (nI K), sp, yr, se, yp, yw, bu, yh, yd, yv)) →
      wY_extend_74 post (nI t) (nI T) (nI C) (nI D) (nI L) (nI K) st ca sn sp yr se yp yw bu yh yd yv n (nI i) := by
  have g1 := R.1.1
  have g2 := R.1.2.1
  have ht4 : t < 4 := by omega
  have vt : vp_in (nI t) 4 := vp_in_nI ht4 (by decide)
  have r1 := (R.2.1 t ht).2.2.1.1
  intro d
  induction d with
  | zero =>
    intro n i hi hn h1 h0
    obtain ⟨n, rfl⟩ : ∃ m, n = m + 1 := ⟨n - 1, by omega⟩
    refine br_t (nI_le (by omega) (by omega)) ?_
    rw [nI_clamp (n := t) (by omega)]
    exact And.intro vt (nm_e (h0 (fun c a b => by omega)))
  | succ d ih =>
    intro n i hi hn h1 h0
    obtain ⟨n, rfl⟩ : ∃ m, n = m + 1 := ⟨n - 1, by omega⟩
    have hiC : i < C := by omega
    have v2 : vp_in (nI (t * 8 + i)) 32 := vp_in_nI (by omega) (by decide)
    have k : ¬ cc_P T t st sn sp xr yw i → wY_extend_74 post (nI t) (nI T) (nI C) (nI D) (nI L) (nI K) st ca sn sp yr se yp yw bu yh yd yv n (nI (i + 1)) := fun hm =>
      ih n (i + 1) (by omega) (by omega) h1 (fun z => h0 (fun u a b => by
        by_cases e : u = i
        · rw [e]; exact hm
        · exact z u (by omega) b))
    refine br_f (nI_ge (a := i) (b := C) (by omega) (by omega)) ?_
    rw [zi_8, nI_clamp (n := t * 8 + i) (by omega), nI_clamp (n := t) (by omega)]
    refine And.intro v2 ?_
    cases hr : bt (xr t) i with
    | false => exact br_t ((r1 i hiC).mpr hr) (nm_r (nI_1 i) (k (fun z => Bool.false_ne_true (hr.symm.trans z.1))))
    | true =>
      refine br_f ((oo_b r1 hiC).mpr hr) (And.intro vt ?_)
      by_cases U : ∃ w, w < T ∧ yy_u t i (sn t) 61 st sp yw w
      · exact yy_uwT g1 ht4 (by omega) U (br_f (by decide) (h1 ⟨i, hiC, hr, U⟩))
      · exact yy_uwF g1 ht4 (by omega) U (br_t rfl (nm_r (nI_1 i) (k (fun z => U z.2))))
theorem cc_ex26 {post : Int32 → SY → Prop} {t : Nat} (hC : C ≤ 8) (ht : t < 4) :
    ∀ d n i, i + d = C → d < n → (yy_ot C t yr yd sn 61 → post 3 (nI T, nI C, nI D, nI L, nI K, st, ca, sn, sp, yr, se, yp, yw, bu, yh, yd, yv)) → ((∀ c, i ≤ c → c < C → ¬ (¬ yr (t * 8 + c) = 0 ∧ yy_some yd c (sn t) 61)) → ∃ n74 : Nat, wY_extend_74 post (nI t) (nI T) (nI C) (nI D) (nI L) (nI K) st ca sn sp yr se yp yw bu yh yd yv n74 0) →
      wY_extend_26 post (nI t) (nI T) (nI C) (nI D) (nI L) (nI K) st ca sn sp yr se yp yw bu yh yd yv n (nI i) := by
  have vt : vp_in (nI t) 4 := vp_in_nI ht (by decide)
  intro d
  induction d with
  | zero =>
    intro n i hi hn h1 h0
    obtain ⟨n, rfl⟩ : ∃ m, n = m + 1 := ⟨n - 1, by omega⟩
    exact br_t (nI_le (by omega) (by omega)) (h0 (fun c a b => by omega))
  | succ d ih =>
    intro n i hi hn h1 h0
    obtain ⟨n, rfl⟩ : ∃ m, n = m + 1 := ⟨n - 1, by omega⟩
    have hiC : i < C := by omega
    have k : ¬ (¬ yr (t * 8 + i) = 0 ∧ yy_some yd i (sn t) 61) → wY_extend_26 post (nI t) (nI T) (nI C) (nI D) (nI L) (nI K) st ca sn sp yr se yp yw bu yh yd yv n (nI (i + 1)) := fun hm =>
      ih n (i + 1) (by omega) (by omega) h1 (fun z => h0 (fun u a b => by
        by_cases e : u = i
        · rw [e]; exact hm
        · exact z u (by omega) b))
    refine br_f (nI_ge (a := i) (b := C) (by omega) (by omega)) ?_
    rw [zi_8, nI_clamp (n := t * 8 + i) (by omega), nI_clamp (n := t) (by omega)]
    refine And.intro (vp_in_nI (by omega) (by decide)) (br_c (fun z => nm_r (nI_1 i) (k (fun y => y.1 z))) (fun z => And.intro vt ?_))
    by_cases h2 : yy_some yd i (sn t) 61
    · exact yy_cdS (by omega) h2 (h1 ⟨i, hiC, z, h2⟩)
    · exact yy_cdN (by omega) h2 (nm_r (nI_1 i) (k (fun y => h2 y.2)))
theorem cc_extend (v1 : Int32) (R : rr_R T C D L K st sn sp xr xw xh xp xl ho ne ke vv vs yr yp yw yh yd yv) : oo_O T (fun p => wpX_extend p (nI T, nI C, nI D, nI L, nI K, st, ca, sn, sp, xr, xw, xh, xp, xl, se, bu, ho, ne, ke, vv, vs) v1) (fun p => wpY_extend p (nI T, nI C, nI D, nI L, nI K, st, ca, sn, sp, yr, se, yp, yw, bu, yh, yd, yv) v1) := by
  have g1 := R.1.1
  have g2 := R.1.2.1
  rcases gg_ix (n := T) (by omega) v1 with hv | ⟨t, ht, rfl⟩
  · refine ⟨8, _, _, rr_in (ca := ca) (se := se) (bu := bu) R, fun post hp => ?_, fun post hp => ?_⟩
    · show wpX_extend post (nI T, nI C, nI D, nI L, nI K, st, ca, sn, sp, xr, xw, xh, xp, xl, se, bu, ho, ne, ke, vv, vs) v1
      unfold wpX_extend
      exact xx_thN hv hp
    · show wpY_extend post (nI T, nI C, nI D, nI L, nI K, st, ca, sn, sp, yr, se, yp, yw, bu, yh, yd, yv) v1
      unfold wpY_extend
      exact yy_thN hv hp
  have ht4 : t < 4 := by omega
  have vt : vp_in (nI t) 4 := vp_in_nI ht4 (by decide)
  have pX : ∀ post : Int32 → SX → Prop, st t = 1 → (vp_in (nI t) 4 ∧ ((xl t = 0 → (∃ n37 : Nat, wX_extend_37 post (nI t) (nI T) (nI C) (nI D) (nI L) (nI K) st ca sn sp xr xw xh xp xl se bu ho ne ke vv vs n37 0)) ∧ (¬ xl t = 0 → (post 3 (nI T, nI C, nI D, nI L, nI K, st, ca, sn, sp, xr, xw, xh, xp, xl, se, bu, ho, ne, ke, vv, vs))))) → wpX_extend post (nI T, nI C, nI D, nI L, nI K, st, ca, sn, sp, xr, xw, xh, xp, xl, se, bu, ho, ne, ke, vv, vs) (nI t) := fun post h1 h => by
    unfold wpX_extend
    rw [nI_clamp (n := t) (by omega)]
    exact xx_thY g1 ht (And.intro vt (br_t h1 h))
  have pY : ∀ post : Int32 → SY → Prop, st t = 1 → (∃ n26 : Nat, wY_extend_26 post (nI t) (nI T) (nI C) (nI D) (nI L) (nI K) st ca sn sp yr se yp yw bu yh yd yv n26 0) → wpY_extend post (nI T, nI C, nI D, nI L, nI K, st, ca, sn, sp, yr, se, yp, yw, bu, yh, yd, yv) (nI t) := fun post h1 h => by
    unfold wpY_extend
    rw [nI_clamp (n := t) (by omega)]
    exact yy_thY g1 ht (And.intro vt (br_t h1 h))
  by_cases h1 : st t = 1
  · have n4 : ¬ st t = 4 := by rw [h1]; decide
    have eo := oo_ot (x2 := 61) R ht (Or.inl (Or.inl h1)) (fun c => oo_some61 n4)
    by_cases hl : xl t = 0
    · have no : ¬ yy_ot C t yr yd sn 61 := fun z => eo.mp z hl
      have y26 : ∀ post : Int32 → SY → Prop, (∃ n74 : Nat, wY_extend_74 post (nI t) (nI T) (nI C) (nI D) (nI L) (nI K) st ca sn sp yr se yp yw bu yh yd yv n74 0) → wpY_extend post (nI T, nI C, nI D, nI L, nI K, st, ca, sn, sp, yr, se, yp, yw, bu, yh, yd, yv) (nI t) := fun post h =>
        pY post h1 ⟨C + 1, cc_ex26 g2 ht4 C (C + 1) 0 (by omega) (by omega) (fun z => absurd z no) (fun _ => h)⟩
      by_cases hP : ∃ c, c < C ∧ cc_P T t st sn sp xr yw c
      · refine ⟨2, _, _, rr_in (ca := ca) (se := se) (bu := bu) R, fun post hp => ?_, fun post hp => ?_⟩
        · exact pX post h1 (And.intro vt (br_t hl ⟨C + 1, cc_exX R ht C (C + 1) 0 (by omega) (by omega) (fun _ => hp) (fun z => absurd hP (fun ⟨c, a, b⟩ => z c (by omega) a b))⟩))
        · exact y26 post ⟨C + 1, cc_ex74 R ht C (C + 1) 0 (by omega) (by omega) (fun _ => hp) (fun z => absurd hP (fun ⟨c, a, b⟩ => z c (by omega) a b))⟩
      · refine ⟨1, _, _, rr_in (ca := ca) (se := se) (bu := bu) (rr_ext R ht h1 hl), fun post hp => ?_, fun post hp => ?_⟩
        · exact pX post h1 (And.intro vt (br_t hl ⟨C + 1, cc_exX R ht C (C + 1) 0 (by omega) (by omega) (fun z => absurd z hP) (fun _ => hp)⟩))
        · exact y26 post ⟨C + 1, cc_ex74 R ht C (C + 1) 0 (by omega) (by omega) (fun z => absurd z hP) (fun _ => hp)⟩
    · refine ⟨3, _, _, rr_in (ca := ca) (se := se) (bu := bu) R, fun post hp => ?_, fun post hp => ?_⟩
      · exact pX post h1 (And.intro vt (br_f hl hp))
      · exact pY post h1 ⟨C + 1, cc_ex26 g2 ht4 C (C + 1) 0 (by omega) (by omega) (fun _ => hp) (fun z => absurd (eo.mpr hl) (fun ⟨c, a, b⟩ => z c (by omega) a b))⟩
  · refine ⟨7, _, _, rr_in (ca := ca) (se := se) (bu := bu) R, fun post hp => ?_, fun post hp => ?_⟩
    · show wpX_extend post (nI T, nI C, nI D, nI L, nI K, st, ca, sn, sp, xr, xw, xh, xp, xl, se, bu, ho, ne, ke, vv, vs) (nI t)
      unfold wpX_extend
      rw [nI_clamp (n := t) (by omega)]
      exact xx_thY g1 ht (And.intro vt (br_f h1 hp))
    · show wpY_extend post (nI T, nI C, nI D, nI L, nI K, st, ca, sn, sp, yr, se, yp, yw, bu, yh, yd, yv) (nI t)
      unfold wpY_extend
      rw [nI_clamp (n := t) (by omega)]
      exact yy_thY g1 ht (And.intro vt (br_f h1 hp))
theorem cc_commit (v1 : Int32) (R : rr_R T C D L K st sn sp xr xw xh xp xl ho ne ke vv vs yr yp yw yh yd yv) : oo_O T (fun p => wpX_commit p (nI T, nI C, nI D, nI L, nI K, st, ca, sn, sp, xr, xw, xh, xp, xl, se, bu, ho, ne, ke, vv, vs) v1) (fun p => wpY_commit p (nI T, nI C, nI D, nI L, nI K, st, ca, sn, sp, yr, se, yp, yw, bu, yh, yd, yv) v1) := by
  have g1 := R.1.1
  have g2 := R.1.2.1
  rcases gg_ix (n := T) (by omega) v1 with hv | ⟨t, ht, rfl⟩
  · refine ⟨8, _, _, rr_in (ca := ca) (se := se) (bu := bu) R, fun post hp => ?_, fun post hp => ?_⟩
    · show wpX_commit post (nI T, nI C, nI D, nI L, nI K, st, ca, sn, sp, xr, xw, xh, xp, xl, se, bu, ho, ne, ke, vv, vs) v1
      unfold wpX_commit
      exact xx_thN hv hp
    · show wpY_commit post (nI T, nI C, nI D, nI L, nI K, st, ca, sn, sp, yr, se, yp, yw, bu, yh, yd, yv) v1
      unfold wpY_commit
      exact yy_thN hv hp
  have ht4 : t < 4 := by omega
  have vt : vp_in (nI t) 4 := vp_in_nI ht4 (by decide)
  obtain ⟨nu, hi, ⟨r1, r2, r3, r4⟩, S, l, o⟩ := R.2.1 t ht
  have ez := oo_cz r3 (fun i a b => (hi i a b).2.1)
  have le := zc_le (yy_b yw t) C
  by_cases h1 : st t = 1
  · by_cases hw : xw t = 0
    · have R' := rr_clr (s := 6) (sn' := sn) (sp' := sp) R ht (Or.inr (Or.inl rfl)) (fun _ _ => rfl) (fun _ _ => rfl) nu.1 (fun z => absurd z (by decide))
      refine ⟨1, _, _, rr_in (ca := ca) (se := se) (bu := bu) R', fun post hp => ?_, fun post hp => ?_⟩
      · show wpX_commit post (nI T, nI C, nI D, nI L, nI K, st, ca, sn, sp, xr, xw, xh, xp, xl, se, bu, ho, ne, ke, vv, vs) (nI t)
        unfold wpX_commit
        rw [nI_clamp (n := t) (by omega)]
        exact xx_thY g1 ht (And.intro vt (br_t h1 (And.intro vt (br_t hw (xx_endC g2 ht4 hp)))))
      · show wpY_commit post (nI T, nI C, nI D, nI L, nI K, st, ca, sn, sp, yr, se, yp, yw, bu, yh, yd, yv) (nI t)
        unfold wpY_commit
        rw [nI_clamp (n := t) (by omega)]
        exact yy_thY g1 ht (And.intro vt (br_t h1 (yy_cw g2 ht4 (br_t (by rw [ez.mpr hw]; rfl) (yy_endC g2 ht4 hp)))))
    · refine ⟨1, _, _, rr_in (ca := ca) (se := se) (bu := bu) (rr_com R ht h1 hw), fun post hp => ?_, fun post hp => ?_⟩
      · show wpX_commit post (nI T, nI C, nI D, nI L, nI K, st, ca, sn, sp, xr, xw, xh, xp, xl, se, bu, ho, ne, ke, vv, vs) (nI t)
        unfold wpX_commit
        rw [nI_clamp (n := t) (by omega)]
        exact xx_thY g1 ht (And.intro vt (br_t h1 (And.intro vt (br_f hw (And.intro vt (nm_e hp))))))
      · show wpY_commit post (nI T, nI C, nI D, nI L, nI K, st, ca, sn, sp, yr, se, yp, yw, bu, yh, yd, yv) (nI t)
        unfold wpY_commit
        rw [nI_clamp (n := t) (by omega)]
        exact yy_thY g1 ht (And.intro vt (br_t h1 (yy_cw g2 ht4 (br_f (nI_ne0 (Nat.pos_of_ne_zero (fun z => hw (ez.mp z))) (by omega)) (And.intro vt (nm_e hp))))))
  · refine ⟨7, _, _, rr_in (ca := ca) (se := se) (bu := bu) R, fun post hp => ?_, fun post hp => ?_⟩
    · show wpX_commit post (nI T, nI C, nI D, nI L, nI K, st, ca, sn, sp, xr, xw, xh, xp, xl, se, bu, ho, ne, ke, vv, vs) (nI t)
      unfold wpX_commit
      rw [nI_clamp (n := t) (by omega)]
      exact xx_thY g1 ht (And.intro vt (br_f h1 hp))
    · show wpY_commit post (nI T, nI C, nI D, nI L, nI K, st, ca, sn, sp, yr, se, yp, yw, bu, yh, yd, yv) (nI t)
      unfold wpY_commit
      rw [nI_clamp (n := t) (by omega)]
      exact yy_thY g1 ht (And.intro vt (br_f h1 hp))
theorem cc_step (v1 : Int32) (R : rr_R T C D L K st sn sp xr xw xh xp xl ho ne ke vv vs yr yp yw yh yd yv) : oo_O T (fun p => wpX_step p (nI T, nI C, nI D, nI L, nI K, st, ca, sn, sp, xr, xw, xh, xp, xl, se, bu, ho, ne, ke, vv, vs) v1) (fun p => wpY_step p (nI T, nI C, nI D, nI L, nI K, st, ca, sn, sp, yr, se, yp, yw, bu, yh, yd, yv) v1) := by
  have g1 := R.1.1
  rcases gg_ix (n := T) (by omega) v1 with hv | ⟨t, ht, rfl⟩
  · refine ⟨8, _, _, rr_in (ca := ca) (se := se) (bu := bu) R, fun post hp => ?_, fun post hp => ?_⟩
    · show wpX_step post (nI T, nI C, nI D, nI L, nI K, st, ca, sn, sp, xr, xw, xh, xp, xl, se, bu, ho, ne, ke, vv, vs) v1
      unfold wpX_step
      exact xx_thN hv hp
    · show wpY_step post (nI T, nI C, nI D, nI L, nI K, st, ca, sn, sp, yr, se, yp, yw, bu, yh, yd, yv) v1
      unfold wpY_step
      exact yy_thN hv hp
  have ht4 : t < 4 := by omega
  have vt : vp_in (nI t) 4 := vp_in_nI ht4 (by decide)
  by_cases hcm : zs_cm (st t)
  · obtain ⟨r, u, v, I, hx, hy⟩ := oo_adv (ca := ca) (se := se) (bu := bu) R ht
    refine ⟨r, u, v, I, fun post hp => ?_, hy⟩
    show wpX_step post (nI T, nI C, nI D, nI L, nI K, st, ca, sn, sp, xr, xw, xh, xp, xl, se, bu, ho, ne, ke, vv, vs) (nI t)
    unfold wpX_step
    exact xx_thY g1 ht (xx_cmY ht4 hcm (hx _ hp))
  · refine ⟨7, _, _, rr_in (ca := ca) (se := se) (bu := bu) R, fun post hp => ?_, fun post hp => ?_⟩
    · show wpX_step post (nI T, nI C, nI D, nI L, nI K, st, ca, sn, sp, xr, xw, xh, xp, xl, se, bu, ho, ne, ke, vv, vs) (nI t)
      unfold wpX_step
      exact xx_thY g1 ht (xx_cmN ht4 hcm hp)
    · show wpY_step post (nI T, nI C, nI D, nI L, nI K, st, ca, sn, sp, yr, se, yp, yw, bu, yh, yd, yv) (nI t)
      unfold wpY_step
      rw [nI_clamp (n := t) (by omega)]
      exact yy_thY g1 ht (And.intro vt (br_f (fun z => hcm (Or.inl z)) (And.intro vt (br_f (fun z => hcm (Or.inr (Or.inl z))) (And.intro vt (br_f (fun z => hcm (Or.inr (Or.inr (Or.inl z)))) (And.intro vt (br_f (fun z => hcm (Or.inr (Or.inr (Or.inr z)))) hp))))))))
theorem cc_finish (v1 : Int32) (R : rr_R T C D L K st sn sp xr xw xh xp xl ho ne ke vv vs yr yp yw yh yd yv) : oo_O T (fun p => wpX_finish p (nI T, nI C, nI D, nI L, nI K, st, ca, sn, sp, xr, xw, xh, xp, xl, se, bu, ho, ne, ke, vv, vs) v1) (fun p => wpY_finish p (nI T, nI C, nI D, nI L, nI K, st, ca, sn, sp, yr, se, yp, yw, bu, yh, yd, yv) v1) := by
  have g1 := R.1.1
  rcases gg_ix (n := T) (by omega) v1 with hv | ⟨t, ht, rfl⟩
  · refine ⟨8, _, _, rr_in (ca := ca) (se := se) (bu := bu) R, fun post hp => ?_, fun post hp => ?_⟩
    · show wpX_finish post (nI T, nI C, nI D, nI L, nI K, st, ca, sn, sp, xr, xw, xh, xp, xl, se, bu, ho, ne, ke, vv, vs) v1
      unfold wpX_finish
      exact xx_thN hv hp
    · show wpY_finish post (nI T, nI C, nI D, nI L, nI K, st, ca, sn, sp, yr, se, yp, yw, bu, yh, yd, yv) v1
      unfold wpY_finish
      exact yy_thN hv hp
  have ht4 : t < 4 := by omega
  by_cases hcm : zs_cm (st t)
  · obtain ⟨r, u, v, I, hx, hy⟩ := oo_fin ht 18 0 C D L K st ca sn sp xr xw xh xp xl se bu ho ne ke vv vs yr yp yw yh yd yv (by omega) R
    refine ⟨r, u, v, I, fun post hp => ?_, fun post hp => ?_⟩
    · show wpX_finish post (nI T, nI C, nI D, nI L, nI K, st, ca, sn, sp, xr, xw, xh, xp, xl, se, bu, ho, ne, ke, vv, vs) (nI t)
      unfold wpX_finish
      exact xx_thY g1 ht (xx_cmY ht4 hcm ⟨19, hx post hp⟩)
    · show wpY_finish post (nI T, nI C, nI D, nI L, nI K, st, ca, sn, sp, yr, se, yp, yw, bu, yh, yd, yv) (nI t)
      unfold wpY_finish
      exact yy_thY g1 ht (yy_cmY ht4 hcm ⟨19, hy post hp⟩)
  · refine ⟨7, _, _, rr_in (ca := ca) (se := se) (bu := bu) R, fun post hp => ?_, fun post hp => ?_⟩
    · show wpX_finish post (nI T, nI C, nI D, nI L, nI K, st, ca, sn, sp, xr, xw, xh, xp, xl, se, bu, ho, ne, ke, vv, vs) (nI t)
      unfold wpX_finish
      exact xx_thY g1 ht (xx_cmN ht4 hcm hp)
    · show wpY_finish post (nI T, nI C, nI D, nI L, nI K, st, ca, sn, sp, yr, se, yp, yw, bu, yh, yd, yv) (nI t)
      unfold wpY_finish
      exact yy_thY g1 ht (yy_cmN ht4 hcm hp)
theorem cc_drive (R : rr_R T C D L K st sn sp xr xw xh xp xl ho ne ke vv vs yr yp yw yh yd yv) : oo_O T (fun p => wpX_drive p (nI T, nI C, nI D, nI L, nI K, st, ca, sn, sp, xr, xw, xh, xp, xl, se, bu, ho, ne, ke, vv, vs)) (fun p => wpY_drive p (nI T, nI C, nI D, nI L, nI K, st, ca, sn, sp, yr, se, yp, yw, bu, yh, yd, yv)) := by
  obtain ⟨r, u, v, I, hx, hy⟩ := oo_drive 70 0 0 C D L K st ca sn sp xr xw xh xp xl se bu ho ne ke vv vs yr yp yw yh yd yv (by omega) (by omega) R
  exact ⟨r, u, v, I, fun post hp => ⟨71, hx post hp⟩, fun post hp => ⟨71, hy post hp⟩⟩
theorem cc_abort (v1 : Int32) (R : rr_R T C D L K st sn sp xr xw xh xp xl ho ne ke vv vs yr yp yw yh yd yv) : oo_O T (fun p => wpX_abort p (nI T, nI C, nI D, nI L, nI K, st, ca, sn, sp, xr, xw, xh, xp, xl, se, bu, ho, ne, ke, vv, vs) v1) (fun p => wpY_abort p (nI T, nI C, nI D, nI L, nI K, st, ca, sn, sp, yr, se, yp, yw, bu, yh, yd, yv) v1) := by
  have g1 := R.1.1
  have g2 := R.1.2.1
  rcases gg_ix (n := T) (by omega) v1 with hv | ⟨t, ht, rfl⟩
  · refine ⟨8, _, _, rr_in (ca := ca) (se := se) (bu := bu) R, fun post hp => ?_, fun post hp => ?_⟩
    · show wpX_abort post (nI T, nI C, nI D, nI L, nI K, st, ca, sn, sp, xr, xw, xh, xp, xl, se, bu, ho, ne, ke, vv, vs) v1
      unfold wpX_abort
      exact xx_thN hv hp
    · show wpY_abort post (nI T, nI C, nI D, nI L, nI K, st, ca, sn, sp, yr, se, yp, yw, bu, yh, yd, yv) v1
      unfold wpY_abort
      exact yy_thN hv hp
  have ht4 : t < 4 := by omega
  have vt : vp_in (nI t) 4 := vp_in_nI ht4 (by decide)
  by_cases h : st t = 0 ∨ st t = 5 ∨ st t = 6 ∨ st t = 7
  · refine ⟨7, _, _, rr_in (ca := ca) (se := se) (bu := bu) R, fun post hp => ?_, fun post hp => ?_⟩
    · show wpX_abort post (nI T, nI C, nI D, nI L, nI K, st, ca, sn, sp, xr, xw, xh, xp, xl, se, bu, ho, ne, ke, vv, vs) (nI t)
      unfold wpX_abort
      rw [nI_clamp (n := t) (by omega)]
      refine xx_thY g1 ht (And.intro vt (nm_e (br_c (fun _ => hp) (fun n0 => br_c (fun _ => hp) (fun n5 => br_c (fun _ => hp) (fun n6 => br_t ?_ hp))))))
      exact ((h.resolve_left n0).resolve_left n5).resolve_left n6
    · show wpY_abort post (nI T, nI C, nI D, nI L, nI K, st, ca, sn, sp, yr, se, yp, yw, bu, yh, yd, yv) (nI t)
      unfold wpY_abort
      rw [nI_clamp (n := t) (by omega)]
      refine yy_thY g1 ht (And.intro vt (br_c (fun _ => hp) (fun n0 => And.intro vt (br_c (fun _ => hp) (fun n5 => And.intro vt (br_c (fun _ => hp) (fun n6 => And.intro vt (br_t ?_ hp))))))))
      exact ((h.resolve_left n0).resolve_left n5).resolve_left n6
  · have n0 : ¬ st t = 0 := fun z => h (Or.inl z)
    have n5 : ¬ st t = 5 := fun z => h (Or.inr (Or.inl z))
    have n6 : ¬ st t = 6 := fun z => h (Or.inr (Or.inr (Or.inl z)))
    have n7 : ¬ st t = 7 := fun z => h (Or.inr (Or.inr (Or.inr z)))
    have R' := rr_clr (s := 7) (sn' := sn) (sp' := upd sp t 0) R ht (Or.inr (Or.inr rfl)) (fun _ _ => rfl) (fun r h => pk_un h) (R.2.1 t ht).1.1 (fun z => absurd z (by decide))
    refine ⟨1, _, _, rr_in (ca := upd ca t 1) (se := se) (bu := bu) R', fun post hp => ?_, fun post hp => ?_⟩
    · show wpX_abort post (nI T, nI C, nI D, nI L, nI K, st, ca, sn, sp, xr, xw, xh, xp, xl, se, bu, ho, ne, ke, vv, vs) (nI t)
      unfold wpX_abort
      rw [nI_clamp (n := t) (by omega)]
      exact xx_thY g1 ht (And.intro vt (nm_e (br_f n0 (br_f n5 (br_f n6 (br_f n7 (xx_endA g2 ht4 hp)))))))
    · show wpY_abort post (nI T, nI C, nI D, nI L, nI K, st, ca, sn, sp, yr, se, yp, yw, bu, yh, yd, yv) (nI t)
      unfold wpY_abort
      rw [nI_clamp (n := t) (by omega)]
      exact yy_thY g1 ht (And.intro vt (br_f n0 (And.intro vt (br_f n5 (And.intro vt (br_f n6 (And.intro vt (br_f n7 (yy_endA g2 ht4 hp)))))))))
theorem cc_ret_lp {post : Int32 → SY → Prop} {t : Nat} (hC : C ≤ 8) (ht : t < 4) (hp : post 1 (nI T, nI C, nI D, nI L, nI K, upd st t 8, ca, sn, sp, yr, se, yp, yy_cl yw t C, bu, yh, yd, yv)) :
    ∀ d n i, i + d = C → d < n → wY_retry_37 post (nI t) (nI T) (nI C) (nI D) (nI L) (nI K) n (nI i) st ca sn sp yr se yp (yy_cl yw t i) bu yh yd yv := by
  intro d
  induction d with
  | zero =>
    intro n i hi hn
    obtain ⟨n, rfl⟩ : ∃ m, n = m + 1 := ⟨n - 1, by omega⟩
    have e : i = C := by omega
    rw [e]
    refine br_t (nI_le (Nat.le_refl C) (by omega)) ?_
    rw [nI_clamp (n := t) (by omega)]
    exact And.intro (vp_in_nI ht (by decide)) (nm_e hp)
  | succ d ih =>
    intro n i hi hn
    obtain ⟨n, rfl⟩ : ∃ m, n = m + 1 := ⟨n - 1, by omega⟩
    have k := ih n (i + 1) (by omega) (by omega)
    refine br_f (nI_ge (a := i) (b := C) (by omega) (by omega)) ?_
    rw [zi_8, nI_clamp (n := t * 8 + i) (by omega)]
    exact And.intro (vp_in_nI (by omega) (by decide)) (nm_r yy_clS (nm_r (nI_1 i) k))
theorem cc_retry (v1 : Int32) (R : rr_R T C D L K st sn sp xr xw xh xp xl ho ne ke vv vs yr yp yw yh yd yv) : oo_O T (fun p => wpX_retry p (nI T, nI C, nI D, nI L, nI K, st, ca, sn, sp, xr, xw, xh, xp, xl, se, bu, ho, ne, ke, vv, vs) v1) (fun p => wpY_retry p (nI T, nI C, nI D, nI L, nI K, st, ca, sn, sp, yr, se, yp, yw, bu, yh, yd, yv) v1) := by
  have g1 := R.1.1
  have g2 := R.1.2.1
  rcases gg_ix (n := T) (by omega) v1 with hv | ⟨t, ht, rfl⟩
  · refine ⟨8, _, _, rr_in (ca := ca) (se := se) (bu := bu) R, fun post hp => ?_, fun post hp => ?_⟩
    · show wpX_retry post (nI T, nI C, nI D, nI L, nI K, st, ca, sn, sp, xr, xw, xh, xp, xl, se, bu, ho, ne, ke, vv, vs) v1
      unfold wpX_retry
      exact xx_thN hv hp
    · show wpY_retry post (nI T, nI C, nI D, nI L, nI K, st, ca, sn, sp, yr, se, yp, yw, bu, yh, yd, yv) v1
      unfold wpY_retry
      exact yy_thN hv hp
  have ht4 : t < 4 := by omega
  have vt : vp_in (nI t) 4 := vp_in_nI ht4 (by decide)
  obtain ⟨nu, hi, ⟨r1, r2, r3, r4⟩, S, l, o⟩ := R.2.1 t ht
  have ez := oo_cz r1 (fun i a b => (hi i a b).1)
  have le := zc_le (yy_b yr t) C
  by_cases h1 : st t = 1
  · by_cases hr : xr t = 0
    · refine ⟨6, _, _, rr_in (ca := ca) (se := se) (bu := bu) R, fun post hp => ?_, fun post hp => ?_⟩
      · show wpX_retry post (nI T, nI C, nI D, nI L, nI K, st, ca, sn, sp, xr, xw, xh, xp, xl, se, bu, ho, ne, ke, vv, vs) (nI t)
        unfold wpX_retry
        rw [nI_clamp (n := t) (by omega)]
        exact xx_thY g1 ht (And.intro vt (br_t h1 (And.intro vt (br_t hr hp))))
      · show wpY_retry post (nI T, nI C, nI D, nI L, nI K, st, ca, sn, sp, yr, se, yp, yw, bu, yh, yd, yv) (nI t)
        unfold wpY_retry
        rw [nI_clamp (n := t) (by omega)]
        exact yy_thY g1 ht (And.intro vt (br_t h1 (yy_cr g2 ht4 (br_t (by rw [ez.mpr hr]; rfl) hp))))
    · refine ⟨1, _, _, rr_in (ca := ca) (se := se) (bu := bu) (rr_ret R ht h1), fun post hp => ?_, fun post hp => ?_⟩
      · show wpX_retry post (nI T, nI C, nI D, nI L, nI K, st, ca, sn, sp, xr, xw, xh, xp, xl, se, bu, ho, ne, ke, vv, vs) (nI t)
        unfold wpX_retry
        rw [nI_clamp (n := t) (by omega)]
        exact xx_thY g1 ht (And.intro vt (br_t h1 (And.intro vt (br_f hr (And.intro vt (nm_e (And.intro vt (nm_e hp))))))))
      · show wpY_retry post (nI T, nI C, nI D, nI L, nI K, st, ca, sn, sp, yr, se, yp, yw, bu, yh, yd, yv) (nI t)
        unfold wpY_retry
        rw [nI_clamp (n := t) (by omega)]
        have k := cc_ret_lp g2 ht4 hp C (C + 1) 0 (by omega) (by omega)
        rw [yy_cl0] at k
        exact yy_thY g1 ht (And.intro vt (br_t h1 (yy_cr g2 ht4 (br_f (nI_ne0 (Nat.pos_of_ne_zero (fun z => hr (ez.mp z))) (by omega)) ⟨C + 1, k⟩))))
  · refine ⟨7, _, _, rr_in (ca := ca) (se := se) (bu := bu) R, fun post hp => ?_, fun post hp => ?_⟩
    · show wpX_retry post (nI T, nI C, nI D, nI L, nI K, st, ca, sn, sp, xr, xw, xh, xp, xl, se, bu, ho, ne, ke, vv, vs) (nI t)
      unfold wpX_retry
      rw [nI_clamp (n := t) (by omega)]
      exact xx_thY g1 ht (And.intro vt (br_f h1 hp))
    · show wpY_retry post (nI T, nI C, nI D, nI L, nI K, st, ca, sn, sp, yr, se, yp, yw, bu, yh, yd, yv) (nI t)
      unfold wpY_retry
      rw [nI_clamp (n := t) (by omega)]
      exact yy_thY g1 ht (And.intro vt (br_f h1 hp))
end
end
section
/-! ===== the constructors ===== -/
theorem in_clamp (x : Int32) {lo hi : Nat} (h : lo ≤ hi) (hh : hi < 2 ^ 31) : ∃ j, lo ≤ j ∧ j ≤ hi ∧ (∀ (post : Int32 → Prop) (u : SX), post (nI j) → wpX_clamp post u x (nI lo) (nI hi)) ∧ (∀ (post : Int32 → Prop) (v : SY), post (nI j) → wpY_clamp post v x (nI lo) (nI hi)) := by
  by_cases h1 : nI lo ≤ x
  · by_cases h2 : x ≤ nI hi
    · have h1' := h1
      have h2' := h2
      rw [zi_le, nI_toInt (by omega)] at h1' h2'
      refine ⟨x.toInt.toNat, by omega, by omega, ?_⟩
      have e : nI x.toInt.toNat = x := by
        rw [zi_eq, nI_toInt (by omega)]
        omega
      rw [e]
      exact ⟨fun post u hp => br_t h1 (br_t h2 hp), fun post u hp => br_t h1 (br_t h2 hp)⟩
    · exact ⟨hi, h, Nat.le_refl hi, fun post u hp => br_t h1 (br_f h2 hp), fun post u hp => br_t h1 (br_f h2 hp)⟩
  · exact ⟨lo, Nat.le_refl lo, h, fun post u hp => br_f h1 hp, fun post u hp => br_f h1 hp⟩
section
variable {T C D L K : Nat} {st ca sn sp se bu xr xw xh xp xl ho ne ke vv vs yr yp yw yh yd yv : Nat → Int32}
theorem in_lp {post : SX → Prop} (hp : ∀ ho' : Nat → Int32, (∀ c, c < 8 → ho' c = -1) → post (nI T, nI C, nI D, nI L, nI K, st, ca, sn, sp, xr, xw, xh, xp, xl, se, bu, ho', ne, ke, vv, vs)) :
    ∀ (d n i : Nat) (ho : Nat → Int32), i + d = 8 → d < n → (∀ c, c < i → ho c = -1) → wX_init_173 post (nI T) (nI C) (nI D) (nI L) (nI K) n (nI i) st ca sn sp xr xw xh xp xl se bu ho ne ke vv vs := by
  intro d
  induction d with
  | zero =>
    intro n i ho hi hn h
    obtain ⟨n, rfl⟩ : ∃ m, n = m + 1 := ⟨n - 1, by omega⟩
    exact br_t (nI_le (a := 8) (by omega) (by omega)) (hp ho (fun c hc => h c (by omega)))
  | succ d ih =>
    intro n i ho hi hn h
    obtain ⟨n, rfl⟩ : ∃ m, n = m + 1 := ⟨n - 1, by omega⟩
    refine br_f (nI_ge (b := 8) (by omega) (by decide)) ?_
    rw [nI_clamp (n := i) (by omega)]
    exact And.intro (vp_in_nI (by omega) (by decide)) (nm_e (nm_r (nI_1 i) (ih n (i + 1) _ (by omega) (by omega) (lt_s (fun c hc => (pk_un (by omega)).trans (h c hc)) pk_us))))
theorem in_R (hT : T ≤ 4) (hC : C ≤ 8) (hD : D ≤ 3) (hL : L ≤ 60) (hh : ∀ c, c < 8 → ho c = -1) :
    rr_R T C D L 0 (fun _ => 0) (fun _ => 0) (fun _ => 0) (fun _ => 0) (fun _ => 0) (fun _ => 0) (fun _ => 0) (fun _ => 0) ho (fun _ => 0) (fun _ => 0) (fun _ => 0) (fun _ => 0) (fun _ => 0) (fun _ => 0) (fun _ => 0) (fun _ => 0) (fun _ => 0) (fun _ => 0) := by
  have dF : ∀ c z, yy_d (fun _ => 0) c z = false := fun c z => yy_dF.mpr rfl
  refine ⟨⟨hT, hC, hD, hL, Nat.zero_le L⟩, fun t ht => ?_, fun c hc => ?_, fun c hc => ?_⟩
  · have row : rr_row C t (fun _ => 0) 0 := fun c _ => ⟨fun _ => b_0 c, fun _ => rfl⟩
    show rr_TH t C 0 0 0 0 0 0 0 0 0 (fun _ => 0) (fun _ => 0) (fun _ => 0) (fun _ => 0) (fun _ => 0)
    refine ⟨⟨by decide, fun z => absurd z (by unfold rr_act; decide), fun z => absurd z (by decide)⟩, rr_HI0, ⟨row, row, row, row⟩, ⟨fun _ => rfl, fun _ _ => rfl, fun z => absurd z (by decide), fun z => absurd z (by decide), fun z => absurd z (by decide), fun z => absurd z (by decide)⟩, fun z => absurd z (by unfold rr_act; decide), fun z => absurd z (by decide)⟩
  · have e := hh c (by omega)
    refine ⟨Or.inl e, fun t ht => ?_⟩
    rw [e, b_0]
    exact ⟨fun z => absurd z Bool.false_ne_true, fun z => absurd z.symm (zi_m1n (by omega))⟩
  · have z0 : za_b (yy_d (fun _ => 0) c) 60 = 0 := za_none 60 0 (by omega) (fun j _ _ => dF c j)
    refine ⟨fun z _ _ h => absurd ((dF c z).symm.trans h) Bool.false_ne_true, 0, by omega, rfl, ?_, fun z _ _ h => absurd ((dF c z).symm.trans h) Bool.false_ne_true⟩
    rw [z0, Nat.zero_min]
    rfl
end
theorem i_vc0 (k0 : Int32) (k1 : Int32) (k2 : Int32) (k3 : Int32) : wpX_init (fun u => wpY_init (fun v => i_Rel 4 u v) k0 k1 k2 k3) k0 k1 k2 k3 := by
  obtain ⟨T, _, hT, tX, tY⟩ := in_clamp k0 (lo := 1) (hi := 4) (by decide) (by decide)
  obtain ⟨C, _, hC, cX, cY⟩ := in_clamp k1 (lo := 1) (hi := 8) (by decide) (by decide)
  obtain ⟨D, _, hD, dX, dY⟩ := in_clamp k2 (lo := 0) (hi := 3) (by decide) (by decide)
  obtain ⟨L, _, hL, lX, lY⟩ := in_clamp k3 (lo := 1) (hi := 60) (by decide) (by decide)
  unfold wpX_init
  refine tX _ _ (cX _ _ (dX _ _ (lX _ _ ⟨9, in_lp (K := 0) (fun ho' hh => ?_) 8 9 0 _ (by omega) (by omega) lt_0⟩)))
  unfold wpY_init
  exact tY _ _ (cY _ _ (dY _ _ (lY _ _ ⟨T, rr_in (in_R hT hC hD hL hh)⟩)))
end
section
/-! ===== the owed statements ===== -/
theorem i_vc_begin {k : Nat} {u : SX} {v : SY} (I : i_Rel k u v) (hk : k + 4 ≤ 2052) (v1 : Int32) : wpX_begin (fun r u' => wpY_begin (fun r' v' => r' = r ∧ i_Rel (k + 4) u' v') v v1) u v1 := by
  refine rr_el (P := fun u v => wpX_begin (fun r u' => wpY_begin (fun r' v' => r' = r ∧ i_Rel (k + 4) u' v') v v1) u v1) I ?_
  intro T C D L K st ca sn sp xr xw xh xp xl se bu ho ne ke vv vs yr yp yw yh yd yv R
  exact oo_use (wx := fun p => wpX_begin p (nI T, nI C, nI D, nI L, nI K, st, ca, sn, sp, xr, xw, xh, xp, xl, se, bu, ho, ne, ke, vv, vs) v1) (wy := fun p => wpY_begin p (nI T, nI C, nI D, nI L, nI K, st, ca, sn, sp, yr, se, yp, yw, bu, yh, yd, yv) v1) (cc_begin v1 R)
theorem i_vc_read {k : Nat} {u : SX} {v : SY} (I : i_Rel k u v) (hk : k + 4 ≤ 2052) (v1 : Int32) (v2 : Int32) : wpX_read (fun r u' => wpY_read (fun r' v' => r' = r ∧ i_Rel (k + 4) u' v') v v1 v2) u v1 v2 := by
  refine rr_el (P := fun u v => wpX_read (fun r u' => wpY_read (fun r' v' => r' = r ∧ i_Rel (k + 4) u' v') v v1 v2) u v1 v2) I ?_
  intro T C D L K st ca sn sp xr xw xh xp xl se bu ho ne ke vv vs yr yp yw yh yd yv R
  exact oo_use (wx := fun p => wpX_read p (nI T, nI C, nI D, nI L, nI K, st, ca, sn, sp, xr, xw, xh, xp, xl, se, bu, ho, ne, ke, vv, vs) v1 v2) (wy := fun p => wpY_read p (nI T, nI C, nI D, nI L, nI K, st, ca, sn, sp, yr, se, yp, yw, bu, yh, yd, yv) v1 v2) (cc_read v1 v2 R)
theorem i_vc_write {k : Nat} {u : SX} {v : SY} (I : i_Rel k u v) (hk : k + 4 ≤ 2052) (v1 : Int32) (v2 : Int32) (v3 : Int32) : wpX_write (fun r u' => wpY_write (fun r' v' => r' = r ∧ i_Rel (k + 4) u' v') v v1 v2 v3) u v1 v2 v3 := by
  refine rr_el (P := fun u v => wpX_write (fun r u' => wpY_write (fun r' v' => r' = r ∧ i_Rel (k + 4) u' v') v v1 v2 v3) u v1 v2 v3) I ?_
  intro T C D L K st ca sn sp xr xw xh xp xl se bu ho ne ke vv vs yr yp yw yh yd yv R
  exact oo_use (wx := fun p => wpX_write p (nI T, nI C, nI D, nI L, nI K, st, ca, sn, sp, xr, xw, xh, xp, xl, se, bu, ho, ne, ke, vv, vs) v1 v2 v3) (wy := fun p => wpY_write p (nI T, nI C, nI D, nI L, nI K, st, ca, sn, sp, yr, se, yp, yw, bu, yh, yd, yv) v1 v2 v3) (cc_write v1 v2 v3 R)
theorem i_vc_extend {k : Nat} {u : SX} {v : SY} (I : i_Rel k u v) (hk : k + 4 ≤ 2052) (v1 : Int32) : wpX_extend (fun r u' => wpY_extend (fun r' v' => r' = r ∧ i_Rel (k + 4) u' v') v v1) u v1 := by
  refine rr_el (P := fun u v => wpX_extend (fun r u' => wpY_extend (fun r' v' => r' = r ∧ i_Rel (k + 4) u' v') v v1) u v1) I ?_
  intro T C D L K st ca sn sp xr xw xh xp xl se bu ho ne ke vv vs yr yp yw yh yd yv R
  exact oo_use (wx := fun p => wpX_extend p (nI T, nI C, nI D, nI L, nI K, st, ca, sn, sp, xr, xw, xh, xp, xl, se, bu, ho, ne, ke, vv, vs) v1) (wy := fun p => wpY_extend p (nI T, nI C, nI D, nI L, nI K, st, ca, sn, sp, yr, se, yp, yw, bu, yh, yd, yv) v1) (cc_extend v1 R)
theorem i_vc_commit {k : Nat} {u : SX} {v : SY} (I : i_Rel k u v) (hk : k + 4 ≤ 2052) (v1 : Int32) : wpX_commit (fun r u' => wpY_commit (fun r' v' => r' = r ∧ i_Rel (k + 4) u' v') v v1) u v1 := by
  refine rr_el (P := fun u v => wpX_commit (fun r u' => wpY_commit (fun r' v' => r' = r ∧ i_Rel (k + 4) u' v') v v1) u v1) I ?_
  intro T C D L K st ca sn sp xr xw xh xp xl se bu ho ne ke vv vs yr yp yw yh yd yv R
  exact oo_use (wx := fun p => wpX_commit p (nI T, nI C, nI D, nI L, nI K, st, ca, sn, sp, xr, xw, xh, xp, xl, se, bu, ho, ne, ke, vv, vs) v1) (wy := fun p => wpY_commit p (nI T, nI C, nI D, nI L, nI K, st, ca, sn, sp, yr, se, yp, yw, bu, yh, yd, yv) v1) (cc_commit v1 R)
theorem i_vc_step {k : Nat} {u : SX} {v : SY} (I : i_Rel k u v) (hk : k + 4 ≤ 2052) (v1 : Int32) : wpX_step (fun r u' => wpY_step (fun r' v' => r' = r ∧ i_Rel (k + 4) u' v') v v1) u v1 := by
  refine rr_el (P := fun u v => wpX_step (fun r u' => wpY_step (fun r' v' => r' = r ∧ i_Rel (k + 4) u' v') v v1) u v1) I ?_
  intro T C D L K st ca sn sp xr xw xh xp xl se bu ho ne ke vv vs yr yp yw yh yd yv R
  exact oo_use (wx := fun p => wpX_step p (nI T, nI C, nI D, nI L, nI K, st, ca, sn, sp, xr, xw, xh, xp, xl, se, bu, ho, ne, ke, vv, vs) v1) (wy := fun p => wpY_step p (nI T, nI C, nI D, nI L, nI K, st, ca, sn, sp, yr, se, yp, yw, bu, yh, yd, yv) v1) (cc_step v1 R)
theorem i_vc_finish {k : Nat} {u : SX} {v : SY} (I : i_Rel k u v) (hk : k + 4 ≤ 2052) (v1 : Int32) : wpX_finish (fun r u' => wpY_finish (fun r' v' => r' = r ∧ i_Rel (k + 4) u' v') v v1) u v1 := by
  refine rr_el (P := fun u v => wpX_finish (fun r u' => wpY_finish (fun r' v' => r' = r ∧ i_Rel (k + 4) u' v') v v1) u v1) I ?_
  intro T C D L K st ca sn sp xr xw xh xp xl se bu ho ne ke vv vs yr yp yw yh yd yv R
  exact oo_use (wx := fun p => wpX_finish p (nI T, nI C, nI D, nI L, nI K, st, ca, sn, sp, xr, xw, xh, xp, xl, se, bu, ho, ne, ke, vv, vs) v1) (wy := fun p => wpY_finish p (nI T, nI C, nI D, nI L, nI K, st, ca, sn, sp, yr, se, yp, yw, bu, yh, yd, yv) v1) (cc_finish v1 R)
theorem i_vc_drive {k : Nat} {u : SX} {v : SY} (I : i_Rel k u v) (hk : k + 4 ≤ 2052) : wpX_drive (fun r u' => wpY_drive (fun r' v' => r' = r ∧ i_Rel (k + 4) u' v') v) u := by
  refine rr_el (P := fun u v => wpX_drive (fun r u' => wpY_drive (fun r' v' => r' = r ∧ i_Rel (k + 4) u' v') v) u) I ?_
  intro T C D L K st ca sn sp xr xw xh xp xl se bu ho ne ke vv vs yr yp yw yh yd yv R
  exact oo_use (wx := fun p => wpX_drive p (nI T, nI C, nI D, nI L, nI K, st, ca, sn, sp, xr, xw, xh, xp, xl, se, bu, ho, ne, ke, vv, vs)) (wy := fun p => wpY_drive p (nI T, nI C, nI D, nI L, nI K, st, ca, sn, sp, yr, se, yp, yw, bu, yh, yd, yv)) (cc_drive R)
theorem i_vc_abort {k : Nat} {u : SX} {v : SY} (I : i_Rel k u v) (hk : k + 4 ≤ 2052) (v1 : Int32) : wpX_abort (fun r u' => wpY_abort (fun r' v' => r' = r ∧ i_Rel (k + 4) u' v') v v1) u v1 := by
  refine rr_el (P := fun u v => wpX_abort (fun r u' => wpY_abort (fun r' v' => r' = r ∧ i_Rel (k + 4) u' v') v v1) u v1) I ?_
  intro T C D L K st ca sn sp xr xw xh xp xl se bu ho ne ke vv vs yr yp yw yh yd yv R
  exact oo_use (wx := fun p => wpX_abort p (nI T, nI C, nI D, nI L, nI K, st, ca, sn, sp, xr, xw, xh, xp, xl, se, bu, ho, ne, ke, vv, vs) v1) (wy := fun p => wpY_abort p (nI T, nI C, nI D, nI L, nI K, st, ca, sn, sp, yr, se, yp, yw, bu, yh, yd, yv) v1) (cc_abort v1 R)
theorem i_vc_retry {k : Nat} {u : SX} {v : SY} (I : i_Rel k u v) (hk : k + 4 ≤ 2052) (v1 : Int32) : wpX_retry (fun r u' => wpY_retry (fun r' v' => r' = r ∧ i_Rel (k + 4) u' v') v v1) u v1 := by
  refine rr_el (P := fun u v => wpX_retry (fun r u' => wpY_retry (fun r' v' => r' = r ∧ i_Rel (k + 4) u' v') v v1) u v1) I ?_
  intro T C D L K st ca sn sp xr xw xh xp xl se bu ho ne ke vv vs yr yp yw yh yd yv R
  exact oo_use (wx := fun p => wpX_retry p (nI T, nI C, nI D, nI L, nI K, st, ca, sn, sp, xr, xw, xh, xp, xl, se, bu, ho, ne, ke, vv, vs) v1) (wy := fun p => wpY_retry p (nI T, nI C, nI D, nI L, nI K, st, ca, sn, sp, yr, se, yp, yw, bu, yh, yd, yv) v1) (cc_retry v1 R)
theorem i_vc_stateOf {k : Nat} {u : SX} {v : SY} (I : i_Rel k u v) (hk : k + 4 ≤ 2052) (v1 : Int32) : wpX_stateOf (fun r => wpY_stateOf (fun r' => r' = r ∧ i_Rel (k + 4) u v) v v1) u v1 := by
  refine rr_el (P := fun u v => wpX_stateOf (fun r => wpY_stateOf (fun r' => r' = r ∧ i_Rel (k + 4) u v) v v1) u v1) I ?_
  intro T C D L K st ca sn sp xr xw xh xp xl se bu ho ne ke vv vs yr yp yw yh yd yv R
  exact oo_useG (wx := fun p => wpX_stateOf p (nI T, nI C, nI D, nI L, nI K, st, ca, sn, sp, xr, xw, xh, xp, xl, se, bu, ho, ne, ke, vv, vs) v1) (wy := fun p => wpY_stateOf p (nI T, nI C, nI D, nI L, nI K, st, ca, sn, sp, yr, se, yp, yw, bu, yh, yd, yv) v1) ⟨T, rr_in R⟩ (gg_stateOf v1 R)
theorem i_vc_causeOf {k : Nat} {u : SX} {v : SY} (I : i_Rel k u v) (hk : k + 4 ≤ 2052) (v1 : Int32) : wpX_causeOf (fun r => wpY_causeOf (fun r' => r' = r ∧ i_Rel (k + 4) u v) v v1) u v1 := by
  refine rr_el (P := fun u v => wpX_causeOf (fun r => wpY_causeOf (fun r' => r' = r ∧ i_Rel (k + 4) u v) v v1) u v1) I ?_
  intro T C D L K st ca sn sp xr xw xh xp xl se bu ho ne ke vv vs yr yp yw yh yd yv R
  exact oo_useG (wx := fun p => wpX_causeOf p (nI T, nI C, nI D, nI L, nI K, st, ca, sn, sp, xr, xw, xh, xp, xl, se, bu, ho, ne, ke, vv, vs) v1) (wy := fun p => wpY_causeOf p (nI T, nI C, nI D, nI L, nI K, st, ca, sn, sp, yr, se, yp, yw, bu, yh, yd, yv) v1) ⟨T, rr_in R⟩ (gg_causeOf v1 R)
theorem i_vc_snapshotOf {k : Nat} {u : SX} {v : SY} (I : i_Rel k u v) (hk : k + 4 ≤ 2052) (v1 : Int32) : wpX_snapshotOf (fun r => wpY_snapshotOf (fun r' => r' = r ∧ i_Rel (k + 4) u v) v v1) u v1 := by
  refine rr_el (P := fun u v => wpX_snapshotOf (fun r => wpY_snapshotOf (fun r' => r' = r ∧ i_Rel (k + 4) u v) v v1) u v1) I ?_
  intro T C D L K st ca sn sp xr xw xh xp xl se bu ho ne ke vv vs yr yp yw yh yd yv R
  exact oo_useG (wx := fun p => wpX_snapshotOf p (nI T, nI C, nI D, nI L, nI K, st, ca, sn, sp, xr, xw, xh, xp, xl, se, bu, ho, ne, ke, vv, vs) v1) (wy := fun p => wpY_snapshotOf p (nI T, nI C, nI D, nI L, nI K, st, ca, sn, sp, yr, se, yp, yw, bu, yh, yd, yv) v1) ⟨T, rr_in R⟩ (gg_snapshotOf v1 R)
theorem i_vc_stampOf {k : Nat} {u : SX} {v : SY} (I : i_Rel k u v) (hk : k + 4 ≤ 2052) (v1 : Int32) : wpX_stampOf (fun r => wpY_stampOf (fun r' => r' = r ∧ i_Rel (k + 4) u v) v v1) u v1 := by
  refine rr_el (P := fun u v => wpX_stampOf (fun r => wpY_stampOf (fun r' => r' = r ∧ i_Rel (k + 4) u v) v v1) u v1) I ?_
  intro T C D L K st ca sn sp xr xw xh xp xl se bu ho ne ke vv vs yr yp yw yh yd yv R
  exact oo_useG (wx := fun p => wpX_stampOf p (nI T, nI C, nI D, nI L, nI K, st, ca, sn, sp, xr, xw, xh, xp, xl, se, bu, ho, ne, ke, vv, vs) v1) (wy := fun p => wpY_stampOf p (nI T, nI C, nI D, nI L, nI K, st, ca, sn, sp, yr, se, yp, yw, bu, yh, yd, yv) v1) ⟨T, rr_in R⟩ (gg_stampOf v1 R)
theorem i_vc_leftOf {k : Nat} {u : SX} {v : SY} (I : i_Rel k u v) (hk : k + 4 ≤ 2052) (v1 : Int32) : wpX_leftOf (fun r => wpY_leftOf (fun r' => r' = r ∧ i_Rel (k + 4) u v) v v1) u v1 := by
  refine rr_el (P := fun u v => wpX_leftOf (fun r => wpY_leftOf (fun r' => r' = r ∧ i_Rel (k + 4) u v) v v1) u v1) I ?_
  intro T C D L K st ca sn sp xr xw xh xp xl se bu ho ne ke vv vs yr yp yw yh yd yv R
  exact oo_useG (wx := fun p => wpX_leftOf p (nI T, nI C, nI D, nI L, nI K, st, ca, sn, sp, xr, xw, xh, xp, xl, se, bu, ho, ne, ke, vv, vs) v1) (wy := fun p => wpY_leftOf p (nI T, nI C, nI D, nI L, nI K, st, ca, sn, sp, yr, se, yp, yw, bu, yh, yd, yv) v1) ⟨T, rr_in R⟩ (gg_leftOf v1 R)
theorem i_vc_overtaken {k : Nat} {u : SX} {v : SY} (I : i_Rel k u v) (hk : k + 4 ≤ 2052) (v1 : Int32) : wpX_overtaken (fun r => wpY_overtaken (fun r' => r' = r ∧ i_Rel (k + 4) u v) v v1) u v1 := by
  refine rr_el (P := fun u v => wpX_overtaken (fun r => wpY_overtaken (fun r' => r' = r ∧ i_Rel (k + 4) u v) v v1) u v1) I ?_
  intro T C D L K st ca sn sp xr xw xh xp xl se bu ho ne ke vv vs yr yp yw yh yd yv R
  exact oo_useG (wx := fun p => wpX_overtaken p (nI T, nI C, nI D, nI L, nI K, st, ca, sn, sp, xr, xw, xh, xp, xl, se, bu, ho, ne, ke, vv, vs) v1) (wy := fun p => wpY_overtaken p (nI T, nI C, nI D, nI L, nI K, st, ca, sn, sp, yr, se, yp, yw, bu, yh, yd, yv) v1) ⟨T, rr_in R⟩ (gg_overtaken v1 R)
theorem i_vc_usesCell {k : Nat} {u : SX} {v : SY} (I : i_Rel k u v) (hk : k + 4 ≤ 2052) (v1 : Int32) (v2 : Int32) : wpX_usesCell (fun r => wpY_usesCell (fun r' => r' = r ∧ i_Rel (k + 4) u v) v v1 v2) u v1 v2 := by
  refine rr_el (P := fun u v => wpX_usesCell (fun r => wpY_usesCell (fun r' => r' = r ∧ i_Rel (k + 4) u v) v v1 v2) u v1 v2) I ?_
  intro T C D L K st ca sn sp xr xw xh xp xl se bu ho ne ke vv vs yr yp yw yh yd yv R
  exact oo_useG (wx := fun p => wpX_usesCell p (nI T, nI C, nI D, nI L, nI K, st, ca, sn, sp, xr, xw, xh, xp, xl, se, bu, ho, ne, ke, vv, vs) v1 v2) (wy := fun p => wpY_usesCell p (nI T, nI C, nI D, nI L, nI K, st, ca, sn, sp, yr, se, yp, yw, bu, yh, yd, yv) v1 v2) ⟨T, rr_in R⟩ (gg_usesCell v1 v2 R)
theorem i_vc_view {k : Nat} {u : SX} {v : SY} (I : i_Rel k u v) (hk : k + 4 ≤ 2052) (v1 : Int32) (v2 : Int32) : wpX_view (fun r => wpY_view (fun r' => r' = r ∧ i_Rel (k + 4) u v) v v1 v2) u v1 v2 := by
  refine rr_el (P := fun u v => wpX_view (fun r => wpY_view (fun r' => r' = r ∧ i_Rel (k + 4) u v) v v1 v2) u v1 v2) I ?_
  intro T C D L K st ca sn sp xr xw xh xp xl se bu ho ne ke vv vs yr yp yw yh yd yv R
  exact oo_useG (wx := fun p => wpX_view p (nI T, nI C, nI D, nI L, nI K, st, ca, sn, sp, xr, xw, xh, xp, xl, se, bu, ho, ne, ke, vv, vs) v1 v2) (wy := fun p => wpY_view p (nI T, nI C, nI D, nI L, nI K, st, ca, sn, sp, yr, se, yp, yw, bu, yh, yd, yv) v1 v2) ⟨T, rr_in R⟩ (gg_view v1 v2 R)
theorem i_vc_holderOf {k : Nat} {u : SX} {v : SY} (I : i_Rel k u v) (hk : k + 4 ≤ 2052) (v1 : Int32) : wpX_holderOf (fun r => wpY_holderOf (fun r' => r' = r ∧ i_Rel (k + 4) u v) v v1) u v1 := by
  refine rr_el (P := fun u v => wpX_holderOf (fun r => wpY_holderOf (fun r' => r' = r ∧ i_Rel (k + 4) u v) v v1) u v1) I ?_
  intro T C D L K st ca sn sp xr xw xh xp xl se bu ho ne ke vv vs yr yp yw yh yd yv R
  exact oo_useG (wx := fun p => wpX_holderOf p (nI T, nI C, nI D, nI L, nI K, st, ca, sn, sp, xr, xw, xh, xp, xl, se, bu, ho, ne, ke, vv, vs) v1) (wy := fun p => wpY_holderOf p (nI T, nI C, nI D, nI L, nI K, st, ca, sn, sp, yr, se, yp, yw, bu, yh, yd, yv) v1) ⟨T, rr_in R⟩ (gg_holderOf v1 R)
theorem i_vc_cellValue {k : Nat} {u : SX} {v : SY} (I : i_Rel k u v) (hk : k + 4 ≤ 2052) (v1 : Int32) (v2 : Int32) : wpX_cellValue (fun r => wpY_cellValue (fun r' => r' = r ∧ i_Rel (k + 4) u v) v v1 v2) u v1 v2 := by
  refine rr_el (P := fun u v => wpX_cellValue (fun r => wpY_cellValue (fun r' => r' = r ∧ i_Rel (k + 4) u v) v v1 v2) u v1 v2) I ?_
  intro T C D L K st ca sn sp xr xw xh xp xl se bu ho ne ke vv vs yr yp yw yh yd yv R
  exact oo_useG (wx := fun p => wpX_cellValue p (nI T, nI C, nI D, nI L, nI K, st, ca, sn, sp, xr, xw, xh, xp, xl, se, bu, ho, ne, ke, vv, vs) v1 v2) (wy := fun p => wpY_cellValue p (nI T, nI C, nI D, nI L, nI K, st, ca, sn, sp, yr, se, yp, yw, bu, yh, yd, yv) v1 v2) ⟨T, rr_in R⟩ (gg_cellValue v1 v2 R)
theorem i_vc_cellStamp {k : Nat} {u : SX} {v : SY} (I : i_Rel k u v) (hk : k + 4 ≤ 2052) (v1 : Int32) (v2 : Int32) : wpX_cellStamp (fun r => wpY_cellStamp (fun r' => r' = r ∧ i_Rel (k + 4) u v) v v1 v2) u v1 v2 := by
  refine rr_el (P := fun u v => wpX_cellStamp (fun r => wpY_cellStamp (fun r' => r' = r ∧ i_Rel (k + 4) u v) v v1 v2) u v1 v2) I ?_
  intro T C D L K st ca sn sp xr xw xh xp xl se bu ho ne ke vv vs yr yp yw yh yd yv R
  exact oo_useG (wx := fun p => wpX_cellStamp p (nI T, nI C, nI D, nI L, nI K, st, ca, sn, sp, xr, xw, xh, xp, xl, se, bu, ho, ne, ke, vv, vs) v1 v2) (wy := fun p => wpY_cellStamp p (nI T, nI C, nI D, nI L, nI K, st, ca, sn, sp, yr, se, yp, yw, bu, yh, yd, yv) v1 v2) ⟨T, rr_in R⟩ (gg_cellStamp v1 v2 R)
theorem i_vc_clockNow {k : Nat} {u : SX} {v : SY} (I : i_Rel k u v) (hk : k + 4 ≤ 2052) : wpX_clockNow (fun r => wpY_clockNow (fun r' => r' = r ∧ i_Rel (k + 4) u v) v) u := by
  refine rr_el (P := fun u v => wpX_clockNow (fun r => wpY_clockNow (fun r' => r' = r ∧ i_Rel (k + 4) u v) v) u) I ?_
  intro T C D L K st ca sn sp xr xw xh xp xl se bu ho ne ke vv vs yr yp yw yh yd yv R
  exact oo_useG (wx := fun p => wpX_clockNow p (nI T, nI C, nI D, nI L, nI K, st, ca, sn, sp, xr, xw, xh, xp, xl, se, bu, ho, ne, ke, vv, vs)) (wy := fun p => wpY_clockNow p (nI T, nI C, nI D, nI L, nI K, st, ca, sn, sp, yr, se, yp, yw, bu, yh, yd, yv)) ⟨T, rr_in R⟩ gg_clockNow
end
