section
/-! whole numbers as Int32, bits of small sets, least of a list, the list of all sums of ways -/
def tb_I (z : Int) : Int32 := Int32.ofInt z
theorem tb_add (a b : Int) : tb_I a + tb_I b = tb_I (a + b) := (Int32.ofInt_add a b).symm
theorem tb_sub (a b : Int) : tb_I a - tb_I b = tb_I (a - b) := (Int32.ofInt_sub a b).symm
theorem tb_mul (a b : Int) : tb_I a * tb_I b = tb_I (a * b) := (Int32.ofInt_mul a b).symm
theorem tb_neg (a : Int) : - tb_I a = tb_I (-a) := (Int32.ofInt_neg a).symm
theorem tb_nI (n : Nat) : nI n = tb_I (n : Int) := (Int32.ofInt_eq_ofNat).symm
theorem tb_toInt {z : Int} (h : -1000000000 ≤ z ∧ z ≤ 1000000000) : (tb_I z).toInt = z :=
  Int32.toInt_ofInt_of_le (by omega) (by omega)
theorem tb_leI {a b : Int} (ha : -1000000000 ≤ a ∧ a ≤ 1000000000) (hb : -1000000000 ≤ b ∧ b ≤ 1000000000) : tb_I a ≤ tb_I b ↔ a ≤ b := by
  rw [Int32.le_iff_toInt_le, tb_toInt ha, tb_toInt hb]
theorem tb_ltI {a b : Int} (ha : -1000000000 ≤ a ∧ a ≤ 1000000000) (hb : -1000000000 ≤ b ∧ b ≤ 1000000000) : tb_I a < tb_I b ↔ a < b := by
  rw [Int32.lt_iff_toInt_lt, tb_toInt ha, tb_toInt hb]
theorem tb_eqI {a b : Int} (ha : -1000000000 ≤ a ∧ a ≤ 1000000000) (hb : -1000000000 ≤ b ∧ b ≤ 1000000000) : tb_I a = tb_I b ↔ a = b := by
  constructor
  · intro h
    have h2 := congrArg Int32.toInt h
    rwa [tb_toInt ha, tb_toInt hb] at h2
  · intro h
    rw [h]
theorem tb_le {x y : Int32} {A B : Prop} (a b : Int) (f : a ≤ b → A) (g : b < a → B) (hx : x = tb_I a := by rfl) (hy : y = tb_I b := by rfl) (ha : -1000000000 ≤ a ∧ a ≤ 1000000000 := by omega) (hb : -1000000000 ≤ b ∧ b ≤ 1000000000 := by omega) : (x ≤ y → A) ∧ (¬ x ≤ y → B) := by
  subst hx hy
  rw [tb_leI ha hb]
  exact ⟨f, fun z => g (by omega)⟩
theorem tb_lt {x y : Int32} {A B : Prop} (a b : Int) (f : a < b → A) (g : b ≤ a → B) (hx : x = tb_I a := by rfl) (hy : y = tb_I b := by rfl) (ha : -1000000000 ≤ a ∧ a ≤ 1000000000 := by omega) (hb : -1000000000 ≤ b ∧ b ≤ 1000000000 := by omega) : (x < y → A) ∧ (¬ x < y → B) := by
  subst hx hy
  rw [tb_ltI ha hb]
  exact ⟨f, fun z => g (by omega)⟩
theorem tb_eq {x y : Int32} {A B : Prop} (a b : Int) (f : a = b → A) (g : a ≠ b → B) (hx : x = tb_I a := by rfl) (hy : y = tb_I b := by rfl) (ha : -1000000000 ≤ a ∧ a ≤ 1000000000 := by omega) (hb : -1000000000 ≤ b ∧ b ≤ 1000000000 := by omega) : (x = y → A) ∧ (¬ x = y → B) := by
  subst hx hy
  rw [tb_eqI ha hb]
  exact ⟨f, g⟩
theorem tb_far : (1000000 : Int32) = tb_I 1000000 := by decide +kernel
theorem tb_i0 : (0 : Int32) = tb_I 0 := by decide +kernel
theorem tb_i1 : (1 : Int32) = tb_I 1 := by decide +kernel
theorem tb_i2 : (2 : Int32) = tb_I 2 := by decide +kernel
theorem tb_im1 : (-1 : Int32) = tb_I (-1) := by decide +kernel
theorem tb_im3 : (-3 : Int32) = tb_I (-3) := by decide +kernel
theorem tb_im4 : (-4 : Int32) = tb_I (-4) := by decide +kernel
theorem tb_i280 : (280 : Int32) = tb_I 280 := by decide +kernel
theorem tb_i1000 : (1000 : Int32) = tb_I 1000 := by decide +kernel
theorem tb_i10000 : (10000 : Int32) = tb_I 10000 := by decide +kernel
theorem tb_i20000 : (20000 : Int32) = tb_I 20000 := by decide +kernel

/-! small sets of towns -/
def tb_rm (s x : Nat) : Nat := if s.testBit x = true then s - 2 ^ x else s
theorem tb_rm_le (s x : Nat) : tb_rm s x ≤ s := by
  unfold tb_rm
  split
  · exact Nat.sub_le _ _
  · exact Nat.le_refl _
theorem tb_rm_lt {s x : Nat} (h : s.testBit x = true) : tb_rm s x < s := by
  have h2 := Nat.ge_two_pow_of_testBit h
  have h3 : 0 < 2 ^ x := Nat.two_pow_pos x
  unfold tb_rm
  rw [if_pos h]
  omega
theorem tb_rm_bit : ∀ s, s < 128 → ∀ x, x < 7 → ∀ y, y < 7 → (tb_rm s x).testBit y = (s.testBit y && decide (y ≠ x)) := by decide +kernel
theorem tb_rm_self {s x : Nat} (hs : s < 128) (hx : x < 7) : (tb_rm s x).testBit x = false := by
  rw [tb_rm_bit s hs x hx x hx]
  simp
theorem tb_bit : ∀ s, s < 128 → ∀ x, x < 7 → ((nI s >>> (nI x &&& 31)) &&& 1) = if s.testBit x = true then 1 else 0 := by decide +kernel
theorem tb_clr : ∀ s, s < 128 → ∀ x, x < 7 → nI s &&& (((1 : Int32) <<< (nI x &&& 31)) ^^^ (-1)) = nI (tb_rm s x) := by decide +kernel
theorem tb_shl : ∀ n, n < 8 → (1 : Int32) <<< (nI n &&& 31) = nI (2 ^ n) := by decide +kernel
theorem tb_full : ∀ n, n < 8 → 2 ≤ n → ((1 : Int32) <<< (nI n &&& 31)) - 2 = nI (2 ^ n - 2) := by decide +kernel
theorem tb_full1 : ∀ n, n < 8 → 2 ≤ n → ((1 : Int32) <<< (nI n &&& 31)) - 1 = nI (2 ^ n - 1) := by decide +kernel
theorem tb_pw : ∀ n, n < 8 → 2 ≤ n → 4 ≤ 2 ^ n ∧ 2 ^ n ≤ 128 := by decide +kernel
theorem tb_b_full : ∀ n, n < 8 → 2 ≤ n → ∀ x, x < 7 → (2 ^ n - 2).testBit x = (decide (0 < x) && decide (x < n)) := by decide +kernel
theorem tb_b_full1 : ∀ n, n < 8 → 2 ≤ n → ∀ x, x < 7 → (2 ^ n - 1).testBit x = decide (x < n) := by decide +kernel
theorem tb_zero : ∀ s, s < 128 → s ≠ 0 → ∃ x, x < 7 ∧ s.testBit x = true := by
  intro s hs h0
  have h : ∀ s, s < 128 → s ≠ 0 → ¬ ∀ x, x < 7 → s.testBit x = false := by decide +kernel
  apply Classical.byContradiction
  intro hn
  apply h s hs h0
  intro x hx
  cases hb : s.testBit x
  · rfl
  · exact absurd ⟨x, hx, hb⟩ hn
theorem tb_big : ∀ n, n < 8 → ∀ s, s < 2 ^ n → ∀ x, x < 7 → s.testBit x = true → x < n := by decide +kernel

/-! the least of a list -/
def tb_mn : List Int → Int
  | [] => 1000000
  | x :: l => min x (tb_mn l)
theorem tb_mn_far (l : List Int) : tb_mn l ≤ 1000000 := by
  induction l with
  | nil => exact Int.le_refl _
  | cons x l ih => unfold tb_mn; omega
theorem tb_mn_le {l : List Int} {x : Int} (h : x ∈ l) : tb_mn l ≤ x := by
  induction l with
  | nil => cases h
  | cons y l ih =>
    unfold tb_mn
    rcases List.mem_cons.mp h with e | h
    · omega
    · have := ih h
      omega
theorem tb_mn_or (l : List Int) : tb_mn l = 1000000 ∨ tb_mn l ∈ l := by
  induction l with
  | nil => exact Or.inl rfl
  | cons y l ih =>
    unfold tb_mn
    rcases Int.le_total y (tb_mn l) with h | h
    · rw [Int.min_eq_left h]
      exact Or.inr (List.mem_cons_self ..)
    · rw [Int.min_eq_right h]
      rcases ih with e | e
      · exact Or.inl e
      · exact Or.inr (List.mem_cons_of_mem _ e)
theorem tb_mn_in {l : List Int} (h : l ≠ []) (hb : ∀ x, x ∈ l → x < 1000000) : tb_mn l ∈ l := by
  rcases tb_mn_or l with e | e
  · cases l with
    | nil => exact absurd rfl h
    | cons y l =>
      have h1 := tb_mn_le (List.mem_cons_self (a := y) (l := l))
      have h2 := hb y (List.mem_cons_self ..)
      omega
  · exact e
theorem tb_mn_eq {l : List Int} {v : Int} (h : v ∈ l) (hm : ∀ x, x ∈ l → v ≤ x) (hf : v < 1000000) : tb_mn l = v := by
  have h1 := tb_mn_le h
  rcases tb_mn_or l with e | e
  · omega
  · have := hm _ e
    omega
theorem tb_mn_lt {l : List Int} (h : tb_mn l < 1000000) : tb_mn l ∈ l := by
  rcases tb_mn_or l with e | e
  · omega
  · exact e
theorem tb_mn_ne {l : List Int} (h : tb_mn l < 1000000) : l ≠ [] := by
  intro e
  rw [e] at h
  exact absurd h (by decide)
theorem tb_mn_nil {l : List Int} (hb : ∀ x, x ∈ l → x < 1000000) (h : ¬ tb_mn l < 1000000) : l = [] := by
  apply Classical.byContradiction
  intro hn
  exact h (hb _ (tb_mn_in hn hb))
theorem tb_cmap (c v : Int) (l : List Int) : (l.map (fun y => c + y)).count (c + v) = l.count v := by
  induction l with
  | nil => rfl
  | cons x l ih =>
    rw [List.map_cons, List.count_cons, List.count_cons, ih]
    by_cases e : x = v
    · subst e
      simp
    · have e2 : ¬ c + x = c + v := by omega
      simp [e, e2]
theorem tb_st_lt {l r : List Int} {c : Int} (hf : c + tb_mn r < 1000000) (hr : tb_mn r < 1000000) (h : c + tb_mn r < tb_mn l) :
    tb_mn (l ++ r.map (fun y => c + y)) = c + tb_mn r ∧ (l ++ r.map (fun y => c + y)).count (c + tb_mn r) = r.count (tb_mn r) := by
  constructor
  · refine tb_mn_eq (List.mem_append.mpr (Or.inr (List.mem_map.mpr ⟨_, tb_mn_lt hr, rfl⟩))) (fun x hx => ?_) hf
    rcases List.mem_append.mp hx with hx | hx
    · have := tb_mn_le hx
      omega
    · obtain ⟨y, hy, rfl⟩ := List.mem_map.mp hx
      have := tb_mn_le hy
      show c + tb_mn r ≤ c + y
      omega
  · rw [List.count_append, tb_cmap, List.count_eq_zero.mpr (fun hx => ?_), Nat.zero_add]
    have := tb_mn_le hx
    omega
theorem tb_st_eq {l r : List Int} {c : Int} (hf : c + tb_mn r < 1000000) (hr : tb_mn r < 1000000) (h : c + tb_mn r = tb_mn l) :
    tb_mn (l ++ r.map (fun y => c + y)) = tb_mn l ∧ (l ++ r.map (fun y => c + y)).count (tb_mn l) = l.count (tb_mn l) + r.count (tb_mn r) := by
  constructor
  · rw [← h]
    refine tb_mn_eq (List.mem_append.mpr (Or.inr (List.mem_map.mpr ⟨_, tb_mn_lt hr, rfl⟩))) (fun x hx => ?_) hf
    rcases List.mem_append.mp hx with hx | hx
    · have := tb_mn_le hx
      omega
    · obtain ⟨y, hy, rfl⟩ := List.mem_map.mp hx
      have := tb_mn_le hy
      show c + tb_mn r ≤ c + y
      omega
  · rw [List.count_append, ← tb_cmap c (tb_mn r) r, h]
theorem tb_st_gt {l r : List Int} {c : Int} (hf : c + tb_mn r < 1000000) (h : tb_mn l < c + tb_mn r) :
    tb_mn (l ++ r.map (fun y => c + y)) = tb_mn l ∧ (l ++ r.map (fun y => c + y)).count (tb_mn l) = l.count (tb_mn l) := by
  have hz : ∀ x, x ∈ r.map (fun y => c + y) → tb_mn l < x := by
    intro x hx
    obtain ⟨y, hy, rfl⟩ := List.mem_map.mp hx
    have := tb_mn_le hy
    show tb_mn l < c + y
    omega
  constructor
  · refine tb_mn_eq (List.mem_append.mpr (Or.inl (tb_mn_lt (by omega)))) (fun x hx => ?_) (by omega)
    rcases List.mem_append.mp hx with hx | hx
    · exact tb_mn_le hx
    · exact Int.le_of_lt (hz x hx)
  · have h0 : (r.map (fun y => c + y)).count (tb_mn l) = 0 := List.count_eq_zero.mpr (fun hx => absurd (hz _ hx) (Int.lt_irrefl _))
    rw [List.count_append, h0, Nat.add_zero]

/-! the sums of all unclosed ways from t through the towns of set, then e -/
def tb_ba (e : Nat → Int) (t : Nat) : List Int := if e t < 1000000 then [e t] else []
def tb_sl (N : Nat) (C e : Nat → Int) : Nat → Nat → Nat → List Int
  | 0, _, t => tb_ba e t
  | f + 1, set, t => if set = 0 then tb_ba e t else
      (List.range N).flatMap (fun x => if set.testBit x = true ∧ C (7 * t + x) < 1000000 then (tb_sl N C e f (tb_rm set x) x).map (fun y => C (7 * t + x) + y) else [])
def tb_S (N : Nat) (C e : Nat → Int) (set t : Nat) : List Int := tb_sl N C e set set t
def tb_one (N : Nat) (C e : Nat → Int) (set t x : Nat) : List Int := if set.testBit x = true ∧ C (7 * t + x) < 1000000 then (tb_S N C e (tb_rm set x) x).map (fun y => C (7 * t + x) + y) else []
def tb_pre (N : Nat) (C e : Nat → Int) (set t k : Nat) : List Int := (List.range k).flatMap (tb_one N C e set t)
theorem tb_sl_f (N : Nat) (C e : Nat → Int) : ∀ f g set t, set ≤ f → set ≤ g → tb_sl N C e f set t = tb_sl N C e g set t := by
  intro f
  induction f with
  | zero =>
    intro g set t h1 h2
    have h0 : set = 0 := by omega
    cases g with
    | zero => rfl
    | succ g =>
      unfold tb_sl
      rw [if_pos h0]
  | succ f ih =>
    intro g set t h1 h2
    cases g with
    | zero =>
      have h0 : set = 0 := by omega
      unfold tb_sl
      rw [if_pos h0]
    | succ g =>
      unfold tb_sl
      by_cases h0 : set = 0
      · rw [if_pos h0, if_pos h0]
      · rw [if_neg h0, if_neg h0]
        congr 1
        funext x
        by_cases hb : set.testBit x = true ∧ C (7 * t + x) < 1000000
        · rw [if_pos hb, if_pos hb]
          have h3 := tb_rm_lt hb.1
          rw [ih g (tb_rm set x) x (by omega) (by omega)]
        · rw [if_neg hb, if_neg hb]
theorem tb_S_0 (N : Nat) (C e : Nat → Int) (t : Nat) : tb_S N C e 0 t = tb_ba e t := rfl
theorem tb_S_pos {N : Nat} {C e : Nat → Int} {set t : Nat} (h : set ≠ 0) : tb_S N C e set t = tb_pre N C e set t N := by
  unfold tb_S tb_pre
  cases set with
  | zero => exact absurd rfl h
  | succ s =>
    rw [tb_sl, if_neg h]
    congr 1
    funext x
    unfold tb_one
    by_cases hb : (s + 1).testBit x = true ∧ C (7 * t + x) < 1000000
    · rw [if_pos hb, if_pos hb]
      have h3 := tb_rm_lt hb.1
      unfold tb_S
      rw [tb_sl_f N C e s (tb_rm (s + 1) x) (tb_rm (s + 1) x) x (by omega) (Nat.le_refl _)]
    · rw [if_neg hb, if_neg hb]
theorem tb_pre_0 (N : Nat) (C e : Nat → Int) (set t : Nat) : tb_pre N C e set t 0 = [] := rfl
theorem tb_pre_s (N : Nat) (C e : Nat → Int) (set t k : Nat) : tb_pre N C e set t (k + 1) = tb_pre N C e set t k ++ tb_one N C e set t k := by
  unfold tb_pre
  rw [List.range_succ, List.flatMap_append, List.flatMap_singleton]
theorem tb_one_f {N : Nat} {C e : Nat → Int} {set t x : Nat} (h : ¬ (set.testBit x = true ∧ C (7 * t + x) < 1000000)) : tb_one N C e set t x = [] := if_neg h
theorem tb_one_t {N : Nat} {C e : Nat → Int} {set t x : Nat} (h : set.testBit x = true) (h2 : C (7 * t + x) < 1000000) : tb_one N C e set t x = (tb_S N C e (tb_rm set x) x).map (fun y => C (7 * t + x) + y) := if_pos ⟨h, h2⟩
theorem tb_pre_mem {N : Nat} {C e : Nat → Int} {set t k : Nat} {z : Int} : z ∈ tb_pre N C e set t k ↔ ∃ x, x < k ∧ set.testBit x = true ∧ C (7 * t + x) < 1000000 ∧ ∃ y, y ∈ tb_S N C e (tb_rm set x) x ∧ z = C (7 * t + x) + y := by
  unfold tb_pre
  rw [List.mem_flatMap]
  constructor
  · rintro ⟨x, hx, hz⟩
    unfold tb_one at hz
    by_cases hb : set.testBit x = true ∧ C (7 * t + x) < 1000000
    · rw [if_pos hb] at hz
      obtain ⟨y, hy, e1⟩ := List.mem_map.mp hz
      exact ⟨x, List.mem_range.mp hx, hb.1, hb.2, y, hy, e1.symm⟩
    · rw [if_neg hb] at hz
      cases hz
  · rintro ⟨x, hx, h1, h2, y, hy, rfl⟩
    refine ⟨x, List.mem_range.mpr hx, ?_⟩
    rw [tb_one_t h1 h2]
    exact List.mem_map.mpr ⟨y, hy, rfl⟩
theorem tb_S_mem {N : Nat} {C e : Nat → Int} {set t : Nat} {z : Int} (h : set ≠ 0) : z ∈ tb_S N C e set t ↔ ∃ x, x < N ∧ set.testBit x = true ∧ C (7 * t + x) < 1000000 ∧ ∃ y, y ∈ tb_S N C e (tb_rm set x) x ∧ z = C (7 * t + x) + y := by
  rw [tb_S_pos h]
  exact tb_pre_mem
theorem tb_ba_mem {e : Nat → Int} {t : Nat} {z : Int} : z ∈ tb_ba e t ↔ e t < 1000000 ∧ z = e t := by
  unfold tb_ba
  by_cases h : e t < 1000000
  · rw [if_pos h]
    simp [h]
  · rw [if_neg h]
    simp [h]
/-- what a cost may be -/
def tb_ok (C : Nat → Int) (n : Nat) : Prop := ∀ k, k < n → C k = 1000000 ∨ (-1000 ≤ C k ∧ C k ≤ 40)
theorem tb_S_bd {N : Nat} {C e : Nat → Int} (hN : N ≤ 7) (hC : tb_ok C 49) (he : tb_ok e 7) : ∀ set t, t < 7 → ∀ z, z ∈ tb_S N C e set t → -1000 * (1 + (set : Int)) ≤ z ∧ z ≤ 40 * (1 + (set : Int)) := by
  intro set
  induction set using Nat.strongRecOn with
  | ind set ih =>
    intro t ht z hz
    by_cases h0 : set = 0
    · subst h0
      rw [tb_S_0] at hz
      obtain ⟨h1, h2⟩ := tb_ba_mem.mp hz
      have h3 := he t ht
      omega
    · obtain ⟨x, hx, hb, hc, y, hy, rfl⟩ := (tb_S_mem h0).mp hz
      have h1 := tb_rm_lt hb
      have h2 := ih _ h1 x (by omega) y hy
      have h3 := hC (7 * t + x) (by omega)
      omega
theorem tb_S_b {N : Nat} {C e : Nat → Int} (hN : N ≤ 7) (hC : tb_ok C 49) (he : tb_ok e 7) {set t : Nat} (hs : set < 128) (ht : t < 7) {z : Int} (hz : z ∈ tb_S N C e set t) : -128000 ≤ z ∧ z ≤ 5120 := by
  have h := tb_S_bd hN hC he set t ht z hz
  omega
theorem tb_mS_b {N : Nat} {C e : Nat → Int} (hN : N ≤ 7) (hC : tb_ok C 49) (he : tb_ok e 7) {set t : Nat} (hs : set < 128) (ht : t < 7) : tb_mn (tb_S N C e set t) = 1000000 ∨ (-128000 ≤ tb_mn (tb_S N C e set t) ∧ tb_mn (tb_S N C e set t) ≤ 5120) := by
  rcases tb_mn_or (tb_S N C e set t) with h | h
  · exact Or.inl h
  · exact Or.inr (tb_S_b hN hC he hs ht h)
/-- the two table words of a list of sums -/
def tb_ent (l : List Int) (x y : Int32) : Prop := x = tb_I (tb_mn l) ∧ y = nI (l.count (tb_mn l))
/-- the whole table -/
def tb_tab (N : Nat) (C e : Nat → Int) (a4 a5 : Nat → Int32) : Prop := ∀ set, set < 2 ^ N → ∀ t, t < N → set.testBit t = false → tb_ent (tb_S N C e set t) (a4 (7 * set + t)) (a5 (7 * set + t))
end
section
/-! closing a road: fewer ways, the same sums -/
theorem tb_S_sub {N : Nat} {C e C' e' : Nat → Int} (hN : N ≤ 7) (hC : ∀ k, k < 49 → C' k < 1000000 → C k = C' k) (he : ∀ t, t < 7 → e' t < 1000000 → e t = e' t) : ∀ set t, t < 7 → ∀ z, z ∈ tb_S N C' e' set t → z ∈ tb_S N C e set t := by
  intro set
  induction set using Nat.strongRecOn with
  | ind set ih =>
    intro t ht z hz
    by_cases h0 : set = 0
    · subst h0
      rw [tb_S_0] at hz ⊢
      obtain ⟨h1, h2⟩ := tb_ba_mem.mp hz
      have h3 := he t ht h1
      exact tb_ba_mem.mpr ⟨by omega, by omega⟩
    · obtain ⟨x, hx, hb, hc, y, hy, e1⟩ := (tb_S_mem h0).mp hz
      have h1 := tb_rm_lt hb
      have h2 := ih _ h1 x (by omega) y hy
      have h3 := hC (7 * t + x) (by omega) hc
      exact (tb_S_mem h0).mpr ⟨x, hx, hb, by omega, y, h2, by omega⟩
theorem tb_mn_sub {l l' : List Int} (h : ∀ z, z ∈ l' → z ∈ l) : tb_mn l ≤ tb_mn l' := by
  rcases tb_mn_or l' with e | e
  · rw [e]
    exact tb_mn_far l
  · exact tb_mn_le (h _ e)

/-! the last row of a tour, of a path -/
def tb_et (N : Nat) (C : Nat → Int) (t : Nat) : Int := if t = 0 ∨ N ≤ t then 1000000 else C (7 * t)
def tb_ep (b t : Nat) : Int := if t = b then 0 else 1000000
theorem tb_et_ok {N : Nat} {C : Nat → Int} (hC : tb_ok C 49) : tb_ok (tb_et N C) 7 := by
  intro t ht
  unfold tb_et
  split
  · exact Or.inl rfl
  · exact hC _ (by omega)
theorem tb_ep_ok (b : Nat) : tb_ok (tb_ep b) 7 := by
  intro t ht
  unfold tb_ep
  split
  · exact Or.inr ⟨by omega, by omega⟩
  · exact Or.inl rfl

/-! a tour without its first road is a path -/
theorem tb_z1 : ∀ s, s < 128 → ∀ x, x < 7 → s.testBit 0 = false ∧ s.testBit x = true → 0 < x ∧ tb_rm (s + 1) x = tb_rm s x + 1 := by decide +kernel
theorem tb_z1b : ∀ s, s < 128 → ∀ x, x < 7 → s.testBit 0 = false ∧ s.testBit x = true → (s + 1).testBit x = true ∧ (tb_rm s x).testBit 0 = false := by decide +kernel
theorem tb_z2 : ∀ n, n < 8 → ∀ x, x < n → 2 ≤ n ∧ 0 < x → tb_rm (2 ^ n - 2) x + 1 = tb_rm (2 ^ n - 1) x ∧ (tb_rm (2 ^ n - 2) x).testBit 0 = false := by decide +kernel
theorem tb_path {N : Nat} {C : Nat → Int} (hN : N ≤ 7) (hN0 : 0 < N) : ∀ set t, set < 128 → t < 7 → set.testBit 0 = false → ∀ z, z ∈ tb_S N C (tb_et N C) set t → z ∈ tb_S N C (tb_ep 0) (set + 1) t := by
  intro set
  induction set using Nat.strongRecOn with
  | ind set ih =>
    intro t hs ht hb0 z hz
    by_cases h0 : set = 0
    · subst h0
      rw [tb_S_0] at hz
      obtain ⟨h1, h2⟩ := tb_ba_mem.mp hz
      have h3 : ¬ (t = 0 ∨ N ≤ t) := by
        intro h
        unfold tb_et at h1
        rw [if_pos h] at h1
        omega
      have h4 : tb_et N C t = C (7 * t) := by
        unfold tb_et
        rw [if_neg h3]
      rw [h4] at h1 h2
      refine (tb_S_mem (by omega)).mpr ⟨0, hN0, by decide, h1, 0, ?_, ?_⟩
      · show (0 : Int) ∈ tb_ba (tb_ep 0) 0
        exact tb_ba_mem.mpr ⟨by decide, by decide⟩
      · rw [h2]
        show C (7 * t) = C (7 * t) + 0
        omega
    · obtain ⟨x, hx, hb, hc, y, hy, e1⟩ := (tb_S_mem h0).mp hz
      obtain ⟨q1, q2⟩ := tb_z1 set hs x (by omega) ⟨hb0, hb⟩
      obtain ⟨q3, q4⟩ := tb_z1b set hs x (by omega) ⟨hb0, hb⟩
      have h1 := tb_rm_lt hb
      have h2 := ih _ h1 x (by omega) (by omega) q4 y hy
      refine (tb_S_mem (by omega)).mpr ⟨x, hx, q3, hc, y, ?_, e1⟩
      rw [q2]
      exact h2
theorem tb_tour_path {N : Nat} {C : Nat → Int} (hN : N ≤ 7) (hN2 : 2 ≤ N) (hC : ∀ k, k < 49 → 0 ≤ C k) {z : Int} (hz : z ∈ tb_S N C (tb_et N C) (2 ^ N - 2) 0) : ∃ a, 0 < a ∧ a < N ∧ ∃ y, y ∈ tb_S N C (tb_ep 0) (tb_rm (2 ^ N - 1) a) a ∧ y ≤ z := by
  have h0 := tb_pw N (by omega) hN2
  obtain ⟨x, hx, hb, hc, y, hy, e1⟩ := (tb_S_mem (by omega)).mp hz
  have hx0 : 0 < x := by
    rw [tb_b_full N (by omega) hN2 x (by omega)] at hb
    rcases Nat.eq_zero_or_pos x with h | h
    · subst h
      simp at hb
    · exact h
  obtain ⟨q1, q2⟩ := tb_z2 N (by omega) x hx ⟨hN2, hx0⟩
  have h3 := tb_rm_le (2 ^ N - 2) x
  have h2 := tb_path hN (by omega) _ x (by omega) (by omega) q2 y hy
  rw [q1] at h2
  have h4 := hC (7 * 0 + x) (by omega)
  exact ⟨x, hx0, hx, y, h2, by omega⟩

/-! a path's roads hold the towns together -/
def tb_ws (C : Nat → Int) : List (Nat × Nat) → Int
  | [] => 0
  | e :: F => C (7 * e.1 + e.2) + tb_ws C F
theorem tb_ws_app (C : Nat → Int) (F G : List (Nat × Nat)) : tb_ws C (F ++ G) = tb_ws C F + tb_ws C G := by
  induction F with
  | nil =>
    rw [List.nil_append]
    show tb_ws C G = 0 + tb_ws C G
    omega
  | cons e F ih =>
    rw [List.cons_append]
    show C (7 * e.1 + e.2) + tb_ws C (F ++ G) = C (7 * e.1 + e.2) + tb_ws C F + tb_ws C G
    rw [ih]
    omega
/-- roads of the map, unclosed ones -/
def tb_gd (N : Nat) (C : Nat → Int) (F : List (Nat × Nat)) : Prop := ∀ e, e ∈ F → e.1 < N ∧ e.2 < N ∧ C (7 * e.1 + e.2) < 1000000
/-- J and the roads F reach all towns -/
def tb_co (N : Nat) (J : Nat → Prop) (F : List (Nat × Nat)) : Prop := ∀ Q : Nat → Prop, (∀ e, e ∈ F → (Q e.1 ↔ Q e.2)) → (∀ j, J j → Q j) → ∀ v, v < N → Q v
theorem tb_ws_0 {N : Nat} {C : Nat → Int} {F : List (Nat × Nat)} (hN : N ≤ 7) (hC : ∀ k, k < 49 → 0 ≤ C k) (h : tb_gd N C F) : 0 ≤ tb_ws C F := by
  induction F with
  | nil => exact Int.le_refl _
  | cons e F ih =>
    have h1 := ih (fun e' he' => h e' (List.mem_cons_of_mem _ he'))
    have h2 := h e (List.mem_cons_self ..)
    have h3 := hC (7 * e.1 + e.2) (by omega)
    show 0 ≤ C (7 * e.1 + e.2) + tb_ws C F
    omega
theorem tb_edges {N : Nat} {C : Nat → Int} {b : Nat} (hN : N ≤ 7) : ∀ set t, set < 128 → t < N → ∀ z, z ∈ tb_S N C (tb_ep b) set t → ∃ F, tb_gd N C F ∧ tb_ws C F = z ∧ ∀ Q : Nat → Prop, (∀ e, e ∈ F → (Q e.1 ↔ Q e.2)) → ∀ u, u < 7 → set.testBit u = true → (Q u ↔ Q t) := by
  intro set
  induction set using Nat.strongRecOn with
  | ind set ih =>
    intro t hs ht z hz
    by_cases h0 : set = 0
    · subst h0
      rw [tb_S_0] at hz
      obtain ⟨h1, h2⟩ := tb_ba_mem.mp hz
      refine ⟨[], fun e he => absurd he (List.not_mem_nil), ?_, ?_⟩
      · rw [h2]
        unfold tb_ep at h1 ⊢
        split
        · rfl
        · rename_i hh
          rw [if_neg hh] at h1
          omega
      · intro Q hQ u hu hb
        rw [Nat.zero_testBit] at hb
        cases hb
    · obtain ⟨x, hx, hb, hc, y, hy, e1⟩ := (tb_S_mem h0).mp hz
      have h1 := tb_rm_lt hb
      obtain ⟨F, g1, g2, g3⟩ := ih _ h1 x (by omega) hx y hy
      refine ⟨(t, x) :: F, ?_, ?_, ?_⟩
      · intro e he
        rcases List.mem_cons.mp he with q | q
        · subst q
          exact ⟨ht, hx, hc⟩
        · exact g1 e q
      · show C (7 * t + x) + tb_ws C F = z
        rw [g2, e1]
      · intro Q hQ u hu hbu
        have k1 : Q t ↔ Q x := hQ (t, x) (List.mem_cons_self ..)
        by_cases hux : u = x
        · rw [hux]
          exact k1.symm
        · have k2 := g3 Q (fun e he => hQ e (List.mem_cons_of_mem _ he)) u hu (by rw [tb_rm_bit set hs x (by omega) u hu, hbu]; simp [hux])
          exact k2.trans k1.symm
theorem tb_tree {N : Nat} {C : Nat → Int} {a b : Nat} {z : Int} (hN : N ≤ 7) (hN2 : 2 ≤ N) (ha : a < N) (hz : z ∈ tb_S N C (tb_ep b) (tb_rm (2 ^ N - 1) a) a) : ∃ F, tb_gd N C F ∧ tb_ws C F = z ∧ tb_co N (fun j => j = 0) F := by
  have h0 := tb_pw N (by omega) hN2
  have h1 := tb_rm_le (2 ^ N - 1) a
  obtain ⟨F, g1, g2, g3⟩ := tb_edges hN _ a (by omega) ha z hz
  refine ⟨F, g1, g2, ?_⟩
  intro Q hQ hJ v hv
  have key : ∀ u, u < N → (Q u ↔ Q a) := by
    intro u hu
    by_cases hua : u = a
    · rw [hua]
    · refine g3 Q hQ u (by omega) ?_
      rw [tb_rm_bit _ (by omega) a (by omega) u (by omega), tb_b_full1 N (by omega) hN2 u (by omega)]
      simp [hu, hua]
  exact (key v hv).mpr ((key 0 (by omega)).mp (hJ 0 rfl))
/-- the exchange: one road that leaves J goes, the town v joins -/
theorem tb_ex {N : Nat} {C : Nat → Int} {J : Nat → Prop} {F : List (Nat × Nat)} {v : Nat} {w : Int} (hc : tb_co N J F) (hg : tb_gd N C F) (hv : v < N) (hJ : ¬ J v)
    (hw : ∀ x y, x < N → y < N → ¬ J x → J y → w ≤ C (7 * x + y) ∧ w ≤ C (7 * y + x)) :
    w < 1000000 ∧ ∃ F', tb_gd N C F' ∧ tb_co N (fun j => J j ∨ j = v) F' ∧ tb_ws C F' + w ≤ tb_ws C F := by
  have hX : ∃ X : Nat → Prop, X v ∧ (∀ x, X x → ¬ J x) ∧ (∀ e, e ∈ F → ¬ J e.1 → ¬ J e.2 → (X e.1 ↔ X e.2)) ∧ (∀ x, X x → ∀ Q : Nat → Prop, Q v → (∀ e, e ∈ F → ¬ J e.1 → ¬ J e.2 → (Q e.1 ↔ Q e.2)) → Q x) := by
    refine ⟨fun x => ∀ Q : Nat → Prop, Q v → (∀ e, e ∈ F → ¬ J e.1 → ¬ J e.2 → (Q e.1 ↔ Q e.2)) → Q x, ?_, ?_, ?_, ?_⟩
    · intro Q h1 h2
      exact h1
    · intro x hx
      exact hx (fun y => ¬ J y) hJ (fun e _ h1 h2 => ⟨fun _ => h2, fun _ => h1⟩)
    · intro e he h1 h2
      exact ⟨fun h Q q1 q2 => (q2 e he h1 h2).mp (h Q q1 q2), fun h Q q1 q2 => (q2 e he h1 h2).mpr (h Q q1 q2)⟩
    · intro x hx
      exact hx
  obtain ⟨X, x1, x2, x3, x4⟩ := hX
  have hcross : ∃ e, e ∈ F ∧ ¬ (X e.1 ↔ X e.2) := by
    apply Classical.byContradiction
    intro hn
    have hall : ∀ e, e ∈ F → (X e.1 ↔ X e.2) := by
      intro e he
      apply Classical.byContradiction
      intro h
      exact hn ⟨e, he, h⟩
    have h2 := hc (fun y => ¬ X y) (fun e he => ⟨fun h h' => h ((hall e he).mpr h'), fun h h' => h ((hall e he).mp h')⟩) (fun j hj h => x2 j h hj) v hv
    exact h2 x1
  obtain ⟨e, he, hcr⟩ := hcross
  obtain ⟨b1, b2, b3⟩ := hg e he
  -- one end in X, the other one in J
  have hends : (X e.1 ∧ J e.2) ∨ (X e.2 ∧ J e.1) := by
    by_cases h1 : X e.1
    · by_cases h2 : X e.2
      · exact absurd ⟨fun _ => h2, fun _ => h1⟩ hcr
      · refine Or.inl ⟨h1, ?_⟩
        apply Classical.byContradiction
        intro h3
        exact h2 ((x3 e he (x2 _ h1) h3).mp h1)
    · by_cases h2 : X e.2
      · refine Or.inr ⟨h2, ?_⟩
        apply Classical.byContradiction
        intro h3
        exact h1 ((x3 e he h3 (x2 _ h2)).mpr h2)
      · exact absurd ⟨fun h => absurd h h1, fun h => absurd h h2⟩ hcr
  have hwe : w ≤ C (7 * e.1 + e.2) := by
    rcases hends with ⟨h1, h2⟩ | ⟨h1, h2⟩
    · exact (hw e.1 e.2 b1 b2 (x2 _ h1) h2).1
    · exact (hw e.2 e.1 b2 b1 (x2 _ h1) h2).2
  obtain ⟨s, r, hsr⟩ := List.append_of_mem he
  have hmem : ∀ e', e' ∈ s ++ r → e' ∈ F := by
    intro e' h
    rw [hsr]
    rcases List.mem_append.mp h with h | h
    · exact List.mem_append.mpr (Or.inl h)
    · exact List.mem_append.mpr (Or.inr (List.mem_cons_of_mem _ h))
  have hmem2 : ∀ e', e' ∈ F → e' ≠ e → e' ∈ s ++ r := by
    intro e' h hne
    rw [hsr] at h
    rcases List.mem_append.mp h with h | h
    · exact List.mem_append.mpr (Or.inl h)
    · rcases List.mem_cons.mp h with h | h
      · exact absurd h hne
      · exact List.mem_append.mpr (Or.inr h)
  refine ⟨by omega, s ++ r, fun e' h => hg e' (hmem e' h), ?_, ?_⟩
  · intro Q hQ hJv u hu
    have hQv : Q v := hJv v (Or.inr rfl)
    have hXQ : ∀ x, X x → Q x := by
      intro x hx
      refine x4 x hx Q hQv (fun e' he' h1 h2 => hQ e' (hmem2 e' he' ?_))
      intro h
      subst h
      rcases hends with ⟨_, h⟩ | ⟨_, h⟩
      · exact h2 h
      · exact h1 h
    refine hc Q (fun e' he' => ?_) (fun j hj => hJv j (Or.inl hj)) u hu
    by_cases hee : e' = e
    · subst hee
      rcases hends with ⟨h1, h2⟩ | ⟨h1, h2⟩
      · exact ⟨fun _ => hJv _ (Or.inl h2), fun _ => hXQ _ h1⟩
      · exact ⟨fun _ => hXQ _ h1, fun _ => hJv _ (Or.inl h2)⟩
    · exact hQ e' (hmem2 e' he' hee)
  · rw [hsr, tb_ws_app, tb_ws_app]
    show tb_ws C s + tb_ws C r + w ≤ tb_ws C s + (C (7 * e.1 + e.2) + tb_ws C r)
    omega
end
section
/-! costs out of prices and marks -/
def tb_C (w : Bool) (p m : Nat → Nat) (k : Nat) : Int := if k / 7 = k % 7 ∨ m k = 2 then 1000000 else if w = true ∧ m k = 1 then (p k : Int) - 1000 else (p k : Int)
def tb_r (m : Nat → Nat) (k : Nat) : Nat := if m k = 1 then 1 else 0
def tb_cn (m : Nat → Nat) : Nat → Nat
  | 0 => 0
  | k + 1 => tb_cn m k + (if k / 7 < k % 7 then tb_r m k else 0)
def tb_rq (N : Nat) (m : Nat → Nat) : Nat := if N = 2 ∧ tb_cn m 49 = 1 then 2 else tb_cn m 49
theorem tb_r_le (m : Nat → Nat) (k : Nat) : tb_r m k ≤ 1 := by
  unfold tb_r
  split
  · exact Nat.le_refl _
  · exact Nat.zero_le _
theorem tb_cn_le (m : Nat → Nat) (k : Nat) : tb_cn m k ≤ k := by
  induction k with
  | zero => exact Nat.le_refl _
  | succ k ih =>
    unfold tb_cn
    have h := tb_r_le m k
    split
    · omega
    · omega
theorem tb_rq_le (N : Nat) (m : Nat → Nat) : tb_rq N m ≤ 49 := by
  have h := tb_cn_le m 49
  unfold tb_rq
  split
  · omega
  · exact h
theorem tb_rq_ge (N : Nat) (m : Nat → Nat) : tb_cn m 49 ≤ tb_rq N m := by
  unfold tb_rq
  split
  · omega
  · exact Nat.le_refl _
/-- the picture of a state: towns, prices, marks -/
def tb_V (N : Nat) (p m : Nat → Nat) : Prop := 2 ≤ N ∧ N ≤ 7 ∧ (∀ k, k < 49 → p k ≤ 40) ∧ (∀ k, k < 49 → m k ≤ 2) ∧ (∀ a b, a < 7 → b < 7 → p (7 * a + b) = p (7 * b + a)) ∧ (∀ a b, a < 7 → b < 7 → m (7 * a + b) = m (7 * b + a))
theorem tb_C_ok {N : Nat} {p m : Nat → Nat} (hV : tb_V N p m) (w : Bool) : tb_ok (tb_C w p m) 49 := by
  intro k hk
  have h := hV.2.2.1 k hk
  unfold tb_C
  split
  · exact Or.inl rfl
  · split
    · exact Or.inr ⟨by omega, by omega⟩
    · exact Or.inr ⟨by omega, by omega⟩
theorem tb_C_sym {N : Nat} {p m : Nat → Nat} (hV : tb_V N p m) (w : Bool) {a b : Nat} (ha : a < 7) (hb : b < 7) : tb_C w p m (7 * a + b) = tb_C w p m (7 * b + a) := by
  have h1 := hV.2.2.2.2.1 a b ha hb
  have h2 := hV.2.2.2.2.2 a b ha hb
  have e1 : (7 * a + b) / 7 = a := by omega
  have e2 : (7 * a + b) % 7 = b := by omega
  have e3 : (7 * b + a) / 7 = b := by omega
  have e4 : (7 * b + a) % 7 = a := by omega
  unfold tb_C
  rw [e1, e2, e3, e4, h1, h2]
  by_cases hc : a = b ∨ m (7 * b + a) = 2
  · rw [if_pos hc, if_pos (hc.imp Eq.symm id)]
  · rw [if_neg hc, if_neg (show ¬ (b = a ∨ m (7 * b + a) = 2) from fun z => hc (z.imp Eq.symm id))]
theorem tb_C_0 (p m : Nat → Nat) (k : Nat) : 0 ≤ tb_C false p m k := by
  unfold tb_C
  split
  · omega
  · split
    · rename_i h
      exact absurd h.1 (by decide)
    · omega
theorem tb_C_none {p m : Nat → Nat} {k : Nat} (h : m k ≠ 1) : tb_C true p m k = tb_C false p m k := by
  unfold tb_C
  split
  · rfl
  · rw [if_neg (fun z => h z.2), if_neg (fun z => h z.2)]
theorem tb_C_p {p m : Nat → Nat} {k : Nat} (h : tb_C true p m k < 1000000) : (p k : Int) = tb_C true p m k + 1000 * (tb_r m k : Int) := by
  unfold tb_C tb_r at *
  split at h
  · omega
  · rename_i h1
    rw [if_neg h1]
    by_cases h2 : m k = 1
    · rw [if_pos ⟨rfl, h2⟩, if_pos h2]
      omega
    · rw [if_neg (fun z => h2 z.2), if_neg h2]
      omega
/-- a closed road: fewer unclosed ones -/
theorem tb_C_cl {p m m' : Nat → Nat} {w : Bool} {k : Nat} (h : m' k = 2 ∨ m' k = m k) (hc : tb_C w p m' k < 1000000) : tb_C w p m k = tb_C w p m' k := by
  rcases h with h | h
  · unfold tb_C at hc
    rw [if_pos (Or.inr h)] at hc
    omega
  · unfold tb_C
    rw [h]
theorem tb_cn_cg {m m' : Nat → Nat} (k : Nat) (h : ∀ j, j < k → (m' j = 1 ↔ m j = 1)) : tb_cn m' k = tb_cn m k := by
  induction k with
  | zero => rfl
  | succ k ih =>
    unfold tb_cn
    rw [ih (fun j hj => h j (by omega))]
    have h2 := h k (by omega)
    have h3 : tb_r m' k = tb_r m k := by
      unfold tb_r
      by_cases h1 : m k = 1
      · rw [if_pos h1, if_pos (h2.mpr h1)]
      · rw [if_neg h1, if_neg (fun z => h1 (h2.mp z))]
    rw [h3]
theorem tb_rq_cg {N : Nat} {m m' : Nat → Nat} (h : ∀ j, j < 49 → (m' j = 1 ↔ m j = 1)) : tb_rq N m' = tb_rq N m := by
  unfold tb_rq
  rw [tb_cn_cg 49 h]

/-! ways as lists of towns -/
def tb_rt (N : Nat) : Nat → List Nat → Prop
  | set, [] => set = 0
  | set, x :: xs => x < N ∧ set.testBit x = true ∧ tb_rt N (tb_rm set x) xs
def tb_op (C : Nat → Int) : Nat → List Nat → Prop
  | t, [] => C (7 * t) < 1000000
  | t, x :: xs => C (7 * t + x) < 1000000 ∧ tb_op C x xs
def tb_cs (D : Nat → Int) : Nat → List Nat → Int
  | t, [] => D (7 * t)
  | t, x :: xs => D (7 * t + x) + tb_cs D x xs
def tb_lk (R : Nat → Nat → Nat) (x : Nat) : List Nat → Nat
  | [] => 0
  | v :: l => R x v + tb_lk R x l
def tb_pr (R : Nat → Nat → Nat) : List Nat → Nat
  | [] => 0
  | x :: l => tb_lk R x l + tb_pr R l
def tb_cu (R : Nat → Nat → Nat) (z : Nat) : Nat → List Nat → Nat
  | t, [] => R t z
  | t, x :: xs => R t x + tb_cu R z x xs
theorem tb_cu_le {R : Nat → Nat → Nat} (hs : ∀ a b, R a b = R b a) (z : Nat) : ∀ xs x, xs ≠ [] → tb_cu R z x xs ≤ tb_pr R (x :: xs) + tb_lk R z xs := by
  intro xs
  induction xs with
  | nil => intro x h; exact absurd rfl h
  | cons y ys ih =>
    intro x _
    by_cases hy : ys = []
    · subst hy
      have h := hs y z
      show R x y + R y z ≤ ((R x y + 0) + (0 + 0)) + (R z y + 0)
      omega
    · have h := ih y hy
      show R x y + tb_cu R z y ys ≤ ((R x y + tb_lk R x ys) + tb_pr R (y :: ys)) + (R z y + tb_lk R z ys)
      omega
theorem tb_lk_perm (R : Nat → Nat → Nat) (x : Nat) {l l' : List Nat} (h : l.Perm l') : tb_lk R x l = tb_lk R x l' := by
  induction h with
  | nil => rfl
  | cons y _ ih =>
    show R x y + _ = R x y + _
    rw [ih]
  | swap y z l =>
    show R x z + (R x y + tb_lk R x l) = R x y + (R x z + tb_lk R x l)
    omega
  | trans _ _ ih1 ih2 => rw [ih1, ih2]
theorem tb_pr_perm {R : Nat → Nat → Nat} (hs : ∀ a b, R a b = R b a) {l l' : List Nat} (h : l.Perm l') : tb_pr R l = tb_pr R l' := by
  induction h with
  | nil => rfl
  | cons y h ih =>
    show tb_lk R y _ + _ = tb_lk R y _ + _
    rw [ih, tb_lk_perm R y h]
  | swap y z l =>
    have := hs y z
    show (R z y + tb_lk R z l) + (tb_lk R y l + tb_pr R l) = (R y z + tb_lk R y l) + (tb_lk R z l + tb_pr R l)
    omega
  | trans _ _ ih1 ih2 => rw [ih1, ih2]
def tb_R (m : Nat → Nat) (a b : Nat) : Nat := tb_r m (7 * min a b + max a b)
theorem tb_R_s (m : Nat → Nat) (a b : Nat) : tb_R m a b = tb_R m b a := by
  unfold tb_R
  rw [Nat.min_comm, Nat.max_comm]
theorem tb_R_r {N : Nat} {p m : Nat → Nat} (hV : tb_V N p m) {a b : Nat} (ha : a < 7) (hb : b < 7) : tb_r m (7 * a + b) = tb_R m a b := by
  unfold tb_R
  rcases Nat.le_total a b with h | h
  · rw [Nat.min_eq_left h, Nat.max_eq_right h]
  · rw [Nat.min_eq_right h, Nat.max_eq_left h]
    unfold tb_r
    rw [hV.2.2.2.2.2 a b ha hb]
theorem tb_pr_N (m : Nat → Nat) (N : Nat) (h : N ≤ 7) : tb_pr (tb_R m) (List.range N) ≤ tb_cn m 49 := by
  have h7 : tb_pr (tb_R m) (List.range 7) ≤ tb_cn m 49 := by
    have e : List.range 7 = [0, 1, 2, 3, 4, 5, 6] := by decide
    rw [e]
    simp [tb_pr, tb_lk, tb_R, tb_cn]
    omega
  have mono : ∀ k n, n + k = 7 → tb_pr (tb_R m) (List.range n) ≤ tb_pr (tb_R m) (List.range 7) := by
    intro k
    induction k with
    | zero =>
      intro n hn
      have : n = 7 := by omega
      rw [this]
      exact Nat.le_refl _
    | succ k ih =>
      intro n hn
      have h1 := ih (n + 1) (by omega)
      have h2 : (List.range (n + 1)).Perm (n :: List.range n) := by
        rw [List.range_succ]
        exact List.perm_append_singleton n (List.range n)
      rw [tb_pr_perm (tb_R_s m) h2] at h1
      have h3 : tb_pr (tb_R m) (n :: List.range n) = tb_lk (tb_R m) n (List.range n) + tb_pr (tb_R m) (List.range n) := rfl
      omega
  exact Nat.le_trans (mono (7 - N) N (by omega)) h7
theorem tb_rt_ct {N : Nat} (hN : N ≤ 7) : ∀ ts set, set < 128 → tb_rt N set ts → ∀ v, ts.count v = if v < 7 ∧ set.testBit v = true then 1 else 0 := by
  intro ts
  induction ts with
  | nil =>
    intro set hs h v
    have h0 : set = 0 := h
    subst h0
    rw [Nat.zero_testBit]
    simp
  | cons x xs ih =>
    intro set hs h v
    obtain ⟨h1, h2, h3⟩ := h
    have h4 := tb_rm_le set x
    rw [List.count_cons, ih _ (by omega) h3 v]
    by_cases hv : v = x
    · subst hv
      rw [tb_rm_self hs (by omega)]
      have : v < 7 := by omega
      simp [h2, this]
    · have hv2 : ¬ x = v := fun z => hv z.symm
      by_cases hv7 : v < 7
      · rw [tb_rm_bit set hs x (by omega) v hv7]
        simp [hv, hv2]
      · simp [hv7, hv2]
theorem tb_rt_mem {N : Nat} (hN : N ≤ 7) {ts : List Nat} {set : Nat} (hs : set < 128) (h : tb_rt N set ts) (v : Nat) : v ∈ ts ↔ v < 7 ∧ set.testBit v = true := by
  have hc := tb_rt_ct hN ts set hs h v
  constructor
  · intro hm
    have := List.count_pos_iff.mpr hm
    apply Classical.byContradiction
    intro hn
    rw [if_neg hn] at hc
    omega
  · intro hm
    rw [if_pos hm] at hc
    exact List.count_pos_iff.mp (by omega)
theorem tb_rt_perm {N : Nat} (hN : N ≤ 7) (hN2 : 2 ≤ N) {ts : List Nat} (h : tb_rt N (2 ^ N - 2) ts) : (0 :: ts).Perm (List.range N) := by
  have hp := tb_pw N (by omega) hN2
  rw [List.perm_iff_count]
  intro a
  rw [List.count_cons, tb_rt_ct hN ts _ (by omega) h a, List.nodup_range.count]
  by_cases ha : a < 7
  · rw [tb_b_full N (by omega) hN2 a ha]
    by_cases h0 : a = 0
    · subst h0
      have : 0 < N := by omega
      simp [this]
    · have h1 : 0 < a := by omega
      have h2 : ¬ 0 = a := by omega
      by_cases h3 : a < N
      · simp [ha, h1, h2, h3]
      · simp [ha, h2, h3]
  · have h1 : ¬ 0 = a := by omega
    have h2 : ¬ a < N := by omega
    simp [ha, h1, h2]
theorem tb_cs_p {p m : Nat → Nat} : ∀ ts t, tb_op (tb_C true p m) t ts → tb_cs (fun k => (p k : Int)) t ts = tb_cs (tb_C true p m) t ts + 1000 * tb_cs (fun k => (tb_r m k : Int)) t ts := by
  intro ts
  induction ts with
  | nil =>
    intro t h
    exact tb_C_p h
  | cons x xs ih =>
    intro t h
    have h1 := tb_C_p h.1
    have h2 := ih x h.2
    show (p (7 * t + x) : Int) + tb_cs (fun k => (p k : Int)) x xs = tb_C true p m (7 * t + x) + tb_cs (tb_C true p m) x xs + 1000 * ((tb_r m (7 * t + x) : Int) + tb_cs (fun k => (tb_r m k : Int)) x xs)
    omega
theorem tb_cs_r {N : Nat} {p m : Nat → Nat} (hV : tb_V N p m) : ∀ ts t, t < 7 → (∀ x, x ∈ ts → x < 7) → tb_cs (fun k => (tb_r m k : Int)) t ts = (tb_cu (tb_R m) 0 t ts : Int) := by
  intro ts
  induction ts with
  | nil =>
    intro t ht _
    show (tb_r m (7 * t) : Int) = (tb_R m t 0 : Int)
    rw [← tb_R_r hV ht (by omega)]
    rfl
  | cons x xs ih =>
    intro t ht h
    have hx := h x (List.mem_cons_self ..)
    have h2 := ih x hx (fun y hy => h y (List.mem_cons_of_mem _ hy))
    show (tb_r m (7 * t + x) : Int) + tb_cs (fun k => (tb_r m k : Int)) x xs = ((tb_R m t x + tb_cu (tb_R m) 0 x xs : Nat) : Int)
    rw [h2, tb_R_r hV ht hx]
    omega
theorem tb_cs_pos (p : Nat → Nat) : ∀ ts t, 0 ≤ tb_cs (fun k => (p k : Int)) t ts := by
  intro ts
  induction ts with
  | nil =>
    intro t
    show (0 : Int) ≤ (p (7 * t) : Int)
    omega
  | cons x xs ih =>
    intro t
    have := ih x
    show (0 : Int) ≤ (p (7 * t + x) : Int) + tb_cs (fun k => (p k : Int)) x xs
    omega
/-- a tour uses at most the required roads that there are -/
theorem tb_used {N : Nat} {p m : Nat → Nat} (hV : tb_V N p m) {ts : List Nat} (h : tb_rt N (2 ^ N - 2) ts) : tb_cs (fun k => (tb_r m k : Int)) 0 ts ≤ (tb_rq N m : Int) := by
  have hN2 := hV.1
  have hN := hV.2.1
  have hp := tb_pw N (by omega) hN2
  have hperm := tb_rt_perm hN hN2 h
  have hlen := hperm.length_eq
  rw [List.length_range, List.length_cons] at hlen
  have hlt : ∀ x, x ∈ ts → x < 7 := fun x hx => ((tb_rt_mem hN (by omega) h x).mp hx).1
  rw [tb_cs_r hV ts 0 (by omega) hlt]
  have hge := tb_rq_ge N m
  have hprN := tb_pr_N m N hN
  rw [← tb_pr_perm (tb_R_s m) hperm] at hprN
  match ts, hlen, hprN with
  | [], hlen, _ => exact absurd hlen (by simp; omega)
  | [x], hlen, hprN =>
    have hn : N = 2 := by simp at hlen; omega
    have e1 : tb_pr (tb_R m) [0, x] = (tb_R m 0 x + 0) + (0 + 0) := rfl
    have e2 : tb_cu (tb_R m) 0 0 [x] = tb_R m 0 x + tb_R m x 0 := rfl
    have e3 := tb_R_s m 0 x
    have e4 : tb_R m 0 x ≤ 1 := tb_r_le _ _
    rw [e2]
    unfold tb_rq at hge ⊢
    by_cases h1 : N = 2 ∧ tb_cn m 49 = 1
    · rw [if_pos h1]
      omega
    · rw [if_neg h1]
      have h2 : ¬ tb_cn m 49 = 1 := fun z => h1 ⟨hn, z⟩
      omega
  | x :: y :: ys, _, hprN =>
    have h1 := tb_cu_le (tb_R_s m) 0 (y :: ys) x (by simp)
    have e1 : tb_pr (tb_R m) (0 :: x :: y :: ys) = (tb_R m 0 x + tb_lk (tb_R m) 0 (y :: ys)) + tb_pr (tb_R m) (x :: y :: ys) := rfl
    have e2 : tb_cu (tb_R m) 0 0 (x :: y :: ys) = tb_R m 0 x + tb_cu (tb_R m) 0 x (y :: ys) := rfl
    rw [e2]
    omega
theorem tb_price {N : Nat} {p m : Nat → Nat} (hV : tb_V N p m) {ts : List Nat} {L : Int} (h : tb_rt N (2 ^ N - 2) ts) (ho : tb_op (tb_C true p m) 0 ts) (hs : tb_cs (tb_C true p m) 0 ts = L) (hL : L ≤ 280 - 1000 * (tb_rq N m : Int)) : tb_cs (fun k => (p k : Int)) 0 ts = L + 1000 * (tb_rq N m : Int) := by
  have h1 := tb_cs_p ts 0 ho
  have h2 := tb_used hV h
  have h3 := tb_cs_pos p ts 0
  omega

/-! the next town of a best way -/
theorem tb_next {N : Nat} {C e : Nat → Int} (hN : N ≤ 7) (hC : tb_ok C 49) (he : tb_ok e 7) {set t : Nat} (hs : set < 128) (h0 : set ≠ 0) (hm : tb_mn (tb_S N C e set t) < 1000000) : ∃ x, x < N ∧ set.testBit x = true ∧ C (7 * t + x) < 1000000 ∧ C (7 * t + x) + tb_mn (tb_S N C e (tb_rm set x) x) = tb_mn (tb_S N C e set t) := by
  obtain ⟨x, hx, hb, hc, y, hy, e1⟩ := (tb_S_mem h0).mp (tb_mn_lt hm)
  refine ⟨x, hx, hb, hc, ?_⟩
  have h1 := tb_mn_le hy
  have h4 := tb_rm_le set x
  have h5 := tb_S_b hN hC he (by omega) (by omega) hy
  have h2 := tb_mn_lt (l := tb_S N C e (tb_rm set x) x) (by omega)
  have h3 : tb_mn (tb_S N C e set t) ≤ C (7 * t + x) + tb_mn (tb_S N C e (tb_rm set x) x) := tb_mn_le ((tb_S_mem h0).mpr ⟨x, hx, hb, hc, _, h2, rfl⟩)
  omega

/-! counts over the tours' sums -/
def tb_q (g q x : Int) : Bool := decide (x ≤ g ∧ x ≤ 280 - 1000 * q)
theorem tb_q_t {g q x : Int} (h1 : x ≤ g) (h2 : x ≤ 280 - 1000 * q) : tb_q g q x = true := decide_eq_true ⟨h1, h2⟩
theorem tb_q_f {g q x : Int} (h : ¬ (x ≤ g ∧ x ≤ 280 - 1000 * q)) : tb_q g q x = false := decide_eq_false h
theorem tb_w1 (T : List Int) {q : Int} (hq : 0 ≤ q) : T.countP (tb_q (10000 - 1000 * q) q) = T.countP (tb_q 1000000 q) := by
  apply List.countP_congr
  intro x _
  unfold tb_q
  rw [decide_eq_true_iff, decide_eq_true_iff]
  omega
theorem tb_w2 (T : List Int) {q v : Int} (hv : tb_mn T = v) (h2 : v ≤ 280 - 1000 * q) : T.countP (tb_q v q) = T.count v := by
  rw [List.count_eq_countP]
  apply List.countP_congr
  intro x hx
  have h3 := tb_mn_le hx
  unfold tb_q
  rw [decide_eq_true_iff, beq_iff_eq]
  omega
theorem tb_w3 (T : List Int) {q v : Int} (hv : tb_mn T = v) : T.countP (tb_q (v - 1) q) = 0 := by
  rw [List.countP_eq_zero]
  intro x hx
  have h3 := tb_mn_le hx
  unfold tb_q
  rw [decide_eq_true_iff]
  omega

/-! codes of tours -/
def tb_code : Nat → List Nat → Nat
  | c, [] => c
  | c, x :: xs => tb_code (7 * c + x) xs
theorem tb_code_app (x : Nat) : ∀ us c, tb_code c (us ++ [x]) = 7 * tb_code c us + x := by
  intro us
  induction us with
  | nil => intro c; rfl
  | cons y us ih => intro c; exact ih (7 * c + y)
theorem tb_code_lt : ∀ us c, (∀ x, x ∈ us → x < 7) → tb_code c us < (c + 1) * 7 ^ us.length := by
  intro us
  induction us with
  | nil =>
    intro c _
    show c < (c + 1) * 7 ^ 0
    omega
  | cons y us ih =>
    intro c h
    have h1 := ih (7 * c + y) (fun x hx => h x (List.mem_cons_of_mem _ hx))
    have h2 := h y (List.mem_cons_self ..)
    have h3 : (7 * c + y + 1) * 7 ^ us.length ≤ (7 * (c + 1)) * 7 ^ us.length := Nat.mul_le_mul_right _ (by omega)
    have h4 : (c + 1) * 7 ^ (us.length + 1) = (7 * (c + 1)) * 7 ^ us.length := by
      rw [Nat.pow_succ, Nat.mul_comm 7 (c + 1), Nat.mul_assoc, Nat.mul_comm (7 ^ us.length) 7]
    show tb_code (7 * c + y) us < (c + 1) * 7 ^ (us.length + 1)
    omega
end
section
/-! the constructor, prices and marks, one step of the script -/
section
variable {n q : Int32} {a1 a2 a3 a4 a5 a6 a7 a8 a9 a10 a11 : Nat → Int32}
theorem tb_ix (a b : Nat) : (7 : Int32) * nI a + nI b = nI (7 * a + b) := by
  rw [show (7 : Int32) = nI 7 from rfl, pk_mul, nI_add]
/-- an array shows a pure row -/
def tb_pic (a : Nat → Int32) (p : Nat → Nat) : Prop := ∀ k, k < 49 → a k = nI (p k)
def tb_s2 (p : Nat → Nat) (a b v k : Nat) : Nat := if k = 7 * a + b ∨ k = 7 * b + a then v else p k
theorem tb_pic_s2 {c : Nat → Int32} {p : Nat → Nat} {a b v : Nat} (h : tb_pic c p) : tb_pic (upd (upd c (7 * a + b) (nI v)) (7 * b + a) (nI v)) (tb_s2 p a b v) := by
  intro k hk
  unfold tb_s2
  by_cases h1 : k = 7 * b + a
  · rw [if_pos (Or.inr h1), h1, pk_us]
  · rw [pk_un h1]
    by_cases h2 : k = 7 * a + b
    · rw [if_pos (Or.inl h2), h2, pk_us]
    · rw [pk_un h2, if_neg (fun z => z.elim h2 h1)]
      exact h k hk
theorem tb_s2_sym {p : Nat → Nat} {a b v : Nat} (ha : a < 7) (hb : b < 7) (h : ∀ x y, x < 7 → y < 7 → p (7 * x + y) = p (7 * y + x)) : ∀ x y, x < 7 → y < 7 → tb_s2 p a b v (7 * x + y) = tb_s2 p a b v (7 * y + x) := by
  intro x y hx hy
  unfold tb_s2
  by_cases h1 : 7 * x + y = 7 * a + b ∨ 7 * x + y = 7 * b + a
  · rw [if_pos h1, if_pos (by omega)]
  · rw [if_neg h1, if_neg (by omega)]
    exact h x y hx hy
theorem tb_s2_le {p : Nat → Nat} {a b v B : Nat} (hv : v ≤ B) (h : ∀ k, k < 49 → p k ≤ B) : ∀ k, k < 49 → tb_s2 p a b v k ≤ B := by
  intro k hk
  unfold tb_s2
  split
  · exact hv
  · exact h k hk
theorem tb_V_p {N : Nat} {p m : Nat → Nat} {a b v : Nat} (hV : tb_V N p m) (ha : a < 7) (hb : b < 7) (hv : v ≤ 40) : tb_V N (tb_s2 p a b v) m :=
  ⟨hV.1, hV.2.1, tb_s2_le hv hV.2.2.1, hV.2.2.2.1, tb_s2_sym ha hb hV.2.2.2.2.1, hV.2.2.2.2.2⟩
theorem tb_V_m {N : Nat} {p m : Nat → Nat} {a b v : Nat} (hV : tb_V N p m) (ha : a < 7) (hb : b < 7) (hv : v ≤ 2) : tb_V N p (tb_s2 m a b v) :=
  ⟨hV.1, hV.2.1, hV.2.2.1, tb_s2_le hv hV.2.2.2.1, hV.2.2.2.2.1, tb_s2_sym ha hb hV.2.2.2.2.2⟩
theorem tb_setPrice {post : St2 → Prop} {a b : Nat} {v : Int32} (ha : a < 7) (hb : b < 7) (H : post (n, q, upd (upd a1 (7 * a + b) v) (7 * b + a) v, a2, a3, a4, a5, a6, a7, a8, a9, a10, a11)) : wpX_setPrice post (n, q, a1, a2, a3, a4, a5, a6, a7, a8, a9, a10, a11) (nI a) (nI b) v := by
  unfold wpX_setPrice
  dsimp only
  rw [tb_ix a b, tb_ix b a, nI_clamp (show 7 * a + b < 2 ^ 31 by omega), nI_clamp (show 7 * b + a < 2 ^ 31 by omega)]
  exact ⟨vp_in_nI (by omega) (by omega), nm_e ⟨vp_in_nI (by omega) (by omega), nm_e H⟩⟩
theorem tb_setMark {post : St2 → Prop} {a b : Nat} {v : Int32} (ha : a < 7) (hb : b < 7) (H : post (n, q, a1, upd (upd a2 (7 * a + b) v) (7 * b + a) v, a3, a4, a5, a6, a7, a8, a9, a10, a11)) : wpX_setMark post (n, q, a1, a2, a3, a4, a5, a6, a7, a8, a9, a10, a11) (nI a) (nI b) v := by
  unfold wpX_setMark
  dsimp only
  rw [tb_ix a b, tb_ix b a, nI_clamp (show 7 * a + b < 2 ^ 31 by omega), nI_clamp (show 7 * b + a < 2 ^ 31 by omega)]
  exact ⟨vp_in_nI (by omega) (by omega), nm_e ⟨vp_in_nI (by omega) (by omega), nm_e H⟩⟩
theorem tb_isTown {post : Int32 → Prop} {N a : Nat} (hN : N ≤ 7) (ha : a < 8) (H1 : a < N → post 1) (H0 : N ≤ a → post 0) : wpX_isTown post (nI N, q, a1, a2, a3, a4, a5, a6, a7, a8, a9, a10, a11) (nI a) :=
  br_f (nI_pos (by omega)) (pk_le N a H0 H1)
theorem tb_price_w {post : Int32 → St2 → Prop} {N a b v : Nat} (hN : N ≤ 7) (ha : a < 8) (hb : b < 8) (hv : v < 1000) (H0 : ∀ r, post r (nI N, q, a1, a2, a3, a4, a5, a6, a7, a8, a9, a10, a11))
    (H1 : ∀ r, a < N → b < N → v ≤ 40 → post r (nI N, q, upd (upd a1 (7 * a + b) (nI v)) (7 * b + a) (nI v), a2, a3, a4, a5, a6, a7, a8, a9, a10, a11)) : wpX_price post (nI N, q, a1, a2, a3, a4, a5, a6, a7, a8, a9, a10, a11) (nI a) (nI b) (nI v) := by
  unfold wpX_price
  dsimp only
  refine tb_isTown hN ha (fun h1 => br_f (by decide) ?_) (fun _ => br_t rfl (H0 _))
  refine tb_isTown hN hb (fun h2 => br_f (by decide) ?_) (fun _ => br_t rfl (H0 _))
  refine pk_eq a b (fun _ => H0 _) (fun hne => br_f (nI_pos (by omega)) (pk_le v 40 (fun h40 => ?_) (fun _ => H0 _)))
  refine ⟨?_, nm_e (tb_setPrice (by omega) (by omega) (H1 _ h1 h2 h40))⟩
  rw [tb_ix a b]
  exact vp_in_nI (by omega) (by omega)
theorem tb_mark_w {post : Int32 → St2 → Prop} {N a b v : Nat} {m : Nat → Nat} (hN : N ≤ 7) (ha : a < 8) (hb : b < 8) (hv : v < 1000) (hm : tb_pic a2 m) (hm2 : ∀ k, k < 49 → m k ≤ 2) (H0 : ∀ r, r < 0 → post r (nI N, q, a1, a2, a3, a4, a5, a6, a7, a8, a9, a10, a11))
    (H1 : ∀ r, ¬ r < 0 → a < N → b < N → a ≠ b → v ≤ 2 → post r (nI N, q, a1, upd (upd a2 (7 * a + b) (nI v)) (7 * b + a) (nI v), a3, a4, a5, a6, a7, a8, a9, a10, a11)) : wpX_mark post (nI N, q, a1, a2, a3, a4, a5, a6, a7, a8, a9, a10, a11) (nI a) (nI b) (nI v) := by
  unfold wpX_mark
  dsimp only
  refine tb_isTown hN ha (fun h1 => br_f (by decide) ?_) (fun _ => br_t rfl (H0 _ (by decide)))
  refine tb_isTown hN hb (fun h2 => br_f (by decide) ?_) (fun _ => br_t rfl (H0 _ (by decide)))
  refine pk_eq a b (fun _ => H0 _ (by decide)) (fun hne => br_f (nI_pos (by omega)) (pk_le v 2 (fun h40 => ?_) (fun _ => H0 _ (by decide))))
  rw [tb_ix a b]
  refine ⟨vp_in_nI (by omega) (by omega), nm_e (tb_setMark (by omega) (by omega) (H1 _ ?_ h1 h2 hne h40))⟩
  have h3 := hm2 (7 * a + b) (by omega)
  rw [nI_clamp (by omega), hm _ (by omega)]
  exact nI_pos (by omega)
theorem tb_m41 {c : Nat} (hc : c < 2 ^ 31) : nI c - nI c / 41 * 41 = nI (c % 41) := pk_rem (d := 41) hc (by omega) (by omega)
theorem tb_sow40 {post : Int32 → St2 → Prop} {J : Int32 → Int32 → Int32 → (Nat → Int32) → (Nat → Int32) → (Nat → Int32) → (Nat → Int32) → (Nat → Int32) → (Nat → Int32) → (Nat → Int32) → (Nat → Int32) → (Nat → Int32) → (Nat → Int32) → (Nat → Int32) → Prop} {N x y i : Nat} {p m : Nat → Nat} (hV : tb_V N p m) (h1 : tb_pic a1 p) (hx : x ≤ 40) (hy : y ≤ 40) (hi : i < N)
    (H : ∀ c p', tb_V N p' m → tb_pic c p' → J (nI (i + 1)) (nI N) q c a2 a3 a4 a5 a6 a7 a8 a9 a10 a11) : ∃ fu, wX_sow_40 post J (nI x) (nI y) (nI i) fu (nI (i + 1)) (nI N) q a1 a2 a3 a4 a5 a6 a7 a8 a9 a10 a11 := by
  have hN := hV.2.1
  refine pk_loop (fun f j s => wX_sow_40 post J (nI x) (nI y) (nI i) f (nI j) (nI N) q s a2 a3 a4 a5 a6 a7 a8 a9 a10 a11) (fun j s => ∃ p', tb_V N p' m ∧ tb_pic s p') N (i + 1) a1 (by omega) ⟨p, hV, h1⟩ ?_ ?_
  · intro f s ⟨p', g1, g2⟩
    exact pk_le N N (fun _ => nm_r (nI_1 i) (H s p' g1 g2)) (fun z => absurd z (by omega))
  · intro f j s hj ⟨p', g1, g2⟩ hw
    refine pk_le N j (fun z => absurd z (by omega)) (fun _ => ⟨by decide, ?_⟩)
    have e : ((((nI x + (13 * nI i)) + (17 * nI j)) + ((nI i * nI j) * nI y)) - (((nI x + (13 * nI i)) + (17 * nI j)) + ((nI i * nI j) * nI y)) / 41 * 41) = nI ((x + 13 * i + 17 * j + i * j * y) % 41) := by
      rw [show (13 : Int32) = nI 13 from rfl, show (17 : Int32) = nI 17 from rfl, pk_mul, pk_mul, pk_mul, pk_mul, nI_add, nI_add, nI_add]
      have b1 : i * j ≤ 7 * 7 := Nat.mul_le_mul (by omega) (by omega)
      have b2 : i * j * y ≤ 49 * 40 := Nat.mul_le_mul b1 hy
      exact tb_m41 (by omega)
    rw [e]
    exact tb_setPrice (by omega) (by omega) (nm_r (nI_1 j) (hw _ ⟨_, tb_V_p g1 (by omega) (by omega) (by omega), tb_pic_s2 g2⟩))
theorem tb_sow {post : Int32 → St2 → Prop} {N x y : Nat} {p m : Nat → Nat} (hV : tb_V N p m) (h1 : tb_pic a1 p) (hx : x < 1000) (hy : y < 1000) (H : ∀ r c p', tb_V N p' m → tb_pic c p' → post r (nI N, q, c, a2, a3, a4, a5, a6, a7, a8, a9, a10, a11)) : wpX_sow post (nI N, q, a1, a2, a3, a4, a5, a6, a7, a8, a9, a10, a11) (nI x) (nI y) := by
  unfold wpX_sow
  dsimp only
  refine br_f (nI_pos (by omega)) (pk_le x 40 (fun hx4 => br_f (nI_pos (by omega)) (pk_le y 40 (fun hy4 => ?_) (fun _ => H _ _ p hV h1))) (fun _ => H _ _ p hV h1))
  refine pk_loop (fun f i s => wX_sow_27 post (nI x) (nI y) f (nI i) (nI N) q s a2 a3 a4 a5 a6 a7 a8 a9 a10 a11) (fun i s => ∃ p', tb_V N p' m ∧ tb_pic s p') N 0 a1 (by omega) ⟨p, hV, h1⟩ ?_ ?_
  · intro f s ⟨p', g1, g2⟩
    have hN := hV.2.1
    exact pk_le N N (fun _ => H _ s p' g1 g2) (fun z => absurd z (by omega))
  · intro f i s hi ⟨p', g1, g2⟩ hw
    have hN := hV.2.1
    exact pk_le N i (fun z => absurd z (by omega)) (fun _ => nm_r (nI_1 i) (tb_sow40 g1 g2 hx4 hy4 hi (fun c p2 k1 k2 => hw c ⟨p2, k1, k2⟩)))
theorem tb_gap : ∀ u, u < 41 → ∀ v, v < 41 → ∃ w, w ≤ 40 ∧ ((0 ≤ nI u - nI v → nI u - nI v = nI w) ∧ (¬ 0 ≤ nI u - nI v → -(nI u - nI v) = nI w)) := by
  intro u hu v hv
  rcases Nat.le_total v u with h | h
  · refine ⟨u - v, by omega, ?_, ?_⟩
    · intro _
      exact pk_sub h
    · intro hn
      exfalso
      apply hn
      rw [pk_sub h]
      exact nI_pos' (by omega)
  · refine ⟨v - u, by omega, ?_, ?_⟩
    · intro h0
      rw [tb_nI u, tb_nI v, tb_sub, tb_i0, tb_leI (by omega) (by omega)] at h0
      have e : u = v := by omega
      subst e
      rw [pk_sub (Nat.le_refl u), ]
    · intro _
      rw [tb_nI u, tb_nI v, tb_sub, tb_neg, tb_nI]
      congr 1
      omega
theorem tb_line40 {post : Int32 → St2 → Prop} {J : Int32 → Int32 → Int32 → (Nat → Int32) → (Nat → Int32) → (Nat → Int32) → (Nat → Int32) → (Nat → Int32) → (Nat → Int32) → (Nat → Int32) → (Nat → Int32) → (Nat → Int32) → (Nat → Int32) → (Nat → Int32) → Prop} {N x y i : Nat} {p m : Nat → Nat} (hV : tb_V N p m) (h1 : tb_pic a1 p) (hx : x ≤ 40) (hy : y ≤ 40) (hi : i < N)
    (H : ∀ c p', tb_V N p' m → tb_pic c p' → J (nI (i + 1)) (nI N) q c a2 a3 a4 a5 a6 a7 a8 a9 a10 a11) : ∃ fu, wX_line_40 post J (nI x) (nI y) (nI i) fu (nI (i + 1)) (nI N) q a1 a2 a3 a4 a5 a6 a7 a8 a9 a10 a11 := by
  have hN := hV.2.1
  refine pk_loop (fun f j s => wX_line_40 post J (nI x) (nI y) (nI i) f (nI j) (nI N) q s a2 a3 a4 a5 a6 a7 a8 a9 a10 a11) (fun j s => ∃ p', tb_V N p' m ∧ tb_pic s p') N (i + 1) a1 (by omega) ⟨p, hV, h1⟩ ?_ ?_
  · intro f s ⟨p', g1, g2⟩
    exact pk_le N N (fun _ => nm_r (nI_1 i) (H s p' g1 g2)) (fun z => absurd z (by omega))
  · intro f j s hj ⟨p', g1, g2⟩ hw
    have b1 : j * y ≤ 7 * 40 := Nat.mul_le_mul (by omega) hy
    have b2 : i * y ≤ 7 * 40 := Nat.mul_le_mul (by omega) hy
    have e1 : (nI x + (nI j * nI y)) - (nI x + (nI j * nI y)) / 41 * 41 = nI ((x + j * y) % 41) := by
      rw [pk_mul, nI_add]
      exact tb_m41 (by omega)
    have e2 : (nI x + (nI i * nI y)) - (nI x + (nI i * nI y)) / 41 * 41 = nI ((x + i * y) % 41) := by
      rw [pk_mul, nI_add]
      exact tb_m41 (by omega)
    obtain ⟨w, hw40, k1, k2⟩ := tb_gap ((x + j * y) % 41) (Nat.mod_lt _ (by omega)) ((x + i * y) % 41) (Nat.mod_lt _ (by omega))
    refine pk_le N j (fun z => absurd z (by omega)) (fun _ => ⟨by decide, by decide, nm_r (by rw [e1, e2]) ?_⟩)
    refine br_c (fun hc => ?_) (fun hc => ?_)
    · rw [k1 hc]
      exact tb_setPrice (by omega) (by omega) (nm_r (nI_1 j) (hw _ ⟨_, tb_V_p g1 (by omega) (by omega) hw40, tb_pic_s2 g2⟩))
    · rw [k2 hc]
      exact tb_setPrice (by omega) (by omega) (nm_r (nI_1 j) (hw _ ⟨_, tb_V_p g1 (by omega) (by omega) hw40, tb_pic_s2 g2⟩))
theorem tb_line {post : Int32 → St2 → Prop} {N x y : Nat} {p m : Nat → Nat} (hV : tb_V N p m) (h1 : tb_pic a1 p) (hx : x < 1000) (hy : y < 1000) (H : ∀ r c p', tb_V N p' m → tb_pic c p' → post r (nI N, q, c, a2, a3, a4, a5, a6, a7, a8, a9, a10, a11)) : wpX_line post (nI N, q, a1, a2, a3, a4, a5, a6, a7, a8, a9, a10, a11) (nI x) (nI y) := by
  unfold wpX_line
  dsimp only
  refine br_f (nI_pos (by omega)) (pk_le x 40 (fun hx4 => br_f (nI_pos (by omega)) (pk_le y 40 (fun hy4 => ?_) (fun _ => H _ _ p hV h1))) (fun _ => H _ _ p hV h1))
  refine pk_loop (fun f i s => wX_line_27 post (nI x) (nI y) f (nI i) (nI N) q s a2 a3 a4 a5 a6 a7 a8 a9 a10 a11) (fun i s => ∃ p', tb_V N p' m ∧ tb_pic s p') N 0 a1 (by omega) ⟨p, hV, h1⟩ ?_ ?_
  · intro f s ⟨p', g1, g2⟩
    have hN := hV.2.1
    exact pk_le N N (fun _ => H _ s p' g1 g2) (fun z => absurd z (by omega))
  · intro f i s hi ⟨p', g1, g2⟩ hw
    have hN := hV.2.1
    exact pk_le N i (fun z => absurd z (by omega)) (fun _ => nm_r (nI_1 i) (tb_line40 g1 g2 hx4 hy4 hi (fun c p2 k1 k2 => hw c ⟨p2, k1, k2⟩)))
theorem tb_act {post : Int32 → St2 → Prop} {N j : Nat} {p m : Nat → Nat} (hV : tb_V N p m) (h1 : tb_pic a1 p) (h2 : tb_pic a2 m) (hj : j < 8) (x y v : Int32) {a b : Nat} (ha : a < 8) (hb : b < 8) (hxa : x &&& 7 = nI a) (hyb : y &&& 7 = nI b)
    (H1 : ∀ r c p', j < 5 → tb_V N p' m → tb_pic c p' → post r (nI N, q, c, a2, a3, a4, a5, a6, a7, a8, a9, a10, a11))
    (H2 : ∀ r, 5 ≤ j → r < 0 → post r (nI N, q, a1, a2, a3, a4, a5, a6, a7, a8, a9, a10, a11))
    (H3 : ∀ r c h, 5 ≤ j → ¬ r < 0 → a < N → b < N → a ≠ b → h ≤ 2 → tb_pic c (tb_s2 m a b h) → (h = 1 ↔ v &&& 7 = 1) → post r (nI N, q, a1, c, a3, a4, a5, a6, a7, a8, a9, a10, a11)) :
    wpL_act post (nI N, q, a1, a2, a3, a4, a5, a6, a7, a8, a9, a10, a11) (nI j) x y v := by
  have hN := hV.2.1
  unfold wpL_act
  dsimp only
  have e7 : v &&& 127 = nI (v.toBitVec.toNat % 128) := pk_and v 7 (by decide)
  have e3 : v &&& 7 = nI (v.toBitVec.toNat % 8) := pk_and v 3 (by decide)
  obtain ⟨x5, hx5, ex5⟩ := pk_andE x (m := 31) 5 (by decide)
  obtain ⟨y5, hy5, ey5⟩ := pk_andE y (m := 31) 5 (by decide)
  have e8 : v.toBitVec.toNat % 128 % 8 = v.toBitVec.toNat % 8 := by omega
  have hw : v.toBitVec.toNat % 128 < 128 := Nat.mod_lt _ (by omega)
  rw [e3] at H3
  rw [← e8] at H3
  generalize v.toBitVec.toNat % 128 = w at *
  refine nm_r e7 ?_
  have e42 : nI w - nI w / 42 * 42 = nI (w % 42) := pk_rem (d := 42) (by omega) (by omega) (by omega)
  have e88 : nI w - nI w / 8 * 8 = nI (w % 8) := pk_rem (d := 8) (by omega) (by omega) (by omega)
  rw [e42, e88, ex5, ey5, hxa, hyb]
  refine pk_eq j 0 (fun z => ⟨by decide, tb_line hV h1 (by omega) (by omega) (fun r c p' k1 k2 => H1 r c p' (by omega) k1 k2)⟩) (fun z => ?_)
  refine pk_eq j 1 (fun z => ⟨by decide, tb_sow hV h1 (by omega) (by omega) (fun r c p' k1 k2 => H1 r c p' (by omega) k1 k2)⟩) (fun z => ?_)
  refine pk_lt 4 j (fun z4 => ⟨by decide, nm_e ?_⟩) (fun z4 => ⟨by decide, ?_⟩)
  · refine pk_le 4 (w % 8) (fun g => ?_) (fun g => ?_)
    · exact tb_mark_w (v := 0) hN ha hb (by omega) h2 hV.2.2.2.1 (fun r hr => H2 r (by omega) hr) (fun r hr g1 g2 g3 g4 => H3 r _ 0 (by omega) hr g1 g2 g3 g4 (tb_pic_s2 h2) ⟨fun t => absurd t (by omega), fun t => absurd ((nI_eq (b := 1) (by omega) (by omega)).mp t) (by omega)⟩)
    · exact tb_mark_w (v := w % 8) hN ha hb (by omega) h2 hV.2.2.2.1 (fun r hr => H2 r (by omega) hr) (fun r hr g1 g2 g3 g4 => H3 r _ (w % 8) (by omega) hr g1 g2 g3 g4 (tb_pic_s2 h2) (nI_eq (b := 1) (by omega) (by omega)).symm)
  · refine tb_price_w hN ha hb (by omega) (fun r => H1 r a1 p (by omega) hV h1) (fun r g1 g2 g3 => H1 r _ _ (by omega) (tb_V_p hV (by omega) (by omega) g3) (tb_pic_s2 h1))
end
def tb_p0 (k : Nat) : Nat := if k / 7 = k % 7 then 0 else 10
theorem tb_V_0 {N : Nat} (h : 2 ≤ N) (h2 : N ≤ 7) : tb_V N tb_p0 (fun _ => 0) := by
  refine ⟨h, h2, ?_, ?_, ?_, ?_⟩
  · intro k _
    unfold tb_p0
    split
    · omega
    · omega
  · intro k _
    exact Nat.zero_le _
  · intro a b ha hb
    unfold tb_p0
    by_cases e : a = b
    · rw [if_pos (by omega), if_pos (by omega)]
    · rw [if_neg (by omega), if_neg (by omega)]
  · intro a b _ _
    rfl
theorem tb_init {post : St2 → Prop} {N : Nat} (h : 2 ≤ N) (h2 : N ≤ 7) (H : ∀ c, tb_pic c tb_p0 → post (nI N, 0, c, (fun _ => 0), (fun _ => 0), (fun _ => 0), (fun _ => 0), (fun _ => 0), (fun _ => 0), (fun _ => 0), (fun _ => 0), (fun _ => 0), (fun _ => 0))) : wpX_init post 11 1985 (0, 0) (nI N) := by
  unfold wpX_init
  dsimp only
  refine ⟨by omega, by omega, by omega, by omega, by omega, by omega, by omega, by omega, by omega, by omega, by omega, by omega, by omega, by omega, by omega, by omega, by omega, by omega, by omega, by omega, by omega, by omega, ?_⟩
  refine pk_le 2 N (fun _ => ?_) (fun z => absurd z (by omega))
  refine pk_le N 7 (fun _ => ?_) (fun z => absurd z (by omega))
  refine pk_loop (fun f i s => wX_init_125 post 11 1985 11 1985 (nI N) 0 f (nI i) s (fun _ => 0) (fun _ => 0) (fun _ => 0) (fun _ => 0) (fun _ => 0) (fun _ => 0) (fun _ => 0) (fun _ => 0) (fun _ => 0) (fun _ => 0)) (fun i s => ∀ k, k < i → s k = nI (tb_p0 k)) 49 0 (fun _ => 0) (by omega) (fun k hk => absurd hk (by omega)) ?_ ?_
  · intro f s hI
    exact pk_le 49 49 (fun _ => H s hI) (fun z => absurd z (by omega))
  · intro f i s hi hI hw
    refine pk_le 49 i (fun z => absurd z (by omega)) (fun _ => ⟨by decide, by decide, ?_⟩)
    have e1 : nI i / 7 = nI (i / 7) := pk_div (d := 7) (by omega) (by omega) (by omega)
    have e2 : nI i - nI i / 7 * 7 = nI (i % 7) := pk_rem (d := 7) (by omega) (by omega) (by omega)
    have hfill : ∀ x : Int32, x = nI (tb_p0 i) → ∀ k, k < i + 1 → upd s i x k = nI (tb_p0 k) := by
      intro x hx k hk
      by_cases e : k = i
      · rw [e, pk_us, hx]
      · rw [pk_un e]
        exact hI k (by omega)
    rw [e2, e1, nI_clamp (show i < 2 ^ 31 by omega)]
    refine pk_eq (i / 7) (i % 7) (fun z => ⟨pk_in i 49 hi, nm_e (nm_r (nI_1 i) (hw _ (hfill _ ?_)))⟩) (fun z => ⟨pk_in i 49 hi, nm_e (nm_r (nI_1 i) (hw _ (hfill _ ?_)))⟩)
    · unfold tb_p0
      rw [if_pos z]
      rfl
    · unfold tb_p0
      rw [if_neg z]
      rfl
end
section
/-! costs, the table, the best tour's price -/
section
variable {q : Int32} {a1 a2 a3 a4 a5 a6 a7 a8 a9 a10 a11 : Nat → Int32}
theorem tb_fl {C : Nat → Int} {s s' : Nat → Int32} {i : Nat} (h : ∀ k, k < i → s k = tb_I (C k)) (hs : ∀ k, k ≠ i → s' k = s k) (hi : s' i = tb_I (C i)) : ∀ k, k < i + 1 → s' k = tb_I (C k) := by
  intro k hk
  by_cases e : k = i
  · rw [e, hi]
  · rw [hs k e]
    exact h k (by omega)
theorem tb_take {post : St2 → Prop} {N : Nat} {p m : Nat → Nat} {w : Bool} {x1 : Int32} (hw : x1 = 0 ↔ w = false) (hV : tb_V N p m) (h1 : tb_pic a1 p) (h2 : tb_pic a2 m)
    (H : ∀ c, (∀ k, k < 49 → c k = tb_I (tb_C w p m k)) → post (nI N, nI (if w = true then tb_rq N m else 0), a1, a2, c, a4, a5, a6, a7, a8, a9, a10, a11)) : wpX_takeCosts post (nI N, q, a1, a2, a3, a4, a5, a6, a7, a8, a9, a10, a11) x1 := by
  have hN := hV.2.1
  refine pk_loop (σ := Int32 × (Nat → Int32)) (fun f i s => wX_takeCosts_7 post x1 (nI N) f (nI i) s.1 a1 a2 s.2 a4 a5 a6 a7 a8 a9 a10 a11) (fun i s => s.1 = nI (if w = true then tb_cn m i else 0) ∧ ∀ k, k < i → s.2 k = tb_I (tb_C w p m k)) 49 0 (0, a3) (by omega) ⟨?_, fun k hk => absurd hk (by omega)⟩ ?_ ?_
  · cases w
    · rfl
    · rfl
  · intro f s hI
    obtain ⟨r, c⟩ := s
    obtain ⟨hr, hc⟩ := hI
    have hr' : r = nI (if w = true then tb_cn m 49 else 0) := hr
    subst hr'
    show wX_takeCosts_7 post x1 (nI N) (f + 1) (nI 49) _ a1 a2 c a4 a5 a6 a7 a8 a9 a10 a11
    have H' := H c hc
    have hcn := tb_cn_le m 49
    refine pk_le 49 49 (fun _ => ?_) (fun z => absurd z (by omega))
    refine pk_eq N 2 (fun z => ?_) (fun z => ?_)
    · refine br_c (fun hx => ?_) (fun hx => ?_)
      · have hwf := hw.mp hx
        subst hwf
        exact H'
      · cases w
        · exact absurd (hw.mpr rfl) hx
        · refine pk_eq (tb_cn m 49) 1 (fun g => ?_) (fun g => ?_)
          · have e : tb_rq N m = 2 := if_pos ⟨z, g⟩
            rw [if_pos rfl, e] at H'
            exact H'
          · have e : tb_rq N m = tb_cn m 49 := if_neg (fun t => g t.2)
            rw [if_pos rfl, e] at H'
            exact H'
    · have e : tb_rq N m = tb_cn m 49 := if_neg (fun t => z t.1)
      rw [e] at H'
      exact H'
  · intro f i s hi hI hn
    obtain ⟨r, c⟩ := s
    obtain ⟨hr, hc⟩ := hI
    have hr' : r = nI (if w = true then tb_cn m i else 0) := hr
    have hc' : ∀ k, k < i → c k = tb_I (tb_C w p m k) := hc
    have hn' : ∀ (r' : Int32) (c' : Nat → Int32), r' = nI (if w = true then tb_cn m (i + 1) else 0) → (∀ k, k < i + 1 → c' k = tb_I (tb_C w p m k)) → wX_takeCosts_7 post x1 (nI N) f (nI (i + 1)) r' a1 a2 c' a4 a5 a6 a7 a8 a9 a10 a11 := fun r' c' g1 g2 => hn (r', c') ⟨g1, g2⟩
    show wX_takeCosts_7 post x1 (nI N) (f + 1) (nI i) r a1 a2 c a4 a5 a6 a7 a8 a9 a10 a11
    have hcl : (nI i).toNatClampNeg = i := nI_clamp (by omega)
    have hin : vp_in (nI i) 49 := pk_in i 49 hi
    have e1 : nI i / 7 = nI (i / 7) := pk_div (d := 7) (by omega) (by omega) (by omega)
    have e2 : nI i - nI i / 7 * 7 = nI (i % 7) := pk_rem (d := 7) (by omega) (by omega) (by omega)
    have hp := h1 i hi
    have hm := h2 i hi
    have hm2 := hV.2.2.2.1 i hi
    have hs1 : ∀ x y k, k ≠ i → upd (upd c i x) i y k = c k := fun x y k hk => by rw [pk_un hk, pk_un hk]
    have hs0 : ∀ x k, k ≠ i → upd c i x k = c k := fun x k hk => pk_un hk
    have hcs : tb_cn m (i + 1) = tb_cn m i + (if i / 7 < i % 7 then tb_r m i else 0) := rfl
    refine pk_le 49 i (fun z => absurd z (by omega)) (fun _ => ⟨hin, hin, nm_e ⟨by decide, by decide, ?_⟩⟩)
    rw [e2, e1, hcl, hp, hm]
    refine pk_eq (i / 7) (i % 7) (fun z => ?_) (fun z => ⟨hin, ?_⟩)
    · refine And.intro hin (nm_e (nm_r (nI_1 i) ?_))
      rw [hcl]
      refine hn' _ _ ?_ (tb_fl hc' (hs1 _ _) ?_)
      · have e3 : (if i / 7 < i % 7 then tb_r m i else 0) = 0 := if_neg (by omega)
        rw [hr', hcs, e3, Nat.add_zero]
      · rw [pk_us, tb_far]
        unfold tb_C
        rw [if_pos (Or.inl z)]
    · refine pk_eq (m i) 2 (fun z2 => ?_) (fun z2 => ?_)
      · refine And.intro hin (nm_e (nm_r (nI_1 i) ?_))
        rw [hcl]
        refine hn' _ _ ?_ (tb_fl hc' (hs1 _ _) ?_)
        · have e3 : tb_r m i = 0 := if_neg (by omega)
          rw [hr', hcs, e3, ite_self, Nat.add_zero]
        · rw [pk_us, tb_far]
          unfold tb_C
          rw [if_pos (Or.inr z2)]
      · refine br_c (fun hx => ?_) (fun hx => ⟨hin, ?_⟩)
        · have hwf := hw.mp hx
          subst hwf
          refine nm_r (nI_1 i) (hn' _ _ hr' (tb_fl hc' (hs0 _) ?_))
          rw [pk_us]
          unfold tb_C
          rw [if_neg (fun t => t.elim z z2), if_neg (fun t => absurd t.1 (by decide)), tb_nI]
        · have hwt : w = true := by
            cases w
            · exact absurd (hw.mpr rfl) hx
            · rfl
          subst hwt
          rw [if_pos rfl] at hr'
          refine pk_eq (m i) 1 (fun z3 => ⟨hin, hin, nm_e ⟨by decide, by decide, ?_⟩⟩) (fun z3 => ?_)
          · have hC : upd (upd c i (nI (p i))) i (upd c i (nI (p i)) i - 1000) i = tb_I (tb_C true p m i) := by
              rw [pk_us, pk_us]
              unfold tb_C
              rw [if_neg (fun t => t.elim z z2), if_pos ⟨rfl, z3⟩, tb_nI, tb_i1000, tb_sub]
            have e3 : tb_r m i = 1 := if_pos z3
            refine pk_le (i % 7) (i / 7) (fun g => nm_r (e' := nI (tb_cn m i)) ?_ (nm_r (nI_1 i) (hn' _ _ ?_ (tb_fl hc' (hs1 _ _) hC)))) (fun g => nm_r (e' := nI (tb_cn m i + 1)) ?_ (nm_r (nI_1 i) (hn' _ _ ?_ (tb_fl hc' (hs1 _ _) hC))))
            · rw [hr']
              exact nI_add _ 0
            · rw [if_pos rfl, hcs, if_neg (by omega), Nat.add_zero]
            · rw [hr']
              exact nI_1 _
            · rw [if_pos rfl, hcs, if_pos g, e3]
          · refine nm_r (nI_1 i) (hn' _ _ ?_ (tb_fl hc' (hs0 _) ?_))
            · have e3 : tb_r m i = 0 := if_neg z3
              rw [hr', if_pos rfl, hcs, e3, ite_self, Nat.add_zero]
            · rw [pk_us]
              unfold tb_C
              rw [if_neg (fun t => t.elim z z2), if_neg (fun t => z3 t.2), tb_nI]
theorem tb_ent_nil : tb_ent [] 1000000 0 := ⟨tb_far, rfl⟩
theorem tb_entry {post : St2 → Prop} {N set t : Nat} {C e : Nat → Int} (hN : N ≤ 7) (hs : set < 128) (ht : t < N) (hset : set ≠ 0) (hC : tb_ok C 49) (he : tb_ok e 7) (h3 : ∀ k, k < 49 → a3 k = tb_I (C k))
    (hT : ∀ s u, s < set → u < N → s.testBit u = false → tb_ent (tb_S N C e s u) (a4 (7 * s + u)) (a5 (7 * s + u)))
    (h4 : a4 (7 * set + t) = 1000000) (h5 : a5 (7 * set + t) = 0)
    (H : ∀ b4 b5, (∀ j, j ≠ 7 * set + t → b4 j = a4 j ∧ b5 j = a5 j) → tb_ent (tb_S N C e set t) (b4 (7 * set + t)) (b5 (7 * set + t)) → post (nI N, q, a1, a2, a3, b4, b5, a6, a7, a8, a9, a10, a11)) : wpX_fillEntry post (nI N, q, a1, a2, a3, a4, a5, a6, a7, a8, a9, a10, a11) (nI set) (nI t) := by
  refine nm_r (tb_ix set t) ?_
  refine pk_loop (σ := (Nat → Int32) × (Nat → Int32)) (fun f x s => wX_fillEntry_10 post (nI set) (nI t) (nI (7 * set + t)) (nI N) q f (nI x) a1 a2 a3 s.1 s.2 a6 a7 a8 a9 a10 a11)
    (fun x s => (∀ j, j ≠ 7 * set + t → s.1 j = a4 j ∧ s.2 j = a5 j) ∧ tb_ent (tb_pre N C e set t x) (s.1 (7 * set + t)) (s.2 (7 * set + t))) N 0 (a4, a5) (by omega) ⟨fun j _ => ⟨rfl, rfl⟩, ?_⟩ ?_ ?_
  · show tb_ent (tb_pre N C e set t 0) (a4 (7 * set + t)) (a5 (7 * set + t))
    rw [h4, h5, tb_pre_0]
    exact tb_ent_nil
  · intro f s hI
    refine pk_le N N (fun _ => H _ _ hI.1 ?_) (fun z => absurd z (by omega))
    rw [tb_S_pos hset]
    exact hI.2
  · intro f x s hx hI hn
    obtain ⟨c4, c5⟩ := s
    obtain ⟨hfr, hen⟩ := hI
    have hfr' : ∀ j, j ≠ 7 * set + t → c4 j = a4 j ∧ c5 j = a5 j := hfr
    have hen' : tb_ent (tb_pre N C e set t x) (c4 (7 * set + t)) (c5 (7 * set + t)) := hen
    have hn' : ∀ (d4 d5 : Nat → Int32), (∀ j, j ≠ 7 * set + t → d4 j = a4 j ∧ d5 j = a5 j) → tb_ent (tb_pre N C e set t (x + 1)) (d4 (7 * set + t)) (d5 (7 * set + t)) → wX_fillEntry_10 post (nI set) (nI t) (nI (7 * set + t)) (nI N) q f (nI (x + 1)) a1 a2 a3 d4 d5 a6 a7 a8 a9 a10 a11 := fun d4 d5 g1 g2 => hn (d4, d5) ⟨g1, g2⟩
    clear hn hfr hen
    show wX_fillEntry_10 post (nI set) (nI t) (nI (7 * set + t)) (nI N) q (f + 1) (nI x) a1 a2 a3 c4 c5 a6 a7 a8 a9 a10 a11
    have hpb : ∀ z, z ∈ tb_pre N C e set t x → -128000 ≤ z ∧ z ≤ 5120 := by
      intro z hz
      obtain ⟨x', hx', hz'⟩ := tb_pre_mem.mp hz
      exact tb_S_b hN hC he hs (by omega) ((tb_S_mem hset).mpr ⟨x', by omega, hz'⟩)
    have hsame : tb_one N C e set t x = [] → wX_fillEntry_10 post (nI set) (nI t) (nI (7 * set + t)) (nI N) q f (nI (x + 1)) a1 a2 a3 c4 c5 a6 a7 a8 a9 a10 a11 := by
      intro h0
      refine hn' c4 c5 hfr' ?_
      rw [tb_pre_s, h0, List.append_nil]
      exact hen'
    refine pk_le N x (fun z => absurd z (by omega)) (fun _ => ⟨?_, ?_⟩)
    · rw [tb_ix]
      exact vp_in_nI (by omega) (by omega)
    rw [tb_ix, nI_clamp (show 7 * t + x < 2 ^ 31 by omega), h3 _ (by omega), tb_bit set hs x (by omega), tb_clr set hs x (by omega), tb_ix]
    refine nm_e ?_
    by_cases hb : set.testBit x = true
    rotate_left
    · rw [if_neg hb]
      exact br_f (by decide) (nm_r (nI_1 x) (hsame (tb_one_f (fun t => hb t.1))))
    rw [if_pos hb]
    refine br_t rfl ?_
    have hCx := hC (7 * t + x) (by omega)
    refine tb_le 1000000 (C (7 * t + x)) (fun hf => nm_r (nI_1 x) (hsame (tb_one_f (fun t => absurd t.2 (by omega))))) (fun hf => ?_) tb_far rfl (by omega) (by omega)
    have hrl := tb_rm_lt hb
    have hB : 7 * tb_rm set x + x < 2 ^ 31 := by omega
    have hBK : 7 * tb_rm set x + x ≠ 7 * set + t := by omega
    have hK : 7 * set + t < 2 ^ 31 := by omega
    have hin6 : vp_in (nI (7 * tb_rm set x + x)) 896 := vp_in_nI (by omega) (by omega)
    have hin3 : vp_in (nI (7 * set + t)) 896 := vp_in_nI (by omega) (by omega)
    obtain ⟨hv, hw⟩ := hT (tb_rm set x) x hrl hx (tb_rm_self hs (by omega))
    rw [← (hfr' _ hBK).1] at hv
    rw [← (hfr' _ hBK).2] at hw
    have hvb := tb_mS_b hN hC he (show tb_rm set x < 128 by omega) (show x < 7 by omega)
    have hone := tb_one_t (N := N) (e := e) (t := t) hb hf
    have hrb : ∀ z, z ∈ tb_S N C e (tb_rm set x) x → z < 1000000 := by
      intro z hz
      have := tb_S_b hN hC he (show tb_rm set x < 128 by omega) (show x < 7 by omega) hz
      omega
    obtain ⟨hu, hk⟩ := hen'
    have hub : tb_mn (tb_pre N C e set t x) = 1000000 ∨ (-128000 ≤ tb_mn (tb_pre N C e set t x) ∧ tb_mn (tb_pre N C e set t x) ≤ 5120) := by
      rcases tb_mn_or (tb_pre N C e set t x) with g | g
      · exact Or.inl g
      · exact Or.inr (hpb _ g)
    have hKK : (nI (7 * set + t)).toNatClampNeg = 7 * set + t := nI_clamp hK
    have hBB : (nI (7 * tb_rm set x + x)).toNatClampNeg = 7 * tb_rm set x + x := nI_clamp hB
    generalize hKe : 7 * set + t = K at *
    generalize hBe : 7 * tb_rm set x + x = B at *
    have hv' : c4 (nI B).toNatClampNeg = tb_I (tb_mn (tb_S N C e (tb_rm set x) x)) := by rw [hBB]; exact hv
    have hw' : c5 (nI B).toNatClampNeg = nI ((tb_S N C e (tb_rm set x) x).count (tb_mn (tb_S N C e (tb_rm set x) x))) := by rw [hBB]; exact hw
    have hu' : c4 (nI K).toNatClampNeg = tb_I (tb_mn (tb_pre N C e set t x)) := by rw [hKK]; exact hu
    have hk' : c5 (nI K).toNatClampNeg = nI ((tb_pre N C e set t x).count (tb_mn (tb_pre N C e set t x))) := by rw [hKK]; exact hk
    have hps := tb_pre_s N C e set t x
    rw [hone] at hps
    generalize tb_S N C e (tb_rm set x) x = r at *
    generalize tb_pre N C e set t x = l at *
    have fr : ∀ y z, ∀ j, j ≠ K → upd c4 (nI K).toNatClampNeg y j = a4 j ∧ upd c5 (nI K).toNatClampNeg z j = a5 j := by
      intro y z j hj
      rw [hKK, pk_un hj, pk_un hj]
      exact hfr' j hj
    have fr5 : ∀ z, ∀ j, j ≠ K → c4 j = a4 j ∧ upd c5 (nI K).toNatClampNeg z j = a5 j := by
      intro z j hj
      rw [hKK, pk_un hj]
      exact hfr' j hj
    refine nm_e ⟨hin6, nm_r (e' := tb_I (C (7 * t + x) + tb_mn r)) (by rw [hv', tb_add]) ⟨hin6, ?_⟩⟩
    refine tb_le 1000000 (tb_mn r) (fun hf2 => ?_) (fun hf2 => ⟨hin3, ?_⟩) tb_far hv' (by omega) (by omega)
    · refine And.intro hin6 (tb_le 1000000 (tb_mn r) (fun _ => nm_r (nI_1 x) (hsame ?_)) (fun z => absurd z (by omega)) tb_far hv' (by omega) (by omega))
      rw [hone, tb_mn_nil hrb (by omega)]
      rfl
    · refine tb_le (tb_mn l) (C (7 * t + x) + tb_mn r) (fun hle => ?_) (fun hlt => ⟨hin3, nm_e ⟨hin6, hin3, nm_e (nm_r (nI_1 x) (hn' _ _ (fr _ _) ?_))⟩⟩) hu' rfl (by omega) (by omega)
      · refine And.intro hin6 (tb_le 1000000 (tb_mn r) (fun z => absurd z (by omega)) (fun _ => ⟨hin3, ?_⟩) tb_far hv' (by omega) (by omega))
        refine tb_eq (C (7 * t + x) + tb_mn r) (tb_mn l) (fun heq => ⟨hin3, hin6, hin3, nm_e (nm_r (nI_1 x) (hn' _ _ (fr5 _) ?_))⟩) (fun hne => nm_r (nI_1 x) (hn' _ _ hfr' ?_)) rfl hu' (by omega) (by omega)
        · obtain ⟨g1, g2⟩ := tb_st_eq (l := l) (r := r) (c := C (7 * t + x)) (by omega) hf2 heq
          rw [hps]
          refine ⟨?_, ?_⟩
          · rw [g1]
            exact hu
          · rw [g1, g2, hKK, pk_us, ← nI_add, ← hw', ← hk', hKK]
        · obtain ⟨g1, g2⟩ := tb_st_gt (l := l) (r := r) (c := C (7 * t + x)) (by omega) (by omega)
          rw [hps]
          refine ⟨?_, ?_⟩
          · rw [g1]
            exact hu
          · rw [g1, g2]
            exact hk
      · obtain ⟨g1, g2⟩ := tb_st_lt (l := l) (r := r) (c := C (7 * t + x)) (by omega) hf2 hlt
        rw [hps]
        refine ⟨?_, ?_⟩
        · rw [g1, hKK, pk_us]
        · rw [g1, g2, hKK, pk_us, ← hw', hBB]
theorem tb_14 {post : St2 → Prop} {J : Int32 → Int32 → Int32 → (Nat → Int32) → (Nat → Int32) → (Nat → Int32) → (Nat → Int32) → (Nat → Int32) → (Nat → Int32) → (Nat → Int32) → (Nat → Int32) → (Nat → Int32) → (Nat → Int32) → (Nat → Int32) → Prop} {N set : Nat} {C e : Nat → Int} (hN : N ≤ 7) (hs : set < 128) (hset : set ≠ 0) (hC : tb_ok C 49) (he : tb_ok e 7) (h3 : ∀ k, k < 49 → a3 k = tb_I (C k))
    (hT : ∀ s u, s < set → u < N → s.testBit u = false → tb_ent (tb_S N C e s u) (a4 (7 * s + u)) (a5 (7 * s + u)))
    (H : ∀ b4 b5, (∀ s u, s < set + 1 → u < N → s.testBit u = false → tb_ent (tb_S N C e s u) (b4 (7 * s + u)) (b5 (7 * s + u))) → J (nI (set + 1)) (nI N) q a1 a2 a3 b4 b5 a6 a7 a8 a9 a10 a11) : ∃ fu, wX_fillSets_14 post J (nI set) fu 0 (nI N) q a1 a2 a3 a4 a5 a6 a7 a8 a9 a10 a11 := by
  refine pk_loop (σ := (Nat → Int32) × (Nat → Int32)) (fun f t s => wX_fillSets_14 post J (nI set) f (nI t) (nI N) q a1 a2 a3 s.1 s.2 a6 a7 a8 a9 a10 a11)
    (fun t s => ∀ v u, (v < set ∨ (v = set ∧ u < t)) → u < N → v.testBit u = false → tb_ent (tb_S N C e v u) (s.1 (7 * v + u)) (s.2 (7 * v + u))) N 0 (a4, a5) (by omega) ?_ ?_ ?_
  · intro v u hv hu hb
    exact hT v u (by omega) hu hb
  · intro f s hI
    exact pk_le N N (fun _ => nm_r (nI_1 set) (H _ _ (fun v u hv hu hb => hI v u (by omega) hu hb))) (fun z => absurd z (by omega))
  · intro f t s ht hI hn
    obtain ⟨c4, c5⟩ := s
    have hI' : ∀ v u, (v < set ∨ (v = set ∧ u < t)) → u < N → v.testBit u = false → tb_ent (tb_S N C e v u) (c4 (7 * v + u)) (c5 (7 * v + u)) := hI
    have hn' : ∀ (d4 d5 : Nat → Int32), (∀ v u, (v < set ∨ (v = set ∧ u < t + 1)) → u < N → v.testBit u = false → tb_ent (tb_S N C e v u) (d4 (7 * v + u)) (d5 (7 * v + u))) → wX_fillSets_14 post J (nI set) f (nI (t + 1)) (nI N) q a1 a2 a3 d4 d5 a6 a7 a8 a9 a10 a11 := fun d4 d5 g => hn (d4, d5) g
    clear hn hI
    show wX_fillSets_14 post J (nI set) (f + 1) (nI t) (nI N) q a1 a2 a3 c4 c5 a6 a7 a8 a9 a10 a11
    have hK : (nI (7 * set + t)).toNatClampNeg = 7 * set + t := nI_clamp (by omega)
    have hin : vp_in (nI (7 * set + t)) 896 := vp_in_nI (by omega) (by omega)
    refine pk_le N t (fun z => absurd z (by omega)) (fun _ => nm_r (tb_ix set t) ⟨hin, nm_e ⟨hin, nm_e ?_⟩⟩)
    rw [hK, tb_bit set hs t (by omega)]
    have hfr : ∀ x y v u, (v < set ∨ (v = set ∧ u < t)) → u < N → upd c4 (7 * set + t) x (7 * v + u) = c4 (7 * v + u) ∧ upd c5 (7 * set + t) y (7 * v + u) = c5 (7 * v + u) := by
      intro x y v u hv hu
      have hne : 7 * v + u ≠ 7 * set + t := by omega
      rw [pk_un hne, pk_un hne]
      exact ⟨rfl, rfl⟩
    by_cases hb : set.testBit t = true
    · rw [if_pos hb]
      refine br_f (by decide) (nm_r (nI_1 t) (hn' _ _ (fun v u hv hu hbu => ?_)))
      by_cases hvu : v = set ∧ u = t
      · rw [hvu.1, hvu.2, hb] at hbu
        cases hbu
      · rw [(hfr _ 0 v u (by omega) hu).1, (hfr 0 _ v u (by omega) hu).2]
        exact hI' v u (by omega) hu hbu
    · rw [if_neg hb]
      refine br_t rfl (tb_entry hN hs ht hset hC he h3 (fun v u hv hu hbu => ?_) pk_us pk_us (fun b4 b5 g1 g2 => nm_r (nI_1 t) (hn' _ _ (fun v u hv hu hbu => ?_))))
      · rw [(hfr _ 0 v u (by omega) hu).1, (hfr 0 _ v u (by omega) hu).2]
        exact hI' v u (by omega) hu hbu
      · by_cases hvu : v = set ∧ u = t
        · rw [hvu.1, hvu.2]
          exact g2
        · have hne : 7 * v + u ≠ 7 * set + t := by omega
          rw [(g1 _ hne).1, (g1 _ hne).2, (hfr _ 0 v u (by omega) hu).1, (hfr 0 _ v u (by omega) hu).2]
          exact hI' v u (by omega) hu hbu
theorem tb_fillSets {post : St2 → Prop} {N : Nat} {C e : Nat → Int} (hN2 : 2 ≤ N) (hN : N ≤ 7) (hC : tb_ok C 49) (he : tb_ok e 7) (h3 : ∀ k, k < 49 → a3 k = tb_I (C k))
    (h0 : ∀ t, t < 7 → tb_ent (tb_ba e t) (a4 t) (a5 t))
    (H : ∀ b4 b5, tb_tab N C e b4 b5 → post (nI N, q, a1, a2, a3, b4, b5, a6, a7, a8, a9, a10, a11)) : wpX_fillSets post (nI N, q, a1, a2, a3, a4, a5, a6, a7, a8, a9, a10, a11) := by
  have hp := tb_pw N (by omega) hN2
  have hsh := tb_shl N (by omega)
  refine pk_loop (σ := (Nat → Int32) × (Nat → Int32)) (fun f set s => wX_fillSets_2 post f (nI set) (nI N) q a1 a2 a3 s.1 s.2 a6 a7 a8 a9 a10 a11)
    (fun set s => 1 ≤ set ∧ ∀ v u, v < set → u < N → v.testBit u = false → tb_ent (tb_S N C e v u) (s.1 (7 * v + u)) (s.2 (7 * v + u))) (2 ^ N) 1 (a4, a5) (by omega) ⟨by omega, ?_⟩ ?_ ?_
  · intro v u hv hu hb
    have hv0 : v = 0 := by omega
    subst hv0
    rw [tb_S_0]
    show tb_ent (tb_ba e u) (a4 (7 * 0 + u)) (a5 (7 * 0 + u))
    rw [show 7 * 0 + u = u by omega]
    exact h0 u (by omega)
  · intro f s hI
    exact pk_le (2 ^ N) (2 ^ N) (fun _ => H _ _ (fun v hv u hu hb => hI.2 v u hv hu hb)) (fun z => absurd z (by omega)) hsh rfl (by omega) (by omega)
  · intro f set s hset hI hn
    exact pk_le (2 ^ N) set (fun z => absurd z (by omega)) (fun _ => tb_14 hN (by omega) (by omega) hC he h3 hI.2 (fun b4 b5 g => hn (b4, b5) ⟨by omega, g⟩)) hsh rfl (by omega) (by omega)
theorem tb_ba_ent {e : Nat → Int} {t : Nat} (h : e t < 1000000) : tb_ent (tb_ba e t) (tb_I (e t)) 1 := by
  have h1 : tb_ba e t = [e t] := if_pos h
  have h2 : tb_mn [e t] = e t := tb_mn_eq (List.mem_singleton.mpr rfl) (fun x hx => by rw [List.mem_singleton.mp hx]; exact Int.le_refl _) h
  rw [h1]
  refine ⟨by rw [h2], ?_⟩
  rw [h2, List.count_singleton_self]
  rfl
theorem tb_ba_ent0 {e : Nat → Int} {t : Nat} (h : ¬ e t < 1000000) : tb_ent (tb_ba e t) (tb_I 1000000) 0 := by
  have h1 : tb_ba e t = [] := if_neg h
  rw [h1]
  exact ⟨rfl, rfl⟩
theorem tb_44 {post : St2 → Prop} {J : Int32 → (Nat → Int32) → (Nat → Int32) → (Nat → Int32) → (Nat → Int32) → (Nat → Int32) → (Nat → Int32) → (Nat → Int32) → (Nat → Int32) → (Nat → Int32) → (Nat → Int32) → (Nat → Int32) → Prop} {nn : Int32} {z : Int32} {t : Nat} {e : Nat → Int} (ht : t < 7) (he : tb_ok e 7) (hz : z = tb_I (e t))
    (h : ∀ u, u < t → tb_ent (tb_ba e u) (a4 u) (a5 u))
    (H : ∀ b4 b5, (∀ u, u < t + 1 → tb_ent (tb_ba e u) (b4 u) (b5 u)) → J (nI (t + 1)) a1 a2 a3 b4 b5 a6 a7 a8 a9 a10 a11) : wX_fill_44 post J (nI t) z (nI t) nn q a1 a2 a3 a4 a5 a6 a7 a8 a9 a10 a11 := by
  have het := he t ht
  have hc : (nI t).toNatClampNeg = t := nI_clamp (by omega)
  have hin : vp_in (nI t) 896 := vp_in_nI (by omega) (by omega)
  have key : ∀ x y, tb_ent (tb_ba e t) x y → ∀ u, u < t + 1 → tb_ent (tb_ba e u) (upd a4 t x u) (upd a5 t y u) := by
    intro x y hxy u hu
    by_cases hut : u = t
    · rw [hut, pk_us, pk_us]
      exact hxy
    · rw [pk_un hut, pk_un hut]
      exact h u (by omega)
  refine And.intro hin (nm_e ⟨hin, ?_⟩)
  rw [hc, pk_us, hz]
  refine tb_le 1000000 (e t) (fun g => ⟨hin, nm_e (nm_r (nI_1 t) (H _ _ (key _ _ ?_)))⟩) (fun g => ⟨hin, nm_e (nm_r (nI_1 t) (H _ _ (key _ _ ?_)))⟩) tb_far rfl (by omega) (by omega)
  · rw [show e t = 1000000 by omega]
    exact tb_ba_ent0 (by omega)
  · exact tb_ba_ent g
theorem tb_fill {post : St2 → Prop} {N : Nat} {p m : Nat → Nat} (hV : tb_V N p m) (h1 : tb_pic a1 p) (h2 : tb_pic a2 m)
    (H : ∀ b3 b4 b5, (∀ k, k < 49 → b3 k = tb_I (tb_C true p m k)) → tb_tab N (tb_C true p m) (tb_et N (tb_C true p m)) b4 b5 → post (nI N, nI (tb_rq N m), a1, a2, b3, b4, b5, a6, a7, a8, a9, a10, a11)) : wpX_fill post (nI N, q, a1, a2, a3, a4, a5, a6, a7, a8, a9, a10, a11) := by
  have hN2 := hV.1
  have hN := hV.2.1
  have hC := tb_C_ok hV true
  have he := tb_et_ok (N := N) hC
  refine tb_take (q := q) (w := true) (x1 := 1) ⟨fun z => absurd z (by decide), fun z => absurd z (by decide)⟩ hV h1 h2 (fun c hc => ?_)
  rw [if_pos rfl]
  generalize tb_C true p m = C at *
  refine pk_loop (σ := (Nat → Int32) × (Nat → Int32)) (fun f t s => wX_fill_7 post (nI N) (nI (tb_rq N m)) f (nI t) a1 a2 c s.1 s.2 a6 a7 a8 a9 a10 a11) (fun t s => ∀ u, u < t → tb_ent (tb_ba (tb_et N C) u) (s.1 u) (s.2 u)) 7 0 (a4, a5) (by omega) (fun u hu => absurd hu (by omega)) ?_ ?_
  · intro f s hI
    exact pk_le 7 7 (fun _ => tb_fillSets hN2 hN hC he hc hI (fun b4 b5 g => H c b4 b5 hc g)) (fun z => absurd z (by omega))
  · intro f t s ht hI hn
    refine pk_le 7 t (fun z => absurd z (by omega)) (fun _ => ?_)
    refine pk_eq t 0 (fun z => ?_) (fun z => ?_)
    · refine tb_44 ht he ?_ hI (fun b4 b5 g => hn (b4, b5) g)
      unfold tb_et
      rw [if_pos (Or.inl z)]
      exact tb_far
    · refine pk_lt t N (fun g => ⟨?_, ?_⟩) (fun g => ?_)
      · rw [show (7 : Int32) = nI 7 from rfl, pk_mul]
        exact vp_in_nI (by omega) (by omega)
      · refine tb_44 ht he ?_ hI (fun b4 b5 g => hn (b4, b5) g)
        unfold tb_et
        rw [if_neg (by omega), show (7 : Int32) = nI 7 from rfl, pk_mul, nI_clamp (by omega)]
        exact hc _ (by omega)
      · refine tb_44 ht he ?_ hI (fun b4 b5 g => hn (b4, b5) g)
        unfold tb_et
        rw [if_pos (Or.inr g)]
        exact tb_far
/-- the tours' sums, and the best price -/
def tb_T (N : Nat) (p m : Nat → Nat) : List Int := tb_S N (tb_C true p m) (tb_et N (tb_C true p m)) (2 ^ N - 2) 0
def tb_bn (N : Nat) (p m : Nat → Nat) : Int := if tb_mn (tb_T N p m) < 1000000 ∧ tb_mn (tb_T N p m) ≤ 280 - 1000 * (tb_rq N m : Int) then tb_mn (tb_T N p m) + 1000 * (tb_rq N m : Int) else -1
theorem tb_T_b {N : Nat} {p m : Nat → Nat} (hV : tb_V N p m) : tb_mn (tb_T N p m) = 1000000 ∨ (-128000 ≤ tb_mn (tb_T N p m) ∧ tb_mn (tb_T N p m) ≤ 5120) := by
  have hp := tb_pw N (by have := hV.2.1; omega) hV.1
  exact tb_mS_b hV.2.1 (tb_C_ok hV true) (tb_et_ok (tb_C_ok hV true)) (by omega) (by omega)
theorem tb_uses {post : Int32 → Prop} {N : Nat} {m : Nat → Nat} {x : Int} {y nn : Int32} (hy : y = tb_I x) (hx : -1000000 ≤ x ∧ x ≤ 3000000) (H0 : ¬ x ≤ 280 - 1000 * (tb_rq N m : Int) → post 0) (H1 : x ≤ 280 - 1000 * (tb_rq N m : Int) → post 1) : wpX_usesAll post (nn, nI (tb_rq N m), a1, a2, a3, a4, a5, a6, a7, a8, a9, a10, a11) y := by
  have h := tb_rq_le N m
  refine tb_lt (280 - 1000 * (tb_rq N m : Int)) x (fun g => H0 (by omega)) (fun g => H1 g) ?_ hy (by omega) (by omega)
  rw [tb_nI, tb_i280, tb_i1000, tb_mul, tb_sub]
theorem tb_bestNow {post : Int32 → Prop} {N : Nat} {p m : Nat → Nat} (hV : tb_V N p m) (h4 : tb_tab N (tb_C true p m) (tb_et N (tb_C true p m)) a4 a5) (H : post (tb_I (tb_bn N p m))) : wpX_bestNow post (nI N, nI (tb_rq N m), a1, a2, a3, a4, a5, a6, a7, a8, a9, a10, a11) := by
  have hN2 := hV.1
  have hN := hV.2.1
  have hp := tb_pw N (by omega) hN2
  have hT := tb_T_b hV
  have hrq := tb_rq_le N m
  have e : (7 : Int32) * (((1 : Int32) <<< (nI N &&& 31)) - 2) = nI (7 * (2 ^ N - 2)) := by
    rw [tb_full N (by omega) hN2, show (7 : Int32) = nI 7 from rfl, pk_mul]
  unfold wpX_bestNow
  dsimp only
  rw [e, nI_clamp (show 7 * (2 ^ N - 2) < 2 ^ 31 by omega)]
  have hv : a4 (7 * (2 ^ N - 2)) = tb_I (tb_mn (tb_T N p m)) := (h4 (2 ^ N - 2) (by omega) 0 (by omega) (by rw [tb_b_full N (by omega) hN2 0 (by omega)]; rfl)).1
  refine ⟨vp_in_nI (by omega) (by omega), nm_r hv ?_⟩
  unfold tb_bn at H
  refine tb_le 1000000 (tb_mn (tb_T N p m)) (fun g => ?_) (fun g => ?_) tb_far rfl (by omega) (by omega)
  · rw [if_neg (by omega), ← tb_im1] at H
    exact H
  · refine tb_uses rfl (by omega) (fun g2 => br_t rfl ?_) (fun g2 => br_f (by decide) ?_)
    · rw [if_neg (by omega), ← tb_im1] at H
      exact H
    · rw [if_pos ⟨g, g2⟩] at H
      rw [tb_nI, tb_i1000, tb_mul, tb_add]
      exact H
theorem tb_best {post : Int32 → St2 → Prop} {N : Nat} {p m : Nat → Nat} (hV : tb_V N p m) (h1 : tb_pic a1 p) (h2 : tb_pic a2 m) (H : ∀ q b3 b4 b5 b6 b7 b8 b9 b10 b11, post (tb_I (tb_bn N p m)) (nI N, q, a1, a2, b3, b4, b5, b6, b7, b8, b9, b10, b11)) : wpX_best post (nI N, q, a1, a2, a3, a4, a5, a6, a7, a8, a9, a10, a11) :=
  tb_fill (q := q) hV h1 h2 (fun b3 b4 b5 _ g => tb_bestNow hV g (H _ _ _ _ _ _ _ _ _ _))
theorem tb_bestTours {post : Int32 → St2 → Prop} {N : Nat} {p m : Nat → Nat} (hV : tb_V N p m) (h1 : tb_pic a1 p) (h2 : tb_pic a2 m) (hb : 0 ≤ tb_bn N p m) (H : ∀ q b3 b4 b5 b6 b7 b8 b9 b10 b11, post (nI ((tb_T N p m).count (tb_mn (tb_T N p m)))) (nI N, q, a1, a2, b3, b4, b5, b6, b7, b8, b9, b10, b11)) : wpX_bestTours post (nI N, q, a1, a2, a3, a4, a5, a6, a7, a8, a9, a10, a11) := by
  refine tb_fill (q := q) hV h1 h2 (fun b3 b4 b5 _ g => tb_bestNow hV g ?_)
  have hN2 := hV.1
  have hN := hV.2.1
  have hp := tb_pw N (by omega) hN2
  have hT := tb_T_b hV
  have hrq := tb_rq_le N m
  have e : (7 : Int32) * (((1 : Int32) <<< (nI N &&& 31)) - 2) = nI (7 * (2 ^ N - 2)) := by
    rw [tb_full N (by omega) hN2, show (7 : Int32) = nI 7 from rfl, pk_mul]
  have hw : b5 (7 * (2 ^ N - 2)) = nI ((tb_T N p m).count (tb_mn (tb_T N p m))) := (g (2 ^ N - 2) (by omega) 0 (by omega) (by rw [tb_b_full N (by omega) hN2 0 (by omega)]; rfl)).2
  have hbb : tb_bn N p m ≤ 1000000 := by
    unfold tb_bn
    split
    · omega
    · omega
  rw [e, nI_clamp (show 7 * (2 ^ N - 2) < 2 ^ 31 by omega), hw]
  exact tb_le 0 (tb_bn N p m) (fun _ => ⟨vp_in_nI (by omega) (by omega), H _ _ _ _ _ _ _ _ _ _⟩) (fun z => absurd z (by omega)) tb_i0 rfl (by omega) (by omega)
end
end
section
/-! within: the search with a stack -/
def tb_cb (s : Nat) : Nat → Nat
  | 0 => 0
  | k + 1 => tb_cb s k + (if s.testBit k = true then 1 else 0)
def tb_pc (s : Nat) : Nat := tb_cb s 7
def tb_BB : Nat → Nat
  | 0 => 1
  | M + 1 => 7 + (M + 1) * tb_BB M
theorem tb_cb_mono (s : Nat) {j k : Nat} (h : j ≤ k) : tb_cb s j ≤ tb_cb s k := by
  induction k with
  | zero =>
    have : j = 0 := by omega
    rw [this]
    exact Nat.le_refl _
  | succ k ih =>
    by_cases e : j = k + 1
    · rw [e]
      exact Nat.le_refl _
    · have := ih (by omega)
      show tb_cb s j ≤ tb_cb s k + _
      omega
theorem tb_pc_rm : ∀ s, s < 128 → ∀ k, k < 7 → s.testBit k = true → tb_pc (tb_rm s k) + 1 = tb_pc s := by decide +kernel
theorem tb_pc_0 : ∀ s, s < 128 → tb_pc s = 0 → s = 0 := by decide +kernel
theorem tb_pc_full : ∀ n, n < 8 → 2 ≤ n → tb_pc (2 ^ n - 2) ≤ 6 := by decide +kernel
theorem tb_rm_eq {s x : Nat} (h : ¬ s.testBit x = true) : tb_rm s x = s := if_neg h
theorem tb_cp (g q s c : Int) (l : List Int) : (l.map (fun y => c + y)).countP (fun x => tb_q g q (s + x)) = l.countP (fun x => tb_q g q (s + c + x)) := by
  rw [List.countP_map]
  congr 1
  funext y
  show tb_q g q (s + (c + y)) = tb_q g q (s + c + y)
  rw [Int.add_assoc]
section
variable {a1 a2 a3 a4 a5 a6 a7 a8 a9 a10 a11 : Nat → Int32}
/-- the loop of within ends well from here -/
def tb_WP (post : Int32 → St2 → Prop) (g n r : Int32) (a1 a2 a3 a4 a5 a10 a11 : Nat → Int32) (fo de st : Int32) (b6 b7 b8 b9 : Nat → Int32) : Prop := ∃ f, wX_within_75 post g n r f fo de st a1 a2 a3 a4 a5 b6 b7 b8 b9 a10 a11
theorem tb_leaf {post : Int32 → St2 → Prop} {N : Nat} {m : Nat → Nat} {C : Nat → Int} {g s : Int} {fo d st t : Nat} {b6 b7 b8 b9 : Nat → Int32} (hN : N ≤ 7) (hC : tb_ok C 49) (hg : -1000000 ≤ g ∧ g ≤ 1000000) (hT : tb_tab N C (tb_et N C) a4 a5) (hd : d < 8) (hst : st < 20000) (ht : t < N) (hs : -7000 ≤ s ∧ s ≤ 300)
    (h6 : b6 d = nI t) (h7 : b7 d = nI 0) (h8 : b8 d = tb_I s)
    (K : tb_WP post (tb_I g) (nI N) (nI (tb_rq N m)) a1 a2 a3 a4 a5 a10 a11 (nI (fo + (tb_S N C (tb_et N C) 0 t).countP (fun x => tb_q g (tb_rq N m) (s + x)))) (nI d + (-1)) (nI (st + 1)) b6 b7 b8 b9) :
    tb_WP post (tb_I g) (nI N) (nI (tb_rq N m)) a1 a2 a3 a4 a5 a10 a11 (nI fo) (nI d) (nI st) b6 b7 b8 b9 := by
  obtain ⟨f, hf⟩ := K
  have hcl : (nI d).toNatClampNeg = d := nI_clamp (by omega)
  have hin : vp_in (nI d) 8 := pk_in d 8 hd
  have hc6 : (nI t).toNatClampNeg = t := nI_clamp (by omega)
  have he := tb_et_ok (N := N) hC t (by omega)
  have hp : 0 < 2 ^ N := Nat.two_pow_pos N
  have hrq := tb_rq_le N m
  have h4 : a4 t = tb_I (tb_mn (tb_S N C (tb_et N C) 0 t)) := by
    have h := (hT 0 hp t ht (Nat.zero_testBit t)).1
    rw [show 7 * 0 + t = t by omega] at h
    exact h
  refine ⟨f + 1, ?_⟩
  refine pk_le 20000 st (fun z => absurd z (by omega)) (fun _ => br_f (nI_pos (by omega)) ⟨hin, nm_e ⟨hin, ?_⟩⟩)
  rw [hcl, h7, h6, h8, hc6, h4]
  refine br_t nI_0 ⟨hin, hin, pk_in t 896 (by omega), ?_⟩
  rw [tb_add]
  by_cases hz : tb_et N C t < 1000000
  · have e1 : tb_S N C (tb_et N C) 0 t = [tb_et N C t] := if_pos hz
    have e2 : tb_mn [tb_et N C t] = tb_et N C t := tb_mn_eq (List.mem_singleton.mpr rfl) (fun x hx => by rw [List.mem_singleton.mp hx]; exact Int.le_refl _) hz
    rw [e1] at hf ⊢
    rw [e2]
    have hf0 : ¬ (s + tb_et N C t ≤ g ∧ s + tb_et N C t ≤ 280 - 1000 * (tb_rq N m : Int)) → wX_within_75 post (tb_I g) (nI N) (nI (tb_rq N m)) f (nI fo) (nI d + (-1)) (nI (st + 1)) a1 a2 a3 a4 a5 b6 b7 b8 b9 a10 a11 := by
      intro h
      rw [List.countP_singleton, tb_q_f h] at hf
      exact hf
    have hf1 : s + tb_et N C t ≤ g → s + tb_et N C t ≤ 280 - 1000 * (tb_rq N m : Int) → wX_within_75 post (tb_I g) (nI N) (nI (tb_rq N m)) f (nI (fo + 1)) (nI d + (-1)) (nI (st + 1)) a1 a2 a3 a4 a5 b6 b7 b8 b9 a10 a11 := by
      intro h h'
      rw [List.countP_singleton, tb_q_t h h'] at hf
      exact hf
    refine nm_e ?_
    refine tb_le 1000000 (s + tb_et N C t) (fun z => absurd z (by omega)) (fun _ => ?_) tb_far rfl (by omega) (by omega)
    refine tb_lt g (s + tb_et N C t) (fun z => nm_r (nI_add fo 0) (nm_e (nm_r (nI_1 st) (hf0 (by omega))))) (fun z => ?_) rfl rfl (by omega) (by omega)
    refine tb_uses rfl (by omega) (fun z2 => br_t rfl (nm_r (nI_add fo 0) (nm_e (nm_r (nI_1 st) (hf0 (by omega)))))) (fun z2 => br_f (by decide) (nm_r (nI_1 fo) (nm_e (nm_r (nI_1 st) (hf1 z z2)))))
  · have e1 : tb_S N C (tb_et N C) 0 t = [] := if_neg hz
    rw [e1] at hf ⊢
    have e2 : tb_mn [] = 1000000 := rfl
    rw [e2]
    have hf0 : wX_within_75 post (tb_I g) (nI N) (nI (tb_rq N m)) f (nI fo) (nI d + (-1)) (nI (st + 1)) a1 a2 a3 a4 a5 b6 b7 b8 b9 a10 a11 := hf
    refine nm_e ?_
    refine tb_le 1000000 (s + 1000000) (fun z => nm_r (nI_add fo 0) (nm_e (nm_r (nI_1 st) hf0))) (fun _ => ?_) tb_far rfl (by omega) (by omega)
    refine tb_lt g (s + 1000000) (fun z => nm_r (nI_add fo 0) (nm_e (nm_r (nI_1 st) hf0))) (fun z => ?_) rfl rfl (by omega) (by omega)
    refine tb_uses rfl (by omega) (fun z2 => br_t rfl (nm_r (nI_add fo 0) (nm_e (nm_r (nI_1 st) hf0)))) (fun z2 => absurd z2 (by omega))
theorem tb_pop {post : Int32 → St2 → Prop} {N : Nat} {r : Int32} {g : Int} {fo : Int32} {d st set : Nat} {b6 b7 b8 b9 : Nat → Int32} (hd : d < 8) (hst : st < 20000) (hset : set ≠ 0) (hs : set < 128) (h7 : b7 d = nI set) (h9 : b9 d = nI N)
    (K : tb_WP post (tb_I g) (nI N) r a1 a2 a3 a4 a5 a10 a11 fo (nI d + (-1)) (nI (st + 1)) b6 b7 b8 b9) :
    tb_WP post (tb_I g) (nI N) r a1 a2 a3 a4 a5 a10 a11 fo (nI d) (nI st) b6 b7 b8 b9 := by
  obtain ⟨f, hf⟩ := K
  have hcl : (nI d).toNatClampNeg = d := nI_clamp (by omega)
  have hin : vp_in (nI d) 8 := pk_in d 8 hd
  refine ⟨f + 1, ?_⟩
  refine pk_le 20000 st (fun z => absurd z (by omega)) (fun _ => br_f (nI_pos (by omega)) ⟨hin, nm_e ⟨hin, ?_⟩⟩)
  rw [hcl, h7, h9]
  refine br_f (nI_ne0 (by omega) (by omega)) (br_t rfl (nm_e (nm_r (nI_1 st) hf)))
theorem tb_try {post : Int32 → St2 → Prop} {N : Nat} {r : Int32} {C : Nat → Int} {g s : Int} {fo : Int32} {d st set t k : Nat} {b6 b7 b8 b9 : Nat → Int32} (hN : N ≤ 7) (hC : tb_ok C 49) (h3 : ∀ k, k < 49 → a3 k = tb_I (C k)) (hg : -1000000 ≤ g ∧ g ≤ 1000000) (hT : tb_tab N C (tb_et N C) a4 a5) (hd : d < 7) (hst : st < 20000) (ht : t < N) (hk : k < N) (hset : set ≠ 0) (hs2 : set < 2 ^ N) (hs7 : set < 128) (hs : -7000 ≤ s ∧ s ≤ 300)
    (h6 : b6 d = nI t) (h7 : b7 d = nI set) (h8 : b8 d = tb_I s) (h9 : b9 d = nI k)
    (K0 : ¬ (set.testBit k = true ∧ C (7 * t + k) < 1000000 ∧ s + C (7 * t + k) + tb_mn (tb_S N C (tb_et N C) (tb_rm set k) k) ≤ g) → tb_WP post (tb_I g) (nI N) r a1 a2 a3 a4 a5 a10 a11 fo (nI d) (nI (st + 1)) b6 b7 b8 (upd b9 d (nI (k + 1))))
    (K1 : set.testBit k = true → C (7 * t + k) < 1000000 → tb_WP post (tb_I g) (nI N) r a1 a2 a3 a4 a5 a10 a11 fo (nI (d + 1)) (nI (st + 1)) (upd b6 (d + 1) (nI k)) (upd b7 (d + 1) (nI (tb_rm set k))) (upd b8 (d + 1) (tb_I (s + C (7 * t + k)))) (upd (upd b9 d (nI (k + 1))) (d + 1) 1)) :
    tb_WP post (tb_I g) (nI N) r a1 a2 a3 a4 a5 a10 a11 fo (nI d) (nI st) b6 b7 b8 b9 := by
  have hcl : (nI d).toNatClampNeg = d := nI_clamp (by omega)
  have hin : vp_in (nI d) 8 := pk_in d 8 (by omega)
  have hCk := hC (7 * t + k) (by omega)
  have hc9 : nI k + 1 = nI (k + 1) := nI_1 k
  have hck : (nI (7 * t + k)).toNatClampNeg = 7 * t + k := nI_clamp (by omega)
  have hclr := tb_clr set hs7 k (by omega)
  have hin49 : vp_in (nI (7 * t + k)) 49 := vp_in_nI (by omega) (by omega)
  have hrl := tb_rm_le set k
  by_cases hb : set.testBit k = true
  · by_cases hf : C (7 * t + k) < 1000000
    · have hin896 : vp_in (nI (7 * tb_rm set k + k)) 896 := vp_in_nI (by omega) (by omega)
      have hcb : (nI (7 * tb_rm set k + k)).toNatClampNeg = 7 * tb_rm set k + k := nI_clamp (by omega)
      have hv := (hT (tb_rm set k) (by omega) k hk (tb_rm_self hs7 (by omega))).1
      have hvb := tb_mS_b hN hC (tb_et_ok (N := N) hC) (show tb_rm set k < 128 by omega) (show k < 7 by omega)
      have hlt := tb_rm_lt hb
      have hd1 : nI d + 1 = nI (d + 1) := nI_1 d
      have hcd1 : (nI (d + 1)).toNatClampNeg = d + 1 := nI_clamp (by omega)
      have hin1 : vp_in (nI (d + 1)) 8 := vp_in_nI (by omega) (by omega)
      by_cases hle : s + C (7 * t + k) + tb_mn (tb_S N C (tb_et N C) (tb_rm set k) k) ≤ g
      · obtain ⟨f, hf1⟩ := K1 hb hf
        refine ⟨f + 1, ?_⟩
        refine pk_le 20000 st (fun z => absurd z (by omega)) (fun _ => br_f (nI_pos (by omega)) ⟨hin, nm_e ⟨hin, ?_⟩⟩)
        rw [hcl, h7, h9, h6]
        refine br_f (nI_ne0 (by omega) (by omega)) (pk_eq k N (fun z => absurd z (by omega)) (fun _ => ⟨hin, hin, nm_e ⟨hin, ?_⟩⟩))
        rw [tb_ix, hck, h3 _ (by omega), hclr]
        refine ⟨hin49, nm_e ⟨hin, nm_e ⟨hin, ?_⟩⟩⟩
        refine pk_eq (tb_rm set k) set (fun z => absurd z (by omega)) (fun _ => ?_)
        refine tb_le 1000000 (C (7 * t + k)) (fun z => absurd z (by omega)) (fun _ => ?_) tb_far rfl (by omega) (by omega)
        refine br_f (by decide) ⟨hin, ?_⟩
        rw [tb_ix, hcb, hcl, h8, hv, tb_add, tb_add, hd1, hcd1, hc9]
        refine ⟨hin896, tb_lt g (s + C (7 * t + k) + tb_mn (tb_S N C (tb_et N C) (tb_rm set k) k)) (fun z => absurd z (by omega)) (fun _ => ?_) rfl rfl (by omega) (by omega)⟩
        exact ⟨hin1, nm_e ⟨hin1, nm_e ⟨hin, hin1, nm_e ⟨hin1, nm_e (nm_e (nm_r (nI_1 st) hf1))⟩⟩⟩⟩
      · obtain ⟨f, hf1⟩ := K0 (fun z => hle z.2.2)
        refine ⟨f + 1, ?_⟩
        refine pk_le 20000 st (fun z => absurd z (by omega)) (fun _ => br_f (nI_pos (by omega)) ⟨hin, nm_e ⟨hin, ?_⟩⟩)
        rw [hcl, h7, h9, h6]
        refine br_f (nI_ne0 (by omega) (by omega)) (pk_eq k N (fun z => absurd z (by omega)) (fun _ => ⟨hin, hin, nm_e ⟨hin, ?_⟩⟩))
        rw [tb_ix, hck, h3 _ (by omega), hclr]
        refine ⟨hin49, nm_e ⟨hin, nm_e ⟨hin, ?_⟩⟩⟩
        refine pk_eq (tb_rm set k) set (fun z => absurd z (by omega)) (fun _ => ?_)
        refine tb_le 1000000 (C (7 * t + k)) (fun z => absurd z (by omega)) (fun _ => ?_) tb_far rfl (by omega) (by omega)
        refine br_f (by decide) ⟨hin, ?_⟩
        rw [tb_ix, hcb, hcl, h8, hv, tb_add, tb_add, hc9]
        exact ⟨hin896, tb_lt g (s + C (7 * t + k) + tb_mn (tb_S N C (tb_et N C) (tb_rm set k) k)) (fun _ => nm_r (nI_1 st) hf1) (fun z => absurd z (by omega)) rfl rfl (by omega) (by omega)⟩
    · obtain ⟨f, hf1⟩ := K0 (fun z => hf z.2.1)
      refine ⟨f + 1, ?_⟩
      refine pk_le 20000 st (fun z => absurd z (by omega)) (fun _ => br_f (nI_pos (by omega)) ⟨hin, nm_e ⟨hin, ?_⟩⟩)
      rw [hcl, h7, h9, h6]
      refine br_f (nI_ne0 (by omega) (by omega)) (pk_eq k N (fun z => absurd z (by omega)) (fun _ => ⟨hin, hin, nm_e ⟨hin, ?_⟩⟩))
      rw [tb_ix, hck, h3 _ (by omega), hclr, hc9]
      refine ⟨hin49, nm_e ⟨hin, nm_e ⟨hin, ?_⟩⟩⟩
      have hlt := tb_rm_lt hb
      refine pk_eq (tb_rm set k) set (fun z => absurd z (by omega)) (fun _ => ?_)
      exact tb_le 1000000 (C (7 * t + k)) (fun _ => br_t rfl (nm_r (nI_1 st) hf1)) (fun z => absurd z (by omega)) tb_far rfl (by omega) (by omega)
  · obtain ⟨f, hf1⟩ := K0 (fun z => hb z.1)
    refine ⟨f + 1, ?_⟩
    refine pk_le 20000 st (fun z => absurd z (by omega)) (fun _ => br_f (nI_pos (by omega)) ⟨hin, nm_e ⟨hin, ?_⟩⟩)
    rw [hcl, h7, h9, h6]
    refine br_f (nI_ne0 (by omega) (by omega)) (pk_eq k N (fun z => absurd z (by omega)) (fun _ => ⟨hin, hin, nm_e ⟨hin, ?_⟩⟩))
    rw [tb_ix, hck, h3 _ (by omega), hclr, tb_rm_eq hb, hc9]
    exact ⟨hin49, nm_e ⟨hin, nm_e ⟨hin, br_t rfl (br_t rfl (nm_r (nI_1 st) hf1))⟩⟩⟩
theorem tb_node {post : Int32 → St2 → Prop} {N : Nat} {m : Nat → Nat} {C : Nat → Int} {g : Int} (hN : N ≤ 7) (hC : tb_ok C 49) (h3 : ∀ k, k < 49 → a3 k = tb_I (C k)) (hg : -1000000 ≤ g ∧ g ≤ 1000000) (hT : tb_tab N C (tb_et N C) a4 a5) : ∀ (M set d t fo st : Nat) (s : Int) (b6 b7 b8 b9 : Nat → Int32),
    tb_pc set = M → set < 2 ^ N → set < 128 → set.testBit 0 = false → d + M ≤ 6 → st + tb_BB M ≤ 20000 → t < N → -1000 * (d : Int) ≤ s ∧ s ≤ 40 * (d : Int) →
    b6 d = nI t → b7 d = nI set → b8 d = tb_I s → b9 d = nI 1 →
    (∀ (st' : Nat) (c6 c7 c8 c9 : Nat → Int32), st' ≤ st + tb_BB M → (∀ j, j < d → c6 j = b6 j ∧ c7 j = b7 j ∧ c8 j = b8 j ∧ c9 j = b9 j) → tb_WP post (tb_I g) (nI N) (nI (tb_rq N m)) a1 a2 a3 a4 a5 a10 a11 (nI (fo + (tb_S N C (tb_et N C) set t).countP (fun x => tb_q g (tb_rq N m) (s + x)))) (nI d + (-1)) (nI st') c6 c7 c8 c9) →
    tb_WP post (tb_I g) (nI N) (nI (tb_rq N m)) a1 a2 a3 a4 a5 a10 a11 (nI fo) (nI d) (nI st) b6 b7 b8 b9 := by
  intro M
  induction M with
  | zero =>
    intro set d t fo st s b6 b7 b8 b9 hpc hs2 hs7 hb0 hd hst ht hs h6 h7 h8 h9 K
    have h0 := tb_pc_0 set hs7 hpc
    subst h0
    have hB : tb_BB 0 = 1 := rfl
    exact tb_leaf hN hC hg hT (by omega) (by omega) ht (by omega) h6 h7 h8 (K (st + 1) b6 b7 b8 b9 (by omega) (fun j _ => ⟨rfl, rfl, rfl, rfl⟩))
  | succ M ih =>
    intro set d t fo st s b6 b7 b8 b9 hpc hs2 hs7 hb0 hd hst ht hs h6 h7 h8 h9 K
    have hB : tb_BB (M + 1) = 7 + (M + 1) * tb_BB M := rfl
    have hset : set ≠ 0 := by
      intro h
      subst h
      exact absurd hpc (by have : tb_pc 0 = 0 := by decide
                           omega)
    rw [tb_S_pos hset] at K
    have inner : ∀ (j k fo' st' : Nat) (c6 c7 c8 c9 : Nat → Int32), k + j = N → 1 ≤ k → fo' = fo + (tb_pre N C (tb_et N C) set t k).countP (fun x => tb_q g (tb_rq N m) (s + x)) → st' + 1 ≤ st + k + tb_cb set k * tb_BB M →
        (∀ j, j < d → c6 j = b6 j ∧ c7 j = b7 j ∧ c8 j = b8 j ∧ c9 j = b9 j) → c6 d = nI t → c7 d = nI set → c8 d = tb_I s → c9 d = nI k →
        tb_WP post (tb_I g) (nI N) (nI (tb_rq N m)) a1 a2 a3 a4 a5 a10 a11 (nI fo') (nI d) (nI st') c6 c7 c8 c9 := by
      intro j
      induction j with
      | zero =>
        intro k fo' st' c6 c7 c8 c9 hkj hk1 hfo hst' hfr g6 g7 g8 g9
        have hkN : k = N := by omega
        subst hkN
        have hm : tb_cb set k ≤ tb_cb set 7 := tb_cb_mono set hN
        have hpc' : tb_cb set 7 = M + 1 := hpc
        have hmul : tb_cb set k * tb_BB M ≤ (M + 1) * tb_BB M := Nat.mul_le_mul_right _ (by omega)
        rw [hfo]
        exact tb_pop (by omega) (by omega) hset hs7 g7 g9 (K (st' + 1) c6 c7 c8 c9 (by omega) hfr)
      | succ j ihj =>
        intro k fo' st' c6 c7 c8 c9 hkj hk1 hfo hst' hfr g6 g7 g8 g9
        have hm : tb_cb set (k + 1) ≤ tb_cb set 7 := tb_cb_mono set (by omega)
        have hpc' : tb_cb set 7 = M + 1 := hpc
        have hcbs : tb_cb set (k + 1) = tb_cb set k + (if set.testBit k = true then 1 else 0) := rfl
        have hmul1 : tb_cb set k * tb_BB M ≤ tb_cb set (k + 1) * tb_BB M := Nat.mul_le_mul_right _ (by omega)
        have hmul2 : tb_cb set (k + 1) * tb_BB M ≤ (M + 1) * tb_BB M := Nat.mul_le_mul_right _ (by omega)
        have hps := tb_pre_s N C (tb_et N C) set t k
        refine tb_try hN hC h3 hg hT (by omega) (by omega) ht (by omega) hset hs2 hs7 (by omega) g6 g7 g8 g9 (fun hno => ?_) (fun hb hf => ?_)
        · refine ihj (k + 1) fo' (st' + 1) c6 c7 c8 _ (by omega) (by omega) ?_ (by omega) (fun i hi => ?_) g6 g7 g8 pk_us
          · rw [hfo, hps, List.countP_append]
            have hz : (tb_one N C (tb_et N C) set t k).countP (fun x => tb_q g (tb_rq N m) (s + x)) = 0 := by
              by_cases hb : set.testBit k = true ∧ C (7 * t + k) < 1000000
              · rw [tb_one_t hb.1 hb.2, List.countP_eq_zero]
                intro x hx
                obtain ⟨y, hy, rfl⟩ := List.mem_map.mp hx
                have hy2 := tb_mn_le hy
                have hno2 : ¬ s + C (7 * t + k) + tb_mn (tb_S N C (tb_et N C) (tb_rm set k) k) ≤ g := fun z => hno ⟨hb.1, hb.2, z⟩
                show ¬ tb_q g (tb_rq N m) (s + (C (7 * t + k) + y)) = true
                rw [tb_q_f (by omega)]
                decide
              · rw [tb_one_f hb]
                rfl
            omega
          · have hne : i ≠ d := by omega
            rw [pk_un hne]
            exact hfr i hi
        · have hcb1 : tb_cb set (k + 1) = tb_cb set k + 1 := by rw [hcbs, if_pos hb]
          have hmul3 : tb_cb set (k + 1) * tb_BB M = tb_cb set k * tb_BB M + tb_BB M := by rw [hcb1, Nat.succ_mul]
          have hpr := tb_pc_rm set hs7 k (by omega) hb
          have hrl := tb_rm_le set k
          have hCk := hC (7 * t + k) (by omega)
          refine ih (tb_rm set k) (d + 1) k fo' (st' + 1) (s + C (7 * t + k)) _ _ _ _ (by omega) (by omega) (by omega) ?_ (by omega) (by omega) (by omega) (by omega) pk_us pk_us pk_us pk_us ?_
          · rw [tb_rm_bit set hs7 k (by omega) 0 (by omega), hb0]
            rfl
          · intro st2 e6 e7 e8 e9 hst2 hfr2
            have hd1 : nI (d + 1) + (-1) = nI d := pk_m1 d
            rw [hd1]
            have hdd := hfr2 d (by omega)
            have hne : d ≠ d + 1 := by omega
            rw [pk_un hne, pk_un hne, pk_un hne, pk_un hne, pk_us] at hdd
            refine ihj (k + 1) _ st2 e6 e7 e8 e9 (by omega) (by omega) ?_ (by omega) (fun i hi => ?_) (by rw [hdd.1]; exact g6) (by rw [hdd.2.1]; exact g7) (by rw [hdd.2.2.1]; exact g8) hdd.2.2.2
            · rw [hfo, hps, List.countP_append, tb_one_t hb hf, tb_cp, Nat.add_assoc]
            · have h := hfr2 i (by omega)
              have hi1 : i ≠ d + 1 := by omega
              have hi2 : i ≠ d := by omega
              rw [pk_un hi1, pk_un hi1, pk_un hi1, pk_un hi1, pk_un hi2] at h
              have h' := hfr i hi
              exact ⟨h.1.trans h'.1, h.2.1.trans h'.2.1, h.2.2.1.trans h'.2.2.1, h.2.2.2.trans h'.2.2.2⟩
    have hp1 : (tb_pre N C (tb_et N C) set t 1) = [] := by
      rw [tb_pre_s, tb_pre_0, List.nil_append]
      exact tb_one_f (fun z => by rw [hb0] at z; exact absurd z.1 (by decide))
    refine inner (N - 1) 1 fo st b6 b7 b8 b9 (by omega) (by omega) ?_ (by omega) (fun j _ => ⟨rfl, rfl, rfl, rfl⟩) h6 h7 h8 h9
    rw [hp1]
    rfl
/-- what within answers -/
def tb_wi (N : Nat) (p m : Nat → Nat) (l : Int) : Nat := if l < 0 then 0 else (tb_T N p m).countP (tb_q (if l < 1000000 then l - 1000 * (tb_rq N m : Int) else 1000000) (tb_rq N m))
theorem tb_w31 {post : Int32 → St2 → Prop} {N : Nat} {p m : Nat → Nat} {g : Int} (hV : tb_V N p m) (h3 : ∀ k, k < 49 → a3 k = tb_I (tb_C true p m k)) (hg : -1000000 ≤ g ∧ g ≤ 1000000) (hT : tb_tab N (tb_C true p m) (tb_et N (tb_C true p m)) a4 a5)
    (H : ∀ b6 b7 b8 b9, post (nI ((tb_T N p m).countP (tb_q g (tb_rq N m)))) (nI N, nI (tb_rq N m), a1, a2, a3, a4, a5, b6, b7, b8, b9, a10, a11)) : wX_within_31 post (tb_I g) (nI N) (nI (tb_rq N m)) a1 a2 a3 a4 a5 a6 a7 a8 a9 a10 a11 := by
  have hN2 := hV.1
  have hN := hV.2.1
  have hp := tb_pw N (by omega) hN2
  have hB : tb_BB 6 = 9379 := by decide
  have hpc := tb_pc_full N (by omega) hN2
  have hBm : tb_BB (tb_pc (2 ^ N - 2)) ≤ 9379 := by
    have h : ∀ M, M ≤ 6 → tb_BB M ≤ 9379 := by
      intro M hM
      have h2 : ∀ M, M < 7 → tb_BB M ≤ 9379 := by decide
      exact h2 M (by omega)
    exact h _ hpc
  refine nm_e (nm_r (e' := upd a7 0 (nI (2 ^ N - 2))) (by rw [tb_full N (by omega) hN2]) (nm_e (nm_e ?_)))
  refine tb_node (m := m) (C := tb_C true p m) (g := g) hN (tb_C_ok hV true) h3 hg hT (tb_pc (2 ^ N - 2)) (2 ^ N - 2) 0 0 0 0 0 (upd a6 0 0) (upd a7 0 (nI (2 ^ N - 2))) (upd a8 0 0) (upd a9 0 1) rfl (by omega) (by omega) (by rw [tb_b_full N (by omega) hN2 0 (by omega)]; rfl) (by omega) (by omega) (by omega) (by omega) pk_us pk_us (pk_us.trans tb_i0) pk_us ?_
  intro st' c6 c7 c8 c9 hst' _
  refine ⟨1, ?_⟩
  have hcnt : 0 + (tb_S N (tb_C true p m) (tb_et N (tb_C true p m)) (2 ^ N - 2) 0).countP (fun x => tb_q g (tb_rq N m) (0 + x)) = (tb_T N p m).countP (tb_q g (tb_rq N m)) := by
    rw [Nat.zero_add]
    have e : (fun x => tb_q g (tb_rq N m) (0 + x)) = tb_q g (tb_rq N m) := by
      funext x
      rw [Int.zero_add]
    rw [e]
    rfl
  rw [hcnt]
  exact pk_le 20000 st' (fun _ => H _ _ _ _) (fun _ => br_t (by decide) (H _ _ _ _))
theorem tb_within {post : Int32 → St2 → Prop} {N : Nat} {p m : Nat → Nat} {q y : Int32} {l : Int} (hV : tb_V N p m) (h1 : tb_pic a1 p) (h2 : tb_pic a2 m) (hy : y = tb_I l) (hl : -100000 ≤ l ∧ l ≤ 1000000) (H : ∀ q b3 b4 b5 b6 b7 b8 b9 b10 b11, post (nI (tb_wi N p m l)) (nI N, q, a1, a2, b3, b4, b5, b6, b7, b8, b9, b10, b11)) : wpX_within post (nI N, q, a1, a2, a3, a4, a5, a6, a7, a8, a9, a10, a11) y := by
  have hrq := tb_rq_le N m
  unfold tb_wi at H
  refine tb_le 0 l (fun g => ?_) (fun g => ?_) tb_i0 hy (by omega) (by omega)
  · rw [if_neg (by omega)] at H
    refine tb_fill (q := q) hV h1 h2 (fun b3 b4 b5 k3 k4 => ?_)
    refine tb_lt l 1000000 (fun g2 => ?_) (fun g2 => ?_) hy tb_far (by omega) (by omega)
    · rw [if_pos g2] at H
      have e : y - 1000 * nI (tb_rq N m) = tb_I (l - 1000 * (tb_rq N m : Int)) := by
        rw [hy, tb_nI, tb_i1000, tb_mul, tb_sub]
      rw [e]
      exact tb_w31 hV k3 (by omega) k4 (fun b6 b7 b8 b9 => H _ _ _ _ _ _ _ _ _ _)
    · rw [if_neg (by omega)] at H
      rw [tb_far]
      exact tb_w31 hV k3 (by omega) k4 (fun b6 b7 b8 b9 => H _ _ _ _ _ _ _ _ _ _)
  · rw [if_pos g] at H
    exact H _ _ _ _ _ _ _ _ _ _
theorem tb_allowed {post : Int32 → St2 → Prop} {N : Nat} {p m : Nat → Nat} {q : Int32} (hV : tb_V N p m) (h1 : tb_pic a1 p) (h2 : tb_pic a2 m) (H : ∀ q b3 b4 b5 b6 b7 b8 b9 b10 b11, post (nI (tb_wi N p m 1000000)) (nI N, q, a1, a2, b3, b4, b5, b6, b7, b8, b9, b10, b11)) : wpX_allowed post (nI N, q, a1, a2, a3, a4, a5, a6, a7, a8, a9, a10, a11) :=
  tb_within hV h1 h2 tb_far (by omega) (fun q b3 b4 b5 b6 b7 b8 b9 b10 b11 => H q b3 b4 b5 b6 b7 b8 b9 b10 b11)
end
end
section
/-! the code of a best tour, reading it, its price -/
theorem tb_pc_full1 : ∀ n, n < 8 → 2 ≤ n → 1 + tb_pc (2 ^ n - 2) = n := by decide +kernel
def tb_ad (s x : Nat) : Nat := if s.testBit x = true then s else s + 2 ^ x
theorem tb_or : ∀ s, s < 128 → ∀ x, x < 7 → nI s ||| ((1 : Int32) <<< (nI x &&& 31)) = nI (tb_ad s x) := by decide +kernel
theorem tb_ad_bit : ∀ s, s < 128 → ∀ x, x < 7 → ∀ y, y < 7 → (tb_ad s x).testBit y = (s.testBit y || decide (y = x)) := by decide +kernel
theorem tb_ad_lt : ∀ s, s < 128 → ∀ x, x < 7 → tb_ad s x < 128 := by decide +kernel
def tb_g (ts : List Nat) (j : Nat) : Nat := (0 :: ts).getD j 0
theorem tb_gD {ts : List Nat} {j : Nat} (h : j < ts.length) : ts.getD j 0 = ts[j] := by
  rw [List.getD_eq_getElem?_getD, List.getElem?_eq_getElem h]
  rfl
theorem tb_dr {ts : List Nat} {j : Nat} (h : j < ts.length) : ts.drop j = tb_g ts (j + 1) :: ts.drop (j + 1) := by
  rw [List.drop_eq_getElem_cons h]
  congr 1
  unfold tb_g
  rw [List.getD_cons_succ, tb_gD h]
theorem tb_tk {ts : List Nat} {j : Nat} (h : j < ts.length) : ts.take (j + 1) = ts.take j ++ [tb_g ts (j + 1)] := by
  rw [List.take_add_one, List.getElem?_eq_getElem h]
  unfold tb_g
  rw [List.getD_cons_succ, tb_gD h]
  rfl
theorem tb_gm {ts : List Nat} {j : Nat} (h : j < ts.length) : tb_g ts (j + 1) ∈ ts := by
  unfold tb_g
  rw [List.getD_cons_succ, tb_gD h]
  exact List.getElem_mem h
theorem tb_rt_len {N : Nat} (hN : N ≤ 7) (hN2 : 2 ≤ N) {ts : List Nat} (h : tb_rt N (2 ^ N - 2) ts) : ts.length + 1 = N := by
  have hl := (tb_rt_perm hN hN2 h).length_eq
  rw [List.length_range, List.length_cons] at hl
  exact hl
theorem tb_g7 {N : Nat} (hN : N ≤ 7) (hN2 : 2 ≤ N) {ts : List Nat} (h : tb_rt N (2 ^ N - 2) ts) {j : Nat} (hj : j < N) : tb_g ts j < 7 := by
  have hl := tb_rt_len hN hN2 h
  have hp := tb_pw N (by omega) hN2
  cases j with
  | zero => exact (by decide : 0 < 7)
  | succ j => exact ((tb_rt_mem hN (by omega) h _).mp (tb_gm (by omega))).1
section
variable {n q : Int32} {a1 a2 a3 a4 a5 a6 a7 a8 a9 a10 a11 : Nat → Int32}
theorem tb_leads {post : Int32 → Prop} {N set t x : Nat} {C e : Nat → Int} (hN : N ≤ 7) (hC : tb_ok C 49) (he : tb_ok e 7) (h3 : ∀ k, k < 49 → a3 k = tb_I (C k)) (hT : tb_tab N C e a4 a5) (hs2 : set < 2 ^ N) (hs : set < 128) (ht : t < N) (hbt : set.testBit t = false) (hx : x < N)
    (H1 : set.testBit x = true → C (7 * t + x) < 1000000 → C (7 * t + x) + tb_mn (tb_S N C e (tb_rm set x) x) = tb_mn (tb_S N C e set t) → post 1)
    (H0 : ¬ (set.testBit x = true ∧ C (7 * t + x) < 1000000 ∧ C (7 * t + x) + tb_mn (tb_S N C e (tb_rm set x) x) = tb_mn (tb_S N C e set t)) → post 0) : wpX_leadsOn post (n, q, a1, a2, a3, a4, a5, a6, a7, a8, a9, a10, a11) (nI set) (nI t) (nI x) := by
  have hCk := hC (7 * t + x) (by omega)
  have hrl := tb_rm_le set x
  have hv := (hT (tb_rm set x) (by omega) x hx (tb_rm_self hs (by omega))).1
  have hu := (hT set hs2 t ht hbt).1
  have hvb := tb_mS_b hN hC he (show tb_rm set x < 128 by omega) (show x < 7 by omega)
  have hub := tb_mS_b hN hC he hs (show t < 7 by omega)
  unfold wpX_leadsOn
  dsimp only
  rw [tb_bit set hs x (by omega), tb_clr set hs x (by omega), tb_ix, tb_ix, tb_ix, nI_clamp (show 7 * t + x < 2 ^ 31 by omega), nI_clamp (show 7 * set + t < 2 ^ 31 by omega), h3 _ (by omega), hu]
  by_cases hb : set.testBit x = true
  · rw [if_pos hb]
    refine br_f (by decide) ⟨vp_in_nI (by omega) (by omega), ?_⟩
    refine tb_lt (C (7 * t + x)) 1000000 (fun g => nm_e ⟨vp_in_nI (by omega) (by omega), vp_in_nI (by omega) (by omega), vp_in_nI (by omega) (by omega), ?_⟩) (fun g => H0 (fun z => absurd z.2.1 (by omega))) rfl tb_far (by omega) (by omega)
    rw [nI_clamp (show 7 * tb_rm set x + x < 2 ^ 31 by omega), hv, tb_add]
    exact tb_eq _ _ (fun z => H1 hb g z) (fun z => H0 (fun w => z w.2.2)) rfl rfl (by omega) (by omega)
  · rw [if_neg hb]
    exact br_t rfl (H0 (fun z => hb z.1))
theorem tb_41 {post : Int32 → St2 → Prop} {J : Int32 → Int32 → Int32 → Int32 → Prop} {N set t c k : Nat} {C e : Nat → Int} (hN2 : 2 ≤ N) (hN : N ≤ 7) (hC : tb_ok C 49) (he : tb_ok e 7) (h3 : ∀ k, k < 49 → a3 k = tb_I (C k)) (hT : tb_tab N C e a4 a5) (hs2 : set < 2 ^ N) (hs : set < 128) (hb0 : set.testBit 0 = false) (ht : t < N) (hbt : set.testBit t = false) (h0 : set ≠ 0) (hm : tb_mn (tb_S N C e set t) < 1000000)
    (H : ∀ x, x < N → set.testBit x = true → C (7 * t + x) < 1000000 → C (7 * t + x) + tb_mn (tb_S N C e (tb_rm set x) x) = tb_mn (tb_S N C e set t) → J (nI (tb_rm set x)) (nI x) (nI (7 * c + x)) (nI (k + 1))) :
    ∃ fu, wX_bestCode_41 post J (nI set) (nI t) (nI c) (nI k) (nI N) q a1 a2 a3 a4 a5 a6 a7 a8 a9 a10 a11 fu 1 := by
  obtain ⟨x0, hx0, hb, hc, he0⟩ := tb_next hN hC he hs h0 hm
  have hx1 : 1 ≤ x0 := by
    rcases Nat.eq_zero_or_pos x0 with h | h
    · rw [h, hb0] at hb
      cases hb
    · exact h
  have h69 : ∀ x, x < N → set.testBit x = true → C (7 * t + x) < 1000000 → C (7 * t + x) + tb_mn (tb_S N C e (tb_rm set x) x) = tb_mn (tb_S N C e set t) → wX_bestCode_69 post J (nI set) (nI c) (nI k) (nI x) (nI N) q a1 a2 a3 a4 a5 a6 a7 a8 a9 a10 a11 := by
    intro x hx g1 g2 g3
    exact nm_r (tb_ix c x) (nm_r (tb_clr set hs x (by omega)) (nm_r (nI_1 k) (H x hx g1 g2 g3)))
  have hN1 : nI N - 1 = nI (N - 1) := by
    have h := nI_pred (N - 1)
    rw [show N - 1 + 1 = N by omega] at h
    exact h
  refine pk_loop (σ := Unit) (fun f x _ => wX_bestCode_41 post J (nI set) (nI t) (nI c) (nI k) (nI N) q a1 a2 a3 a4 a5 a6 a7 a8 a9 a10 a11 f (nI x)) (fun x _ => ∀ y, 1 ≤ y → y < x → ¬ (set.testBit y = true ∧ C (7 * t + y) < 1000000 ∧ C (7 * t + y) + tb_mn (tb_S N C e (tb_rm set y) y) = tb_mn (tb_S N C e set t))) (N - 1) 1 () (by omega) (fun y h1 h2 => absurd h2 (by omega)) ?_ ?_
  · intro f _ hI
    have hxe : x0 = N - 1 := by
      apply Classical.byContradiction
      intro hne
      exact hI x0 hx1 (by omega) ⟨hb, hc, he0⟩
    rw [hxe] at hx0 hb hc he0
    exact pk_le (N - 1) (N - 1) (fun _ => h69 _ hx0 hb hc he0) (fun z => absurd z (by omega)) hN1 rfl (by omega) (by omega)
  · intro f x _ hx hI hn
    refine pk_le (N - 1) x (fun z => absurd z (by omega)) (fun _ => ?_) hN1 rfl (by omega) (by omega)
    refine tb_leads hN hC he h3 hT hs2 hs ht hbt (by omega) (fun g1 g2 g3 => br_f (by decide) (h69 x (by omega) g1 g2 g3)) (fun g => br_t rfl (nm_r (nI_1 x) (hn () (fun y h1 h2 => ?_))))
    by_cases hyx : y = x
    · rw [hyx]
      exact g
    · exact hI y h1 (by omega)
theorem tb_29 {post : Int32 → St2 → Prop} {N : Nat} {C : Nat → Int} (hN2 : 2 ≤ N) (hN : N ≤ 7) (hC : tb_ok C 49) (h3 : ∀ k, k < 49 → a3 k = tb_I (C k)) (hT : tb_tab N C (tb_et N C) a4 a5) : ∀ (M f set t c k : Nat), M < f → k + M = N → tb_pc set = M → set < 2 ^ N → set < 128 → set.testBit 0 = false → t < N → set.testBit t = false → tb_mn (tb_S N C (tb_et N C) set t) < 1000000 →
    (∀ ts, tb_rt N set ts → tb_op C t ts → tb_cs C t ts = tb_mn (tb_S N C (tb_et N C) set t) → post (nI (tb_code c ts)) (nI N, q, a1, a2, a3, a4, a5, a6, a7, a8, a9, a10, a11)) →
    wX_bestCode_29 post (nI N) q a1 a2 a3 a4 a5 a6 a7 a8 a9 a10 a11 f (nI set) (nI t) (nI c) (nI k) := by
  intro M
  induction M with
  | zero =>
    intro f set t c k hf hk hpc hs2 hs hb0 ht hbt hm H
    obtain ⟨f', rfl⟩ : ∃ f', f = f' + 1 := ⟨f - 1, by omega⟩
    have h0 := tb_pc_0 set hs hpc
    subst h0
    have hkN : k = N := by omega
    rw [hkN]
    have hmem := tb_mn_lt hm
    rw [tb_S_0] at hmem
    obtain ⟨g1, g2⟩ := tb_ba_mem.mp hmem
    have h5 : ¬ (t = 0 ∨ N ≤ t) := by
      intro h
      unfold tb_et at g1
      rw [if_pos h] at g1
      omega
    have h4 : tb_et N C t = C (7 * t) := by
      unfold tb_et
      rw [if_neg h5]
    rw [h4] at g1 g2
    exact pk_le N N (fun _ => H [] rfl g1 g2.symm) (fun z => absurd z (by omega))
  | succ M ih =>
    intro f set t c k hf hk hpc hs2 hs hb0 ht hbt hm H
    obtain ⟨f', rfl⟩ : ∃ f', f = f' + 1 := ⟨f - 1, by omega⟩
    have hset : set ≠ 0 := by
      intro h
      subst h
      have h2 : tb_pc 0 = 0 := by decide
      omega
    refine pk_le N k (fun z => absurd z (by omega)) (fun _ => ?_)
    refine tb_41 hN2 hN hC (tb_et_ok hC) h3 hT hs2 hs hb0 ht hbt hset hm (fun x hx g1 g2 g3 => ?_)
    have hrl := tb_rm_le set x
    have hpr := tb_pc_rm set hs x (by omega) g1
    have hvb := tb_mS_b hN hC (tb_et_ok (N := N) hC) (show tb_rm set x < 128 by omega) (show x < 7 by omega)
    have hub := tb_mS_b hN hC (tb_et_ok (N := N) hC) hs (show t < 7 by omega)
    have hCk := hC (7 * t + x) (by omega)
    refine ih f' (tb_rm set x) x (7 * c + x) (k + 1) (by omega) (by omega) (by omega) (by omega) (by omega) ?_ hx (tb_rm_self hs (by omega)) (by omega) (fun ts r1 r2 r3 => ?_)
    · rw [tb_rm_bit set hs x (by omega) 0 (by omega), hb0]
      rfl
    · refine H (x :: ts) ⟨hx, g1, r1⟩ ⟨g2, r2⟩ ?_
      show C (7 * t + x) + tb_cs C x ts = _
      rw [r3]
      exact g3
theorem tb_bestCode {post : Int32 → St2 → Prop} {N : Nat} {p m : Nat → Nat} (hV : tb_V N p m) (h1 : tb_pic a1 p) (h2 : tb_pic a2 m) (hb : 0 ≤ tb_bn N p m)
    (H : ∀ ts, tb_rt N (2 ^ N - 2) ts → tb_op (tb_C true p m) 0 ts → tb_cs (tb_C true p m) 0 ts = tb_mn (tb_T N p m) → ∀ q b3 b4 b5 b6 b7 b8 b9 b10 b11, post (nI (tb_code 0 ts)) (nI N, q, a1, a2, b3, b4, b5, b6, b7, b8, b9, b10, b11)) : wpX_bestCode post (nI N, q, a1, a2, a3, a4, a5, a6, a7, a8, a9, a10, a11) := by
  have hN2 := hV.1
  have hN := hV.2.1
  have hp := tb_pw N (by omega) hN2
  have hT := tb_T_b hV
  have hrq := tb_rq_le N m
  have hm : tb_mn (tb_T N p m) < 1000000 := by
    unfold tb_bn at hb
    split at hb
    · rename_i h
      exact h.1
    · omega
  have hbb : tb_bn N p m ≤ 1000000 := by
    unfold tb_bn
    split
    · omega
    · omega
  refine tb_fill (q := q) hV h1 h2 (fun b3 b4 b5 k3 k4 => tb_bestNow hV k4 ?_)
  refine tb_le 0 (tb_bn N p m) (fun _ => ?_) (fun z => absurd z (by omega)) tb_i0 rfl (by omega) (by omega)
  refine nm_r (tb_full N (by omega) hN2) ⟨8, ?_⟩
  have hpc := tb_pc_full1 N (by omega) hN2
  exact tb_29 hN2 hN (tb_C_ok hV true) k3 k4 (tb_pc (2 ^ N - 2)) 8 (2 ^ N - 2) 0 0 1 (by omega) hpc rfl (by omega) (by omega) (by rw [tb_b_full N (by omega) hN2 0 (by omega)]; rfl) (by omega) (by rw [tb_b_full N (by omega) hN2 0 (by omega)]; rfl) hm (fun ts r1 r2 r3 => H ts r1 r2 r3 _ _ _ _ _ _ _ _ _ _)
theorem tb_load {post : Int32 → St2 → Prop} {N : Nat} {ts : List Nat} (hN2 : 2 ≤ N) (hN : N ≤ 7) (hr : tb_rt N (2 ^ N - 2) ts) (H : ∀ b11, (∀ j, j < N → b11 j = nI (tb_g ts j)) → post 1 (nI N, q, a1, a2, a3, a4, a5, a6, a7, a8, a9, a10, b11)) : wpX_load post (nI N, q, a1, a2, a3, a4, a5, a6, a7, a8, a9, a10, a11) (nI (tb_code 0 ts)) := by
  have hp := tb_pw N (by omega) hN2
  have hlen := tb_rt_len hN hN2 hr
  have hct := tb_rt_ct hN ts _ (by omega) hr
  have hmem := tb_rt_mem hN (show 2 ^ N - 2 < 128 by omega) hr
  have hlt : ∀ x, x ∈ ts → x < 7 := fun x hx => ((hmem x).mp hx).1
  have hin : ∀ x, x ∈ ts → 0 < x ∧ x < N := by
    intro x hx
    obtain ⟨g1, g2⟩ := (hmem x).mp hx
    rw [tb_b_full N (by omega) hN2 x g1] at g2
    simp at g2
    exact g2
  have hcode : ∀ i, tb_code 0 (ts.take i) < 2 ^ 30 := by
    intro i
    have h := tb_code_lt (ts.take i) 0 (fun x hx => hlt x (List.mem_of_mem_take hx))
    have h2 : (ts.take i).length ≤ 6 := by
      have := List.length_take_le' i ts
      omega
    have h3 : 7 ^ (ts.take i).length ≤ 7 ^ 6 := Nat.pow_le_pow_right (by omega) h2
    have h4 : (7 : Nat) ^ 6 = 117649 := by decide
    omega
  have hall : ts.take (N - 1) = ts := List.take_of_length_le (by omega)
  have hc0 : tb_code 0 ts < 2 ^ 30 := by
    have h := hcode (N - 1)
    rw [hall] at h
    exact h
  have hN1 : nI N - 1 = nI (N - 1) := by
    have h := nI_pred (N - 1)
    rw [show N - 1 + 1 = N by omega] at h
    exact h
  refine br_t (nI_pos' (by omega)) (nm_e (nm_r hN1 ⟨N - 1 + 1, ?_⟩))
  refine pk_loopD (σ := Int32 × Int32 × (Nat → Int32)) (fun f i s => wX_load_25 post (nI N) q f s.1 s.2.1 (nI i) a1 a2 a3 a4 a5 a6 a7 a8 a9 a10 s.2.2)
    (fun i s => i ≤ N - 1 ∧ s.1 = nI (tb_code 0 (ts.take i)) ∧ (∃ sn, sn < 128 ∧ s.2.1 = nI sn ∧ ∀ v, v < 7 → (sn.testBit v = true ↔ (v = 0 ∨ v ∈ ts.drop i))) ∧ s.2.2 0 = nI 0 ∧ ∀ j, i < j → j < N → s.2.2 j = nI (tb_g ts j)) ?_ ?_ (N - 1) (nI (tb_code 0 ts), 1, upd a11 0 0) ?_
  · intro f s hI
    obtain ⟨x2, x3, c⟩ := s
    obtain ⟨i1, i2, i3, i4, i5⟩ := hI
    have i2' : x2 = nI 0 := i2
    have i4' : c 0 = nI 0 := i4
    have i5' : ∀ j, 0 < j → j < N → c j = nI (tb_g ts j) := i5
    refine br_t (by decide : nI 0 < 1) (br_t (i2'.trans nI_0) (H c (fun j hj => ?_)))
    rcases Nat.eq_zero_or_pos j with h | h
    · rw [h]
      exact i4'
    · exact i5' j h hj
  · intro f i s hI hn
    obtain ⟨x2, x3, c⟩ := s
    obtain ⟨i1, i2, ⟨sn, i3, i3a, i3b⟩, i4, i5⟩ := hI
    have i2' : x2 = nI (tb_code 0 (ts.take (i + 1))) := i2
    have i3' : x3 = nI sn := i3a
    have i4' : c 0 = nI 0 := i4
    have i5' : ∀ j, i + 1 < j → j < N → c j = nI (tb_g ts j) := i5
    have hn' : ∀ (y2 y3 : Int32) (c' : Nat → Int32), i ≤ N - 1 → y2 = nI (tb_code 0 (ts.take i)) → (∃ sn, sn < 128 ∧ y3 = nI sn ∧ ∀ v, v < 7 → (sn.testBit v = true ↔ (v = 0 ∨ v ∈ ts.drop i))) → c' 0 = nI 0 → (∀ j, i < j → j < N → c' j = nI (tb_g ts j)) → wX_load_25 post (nI N) q f y2 y3 (nI i) a1 a2 a3 a4 a5 a6 a7 a8 a9 a10 c' := fun y2 y3 c' g1 g2 g3 g4 g5 => hn (y2, y3, c') ⟨g1, g2, g3, g4, g5⟩
    clear hn i2 i3a i4 i5
    show wX_load_25 post (nI N) q (f + 1) x2 x3 (nI (i + 1)) a1 a2 a3 a4 a5 a6 a7 a8 a9 a10 c
    have hil : i < ts.length := by omega
    have hcd := tb_tk hil
    have hdr := tb_dr hil
    have hgm := tb_gm hil
    have hg7 := hlt _ hgm
    have hgN := hin _ hgm
    have hci := hcode i
    have hci1 := hcode (i + 1)
    rw [hcd, tb_code_app] at i2' hci1
    generalize hgx : tb_g ts (i + 1) = x at *
    have hcount := hct x
    have hsplit : ts.count x = (ts.take i).count x + ((ts.drop (i + 1)).count x + 1) := by
      have e1 : ts = ts.take i ++ (x :: ts.drop (i + 1)) := by
        rw [← hdr]
        exact (List.take_append_drop i ts).symm
      have e2 := congrArg (List.count x) e1
      rw [List.count_append, List.count_cons_self] at e2
      exact e2
    have hle1 : ts.count x ≤ 1 := by
      rw [hcount]
      split
      · exact Nat.le_refl _
      · exact Nat.zero_le _
    have hnd : x ∉ ts.drop (i + 1) := by
      intro hx
      have := List.count_pos_iff.mpr hx
      omega
    have hbf : ¬ sn.testBit x = true := by
      intro hb
      rcases (i3b x hg7).mp hb with h | h
      · omega
      · exact hnd h
    refine br_f (nI_nlt (b := 1) (by omega) (by omega)) ⟨by decide, nm_r (e' := nI x) ?_ ⟨by decide, nm_r (e' := nI (tb_code 0 (ts.take i))) ?_ ?_⟩⟩
    · rw [i2']
      have h := pk_rem (a := 7 * tb_code 0 (ts.take i) + x) (d := 7) (by omega) (by omega) (by omega)
      rw [show (7 * tb_code 0 (ts.take i) + x) % 7 = x by omega] at h
      exact h
    · rw [i2']
      have h := pk_div (a := 7 * tb_code 0 (ts.take i) + x) (d := 7) (by omega) (by omega) (by omega)
      rw [show (7 * tb_code 0 (ts.take i) + x) / 7 = tb_code 0 (ts.take i) by omega] at h
      exact h
    · refine pk_le N x (fun z => absurd z (by omega)) (fun _ => ?_)
      rw [i3', tb_bit sn i3 x hg7, if_neg hbf, tb_or sn i3 x hg7]
      refine br_f (by decide) (nm_e ⟨vp_in_nI (by omega) (by omega), nm_e (nm_r (pk_m1 i) ?_)⟩)
      rw [nI_clamp (show i + 1 < 2 ^ 31 by omega)]
      refine hn' _ _ _ (by omega) rfl ⟨tb_ad sn x, tb_ad_lt sn i3 x hg7, rfl, fun v hv => ?_⟩ ?_ (fun j hj hjN => ?_)
      · rw [tb_ad_bit sn i3 x hg7 v hv, hdr, List.mem_cons, Bool.or_eq_true, i3b v hv, decide_eq_true_iff]
        constructor
        · rintro ((h | h) | h)
          · exact Or.inl h
          · exact Or.inr (Or.inr h)
          · exact Or.inr (Or.inl h)
        · rintro (h | h | h)
          · exact Or.inl (Or.inl h)
          · exact Or.inr h
          · exact Or.inl (Or.inr h)
      · rw [pk_un (by omega)]
        exact i4'
      · by_cases hji : j = i + 1
        · rw [hji, pk_us, hgx]
        · rw [pk_un hji]
          exact i5' j (by omega) hjN
  · refine ⟨Nat.le_refl _, ?_, ⟨1, by omega, rfl, fun v hv => ?_⟩, (show upd a11 0 0 0 = nI 0 from pk_us), fun j h1 h2 => absurd h2 (by omega)⟩
    · show nI (tb_code 0 ts) = nI (tb_code 0 (ts.take (N - 1)))
      rw [hall]
    · rw [List.drop_of_length_le (by omega)]
      have h : ∀ v, v < 7 → (Nat.testBit 1 v = true ↔ v = 0) := by decide
      rw [h v hv]
      simp
end
end
section
/-! isAllowed, priceOfTour: sums along a loaded tour -/
section
variable {q : Int32} {a1 a2 a3 a4 a5 a6 a7 a8 a9 a10 a11 : Nat → Int32}
theorem tb_sum0 {D : Nat → Int} {N : Nat} {ts : List Nat} {z tot : Int} {k : Nat} (hlen : ts.length + 1 = N) (hk : k + 1 < N) (h : z + tb_cs D (tb_g ts k) (ts.drop k) = tot) : z + D (7 * tb_g ts k + tb_g ts (k + 1)) + tb_cs D (tb_g ts (k + 1)) (ts.drop (k + 1)) = tot := by
  rw [tb_dr (show k < ts.length by omega)] at h
  have e : tb_cs D (tb_g ts k) (tb_g ts (k + 1) :: ts.drop (k + 1)) = D (7 * tb_g ts k + tb_g ts (k + 1)) + tb_cs D (tb_g ts (k + 1)) (ts.drop (k + 1)) := rfl
  omega
theorem tb_sum1 {D : Nat → Int} {N : Nat} {ts : List Nat} {z tot : Int} {k : Nat} (hlen : ts.length + 1 = N) (hk : k + 1 = N) (h : z + tb_cs D (tb_g ts k) (ts.drop k) = tot) : z + D (7 * tb_g ts k) = tot := by
  rw [List.drop_of_length_le (by omega)] at h
  exact h
theorem tb_op0 {D : Nat → Int} {N : Nat} {ts : List Nat} {k : Nat} (hlen : ts.length + 1 = N) (hk : k + 1 < N) (h : tb_op D (tb_g ts k) (ts.drop k)) : D (7 * tb_g ts k + tb_g ts (k + 1)) < 1000000 ∧ tb_op D (tb_g ts (k + 1)) (ts.drop (k + 1)) := by
  rw [tb_dr (show k < ts.length by omega)] at h
  exact h
theorem tb_op1 {D : Nat → Int} {N : Nat} {ts : List Nat} {k : Nat} (hlen : ts.length + 1 = N) (hk : k + 1 = N) (h : tb_op D (tb_g ts k) (ts.drop k)) : D (7 * tb_g ts k) < 1000000 := by
  rw [List.drop_of_length_le (by omega)] at h
  exact h
theorem tb_isAllowed {post : Int32 → St2 → Prop} {N : Nat} {p m : Nat → Nat} {ts : List Nat} {L : Int} (hV : tb_V N p m) (h1 : tb_pic a1 p) (h2 : tb_pic a2 m) (hr : tb_rt N (2 ^ N - 2) ts) (ho : tb_op (tb_C true p m) 0 ts) (hs : tb_cs (tb_C true p m) 0 ts = L) (hL : L ≤ 280 - 1000 * (tb_rq N m : Int)) (hLb : -1000000 ≤ L)
    (H : ∀ q b3 b4 b5 b6 b7 b8 b9 b10 b11, post 1 (nI N, q, a1, a2, b3, b4, b5, b6, b7, b8, b9, b10, b11)) : wpX_isAllowed post (nI N, q, a1, a2, a3, a4, a5, a6, a7, a8, a9, a10, a11) (nI (tb_code 0 ts)) := by
  have hN2 := hV.1
  have hN := hV.2.1
  have hlen := tb_rt_len hN hN2 hr
  have hrq := tb_rq_le N m
  have hg : ∀ j, j < N → tb_g ts j < 7 := fun j hj => tb_g7 hN hN2 hr hj
  refine tb_load (q := q) hN2 hN hr (fun b11 hb => br_f (by decide) ?_)
  refine tb_take (q := q) (w := true) (x1 := 1) ⟨fun z => absurd z (by decide), fun z => absurd z (by decide)⟩ hV h1 h2 (fun c hc => ?_)
  rw [if_pos rfl]
  have hCo := tb_C_ok hV true
  generalize tb_C true p m = C at *
  refine pk_loop (σ := Int32) (fun f k s => wX_isAllowed_19 post (nI N) (nI (tb_rq N m)) a1 a2 c a4 a5 a6 a7 a8 a9 a10 b11 f s (nI k))
    (fun k s => ∃ z, s = tb_I z ∧ (k < N → z + tb_cs C (tb_g ts k) (ts.drop k) = L ∧ tb_op C (tb_g ts k) (ts.drop k)) ∧ (k = N → z = L)) N 0 0 (by omega) ⟨0, tb_i0, fun _ => ⟨?_, ho⟩, fun h => absurd h (by omega)⟩ ?_ ?_
  · show 0 + tb_cs C 0 ts = L
    omega
  · intro f s hI
    obtain ⟨z, rfl, _, hz⟩ := hI
    have hz' := hz rfl
    subst hz'
    refine pk_le N N (fun _ => ?_) (fun g => absurd g (by omega))
    exact tb_uses rfl (by omega) (fun g => absurd hL g) (fun _ => br_f (by decide) (H _ _ _ _ _ _ _ _ _ _))
  · intro f k s hk hI hn
    obtain ⟨z, rfl, hz, _⟩ := hI
    obtain ⟨hz1, hz2⟩ := hz hk
    have hcl : (nI k).toNatClampNeg = k := nI_clamp (by omega)
    refine pk_le N k (fun g => absurd g (by omega)) (fun _ => ⟨vp_in_nI (by omega) (by omega), ?_⟩)
    rw [hcl, nI_1, hb k hk]
    have hgk := hg k hk
    refine pk_le N (k + 1) (fun g => ?_) (fun g => ?_)
    · have hk1 : k + 1 = N := by omega
      have hb0 : b11 (0 : Int32).toNatClampNeg = nI 0 := hb 0 (by omega)
      have ho1 := tb_op1 hlen hk1 hz2
      refine And.intro (vp_in_nI (n := 0) (by omega) (by omega)) ?_
      rw [hb0, tb_ix, Nat.add_zero, nI_clamp (show 7 * tb_g ts k < 2 ^ 31 by omega), hc _ (by omega)]
      refine ⟨vp_in_nI (by omega) (by omega), nm_e ?_⟩
      have hCk := hCo (7 * tb_g ts k) (by omega)
      refine tb_lt (C (7 * tb_g ts k)) 1000000 (fun _ => nm_r (tb_add _ _) (nm_r (nI_1 k) (hn _ ⟨_, rfl, fun h => absurd h (by omega), fun _ => tb_sum1 hlen hk1 hz1⟩))) (fun g2 => absurd g2 (by omega)) rfl tb_far (by omega) (by omega)
    · have hgk1 := hg (k + 1) g
      obtain ⟨ho0, ho1⟩ := tb_op0 hlen g hz2
      refine And.intro (vp_in_nI (n := k + 1) (by omega) (by omega)) ?_
      rw [nI_clamp (show k + 1 < 2 ^ 31 by omega), hb (k + 1) g, tb_ix, nI_clamp (show 7 * tb_g ts k + tb_g ts (k + 1) < 2 ^ 31 by omega), hc _ (by omega)]
      refine ⟨vp_in_nI (by omega) (by omega), nm_e ?_⟩
      have hCk := hCo (7 * tb_g ts k + tb_g ts (k + 1)) (by omega)
      refine tb_lt (C (7 * tb_g ts k + tb_g ts (k + 1))) 1000000 (fun _ => nm_r (tb_add _ _) (nm_r (nI_1 k) (hn _ ⟨_, rfl, fun _ => ⟨tb_sum0 hlen g hz1, ho1⟩, fun h => absurd h (by omega)⟩))) (fun g2 => absurd g2 (by omega)) rfl tb_far (by omega) (by omega)
theorem tb_priceOf {post : Int32 → St2 → Prop} {N : Nat} {p m : Nat → Nat} {ts : List Nat} {L : Int} (hV : tb_V N p m) (h1 : tb_pic a1 p) (hr : tb_rt N (2 ^ N - 2) ts) (hs : tb_cs (fun k => (p k : Int)) 0 ts = L)
    (H : ∀ q b3 b4 b5 b6 b7 b8 b9 b10 b11, post (tb_I L) (nI N, q, a1, a2, b3, b4, b5, b6, b7, b8, b9, b10, b11)) : wpX_priceOfTour post (nI N, q, a1, a2, a3, a4, a5, a6, a7, a8, a9, a10, a11) (nI (tb_code 0 ts)) := by
  have hN2 := hV.1
  have hN := hV.2.1
  have hlen := tb_rt_len hN hN2 hr
  have hg : ∀ j, j < N → tb_g ts j < 7 := fun j hj => tb_g7 hN hN2 hr hj
  refine tb_load (q := q) hN2 hN hr (fun b11 hb => br_f (by decide) ?_)
  refine pk_loop (σ := Int32) (fun f k s => wX_priceOfTour_14 post (nI N) q a1 a2 a3 a4 a5 a6 a7 a8 a9 a10 b11 f s (nI k))
    (fun k s => ∃ z, s = tb_I z ∧ (k < N → z + tb_cs (fun k => (p k : Int)) (tb_g ts k) (ts.drop k) = L) ∧ (k = N → z = L)) N 0 0 (by omega) ⟨0, tb_i0, fun _ => ?_, fun h => absurd h (by omega)⟩ ?_ ?_
  · show 0 + tb_cs (fun k => (p k : Int)) 0 ts = L
    omega
  · intro f s hI
    obtain ⟨z, rfl, _, hz⟩ := hI
    have hz' := hz rfl
    subst hz'
    exact pk_le N N (fun _ => H _ _ _ _ _ _ _ _ _ _) (fun g => absurd g (by omega))
  · intro f k s hk hI hn
    obtain ⟨z, rfl, hz, _⟩ := hI
    have hz1 := hz hk
    have hcl : (nI k).toNatClampNeg = k := nI_clamp (by omega)
    refine pk_le N k (fun g => absurd g (by omega)) (fun _ => ⟨vp_in_nI (by omega) (by omega), ?_⟩)
    rw [hcl, nI_1, hb k hk]
    have hgk := hg k hk
    refine pk_le N (k + 1) (fun g => ?_) (fun g => ?_)
    · have hk1 : k + 1 = N := by omega
      rw [hb 0 (by omega), show tb_g ts 0 = 0 from rfl, tb_ix, Nat.add_zero, nI_clamp (show 7 * tb_g ts k < 2 ^ 31 by omega), h1 _ (by omega), tb_nI (p (7 * tb_g ts k)), tb_add]
      exact ⟨vp_in_nI (by omega) (by omega), nm_e (nm_e (hn _ ⟨_, rfl, fun h => absurd h (by omega), fun _ => tb_sum1 (D := fun k => (p k : Int)) hlen hk1 hz1⟩))⟩
    · have hgk1 := hg (k + 1) g
      rw [nI_clamp (show k + 1 < 2 ^ 31 by omega), hb (k + 1) g, tb_ix, nI_clamp (show 7 * tb_g ts k + tb_g ts (k + 1) < 2 ^ 31 by omega), h1 _ (by omega), tb_nI (p (7 * tb_g ts k + tb_g ts (k + 1))), tb_add]
      exact ⟨vp_in_nI (by omega) (by omega), vp_in_nI (by omega) (by omega), nm_e (nm_e (hn _ ⟨_, rfl, fun _ => tb_sum0 (D := fun k => (p k : Int)) hlen g hz1, fun h => absurd h (by omega)⟩))⟩
end
end
section
/-! fits; the price of a path, the best path -/
section
variable {q : Int32} {a1 a2 a3 a4 a5 a6 a7 a8 a9 a10 a11 : Nat → Int32}
theorem tb_bn_pos {N : Nat} {p m : Nat → Nat} (h : 0 ≤ tb_bn N p m) : tb_mn (tb_T N p m) < 1000000 ∧ tb_mn (tb_T N p m) ≤ 280 - 1000 * (tb_rq N m : Int) ∧ tb_bn N p m = tb_mn (tb_T N p m) + 1000 * (tb_rq N m : Int) := by
  unfold tb_bn at h ⊢
  by_cases hc : tb_mn (tb_T N p m) < 1000000 ∧ tb_mn (tb_T N p m) ≤ 280 - 1000 * (tb_rq N m : Int)
  · rw [if_pos hc]
    exact ⟨hc.1, hc.2, rfl⟩
  · rw [if_neg hc] at h
    omega
theorem tb_bn_b {N : Nat} {p m : Nat → Nat} (hV : tb_V N p m) : -200000 ≤ tb_bn N p m ∧ tb_bn N p m ≤ 280 := by
  have hT := tb_T_b hV
  have hrq := tb_rq_le N m
  unfold tb_bn
  split
  · rename_i h
    omega
  · omega
theorem tb_fits {post : Int32 → St2 → Prop} {N : Nat} {p m : Nat → Nat} (hV : tb_V N p m) (h1 : tb_pic a1 p) (h2 : tb_pic a2 m) (H : ∀ q b3 b4 b5 b6 b7 b8 b9 b10 b11, post 1 (nI N, q, a1, a2, b3, b4, b5, b6, b7, b8, b9, b10, b11)) : wpL_fits post (nI N, q, a1, a2, a3, a4, a5, a6, a7, a8, a9, a10, a11) := by
  have hbb := tb_bn_b hV
  have hT := tb_T_b hV
  have hrq := tb_rq_le N m
  have hall : tb_wi N p m 10000 = tb_wi N p m 1000000 := by
    unfold tb_wi
    rw [if_neg (by omega), if_pos (by omega), if_neg (by omega), if_neg (by omega)]
    exact tb_w1 _ (by omega)
  unfold wpL_fits
  refine tb_best hV h1 h2 (fun q b3 b4 b5 b6 b7 b8 b9 b10 b11 => ?_)
  refine tb_allowed hV h1 h2 (fun q b3 b4 b5 b6 b7 b8 b9 b10 b11 => ?_)
  refine tb_within hV h1 h2 tb_i10000 (by omega) (fun q b3 b4 b5 b6 b7 b8 b9 b10 b11 => ?_)
  refine br_t (by rw [hall]) (tb_le 0 (tb_bn N p m) (fun hb => ?_) (fun _ => H _ _ _ _ _ _ _ _ _ _) tb_i0 rfl (by omega) (by omega))
  obtain ⟨c1, c2, c3⟩ := tb_bn_pos hb
  refine tb_bestCode hV h1 h2 hb (fun ts r1 r2 r3 q b3 b4 b5 b6 b7 b8 b9 b10 b11 => ?_)
  refine tb_isAllowed hV h1 h2 r1 r2 r3 c2 (by omega) (fun q b3 b4 b5 b6 b7 b8 b9 b10 b11 => ?_)
  refine tb_priceOf (L := tb_bn N p m) hV h1 r1 (by rw [tb_price hV r1 r2 r3 c2, c3]) (fun q b3 b4 b5 b6 b7 b8 b9 b10 b11 => ?_)
  refine tb_bestTours hV h1 h2 hb (fun q b3 b4 b5 b6 b7 b8 b9 b10 b11 => ?_)
  refine tb_within hV h1 h2 rfl (by omega) (fun q b3 b4 b5 b6 b7 b8 b9 b10 b11 => ?_)
  refine tb_within (l := tb_bn N p m - 1) hV h1 h2 (by rw [tb_i1, tb_sub]) (by omega) (fun q b3 b4 b5 b6 b7 b8 b9 b10 b11 => ?_)
  have e1 : tb_wi N p m (tb_bn N p m) = (tb_T N p m).count (tb_mn (tb_T N p m)) := by
    unfold tb_wi
    rw [if_neg (by omega), if_pos (by omega)]
    rw [show tb_bn N p m - 1000 * (tb_rq N m : Int) = tb_mn (tb_T N p m) by omega]
    exact tb_w2 _ rfl c2
  have e2 : tb_wi N p m (tb_bn N p m - 1) = 0 := by
    unfold tb_wi
    by_cases h0 : tb_bn N p m - 1 < 0
    · rw [if_pos h0]
    · rw [if_neg h0, if_pos (by omega)]
      rw [show tb_bn N p m - 1 - 1000 * (tb_rq N m : Int) = tb_mn (tb_T N p m) - 1 by omega]
      exact tb_w3 _ rfl
  exact br_t rfl (br_t rfl (br_t (by rw [e1]) (br_t (by rw [e2]; rfl) (H _ _ _ _ _ _ _ _ _ _))))
/-- the sums of all paths from a to b -/
def tb_P (N : Nat) (p m : Nat → Nat) (a b : Nat) : List Int := tb_S N (tb_C false p m) (tb_ep b) (tb_rm (2 ^ N - 1) a) a
def tb_pp (N : Nat) (p m : Nat → Nat) (a b : Nat) : Int := if tb_mn (tb_P N p m a b) < 1000000 then tb_mn (tb_P N p m a b) else -3
theorem tb_P_0 {N : Nat} {p m : Nat → Nat} {b : Nat} : ∀ set t z, z ∈ tb_S N (tb_C false p m) (tb_ep b) set t → 0 ≤ z := by
  intro set
  induction set using Nat.strongRecOn with
  | ind set ih =>
    intro t z hz
    by_cases h0 : set = 0
    · subst h0
      rw [tb_S_0] at hz
      obtain ⟨g1, g2⟩ := tb_ba_mem.mp hz
      unfold tb_ep at g2
      split at g2
      · omega
      · omega
    · obtain ⟨x, hx, hb, hc, y, hy, e1⟩ := (tb_S_mem h0).mp hz
      have g1 := ih _ (tb_rm_lt hb) x y hy
      have g2 := tb_C_0 p m (7 * t + x)
      omega
theorem tb_P_b {N : Nat} {p m : Nat → Nat} (hV : tb_V N p m) {a b : Nat} (ha : a < N) {z : Int} (hz : z ∈ tb_P N p m a b) : 0 ≤ z ∧ z ≤ 5120 := by
  have hp := tb_pw N (by have := hV.2.1; omega) hV.1
  have hN := hV.2.1
  have h1 := tb_rm_le (2 ^ N - 1) a
  exact ⟨tb_P_0 _ _ z hz, (tb_S_b hV.2.1 (tb_C_ok hV false) (tb_ep_ok b) (by omega) (by omega) hz).2⟩
theorem tb_pathPrice {post : Int32 → St2 → Prop} {N : Nat} {p m : Nat → Nat} {a b : Nat} (hV : tb_V N p m) (h1 : tb_pic a1 p) (h2 : tb_pic a2 m) (ha : a < N) (hb : b < N) (H : ∀ q b3 b4 b5 b6 b7 b8 b9 b10 b11, post (tb_I (tb_pp N p m a b)) (nI N, q, a1, a2, b3, b4, b5, b6, b7, b8, b9, b10, b11)) : wpX_pathPrice post (nI N, q, a1, a2, a3, a4, a5, a6, a7, a8, a9, a10, a11) (nI a) (nI b) := by
  have hN2 := hV.1
  have hN := hV.2.1
  have hp := tb_pw N (by omega) hN2
  have hC := tb_C_ok hV false
  have he := tb_ep_ok b
  have hrl := tb_rm_le (2 ^ N - 1) a
  refine tb_take (q := q) (w := false) (x1 := 0) ⟨fun _ => rfl, fun _ => rfl⟩ hV h1 h2 (fun c hc => ?_)
  have key : ∀ b4 b5, tb_tab N (tb_C false p m) (tb_ep b) b4 b5 → vp_in ((7 * ((((1 : Int32) <<< (nI N &&& 31)) - 1) &&& (((1 : Int32) <<< (nI a &&& 31)) ^^^ (-1)))) + nI a) 896 ∧ (∀ x3_75 : Int32, x3_75 = b4 ((7 * ((((1 : Int32) <<< (nI N &&& 31)) - 1) &&& (((1 : Int32) <<< (nI a &&& 31)) ^^^ (-1)))) + nI a).toNatClampNeg → (((x3_75 < 1000000 → (post x3_75 (nI N, nI (if false = true then tb_rq N m else 0), a1, a2, c, b4, b5, a6, a7, a8, a9, a10, a11))) ∧ (¬ x3_75 < 1000000 → (post (-3) (nI N, nI (if false = true then tb_rq N m else 0), a1, a2, c, b4, b5, a6, a7, a8, a9, a10, a11)))))) := by
    intro b4 b5 hT
    rw [tb_full1 N (by omega) hN2, tb_clr (2 ^ N - 1) (by omega) a (by omega), tb_ix, nI_clamp (show 7 * tb_rm (2 ^ N - 1) a + a < 2 ^ 31 by omega)]
    have hv := (hT (tb_rm (2 ^ N - 1) a) (by omega) a ha (tb_rm_self (by omega) (by omega))).1
    have hvb := tb_mS_b hN hC he (show tb_rm (2 ^ N - 1) a < 128 by omega) (show a < 7 by omega)
    unfold tb_pp tb_P at H
    refine ⟨vp_in_nI (by omega) (by omega), nm_r hv ?_⟩
    refine tb_lt _ 1000000 (fun g => ?_) (fun g => ?_) rfl tb_far (by omega) (by omega)
    · rw [if_pos g] at H
      exact H _ _ _ _ _ _ _ _ _ _
    · rw [if_neg (by omega)] at H
      rw [tb_im3]
      exact H _ _ _ _ _ _ _ _ _ _
  refine pk_loop (σ := (Nat → Int32) × (Nat → Int32)) (fun f t s => wX_pathPrice_7 post (nI a) (nI b) (nI N) (nI (if false = true then tb_rq N m else 0)) f (nI t) a1 a2 c s.1 s.2 a6 a7 a8 a9 a10 a11) (fun t s => ∀ u, u < t → tb_ent (tb_ba (tb_ep b) u) (s.1 u) (s.2 u)) 7 0 (a4, a5) (by omega) (fun u hu => absurd hu (by omega)) ?_ ?_
  · intro f s hI
    exact pk_le 7 7 (fun _ => tb_fillSets hN2 hN hC he hc hI key) (fun z => absurd z (by omega))
  · intro f t s ht hI hn
    obtain ⟨c4, c5⟩ := s
    have hI' : ∀ u, u < t → tb_ent (tb_ba (tb_ep b) u) (c4 u) (c5 u) := hI
    have hn' : ∀ (d4 d5 : Nat → Int32), (∀ u, u < t + 1 → tb_ent (tb_ba (tb_ep b) u) (d4 u) (d5 u)) → wX_pathPrice_7 post (nI a) (nI b) (nI N) (nI (if false = true then tb_rq N m else 0)) f (nI (t + 1)) a1 a2 c d4 d5 a6 a7 a8 a9 a10 a11 := fun d4 d5 g => hn (d4, d5) g
    clear hn hI
    show wX_pathPrice_7 post (nI a) (nI b) (nI N) (nI (if false = true then tb_rq N m else 0)) (f + 1) (nI t) a1 a2 c c4 c5 a6 a7 a8 a9 a10 a11
    have hcl : (nI t).toNatClampNeg = t := nI_clamp (by omega)
    have hin : vp_in (nI t) 896 := vp_in_nI (by omega) (by omega)
    have hk : ∀ x y, tb_ent (tb_ba (tb_ep b) t) x y → ∀ u, u < t + 1 → tb_ent (tb_ba (tb_ep b) u) (upd c4 t x u) (upd c5 t y u) := by
      intro x y hxy u hu
      by_cases hut : u = t
      · rw [hut, pk_us, pk_us]
        exact hxy
      · rw [pk_un hut, pk_un hut]
        exact hI' u (by omega)
    refine pk_le 7 t (fun z => absurd z (by omega)) (fun _ => ?_)
    refine pk_eq t b (fun z => ?_) (fun z => ?_)
    · refine And.intro hin (nm_e (pk_eq t b (fun _ => ⟨hin, nm_e (nm_r (nI_1 t) ?_)⟩) (fun g => absurd z g)))
      rw [hcl]
      refine hn' _ _ (hk _ _ ?_)
      have e0 : tb_ep b t = 0 := if_pos z
      have h := tb_ba_ent (e := tb_ep b) (t := t) (by omega)
      rw [e0, ← tb_i0] at h
      exact h
    · refine And.intro hin (nm_e (pk_eq t b (fun g => absurd g z) (fun _ => ⟨hin, nm_e (nm_r (nI_1 t) ?_)⟩)))
      rw [hcl]
      refine hn' _ _ (hk _ _ ?_)
      have e0 : tb_ep b t = 1000000 := if_neg z
      have h := tb_ba_ent0 (e := tb_ep b) (t := t) (by omega)
      rw [← tb_far] at h
      exact h
/-- the best of the paths seen so far -/
def tb_bp (N : Nat) (p m : Nat → Nat) (Pr : Nat → Nat → Prop) (z : Int) : Prop := (z = -3 ∧ ∀ a b, Pr a b → tb_P N p m a b = []) ∨ (0 ≤ z ∧ z ≤ 5120 ∧ (∃ a b, a < N ∧ z ∈ tb_P N p m a b) ∧ ∀ a b, Pr a b → ∀ x, x ∈ tb_P N p m a b → z ≤ x)
theorem tb_bp_b {N : Nat} {p m : Nat → Nat} {Pr : Nat → Nat → Prop} {z : Int} (h : tb_bp N p m Pr z) : -3 ≤ z ∧ z ≤ 5120 := by
  rcases h with h | h
  · omega
  · omega
theorem tb_bp_cg {N : Nat} {p m : Nat → Nat} {Pr Pr' : Nat → Nat → Prop} {z : Int} (hP : ∀ a b, Pr' a b → Pr a b) (h : tb_bp N p m Pr z) : tb_bp N p m Pr' z := by
  rcases h with ⟨h1, h2⟩ | ⟨h1, h2, h3, h4⟩
  · exact Or.inl ⟨h1, fun a b g => h2 a b (hP a b g)⟩
  · exact Or.inr ⟨h1, h2, h3, fun a b g => h4 a b (hP a b g)⟩
theorem tb_pp_c {N : Nat} {p m : Nat → Nat} (hV : tb_V N p m) {a b : Nat} (ha : a < N) : (tb_pp N p m a b = -3 ∧ tb_P N p m a b = []) ∨ (0 ≤ tb_pp N p m a b ∧ tb_pp N p m a b ≤ 5120 ∧ tb_pp N p m a b ∈ tb_P N p m a b ∧ ∀ x, x ∈ tb_P N p m a b → tb_pp N p m a b ≤ x) := by
  unfold tb_pp
  by_cases h : tb_mn (tb_P N p m a b) < 1000000
  · rw [if_pos h]
    have hm := tb_mn_lt h
    have hb := tb_P_b hV ha hm
    exact Or.inr ⟨hb.1, hb.2, hm, fun x hx => tb_mn_le hx⟩
  · rw [if_neg h]
    refine Or.inl ⟨rfl, tb_mn_nil (fun x hx => ?_) h⟩
    have hb := tb_P_b hV ha hx
    omega
theorem tb_bp_skip {N : Nat} {p m : Nat → Nat} (hV : tb_V N p m) {Pr : Nat → Nat → Prop} {z : Int} {a b : Nat} (ha : a < N) (h : tb_bp N p m Pr z) (hr : tb_pp N p m a b < 0) : tb_bp N p m (fun a' b' => Pr a' b' ∨ (a' = a ∧ b' = b)) z := by
  have hnil : tb_P N p m a b = [] := by
    rcases tb_pp_c hV (b := b) ha with g | g
    · exact g.2
    · omega
  rcases h with ⟨h1, h2⟩ | ⟨h1, h2, h3, h4⟩
  · refine Or.inl ⟨h1, fun a' b' g => ?_⟩
    rcases g with g | ⟨rfl, rfl⟩
    · exact h2 a' b' g
    · exact hnil
  · refine Or.inr ⟨h1, h2, h3, fun a' b' g => ?_⟩
    rcases g with g | ⟨rfl, rfl⟩
    · exact h4 a' b' g
    · rw [hnil]
      intro x hx
      cases hx
theorem tb_bp_take {N : Nat} {p m : Nat → Nat} (hV : tb_V N p m) {Pr : Nat → Nat → Prop} {z : Int} {a b : Nat} (ha : a < N) (h : tb_bp N p m Pr z) (hr : 0 ≤ tb_pp N p m a b) (hz : z < 0 ∨ tb_pp N p m a b < z) : tb_bp N p m (fun a' b' => Pr a' b' ∨ (a' = a ∧ b' = b)) (tb_pp N p m a b) := by
  rcases tb_pp_c hV (b := b) ha with g | ⟨g1, g2, g3, g4⟩
  · omega
  · refine Or.inr ⟨g1, g2, ⟨a, b, ha, g3⟩, fun a' b' k => ?_⟩
    rcases k with k | ⟨rfl, rfl⟩
    · rcases h with ⟨h1, h2⟩ | ⟨h1, h2, h3, h4⟩
      · rw [h2 a' b' k]
        intro x hx
        cases hx
      · intro x hx
        have := h4 a' b' k x hx
        omega
    · exact g4
theorem tb_bp_keep {N : Nat} {p m : Nat → Nat} (hV : tb_V N p m) {Pr : Nat → Nat → Prop} {z : Int} {a b : Nat} (ha : a < N) (h : tb_bp N p m Pr z) (hz : 0 ≤ z) (hr : z ≤ tb_pp N p m a b) : tb_bp N p m (fun a' b' => Pr a' b' ∨ (a' = a ∧ b' = b)) z := by
  rcases tb_pp_c hV (b := b) ha with g | ⟨g1, g2, g3, g4⟩
  · omega
  · rcases h with ⟨h1, h2⟩ | ⟨h1, h2, h3, h4⟩
    · omega
    · refine Or.inr ⟨h1, h2, h3, fun a' b' k => ?_⟩
      rcases k with k | ⟨rfl, rfl⟩
      · exact h4 a' b' k
      · intro x hx
        have := g4 x hx
        omega
theorem tb_bp15 {post : Int32 → St2 → Prop} {J : Int32 → Int32 → Int32 → Int32 → (Nat → Int32) → (Nat → Int32) → (Nat → Int32) → (Nat → Int32) → (Nat → Int32) → (Nat → Int32) → (Nat → Int32) → (Nat → Int32) → (Nat → Int32) → (Nat → Int32) → (Nat → Int32) → Prop} {N : Nat} {p m : Nat → Nat} {a : Nat} {z : Int} (hV : tb_V N p m) (h1 : tb_pic a1 p) (h2 : tb_pic a2 m) (ha : a < N) (hz : tb_bp N p m (fun a' b' => b' < a' ∧ a' < a) z)
    (H : ∀ z q b3 b4 b5 b6 b7 b8 b9 b10 b11, tb_bp N p m (fun a' b' => b' < a' ∧ a' < a + 1) z → J (tb_I z) (nI (a + 1)) (nI N) q a1 a2 b3 b4 b5 b6 b7 b8 b9 b10 b11) : ∃ fu, wX_bestPath_15 post J (nI a) fu (tb_I z) 0 (nI N) q a1 a2 a3 a4 a5 a6 a7 a8 a9 a10 a11 := by
  have hN := hV.2.1
  refine pk_loop (σ := Int32 × Int32 × (Nat → Int32) × (Nat → Int32) × (Nat → Int32) × (Nat → Int32) × (Nat → Int32) × (Nat → Int32) × (Nat → Int32) × (Nat → Int32) × (Nat → Int32)) (fun f b s => wX_bestPath_15 post J (nI a) f s.1 (nI b) (nI N) s.2.1 a1 a2 s.2.2.1 s.2.2.2.1 s.2.2.2.2.1 s.2.2.2.2.2.1 s.2.2.2.2.2.2.1 s.2.2.2.2.2.2.2.1 s.2.2.2.2.2.2.2.2.1 s.2.2.2.2.2.2.2.2.2.1 s.2.2.2.2.2.2.2.2.2.2) (fun b s => ∃ z, s.1 = tb_I z ∧ tb_bp N p m (fun a' b' => (b' < a' ∧ a' < a) ∨ (a' = a ∧ b' < b)) z) a 0 (tb_I z, q, a3, a4, a5, a6, a7, a8, a9, a10, a11) (by omega) ⟨z, rfl, tb_bp_cg (fun a' b' g => by omega) hz⟩ ?_ ?_
  · intro f s hI
    obtain ⟨z, e, hz⟩ := hI
    refine pk_le a a (fun _ => nm_r (nI_1 a) ?_) (fun g => absurd g (by omega))
    rw [e]
    exact H z _ _ _ _ _ _ _ _ _ _ (tb_bp_cg (fun a' b' g => by omega) hz)
  · intro f b s hb hI hn
    obtain ⟨fo, q, b3, b4, b5, b6, b7, b8, b9, b10, b11⟩ := s
    obtain ⟨z, e, hz⟩ := hI
    have e' : fo = tb_I z := e
    subst e'
    have hn' : ∀ z q b3 b4 b5 b6 b7 b8 b9 b10 b11, tb_bp N p m (fun a' b' => ((b' < a' ∧ a' < a) ∨ (a' = a ∧ b' < b)) ∨ (a' = a ∧ b' = b)) z → wX_bestPath_15 post J (nI a) f (tb_I z) (nI (b + 1)) (nI N) q a1 a2 b3 b4 b5 b6 b7 b8 b9 b10 b11 := fun z q b3 b4 b5 b6 b7 b8 b9 b10 b11 g => hn (tb_I z, q, b3, b4, b5, b6, b7, b8, b9, b10, b11) ⟨z, rfl, tb_bp_cg (fun a' b' g => by omega) g⟩
    clear hn
    have hzb := tb_bp_b hz
    show wX_bestPath_15 post J (nI a) (f + 1) (tb_I z) (nI b) (nI N) q a1 a2 b3 b4 b5 b6 b7 b8 b9 b10 b11
    refine pk_le a b (fun g => absurd g (by omega)) (fun _ => ?_)
    refine tb_pathPrice hV h1 h2 ha (by omega) (fun q b3 b4 b5 b6 b7 b8 b9 b10 b11 => ?_)
    have hpb : -3 ≤ tb_pp N p m a b ∧ tb_pp N p m a b ≤ 5120 := by
      rcases tb_pp_c hV (b := b) ha with g | g
      · omega
      · omega
    refine tb_lt (tb_pp N p m a b) 0 (fun g => nm_r (nI_1 b) (hn' _ _ _ _ _ _ _ _ _ _ _ (tb_bp_skip hV ha hz g))) (fun g => ?_) rfl tb_i0 (by omega) (by omega)
    refine tb_lt z 0 (fun g2 => nm_r (nI_1 b) (hn' _ _ _ _ _ _ _ _ _ _ _ (tb_bp_take hV ha hz g (Or.inl g2)))) (fun g2 => ?_) rfl tb_i0 (by omega) (by omega)
    exact tb_le z (tb_pp N p m a b) (fun g3 => nm_r (nI_1 b) (hn' _ _ _ _ _ _ _ _ _ _ _ (tb_bp_keep hV ha hz g2 g3))) (fun g3 => nm_r (nI_1 b) (hn' _ _ _ _ _ _ _ _ _ _ _ (tb_bp_take hV ha hz g (Or.inr g3)))) rfl rfl (by omega) (by omega)
theorem tb_bestPath {post : Int32 → St2 → Prop} {N : Nat} {p m : Nat → Nat} (hV : tb_V N p m) (h1 : tb_pic a1 p) (h2 : tb_pic a2 m) (H : ∀ z q b3 b4 b5 b6 b7 b8 b9 b10 b11, tb_bp N p m (fun a b => b < a ∧ a < N) z → post (tb_I z) (nI N, q, a1, a2, b3, b4, b5, b6, b7, b8, b9, b10, b11)) : wpX_bestPath post (nI N, q, a1, a2, a3, a4, a5, a6, a7, a8, a9, a10, a11) := by
  have hN := hV.2.1
  refine pk_loop (σ := Int32 × Int32 × (Nat → Int32) × (Nat → Int32) × (Nat → Int32) × (Nat → Int32) × (Nat → Int32) × (Nat → Int32) × (Nat → Int32) × (Nat → Int32) × (Nat → Int32)) (fun f a s => wX_bestPath_5 post f s.1 (nI a) (nI N) s.2.1 a1 a2 s.2.2.1 s.2.2.2.1 s.2.2.2.2.1 s.2.2.2.2.2.1 s.2.2.2.2.2.2.1 s.2.2.2.2.2.2.2.1 s.2.2.2.2.2.2.2.2.1 s.2.2.2.2.2.2.2.2.2.1 s.2.2.2.2.2.2.2.2.2.2) (fun a s => ∃ z, s.1 = tb_I z ∧ tb_bp N p m (fun a' b' => b' < a' ∧ a' < a) z) N 0 (-3, q, a3, a4, a5, a6, a7, a8, a9, a10, a11) (by omega) ⟨-3, tb_im3, Or.inl ⟨rfl, fun a b g => absurd g.2 (by omega)⟩⟩ ?_ ?_
  · intro f s hI
    obtain ⟨z, e, hz⟩ := hI
    refine pk_le N N (fun _ => ?_) (fun g => absurd g (by omega))
    rw [e]
    exact H z _ _ _ _ _ _ _ _ _ _ hz
  · intro f a s ha hI hn
    obtain ⟨fo, q, b3, b4, b5, b6, b7, b8, b9, b10, b11⟩ := s
    obtain ⟨z, e, hz⟩ := hI
    have e' : fo = tb_I z := e
    subst e'
    exact pk_le N a (fun g => absurd g (by omega)) (fun _ => tb_bp15 hV h1 h2 ha hz (fun z q b3 b4 b5 b6 b7 b8 b9 b10 b11 g => hn (tb_I z, q, b3, b4, b5, b6, b7, b8, b9, b10, b11) ⟨z, rfl, g⟩))
end
end
section
/-! span: Prim's tree costs no more than any roads that hold all towns together -/
theorem tb_pc_ad : ∀ s, s < 128 → ∀ x, x < 7 → s.testBit x = false → tb_pc (tb_ad s x) = tb_pc s + 1 := by decide +kernel
theorem tb_pc_all : ∀ s, s < 128 → ∀ n, n < 8 → (∀ y, y < n → s.testBit y = true) → n ≤ tb_pc s := by decide +kernel
theorem tb_one_bit : ∀ v, v < 7 → (Nat.testBit 1 v = true ↔ v = 0) := by decide
def tb_sp (N : Nat) (C : Nat → Int) (k J : Nat) (T : Int) (nr : Nat → Int) : Prop := J < 128 ∧ J.testBit 0 = true ∧ tb_pc J = k ∧ (0 ≤ T ∧ T ≤ 40 * (k : Int)) ∧ (∀ y, y < N → nr y = 1000000 ∨ (0 ≤ nr y ∧ nr y ≤ 40)) ∧ (∀ x y, x < N → y < N → J.testBit x = false → J.testBit y = true → nr x ≤ C (7 * y + x)) ∧ (∀ F, tb_gd N C F → tb_co N (fun j => j = 0) F → ∃ F', tb_gd N C F' ∧ tb_co N (fun j => j < 7 ∧ J.testBit j = true) F' ∧ T + tb_ws C F' ≤ tb_ws C F)
/-- costs without the required roads' reduction -/
def tb_nn (C : Nat → Int) : Prop := (∀ k, k < 49 → C k = 1000000 ∨ (0 ≤ C k ∧ C k ≤ 40)) ∧ ∀ a b, a < 7 → b < 7 → C (7 * a + b) = C (7 * b + a)
theorem tb_co_mono {N : Nat} {J J' : Nat → Prop} {F : List (Nat × Nat)} (h : ∀ j, J j → J' j) (hc : tb_co N J F) : tb_co N J' F := fun Q hQ hJ v hv => hc Q hQ (fun j hj => hJ j (h j hj)) v hv
theorem tb_sp0 {N : Nat} {C : Nat → Int} (hN : N ≤ 7) (hC : tb_nn C) : tb_sp N C 1 1 0 C := by
  refine ⟨by omega, by decide, by decide, ⟨by omega, by omega⟩, fun y hy => hC.1 y (by omega), fun x y hx hy hbx hby => ?_, fun F hg hc => ⟨F, hg, ?_, by omega⟩⟩
  · have h0 := (tb_one_bit y (by omega)).mp hby
    subst h0
    rw [show 7 * 0 + x = x by omega]
    exact Int.le_refl _
  · refine tb_co_mono (fun j hj => ?_) hc
    subst hj
    exact ⟨by omega, by decide⟩
theorem tb_sp_ex {N : Nat} {C : Nat → Int} {k J v : Nat} {T : Int} {nr : Nat → Int} (hN : N ≤ 7) (hC : tb_nn C) (h : tb_sp N C k J T nr) (hv : v < N) (hb : J.testBit v = false) (hmin : ∀ y, 1 ≤ y → y < N → J.testBit y = false → nr v ≤ nr y) {F : List (Nat × Nat)} (hg : tb_gd N C F) (hc : tb_co N (fun j => j = 0) F) : nr v < 1000000 ∧ ∃ F', tb_gd N C F' ∧ tb_co N (fun j => j < 7 ∧ (tb_ad J v).testBit j = true) F' ∧ T + nr v + tb_ws C F' ≤ tb_ws C F := by
  obtain ⟨hJ, hJ0, _, _, _, hle, hF⟩ := h
  obtain ⟨F1, g1, g2, g3⟩ := hF F hg hc
  have hw : ∀ x y, x < N → y < N → ¬ (x < 7 ∧ J.testBit x = true) → (y < 7 ∧ J.testBit y = true) → nr v ≤ C (7 * x + y) ∧ nr v ≤ C (7 * y + x) := by
    intro x y hx hy hnx hjy
    have hbx : J.testBit x = false := by
      cases hq : J.testBit x
      · rfl
      · exact absurd ⟨by omega, hq⟩ hnx
    have hx1 : 1 ≤ x := by
      rcases Nat.eq_zero_or_pos x with e | e
      · subst e
        rw [hJ0] at hbx
        cases hbx
      · exact e
    have k1 := hmin x hx1 hx hbx
    have k2 := hle x y hx hy hbx hjy.2
    have k3 := hC.2 x y (by omega) (by omega)
    omega
  obtain ⟨k1, F2, k2, k3, k4⟩ := tb_ex g2 g1 hv (fun z => by rw [hb] at z; exact absurd z.2 (by decide)) hw
  refine ⟨k1, F2, k2, tb_co_mono (fun j hj => ?_) k3, by omega⟩
  rcases hj with ⟨h7, hj⟩ | hj
  · refine ⟨h7, ?_⟩
    rw [tb_ad_bit J hJ v (by omega) j h7, hj]
    rfl
  · subst hj
    refine ⟨by omega, ?_⟩
    rw [tb_ad_bit J hJ j (by omega) j (by omega)]
    simp
theorem tb_sp_s {N : Nat} {C : Nat → Int} {k J v : Nat} {T : Int} {nr : Nat → Int} (hN : N ≤ 7) (hC : tb_nn C) (h : tb_sp N C k J T nr) (hv : v < N) (hb : J.testBit v = false) (hmin : ∀ y, 1 ≤ y → y < N → J.testBit y = false → nr v ≤ nr y) (hf : nr v < 1000000) : tb_sp N C (k + 1) (tb_ad J v) (T + nr v) (fun y => if 1 ≤ y then min (nr y) (C (7 * v + y)) else nr y) := by
  have h' := h
  obtain ⟨hJ, hJ0, hpc, hT, hnr, hle, hF⟩ := h
  have hnv := hnr v hv
  refine ⟨tb_ad_lt J hJ v (by omega), ?_, ?_, ⟨by omega, by omega⟩, fun y hy => ?_, fun x y hx hy hbx hby => ?_, fun F hg hc => (tb_sp_ex hN hC h' hv hb hmin hg hc).2⟩
  · rw [tb_ad_bit J hJ v (by omega) 0 (by omega), hJ0]
    rfl
  · rw [tb_pc_ad J hJ v (by omega) hb, hpc]
  · have k1 := hnr y hy
    have k2 := hC.1 (7 * v + y) (by omega)
    dsimp only
    split
    · omega
    · omega
  · rw [tb_ad_bit J hJ v (by omega) x (by omega)] at hbx
    rw [tb_ad_bit J hJ v (by omega) y (by omega)] at hby
    have hx0 : J.testBit x = false := by
      cases hq : J.testBit x
      · rfl
      · rw [hq] at hbx
        cases hbx
    have hx1 : 1 ≤ x := by
      rcases Nat.eq_zero_or_pos x with e | e
      · subst e
        rw [hJ0] at hx0
        cases hx0
      · exact e
    show (if 1 ≤ x then min (nr x) (C (7 * v + x)) else nr x) ≤ _
    rw [if_pos hx1]
    by_cases hyv : y = v
    · subst hyv
      omega
    · have hy1 : J.testBit y = true := by
        cases hq : J.testBit y
        · rw [hq] at hby
          simp [hyv] at hby
        · rfl
      have := hle x y hx hy hx0 hy1
      omega
theorem tb_sp_end {N : Nat} {C : Nat → Int} {k J : Nat} {T : Int} {nr : Nat → Int} (hN : N ≤ 7) (hC : tb_nn C) (h : tb_sp N C k J T nr) {F : List (Nat × Nat)} (hg : tb_gd N C F) (hc : tb_co N (fun j => j = 0) F) : 0 ≤ T ∧ T ≤ tb_ws C F := by
  obtain ⟨_, _, _, hT, _, _, hF⟩ := h
  obtain ⟨F1, g1, _, g3⟩ := hF F hg hc
  have h0 := tb_ws_0 hN (fun k hk => by have := hC.1 k hk; omega) g1
  omega
section
variable {q : Int32} {a1 a2 a3 a4 a5 a6 a7 a8 a9 a10 a11 : Nat → Int32}
theorem tb_143 {post : Int32 → St2 → Prop} {J : Int32 → Int32 → Int32 → (Nat → Int32) → (Nat → Int32) → (Nat → Int32) → (Nat → Int32) → (Nat → Int32) → (Nat → Int32) → (Nat → Int32) → (Nat → Int32) → (Nat → Int32) → (Nat → Int32) → (Nat → Int32) → Prop} {N v k : Nat} {C nr : Nat → Int} {x1 x2 : Int32} (hN2 : 2 ≤ N) (hN : N ≤ 7) (hv : v < N) (hC : tb_nn C) (h3 : ∀ k, k < 49 → a3 k = tb_I (C k)) (h10 : ∀ y, y < N → a10 y = tb_I (nr y)) (hnr : ∀ y, y < N → nr y = 1000000 ∨ (0 ≤ nr y ∧ nr y ≤ 40))
    (H : ∀ b10, (∀ y, y < N → b10 y = tb_I (if 1 ≤ y then min (nr y) (C (7 * v + y)) else nr y)) → J x1 x2 (nI (k + 1)) a1 a2 a3 a4 a5 a6 a7 a8 a9 b10 a11) : ∃ fu, wX_span_143 post J x1 x2 (nI k) (nI v) (nI N) q fu 1 a1 a2 a3 a4 a5 a6 a7 a8 a9 a10 a11 := by
  refine pk_loop (fun f x s => wX_span_143 post J x1 x2 (nI k) (nI v) (nI N) q f (nI x) a1 a2 a3 a4 a5 a6 a7 a8 a9 s a11) (fun x s => 1 ≤ x ∧ ∀ y, y < N → s y = tb_I (if 1 ≤ y ∧ y < x then min (nr y) (C (7 * v + y)) else nr y)) N 1 a10 (by omega) ⟨by omega, fun y hy => ?_⟩ ?_ ?_
  · rw [if_neg (by omega)]
    exact h10 y hy
  · intro f s hI
    refine pk_le N N (fun _ => nm_r (nI_1 k) (H s (fun y hy => ?_))) (fun g => absurd g (by omega))
    rw [hI.2 y hy]
    congr 1
    by_cases hy1 : 1 ≤ y
    · rw [if_pos ⟨hy1, hy⟩, if_pos hy1]
    · rw [if_neg (fun z => hy1 z.1), if_neg hy1]
  · intro f x s hx hI hn
    obtain ⟨hx1, hI⟩ := hI
    have hcl : (nI x).toNatClampNeg = x := nI_clamp (by omega)
    have hin : vp_in (nI x) 7 := vp_in_nI (by omega) (by omega)
    have hsx : s x = tb_I (nr x) := by
      rw [hI x hx, if_neg (by omega)]
    have hnx := hnr x hx
    have hCx := hC.1 (7 * v + x) (by omega)
    have key : ∀ w, w = min (nr x) (C (7 * v + x)) → ∀ y, y < N → upd s x (tb_I w) y = tb_I (if 1 ≤ y ∧ y < x + 1 then min (nr y) (C (7 * v + y)) else nr y) := by
      intro w hw y hy
      by_cases hyx : y = x
      · rw [hyx, pk_us, hw, if_pos (by omega)]
      · rw [pk_un hyx, hI y hy]
        congr 1
        by_cases hc : 1 ≤ y ∧ y < x
        · rw [if_pos hc, if_pos (by omega)]
        · rw [if_neg hc, if_neg (by omega)]
    refine pk_le N x (fun g => absurd g (by omega)) (fun _ => ⟨?_, ?_⟩)
    · rw [tb_ix]
      exact vp_in_nI (by omega) (by omega)
    rw [tb_ix, nI_clamp (show 7 * v + x < 2 ^ 31 by omega), h3 _ (by omega), hcl, hsx]
    refine nm_e ⟨hin, tb_le (nr x) (C (7 * v + x)) (fun g => ⟨hin, hin, nm_e (nm_r (nI_1 x) (hn _ ⟨by omega, key _ (by omega)⟩))⟩) (fun g => ⟨hin, nm_e (nm_r (nI_1 x) (hn _ ⟨by omega, key _ (by omega)⟩))⟩) rfl rfl (by omega) (by omega)⟩
theorem tb_53 {post : Int32 → St2 → Prop} {J : Int32 → Int32 → Int32 → (Nat → Int32) → (Nat → Int32) → (Nat → Int32) → (Nat → Int32) → (Nat → Int32) → (Nat → Int32) → (Nat → Int32) → (Nat → Int32) → (Nat → Int32) → (Nat → Int32) → (Nat → Int32) → Prop} {N k j : Nat} {C nr : Nat → Int} {T : Int} (hN2 : 2 ≤ N) (hN : N ≤ 7) (hk : k < N) (hC : tb_nn C) (h3 : ∀ k, k < 49 → a3 k = tb_I (C k)) (h10 : ∀ y, y < N → a10 y = tb_I (nr y)) (hsp : tb_sp N C k j T nr)
    (H0 : (∀ F, tb_gd N C F → tb_co N (fun j => j = 0) F → False) → post (-3) (nI N, q, a1, a2, a3, a4, a5, a6, a7, a8, a9, a10, a11))
    (H1 : ∀ j' T' nr' b10, tb_sp N C (k + 1) j' T' nr' → (∀ y, y < N → b10 y = tb_I (nr' y)) → J (nI j') (tb_I T') (nI (k + 1)) a1 a2 a3 a4 a5 a6 a7 a8 a9 b10 a11) : ∃ fu, wX_span_53 post J (nI j) (tb_I T) (nI k) (nI N) q a1 a2 a3 a4 a5 a6 a7 a8 a9 a10 a11 fu (-1) 1 := by
  have hsp' := hsp
  obtain ⟨hJ, hJ0, hpc, hT, hnr, hle, hF⟩ := hsp
  refine pk_loop (σ := Int32) (fun f x s => wX_span_53 post J (nI j) (tb_I T) (nI k) (nI N) q a1 a2 a3 a4 a5 a6 a7 a8 a9 a10 a11 f s (nI x)) (fun x s => 1 ≤ x ∧ ((s = -1 ∧ ∀ y, 1 ≤ y → y < x → j.testBit y = true) ∨ (∃ v, s = nI v ∧ v < N ∧ j.testBit v = false ∧ ∀ y, 1 ≤ y → y < x → j.testBit y = false → nr v ≤ nr y))) N 1 (-1) (by omega) ⟨by omega, Or.inl ⟨rfl, fun y h1 h2 => absurd h2 (by omega)⟩⟩ ?_ ?_
  · intro f s hI
    rcases hI.2 with ⟨_, hall⟩ | ⟨v, e, hv, hb, hmin⟩
    · exfalso
      have h := tb_pc_all j hJ N (by omega) (fun y hy => by
        rcases Nat.eq_zero_or_pos y with e | e
        · rw [e]
          exact hJ0
        · exact hall y e hy)
      omega
    · rw [e]
      have hcl : (nI v).toNatClampNeg = v := nI_clamp (by omega)
      have hin : vp_in (nI v) 7 := vp_in_nI (by omega) (by omega)
      have hnv := hnr v hv
      refine pk_le N N (fun _ => br_f (nI_pos (by omega)) ⟨hin, ?_⟩) (fun g => absurd g (by omega))
      rw [hcl, h10 v hv, tb_add, tb_or j hJ v (by omega)]
      refine tb_lt (nr v) 1000000 (fun g => ⟨hin, nm_e (nm_e (tb_143 hN2 hN hv hC h3 h10 hnr (fun b10 hb10 => H1 _ _ _ b10 (tb_sp_s hN hC hsp' hv hb hmin g) hb10)))⟩) (fun g => H0 (fun F hg hc => ?_)) rfl tb_far (by omega) (by omega)
      have := (tb_sp_ex hN hC hsp' hv hb hmin hg hc).1
      omega
  · intro f x s hx hI hn
    obtain ⟨hx1, hI⟩ := hI
    have hcl : (nI x).toNatClampNeg = x := nI_clamp (by omega)
    have hin : vp_in (nI x) 7 := vp_in_nI (by omega) (by omega)
    have hnx := hnr x hx
    refine pk_le N x (fun g => absurd g (by omega)) (fun _ => ?_)
    rw [tb_bit j hJ x (by omega)]
    by_cases hb : j.testBit x = true
    · rw [if_pos hb]
      refine br_f (by decide) (nm_r (nI_1 x) (hn _ ⟨by omega, ?_⟩))
      rcases hI with ⟨e, hall⟩ | ⟨v, e, hv, hbv, hmin⟩
      · refine Or.inl ⟨e, fun y h1 h2 => ?_⟩
        by_cases hyx : y = x
        · rw [hyx]
          exact hb
        · exact hall y h1 (by omega)
      · refine Or.inr ⟨v, e, hv, hbv, fun y h1 h2 hy => ?_⟩
        by_cases hyx : y = x
        · rw [hyx, hb] at hy
          cases hy
        · exact hmin y h1 (by omega) hy
    · have hb' : j.testBit x = false := by
        cases hq : j.testBit x
        · rfl
        · exact absurd hq hb
      rw [if_neg hb]
      refine br_t rfl ?_
      rcases hI with ⟨e, hall⟩ | ⟨v, e, hv, hbv, hmin⟩
      · rw [e]
        refine br_t (by decide) (nm_r (nI_1 x) (hn _ ⟨by omega, Or.inr ⟨x, rfl, hx, hb', fun y h1 h2 hy => ?_⟩⟩))
        by_cases hyx : y = x
        · rw [hyx]
          exact Int.le_refl _
        · have := hall y h1 (by omega)
          rw [this] at hy
          cases hy
      · rw [e]
        have hclv : (nI v).toNatClampNeg = v := nI_clamp (by omega)
        have hinv : vp_in (nI v) 7 := vp_in_nI (by omega) (by omega)
        have hnv := hnr v hv
        refine br_f (nI_pos (by omega)) ⟨hin, hinv, ?_⟩
        rw [hcl, hclv, h10 v hv, h10 x hx]
        refine tb_le (nr v) (nr x) (fun g => nm_r (nI_1 x) (hn _ ⟨by omega, Or.inr ⟨v, rfl, hv, hbv, fun y h1 h2 hy => ?_⟩⟩)) (fun g => nm_r (nI_1 x) (hn _ ⟨by omega, Or.inr ⟨x, rfl, hx, hb', fun y h1 h2 hy => ?_⟩⟩)) rfl rfl (by omega) (by omega)
        · by_cases hyx : y = x
          · rw [hyx]
            exact g
          · exact hmin y h1 (by omega) hy
        · by_cases hyx : y = x
          · rw [hyx]
            exact Int.le_refl _
          · have := hmin y h1 (by omega) hy
            omega
theorem tb_span {post : Int32 → St2 → Prop} {N : Nat} {p m : Nat → Nat} (hV : tb_V N p m) (h1 : tb_pic a1 p) (h2 : tb_pic a2 m)
    (H : ∀ z q b3 b4 b5 b6 b7 b8 b9 b10 b11, (-3 ≤ z ∧ z ≤ 1000) → (∀ F, tb_gd N (tb_C false p m) F → tb_co N (fun j => j = 0) F → 0 ≤ z ∧ z ≤ tb_ws (tb_C false p m) F) → post (tb_I z) (nI N, q, a1, a2, b3, b4, b5, b6, b7, b8, b9, b10, b11)) : wpX_span post (nI N, q, a1, a2, a3, a4, a5, a6, a7, a8, a9, a10, a11) := by
  have hN2 := hV.1
  have hN := hV.2.1
  have hC : tb_nn (tb_C false p m) := by
    refine ⟨fun k hk => ?_, fun a b ha hb => tb_C_sym hV false ha hb⟩
    have g1 := tb_C_ok hV false k hk
    have g2 := tb_C_0 p m k
    omega
  refine tb_take (q := q) (w := false) (x1 := 0) ⟨fun _ => rfl, fun _ => rfl⟩ hV h1 h2 (fun c hc => ?_)
  generalize nI (if false = true then tb_rq N m else 0) = q'
  generalize tb_C false p m = C at *
  refine pk_loop (fun f t s => wX_span_11 post 1 0 (nI N) q' f (nI t) a1 a2 c a4 a5 a6 a7 a8 a9 s a11) (fun t s => ∀ y, y < t → s y = tb_I (C y)) N 0 a10 (by omega) (fun y hy => absurd hy (by omega)) ?_ ?_
  · intro f s hI
    refine pk_le N N (fun _ => ?_) (fun g => absurd g (by omega))
    refine pk_loop (σ := Int32 × Int32 × (Nat → Int32)) (fun f k s => wX_span_39 post (nI N) q' f s.1 s.2.1 (nI k) a1 a2 c a4 a5 a6 a7 a8 a9 s.2.2 a11) (fun k s => ∃ j T nr, s.1 = nI j ∧ s.2.1 = tb_I T ∧ tb_sp N C k j T nr ∧ ∀ y, y < N → s.2.2 y = tb_I (nr y)) N 1 (1, 0, s) (by omega) ⟨1, 0, C, rfl, tb_i0, tb_sp0 hN hC, hI⟩ ?_ ?_
    · intro f s hI
      obtain ⟨j, T, nr, e1, e2, hsp, hnr⟩ := hI
      refine pk_le N N (fun _ => ?_) (fun g => absurd g (by omega))
      rw [e2]
      have hT := hsp.2.2.2.1
      exact H T _ _ _ _ _ _ _ _ _ _ (by omega) (fun F hg hc => tb_sp_end hN hC hsp hg hc)
    · intro f k s hk hI hn
      obtain ⟨j, T, nr, e1, e2, hsp, hnr⟩ := hI
      refine pk_le N k (fun g => absurd g (by omega)) (fun _ => ?_)
      rw [e1, e2]
      exact tb_53 hN2 hN hk hC hc hnr hsp (fun hno => tb_im3 ▸ H (-3) _ _ _ _ _ _ _ _ _ _ (by omega) (fun F hg hc => absurd (hno F hg hc) id)) (fun j' T' nr' b10 g1 g2 => hn (nI j', tb_I T', b10) ⟨j', T', nr', rfl, rfl, g1, g2⟩)
  · intro f t s ht hI hn
    have hcl : (nI t).toNatClampNeg = t := nI_clamp (by omega)
    refine pk_le N t (fun g => absurd g (by omega)) (fun _ => ⟨vp_in_nI (by omega) (by omega), vp_in_nI (by omega) (by omega), nm_e (nm_r (nI_1 t) (hn _ ?_))⟩)
    rw [hcl, hc t (by omega)]
    intro y hy
    by_cases hyt : y = t
    · rw [hyt, pk_us]
    · rw [pk_un hyt]
      exact hI y (by omega)
end
end
section
/-! worth: a closed road makes no tour cheaper -/
section
variable {q : Int32} {a1 a2 a3 a4 a5 a6 a7 a8 a9 a10 a11 : Nat → Int32}
theorem tb_im2 : (-2 : Int32) = tb_I (-2) := by decide +kernel
theorem tb_s2_at {m : Nat → Nat} {a b v : Nat} (k : Nat) : tb_s2 m a b v k = v ∧ (k = 7 * a + b ∨ k = 7 * b + a) ∨ tb_s2 m a b v k = m k := by
  unfold tb_s2
  by_cases h : k = 7 * a + b ∨ k = 7 * b + a
  · rw [if_pos h]
    exact Or.inl ⟨rfl, h⟩
  · rw [if_neg h]
    exact Or.inr rfl
theorem tb_then {N : Nat} {p m : Nat → Nat} {a b : Nat} (hV : tb_V N p m) (ha : a < 7) (hb : b < 7) (h1 : m (7 * a + b) ≠ 1) (hn : 0 ≤ tb_bn N p m) (ht : 0 ≤ tb_bn N p (tb_s2 m a b 2)) : tb_bn N p m ≤ tb_bn N p (tb_s2 m a b 2) := by
  have hN := hV.2.1
  have hsym := hV.2.2.2.2.2 a b ha hb
  have hC : ∀ k, k < 49 → tb_C true p (tb_s2 m a b 2) k < 1000000 → tb_C true p m k = tb_C true p (tb_s2 m a b 2) k := by
    intro k _ hc
    refine tb_C_cl ?_ hc
    rcases tb_s2_at (m := m) (a := a) (b := b) (v := 2) k with h | h
    · exact Or.inl h.1
    · exact Or.inr h
  have he : ∀ t, t < 7 → tb_et N (tb_C true p (tb_s2 m a b 2)) t < 1000000 → tb_et N (tb_C true p m) t = tb_et N (tb_C true p (tb_s2 m a b 2)) t := by
    intro t ht7 hc
    unfold tb_et at hc ⊢
    by_cases h : t = 0 ∨ N ≤ t
    · rw [if_pos h, if_pos h]
    · rw [if_neg h] at hc
      rw [if_neg h, if_neg h]
      exact hC _ (by omega) hc
  have hmn : tb_mn (tb_T N p m) ≤ tb_mn (tb_T N p (tb_s2 m a b 2)) := tb_mn_sub (fun z hz => tb_S_sub hN hC he _ 0 (by omega) z hz)
  have hrq : tb_rq N (tb_s2 m a b 2) = tb_rq N m := by
    apply tb_rq_cg
    intro j _
    rcases tb_s2_at (m := m) (a := a) (b := b) (v := 2) j with h | h
    · rw [h.1]
      rcases h.2 with e | e
      · subst e
        exact ⟨fun z => absurd z (by omega), fun z => absurd z h1⟩
      · subst e
        rw [← hsym]
        exact ⟨fun z => absurd z (by omega), fun z => absurd z h1⟩
    · rw [h]
  obtain ⟨_, _, e1⟩ := tb_bn_pos hn
  obtain ⟨_, _, e2⟩ := tb_bn_pos ht
  rw [hrq] at e2
  omega
theorem tb_back {c : Nat → Int32} {i j : Nat} {x y : Int32} (h : c i = y) (h2 : c j = y) : upd (upd (upd (upd c i x) j x) i y) j y = c := by
  funext k
  by_cases hj : k = j
  · rw [hj, pk_us, h2]
  · rw [pk_un hj]
    by_cases hi : k = i
    · rw [hi, pk_us, h]
    · rw [pk_un hi, pk_un hj, pk_un hi]
theorem tb_worth {post : Int32 → St2 → Prop} {N : Nat} {p m : Nat → Nat} {a b : Nat} (hV : tb_V N p m) (h1 : tb_pic a1 p) (h2 : tb_pic a2 m) (ha : a < 8) (hb : b < 8)
    (H : ∀ w q b3 b4 b5 b6 b7 b8 b9 b10 b11, (-4 ≤ w ∧ w ≤ 1000000) → (w = -3 → tb_bn N p m < 0) → post (tb_I w) (nI N, q, a1, a2, b3, b4, b5, b6, b7, b8, b9, b10, b11)) : wpX_worth post (nI N, q, a1, a2, a3, a4, a5, a6, a7, a8, a9, a10, a11) (nI a) (nI b) := by
  have hN := hV.2.1
  have hbb := tb_bn_b hV
  unfold wpX_worth
  dsimp only
  refine tb_isTown hN ha (fun g1 => br_f (by decide) ?_) (fun _ => br_t rfl (tb_im1 ▸ H (-1) _ _ _ _ _ _ _ _ _ _ (by omega) (fun z => absurd z (by omega))))
  refine tb_isTown hN hb (fun g2 => br_f (by decide) ?_) (fun _ => br_t rfl (tb_im1 ▸ H (-1) _ _ _ _ _ _ _ _ _ _ (by omega) (fun z => absurd z (by omega))))
  refine pk_eq a b (fun _ => tb_im2 ▸ H (-2) _ _ _ _ _ _ _ _ _ _ (by omega) (fun z => absurd z (by omega))) (fun hne => ?_)
  refine tb_fill (q := q) hV h1 h2 (fun b3 b4 b5 _ k4 => tb_bestNow hV k4 ?_)
  refine tb_le 0 (tb_bn N p m) (fun hn => ?_) (fun hn => tb_im3 ▸ H (-3) _ _ _ _ _ _ _ _ _ _ (by omega) (fun _ => hn)) tb_i0 rfl (by omega) (by omega)
  have hm2 := hV.2.2.2.1 (7 * a + b) (by omega)
  have hv1 := h2 (7 * a + b) (by omega)
  have hv2 := h2 (7 * b + a) (by omega)
  rw [← hV.2.2.2.2.2 a b (by omega) (by omega)] at hv2
  dsimp only
  rw [tb_ix, nI_clamp (show 7 * a + b < 2 ^ 31 by omega), hv1]
  refine ⟨vp_in_nI (by omega) (by omega), nm_e (pk_eq (m (7 * a + b)) 1 (fun _ => tb_im4 ▸ H (-4) _ _ _ _ _ _ _ _ _ _ (by omega) (fun z => absurd z (by omega))) (fun hq => ?_))⟩
  have hV' := tb_V_m (a := a) (b := b) (v := 2) hV (by omega) (by omega) (by omega)
  have h2' := tb_pic_s2 (a := a) (b := b) (v := 2) h2
  have hbb' := tb_bn_b hV'
  refine tb_setMark (by omega) (by omega) ?_
  refine tb_fill hV' h1 h2' (fun c3 c4 c5 _ k4' => tb_bestNow hV' k4' ?_)
  refine tb_setMark (by omega) (by omega) ?_
  have hback : upd (upd (upd (upd a2 (7 * a + b) 2) (7 * b + a) 2) (7 * a + b) (nI (m (7 * a + b)))) (7 * b + a) (nI (m (7 * a + b))) = a2 := tb_back hv1 hv2
  dsimp only
  rw [hback]
  refine tb_le 0 (tb_bn N p (tb_s2 m a b 2)) (fun ht => ?_) (fun ht => tb_im4 ▸ H (-4) _ _ _ _ _ _ _ _ _ _ (by omega) (fun z => absurd z (by omega))) tb_i0 rfl (by omega) (by omega)
  have hle := tb_then hV (by omega) (by omega) hq hn ht
  rw [tb_sub]
  exact H _ _ _ _ _ _ _ _ _ _ _ (by omega) (fun z => absurd z (by omega))
/-! the law's step -/
theorem tb_free {N : Nat} {p m : Nat → Nat} (hV : tb_V N p m) (hm : ∀ k, k < 49 → m k ≠ 1) (hn : 0 ≤ tb_bn N p m) : ∃ a, 0 < a ∧ a < N ∧ ∃ y, y ∈ tb_P N p m a 0 ∧ y ≤ tb_bn N p m := by
  have hN := hV.2.1
  obtain ⟨e1, e2, e3⟩ := tb_bn_pos hn
  have hcn : ∀ k, k ≤ 49 → tb_cn m k = 0 := by
    intro k
    induction k with
    | zero => intro _; rfl
    | succ k ih =>
      intro hk
      have hr : tb_r m k = 0 := if_neg (hm k (by omega))
      unfold tb_cn
      rw [ih (by omega), hr, ite_self]
  have hrq : tb_rq N m = 0 := by
    unfold tb_rq
    rw [hcn 49 (by omega), if_neg (by omega)]
  have hC : ∀ k, k < 49 → tb_C true p m k < 1000000 → tb_C false p m k = tb_C true p m k := fun k hk _ => (tb_C_none (hm k hk)).symm
  have he : ∀ t, t < 7 → tb_et N (tb_C true p m) t < 1000000 → tb_et N (tb_C false p m) t = tb_et N (tb_C true p m) t := by
    intro t ht7 hc
    unfold tb_et at hc ⊢
    by_cases h : t = 0 ∨ N ≤ t
    · rw [if_pos h, if_pos h]
    · rw [if_neg h] at hc
      rw [if_neg h, if_neg h]
      exact hC _ (by omega) hc
  have hz := tb_S_sub hN hC he (2 ^ N - 2) 0 (by omega) _ (tb_mn_lt e1)
  obtain ⟨a, g1, g2, y, g3, g4⟩ := tb_tour_path hN hV.1 (fun k _ => tb_C_0 p m k) hz
  have g5 : y ≤ tb_mn (tb_T N p m) := g4
  exact ⟨a, g1, g2, y, g3, by omega⟩
theorem tb_221 {J : Int64 → Int32 → Int32 → Int32 → (Nat → Int32) → (Nat → Int32) → (Nat → Int32) → (Nat → Int32) → (Nat → Int32) → (Nat → Int32) → (Nat → Int32) → (Nat → Int32) → (Nat → Int32) → (Nat → Int32) → (Nat → Int32) → Prop} {L : Nat} {xs : Nat → Int32} {w : Int64} {x5 : Int32} {kc ks : Nat} {N : Nat} {p m : Nat → Nat} {a b : Nat} (hV : tb_V N p m) (h1 : tb_pic a1 p) (h2 : tb_pic a2 m) (ha : a < 8) (hb : b < 8)
    (H : ∀ q b3 b4 b5 b6 b7 b8 b9 b10 b11, J w (x5 + 4) (nI N) q a1 a2 b3 b4 b5 b6 b7 b8 b9 b10 b11) : wL_law_221 (fun r => r = 1) L xs J w x5 (nI a) (nI b) (tb_I (tb_bn N p m)) kc ks (nI N) q a1 a2 a3 a4 a5 a6 a7 a8 a9 a10 a11 := by
  have hbb := tb_bn_b hV
  refine tb_worth hV h1 h2 ha hb (fun r q b3 b4 b5 b6 b7 b8 b9 b10 b11 hr h3 => ?_)
  refine tb_le (-4) r (fun _ => ?_) (fun z => absurd z (by omega)) tb_im4 rfl (by omega) (by omega)
  refine tb_eq r (-3) (fun z => ?_) (fun z => nm_e (H _ _ _ _ _ _ _ _ _ _)) rfl tb_im3 (by omega) (by omega)
  have := h3 z
  exact tb_lt (tb_bn N p m) 0 (fun _ => nm_e (H _ _ _ _ _ _ _ _ _ _)) (fun z2 => absurd z2 (by omega)) rfl tb_i0 (by omega) (by omega)
theorem tb_148 {J : Int64 → Int32 → Int32 → Int32 → (Nat → Int32) → (Nat → Int32) → (Nat → Int32) → (Nat → Int32) → (Nat → Int32) → (Nat → Int32) → (Nat → Int32) → (Nat → Int32) → (Nat → Int32) → (Nat → Int32) → (Nat → Int32) → Prop} {L : Nat} {xs : Nat → Int32} {w : Int64} {x5 : Int32} {kc ks : Nat} {N : Nat} {p m : Nat → Nat} {a b : Nat} (hV : tb_V N p m) (h1 : tb_pic a1 p) (h2 : tb_pic a2 m) (ha : a < 8) (hb : b < 8) (hw : w = 0 → ∀ k, k < 49 → m k ≠ 1)
    (H : ∀ q b3 b4 b5 b6 b7 b8 b9 b10 b11, J w (x5 + 4) (nI N) q a1 a2 b3 b4 b5 b6 b7 b8 b9 b10 b11) : wL_law_148 (fun r => r = 1) L xs J w x5 (nI a) (nI b) kc ks (nI N) q a1 a2 a3 a4 a5 a6 a7 a8 a9 a10 a11 := by
  have hbb := tb_bn_b hV
  have hN2 := hV.1
  have hN := hV.2.1
  refine tb_fits hV h1 h2 (fun q b3 b4 b5 b6 b7 b8 b9 b10 b11 => br_f (by decide) ?_)
  refine tb_best hV h1 h2 (fun q b3 b4 b5 b6 b7 b8 b9 b10 b11 => ?_)
  refine tb_bestPath hV h1 h2 (fun z q b3 b4 b5 b6 b7 b8 b9 b10 b11 hz => ?_)
  have hzb := tb_bp_b hz
  refine tb_span hV h1 h2 (fun s q b3 b4 b5 b6 b7 b8 b9 b10 b11 hsb hs => ?_)
  have h200 : wL_law_200 (fun r => r = 1) L xs J w x5 (nI a) (nI b) (tb_I (tb_bn N p m)) (tb_I z) (tb_I s) kc ks (nI N) q a1 a2 b3 b4 b5 b6 b7 b8 b9 b10 b11 := by
    refine tb_eq z (-3) (fun _ => tb_221 hV h1 h2 ha hb H) (fun hne => ?_) rfl tb_im3 (by omega) (by omega)
    have hsz : 0 ≤ s ∧ s ≤ z := by
      rcases hz with ⟨g, _⟩ | ⟨_, _, ⟨a', b', ha', hm⟩, _⟩
      · exact absurd g hne
      · obtain ⟨F, f1, f2, f3⟩ := tb_tree hN hN2 ha' hm
        have := hs F f1 f3
        rw [f2] at this
        exact this
    refine tb_lt s 0 (fun g => absurd g (by omega)) (fun _ => ?_) rfl tb_i0 (by omega) (by omega)
    exact tb_le s z (fun _ => tb_221 hV h1 h2 ha hb H) (fun g => absurd g (by omega)) rfl rfl (by omega) (by omega)
  refine br_c (fun hw0 => ?_) (fun _ => h200)
  refine tb_lt (tb_bn N p m) 0 (fun _ => h200) (fun hn => ?_) rfl tb_i0 (by omega) (by omega)
  obtain ⟨a', g1, g2, y, g3, g4⟩ := tb_free hV (hw hw0) hn
  have hzz : 0 ≤ z ∧ z ≤ tb_bn N p m := by
    rcases hz with ⟨_, k⟩ | ⟨k1, _, _, k2⟩
    · rw [k a' 0 ⟨g1, g2⟩] at g3
      cases g3
    · have := k2 a' 0 ⟨g1, g2⟩ y g3
      omega
  refine tb_lt (tb_bn N p m) z (fun g => absurd g (by omega)) (fun _ => ?_) rfl rfl (by omega) (by omega)
  exact tb_le 0 z (fun _ => h200) (fun g => absurd g (by omega)) tb_i0 rfl (by omega) (by omega)
end
end
section
/-! the law's loop -/
theorem tb_sh64 : ∀ k, k < 64 → ((1 : Int64) <<< ((nI k).toInt64 &&& 63)).toBitVec = BitVec.twoPow 64 k := by decide +kernel
/-- every required road has its bit in the law's word -/
def tb_rw (m : Nat → Nat) (w : Int64) : Prop := ∀ a b, a < 7 → b < 7 → m (7 * a + b) = 1 → w.toBitVec.getLsbD (8 * a + b) = true
theorem tb_rw_0 {m : Nat → Nat} {w : Int64} (h : tb_rw m w) (hw : w = 0) : ∀ k, k < 49 → m k ≠ 1 := by
  intro k hk hm
  have h1 := h (k / 7) (k % 7) (by omega) (by omega) (by rw [show 7 * (k / 7) + k % 7 = k by omega]; exact hm)
  rw [hw] at h1
  have h2 : (0 : Int64).toBitVec.getLsbD (8 * (k / 7) + k % 7) = false := BitVec.getLsbD_zero
  rw [h2] at h1
  cases h1
def tb_x11 (a b : Nat) : Int64 := ((1 : Int64) <<< (((nI a * 8) + nI b).toInt64 &&& 63)) ||| ((1 : Int64) <<< (((nI b * 8) + nI a).toInt64 &&& 63))
theorem tb_x11_b {a b : Nat} (ha : a < 8) (hb : b < 8) {i : Nat} (hi : i < 64) : (tb_x11 a b).toBitVec.getLsbD i = (decide (i = 8 * a + b) || decide (i = 8 * b + a)) := by
  unfold tb_x11
  rw [show (8 : Int32) = nI 8 from rfl, pk_mul, pk_mul, nI_add, nI_add, Int64.toBitVec_or, tb_sh64 _ (by omega), tb_sh64 _ (by omega), BitVec.getLsbD_or, BitVec.getLsbD_twoPow, BitVec.getLsbD_twoPow]
  have e1 : (a * 8 + b = i) = (i = 8 * a + b) := propext ⟨fun h => by omega, fun h => by omega⟩
  have e2 : (b * 8 + a = i) = (i = 8 * b + a) := propext ⟨fun h => by omega, fun h => by omega⟩
  have n1 : a * 8 + b < 64 := by omega
  have n2 : b * 8 + a < 64 := by omega
  simp [n1, n2, e1, e2]
theorem tb_rw_on {m : Nat → Nat} {w : Int64} {a b : Nat} (h : tb_rw m w) (ha : a < 7) (hb : b < 7) : tb_rw (tb_s2 m a b 1) (w ||| tb_x11 a b) := by
  intro x y hx hy hm
  rw [Int64.toBitVec_or, BitVec.getLsbD_or, tb_x11_b (by omega) (by omega) (by omega)]
  rcases tb_s2_at (m := m) (a := a) (b := b) (v := 1) (7 * x + y) with g | g
  · have : 8 * x + y = 8 * a + b ∨ 8 * x + y = 8 * b + a := by omega
    rcases this with e | e
    · simp [e]
    · simp [e]
  · rw [g] at hm
    rw [h x y hx hy hm]
    rfl
theorem tb_rw_off {m : Nat → Nat} {w : Int64} {a b v : Nat} (h : tb_rw m w) (ha : a < 7) (hb : b < 7) (hv : v ≠ 1) : tb_rw (tb_s2 m a b v) (w &&& (tb_x11 a b ^^^ (-1))) := by
  intro x y hx hy hm
  have e0 : (-1 : Int64).toBitVec = BitVec.allOnes 64 := by decide
  rw [Int64.toBitVec_and, Int64.toBitVec_xor, BitVec.getLsbD_and, BitVec.getLsbD_xor, tb_x11_b (by omega) (by omega) (by omega), e0, BitVec.getLsbD_allOnes]
  have hne : ¬ (7 * x + y = 7 * a + b ∨ 7 * x + y = 7 * b + a) := by
    intro hc
    unfold tb_s2 at hm
    rw [if_pos hc] at hm
    exact hv hm
  have hm2 : m (7 * x + y) = 1 := by
    unfold tb_s2 at hm
    rw [if_neg hne] at hm
    exact hm
  rw [h x y hx hy hm2]
  have n1 : ¬ 8 * x + y = 8 * a + b := by omega
  have n2 : ¬ 8 * x + y = 8 * b + a := by omega
  have n3 : 8 * x + y < 64 := by omega
  simp [n1, n2, n3]
theorem tb_loop {L : Nat} {xs : Nat → Int32} (hL : L ≤ 260) (kc ks : Nat) {N : Nat} : ∀ (f t : Nat) (w : Int64) (q : Int32) (a1 a2 a3 a4 a5 a6 a7 a8 a9 a10 a11 : Nat → Int32) (p m : Nat → Nat), L + 4 - t < f → t ≤ 264 → tb_V N p m → tb_pic a1 p → tb_pic a2 m → tb_rw m w → wL_law_19 (fun r => r = 1) L xs kc ks f w (nI t) (nI N) q a1 a2 a3 a4 a5 a6 a7 a8 a9 a10 a11 := by
  intro f
  induction f with
  | zero =>
    intro t w q a1 a2 a3 a4 a5 a6 a7 a8 a9 a10 a11 p m hf
    omega
  | succ f ih =>
    intro t w q a1 a2 a3 a4 a5 a6 a7 a8 a9 a10 a11 p m hf ht hV h1 h2 hw
    have hN := hV.2.1
    refine pk_le L (t + 3) (fun _ => rfl) (fun hlt => ?_) rfl (nI_add t 3) (by omega) (by omega)
    have e1 : nI t + 1 = nI (t + 1) := nI_1 t
    have e2 : nI t + 2 = nI (t + 2) := nI_add t 2
    have e3 : nI t + 3 = nI (t + 3) := nI_add t 3
    have e4 : nI t + 4 = nI (t + 4) := nI_add t 4
    rw [e1, e2, e3]
    obtain ⟨j, hj, ej⟩ := pk_andE (xs (nI t).toNatClampNeg) (m := 7) 3 (by decide)
    obtain ⟨a, ha, ea⟩ := pk_andE (xs (nI (t + 1)).toNatClampNeg) (m := 7) 3 (by decide)
    obtain ⟨b, hb, eb⟩ := pk_andE (xs (nI (t + 2)).toNatClampNeg) (m := 7) 3 (by decide)
    have ha8 : a < 8 := ha
    have hb8 : b < 8 := hb
    have hj8 : j < 8 := hj
    have hin : ∀ i, i < L → vp_in (nI i) L := fun i hi => vp_in_nI hi (by omega)
    refine ⟨hin t (by omega), nm_r ej ⟨hin _ (by omega), nm_r ea ⟨hin _ (by omega), nm_r eb ⟨hin _ (by omega), nm_e ⟨hin _ (by omega), hin _ (by omega), ?_⟩⟩⟩⟩⟩
    refine tb_act hV h1 h2 hj8 _ _ _ ha8 hb8 ea eb (fun r c p' hj5 hV' hp' => ?_) (fun r hj5 hr => ?_) (fun r c h hj5 hr haN hbN hab hh hc hiff => ?_)
    · refine pk_lt j 5 (fun _ => ?_) (fun z => absurd z (by omega))
      refine tb_148 hV' hp' h2 ha8 hb8 (tb_rw_0 hw) (fun q b3 b4 b5 b6 b7 b8 b9 b10 b11 => ?_)
      rw [e4]
      exact ih (t + 4) w q _ _ _ _ _ _ _ _ _ _ _ p' m (by omega) (by omega) hV' hp' h2 hw
    · refine pk_lt j 5 (fun z => absurd z (by omega)) (fun _ => br_t hr ?_)
      refine tb_148 hV h1 h2 ha8 hb8 (tb_rw_0 hw) (fun q b3 b4 b5 b6 b7 b8 b9 b10 b11 => ?_)
      rw [e4]
      exact ih (t + 4) w q _ _ _ _ _ _ _ _ _ _ _ p m (by omega) (by omega) hV h1 h2 hw
    · refine pk_lt j 5 (fun z => absurd z (by omega)) (fun _ => br_f hr (nm_e ?_))
      have hV' := tb_V_m (a := a) (b := b) (v := h) hV (by omega) (by omega) hh
      refine br_c (fun hv => ?_) (fun hv => ?_)
      · have h1' : h = 1 := hiff.mpr hv
        subst h1'
        have hw' := tb_rw_on hw (show a < 7 by omega) (show b < 7 by omega)
        refine tb_148 (w := w ||| tb_x11 a b) hV' h1 hc ha8 hb8 (tb_rw_0 hw') (fun q b3 b4 b5 b6 b7 b8 b9 b10 b11 => ?_)
        rw [e4]
        exact ih (t + 4) _ q _ _ _ _ _ _ _ _ _ _ _ p _ (by omega) (by omega) hV' h1 hc hw'
      · have h1' : h ≠ 1 := fun z => hv (hiff.mp z)
        have hw' := tb_rw_off hw (show a < 7 by omega) (show b < 7 by omega) h1'
        refine tb_148 (w := w &&& (tb_x11 a b ^^^ (-1))) hV' h1 hc ha8 hb8 (tb_rw_0 hw') (fun q b3 b4 b5 b6 b7 b8 b9 b10 b11 => ?_)
        rw [e4]
        exact ih (t + 4) _ q _ _ _ _ _ _ _ _ _ _ _ p _ (by omega) (by omega) hV' h1 hc hw'
theorem tb_cell {post : Int32 → Prop} {L : Nat} {xs : Nat → Int32} (hL : L ≤ 260) (H : ∀ x, post x) : wpL_cell post L xs () 0 :=
  br_c (fun _ => H _) (fun hc => ⟨pk_in 0 L (Nat.pos_of_ne_zero (fun z => hc (by rw [z]; decide))), H _⟩)
theorem tb_towns {post : Int32 → Prop} {L : Nat} {xs : Nat → Int32} (hL : L ≤ 260) (H : ∀ N, 2 ≤ N → N ≤ 7 → post (nI N)) : wpL_towns post L xs () := by
  refine tb_cell hL (fun x => ⟨by decide, ?_⟩)
  obtain ⟨j, hj, ej⟩ := pk_andE x (m := 255) 8 (by decide)
  have hj2 : j < 256 := hj
  have e : nI j - nI j / 6 * 6 = nI (j % 6) := pk_rem (d := 6) (by omega) (by omega) (by omega)
  rw [ej, e, show (2 : Int32) = nI 2 from rfl, nI_add]
  exact H _ (by omega) (by omega)
theorem i_vc (xs : Nat → Int32) (L : Nat) (hL : L ≤ 260) : wpL_law (fun r => r = 1) L xs := by
  refine tb_towns hL (fun N h h2 => ⟨11, 1985, by omega, by omega, tb_init h h2 (fun c hc => ⟨L + 5, ?_⟩)⟩)
  exact tb_loop hL _ _ (L + 5) 1 0 _ _ _ _ _ _ _ _ _ _ _ _ tb_p0 (fun _ => 0) (by omega) (by omega) (tb_V_0 h h2) hc (fun k _ => rfl) (fun a b _ _ z => absurd (show (0 : Nat) = 1 from z) (by decide))
end
