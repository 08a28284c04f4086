section
/-- an array of naturals as the array of ints that holds them -/
def gf_n (f : Nat → Nat) : Nat → Int32 := fun k => nI (f k)
/-- a store into a picture -/
def gf_u (f : Nat → Nat) (k v : Nat) : Nat → Nat := fun j => if j = k then v else f j
/-- t - 1 as an int, so that -1 has a picture too -/
def gf_p (t : Nat) : Int32 := nI t - 1
theorem gf_us {f : Nat → Nat} {k v : Nat} : gf_u f k v k = v := if_pos rfl
theorem gf_un {f : Nat → Nat} {k v j : Nat} (h : j ≠ k) : gf_u f k v j = f j := if_neg h
theorem gf_rd {f : Nat → Nat} {x : Int32} {k : Nat} (hx : x = nI k) (h : k < 2 ^ 31) : gf_n f x.toNatClampNeg = nI (f k) := by
  subst hx
  exact congrArg (gf_n f) (nI_clamp h)
theorem gf_w0 {f : Nat → Nat} {k v : Nat} : upd (gf_n f) k (nI v) = gf_n (gf_u f k v) := by
  funext j
  show (if j = k then nI v else nI (f j)) = nI (if j = k then v else f j)
  split
  · rfl
  · rfl
theorem gf_wr {f : Nat → Nat} {x v : Int32} {k w : Nat} (hx : x = nI k) (hv : v = nI w) (h : k < 2 ^ 31) : upd (gf_n f) x.toNatClampNeg v = gf_n (gf_u f k w) := by
  subst hx
  subst hv
  rw [nI_clamp h]
  exact gf_w0
theorem gf_s1 {n : Nat} (h : 1 ≤ n) : nI n - 1 = nI (n - 1) := pk_sub h
theorem gf_m1 {n : Nat} (h : 1 ≤ n) : nI n + (-1) = nI (n - 1) := by
  have e := pk_m1 (n - 1)
  rw [Nat.sub_add_cancel h] at e
  exact e
theorem gf_mid (a b : Nat) (h : a + b + 1 < 2 ^ 31) : (nI a + nI b + 1) >>> ((1 : Int32) &&& 31) = nI ((a + b + 1) / 2) := by
  rw [nI_add, nI_1]
  exact pk_shrN h _ 1 (by decide)
theorem gf_m4 (b : Nat) : 4 * nI b = nI (4 * b) := pk_mul 4 b
theorem gf_m4a (b s : Nat) : 4 * nI b + nI s = nI (4 * b + s) := by
  rw [gf_m4, nI_add]
theorem gf_m32 (b : Nat) : 32 * nI b = nI (32 * b) := pk_mul 32 b
theorem gf_m32a (c r : Nat) : 32 * nI c + nI r = nI (32 * c + r) := by
  rw [gf_m32, nI_add]
theorem gf_s5 {p : Nat} (h : p < 2 ^ 31) : nI p >>> ((5 : Int32) &&& 31) = nI (p / 32) := pk_shrN h _ 5 (by decide)
theorem gf_a31 {p : Nat} (h : p < 2 ^ 31) : nI p &&& 31 = nI (p % 32) := pk_andN (Nat.lt_of_lt_of_le h (by decide)) 5 (by decide)
theorem gf_p0 : gf_p 0 = -1 := by decide
theorem gf_ps (t : Nat) : gf_p (t + 1) = nI t := nI_pred t
theorem gf_p_toInt {t : Nat} (h : t < 2 ^ 30) : (gf_p t).toInt = (t : Int) - 1 := pk_sub_toInt h (by decide)
theorem gf_ple {a t : Nat} (ha : a < 2 ^ 30) (ht : t < 2 ^ 30) : nI a ≤ gf_p t ↔ a < t := by
  rw [Int32.le_iff_toInt_le, gf_p_toInt ht, nI_toInt (by omega)]
  omega
theorem gf_plt {t : Nat} (ht : t < 2 ^ 30) : gf_p t < 0 ↔ t = 0 := by
  rw [Int32.lt_iff_toInt_lt, gf_p_toInt ht]
  show (t : Int) - 1 < 0 ↔ t = 0
  omega
theorem gf_pm {t : Nat} (h : 1 ≤ t) : gf_p t + (-1) = gf_p (t - 1) := by
  show nI t - 1 + (-1) = nI (t - 1) - 1
  rw [← gf_s1 h]
  grind
theorem gf_iff {c d A B : Prop} (e : c ↔ d) (f : d → A) (g : ¬ d → B) : (c → A) ∧ (¬ c → B) := ⟨fun h => f (e.mp h), fun h => g (fun k => h (e.mpr k))⟩
/-- the square of a difference -/
def gf_q (x u : Nat) : Nat := (x - u) * (x - u) + (u - x) * (u - x)
theorem gf_sq (x u : Nat) : (nI x - nI u) * (nI x - nI u) = nI (gf_q x u) := by
  unfold gf_q
  rcases Nat.le_total u x with h | h
  · rw [pk_sub h, pk_mul, show u - x = 0 by omega]
    rfl
  · have e : nI x - nI u = -(nI (u - x)) := by
      rw [← pk_sub h]
      grind
    rw [e, show x - u = 0 by omega]
    have e2 : -(nI (u - x)) * -(nI (u - x)) = nI (u - x) * nI (u - x) := by grind
    rw [e2, pk_mul, Nat.zero_mul, Nat.zero_add]
theorem gf_q_le {x u : Nat} (hx : x < 32) (hu : u < 32) : gf_q x u ≤ 961 := by
  unfold gf_q
  rcases Nat.le_total u x with h | h
  · rw [show u - x = 0 by omega]
    have := Nat.mul_le_mul (show x - u ≤ 31 by omega) (show x - u ≤ 31 by omega)
    omega
  · rw [show x - u = 0 by omega]
    have := Nat.mul_le_mul (show u - x ≤ 31 by omega) (show u - x ≤ 31 by omega)
    omega
/-- sums -/
def gf_sm (g : Nat → Nat) : Nat → Nat
  | 0 => 0
  | n + 1 => gf_sm g n + g n
theorem gf_sm_ext {f g : Nat → Nat} {n : Nat} (h : ∀ k, k < n → f k = g k) : gf_sm f n = gf_sm g n := by
  induction n with
  | zero => rfl
  | succ n ih =>
    show gf_sm f n + f n = gf_sm g n + g n
    rw [ih (fun k hk => h k (by omega)), h n (by omega)]
theorem gf_sm_zero {f : Nat → Nat} {n : Nat} (h : ∀ k, k < n → f k = 0) : gf_sm f n = 0 := by
  induction n with
  | zero => rfl
  | succ n ih =>
    show gf_sm f n + f n = 0
    rw [ih (fun k hk => h k (by omega)), h n (by omega)]
theorem gf_sm_add (f g : Nat → Nat) (n : Nat) : gf_sm (fun k => f k + g k) n = gf_sm f n + gf_sm g n := by
  induction n with
  | zero => rfl
  | succ n ih =>
    show gf_sm (fun k => f k + g k) n + (f n + g n) = gf_sm f n + f n + (gf_sm g n + g n)
    rw [ih]
    omega
theorem gf_sm_le {f g : Nat → Nat} {n : Nat} (h : ∀ k, k < n → f k ≤ g k) : gf_sm f n ≤ gf_sm g n := by
  induction n with
  | zero => exact Nat.le_refl 0
  | succ n ih =>
    show gf_sm f n + f n ≤ gf_sm g n + g n
    have h1 := ih (fun k hk => h k (by omega))
    have h2 := h n (by omega)
    omega
theorem gf_sm_one (n : Nat) : gf_sm (fun _ => 1) n = n := by
  induction n with
  | zero => rfl
  | succ n ih =>
    show gf_sm (fun _ => 1) n + 1 = n + 1
    rw [ih]
theorem gf_sm_rm {g : Nat → Nat} {n q : Nat} (h : q < n) : gf_sm g n = gf_sm (gf_u g q 0) n + g q := by
  induction n with
  | zero => omega
  | succ n ih =>
    show gf_sm g n + g n = gf_sm (gf_u g q 0) n + gf_u g q 0 n + g q
    by_cases e : q = n
    · subst e
      rw [gf_us, gf_sm_ext (f := gf_u g q 0) (g := g) (fun k hk => gf_un (by omega))]
      omega
    · rw [gf_un (fun z => e z.symm), ih (by omega)]
      omega
theorem gf_sm_swap (f : Nat → Nat → Nat) (N : Nat) (B : Nat) : gf_sm (fun b => gf_sm (f b) N) B = gf_sm (fun p => gf_sm (fun b => f b p) B) N := by
  induction B with
  | zero => exact (gf_sm_zero (fun _ _ => rfl)).symm
  | succ B ih =>
    show gf_sm (fun b => gf_sm (f b) N) B + gf_sm (f B) N = gf_sm (fun p => gf_sm (fun b => f b p) B + f B p) N
    rw [ih, gf_sm_add]
theorem gf_sm_enum {N : Nat} : ∀ (h : Nat) (e g : Nat → Nat), (∀ j k, j < k → k < h → e j ≠ e k) → (∀ k, k < h → e k < N) → (∀ p, p < N → g p ≠ 0 → ∃ k, k < h ∧ e k = p) → gf_sm (fun k => g (e k)) h = gf_sm g N := by
  intro h
  induction h with
  | zero =>
    intro e g _ _ hc
    refine (gf_sm_zero (fun p hp => ?_)).symm
    by_cases z : g p = 0
    · exact z
    · obtain ⟨k, hk, _⟩ := hc p hp z
      omega
  | succ h ih =>
    intro e g hi hN hc
    show gf_sm (fun k => g (e k)) h + g (e h) = gf_sm g N
    rw [gf_sm_rm (g := g) (hN h (by omega)), ← ih e (gf_u g (e h) 0) (fun j k hj hk => hi j k hj (by omega)) (fun k hk => hN k (by omega)) ?_]
    · rw [gf_sm_ext (f := fun k => gf_u g (e h) 0 (e k)) (g := fun k => g (e k)) (fun k hk => gf_un (hi k h hk (by omega)))]
    · intro p hp hz
      by_cases e1 : p = e h
      · rw [e1, gf_us] at hz
        exact absurd rfl hz
      · rw [gf_un e1] at hz
        obtain ⟨k, hk, he⟩ := hc p hp hz
        by_cases e2 : k = h
        · rw [e2] at he
          exact absurd he.symm e1
        · exact ⟨k, by omega, he⟩
theorem gf_sm_enum_le {N : Nat} : ∀ (h : Nat) (e g : Nat → Nat), (∀ j k, j < k → k < h → e j ≠ e k) → (∀ k, k < h → e k < N) → gf_sm (fun k => g (e k)) h ≤ gf_sm g N := by
  intro h
  induction h with
  | zero =>
    intro e g _ _
    exact Nat.zero_le _
  | succ h ih =>
    intro e g hi hN
    show gf_sm (fun k => g (e k)) h + g (e h) ≤ gf_sm g N
    have t := ih e (gf_u g (e h) 0) (fun j k hj hk => hi j k hj (by omega)) (fun k hk => hN k (by omega))
    rw [gf_sm_ext (f := fun k => gf_u g (e h) 0 (e k)) (g := fun k => g (e k)) (fun k hk => gf_un (hi k h hk (by omega)))] at t
    rw [gf_sm_rm (g := g) (hN h (by omega))]
    omega
/-- the first h places of e hold each p of P once and no other -/
def gf_E (h : Nat) (e : Nat → Nat) (P : Nat → Prop) : Prop := (∀ k, k < h → P (e k)) ∧ (∀ j k, j < k → k < h → e j ≠ e k) ∧ (∀ p, P p → ∃ k, k < h ∧ e k = p)
theorem gf_E0 {e : Nat → Nat} {P : Nat → Prop} (hP : ∀ p, ¬ P p) : gf_E 0 e P := ⟨fun k hk => absurd hk (by omega), fun j k hj hk => absurd hk (by omega), fun p hp => absurd hp (hP p)⟩
theorem gf_Ei {h : Nat} {e : Nat → Nat} {P Q : Nat → Prop} (H : gf_E h e P) (hi : ∀ p, P p ↔ Q p) : gf_E h e Q := ⟨fun k hk => (hi _).mp (H.1 k hk), H.2.1, fun p hp => H.2.2 p ((hi p).mpr hp)⟩
theorem gf_Ec {h : Nat} {e e' : Nat → Nat} {P : Nat → Prop} (H : gf_E h e P) (hi : ∀ k, k < h → e' k = e k) : gf_E h e' P := by
  refine ⟨fun k hk => ?_, fun j k hj hk => ?_, fun p hp => ?_⟩
  · rw [hi k hk]
    exact H.1 k hk
  · rw [hi k hk, hi j (by omega)]
    exact H.2.1 j k hj hk
  · obtain ⟨k, hk, he⟩ := H.2.2 p hp
    exact ⟨k, hk, by rw [hi k hk]; exact he⟩
theorem gf_Ea {h q : Nat} {e : Nat → Nat} {P : Nat → Prop} (H : gf_E h e P) (hq : ¬ P q) : gf_E (h + 1) (gf_u e h q) (fun p => P p ∨ p = q) := by
  refine ⟨fun k hk => ?_, fun j k hj hk => ?_, fun p hp => ?_⟩
  · by_cases z : k = h
    · right
      rw [z, gf_us]
    · left
      rw [gf_un z]
      exact H.1 k (by omega)
  · have hjh : j ≠ h := by omega
    rw [gf_un hjh]
    by_cases z : k = h
    · rw [z, gf_us]
      intro he
      exact hq (he ▸ H.1 j (by omega))
    · rw [gf_un z]
      exact H.2.1 j k hj (by omega)
  · rcases hp with hp | hp
    · obtain ⟨k, hk, he⟩ := H.2.2 p hp
      have z : k ≠ h := by omega
      exact ⟨k, by omega, by rw [gf_un z]; exact he⟩
    · exact ⟨h, by omega, by rw [gf_us]; exact hp.symm⟩
/-- the place k taken out, the last one moved there -/
theorem gf_Er {h k : Nat} {e : Nat → Nat} {P : Nat → Prop} (H : gf_E h e P) (hk : k < h) : gf_E (h - 1) (gf_u e k (e (h - 1))) (fun p => P p ∧ p ≠ e k) := by
  have inj : ∀ i j, i < h → j < h → e i = e j → i = j := by
    intro i j hi hj he
    rcases Nat.lt_trichotomy i j with z | z | z
    · exact absurd he (H.2.1 i j z hj)
    · exact z
    · exact absurd he.symm (H.2.1 j i z hi)
  refine ⟨fun j hj => ?_, fun i j hi hj => ?_, fun p hp => ?_⟩
  · by_cases z : j = k
    · subst z
      rw [gf_us]
      exact ⟨H.1 _ (by omega), fun he => by have := inj _ _ (by omega) (by omega) he; omega⟩
    · rw [gf_un z]
      exact ⟨H.1 _ (by omega), fun he => z (inj _ _ (by omega) (by omega) he)⟩
  · by_cases z : i = k
    · have z2 : j ≠ k := by omega
      rw [z, gf_us, gf_un z2]
      intro he
      have := inj _ _ (by omega) (by omega) he
      omega
    · rw [gf_un z]
      by_cases z2 : j = k
      · rw [z2, gf_us]
        intro he
        have := inj _ _ (by omega) (by omega) he
        omega
      · rw [gf_un z2]
        exact H.2.1 i j hi (by omega)
  · obtain ⟨j, hj, he⟩ := H.2.2 p hp.1
    have z : j ≠ k := by
      intro z
      rw [z] at he
      exact hp.2 he.symm
    by_cases z2 : j = h - 1
    · exact ⟨k, by omega, by rw [gf_us, ← z2]; exact he⟩
    · exact ⟨j, by omega, by rw [gf_un z]; exact he⟩
/-- two places exchanged -/
theorem gf_Ex {h i j : Nat} {e e' : Nat → Nat} {P : Nat → Prop} (H : gf_E h e P) (hi : i < h) (hj : j < h) (h1 : e' i = e j) (h2 : e' j = e i) (h3 : ∀ k, k < h → k ≠ i → k ≠ j → e' k = e k) : gf_E h e' P := by
  have inj : ∀ i j, i < h → j < h → e i = e j → i = j := by
    intro i j hi hj he
    rcases Nat.lt_trichotomy i j with z | z | z
    · exact absurd he (H.2.1 i j z hj)
    · exact z
    · exact absurd he.symm (H.2.1 j i z hi)
  have val : ∀ k, k < h → ∃ k', k' < h ∧ e' k = e k' ∧ (k = i → k' = j) ∧ (k = j → k' = i) ∧ (k ≠ i → k ≠ j → k' = k) := by
    intro k hk
    by_cases z : k = i
    · exact ⟨j, hj, by rw [z]; exact h1, fun _ => rfl, fun z2 => by omega, fun z2 => absurd z z2⟩
    · by_cases z2 : k = j
      · exact ⟨i, hi, by rw [z2]; exact h2, fun z3 => absurd z3 z, fun _ => rfl, fun _ z4 => absurd z2 z4⟩
      · exact ⟨k, hk, h3 k hk z z2, fun z3 => absurd z3 z, fun z3 => absurd z3 z2, fun _ _ => rfl⟩
  refine ⟨fun k hk => ?_, fun a b hab hb => ?_, fun p hp => ?_⟩
  · obtain ⟨k', hk', he, _⟩ := val k hk
    rw [he]
    exact H.1 k' hk'
  · obtain ⟨a', ha', ea, a1, a2, a3⟩ := val a (by omega)
    obtain ⟨b', hb', eb, b1, b2, b3⟩ := val b hb
    rw [ea, eb]
    intro he
    have := inj _ _ ha' hb' he
    omega
  · obtain ⟨k, hk, he⟩ := H.2.2 p hp
    by_cases z : k = i
    · exact ⟨j, hj, by rw [h2, ← z]; exact he⟩
    · by_cases z2 : k = j
      · exact ⟨i, hi, by rw [h1, ← z2]; exact he⟩
      · exact ⟨k, hk, by rw [h3 k hk z z2]; exact he⟩
theorem gf_Es {h N : Nat} {e g : Nat → Nat} {P : Nat → Prop} (H : gf_E h e P) (hN : ∀ p, P p → p < N) (hg : ∀ p, p < N → g p ≠ 0 → P p) : gf_sm (fun k => g (e k)) h = gf_sm g N :=
  gf_sm_enum h e g H.2.1 (fun k hk => hN _ (H.1 k hk)) (fun p hp hz => H.2.2 p (hg p hp hz))
/-- how many places hold something -/
def gf_cnt (m : Nat → Nat) : Nat := gf_sm (fun p => if m p = 0 then 0 else 1) 1024
theorem gf_Eb {h : Nat} {e m : Nat → Nat} {P : Nat → Prop} (H : gf_E h e P) (hP : ∀ p, P p → m p ≠ 0 ∧ p < 1024) : h ≤ gf_cnt m := by
  have t := gf_sm_enum_le (N := 1024) h e (fun p => if m p = 0 then 0 else 1) H.2.1 (fun k hk => (hP _ (H.1 k hk)).2)
  have t2 : gf_sm (fun k => if m (e k) = 0 then 0 else 1) h = h := by
    rw [gf_sm_ext (g := fun _ => 1) (fun k hk => if_neg (hP _ (H.1 k hk)).1)]
    exact gf_sm_one h
  rw [← t2]
  exact t
theorem gf_Et {h : Nat} {e g : Nat → Nat} {P : Nat → Prop} (H : gf_E h e P) (hP : ∀ p, P p → p < 1024 ∧ g p = 1) (hg : ∀ p, p < 1024 → g p ≠ 0 → P p) : h = gf_sm g 1024 := by
  rw [← gf_Es H (fun p hp => (hP p hp).1) hg, gf_sm_ext (g := fun _ => 1) (fun k hk => (hP _ (H.1 k hk)).2), gf_sm_one]
end
section
/-- a scale: 0 = cuts 0 < cuts 1 < .. < cuts C = 32 -/
def gf_sc (cx : Nat → Nat) (C : Nat) : Prop := cx 0 = 0 ∧ cx C = 32 ∧ ∀ i, i < C → cx i < cx (i + 1)
/-- x lies in column c -/
def gf_col (cx : Nat → Nat) (C x c : Nat) : Prop := c < C ∧ cx c ≤ x ∧ x < cx (c + 1)
/-- (x, y) lies in bucket b's rectangle -/
def gf_in (lf rt lo hi : Nat → Nat) (b x y : Nat) : Prop := lf b ≤ x ∧ x ≤ rt b ∧ lo b ≤ y ∧ y ≤ hi b
/-- the grid: two scales; a cell's bucket holds the cell; buckets are disjoint -/
def gf_G (K C R B : Nat) (cx cy dr lf rt lo hi : Nat → Nat) : Prop :=
  gf_sc cx C ∧ gf_sc cy R ∧ C ≤ K ∧ R ≤ K ∧ B ≤ K ∧ (∀ b, b < B → lf b ≤ 31 ∧ rt b ≤ 31 ∧ lo b ≤ 31 ∧ hi b ≤ 31) ∧
  (∀ x y c r, gf_col cx C x c → gf_col cy R y r → dr (32 * c + r) < B ∧ gf_in lf rt lo hi (dr (32 * c + r)) x y) ∧
  (∀ b b' x y, b < B → b' < B → gf_in lf rt lo hi b x y → gf_in lf rt lo hi b' x y → b = b')
/-- bucket b holds just the points of m in its rectangle -/
def gf_S (B : Nat) (lf rt lo hi sz pl vl m : Nat → Nat) : Prop :=
  (∀ p, m p ≠ 0 → p < 1024) ∧ ∀ b, b < B → sz b ≤ 4 ∧ gf_E (sz b) (fun k => pl (4 * b + k)) (fun p => m p ≠ 0 ∧ gf_in lf rt lo hi b (p / 32) (p % 32)) ∧ ∀ k, k < sz b → vl (4 * b + k) = m (pl (4 * b + k))
theorem gf_sc_le {cx : Nat → Nat} {C : Nat} (H : gf_sc cx C) : ∀ {j i : Nat}, i ≤ j → j ≤ C → cx i ≤ cx j := by
  intro j
  induction j with
  | zero =>
    intro i hi _
    rw [show i = 0 by omega]
    exact Nat.le_refl _
  | succ j ih =>
    intro i hi hj
    by_cases e : i = j + 1
    · rw [e]
      exact Nat.le_refl _
    · have h1 := ih (i := i) (by omega) (by omega)
      have h2 := H.2.2 j (by omega)
      omega
theorem gf_sc_32 {cx : Nat → Nat} {C i : Nat} (H : gf_sc cx C) (hi : i ≤ C) : cx i ≤ 32 := by
  have h1 := gf_sc_le H hi (Nat.le_refl C)
  rw [H.2.1] at h1
  exact h1
theorem gf_sc_pos {cx : Nat → Nat} {C : Nat} (H : gf_sc cx C) : 1 ≤ C := by
  rcases Nat.eq_zero_or_pos C with z | z
  · have h1 := H.1
    have h2 := H.2.1
    rw [z] at h2
    omega
  · exact z
theorem gf_col_un {cx : Nat → Nat} {C x c c' : Nat} (H : gf_sc cx C) (h : gf_col cx C x c) (h' : gf_col cx C x c') : c = c' := by
  obtain ⟨h1, h2, h3⟩ := h
  obtain ⟨k1, k2, k3⟩ := h'
  rcases Nat.lt_trichotomy c c' with z | z | z
  · have := gf_sc_le H (show c + 1 ≤ c' by omega) (by omega)
    omega
  · exact z
  · have := gf_sc_le H (show c' + 1 ≤ c by omega) (by omega)
    omega
theorem gf_col_ex {cx : Nat → Nat} {C x : Nat} (H : gf_sc cx C) (hx : x < 32) : ∃ c, gf_col cx C x c := by
  have t : ∀ j, j ≤ C → x < cx j → ∃ c, gf_col cx C x c := by
    intro j
    induction j with
    | zero =>
      intro _ h
      rw [H.1] at h
      omega
    | succ j ih =>
      intro hj h
      by_cases e : x < cx j
      · exact ih (by omega) e
      · exact ⟨j, by omega, by omega, h⟩
  exact t C (Nat.le_refl C) (by rw [H.2.1]; exact hx)
theorem gf_col_32 {cx : Nat → Nat} {C x c : Nat} (H : gf_sc cx C) (h : gf_col cx C x c) : x < 32 := by
  have h1 := gf_sc_32 H (show c + 1 ≤ C from h.1)
  have h2 := h.2.2
  omega
theorem gf_wcol {post : Int32 → Prop} {f1 f2 f3 f4 : Int32} {a2 a3 a4 a5 a6 a7 a8 a9 a10 a11 a12 a13 : Nat → Int32} {C x : Nat} {cx : Nat → Nat} (hs : gf_sc cx C) (hC : C ≤ 32) (hx : x < 32) (H : ∀ c, gf_col cx C x c → post (nI c)) : wpX_columnOf post (nI C, f1, f2, f3, f4, gf_n cx, a2, a3, a4, a5, a6, a7, a8, a9, a10, a11, a12, a13) (nI x) := by
  have hp : 1 ≤ C := gf_sc_pos hs
  unfold wpX_columnOf
  dsimp only
  refine nm_r (gf_s1 hp) ?_
  refine lp3 (fun n a b k => wX_columnOf_12 post (nI x) (nI C) f1 f2 f3 f4 (gf_n cx) a2 a3 a4 a5 a6 a7 a8 a9 a10 a11 a12 a13 n (nI a) (nI b) (nI k)) (fun a b k => a ≤ b ∧ b < C ∧ cx a ≤ x ∧ x < cx (b + 1) ∧ k ≤ 6 ∧ b - a < 2 ^ (6 - k)) (fun _ _ k => 6 - k) ?_ 0 (C - 1) 0 ?_
  · intro n a b k hI hw
    obtain ⟨h1, h2, h3, h4, h5, h6⟩ := hI
    refine pk_le 6 k (fun h => ?_) (fun h => ?_)
    · have hk : k = 6 := by omega
      subst hk
      have h7 : b - a < 1 := h6
      have h8 : a = b := by omega
      subst h8
      exact H a ⟨h2, h3, h4⟩
    · have e : 2 ^ (6 - k) = 2 ^ (6 - (k + 1)) * 2 := by
        rw [show 6 - k = (6 - (k + 1)) + 1 by omega]
        rfl
      rw [e] at h6
      refine pk_le b a (fun h' => ?_) (fun h' => ?_)
      · have h8 : a = b := by omega
        subst h8
        exact H a ⟨h2, h3, h4⟩
      · obtain ⟨w, hw2⟩ : ∃ w, 2 ^ (6 - (k + 1)) = w := ⟨_, rfl⟩
        obtain ⟨m, hm⟩ : ∃ m, (a + b + 1) / 2 = m := ⟨_, rfl⟩
        rw [hw2] at h6
        have m1 : a < m := by omega
        have m2 : m ≤ b := by omega
        have m3 : b - m < 2 ^ (6 - (k + 1)) := by
          rw [hw2]
          omega
        have m4 : m - 1 - a < 2 ^ (6 - (k + 1)) := by
          rw [hw2]
          omega
        have m5 := gf_sc_32 hs (show m ≤ C by omega)
        refine nm_r ((gf_mid a b (by omega)).trans (congrArg nI hm)) ?_
        refine ⟨pk_in m 33 (by omega), ?_⟩
        refine pk_lt x (cx m) (fun g => ?_) (fun g => ?_) rfl (gf_rd rfl (by omega)) (by omega) (by omega)
        · refine nm_r (gf_s1 (by omega)) (nm_r (nI_1 k) (hw a (m - 1) (k + 1) ⟨by omega, by omega, h3, ?_, by omega, m4⟩ (by omega)))
          rw [show m - 1 + 1 = m by omega]
          exact g
        · exact nm_r (nI_1 k) (hw m b (k + 1) ⟨by omega, h2, g, h4, by omega, m3⟩ (by omega))
  · refine ⟨by omega, by omega, ?_, ?_, by omega, ?_⟩
    · rw [hs.1]
      omega
    · rw [show C - 1 + 1 = C by omega, hs.2.1]
      exact hx
    · show C - 1 - 0 < 64
      omega
theorem gf_wrow {post : Int32 → Prop} {f0 f2 f3 f4 : Int32} {a1 a3 a4 a5 a6 a7 a8 a9 a10 a11 a12 a13 : Nat → Int32} {C x : Nat} {cx : Nat → Nat} (hs : gf_sc cx C) (hC : C ≤ 32) (hx : x < 32) (H : ∀ c, gf_col cx C x c → post (nI c)) : wpX_rowOf post (f0, nI C, f2, f3, f4, a1, gf_n cx, a3, a4, a5, a6, a7, a8, a9, a10, a11, a12, a13) (nI x) := by
  have hp : 1 ≤ C := gf_sc_pos hs
  unfold wpX_rowOf
  dsimp only
  refine nm_r (gf_s1 hp) ?_
  refine lp3 (fun n a b k => wX_rowOf_12 post (nI x) f0 (nI C) f2 f3 f4 a1 (gf_n cx) a3 a4 a5 a6 a7 a8 a9 a10 a11 a12 a13 n (nI a) (nI b) (nI k)) (fun a b k => a ≤ b ∧ b < C ∧ cx a ≤ x ∧ x < cx (b + 1) ∧ k ≤ 6 ∧ b - a < 2 ^ (6 - k)) (fun _ _ k => 6 - k) ?_ 0 (C - 1) 0 ?_
  · intro n a b k hI hw
    obtain ⟨h1, h2, h3, h4, h5, h6⟩ := hI
    refine pk_le 6 k (fun h => ?_) (fun h => ?_)
    · have hk : k = 6 := by omega
      subst hk
      have h7 : b - a < 1 := h6
      have h8 : a = b := by omega
      subst h8
      exact H a ⟨h2, h3, h4⟩
    · have e : 2 ^ (6 - k) = 2 ^ (6 - (k + 1)) * 2 := by
        rw [show 6 - k = (6 - (k + 1)) + 1 by omega]
        rfl
      rw [e] at h6
      refine pk_le b a (fun h' => ?_) (fun h' => ?_)
      · have h8 : a = b := by omega
        subst h8
        exact H a ⟨h2, h3, h4⟩
      · obtain ⟨w, hw2⟩ : ∃ w, 2 ^ (6 - (k + 1)) = w := ⟨_, rfl⟩
        obtain ⟨m, hm⟩ : ∃ m, (a + b + 1) / 2 = m := ⟨_, rfl⟩
        rw [hw2] at h6
        have m1 : a < m := by omega
        have m2 : m ≤ b := by omega
        have m3 : b - m < 2 ^ (6 - (k + 1)) := by
          rw [hw2]
          omega
        have m4 : m - 1 - a < 2 ^ (6 - (k + 1)) := by
          rw [hw2]
          omega
        have m5 := gf_sc_32 hs (show m ≤ C by omega)
        refine nm_r ((gf_mid a b (by omega)).trans (congrArg nI hm)) ?_
        refine ⟨pk_in m 33 (by omega), ?_⟩
        refine pk_lt x (cx m) (fun g => ?_) (fun g => ?_) rfl (gf_rd rfl (by omega)) (by omega) (by omega)
        · refine nm_r (gf_s1 (by omega)) (nm_r (nI_1 k) (hw a (m - 1) (k + 1) ⟨by omega, by omega, h3, ?_, by omega, m4⟩ (by omega)))
          rw [show m - 1 + 1 = m by omega]
          exact g
        · exact nm_r (nI_1 k) (hw m b (k + 1) ⟨by omega, h2, g, h4, by omega, m3⟩ (by omega))
  · refine ⟨by omega, by omega, ?_, ?_, by omega, ?_⟩
    · rw [hs.1]
      omega
    · rw [show C - 1 + 1 = C by omega, hs.2.1]
      exact hx
    · show C - 1 - 0 < 64
      omega
theorem gf_bk {post : Int32 → Prop} {f2 f3 f4 : Int32} {a4 a5 a6 a7 a8 a9 a10 a11 a12 a13 : Nat → Int32} {K C R B x y : Nat} {cx cy dr lf rt lo hi : Nat → Nat} (G : gf_G K C R B cx cy dr lf rt lo hi) (hK : K ≤ 32) (hx : x < 32) (hy : y < 32) (H : ∀ b, b < B → gf_in lf rt lo hi b x y → post (nI b)) : wpX_bucketAt post (nI C, nI R, f2, f3, f4, gf_n cx, gf_n cy, gf_n dr, a4, a5, a6, a7, a8, a9, a10, a11, a12, a13) (nI x) (nI y) := by
  obtain ⟨g1, g2, g3, g4, g5, g6, g7, g8⟩ := G
  unfold wpX_bucketAt
  dsimp only
  refine gf_wcol g1 (by omega) hx (fun c hc => ?_)
  refine gf_wrow g2 (by omega) hy (fun r hr => ?_)
  have d := g7 x y c r hc hr
  have hc1 := hc.1
  have hr1 := hr.1
  refine ⟨pk_in (32 * c + r) 1024 (by omega) (gf_m32a c r), ?_⟩
  rw [gf_rd (gf_m32a c r) (by omega)]
  exact H _ d.1 d.2
/-- every place lies in a bucket -/
theorem gf_cov {K C R B : Nat} {cx cy dr lf rt lo hi : Nat → Nat} (G : gf_G K C R B cx cy dr lf rt lo hi) {x y : Nat} (hx : x < 32) (hy : y < 32) : ∃ b, b < B ∧ gf_in lf rt lo hi b x y := by
  obtain ⟨c, hc⟩ := gf_col_ex G.1 hx
  obtain ⟨r, hr⟩ := gf_col_ex G.2.1 hy
  have d := G.2.2.2.2.2.2.1 x y c r hc hr
  exact ⟨_, d.1, d.2⟩
theorem gf_dis {K C R B : Nat} {cx cy dr lf rt lo hi : Nat → Nat} (G : gf_G K C R B cx cy dr lf rt lo hi) {b b' x y : Nat} (hb : b < B) (hb' : b' < B) (h : gf_in lf rt lo hi b x y) (h' : gf_in lf rt lo hi b' x y) : b = b' := G.2.2.2.2.2.2.2 b b' x y hb hb' h h'
theorem gf_find {post : Int32 → Prop} {f2 f3 f4 : Int32} {a5 a6 a7 a8 a10 a11 a12 a13 : Nat → Int32} {K C R B x y : Nat} {cx cy dr lf rt lo hi sz pl vl m : Nat → Nat} (G : gf_G K C R B cx cy dr lf rt lo hi) (S : gf_S B lf rt lo hi sz pl vl m) (hK : K ≤ 32) (hx : x < 32) (hy : y < 32) (H0 : m (32 * x + y) = 0 → post (-1)) (H1 : ∀ b k, b < B → k < sz b → pl (4 * b + k) = 32 * x + y → m (32 * x + y) ≠ 0 → post (nI (4 * b + k))) : wpX_find post (nI C, nI R, f2, f3, f4, gf_n cx, gf_n cy, gf_n dr, gf_n sz, a5, a6, a7, a8, gf_n pl, a10, a11, a12, a13) (nI x) (nI y) := by
  unfold wpX_find
  dsimp only
  refine gf_bk G hK hx hy (fun b hb hin => ?_)
  have hB : B ≤ 32 := Nat.le_trans G.2.2.2.2.1 hK
  obtain ⟨s1, s2⟩ := S
  obtain ⟨s3, s4, s5⟩ := s2 b hb
  have bd : ∀ k, k < sz b → pl (4 * b + k) < 1024 := fun k hk => s1 _ (s4.1 k hk).1
  refine nm_r (gf_m4 b) ?_
  refine lp1 (fun n k => wX_find_12 post (nI x) (nI y) (nI b) (nI C) (nI R) f2 f3 f4 (gf_n cx) (gf_n cy) (gf_n dr) (gf_n sz) a5 a6 a7 a8 (gf_n pl) a10 a11 a12 a13 n (nI (4 * b + k))) (fun k => k ≤ sz b ∧ ∀ j, j < k → pl (4 * b + j) ≠ 32 * x + y) (fun k => sz b - k) ?_ 0 ⟨Nat.zero_le _, fun j hj => absurd hj (by omega)⟩
  intro n k hI hw
  obtain ⟨h1, h2⟩ := hI
  refine ⟨pk_in b 64 (by omega), ?_⟩
  refine pk_le (4 * b + sz b) (4 * b + k) (fun h => ?_) (fun h => ?_) (by rw [gf_rd rfl (by omega), gf_m4a]) rfl (by omega) (by omega)
  · refine H0 ?_
    by_cases z : m (32 * x + y) = 0
    · exact z
    · have q1 : (32 * x + y) / 32 = x := by omega
      have q2 : (32 * x + y) % 32 = y := by omega
      obtain ⟨j, hj, he⟩ := s4.2.2 (32 * x + y) ⟨z, by rw [q1, q2]; exact hin⟩
      exact absurd he (h2 j (by omega))
  · have hp := bd k (by omega)
    refine ⟨pk_in (4 * b + k) 256 (by omega), ?_⟩
    refine pk_eq (pl (4 * b + k)) (32 * x + y) (fun e => ?_) (fun e => ?_) (gf_rd rfl (by omega)) (gf_m32a x y) (by omega) (by omega)
    · refine H1 b k hb (by omega) e ?_
      rw [← e]
      exact (s4.1 k (by omega)).1
    · refine nm_r (nI_1 (4 * b + k)) (hw (k + 1) ⟨by omega, fun j hj => ?_⟩ (by omega))
      by_cases z : j = k
      · rw [z]
        exact e
      · exact h2 j (by omega)
end
section
theorem gf_ush {f : Nat → Nat} {a i v k : Nat} : gf_u f (a + i) v (a + k) = gf_u (fun j => f (a + j)) i v k := by
  by_cases e : k = i
  · rw [e, gf_us, gf_us]
  · rw [gf_un e, gf_un (show a + k ≠ a + i by omega)]
theorem gf_sm_up {g g' : Nat → Nat} {N p : Nat} (hp : p < N) (h : ∀ q, q ≠ p → g' q = g q) : gf_sm g' N + g p = gf_sm g N + g' p := by
  have e : gf_sm (gf_u g' p 0) N = gf_sm (gf_u g p 0) N := by
    refine gf_sm_ext (fun k _ => ?_)
    by_cases z : k = p
    · rw [z, gf_us, gf_us]
    · rw [gf_un z, gf_un z, h k z]
  rw [gf_sm_rm (g := g) hp, gf_sm_rm (g := g') hp, e]
  omega
theorem gf_cnt_up {m : Nat → Nat} {p v : Nat} (hp : p < 1024) : gf_cnt (gf_u m p v) + (if m p = 0 then 0 else 1) = gf_cnt m + (if v = 0 then 0 else 1) := by
  have t := gf_sm_up (g := fun q => if m q = 0 then 0 else 1) (g' := fun q => if gf_u m p v q = 0 then 0 else 1) hp (fun q hq => by
    show (if gf_u m p v q = 0 then 0 else 1) = if m q = 0 then 0 else 1
    rw [gf_un hq])
  rw [show (if gf_u m p v p = 0 then 0 else 1) = (if v = 0 then 0 else 1 : Nat) by rw [gf_us]] at t
  exact t
theorem gf_ne {K C R B : Nat} {cx cy dr lf rt lo hi sz pl vl m : Nat → Nat} (G : gf_G K C R B cx cy dr lf rt lo hi) (S : gf_S B lf rt lo hi sz pl vl m) {b k b' k' : Nat} (hb : b < B) (hk : k < sz b) (hb' : b' < B) (hk' : k' < sz b') (e : pl (4 * b + k) = pl (4 * b' + k')) : b = b' ∧ k = k' := by
  have h1 := ((S.2 b hb).2.1.1 k hk).2
  have h2 := ((S.2 b' hb').2.1.1 k' hk').2
  have h3 : gf_in lf rt lo hi b' (pl (4 * b + k) / 32) (pl (4 * b + k) % 32) := by
    rw [e]
    exact h2
  have eb : b = b' := gf_dis G hb hb' h1 h3
  subst eb
  refine ⟨rfl, ?_⟩
  rcases Nat.lt_trichotomy k k' with z | z | z
  · exact absurd e ((S.2 b hb).2.1.2.1 k k' z hk')
  · exact z
  · exact absurd e.symm ((S.2 b hb).2.1.2.1 k' k z hk)
theorem gf_S_store {K C R B : Nat} {cx cy dr lf rt lo hi sz pl vl m : Nat → Nat} (G : gf_G K C R B cx cy dr lf rt lo hi) (S : gf_S B lf rt lo hi sz pl vl m) {b p v : Nat} (hb : b < B) (hin : gf_in lf rt lo hi b (p / 32) (p % 32)) (hp : p < 1024) (hm : m p = 0) (hv : v ≠ 0) (hs : sz b < 4) : gf_S B lf rt lo hi (gf_u sz b (sz b + 1)) (gf_u pl (4 * b + sz b) p) (gf_u vl (4 * b + sz b) v) (gf_u m p v) := by
  refine ⟨fun q hq => ?_, fun b' hb' => ?_⟩
  · by_cases e : q = p
    · rw [e]
      exact hp
    · rw [gf_un e] at hq
      exact S.1 q hq
  · obtain ⟨s3, s4, s5⟩ := S.2 b' hb'
    by_cases e : b' = b
    · subst e
      rw [gf_us]
      refine ⟨by omega, gf_Ei (gf_Ec (gf_Ea (q := p) s4 (fun z => z.1 hm)) (fun k _ => gf_ush)) (fun q => ?_), fun k hk => ?_⟩
      · by_cases z : q = p
        · rw [z, gf_us]
          exact ⟨fun _ => ⟨hv, hin⟩, fun _ => Or.inr rfl⟩
        · rw [gf_un z]
          exact ⟨fun h => h.elim (fun h => h) (fun h => absurd h z), fun h => Or.inl h⟩
      · by_cases z : k = sz b'
        · rw [z, gf_us, gf_us, gf_us]
        · have z2 : 4 * b' + k ≠ 4 * b' + sz b' := by omega
          rw [gf_un z2, gf_un z2, s5 k (by omega)]
          have z3 : pl (4 * b' + k) ≠ p := by
            intro h
            have h1 := (s4.1 k (by omega)).1
            exact h1 (by show m (pl (4 * b' + k)) = 0; rw [h]; exact hm)
          rw [gf_un z3]
    · rw [gf_un e]
      refine ⟨s3, gf_Ei (gf_Ec s4 (fun k hk => gf_un (by omega))) (fun q => ?_), fun k hk => ?_⟩
      · by_cases z : q = p
        · rw [z]
          exact ⟨fun h => absurd (gf_dis G hb' hb h.2 hin) e, fun h => absurd (gf_dis G hb' hb h.2 hin) e⟩
        · rw [gf_un z]
      · have z2 : 4 * b' + k ≠ 4 * b + sz b := by omega
        rw [gf_un z2, gf_un z2, s5 k (by omega)]
        have z3 : pl (4 * b' + k) ≠ p := by
          intro h
          have h1 := (s4.1 k (by omega)).1
          exact h1 (by show m (pl (4 * b' + k)) = 0; rw [h]; exact hm)
        rw [gf_un z3]
theorem gf_S_drop {K C R B : Nat} {cx cy dr lf rt lo hi sz pl vl m : Nat → Nat} (G : gf_G K C R B cx cy dr lf rt lo hi) (S : gf_S B lf rt lo hi sz pl vl m) {b k : Nat} (hb : b < B) (hk : k < sz b) : gf_S B lf rt lo hi (gf_u sz b (sz b - 1)) (gf_u pl (4 * b + k) (pl (4 * b + (sz b - 1)))) (gf_u vl (4 * b + k) (vl (4 * b + (sz b - 1)))) (gf_u m (pl (4 * b + k)) 0) := by
  refine ⟨fun q hq => ?_, fun b' hb' => ?_⟩
  · by_cases e : q = pl (4 * b + k)
    · rw [e, gf_us] at hq
      exact absurd rfl hq
    · rw [gf_un e] at hq
      exact S.1 q hq
  · obtain ⟨s3, s4, s5⟩ := S.2 b' hb'
    obtain ⟨t3, t4, t5⟩ := S.2 b hb
    by_cases e : b' = b
    · subst e
      rw [gf_us]
      refine ⟨by omega, gf_Ei (gf_Ec (gf_Er s4 hk) (fun j _ => gf_ush)) (fun q => ?_), fun j hj => ?_⟩
      · by_cases z : q = pl (4 * b' + k)
        · rw [z, gf_us]
          exact ⟨fun h => absurd rfl h.2, fun h => absurd rfl h.1⟩
        · rw [gf_un z]
          exact ⟨fun h => h.1, fun h => ⟨h, z⟩⟩
      · by_cases z : j = k
        · subst z
          rw [gf_us, gf_us]
          have z3 : pl (4 * b' + (sz b' - 1)) ≠ pl (4 * b' + j) := by
            intro h
            have := (gf_ne G S hb (show sz b' - 1 < sz b' by omega) hb hk h).2
            omega
          rw [gf_un z3]
          exact s5 _ (by omega)
        · have z2 : 4 * b' + j ≠ 4 * b' + k := by omega
          rw [gf_un z2, gf_un z2]
          have z3 : pl (4 * b' + j) ≠ pl (4 * b' + k) := by
            intro h
            exact z (gf_ne G S hb (show j < sz b' by omega) hb hk h).2
          rw [gf_un z3]
          exact s5 j (by omega)
    · rw [gf_un e]
      refine ⟨s3, gf_Ei (gf_Ec s4 (fun j hj => gf_un (by omega))) (fun q => ?_), fun j hj => ?_⟩
      · by_cases z : q = pl (4 * b + k)
        · rw [z, gf_us]
          exact ⟨fun h => absurd (gf_dis G hb' hb h.2 (t4.1 k hk).2) e, fun h => absurd rfl h.1⟩
        · rw [gf_un z]
      · have z2 : 4 * b' + j ≠ 4 * b + k := by omega
        rw [gf_un z2, gf_un z2]
        have z3 : pl (4 * b' + j) ≠ pl (4 * b + k) := by
          intro h
          exact e (gf_ne G S hb' hj hb hk h).1
        rw [gf_un z3]
        exact s5 j hj
theorem gf_S_over {K C R B : Nat} {cx cy dr lf rt lo hi sz pl vl m : Nat → Nat} (G : gf_G K C R B cx cy dr lf rt lo hi) (S : gf_S B lf rt lo hi sz pl vl m) {b k v : Nat} (hb : b < B) (hk : k < sz b) (hv : v ≠ 0) : gf_S B lf rt lo hi sz pl (gf_u vl (4 * b + k) v) (gf_u m (pl (4 * b + k)) v) := by
  obtain ⟨t3, t4, t5⟩ := S.2 b hb
  have tm : m (pl (4 * b + k)) ≠ 0 := (t4.1 k hk).1
  refine ⟨fun q hq => ?_, fun b' hb' => ?_⟩
  · by_cases e : q = pl (4 * b + k)
    · rw [e]
      exact S.1 _ tm
    · rw [gf_un e] at hq
      exact S.1 q hq
  · obtain ⟨s3, s4, s5⟩ := S.2 b' hb'
    refine ⟨s3, gf_Ei s4 (fun q => ?_), fun j hj => ?_⟩
    · by_cases z : q = pl (4 * b + k)
      · rw [z, gf_us]
        exact ⟨fun h => ⟨hv, h.2⟩, fun h => ⟨tm, h.2⟩⟩
      · rw [gf_un z]
    · by_cases e : b' = b ∧ j = k
      · rw [e.1, e.2, gf_us, gf_us]
      · have z2 : 4 * b' + j ≠ 4 * b + k := by omega
        have z3 : pl (4 * b' + j) ≠ pl (4 * b + k) := by
          intro h
          exact e (gf_ne G S hb' hj hb hk h)
        rw [gf_un z2, gf_un z3]
        exact s5 j hj
theorem gf_drop {post : St2 → Prop} {f0 f1 f2 f4 : Int32} {a1 a2 a3 a5 a6 a7 a8 a11 a12 a13 : Nat → Int32} {K C R B n b k : Nat} {cx cy dr lf rt lo hi sz pl vl m : Nat → Nat} (G : gf_G K C R B cx cy dr lf rt lo hi) (S : gf_S B lf rt lo hi sz pl vl m) (hK : K ≤ 32) (hb : b < B) (hk : k < sz b) (hn : 1 ≤ n)
    (H : ∀ sz' pl' vl', gf_S B lf rt lo hi sz' pl' vl' (gf_u m (pl (4 * b + k)) 0) → post (f0, f1, f2, nI (n - 1), f4, a1, a2, a3, gf_n sz', a5, a6, a7, a8, gf_n pl', gf_n vl', a11, a12, a13)) :
    wpX_drop post (f0, f1, f2, nI n, f4, a1, a2, a3, gf_n sz, a5, a6, a7, a8, gf_n pl, gf_n vl, a11, a12, a13) (nI (4 * b + k)) := by
  have hB : B ≤ 32 := Nat.le_trans G.2.2.2.2.1 hK
  have s3 := (S.2 b hb).1
  unfold wpX_drop
  dsimp only
  refine br_t (nI_pos' (by omega)) ?_
  refine ⟨by decide, nm_r (e' := nI b) ?_ ?_⟩
  · exact (pk_div (d := 4) (show 4 * b + k < 2 ^ 31 by omega) (by decide) (by decide)).trans (congrArg nI (show (4 * b + k) / 4 = b by omega))
  have hx : 4 * nI b + gf_n (gf_u sz b (sz b - 1)) (nI b).toNatClampNeg = nI (4 * b + (sz b - 1)) := by
    rw [gf_rd rfl (by omega), gf_us, gf_m4a]
  refine ⟨pk_in b 64 (by omega), pk_in b 64 (by omega), nm_r (gf_wr (w := sz b - 1) rfl ?_ (by omega)) ?_⟩
  · rw [gf_rd rfl (by omega)]
    exact gf_s1 (by omega)
  refine ⟨pk_in b 64 (by omega), pk_in (4 * b + (sz b - 1)) 256 (by omega) hx, pk_in (4 * b + k) 256 (by omega), nm_r (gf_wr rfl (gf_rd hx (by omega)) (by omega)) ?_⟩
  refine ⟨pk_in b 64 (by omega), pk_in (4 * b + (sz b - 1)) 256 (by omega) hx, pk_in (4 * b + k) 256 (by omega), nm_r (gf_wr rfl (gf_rd hx (by omega)) (by omega)) ?_⟩
  exact nm_r (gf_s1 hn) (H _ _ _ (gf_S_drop G S hb hk))
theorem gf_ins71 {post : St2 → Prop} {f0 f1 f2 f3 f4 : Int32} {a1 a2 a3 a5 a6 a7 a8 a11 a12 a13 : Nat → Int32} {K C R B b p v : Nat} {cx cy dr lf rt lo hi sz pl vl m : Nat → Nat} (G : gf_G K C R B cx cy dr lf rt lo hi) (S : gf_S B lf rt lo hi sz pl vl m) (hK : K ≤ 32) (hb : b < B) (hin : gf_in lf rt lo hi b (p / 32) (p % 32)) (hp : p < 1024) (hm : m p = 0) (hv : v ≠ 0) (hs : sz b < 4)
    (H : ∀ sz' pl' vl', gf_S B lf rt lo hi sz' pl' vl' (gf_u m p v) → post (f0, f1, f2, f3, f4, a1, a2, a3, gf_n sz', a5, a6, a7, a8, gf_n pl', gf_n vl', a11, a12, a13)) :
    wX_insert_71 post (nI p) (nI v) (nI b) f0 f1 f2 f3 f4 a1 a2 a3 (gf_n sz) a5 a6 a7 a8 (gf_n pl) (gf_n vl) a11 a12 a13 := by
  have hB : B ≤ 32 := Nat.le_trans G.2.2.2.2.1 hK
  have hx : 4 * nI b + gf_n sz (nI b).toNatClampNeg = nI (4 * b + sz b) := by
    rw [gf_rd rfl (by omega), gf_m4a]
  unfold wX_insert_71
  refine ⟨pk_in b 64 (by omega), pk_in (4 * b + sz b) 256 (by omega) hx, nm_r (gf_wr hx rfl (by omega)) ?_⟩
  refine ⟨pk_in b 64 (by omega), pk_in (4 * b + sz b) 256 (by omega) hx, nm_r (gf_wr hx rfl (by omega)) ?_⟩
  refine ⟨pk_in b 64 (by omega), pk_in b 64 (by omega), nm_r (gf_wr (w := sz b + 1) rfl ?_ (by omega)) ?_⟩
  · rw [gf_rd rfl (by omega)]
    exact nI_1 _
  exact H _ _ _ (gf_S_store G S hb hin hp hm hv hs)
end
section
/-- a scale with one cut more, behind place c -/
def gf_ins (cx cx' : Nat → Nat) (C c cut : Nat) : Prop := (∀ j, j ≤ c → cx' j = cx j) ∧ cx' (c + 1) = cut ∧ (∀ j, c + 1 < j → j ≤ C + 1 → cx' j = cx (j - 1))
theorem gf_sc_ins {cx cx' : Nat → Nat} {C c cut : Nat} (H : gf_sc cx C) (hc : gf_col cx C cut c) (hn : cx c ≠ cut) (h : gf_ins cx cx' C c cut) : gf_sc cx' (C + 1) := by
  obtain ⟨c1, c2, c3⟩ := hc
  obtain ⟨h1, h2, h3⟩ := h
  refine ⟨by rw [h1 0 (by omega)]; exact H.1, by rw [h3 (C + 1) (by omega) (by omega)]; exact H.2.1, fun i hi => ?_⟩
  rcases Nat.lt_trichotomy i c with z | z | z
  · rw [h1 i (by omega), h1 (i + 1) (by omega)]
    exact H.2.2 i (by omega)
  · rw [z, h1 c (by omega), h2]
    omega
  · by_cases z2 : i = c + 1
    · rw [z2, h2, h3 (c + 1 + 1) (by omega) (by omega), show c + 1 + 1 - 1 = c + 1 by omega]
      exact c3
    · have t := H.2.2 (i - 1) (by omega)
      rw [h3 i (by omega) (by omega), h3 (i + 1) (by omega) (by omega), show i + 1 - 1 = i - 1 + 1 by omega]
      exact t
theorem gf_col_ins {cx cx' : Nat → Nat} {C c cut x c' : Nat} (hc : gf_col cx C cut c) (h : gf_ins cx cx' C c cut) (hx : gf_col cx' (C + 1) x c') : (c' ≤ c ∧ gf_col cx C x c') ∨ (c < c' ∧ gf_col cx C x (c' - 1)) := by
  obtain ⟨c1, c2, c3⟩ := hc
  obtain ⟨h1, h2, h3⟩ := h
  obtain ⟨x1, x2, x3⟩ := hx
  rcases Nat.lt_trichotomy c' c with z | z | z
  · left
    rw [h1 c' (by omega)] at x2
    rw [h1 (c' + 1) (by omega)] at x3
    exact ⟨by omega, by omega, x2, x3⟩
  · left
    subst z
    rw [h1 c' (by omega)] at x2
    rw [h2] at x3
    exact ⟨by omega, by omega, x2, by omega⟩
  · right
    rw [h3 (c' + 1) (by omega) (by omega)] at x3
    refine ⟨z, by omega, ?_, by rw [show c' - 1 + 1 = c' + 1 - 1 by omega]; exact x3⟩
    by_cases z2 : c' = c + 1
    · subst z2
      rw [h2] at x2
      rw [show c + 1 - 1 = c by omega]
      omega
    · rw [h3 c' (by omega) (by omega)] at x2
      exact x2
theorem gf_cc73 {post : St2 → Prop} {J : Int32 → (Nat → Int32) → (Nat → Int32) → (Nat → Int32) → (Nat → Int32) → (Nat → Int32) → (Nat → Int32) → (Nat → Int32) → (Nat → Int32) → (Nat → Int32) → (Nat → Int32) → (Nat → Int32) → (Nat → Int32) → (Nat → Int32) → Prop} {x2 f0 f2 f3 f4 : Int32} {a1 a2 a4 a5 a6 a7 a8 a9 a10 a11 a12 a13 : Nat → Int32} {k R : Nat} {f : Nat → Nat} (hk : 1 ≤ k) (hk2 : k ≤ 31) (hR : R ≤ 32)
    (H : ∀ g, (∀ r, r < R → g (32 * k + r) = f (32 * (k - 1) + r)) → (∀ i, (∀ r, r < R → i ≠ 32 * k + r) → g i = f i) → J (nI (k - 1)) a1 a2 (gf_n g) a4 a5 a6 a7 a8 a9 a10 a11 a12 a13) :
    ∃ fu, wX_cutColumn_73 post J x2 (nI k) f0 (nI R) f2 f3 f4 fu 0 a1 a2 (gf_n f) a4 a5 a6 a7 a8 a9 a10 a11 a12 a13 := by
  refine lp2 (fun n r g => wX_cutColumn_73 post J x2 (nI k) f0 (nI R) f2 f3 f4 n (nI r) a1 a2 (gf_n g) a4 a5 a6 a7 a8 a9 a10 a11 a12 a13) (fun r g => r ≤ R ∧ (∀ j, j < r → g (32 * k + j) = f (32 * (k - 1) + j)) ∧ (∀ i, (∀ j, j < r → i ≠ 32 * k + j) → g i = f i)) (fun r _ => R - r) ?_ 0 f ⟨by omega, fun j hj => absurd hj (by omega), fun i _ => rfl⟩
  intro n r g hI hw
  obtain ⟨h1, h2, h3⟩ := hI
  refine pk_le R r (fun h => ?_) (fun h => ?_)
  · have e : r = R := by omega
    subst e
    exact nm_r (gf_m1 hk) (H g h2 h3)
  · have e1 : 32 * nI k - 32 + nI r = nI (32 * (k - 1) + r) := by
      rw [gf_m32, show nI (32 * k) - 32 = nI (32 * k - 32) from pk_sub (a := 32 * k) (b := 32) (by omega), nI_add, show 32 * k - 32 = 32 * (k - 1) by omega]
    have e2 := gf_m32a k r
    refine ⟨pk_in (32 * (k - 1) + r) 1024 (by omega) e1, pk_in (32 * k + r) 1024 (by omega) e2, nm_r (gf_wr e2 (gf_rd e1 (by omega)) (by omega)) (nm_r (nI_1 r) (hw (r + 1) _ ⟨by omega, fun j hj => ?_, fun i hi => ?_⟩ (by omega)))⟩
    · by_cases z : j = r
      · rw [z, gf_us]
        exact h3 _ (fun j hj => by omega)
      · rw [gf_un (by omega)]
        exact h2 j (by omega)
    · rw [gf_un (hi r (by omega))]
      exact h3 i (fun j hj => hi j (by omega))
theorem gf_cc65 {post : St2 → Prop} {f2 f3 f4 : Int32} {a1 a2 a4 a5 a6 a7 a8 a9 a10 a11 a12 a13 : Nat → Int32} {C c R : Nat} {dr : Nat → Nat} (hc : c < C) (hC : C ≤ 31) (hR : R ≤ 32)
    (H : ∀ g, (∀ j r, r < R → c < j → j ≤ C → g (32 * j + r) = dr (32 * (j - 1) + r)) → (∀ j r, r < R → j ≤ c → g (32 * j + r) = dr (32 * j + r)) → post (nI (C + 1), nI R, f2, f3, f4, a1, a2, gf_n g, a4, a5, a6, a7, a8, a9, a10, a11, a12, a13)) :
    ∃ fu, wX_cutColumn_65 post (nI c) (nI C) (nI R) f2 f3 f4 fu (nI C) a1 a2 (gf_n dr) a4 a5 a6 a7 a8 a9 a10 a11 a12 a13 := by
  refine lp2 (fun n k g => wX_cutColumn_65 post (nI c) (nI C) (nI R) f2 f3 f4 n (nI k) a1 a2 (gf_n g) a4 a5 a6 a7 a8 a9 a10 a11 a12 a13) (fun k g => c ≤ k ∧ k ≤ C ∧ (∀ j r, r < R → k < j → j ≤ C → g (32 * j + r) = dr (32 * (j - 1) + r)) ∧ (∀ j r, r < R → j ≤ k → g (32 * j + r) = dr (32 * j + r))) (fun k _ => k) ?_ C dr ⟨by omega, by omega, fun j r _ h1 h2 => absurd h1 (by omega), fun j r _ _ => rfl⟩
  intro n k g hI hw
  obtain ⟨h1, h2, h3, h4⟩ := hI
  refine pk_le k c (fun h => ?_) (fun h => ?_)
  · have e : k = c := by omega
    subst e
    exact nm_r (nI_1 C) (H g h3 h4)
  · refine gf_cc73 (by omega) (by omega) hR (fun g' q1 q2 => hw (k - 1) g' ⟨by omega, by omega, fun j r hr hj hj2 => ?_, fun j r hr hj => ?_⟩ (by omega))
    · by_cases z : j = k
      · rw [z, q1 r hr]
        exact h4 (k - 1) r hr (by omega)
      · rw [q2 _ (fun r' hr' => by omega)]
        exact h3 j r hr (by omega) hj2
    · rw [q2 _ (fun r' hr' => by omega)]
      exact h4 j r hr (by omega)
theorem gf_cc24 {post : St2 → Prop} {f1 f2 f3 f4 : Int32} {a2 a3 a4 a5 a6 a7 a8 a9 a10 a11 a12 a13 : Nat → Int32} {C c cut : Nat} {cx : Nat → Nat} (hc : c < C) (hC : C ≤ 31)
    (H : ∀ cx', gf_ins cx cx' C c cut → ∃ fu, wX_cutColumn_65 post (nI c) (nI C) f1 f2 f3 f4 fu (nI C) (gf_n cx') a2 a3 a4 a5 a6 a7 a8 a9 a10 a11 a12 a13) :
    ∃ fu, wX_cutColumn_24 post (nI cut) (nI c) (nI C) f1 f2 f3 f4 fu (nI (C + 1)) (gf_n cx) a2 a3 a4 a5 a6 a7 a8 a9 a10 a11 a12 a13 := by
  refine lp2 (fun n k g => wX_cutColumn_24 post (nI cut) (nI c) (nI C) f1 f2 f3 f4 n (nI k) (gf_n g) a2 a3 a4 a5 a6 a7 a8 a9 a10 a11 a12 a13) (fun k g => c + 1 ≤ k ∧ k ≤ C + 1 ∧ (∀ j, k < j → j ≤ C + 1 → g j = cx (j - 1)) ∧ (∀ j, j ≤ k → g j = cx j)) (fun k _ => k) ?_ (C + 1) cx ⟨by omega, by omega, fun j h1 h2 => absurd h1 (by omega), fun j _ => rfl⟩
  intro n k g hI hw
  obtain ⟨h1, h2, h3, h4⟩ := hI
  refine pk_le k (c + 1) (fun h => ?_) (fun h => ?_) rfl (nI_1 c)
  · have e : k = c + 1 := by omega
    subst e
    refine ⟨pk_in (c + 1) 33 (by omega) (nI_1 c), nm_r (gf_wr (nI_1 c) rfl (by omega)) (H _ ⟨fun j hj => ?_, gf_us, fun j hj hj2 => ?_⟩)⟩
    · rw [gf_un (by omega)]
      exact h4 j (by omega)
    · rw [gf_un (by omega)]
      exact h3 j hj hj2
  · refine ⟨pk_in (k - 1) 33 (by omega) (gf_s1 (by omega)), pk_in k 33 (by omega), nm_r (gf_wr rfl (gf_rd (gf_s1 (by omega)) (by omega)) (by omega)) (nm_r (gf_m1 (by omega)) (hw (k - 1) _ ⟨by omega, by omega, fun j hj hj2 => ?_, fun j hj => ?_⟩ (by omega)))⟩
    · by_cases z : j = k
      · rw [z, gf_us]
        exact h4 (k - 1) (by omega)
      · rw [gf_un z]
        exact h3 j (by omega) hj2
    · rw [gf_un (by omega)]
      exact h4 j (by omega)
theorem gf_wcutC {post : St2 → Prop} {f2 f3 f4 : Int32} {a4 a5 a6 a7 a8 a9 a10 a11 a12 a13 : Nat → Int32} {K C R B cut : Nat} {cx cy dr lf rt lo hi : Nat → Nat} (G : gf_G K C R B cx cy dr lf rt lo hi) (hK : K ≤ 31) (h31 : cut < 32)
    (H : ∀ C' cx' dr' i, gf_G (K + 1) C' R B cx' cy dr' lf rt lo hi → i < C' → cx' i = cut → post (nI C', nI R, f2, f3, f4, gf_n cx', gf_n cy, gf_n dr', a4, a5, a6, a7, a8, a9, a10, a11, a12, a13)) :
    wpX_cutColumn post (nI C, nI R, f2, f3, f4, gf_n cx, gf_n cy, gf_n dr, a4, a5, a6, a7, a8, a9, a10, a11, a12, a13) (nI cut) := by
  obtain ⟨g1, g2, g3, g4, g5, g6, g7, g8⟩ := G
  unfold wpX_cutColumn
  dsimp only
  refine gf_wcol g1 (by omega) h31 (fun c hc => ?_)
  have hc1 := hc.1
  have hb := gf_sc_32 g1 (show c ≤ C by omega)
  refine ⟨pk_in c 33 (by omega), pk_eq (cx c) cut (fun e => ?_) (fun e => ?_) (gf_rd rfl (by omega)) rfl (by omega) (by omega)⟩
  · exact H C cx dr c ⟨g1, g2, by omega, by omega, by omega, g6, g7, g8⟩ hc1 e
  · refine nm_r (nI_1 C) (gf_cc24 hc1 (by omega) (fun cx' hi' => gf_cc65 hc1 (by omega) (by omega) (fun dr' d1 d2 => ?_)))
    refine H (C + 1) cx' dr' (c + 1) ⟨gf_sc_ins g1 hc e hi', g2, by omega, by omega, by omega, g6, fun x y c' r hx hy => ?_, g8⟩ (by omega) hi'.2.1
    have hr := hy.1
    have hc2 := hx.1
    rcases gf_col_ins hc hi' hx with ⟨z1, z2⟩ | ⟨z1, z2⟩
    · rw [d2 c' r hr z1]
      exact g7 x y c' r z2 hy
    · rw [d1 c' r hr z1 (by omega)]
      exact g7 x y (c' - 1) r z2 hy
theorem gf_cr76 {post : St2 → Prop} {J : Int32 → (Nat → Int32) → (Nat → Int32) → (Nat → Int32) → (Nat → Int32) → (Nat → Int32) → (Nat → Int32) → (Nat → Int32) → (Nat → Int32) → (Nat → Int32) → (Nat → Int32) → (Nat → Int32) → (Nat → Int32) → (Nat → Int32) → Prop} {f0 f2 f3 f4 : Int32} {a1 a2 a4 a5 a6 a7 a8 a9 a10 a11 a12 a13 : Nat → Int32} {c R q : Nat} {f : Nat → Nat} (hc : c ≤ 31) (hq : q < R) (hR : R ≤ 31)
    (H : ∀ g, (∀ j, q < j → j ≤ R → g (32 * c + j) = f (32 * c + (j - 1))) → (∀ i, (∀ j, q < j → j ≤ R → i ≠ 32 * c + j) → g i = f i) → J (nI (c + 1)) a1 a2 (gf_n g) a4 a5 a6 a7 a8 a9 a10 a11 a12 a13) :
    ∃ fu, wX_cutRow_76 post J (nI q) (nI c) f0 (nI R) f2 f3 f4 fu (nI R) a1 a2 (gf_n f) a4 a5 a6 a7 a8 a9 a10 a11 a12 a13 := by
  refine lp2 (fun n k g => wX_cutRow_76 post J (nI q) (nI c) f0 (nI R) f2 f3 f4 n (nI k) a1 a2 (gf_n g) a4 a5 a6 a7 a8 a9 a10 a11 a12 a13) (fun k g => q ≤ k ∧ k ≤ R ∧ (∀ j, k < j → j ≤ R → g (32 * c + j) = f (32 * c + (j - 1))) ∧ (∀ i, (∀ j, k < j → j ≤ R → i ≠ 32 * c + j) → g i = f i)) (fun k _ => k) ?_ R f ⟨by omega, by omega, fun j h1 h2 => absurd h1 (by omega), fun i _ => rfl⟩
  intro n k g hI hw
  obtain ⟨h1, h2, h3, h4⟩ := hI
  refine pk_le k q (fun h => ?_) (fun h => ?_)
  · have e : k = q := by omega
    subst e
    exact nm_r (nI_1 c) (H g h3 h4)
  · have e2 := gf_m32a c k
    have e1 : 32 * nI c + nI k - 1 = nI (32 * c + (k - 1)) := by
      rw [e2, gf_s1 (by omega), show 32 * c + k - 1 = 32 * c + (k - 1) by omega]
    refine ⟨pk_in (32 * c + (k - 1)) 1024 (by omega) e1, pk_in (32 * c + k) 1024 (by omega) e2, nm_r (gf_wr e2 (gf_rd e1 (by omega)) (by omega)) (nm_r (gf_m1 (by omega)) (hw (k - 1) _ ⟨by omega, by omega, fun j hj hj2 => ?_, fun i hi => ?_⟩ (by omega)))⟩
    · by_cases z : j = k
      · rw [z, gf_us]
        exact h4 _ (fun j hj hj2 => by omega)
      · rw [gf_un (by omega)]
        exact h3 j (by omega) hj2
    · rw [gf_un (hi k (by omega) (by omega))]
      exact h4 i (fun j hj hj2 => hi j (by omega) hj2)
theorem gf_cr62 {post : St2 → Prop} {f2 f3 f4 : Int32} {a1 a2 a4 a5 a6 a7 a8 a9 a10 a11 a12 a13 : Nat → Int32} {C R q : Nat} {dr : Nat → Nat} (hq : q < R) (hC : C ≤ 31) (hR : R ≤ 31)
    (H : ∀ g, (∀ c j, c < C → q < j → j ≤ R → g (32 * c + j) = dr (32 * c + (j - 1))) → (∀ c j, c < C → j ≤ q → g (32 * c + j) = dr (32 * c + j)) → post (nI C, nI (R + 1), f2, f3, f4, a1, a2, gf_n g, a4, a5, a6, a7, a8, a9, a10, a11, a12, a13)) :
    ∃ fu, wX_cutRow_62 post (nI q) (nI C) (nI R) f2 f3 f4 fu 0 a1 a2 (gf_n dr) a4 a5 a6 a7 a8 a9 a10 a11 a12 a13 := by
  refine lp2 (fun n c g => wX_cutRow_62 post (nI q) (nI C) (nI R) f2 f3 f4 n (nI c) a1 a2 (gf_n g) a4 a5 a6 a7 a8 a9 a10 a11 a12 a13) (fun c g => c ≤ C ∧ (∀ c' j, c' < c → q < j → j ≤ R → g (32 * c' + j) = dr (32 * c' + (j - 1))) ∧ (∀ c' j, c' < c → j ≤ q → g (32 * c' + j) = dr (32 * c' + j)) ∧ (∀ i, 32 * c ≤ i → g i = dr i)) (fun c _ => C - c) ?_ 0 dr ⟨by omega, fun c' j h1 h2 => absurd h1 (by omega), fun c' j h1 => absurd h1 (by omega), fun i _ => rfl⟩
  intro n c g hI hw
  obtain ⟨h1, h2, h3, h4⟩ := hI
  refine pk_le C c (fun h => ?_) (fun h => ?_)
  · have e : c = C := by omega
    subst e
    exact nm_r (nI_1 R) (H g h2 h3)
  · refine gf_cr76 (by omega) hq hR (fun g' q1 q2 => hw (c + 1) g' ⟨by omega, fun c' j hc' hj hj2 => ?_, fun c' j hc' hj => ?_, fun i hi => ?_⟩ (by omega))
    · by_cases z : c' = c
      · rw [z, q1 j hj hj2]
        exact h4 _ (by omega)
      · rw [q2 _ (fun j' _ _ => by omega)]
        exact h2 c' j (by omega) hj hj2
    · by_cases z : c' = c
      · rw [z, q2 _ (fun j' _ _ => by omega)]
        exact h4 _ (by omega)
      · rw [q2 _ (fun j' _ _ => by omega)]
        exact h3 c' j (by omega) hj
    · rw [q2 _ (fun j' _ _ => by omega)]
      exact h4 i (by omega)
theorem gf_cr24 {post : St2 → Prop} {f0 f2 f3 f4 : Int32} {a1 a3 a4 a5 a6 a7 a8 a9 a10 a11 a12 a13 : Nat → Int32} {C c cut : Nat} {cx : Nat → Nat} (hc : c < C) (hC : C ≤ 31)
    (H : ∀ cx', gf_ins cx cx' C c cut → ∃ fu, wX_cutRow_62 post (nI c) f0 (nI C) f2 f3 f4 fu 0 a1 (gf_n cx') a3 a4 a5 a6 a7 a8 a9 a10 a11 a12 a13) :
    ∃ fu, wX_cutRow_24 post (nI cut) (nI c) f0 (nI C) f2 f3 f4 fu (nI (C + 1)) a1 (gf_n cx) a3 a4 a5 a6 a7 a8 a9 a10 a11 a12 a13 := by
  refine lp2 (fun n k g => wX_cutRow_24 post (nI cut) (nI c) f0 (nI C) f2 f3 f4 n (nI k) a1 (gf_n g) a3 a4 a5 a6 a7 a8 a9 a10 a11 a12 a13) (fun k g => c + 1 ≤ k ∧ k ≤ C + 1 ∧ (∀ j, k < j → j ≤ C + 1 → g j = cx (j - 1)) ∧ (∀ j, j ≤ k → g j = cx j)) (fun k _ => k) ?_ (C + 1) cx ⟨by omega, by omega, fun j h1 h2 => absurd h1 (by omega), fun j _ => rfl⟩
  intro n k g hI hw
  obtain ⟨h1, h2, h3, h4⟩ := hI
  refine pk_le k (c + 1) (fun h => ?_) (fun h => ?_) rfl (nI_1 c)
  · have e : k = c + 1 := by omega
    subst e
    refine ⟨pk_in (c + 1) 33 (by omega) (nI_1 c), nm_r (gf_wr (nI_1 c) rfl (by omega)) (H _ ⟨fun j hj => ?_, gf_us, fun j hj hj2 => ?_⟩)⟩
    · rw [gf_un (by omega)]
      exact h4 j (by omega)
    · rw [gf_un (by omega)]
      exact h3 j hj hj2
  · refine ⟨pk_in (k - 1) 33 (by omega) (gf_s1 (by omega)), pk_in k 33 (by omega), nm_r (gf_wr rfl (gf_rd (gf_s1 (by omega)) (by omega)) (by omega)) (nm_r (gf_m1 (by omega)) (hw (k - 1) _ ⟨by omega, by omega, fun j hj hj2 => ?_, fun j hj => ?_⟩ (by omega)))⟩
    · by_cases z : j = k
      · rw [z, gf_us]
        exact h4 (k - 1) (by omega)
      · rw [gf_un z]
        exact h3 j (by omega) hj2
    · rw [gf_un (by omega)]
      exact h4 j (by omega)
theorem gf_wcutR {post : St2 → Prop} {f2 f3 f4 : Int32} {a4 a5 a6 a7 a8 a9 a10 a11 a12 a13 : Nat → Int32} {K C R B cut : Nat} {cx cy dr lf rt lo hi : Nat → Nat} (G : gf_G K C R B cx cy dr lf rt lo hi) (hK : K ≤ 31) (h31 : cut < 32)
    (H : ∀ R' cy' dr' i, gf_G (K + 1) C R' B cx cy' dr' lf rt lo hi → i < R' → cy' i = cut → post (nI C, nI R', f2, f3, f4, gf_n cx, gf_n cy', gf_n dr', a4, a5, a6, a7, a8, a9, a10, a11, a12, a13)) :
    wpX_cutRow post (nI C, nI R, f2, f3, f4, gf_n cx, gf_n cy, gf_n dr, a4, a5, a6, a7, a8, a9, a10, a11, a12, a13) (nI cut) := by
  obtain ⟨g1, g2, g3, g4, g5, g6, g7, g8⟩ := G
  unfold wpX_cutRow
  dsimp only
  refine gf_wrow g2 (by omega) h31 (fun q hq => ?_)
  have hq1 := hq.1
  have hb := gf_sc_32 g2 (show q ≤ R by omega)
  refine ⟨pk_in q 33 (by omega), pk_eq (cy q) cut (fun e => ?_) (fun e => ?_) (gf_rd rfl (by omega)) rfl (by omega) (by omega)⟩
  · exact H R cy dr q ⟨g1, g2, by omega, by omega, by omega, g6, g7, g8⟩ hq1 e
  · refine nm_r (nI_1 R) (gf_cr24 hq1 (by omega) (fun cy' hi' => gf_cr62 hq1 (by omega) (by omega) (fun dr' d1 d2 => ?_)))
    refine H (R + 1) cy' dr' (q + 1) ⟨g1, gf_sc_ins g2 hq e hi', by omega, by omega, by omega, g6, fun x y c r hx hy => ?_, g8⟩ (by omega) hi'.2.1
    have hr := hy.1
    have hc2 := hx.1
    rcases gf_col_ins hq hi' hy with ⟨z1, z2⟩ | ⟨z1, z2⟩
    · rw [d2 c r hc2 z1]
      exact g7 x y c r hx z2
    · rw [d1 c r hc2 z1 (by omega)]
      exact g7 x y c (r - 1) hx z2
end
section
theorem gf_cl12 {post : St2 → Prop} {J : Int32 → (Nat → Int32) → (Nat → Int32) → (Nat → Int32) → (Nat → Int32) → (Nat → Int32) → (Nat → Int32) → (Nat → Int32) → (Nat → Int32) → (Nat → Int32) → (Nat → Int32) → (Nat → Int32) → (Nat → Int32) → (Nat → Int32) → Prop} {f0 f2 f3 f4 : Int32} {a4 a9 a10 a11 a12 a13 : Nat → Int32} {b c R : Nat} {cx cy f lf rt lo hi : Nat → Nat} (hb : b < 64) (hc : c < 32) (hR : R ≤ 32) (hcx : cx c ≤ 32) (hcy : ∀ r, r < R → cy r ≤ 32) (hbd : lf b ≤ 31 ∧ rt b ≤ 31 ∧ lo b ≤ 31 ∧ hi b ≤ 31)
    (H : ∀ g, (∀ r, r < R → (gf_in lf rt lo hi b (cx c) (cy r) → g (32 * c + r) = b) ∧ (¬ gf_in lf rt lo hi b (cx c) (cy r) → g (32 * c + r) = f (32 * c + r))) → (∀ i, (∀ r, r < R → i ≠ 32 * c + r) → g i = f i) → J (nI (c + 1)) (gf_n cx) (gf_n cy) (gf_n g) a4 (gf_n lf) (gf_n rt) (gf_n lo) (gf_n hi) a9 a10 a11 a12 a13) :
    ∃ fu, wX_claim_12 post J (nI b) (nI c) f0 (nI R) f2 f3 f4 fu 0 (gf_n cx) (gf_n cy) (gf_n f) a4 (gf_n lf) (gf_n rt) (gf_n lo) (gf_n hi) a9 a10 a11 a12 a13 := by
  obtain ⟨b1, b2, b3, b4⟩ := hbd
  refine lp2 (fun n r g => wX_claim_12 post J (nI b) (nI c) f0 (nI R) f2 f3 f4 n (nI r) (gf_n cx) (gf_n cy) (gf_n g) a4 (gf_n lf) (gf_n rt) (gf_n lo) (gf_n hi) a9 a10 a11 a12 a13) (fun r g => r ≤ R ∧ (∀ j, j < r → (gf_in lf rt lo hi b (cx c) (cy j) → g (32 * c + j) = b) ∧ (¬ gf_in lf rt lo hi b (cx c) (cy j) → g (32 * c + j) = f (32 * c + j))) ∧ (∀ i, (∀ j, j < r → i ≠ 32 * c + j) → g i = f i)) (fun r _ => R - r) ?_ 0 f ⟨by omega, fun j hj => absurd hj (by omega), fun i _ => rfl⟩
  intro n r g hI hw
  obtain ⟨h1, h2, h3⟩ := hI
  refine pk_le R r (fun h => ?_) (fun h => ?_)
  · have e : r = R := by omega
    subst e
    exact nm_r (nI_1 c) (H g h2 h3)
  · have hy := hcy r (by omega)
    have skip : ¬ gf_in lf rt lo hi b (cx c) (cy r) → wX_claim_12 post J (nI b) (nI c) f0 (nI R) f2 f3 f4 n (nI (r + 1)) (gf_n cx) (gf_n cy) (gf_n g) a4 (gf_n lf) (gf_n rt) (gf_n lo) (gf_n hi) a9 a10 a11 a12 a13 := by
      intro hn
      refine hw (r + 1) g ⟨by omega, fun j hj => ?_, fun i hi => h3 i (fun j hj => hi j (by omega))⟩ (by omega)
      by_cases z : j = r
      · rw [z]
        exact ⟨fun hh => absurd hh hn, fun _ => h3 _ (fun j hj => by omega)⟩
      · exact h2 j (by omega)
    have put : gf_in lf rt lo hi b (cx c) (cy r) → wX_claim_12 post J (nI b) (nI c) f0 (nI R) f2 f3 f4 n (nI (r + 1)) (gf_n cx) (gf_n cy) (gf_n (gf_u g (32 * c + r) b)) a4 (gf_n lf) (gf_n rt) (gf_n lo) (gf_n hi) a9 a10 a11 a12 a13 := by
      intro hn
      refine hw (r + 1) _ ⟨by omega, fun j hj => ?_, fun i hi => ?_⟩ (by omega)
      · by_cases z : j = r
        · rw [z, gf_us]
          exact ⟨fun _ => rfl, fun hh => absurd hn hh⟩
        · rw [gf_un (show 32 * c + j ≠ 32 * c + r by omega)]
          exact h2 j (by omega)
      · rw [gf_un (hi r (by omega))]
        exact h3 i (fun j hj => hi j (by omega))
    refine ⟨pk_in c 33 (by omega), pk_in b 64 (by omega), pk_lt (cx c) (lf b) (fun k1 => ?_) (fun k1 => ?_) (gf_rd rfl (by omega)) (gf_rd rfl (by omega)) (by omega) (by omega)⟩
    · exact br_t rfl (nm_r (nI_1 r) (skip (fun hh => absurd hh.1 (by omega))))
    · refine ⟨pk_in c 33 (by omega), pk_in b 64 (by omega), pk_lt (rt b) (cx c) (fun k2 => ?_) (fun k2 => ?_) (gf_rd rfl (by omega)) (gf_rd rfl (by omega)) (by omega) (by omega)⟩
      · exact br_t rfl (nm_r (nI_1 r) (skip (fun hh => absurd hh.2.1 (by omega))))
      · refine br_f (by decide) ⟨pk_in r 33 (by omega), pk_in b 64 (by omega), pk_lt (cy r) (lo b) (fun k3 => ?_) (fun k3 => ?_) (gf_rd rfl (by omega)) (gf_rd rfl (by omega)) (by omega) (by omega)⟩
        · exact nm_r (nI_1 r) (skip (fun hh => absurd hh.2.2.1 (by omega)))
        · refine ⟨pk_in r 33 (by omega), pk_in b 64 (by omega), pk_lt (hi b) (cy r) (fun k4 => ?_) (fun k4 => ?_) (gf_rd rfl (by omega)) (gf_rd rfl (by omega)) (by omega) (by omega)⟩
          · exact nm_r (nI_1 r) (skip (fun hh => absurd hh.2.2.2 (by omega)))
          · exact ⟨pk_in (32 * c + r) 1024 (by omega) (gf_m32a c r), nm_r (gf_wr (gf_m32a c r) rfl (by omega)) (nm_r (nI_1 r) (put ⟨k1, k2, k3, k4⟩))⟩
theorem gf_claim {post : St2 → Prop} {f2 f3 f4 : Int32} {a4 a9 a10 a11 a12 a13 : Nat → Int32} {b C R : Nat} {cx cy f lf rt lo hi : Nat → Nat} (hb : b < 64) (hC : C ≤ 32) (hR : R ≤ 32) (hcx : ∀ c, c < C → cx c ≤ 32) (hcy : ∀ r, r < R → cy r ≤ 32) (hbd : lf b ≤ 31 ∧ rt b ≤ 31 ∧ lo b ≤ 31 ∧ hi b ≤ 31)
    (H : ∀ g, (∀ c r, c < C → r < R → (gf_in lf rt lo hi b (cx c) (cy r) → g (32 * c + r) = b) ∧ (¬ gf_in lf rt lo hi b (cx c) (cy r) → g (32 * c + r) = f (32 * c + r))) → post (nI C, nI R, f2, f3, f4, gf_n cx, gf_n cy, gf_n g, a4, gf_n lf, gf_n rt, gf_n lo, gf_n hi, a9, a10, a11, a12, a13)) :
    wpX_claim post (nI C, nI R, f2, f3, f4, gf_n cx, gf_n cy, gf_n f, a4, gf_n lf, gf_n rt, gf_n lo, gf_n hi, a9, a10, a11, a12, a13) (nI b) := by
  unfold wpX_claim
  dsimp only
  refine lp2 (fun n c g => wX_claim_2 post (nI b) (nI C) (nI R) f2 f3 f4 n (nI c) (gf_n cx) (gf_n cy) (gf_n g) a4 (gf_n lf) (gf_n rt) (gf_n lo) (gf_n hi) a9 a10 a11 a12 a13) (fun c g => c ≤ C ∧ (∀ c' r, c' < c → r < R → (gf_in lf rt lo hi b (cx c') (cy r) → g (32 * c' + r) = b) ∧ (¬ gf_in lf rt lo hi b (cx c') (cy r) → g (32 * c' + r) = f (32 * c' + r))) ∧ (∀ i, 32 * c ≤ i → g i = f i)) (fun c _ => C - c) ?_ 0 f ⟨by omega, fun c' r h1 => absurd h1 (by omega), fun i _ => rfl⟩
  intro n c g hI hw
  obtain ⟨h1, h2, h3⟩ := hI
  refine pk_le C c (fun h => ?_) (fun h => ?_)
  · have e : c = C := by omega
    subst e
    exact H g h2
  · refine gf_cl12 hb (by omega) hR (hcx c (by omega)) hcy hbd (fun g' q1 q2 => hw (c + 1) g' ⟨by omega, fun c' r hc' hr => ?_, fun i hi => ?_⟩ (by omega))
    · by_cases z : c' = c
      · rw [z]
        have t := q1 r hr
        rw [h3 (32 * c + r) (by omega)] at t
        exact t
      · rw [q2 (32 * c' + r) (fun r' hr' => by omega)]
        exact h2 c' r (by omega) hr
    · rw [q2 i (fun r' hr' => by omega)]
      exact h3 i (by omega)
end
section
/-- the coordinate along which is split: 0 is y, else x -/
def gf_co (ax x y : Nat) : Nat := if ax = 0 then y else x
/-- the picture of part's loop at its turn i: kept points stay in b, the others go to fr -/
def gf_pI (ax cut b fr s kept i : Nat) (sz pl vl mm z g v : Nat → Nat) : Prop :=
  kept ≤ i ∧ i ≤ s ∧ z fr = i - kept ∧ (∀ b', b' ≠ fr → z b' = sz b') ∧
  gf_E kept (fun j => g (4 * b + j)) (fun p => (∃ i', i' < i ∧ pl (4 * b + i') = p) ∧ gf_co ax (p / 32) (p % 32) < cut) ∧
  gf_E (i - kept) (fun j => g (4 * fr + j)) (fun p => (∃ i', i' < i ∧ pl (4 * b + i') = p) ∧ ¬ gf_co ax (p / 32) (p % 32) < cut) ∧
  (∀ j, j < kept → v (4 * b + j) = mm (g (4 * b + j))) ∧ (∀ j, j < i - kept → v (4 * fr + j) = mm (g (4 * fr + j))) ∧
  (∀ j, i ≤ j → j < 4 → g (4 * b + j) = pl (4 * b + j) ∧ v (4 * b + j) = vl (4 * b + j)) ∧
  (∀ b' j, b' ≠ b → b' ≠ fr → j < 4 → g (4 * b' + j) = pl (4 * b' + j) ∧ v (4 * b' + j) = vl (4 * b' + j))
theorem gf_ex1 {pl : Nat → Nat} {b i : Nat} {q : Nat} : (∃ i', i' < i + 1 ∧ pl (4 * b + i') = q) ↔ ((∃ i', i' < i ∧ pl (4 * b + i') = q) ∨ q = pl (4 * b + i)) := by
  constructor
  · intro ⟨i', h1, h2⟩
    by_cases z : i' = i
    · right
      rw [← h2, z]
    · exact Or.inl ⟨i', by omega, h2⟩
  · intro h
    rcases h with ⟨i', h1, h2⟩ | h
    · exact ⟨i', by omega, h2⟩
    · exact ⟨i, by omega, h.symm⟩
theorem gf_pI_keep {ax cut b fr s kept i : Nat} {sz pl vl mm z g v : Nat → Nat} (I : gf_pI ax cut b fr s kept i sz pl vl mm z g v) (hs : s ≤ 4) (hf : b ≠ fr) (hi : i < s) (hd : ∀ j k, j < k → k < s → pl (4 * b + j) ≠ pl (4 * b + k)) (hv : ∀ j, j < s → vl (4 * b + j) = mm (pl (4 * b + j)))
    (hc : gf_co ax (pl (4 * b + i) / 32) (pl (4 * b + i) % 32) < cut) : gf_pI ax cut b fr s (kept + 1) (i + 1) sz pl vl mm z (gf_u g (4 * b + kept) (g (4 * b + i))) (gf_u v (4 * b + kept) (v (4 * b + i))) := by
  obtain ⟨h1, h2, h3, h4, h5, h6, h7, h8, h9, h10⟩ := I
  have e := h9 i (by omega) (by omega)
  have hq : ¬ ∃ i', i' < i ∧ pl (4 * b + i') = pl (4 * b + i) := fun ⟨i', q1, q2⟩ => hd i' i q1 hi q2
  rw [e.1, e.2]
  refine ⟨by omega, by omega, by omega, h4, ?_, ?_, fun j hj => ?_, fun j hj => ?_, fun j hj hj2 => ?_, fun b' j q1 q2 hj => ?_⟩
  · refine gf_Ei (gf_Ec (gf_Ea (q := pl (4 * b + i)) h5 (fun t => hq t.1)) (fun k _ => gf_ush)) (fun q => ?_)
    show ((∃ i', i' < i ∧ pl (4 * b + i') = q) ∧ gf_co ax (q / 32) (q % 32) < cut) ∨ q = pl (4 * b + i) ↔ (∃ i', i' < i + 1 ∧ pl (4 * b + i') = q) ∧ gf_co ax (q / 32) (q % 32) < cut
    rw [gf_ex1]
    constructor
    · intro t
      rcases t with t | t
      · exact ⟨Or.inl t.1, t.2⟩
      · exact ⟨Or.inr t, by rw [t]; exact hc⟩
    · intro t
      rcases t.1 with t1 | t1
      · exact Or.inl ⟨t1, t.2⟩
      · exact Or.inr t1
  · rw [show i + 1 - (kept + 1) = i - kept by omega]
    refine gf_Ei (gf_Ec h6 (fun k hk => gf_un (by omega))) (fun q => ?_)
    show (∃ i', i' < i ∧ pl (4 * b + i') = q) ∧ ¬ gf_co ax (q / 32) (q % 32) < cut ↔ (∃ i', i' < i + 1 ∧ pl (4 * b + i') = q) ∧ ¬ gf_co ax (q / 32) (q % 32) < cut
    rw [gf_ex1]
    constructor
    · intro t
      exact ⟨Or.inl t.1, t.2⟩
    · intro t
      rcases t.1 with t1 | t1
      · exact ⟨t1, t.2⟩
      · exact absurd (by rw [t1]; exact hc) t.2
  · by_cases w : j = kept
    · rw [w, gf_us, gf_us]
      exact hv i hi
    · have w2 : 4 * b + j ≠ 4 * b + kept := by omega
      rw [gf_un w2, gf_un w2]
      exact h7 j (by omega)
  · have w2 : 4 * fr + j ≠ 4 * b + kept := by omega
    rw [gf_un w2, gf_un w2]
    exact h8 j (by omega)
  · have w2 : 4 * b + j ≠ 4 * b + kept := by omega
    rw [gf_un w2, gf_un w2]
    exact h9 j (by omega) hj2
  · have w2 : 4 * b' + j ≠ 4 * b + kept := by omega
    rw [gf_un w2, gf_un w2]
    exact h10 b' j q1 q2 hj
theorem gf_pI_move {ax cut b fr s kept i : Nat} {sz pl vl mm z g v : Nat → Nat} (I : gf_pI ax cut b fr s kept i sz pl vl mm z g v) (hs : s ≤ 4) (hf : b ≠ fr) (hi : i < s) (hd : ∀ j k, j < k → k < s → pl (4 * b + j) ≠ pl (4 * b + k)) (hv : ∀ j, j < s → vl (4 * b + j) = mm (pl (4 * b + j)))
    (hc : ¬ gf_co ax (pl (4 * b + i) / 32) (pl (4 * b + i) % 32) < cut) : gf_pI ax cut b fr s kept (i + 1) sz pl vl mm (gf_u z fr (z fr + 1)) (gf_u g (4 * fr + z fr) (g (4 * b + i))) (gf_u v (4 * fr + z fr) (v (4 * b + i))) := by
  obtain ⟨h1, h2, h3, h4, h5, h6, h7, h8, h9, h10⟩ := I
  have e := h9 i (by omega) (by omega)
  have hq : ¬ ∃ i', i' < i ∧ pl (4 * b + i') = pl (4 * b + i) := fun ⟨i', q1, q2⟩ => hd i' i q1 hi q2
  rw [e.1, e.2, h3]
  refine ⟨by omega, by omega, by rw [gf_us]; omega, fun b' hb' => by rw [gf_un hb']; exact h4 b' hb', ?_, ?_, fun j hj => ?_, fun j hj => ?_, fun j hj hj2 => ?_, fun b' j q1 q2 hj => ?_⟩
  · refine gf_Ei (gf_Ec h5 (fun k hk => gf_un (by omega))) (fun q => ?_)
    show (∃ i', i' < i ∧ pl (4 * b + i') = q) ∧ gf_co ax (q / 32) (q % 32) < cut ↔ (∃ i', i' < i + 1 ∧ pl (4 * b + i') = q) ∧ gf_co ax (q / 32) (q % 32) < cut
    rw [gf_ex1]
    constructor
    · intro t
      exact ⟨Or.inl t.1, t.2⟩
    · intro t
      rcases t.1 with t1 | t1
      · exact ⟨t1, t.2⟩
      · exact absurd (by rw [← t1]; exact t.2) hc
  · rw [show i + 1 - kept = i - kept + 1 by omega]
    refine gf_Ei (gf_Ec (gf_Ea (q := pl (4 * b + i)) h6 (fun t => hq t.1)) (fun k _ => gf_ush)) (fun q => ?_)
    show ((∃ i', i' < i ∧ pl (4 * b + i') = q) ∧ ¬ gf_co ax (q / 32) (q % 32) < cut) ∨ q = pl (4 * b + i) ↔ (∃ i', i' < i + 1 ∧ pl (4 * b + i') = q) ∧ ¬ gf_co ax (q / 32) (q % 32) < cut
    rw [gf_ex1]
    constructor
    · intro t
      rcases t with t | t
      · exact ⟨Or.inl t.1, t.2⟩
      · exact ⟨Or.inr t, by rw [t]; exact hc⟩
    · intro t
      rcases t.1 with t1 | t1
      · exact Or.inl ⟨t1, t.2⟩
      · exact Or.inr t1
  · have w2 : 4 * b + j ≠ 4 * fr + (i - kept) := by omega
    rw [gf_un w2, gf_un w2]
    exact h7 j hj
  · by_cases w : j = i - kept
    · rw [w, gf_us, gf_us]
      exact hv i hi
    · have w2 : 4 * fr + j ≠ 4 * fr + (i - kept) := by omega
      rw [gf_un w2, gf_un w2]
      exact h8 j (by omega)
  · have w2 : 4 * b + j ≠ 4 * fr + (i - kept) := by omega
    rw [gf_un w2, gf_un w2]
    exact h9 j (by omega) hj2
  · have w2 : 4 * b' + j ≠ 4 * fr + (i - kept) := by omega
    rw [gf_un w2, gf_un w2]
    exact h10 b' j q1 q2 hj
theorem gf_part {post : St2 → Prop} {f0 f1 f2 f3 f4 : Int32} {a1 a2 a3 a5 a6 a7 a8 a11 a12 a13 : Nat → Int32} {ax cut b fr s : Nat} {sz pl vl mm : Nat → Nat} (hax : ax ≤ 1) (hcut : cut ≤ 32) (hb : b < 32) (hfr : fr < 32) (hf : b ≠ fr) (hsb : sz b = s) (hs : s ≤ 4) (hz : sz fr = 0) (hp : ∀ j, j < s → pl (4 * b + j) < 1024) (hd : ∀ j k, j < k → k < s → pl (4 * b + j) ≠ pl (4 * b + k)) (hv : ∀ j, j < s → vl (4 * b + j) = mm (pl (4 * b + j)))
    (H : ∀ kept z g v, gf_pI ax cut b fr s kept s sz pl vl mm z g v → post (f0, f1, f2, f3, f4, a1, a2, a3, gf_n (gf_u z b kept), a5, a6, a7, a8, gf_n g, gf_n v, a11, a12, a13)) :
    wpX_part post (f0, f1, f2, f3, f4, a1, a2, a3, gf_n sz, a5, a6, a7, a8, gf_n pl, gf_n vl, a11, a12, a13) (nI b) (nI fr) (nI ax) (nI cut) := by
  unfold wpX_part
  dsimp only
  refine ⟨pk_in b 64 (by omega), nm_r ((gf_rd rfl (by omega)).trans (congrArg nI hsb)) (nm_r (gf_m4 b) ?_)⟩
  refine lp5 (fun n kept i z g v => wX_part_16 post (nI b) (nI fr) (nI ax) (nI cut) (nI s) f0 f1 f2 f3 f4 n (nI kept) (nI (4 * b + i)) a1 a2 a3 (gf_n z) a5 a6 a7 a8 (gf_n g) (gf_n v) a11 a12 a13) (fun kept i z g v => gf_pI ax cut b fr s kept i sz pl vl mm z g v) (fun _ i _ _ _ => s - i) ?_ 0 0 sz pl vl ?_
  · intro n kept i z g v I hw
    have h1 := I.1
    have h2 := I.2.1
    have h3 := I.2.2.1
    refine pk_le (4 * b + s) (4 * b + i) (fun h => ?_) (fun h => ?_) (gf_m4a b s) rfl
    · have e : i = s := by omega
      subst e
      exact ⟨pk_in b 64 (by omega), nm_r (gf_wr rfl rfl (by omega)) (H kept z g v I)⟩
    · have e := I.2.2.2.2.2.2.2.2.1 i (by omega) (by omega)
      have hpi := hp i (by omega)
      have hco : gf_co ax (pl (4 * b + i) / 32) (pl (4 * b + i) % 32) < 32 := by
        unfold gf_co
        split
        · omega
        · omega
      have core : wX_part_53 post (wX_part_16 post (nI b) (nI fr) (nI ax) (nI cut) (nI s) f0 f1 f2 f3 f4 n) (nI b) (nI fr) (nI ax) (nI cut) (nI kept) (nI s) (nI (4 * b + i)) (nI (gf_co ax (pl (4 * b + i) / 32) (pl (4 * b + i) % 32))) f0 f1 f2 f3 f4 a1 a2 a3 (gf_n z) a5 a6 a7 a8 (gf_n g) (gf_n v) a11 a12 a13 := by
        unfold wX_part_53
        refine pk_lt _ cut (fun hc => ?_) (fun hc => ?_) rfl rfl (by omega) (by omega)
        · have t := gf_pI_keep I hs hf (by omega) hd hv hc
          refine ⟨pk_in (4 * b + i) 256 (by omega), pk_in (4 * b + kept) 256 (by omega) (gf_m4a b kept), nm_r (gf_wr (gf_m4a b kept) (gf_rd rfl (by omega)) (by omega)) ?_⟩
          refine ⟨pk_in (4 * b + i) 256 (by omega), pk_in (4 * b + kept) 256 (by omega) (gf_m4a b kept), nm_r (gf_wr (gf_m4a b kept) (gf_rd rfl (by omega)) (by omega)) ?_⟩
          exact nm_r (nI_1 kept) (nm_r (nI_1 (4 * b + i)) (hw (kept + 1) (i + 1) z _ _ t (by omega)))
        · have t := gf_pI_move I hs hf (by omega) hd hv (by omega)
          have hx : 4 * nI fr + gf_n z (nI fr).toNatClampNeg = nI (4 * fr + z fr) := by
            rw [gf_rd rfl (by omega), gf_m4a]
          refine ⟨pk_in fr 64 (by omega), pk_in (4 * b + i) 256 (by omega), pk_in (4 * fr + z fr) 256 (by omega) hx, nm_r (gf_wr hx (gf_rd rfl (by omega)) (by omega)) ?_⟩
          refine ⟨pk_in fr 64 (by omega), pk_in (4 * b + i) 256 (by omega), pk_in (4 * fr + z fr) 256 (by omega) hx, nm_r (gf_wr hx (gf_rd rfl (by omega)) (by omega)) ?_⟩
          refine ⟨pk_in fr 64 (by omega), pk_in fr 64 (by omega), nm_r (gf_wr (w := z fr + 1) rfl ?_ (by omega)) ?_⟩
          · rw [gf_rd rfl (by omega)]
            exact nI_1 _
          · exact nm_r (nI_1 (4 * b + i)) (hw kept (i + 1) _ _ _ t (by omega))
      have er : gf_n g (nI (4 * b + i)).toNatClampNeg = nI (pl (4 * b + i)) := by
        rw [gf_rd rfl (by omega), e.1]
      refine pk_eq ax 0 (fun h0 => ?_) (fun h0 => ?_)
      · refine ⟨pk_in (4 * b + i) 256 (by omega), ?_⟩
        rw [er, gf_a31 (by omega)]
        rw [show gf_co ax (pl (4 * b + i) / 32) (pl (4 * b + i) % 32) = pl (4 * b + i) % 32 from if_pos h0] at core
        exact core
      · refine ⟨pk_in (4 * b + i) 256 (by omega), ?_⟩
        rw [er, gf_s5 (by omega)]
        rw [show gf_co ax (pl (4 * b + i) / 32) (pl (4 * b + i) % 32) = pl (4 * b + i) / 32 from if_neg h0] at core
        exact core
  · refine ⟨by omega, by omega, by rw [hz], fun b' _ => rfl, gf_E0 (fun p hp => ?_), gf_E0 (fun p hp => ?_), fun j hj => absurd hj (by omega), fun j hj => absurd hj (by omega), fun j _ _ => ⟨rfl, rfl⟩, fun b' j _ _ _ => ⟨rfl, rfl⟩⟩
    · obtain ⟨⟨i', h1, _⟩, _⟩ := hp
      omega
    · obtain ⟨⟨i', h1, _⟩, _⟩ := hp
      omega
end
section
theorem gf_sp95 {post : St2 → Prop} {J : Int32 → Int32 → Int32 → Int32 → Int32 → Prop} {x1 x2 x3 z0 : Int32} {f0 f1 f2 f3 f4 : Int32} {a1 a2 a3 a4 a5 a6 a7 a8 a9 a10 a11 a12 a13 : Nat → Int32} {T4 y k : Nat} (hT : T4 ≤ 32) (hy : y < 32) (H : J x2 x3 z0 (gf_p (max T4 (y + 1))) (nI (k + 1))) : wX_split_95 post J x1 x2 x3 (gf_p T4) (nI k) (nI y) z0 f0 f1 f2 f3 f4 a1 a2 a3 a4 a5 a6 a7 a8 a9 a10 a11 a12 a13 := by
  unfold wX_split_95
  refine gf_iff (gf_ple (by omega) (by omega)) (fun h => nm_r (nI_1 k) ?_) (fun h => nm_r (nI_1 k) ?_)
  · rw [show max T4 (y + 1) = T4 by omega] at H
    exact H
  · rw [show max T4 (y + 1) = y + 1 by omega, gf_ps] at H
    exact H
theorem gf_sp80 {post : St2 → Prop} {J : Int32 → Int32 → Int32 → Int32 → Int32 → Prop} {x1 x2 z0 : Int32} {f0 f1 f2 f3 f4 : Int32} {a1 a2 a3 a4 a5 a6 a7 a8 a9 a10 a11 a12 a13 : Nat → Int32} {Y1 T4 y k : Nat} (hY : Y1 ≤ 32) (hT : T4 ≤ 32) (hy : y < 32) (H : J x2 z0 (nI (min Y1 y)) (gf_p (max T4 (y + 1))) (nI (k + 1))) : wX_split_80 post J x1 x2 (nI Y1) (gf_p T4) (nI k) (nI y) z0 f0 f1 f2 f3 f4 a1 a2 a3 a4 a5 a6 a7 a8 a9 a10 a11 a12 a13 := by
  unfold wX_split_80
  refine pk_le Y1 y (fun h => gf_sp95 hT hy ?_) (fun h => gf_sp95 hT hy ?_)
  · rw [show min Y1 y = Y1 by omega] at H
    exact H
  · rw [show min Y1 y = y by omega] at H
    exact H
theorem gf_sp67 {post : St2 → Prop} {J : Int32 → Int32 → Int32 → Int32 → Int32 → Prop} {x1 z0 : Int32} {f0 f1 f2 f3 f4 : Int32} {a1 a2 a3 a4 a5 a6 a7 a8 a9 a10 a11 a12 a13 : Nat → Int32} {T2 Y1 T4 x y k : Nat} (hT2 : T2 ≤ 32) (hx : x < 32) (hY : Y1 ≤ 32) (hT : T4 ≤ 32) (hy : y < 32) (H : J z0 (gf_p (max T2 (x + 1))) (nI (min Y1 y)) (gf_p (max T4 (y + 1))) (nI (k + 1))) : wX_split_67 post J x1 (gf_p T2) (nI Y1) (gf_p T4) (nI k) (nI x) (nI y) z0 f0 f1 f2 f3 f4 a1 a2 a3 a4 a5 a6 a7 a8 a9 a10 a11 a12 a13 := by
  unfold wX_split_67
  refine gf_iff (gf_ple (by omega) (by omega)) (fun h => gf_sp80 hY hT hy ?_) (fun h => gf_sp80 hY hT hy ?_)
  · rw [show max T2 (x + 1) = T2 by omega] at H
    exact H
  · rw [show max T2 (x + 1) = x + 1 by omega, gf_ps] at H
    exact H
/-- the outermost coordinates of a bucket's first k points -/
def gf_mm (px py : Nat → Nat) (k X1 T2 Y1 T4 : Nat) : Prop :=
  X1 ≤ 32 ∧ T2 ≤ 32 ∧ Y1 ≤ 32 ∧ T4 ≤ 32 ∧ (∀ j, j < k → X1 ≤ px j ∧ px j < T2 ∧ Y1 ≤ py j ∧ py j < T4) ∧
  (0 < k → (∃ j, j < k ∧ px j = X1) ∧ (∃ j, j < k ∧ px j + 1 = T2) ∧ (∃ j, j < k ∧ py j = Y1) ∧ (∃ j, j < k ∧ py j + 1 = T4))
theorem gf_mm_s {px py : Nat → Nat} {k X1 T2 Y1 T4 : Nat} (h : gf_mm px py k X1 T2 Y1 T4) (h0 : k = 0 → X1 = 32 ∧ T2 = 0 ∧ Y1 = 32 ∧ T4 = 0) (hx : px k < 32) (hy : py k < 32) : gf_mm px py (k + 1) (min X1 (px k)) (max T2 (px k + 1)) (min Y1 (py k)) (max T4 (py k + 1)) := by
  obtain ⟨h1, h2, h3, h4, h5, h6⟩ := h
  refine ⟨by omega, by omega, by omega, by omega, fun j hj => ?_, fun _ => ?_⟩
  · by_cases e : j = k
    · subst e
      omega
    · have t := h5 j (by omega)
      omega
  · by_cases e : k = 0
    · obtain ⟨e1, e2, e3, e4⟩ := h0 e
      subst e
      exact ⟨⟨0, by omega, by omega⟩, ⟨0, by omega, by omega⟩, ⟨0, by omega, by omega⟩, ⟨0, by omega, by omega⟩⟩
    · obtain ⟨⟨j1, q1, r1⟩, ⟨j2, q2, r2⟩, ⟨j3, q3, r3⟩, ⟨j4, q4, r4⟩⟩ := h6 (by omega)
      refine ⟨?_, ?_, ?_, ?_⟩
      · by_cases z : X1 ≤ px k
        · exact ⟨j1, by omega, by omega⟩
        · exact ⟨k, by omega, by omega⟩
      · by_cases z : px k + 1 ≤ T2
        · exact ⟨j2, by omega, by omega⟩
        · exact ⟨k, by omega, by omega⟩
      · by_cases z : Y1 ≤ py k
        · exact ⟨j3, by omega, by omega⟩
        · exact ⟨k, by omega, by omega⟩
      · by_cases z : py k + 1 ≤ T4
        · exact ⟨j4, by omega, by omega⟩
        · exact ⟨k, by omega, by omega⟩
theorem gf_sp17 {post : St2 → Prop} {f0 f1 f2 f3 f4 : Int32} {a1 a2 a3 a5 a6 a7 a8 a10 a11 a12 a13 : Nat → Int32} {b : Nat} {sz pl : Nat → Nat} (hb : b < 32) (hs : sz b = 4) (hp : ∀ j, j < 4 → pl (4 * b + j) < 1024)
    (H : ∀ X1 X2 Y1 Y2, gf_mm (fun j => pl (4 * b + j) / 32) (fun j => pl (4 * b + j) % 32) 4 X1 (X2 + 1) Y1 (Y2 + 1) → X1 ≤ X2 → Y1 ≤ Y2 → X2 < 32 → Y2 < 32 → (X2 - X1 < Y2 - Y1 → wX_split_161 post (nI b) 0 (nI ((Y1 + Y2 + 1) / 2)) f0 f1 f2 f3 f4 a1 a2 a3 (gf_n sz) a5 a6 a7 a8 (gf_n pl) a10 a11 a12 a13) ∧ (Y2 - Y1 ≤ X2 - X1 → wX_split_161 post (nI b) 1 (nI ((X1 + X2 + 1) / 2)) f0 f1 f2 f3 f4 a1 a2 a3 (gf_n sz) a5 a6 a7 a8 (gf_n pl) a10 a11 a12 a13)) :
    wpX_split post (f0, f1, f2, f3, f4, a1, a2, a3, gf_n sz, a5, a6, a7, a8, gf_n pl, a10, a11, a12, a13) (nI b) := by
  unfold wpX_split
  dsimp only
  refine nm_r (gf_m4 b) ?_
  refine lp5 (fun n X1 T2 Y1 T4 k => wX_split_17 post (nI b) f0 f1 f2 f3 f4 a1 a2 a3 (gf_n sz) a5 a6 a7 a8 (gf_n pl) a10 a11 a12 a13 n (nI X1) (gf_p T2) (nI Y1) (gf_p T4) (nI (4 * b + k))) (fun X1 T2 Y1 T4 k => k ≤ 4 ∧ (k = 0 → X1 = 32 ∧ T2 = 0 ∧ Y1 = 32 ∧ T4 = 0) ∧ gf_mm (fun j => pl (4 * b + j) / 32) (fun j => pl (4 * b + j) % 32) k X1 T2 Y1 T4) (fun _ _ _ _ k => 4 - k) ?_ 32 0 32 0 0 ⟨by omega, fun _ => ⟨rfl, rfl, rfl, rfl⟩, by omega, by omega, by omega, by omega, fun j hj => absurd hj (by omega), fun hh => absurd hh (by omega)⟩
  intro n X1 T2 Y1 T4 k hI hw
  obtain ⟨h1, h2, h3⟩ := hI
  have hx : 4 * nI b + gf_n sz (nI b).toNatClampNeg = nI (4 * b + 4) := by
    rw [gf_rd rfl (by omega), hs, gf_m4a]
  refine ⟨pk_in b 64 (by omega), pk_le (4 * b + 4) (4 * b + k) (fun h => ?_) (fun h => ?_) hx rfl⟩
  · have e : k = 4 := by omega
    subst e
    have h3' := h3
    obtain ⟨m1, m2, m3, m4, m5, m6⟩ := h3
    have t := m5 0 (by omega)
    obtain ⟨X2, eX⟩ : ∃ X2, T2 = X2 + 1 := ⟨T2 - 1, by omega⟩
    obtain ⟨Y2, eY⟩ : ∃ Y2, T4 = Y2 + 1 := ⟨T4 - 1, by omega⟩
    subst eX
    subst eY
    have t2 := H X1 X2 Y1 Y2 h3' (by omega) (by omega) (by omega) (by omega)
    rw [gf_ps, gf_ps]
    refine pk_lt (X2 - X1) (Y2 - Y1) (fun g => ?_) (fun g => ?_) (pk_sub (by omega)) (pk_sub (by omega)) (by omega) (by omega)
    · refine br_t rfl ?_
      rw [gf_mid _ _ (by omega)]
      exact t2.1 g
    · refine br_f (by decide) ?_
      rw [gf_mid _ _ (by omega)]
      exact t2.2 g
  · have hpk := hp k (by omega)
    have nx := gf_mm_s h3 h2 (show pl (4 * b + k) / 32 < 32 by omega) (show pl (4 * b + k) % 32 < 32 by omega)
    obtain ⟨m1, m2, m3, m4, m5, m6⟩ := h3
    have er : gf_n pl (nI (4 * b + k)).toNatClampNeg = nI (pl (4 * b + k)) := gf_rd rfl (by omega)
    refine ⟨pk_in (4 * b + k) 256 (by omega), nm_r (e' := nI (pl (4 * b + k) / 32)) (by rw [er]; exact gf_s5 (by omega)) ⟨pk_in (4 * b + k) 256 (by omega), nm_r (e' := nI (pl (4 * b + k) % 32)) (by rw [er]; exact gf_a31 (by omega)) ?_⟩⟩
    have go := hw (min X1 (pl (4 * b + k) / 32)) (max T2 (pl (4 * b + k) / 32 + 1)) (min Y1 (pl (4 * b + k) % 32)) (max T4 (pl (4 * b + k) % 32 + 1)) (k + 1) ⟨by omega, fun z => absurd z (by omega), nx⟩ (by omega)
    refine pk_le X1 (pl (4 * b + k) / 32) (fun g => gf_sp67 (by omega) (by omega) (by omega) (by omega) (by omega) ?_) (fun g => gf_sp67 (by omega) (by omega) (by omega) (by omega) (by omega) ?_)
    · rw [show min X1 (pl (4 * b + k) / 32) = X1 by omega] at go
      exact go
    · rw [show min X1 (pl (4 * b + k) / 32) = pl (4 * b + k) / 32 by omega] at go
      exact go
/-- bucket b's rectangle parted at cut: b keeps the lower side, B gets the upper -/
def gf_two (ax cut b B : Nat) (lf rt lo hi lf' rt' lo' hi' : Nat → Nat) : Prop :=
  (∀ x y, gf_in lf' rt' lo' hi' b x y ↔ gf_in lf rt lo hi b x y ∧ gf_co ax x y < cut) ∧
  (∀ x y, gf_in lf' rt' lo' hi' B x y ↔ gf_in lf rt lo hi b x y ∧ ¬ gf_co ax x y < cut) ∧
  (∀ b' x y, b' ≠ b → b' ≠ B → (gf_in lf' rt' lo' hi' b' x y ↔ gf_in lf rt lo hi b' x y)) ∧
  (∀ b', b' < B + 1 → lf' b' ≤ 31 ∧ rt' b' ≤ 31 ∧ lo' b' ≤ 31 ∧ hi' b' ≤ 31)
theorem gf_G_split {K C R B ax cut b : Nat} {cx cy dr dr' lf rt lo hi lf' rt' lo' hi' : Nat → Nat} (G : gf_G K C R B cx cy dr lf rt lo hi) (hK : B + 1 ≤ K) (hb : b < B) (T : gf_two ax cut b B lf rt lo hi lf' rt' lo' hi')
    (hcut : ∀ x y c r, gf_col cx C x c → gf_col cy R y r → (gf_co ax x y < cut ↔ gf_co ax (cx c) (cy r) < cut))
    (hd : ∀ c r, c < C → r < R → (gf_in lf' rt' lo' hi' B (cx c) (cy r) → dr' (32 * c + r) = B) ∧ (¬ gf_in lf' rt' lo' hi' B (cx c) (cy r) → dr' (32 * c + r) = dr (32 * c + r))) :
    gf_G K C R (B + 1) cx cy dr' lf' rt' lo' hi' := by
  obtain ⟨g1, g2, g3, g4, g5, g6, g7, g8⟩ := G
  obtain ⟨t1, t2, t3, t4⟩ := T
  refine ⟨g1, g2, g3, g4, by omega, t4, fun x y c r hc hr => ?_, fun b1 b2 x y h1 h2 i1 i2 => ?_⟩
  · have d := g7 x y c r hc hr
    have hc0 : gf_col cx C (cx c) c := ⟨hc.1, Nat.le_refl _, g1.2.2 c hc.1⟩
    have hr0 : gf_col cy R (cy r) r := ⟨hr.1, Nat.le_refl _, g2.2.2 r hr.1⟩
    have d0 := g7 (cx c) (cy r) c r hc0 hr0
    have q := hd c r hc.1 hr.1
    have cc := hcut x y c r hc hr
    by_cases z : gf_in lf' rt' lo' hi' B (cx c) (cy r)
    · rw [q.1 z]
      have z2 := (t2 _ _).mp z
      have e : b = dr (32 * c + r) := g8 _ _ _ _ hb d0.1 z2.1 d0.2
      refine ⟨by omega, (t2 _ _).mpr ⟨?_, fun w => z2.2 (cc.mp w)⟩⟩
      rw [e]
      exact d.2
    · rw [q.2 z]
      refine ⟨by omega, ?_⟩
      by_cases e : dr (32 * c + r) = b
      · rw [e]
        rw [e] at d d0
        refine (t1 _ _).mpr ⟨d.2, ?_⟩
        by_cases w : gf_co ax x y < cut
        · exact w
        · exact absurd ((t2 _ _).mpr ⟨d0.2, fun w2 => w (cc.mpr w2)⟩) z
      · exact (t3 _ _ _ e (by omega)).mpr d.2
  · have old : ∀ a, a < B + 1 → gf_in lf' rt' lo' hi' a x y → (a ≠ B → a < B ∧ gf_in lf rt lo hi a x y) ∧ (a = B → gf_in lf rt lo hi b x y ∧ ¬ gf_co ax x y < cut) ∧ (a = b → gf_co ax x y < cut) := by
      intro a ha hia
      refine ⟨fun e => ?_, fun e => ?_, fun e => ?_⟩
      · refine ⟨by omega, ?_⟩
        by_cases e2 : a = b
        · rw [e2] at hia ⊢
          exact ((t1 _ _).mp hia).1
        · exact (t3 _ _ _ e2 e).mp hia
      · rw [e] at hia
        exact (t2 _ _).mp hia
      · rw [e] at hia
        exact ((t1 _ _).mp hia).2
    obtain ⟨o1, o2, o3⟩ := old b1 h1 i1
    obtain ⟨p1, p2, p3⟩ := old b2 h2 i2
    by_cases e1 : b1 = B
    · by_cases e2 : b2 = B
      · rw [e1, e2]
      · have w1 := o2 e1
        have w2 := p1 e2
        have w3 := g8 _ _ _ _ hb w2.1 w1.1 w2.2
        exact absurd (p3 w3.symm) w1.2
    · by_cases e2 : b2 = B
      · have w1 := o1 e1
        have w2 := p2 e2
        have w3 := g8 _ _ _ _ hb w1.1 w2.1 w1.2
        exact absurd (o3 w3.symm) w2.2
      · exact g8 _ _ _ _ (o1 e1).1 (p1 e2).1 (o1 e1).2 (p1 e2).2
theorem gf_S_split {B ax cut b kept : Nat} {lf rt lo hi lf' rt' lo' hi' sz pl vl m z g v : Nat → Nat} (S : gf_S B lf rt lo hi sz pl vl m) (hb : b < B) (hs : sz b = 4) (T : gf_two ax cut b B lf rt lo hi lf' rt' lo' hi') (P : gf_pI ax cut b B 4 kept 4 (gf_u sz B 0) pl vl m z g v) :
    gf_S (B + 1) lf' rt' lo' hi' (gf_u z b kept) g v m := by
  obtain ⟨t1, t2, t3, t4⟩ := T
  obtain ⟨p1, p2, p3, p4, p5, p6, p7, p8, p9, p10⟩ := P
  obtain ⟨s3, s4, s5⟩ := S.2 b hb
  rw [hs] at s4
  have mem : ∀ p, (∃ i', i' < 4 ∧ pl (4 * b + i') = p) ↔ (m p ≠ 0 ∧ gf_in lf rt lo hi b (p / 32) (p % 32)) := by
    intro p
    constructor
    · intro ⟨i', h1, h2⟩
      rw [← h2]
      exact s4.1 i' h1
    · intro h
      exact s4.2.2 p h
  refine ⟨S.1, fun b' hb' => ?_⟩
  by_cases e : b' = b
  · subst e
    rw [gf_us]
    refine ⟨by omega, gf_Ei p5 (fun p => ?_), p7⟩
    show (∃ i', i' < 4 ∧ pl (4 * b' + i') = p) ∧ gf_co ax (p / 32) (p % 32) < cut ↔ m p ≠ 0 ∧ gf_in lf' rt' lo' hi' b' (p / 32) (p % 32)
    rw [mem p, t1, and_assoc]
  · rw [gf_un e]
    by_cases e2 : b' = B
    · subst e2
      rw [p3]
      refine ⟨by omega, gf_Ei p6 (fun p => ?_), p8⟩
      show (∃ i', i' < 4 ∧ pl (4 * b + i') = p) ∧ ¬ gf_co ax (p / 32) (p % 32) < cut ↔ m p ≠ 0 ∧ gf_in lf' rt' lo' hi' b' (p / 32) (p % 32)
      rw [mem p, t2, and_assoc]
    · rw [p4 b' e2, gf_un e2]
      obtain ⟨u3, u4, u5⟩ := S.2 b' (by omega)
      refine ⟨u3, gf_Ei (gf_Ec u4 (fun k hk => (p10 b' k e e2 (by omega)).1)) (fun p => ?_), fun k hk => ?_⟩
      · show m p ≠ 0 ∧ gf_in lf rt lo hi b' (p / 32) (p % 32) ↔ m p ≠ 0 ∧ gf_in lf' rt' lo' hi' b' (p / 32) (p % 32)
        rw [t3 b' _ _ e e2]
      · rw [(p10 b' k e e2 (by omega)).1, (p10 b' k e e2 (by omega)).2]
        exact u5 k hk
end
section
theorem gf_cutc {cx : Nat → Nat} {C x c i cut : Nat} (H : gf_sc cx C) (h : gf_col cx C x c) (hi : i < C) (e : cx i = cut) : x < cut ↔ cx c < cut := by
  obtain ⟨h1, h2, h3⟩ := h
  constructor
  · intro g
    omega
  · intro g
    by_cases z : i ≤ c
    · have := gf_sc_le H z (by omega)
      omega
    · have := gf_sc_le H (show c + 1 ≤ i by omega) (by omega)
      omega
theorem gf_ne2 {p q X1 X2 Y1 Y2 : Nat} (u0 : X1 ≤ p / 32 ∧ p / 32 < X2 + 1 ∧ Y1 ≤ p % 32 ∧ p % 32 < Y2 + 1) (u1 : X1 ≤ q / 32 ∧ q / 32 < X2 + 1 ∧ Y1 ≤ q % 32 ∧ q % 32 < Y2 + 1) (u2 : p ≠ q) (x12 : X1 ≤ X2) (y12 : Y1 ≤ Y2) (h : Y2 - Y1 ≤ X2 - X1) : X1 < X2 := by
  omega
theorem gf_two_r {B b cut : Nat} {lf rt lo hi : Nat → Nat} (hb : b < B) (h1 : lo b ≤ cut) (h2 : 1 ≤ cut) (h3 : cut ≤ hi b) (bd : ∀ b', b' < B → lf b' ≤ 31 ∧ rt b' ≤ 31 ∧ lo b' ≤ 31 ∧ hi b' ≤ 31) : gf_two 0 cut b B lf rt lo hi (gf_u lf B (lf b)) (gf_u rt B (rt b)) (gf_u lo B cut) (gf_u (gf_u hi B (hi b)) b (cut - 1)) := by
  have n1 : b ≠ B := by omega
  have n2 : B ≠ b := by omega
  refine ⟨fun x y => ?_, fun x y => ?_, fun b' x y q1 q2 => ?_, fun b' hb' => ?_⟩
  · unfold gf_in
    rw [gf_un n1, gf_un n1, gf_un n1, gf_us]
    show lf b ≤ x ∧ x ≤ rt b ∧ lo b ≤ y ∧ y ≤ cut - 1 ↔ (lf b ≤ x ∧ x ≤ rt b ∧ lo b ≤ y ∧ y ≤ hi b) ∧ y < cut
    omega
  · unfold gf_in
    rw [gf_us, gf_us, gf_us, gf_un n2, gf_us]
    show lf b ≤ x ∧ x ≤ rt b ∧ cut ≤ y ∧ y ≤ hi b ↔ (lf b ≤ x ∧ x ≤ rt b ∧ lo b ≤ y ∧ y ≤ hi b) ∧ ¬ y < cut
    omega
  · unfold gf_in
    rw [gf_un q2, gf_un q2, gf_un q2, gf_un q1, gf_un q2]
  · have t := bd b hb
    by_cases e : b' = B
    · rw [e, gf_us, gf_us, gf_us, gf_un n2, gf_us]
      omega
    · have t2 := bd b' (by omega)
      rw [gf_un e, gf_un e, gf_un e]
      by_cases e2 : b' = b
      · rw [e2, gf_us]
        rw [e2] at t2
        omega
      · rw [gf_un e2, gf_un e]
        exact t2
theorem gf_two_c {B b cut : Nat} {lf rt lo hi : Nat → Nat} (hb : b < B) (h1 : lf b ≤ cut) (h2 : 1 ≤ cut) (h3 : cut ≤ rt b) (bd : ∀ b', b' < B → lf b' ≤ 31 ∧ rt b' ≤ 31 ∧ lo b' ≤ 31 ∧ hi b' ≤ 31) : gf_two 1 cut b B lf rt lo hi (gf_u lf B cut) (gf_u (gf_u rt B (rt b)) b (cut - 1)) (gf_u lo B (lo b)) (gf_u hi B (hi b)) := by
  have n1 : b ≠ B := by omega
  have n2 : B ≠ b := by omega
  refine ⟨fun x y => ?_, fun x y => ?_, fun b' x y q1 q2 => ?_, fun b' hb' => ?_⟩
  · unfold gf_in
    rw [gf_un n1, gf_us, gf_un n1, gf_un n1]
    show lf b ≤ x ∧ x ≤ cut - 1 ∧ lo b ≤ y ∧ y ≤ hi b ↔ (lf b ≤ x ∧ x ≤ rt b ∧ lo b ≤ y ∧ y ≤ hi b) ∧ x < cut
    omega
  · unfold gf_in
    rw [gf_us, gf_un n2, gf_us, gf_us, gf_us]
    show cut ≤ x ∧ x ≤ rt b ∧ lo b ≤ y ∧ y ≤ hi b ↔ (lf b ≤ x ∧ x ≤ rt b ∧ lo b ≤ y ∧ y ≤ hi b) ∧ ¬ x < cut
    omega
  · unfold gf_in
    rw [gf_un q2, gf_un q1, gf_un q2, gf_un q2, gf_un q2]
  · have t := bd b hb
    by_cases e : b' = B
    · rw [e, gf_us, gf_un n2, gf_us, gf_us, gf_us]
      omega
    · have t2 := bd b' (by omega)
      rw [gf_un e]
      by_cases e2 : b' = b
      · rw [e2, gf_us, gf_un n1, gf_un n1]
        rw [e2] at t2
        omega
      · rw [gf_un e2, gf_un e, gf_un e, gf_un e]
        exact t2
theorem gf_sp307 {post : St2 → Prop} {f3 f4 : Int32} {a11 a12 a13 : Nat → Int32} {K C R B ax cut b : Nat} {cx cy dr lf rt lo hi lf' rt' lo' hi' sz pl vl m : Nat → Nat} (G : gf_G (K + 1) C R B cx cy dr lf rt lo hi) (hK : K ≤ 31) (hB : B ≤ K) (S : gf_S B lf rt lo hi sz pl vl m) (hb : b < B) (hs : sz b = 4) (T : gf_two ax cut b B lf rt lo hi lf' rt' lo' hi') (hax : ax ≤ 1) (hcut2 : cut ≤ 32)
    (hcut : ∀ x y c r, gf_col cx C x c → gf_col cy R y r → (gf_co ax x y < cut ↔ gf_co ax (cx c) (cy r) < cut))
    (hlo : ∃ i, i < 4 ∧ gf_co ax (pl (4 * b + i) / 32) (pl (4 * b + i) % 32) < cut) (hhi : ∃ i, i < 4 ∧ ¬ gf_co ax (pl (4 * b + i) / 32) (pl (4 * b + i) % 32) < cut)
    (H : ∀ C' R' cx' cy' dr' lf' rt' lo' hi' sz' pl' vl', gf_G (K + 1) C' R' (B + 1) cx' cy' dr' lf' rt' lo' hi' → gf_S (B + 1) lf' rt' lo' hi' sz' pl' vl' m → (∀ x y b', b' < B + 1 → gf_in lf rt lo hi b x y → gf_in lf' rt' lo' hi' b' x y → sz' b' < 4) → post (nI C', nI R', nI (B + 1), f3, f4, gf_n cx', gf_n cy', gf_n dr', gf_n sz', gf_n lf', gf_n rt', gf_n lo', gf_n hi', gf_n pl', gf_n vl', a11, a12, a13)) :
    wX_split_307 post (nI b) (nI ax) (nI cut) (nI B) (nI C) (nI R) (nI (B + 1)) f3 f4 (gf_n cx) (gf_n cy) (gf_n dr) (gf_n (gf_u sz B 0)) (gf_n lf') (gf_n rt') (gf_n lo') (gf_n hi') (gf_n pl) (gf_n vl) a11 a12 a13 := by
  have hC := G.2.2.1
  have hR := G.2.2.2.1
  obtain ⟨s3, s4, s5⟩ := S.2 b hb
  rw [hs] at s4 s5
  unfold wX_split_307
  refine gf_claim (by omega) (by omega) (by omega) (fun c hc => gf_sc_32 G.1 (by omega)) (fun r hr => gf_sc_32 G.2.1 (by omega)) (T.2.2.2 B (by omega)) (fun dr' hd => ?_)
  dsimp only
  refine gf_part (mm := m) (s := 4) hax hcut2 (by omega) (by omega) (by omega) (by rw [gf_un (by omega)]; exact hs) (by omega) gf_us (fun j hj => S.1 _ (s4.1 j hj).1) s4.2.1 s5 (fun kept z g v P => ?_)
  have G' := gf_G_split G (by omega) hb T hcut hd
  have S' := gf_S_split S hb hs T P
  refine H C R cx cy dr' lf' rt' lo' hi' _ g v G' S' (fun x y b' hb' i1 i2 => ?_)
  obtain ⟨p1, p2, p3, p4, p5, p6, p7, p8, p9, p10⟩ := P
  obtain ⟨i3, q3, r3⟩ := hlo
  obtain ⟨i4, q4, r4⟩ := hhi
  obtain ⟨k5, l5, _⟩ := p5.2.2 (pl (4 * b + i3)) ⟨⟨i3, q3, rfl⟩, r3⟩
  obtain ⟨k6, l6, _⟩ := p6.2.2 (pl (4 * b + i4)) ⟨⟨i4, q4, rfl⟩, r4⟩
  by_cases e : b' = b
  · rw [e, gf_us]
    omega
  · rw [gf_un e]
    by_cases e2 : b' = B
    · rw [e2, p3]
      omega
    · have t := (T.2.2.1 b' x y e e2).mp i2
      exact absurd (gf_dis G (by omega) hb t i1) e
theorem gf_sp183r {post : St2 → Prop} {f3 f4 : Int32} {a11 a12 a13 : Nat → Int32} {C R B cut b : Nat} {cx cy dr lf rt lo hi sz pl vl : Nat → Nat} (hB : B < 64) (hb : b < B) (hc : 1 ≤ cut)
    (H : wX_split_307 post (nI b) 0 (nI cut) (nI B) (nI C) (nI R) (nI (B + 1)) f3 f4 (gf_n cx) (gf_n cy) (gf_n dr) (gf_n (gf_u sz B 0)) (gf_n (gf_u lf B (lf b))) (gf_n (gf_u rt B (rt b))) (gf_n (gf_u lo B cut)) (gf_n (gf_u (gf_u hi B (hi b)) b (cut - 1))) (gf_n pl) (gf_n vl) a11 a12 a13) :
    wX_split_183 post (nI b) 0 (nI cut) (nI C) (nI R) (nI B) f3 f4 (gf_n cx) (gf_n cy) (gf_n dr) (gf_n sz) (gf_n lf) (gf_n rt) (gf_n lo) (gf_n hi) (gf_n pl) (gf_n vl) a11 a12 a13 := by
  unfold wX_split_183
  refine nm_r (nI_1 B) ⟨pk_in B 64 (by omega), nm_r (gf_wr (w := 0) rfl rfl (by omega)) (br_t rfl ⟨pk_in b 64 (by omega), ?_⟩)⟩
  refine ⟨pk_in B 64 (by omega), nm_r (gf_wr rfl (gf_rd rfl (by omega)) (by omega)) ⟨pk_in b 64 (by omega), pk_in B 64 (by omega), nm_r (gf_wr rfl (gf_rd rfl (by omega)) (by omega)) (br_t rfl ?_)⟩⟩
  refine ⟨pk_in B 64 (by omega), nm_r (gf_wr rfl rfl (by omega)) ⟨pk_in b 64 (by omega), pk_in B 64 (by omega), nm_r (gf_wr rfl (gf_rd rfl (by omega)) (by omega)) (br_t rfl ⟨pk_in b 64 (by omega), nm_r (gf_wr rfl (gf_s1 hc) (by omega)) ?_⟩)⟩⟩
  exact H
theorem gf_sp183c {post : St2 → Prop} {f3 f4 : Int32} {a11 a12 a13 : Nat → Int32} {C R B cut b : Nat} {cx cy dr lf rt lo hi sz pl vl : Nat → Nat} (hB : B < 64) (hb : b < B) (hc : 1 ≤ cut)
    (H : wX_split_307 post (nI b) 1 (nI cut) (nI B) (nI C) (nI R) (nI (B + 1)) f3 f4 (gf_n cx) (gf_n cy) (gf_n dr) (gf_n (gf_u sz B 0)) (gf_n (gf_u lf B cut)) (gf_n (gf_u (gf_u rt B (rt b)) b (cut - 1))) (gf_n (gf_u lo B (lo b))) (gf_n (gf_u hi B (hi b))) (gf_n pl) (gf_n vl) a11 a12 a13) :
    wX_split_183 post (nI b) 1 (nI cut) (nI C) (nI R) (nI B) f3 f4 (gf_n cx) (gf_n cy) (gf_n dr) (gf_n sz) (gf_n lf) (gf_n rt) (gf_n lo) (gf_n hi) (gf_n pl) (gf_n vl) a11 a12 a13 := by
  unfold wX_split_183
  refine nm_r (nI_1 B) ⟨pk_in B 64 (by omega), nm_r (gf_wr (w := 0) rfl rfl (by omega)) (br_f (by decide) ?_)⟩
  refine ⟨pk_in B 64 (by omega), nm_r (gf_wr rfl rfl (by omega)) ⟨pk_in b 64 (by omega), pk_in B 64 (by omega), nm_r (gf_wr rfl (gf_rd rfl (by omega)) (by omega)) (br_f (by decide) ⟨pk_in b 64 (by omega), ?_⟩)⟩⟩
  refine ⟨pk_in B 64 (by omega), nm_r (gf_wr rfl (gf_rd rfl (by omega)) (by omega)) ⟨pk_in b 64 (by omega), pk_in B 64 (by omega), nm_r (gf_wr rfl (gf_rd rfl (by omega)) (by omega)) (br_f (by decide) ⟨pk_in b 64 (by omega), nm_r (gf_wr rfl (gf_s1 hc) (by omega)) ?_⟩)⟩⟩
  exact H
theorem gf_split {post : St2 → Prop} {f3 f4 : Int32} {a11 a12 a13 : Nat → Int32} {K C R B b : Nat} {cx cy dr lf rt lo hi sz pl vl m : Nat → Nat} (G : gf_G K C R B cx cy dr lf rt lo hi) (S : gf_S B lf rt lo hi sz pl vl m) (hK : K ≤ 31) (hb : b < B) (hs : sz b = 4)
    (H : ∀ C' R' cx' cy' dr' lf' rt' lo' hi' sz' pl' vl', gf_G (K + 1) C' R' (B + 1) cx' cy' dr' lf' rt' lo' hi' → gf_S (B + 1) lf' rt' lo' hi' sz' pl' vl' m → (∀ x y b', b' < B + 1 → gf_in lf rt lo hi b x y → gf_in lf' rt' lo' hi' b' x y → sz' b' < 4) → post (nI C', nI R', nI (B + 1), f3, f4, gf_n cx', gf_n cy', gf_n dr', gf_n sz', gf_n lf', gf_n rt', gf_n lo', gf_n hi', gf_n pl', gf_n vl', a11, a12, a13)) :
    wpX_split post (nI C, nI R, nI B, f3, f4, gf_n cx, gf_n cy, gf_n dr, gf_n sz, gf_n lf, gf_n rt, gf_n lo, gf_n hi, gf_n pl, gf_n vl, a11, a12, a13) (nI b) := by
  have hB := G.2.2.2.2.1
  have bd := G.2.2.2.2.2.1
  have S0 := S
  obtain ⟨s3, s4, s5⟩ := S.2 b hb
  rw [hs] at s4 s5
  have hp : ∀ j, j < 4 → pl (4 * b + j) < 1024 := fun j hj => S.1 _ (s4.1 j hj).1
  refine gf_sp17 (by omega) hs hp (fun X1 X2 Y1 Y2 M x12 y12 x32 y32 => ⟨fun hlt => ?_, fun hge => ?_⟩)
  · obtain ⟨m1, m2, m3, m4, m5, m6⟩ := M
    obtain ⟨_, _, ⟨j3, q3, r3⟩, ⟨j4, q4, r4⟩⟩ := m6 (by omega)
    obtain ⟨cut, ec⟩ : ∃ cut, (Y1 + Y2 + 1) / 2 = cut := ⟨_, rfl⟩
    rw [ec]
    have i3 : gf_in lf rt lo hi b (pl (4 * b + j3) / 32) (pl (4 * b + j3) % 32) := (s4.1 j3 q3).2
    have i4 : gf_in lf rt lo hi b (pl (4 * b + j4) / 32) (pl (4 * b + j4) % 32) := (s4.1 j4 q4).2
    have r3' : pl (4 * b + j3) % 32 = Y1 := r3
    have r4' : pl (4 * b + j4) % 32 + 1 = Y2 + 1 := r4
    have l1 := i3.2.2.1
    have l2 := i4.2.2.2
    refine br_t rfl (gf_wcutR G hK (by omega) (fun R' cy' dr' i G' hi' e => ?_))
    dsimp only
    refine gf_sp183r (by omega) hb (by omega) ?_
    exact gf_sp307 (ax := 0) G' hK hB S0 hb hs (gf_two_r hb (by omega) (by omega) (by omega) bd) (by omega) (by omega) (fun x y c r hc hr => (show y < cut ↔ cy' r < cut from gf_cutc G'.2.1 hr hi' e)) ⟨j3, q3, show pl (4 * b + j3) % 32 < cut by omega⟩ ⟨j4, q4, show ¬ pl (4 * b + j4) % 32 < cut by omega⟩ H
  · obtain ⟨m1, m2, m3, m4, m5, m6⟩ := M
    obtain ⟨⟨j3, q3, r3⟩, ⟨j4, q4, r4⟩, _, _⟩ := m6 (by omega)
    obtain ⟨cut, ec⟩ : ∃ cut, (X1 + X2 + 1) / 2 = cut := ⟨_, rfl⟩
    rw [ec]
    have i3 : gf_in lf rt lo hi b (pl (4 * b + j3) / 32) (pl (4 * b + j3) % 32) := (s4.1 j3 q3).2
    have i4 : gf_in lf rt lo hi b (pl (4 * b + j4) / 32) (pl (4 * b + j4) % 32) := (s4.1 j4 q4).2
    have r3' : pl (4 * b + j3) / 32 = X1 := r3
    have r4' : pl (4 * b + j4) / 32 + 1 = X2 + 1 := r4
    have l1 := i3.1
    have l2 := i4.2.1
    have ne : X1 < X2 := by
      exact gf_ne2 (m5 0 (by omega)) (m5 1 (by omega)) (s4.2.1 0 1 (by omega) (by omega)) x12 y12 hge
    refine br_f (by decide) (gf_wcutC G hK (by omega) (fun C' cx' dr' i G' hi' e => ?_))
    dsimp only
    refine gf_sp183c (by omega) hb (by omega) ?_
    exact gf_sp307 (ax := 1) G' hK hB S0 hb hs (gf_two_c hb (by omega) (by omega) (by omega) bd) (by omega) (by omega) (fun x y c r hc hr => (show x < cut ↔ cx' c < cut from gf_cutc G'.1 hc hi' e)) ⟨j3, q3, show pl (4 * b + j3) / 32 < cut by omega⟩ ⟨j4, q4, show ¬ pl (4 * b + j4) / 32 < cut by omega⟩ H
end
section
theorem gf_G_mono {K K' C R B : Nat} {cx cy dr lf rt lo hi : Nat → Nat} (G : gf_G K C R B cx cy dr lf rt lo hi) (h : K ≤ K') : gf_G K' C R B cx cy dr lf rt lo hi := by
  obtain ⟨g1, g2, g3, g4, g5, g6, g7, g8⟩ := G
  exact ⟨g1, g2, by omega, by omega, by omega, g6, g7, g8⟩
theorem gf_insert {post : St2 → Prop} {f3 f4 : Int32} {a11 a12 a13 : Nat → Int32} {K C R B p v : Nat} {cx cy dr lf rt lo hi sz pl vl m : Nat → Nat} (G : gf_G K C R B cx cy dr lf rt lo hi) (S : gf_S B lf rt lo hi sz pl vl m) (hK : K ≤ 31) (hp : p < 1024) (hm : m p = 0) (hv : v ≠ 0)
    (H : ∀ C' R' B' cx' cy' dr' lf' rt' lo' hi' sz' pl' vl', gf_G (K + 1) C' R' B' cx' cy' dr' lf' rt' lo' hi' → gf_S B' lf' rt' lo' hi' sz' pl' vl' (gf_u m p v) → post (nI C', nI R', nI B', f3, f4, gf_n cx', gf_n cy', gf_n dr', gf_n sz', gf_n lf', gf_n rt', gf_n lo', gf_n hi', gf_n pl', gf_n vl', a11, a12, a13)) :
    wpX_insert post (nI C, nI R, nI B, f3, f4, gf_n cx, gf_n cy, gf_n dr, gf_n sz, gf_n lf, gf_n rt, gf_n lo, gf_n hi, gf_n pl, gf_n vl, a11, a12, a13) (nI p) (nI v) := by
  have hB := G.2.2.2.2.1
  unfold wpX_insert
  dsimp only
  rw [gf_s5 (by omega), gf_a31 (by omega)]
  refine gf_bk G (by omega) (by omega) (by omega) (fun b hb hin => ?_)
  have s3 := (S.2 b hb).1
  by_cases hs : sz b = 4
  · refine ⟨2, pk_le 64 0 (fun h => absurd h (by omega)) (fun _ => ⟨pk_in b 64 (by omega), pk_eq (sz b) 4 (fun _ => ?_) (fun h => absurd hs h) (gf_rd rfl (by omega)) rfl (by omega) (by omega)⟩)⟩
    refine pk_eq B 64 (fun h => absurd h (by omega)) (fun _ => ?_)
    refine gf_split G S hK hb hs (fun C' R' cx' cy' dr' lf' rt' lo' hi' sz' pl' vl' G' S' hsz => ?_)
    dsimp only
    unfold wX_insert_53
    rw [gf_s5 (by omega), gf_a31 (by omega)]
    refine gf_bk G' (by omega) (by omega) (by omega) (fun b' hb' hin' => ?_)
    have hB' := G'.2.2.2.2.1
    have s4 := hsz _ _ b' hb' hin hin'
    refine nm_r (nI_1 0) (pk_le 64 1 (fun h => absurd h (by omega)) (fun _ => ⟨pk_in b' 64 (by omega), pk_eq (sz' b') 4 (fun h => absurd h (by omega)) (fun _ => ?_) (gf_rd rfl (by omega)) rfl (by omega) (by omega)⟩))
    exact gf_ins71 G' S' (by omega) hb' hin' hp hm hv s4 (fun sz2 pl2 vl2 S2 => H C' R' (B + 1) cx' cy' dr' lf' rt' lo' hi' sz2 pl2 vl2 G' S2)
  · refine ⟨1, pk_le 64 0 (fun h => absurd h (by omega)) (fun _ => ⟨pk_in b 64 (by omega), pk_eq (sz b) 4 (fun h => absurd h hs) (fun _ => ?_) (gf_rd rfl (by omega)) rfl (by omega) (by omega)⟩)⟩
    exact gf_ins71 G S (by omega) hb hin hp hm hv (by omega) (fun sz2 pl2 vl2 S2 => H C R B cx cy dr lf rt lo hi sz2 pl2 vl2 (gf_G_mono G (by omega)) S2)
theorem gf_isP {post : Int32 → Prop} {x y : Nat} (hx : x < 32) (hy : y < 32) (H : post 1) : wpX_isPlace post () (nI x) (nI y) := by
  unfold wpX_isPlace
  exact br_f (nI_pos (by omega)) (br_f (nI_ge (b := 32) hx (by decide)) (br_f (nI_pos (by omega)) (br_f (nI_ge (b := 32) hy (by decide)) H)))
theorem gf_put {post : Int32 → St2 → Prop} {f4 : Int32} {a11 a12 a13 : Nat → Int32} {K C R B x y v : Nat} {cx cy dr lf rt lo hi sz pl vl m : Nat → Nat} (G : gf_G K C R B cx cy dr lf rt lo hi) (S : gf_S B lf rt lo hi sz pl vl m) (hK : K ≤ 31) (hn : gf_cnt m < 40) (hx : x < 32) (hy : y < 32) (hv : v ≠ 0)
    (H : ∀ C' R' B' cx' cy' dr' lf' rt' lo' hi' sz' pl' vl', gf_G (K + 1) C' R' B' cx' cy' dr' lf' rt' lo' hi' → gf_S B' lf' rt' lo' hi' sz' pl' vl' (gf_u m (32 * x + y) v) → post (nI (if m (32 * x + y) = 0 then 1 else 0)) (nI C', nI R', nI B', nI (gf_cnt (gf_u m (32 * x + y) v)), f4, gf_n cx', gf_n cy', gf_n dr', gf_n sz', gf_n lf', gf_n rt', gf_n lo', gf_n hi', gf_n pl', gf_n vl', a11, a12, a13)) :
    wpX_put post (nI C, nI R, nI B, nI (gf_cnt m), f4, gf_n cx, gf_n cy, gf_n dr, gf_n sz, gf_n lf, gf_n rt, gf_n lo, gf_n hi, gf_n pl, gf_n vl, a11, a12, a13) (nI x) (nI y) (nI v) := by
  have hB := G.2.2.2.2.1
  have cu := gf_cnt_up (m := m) (p := 32 * x + y) (v := v) (by omega)
  rw [if_neg hv] at cu
  unfold wpX_put
  dsimp only
  refine gf_isP hx hy (br_f (by decide) ?_)
  refine gf_find G S (by omega) hx hy (fun hm => ?_) (fun b k hb hk hpl hm => ?_)
  · refine br_t (by decide) (pk_eq (gf_cnt m) 40 (fun h => absurd h (by omega)) (fun _ => ?_))
    rw [gf_m32a]
    refine gf_insert G S hK (by omega) hm hv (fun C' R' B' cx' cy' dr' lf' rt' lo' hi' sz' pl' vl' G' S' => ?_)
    dsimp only
    have t := H C' R' B' cx' cy' dr' lf' rt' lo' hi' sz' pl' vl' G' S'
    rw [if_pos hm] at t cu
    rw [show gf_cnt (gf_u m (32 * x + y) v) = gf_cnt m + 1 by omega] at t
    exact nm_r (nI_1 _) t
  · have s3 := (S.2 b hb).1
    have S' := gf_S_over (v := v) G S hb hk hv
    rw [hpl] at S'
    have t := H C R B cx cy dr lf rt lo hi sz pl _ (gf_G_mono G (by omega)) S'
    rw [if_neg hm] at t cu
    rw [show gf_cnt (gf_u m (32 * x + y) v) = gf_cnt m by omega] at t
    exact br_f (nI_pos (by omega)) ⟨pk_in (4 * b + k) 256 (by omega), nm_r (gf_wr rfl rfl (by omega)) t⟩
end
section
/-- place p lies in the rectangle from L to U -/
def gf_R (L U p : Nat) : Prop := L / 32 ≤ p / 32 ∧ p / 32 ≤ U / 32 ∧ L % 32 ≤ p % 32 ∧ p % 32 ≤ U % 32
theorem gf_gather {post : St2 → Prop} {f0 f1 f2 f3 : Int32} {a1 a2 a3 a5 a6 a7 a8 a13 : Nat → Int32} {b L U h : Nat} {sz pl vl hp hv m : Nat → Nat} {P Q : Nat → Prop} (hb : b < 32) (hs : sz b ≤ 4) (hL : L < 1024) (hU : U < 1024) (EQ : gf_E (sz b) (fun k => pl (4 * b + k)) Q) (hQ : ∀ p, Q p → m p ≠ 0 ∧ p < 1024) (hvl : ∀ k, k < sz b → vl (4 * b + k) = m (pl (4 * b + k))) (E : gf_E h hp P) (hP : ∀ p, P p → m p ≠ 0 ∧ p < 1024) (hdis : ∀ p, Q p → ¬ P p) (hhv : ∀ k, k < h → hv k = m (hp k)) (hn : gf_cnt m < 40)
    (H : ∀ h' hp' hv', gf_E h' hp' (fun p => P p ∨ (Q p ∧ gf_R L U p)) → (∀ k, k < h' → hv' k = m (hp' k)) → post (f0, f1, f2, f3, nI h', a1, a2, a3, gf_n sz, a5, a6, a7, a8, gf_n pl, gf_n vl, gf_n hp', gf_n hv', a13)) :
    wpX_gather post (f0, f1, f2, f3, nI h, a1, a2, a3, gf_n sz, a5, a6, a7, a8, gf_n pl, gf_n vl, gf_n hp, gf_n hv, a13) (nI b) (nI L) (nI U) := by
  unfold wpX_gather
  dsimp only
  refine nm_r (gf_m4 b) ?_
  refine lp4 (fun n k h hp hv => wX_gather_5 post (nI b) (nI L) (nI U) f0 f1 f2 f3 n (nI (4 * b + k)) (nI h) a1 a2 a3 (gf_n sz) a5 a6 a7 a8 (gf_n pl) (gf_n vl) (gf_n hp) (gf_n hv) a13) (fun k h hp hv => k ≤ sz b ∧ gf_E h hp (fun p => P p ∨ ((∃ j, j < k ∧ pl (4 * b + j) = p) ∧ gf_R L U p)) ∧ ∀ j, j < h → hv j = m (hp j)) (fun k _ _ _ => sz b - k) ?_ 0 h hp hv ⟨by omega, gf_Ei E (fun p => ⟨fun q => Or.inl q, fun q => q.elim (fun q => q) (fun q => by obtain ⟨⟨j, j1, _⟩, _⟩ := q; omega)⟩), hhv⟩
  intro n k h hp hv hI hw
  obtain ⟨h1, h2, h3⟩ := hI
  have hPk : ∀ p, (P p ∨ ((∃ j, j < k ∧ pl (4 * b + j) = p) ∧ gf_R L U p)) → m p ≠ 0 ∧ p < 1024 := by
    intro p q
    rcases q with q | ⟨⟨j, j1, j2⟩, _⟩
    · exact hP p q
    · rw [← j2]
      exact hQ _ (EQ.1 j (by omega))
  have hh := gf_Eb h2 hPk
  have hx : 4 * nI b + gf_n sz (nI b).toNatClampNeg = nI (4 * b + sz b) := by
    rw [gf_rd rfl (by omega), gf_m4a]
  refine ⟨pk_in b 64 (by omega), pk_le (4 * b + sz b) (4 * b + k) (fun g => ?_) (fun g => ?_) hx rfl (by omega) (by omega)⟩
  · have e : k = sz b := by omega
    subst e
    refine H h hp hv (gf_Ei h2 (fun p => ?_)) h3
    have t : (∃ j, j < sz b ∧ pl (4 * b + j) = p) ↔ Q p := ⟨fun ⟨j, j1, j2⟩ => by rw [← j2]; exact EQ.1 j j1, fun q => EQ.2.2 p q⟩
    rw [t]
  · have q0 := hQ _ (EQ.1 k (by omega))
    have q1 : pl (4 * b + k) < 1024 := q0.2
    have er : gf_n pl (nI (4 * b + k)).toNatClampNeg = nI (pl (4 * b + k)) := gf_rd rfl (by omega)
    have eL5 := gf_s5 (p := L) (by omega)
    have eU5 := gf_s5 (p := U) (by omega)
    have eL31 := gf_a31 (p := L) (by omega)
    have eU31 := gf_a31 (p := U) (by omega)
    have skip : ¬ gf_R L U (pl (4 * b + k)) → wX_gather_5 post (nI b) (nI L) (nI U) f0 f1 f2 f3 n (nI (4 * b + k + 1)) (nI h) a1 a2 a3 (gf_n sz) a5 a6 a7 a8 (gf_n pl) (gf_n vl) (gf_n hp) (gf_n hv) a13 := by
      intro nr
      refine hw (k + 1) h hp hv ⟨by omega, gf_Ei h2 (fun p => ?_), h3⟩ (by omega)
      rw [gf_ex1]
      constructor
      · intro q
        rcases q with q | q
        · exact Or.inl q
        · exact Or.inr ⟨Or.inl q.1, q.2⟩
      · intro q
        rcases q with q | ⟨q | q, r⟩
        · exact Or.inl q
        · exact Or.inr ⟨q, r⟩
        · rw [q] at r
          exact absurd r nr
    refine ⟨pk_in (4 * b + k) 256 (by omega), nm_r (e' := nI (pl (4 * b + k) / 32)) (by rw [er]; exact gf_s5 (by omega)) ⟨pk_in (4 * b + k) 256 (by omega), nm_r (e' := nI (pl (4 * b + k) % 32)) (by rw [er]; exact gf_a31 (by omega)) ?_⟩⟩
    refine pk_lt (pl (4 * b + k) / 32) (L / 32) (fun r1 => br_t rfl (nm_r (nI_1 _) (skip (fun r => absurd r.1 (by omega))))) (fun r1 => ?_) rfl eL5
    refine pk_lt (U / 32) (pl (4 * b + k) / 32) (fun r2 => br_t rfl (nm_r (nI_1 _) (skip (fun r => absurd r.2.1 (by omega))))) (fun r2 => br_f (by decide) ?_) eU5 rfl
    refine pk_lt (pl (4 * b + k) % 32) (L % 32) (fun r3 => nm_r (nI_1 _) (skip (fun r => absurd r.2.2.1 (by omega)))) (fun r3 => ?_) rfl eL31
    refine pk_lt (U % 32) (pl (4 * b + k) % 32) (fun r4 => nm_r (nI_1 _) (skip (fun r => absurd r.2.2.2 (by omega)))) (fun r4 => ?_) eU31 rfl
    refine ⟨pk_in (4 * b + k) 256 (by omega), pk_in h 40 (by omega), nm_r (gf_wr rfl er (by omega)) ⟨pk_in (4 * b + k) 256 (by omega), pk_in h 40 (by omega), nm_r (gf_wr (w := m (pl (4 * b + k))) rfl ?_ (by omega)) (nm_r (nI_1 h) (nm_r (nI_1 _) (hw (k + 1) (h + 1) _ _ ⟨by omega, gf_Ei (gf_Ea (q := pl (4 * b + k)) h2 ?_) (fun p => ?_), fun j hj => ?_⟩ (by omega))))⟩⟩
    · rw [gf_rd rfl (by omega), hvl k (by omega)]
    · intro q
      rcases q with q | ⟨⟨j, j1, j2⟩, _⟩
      · exact hdis _ (EQ.1 k (by omega)) q
      · exact EQ.2.1 j k j1 (by omega) j2
    · rw [gf_ex1]
      constructor
      · intro q
        rcases q with (q | q) | q
        · exact Or.inl q
        · exact Or.inr ⟨Or.inl q.1, q.2⟩
        · exact Or.inr ⟨Or.inr q, by rw [q]; exact ⟨r1, r2, r3, r4⟩⟩
      · intro q
        rcases q with q | ⟨q | q, r⟩
        · exact Or.inl (Or.inl q)
        · exact Or.inl (Or.inr ⟨q, r⟩)
        · exact Or.inr q
    · by_cases z : j = h
      · rw [z, gf_us, gf_us]
      · rw [gf_un z, gf_un z]
        exact h3 j (by omega)
end
section
/-- the hits are the points of the rectangle in the buckets seen -/
def gf_CI (B L U : Nat) (lf rt lo hi m : Nat → Nat) (h : Nat) (hp hv sn : Nat → Nat) : Prop :=
  gf_E h hp (fun p => m p ≠ 0 ∧ gf_R L U p ∧ ∃ b, b < B ∧ sn b ≠ 0 ∧ gf_in lf rt lo hi b (p / 32) (p % 32)) ∧ (∀ k, k < h → hv k = m (hp k)) ∧ (∀ b, b < B → sn b ≤ 1)
theorem gf_col_le {cx : Nat → Nat} {C x c x' c' : Nat} (H : gf_sc cx C) (h : gf_col cx C x c) (h' : gf_col cx C x' c') (hx : x ≤ x') : c ≤ c' := by
  obtain ⟨h1, h2, h3⟩ := h
  obtain ⟨k1, k2, k3⟩ := h'
  by_cases z : c ≤ c'
  · exact z
  · have := gf_sc_le H (show c' + 1 ≤ c by omega) (by omega)
    omega
theorem gf_co71 {post : St2 → Prop} {J : Int32 → Int32 → Int32 → Int32 → Int32 → Int32 → (Nat → Int32) → (Nat → Int32) → (Nat → Int32) → (Nat → Int32) → (Nat → Int32) → (Nat → Int32) → (Nat → Int32) → (Nat → Int32) → (Nat → Int32) → (Nat → Int32) → (Nat → Int32) → (Nat → Int32) → (Nat → Int32) → Prop} {x3 f3 : Int32} {K C R B L U c r1 r2 h : Nat} {cx cy dr lf rt lo hi sz pl vl m hp hv sn : Nat → Nat} (G : gf_G K C R B cx cy dr lf rt lo hi) (S : gf_S B lf rt lo hi sz pl vl m) (hK : K ≤ 32) (hn : gf_cnt m < 40) (hL : L < 1024) (hU : U < 1024) (hc : c < C) (h12 : r1 ≤ r2) (hr : r2 < R) (I0 : gf_CI B L U lf rt lo hi m h hp hv sn)
    (H : ∀ h' hp' hv' sn', gf_CI B L U lf rt lo hi m h' hp' hv' sn' → (∀ b, sn b ≠ 0 → sn' b ≠ 0) → (∀ r, r1 ≤ r → r ≤ r2 → sn' (dr (32 * c + r)) ≠ 0) → J (nI (c + 1)) (nI C) (nI R) (nI B) f3 (nI h') (gf_n cx) (gf_n cy) (gf_n dr) (gf_n sz) (gf_n lf) (gf_n rt) (gf_n lo) (gf_n hi) (gf_n pl) (gf_n vl) (gf_n hp') (gf_n hv') (gf_n sn')) :
    ∃ fu, wX_collect_71 post J (nI L) (nI U) x3 (nI r2) (nI c) fu (nI r1) (nI C) (nI R) (nI B) f3 (nI h) (gf_n cx) (gf_n cy) (gf_n dr) (gf_n sz) (gf_n lf) (gf_n rt) (gf_n lo) (gf_n hi) (gf_n pl) (gf_n vl) (gf_n hp) (gf_n hv) (gf_n sn) := by
  have hC := G.2.2.1
  have hR := G.2.2.2.1
  have hB := G.2.2.2.2.1
  refine lp5 (fun n r h hp hv sn => wX_collect_71 post J (nI L) (nI U) x3 (nI r2) (nI c) n (nI r) (nI C) (nI R) (nI B) f3 (nI h) (gf_n cx) (gf_n cy) (gf_n dr) (gf_n sz) (gf_n lf) (gf_n rt) (gf_n lo) (gf_n hi) (gf_n pl) (gf_n vl) (gf_n hp) (gf_n hv) (gf_n sn)) (fun r h' hp' hv' sn' => r1 ≤ r ∧ r ≤ r2 + 1 ∧ gf_CI B L U lf rt lo hi m h' hp' hv' sn' ∧ (∀ b, sn b ≠ 0 → sn' b ≠ 0) ∧ (∀ j, r1 ≤ j → j < r → sn' (dr (32 * c + j)) ≠ 0)) (fun r _ _ _ _ => r2 + 1 - r) ?_ r1 h hp hv sn ⟨by omega, by omega, I0, fun _ q => q, fun j q1 q2 => absurd q1 (by omega)⟩
  intro n r h' hp' hv' sn' hI hw
  obtain ⟨h1, h2, h3, h4, h5⟩ := hI
  refine pk_lt r2 r (fun g => nm_r (nI_1 c) (H h' hp' hv' sn' h3 h4 (fun j q1 q2 => h5 j q1 (by omega)))) (fun g => ?_)
  have hc0 : gf_col cx C (cx c) c := ⟨hc, Nat.le_refl _, G.1.2.2 c hc⟩
  have hr0 : gf_col cy R (cy r) r := ⟨by omega, Nat.le_refl _, G.2.1.2.2 r (by omega)⟩
  have d := G.2.2.2.2.2.2.1 _ _ c r hc0 hr0
  obtain ⟨E, hvv, hsn⟩ := h3
  have hs1 := hsn _ d.1
  obtain ⟨b, eb⟩ : ∃ b, dr (32 * c + r) = b := ⟨_, rfl⟩
  rw [eb] at d hs1
  have hb := d.1
  refine ⟨pk_in (32 * c + r) 1024 (by omega) (gf_m32a c r), nm_r ((gf_rd (gf_m32a c r) (by omega)).trans (congrArg nI eb)) ⟨pk_in b 64 (by omega), pk_eq (sn' b) 0 (fun z => ?_) (fun z => ?_) (gf_rd rfl (by omega)) rfl (by omega) (by omega)⟩⟩
  · refine ⟨pk_in b 64 (by omega), nm_r (gf_wr (w := 1) rfl rfl (by omega)) ?_⟩
    obtain ⟨s3, s4, s5⟩ := S.2 b hb
    refine gf_gather (by omega) s3 hL hU s4 (fun p q => ⟨q.1, S.1 p q.1⟩) s5 E (fun p q => ⟨q.1, S.1 p q.1⟩) (fun p q1 q2 => ?_) hvv hn (fun h2' hp2 hv2 E2 hvv2 => ?_)
    · obtain ⟨b', b1, b2, b3⟩ := q2.2.2
      have := gf_dis G hb b1 q1.2 b3
      rw [← this] at b2
      exact b2 z
    · dsimp only
      refine nm_r (nI_1 r) (hw (r + 1) h2' hp2 hv2 (gf_u sn' b 1) ⟨by omega, by omega, ⟨gf_Ei E2 (fun p => ?_), hvv2, fun b' hb' => ?_⟩, fun b' q => ?_, fun j q1 q2 => ?_⟩ (by omega))
      · constructor
        · intro q
          rcases q with ⟨q1, q2, b', b1, b2, b3⟩ | ⟨⟨q1, q2⟩, q3⟩
          · refine ⟨q1, q2, b', b1, ?_, b3⟩
            by_cases w : b' = b
            · rw [w, gf_us]
              exact Nat.one_ne_zero
            · rw [gf_un w]
              exact b2
          · exact ⟨q1, q3, b, hb, by rw [gf_us]; exact Nat.one_ne_zero, q2⟩
        · intro ⟨q1, q2, b', b1, b2, b3⟩
          by_cases w : b' = b
          · rw [w] at b3
            exact Or.inr ⟨⟨q1, b3⟩, q2⟩
          · rw [gf_un w] at b2
            exact Or.inl ⟨q1, q2, b', b1, b2, b3⟩
      · by_cases w : b' = b
        · rw [w, gf_us]
          omega
        · rw [gf_un w]
          exact hsn b' hb'
      · by_cases w : b' = b
        · rw [w, gf_us]
          exact Nat.one_ne_zero
        · rw [gf_un w]
          exact h4 b' q
      · by_cases w : dr (32 * c + j) = b
        · rw [w, gf_us]
          exact Nat.one_ne_zero
        · rw [gf_un w]
          have w2 : j ≠ r := fun w2 => w (by rw [w2]; exact eb)
          exact h5 j q1 (by omega)
  · refine nm_r (nI_1 r) (hw (r + 1) h' hp' hv' sn' ⟨by omega, by omega, ⟨E, hvv, hsn⟩, h4, fun j q1 q2 => ?_⟩ (by omega))
    by_cases w : j = r
    · rw [w, eb]
      exact z
    · exact h5 j q1 (by omega)
theorem gf_co55 {post : St2 → Prop} {f3 : Int32} {K C R B L U c1 c2 r1 r2 h : Nat} {cx cy dr lf rt lo hi sz pl vl m hp hv sn : Nat → Nat} (G : gf_G K C R B cx cy dr lf rt lo hi) (S : gf_S B lf rt lo hi sz pl vl m) (hK : K ≤ 32) (hn : gf_cnt m < 40) (hL : L < 1024) (hU : U < 1024) (hc1 : gf_col cx C (L / 32) c1) (hc2 : gf_col cx C (U / 32) c2) (hr1 : gf_col cy R (L % 32) r1) (hr2 : gf_col cy R (U % 32) r2) (c12 : c1 ≤ c2) (r12 : r1 ≤ r2) (I0 : gf_CI B L U lf rt lo hi m h hp hv sn)
    (H : ∀ h' hp' hv' sn', gf_E h' hp' (fun p => m p ≠ 0 ∧ gf_R L U p) → (∀ k, k < h' → hv' k = m (hp' k)) → post (nI C, nI R, nI B, f3, nI h', gf_n cx, gf_n cy, gf_n dr, gf_n sz, gf_n lf, gf_n rt, gf_n lo, gf_n hi, gf_n pl, gf_n vl, gf_n hp', gf_n hv', gf_n sn')) :
    ∃ fu, wX_collect_55 post (nI L) (nI U) (nI c2) (nI r2) fu (nI c1) (nI C) (nI R) (nI B) f3 (nI h) (gf_n cx) (gf_n cy) (gf_n dr) (gf_n sz) (gf_n lf) (gf_n rt) (gf_n lo) (gf_n hi) (gf_n pl) (gf_n vl) (gf_n hp) (gf_n hv) (gf_n sn) := by
  have hC := G.2.2.1
  have hR := G.2.2.2.1
  have hc2' := hc2.1
  have hr2' := hr2.1
  refine lp5 (fun n c h hp hv sn => wX_collect_55 post (nI L) (nI U) (nI c2) (nI r2) n (nI c) (nI C) (nI R) (nI B) f3 (nI h) (gf_n cx) (gf_n cy) (gf_n dr) (gf_n sz) (gf_n lf) (gf_n rt) (gf_n lo) (gf_n hi) (gf_n pl) (gf_n vl) (gf_n hp) (gf_n hv) (gf_n sn)) (fun c h' hp' hv' sn' => c1 ≤ c ∧ c ≤ c2 + 1 ∧ gf_CI B L U lf rt lo hi m h' hp' hv' sn' ∧ (∀ c' r, c1 ≤ c' → c' < c → r1 ≤ r → r ≤ r2 → sn' (dr (32 * c' + r)) ≠ 0)) (fun c _ _ _ _ => c2 + 1 - c) ?_ c1 h hp hv sn ⟨by omega, by omega, I0, fun c' r q1 q2 => absurd q1 (by omega)⟩
  intro n c h' hp' hv' sn' hI hw
  obtain ⟨h1, h2, h3, h4⟩ := hI
  refine pk_lt c2 c (fun g => ?_) (fun g => ?_)
  · obtain ⟨E, hvv, hsn⟩ := h3
    refine H h' hp' hv' sn' (gf_Ei E (fun p => ⟨fun q => ⟨q.1, q.2.1⟩, fun q => ⟨q.1, q.2, ?_⟩⟩)) hvv
    have hp1 := S.1 p q.1
    obtain ⟨q1, q2, q3, q4⟩ := q.2
    obtain ⟨c', hc'⟩ := gf_col_ex G.1 (show p / 32 < 32 by omega)
    obtain ⟨r', hr'⟩ := gf_col_ex G.2.1 (show p % 32 < 32 by omega)
    have d := G.2.2.2.2.2.2.1 _ _ c' r' hc' hr'
    have l1 := gf_col_le G.1 hc1 hc' q1
    have l2 := gf_col_le G.1 hc' hc2 q2
    have l3 := gf_col_le G.2.1 hr1 hr' q3
    have l4 := gf_col_le G.2.1 hr' hr2 q4
    exact ⟨_, d.1, h4 c' r' l1 (by omega) l3 l4, d.2⟩
  · rw [gf_a31 (by omega)]
    refine gf_wrow G.2.1 (by omega) (by omega) (fun r hr => ?_)
    have er := gf_col_un G.2.1 hr hr1
    subst er
    refine gf_co71 G S hK hn hL hU (by omega) r12 hr2' h3 (fun h2' hp2 hv2 sn2 I2 q1 q2 => hw (c + 1) h2' hp2 hv2 sn2 ⟨by omega, by omega, I2, fun c' r' e1 e2 e3 e4 => ?_⟩ (by omega))
    by_cases w : c' = c
    · rw [w]
      exact q2 r' e3 e4
    · exact q1 _ (h4 c' r' e1 (by omega) e3 e4)
theorem gf_collect {post : St2 → Prop} {f3 f4 : Int32} {K C R B L U : Nat} {cx cy dr lf rt lo hi sz pl vl m hp hv sn : Nat → Nat} (G : gf_G K C R B cx cy dr lf rt lo hi) (S : gf_S B lf rt lo hi sz pl vl m) (hK : K ≤ 32) (hn : gf_cnt m < 40) (hL : L < 1024) (hU : U < 1024) (hx : L / 32 ≤ U / 32) (hy : L % 32 ≤ U % 32)
    (H : ∀ h' hp' hv' sn', gf_E h' hp' (fun p => m p ≠ 0 ∧ gf_R L U p) → (∀ k, k < h' → hv' k = m (hp' k)) → post (nI C, nI R, nI B, f3, nI h', gf_n cx, gf_n cy, gf_n dr, gf_n sz, gf_n lf, gf_n rt, gf_n lo, gf_n hi, gf_n pl, gf_n vl, gf_n hp', gf_n hv', gf_n sn')) :
    wpX_collect post (nI C, nI R, nI B, f3, f4, gf_n cx, gf_n cy, gf_n dr, gf_n sz, gf_n lf, gf_n rt, gf_n lo, gf_n hi, gf_n pl, gf_n vl, gf_n hp, gf_n hv, gf_n sn) (nI L) (nI U) := by
  have hC := G.2.2.1
  have hR := G.2.2.2.1
  have hB := G.2.2.2.2.1
  unfold wpX_collect
  dsimp only
  refine lp2 (fun n b sn => wX_collect_7 post (nI L) (nI U) (nI C) (nI R) (nI B) f3 0 n (nI b) (gf_n cx) (gf_n cy) (gf_n dr) (gf_n sz) (gf_n lf) (gf_n rt) (gf_n lo) (gf_n hi) (gf_n pl) (gf_n vl) (gf_n hp) (gf_n hv) (gf_n sn)) (fun b sn => b ≤ B ∧ ∀ j, j < b → sn j = 0) (fun b _ => B - b) ?_ 0 sn ⟨by omega, fun j hj => absurd hj (by omega)⟩
  intro n b sn hI hw
  obtain ⟨h1, h2⟩ := hI
  refine pk_le B b (fun g => ?_) (fun g => ?_)
  · rw [gf_s5 (show U < 2 ^ 31 by omega), gf_a31 (show U < 2 ^ 31 by omega), gf_s5 (show L < 2 ^ 31 by omega)]
    refine gf_wcol G.1 (by omega) (by omega) (fun c2 hc2 => ?_)
    refine gf_wrow G.2.1 (by omega) (by omega) (fun r2 hr2 => ?_)
    refine gf_wcol G.1 (by omega) (by omega) (fun c1 hc1 => ?_)
    obtain ⟨r1, hr1⟩ := gf_col_ex G.2.1 (show L % 32 < 32 by omega)
    refine gf_co55 (h := 0) G S hK hn hL hU hc1 hc2 hr1 hr2 (gf_col_le G.1 hc1 hc2 hx) (gf_col_le G.2.1 hr1 hr2 hy) ⟨gf_E0 (fun p q => ?_), fun k hk => absurd hk (by omega), fun b' hb' => by rw [h2 b' (by omega)]; omega⟩ H
    obtain ⟨_, _, b', q1, q2, _⟩ := q
    exact q2 (h2 b' (by omega))
  · refine ⟨pk_in b 64 (by omega), nm_r (gf_wr (w := 0) rfl rfl (by omega)) (nm_r (nI_1 b) (hw (b + 1) _ ⟨by omega, fun j hj => ?_⟩ (by omega)))⟩
    by_cases z : j = b
    · rw [z, gf_us]
    · rw [gf_un z]
      exact h2 j (by omega)
end
section
/-- the sum of f over the points of a rectangle -/
def gf_rs (L U : Nat) (m f : Nat → Nat) : Nat := gf_sm (fun p => if m p = 0 then 0 else if L / 32 ≤ p / 32 ∧ p / 32 ≤ U / 32 ∧ L % 32 ≤ p % 32 ∧ p % 32 ≤ U % 32 then f p else 0) 1024
theorem gf_rs_E {L U h : Nat} {m hp f : Nat → Nat} (E : gf_E h hp (fun p => m p ≠ 0 ∧ gf_R L U p)) (hm : ∀ p, m p ≠ 0 → p < 1024) : gf_sm (fun k => f (hp k)) h = gf_rs L U m f := by
  unfold gf_rs
  rw [← gf_Es E (fun p q => hm p q.1) (g := fun p => if m p = 0 then 0 else if L / 32 ≤ p / 32 ∧ p / 32 ≤ U / 32 ∧ L % 32 ≤ p % 32 ∧ p % 32 ≤ U % 32 then f p else 0) (fun p _ q => ?_)]
  · refine gf_sm_ext (fun k hk => ?_)
    have t := E.1 k hk
    rw [if_neg t.1]
    exact (if_pos t.2).symm
  · by_cases z : m p = 0
    · rw [if_pos z] at q
      exact absurd rfl q
    · rw [if_neg z] at q
      by_cases w : L / 32 ≤ p / 32 ∧ p / 32 ≤ U / 32 ∧ L % 32 ≤ p % 32 ∧ p % 32 ≤ U % 32
      · exact ⟨z, w⟩
      · rw [if_neg w] at q
        exact absurd rfl q
theorem gf_rs_1 {L U h : Nat} {m hp : Nat → Nat} (E : gf_E h hp (fun p => m p ≠ 0 ∧ gf_R L U p)) (hm : ∀ p, m p ≠ 0 → p < 1024) : h = gf_rs L U m (fun _ => 1) := by
  rw [← gf_rs_E E hm, gf_sm_one]
theorem gf_isR {post : Int32 → Prop} {L U : Nat} (hL : L < 1024) (hU : U < 1024) (hx : L / 32 ≤ U / 32) (hy : L % 32 ≤ U % 32) (H : post 1) : wpX_isRectangle post () (nI L) (nI U) := by
  unfold wpX_isRectangle
  refine br_f (nI_pos (by omega)) (br_f (nI_nlt (a := 1023) (by omega) (by decide)) (br_f (nI_pos (by omega)) (br_f (nI_nlt (a := 1023) (by omega) (by decide)) ?_)))
  unfold wX_isRectangle_27
  rw [gf_s5 (show U < 2 ^ 31 by omega), gf_a31 (show U < 2 ^ 31 by omega), gf_s5 (show L < 2 ^ 31 by omega), gf_a31 (show L < 2 ^ 31 by omega)]
  exact br_f (by decide) (br_f (nI_nlt hx (by omega)) (br_f (nI_nlt hy (by omega)) H))
theorem gf_count {post : Int32 → St2 → Prop} {f3 f4 : Int32} {K C R B L U : Nat} {cx cy dr lf rt lo hi sz pl vl m hp hv sn : Nat → Nat} (G : gf_G K C R B cx cy dr lf rt lo hi) (S : gf_S B lf rt lo hi sz pl vl m) (hK : K ≤ 32) (hn : gf_cnt m < 40) (hL : L < 1024) (hU : U < 1024) (hx : L / 32 ≤ U / 32) (hy : L % 32 ≤ U % 32)
    (H : ∀ h' hp' hv' sn', post (nI (gf_rs L U m (fun _ => 1))) (nI C, nI R, nI B, f3, nI h', gf_n cx, gf_n cy, gf_n dr, gf_n sz, gf_n lf, gf_n rt, gf_n lo, gf_n hi, gf_n pl, gf_n vl, gf_n hp', gf_n hv', gf_n sn')) :
    wpX_count post (nI C, nI R, nI B, f3, f4, gf_n cx, gf_n cy, gf_n dr, gf_n sz, gf_n lf, gf_n rt, gf_n lo, gf_n hi, gf_n pl, gf_n vl, gf_n hp, gf_n hv, gf_n sn) (nI L) (nI U) := by
  unfold wpX_count
  dsimp only
  refine gf_isR hL hU hx hy (br_f (by decide) ?_)
  refine gf_collect G S hK hn hL hU hx hy (fun h' hp' hv' sn' E hvv => ?_)
  dsimp only
  have t := H h' hp' hv' sn'
  rw [← gf_rs_1 E S.1] at t
  exact t
theorem gf_sum {post : Int32 → St2 → Prop} {f3 f4 : Int32} {K C R B L U : Nat} {cx cy dr lf rt lo hi sz pl vl m hp hv sn : Nat → Nat} (G : gf_G K C R B cx cy dr lf rt lo hi) (S : gf_S B lf rt lo hi sz pl vl m) (hK : K ≤ 32) (hn : gf_cnt m < 40) (hL : L < 1024) (hU : U < 1024) (hx : L / 32 ≤ U / 32) (hy : L % 32 ≤ U % 32)
    (H : ∀ h' hp' hv' sn', post (nI (gf_rs L U m m)) (nI C, nI R, nI B, f3, nI h', gf_n cx, gf_n cy, gf_n dr, gf_n sz, gf_n lf, gf_n rt, gf_n lo, gf_n hi, gf_n pl, gf_n vl, gf_n hp', gf_n hv', gf_n sn')) :
    wpX_sum post (nI C, nI R, nI B, f3, f4, gf_n cx, gf_n cy, gf_n dr, gf_n sz, gf_n lf, gf_n rt, gf_n lo, gf_n hi, gf_n pl, gf_n vl, gf_n hp, gf_n hv, gf_n sn) (nI L) (nI U) := by
  unfold wpX_sum
  dsimp only
  refine gf_isR hL hU hx hy (br_f (by decide) ?_)
  refine gf_collect G S hK hn hL hU hx hy (fun h' hp' hv' sn' E hvv => ?_)
  dsimp only
  have hh := gf_Eb (m := m) E (fun p q => ⟨q.1, S.1 p q.1⟩)
  refine lp2 (fun n t k => wX_sum_21 post (nI C) (nI R) (nI B) f3 (nI h') (gf_n cx) (gf_n cy) (gf_n dr) (gf_n sz) (gf_n lf) (gf_n rt) (gf_n lo) (gf_n hi) (gf_n pl) (gf_n vl) (gf_n hp') (gf_n hv') (gf_n sn') n (nI t) (nI k)) (fun t k => k ≤ h' ∧ t = gf_sm (fun k => m (hp' k)) k) (fun _ k => h' - k) ?_ 0 0 ⟨by omega, rfl⟩
  intro n t k hI hw
  obtain ⟨h1, h2⟩ := hI
  refine pk_le h' k (fun g => ?_) (fun g => ?_)
  · have e : k = h' := by omega
    subst e
    rw [h2, gf_rs_E E S.1]
    exact H k hp' hv' sn'
  · refine ⟨pk_in k 40 (by omega), nm_r (e' := nI (t + m (hp' k))) ?_ (nm_r (nI_1 k) (hw (t + m (hp' k)) (k + 1) ⟨by omega, by rw [h2]; rfl⟩ (by omega)))⟩
    rw [gf_rd rfl (by omega), hvv k (by omega), nI_add]
theorem gf_line {post : Int32 → St2 → Prop} {f3 f4 : Int32} {u : Nat} {K C R B : Nat} {cx cy dr lf rt lo hi sz pl vl m hp hv sn : Nat → Nat} (G : gf_G K C R B cx cy dr lf rt lo hi) (S : gf_S B lf rt lo hi sz pl vl m) (hK : K ≤ 32) (hn : gf_cnt m < 40) (hu : u < 32)
    (H : ∀ h' hp' hv' sn', post (nI (gf_rs (32 * u) (32 * u + 31) m (fun _ => 1))) (nI C, nI R, nI B, f3, nI h', gf_n cx, gf_n cy, gf_n dr, gf_n sz, gf_n lf, gf_n rt, gf_n lo, gf_n hi, gf_n pl, gf_n vl, gf_n hp', gf_n hv', gf_n sn')) :
    wpX_line post (nI C, nI R, nI B, f3, f4, gf_n cx, gf_n cy, gf_n dr, gf_n sz, gf_n lf, gf_n rt, gf_n lo, gf_n hi, gf_n pl, gf_n vl, gf_n hp, gf_n hv, gf_n sn) 0 (nI u) := by
  unfold wpX_line
  dsimp only
  refine br_t rfl ?_
  unfold wX_line_11
  refine br_f (nI_pos (by omega)) (br_t (nI_lt (b := 32) hu (by decide)) (br_t rfl ?_))
  rw [gf_m32, show nI (32 * u) + 31 = nI (32 * u + 31) from nI_add (32 * u) 31]
  refine gf_collect G S hK hn (by omega) (by omega) (by omega) (by omega) (fun h' hp' hv' sn' E hvv => ?_)
  dsimp only
  have t := H h' hp' hv' sn'
  rw [← gf_rs_1 E S.1] at t
  exact t
end
section
/-- the inner loop of the sort: place q goes down from i to its place; e has a hole at k -/
theorem gf_so27 {post : St2 → Prop} {J : Int32 → (Nat → Int32) → (Nat → Int32) → (Nat → Int32) → (Nat → Int32) → (Nat → Int32) → (Nat → Int32) → (Nat → Int32) → (Nat → Int32) → (Nat → Int32) → (Nat → Int32) → (Nat → Int32) → (Nat → Int32) → (Nat → Int32) → Prop} {f0 f1 f2 f3 f4 : Int32} {a1 a2 a3 a4 a5 a6 a7 a8 a9 a10 a13 : Nat → Int32} {h i q w : Nat} {hp hv : Nat → Nat} {P : Nat → Prop} (hi : i < h) (hh : h ≤ 40) (hb : ∀ p, P p → p < 1024) (E : gf_E h hp P) (hq : hp i = q) (hs : ∀ j k, j < k → k < i → hp j ≤ hp k)
    (H : ∀ hp' hv', gf_E h hp' P → (∀ j k, j < k → k < i + 1 → hp' j ≤ hp' k) → J (nI (i + 1)) a1 a2 a3 a4 a5 a6 a7 a8 a9 a10 (gf_n hp') (gf_n hv') a13) :
    ∃ fu, wX_sortHits_27 post J (nI i) (nI q) (nI w) f0 f1 f2 f3 f4 fu (nI i) a1 a2 a3 a4 a5 a6 a7 a8 a9 a10 (gf_n hp) (gf_n hv) a13 := by
  have hq2 : q < 1024 := by
    rw [← hq]
    exact hb _ (E.1 i hi)
  refine lp3 (fun n k e v => wX_sortHits_27 post J (nI i) (nI q) (nI w) f0 f1 f2 f3 f4 n (nI k) a1 a2 a3 a4 a5 a6 a7 a8 a9 a10 (gf_n e) (gf_n v) a13) (fun k e v => k ≤ i ∧ gf_E h (gf_u e k q) P ∧ (∀ j l, j < l → l < k → e j ≤ e l) ∧ (∀ j l, j < k → k < l → l ≤ i → e j ≤ e l) ∧ (∀ j l, k < j → j < l → l ≤ i → e j ≤ e l) ∧ (∀ l, k < l → l ≤ i → q ≤ e l)) (fun k _ _ => k) ?_ i hp hv ⟨by omega, ?_, hs, fun j l _ q1 q2 => absurd q1 (by omega), fun j l q1 q2 q3 => absurd q1 (by omega), fun l q1 q2 => absurd q1 (by omega)⟩
  · intro n k e v hI hw
    obtain ⟨h1, h2, h3, h4, h5, h6⟩ := hI
    have fin : (∀ j, j < k → e j ≤ q) → wX_sortHits_83 post J (nI i) (nI q) (nI w) (nI k) f0 f1 f2 f3 f4 a1 a2 a3 a4 a5 a6 a7 a8 a9 a10 (gf_n e) (gf_n v) a13 := by
      intro hle
      refine ⟨pk_in k 40 (by omega), nm_r (gf_wr rfl rfl (by omega)) ⟨pk_in k 40 (by omega), nm_r (gf_wr rfl rfl (by omega)) (nm_r (nI_1 i) (H _ _ h2 (fun j l q1 q2 => ?_)))⟩⟩
      by_cases z : j = k
      · have z2 : l ≠ k := by omega
        rw [z, gf_us, gf_un z2]
        exact h6 l (by omega) (by omega)
      · rw [gf_un z]
        by_cases z2 : l = k
        · rw [z2, gf_us]
          exact hle j (by omega)
        · rw [gf_un z2]
          rcases Nat.lt_or_ge l k with z3 | z3
          · exact h3 j l q1 z3
          · rcases Nat.lt_or_ge j k with z4 | z4
            · exact h4 j l z4 (by omega) (by omega)
            · exact h5 j l (by omega) q1 (by omega)
    refine pk_le k 0 (fun g => fin (fun j hj => absurd hj (by omega))) (fun g => ?_)
    have e1 := gf_s1 (n := k) (by omega)
    have b1 : e (k - 1) < 1024 := by
      have t := hb _ (h2.1 (k - 1) (by omega))
      rw [gf_un (show k - 1 ≠ k by omega)] at t
      exact t
    refine ⟨pk_in (k - 1) 40 (by omega) e1, pk_le (e (k - 1)) q (fun g2 => fin (fun j hj => ?_)) (fun g2 => ?_) (gf_rd e1 (by omega)) rfl (by omega) (by omega)⟩
    · by_cases z : j = k - 1
      · rw [z]
        exact g2
      · exact Nat.le_trans (h3 j (k - 1) (by omega) (by omega)) g2
    · refine ⟨pk_in (k - 1) 40 (by omega) e1, pk_in k 40 (by omega), nm_r (gf_wr rfl (gf_rd e1 (by omega)) (by omega)) ⟨pk_in (k - 1) 40 (by omega) e1, pk_in k 40 (by omega), nm_r (gf_wr rfl (gf_rd e1 (by omega)) (by omega)) (nm_r (gf_m1 (by omega)) (hw (k - 1) _ _ ⟨by omega, ?_, fun j l q1 q2 => ?_, fun j l q1 q2 q3 => ?_, fun j l q1 q2 q3 => ?_, fun l q1 q2 => ?_⟩ (by omega)))⟩⟩
      · refine gf_Ex (i := k) (j := k - 1) h2 (by omega) (by omega) ?_ ?_ (fun t _ t1 t2 => ?_)
        · rw [gf_un (show k ≠ k - 1 by omega), gf_us, gf_un (show k - 1 ≠ k by omega)]
        · rw [gf_us, gf_us]
        · rw [gf_un t2, gf_un t1, gf_un t1]
      · rw [gf_un (show j ≠ k by omega), gf_un (show l ≠ k by omega)]
        exact h3 j l q1 (by omega)
      · rw [gf_un (show j ≠ k by omega)]
        by_cases z : l = k
        · rw [z, gf_us]
          exact h3 j (k - 1) q1 (by omega)
        · rw [gf_un z]
          exact h4 j l (by omega) (by omega) q3
      · rw [gf_un (show l ≠ k by omega)]
        by_cases z : j = k
        · rw [z, gf_us]
          exact h4 (k - 1) l (by omega) (by omega) q3
        · rw [gf_un z]
          exact h5 j l (by omega) q2 q3
      · by_cases z : l = k
        · rw [z, gf_us]
          omega
        · rw [gf_un z]
          exact h6 l (by omega) q2
  · refine gf_Ec E (fun k _ => ?_)
    by_cases z : k = i
    · rw [z, gf_us]
      exact hq.symm
    · rw [gf_un z]
theorem gf_sort {post : St2 → Prop} {f0 f1 f2 f3 : Int32} {a1 a2 a3 a4 a5 a6 a7 a8 a9 a10 a13 : Nat → Int32} {h : Nat} {hp hv : Nat → Nat} {P : Nat → Prop} (hh : h ≤ 40) (hb : ∀ p, P p → p < 1024) (E : gf_E h hp P)
    (H : ∀ hp' hv', gf_E h hp' P → (∀ j k, j < k → k < h → hp' j < hp' k) → post (f0, f1, f2, f3, nI h, a1, a2, a3, a4, a5, a6, a7, a8, a9, a10, gf_n hp', gf_n hv', a13)) :
    wpX_sortHits post (f0, f1, f2, f3, nI h, a1, a2, a3, a4, a5, a6, a7, a8, a9, a10, gf_n hp, gf_n hv, a13) := by
  unfold wpX_sortHits
  dsimp only
  refine lp3 (fun n i e v => wX_sortHits_2 post f0 f1 f2 f3 (nI h) n (nI i) a1 a2 a3 a4 a5 a6 a7 a8 a9 a10 (gf_n e) (gf_n v) a13) (fun i e v => (1 ≤ i ∧ i ≤ 41) ∧ gf_E h e P ∧ (∀ j k, j < k → k < h → k < i → e j ≤ e k)) (fun i _ _ => h - i) ?_ 1 hp hv ⟨⟨by omega, by omega⟩, E, fun j k q1 q2 q3 => absurd q1 (by omega)⟩
  intro n i e v hI hw
  obtain ⟨h1, h2, h3⟩ := hI
  refine pk_le h i (fun g => H e v h2 (fun j k q1 q2 => ?_)) (fun g => ?_)
  · have t1 := h3 j k q1 q2 (by omega)
    have t2 := h2.2.1 j k q1 q2
    omega
  · refine ⟨pk_in i 40 (by omega), nm_r (gf_rd rfl (by omega)) ⟨pk_in i 40 (by omega), nm_r (gf_rd rfl (by omega)) ?_⟩⟩
    exact gf_so27 (by omega) hh hb h2 rfl (fun j k q1 q2 => h3 j k q1 (by omega) q2) (fun hp' hv' E' hs' => hw (i + 1) hp' hv' ⟨⟨by omega, by omega⟩, E', fun j k q1 q2 q3 => hs' j k q1 q3⟩ (by omega))
end
section
/-- a proposition as 1 or 0 -/
noncomputable def gf_b (P : Prop) : Nat := @ite Nat P (Classical.propDecidable P) 1 0
theorem gf_b1 {P : Prop} (h : P) : gf_b P = 1 := if_pos h
theorem gf_b0 {P : Prop} (h : ¬ P) : gf_b P = 0 := if_neg h
/-- 1 where no other point is above and right of p -/
noncomputable def gf_fw (m : Nat → Nat) (p : Nat) : Nat := gf_b (∀ q, m q ≠ 0 → q ≠ p → ¬ (p / 32 ≤ q / 32 ∧ p % 32 ≤ q % 32))
noncomputable def gf_fs (m : Nat → Nat) : Nat := gf_sm (fun p => if m p = 0 then 0 else gf_fw m p) 1024
theorem gf_fr23 {post : Int32 → St2 → Prop} {f0 f1 f2 f3 : Int32} {a1 a2 a3 a4 a5 a6 a7 a8 a9 a10 a12 a13 : Nat → Int32} {h : Nat} {hp m : Nat → Nat} (hh : h ≤ 40) (hb : ∀ p, m p ≠ 0 → p < 1024) (E : gf_E h hp (fun p => m p ≠ 0)) (hs : ∀ j k, j < k → k < h → hp j < hp k)
    (H : post (nI (gf_sm (fun j => gf_fw m (hp j)) h)) (f0, f1, f2, f3, nI h, a1, a2, a3, a4, a5, a6, a7, a8, a9, a10, gf_n hp, a12, a13)) :
    ∃ fu, wX_frontier_23 post f0 f1 f2 f3 (nI h) a1 a2 a3 a4 a5 a6 a7 a8 a9 a10 (gf_n hp) a12 a13 fu 0 (-1) (gf_p h) := by
  have bd : ∀ k, k < h → hp k < 1024 := fun k hk => hb _ (E.1 k hk)
  rw [← gf_p0]
  refine lp3 (fun n s t k => wX_frontier_23 post f0 f1 f2 f3 (nI h) a1 a2 a3 a4 a5 a6 a7 a8 a9 a10 (gf_n hp) a12 a13 n (nI s) (gf_p t) (gf_p k)) (fun s t k => k ≤ h ∧ t ≤ 32 ∧ s + gf_sm (fun j => gf_fw m (hp j)) k = gf_sm (fun j => gf_fw m (hp j)) h ∧ (∀ j, k ≤ j → j < h → hp j % 32 < t) ∧ (t = 0 ∨ ∃ j, k ≤ j ∧ j < h ∧ hp j % 32 + 1 = t)) (fun _ _ k => k) ?_ 0 0 h ⟨by omega, by omega, by omega, fun j q1 q2 => absurd q1 (by omega), Or.inl rfl⟩
  intro n s t k hI hw
  obtain ⟨h1, h2, h3, h4, h5⟩ := hI
  refine gf_iff (gf_plt (by omega)) (fun g => ?_) (fun g => ?_)
  · subst g
    have h3' : s = gf_sm (fun j => gf_fw m (hp j)) h := h3
    rw [h3']
    exact H
  · obtain ⟨k', ek⟩ : ∃ k', k = k' + 1 := ⟨k - 1, by omega⟩
    subst ek
    have bk := bd k' (by omega)
    have er : gf_n hp (gf_p (k' + 1)).toNatClampNeg = nI (hp k') := gf_rd (gf_ps k') (by omega)
    have eu : gf_n hp (gf_p (k' + 1)).toNatClampNeg &&& 31 = nI (hp k' % 32) := by
      rw [er]
      exact gf_a31 (by omega)
    have em : gf_p (k' + 1) + (-1) = gf_p k' := gf_pm (by omega)
    have h3' : s + (gf_sm (fun j => gf_fw m (hp j)) k' + gf_fw m (hp k')) = gf_sm (fun j => gf_fw m (hp j)) h := h3
    refine ⟨pk_in k' 40 (by omega) (gf_ps k'), gf_iff (d := hp k' % 32 < t) (by rw [eu]; exact gf_ple (by omega) (by omega)) (fun g2 => ?_) (fun g2 => ?_)⟩
    · have z : gf_fw m (hp k') = 0 := by
        rcases h5 with h5 | ⟨j, j1, j2, j3⟩
        · omega
        · refine gf_b0 (fun al => ?_)
          have hj := hs k' j (by omega) j2
          exact al (hp j) (E.1 j j2) (by omega) (by omega)
      refine nm_r em (hw s t k' ⟨by omega, h2, by omega, fun j q1 q2 => ?_, ?_⟩ (by omega))
      · by_cases w : j = k'
        · rw [w]
          exact g2
        · exact h4 j (by omega) q2
      · rcases h5 with h5 | ⟨j, j1, j2, j3⟩
        · exact Or.inl h5
        · exact Or.inr ⟨j, by omega, j2, j3⟩
    · have z : gf_fw m (hp k') = 1 := by
        refine gf_b1 (fun q q2 q3 q4 => ?_)
        obtain ⟨j, j1, j2⟩ := E.2.2 q q2
        rw [← j2] at q3 q4
        rcases Nat.lt_trichotomy j k' with w | w | w
        · have := hs j k' w (by omega)
          omega
        · rw [w] at q3
          exact q3 rfl
        · have := h4 j (by omega) j1
          omega
      refine ⟨pk_in k' 40 (by omega) (gf_ps k'), nm_r (eu.trans (gf_ps _).symm) (nm_r (nI_1 s) (nm_r em (hw (s + 1) (hp k' % 32 + 1) k' ⟨by omega, by omega, by omega, fun j q1 q2 => ?_, Or.inr ⟨k', by omega, by omega, rfl⟩⟩ (by omega))))⟩
      by_cases w : j = k'
      · rw [w]
        omega
      · have := h4 j (by omega) q2
        omega
theorem gf_frontier {post : Int32 → St2 → Prop} {f3 f4 : Int32} {K C R B : Nat} {cx cy dr lf rt lo hi sz pl vl m hp hv sn : Nat → Nat} (G : gf_G K C R B cx cy dr lf rt lo hi) (S : gf_S B lf rt lo hi sz pl vl m) (hK : K ≤ 32) (hn : gf_cnt m < 40)
    (H : ∀ h' hp' hv' sn', post (nI (gf_fs m)) (nI C, nI R, nI B, f3, nI h', gf_n cx, gf_n cy, gf_n dr, gf_n sz, gf_n lf, gf_n rt, gf_n lo, gf_n hi, gf_n pl, gf_n vl, gf_n hp', gf_n hv', gf_n sn')) :
    wpX_frontier post (nI C, nI R, nI B, f3, f4, gf_n cx, gf_n cy, gf_n dr, gf_n sz, gf_n lf, gf_n rt, gf_n lo, gf_n hi, gf_n pl, gf_n vl, gf_n hp, gf_n hv, gf_n sn) := by
  unfold wpX_frontier
  dsimp only
  refine gf_collect (L := 0) (U := 1023) G S hK hn (by omega) (by omega) (by omega) (by omega) (fun h' hp' hv' sn' E hvv => ?_)
  dsimp only
  have hh := gf_Eb (m := m) E (fun p q => ⟨q.1, S.1 p q.1⟩)
  have E1 : gf_E h' hp' (fun p => m p ≠ 0) := gf_Ei E (fun p => ⟨fun q => q.1, fun q => ⟨q, by
    have := S.1 p q
    exact ⟨by omega, by omega, by omega, by omega⟩⟩⟩)
  refine gf_sort (by omega) S.1 E1 (fun hp2 hv2 E2 hs2 => ?_)
  dsimp only
  refine nm_r (e' := gf_p h') rfl ?_
  refine gf_fr23 (by omega) S.1 E2 hs2 ?_
  have t := H h' hp2 hv2 sn'
  have e : gf_sm (fun j => gf_fw m (hp2 j)) h' = gf_fs m := by
    unfold gf_fs
    rw [← gf_Es E2 S.1 (g := fun p => if m p = 0 then 0 else gf_fw m p) (fun p _ q => ?_)]
    · refine gf_sm_ext (fun k hk => ?_)
      rw [if_neg (E2.1 k hk)]
    · by_cases z : m p = 0
      · rw [if_pos z] at q
        exact absurd rfl q
      · exact z
  rw [e]
  exact t
end
section
/-- the distance of place p from (x, y), squared -/
def gf_d (x y p : Nat) : Nat := gf_q (p / 32) x + gf_q (p % 32) y
theorem gf_d_le {x y p : Nat} (hx : x < 32) (hy : y < 32) (hp : p < 1024) : gf_d x y p ≤ 1922 := by
  have h1 := gf_q_le (x := p / 32) (u := x) (by omega) hx
  have h2 := gf_q_le (x := p % 32) (u := y) (by omega) hy
  unfold gf_d
  omega
theorem gf_dist {post : Int32 → Prop} {x y p : Nat} (hp : p < 1024) (H : post (nI (gf_d x y p))) : wpX_distance post () (nI p) (nI x) (nI y) := by
  unfold wpX_distance
  intro x3 e3 x4 e4
  subst e3
  subst e4
  rw [gf_s5 (by omega), gf_a31 (by omega), gf_sq, gf_sq, nI_add]
  exact H
def gf_g1 (l r x : Nat) : Nat := if r < x then x - r else if x < l then l - x else 0
/-- the least distance of bucket b's rectangle from (x, y), squared -/
def gf_gd (lf rt lo hi : Nat → Nat) (b x y : Nat) : Nat := gf_g1 (lf b) (rt b) x * gf_g1 (lf b) (rt b) x + gf_g1 (lo b) (hi b) y * gf_g1 (lo b) (hi b) y
theorem gf_g1_le {l r a x : Nat} (h1 : l ≤ a) (h2 : a ≤ r) : gf_g1 l r x * gf_g1 l r x ≤ gf_q a x := by
  unfold gf_g1 gf_q
  split
  · have := Nat.mul_le_mul (show x - r ≤ x - a by omega) (show x - r ≤ x - a by omega)
    omega
  · split
    · have := Nat.mul_le_mul (show l - x ≤ a - x by omega) (show l - x ≤ a - x by omega)
      omega
    · omega
theorem gf_gd_le {lf rt lo hi : Nat → Nat} {b x y p : Nat} (h : gf_in lf rt lo hi b (p / 32) (p % 32)) : gf_gd lf rt lo hi b x y ≤ gf_d x y p := by
  have h1 := gf_g1_le (x := x) h.1 h.2.1
  have h2 := gf_g1_le (x := y) h.2.2.1 h.2.2.2
  unfold gf_gd gf_d
  omega
theorem gf_g1_31 {l r x : Nat} (hl : l ≤ 31) (hx : x < 32) : gf_g1 l r x * gf_g1 l r x ≤ 961 := by
  have h : gf_g1 l r x ≤ 31 := by
    unfold gf_g1
    split
    · omega
    · split
      · omega
      · omega
  exact Nat.mul_le_mul h h
theorem gf_gd_31 {lf rt lo hi : Nat → Nat} {b x y : Nat} (h1 : lf b ≤ 31) (h2 : lo b ≤ 31) (hx : x < 32) (hy : y < 32) : gf_gd lf rt lo hi b x y ≤ 1922 := by
  have t1 := gf_g1_31 (r := rt b) h1 hx
  have t2 := gf_g1_31 (r := hi b) h2 hy
  unfold gf_gd
  omega
theorem gf_gap71 {post : Int32 → Prop} {f0 f1 f2 f3 f4 : Int32} {a1 a2 a3 a4 a5 a6 a7 a9 a10 a11 a12 a13 : Nat → Int32} {b y u w l : Nat} {hi : Nat → Nat} (hb : b < 64) (hh : hi b ≤ 31) (hy : y < 32) (hw : w = if y < l then l - y else 0) (H : post (nI (u * u + gf_g1 l (hi b) y * gf_g1 l (hi b) y))) : wX_gap_71 post (nI b) (nI y) (nI u) (nI w) f0 f1 f2 f3 f4 a1 a2 a3 a4 a5 a6 a7 (gf_n hi) a9 a10 a11 a12 a13 := by
  unfold gf_g1 at H
  refine ⟨pk_in b 64 hb, pk_le y (hi b) (fun g => ?_) (fun g => ?_) rfl (gf_rd rfl (by omega)) (by omega) (by omega)⟩
  · rw [if_neg (show ¬ hi b < y by omega), ← hw, ← nI_add, ← pk_mul, ← pk_mul] at H
    exact H
  · rw [if_pos g, ← nI_add, ← pk_mul, ← pk_mul] at H
    refine ⟨pk_in b 64 hb, ?_⟩
    rw [gf_rd rfl (by omega), pk_sub (by omega)]
    exact H
theorem gf_gap47 {post : Int32 → Prop} {f0 f1 f2 f3 f4 : Int32} {a1 a2 a3 a4 a5 a6 a9 a10 a11 a12 a13 : Nat → Int32} {b y u : Nat} {lo hi : Nat → Nat} (hb : b < 64) (hl : lo b ≤ 31) (hh : hi b ≤ 31) (hy : y < 32) (H : post (nI (u * u + gf_g1 (lo b) (hi b) y * gf_g1 (lo b) (hi b) y))) : wX_gap_47 post (nI b) (nI y) (nI u) f0 f1 f2 f3 f4 a1 a2 a3 a4 a5 a6 (gf_n lo) (gf_n hi) a9 a10 a11 a12 a13 := by
  refine ⟨pk_in b 64 hb, pk_le (lo b) y (fun g => ?_) (fun g => ?_) (gf_rd rfl (by omega)) rfl (by omega) (by omega)⟩
  · exact gf_gap71 (w := 0) hb hh hy (if_neg (show ¬ y < lo b by omega)).symm H
  · refine ⟨pk_in b 64 hb, ?_⟩
    rw [gf_rd rfl (by omega), pk_sub (by omega)]
    exact gf_gap71 hb hh hy (if_pos g).symm H
theorem gf_gap {post : Int32 → Prop} {f0 f1 f2 f3 f4 : Int32} {a1 a2 a3 a4 a9 a10 a11 a12 a13 : Nat → Int32} {b x y : Nat} {lf rt lo hi : Nat → Nat} (hb : b < 64) (bd : lf b ≤ 31 ∧ rt b ≤ 31 ∧ lo b ≤ 31 ∧ hi b ≤ 31) (hx : x < 32) (hy : y < 32) (H : post (nI (gf_gd lf rt lo hi b x y))) : wpX_gap post (f0, f1, f2, f3, f4, a1, a2, a3, a4, gf_n lf, gf_n rt, gf_n lo, gf_n hi, a9, a10, a11, a12, a13) (nI b) (nI x) (nI y) := by
  obtain ⟨b1, b2, b3, b4⟩ := bd
  unfold gf_gd at H
  have g22 : ∀ w, (w = if x < lf b then lf b - x else 0) → wX_gap_22 post (nI b) (nI x) (nI y) (nI w) f0 f1 f2 f3 f4 a1 a2 a3 a4 (gf_n lf) (gf_n rt) (gf_n lo) (gf_n hi) a9 a10 a11 a12 a13 := by
    intro w hw
    refine ⟨pk_in b 64 hb, pk_le x (rt b) (fun g => ?_) (fun g => ?_) rfl (gf_rd rfl (by omega)) (by omega) (by omega)⟩
    · have e : gf_g1 (lf b) (rt b) x = w := by
        unfold gf_g1
        rw [if_neg (show ¬ rt b < x by omega)]
        exact hw.symm
      rw [e] at H
      exact gf_gap47 hb b3 b4 hy H
    · have e : gf_g1 (lf b) (rt b) x = x - rt b := if_pos g
      rw [e] at H
      refine ⟨pk_in b 64 hb, ?_⟩
      rw [gf_rd rfl (by omega), pk_sub (by omega)]
      exact gf_gap47 hb b3 b4 hy H
  unfold wpX_gap
  dsimp only
  refine ⟨pk_in b 64 hb, pk_le (lf b) x (fun g => ?_) (fun g => ?_) (gf_rd rfl (by omega)) rfl (by omega) (by omega)⟩
  · exact g22 0 (if_neg (show ¬ x < lf b by omega)).symm
  · refine ⟨pk_in b 64 hb, ?_⟩
    rw [gf_rd rfl (by omega), pk_sub (by omega)]
    exact g22 _ (if_pos g).symm
/-- a sum over all buckets is a sum over all points -/
theorem gf_allsum {K C R B : Nat} {cx cy dr lf rt lo hi sz pl vl m : Nat → Nat} (G : gf_G K C R B cx cy dr lf rt lo hi) (S : gf_S B lf rt lo hi sz pl vl m) (f : Nat → Nat) : gf_sm (fun b => gf_sm (fun k => f (pl (4 * b + k))) (sz b)) B = gf_sm (fun p => if m p = 0 then 0 else f p) 1024 := by
  have h1 : ∀ b, b < B → gf_sm (fun k => f (pl (4 * b + k))) (sz b) = gf_sm (fun p => if m p = 0 then 0 else if lf b ≤ p / 32 ∧ p / 32 ≤ rt b ∧ lo b ≤ p % 32 ∧ p % 32 ≤ hi b then f p else 0) 1024 := by
    intro b hb
    have E := (S.2 b hb).2.1
    rw [← gf_Es E (fun p q => S.1 p q.1) (g := fun p => if m p = 0 then 0 else if lf b ≤ p / 32 ∧ p / 32 ≤ rt b ∧ lo b ≤ p % 32 ∧ p % 32 ≤ hi b then f p else 0) (fun p _ q => ?_)]
    · refine gf_sm_ext (fun k hk => ?_)
      have t := E.1 k hk
      rw [if_neg t.1]
      exact (if_pos t.2).symm
    · by_cases z : m p = 0
      · rw [if_pos z] at q
        exact absurd rfl q
      · rw [if_neg z] at q
        by_cases w : lf b ≤ p / 32 ∧ p / 32 ≤ rt b ∧ lo b ≤ p % 32 ∧ p % 32 ≤ hi b
        · exact ⟨z, w⟩
        · rw [if_neg w] at q
          exact absurd rfl q
  rw [gf_sm_ext h1, gf_sm_swap (fun b p => if m p = 0 then 0 else if lf b ≤ p / 32 ∧ p / 32 ≤ rt b ∧ lo b ≤ p % 32 ∧ p % 32 ≤ hi b then f p else 0)]
  refine gf_sm_ext (fun p hp => ?_)
  by_cases z : m p = 0
  · rw [if_pos z]
    exact gf_sm_zero (fun b _ => if_pos z)
  · rw [if_neg z]
    obtain ⟨b0, hb0, hin⟩ := gf_cov G (show p / 32 < 32 by omega) (show p % 32 < 32 by omega)
    rw [gf_sm_rm hb0, gf_sm_zero]
    · show 0 + (if m p = 0 then 0 else if lf b0 ≤ p / 32 ∧ p / 32 ≤ rt b0 ∧ lo b0 ≤ p % 32 ∧ p % 32 ≤ hi b0 then f p else 0) = f p
      rw [if_neg z, Nat.zero_add]
      exact if_pos hin
    · intro b hb
      by_cases w : b = b0
      · rw [w, gf_us]
      · rw [gf_un w, if_neg z]
        exact if_neg (fun h => w (gf_dis G hb hb0 h hin))
theorem gf_wi43 {post : Int32 → Prop} {J : Int32 → Int32 → Prop} {f0 f1 f2 f3 f4 : Int32} {a1 a2 a3 a5 a6 a7 a8 a10 a11 a12 a13 : Nat → Int32} {x y reach b s : Nat} {sz pl : Nat → Nat} (hb : b < 32) (hs : sz b ≤ 4) (hx : x < 32) (hy : y < 32) (hr : reach < 512) (hp : ∀ k, k < sz b → pl (4 * b + k) < 1024)
    (H : J (nI (s + gf_sm (fun k => if gf_d x y (pl (4 * b + k)) ≤ reach then 1 else 0) (sz b))) (nI (b + 1))) :
    ∃ fu, wX_within_43 post J (nI x) (nI y) (nI reach) (nI b) f0 f1 f2 f3 f4 a1 a2 a3 (gf_n sz) a5 a6 a7 a8 (gf_n pl) a10 a11 a12 a13 fu (nI s) (nI (4 * b)) := by
  refine lp2 (fun n t k => wX_within_43 post J (nI x) (nI y) (nI reach) (nI b) f0 f1 f2 f3 f4 a1 a2 a3 (gf_n sz) a5 a6 a7 a8 (gf_n pl) a10 a11 a12 a13 n (nI t) (nI (4 * b + k))) (fun t k => k ≤ sz b ∧ t = s + gf_sm (fun k => if gf_d x y (pl (4 * b + k)) ≤ reach then 1 else 0) k) (fun _ k => sz b - k) ?_ s 0 ⟨by omega, rfl⟩
  intro n t k hI hw
  obtain ⟨h1, h2⟩ := hI
  have hxx : 4 * nI b + gf_n sz (nI b).toNatClampNeg = nI (4 * b + sz b) := by
    rw [gf_rd rfl (by omega), gf_m4a]
  refine ⟨pk_in b 64 (by omega), pk_le (4 * b + sz b) (4 * b + k) (fun g => ?_) (fun g => ?_) hxx rfl (by omega) (by omega)⟩
  · have e : k = sz b := by omega
    subst e
    refine nm_r (nI_1 b) ?_
    rw [h2]
    exact H
  · have hpk := hp k (by omega)
    have dl := gf_d_le hx hy hpk
    refine ⟨pk_in (4 * b + k) 256 (by omega), ?_⟩
    rw [gf_rd rfl (by omega)]
    refine gf_dist hpk (pk_lt reach (gf_d x y (pl (4 * b + k))) (fun g2 => ?_) (fun g2 => ?_))
    · refine nm_r (nI_add t 0) (nm_r (nI_1 _) (hw (t + 0) (k + 1) ⟨by omega, ?_⟩ (by omega)))
      show t + 0 = s + (gf_sm (fun k => if gf_d x y (pl (4 * b + k)) ≤ reach then 1 else 0) k + (if gf_d x y (pl (4 * b + k)) ≤ reach then 1 else 0))
      rw [if_neg (by omega), h2]
      omega
    · refine nm_r (nI_1 t) (nm_r (nI_1 _) (hw (t + 1) (k + 1) ⟨by omega, ?_⟩ (by omega)))
      show t + 1 = s + (gf_sm (fun k => if gf_d x y (pl (4 * b + k)) ≤ reach then 1 else 0) k + (if gf_d x y (pl (4 * b + k)) ≤ reach then 1 else 0))
      rw [if_pos g2, h2]
      omega
theorem gf_within {post : Int32 → Prop} {f3 f4 : Int32} {a11 a12 a13 : Nat → Int32} {K C R B x y reach : Nat} {cx cy dr lf rt lo hi sz pl vl m : Nat → Nat} (G : gf_G K C R B cx cy dr lf rt lo hi) (S : gf_S B lf rt lo hi sz pl vl m) (hK : K ≤ 32) (hx : x < 32) (hy : y < 32) (hr : reach < 512)
    (H : post (nI (gf_sm (fun p => if m p = 0 then 0 else if gf_d x y p ≤ reach then 1 else 0) 1024))) :
    wpX_within post (nI C, nI R, nI B, f3, f4, gf_n cx, gf_n cy, gf_n dr, gf_n sz, gf_n lf, gf_n rt, gf_n lo, gf_n hi, gf_n pl, gf_n vl, a11, a12, a13) (nI x) (nI y) (nI reach) := by
  have hB := G.2.2.2.2.1
  have bd := G.2.2.2.2.2.1
  unfold wpX_within
  dsimp only
  refine gf_isP hx hy (br_f (by decide) ?_)
  refine lp2 (fun n t b => wX_within_16 post (nI x) (nI y) (nI reach) (nI C) (nI R) (nI B) f3 f4 (gf_n cx) (gf_n cy) (gf_n dr) (gf_n sz) (gf_n lf) (gf_n rt) (gf_n lo) (gf_n hi) (gf_n pl) (gf_n vl) a11 a12 a13 n (nI t) (nI b)) (fun t b => b ≤ B ∧ t = gf_sm (fun b => gf_sm (fun k => if gf_d x y (pl (4 * b + k)) ≤ reach then 1 else 0) (sz b)) b) (fun _ b => B - b) ?_ 0 0 ⟨by omega, rfl⟩
  intro n t b hI hw
  obtain ⟨h1, h2⟩ := hI
  refine pk_le B b (fun g => ?_) (fun g => ?_)
  · have e : b = B := by omega
    subst e
    rw [← gf_allsum G S (fun p => if gf_d x y p ≤ reach then 1 else 0), ← h2] at H
    exact H
  · have bdb := bd b g
    have gl := gf_gd_31 (rt := rt) (hi := hi) bdb.1 bdb.2.2.1 hx hy
    obtain ⟨s3, s4, s5⟩ := S.2 b g
    refine gf_gap (by omega) bdb hx hy (pk_lt reach (gf_gd lf rt lo hi b x y) (fun g2 => ?_) (fun g2 => ?_))
    · refine nm_r (nI_1 b) (hw t (b + 1) ⟨by omega, ?_⟩ (by omega))
      show t = gf_sm (fun b => gf_sm (fun k => if gf_d x y (pl (4 * b + k)) ≤ reach then 1 else 0) (sz b)) b + gf_sm (fun k => if gf_d x y (pl (4 * b + k)) ≤ reach then 1 else 0) (sz b)
      rw [gf_sm_zero (f := fun k => if gf_d x y (pl (4 * b + k)) ≤ reach then 1 else 0) (fun k hk => ?_), ← h2]
      · rfl
      · have q : gf_gd lf rt lo hi b x y ≤ gf_d x y (pl (4 * b + k)) := gf_gd_le (s4.1 k hk).2
        exact if_neg (by omega)
    · refine nm_r (gf_m4 b) (gf_wi43 (by omega) s3 hx hy hr (fun k hk => S.1 _ (s4.1 k hk).1) (hw _ (b + 1) ⟨by omega, ?_⟩ (by omega)))
      rw [h2]
      rfl
end
section
theorem gf_peq {t : Nat} (ht : t < 2 ^ 30) : gf_p t = -1 ↔ t = 0 := by
  constructor
  · intro h
    have h2 := gf_p_toInt ht
    rw [h] at h2
    have h3 : (-1 : Int32).toInt = -1 := by decide
    rw [h3] at h2
    omega
  · intro h
    rw [h]
    exact gf_p0
theorem gf_nb {post : Int32 → Prop} {f0 f1 f3 f4 : Int32} {a1 a2 a3 a4 a9 a10 a11 a12 : Nat → Int32} {B x y : Nat} {lf rt lo hi sn : Nat → Nat} (hB : B ≤ 32) (bd : ∀ b, b < B → lf b ≤ 31 ∧ rt b ≤ 31 ∧ lo b ≤ 31 ∧ hi b ≤ 31) (hx : x < 32) (hy : y < 32) (hsn : ∀ b, b < B → sn b ≤ 1)
    (H0 : (∀ b, b < B → sn b ≠ 0) → post (-1)) (H1 : ∀ d, d < B → sn d = 0 → (∀ b, b < B → sn b = 0 → gf_gd lf rt lo hi d x y ≤ gf_gd lf rt lo hi b x y) → post (nI d)) :
    wpX_nextBucket post (f0, f1, nI B, f3, f4, a1, a2, a3, a4, gf_n lf, gf_n rt, gf_n lo, gf_n hi, a9, a10, a11, a12, gf_n sn) (nI x) (nI y) := by
  unfold wpX_nextBucket
  dsimp only
  rw [← gf_p0]
  refine lp2 (fun n t b => wX_nextBucket_5 post (nI x) (nI y) f0 f1 (nI B) f3 f4 a1 a2 a3 a4 (gf_n lf) (gf_n rt) (gf_n lo) (gf_n hi) a9 a10 a11 a12 (gf_n sn) n (gf_p t) (nI b)) (fun t b => b ≤ B ∧ (t = 0 → ∀ j, j < b → sn j ≠ 0) ∧ (∀ d, t = d + 1 → d < B ∧ sn d = 0 ∧ ∀ j, j < b → sn j = 0 → gf_gd lf rt lo hi d x y ≤ gf_gd lf rt lo hi j x y)) (fun _ b => B - b) ?_ 0 0 ⟨by omega, fun _ j hj => absurd hj (by omega), fun d hd => absurd hd (by omega)⟩
  intro n t b hI hw
  obtain ⟨h1, h2, h3⟩ := hI
  refine pk_le B b (fun g => ?_) (fun g => ?_)
  · have e : b = B := by omega
    subst e
    rcases Nat.eq_zero_or_pos t with z | z
    · rw [z, gf_p0]
      exact H0 (h2 z)
    · obtain ⟨d, ed⟩ : ∃ d, t = d + 1 := ⟨t - 1, by omega⟩
      rw [ed, gf_ps]
      obtain ⟨q1, q2, q3⟩ := h3 d ed
      exact H1 d q1 q2 q3
  · have hs := hsn b g
    refine ⟨pk_in b 64 (by omega), pk_eq (sn b) 0 (fun z => ?_) (fun z => ?_) (gf_rd rfl (by omega)) rfl (by omega) (by omega)⟩
    · have tB : t < 2 ^ 30 := by
        rcases Nat.eq_zero_or_pos t with z | z
        · omega
        · have := (h3 (t - 1) (by omega)).1
          omega
      refine gf_iff (gf_peq tB) (fun z0 => ?_) (fun z0 => ?_)
      · refine nm_r (nI_1 b) ?_
        rw [← gf_ps b]
        refine hw (b + 1) (b + 1) ⟨by omega, fun q => absurd q (by omega), fun d hd => ?_⟩ (by omega)
        have ed : d = b := by omega
        subst ed
        refine ⟨g, z, fun j hj hj2 => ?_⟩
        by_cases w : j = d
        · rw [w]
          exact Nat.le_refl _
        · exact absurd hj2 (h2 z0 j (by omega))
      · obtain ⟨d, ed⟩ : ∃ d, t = d + 1 := ⟨t - 1, by omega⟩
        obtain ⟨q1, q2, q3⟩ := h3 d ed
        have bb := bd b g
        have bb2 := bd d q1
        have l1 := gf_gd_31 (rt := rt) (hi := hi) bb.1 bb.2.2.1 hx hy
        have l2 := gf_gd_31 (rt := rt) (hi := hi) bb2.1 bb2.2.2.1 hx hy
        subst ed
        have keep := hw (d + 1) (b + 1)
        rw [gf_ps] at keep ⊢
        refine gf_gap (by omega) bb hx hy (gf_gap (by omega) bb2 hx hy (pk_le _ _ (fun c => nm_r (nI_1 b) ?_) (fun c => nm_r (nI_1 b) ?_) rfl rfl (by omega) (by omega)))
        · refine keep ⟨by omega, fun q => absurd q (by omega), fun d' hd' => ?_⟩ (by omega)
          have ed : d' = d := by omega
          subst ed
          refine ⟨q1, q2, fun j hj hj2 => ?_⟩
          by_cases w : j = b
          · rw [w]
            exact c
          · exact q3 j (by omega) hj2
        · have take := hw (b + 1) (b + 1)
          rw [gf_ps] at take
          refine take ⟨by omega, fun q => absurd q (by omega), fun d' hd' => ?_⟩ (by omega)
          have ed : d' = b := by omega
          subst ed
          refine ⟨g, z, fun j hj hj2 => ?_⟩
          by_cases w : j = d'
          · rw [w]
            exact Nat.le_refl _
          · have := q3 j (by omega) hj2
            omega
    · refine nm_r (nI_1 b) (hw t (b + 1) ⟨by omega, fun q j hj => ?_, fun d hd => ?_⟩ (by omega))
      · by_cases w : j = b
        · rw [w]
          exact z
        · exact h2 q j (by omega)
      · obtain ⟨q1, q2, q3⟩ := h3 d hd
        refine ⟨q1, q2, fun j hj hj2 => ?_⟩
        by_cases w : j = b
        · rw [w] at hj2
          exact absurd hj2 z
        · exact q3 j (by omega) hj2
/-- the best point so far (0: none, q + 1: q), as the ints that hold it -/
def gf_be (t : Nat) : Int32 := if t = 0 then -2 else nI (t - 1)
def gf_lt (x y t : Nat) : Int32 := if t = 0 then 0 else nI (gf_d x y (t - 1))
theorem gf_be0 : gf_be 0 = -2 := rfl
theorem gf_bes (q : Nat) : gf_be (q + 1) = nI q := rfl
theorem gf_lts (x y q : Nat) : gf_lt x y (q + 1) = nI (gf_d x y q) := rfl
theorem gf_be_lt {t : Nat} (ht : t ≤ 1024) : gf_be t < 0 ↔ t = 0 := by
  constructor
  · intro h
    by_cases z : t = 0
    · exact z
    · obtain ⟨q, eq⟩ : ∃ q, t = q + 1 := ⟨t - 1, by omega⟩
      rw [eq, gf_bes] at h
      exact absurd h (nI_pos (by omega))
  · intro h
    rw [h]
    decide
/-- t is the nearest point of Q, the lowest of several -/
def gf_bst (x y : Nat) (Q : Nat → Prop) (t : Nat) : Prop := (t = 0 → ∀ p, ¬ Q p) ∧ (∀ q, t = q + 1 → Q q ∧ ∀ p, Q p → gf_d x y q < gf_d x y p ∨ (gf_d x y q = gf_d x y p ∧ q ≤ p))
theorem gf_bst_i {x y t : Nat} {Q Q' : Nat → Prop} (h : gf_bst x y Q t) (hi : ∀ p, Q p ↔ Q' p) : gf_bst x y Q' t := ⟨fun e p hp => h.1 e p ((hi p).mpr hp), fun q e => ⟨(hi q).mp (h.2 q e).1, fun p hp => (h.2 q e).2 p ((hi p).mpr hp)⟩⟩
theorem gf_bst_t {x y t p : Nat} {Q : Nat → Prop} (h : gf_bst x y Q t) (hq : ∀ q, t = q + 1 → gf_d x y p < gf_d x y q ∨ (gf_d x y p = gf_d x y q ∧ p ≤ q)) : gf_bst x y (fun r => Q r ∨ r = p) (p + 1) := by
  refine ⟨fun e => absurd e (by omega), fun q e => ?_⟩
  have eq : q = p := by omega
  subst eq
  refine ⟨Or.inr rfl, fun r hr => ?_⟩
  rcases hr with hr | hr
  · rcases Nat.eq_zero_or_pos t with z | z
    · exact absurd hr (h.1 z r)
    · obtain ⟨s, es⟩ : ∃ s, t = s + 1 := ⟨t - 1, by omega⟩
      have h1 := (h.2 s es).2 r hr
      have h2 := hq s es
      omega
  · rw [hr]
    omega
theorem gf_bst_k {x y p q : Nat} {Q : Nat → Prop} (h : gf_bst x y Q (q + 1)) (hq : gf_d x y q < gf_d x y p ∨ (gf_d x y q = gf_d x y p ∧ q ≤ p)) : gf_bst x y (fun r => Q r ∨ r = p) (q + 1) := by
  refine ⟨fun e => absurd e (by omega), fun q' e => ?_⟩
  have eq : q' = q := by omega
  subst eq
  have h1 := h.2 q' rfl
  refine ⟨Or.inl h1.1, fun r hr => ?_⟩
  rcases hr with hr | hr
  · exact h1.2 r hr
  · rw [hr]
    exact hq
theorem gf_ne112 {post : Int32 → St2 → Prop} {J : Int32 → Int32 → Int32 → (Nat → Int32) → (Nat → Int32) → (Nat → Int32) → (Nat → Int32) → (Nat → Int32) → (Nat → Int32) → (Nat → Int32) → (Nat → Int32) → (Nat → Int32) → (Nat → Int32) → (Nat → Int32) → (Nat → Int32) → (Nat → Int32) → Prop} {f0 f1 f2 f3 f4 : Int32} {a1 a2 a3 a5 a6 a7 a8 a10 a11 a12 a13 : Nat → Int32} {x y turn b t : Nat} {sz pl : Nat → Nat} {Q : Nat → Prop} (hb : b < 32) (hs : sz b ≤ 4) (hx : x < 32) (hy : y < 32) (hp : ∀ k, k < sz b → pl (4 * b + k) < 1024) (hQ : ∀ p, Q p → p < 1024) (I0 : gf_bst x y Q t)
    (H : ∀ t', gf_bst x y (fun p => Q p ∨ ∃ j, j < sz b ∧ pl (4 * b + j) = p) t' → J (gf_be t') (gf_lt x y t') (nI (turn + 1)) a1 a2 a3 (gf_n sz) a5 a6 a7 a8 (gf_n pl) a10 a11 a12 a13) :
    ∃ fu, wX_nearest_112 post J (nI x) (nI y) (nI turn) (nI b) f0 f1 f2 f3 f4 a1 a2 a3 (gf_n sz) a5 a6 a7 a8 (gf_n pl) a10 a11 a12 a13 fu (gf_be t) (gf_lt x y t) (nI (4 * b)) := by
  refine lp2 (fun n t k => wX_nearest_112 post J (nI x) (nI y) (nI turn) (nI b) f0 f1 f2 f3 f4 a1 a2 a3 (gf_n sz) a5 a6 a7 a8 (gf_n pl) a10 a11 a12 a13 n (gf_be t) (gf_lt x y t) (nI (4 * b + k))) (fun t k => k ≤ sz b ∧ gf_bst x y (fun p => Q p ∨ ∃ j, j < k ∧ pl (4 * b + j) = p) t) (fun _ k => sz b - k) ?_ t 0 ⟨by omega, gf_bst_i I0 (fun p => ⟨fun q => Or.inl q, fun q => q.elim (fun q => q) (fun q => by obtain ⟨j, j1, _⟩ := q; omega)⟩)⟩
  intro n t k hI hw
  obtain ⟨h1, h2⟩ := hI
  have hxx : 4 * nI b + gf_n sz (nI b).toNatClampNeg = nI (4 * b + sz b) := by
    rw [gf_rd rfl (by omega), gf_m4a]
  refine ⟨pk_in b 64 (by omega), pk_le (4 * b + sz b) (4 * b + k) (fun g => ?_) (fun g => ?_) hxx rfl (by omega) (by omega)⟩
  · have e : k = sz b := by omega
    subst e
    exact nm_r (nI_1 turn) (H t h2)
  · have hpk := hp k (by omega)
    have dl := gf_d_le hx hy hpk
    have er : gf_n pl (nI (4 * b + k)).toNatClampNeg = nI (pl (4 * b + k)) := gf_rd rfl (by omega)
    have st : ∀ r, (Q r ∨ ∃ j, j < k + 1 ∧ pl (4 * b + j) = r) ↔ ((Q r ∨ ∃ j, j < k ∧ pl (4 * b + j) = r) ∨ r = pl (4 * b + k)) := by
      intro r
      rw [gf_ex1, or_assoc]
    have take : (∀ q, t = q + 1 → gf_d x y (pl (4 * b + k)) < gf_d x y q ∨ (gf_d x y (pl (4 * b + k)) = gf_d x y q ∧ pl (4 * b + k) ≤ q)) → wX_nearest_172 post J (wX_nearest_112 post J (nI x) (nI y) (nI turn) (nI b) f0 f1 f2 f3 f4 a1 a2 a3 (gf_n sz) a5 a6 a7 a8 (gf_n pl) a10 a11 a12 a13 n) (nI x) (nI y) (nI turn) (nI b) (nI (4 * b + k)) (nI (gf_d x y (pl (4 * b + k)))) f0 f1 f2 f3 f4 a1 a2 a3 (gf_n sz) a5 a6 a7 a8 (gf_n pl) a10 a11 a12 a13 := by
      intro hq
      exact ⟨pk_in (4 * b + k) 256 (by omega), nm_r er (nm_r (nI_1 _) (hw (pl (4 * b + k) + 1) (k + 1) ⟨by omega, gf_bst_i (gf_bst_t h2 hq) (fun r => (st r).symm)⟩ (by omega)))⟩
    have tq : ∀ q, t = q + 1 → q < 1024 := by
      intro q e
      rcases (h2.2 q e).1 with z | ⟨j, j1, j2⟩
      · exact hQ q z
      · rw [← j2]
        exact hp j (by omega)
    have tl : t ≤ 1024 := by
      rcases Nat.eq_zero_or_pos t with z | z
      · omega
      · have := tq (t - 1) (by omega)
        omega
    refine ⟨pk_in (4 * b + k) 256 (by omega), ?_⟩
    rw [er]
    refine gf_dist hpk (gf_iff (gf_be_lt tl) (fun z => take (fun q e => absurd e (by omega))) (fun z => ?_))
    obtain ⟨q, eq⟩ : ∃ q, t = q + 1 := ⟨t - 1, by omega⟩
    subst eq
    have hq := tq q rfl
    have dq := gf_d_le hx hy hq
    have keep : (gf_d x y q < gf_d x y (pl (4 * b + k)) ∨ (gf_d x y q = gf_d x y (pl (4 * b + k)) ∧ q ≤ pl (4 * b + k))) → wX_nearest_112 post J (nI x) (nI y) (nI turn) (nI b) f0 f1 f2 f3 f4 a1 a2 a3 (gf_n sz) a5 a6 a7 a8 (gf_n pl) a10 a11 a12 a13 n (gf_be (q + 1)) (gf_lt x y (q + 1)) (nI (4 * b + k + 1)) :=
      fun hq => hw (q + 1) (k + 1) ⟨by omega, gf_bst_i (gf_bst_k h2 hq) (fun r => (st r).symm)⟩ (by omega)
    refine pk_lt (gf_d x y (pl (4 * b + k))) (gf_d x y q) (fun c => take (fun q' e => ?_)) (fun c => pk_eq (gf_d x y (pl (4 * b + k))) (gf_d x y q) (fun c2 => ⟨pk_in (4 * b + k) 256 (by omega), pk_le q (pl (4 * b + k)) (fun c3 => nm_r (nI_1 _) (keep (Or.inr ⟨c2.symm, c3⟩))) (fun c3 => take (fun q' e => ?_)) rfl rfl (by omega) (by omega)⟩) (fun c2 => nm_r (nI_1 _) (keep (Or.inl (by omega)))) rfl rfl (by omega) (by omega)) rfl rfl (by omega) (by omega)
    · have eq : q' = q := by omega
      rw [eq]
      exact Or.inl c
    · have eq : q' = q := by omega
      rw [eq]
      exact Or.inr ⟨c2, by omega⟩
theorem gf_sm_0i {f : Nat → Nat} {n : Nat} (h : gf_sm f n = 0) : ∀ k, k < n → f k = 0 := by
  induction n with
  | zero =>
    intro k hk
    omega
  | succ n ih =>
    have h' : gf_sm f n + f n = 0 := h
    intro k hk
    by_cases e : k = n
    · rw [e]
      omega
    · exact ih (by omega) k (by omega)
theorem gf_nearest {post : Int32 → St2 → Prop} {f3 f4 : Int32} {a11 a12 : Nat → Int32} {K C R B x y : Nat} {cx cy dr lf rt lo hi sz pl vl m sn : Nat → Nat} (G : gf_G K C R B cx cy dr lf rt lo hi) (S : gf_S B lf rt lo hi sz pl vl m) (hK : K ≤ 32) (hx : x < 32) (hy : y < 32)
    (H : ∀ t sn', gf_bst x y (fun p => m p ≠ 0) t → post (gf_be t) (nI C, nI R, nI B, f3, f4, gf_n cx, gf_n cy, gf_n dr, gf_n sz, gf_n lf, gf_n rt, gf_n lo, gf_n hi, gf_n pl, gf_n vl, a11, a12, gf_n sn')) :
    wpX_nearest post (nI C, nI R, nI B, f3, f4, gf_n cx, gf_n cy, gf_n dr, gf_n sz, gf_n lf, gf_n rt, gf_n lo, gf_n hi, gf_n pl, gf_n vl, a11, a12, gf_n sn) (nI x) (nI y) := by
  have hB := G.2.2.2.2.1
  have bd := G.2.2.2.2.2.1
  unfold wpX_nearest
  dsimp only
  refine gf_isP hx hy (br_f (by decide) ?_)
  refine lp2 (fun n b sn => wX_nearest_12 post (nI x) (nI y) (nI C) (nI R) (nI B) f3 f4 n (nI b) (gf_n cx) (gf_n cy) (gf_n dr) (gf_n sz) (gf_n lf) (gf_n rt) (gf_n lo) (gf_n hi) (gf_n pl) (gf_n vl) a11 a12 (gf_n sn)) (fun b sn => b ≤ B ∧ ∀ j, j < b → sn j ≤ 1 ∧ (sn j ≠ 0 → sz j = 0)) (fun b _ => B - b) ?_ 0 sn ⟨by omega, fun j hj => absurd hj (by omega)⟩
  intro n b sn hI hw
  obtain ⟨h1, h2⟩ := hI
  refine pk_le B b (fun g => ?_) (fun g => ?_)
  rotate_left
  · have s3 := (S.2 b g).1
    refine ⟨pk_in b 64 (by omega), pk_eq (sz b) 0 (fun z => ?_) (fun z => ?_) (gf_rd rfl (by omega)) rfl (by omega) (by omega)⟩
    · refine ⟨pk_in b 64 (by omega), nm_r (gf_wr (w := 1) rfl rfl (by omega)) (nm_r (nI_1 b) (hw (b + 1) _ ⟨by omega, fun j hj => ?_⟩ (by omega)))⟩
      by_cases w : j = b
      · rw [w, gf_us]
        exact ⟨by omega, fun _ => z⟩
      · rw [gf_un w]
        exact h2 j (by omega)
    · refine ⟨pk_in b 64 (by omega), nm_r (gf_wr (w := 0) rfl rfl (by omega)) (nm_r (nI_1 b) (hw (b + 1) _ ⟨by omega, fun j hj => ?_⟩ (by omega)))⟩
      by_cases w : j = b
      · rw [w, gf_us]
        exact ⟨by omega, fun q => absurd rfl q⟩
      · rw [gf_un w]
        exact h2 j (by omega)
  · have e : b = B := by omega
    subst e
    refine lp3 (fun n t turn sn => wX_nearest_55 post (nI x) (nI y) (nI C) (nI R) (nI b) f3 f4 n (gf_be t) (gf_lt x y t) (nI turn) (gf_n cx) (gf_n cy) (gf_n dr) (gf_n sz) (gf_n lf) (gf_n rt) (gf_n lo) (gf_n hi) (gf_n pl) (gf_n vl) a11 a12 (gf_n sn)) (fun t turn sn => turn ≤ b ∧ (∀ j, j < b → sn j ≤ 1) ∧ gf_bst x y (fun p => m p ≠ 0 ∧ ∃ j, j < b ∧ sn j ≠ 0 ∧ gf_in lf rt lo hi j (p / 32) (p % 32)) t ∧ gf_sm (fun j => if sn j = 0 then 1 else 0) b ≤ b - turn) (fun _ turn _ => b - turn) ?_ 0 0 sn ⟨by omega, fun j hj => (h2 j hj).1, ⟨fun _ p q => ?_, fun q e => absurd e (by omega)⟩, ?_⟩
    · intro n2 t turn sn2 hI hw2
      obtain ⟨i1, i2, i3, i4⟩ := hI
      have all : (∀ j, j < b → sn2 j ≠ 0) → post (gf_be t) (nI C, nI R, nI b, f3, f4, gf_n cx, gf_n cy, gf_n dr, gf_n sz, gf_n lf, gf_n rt, gf_n lo, gf_n hi, gf_n pl, gf_n vl, a11, a12, gf_n sn2) := by
        intro hall
        refine H t sn2 (gf_bst_i i3 (fun p => ⟨fun q => q.1, fun q => ⟨q, ?_⟩⟩))
        have hp := S.1 p q
        obtain ⟨b0, hb0, hin⟩ := gf_cov G (show p / 32 < 32 by omega) (show p % 32 < 32 by omega)
        exact ⟨b0, hb0, hall b0 hb0, hin⟩
      refine pk_le b turn (fun g2 => all (fun j hj z => ?_)) (fun g2 => ?_)
      · have t0 := gf_sm_0i (show gf_sm (fun j => if sn2 j = 0 then 1 else 0) b = 0 by omega) j hj
        rw [if_pos z] at t0
        omega
      · refine gf_nb (by omega) bd hx hy i2 (fun hall => br_t rfl (all hall)) (fun d hd hz hmin => br_f (fun h => ?_) ?_)
        · have := congrArg Int32.toInt h
          rw [nI_toInt (by omega)] at this
          have h3 : (-1 : Int32).toInt = -1 := by decide
          rw [h3] at this
          omega
        · have bdd := bd d hd
          have gl := gf_gd_31 (rt := rt) (hi := hi) bdd.1 bdd.2.2.1 hx hy
          obtain ⟨s3, s4, s5⟩ := S.2 d hd
          have tq : ∀ q, t = q + 1 → q < 1024 := fun q e => S.1 q (i3.2 q e).1.1
          have tl : t ≤ 1024 := by
            rcases Nat.eq_zero_or_pos t with z | z
            · omega
            · have := tq (t - 1) (by omega)
              omega
          have core : wX_nearest_98 post (wX_nearest_55 post (nI x) (nI y) (nI C) (nI R) (nI b) f3 f4 n2) (nI x) (nI y) (gf_be t) (gf_lt x y t) (nI turn) (nI d) (nI C) (nI R) (nI b) f3 f4 (gf_n cx) (gf_n cy) (gf_n dr) (gf_n sz) (gf_n lf) (gf_n rt) (gf_n lo) (gf_n hi) (gf_n pl) (gf_n vl) a11 a12 (gf_n sn2) := by
            refine ⟨pk_in d 64 (by omega), nm_r (gf_wr (w := 1) rfl rfl (by omega)) (nm_r (gf_m4 d) ?_)⟩
            refine gf_ne112 (by omega) s3 hx hy (fun k hk => S.1 _ (s4.1 k hk).1) (fun p q => S.1 p q.1) i3 (fun t' I' => hw2 t' (turn + 1) (gf_u sn2 d 1) ⟨by omega, fun j hj => ?_, gf_bst_i I' (fun p => ?_), ?_⟩ (by omega))
            · by_cases w : j = d
              · rw [w, gf_us]
                omega
              · rw [gf_un w]
                exact i2 j hj
            · constructor
              · intro q
                rcases q with ⟨q1, j, j1, j2, j3⟩ | ⟨j, j1, j2⟩
                · refine ⟨q1, j, j1, ?_, j3⟩
                  by_cases w : j = d
                  · rw [w, gf_us]
                    exact Nat.one_ne_zero
                  · rw [gf_un w]
                    exact j2
                · have t := s4.1 j j1
                  rw [← j2]
                  exact ⟨t.1, d, hd, by rw [gf_us]; exact Nat.one_ne_zero, t.2⟩
              · intro ⟨q1, j, j1, j2, j3⟩
                by_cases w : j = d
                · rw [w] at j3
                  exact Or.inr (s4.2.2 p ⟨q1, j3⟩)
                · rw [gf_un w] at j2
                  exact Or.inl ⟨q1, j, j1, j2, j3⟩
            · have u := gf_sm_up (g := fun j => if sn2 j = 0 then 1 else 0) (g' := fun j => if gf_u sn2 d 1 j = 0 then 1 else 0) hd (fun q hq => by
                show (if gf_u sn2 d 1 q = 0 then 1 else 0) = if sn2 q = 0 then 1 else 0
                rw [gf_un hq])
              rw [if_pos hz, show (if gf_u sn2 d 1 d = 0 then 1 else 0) = (0 : Nat) by rw [gf_us]; rfl] at u
              omega
          refine gf_iff (gf_be_lt tl) (fun z => core) (fun z => ?_)
          obtain ⟨q, eq⟩ : ∃ q, t = q + 1 := ⟨t - 1, by omega⟩
          subst eq
          have dq := gf_d_le hx hy (tq q rfl)
          refine gf_gap (by omega) bdd hx hy (pk_le (gf_gd lf rt lo hi d x y) (gf_d x y q) (fun c => core) (fun c => ?_) rfl rfl (by omega) (by omega))
          refine H (q + 1) sn2 ⟨fun e => absurd e (by omega), fun q' e => ?_⟩
          have eq : q' = q := by omega
          subst eq
          have i5 := i3.2 q' rfl
          refine ⟨i5.1.1, fun p hp => ?_⟩
          have hp1 := S.1 p hp
          obtain ⟨b0, hb0, hin⟩ := gf_cov G (show p / 32 < 32 by omega) (show p % 32 < 32 by omega)
          by_cases w : sn2 b0 = 0
          · have l1 := hmin b0 hb0 w
            have l2 := gf_gd_le (x := x) (y := y) hin
            exact Or.inl (by omega)
          · exact i5.2 p ⟨hp, b0, hb0, w, hin⟩
    · obtain ⟨q1, j, j1, j2, j3⟩ := q
      obtain ⟨k, k1, _⟩ := (S.2 j j1).2.1.2.2 p ⟨q1, j3⟩
      have := (h2 j j1).2 j2
      omega
    · have t1 := gf_sm_le (f := fun j => if sn j = 0 then 1 else 0) (g := fun _ => 1) (n := b) (fun k _ => by
        show (if sn k = 0 then 1 else 0) ≤ 1
        split
        · omega
        · omega)
      rw [gf_sm_one] at t1
      exact t1
end
section
theorem gf_clear {post : Int32 → St2 → Prop} {f4 : Int32} {K C R B L U : Nat} {cx cy dr lf rt lo hi sz pl vl m hp hv sn : Nat → Nat} (G : gf_G K C R B cx cy dr lf rt lo hi) (S : gf_S B lf rt lo hi sz pl vl m) (hK : K ≤ 32) (hn : gf_cnt m < 40) (hL : L < 1024) (hU : U < 1024) (hx : L / 32 ≤ U / 32) (hy : L % 32 ≤ U % 32)
    (H : ∀ h' sz' pl' vl' hp' hv' sn', gf_rs L U m (fun _ => 1) ≤ gf_cnt m → post (nI (gf_rs L U m (fun _ => 1))) (nI C, nI R, nI B, nI (gf_cnt m - gf_rs L U m (fun _ => 1)), nI h', gf_n cx, gf_n cy, gf_n dr, gf_n sz', gf_n lf, gf_n rt, gf_n lo, gf_n hi, gf_n pl', gf_n vl', gf_n hp', gf_n hv', gf_n sn')) :
    wpX_clear post (nI C, nI R, nI B, nI (gf_cnt m), f4, gf_n cx, gf_n cy, gf_n dr, gf_n sz, gf_n lf, gf_n rt, gf_n lo, gf_n hi, gf_n pl, gf_n vl, gf_n hp, gf_n hv, gf_n sn) (nI L) (nI U) := by
  unfold wpX_clear
  dsimp only
  refine gf_isR hL hU hx hy (br_f (by decide) ?_)
  refine gf_collect G S hK hn hL hU hx hy (fun h' hp' hv' sn' E hvv => ?_)
  dsimp only
  have hh := gf_Eb (m := m) E (fun p q => ⟨q.1, S.1 p q.1⟩)
  have e1 := gf_rs_1 E S.1
  rw [← e1] at H
  refine lp5 (fun n k c sz pl vl => wX_clear_18 post n (nI k) (nI C) (nI R) (nI B) (nI c) (nI h') (gf_n cx) (gf_n cy) (gf_n dr) (gf_n sz) (gf_n lf) (gf_n rt) (gf_n lo) (gf_n hi) (gf_n pl) (gf_n vl) (gf_n hp') (gf_n hv') (gf_n sn')) (fun k c sz pl vl => k ≤ h' ∧ c + k = gf_cnt m ∧ ∃ m', gf_S B lf rt lo hi sz pl vl m' ∧ ∀ j, k ≤ j → j < h' → m' (hp' j) ≠ 0) (fun k _ _ _ _ => h' - k) ?_ 0 (gf_cnt m) sz pl vl ⟨by omega, by omega, m, S, fun j _ hj => (E.1 j hj).1⟩
  intro n k c sz pl vl hI hw
  obtain ⟨h1, h2, m', S', h3⟩ := hI
  refine pk_le h' k (fun g => ?_) (fun g => ?_)
  · have e : k = h' := by omega
    subst e
    have t := H k sz pl vl hp' hv' sn' hh
    rw [show gf_cnt m - k = c by omega] at t
    exact t
  · have hm := h3 k (Nat.le_refl _) g
    have hp1 := S'.1 _ hm
    have er : gf_n hp' (nI k).toNatClampNeg = nI (hp' k) := gf_rd rfl (by omega)
    have ep : 32 * (hp' k / 32) + hp' k % 32 = hp' k := by omega
    refine ⟨pk_in k 40 (by omega), pk_in k 40 (by omega), ?_⟩
    rw [er, gf_s5 (by omega), gf_a31 (by omega)]
    refine gf_find G S' hK (by omega) (by omega) (fun z => ?_) (fun b j hb hj hpl _ => ?_)
    · rw [ep] at z
      exact absurd z hm
    · rw [ep] at hpl
      refine gf_drop G S' hK hb hj (by omega) (fun sz2 pl2 vl2 S2 => ?_)
      dsimp only
      rw [hpl] at S2
      refine nm_r (nI_1 k) (hw (k + 1) (c - 1) sz2 pl2 vl2 ⟨by omega, by omega, _, S2, fun i q1 q2 => ?_⟩ (by omega))
      rw [gf_un (fun w => E.2.1 k i (by omega) q2 w.symm)]
      exact h3 i (by omega) q2
end
section
/-- what the index holds after the law's first i puts: the last of them at each place -/
def gf_mp (z : Nat → Nat) : Nat → Nat → Nat
  | 0 => fun _ => 0
  | i + 1 => gf_u (gf_mp z i) (z i) (i + 1)
theorem gf_mp_s (z : Nat → Nat) (i : Nat) : gf_mp z (i + 1) = gf_u (gf_mp z i) (z i) (i + 1) := rfl
theorem gf_mp_iff {z : Nat → Nat} {i p : Nat} : gf_mp z i p ≠ 0 ↔ ∃ j, j < i ∧ z j = p := by
  induction i with
  | zero =>
    constructor
    · intro h
      exact absurd rfl h
    · intro ⟨j, h, _⟩
      omega
  | succ i ih =>
    rw [gf_mp_s]
    by_cases e : p = z i
    · rw [e, gf_us]
      exact ⟨fun _ => ⟨i, by omega, rfl⟩, fun _ => by omega⟩
    · rw [gf_un e, ih]
      constructor
      · intro ⟨j, h1, h2⟩
        exact ⟨j, by omega, h2⟩
      · intro ⟨j, h1, h2⟩
        by_cases w : j = i
        · rw [w] at h2
          exact absurd h2.symm e
        · exact ⟨j, by omega, h2⟩
theorem gf_mp_cnt {z : Nat → Nat} (hz : ∀ i, z i < 1024) (i : Nat) : gf_cnt (gf_mp z i) ≤ i := by
  induction i with
  | zero => exact Nat.le_of_eq (gf_sm_zero (fun _ _ => rfl))
  | succ i ih =>
    rw [gf_mp_s]
    have t := gf_cnt_up (m := gf_mp z i) (v := i + 1) (hz i)
    rw [if_neg (show i + 1 ≠ 0 by omega)] at t
    omega
/-- put i is the last of N at its place -/
def gf_la (z : Nat → Nat) (N i : Nat) : Prop := ∀ j, j < N → i < j → z j ≠ z i
theorem gf_la_sum {z : Nat → Nat} (hz : ∀ i, z i < 1024) : ∀ (N : Nat) (f : Nat → Nat → Nat), gf_sm (fun i => gf_b (gf_la z N i) * f (z i) (i + 1)) N = gf_sm (fun p => if gf_mp z N p = 0 then 0 else f p (gf_mp z N p)) 1024 := by
  intro N
  induction N with
  | zero =>
    intro f
    exact (gf_sm_zero (fun _ _ => rfl)).symm
  | succ N ih =>
    intro f
    show gf_sm (fun i => gf_b (gf_la z (N + 1) i) * f (z i) (i + 1)) N + gf_b (gf_la z (N + 1) N) * f (z N) (N + 1) = _
    have e1 : gf_b (gf_la z (N + 1) N) = 1 := gf_b1 (fun j h1 h2 => absurd h2 (by omega))
    have e2 : gf_sm (fun i => gf_b (gf_la z (N + 1) i) * f (z i) (i + 1)) N = gf_sm (fun i => gf_b (gf_la z N i) * (fun p v => if p = z N then 0 else f p v) (z i) (i + 1)) N := by
      refine gf_sm_ext (fun i hi => ?_)
      show gf_b (gf_la z (N + 1) i) * f (z i) (i + 1) = gf_b (gf_la z N i) * (if z i = z N then 0 else f (z i) (i + 1))
      by_cases w : z i = z N
      · rw [if_pos w, gf_b0 (fun h => h N (by omega) hi w.symm), Nat.zero_mul, Nat.mul_zero]
      · rw [if_neg w]
        have e3 : gf_b (gf_la z (N + 1) i) = gf_b (gf_la z N i) := by
          by_cases l : gf_la z N i
          · rw [gf_b1 l, gf_b1]
            intro j h1 h2
            by_cases w2 : j = N
            · rw [w2]
              exact fun w3 => w w3.symm
            · exact l j (by omega) h2
          · rw [gf_b0 l, gf_b0]
            intro l2
            exact l (fun j h1 h2 => l2 j (by omega) h2)
        rw [e3]
    rw [e1, e2.trans (ih (fun p v => if p = z N then 0 else f p v)), gf_sm_rm (g := fun p => if gf_mp z (N + 1) p = 0 then 0 else f p (gf_mp z (N + 1) p)) (hz N), Nat.one_mul]
    have e4 : (if gf_mp z (N + 1) (z N) = 0 then 0 else f (z N) (gf_mp z (N + 1) (z N))) = f (z N) (N + 1) := by
      rw [gf_mp_s, gf_us, if_neg (show N + 1 ≠ 0 by omega)]
    rw [e4]
    congr 1
    refine gf_sm_ext (fun p _ => ?_)
    by_cases w : p = z N
    · rw [w, gf_us]
      split
      · rfl
      · exact if_pos rfl
    · rw [gf_un w, gf_mp_s, gf_un w]
      by_cases v : gf_mp z N p = 0
      · exact (if_pos v).trans (if_pos v).symm
      · exact (if_neg v).trans ((if_neg w).trans (if_neg v).symm)
theorem gf_la_ex {z : Nat → Nat} {p : Nat} : ∀ N, (∃ j, j < N ∧ z j = p) → ∃ j, j < N ∧ gf_la z N j ∧ z j = p := by
  intro N
  induction N with
  | zero =>
    intro ⟨j, h, _⟩
    omega
  | succ N ih =>
    intro ⟨j, h1, h2⟩
    by_cases w : z N = p
    · exact ⟨N, by omega, fun j' q1 q2 => absurd q2 (by omega), w⟩
    · obtain ⟨j', q1, q2, q3⟩ := ih ⟨j, by
        by_cases e : j = N
        · rw [e] at h2
          exact absurd h2 w
        · omega, h2⟩
      refine ⟨j', by omega, fun k k1 k2 => ?_, q3⟩
      by_cases e : k = N
      · rw [e, q3]
        exact w
      · exact q2 k (by omega) k2
theorem gf_bst_un {x y t t' : Nat} {Q : Nat → Prop} (h : gf_bst x y Q t) (h' : gf_bst x y Q t') : t = t' := by
  rcases Nat.eq_zero_or_pos t with z | z
  · rcases Nat.eq_zero_or_pos t' with w | w
    · omega
    · obtain ⟨q, e⟩ : ∃ q, t' = q + 1 := ⟨t' - 1, by omega⟩
      exact absurd (h'.2 q e).1 (h.1 z q)
  · obtain ⟨q, e⟩ : ∃ q, t = q + 1 := ⟨t - 1, by omega⟩
    rcases Nat.eq_zero_or_pos t' with w | w
    · exact absurd (h.2 q e).1 (h'.1 w q)
    · obtain ⟨q', e'⟩ : ∃ q', t' = q' + 1 := ⟨t' - 1, by omega⟩
      have h1 := h.2 q e
      have h2 := h'.2 q' e'
      have h3 := h1.2 q' h2.1
      have h4 := h2.2 q h1.1
      omega
theorem gf_b_s1 {A : Nat → Prop} {j : Nat} (h : A j) : gf_b (∀ k, k < j + 1 → A k) = gf_b (∀ k, k < j → A k) := by
  by_cases w : ∀ k, k < j → A k
  · rw [gf_b1 w, gf_b1]
    intro k hk
    by_cases e : k = j
    · rw [e]
      exact h
    · exact w k (by omega)
  · rw [gf_b0 w, gf_b0]
    exact fun w2 => w (fun k hk => w2 k (by omega))
theorem gf_b_s0 {A : Nat → Prop} {j : Nat} (h : ¬ A j) : gf_b (∀ k, k < j + 1 → A k) = 0 := gf_b0 (fun w => h (w j (by omega)))
theorem gf_b_le (P : Prop) : gf_b P ≤ 1 := by
  by_cases w : P
  · rw [gf_b1 w]
    omega
  · rw [gf_b0 w]
    omega
theorem gf_place {X Y X' Y' : Nat} (hY : Y < 32) (hY' : Y' < 32) : 32 * X + Y = 32 * X' + Y' ↔ X = X' ∧ Y = Y' := by
  omega
/-- the law's 'free' is the index's -/
theorem gf_free {X Y : Nat → Nat} (hY : ∀ i, Y i < 32) (i : Nat) : gf_b (∀ j, j < 8 → 32 * X j + Y j ≠ 32 * X i + Y i → ¬ (X i ≤ X j ∧ Y i ≤ Y j)) = gf_fw (gf_mp (fun j => 32 * X j + Y j) 8) (32 * X i + Y i) := by
  have e : ∀ j, (32 * X j + Y j) / 32 = X j ∧ (32 * X j + Y j) % 32 = Y j := by
    intro j
    have := hY j
    omega
  have t : (∀ j, j < 8 → 32 * X j + Y j ≠ 32 * X i + Y i → ¬ (X i ≤ X j ∧ Y i ≤ Y j)) ↔ (∀ q, gf_mp (fun j => 32 * X j + Y j) 8 q ≠ 0 → q ≠ 32 * X i + Y i → ¬ ((32 * X i + Y i) / 32 ≤ q / 32 ∧ (32 * X i + Y i) % 32 ≤ q % 32)) := by
    constructor
    · intro h q q1 q2
      obtain ⟨j, j1, j2⟩ := gf_mp_iff.mp q1
      have j2' : 32 * X j + Y j = q := j2
      rw [← j2'] at q2 ⊢
      rw [(e i).1, (e i).2, (e j).1, (e j).2]
      exact h j j1 q2
    · intro h j j1 j2
      have t := h (32 * X j + Y j) (gf_mp_iff.mpr ⟨j, j1, rfl⟩) j2
      rw [(e i).1, (e i).2, (e j).1, (e j).2] at t
      exact t
  unfold gf_fw
  exact congrArg gf_b (propext t)
end
section
/-- the law's 'best' -/
def gf_bs (x y t : Nat) : Int32 := if t = 0 then 5000 else nI (gf_d x y (t - 1))
theorem gf_L485 {post : Int32 → St0 → Prop} {mc ms kc ks : Nat} {J : Int32 → Int32 → Int32 → Int32 → Int32 → Int32 → Int32 → Int32 → Int32 → Int32 → Int32 → Int32 → Int32 → Int32 → (Nat → Int32) → (Nat → Int32) → (Nat → Int32) → (Nat → Int32) → (Nat → Int32) → (Nat → Int32) → (Nat → Int32) → (Nat → Int32) → (Nat → Int32) → (Nat → Int32) → (Nat → Int32) → (Nat → Int32) → (Nat → Int32) → Prop} {f0 f1 f2 f3 f4 : Int32} {a1 a2 a3 a4 a5 a6 a7 a8 a9 a10 a11 a12 a13 : Nat → Int32} {x0 x1 x10 x11 x12 x13 x14 x15 x16 x17 x18 x19 x20 x21 x22 x23 : Int32} {fr fl i : Nat} (hfl : fl ≤ 1) (H : J x17 x18 x19 x20 x21 x22 x23 (nI (fr + fl)) (nI (i + 1)) f0 f1 f2 f3 f4 a1 a2 a3 a4 a5 a6 a7 a8 a9 a10 a11 a12 a13) : wL_lawOf_485 post mc ms J x0 x1 x10 x11 x12 x13 x14 x15 x16 x17 x18 x19 x20 x21 x22 x23 (nI fr) (nI i) (nI fl) kc ks f0 f1 f2 f3 f4 a1 a2 a3 a4 a5 a6 a7 a8 a9 a10 a11 a12 a13 := by
  unfold wL_lawOf_485
  refine pk_eq fl 0 (fun z => nm_r (nI_1 i) ?_) (fun z => nm_r (nI_1 fr) (nm_r (nI_1 i) ?_))
  · rw [show fr + fl = fr by omega] at H
    exact H
  · rw [show fr + fl = fr + 1 by omega] at H
    exact H
theorem gf_L475 {post : Int32 → St0 → Prop} {mc ms kc ks : Nat} {J : Int32 → Int32 → Int32 → Int32 → Int32 → Int32 → Int32 → Int32 → Int32 → Int32 → Int32 → Int32 → Int32 → Int32 → (Nat → Int32) → (Nat → Int32) → (Nat → Int32) → (Nat → Int32) → (Nat → Int32) → (Nat → Int32) → (Nat → Int32) → (Nat → Int32) → (Nat → Int32) → (Nat → Int32) → (Nat → Int32) → (Nat → Int32) → (Nat → Int32) → Prop} {f0 f1 f2 f3 f4 : Int32} {a1 a2 a3 a4 a5 a6 a7 a8 a9 a10 a11 a12 a13 : Nat → Int32} {x0 x1 x10 x11 x12 x13 x15 x16 x17 x18 x19 x20 x21 x22 : Int32} {u X col fr fl i : Nat} (hu : u < 32) (hX : X < 32) (hfl : fl ≤ 1) (H : J x17 x18 x19 x20 x21 x22 (nI (col + if X = u then 1 else 0)) (nI (fr + fl)) (nI (i + 1)) f0 f1 f2 f3 f4 a1 a2 a3 a4 a5 a6 a7 a8 a9 a10 a11 a12 a13) : wL_lawOf_475 post mc ms J x0 x1 x10 x11 x12 x13 (nI u) x15 x16 x17 x18 x19 x20 x21 x22 (nI col) (nI fr) (nI i) (nI X) (nI fl) kc ks f0 f1 f2 f3 f4 a1 a2 a3 a4 a5 a6 a7 a8 a9 a10 a11 a12 a13 := by
  unfold wL_lawOf_475
  refine pk_eq X u (fun z => nm_r (nI_1 col) (gf_L485 hfl ?_)) (fun z => gf_L485 hfl ?_)
  · rw [if_pos z] at H
    exact H
  · rw [if_neg z] at H
    exact H
theorem gf_L439 {post : Int32 → St0 → Prop} {mc ms kc ks : Nat} {J : Int32 → Int32 → Int32 → Int32 → Int32 → Int32 → Int32 → Int32 → Int32 → Int32 → Int32 → Int32 → Int32 → Int32 → (Nat → Int32) → (Nat → Int32) → (Nat → Int32) → (Nat → Int32) → (Nat → Int32) → (Nat → Int32) → (Nat → Int32) → (Nat → Int32) → (Nat → Int32) → (Nat → Int32) → (Nat → Int32) → (Nat → Int32) → (Nat → Int32) → Prop} {f0 f1 f2 f3 f4 : Int32} {a1 a2 a3 a4 a5 a6 a7 a8 a9 a10 a11 a12 a13 : Nat → Int32} {x0 x1 x10 x11 x12 x13 x14 x15 x16 x17 x18 x19 x20 x23 x24 x25 x26 x30 : Int32} {u v t p : Nat} {Q : Nat → Prop} (hu : u < 32) (hv : v < 32) (hp : p < 1024) (hQ : ∀ r, Q r → r < 1024) (I : gf_bst u v Q t)
    (H : ∀ t', gf_bst u v (fun r => Q r ∨ r = p) t' → wL_lawOf_475 post mc ms J x0 x1 x10 x11 x12 x13 x14 x15 x16 x17 x18 x19 x20 (gf_bs u v t') (gf_be t') x23 x24 x25 x26 x30 kc ks f0 f1 f2 f3 f4 a1 a2 a3 a4 a5 a6 a7 a8 a9 a10 a11 a12 a13) :
    wL_lawOf_439 post mc ms J x0 x1 x10 x11 x12 x13 x14 x15 x16 x17 x18 x19 x20 (gf_bs u v t) (gf_be t) x23 x24 x25 x26 x30 (nI (gf_d u v p)) (nI p) kc ks f0 f1 f2 f3 f4 a1 a2 a3 a4 a5 a6 a7 a8 a9 a10 a11 a12 a13 := by
  have dl := gf_d_le hu hv hp
  unfold wL_lawOf_439
  rcases Nat.eq_zero_or_pos t with z | z
  · subst z
    refine pk_lt (gf_d u v p) 5000 (fun _ => ?_) (fun h => absurd h (by omega)) rfl rfl
    refine pk_le 5000 (gf_d u v p) (fun h => absurd h (by omega)) (fun _ => ?_) rfl rfl
    exact H (p + 1) (gf_bst_t I (fun q e => absurd e (by omega)))
  · obtain ⟨q, eq⟩ : ∃ q, t = q + 1 := ⟨t - 1, by omega⟩
    subst eq
    have hq := hQ q (I.2 q rfl).1
    have dq := gf_d_le hu hv hq
    have take : (gf_d u v p < gf_d u v q ∨ (gf_d u v p = gf_d u v q ∧ p ≤ q)) → gf_bst u v (fun r => Q r ∨ r = p) (p + 1) := fun h => gf_bst_t I (fun q' e => by
      have eq : q' = q := by omega
      rw [eq]
      exact h)
    refine pk_lt (gf_d u v p) (gf_d u v q) (fun c => ?_) (fun c => ?_) rfl rfl (by omega) (by omega)
    · refine pk_le (gf_d u v q) (gf_d u v p) (fun h => absurd h (by omega)) (fun _ => ?_) rfl rfl (by omega) (by omega)
      exact H (p + 1) (take (Or.inl c))
    · refine pk_eq (gf_d u v p) (gf_d u v q) (fun c2 => ?_) (fun c2 => ?_) rfl rfl (by omega) (by omega)
      · refine pk_le q p (fun c3 => ?_) (fun c3 => ?_) rfl rfl (by omega) (by omega)
        · refine pk_le (gf_d u v q) (gf_d u v p) (fun _ => ?_) (fun h => absurd h (by omega)) rfl rfl (by omega) (by omega)
          exact H (q + 1) (gf_bst_k I (Or.inr ⟨c2.symm, c3⟩))
        · refine pk_le (gf_d u v q) (gf_d u v p) (fun _ => ?_) (fun h => absurd h (by omega)) rfl rfl (by omega) (by omega)
          have t := H (p + 1) (take (Or.inr ⟨c2, by omega⟩))
          rw [show gf_bs u v (p + 1) = gf_bs u v (q + 1) from congrArg nI c2] at t
          exact t
      · refine pk_le (gf_d u v q) (gf_d u v p) (fun _ => ?_) (fun h => absurd h (by omega)) rfl rfl (by omega) (by omega)
        exact H (q + 1) (gf_bst_k I (Or.inl (by omega)))
theorem gf_L394 {post : Int32 → St0 → Prop} {mc ms kc ks : Nat} {J : Int32 → Int32 → Int32 → Int32 → Int32 → Int32 → Int32 → Int32 → Int32 → Int32 → Int32 → Int32 → Int32 → Int32 → (Nat → Int32) → (Nat → Int32) → (Nat → Int32) → (Nat → Int32) → (Nat → Int32) → (Nat → Int32) → (Nat → Int32) → (Nat → Int32) → (Nat → Int32) → (Nat → Int32) → (Nat → Int32) → (Nat → Int32) → (Nat → Int32) → Prop} {f0 f1 f2 f3 f4 : Int32} {a1 a2 a3 a4 a5 a6 a7 a8 a9 a10 a11 a12 a13 : Nat → Int32} {x0 x1 x10 x11 x12 x13 x17 x18 x19 x23 x24 x25 x30 : Int32} {u v reach near X Y t : Nat} {Q : Nat → Prop} (hu : u < 32) (hv : v < 32) (hr : reach < 512) (hX : X < 32) (hY : Y < 32) (hQ : ∀ r, Q r → r < 1024) (I : gf_bst u v Q t)
    (H : ∀ t', gf_bst u v (fun r => Q r ∨ r = 32 * X + Y) t' → wL_lawOf_475 post mc ms J x0 x1 x10 x11 x12 x13 (nI u) (nI v) (nI reach) x17 x18 x19 (nI (near + if gf_d u v (32 * X + Y) ≤ reach then 1 else 0)) (gf_bs u v t') (gf_be t') x23 x24 x25 (nI X) x30 kc ks f0 f1 f2 f3 f4 a1 a2 a3 a4 a5 a6 a7 a8 a9 a10 a11 a12 a13) :
    wL_lawOf_394 post mc ms J x0 x1 x10 x11 x12 x13 (nI u) (nI v) (nI reach) x17 x18 x19 (nI near) (gf_bs u v t) (gf_be t) x23 x24 x25 (nI X) (nI Y) x30 kc ks f0 f1 f2 f3 f4 a1 a2 a3 a4 a5 a6 a7 a8 a9 a10 a11 a12 a13 := by
  have ed : gf_d u v (32 * X + Y) = gf_q X u + gf_q Y v := by
    unfold gf_d
    rw [show (32 * X + Y) / 32 = X by omega, show (32 * X + Y) % 32 = Y by omega]
  have dl := gf_d_le hu hv (show 32 * X + Y < 1024 by omega)
  unfold wL_lawOf_394
  refine nm_r (e' := nI (gf_d u v (32 * X + Y))) ?_ (nm_r (gf_m32a X Y) (pk_lt reach (gf_d u v (32 * X + Y)) (fun c => ?_) (fun c => nm_r (nI_1 near) ?_)))
  · rw [gf_sq, gf_sq, nI_add, ed]
  · refine gf_L439 hu hv (by omega) hQ I (fun t' I' => ?_)
    have t := H t' I'
    rw [if_neg (show ¬ gf_d u v (32 * X + Y) ≤ reach by omega)] at t
    exact t
  · refine gf_L439 hu hv (by omega) hQ I (fun t' I' => ?_)
    have t := H t' I'
    rw [if_pos c] at t
    exact t
theorem gf_L370 {post : Int32 → St0 → Prop} {mc ms kc ks : Nat} {J : Int32 → Int32 → Int32 → Int32 → Int32 → Int32 → Int32 → Int32 → Int32 → Int32 → Int32 → Int32 → Int32 → Int32 → (Nat → Int32) → (Nat → Int32) → (Nat → Int32) → (Nat → Int32) → (Nat → Int32) → (Nat → Int32) → (Nat → Int32) → (Nat → Int32) → (Nat → Int32) → (Nat → Int32) → (Nat → Int32) → (Nat → Int32) → (Nat → Int32) → Prop} {f0 f1 f2 f3 f4 : Int32} {a1 a2 a3 a4 a5 a6 a7 a8 a9 a10 a11 a12 a13 : Nat → Int32} {x0 x1 x10 x11 x12 x13 x14 x15 x16 x17 x20 x21 x22 x23 x24 x26 x27 x30 : Int32} {ins inn sum i : Nat} (hins : ins ≤ 1)
    (H : wL_lawOf_394 post mc ms J x0 x1 x10 x11 x12 x13 x14 x15 x16 x17 (nI (inn + ins)) (nI (sum + ins * (i + 1))) x20 x21 x22 x23 x24 (nI i) x26 x27 x30 kc ks f0 f1 f2 f3 f4 a1 a2 a3 a4 a5 a6 a7 a8 a9 a10 a11 a12 a13) :
    wL_lawOf_370 post mc ms J x0 x1 x10 x11 x12 x13 x14 x15 x16 x17 (nI inn) (nI sum) x20 x21 x22 x23 x24 (nI i) x26 x27 x30 (nI ins) kc ks f0 f1 f2 f3 f4 a1 a2 a3 a4 a5 a6 a7 a8 a9 a10 a11 a12 a13 := by
  unfold wL_lawOf_370
  refine pk_eq ins 0 (fun z => ?_) (fun z => nm_r (nI_1 inn) ?_)
  · subst z
    rw [Nat.add_zero, Nat.zero_mul, Nat.add_zero] at H
    exact br_t rfl H
  · have e : ins = 1 := by omega
    subst e
    rw [Nat.one_mul] at H
    refine br_f (by decide) (nm_r (e' := nI (sum + (i + 1))) ?_ H)
    rw [nI_1, nI_add]
theorem gf_L324 {post : Int32 → St0 → Prop} {mc ms kc ks : Nat} {J : Int32 → Int32 → Int32 → Int32 → Int32 → Int32 → Int32 → Int32 → Int32 → Int32 → Int32 → Int32 → Int32 → Int32 → (Nat → Int32) → (Nat → Int32) → (Nat → Int32) → (Nat → Int32) → (Nat → Int32) → (Nat → Int32) → (Nat → Int32) → (Nat → Int32) → (Nat → Int32) → (Nat → Int32) → (Nat → Int32) → (Nat → Int32) → (Nat → Int32) → Prop} {f0 f1 f2 f3 f4 : Int32} {a1 a2 a3 a4 a5 a6 a7 a8 a9 a10 a11 a12 a13 : Nat → Int32} {x0 x1 z0 z1 : Int32} {left right down up u v reach n inn sum near t col fr i X Y la fl : Nat} {Q : Nat → Prop} (hl : left < 32) (hrt : right < 32) (hdn : down < 32) (hup : up < 32) (hu : u < 32) (hv : v < 32) (hr : reach < 512) (hX : X < 32) (hY : Y < 32) (hla : la ≤ 1) (hfl : fl ≤ 1) (hQ : ∀ r, Q r → r < 1024) (I : gf_bst u v Q t) (hz : z1 = z0)
    (H0 : la = 0 → J (nI n) (nI inn) (nI sum) (nI near) (gf_bs u v t) (gf_be t) (nI col) (nI fr) (nI (i + 1)) f0 f1 f2 f3 f4 a1 a2 a3 a4 a5 a6 a7 a8 a9 a10 a11 a12 a13)
    (H1 : la = 1 → ∀ t', gf_bst u v (fun r => Q r ∨ r = 32 * X + Y) t' → J (nI (n + 1)) (nI (inn + if left ≤ X ∧ X ≤ right ∧ down ≤ Y ∧ Y ≤ up then 1 else 0)) (nI (sum + (if left ≤ X ∧ X ≤ right ∧ down ≤ Y ∧ Y ≤ up then 1 else 0) * (i + 1))) (nI (near + if gf_d u v (32 * X + Y) ≤ reach then 1 else 0)) (gf_bs u v t') (gf_be t') (nI (col + if X = u then 1 else 0)) (nI (fr + fl)) (nI (i + 1)) f0 f1 f2 f3 f4 a1 a2 a3 a4 a5 a6 a7 a8 a9 a10 a11 a12 a13) :
    wL_lawOf_324 post mc ms J x0 x1 (nI left) (nI right) (nI down) (nI up) (nI u) (nI v) (nI reach) (nI n) (nI inn) (nI sum) (nI near) (gf_bs u v t) (gf_be t) (nI col) (nI fr) (nI i) (nI X) (nI Y) (nI la) (nI fl) z0 z1 kc ks f0 f1 f2 f3 f4 a1 a2 a3 a4 a5 a6 a7 a8 a9 a10 a11 a12 a13 := by
  have core : ∀ ins, ins ≤ 1 → la = 1 → ins = (if left ≤ X ∧ X ≤ right ∧ down ≤ Y ∧ Y ≤ up then 1 else 0) → wL_lawOf_370 post mc ms J x0 x1 (nI left) (nI right) (nI down) (nI up) (nI u) (nI v) (nI reach) (nI (n + 1)) (nI inn) (nI sum) (nI near) (gf_bs u v t) (gf_be t) (nI col) (nI fr) (nI i) (nI X) (nI Y) (nI fl) (nI ins) kc ks f0 f1 f2 f3 f4 a1 a2 a3 a4 a5 a6 a7 a8 a9 a10 a11 a12 a13 := by
    intro ins h1 h2 h3
    refine gf_L370 h1 (gf_L394 hu hv hr hX hY hQ I (fun t' I' => gf_L475 hu hX hfl ?_))
    have t := H1 h2 t' I'
    rw [← h3] at t
    exact t
  unfold wL_lawOf_324
  refine br_t hz (pk_eq la 0 (fun z => nm_r (nI_1 i) (H0 z)) (fun z => nm_r (nI_1 n) ?_))
  refine pk_lt X left (fun c => ?_) (fun c1 => ?_)
  · exact core 0 (by omega) (by omega) (if_neg (by omega)).symm
  refine pk_lt right X (fun c => ?_) (fun c2 => ?_)
  · exact core 0 (by omega) (by omega) (if_neg (by omega)).symm
  refine pk_lt Y down (fun c => ?_) (fun c3 => ?_)
  · exact core 0 (by omega) (by omega) (if_neg (by omega)).symm
  refine pk_lt up Y (fun c => ?_) (fun c4 => ?_)
  · exact core 0 (by omega) (by omega) (if_neg (by omega)).symm
  · exact core 1 (by omega) (by omega) (if_pos ⟨c1, c2, c3, c4⟩).symm
end
section
def gf_X (p q : Int32) (i : Nat) : Nat := 2 * ((if 4 ≤ i then q >>> ((8 * nI i - 32) &&& 31) else p >>> ((8 * nI i) &&& 31)) &&& 15).toNatClampNeg
def gf_Y (p q : Int32) (i : Nat) : Nat := 2 * ((if 4 ≤ i then q >>> ((8 * nI i - 28) &&& 31) else p >>> ((8 * nI i + 4) &&& 31)) &&& 15).toNatClampNeg
theorem gf_2w (w : Int32) : 2 * (w &&& 15) = nI (2 * (w &&& 15).toNatClampNeg) ∧ 2 * (w &&& 15).toNatClampNeg < 32 := by
  obtain ⟨j, h1, h2⟩ := pk_andE w (m := 15) 4 (by decide)
  rw [h2, nI_clamp (by omega)]
  exact ⟨pk_mul 2 j, by omega⟩
theorem gf_X_lt (p q : Int32) (i : Nat) : gf_X p q i < 32 := (gf_2w _).2
theorem gf_Y_lt (p q : Int32) (i : Nat) : gf_Y p q i < 32 := (gf_2w _).2
theorem gf_px {post : Int32 → Prop} {p q : Int32} {i : Nat} (hi : i < 8) (H : post (nI (gf_X p q i))) : wpL_px post () p q (nI i) := by
  unfold gf_X at H
  rw [← (gf_2w _).1] at H
  unfold wpL_px
  refine pk_le 4 i (fun c => ?_) (fun c => ?_)
  · rw [if_pos c] at H
    exact H
  · rw [if_neg (by omega)] at H
    exact H
theorem gf_py {post : Int32 → Prop} {p q : Int32} {i : Nat} (hi : i < 8) (H : post (nI (gf_Y p q i))) : wpL_py post () p q (nI i) := by
  unfold gf_Y at H
  rw [← (gf_2w _).1] at H
  unfold wpL_py
  refine pk_le 4 i (fun c => ?_) (fun c => ?_)
  · rw [if_pos c] at H
    exact H
  · rw [if_neg (by omega)] at H
    exact H
theorem gf_L231s {post : Int32 → St0 → Prop} {mc ms kc ks : Nat} {J : Int32 → Int32 → Int32 → Int32 → Int32 → Int32 → Int32 → Int32 → Int32 → Int32 → Int32 → Int32 → Int32 → Int32 → (Nat → Int32) → (Nat → Int32) → (Nat → Int32) → (Nat → Int32) → (Nat → Int32) → (Nat → Int32) → (Nat → Int32) → (Nat → Int32) → (Nat → Int32) → (Nat → Int32) → (Nat → Int32) → (Nat → Int32) → (Nat → Int32) → Prop} {f0 f1 f2 f3 f4 : Int32} {a1 a2 a3 a4 a5 a6 a7 a8 a9 a10 a11 a12 a13 : Nat → Int32} {x0 x1 x10 x11 x12 x13 x14 x15 x16 x17 x18 x19 x20 x21 x22 x23 x24 : Int32} {J4 : Int32 → Int32 → Int32 → Int32 → Prop} {x26 x27 x30 : Int32} {i j la fi : Nat} (hi : i < 8) (hj : j < 8) (H : J4 (nI (if i < j then 0 else la)) (nI (if j < i then 0 else fi)) x30 (nI (j + 1))) : wL_lawOf_231 post mc ms J J4 x0 x1 x10 x11 x12 x13 x14 x15 x16 x17 x18 x19 x20 x21 x22 x23 x24 (nI i) x26 x27 (nI la) (nI fi) x30 (nI j) 1 kc ks f0 f1 f2 f3 f4 a1 a2 a3 a4 a5 a6 a7 a8 a9 a10 a11 a12 a13 := by
  refine br_f (by decide) (pk_le j i (fun c => br_f (by decide) (pk_le i j (fun c2 => br_f (by decide) (nm_r (nI_1 j) ?_)) (fun c2 => br_f (by decide) (nm_r (nI_1 j) ?_)))) (fun c => br_f (by decide) (pk_le i j (fun c2 => br_f (by decide) (nm_r (nI_1 j) ?_)) (fun c2 => absurd c2 (by omega)))))
  · rw [if_neg (by omega), if_neg (by omega)] at H
    exact H
  · rw [if_neg (by omega), if_pos c2] at H
    exact H
  · rw [if_pos c, if_neg (by omega)] at H
    exact H
theorem gf_L231d {post : Int32 → St0 → Prop} {mc ms kc ks : Nat} {J : Int32 → Int32 → Int32 → Int32 → Int32 → Int32 → Int32 → Int32 → Int32 → Int32 → Int32 → Int32 → Int32 → Int32 → (Nat → Int32) → (Nat → Int32) → (Nat → Int32) → (Nat → Int32) → (Nat → Int32) → (Nat → Int32) → (Nat → Int32) → (Nat → Int32) → (Nat → Int32) → (Nat → Int32) → (Nat → Int32) → (Nat → Int32) → (Nat → Int32) → Prop} {f0 f1 f2 f3 f4 : Int32} {a1 a2 a3 a4 a5 a6 a7 a8 a9 a10 a11 a12 a13 : Nat → Int32} {x0 x1 x10 x11 x12 x13 x14 x15 x16 x17 x18 x19 x20 x21 x22 x23 x24 : Int32} {J4 : Int32 → Int32 → Int32 → Int32 → Prop} {x25 x28 x29 : Int32} {Xi Yi j fl : Nat} (hj : j < 8) (hXi : Xi < 32) (hYi : Yi < 32) (H : J4 x28 x29 (nI (if Xi ≤ gf_X x0 x1 j ∧ Yi ≤ gf_Y x0 x1 j then 0 else fl)) (nI (j + 1))) : wL_lawOf_231 post mc ms J J4 x0 x1 x10 x11 x12 x13 x14 x15 x16 x17 x18 x19 x20 x21 x22 x23 x24 x25 (nI Xi) (nI Yi) x28 x29 (nI fl) (nI j) 0 kc ks f0 f1 f2 f3 f4 a1 a2 a3 a4 a5 a6 a7 a8 a9 a10 a11 a12 a13 := by
  have hX := gf_X_lt x0 x1 j
  have hY := gf_Y_lt x0 x1 j
  refine br_t rfl (br_t rfl (br_t rfl (gf_px hj (pk_lt (gf_X x0 x1 j) Xi (fun c => nm_r (nI_1 j) ?_) (fun c => gf_py hj (pk_lt (gf_Y x0 x1 j) Yi (fun c2 => nm_r (nI_1 j) ?_) (fun c2 => nm_r (nI_1 j) ?_)))))))
  · rw [if_neg (by omega)] at H
    exact H
  · rw [if_neg (by omega)] at H
    exact H
  · rw [if_pos ⟨c, c2⟩] at H
    exact H
theorem gf_L195 {post : Int32 → St0 → Prop} {mc ms kc ks : Nat} {J : Int32 → Int32 → Int32 → Int32 → Int32 → Int32 → Int32 → Int32 → Int32 → Int32 → Int32 → Int32 → Int32 → Int32 → (Nat → Int32) → (Nat → Int32) → (Nat → Int32) → (Nat → Int32) → (Nat → Int32) → (Nat → Int32) → (Nat → Int32) → (Nat → Int32) → (Nat → Int32) → (Nat → Int32) → (Nat → Int32) → (Nat → Int32) → (Nat → Int32) → Prop} {f0 f1 f2 f3 f4 : Int32} {a1 a2 a3 a4 a5 a6 a7 a8 a9 a10 a11 a12 a13 : Nat → Int32} {x0 x1 x10 x11 x12 x13 x14 x15 x16 x17 x18 x19 x20 x21 x22 x23 x24 : Int32} {i : Nat} {X Y : Nat → Nat} (hX : X = gf_X x0 x1) (hY : Y = gf_Y x0 x1) (hi : i < 8)
    (H : ∀ n, wL_lawOf_195 post mc ms J x0 x1 x10 x11 x12 x13 x14 x15 x16 x17 x18 x19 x20 x21 x22 x23 x24 (nI i) (nI (X i)) (nI (Y i)) kc ks f0 f1 f2 f3 f4 a1 a2 a3 a4 a5 a6 a7 a8 a9 a10 a11 a12 a13 (n + 1) (nI (gf_b (∀ k, k < 8 → i < k → 32 * X k + Y k ≠ 32 * X i + Y i))) (nI (gf_b (∀ k, k < 8 → k < i → 32 * X k + Y k ≠ 32 * X i + Y i))) (nI (gf_b (∀ k, k < 8 → 32 * X k + Y k ≠ 32 * X i + Y i → ¬ (X i ≤ X k ∧ Y i ≤ Y k)))) (nI 8)) :
    ∃ fu, wL_lawOf_195 post mc ms J x0 x1 x10 x11 x12 x13 x14 x15 x16 x17 x18 x19 x20 x21 x22 x23 x24 (nI i) (nI (X i)) (nI (Y i)) kc ks f0 f1 f2 f3 f4 a1 a2 a3 a4 a5 a6 a7 a8 a9 a10 a11 a12 a13 fu 1 1 1 0 := by
  have lX : ∀ k, X k < 32 := fun k => by rw [hX]; exact gf_X_lt x0 x1 k
  have lY : ∀ k, Y k < 32 := fun k => by rw [hY]; exact gf_Y_lt x0 x1 k
  refine lp4 (fun n la fi fl j => wL_lawOf_195 post mc ms J x0 x1 x10 x11 x12 x13 x14 x15 x16 x17 x18 x19 x20 x21 x22 x23 x24 (nI i) (nI (X i)) (nI (Y i)) kc ks f0 f1 f2 f3 f4 a1 a2 a3 a4 a5 a6 a7 a8 a9 a10 a11 a12 a13 n (nI la) (nI fi) (nI fl) (nI j)) (fun la fi fl j => j ≤ 8 ∧ la = gf_b (∀ k, k < j → i < k → 32 * X k + Y k ≠ 32 * X i + Y i) ∧ fi = gf_b (∀ k, k < j → k < i → 32 * X k + Y k ≠ 32 * X i + Y i) ∧ fl = gf_b (∀ k, k < j → 32 * X k + Y k ≠ 32 * X i + Y i → ¬ (X i ≤ X k ∧ Y i ≤ Y k))) (fun _ _ _ j => 8 - j) ?_ 1 1 1 0 ⟨by omega, (gf_b1 (fun k hk => absurd hk (by omega))).symm, (gf_b1 (fun k hk => absurd hk (by omega))).symm, (gf_b1 (fun k hk => absurd hk (by omega))).symm⟩
  intro n la fi fl j hI hw
  obtain ⟨h1, h2, h3, h4⟩ := hI
  by_cases e8 : j = 8
  · subst e8
    subst h2
    subst h3
    subst h4
    exact H n
  · have hj : j < 8 := by omega
    have lXi := lX i
    have lYi := lY i
    have lXj := lX j
    have lYj := lY j
    have diff : ¬ (X j = X i ∧ Y j = Y i) → wL_lawOf_231 post mc ms J (wL_lawOf_195 post mc ms J x0 x1 x10 x11 x12 x13 x14 x15 x16 x17 x18 x19 x20 x21 x22 x23 x24 (nI i) (nI (X i)) (nI (Y i)) kc ks f0 f1 f2 f3 f4 a1 a2 a3 a4 a5 a6 a7 a8 a9 a10 a11 a12 a13 n) x0 x1 x10 x11 x12 x13 x14 x15 x16 x17 x18 x19 x20 x21 x22 x23 x24 (nI i) (nI (X i)) (nI (Y i)) (nI la) (nI fi) (nI fl) (nI j) 0 kc ks f0 f1 f2 f3 f4 a1 a2 a3 a4 a5 a6 a7 a8 a9 a10 a11 a12 a13 := by
      intro hd
      have zd : 32 * X j + Y j ≠ 32 * X i + Y i := fun h => hd ((gf_place lYj lYi).mp h)
      refine gf_L231d hj lXi lYi ?_
      rw [← hX, ← hY]
      refine hw la fi _ (j + 1) ⟨by omega, ?_, ?_, ?_⟩ (by omega)
      · rw [gf_b_s1 (A := fun k => i < k → 32 * X k + Y k ≠ 32 * X i + Y i) (fun _ => zd)]
        exact h2
      · rw [gf_b_s1 (A := fun k => k < i → 32 * X k + Y k ≠ 32 * X i + Y i) (fun _ => zd)]
        exact h3
      · by_cases w : X i ≤ X j ∧ Y i ≤ Y j
        · rw [if_pos w, gf_b_s0 (A := fun k => 32 * X k + Y k ≠ 32 * X i + Y i → ¬ (X i ≤ X k ∧ Y i ≤ Y k)) (fun h => h zd w)]
        · rw [if_neg w, gf_b_s1 (A := fun k => 32 * X k + Y k ≠ 32 * X i + Y i → ¬ (X i ≤ X k ∧ Y i ≤ Y k)) (fun _ => w)]
          exact h4
    have same : X j = X i → Y j = Y i → wL_lawOf_231 post mc ms J (wL_lawOf_195 post mc ms J x0 x1 x10 x11 x12 x13 x14 x15 x16 x17 x18 x19 x20 x21 x22 x23 x24 (nI i) (nI (X i)) (nI (Y i)) kc ks f0 f1 f2 f3 f4 a1 a2 a3 a4 a5 a6 a7 a8 a9 a10 a11 a12 a13 n) x0 x1 x10 x11 x12 x13 x14 x15 x16 x17 x18 x19 x20 x21 x22 x23 x24 (nI i) (nI (X i)) (nI (Y i)) (nI la) (nI fi) (nI fl) (nI j) 1 kc ks f0 f1 f2 f3 f4 a1 a2 a3 a4 a5 a6 a7 a8 a9 a10 a11 a12 a13 := by
      intro e1 e2
      have zs : 32 * X j + Y j = 32 * X i + Y i := by rw [e1, e2]
      refine gf_L231s hi hj (hw _ _ fl (j + 1) ⟨by omega, ?_, ?_, ?_⟩ (by omega))
      · by_cases w : i < j
        · rw [if_pos w, gf_b_s0 (A := fun k => i < k → 32 * X k + Y k ≠ 32 * X i + Y i) (fun h => h w zs)]
        · rw [if_neg w, gf_b_s1 (A := fun k => i < k → 32 * X k + Y k ≠ 32 * X i + Y i) (fun h => absurd h w)]
          exact h2
      · by_cases w : j < i
        · rw [if_pos w, gf_b_s0 (A := fun k => k < i → 32 * X k + Y k ≠ 32 * X i + Y i) (fun h => h w zs)]
        · rw [if_neg w, gf_b_s1 (A := fun k => k < i → 32 * X k + Y k ≠ 32 * X i + Y i) (fun h => absurd h w)]
          exact h3
      · rw [gf_b_s1 (A := fun k => 32 * X k + Y k ≠ 32 * X i + Y i → ¬ (X i ≤ X k ∧ Y i ≤ Y k)) (fun h => absurd zs h)]
        exact h4
    have eX : X j = gf_X x0 x1 j := by rw [hX]
    have eY : Y j = gf_Y x0 x1 j := by rw [hY]
    refine pk_le 8 j (fun c => absurd c (by omega)) (fun c => gf_px hj ?_)
    rw [← eX]
    refine pk_eq (X j) (X i) (fun e1 => gf_py hj ?_) (fun e1 => diff (fun h => e1 h.1))
    rw [← eY]
    exact pk_eq (Y j) (Y i) (fun e2 => same e1 e2) (fun e2 => diff (fun h => e2 h.2))
end
section
/-- the law's counters: what the last puts among the first i give -/
noncomputable def gf_acc (z g : Nat → Nat) (i : Nat) : Nat := gf_sm (fun j => gf_b (gf_la z 8 j) * g j) i
theorem gf_acc_0 {z g : Nat → Nat} {i : Nat} (h : gf_b (gf_la z 8 i) = 0) : gf_acc z g (i + 1) = gf_acc z g i := by
  show gf_acc z g i + gf_b (gf_la z 8 i) * g i = gf_acc z g i
  rw [h, Nat.zero_mul, Nat.add_zero]
theorem gf_acc_1 {z g : Nat → Nat} {i : Nat} (h : gf_b (gf_la z 8 i) = 1) : gf_acc z g (i + 1) = gf_acc z g i + g i := by
  show gf_acc z g i + gf_b (gf_la z 8 i) * g i = gf_acc z g i + g i
  rw [h, Nat.one_mul]
theorem gf_acc_sum {z : Nat → Nat} (hz : ∀ i, z i < 1024) (f : Nat → Nat → Nat) (g : Nat → Nat) (hg : ∀ j, g j = f (z j) (j + 1)) : gf_sm (fun p => if gf_mp z 8 p = 0 then 0 else f p (gf_mp z 8 p)) 1024 = gf_acc z g 8 := by
  rw [← gf_la_sum hz 8 f]
  exact gf_sm_ext (fun j _ => by rw [hg j])
/-- the law's counters' terms -/
def gf_gI (left right down up : Nat) (X Y : Nat → Nat) (j : Nat) : Nat := if left ≤ X j ∧ X j ≤ right ∧ down ≤ Y j ∧ Y j ≤ up then 1 else 0
def gf_gS (left right down up : Nat) (X Y : Nat → Nat) (j : Nat) : Nat := (if left ≤ X j ∧ X j ≤ right ∧ down ≤ Y j ∧ Y j ≤ up then 1 else 0) * (j + 1)
def gf_gW (u v reach : Nat) (z : Nat → Nat) (j : Nat) : Nat := if gf_d u v (z j) ≤ reach then 1 else 0
def gf_gC (u : Nat) (X : Nat → Nat) (j : Nat) : Nat := if X j = u then 1 else 0
noncomputable def gf_gF (z : Nat → Nat) (j : Nat) : Nat := gf_fw (gf_mp z 8) (z j)
theorem gf_eN {z : Nat → Nat} (hz : ∀ i, z i < 1024) : gf_cnt (gf_mp z 8) = gf_acc z (fun _ => 1) 8 := gf_acc_sum hz (fun _ _ => 1) (fun _ => 1) (fun _ => rfl)
theorem gf_eI {z X Y : Nat → Nat} {left right down up : Nat} (hz : ∀ i, z i < 1024) (hX : ∀ i, z i / 32 = X i) (hY : ∀ i, z i % 32 = Y i) (hd : down < 32) (hu : up < 32) : gf_rs (32 * left + down) (32 * right + up) (gf_mp z 8) (fun _ => 1) = gf_acc z (gf_gI left right down up X Y) 8 := by
  have q1 : (32 * left + down) / 32 = left := by omega
  have q2 : (32 * left + down) % 32 = down := by omega
  have q3 : (32 * right + up) / 32 = right := by omega
  have q4 : (32 * right + up) % 32 = up := by omega
  unfold gf_rs
  rw [q1, q2, q3, q4]
  refine gf_acc_sum hz (fun p _ => if left ≤ p / 32 ∧ p / 32 ≤ right ∧ down ≤ p % 32 ∧ p % 32 ≤ up then 1 else 0) _ (fun j => ?_)
  show gf_gI left right down up X Y j = if left ≤ z j / 32 ∧ z j / 32 ≤ right ∧ down ≤ z j % 32 ∧ z j % 32 ≤ up then 1 else 0
  rw [hX, hY]
  rfl
theorem gf_eS {z X Y : Nat → Nat} {left right down up : Nat} (hz : ∀ i, z i < 1024) (hX : ∀ i, z i / 32 = X i) (hY : ∀ i, z i % 32 = Y i) (hd : down < 32) (hu : up < 32) : gf_rs (32 * left + down) (32 * right + up) (gf_mp z 8) (gf_mp z 8) = gf_acc z (gf_gS left right down up X Y) 8 := by
  have q1 : (32 * left + down) / 32 = left := by omega
  have q2 : (32 * left + down) % 32 = down := by omega
  have q3 : (32 * right + up) / 32 = right := by omega
  have q4 : (32 * right + up) % 32 = up := by omega
  unfold gf_rs
  rw [q1, q2, q3, q4]
  refine gf_acc_sum hz (fun p v => if left ≤ p / 32 ∧ p / 32 ≤ right ∧ down ≤ p % 32 ∧ p % 32 ≤ up then v else 0) _ (fun j => ?_)
  show gf_gS left right down up X Y j = if left ≤ z j / 32 ∧ z j / 32 ≤ right ∧ down ≤ z j % 32 ∧ z j % 32 ≤ up then j + 1 else 0
  rw [hX, hY]
  unfold gf_gS
  by_cases w : left ≤ X j ∧ X j ≤ right ∧ down ≤ Y j ∧ Y j ≤ up
  · rw [if_pos w, if_pos w, Nat.one_mul]
  · rw [if_neg w, if_neg w, Nat.zero_mul]
theorem gf_eW {z : Nat → Nat} {u v reach : Nat} (hz : ∀ i, z i < 1024) : gf_sm (fun p => if gf_mp z 8 p = 0 then 0 else if gf_d u v p ≤ reach then 1 else 0) 1024 = gf_acc z (gf_gW u v reach z) 8 := gf_acc_sum hz (fun p _ => if gf_d u v p ≤ reach then 1 else 0) _ (fun _ => rfl)
theorem gf_eC {z X : Nat → Nat} {u : Nat} (hz : ∀ i, z i < 1024) (hX : ∀ i, z i / 32 = X i) : gf_rs (32 * u) (32 * u + 31) (gf_mp z 8) (fun _ => 1) = gf_acc z (gf_gC u X) 8 := by
  unfold gf_rs
  refine gf_acc_sum hz (fun p _ => if 32 * u / 32 ≤ p / 32 ∧ p / 32 ≤ (32 * u + 31) / 32 ∧ 32 * u % 32 ≤ p % 32 ∧ p % 32 ≤ (32 * u + 31) % 32 then 1 else 0) _ (fun j => ?_)
  show (if X j = u then 1 else 0) = if 32 * u / 32 ≤ z j / 32 ∧ z j / 32 ≤ (32 * u + 31) / 32 ∧ 32 * u % 32 ≤ z j % 32 ∧ z j % 32 ≤ (32 * u + 31) % 32 then 1 else 0
  have h := hX j
  by_cases w : X j = u
  · rw [if_pos w, if_pos (by omega)]
  · rw [if_neg w, if_neg (by omega)]
theorem gf_eF {z : Nat → Nat} (hz : ∀ i, z i < 1024) : gf_fs (gf_mp z 8) = gf_acc z (gf_gF z) 8 := gf_acc_sum hz (fun p _ => gf_fw (gf_mp z 8) p) _ (fun _ => rfl)
theorem gf_eB {z : Nat → Nat} {u v t t' : Nat} (h : gf_bst u v (fun p => ∃ j, j < 8 ∧ gf_la z 8 j ∧ z j = p) t) (h' : gf_bst u v (fun p => gf_mp z 8 p ≠ 0) t') : t' = t := by
  refine gf_bst_un h' (gf_bst_i h (fun p => ?_))
  rw [gf_mp_iff]
  constructor
  · intro ⟨j, j1, _, j3⟩
    exact ⟨j, j1, j3⟩
  · intro h
    exact gf_la_ex 8 h
theorem gf_Lend {post : Int32 → St0 → Prop} {mc ms kc ks n : Nat} {x0 x1 : Int32} {left right down up u v reach t C R B K : Nat} {z X Y cx cy dr lf rt lo hi sz pl vl hp hv sn : Nat → Nat} (hpost : post 1 ()) (hlr : left ≤ right) (hrt : right < 32) (hdu : down ≤ up) (hup : up < 32) (hu : u < 32) (hvv : v < 32) (hr : reach < 512) (hz : ∀ i, z i < 1024) (hX : ∀ i, z i / 32 = X i) (hY : ∀ i, z i % 32 = Y i) (hK : K ≤ 32) (G : gf_G K C R B cx cy dr lf rt lo hi) (S : gf_S B lf rt lo hi sz pl vl (gf_mp z 8)) (I : gf_bst u v (fun p => ∃ j, j < 8 ∧ gf_la z 8 j ∧ z j = p) t) :
    wL_lawOf_158 post mc ms x0 x1 (nI left) (nI right) (nI down) (nI up) (nI u) (nI v) (nI reach) kc ks (n + 1) (nI (gf_acc z (fun _ => 1) 8)) (nI (gf_acc z (gf_gI left right down up X Y) 8)) (nI (gf_acc z (gf_gS left right down up X Y) 8)) (nI (gf_acc z (gf_gW u v reach z) 8)) (gf_bs u v t) (gf_be t) (nI (gf_acc z (gf_gC u X) 8)) (nI (gf_acc z (gf_gF z) 8)) (nI 8) (nI C) (nI R) (nI B) (nI (gf_cnt (gf_mp z 8))) 0 (gf_n cx) (gf_n cy) (gf_n dr) (gf_n sz) (gf_n lf) (gf_n rt) (gf_n lo) (gf_n hi) (gf_n pl) (gf_n vl) (gf_n hp) (gf_n hv) (gf_n sn) := by
  have hn : gf_cnt (gf_mp z 8) < 40 := Nat.lt_of_le_of_lt (gf_mp_cnt hz 8) (by omega)
  have hd : down < 32 := by omega
  have hL : 32 * left + down < 1024 := by omega
  have hU : 32 * right + up < 1024 := by omega
  have hLx : (32 * left + down) / 32 ≤ (32 * right + up) / 32 := by omega
  have hLy : (32 * left + down) % 32 ≤ (32 * right + up) % 32 := by omega
  have eN := gf_eN hz
  have eI := gf_eI (left := left) (right := right) hz hX hY hd hup
  refine pk_le 8 8 (fun _ => nm_r (gf_m32a left down) (nm_r (gf_m32a right up) ?_)) (fun h => absurd h (by omega))
  refine br_t (congrArg nI eN) ?_
  refine gf_count G S hK hn hL hU hLx hLy (fun h1 hp1 hv1 sn1 => ?_)
  dsimp only
  refine br_t (congrArg nI eI) ?_
  refine gf_sum G S hK hn hL hU hLx hLy (fun h2 hp2 hv2 sn2 => ?_)
  dsimp only
  refine br_t (congrArg nI (gf_eS hz hX hY hd hup)) ?_
  refine gf_within G S hK hu hvv hr ?_
  refine br_t (congrArg nI (gf_eW hz)) ?_
  refine gf_nearest G S hK hu hvv (fun t' sn3 I' => ?_)
  dsimp only
  refine br_t (congrArg gf_be (gf_eB I I')) ?_
  refine gf_line G S hK hn hu (fun h4 hp4 hv4 sn4 => ?_)
  dsimp only
  refine br_t (congrArg nI (gf_eC hz hX)) ?_
  refine gf_frontier G S hK hn (fun h5 hp5 hv5 sn5 => ?_)
  dsimp only
  refine br_t (congrArg nI (gf_eF hz)) ?_
  refine gf_clear G S hK hn hL hU hLx hLy (fun h6 sz6 pl6 vl6 hp6 hv6 sn6 hle => ?_)
  dsimp only
  refine br_t (congrArg nI eI) ?_
  refine br_t ?_ hpost
  rw [← eN, ← eI, pk_sub hle]
end
section
theorem gf_fi {X Y : Nat → Nat} {i : Nat} (hi : i < 8) : gf_b (∀ k, k < 8 → k < i → 32 * X k + Y k ≠ 32 * X i + Y i) = if gf_mp (fun j => 32 * X j + Y j) i (32 * X i + Y i) = 0 then 1 else 0 := by
  by_cases h : gf_mp (fun j => 32 * X j + Y j) i (32 * X i + Y i) = 0
  · rw [if_pos h]
    refine gf_b1 (fun k _ h2 h3 => ?_)
    exact (gf_mp_iff.mpr ⟨k, h2, h3⟩) h
  · rw [if_neg h]
    refine gf_b0 (fun al => ?_)
    obtain ⟨j, j1, j2⟩ := gf_mp_iff.mp h
    exact al j (by omega) j1 j2
theorem gf_L158 {post : Int32 → St0 → Prop} {mc ms kc ks : Nat} {x0 x1 : Int32} {left right down up u v reach C R B : Nat} {z X Y cx cy dr lf rt lo hi sz pl vl hp hv sn : Nat → Nat} (hpost : post 1 ()) (hlr : left ≤ right) (hrt : right < 32) (hdu : down ≤ up) (hup : up < 32) (hu : u < 32) (hvv : v < 32) (hr : reach < 512) (hX : X = gf_X x0 x1) (hY : Y = gf_Y x0 x1) (hz : z = fun j => 32 * X j + Y j) (G0 : gf_G 1 C R B cx cy dr lf rt lo hi) (S0 : gf_S B lf rt lo hi sz pl vl (gf_mp z 0)) :
    ∃ fu, wL_lawOf_158 post mc ms x0 x1 (nI left) (nI right) (nI down) (nI up) (nI u) (nI v) (nI reach) kc ks fu 0 0 0 0 5000 (-2) 0 0 0 (nI C) (nI R) (nI B) 0 0 (gf_n cx) (gf_n cy) (gf_n dr) (gf_n sz) (gf_n lf) (gf_n rt) (gf_n lo) (gf_n hi) (gf_n pl) (gf_n vl) (gf_n hp) (gf_n hv) (gf_n sn) := by
  have lX : ∀ k, X k < 32 := fun k => by rw [hX]; exact gf_X_lt x0 x1 k
  have lY : ∀ k, Y k < 32 := fun k => by rw [hY]; exact gf_Y_lt x0 x1 k
  have ez : ∀ k, z k = 32 * X k + Y k := fun k => by rw [hz]
  have lz : ∀ k, z k < 1024 := fun k => by
    have h1 := lX k
    have h2 := lY k
    have h3 := ez k
    omega
  have zX : ∀ k, z k / 32 = X k := fun k => by
    have h2 := lY k
    have h3 := ez k
    omega
  have zY : ∀ k, z k % 32 = Y k := fun k => by
    have h2 := lY k
    have h3 := ez k
    omega
  refine lp16 (fun n (i : Nat) (t : Nat) (c : Nat) (C : Nat) (R : Nat) (B : Nat) (cx : Nat → Nat) (cy : Nat → Nat) (dr : Nat → Nat) (sz : Nat → Nat) (lf : Nat → Nat) (rt : Nat → Nat) (lo : Nat → Nat) (hi : Nat → Nat) (pl : Nat → Nat) (vl : Nat → Nat) => wL_lawOf_158 post mc ms x0 x1 (nI left) (nI right) (nI down) (nI up) (nI u) (nI v) (nI reach) kc ks n (nI (gf_acc z (fun _ => 1) i)) (nI (gf_acc z (gf_gI left right down up X Y) i)) (nI (gf_acc z (gf_gS left right down up X Y) i)) (nI (gf_acc z (gf_gW u v reach z) i)) (gf_bs u v t) (gf_be t) (nI (gf_acc z (gf_gC u X) i)) (nI (gf_acc z (gf_gF z) i)) (nI i) (nI C) (nI R) (nI B) (nI c) 0 (gf_n cx) (gf_n cy) (gf_n dr) (gf_n sz) (gf_n lf) (gf_n rt) (gf_n lo) (gf_n hi) (gf_n pl) (gf_n vl) (gf_n hp) (gf_n hv) (gf_n sn))
    (fun i t c C R B cx cy dr sz lf rt lo hi pl vl => i ≤ 8 ∧ c = gf_cnt (gf_mp z i) ∧ gf_G (i + 1) C R B cx cy dr lf rt lo hi ∧ gf_S B lf rt lo hi sz pl vl (gf_mp z i) ∧ gf_bst u v (fun p => ∃ j, j < i ∧ gf_la z 8 j ∧ z j = p) t)
    (fun i _ _ _ _ _ _ _ _ _ _ _ _ _ _ _ => 8 - i) ?_ 0 0 0 C R B cx cy dr sz lf rt lo hi pl vl ⟨by omega, (gf_sm_zero (fun _ _ => rfl)).symm, G0, S0, fun _ p ⟨j, j1, _⟩ => by omega, fun q e => absurd e (by omega)⟩
  intro n i t c C R B cx cy dr sz lf rt lo hi pl vl hI hw
  obtain ⟨h1, h2, G, S, I⟩ := hI
  subst h2
  by_cases e8 : i = 8
  · subst e8
    exact gf_Lend hpost hlr hrt hdu hup hu hvv hr lz zX zY (by omega) G S I
  · have hi8 : i < 8 := by omega
    have hcnt := gf_mp_cnt lz i
    have bla : gf_b (∀ k, k < 8 → i < k → 32 * X k + Y k ≠ 32 * X i + Y i) = gf_b (gf_la z 8 i) := by
      unfold gf_la
      rw [hz]
    have bfl : gf_b (∀ k, k < 8 → 32 * X k + Y k ≠ 32 * X i + Y i → ¬ (X i ≤ X k ∧ Y i ≤ Y k)) = gf_gF z i := by
      rw [gf_free lY i]
      unfold gf_gF
      rw [hz]
    have bfi := gf_fi (X := X) (Y := Y) hi8
    rw [← hz, ← ez i] at bfi
    rw [← ez i] at bla bfl
    refine pk_le 8 i (fun h => absurd h (by omega)) (fun _ => gf_px hi8 (gf_py hi8 ?_))
    rw [← hX, ← hY]
    refine gf_L195 hX hY hi8 (fun n' => ?_)
    refine pk_le 8 8 (fun _ => ?_) (fun h => absurd h (by omega))
    rw [nI_1]
    refine gf_put G S (by omega) (by omega) (lX i) (lY i) (by omega) (fun C' R' B' cx' cy' dr' lf' rt' lo' hi' sz' pl' vl' G' S' => ?_)
    dsimp only
    rw [← ez i] at S' ⊢
    rw [bfi, bla, bfl]
    have Q32 : ∀ p, (∃ j, j < i ∧ gf_la z 8 j ∧ z j = p) → p < 1024 := fun p ⟨j, _, _, j3⟩ => by
      rw [← j3]
      exact lz j
    have core : ∀ z0 : Int32, nI (if gf_mp z i (z i) = 0 then 1 else 0) = z0 → wL_lawOf_324 post mc ms (wL_lawOf_158 post mc ms x0 x1 (nI left) (nI right) (nI down) (nI up) (nI u) (nI v) (nI reach) kc ks n) x0 x1 (nI left) (nI right) (nI down) (nI up) (nI u) (nI v) (nI reach) (nI (gf_acc z (fun _ => 1) i)) (nI (gf_acc z (gf_gI left right down up X Y) i)) (nI (gf_acc z (gf_gS left right down up X Y) i)) (nI (gf_acc z (gf_gW u v reach z) i)) (gf_bs u v t) (gf_be t) (nI (gf_acc z (gf_gC u X) i)) (nI (gf_acc z (gf_gF z) i)) (nI i) (nI (X i)) (nI (Y i)) (nI (gf_b (gf_la z 8 i))) (nI (gf_gF z i)) z0 (nI (if gf_mp z i (z i) = 0 then 1 else 0)) kc ks (nI C') (nI R') (nI B') (nI (gf_cnt (gf_u (gf_mp z i) (z i) (i + 1)))) 0 (gf_n cx') (gf_n cy') (gf_n dr') (gf_n sz') (gf_n lf') (gf_n rt') (gf_n lo') (gf_n hi') (gf_n pl') (gf_n vl') (gf_n hp) (gf_n hv) (gf_n sn) := by
      intro z0 hz0
      refine gf_L324 (by omega) hrt (by omega) hup hu hvv hr (lX i) (lY i) (gf_b_le _) (gf_b_le _) Q32 I hz0 (fun l0 => ?_) (fun l1 t' I' => ?_)
      · have nx := hw (i + 1) t _ C' R' B' cx' cy' dr' sz' lf' rt' lo' hi' pl' vl' ⟨by omega, rfl, G', S', gf_bst_i I (fun p => ?_)⟩ (by omega)
        · rw [gf_acc_0 l0, gf_acc_0 l0, gf_acc_0 l0, gf_acc_0 l0, gf_acc_0 l0, gf_acc_0 l0] at nx
          exact nx
        · constructor
          · intro ⟨j, j1, j2, j3⟩
            exact ⟨j, by omega, j2, j3⟩
          · intro ⟨j, j1, j2, j3⟩
            by_cases w : j = i
            · rw [w] at j2
              rw [gf_b1 j2] at l0
              omega
            · exact ⟨j, by omega, j2, j3⟩
      · have nx := hw (i + 1) t' _ C' R' B' cx' cy' dr' sz' lf' rt' lo' hi' pl' vl' ⟨by omega, rfl, G', S', gf_bst_i I' (fun p => ?_)⟩ (by omega)
        · rw [gf_acc_1 l1, gf_acc_1 l1, gf_acc_1 l1, gf_acc_1 l1, gf_acc_1 l1, gf_acc_1 l1] at nx
          unfold gf_gI gf_gS gf_gW gf_gC at nx ⊢
          rw [← ez i]
          exact nx
        · rw [← ez i]
          constructor
          · intro q
            rcases q with ⟨j, j1, j2, j3⟩ | q
            · exact ⟨j, by omega, j2, j3⟩
            · refine ⟨i, by omega, ?_, q.symm⟩
              by_cases w : gf_la z 8 i
              · exact w
              · rw [gf_b0 w] at l1
                omega
          · intro ⟨j, j1, j2, j3⟩
            by_cases w : j = i
            · rw [w] at j3
              exact Or.inr j3.symm
            · exact Or.inl ⟨j, by omega, j2, j3⟩
    by_cases hm : gf_mp z i (z i) = 0
    · refine pk_eq (if gf_mp z i (z i) = 0 then 1 else 0) 0 (fun e => ?_) (fun e => core 1 (by rw [if_pos hm]; rfl)) rfl rfl (by rw [if_pos hm]; omega) (by omega)
      rw [if_pos hm] at e
      omega
    · refine pk_eq (if gf_mp z i (z i) = 0 then 1 else 0) 0 (fun e => core 0 (by rw [if_neg hm]; rfl)) (fun e => ?_) rfl rfl (by rw [if_neg hm]; omega) (by omega)
      rw [if_neg hm] at e
      omega
end
section
/-- the scale with no cut -/
def gf_c0 : Nat → Nat := gf_u (gf_u (fun _ => 0) 0 0) 1 32
theorem gf_sc0 : gf_sc gf_c0 1 := by
  refine ⟨rfl, rfl, fun i hi => ?_⟩
  have e : i = 0 := by omega
  subst e
  decide
theorem gf_G0 : gf_G 1 1 1 1 gf_c0 gf_c0 (gf_u (fun _ => 0) 0 0) (gf_u (fun _ => 0) 0 0) (gf_u (fun _ => 0) 0 31) (gf_u (fun _ => 0) 0 0) (gf_u (fun _ => 0) 0 31) := by
  refine ⟨gf_sc0, gf_sc0, by omega, by omega, by omega, fun b hb => ?_, fun x y c r hc hr => ?_, fun b b' x y h1 h2 _ _ => by omega⟩
  · have e : b = 0 := by omega
    subst e
    decide
  · have hx := gf_col_32 gf_sc0 hc
    have hy := gf_col_32 gf_sc0 hr
    have e1 : c = 0 := by
      have := hc.1
      omega
    have e2 : r = 0 := by
      have := hr.1
      omega
    subst e1
    subst e2
    refine ⟨by decide, ?_⟩
    show 0 ≤ x ∧ x ≤ 31 ∧ 0 ≤ y ∧ y ≤ 31
    omega
theorem gf_S0 (z lf rt lo hi pl vl : Nat → Nat) : gf_S 1 lf rt lo hi (gf_u (fun _ => 0) 0 0) pl vl (gf_mp z 0) := by
  refine ⟨fun p h => absurd rfl h, fun b hb => ?_⟩
  have e : b = 0 := by omega
  subst e
  rw [gf_us]
  exact ⟨by omega, gf_E0 (fun p q => q.1 rfl), fun k hk => absurd hk (by omega)⟩
theorem gf_init {post : St2 → Prop} (H : post (nI 1, nI 1, nI 1, 0, 0, gf_n gf_c0, gf_n gf_c0, gf_n (gf_u (fun _ => 0) 0 0), gf_n (gf_u (fun _ => 0) 0 0), gf_n (gf_u (fun _ => 0) 0 0), gf_n (gf_u (fun _ => 0) 0 31), gf_n (gf_u (fun _ => 0) 0 0), gf_n (gf_u (fun _ => 0) 0 31), gf_n (fun _ => 0), gf_n (fun _ => 0), gf_n (fun _ => 0), gf_n (fun _ => 0), gf_n (fun _ => 0))) : wpX_init post 13 2066 (0, 0, 0, 0, 0) := by
  unfold wpX_init
  dsimp only
  refine ⟨by omega, by omega, by omega, by omega, by omega, by omega, by omega, by omega, by omega, by omega, by omega, by omega, by omega, by omega, by omega, by omega, by omega, by omega, by omega, by omega, by omega, by omega, by omega, by omega, by omega, by omega, ?_⟩
  unfold wpX_reset
  dsimp only
  refine nm_r (gf_w0 (f := fun _ => 0) (k := 0) (v := 0)) (nm_r (gf_w0 (k := 1) (v := 32)) (nm_r (gf_w0 (f := fun _ => 0) (k := 0) (v := 0)) (nm_r (gf_w0 (k := 1) (v := 32)) (nm_r (gf_w0 (f := fun _ => 0) (k := 0) (v := 0)) (nm_r (gf_w0 (f := fun _ => 0) (k := 0) (v := 0)) (nm_r (gf_w0 (f := fun _ => 0) (k := 0) (v := 0)) (nm_r (gf_w0 (f := fun _ => 0) (k := 0) (v := 31)) (nm_r (gf_w0 (f := fun _ => 0) (k := 0) (v := 0)) (nm_r (gf_w0 (f := fun _ => 0) (k := 0) (v := 31)) ?_)))))))))
  exact H
theorem gf_L99 {post : Int32 → St0 → Prop} {mc ms kc ks : Nat} {x0 x1 x4 : Int32} {left right down up : Nat} (hpost : post 1 ()) (hlr : left ≤ right) (hrt : right < 32) (hdu : down ≤ up) (hup : up < 32) :
    wL_lawOf_99 post mc ms x0 x1 x4 (nI left) (nI right) (nI down) (nI up) kc ks (nI 1) (nI 1) (nI 1) 0 0 (gf_n gf_c0) (gf_n gf_c0) (gf_n (gf_u (fun _ => 0) 0 0)) (gf_n (gf_u (fun _ => 0) 0 0)) (gf_n (gf_u (fun _ => 0) 0 0)) (gf_n (gf_u (fun _ => 0) 0 31)) (gf_n (gf_u (fun _ => 0) 0 0)) (gf_n (gf_u (fun _ => 0) 0 31)) (gf_n (fun _ => 0)) (gf_n (fun _ => 0)) (gf_n (fun _ => 0)) (gf_n (fun _ => 0)) (gf_n (fun _ => 0)) := by
  obtain ⟨u, u1, u2⟩ := pk_andE x4 (m := 31) 5 (by decide)
  obtain ⟨v, v1, v2⟩ := pk_andE (x4 >>> ((5 : Int32) &&& 31)) (m := 31) 5 (by decide)
  obtain ⟨r, r1, r2⟩ := pk_andE (x4 >>> ((10 : Int32) &&& 31)) (m := 511) 9 (by decide)
  exact nm_r u2 (nm_r v2 (nm_r r2 (gf_L158 hpost hlr hrt hdu hup u1 v1 r1 rfl rfl rfl gf_G0 (gf_S0 _ _ _ _ _ _ _))))
theorem gf_lawOf {post : Int32 → St0 → Prop} {p0 p1 p2 p3 p4 : Int32} (hpost : post 1 ()) : wpL_lawOf post 1048 16752 () p0 p1 p2 p3 p4 := by
  unfold wpL_lawOf
  refine ⟨by omega, by omega, 13, 2066, by omega, by omega, gf_init ?_⟩
  dsimp only
  obtain ⟨xa, a1, a2⟩ := pk_andE p2 (m := 31) 5 (by decide)
  obtain ⟨xb, b1, b2⟩ := pk_andE p3 (m := 31) 5 (by decide)
  obtain ⟨ya, c1, c2⟩ := pk_andE (p2 >>> ((5 : Int32) &&& 31)) (m := 31) 5 (by decide)
  obtain ⟨yb, d1, d2⟩ := pk_andE (p3 >>> ((5 : Int32) &&& 31)) (m := 31) 5 (by decide)
  refine nm_r a2 (nm_r b2 (nm_r c2 (nm_r d2 ?_)))
  have go : ∀ l r, l ≤ r → r < 32 → ∀ kc ks, wL_lawOf_67 post 1048 16752 p0 p1 p4 (nI ya) (nI yb) (nI l) (nI r) kc ks (nI 1) (nI 1) (nI 1) 0 0 (gf_n gf_c0) (gf_n gf_c0) (gf_n (gf_u (fun _ => 0) 0 0)) (gf_n (gf_u (fun _ => 0) 0 0)) (gf_n (gf_u (fun _ => 0) 0 0)) (gf_n (gf_u (fun _ => 0) 0 31)) (gf_n (gf_u (fun _ => 0) 0 0)) (gf_n (gf_u (fun _ => 0) 0 31)) (gf_n (fun _ => 0)) (gf_n (fun _ => 0)) (gf_n (fun _ => 0)) (gf_n (fun _ => 0)) (gf_n (fun _ => 0)) := by
    intro l r h1 h2 kc ks
    refine pk_le yb ya (fun h => pk_le yb ya (fun _ => ?_) (fun h' => absurd h' (by omega)) rfl rfl (by omega) (by omega)) (fun h => pk_le yb ya (fun h' => absurd h' (by omega)) (fun _ => ?_) rfl rfl (by omega) (by omega)) rfl rfl (by omega) (by omega)
    · exact gf_L99 hpost h1 h2 h c1
    · exact gf_L99 hpost h1 h2 (by omega) d1
  refine pk_le xb xa (fun h => pk_le xb xa (fun _ => go xb xa h a1 _ _) (fun h' => absurd h' (by omega)) rfl rfl (by omega) (by omega)) (fun h => pk_le xb xa (fun h' => absurd h' (by omega)) (fun _ => go xa xb (by omega) b1 _ _) rfl rfl (by omega) (by omega)) rfl rfl (by omega) (by omega)
theorem gf_cell {post : Int32 → Prop} {L k : Nat} {xs : Nat → Int32} (hL : L ≤ 5) (hk : k < 5) (H : ∀ r, post r) : wpL_cellAt post L xs () (nI k) := by
  unfold wpL_cellAt
  exact pk_le L k (fun _ => H _) (fun h => ⟨pk_in k L h, H _⟩)
theorem i_vc (xs : Nat → Int32) (L : Nat) (hL : L ≤ 5) : wpL_law (fun r => r = 1) L xs := by
  unfold wpL_law
  refine gf_cell (k := 0) hL (by omega) (fun r1 => gf_cell (k := 1) hL (by omega) (fun r2 => gf_cell (k := 2) hL (by omega) (fun r3 => gf_cell (k := 3) hL (by omega) (fun r4 => gf_cell (k := 4) hL (by omega) (fun r5 => ?_)))))
  exact ⟨1048, 16752, by omega, by omega, gf_lawOf rfl⟩
end
