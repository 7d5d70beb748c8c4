section
theorem pk_us {f : Nat → Int32} {k : Nat} {x : Int32} : upd f k x k = x := if_pos rfl
theorem pk_un {f : Nat → Int32} {k j : Nat} {x : Int32} (h : j ≠ k) : upd f k x j = f j := if_neg h
theorem pk_sub {a b : Nat} (h : b ≤ a) : nI a - nI b = nI (a - b) := by
  obtain ⟨c, rfl⟩ : ∃ c, a = c + b := ⟨a - b, by omega⟩
  rw [← nI_add, Int32.add_sub_cancel, Nat.add_sub_cancel]
theorem pk_m1 (n : Nat) : nI (n + 1) + (-1) = nI n := by
  rw [← nI_1, Int32.add_assoc, show (1 : Int32) + (-1) = 0 from rfl, Int32.add_zero]
theorem pk_mul (a b : Nat) : nI a * nI b = nI (a * b) := (Int32.ofNat_mul a b).symm
theorem pk_div {a d : Nat} (ha : a < 2 ^ 31) (h0 : 0 < d) (hd : d < 2 ^ 31) : nI a / nI d = nI (a / d) := by
  apply Int32.toInt_inj.mp
  rw [lg_idiv_nonneg (by rw [nI_toInt ha]; omega) (by rw [nI_toInt hd]; omega), nI_toInt ha, nI_toInt hd, nI_toInt (Nat.lt_of_le_of_lt (Nat.div_le_self a d) ha)]
  first | rfl | exact (Int.natCast_ediv _ _).symm
theorem pk_rem {a d : Nat} (ha : a < 2 ^ 31) (h0 : 0 < d) (hd : d < 2 ^ 31) : nI a - nI a / nI d * nI d = nI (a % d) := by
  rw [pk_div ha h0 hd, pk_mul, pk_sub (Nat.div_mul_le_self a d)]
  exact congrArg nI (by have := Nat.div_add_mod' a d; omega)
theorem pk_sub_toInt {a b : Nat} (ha : a < 2 ^ 30) (hb : b < 2 ^ 30) : (nI a - nI b).toInt = (a : Int) - b := by
  rw [Int32.toInt_sub, nI_toInt (by omega), nI_toInt (by omega)]
  exact Int.bmod_eq_of_le (by omega) (by omega)
theorem pk_sneg {a b : Nat} (hb : b < 2 ^ 30) (h : a < b) : nI a - nI b < 0 := by
  rw [Int32.lt_iff_toInt_lt, pk_sub_toInt (by omega) hb, show (0 : Int32).toInt = 0 from by decide]
  omega
theorem pk_ix (x : Int32) {n : Nat} (hn : n < 2 ^ 31) : x < 0 ∨ nI n ≤ x ∨ ∃ j : Nat, j < n ∧ x = nI j := by
  by_cases h : x < 0
  · exact Or.inl h
  · obtain ⟨j, hj, rfl⟩ := nI_of h
    by_cases h2 : j < n
    · exact Or.inr (Or.inr ⟨j, h2, rfl⟩)
    · exact Or.inr (Or.inl (nI_le (by omega) hj))
theorem pk_le {x y : Int32} {A B : Prop} (a b : Nat) (f : a ≤ b → A) (g : b < a → B) (hx : x = nI a := by rfl) (hy : y = nI b := by rfl) (ha : a < 2 ^ 31 := by omega) (hb : b < 2 ^ 31 := by omega) : (x ≤ y → A) ∧ (¬ x ≤ y → B) := by
  subst hx hy
  rw [nI_leI ha hb]
  exact ⟨f, fun z => g (by omega)⟩
theorem pk_lt {x y : Int32} {A B : Prop} (a b : Nat) (f : a < b → A) (g : b ≤ a → B) (hx : x = nI a := by rfl) (hy : y = nI b := by rfl) (ha : a < 2 ^ 31 := by omega) (hb : b < 2 ^ 31 := by omega) : (x < y → A) ∧ (¬ x < y → B) := by
  subst hx hy
  rw [nI_ltI ha hb]
  exact ⟨f, fun z => g (by omega)⟩
theorem pk_eq {x y : Int32} {A B : Prop} (a b : Nat) (f : a = b → A) (g : a ≠ b → B) (hx : x = nI a := by rfl) (hy : y = nI b := by rfl) (ha : a < 2 ^ 31 := by omega) (hb : b < 2 ^ 31 := by omega) : (x = y → A) ∧ (¬ x = y → B) := by
  subst hx hy
  rw [nI_eq ha hb]
  exact ⟨f, g⟩
theorem pk_in {x : Int32} (n N : Nat) (h : n < N) (hx : x = nI n := by rfl) (hN : N < 2 ^ 31 := by omega) : vp_in x N := by
  subst hx
  exact vp_in_nI h hN
theorem pk_cl {x : Int32} (n : Nat) (hx : x = nI n := by rfl) (h : n < 2 ^ 31 := by omega) : x.toNatClampNeg = n := by
  subst hx
  exact nI_clamp h
theorem pk_least (P : Nat → Prop) (h : ∃ k, P k) : ∃ k, P k ∧ ∀ j, j < k → ¬ P j := by
  obtain ⟨k, hk⟩ := h
  induction k using Nat.strongRecOn with
  | ind k ih =>
    by_cases e : ∃ j, j < k ∧ P j
    · obtain ⟨j, hj, pj⟩ := e
      exact ih j hj pj
    · exact ⟨k, hk, fun j hj pj => e ⟨j, hj, pj⟩⟩
end
section
/-- the infinite word s from i on is smaller than that from j on -/
def rf_lt (s : Nat → Int) (i j : Nat) : Prop := ∃ k, (∀ m, m < k → s (i + m) = s (j + m)) ∧ s (i + k) < s (j + k)
/-- the infinite words from i and from j on are the same -/
def rf_eq (s : Nat → Int) (i j : Nat) : Prop := ∀ m, s (i + m) = s (j + m)
theorem rf_lt_irr {s : Nat → Int} {i : Nat} : ¬ rf_lt s i i := fun ⟨_, _, h⟩ => Int.lt_irrefl _ h
theorem rf_lt_trans {s : Nat → Int} {a b c : Nat} (h1 : rf_lt s a b) (h2 : rf_lt s b c) : rf_lt s a c := by
  obtain ⟨k, e1, l1⟩ := h1
  obtain ⟨j, e2, l2⟩ := h2
  rcases Nat.lt_trichotomy k j with h | h | h
  · refine ⟨k, fun m hm => (e1 m hm).trans (e2 m (by omega)), ?_⟩
    rw [← e2 k h]; exact l1
  · subst h
    exact ⟨k, fun m hm => (e1 m hm).trans (e2 m hm), Int.lt_trans l1 l2⟩
  · refine ⟨j, fun m hm => (e1 m (by omega)).trans (e2 m hm), ?_⟩
    rw [e1 j h]; exact l2
theorem rf_lt_asym {s : Nat → Int} {a b : Nat} (h1 : rf_lt s a b) (h2 : rf_lt s b a) : False := rf_lt_irr (rf_lt_trans h1 h2)
theorem rf_tri (s : Nat → Int) (a b : Nat) : rf_lt s a b ∨ rf_lt s b a ∨ rf_eq s a b := by
  by_cases h : ∃ k, s (a + k) ≠ s (b + k)
  · obtain ⟨k, hk, hl⟩ := pk_least _ h
    have e : ∀ m, m < k → s (a + m) = s (b + m) := fun m hm => Classical.not_not.mp (hl m hm)
    rcases Int.lt_or_gt_of_ne hk with h | h
    · exact Or.inl ⟨k, e, h⟩
    · exact Or.inr (Or.inl ⟨k, fun m hm => (e m hm).symm, h⟩)
  · exact Or.inr (Or.inr fun m => Classical.not_not.mp fun z => h ⟨m, z⟩)
theorem rf_lt_drop {s : Nat → Int} {a b d : Nat} (h : ∀ m, m < d → s (a + m) = s (b + m)) : rf_lt s a b ↔ rf_lt s (a + d) (b + d) := by
  constructor
  · intro ⟨k, e, l⟩
    have hk : d ≤ k := Nat.le_of_not_lt fun z => by have := h k z; omega
    refine ⟨k - d, fun m hm => ?_, ?_⟩
    · have := e (d + m) (by omega)
      rwa [← Nat.add_assoc, ← Nat.add_assoc] at this
    · rw [show a + d + (k - d) = a + k by omega, show b + d + (k - d) = b + k by omega]; exact l
  · intro ⟨k, e, l⟩
    refine ⟨d + k, fun m hm => ?_, ?_⟩
    · by_cases z : m < d
      · exact h m z
      · have := e (m - d) (by omega)
        rwa [show a + d + (m - d) = a + m by omega, show b + d + (m - d) = b + m by omega] at this
    · rw [← Nat.add_assoc, ← Nat.add_assoc]; exact l
theorem rf_eq_symm {s : Nat → Int} {a b : Nat} (h : rf_eq s a b) : rf_eq s b a := fun m => (h m).symm
theorem rf_eq_lt {s : Nat → Int} {a b c : Nat} (h : rf_eq s a b) (h2 : rf_lt s b c) : rf_lt s a c := by
  obtain ⟨k, e, l⟩ := h2
  exact ⟨k, fun m hm => (h m).trans (e m hm), by rw [h k]; exact l⟩
theorem rf_lt_eq {s : Nat → Int} {a b c : Nat} (h2 : rf_lt s a b) (h : rf_eq s b c) : rf_lt s a c := by
  obtain ⟨k, e, l⟩ := h2
  exact ⟨k, fun m hm => (e m hm).trans (h m), by rw [← h k]; exact l⟩
/-- a least one among the first p + 1 -/
theorem rf_min (s : Nat → Int) : ∀ p, ∃ i, i ≤ p ∧ ∀ j, j ≤ p → ¬ rf_lt s j i := by
  intro p
  induction p with
  | zero =>
    refine ⟨0, Nat.le_refl _, fun j hj h => ?_⟩
    have : j = 0 := by omega
    subst this
    exact rf_lt_irr h
  | succ p ih =>
    obtain ⟨i, hi, hm⟩ := ih
    by_cases h : rf_lt s (p + 1) i
    · refine ⟨p + 1, Nat.le_refl _, fun j hj hl => ?_⟩
      by_cases z : j = p + 1
      · subst z; exact rf_lt_irr hl
      · exact hm j (by omega) (rf_lt_trans hl h)
    · refine ⟨i, by omega, fun j hj hl => ?_⟩
      by_cases z : j = p + 1
      · subst z; exact h hl
      · exact hm j (by omega) hl
/-- the text with an end that is smaller than all letters -/
def rf_s (t : Nat → Int) (n : Nat) : Nat → Int := fun x => if x < n then t x else -9
theorem rf_s_in {t : Nat → Int} {n x : Nat} (h : x < n) : rf_s t n x = t x := if_pos h
theorem rf_s_out {t : Nat → Int} {n x : Nat} (h : n ≤ x) : rf_s t n x = -9 := if_neg (by omega)
def rf_big (t : Nat → Int) : Prop := ∀ x, -9 < t x ∧ t x < 9
theorem rf_s_ne {t : Nat → Int} (ht : rf_big t) {n i j : Nat} (hij : i < j) (hj : j ≤ n) : ¬ rf_eq (rf_s t n) i j := by
  intro h
  have h1 := h (n - j)
  rw [rf_s_in (by omega), rf_s_out (by omega)] at h1
  have := (ht (i + (n - j))).1
  omega
theorem rf_s_tot {t : Nat → Int} (ht : rf_big t) {n i j : Nat} (hij : i ≠ j) (hi : i ≤ n) (hj : j ≤ n) : rf_lt (rf_s t n) i j ∨ rf_lt (rf_s t n) j i := by
  rcases rf_tri (rf_s t n) i j with h | h | h
  · exact Or.inl h
  · exact Or.inr h
  · rcases Nat.lt_or_gt_of_ne hij with z | z
    · exact absurd h (rf_s_ne ht z hj)
    · exact absurd (rf_eq_symm h) (rf_s_ne ht z hi)
theorem rf_s_end {t : Nat → Int} (ht : rf_big t) {n i : Nat} (h : i < n) : rf_lt (rf_s t n) n i := by
  refine ⟨0, fun m hm => by omega, ?_⟩
  rw [Nat.add_zero, Nat.add_zero, rf_s_out (Nat.le_refl n), rf_s_in h]
  exact (ht i).1
/-- e is the next place whose end is smaller than that of i -/
def rf_ns (t : Nat → Int) (n i e : Nat) : Prop := i < e ∧ e ≤ n ∧ (∀ m, i < m → m < e → rf_lt (rf_s t n) i m) ∧ rf_lt (rf_s t n) e i
theorem rf_ns_u {t : Nat → Int} {n i e f : Nat} (h : rf_ns t n i e) (g : rf_ns t n i f) : e = f := by
  rcases Nat.lt_trichotomy e f with z | z | z
  · exact absurd h.2.2.2 (rf_lt_asym (g.2.2.1 e h.1 z))
  · exact z
  · exact absurd g.2.2.2 (rf_lt_asym (h.2.2.1 f g.1 z))
theorem rf_ns_jump {t : Nat → Int} {n i j e : Nat} (hij : i < j) (h : ∀ m, i < m → m < j → rf_lt (rf_s t n) i m) (hl : rf_lt (rf_s t n) i j) (hj : rf_ns t n j e) :
    ∀ m, i < m → m < e → rf_lt (rf_s t n) i m := by
  intro m h1 h2
  rcases Nat.lt_trichotomy m j with z | z | z
  · exact h m h1 z
  · subst z; exact hl
  · exact rf_lt_trans hl (hj.2.2.1 m z h2)
/-- a longest word that is smaller than all its ends has no smaller period -/
theorem rf_prim {t : Nat → Int} {n i p : Nat} (h : rf_ns t n i (i + p)) {q : Nat} (h0 : 0 < q) (hq : q < p) (per : ∀ m, m + q < p → t (i + m) = t (i + m + q)) : False := by
  have hn := h.2.1
  have l1 := h.2.2.1 (i + q) (by omega) (by omega)
  have l2 := h.2.2.1 (i + (p - q)) (by omega) (by omega)
  have e : ∀ m, m < p - q → rf_s t n (i + m) = rf_s t n (i + q + m) := by
    intro m hm
    rw [rf_s_in (by omega), rf_s_in (by omega), per m (by omega)]
    exact congrArg t (by omega)
  have l3 := (rf_lt_drop e).mp l1
  rw [show i + q + (p - q) = i + p by omega] at l3
  exact rf_lt_asym (rf_lt_trans l2 l3) h.2.2.2
/-- q is a period of the stretch from b to e -/
def rf_per (t : Nat → Int) (b e q : Nat) : Prop := ∀ m, b ≤ m → m + q < e → t m = t (m + q)
/-- a run: from b to e with the least period p -/
def rf_run (t : Nat → Int) (n b e p : Nat) : Prop := 1 ≤ p ∧ b + 2 * p ≤ e ∧ e ≤ n ∧ rf_per t b e p ∧ (b = 0 ∨ t (b - 1) ≠ t (b - 1 + p)) ∧ (e = n ∨ t e ≠ t (e - p)) ∧ ∀ q, 1 ≤ q → q < p → ¬ rf_per t b e q
theorem rf_runA {t o : Nat → Int} {n i p b e : Nat} (ho : ∀ x y, t x = t y → o x = o y) (h : rf_ns o n i (i + p)) (hb : b ≤ i) (he : i + p ≤ e) (hn : e ≤ n) (h2 : b + 2 * p ≤ e) (per : rf_per t b e p)
    (hl : b = 0 ∨ t (b - 1) ≠ t (b - 1 + p)) (hr : e = n ∨ t e ≠ t (e - p)) : rf_run t n b e p := by
  have h1 := h.1
  refine ⟨by omega, h2, hn, per, hl, hr, fun q q1 qp hq => rf_prim h (q := q) (by omega) qp fun m hm => ho _ _ (hq (i + m) (by omega) (by omega))⟩
/-- every run whose next letter is smaller than its period asks has a root -/
theorem rf_rootL {t : Nat → Int} (ht : rf_big t) {n b e p : Nat} (R : rf_run t n b e p) (hl : e = n ∨ t e < t (e - p)) : ∃ i, b ≤ i ∧ i + p ≤ e ∧ rf_ns t n i (i + p) := by
  obtain ⟨p1, h2, hn, per, _, _, least⟩ := R
  have hU : ∃ U : Nat → Int, ∀ m, U m = t (b + m % p) := ⟨fun m => t (b + m % p), fun _ => rfl⟩
  obtain ⟨U, hU⟩ := hU
  have Up : ∀ m, U (m + p) = U m := fun m => by rw [hU, hU, Nat.add_mod_right]
  have Uk : ∀ k m, U (m + p * k) = U m := by
    intro k
    induction k with
    | zero => intro m; rw [Nat.mul_zero, Nat.add_zero]
    | succ k ih => intro m; rw [Nat.mul_succ, ← Nat.add_assoc, Up, ih]
  have Umod : ∀ j m, U (j + m) = U (j % p + m) := fun j m => by rw [hU, hU, Nat.mod_add_mod]
  have tU : ∀ d m, b + m < e → m < p + d → t (b + m) = U m := by
    intro d
    induction d with
    | zero => intro m _ hm; rw [hU, Nat.mod_eq_of_lt (by omega)]
    | succ d ih =>
      intro m he hm
      by_cases z : m < p
      · rw [hU, Nat.mod_eq_of_lt z]
      · have e1 := ih (m - p) (by omega) (by omega)
        have e2 := per (b + (m - p)) (by omega) (by omega)
        rw [show b + (m - p) + p = b + m by omega] at e2
        rw [← e2, e1, ← Up, show m - p + p = m by omega]
  have tU' : ∀ m, b + m < e → t (b + m) = U m := fun m hm => tU m m hm (by omega)
  obtain ⟨i, hi, hm⟩ := rf_min U (p - 1)
  have hm' : ∀ j, ¬ rf_lt U j i := by
    intro j hj
    exact hm (j % p) (by have := Nat.mod_lt j (show 0 < p by omega); omega) (rf_eq_lt (fun m => (Umod j m).symm) hj)
  have sU : ∀ m, b + m < e → rf_s t n (b + m) = U m := fun m hm => by rw [rf_s_in (by omega), tU' m hm]
  refine ⟨b + i, by omega, by omega, by omega, by omega, ?_, ?_⟩
  · intro x x1 x2
    obtain ⟨q, hq⟩ : ∃ q, x = b + i + q := ⟨x - (b + i), by omega⟩
    subst hq
    rcases rf_tri U i (i + q) with h | h | h
    · by_cases z : ∀ m, m < p - q → U (i + m) = U (i + q + m)
      · have h3 := (rf_lt_drop z).mp h
        rw [show i + q + (p - q) = i + p by omega] at h3
        refine absurd (rf_lt_eq h3 ?_) (hm' _)
        intro m
        rw [show i + p + m = i + m + p by omega, Up]
      · obtain ⟨k, e1, l1⟩ := h
        have hk : k < p - q := Nat.lt_of_not_le fun w => z fun m hm => e1 m (by omega)
        refine ⟨k, fun m hm => ?_, ?_⟩
        · rw [show b + i + m = b + (i + m) by omega, show b + i + q + m = b + (i + q + m) by omega, sU _ (by omega), sU _ (by omega)]
          exact e1 m hm
        · rw [show b + i + k = b + (i + k) by omega, show b + i + q + k = b + (i + q + k) by omega, sU _ (by omega), sU _ (by omega)]
          exact l1
    · exact absurd h (hm' _)
    · refine absurd ?_ (least q (by omega) (by omega))
      intro m m1 m2
      obtain ⟨y, rfl⟩ : ∃ y, m = b + y := ⟨m - b, by omega⟩
      rw [tU' y (by omega), show b + y + q = b + (y + q) by omega, tU' (y + q) (by omega)]
      have hp : i ≤ p * i := Nat.le_mul_of_pos_left i (by omega)
      have e1 := h (y + (p * i - i))
      rw [show i + (y + (p * i - i)) = y + p * i by omega, show i + q + (y + (p * i - i)) = y + q + p * i by omega, Uk, Uk] at e1
      exact e1
  · refine ⟨e - p - (b + i), fun m hm => ?_, ?_⟩
    · rw [rf_s_in (by omega), rf_s_in (by omega), per (b + i + m) (by omega) (by omega)]
      exact congrArg t (by omega)
    · rw [show b + i + p + (e - p - (b + i)) = e by omega, show b + i + (e - p - (b + i)) = e - p by omega, rf_s_in (x := e - p) (by omega)]
      by_cases z : e = n
      · rw [rf_s_out (by omega)]; exact (ht _).1
      · rw [rf_s_in (by omega)]
        rcases hl with h | h
        · exact absurd h z
        · exact h
theorem rf_run_neg {t : Nat → Int} {n b e p : Nat} (R : rf_run t n b e p) : rf_run (fun x => - t x) n b e p := by
  obtain ⟨p1, h2, hn, per, l, r, least⟩ := R
  refine ⟨p1, h2, hn, fun m h1 h2 => congrArg (fun z => - z) (per m h1 h2), ?_, ?_, fun q q1 qp h => least q q1 qp fun m h1 h2 => ?_⟩
  · rcases l with h | h
    · exact Or.inl h
    · refine Or.inr fun z => h ?_
      dsimp only at z; omega
  · rcases r with h | h
    · exact Or.inl h
    · refine Or.inr fun z => h ?_
      dsimp only at z; omega
  · have z := h m h1 h2
    dsimp only at z; omega
theorem rf_per_neg {t : Nat → Int} {b e p : Nat} (h : rf_per (fun x => - t x) b e p) : rf_per t b e p := by
  intro m h1 h2
  have z := h m h1 h2
  dsimp only at z; omega
theorem rf_run_neg' {t : Nat → Int} {n b e p : Nat} (R : rf_run (fun x => - t x) n b e p) : rf_run t n b e p := by
  have h := rf_run_neg R
  have e : (fun x => - (fun x => - t x) x) = t := by
    funext x
    show - - t x = t x
    omega
  rwa [e] at h
theorem rf_big_neg {t : Nat → Int} (ht : rf_big t) : rf_big (fun x => - t x) := by
  intro x
  have := ht x
  show -9 < - t x ∧ - t x < 9
  omega
theorem rf_runB {t : Nat → Int} (ht : rf_big t) {n b e p : Nat} (R : rf_run t n b e p) : ∃ i, b ≤ i ∧ i + p ≤ e ∧ (rf_ns t n i (i + p) ∨ rf_ns (fun x => - t x) n i (i + p)) := by
  have R' := R
  obtain ⟨p1, h2, hn, per, l, r, least⟩ := R'
  by_cases z : e = n ∨ t e < t (e - p)
  · obtain ⟨i, h1, h2, h3⟩ := rf_rootL ht R z
    exact ⟨i, h1, h2, Or.inl h3⟩
  · have z' : e = n ∨ (fun x => - t x) e < (fun x => - t x) (e - p) := by
      rcases r with h | h
      · exact Or.inl h
      · refine Or.inr ?_
        have : ¬ t e < t (e - p) := fun w => z (Or.inr w)
        show - t e < - t (e - p)
        omega
    obtain ⟨i, h1, h2, h3⟩ := rf_rootL (rf_big_neg ht) (rf_run_neg R) z'
    exact ⟨i, h1, h2, Or.inr h3⟩
end
section
theorem rf_per_mono {t : Nat → Int} {b e b' e' p : Nat} (h : rf_per t b e p) (hb : b ≤ b') (he : e' ≤ e) : rf_per t b' e' p := fun m h1 h2 => h m (by omega) (by omega)
theorem rf_per_mul {t : Nat → Int} {b e p : Nat} (h : rf_per t b e p) : ∀ k x, b ≤ x → x + p * k < e → t x = t (x + p * k) := by
  intro k
  induction k with
  | zero => intro x _ _; rw [Nat.mul_zero, Nat.add_zero]
  | succ k ih =>
    intro x hx he
    rw [Nat.mul_succ] at he ⊢
    rw [ih x hx (by omega), ← Nat.add_assoc]
    exact h (x + p * k) (by omega) (by omega)
theorem rf_per_dvd {t : Nat → Int} {b e p q : Nat} (h : rf_per t b e p) (hd : p ∣ q) : rf_per t b e q := by
  obtain ⟨k, rfl⟩ := hd
  exact fun m h1 h2 => rf_per_mul h k m h1 h2
theorem rf_per_sub {t : Nat → Int} {b e p q : Nat} (h : rf_per t b e p) (g : rf_per t b e q) (hpq : p ≤ q) (hl : b + p + q ≤ e) : rf_per t b e (q - p) := by
  intro m h1 h2
  by_cases z : m + q < e
  · rw [g m h1 z, h (m + (q - p)) (by omega) (by omega)]
    exact congrArg t (by omega)
  · have e1 := h (m - p) (by omega) (by omega)
    have e2 := g (m - p) (by omega) (by omega)
    rw [show m - p + p = m by omega] at e1
    rw [← e1, e2]
    exact congrArg t (by omega)
theorem rf_least_dvd {t : Nat → Int} {b e p : Nat} (p1 : 1 ≤ p) (h : rf_per t b e p) (hm : ∀ q, 1 ≤ q → q < p → ¬ rf_per t b e q) : ∀ q, b + p + q ≤ e → rf_per t b e q → p ∣ q := by
  intro q
  induction q using Nat.strongRecOn with
  | ind q ih =>
    intro hl g
    by_cases z : q < p
    · by_cases w : q = 0
      · subst w; exact Nat.dvd_zero p
      · exact absurd g (hm q (by omega) z)
    · have := ih (q - p) (by omega) (by omega) (rf_per_sub h g (by omega) hl)
      rw [show q = q - p + p by omega]
      exact Nat.dvd_add this (Nat.dvd_refl p)
theorem rf_extR {t : Nat → Int} {n b p : Nat} : ∀ d e, e + d = n → b + p ≤ e → rf_per t b e p → ∃ e', e ≤ e' ∧ e' ≤ n ∧ rf_per t b e' p ∧ (e' = n ∨ t e' ≠ t (e' - p)) := by
  intro d
  induction d with
  | zero => intro e he _ h; exact ⟨e, Nat.le_refl _, by omega, h, Or.inl (by omega)⟩
  | succ d ih =>
    intro e he hb h
    by_cases z : t e = t (e - p)
    · obtain ⟨e', h1, h2, h3, h4⟩ := ih (e + 1) (by omega) (by omega) (by
        intro m m1 m2
        by_cases w : m + p < e
        · exact h m m1 w
        · rw [show m + p = e by omega, z]
          exact congrArg t (by omega))
      exact ⟨e', by omega, h2, h3, h4⟩
    · exact ⟨e, Nat.le_refl _, by omega, h, Or.inr z⟩
theorem rf_extL {t : Nat → Int} {e p : Nat} : ∀ b, b + p ≤ e → rf_per t b e p → ∃ b', b' ≤ b ∧ rf_per t b' e p ∧ (b' = 0 ∨ t (b' - 1) ≠ t (b' - 1 + p)) := by
  intro b
  induction b with
  | zero => intro _ h; exact ⟨0, Nat.le_refl _, h, Or.inl rfl⟩
  | succ b ih =>
    intro he h
    by_cases z : t b = t (b + p)
    · obtain ⟨b', h1, h2, h3⟩ := ih (by omega) (by
        intro m m1 m2
        by_cases w : m = b
        · subst w; exact z
        · exact h m (by omega) m2)
      exact ⟨b', by omega, h2, h3⟩
    · exact ⟨b + 1, Nat.le_refl _, h, Or.inr z⟩
theorem rf_end_u {t : Nat → Int} {n b b' e e' p : Nat} (h : rf_per t b e p) (h' : rf_per t b' e' p) (hn : e ≤ n) (hn' : e' ≤ n) (r : e = n ∨ t e ≠ t (e - p)) (r' : e' = n ∨ t e' ≠ t (e' - p))
    (h1 : b' + p ≤ e) (h2 : b + p ≤ e') : e = e' := by
  rcases Nat.lt_trichotomy e e' with z | z | z
  · rcases r with w | w
    · omega
    · refine absurd ?_ w
      rw [h' (e - p) (by omega) (by omega)]
      exact congrArg t (by omega)
  · exact z
  · rcases r' with w | w
    · omega
    · refine absurd ?_ w
      rw [h (e' - p) (by omega) (by omega)]
      exact congrArg t (by omega)
theorem rf_beg_u {t : Nat → Int} {b b' e e' p : Nat} (h : rf_per t b e p) (h' : rf_per t b' e' p) (l : b = 0 ∨ t (b - 1) ≠ t (b - 1 + p)) (l' : b' = 0 ∨ t (b' - 1) ≠ t (b' - 1 + p))
    (h1 : b' + p ≤ e) (h2 : b + p ≤ e') : b = b' := by
  rcases Nat.lt_trichotomy b b' with z | z | z
  · rcases l' with w | w
    · omega
    · exact absurd (h (b' - 1) (by omega) (by omega)) w
  · exact z
  · rcases l with w | w
    · omega
    · exact absurd (h' (b - 1) (by omega) (by omega)) w
/-- two runs with one beginning and one period have one end -/
theorem rf_run_e {t : Nat → Int} {n b e e' p : Nat} (h : rf_run t n b e p) (h' : rf_run t n b e' p) : e = e' := by
  have h1 := h.2.1
  have h2 := h'.2.1
  exact rf_end_u h.2.2.2.1 h'.2.2.2.1 h.2.2.1 h'.2.2.1 h.2.2.2.2.2.1 h'.2.2.2.2.2.1 (by omega) (by omega)
/-- a square of half q at i -/
def rf_sq (t : Nat → Int) (n i q : Nat) : Prop := 1 ≤ q ∧ i + 2 * q ≤ n ∧ rf_per t i (i + 2 * q) q
/-- a square lies in a run -/
def rf_inr (b e p i q : Nat) : Prop := 1 ≤ q ∧ p ∣ q ∧ b ≤ i ∧ i + 2 * q ≤ e
theorem rf_sq_of {t : Nat → Int} {n b e p i q : Nat} (R : rf_run t n b e p) (h : rf_inr b e p i q) : rf_sq t n i q := by
  have hn := R.2.2.1
  obtain ⟨h1, hd, hb, he⟩ := h
  exact ⟨h1, by omega, rf_per_mono (rf_per_dvd R.2.2.2.1 hd) hb he⟩
theorem rf_lp {t : Nat → Int} {n i q : Nat} (h : rf_sq t n i q) : ∃ p, 1 ≤ p ∧ p ≤ q ∧ rf_per t i (i + 2 * q) p ∧ ∀ x, 1 ≤ x → x < p → ¬ rf_per t i (i + 2 * q) x := by
  obtain ⟨p, ⟨p1, p2⟩, hm⟩ := pk_least (fun p => 1 ≤ p ∧ rf_per t i (i + 2 * q) p) ⟨q, h.1, h.2.2⟩
  refine ⟨p, p1, ?_, p2, fun x x1 xp hx => hm x xp ⟨x1, hx⟩⟩
  exact Nat.le_of_not_lt fun z => hm q z ⟨h.1, h.2.2⟩
theorem rf_sq_run {t : Nat → Int} {n i q : Nat} (h : rf_sq t n i q) : ∃ b e p, rf_run t n b e p ∧ rf_inr b e p i q := by
  obtain ⟨p, p1, pq, per, least⟩ := rf_lp h
  have hd := rf_least_dvd p1 per least q (by omega) h.2.2
  obtain ⟨q1, hn, _⟩ := h
  obtain ⟨e, e1, e2, e3, e4⟩ := rf_extR (n := n) (n - (i + 2 * q)) (i + 2 * q) (by omega) (by omega) per
  obtain ⟨b, b1, b2, b3⟩ := rf_extL i (by omega) e3
  exact ⟨b, e, p, ⟨p1, by omega, e2, b2, b3, e4, fun x x1 xp hx => least x x1 xp (rf_per_mono hx b1 e1)⟩, q1, hd, b1, e1⟩
/-- a place of the stretch from i to i + p that is the same but for whole periods -/
theorem rf_shift {t : Nat → Int} {b e p i : Nat} (p1 : 1 ≤ p) (h : rf_per t b e p) (hb : b ≤ i) (he : i + p ≤ e) (x : Nat) (hx : b ≤ x) (d : Nat) (hd : x + d < e) (hw : i + p + d ≤ e) :
    ∃ y, i ≤ y ∧ y < i + p ∧ t x = t y ∧ t (x + d) = t (y + d) := by
  by_cases z : i ≤ x
  · have hm := Nat.mod_lt (x - i) (show 0 < p by omega)
    have e1 := Nat.mod_add_div (x - i) p
    refine ⟨i + (x - i) % p, by omega, by omega, ?_, ?_⟩
    · have := rf_per_mul h ((x - i) / p) (i + (x - i) % p) (by omega) (by omega)
      rw [this]
      exact congrArg t (by omega)
    · have := rf_per_mul h ((x - i) / p) (i + (x - i) % p + d) (by omega) (by omega)
      rw [this]
      exact congrArg t (by omega)
  · have hm := Nat.mod_lt (i - x + (p - 1)) (show 0 < p by omega)
    have e1 := Nat.mod_add_div (i - x + (p - 1)) p
    refine ⟨x + p * ((i - x + (p - 1)) / p), by omega, by omega, ?_, ?_⟩
    · exact rf_per_mul h ((i - x + (p - 1)) / p) x hx (by omega)
    · have := rf_per_mul h ((i - x + (p - 1)) / p) (x + d) (by omega) (by omega)
      rw [this]
      exact congrArg t (by omega)
theorem rf_run_p {t : Nat → Int} {n b e p i q p0 : Nat} (R : rf_run t n b e p) (h : rf_inr b e p i q) (o1 : 1 ≤ p0) (oq : p0 ≤ q) (op : rf_per t i (i + 2 * q) p0)
    (ol : ∀ x, 1 ≤ x → x < p0 → ¬ rf_per t i (i + 2 * q) x) : p = p0 := by
  obtain ⟨p1, h2, hn, per, _, _, least⟩ := R
  obtain ⟨q1, hd, hb, he⟩ := h
  have pq : p ≤ q := Nat.le_of_dvd (by omega) hd
  have a1 : ¬ p < p0 := fun z => ol p p1 z (rf_per_mono per hb he)
  have a2 : ¬ p0 < p := by
    intro z
    refine least p0 o1 z fun x x1 x2 => ?_
    obtain ⟨y, y1, y2, y3, y4⟩ := rf_shift p1 per hb (by omega) x x1 p0 x2 (by omega)
    rw [y3, y4]
    exact op y y1 (by omega)
  omega
/-- a square lies in one run alone -/
theorem rf_sq_u {t : Nat → Int} {n b e p b' e' p' i q : Nat} (R : rf_run t n b e p) (h : rf_inr b e p i q) (R' : rf_run t n b' e' p') (h' : rf_inr b' e' p' i q) : b = b' ∧ p = p' := by
  obtain ⟨p0, o1, oq, op, ol⟩ := rf_lp (rf_sq_of R h)
  have a1 := rf_run_p R h o1 oq op ol
  have a2 := rf_run_p R' h' o1 oq op ol
  subst a1 a2
  obtain ⟨_, _, hb, he⟩ := h
  obtain ⟨_, _, hb', he'⟩ := h'
  exact ⟨rf_beg_u R.2.2.2.1 R'.2.2.2.1 R.2.2.2.2.1 R'.2.2.2.2.1 (by omega) (by omega), rfl⟩
end
section
def rf_sum (f : Nat → Nat) : Nat → Nat
  | 0 => 0
  | n + 1 => rf_sum f n + f n
theorem rf_sum_congr {f g : Nat → Nat} : ∀ n, (∀ x, x < n → f x = g x) → rf_sum f n = rf_sum g n := by
  intro n
  induction n with
  | zero => intro _; rfl
  | succ n ih =>
    intro h
    show rf_sum f n + f n = rf_sum g n + g n
    rw [ih fun x hx => h x (by omega), h n (by omega)]
theorem rf_sum_add (f g : Nat → Nat) : ∀ n, rf_sum (fun x => f x + g x) n = rf_sum f n + rf_sum g n := by
  intro n
  induction n with
  | zero => rfl
  | succ n ih =>
    show rf_sum (fun x => f x + g x) n + (f n + g n) = rf_sum f n + f n + (rf_sum g n + g n)
    rw [ih]; omega
theorem rf_sum_z : ∀ n, rf_sum (fun _ => 0) n = 0 := by
  intro n
  induction n with
  | zero => rfl
  | succ n ih => exact ih
theorem rf_sum_swap (f : Nat → Nat → Nat) (m : Nat) : ∀ n, rf_sum (fun i => rf_sum (fun j => f i j) m) n = rf_sum (fun j => rf_sum (fun i => f i j) n) m := by
  intro n
  induction n with
  | zero => exact (rf_sum_z m).symm
  | succ n ih =>
    show rf_sum (fun i => rf_sum (fun j => f i j) m) n + rf_sum (fun j => f n j) m = rf_sum (fun j => rf_sum (fun i => f i j) n + f n j) m
    rw [ih, rf_sum_add]
theorem rf_sum_ext {f : Nat → Nat} {a : Nat} : ∀ d, (∀ x, a ≤ x → x < a + d → f x = 0) → rf_sum f (a + d) = rf_sum f a := by
  intro d
  induction d with
  | zero => intro _; rfl
  | succ d ih =>
    intro h
    show rf_sum f (a + d) + f (a + d) = rf_sum f a
    rw [ih fun x h1 h2 => h x h1 (by omega), h (a + d) (by omega) (by omega), Nat.add_zero]
theorem rf_sum_ext' {f : Nat → Nat} {a b : Nat} (hab : a ≤ b) (h : ∀ x, a ≤ x → x < b → f x = 0) : rf_sum f b = rf_sum f a := by
  have := rf_sum_ext (f := f) (a := a) (b - a) (fun x h1 h2 => h x h1 (by omega))
  rwa [show a + (b - a) = b by omega] at this
theorem rf_sum_one {f : Nat → Nat} {r : Nat} : ∀ n, r < n → (∀ x, x < n → x ≠ r → f x = 0) → rf_sum f n = f r := by
  intro n hr h
  have e1 : rf_sum f n = rf_sum f (r + 1) := rf_sum_ext' (by omega) fun x h1 h2 => h x h2 (by omega)
  have e2 : rf_sum f r = rf_sum f 0 := rf_sum_ext' (by omega) fun x h1 h2 => h x (by omega) (by omega)
  rw [e1]
  show rf_sum f r + f r = f r
  rw [e2]
  exact Nat.zero_add _
theorem rf_sum_le {f : Nat → Nat} {k : Nat} : ∀ n, (∀ x, x < n → f x ≤ k) → rf_sum f n ≤ k * n := by
  intro n
  induction n with
  | zero => intro _; exact Nat.zero_le _
  | succ n ih =>
    intro h
    have h1 := ih fun x hx => h x (by omega)
    have h2 := h n (by omega)
    show rf_sum f n + f n ≤ _
    rw [Nat.mul_succ]
    omega
theorem rf_cnt (b c : Nat) : ∀ m, rf_sum (fun i => if b ≤ i ∧ i < c then 1 else 0) m = min m c - b := by
  intro m
  induction m with
  | zero =>
    show 0 = _
    omega
  | succ m ih =>
    show rf_sum (fun i => if b ≤ i ∧ i < c then 1 else 0) m + (if b ≤ m ∧ m < c then 1 else 0) = _
    rw [ih]
    by_cases h : b ≤ m ∧ m < c
    · rw [if_pos h]; omega
    · rw [if_neg h]; omega
noncomputable def rf_b (P : Prop) : Nat := @ite Nat P (Classical.propDecidable P) 1 0
theorem rf_b1 {P : Prop} (h : P) : rf_b P = 1 := if_pos h
theorem rf_b0 {P : Prop} (h : ¬ P) : rf_b P = 0 := if_neg h
theorem rf_b_le (P : Prop) : rf_b P ≤ 1 := by
  by_cases h : P
  · rw [rf_b1 h]; exact Nat.le_refl _
  · rw [rf_b0 h]; exact Nat.zero_le _
/-- how many squares of half q lie in the run from b to e of period p -/
def rf_g (b e p q : Nat) : Nat := if 1 ≤ q ∧ p ∣ q ∧ 2 * q ≤ e - b then e - b - 2 * q + 1 else 0
theorem rf_g_eq {n b e p q : Nat} (he : e ≤ n) : rf_sum (fun i => rf_b (rf_inr b e p i q)) n = rf_g b e p q := by
  by_cases h : 1 ≤ q ∧ p ∣ q
  · have e1 : rf_sum (fun i => rf_b (rf_inr b e p i q)) n = rf_sum (fun i => if b ≤ i ∧ i < e + 1 - 2 * q then 1 else 0) n := by
      refine rf_sum_congr n fun x hx => ?_
      by_cases z : b ≤ x ∧ x < e + 1 - 2 * q
      · have w : rf_inr b e p x q := ⟨h.1, h.2, z.1, by omega⟩
        rw [rf_b1 w, if_pos z]
      · have w : ¬ rf_inr b e p x q := fun w => z ⟨w.2.2.1, by have := w.2.2.2; omega⟩
        rw [rf_b0 w, if_neg z]
    rw [e1, rf_cnt]
    have h1 := h.1
    by_cases z : 2 * q ≤ e - b
    · rw [rf_g, if_pos ⟨h.1, h.2, z⟩]; omega
    · rw [rf_g, if_neg fun w => z w.2.2]; omega
  · rw [rf_g, if_neg fun w => h ⟨w.1, w.2.1⟩, ← rf_sum_z n]
    exact rf_sum_congr n fun x _ => rf_b0 fun w : rf_inr b e p x q => h ⟨w.1, w.2.1⟩
/-- runs in order: the key is beginning and period -/
def rf_rl (t : Nat → Int) (n c : Nat) (B E P : Nat → Nat) : Prop := (∀ r, r < c → rf_run t n (B r) (E r) (P r)) ∧ ∀ r r', r < r' → r' < c → B r * 64 + P r < B r' * 64 + P r'
def rf_all (t : Nat → Int) (n c : Nat) (B P : Nat → Nat) : Prop := ∀ b e p, rf_run t n b e p → ∃ r, r < c ∧ B r = b ∧ P r = p
theorem rf_rl_u {t : Nat → Int} {n c : Nat} {B E P : Nat → Nat} (h : rf_rl t n c B E P) {r r' : Nat} (hr : r < c) (hr' : r' < c) (hb : B r = B r') (hp : P r = P r') : r = r' := by
  rcases Nat.lt_trichotomy r r' with z | z | z
  · have := h.2 r r' z hr'
    rw [hb, hp] at this
    omega
  · exact z
  · have := h.2 r' r z hr
    rw [hb, hp] at this
    omega
theorem rf_sq_sum {t : Nat → Int} {n c : Nat} {B E P : Nat → Nat} (h : rf_rl t n c B E P) (ha : rf_all t n c B P) (i q : Nat) :
    rf_b (rf_sq t n i q) = rf_sum (fun r => rf_b (rf_inr (B r) (E r) (P r) i q)) c := by
  by_cases z : rf_sq t n i q
  · obtain ⟨b, e, p, R, hi⟩ := rf_sq_run z
    obtain ⟨r, hr, rfl, rfl⟩ := ha b e p R
    have he := rf_run_e R (h.1 r hr)
    subst he
    rw [rf_b1 z, rf_sum_one (r := r) c hr]
    · exact (rf_b1 hi).symm
    · intro x hx hne
      refine rf_b0 fun w => hne ?_
      obtain ⟨u1, u2⟩ := rf_sq_u (h.1 x hx) w R hi
      exact rf_rl_u h hx hr u1 u2
  · rw [rf_b0 z, ← rf_sum_z c]
    exact (rf_sum_congr c fun x hx => rf_b0 fun w => z (rf_sq_of (h.1 x hx) w)).symm
theorem rf_squares {t : Nat → Int} {n c : Nat} {B E P : Nat → Nat} (h : rf_rl t n c B E P) (ha : rf_all t n c B P) :
    rf_sum (fun i => rf_sum (fun q => rf_b (rf_sq t n i q)) 17) n = rf_sum (fun r => rf_sum (fun q => rf_g (B r) (E r) (P r) q) 17) c := by
  have e1 : rf_sum (fun i => rf_sum (fun q => rf_b (rf_sq t n i q)) 17) n = rf_sum (fun i => rf_sum (fun r => rf_sum (fun q => rf_b (rf_inr (B r) (E r) (P r) i q)) 17) c) n := by
    refine rf_sum_congr n fun i _ => ?_
    rw [rf_sum_congr (g := fun q => rf_sum (fun r => rf_b (rf_inr (B r) (E r) (P r) i q)) c) 17 fun q _ => rf_sq_sum h ha i q]
    exact rf_sum_swap (fun q r => rf_b (rf_inr (B r) (E r) (P r) i q)) c 17
  rw [e1, rf_sum_swap (fun i r => rf_sum (fun q => rf_b (rf_inr (B r) (E r) (P r) i q)) 17) c n]
  refine rf_sum_congr c fun r hr => ?_
  rw [rf_sum_swap (fun i q => rf_b (rf_inr (B r) (E r) (P r) i q)) 17 n]
  exact rf_sum_congr 17 fun q _ => rf_g_eq (h.1 r hr).2.2.1
end
section
/-- places whose end is smaller than all ends that begin ahead of it -/
def rf_pm (t : Nat → Int) (n c : Nat) : Prop := c ≤ n ∧ ∀ a, a < c → rf_lt (rf_s t n) c a
theorem rf_pm_0 (t : Nat → Int) (n : Nat) : rf_pm t n 0 := ⟨Nat.zero_le _, fun a h => absurd h (Nat.not_lt_zero a)⟩
theorem rf_pm_n {t : Nat → Int} (ht : rf_big t) (n : Nat) : rf_pm t n n := ⟨Nat.le_refl _, fun _ h => rf_s_end ht h⟩
theorem rf_pm_ns {t : Nat → Int} {n c e : Nat} (h : rf_pm t n c) (g : rf_ns t n c e) : rf_pm t n e := by
  refine ⟨g.2.1, fun a ha => ?_⟩
  rcases Nat.lt_trichotomy a c with z | z | z
  · exact rf_lt_trans g.2.2.2 (h.2 a z)
  · subst z; exact g.2.2.2
  · exact rf_lt_trans g.2.2.2 (g.2.2.1 a z ha)
theorem rf_pm_no {t : Nat → Int} {n c e : Nat} (g : rf_ns t n c e) : ∀ m, c < m → m < e → ¬ rf_pm t n m := fun m h1 h2 h => rf_lt_asym (g.2.2.1 m h1 h2) (h.2 c h1)
noncomputable def rf_pc (t : Nat → Int) (n x : Nat) : Nat := rf_sum (fun a => rf_b (rf_pm t n a)) x
theorem rf_pc_step {t : Nat → Int} {n c e : Nat} (h : rf_pm t n c) (hce : c < e) (hno : ∀ m, c < m → m < e → ¬ rf_pm t n m) : rf_pc t n e = rf_pc t n c + 1 := by
  have e1 : rf_pc t n e = rf_pc t n (c + 1) := rf_sum_ext' (by omega) fun x h1 h2 => rf_b0 (hno x (by omega) h2)
  rw [e1]
  show rf_pc t n c + rf_b (rf_pm t n c) = _
  rw [rf_b1 h]
theorem rf_pc_le (t : Nat → Int) (n x : Nat) : rf_pc t n x ≤ x := by
  have := rf_sum_le (f := fun a => rf_b (rf_pm t n a)) (k := 1) x fun a _ => rf_b_le _
  rwa [Nat.one_mul] at this
/-- r is the beginning of the smallest stretch that goes to e -/
def rf_best (t : Nat → Int) (e r : Nat) : Prop := r < e ∧ ∀ a, a < e → a ≠ r → rf_lt (rf_s t e) r a
theorem rf_best_u {t : Nat → Int} {e r r' : Nat} (h : rf_best t e r) (h' : rf_best t e r') : r = r' := by
  by_cases z : r = r'
  · exact z
  · exact absurd (h'.2 r h.1 z) (rf_lt_asym (h.2 r' h'.1 fun w => z w.symm))
theorem rf_best_ns {t : Nat → Int} {n c : Nat} (h : rf_pm t n c) (g : rf_ns t n c n) : rf_best t n c := by
  refine ⟨g.1, fun a ha hne => ?_⟩
  rcases Nat.lt_trichotomy a c with z | z | z
  · exact h.2 a z
  · exact absurd z hne
  · exact g.2.2.1 a z ha
theorem rf_pm_ord {t : Nat → Int} (ht : rf_big t) {n c a b : Nat} (h : rf_pm t n c) (ha : a < c) (hb : b < c) (hl : rf_lt (rf_s t c) a b) : rf_lt (rf_s t n) a b := by
  obtain ⟨k, e, l⟩ := hl
  have hn := h.1
  have hbk : b + k < c := Nat.lt_of_not_le fun z => by
    rw [rf_s_out (x := b + k) z] at l
    by_cases w : a + k < c
    · rw [rf_s_in w] at l
      have := (ht (a + k)).1
      omega
    · rw [rf_s_out (by omega)] at l
      omega
  have em : ∀ m, m < k → a + m < c := by
    intro m hm
    refine Nat.lt_of_not_le fun z => ?_
    have e1 := e m hm
    rw [rf_s_out z, rf_s_in (by omega)] at e1
    have := (ht (b + m)).1
    omega
  have e' : ∀ m, m < k → rf_s t n (a + m) = rf_s t n (b + m) := by
    intro m hm
    have e1 := e m hm
    have h1 := em m hm
    rw [rf_s_in h1, rf_s_in (by omega)] at e1
    rw [rf_s_in (by omega), rf_s_in (by omega)]
    exact e1
  by_cases z : a + k < c
  · refine ⟨k, e', ?_⟩
    rw [rf_s_in z, rf_s_in hbk] at l
    rw [rf_s_in (by omega), rf_s_in (by omega)]
    exact l
  · refine (rf_lt_drop e').mpr ?_
    have : a + k = c := by
      by_cases w : k = 0
      · omega
      · have := em (k - 1) (by omega)
        omega
    rw [this]
    exact h.2 (b + k) hbk
theorem rf_best_pm {t : Nat → Int} (ht : rf_big t) {n c r : Nat} (h : rf_pm t n c) (g : rf_best t c r) : rf_pm t n r ∧ ∀ m, r < m → m < c → ¬ rf_pm t n m := by
  have o : ∀ a, a < c → a ≠ r → rf_lt (rf_s t n) r a := fun a ha hne => rf_pm_ord ht h g.1 ha (g.2 a ha hne)
  have hn := h.1
  have hr := g.1
  exact ⟨⟨by omega, fun a ha => o a (by omega) (by omega)⟩, fun m h1 h2 w => rf_lt_asym (o m h2 (by omega)) (w.2 r h1)⟩
/-- the text read all round -/
def rf_c (t : Nat → Int) (n : Nat) : Nat → Int := fun m => t (m % n)
theorem rf_c_mod (t : Nat → Int) (n a m : Nat) : rf_c t n (a + m % n) = rf_c t n (a + m) := by
  show t ((a + m % n) % n) = t ((a + m) % n)
  rw [Nat.add_mod_mod]
theorem rf_c_mod' (t : Nat → Int) (n a m : Nat) : rf_c t n (a % n + m) = rf_c t n (a + m) := by
  show t ((a % n + m) % n) = t ((a + m) % n)
  rw [Nat.mod_add_mod]
/-- if the first n letters are the same, all are -/
theorem rf_c_eq {t : Nat → Int} {n a b : Nat} (hn : 0 < n) (h : ∀ m, m < n → rf_c t n (a + m) = rf_c t n (b + m)) : rf_eq (rf_c t n) a b := by
  intro m
  rw [← rf_c_mod, ← rf_c_mod t n b m]
  exact h _ (Nat.mod_lt m hn)
/-- the first of the smallest readings -/
def rf_fm (t : Nat → Int) (n r : Nat) : Prop := r < n ∧ (∀ a, a < r → rf_lt (rf_c t n) r a) ∧ ∀ a, a < n → ¬ rf_lt (rf_c t n) a r
def rf_out (t : Nat → Int) (n a : Nat) : Prop := ∃ b, rf_lt (rf_c t n) b a
theorem rf_fm_in {t : Nat → Int} {n r : Nat} (h : rf_fm t n r) : ¬ rf_out t n r := by
  intro ⟨b, hb⟩
  refine h.2.2 (b % n) (Nat.mod_lt b (by have := h.1; omega)) (rf_eq_lt (fun m => ?_) hb)
  exact rf_c_mod' t n b m
def rf_ti (t : Nat → Int) (n i j k : Nat) : Prop := i ≠ j ∧ (∀ m, m < k → rf_c t n (i + m) = rf_c t n (j + m)) ∧ ∀ a, (a < i ∨ a < j) → a ≠ i → a ≠ j → rf_out t n a
theorem rf_ti_0 (t : Nat → Int) (n : Nat) : rf_ti t n 0 1 0 := ⟨by omega, fun m h => by omega, fun a h h1 h2 => by omega⟩
theorem rf_ti_eq {t : Nat → Int} {n i j k : Nat} (h : rf_ti t n i j k) (e : rf_c t n (i + k) = rf_c t n (j + k)) : rf_ti t n i j (k + 1) := by
  refine ⟨h.1, fun m hm => ?_, h.2.2⟩
  by_cases z : m < k
  · exact h.2.1 m z
  · rw [show m = k by omega]; exact e
theorem rf_ti_el {t : Nat → Int} {n i j k : Nat} (e : ∀ m, m < k → rf_c t n (i + m) = rf_c t n (j + m)) (l : rf_c t n (j + k) < rf_c t n (i + k)) : ∀ m, m ≤ k → rf_out t n (i + m) := by
  intro m hm
  refine ⟨j + m, ?_⟩
  refine (rf_lt_drop fun x hx => ?_).mp (⟨k, fun x hx => (e x hx).symm, l⟩ : rf_lt (rf_c t n) j i)
  exact (e x (by omega)).symm
theorem rf_ti_gt {t : Nat → Int} {n i j k i' j' : Nat} (h : rf_ti t n i j k) (l : rf_c t n (j + k) < rf_c t n (i + k)) (hi : i' = i + k + 1) (hj : (j' = j ∧ i' ≠ j) ∨ (j' = j + 1 ∧ i' = j)) : rf_ti t n i' j' 0 := by
  have o := rf_ti_el h.2.1 l
  refine ⟨by omega, fun m hm => by omega, fun a h1 h2 h3 => ?_⟩
  by_cases z : i ≤ a ∧ a ≤ i + k
  · have := o (a - i) (by omega)
    rwa [show i + (a - i) = a by omega] at this
  · exact h.2.2 a (by omega) (by omega) (by omega)
theorem rf_ti_lt {t : Nat → Int} {n i j k j' : Nat} (h : rf_ti t n i j k) (l : rf_c t n (i + k) < rf_c t n (j + k)) (hj : (j' = j + k + 1 ∧ i ≠ j + k + 1) ∨ (j' = j + k + 2 ∧ i = j + k + 1)) : rf_ti t n i j' 0 := by
  have o := rf_ti_el (fun m hm => (h.2.1 m hm).symm) l
  refine ⟨by omega, fun m hm => by omega, fun a h1 h2 h3 => ?_⟩
  by_cases z : j ≤ a ∧ a ≤ j + k
  · have := o (a - j) (by omega)
    rwa [show j + (a - j) = a by omega] at this
  · exact h.2.2 a (by omega) (by omega) (by omega)
theorem rf_fm_eq {t : Nat → Int} {n i j r : Nat} (hij : i < j) (e : rf_eq (rf_c t n) i j) (o : ∀ a, a < j → a ≠ i → rf_out t n a) (h : rf_fm t n r) : r = i := by
  rcases Nat.lt_trichotomy r j with z | z | z
  · by_cases w : r = i
    · exact w
    · exact absurd (o r z w) (rf_fm_in h)
  · subst z
    exact absurd (rf_lt_eq (h.2.1 i hij) e) rf_lt_irr
  · have e2 : rf_eq (rf_c t n) (r - (j - i)) r := by
      intro m
      have := e (r - j + m)
      rwa [show i + (r - j + m) = r - (j - i) + m by omega, show j + (r - j + m) = r + m by omega] at this
    exact absurd (rf_lt_eq (h.2.1 (r - (j - i)) (by omega)) e2) rf_lt_irr
theorem rf_ti_end {t : Nat → Int} {n i j k r : Nat} (h : rf_ti t n i j k) (g : rf_fm t n r) (hx : n ≤ i ∨ n ≤ j ∨ n ≤ k) (hm : i < n ∨ j < n) : r = min i j := by
  have hr := g.1
  have no := rf_fm_in g
  have hin : ∀ a, (a < i ∨ a < j) → a ≠ i → a ≠ j → a ≠ r := fun a h1 h2 h3 h4 => no (h4 ▸ h.2.2 a h1 h2 h3)
  have hne := h.1
  by_cases z : n ≤ i
  · have := hin r
    omega
  · by_cases w : n ≤ j
    · have := hin r
      omega
    · have e := rf_c_eq (a := i) (b := j) (by omega) fun m hm => h.2.1 m (by omega)
      by_cases y : i < j
      · rw [rf_fm_eq y e (fun a h1 h2 => h.2.2 a (by omega) h2 (by omega)) g]; omega
      · rw [rf_fm_eq (i := j) (j := i) (by omega) (rf_eq_symm e) (fun a h1 h2 => h.2.2 a (by omega) (by omega) h2) g]; omega
theorem rf_fm_u {t : Nat → Int} {n r r' : Nat} (h : rf_fm t n r) (h' : rf_fm t n r') : r = r' := by
  rcases Nat.lt_trichotomy r r' with z | z | z
  · exact absurd (h'.2.1 r z) (h.2.2 r' h'.1)
  · exact z
  · exact absurd (h.2.1 r' z) (h'.2.2 r h.1)
end
section
/-- the letters as numbers -/
def rf_t (tx : Nat → Int32) : Nat → Int := fun x => (tx x).toInt
def rf_let (tx : Nat → Int32) : Prop := ∀ x, 0 ≤ (tx x).toInt ∧ (tx x).toInt ≤ 3
theorem rf_let_big {tx : Nat → Int32} (h : rf_let tx) : rf_big (rf_t tx) := by
  intro x
  have := h x
  show -9 < (tx x).toInt ∧ (tx x).toInt < 9
  omega
theorem rf_teq {tx : Nat → Int32} {a b : Nat} : tx a = tx b ↔ rf_t tx a = rf_t tx b := Int32.toInt_inj.symm
theorem rf_ix (i j : Nat) : nI i * 33 + nI j = nI (i * 33 + j) := by
  show nI i * nI 33 + nI j = _
  rw [pk_mul, nI_add]
theorem rf_ix1 (i j : Nat) : (nI i + 1) * 33 + nI j + 1 = nI ((i + 1) * 33 + (j + 1)) := by
  rw [nI_1, rf_ix, nI_1]
  rfl
/-- k letters are common from i and j on -/
def rf_lc (t : Nat → Int) (n i j k : Nat) : Prop := (∀ m, m < k → i + m < n ∧ j + m < n ∧ t (i + m) = t (j + m)) ∧ ¬ (i + k < n ∧ j + k < n ∧ t (i + k) = t (j + k))
theorem rf_lc_0 {t : Nat → Int} {n i j : Nat} (h : ¬ (i < n ∧ j < n ∧ t i = t j)) : rf_lc t n i j 0 := ⟨fun m hm => absurd hm (Nat.not_lt_zero m), h⟩
theorem rf_lc_s {t : Nat → Int} {n i j k : Nat} (hi : i < n) (hj : j < n) (e : t i = t j) (h : rf_lc t n (i + 1) (j + 1) k) : rf_lc t n i j (k + 1) := by
  refine ⟨fun m hm => ?_, ?_⟩
  · rcases m with _ | m
    · exact ⟨hi, hj, e⟩
    · have := h.1 m (by omega)
      rwa [show i + 1 + m = i + (m + 1) by omega, show j + 1 + m = j + (m + 1) by omega] at this
  · have := h.2
    rwa [show i + 1 + k = i + (k + 1) by omega, show j + 1 + k = j + (k + 1) by omega] at this
def rf_on1 (t : Nat → Int) (n : Nat) (on : Nat → Int32) (i j : Nat) : Prop := ∃ k, on (i * 33 + j) = nI k ∧ rf_lc t n i j k
def rf_on (t : Nat → Int) (n : Nat) (on : Nat → Int32) : Prop := ∀ i j, i ≤ n → j ≤ n → rf_on1 t n on i j
theorem rf_on1_ne {t : Nat → Int} {n i j i' j' : Nat} {on : Nat → Int32} {v : Int32} (hj : j ≤ 32) (hj' : j' ≤ 32) (hne : i' ≠ i ∨ j' ≠ j) (h : rf_on1 t n on i' j') : rf_on1 t n (upd on (i * 33 + j) v) i' j' := by
  obtain ⟨k, e, l⟩ := h
  exact ⟨k, by rw [pk_un (by omega)]; exact e, l⟩
theorem rf_on1_eq {t : Nat → Int} {n i j k : Nat} {on : Nat → Int32} {v : Int32} (hv : v = nI k) (h : rf_lc t n i j k) : rf_on1 t n (upd on (i * 33 + j) v) i j := ⟨k, by rw [pk_us]; exact hv, h⟩
section
variable {post : SX → Prop} {n : Nat} {fr ff : Int32} {tx bw we fo fm to st : Nat → Int32}
theorem rf_fo54z {J5 J14 : Int32 → (Nat → Int32) → (Nat → Int32) → (Nat → Int32) → (Nat → Int32) → (Nat → Int32) → (Nat → Int32) → (Nat → Int32) → (Nat → Int32) → Prop} {on : Nat → Int32} {i c : Nat} (hi : i ≤ 32) (hc : c ≤ 32)
    (h : J14 (nI c + (-1)) tx (upd on (i * 33 + c) 0) bw we fo fm to st) : wX_fillOnward_54 post J5 J14 (nI i) (nI c) 0 (nI n) fr ff tx on bw we fo fm to st := by
  refine br_t rfl ⟨pk_in (i * 33 + c) 1089 (by omega) (rf_ix i c), nm_r (e' := upd on (i * 33 + c) 0) ?_ (nm_e h)⟩
  rw [pk_cl (i * 33 + c) (rf_ix i c)]
theorem rf_fo54s {J5 J14 : Int32 → (Nat → Int32) → (Nat → Int32) → (Nat → Int32) → (Nat → Int32) → (Nat → Int32) → (Nat → Int32) → (Nat → Int32) → (Nat → Int32) → Prop} {on : Nat → Int32} {i c : Nat} (hi : i < 32) (hc : c < 32)
    (h : J14 (nI c + (-1)) tx (upd on (i * 33 + c) (on ((i + 1) * 33 + (c + 1)) + 1)) bw we fo fm to st) : wX_fillOnward_54 post J5 J14 (nI i) (nI c) 1 (nI n) fr ff tx on bw we fo fm to st := by
  refine br_f (by decide) ⟨pk_in ((i + 1) * 33 + (c + 1)) 1089 (by omega) (rf_ix1 i c), pk_in (i * 33 + c) 1089 (by omega) (rf_ix i c), nm_r (e' := upd on (i * 33 + c) (on ((i + 1) * 33 + (c + 1)) + 1)) ?_ (nm_e h)⟩
  rw [pk_cl (i * 33 + c) (rf_ix i c), pk_cl ((i + 1) * 33 + (c + 1)) (rf_ix1 i c)]
theorem rf_fo14 {J : Int32 → (Nat → Int32) → (Nat → Int32) → (Nat → Int32) → (Nat → Int32) → (Nat → Int32) → (Nat → Int32) → (Nat → Int32) → (Nat → Int32) → Prop} (hn : n ≤ 32) (i : Nat) (hi : i ≤ n)
    (K : ∀ on' : Nat → Int32, (∀ i' j', i' ≤ n → j' ≤ n → i ≤ i' → rf_on1 (rf_t tx) n on' i' j') → J (nI i + (-1)) tx on' bw we fo fm to st) :
    ∀ (c : Nat) (on : Nat → Int32) (fuel : Nat), c ≤ n + 1 → c < fuel → (∀ i' j', i' ≤ n → j' ≤ n → (i < i' ∨ (i' = i ∧ c ≤ j')) → rf_on1 (rf_t tx) n on i' j') →
      wX_fillOnward_14 post J (nI i) (nI n) fr ff fuel (nI c + (-1)) tx on bw we fo fm to st := by
  intro c
  induction c with
  | zero =>
    intro on fuel _ hf H
    obtain ⟨f, rfl⟩ : ∃ f, fuel = f + 1 := ⟨fuel - 1, by omega⟩
    exact br_t (by decide) (nm_e (K on fun i' j' h1 h2 h3 => H i' j' h1 h2 (by omega)))
  | succ c ih =>
    intro on fuel hc hf H
    obtain ⟨f, rfl⟩ : ∃ f, fuel = f + 1 := ⟨fuel - 1, by omega⟩
    rw [pk_m1]
    have hz : ¬ (i < n ∧ c < n ∧ rf_t tx i = rf_t tx c) → wX_fillOnward_54 post J (wX_fillOnward_14 post J (nI i) (nI n) fr ff f) (nI i) (nI c) 0 (nI n) fr ff tx on bw we fo fm to st := by
      intro ne
      refine rf_fo54z (by omega) (by omega) (ih _ f (by omega) (by omega) fun i' j' h1 h2 h3 => ?_)
      by_cases z : i' = i ∧ j' = c
      · obtain ⟨rfl, rfl⟩ := z
        exact rf_on1_eq (k := 0) rfl (rf_lc_0 ne)
      · exact rf_on1_ne (by omega) (by omega) (by omega) (H i' j' h1 h2 (by omega))
    refine br_f (nI_pos (by omega)) (pk_le n i (fun h => hz (by omega)) fun hin => pk_le n c (fun h => hz (by omega)) fun hcn => ⟨vp_in_nI (by omega) (by omega), vp_in_nI (by omega) (by omega), ?_⟩)
    rw [nI_clamp (n := i) (by omega), nI_clamp (n := c) (by omega)]
    refine br_c (fun e => ?_) (fun e => hz fun w => e (rf_teq.mpr w.2.2))
    refine rf_fo54s (by omega) (by omega) (ih _ f (by omega) (by omega) fun i' j' h1 h2 h3 => ?_)
    by_cases z : i' = i ∧ j' = c
    · obtain ⟨rfl, rfl⟩ := z
      obtain ⟨k, ek, lk⟩ := H (i' + 1) (j' + 1) (by omega) (by omega) (by omega)
      exact rf_on1_eq (k := k + 1) (by rw [ek, nI_1]) (rf_lc_s hin hcn (rf_teq.mp e) lk)
    · exact rf_on1_ne (by omega) (by omega) (by omega) (H i' j' h1 h2 (by omega))
theorem rf_fo5 (hn : n ≤ 32) (K : ∀ on' : Nat → Int32, rf_on (rf_t tx) n on' → post (nI n, fr, ff, tx, on', bw, we, fo, fm, to, st)) :
    ∀ (c : Nat) (on : Nat → Int32) (fuel : Nat), c ≤ n + 1 → c < fuel → (∀ i' j', i' ≤ n → j' ≤ n → c ≤ i' → rf_on1 (rf_t tx) n on i' j') →
      wX_fillOnward_5 post (nI n) fr ff fuel (nI c + (-1)) tx on bw we fo fm to st := by
  intro c
  induction c with
  | zero =>
    intro on fuel _ hf H
    obtain ⟨f, rfl⟩ : ∃ f, fuel = f + 1 := ⟨fuel - 1, by omega⟩
    exact br_t (by decide) (K on fun i' j' h1 h2 => H i' j' h1 h2 (by omega))
  | succ c ih =>
    intro on fuel hc hf H
    obtain ⟨f, rfl⟩ : ∃ f, fuel = f + 1 := ⟨fuel - 1, by omega⟩
    rw [pk_m1]
    refine br_f (nI_pos (by omega)) ⟨n + 2, ?_⟩
    have h := rf_fo14 (post := post) (n := n) (fr := fr) (ff := ff) (tx := tx) (bw := bw) (we := we) (fo := fo) (fm := fm) (to := to) (st := st) (J := wX_fillOnward_5 post (nI n) fr ff f) hn c (by omega)
      (fun on' h => ih on' f (by omega) (by omega) h) (n + 1) on (n + 2) (by omega) (by omega) (fun i' j' h1 h2 h3 => H i' j' h1 h2 (by omega))
    rw [pk_m1] at h
    exact h
theorem rf_fillOnward {on : Nat → Int32} (hn : n ≤ 32) (K : ∀ on' : Nat → Int32, rf_on (rf_t tx) n on' → post (nI n, fr, ff, tx, on', bw, we, fo, fm, to, st)) :
    wpX_fillOnward post (nI n, fr, ff, tx, on, bw, we, fo, fm, to, st) := by
  have h := rf_fo5 (fr := fr) (ff := ff) (bw := bw) (we := we) (fo := fo) (fm := fm) (to := to) (st := st) hn K (n + 1) on (n + 2) (by omega) (by omega) (fun i' j' h1 h2 h3 => by omega)
  rw [pk_m1] at h
  exact ⟨n + 2, h⟩
end
/-- k letters are common from i and j backwards -/
def rf_bc (t : Nat → Int) (i j k : Nat) : Prop := (∀ m, m < k → m ≤ i ∧ m ≤ j ∧ t (i - m) = t (j - m)) ∧ ¬ (k ≤ i ∧ k ≤ j ∧ t (i - k) = t (j - k))
theorem rf_bc_0 {t : Nat → Int} {i j : Nat} (h : t i ≠ t j) : rf_bc t i j 0 := ⟨fun m hm => absurd hm (Nat.not_lt_zero m), fun w => h w.2.2⟩
theorem rf_bc_1 {t : Nat → Int} {i j : Nat} (h : t i = t j) (hz : i = 0 ∨ j = 0) : rf_bc t i j 1 := by
  refine ⟨fun m hm => ?_, fun w => by omega⟩
  have : m = 0 := by omega
  subst this
  exact ⟨by omega, by omega, h⟩
theorem rf_bc_s {t : Nat → Int} {i j k : Nat} (h : t (i + 1) = t (j + 1)) (g : rf_bc t i j k) : rf_bc t (i + 1) (j + 1) (k + 1) := by
  refine ⟨fun m hm => ?_, fun w => g.2 ?_⟩
  · rcases m with _ | m
    · exact ⟨by omega, by omega, h⟩
    · have := g.1 m (by omega)
      rw [show i + 1 - (m + 1) = i - m by omega, show j + 1 - (m + 1) = j - m by omega]
      exact ⟨by omega, by omega, this.2.2⟩
  · have := w.2.2
    rw [show i + 1 - (k + 1) = i - k by omega, show j + 1 - (k + 1) = j - k by omega] at this
    exact ⟨by omega, by omega, this⟩
def rf_bw1 (t : Nat → Int) (bw : Nat → Int32) (i j : Nat) : Prop := ∃ k, bw (i * 33 + j) = nI k ∧ rf_bc t i j k
def rf_bw (t : Nat → Int) (n : Nat) (bw : Nat → Int32) : Prop := ∀ i j, i < n → j < n → rf_bw1 t bw i j
theorem rf_bw1_ne {t : Nat → Int} {i j i' j' : Nat} {bw : Nat → Int32} {v : Int32} (hj : j ≤ 32) (hj' : j' ≤ 32) (hne : i' ≠ i ∨ j' ≠ j) (h : rf_bw1 t bw i' j') : rf_bw1 t (upd bw (i * 33 + j) v) i' j' := by
  obtain ⟨k, e, l⟩ := h
  exact ⟨k, by rw [pk_un (by omega)]; exact e, l⟩
theorem rf_bw1_eq {t : Nat → Int} {i j k : Nat} {bw : Nat → Int32} {v : Int32} (hv : v = nI k) (h : rf_bc t i j k) : rf_bw1 t (upd bw (i * 33 + j) v) i j := ⟨k, by rw [pk_us]; exact hv, h⟩
theorem rf_ixm (i j : Nat) : (nI (i + 1) - 1) * 33 + nI (j + 1) - 1 = nI (i * 33 + j) := by
  rw [nI_pred, rf_ix, ← Nat.add_assoc, nI_pred]
section
variable {post : SX → Prop} {n : Nat} {fr ff : Int32} {tx on we fo fm to st : Nat → Int32}
theorem rf_fb47 {J2 J12 : Int32 → (Nat → Int32) → (Nat → Int32) → (Nat → Int32) → (Nat → Int32) → (Nat → Int32) → (Nat → Int32) → (Nat → Int32) → (Nat → Int32) → Prop} {bw : Nat → Int32} {i c k : Nat} {z : Int32} (hi : i < 32) (hc : c < 32) (hz : z = nI k)
    (g : rf_t tx i = rf_t tx c → rf_bc (rf_t tx) i c (k + 1))
    (h : ∀ v, rf_bw1 (rf_t tx) (upd bw (i * 33 + c) v) i c → J12 (nI c + 1) tx on (upd bw (i * 33 + c) v) we fo fm to st) : wX_fillBackward_47 post J2 J12 (nI i) (nI c) z (nI n) fr ff tx on bw we fo fm to st := by
  refine ⟨vp_in_nI (by omega) (by omega), vp_in_nI (by omega) (by omega), ?_⟩
  rw [nI_clamp (n := i) (by omega), nI_clamp (n := c) (by omega), pk_cl (i * 33 + c) (rf_ix i c)]
  refine br_c (fun e => ⟨pk_in (i * 33 + c) 1089 (by omega) (rf_ix i c), nm_e (nm_e (h _ (rf_bw1_eq (k := k + 1) (by rw [hz, nI_1]) (g (rf_teq.mp e)))))⟩) fun e => ⟨pk_in (i * 33 + c) 1089 (by omega) (rf_ix i c), nm_e (nm_e (h _ (rf_bw1_eq (k := 0) rfl (rf_bc_0 fun w => e (rf_teq.mpr w)))))⟩
theorem rf_fb12 {J : Int32 → (Nat → Int32) → (Nat → Int32) → (Nat → Int32) → (Nat → Int32) → (Nat → Int32) → (Nat → Int32) → (Nat → Int32) → (Nat → Int32) → Prop} (hn : n ≤ 32) (i : Nat) (hi : i < n)
    (K : ∀ bw' : Nat → Int32, (∀ i' j', j' < n → i' ≤ i → rf_bw1 (rf_t tx) bw' i' j') → J (nI i + 1) tx on bw' we fo fm to st) :
    ∀ (d c : Nat) (bw : Nat → Int32) (fuel : Nat), c + d = n → d < fuel → (∀ i' j', j' < n → (i' < i ∨ (i' = i ∧ j' < c)) → rf_bw1 (rf_t tx) bw i' j') →
      wX_fillBackward_12 post J (nI i) (nI n) fr ff fuel (nI c) tx on bw we fo fm to st := by
  intro d
  induction d with
  | zero =>
    intro c bw fuel hc hf H
    obtain ⟨f, rfl⟩ : ∃ f, fuel = f + 1 := ⟨fuel - 1, by omega⟩
    exact br_t (nI_le (by omega) (by omega)) (nm_e (K bw fun i' j' h1 h2 => H i' j' h1 (by omega)))
  | succ d ih =>
    intro c bw fuel hc hf H
    obtain ⟨f, rfl⟩ : ∃ f, fuel = f + 1 := ⟨fuel - 1, by omega⟩
    have nx : ∀ v, rf_bw1 (rf_t tx) (upd bw (i * 33 + c) v) i c → wX_fillBackward_12 post J (nI i) (nI n) fr ff f (nI c + 1) tx on (upd bw (i * 33 + c) v) we fo fm to st := by
      intro v hv
      rw [nI_1]
      refine ih (c + 1) _ f (by omega) (by omega) fun i' j' h1 h2 => ?_
      by_cases z : i' = i ∧ j' = c
      · obtain ⟨rfl, rfl⟩ := z
        exact hv
      · exact rf_bw1_ne (by omega) (by omega) (by omega) (H i' j' h1 (by omega))
    refine br_f (nI_ge (by omega) (by omega)) (pk_le i 0 (fun h => ?_) fun h => pk_le c 0 (fun h' => ?_) fun h' => ?_)
    · exact rf_fb47 (k := 0) (by omega) (by omega) rfl (fun e => rf_bc_1 e (by omega)) nx
    · exact rf_fb47 (k := 0) (by omega) (by omega) rfl (fun e => rf_bc_1 e (by omega)) nx
    · obtain ⟨a, rfl⟩ : ∃ a, i = a + 1 := ⟨i - 1, by omega⟩
      obtain ⟨b, rfl⟩ : ∃ b, c = b + 1 := ⟨c - 1, by omega⟩
      obtain ⟨k, ek, lk⟩ := H a b (by omega) (by omega)
      refine ⟨pk_in (a * 33 + b) 1089 (by omega) (rf_ixm a b), rf_fb47 (k := k) (by omega) (by omega) ?_ (fun e => rf_bc_s e lk) nx⟩
      rw [pk_cl (a * 33 + b) (rf_ixm a b)]
      exact ek
theorem rf_fb2 (hn : n ≤ 32) (K : ∀ bw' : Nat → Int32, rf_bw (rf_t tx) n bw' → post (nI n, fr, ff, tx, on, bw', we, fo, fm, to, st)) :
    ∀ (d i : Nat) (bw : Nat → Int32) (fuel : Nat), i + d = n → d < fuel → (∀ i' j', j' < n → i' < i → rf_bw1 (rf_t tx) bw i' j') →
      wX_fillBackward_2 post (nI n) fr ff fuel (nI i) tx on bw we fo fm to st := by
  intro d
  induction d with
  | zero =>
    intro i bw fuel hc hf H
    obtain ⟨f, rfl⟩ : ∃ f, fuel = f + 1 := ⟨fuel - 1, by omega⟩
    exact br_t (nI_le (by omega) (by omega)) (K bw fun i' j' h1 h2 => H i' j' h2 (by omega))
  | succ d ih =>
    intro i bw fuel hc hf H
    obtain ⟨f, rfl⟩ : ∃ f, fuel = f + 1 := ⟨fuel - 1, by omega⟩
    refine br_f (nI_ge (by omega) (by omega)) ⟨n + 1, ?_⟩
    refine rf_fb12 (J := wX_fillBackward_2 post (nI n) fr ff f) hn i (by omega) (fun bw' h => ?_) n 0 bw (n + 1) (by omega) (by omega) (fun i' j' h1 h2 => H i' j' h1 (by omega))
    rw [nI_1]
    exact ih (i + 1) bw' f (by omega) (by omega) fun i' j' h1 h2 => h i' j' h1 (by omega)
theorem rf_fillBackward {bw : Nat → Int32} (hn : n ≤ 32) (K : ∀ bw' : Nat → Int32, rf_bw (rf_t tx) n bw' → post (nI n, fr, ff, tx, on, bw', we, fo, fm, to, st)) :
    wpX_fillBackward post (nI n, fr, ff, tx, on, bw, we, fo, fm, to, st) :=
  ⟨n + 1, rf_fb2 hn K n 0 bw (n + 1) (by omega) (by omega) (fun i' j' h1 h2 => by omega)⟩
end
end
section
/-- the letters in the order z: 0 as they are, else turned -/
def rf_o (tx : Nat → Int32) (z : Int32) : Nat → Int := fun x => if z = 0 then rf_t tx x else - rf_t tx x
theorem rf_o_0 (tx : Nat → Int32) : rf_o tx 0 = rf_t tx := by
  funext x
  exact if_pos rfl
theorem rf_o_1 (tx : Nat → Int32) : rf_o tx 1 = fun x => - rf_t tx x := by
  funext x
  exact if_neg (by decide)
theorem rf_o_z {tx : Nat → Int32} {z : Int32} (h : z = 0) (x : Nat) : rf_o tx z x = rf_t tx x := if_pos h
theorem rf_o_n {tx : Nat → Int32} {z : Int32} (h : ¬ z = 0) (x : Nat) : rf_o tx z x = - rf_t tx x := if_neg h
theorem rf_o_eq {tx : Nat → Int32} {z : Int32} (x y : Nat) (e : rf_t tx x = rf_t tx y) : rf_o tx z x = rf_o tx z y := by
  by_cases h : z = 0
  · rw [rf_o_z h, rf_o_z h, e]
  · rw [rf_o_n h, rf_o_n h, e]
theorem rf_o_big {tx : Nat → Int32} (ht : rf_let tx) (z : Int32) : rf_big (rf_o tx z) := by
  intro x
  have := rf_let_big ht x
  by_cases h : z = 0
  · rw [rf_o_z h]; exact this
  · rw [rf_o_n h]; omega
def rf_we1 (o : Nat → Int) (n : Nat) (we : Nat → Int32) (i : Nat) : Prop := ∃ e, we i = nI e ∧ rf_ns o n i e
def rf_we (o : Nat → Int) (n : Nat) (we : Nat → Int32) : Prop := ∀ i, i < n → rf_we1 o n we i
section
variable {n : Nat} {fr ff : Int32} {tx on bw fo fm to st : Nat → Int32}
theorem rf_sf {we : Nat → Int32} {post : Int32 → Prop} {z : Int32} {i j : Nat} (hn : n ≤ 32) (hon : rf_on (rf_t tx) n on) (ht : rf_let tx) (hij : i < j) (hj : j < n)
    (h1 : rf_lt (rf_s (rf_o tx z) n) i j → post 1) (h0 : rf_lt (rf_s (rf_o tx z) n) j i → post 0) :
    wpX_smallerFrom post (nI n, fr, ff, tx, on, bw, we, fo, fm, to, st) (nI i) (nI j) z := by
  obtain ⟨k, ek, lk, lx⟩ := hon i j (by omega) (by omega)
  have hk : j + k ≤ n := by
    rcases Nat.eq_zero_or_pos k with w | w
    · omega
    · have := (lk (k - 1) (by omega)).2.1
      omega
  have em : ∀ m, m < k → rf_s (rf_o tx z) n (i + m) = rf_s (rf_o tx z) n (j + m) := fun m hm => by
    obtain ⟨a, b, c⟩ := lk m hm
    rw [rf_s_in a, rf_s_in b]
    exact rf_o_eq _ _ c
  have ea : (nI i + nI k).toNatClampNeg = i + k := pk_cl (i + k) (nI_add i k)
  have eb : (nI j + nI k).toNatClampNeg = j + k := pk_cl (j + k) (nI_add j k)
  refine ⟨pk_in (i * 33 + j) 1089 (by omega) (rf_ix i j), nm_r (e' := nI k) (by rw [pk_cl (i * 33 + j) (rf_ix i j)]; exact ek) ?_⟩
  refine pk_lt (j + k) n (fun c1 => pk_lt (i + k) n (fun c2 => ?_) (fun c2 => absurd c2 (by omega)) (nI_add i k)) (fun c1 => h0 ?_) (nI_add j k)
  · have ne : rf_t tx (i + k) ≠ rf_t tx (j + k) := fun w => lx ⟨c2, c1, w⟩
    have ii : vp_in (nI i + nI k) 32 := pk_in (i + k) 32 (by omega) (nI_add i k)
    have ij : vp_in (nI j + nI k) 32 := pk_in (j + k) 32 (by omega) (nI_add j k)
    refine br_c (fun hz => ⟨ii, ij, ?_⟩) (fun hz => ⟨ii, ij, ?_⟩)
    · rw [ea, eb]
      refine br_c (fun h => h0 ⟨k, fun m hm => (em m hm).symm, ?_⟩) (fun h => h1 ⟨k, em, ?_⟩)
      · rw [rf_s_in c1, rf_s_in c2, rf_o_z hz, rf_o_z hz]
        have h : rf_t tx (j + k) ≤ rf_t tx (i + k) := Int32.le_iff_toInt_le.mp h
        omega
      · rw [rf_s_in c1, rf_s_in c2, rf_o_z hz, rf_o_z hz]
        have h : ¬ rf_t tx (j + k) ≤ rf_t tx (i + k) := fun w => h (Int32.le_iff_toInt_le.mpr w)
        omega
    · rw [ea, eb]
      refine br_c (fun h => h0 ⟨k, fun m hm => (em m hm).symm, ?_⟩) (fun h => h1 ⟨k, em, ?_⟩)
      · rw [rf_s_in c1, rf_s_in c2, rf_o_n hz, rf_o_n hz]
        have h : rf_t tx (i + k) ≤ rf_t tx (j + k) := Int32.le_iff_toInt_le.mp h
        omega
      · rw [rf_s_in c1, rf_s_in c2, rf_o_n hz, rf_o_n hz]
        have h : ¬ rf_t tx (i + k) ≤ rf_t tx (j + k) := fun w => h (Int32.le_iff_toInt_le.mpr w)
        omega
  · refine (rf_lt_drop fun m hm => (em m hm).symm).mpr ?_
    rw [show j + k = n by omega]
    exact rf_s_end (rf_o_big ht z) (by omega)
variable {post : SX → Prop}
theorem rf_fw15 {we : Nat → Int32} {z : Int32} {J : Int32 → (Nat → Int32) → (Nat → Int32) → (Nat → Int32) → (Nat → Int32) → (Nat → Int32) → (Nat → Int32) → (Nat → Int32) → (Nat → Int32) → Prop} (hn : n ≤ 32) (hon : rf_on (rf_t tx) n on) (ht : rf_let tx) {i : Nat} (hi : i < n)
    (hw : ∀ m, i < m → m < n → rf_we1 (rf_o tx z) n we m)
    (K : ∀ we' : Nat → Int32, (∀ m, i ≤ m → m < n → rf_we1 (rf_o tx z) n we' m) → J (nI i + (-1)) tx on bw we' fo fm to st) :
    ∀ (fuel j : Nat), i < j → j ≤ n → n - j < fuel → (∀ m, i < m → m < j → rf_lt (rf_s (rf_o tx z) n) i m) → wX_findWords_15 post J z (nI i) (nI n) fr ff tx on bw we fo fm to st fuel (nI j) := by
  intro fuel
  induction fuel with
  | zero => intro j _ _ h; omega
  | succ f ih =>
    intro j hij hj hf H
    have put : rf_lt (rf_s (rf_o tx z) n) j i → ∀ we', we' = upd we (nI i).toNatClampNeg (nI j) → ∀ x, x = nI i + (-1) → J x tx on bw we' fo fm to st := by
      intro hl
      refine nm_r (e' := upd we i (nI j)) (by rw [nI_clamp (by omega)]) (nm_e (K _ fun m m1 m2 => ?_))
      by_cases e : m = i
      · subst e
        exact ⟨j, pk_us, hij, hj, H, hl⟩
      · obtain ⟨x, x1, x2⟩ := hw m (by omega) m2
        exact ⟨x, by rw [pk_un e]; exact x1, x2⟩
    have ii : vp_in (nI i) 33 := vp_in_nI (by omega) (by omega)
    refine pk_le n j (fun h => ⟨ii, put ?_⟩) (fun h => ?_)
    · rw [show j = n by omega]
      exact rf_s_end (rf_o_big ht z) hi
    · refine rf_sf hn hon ht hij h (fun hl => br_f (by decide) ?_) (fun hl => br_t rfl ⟨ii, put hl⟩)
      obtain ⟨x, x1, x2⟩ := hw j hij h
      refine ⟨vp_in_nI (by omega) (by omega), nm_r (e' := nI x) (by rw [nI_clamp (by omega)]; exact x1) ?_⟩
      have g1 := x2.1
      exact ih x (by omega) x2.2.1 (by omega) (rf_ns_jump hij H hl x2)
theorem rf_fw7 {z : Int32} (hn : n ≤ 32) (hon : rf_on (rf_t tx) n on) (ht : rf_let tx) (K : ∀ we' : Nat → Int32, rf_we (rf_o tx z) n we' → post (nI n, fr, ff, tx, on, bw, we', fo, fm, to, st)) :
    ∀ (c : Nat) (we : Nat → Int32) (fuel : Nat), c ≤ n → c < fuel → (∀ m, c ≤ m → m < n → rf_we1 (rf_o tx z) n we m) → wX_findWords_7 post z (nI n) fr ff fuel (nI c + (-1)) tx on bw we fo fm to st := by
  intro c
  induction c with
  | zero =>
    intro we fuel _ hf H
    obtain ⟨f, rfl⟩ : ∃ f, fuel = f + 1 := ⟨fuel - 1, by omega⟩
    exact br_t (by decide) (K we fun m h => H m (by omega) h)
  | succ c ih =>
    intro we fuel hc hf H
    obtain ⟨f, rfl⟩ : ∃ f, fuel = f + 1 := ⟨fuel - 1, by omega⟩
    rw [pk_m1]
    refine br_f (nI_pos (by omega)) (nm_r (nI_1 c) ⟨n + 1, ?_⟩)
    exact rf_fw15 (J := wX_findWords_7 post z (nI n) fr ff f) hn hon ht (by omega) (fun m h1 h2 => H m (by omega) h2) (fun we' h => ih we' f (by omega) (by omega) h)
      (n + 1) (c + 1) (by omega) (by omega) (by omega) (fun m h1 h2 => by omega)
theorem rf_findWords {we : Nat → Int32} {z : Int32} (hn : n ≤ 32) (hon : rf_on (rf_t tx) n on) (ht : rf_let tx) (K : ∀ we' : Nat → Int32, rf_we (rf_o tx z) n we' → post (nI n, fr, ff, tx, on, bw, we', fo, fm, to, st)) :
    wpX_findWords post (nI n, fr, ff, tx, on, bw, we, fo, fm, to, st) z :=
  nm_r (e' := nI n + (-1)) (Int32.sub_eq_add_neg _ _) ⟨n + 1, rf_fw7 hn hon ht K n we (n + 1) (by omega) (by omega) (fun m h1 h2 => by omega)⟩
end
end
section
def rf_arr (a : Nat → Int32) (F : Nat → Nat) (c : Nat) : Prop := ∀ r, r < c → a r = nI (F r)
def rf_L (t : Nat → Int) (n c : Nat) (fm to st : Nat → Int32) : Prop := ∃ B E P, rf_arr fm B c ∧ rf_arr to E c ∧ rf_arr st P c ∧ rf_rl t n c B E P
def rf_has (fm st : Nat → Int32) (c b p : Nat) : Prop := ∃ r, r < c ∧ fm r = nI b ∧ st r = nI p
/-- v put in at a -/
def rf_ins (F : Nat → Nat) (a v x : Nat) : Nat := if x < a then F x else if x = a then v else F (x - 1)
theorem rf_ins_lt {F : Nat → Nat} {a v x : Nat} (h : x < a) : rf_ins F a v x = F x := if_pos h
theorem rf_ins_eq {F : Nat → Nat} {a v : Nat} : rf_ins F a v a = v := by rw [rf_ins, if_neg (Nat.lt_irrefl a), if_pos rfl]
theorem rf_ins_gt {F : Nat → Nat} {a v x : Nat} (h : a < x) : rf_ins F a v x = F (x - 1) := by rw [rf_ins, if_neg (by omega), if_neg (by omega)]
/-- the places behind a are shifted by one -/
def rf_sh (f g : Nat → Int32) (a c : Nat) : Prop := (∀ x, x < a → g x = f x) ∧ ∀ x, a < x → x ≤ c → g x = f (x - 1)
theorem rf_sh_0 (f : Nat → Int32) (c : Nat) : rf_sh f f c c := ⟨fun _ _ => rfl, fun x h1 h2 => by omega⟩
theorem rf_sh_s {f g : Nat → Int32} {a c : Nat} (h : rf_sh f g (a + 1) c) : rf_sh f (upd g (a + 1) (g a)) a c := by
  refine ⟨fun x hx => ?_, fun x h1 h2 => ?_⟩
  · rw [pk_un (by omega)]
    exact h.1 x (by omega)
  · by_cases z : x = a + 1
    · subst z
      rw [pk_us]
      exact h.1 a (by omega)
    · rw [pk_un z]
      exact h.2 x (by omega) h2
theorem rf_sh_arr {f g : Nat → Int32} {F : Nat → Nat} {a c v : Nat} (h : rf_sh f g a c) (ha : a ≤ c) (hf : rf_arr f F c) : rf_arr (upd g a (nI v)) (rf_ins F a v) (c + 1) := by
  intro r hr
  rcases Nat.lt_trichotomy r a with z | z | z
  · rw [pk_un (by omega), rf_ins_lt z, h.1 r z]
    exact hf r (by omega)
  · subst z
    rw [pk_us, rf_ins_eq]
  · rw [pk_un (by omega), rf_ins_gt z, h.2 r z (by omega)]
    exact hf (r - 1) (by omega)
theorem rf_ins_rl {t : Nat → Int} {n c : Nat} {B E P : Nat → Nat} {a b e p : Nat} (h : rf_rl t n c B E P) (ha : a ≤ c) (R : rf_run t n b e p)
    (lo : ∀ r, r < a → B r * 64 + P r < b * 64 + p) (hi : ∀ r, a ≤ r → r < c → b * 64 + p < B r * 64 + P r) : rf_rl t n (c + 1) (rf_ins B a b) (rf_ins E a e) (rf_ins P a p) := by
  refine ⟨fun r hr => ?_, fun r r' h1 h2 => ?_⟩
  · rcases Nat.lt_trichotomy r a with z | z | z
    · rw [rf_ins_lt z, rf_ins_lt z, rf_ins_lt z]
      exact h.1 r (by omega)
    · subst z
      rw [rf_ins_eq, rf_ins_eq, rf_ins_eq]
      exact R
    · rw [rf_ins_gt z, rf_ins_gt z, rf_ins_gt z]
      exact h.1 (r - 1) (by omega)
  · rcases Nat.lt_trichotomy r a with z | z | z
    · rw [rf_ins_lt z, rf_ins_lt z]
      rcases Nat.lt_trichotomy r' a with w | w | w
      · rw [rf_ins_lt w, rf_ins_lt w]
        exact h.2 r r' h1 (by omega)
      · subst w
        rw [rf_ins_eq, rf_ins_eq]
        exact lo r z
      · rw [rf_ins_gt w, rf_ins_gt w]
        exact Nat.lt_trans (lo r z) (hi (r' - 1) (by omega) (by omega))
    · subst z
      rw [rf_ins_eq, rf_ins_eq, rf_ins_gt h1, rf_ins_gt h1]
      exact hi (r' - 1) (by omega) (by omega)
    · rw [rf_ins_gt z, rf_ins_gt z, rf_ins_gt (by omega), rf_ins_gt (by omega)]
      exact h.2 (r - 1) (r' - 1) (by omega) (by omega)
theorem rf_sh_has {f g f' g' : Nat → Int32} {a c b p : Nat} {v w : Int32} (h : rf_sh f f' a c) (h' : rf_sh g g' a c) (H : rf_has f g c b p) : rf_has (upd f' a v) (upd g' a w) (c + 1) b p := by
  obtain ⟨r, hr, e1, e2⟩ := H
  by_cases z : r < a
  · refine ⟨r, by omega, ?_, ?_⟩
    · rw [pk_un (by omega), h.1 r z]; exact e1
    · rw [pk_un (by omega), h'.1 r z]; exact e2
  · refine ⟨r + 1, by omega, ?_, ?_⟩
    · rw [pk_un (by omega), h.2 (r + 1) (by omega) (by omega)]; exact e1
    · rw [pk_un (by omega), h'.2 (r + 1) (by omega) (by omega)]; exact e2
section
variable {post : SX → Prop} {n : Nat} {fr : Int32} {tx on bw we fo fm to st : Nat → Int32}
theorem rf_k145 {a b e p c : Nat} (ha : a < 64) (h : post (nI n, fr, nI (c + 1), tx, on, bw, we, fo, upd fm a (nI b), upd to a (nI e), upd st a (nI p))) :
    wX_keep_145 post (nI b) (nI e) (nI p) (nI a) (nI n) fr (nI c) tx on bw we fo fm to st := by
  have ia : vp_in (nI a) 64 := vp_in_nI ha (by omega)
  have ea : (nI a).toNatClampNeg = a := nI_clamp (by omega)
  refine ⟨ia, nm_r (e' := upd fm a (nI b)) (by rw [ea]) ⟨ia, nm_r (e' := upd to a (nI e)) (by rw [ea]) ⟨ia, nm_r (e' := upd st a (nI p)) (by rw [ea]) (nm_r (nI_1 c) h)⟩⟩⟩
theorem rf_k91 {J : Int32 → (Nat → Int32) → (Nat → Int32) → (Nat → Int32) → (Nat → Int32) → (Nat → Int32) → (Nat → Int32) → (Nat → Int32) → (Nat → Int32) → Prop} {x1 x2 x3 ff : Int32} {a : Nat} (ha : a + 1 < 64)
    (h : J (nI a) tx on bw we fo (upd fm (a + 1) (fm a)) (upd to (a + 1) (to a)) (upd st (a + 1) (st a))) : wX_keep_91 post J x1 x2 x3 (nI (a + 1)) (nI n) fr ff tx on bw we fo fm to st := by
  have ia : vp_in (nI (a + 1)) 64 := vp_in_nI ha (by omega)
  have ea : (nI (a + 1)).toNatClampNeg = a + 1 := nI_clamp (by omega)
  have ib : vp_in (nI (a + 1) - 1) 64 := by rw [nI_pred]; exact vp_in_nI (by omega) (by omega)
  have eb : (nI (a + 1) - 1).toNatClampNeg = a := by rw [nI_pred]; exact nI_clamp (by omega)
  refine ⟨ib, ia, nm_r (e' := upd fm (a + 1) (fm a)) (by rw [ea, eb]) ⟨ib, ia, nm_r (e' := upd to (a + 1) (to a)) (by rw [ea, eb]) ⟨ib, ia, nm_r (e' := upd st (a + 1) (st a)) (by rw [ea, eb]) (nm_r (pk_m1 a) h)⟩⟩⟩
end
section
variable {post : SX → Prop} {n : Nat} {fr : Int32} {t : Nat → Int} {tx on bw we fo fm to st : Nat → Int32}
theorem rf_k47 {B E P : Nat → Nat} {b e p c : Nat} (hn : n ≤ 32) (hc : c < 63) (aB : rf_arr fm B c) (aE : rf_arr to E c) (aP : rf_arr st P c) (hL : rf_rl t n c B E P) (R : rf_run t n b e p) (hno : ∀ r, r < c → ¬ (B r = b ∧ P r = p))
    (K : ∀ fm' to' st' : Nat → Int32, rf_L t n (c + 1) fm' to' st' → (∀ b' p', rf_has fm st c b' p' → rf_has fm' st' (c + 1) b' p') → rf_has fm' st' (c + 1) b p → post (nI n, fr, nI (c + 1), tx, on, bw, we, fo, fm', to', st')) :
    ∀ (a fuel : Nat) (fm' to' st' : Nat → Int32), a ≤ c → a < fuel → rf_sh fm fm' a c → rf_sh to to' a c → rf_sh st st' a c → (∀ r, a ≤ r → r < c → b * 64 + p < B r * 64 + P r) →
      wX_keep_47 post (nI b) (nI e) (nI p) (nI n) fr (nI c) fuel (nI a) tx on bw we fo fm' to' st' := by
  have bnd : ∀ b e p, rf_run t n b e p → b < 32 ∧ e ≤ 32 ∧ p ≤ 16 := by
    intro b e p R
    have r1 := R.1
    have r2 := R.2.1
    have r3 := R.2.2.1
    omega
  have hbp := bnd b e p R
  have fin : ∀ (a : Nat) (fm' to' st' : Nat → Int32), a ≤ c → rf_sh fm fm' a c → rf_sh to to' a c → rf_sh st st' a c → (∀ r, a ≤ r → r < c → b * 64 + p < B r * 64 + P r) → (∀ r, r < a → B r * 64 + P r < b * 64 + p) →
      wX_keep_145 post (nI b) (nI e) (nI p) (nI a) (nI n) fr (nI c) tx on bw we fo fm' to' st' := by
    intro a fm' to' st' ha s1 s2 s3 hi lo
    refine rf_k145 (by omega) (K _ _ _ ⟨_, _, _, rf_sh_arr s1 ha aB, rf_sh_arr s2 ha aE, rf_sh_arr s3 ha aP, rf_ins_rl hL ha R lo hi⟩ (fun b' p' h => rf_sh_has s1 s3 h) ⟨a, by omega, pk_us, pk_us⟩)
  intro a
  induction a with
  | zero =>
    intro fuel fm' to' st' ha hf s1 s2 s3 hi
    obtain ⟨f, rfl⟩ : ∃ f, fuel = f + 1 := ⟨fuel - 1, by omega⟩
    exact br_t (by decide) (fin 0 fm' to' st' ha s1 s2 s3 hi fun r h => by omega)
  | succ a ih =>
    intro fuel fm' to' st' ha hf s1 s2 s3 hi
    obtain ⟨f, rfl⟩ : ∃ f, fuel = f + 1 := ⟨fuel - 1, by omega⟩
    have ib : vp_in (nI (a + 1) - 1) 64 := by rw [nI_pred]; exact vp_in_nI (by omega) (by omega)
    have eb : (nI (a + 1) - 1).toNatClampNeg = a := by rw [nI_pred]; exact nI_clamp (by omega)
    have ef : fm' a = nI (B a) := (s1.1 a (by omega)).trans (aB a (by omega))
    have es : st' a = nI (P a) := (s3.1 a (by omega)).trans (aP a (by omega))
    have ba := bnd _ _ _ (hL.1 a (by omega))
    have stop : B a * 64 + P a < b * 64 + p → wX_keep_145 post (nI b) (nI e) (nI p) (nI (a + 1)) (nI n) fr (nI c) tx on bw we fo fm' to' st' := by
      intro h
      refine fin (a + 1) fm' to' st' ha s1 s2 s3 hi fun r hr => ?_
      by_cases z : r = a
      · subst z; exact h
      · exact Nat.lt_trans (hL.2 r a (by omega) (by omega)) h
    have shift : b * 64 + p < B a * 64 + P a → wX_keep_91 post (wX_keep_47 post (nI b) (nI e) (nI p) (nI n) fr (nI c) f) (nI b) (nI e) (nI p) (nI (a + 1)) (nI n) fr (nI c) tx on bw we fo fm' to' st' := by
      intro h
      refine rf_k91 (by omega) (ih f _ _ _ (by omega) (by omega) (rf_sh_s s1) (rf_sh_s s2) (rf_sh_s s3) fun r h1 h2 => ?_)
      by_cases z : r = a
      · subst z; exact h
      · exact hi r (by omega) h2
    have hx := hno a (by omega)
    refine br_f (nI_nle (by omega) (by omega)) ⟨ib, ?_⟩
    rw [eb, ef, es]
    refine pk_lt b (B a) (fun h => shift (by omega)) fun h => ⟨ib, pk_eq (B a) b (fun h' => ⟨ib, pk_le (P a) p (fun h'' => stop ?_) fun h'' => shift (by omega)⟩) fun h' => stop (by omega)⟩
    have : P a ≠ p := fun w => hx ⟨h', w⟩
    omega
theorem rf_keep {b e p c : Nat} (hn : n ≤ 32) (hc : c < 63) (hL : rf_L t n c fm to st) (R : rf_run t n b e p)
    (K : ∀ (c' : Nat) (fm' to' st' : Nat → Int32), c' ≤ c + 1 → rf_L t n c' fm' to' st' → (∀ b' p', rf_has fm st c b' p' → rf_has fm' st' c' b' p') → rf_has fm' st' c' b p → post (nI n, fr, nI c', tx, on, bw, we, fo, fm', to', st')) :
    wpX_keep post (nI n, fr, nI c, tx, on, bw, we, fo, fm, to, st) (nI b) (nI e) (nI p) := by
  obtain ⟨B, E, P, aB, aE, aP, hl⟩ := hL
  have bnd : ∀ b e p, rf_run t n b e p → b < 32 ∧ e ≤ 32 ∧ p ≤ 16 := by
    intro b e p R
    have r1 := R.1
    have r2 := R.2.1
    have r3 := R.2.2.1
    omega
  have hbp := bnd b e p R
  have main : ∀ (d r fuel : Nat), r + d = c → d < fuel → (∀ r', r' < r → ¬ (B r' = b ∧ P r' = p)) → wX_keep_9 post (nI b) (nI e) (nI p) (nI c) (nI n) fr (nI c) tx on bw we fo fm to st fuel (nI r) := by
    intro d
    induction d with
    | zero =>
      intro r fuel hr hf H
      obtain ⟨f, rfl⟩ : ∃ f, fuel = f + 1 := ⟨fuel - 1, by omega⟩
      refine br_t (nI_le (by omega) (by omega)) ⟨c + 1, ?_⟩
      exact rf_k47 hn hc aB aE aP hl R (fun r' h => H r' (by omega)) (fun fm' to' st' h1 h2 h3 => K (c + 1) fm' to' st' (by omega) h1 h2 h3) c (c + 1) fm to st (by omega) (by omega) (rf_sh_0 _ _) (rf_sh_0 _ _) (rf_sh_0 _ _) (fun r h1 h2 => by omega)
    | succ d ih =>
      intro r fuel hr hf H
      obtain ⟨f, rfl⟩ : ∃ f, fuel = f + 1 := ⟨fuel - 1, by omega⟩
      have ir : vp_in (nI r) 64 := vp_in_nI (by omega) (by omega)
      have br := bnd _ _ _ (hl.1 r (by omega))
      have next : ¬ (B r = b ∧ P r = p) → ∀ x, x = nI r + 1 → wX_keep_9 post (nI b) (nI e) (nI p) (nI c) (nI n) fr (nI c) tx on bw we fo fm to st f x := by
        intro h
        refine nm_r (nI_1 r) (ih (r + 1) f (by omega) (by omega) fun r' h' => ?_)
        by_cases z : r' = r
        · subst z; exact h
        · exact H r' (by omega)
      refine br_f (nI_ge (by omega) (by omega)) ⟨ir, ?_⟩
      rw [nI_clamp (n := r) (by omega), aB r (by omega), aP r (by omega)]
      refine pk_eq (B r) b (fun h => ⟨ir, pk_eq (P r) p (fun h' => ?_) fun h' => next fun w => h' w.2⟩) fun h => next fun w => h w.1
      exact K c fm to st (by omega) ⟨B, E, P, aB, aE, aP, hl⟩ (fun _ _ h => h) ⟨r, by omega, by rw [aB r (by omega), h], by rw [aP r (by omega), h']⟩
  exact ⟨c + 1, main c 0 (c + 1) (by omega) (by omega) fun r' h => by omega⟩
end
end
section
theorem rf_str {t : Nat → Int} {n i p k l : Nat} (hn : i + p ≤ n) (h : rf_lc t n i (i + p) k) (hl : (i = 0 ∧ l = 0) ∨ ∃ a, i = a + 1 ∧ rf_bc t a (a + p) l) :
    l ≤ i ∧ i + p + k ≤ n ∧ rf_per t (i - l) (i + p + k) p ∧ (i - l = 0 ∨ t (i - l - 1) ≠ t (i - l - 1 + p)) ∧ (i + p + k = n ∨ t (i + p + k) ≠ t (i + p + k - p)) := by
  have h1 : i + p + k ≤ n := by
    rcases Nat.eq_zero_or_pos k with w | w
    · omega
    · have := (h.1 (k - 1) (by omega)).2.1
      omega
  have h2 : l ≤ i := by
    rcases hl with w | ⟨a, rfl, w⟩
    · omega
    · rcases Nat.eq_zero_or_pos l with w' | w'
      · omega
      · have := (w.1 (l - 1) (by omega)).1
        omega
  refine ⟨h2, h1, ?_, ?_, ?_⟩
  · intro m m1 m2
    by_cases z : i ≤ m
    · have := (h.1 (m - i) (by omega)).2.2
      rwa [show i + (m - i) = m by omega, show i + p + (m - i) = m + p by omega] at this
    · rcases hl with w | ⟨a, rfl, w⟩
      · omega
      · have := (w.1 (a - m) (by omega)).2.2
        rwa [show a - (a - m) = m by omega, show a + p - (a - m) = m + p by omega] at this
  · rcases hl with w | ⟨a, rfl, w⟩
    · left; omega
    · by_cases z : a + 1 - l = 0
      · exact Or.inl z
      · refine Or.inr fun e => w.2 ⟨by omega, by omega, ?_⟩
        rw [show a - l = a + 1 - l - 1 by omega, show a + p - l = a + 1 - l - 1 + p by omega]
        exact e
  · by_cases z : i + p + k = n
    · exact Or.inl z
    · refine Or.inr fun e => h.2 ⟨by omega, by omega, ?_⟩
      rw [show i + k = i + p + k - p by omega]
      exact e.symm
section
variable {post : SX → Prop} {n : Nat} {fr : Int32} {t : Nat → Int} {tx on bw we fo fm to st : Nat → Int32}
theorem rf_s58 {J : Int32 → Int32 → Int32 → Int32 → (Nat → Int32) → (Nat → Int32) → (Nat → Int32) → (Nat → Int32) → (Nat → Int32) → (Nat → Int32) → (Nat → Int32) → (Nat → Int32) → Prop} {i p k l c : Nat} {z : Int32}
    (hn : n ≤ 32) (hz : z = nI l) (hl : l ≤ i) (he : i + p + k ≤ n) (hc : c ≤ 64) (hL : rf_L t n c fm to st) (hR : i - l + 2 * p ≤ i + p + k → rf_run t n (i - l) (i + p + k) p)
    (K : ∀ (c' : Nat) (fm' to' st' : Nat → Int32), c' ≤ c + 1 → rf_L t n c' fm' to' st' → (∀ b' p', rf_has fm st c b' p' → rf_has fm' st' c' b' p') → (i - l + 2 * p ≤ i + p + k → 63 ≤ c ∨ rf_has fm' st' c' (i - l) p) →
      J (nI (i + 1)) (nI n) fr (nI c') tx on bw we fo fm' to' st') :
    wX_stretchWords_58 post J (nI i) (nI p) (nI k) z (nI n) fr (nI c) tx on bw we fo fm to st := by
  subst hz
  refine nm_r (e' := nI (i - l)) (pk_sub hl) (nm_r (e' := nI (i + p + k)) (by rw [nI_add, nI_add]) ?_)
  refine pk_lt (i + p + k - (i - l)) (2 * p) (fun h => ?_) (fun h => ?_) (pk_sub (by omega)) (pk_mul 2 p)
  · exact nm_r (nI_1 i) (K c fm to st (by omega) hL (fun _ _ h => h) fun w => by omega)
  · refine pk_le 63 c (fun h' => ?_) (fun h' => ?_)
    · exact nm_r (nI_1 i) (K c fm to st (by omega) hL (fun _ _ h => h) fun w => Or.inl h')
    · exact rf_keep hn h' hL (hR (by omega)) fun c' fm' to' st' h1 h2 h3 h4 => nm_r (nI_1 i) (K c' fm' to' st' h1 h2 h3 fun _ => Or.inr h4)
theorem rf_s2 {z : Int32} {c0 : Nat} {D : Nat → Nat → Prop} (hn : n ≤ 32) (hc0 : c0 ≤ 32) (hon : rf_on (rf_t tx) n on) (hbw : rf_bw (rf_t tx) n bw) (hwe : rf_we (rf_o tx z) n we)
    (H63 : ∀ i, i < n → 63 ≤ c0 + i → ∀ b e p, rf_run (rf_t tx) n b e p → b ≤ i → i + p ≤ e → rf_ns (rf_o tx z) n i (i + p) → D b p)
    (K : ∀ (c' : Nat) (fm' to' st' : Nat → Int32), c' ≤ c0 + n → rf_L (rf_t tx) n c' fm' to' st' → (∀ b p, D b p → rf_has fm' st' c' b p) →
      (∀ i b e p, rf_run (rf_t tx) n b e p → b ≤ i → i + p ≤ e → rf_ns (rf_o tx z) n i (i + p) → rf_has fm' st' c' b p) → post (nI n, fr, nI c', tx, on, bw, we, fo, fm', to', st')) :
    ∀ (d i c : Nat) (fm to st : Nat → Int32) (fuel : Nat), i + d = n → d < fuel → c ≤ c0 + i → rf_L (rf_t tx) n c fm to st → (∀ b p, D b p → rf_has fm st c b p) →
      (∀ i' b e p, i' < i → rf_run (rf_t tx) n b e p → b ≤ i' → i' + p ≤ e → rf_ns (rf_o tx z) n i' (i' + p) → rf_has fm st c b p) →
      wX_stretchWords_2 post fuel (nI i) (nI n) fr (nI c) tx on bw we fo fm to st := by
  intro d
  induction d with
  | zero =>
    intro i c fm to st fuel hi hf hc hL hD H
    obtain ⟨f, rfl⟩ : ∃ f, fuel = f + 1 := ⟨fuel - 1, by omega⟩
    refine br_t (nI_le (by omega) (by omega)) (K c fm to st (by omega) hL hD fun i' b e p R h1 h2 h3 => H i' b e p ?_ R h1 h2 h3)
    have := h3.1
    have := h3.2.1
    omega
  | succ d ih =>
    intro i c fm to st fuel hi hf hc hL hD H
    obtain ⟨f, rfl⟩ : ∃ f, fuel = f + 1 := ⟨fuel - 1, by omega⟩
    obtain ⟨ei, ee, hns⟩ := hwe i (by omega)
    obtain ⟨p, rfl⟩ : ∃ p, ei = i + p := ⟨ei - i, by have := hns.1; omega⟩
    have p1 := hns.1
    have pn := hns.2.1
    obtain ⟨k, ek, hk⟩ := hon i (i + p) (by omega) (by omega)
    have ix : nI i * 33 + nI i + nI p = nI (i * 33 + (i + p)) := by rw [rf_ix, nI_add, Nat.add_assoc]
    have body : ∀ (l : Nat) (zz : Int32), zz = nI l → ((i = 0 ∧ l = 0) ∨ ∃ a, i = a + 1 ∧ rf_bc (rf_t tx) a (a + p) l) →
        wX_stretchWords_58 post (wX_stretchWords_2 post f) (nI i) (nI p) (nI k) zz (nI n) fr (nI c) tx on bw we fo fm to st := by
      intro l zz hz hl
      obtain ⟨s1, s2, s3, s4, s5⟩ := rf_str pn hk hl
      refine rf_s58 hn hz s1 s2 (by omega) hL (fun w => rf_runA (o := rf_o tx z) rf_o_eq hns (by omega) (by omega) s2 w s3 s4 s5) fun c' fm' to' st' h1 h2 h3 h4 => ?_
      refine ih (i + 1) c' fm' to' st' f (by omega) (by omega) (by omega) h2 (fun b p h => h3 b p (hD b p h)) fun i' b' e' p' hi' R h5 h6 h7 => ?_
      by_cases w : i' < i
      · exact h3 _ _ (H i' b' e' p' w R h5 h6 h7)
      · have : i' = i := by omega
        subst this
        have hp := rf_ns_u h7 hns
        have : p' = p := by omega
        subst this
        have hb := rf_beg_u R.2.2.2.1 s3 R.2.2.2.2.1 s4 (by omega) (by omega)
        have he := rf_end_u R.2.2.2.1 s3 R.2.2.1 s2 R.2.2.2.2.2.1 s5 (by omega) (by omega)
        subst hb he
        rcases h4 R.2.1 with g | g
        · exact h3 _ _ (hD _ _ (H63 i' (by omega) (by omega) _ _ _ R h5 h6 h7))
        · exact g
    refine br_f (nI_ge (by omega) (by omega)) ⟨vp_in_nI (by omega) (by omega), nm_r (e' := nI p) ?_ ⟨pk_in (i * 33 + (i + p)) 1089 (by omega) ix, nm_r (e' := nI k) ?_ ?_⟩⟩
    · rw [nI_clamp (by omega), ee, pk_sub (by omega), Nat.add_sub_cancel_left]
    · rw [pk_cl (i * 33 + (i + p)) ix]
      exact ek
    · refine pk_le i 0 (fun h => body 0 0 rfl (Or.inl ⟨by omega, rfl⟩)) fun h => ?_
      obtain ⟨a, rfl⟩ : ∃ a, i = a + 1 := ⟨i - 1, by omega⟩
      obtain ⟨l, el, hl⟩ := hbw a (a + p) (by omega) (by omega)
      have iy : (nI (a + 1) - 1) * 33 + nI (a + 1) + nI p - 1 = nI (a * 33 + (a + p)) := by
        rw [nI_pred, rf_ix, nI_add, show a * 33 + (a + 1) + p = a * 33 + (a + p) + 1 by omega, nI_pred]
      refine ⟨pk_in (a * 33 + (a + p)) 1089 (by omega) iy, body l _ ?_ (Or.inr ⟨a, rfl, hl⟩)⟩
      rw [pk_cl (a * 33 + (a + p)) iy]
      exact el
theorem rf_stretch {z : Int32} {c0 c : Nat} {D : Nat → Nat → Prop} (hn : n ≤ 32) (hc0 : c0 ≤ 32) (hon : rf_on (rf_t tx) n on) (hbw : rf_bw (rf_t tx) n bw) (hwe : rf_we (rf_o tx z) n we)
    (H63 : ∀ i, i < n → 63 ≤ c0 + i → ∀ b e p, rf_run (rf_t tx) n b e p → b ≤ i → i + p ≤ e → rf_ns (rf_o tx z) n i (i + p) → D b p)
    (hc : c ≤ c0) (hL : rf_L (rf_t tx) n c fm to st) (hD : ∀ b p, D b p → rf_has fm st c b p)
    (K : ∀ (c' : Nat) (fm' to' st' : Nat → Int32), c' ≤ c0 + n → rf_L (rf_t tx) n c' fm' to' st' → (∀ b p, D b p → rf_has fm' st' c' b p) →
      (∀ i b e p, rf_run (rf_t tx) n b e p → b ≤ i → i + p ≤ e → rf_ns (rf_o tx z) n i (i + p) → rf_has fm' st' c' b p) → post (nI n, fr, nI c', tx, on, bw, we, fo, fm', to', st')) :
    wpX_stretchWords post (nI n, fr, nI c, tx, on, bw, we, fo, fm, to, st) :=
  ⟨n + 1, rf_s2 hn hc0 hon hbw hwe H63 K n 0 c fm to st (n + 1) (by omega) (by omega) (by omega) hL hD fun i' b e p h => by omega⟩
end
end
section
/-- the tables answer -/
def rf_tab (tx : Nat → Int32) (n : Nat) (ff : Int32) (on fo fm to st : Nat → Int32) : Prop :=
  rf_on (rf_t tx) n on ∧ rf_we (rf_t tx) n fo ∧ ∃ c, c ≤ 64 ∧ ff = nI c ∧ ∃ B E P, rf_arr fm B c ∧ rf_arr to E c ∧ rf_arr st P c ∧ rf_rl (rf_t tx) n c B E P ∧ rf_all (rf_t tx) n c B P
theorem rf_bnd {t : Nat → Int} {n b e p : Nat} (hn : n ≤ 32) (R : rf_run t n b e p) : b < n ∧ b < 32 ∧ 1 ≤ p ∧ p ≤ 16 ∧ 1 ≤ e ∧ e ≤ 32 ∧ b < e := by
  have r1 := R.1
  have r2 := R.2.1
  have r3 := R.2.2.1
  omega
section
variable {post : SX → Prop} {n : Nat} {fr : Int32} {tx on bw we fo fm to st : Nat → Int32}
theorem rf_pass12 {ff : Int32} (hn : n ≤ 32) (ht : rf_let tx) (hff : ff = 0) (hon : rf_on (rf_t tx) n on) (hbw : rf_bw (rf_t tx) n bw) (hwe : rf_we (rf_o tx 0) n we)
    (K : ∀ (ff' : Int32) (bw' we' fo' fm' to' st' : Nat → Int32), rf_tab tx n ff' on fo' fm' to' st' → post (nI n, fr, ff', tx, on, bw', we', fo', fm', to', st')) :
    ∀ (d i : Nat) (fo : Nat → Int32) (fuel : Nat), i + d = n → d < fuel → (∀ m, m < i → fo m = we m) → wX_prepare_33 post (nI n) fr ff fuel (nI i) tx on bw we fo fm to st := by
  subst hff
  intro d
  induction d with
  | zero =>
    intro i fo fuel hi hf H
    obtain ⟨f, rfl⟩ : ∃ f, fuel = f + 1 := ⟨fuel - 1, by omega⟩
    refine br_t (nI_le (by omega) (by omega)) ?_
    refine rf_stretch (z := 0) (c0 := 0) (c := 0) (D := fun _ _ => False) hn (by omega) hon hbw hwe (fun i h1 h2 => by omega) (by omega)
      ⟨fun _ => 0, fun _ => 0, fun _ => 0, fun r h => by omega, fun r h => by omega, fun r h => by omega, fun r h => by omega, fun r r' h h' => by omega⟩ (fun _ _ h => h.elim) fun c1 fm1 to1 st1 hc1 hL1 _ hA => ?_
    refine rf_findWords (z := 1) hn hon ht fun we2 hw2 => ?_
    refine rf_stretch (z := 1) (c0 := n) (c := c1) (D := fun b p => ∃ i e, rf_run (rf_t tx) n b e p ∧ b ≤ i ∧ i + p ≤ e ∧ rf_ns (rf_o tx 0) n i (i + p)) hn hn hon hbw hw2 (fun i h1 h2 b e p R hb he hs => ?_) (by omega)
      hL1 (fun b p ⟨i, e, R, h1, h2, h3⟩ => hA i b e p R h1 h2 h3) fun c2 fm2 to2 st2 hc2 hL2 hD2 hA2 => ?_
    · refine ⟨i, e, R, hb, he, hs.1, hs.2.1, fun m m1 m2 => ?_, ?_⟩
      · have := hs.2.1
        omega
      · have h4 := hs.1
        have h5 := hs.2.1
        rw [show i + p = n by omega]
        exact rf_s_end (rf_o_big ht 0) h1
    · obtain ⟨B, E, P, aB, aE, aP, hl⟩ := hL2
      refine K _ _ _ _ _ _ _ ⟨hon, fun m hm => ?_, c2, by omega, rfl, B, E, P, aB, aE, aP, hl, fun b e p R => ?_⟩
      · obtain ⟨x, x1, x2⟩ := hwe m hm
        rw [rf_o_0] at x2
        exact ⟨x, (H m (by omega)).trans x1, x2⟩
      · have hh : rf_has fm2 st2 c2 b p := by
          obtain ⟨i, h1, h2, h3⟩ := rf_runB (rf_let_big ht) R
          rcases h3 with h3 | h3
          · refine hD2 b p ⟨i, e, R, h1, h2, ?_⟩
            rw [rf_o_0]; exact h3
          · refine hA2 i b e p R h1 h2 ?_
            rw [rf_o_1]; exact h3
        obtain ⟨r, hr, e1, e2⟩ := hh
        have b1 := rf_bnd hn R
        have b2 := rf_bnd hn (hl.1 r hr)
        rw [aB r hr] at e1
        rw [aP r hr] at e2
        exact ⟨r, hr, (nI_eq (by omega) (by omega)).mp e1, (nI_eq (by omega) (by omega)).mp e2⟩
  | succ d ih =>
    intro i fo fuel hi hf H
    obtain ⟨f, rfl⟩ : ∃ f, fuel = f + 1 := ⟨fuel - 1, by omega⟩
    have ii : vp_in (nI i) 33 := vp_in_nI (by omega) (by omega)
    refine br_f (nI_ge (by omega) (by omega)) ⟨ii, ii, nm_r (e' := upd fo i (we i)) (by rw [nI_clamp (by omega)]) (nm_r (nI_1 i) (ih (i + 1) _ f (by omega) (by omega) fun m hm => ?_))⟩
    by_cases z : m = i
    · subst z; exact pk_us
    · rw [pk_un z]
      exact H m (by omega)
theorem rf_prepare {ff : Int32} (hn : n ≤ 32) (ht : rf_let tx) (hT : fr = 0 ∨ rf_tab tx n ff on fo fm to st)
    (K : ∀ (fr' ff' : Int32) (on' bw' we' fo' fm' to' st' : Nat → Int32), rf_tab tx n ff' on' fo' fm' to' st' → post (nI n, fr', ff', tx, on', bw', we', fo', fm', to', st')) :
    wpX_prepare post (nI n, fr, ff, tx, on, bw, we, fo, fm, to, st) := by
  refine br_c (fun _ => ?_) (fun hf => ?_)
  · refine rf_fillOnward hn fun on1 hon => ?_
    refine rf_fillBackward hn fun bw1 hbw => ?_
    refine rf_findWords (z := 0) hn hon ht fun we1 hwe => ?_
    exact ⟨n + 1, rf_pass12 hn ht rfl hon hbw hwe (fun ff' bw' we' fo' fm' to' st' h => K 1 ff' on1 bw' we' fo' fm' to' st' h) n 0 fo (n + 1) (by omega) (by omega) fun m h => by omega⟩
  · rcases hT with h | h
    · exact absurd h hf
    · exact K fr ff on bw we fo fm to st h
end
end
section
section
variable {post : Int32 → Prop} {n : Nat} {tx : Nat → Int32}
theorem rf_hp {i j p : Nat} (hi : i ≤ 32) (hj : j ≤ 32) (hp : p ≤ 32) (h1 : rf_per (rf_t tx) i j p → post 1) (h0 : ¬ rf_per (rf_t tx) i j p → post 0) : wpY_hasPeriod post (nI n, tx) (nI i) (nI j) (nI p) := by
  have main : ∀ (fuel k : Nat), i ≤ k → k ≤ 32 → j - k < fuel → (∀ m, i ≤ m → m < k → m + p < j → rf_t tx m = rf_t tx (m + p)) → wY_hasPeriod_3 post (nI j) (nI p) (nI n) tx fuel (nI k) := by
    intro fuel
    induction fuel with
    | zero => intro k _ _ h; omega
    | succ f ih =>
      intro k hk hk2 hf H
      refine pk_le j (k + p) (fun h => h1 fun m m1 m2 => H m m1 (by omega) m2) (fun h => ⟨vp_in_nI (by omega) (by omega), pk_in (k + p) 32 (by omega) (nI_add k p), ?_⟩) rfl (nI_add k p)
      rw [nI_clamp (n := k) (by omega), pk_cl (k + p) (nI_add k p)]
      refine br_c (fun e => nm_r (nI_1 k) (ih (k + 1) (by omega) (by omega) (by omega) fun m m1 m2 m3 => ?_)) fun e => h0 fun w => e (rf_teq.mpr (w k hk h))
      by_cases z : m = k
      · subst z; exact rf_teq.mp e
      · exact H m m1 (by omega) m3
  exact ⟨j + 1, main (j + 1) i (Nat.le_refl _) hi (by omega) fun m m1 m2 => by omega⟩
theorem rf_lpY {i j : Nat} (hij : i < j) (hj : j ≤ 32) (K : ∀ p, 1 ≤ p → p ≤ j - i → rf_per (rf_t tx) i j p → (∀ q, 1 ≤ q → q < p → ¬ rf_per (rf_t tx) i j q) → post (nI p)) : wpY_leastPeriod post (nI n, tx) (nI i) (nI j) := by
  have e : nI j - nI i = nI (j - i) := pk_sub (by omega)
  have main : ∀ (d p fuel : Nat), p + d = j - i → d < fuel → 1 ≤ p → (∀ q, 1 ≤ q → q < p → ¬ rf_per (rf_t tx) i j q) → wY_leastPeriod_2 post (nI i) (nI j) (nI n) tx fuel (nI p) := by
    intro d
    induction d with
    | zero =>
      intro p fuel hp hf p1 H
      obtain ⟨f, rfl⟩ : ∃ f, fuel = f + 1 := ⟨fuel - 1, by omega⟩
      have : p = j - i := by omega
      subst this
      refine br_t ?_ ?_
      · rw [e]; exact nI_le (by omega) (by omega)
      · rw [e]; exact K _ p1 (Nat.le_refl _) (fun m m1 m2 => by omega) H
    | succ d ih =>
      intro p fuel hp hf p1 H
      obtain ⟨f, rfl⟩ : ∃ f, fuel = f + 1 := ⟨fuel - 1, by omega⟩
      refine br_f ?_ ?_
      · rw [e]; exact nI_ge (by omega) (by omega)
      · refine rf_hp (by omega) hj (by omega) (fun h => br_f (by decide) (K p p1 (by omega) h H)) fun h => br_t rfl (nm_r (nI_1 p) (ih (p + 1) f (by omega) (by omega) (by omega) fun q q1 q2 => ?_))
        by_cases z : q = p
        · subst z; exact h
        · exact H q q1 (by omega)
  exact ⟨j, main (j - i - 1) 1 j (by omega) (by omega) (by omega) fun q q1 q2 => by omega⟩
theorem rf_re46 {i p : Nat} (hn : n ≤ 32) (p1 : 1 ≤ p) (hp : p ≤ 16) (hl : i = 0 ∨ rf_t tx (i - 1) ≠ rf_t tx (i - 1 + p)) (h1 : ∀ e, rf_run (rf_t tx) n i e p → post (nI e)) (h0 : (∀ e, ¬ rf_run (rf_t tx) n i e p) → post (-1)) :
    ∀ (d j k fuel : Nat), k + d = n → d < fuel → i + p ≤ j → j ≤ k → rf_per (rf_t tx) i j p → (j = k ∨ rf_t tx j ≠ rf_t tx (j - p)) → wY_runEnd_46 post (nI i) (nI p) (nI n) tx fuel (nI j) (nI k) := by
  intro d
  induction d with
  | zero =>
    intro j k fuel hk hf hij hjk per hr
    obtain ⟨f, rfl⟩ : ∃ f, fuel = f + 1 := ⟨fuel - 1, by omega⟩
    have hr' : j = n ∨ rf_t tx j ≠ rf_t tx (j - p) := by
      rcases hr with h | h
      · left; omega
      · exact Or.inr h
    have un : ∀ e, rf_run (rf_t tx) n i e p → e = j := fun e R => rf_end_u R.2.2.2.1 per R.2.2.1 (by omega) R.2.2.2.2.2.1 hr' (by have := R.2.1; omega) (by omega)
    refine br_t (nI_le (by omega) (by omega)) (pk_lt (j - i) (2 * p) (fun h => h0 fun e R => ?_) (fun h => ?_) (pk_sub (by omega)) (pk_mul 2 p))
    · have := un e R
      have := R.2.1
      omega
    · refine rf_lpY (by omega) (by omega) fun q q1 q2 q3 q4 => pk_eq q p (fun e => h1 j ?_) fun e => h0 fun e' R => ?_
      · subst e
        exact ⟨p1, by omega, by omega, per, hl, hr', q4⟩
      · have := un e' R
        subst this
        rcases Nat.lt_or_gt_of_ne e with z | z
        · exact R.2.2.2.2.2.2 q q1 z q3
        · exact q4 p p1 z per
  | succ d ih =>
    intro j k fuel hk hf hij hjk per hr
    obtain ⟨f, rfl⟩ : ∃ f, fuel = f + 1 := ⟨fuel - 1, by omega⟩
    have es : nI k - nI p = nI (k - p) := pk_sub (by omega)
    refine br_f (nI_ge (by omega) (by omega)) (pk_eq j k (fun h => ⟨vp_in_nI (by omega) (by omega), pk_in (k - p) 32 (by omega) es, ?_⟩) fun h => ?_)
    · subst h
      rw [nI_clamp (n := j) (by omega), pk_cl (j - p) es]
      refine br_c (fun e => nm_r (nI_1 j) (nm_r (nI_1 j) (ih (j + 1) (j + 1) f (by omega) (by omega) (by omega) (by omega) ?_ (Or.inl rfl)))) fun e => nm_r (nI_1 j) (ih j (j + 1) f (by omega) (by omega) (by omega) (by omega) per (Or.inr fun w => e (rf_teq.mpr w)))
      intro m m1 m2
      by_cases z : m + p < j
      · exact per m m1 z
      · rw [show m + p = j by omega, rf_teq.mp e]
        exact congrArg _ (by omega)
    · refine nm_r (nI_1 k) (ih j (k + 1) f (by omega) (by omega) hij (by omega) per (Or.inr ?_))
      rcases hr with w | w
      · exact absurd w h
      · exact w
theorem rf_re {i p : Nat} (hn : n ≤ 32) (hi : i < 32) (p1 : 1 ≤ p) (hp : p ≤ 16) (h1 : ∀ e, rf_run (rf_t tx) n i e p → post (nI e)) (h0 : (∀ e, ¬ rf_run (rf_t tx) n i e p) → post (-1)) : wpY_runEnd post (nI n, tx) (nI i) (nI p) := by
  have go : i + p < n → (i = 0 ∨ rf_t tx (i - 1) ≠ rf_t tx (i - 1 + p)) → wY_runEnd_37 post (nI i) (nI p) (nI n) tx := by
    intro hin hl
    refine nm_r (nI_add i p) (nm_r (nI_add i p) ⟨n + 1, ?_⟩)
    exact rf_re46 hn p1 hp hl h1 h0 (n - (i + p)) (i + p) (i + p) (n + 1) (by omega) (by omega) (by omega) (by omega) (fun m m1 m2 => by omega) (Or.inl rfl)
  refine pk_le n (i + p) (fun h => h0 fun e R => ?_) (fun h => pk_le i 0 (fun h' => go h (Or.inl (by omega))) fun h' => ?_) rfl (nI_add i p)
  · have r2 := R.2.1
    have r3 := R.2.2.1
    omega
  · obtain ⟨a, rfl⟩ : ∃ a, i = a + 1 := ⟨i - 1, by omega⟩
    rw [nI_pred]
    refine ⟨vp_in_nI (by omega) (by omega), pk_in (a + p) 32 (by omega) (nI_add a p), ?_⟩
    rw [nI_clamp (n := a) (by omega), pk_cl (a + p) (nI_add a p)]
    refine br_c (fun e => h0 fun x R => ?_) fun e => go h (Or.inr fun w => e (rf_teq.mpr w))
    rcases R.2.2.2.2.1 with w | w
    · omega
    · exact w (rf_teq.mp e)
end
/-- r runs have a key below k -/
def rf_at (c : Nat) (B P : Nat → Nat) (r k : Nat) : Prop := r ≤ c ∧ (∀ x, x < r → B x * 64 + P x < k) ∧ ∀ x, r ≤ x → x < c → k ≤ B x * 64 + P x
section
variable {t : Nat → Int} {n c : Nat} {B E P : Nat → Nat}
theorem rf_at_0 (hn : n ≤ 32) (h : rf_rl t n c B E P) : rf_at c B P 0 (0 * 64 + 1) := by
  refine ⟨Nat.zero_le _, fun x hx => by omega, fun x _ hx => ?_⟩
  have := rf_bnd hn (h.1 x hx)
  omega
theorem rf_at_no (hn : n ≤ 32) (h : rf_rl t n c B E P) {r i p : Nat} (hp : p ≤ 16) (ha : rf_at c B P r (i * 64 + p)) (hno : ∀ e, ¬ rf_run t n i e p) : rf_at c B P r (i * 64 + (p + 1)) := by
  refine ⟨ha.1, fun x hx => by have := ha.2.1 x hx; omega, fun x h1 hx => ?_⟩
  have g := ha.2.2 x h1 hx
  have b := rf_bnd hn (h.1 x hx)
  by_cases z : B x = i ∧ P x = p
  · have R := h.1 x hx
    rw [z.1, z.2] at R
    exact absurd R (hno _)
  · omega
theorem rf_at_yes (hn : n ≤ 32) (h : rf_rl t n c B E P) (hA : rf_all t n c B P) {r i p e : Nat} (hp : p ≤ 16) (ha : rf_at c B P r (i * 64 + p)) (R : rf_run t n i e p) :
    r < c ∧ B r = i ∧ P r = p ∧ E r = e ∧ rf_at c B P (r + 1) (i * 64 + (p + 1)) := by
  obtain ⟨x, hx, rfl, rfl⟩ := hA i e p R
  have h1 : ¬ x < r := fun z => by have := ha.2.1 x z; omega
  have h2 : ¬ r < x := fun z => by
    have g1 := h.2 r x z hx
    have g2 := ha.2.2 r (Nat.le_refl _) (by omega)
    omega
  have : x = r := by omega
  subst this
  refine ⟨hx, rfl, rfl, rf_run_e (h.1 x hx) R, by omega, fun y hy => ?_, fun y h1 hy => ?_⟩
  · by_cases z : y = x
    · subst z; omega
    · have := ha.2.1 y (by omega)
      omega
  · have := h.2 x y (by omega) hy
    omega
theorem rf_at_row (hn : n ≤ 32) (h : rf_rl t n c B E P) {r i : Nat} (ha : rf_at c B P r (i * 64 + 17)) : rf_at c B P r ((i + 1) * 64 + 1) := by
  refine ⟨ha.1, fun x hx => by have := ha.2.1 x hx; omega, fun x h1 hx => ?_⟩
  have g := ha.2.2 x h1 hx
  have b := rf_bnd hn (h.1 x hx)
  omega
theorem rf_at_n (hn : n ≤ 32) (h : rf_rl t n c B E P) {r : Nat} (ha : rf_at c B P r (n * 64 + 1)) : r = c := by
  by_cases z : r < c
  · have g := ha.2.2 r (Nat.le_refl _) z
    have b := rf_bnd hn (h.1 r z)
    omega
  · have := ha.1
    omega
end
section
variable {post : Int32 → Prop} {n c : Nat} {tx : Nat → Int32} {B E P : Nat → Nat}
theorem rf_yruns14 {J : Int32 → Int32 → Prop} (hn : n ≤ 32) (hc : c ≤ 64) (h : rf_rl (rf_t tx) n c B E P) (hA : rf_all (rf_t tx) n c B P) {i : Nat} (hi : i < n) (K : ∀ r, rf_at c B P r ((i + 1) * 64 + 1) → J (nI r) (nI i + 1)) :
    ∀ (d p r fuel : Nat), p + d = 17 → d < fuel → 1 ≤ p → rf_at c B P r (i * 64 + p) → wY_runs_14 post J (nI i) (nI n) tx fuel (nI r) (nI p) := by
  intro d
  induction d with
  | zero =>
    intro p r fuel hp hf p1 ha
    obtain ⟨f, rfl⟩ : ∃ f, fuel = f + 1 := ⟨fuel - 1, by omega⟩
    have : p = 17 := by omega
    subst this
    exact br_t (by decide) (nm_e (K r (rf_at_row hn h ha)))
  | succ d ih =>
    intro p r fuel hp hf p1 ha
    obtain ⟨f, rfl⟩ : ∃ f, fuel = f + 1 := ⟨fuel - 1, by omega⟩
    refine br_f (nI_nlt (b := p) (a := 16) (by omega) (by omega)) (rf_re hn (by omega) p1 (by omega) (fun e R => ?_) fun hno => ?_)
    · obtain ⟨h1, h2, h3, h4, h5⟩ := rf_at_yes hn h hA (by omega) ha R
      have := rf_bnd hn R
      exact br_f (nI_pos (by omega)) (nm_r (nI_1 r) (nm_r (nI_1 p) (ih (p + 1) (r + 1) f (by omega) (by omega) (by omega) h5)))
    · exact br_t (by decide) (nm_r (nI_1 p) (ih (p + 1) r f (by omega) (by omega) (by omega) (rf_at_no hn h (by omega) ha hno)))
theorem rf_yruns (hn : n ≤ 32) (hc : c ≤ 64) (h : rf_rl (rf_t tx) n c B E P) (hA : rf_all (rf_t tx) n c B P) (hp : post (nI c)) : wpY_runs post (nI n, tx) := by
  have main : ∀ (d i r fuel : Nat), i + d = n → d < fuel → rf_at c B P r (i * 64 + 1) → wY_runs_4 post (nI n) tx fuel (nI r) (nI i) := by
    intro d
    induction d with
    | zero =>
      intro i r fuel hi hf ha
      obtain ⟨f, rfl⟩ : ∃ f, fuel = f + 1 := ⟨fuel - 1, by omega⟩
      have : i = n := by omega
      subst this
      rw [rf_at_n hn h ha]
      exact br_t (nI_le (by omega) (by omega)) hp
    | succ d ih =>
      intro i r fuel hi hf ha
      obtain ⟨f, rfl⟩ : ∃ f, fuel = f + 1 := ⟨fuel - 1, by omega⟩
      refine br_f (nI_ge (by omega) (by omega)) ⟨17, rf_yruns14 (J := wY_runs_4 post (nI n) tx f) hn hc h hA (by omega) (fun r' hr' => ?_) 16 1 r 17 (by omega) (by omega) (by omega) ha⟩
      rw [nI_1]
      exact ih (i + 1) r' f (by omega) (by omega) hr'
  exact ⟨n + 1, main n 0 0 (n + 1) (by omega) (by omega) (rf_at_0 hn h)⟩
theorem rf_code (i p e : Nat) : nI i * 1024 + nI p * 32 + nI (e + 1) - 1 = nI (i * 1024 + p * 32 + e) := by
  show nI i * nI 1024 + nI p * nI 32 + nI (e + 1) - 1 = _
  rw [pk_mul, pk_mul, nI_add, nI_add, ← Nat.add_assoc, nI_pred]
theorem rf_yrun15 {J : Int32 → Int32 → Prop} {v : Int32} (hn : n ≤ 32) (hc : c ≤ 64) (h : rf_rl (rf_t tx) n c B E P) (hA : rf_all (rf_t tx) n c B P) {i : Nat} (hi : i < n)
    (hy : ∀ m, m < c → v = nI m → post (nI (B m * 1024 + P m * 32 + (E m - 1))))
    (K : ∀ r, rf_at c B P r ((i + 1) * 64 + 1) → (∀ m, m < r → v ≠ nI m) → J (nI r) (nI i + 1)) :
    ∀ (d p r fuel : Nat), p + d = 17 → d < fuel → 1 ≤ p → rf_at c B P r (i * 64 + p) → (∀ m, m < r → v ≠ nI m) → wY_run_15 post J v (nI i) (nI n) tx fuel (nI r) (nI p) := by
  intro d
  induction d with
  | zero =>
    intro p r fuel hp hf p1 ha hv
    obtain ⟨f, rfl⟩ : ∃ f, fuel = f + 1 := ⟨fuel - 1, by omega⟩
    have : p = 17 := by omega
    subst this
    exact br_t (by decide) (nm_e (K r (rf_at_row hn h ha) hv))
  | succ d ih =>
    intro p r fuel hp hf p1 ha hv
    obtain ⟨f, rfl⟩ : ∃ f, fuel = f + 1 := ⟨fuel - 1, by omega⟩
    refine br_f (nI_nlt (b := p) (a := 16) (by omega) (by omega)) (rf_re hn (by omega) p1 (by omega) (fun e R => ?_) fun hno => ?_)
    · obtain ⟨h1, h2, h3, h4, h5⟩ := rf_at_yes hn h hA (by omega) ha R
      have b := rf_bnd hn R
      refine br_f (nI_pos (by omega)) (br_c (fun w => ?_) fun w => ?_)
      · have g := hy r h1 w.symm
        rw [h2, h3, h4] at g
        obtain ⟨e', rfl⟩ : ∃ e', e = e' + 1 := ⟨e - 1, by omega⟩
        rw [rf_code]
        exact g
      · refine nm_r (nI_1 r) (nm_r (nI_1 p) (ih (p + 1) (r + 1) f (by omega) (by omega) (by omega) h5 fun m hm => ?_))
        by_cases z : m = r
        · subst z; exact fun y => w y.symm
        · exact hv m (by omega)
    · exact br_t (by decide) (nm_r (nI_1 p) (ih (p + 1) r f (by omega) (by omega) (by omega) (rf_at_no hn h (by omega) ha hno) hv))
theorem rf_yrun {v : Int32} (hn : n ≤ 32) (hc : c ≤ 64) (h : rf_rl (rf_t tx) n c B E P) (hA : rf_all (rf_t tx) n c B P)
    (hy : ∀ m, m < c → v = nI m → post (nI (B m * 1024 + P m * 32 + (E m - 1)))) (hno : (∀ m, m < c → v ≠ nI m) → post (-1)) : wpY_run post (nI n, tx) v := by
  have main : ∀ (d i r fuel : Nat), i + d = n → d < fuel → rf_at c B P r (i * 64 + 1) → (∀ m, m < r → v ≠ nI m) → wY_run_4 post v (nI n) tx fuel (nI r) (nI i) := by
    intro d
    induction d with
    | zero =>
      intro i r fuel hi hf ha hv
      obtain ⟨f, rfl⟩ : ∃ f, fuel = f + 1 := ⟨fuel - 1, by omega⟩
      have : i = n := by omega
      subst this
      have e := rf_at_n hn h ha
      subst e
      exact br_t (nI_le (by omega) (by omega)) (hno hv)
    | succ d ih =>
      intro i r fuel hi hf ha hv
      obtain ⟨f, rfl⟩ : ∃ f, fuel = f + 1 := ⟨fuel - 1, by omega⟩
      refine br_f (nI_ge (by omega) (by omega)) ⟨17, rf_yrun15 (J := wY_run_4 post v (nI n) tx f) hn hc h hA (by omega) hy (fun r' hr' hv' => ?_) 16 1 r 17 (by omega) (by omega) (by omega) ha hv⟩
      rw [nI_1]
      exact ih (i + 1) r' f (by omega) (by omega) hr' hv'
  exact ⟨n + 1, main n 0 0 (n + 1) (by omega) (by omega) (rf_at_0 hn h) fun m hm => by omega⟩
end
end
section
theorem rf_sq_0 {t : Nat → Int} {n i : Nat} : ¬ rf_sq t n i 0 := fun h => absurd h.1 (by omega)
theorem rf_i2q (i q : Nat) : nI i + 2 * nI q = nI (i + 2 * q) := by
  show nI i + nI 2 * nI q = _
  rw [pk_mul, nI_add]
section
variable {post : Int32 → Prop} {n : Nat} {tx : Nat → Int32}
theorem rf_ysq14 {J : Int32 → Int32 → Prop} (hn : n ≤ 32) {i : Nat} (hi : i < n) (A : Nat) (K : J (nI (A + rf_sum (fun q => rf_b (rf_sq (rf_t tx) n i q)) 17)) (nI i + 1)) :
    ∀ (d q fuel : Nat), q + d = 17 → d < fuel → 1 ≤ q → wY_squares_14 post J (nI i) (nI n) tx fuel (nI (A + rf_sum (fun q => rf_b (rf_sq (rf_t tx) n i q)) q)) (nI q) := by
  intro d
  induction d with
  | zero =>
    intro q fuel hq hf q1
    obtain ⟨f, rfl⟩ : ∃ f, fuel = f + 1 := ⟨fuel - 1, by omega⟩
    have : q = 17 := by omega
    subst this
    exact br_t (by decide) (nm_e K)
  | succ d ih =>
    intro q fuel hq hf q1
    obtain ⟨f, rfl⟩ : ∃ f, fuel = f + 1 := ⟨fuel - 1, by omega⟩
    have nx := ih (q + 1) f (by omega) (by omega) (by omega)
    have es : rf_sum (fun q => rf_b (rf_sq (rf_t tx) n i q)) (q + 1) = rf_sum (fun q => rf_b (rf_sq (rf_t tx) n i q)) q + rf_b (rf_sq (rf_t tx) n i q) := rfl
    rw [es] at nx
    have no : ¬ rf_sq (rf_t tx) n i q → ∀ x, x = nI q + 1 → wY_squares_14 post J (nI i) (nI n) tx f (nI (A + rf_sum (fun q => rf_b (rf_sq (rf_t tx) n i q)) q)) x := by
      intro h
      rw [rf_b0 h, Nat.add_zero] at nx
      exact nm_r (nI_1 q) nx
    refine br_f (nI_nlt (b := q) (a := 16) (by omega) (by omega)) ?_
    rw [rf_i2q]
    refine pk_lt n (i + 2 * q) (fun h => no fun w => by have := w.2.1; omega) fun h => ?_
    refine rf_hp (by omega) (by omega) (by omega) (fun w => br_f (by decide) ?_) fun w => br_t rfl (no fun w' => w w'.2.2)
    rw [rf_b1 ⟨q1, h, w⟩, ← Nat.add_assoc] at nx
    exact nm_r (nI_1 _) (nm_r (nI_1 q) nx)
theorem rf_ysq (hn : n ≤ 32) (hp : post (nI (rf_sum (fun i => rf_sum (fun q => rf_b (rf_sq (rf_t tx) n i q)) 17) n))) : wpY_squares post (nI n, tx) := by
  have main : ∀ (d i fuel : Nat), i + d = n → d < fuel → wY_squares_4 post (nI n) tx fuel (nI (rf_sum (fun i => rf_sum (fun q => rf_b (rf_sq (rf_t tx) n i q)) 17) i)) (nI i) := by
    intro d
    induction d with
    | zero =>
      intro i fuel hi hf
      obtain ⟨f, rfl⟩ : ∃ f, fuel = f + 1 := ⟨fuel - 1, by omega⟩
      have : i = n := by omega
      subst this
      exact br_t (nI_le (by omega) (by omega)) hp
    | succ d ih =>
      intro i fuel hi hf
      obtain ⟨f, rfl⟩ : ∃ f, fuel = f + 1 := ⟨fuel - 1, by omega⟩
      refine br_f (nI_ge (by omega) (by omega)) ⟨17, ?_⟩
      have h := rf_ysq14 (post := post) (tx := tx) (J := wY_squares_4 post (nI n) tx f) hn (i := i) (by omega) (rf_sum (fun i => rf_sum (fun q => rf_b (rf_sq (rf_t tx) n i q)) 17) i)
        (by rw [nI_1]; exact ih (i + 1) f (by omega) (by omega)) 16 1 17 (by omega) (by omega) (by omega)
      have e0 : rf_sum (fun q => rf_b (rf_sq (rf_t tx) n i q)) 1 = 0 := by
        show 0 + rf_b (rf_sq (rf_t tx) n i 0) = 0
        rw [rf_b0 rf_sq_0]
      rw [e0, Nat.add_zero] at h
      exact h
  exact ⟨n + 1, main n 0 (n + 1) (by omega) (by omega)⟩
end
theorem rf_ndvd {p q x : Nat} (h : p ∣ q) (h1 : q < x) (h2 : x < q + p) : ¬ p ∣ x := by
  intro w
  obtain ⟨d, rfl⟩ : ∃ d, x = q + d := ⟨x - q, by omega⟩
  have := Nat.le_of_dvd (by omega) ((Nat.dvd_add_right h).mp w)
  omega
theorem rf_g_z {b e p x : Nat} (h : ¬ p ∣ x) : rf_g b e p x = 0 := if_neg fun w => h w.2.1
theorem rf_g_big {b e p x : Nat} (h : e - b < 2 * x) : rf_g b e p x = 0 := if_neg fun w => by have := w.2.2; omega
section
variable {post : Int32 → SX → Prop} {n : Nat} {fr ff : Int32} {tx on bw we fo fm to st : Nat → Int32}
theorem rf_xsq40 {J : Int32 → Int32 → Prop} {r b e p : Nat} (hr : r < 64) (he : e - b ≤ 32) (p1 : 1 ≤ p) (hp : p ≤ 16) (hs : st r = nI p) (A : Nat) (K : J (nI (A + rf_sum (rf_g b e p) 17)) (nI r + 1)) :
    ∀ (fuel q : Nat), p ∣ q → 1 ≤ q → q ≤ 32 → 17 - q < fuel → wX_squares_40 post J (nI r) (nI (e - b)) (nI n) fr ff tx on bw we fo fm to st fuel (nI (A + rf_sum (rf_g b e p) q)) (nI (2 * q)) := by
  intro fuel
  induction fuel with
  | zero => intro q _ _ _ h; omega
  | succ f ih =>
    intro q hd q1 q32 hf
    refine pk_lt (e - b) (2 * q) (fun h => ?_) fun h => ?_
    · have e1 : rf_sum (rf_g b e p) q = rf_sum (rf_g b e p) 17 := by
        by_cases z : q ≤ 17
        · exact (rf_sum_ext' z fun x h1 h2 => rf_g_big (by omega)).symm
        · exact rf_sum_ext' (by omega) fun x h1 h2 => rf_g_big (by omega)
      rw [e1]
      exact nm_e K
    · have e1 : rf_sum (rf_g b e p) (q + p) = rf_sum (rf_g b e p) (q + 1) := rf_sum_ext' (by omega) fun x h1 h2 => rf_g_z (rf_ndvd hd (by omega) h2)
      have e2 : rf_sum (rf_g b e p) (q + 1) = rf_sum (rf_g b e p) q + rf_g b e p q := rfl
      have e3 : rf_g b e p q = e - b - 2 * q + 1 := if_pos ⟨q1, hd, h⟩
      have nx := ih (q + p) (Nat.dvd_add hd (Nat.dvd_refl p)) (by omega) (by omega) (by omega)
      rw [e1, e2, e3] at nx
      refine nm_r (e' := nI (A + (rf_sum (rf_g b e p) q + (e - b - 2 * q + 1)))) ?_ ⟨vp_in_nI hr (by omega), nm_r (e' := nI (2 * (q + p))) ?_ nx⟩
      · rw [pk_sub h, nI_1, nI_add, Nat.add_assoc]
      · rw [nI_clamp (by omega), hs, rf_i2q]
        exact congrArg nI (by omega)
theorem rf_xsq8 {c : Nat} {B E P : Nat → Nat} (hn : n ≤ 32) (hc : c ≤ 64) (aB : rf_arr fm B c) (aE : rf_arr to E c) (aP : rf_arr st P c) (h : rf_rl (rf_t tx) n c B E P)
    (hp : post (nI (rf_sum (fun r => rf_sum (rf_g (B r) (E r) (P r)) 17) c)) (nI n, fr, nI c, tx, on, bw, we, fo, fm, to, st)) :
    ∀ (d r fuel : Nat), r + d = c → d < fuel → wX_squares_8 post (nI n) fr (nI c) tx on bw we fo fm to st fuel (nI (rf_sum (fun r => rf_sum (rf_g (B r) (E r) (P r)) 17) r)) (nI r) := by
  intro d
  induction d with
  | zero =>
    intro r fuel hr hf
    obtain ⟨f, rfl⟩ : ∃ f, fuel = f + 1 := ⟨fuel - 1, by omega⟩
    have : r = c := by omega
    subst this
    exact br_t (nI_le (by omega) (by omega)) hp
  | succ d ih =>
    intro r fuel hr hf
    obtain ⟨f, rfl⟩ : ∃ f, fuel = f + 1 := ⟨fuel - 1, by omega⟩
    have ir : vp_in (nI r) 64 := vp_in_nI (by omega) (by omega)
    have cr : (nI r).toNatClampNeg = r := nI_clamp (by omega)
    have b := rf_bnd hn (h.1 r (by omega))
    refine br_f (nI_ge (by omega) (by omega)) ⟨ir, ir, nm_r (e' := nI (E r - B r)) ?_ ⟨ir, nm_r (e' := nI (2 * P r)) ?_ ⟨18, ?_⟩⟩⟩
    · rw [cr, aE r (by omega), aB r (by omega), pk_sub (by omega)]
    · rw [cr, aP r (by omega)]
      exact pk_mul 2 (P r)
    · have hh := rf_xsq40 (post := post) (n := n) (fr := fr) (ff := nI c) (tx := tx) (on := on) (bw := bw) (we := we) (fo := fo) (fm := fm) (to := to) (st := st) (J := wX_squares_8 post (nI n) fr (nI c) tx on bw we fo fm to st f)
        (r := r) (b := B r) (e := E r) (p := P r) (by omega) (by omega) (by omega) (by omega) (aP r (by omega)) (rf_sum (fun r => rf_sum (rf_g (B r) (E r) (P r)) 17) r)
        (by rw [nI_1]; exact ih (r + 1) f (by omega) (by omega)) 18 (P r) (Nat.dvd_refl _) (by omega) (by omega) (by omega)
      have e0 : rf_sum (rf_g (B r) (E r) (P r)) (P r) = 0 := by
        refine rf_sum_ext' (a := 0) (Nat.zero_le _) fun x h1 h2 => ?_
        by_cases z : x = 0
        · subst z
          exact if_neg fun w => absurd w.1 (by omega)
        · exact rf_g_z fun w => by have := Nat.le_of_dvd (by omega) w; omega
      rw [e0, Nat.add_zero] at hh
      exact hh
end
end
section
section
variable {post : Int32 → Prop} {n : Nat} {tx : Nat → Int32}
theorem rf_ysm {a b e : Nat} (ht : rf_let tx) (he : e ≤ 32) (ha : a < e) (hb : b < e) (hab : a ≠ b) (h1 : rf_lt (rf_s (rf_t tx) e) a b → post 1) (h0 : rf_lt (rf_s (rf_t tx) e) b a → post 0) :
    wpY_smaller post (nI n, tx) (nI a) (nI b) (nI e) := by
  have main : ∀ (fuel k : Nat), k ≤ 32 → 32 - k < fuel → (∀ m, m < k → a + m < e ∧ b + m < e ∧ rf_s (rf_t tx) e (a + m) = rf_s (rf_t tx) e (b + m)) → wY_smaller_3 post (nI a) (nI b) (nI e) (nI n) tx fuel (nI k) := by
    intro fuel
    induction fuel with
    | zero => intro k _ h; omega
    | succ f ih =>
      intro k hk hf H
      have la : a + k ≤ e ∧ b + k ≤ e := by
        rcases Nat.eq_zero_or_pos k with w | w
        · omega
        · have := H (k - 1) (by omega)
          omega
      have Hm : ∀ m, m < k → rf_s (rf_t tx) e (a + m) = rf_s (rf_t tx) e (b + m) := fun m hm => (H m hm).2.2
      have ea : (nI a + nI k).toNatClampNeg = a + k := pk_cl (a + k) (nI_add a k)
      have eb : (nI b + nI k).toNatClampNeg = b + k := pk_cl (b + k) (nI_add b k)
      refine pk_le 32 k (fun h => by omega) fun h => pk_le e (a + k) (fun h2 => ?_) (fun h2 => pk_lt (b + k) e (fun h3 => ?_) (fun h3 => ?_) (nI_add b k)) rfl (nI_add a k)
      · refine pk_le a b (fun w => by omega) fun w => h1 ((rf_lt_drop Hm).mpr ?_)
        rw [show a + k = e by omega]
        exact rf_s_end (rf_let_big ht) (by omega)
      · have ia : vp_in (nI a + nI k) 32 := pk_in (a + k) 32 (by omega) (nI_add a k)
        have ib : vp_in (nI b + nI k) 32 := pk_in (b + k) 32 (by omega) (nI_add b k)
        refine ⟨ia, ib, ?_⟩
        rw [ea, eb]
        refine br_c (fun w => nm_r (nI_1 k) (ih (k + 1) (by omega) (by omega) fun m hm => ?_)) fun w => ⟨ia, ib, br_c (fun w2 => h0 ⟨k, fun m hm => (Hm m hm).symm, ?_⟩) fun w2 => h1 ⟨k, Hm, ?_⟩⟩
        · by_cases z : m = k
          · subst z
            refine ⟨h2, h3, ?_⟩
            rw [rf_s_in h2, rf_s_in h3]
            exact rf_teq.mp w
          · exact H m (by omega)
        · rw [rf_s_in h2, rf_s_in h3]
          have g1 : rf_t tx (a + k) ≠ rf_t tx (b + k) := fun y => w (rf_teq.mpr y)
          have g2 : rf_t tx (b + k) ≤ rf_t tx (a + k) := Int32.le_iff_toInt_le.mp w2
          omega
        · rw [rf_s_in h2, rf_s_in h3]
          have g2 : ¬ rf_t tx (b + k) ≤ rf_t tx (a + k) := fun y => w2 (Int32.le_iff_toInt_le.mpr y)
          omega
      · refine pk_le a b (fun w => h0 ((rf_lt_drop fun m hm => (Hm m hm).symm).mpr ?_)) fun w => by omega
        rw [show b + k = e by omega]
        exact rf_s_end (rf_let_big ht) (by omega)
  exact ⟨33, main 33 0 (by omega) (by omega) fun m hm => by omega⟩
theorem rf_ysl {e : Nat} (ht : rf_let tx) (he : e ≤ 32) (e1 : 1 ≤ e) (K : ∀ r, rf_best (rf_t tx) e r → post (nI r)) : wpY_smallest post (nI n, tx) (nI e) := by
  have main : ∀ (d i r fuel : Nat), i + d = e → d < fuel → r < i → (∀ a, a < i → a ≠ r → rf_lt (rf_s (rf_t tx) e) r a) → wY_smallest_4 post (nI e) (nI n) tx fuel (nI r) (nI i) := by
    intro d
    induction d with
    | zero =>
      intro i r fuel hi hf hr H
      obtain ⟨f, rfl⟩ : ∃ f, fuel = f + 1 := ⟨fuel - 1, by omega⟩
      have : i = e := by omega
      subst this
      exact br_t (nI_le (by omega) (by omega)) (K r ⟨hr, H⟩)
    | succ d ih =>
      intro i r fuel hi hf hr H
      obtain ⟨f, rfl⟩ : ∃ f, fuel = f + 1 := ⟨fuel - 1, by omega⟩
      refine br_f (nI_ge (by omega) (by omega)) (rf_ysm ht he (by omega) (by omega) (by omega) (fun h => br_f (by decide) (nm_r (nI_1 i) (ih (i + 1) i f (by omega) (by omega) (by omega) fun a h1 h2 => ?_)))
        fun h => br_t rfl (nm_r (nI_1 i) (ih (i + 1) r f (by omega) (by omega) (by omega) fun a h1 h2 => ?_)))
      · by_cases z : a = r
        · subst z; exact h
        · exact rf_lt_trans h (H a (by omega) z)
      · by_cases z : a = i
        · subst z; exact h
        · exact H a (by omega) h2
  refine ⟨e, main (e - 1) 1 0 e (by omega) (by omega) (by omega) fun a h1 h2 => by omega⟩
theorem rf_yfac (ht : rf_let tx) (hn : n ≤ 32) (hp : post (nI (rf_pc (rf_t tx) n n))) : wpY_factors post (nI n, tx) := by
  have main : ∀ (d k c x fuel : Nat), k + d = 32 → d < fuel → rf_pm (rf_t tx) n c → c ≤ d → x + rf_pc (rf_t tx) n c = rf_pc (rf_t tx) n n → wY_factors_9 post (nI n) tx fuel (nI x) (nI c) (nI k) := by
    intro d
    induction d with
    | zero =>
      intro k c x fuel hk hf hc hd hx
      obtain ⟨f, rfl⟩ : ∃ f, fuel = f + 1 := ⟨fuel - 1, by omega⟩
      have : c = 0 := by omega
      subst this
      have e0 : rf_pc (rf_t tx) n 0 = 0 := rfl
      have e1 : x = rf_pc (rf_t tx) n n := by omega
      rw [e1]
      exact br_t (nI_le (a := 32) (by omega) (by omega)) hp
    | succ d ih =>
      intro k c x fuel hk hf hc hd hx
      obtain ⟨f, rfl⟩ : ∃ f, fuel = f + 1 := ⟨fuel - 1, by omega⟩
      refine br_f (nI_ge (b := 32) (by omega) (by omega)) (pk_le c 0 (fun h => nm_r (nI_1 k) (ih (k + 1) c x f (by omega) (by omega) hc (by omega) hx)) fun h => ?_)
      have hcn := hc.1
      refine rf_ysl ht (by omega) h fun r hr => nm_r (nI_1 x) (nm_r (nI_1 k) ?_)
      obtain ⟨g1, g2⟩ := rf_best_pm (rf_let_big ht) hc hr
      have g3 := rf_pc_step g1 hr.1 g2
      have g4 := hr.1
      exact ih (k + 1) r (x + 1) f (by omega) (by omega) g1 (by omega) (by omega)
  exact ⟨33, main 32 0 n 0 33 (by omega) (by omega) (rf_pm_n (rf_let_big ht) n) hn (by omega)⟩
end
section
variable {post : Int32 → SX → Prop} {n : Nat} {fr ff : Int32} {tx on bw we fo fm to st : Nat → Int32}
theorem rf_xse (hn : n ≤ 32) (hw : rf_we (rf_t tx) n fo) (K : ∀ r, rf_best (rf_t tx) n r → post (nI r) (nI n, fr, ff, tx, on, bw, we, fo, fm, to, st)) :
    ∀ (fuel c : Nat), c < n → n - c ≤ fuel → rf_pm (rf_t tx) n c → wX_smallestEnd_16 post (nI n) fr ff tx on bw we fo fm to st fuel (nI c) := by
  intro fuel
  induction fuel with
  | zero => intro c h1 h2; omega
  | succ f ih =>
    intro c hc hf H
    obtain ⟨e, e1, e2⟩ := hw c hc
    have ic : vp_in (nI c) 33 := vp_in_nI (by omega) (by omega)
    have g1 := e2.1
    have g2 := e2.2.1
    refine ⟨ic, ?_⟩
    rw [nI_clamp (n := c) (by omega), e1]
    refine pk_le n e (fun h => ?_) fun h => ⟨ic, nm_e (ih e h (by omega) (rf_pm_ns H e2))⟩
    have : e = n := by omega
    subst this
    exact K c (rf_best_ns H e2)
theorem rf_xfac (hn : n ≤ 32) (hw : rf_we (rf_t tx) n fo) (K : post (nI (rf_pc (rf_t tx) n n)) (nI n, fr, ff, tx, on, bw, we, fo, fm, to, st)) :
    ∀ (fuel c : Nat), c ≤ n → n - c < fuel → rf_pm (rf_t tx) n c → wX_factors_8 post (nI n) fr ff tx on bw we fo fm to st fuel (nI (rf_pc (rf_t tx) n c)) (nI c) := by
  intro fuel
  induction fuel with
  | zero => intro c h1 h2; omega
  | succ f ih =>
    intro c hc hf H
    refine pk_le n c (fun h => ?_) fun h => ?_
    · have : c = n := by omega
      subst this
      exact K
    · obtain ⟨e, e1, e2⟩ := hw c h
      have g1 := e2.1
      have g2 := e2.2.1
      have g3 := rf_pc_step H g1 (rf_pm_no e2)
      refine nm_r (nI_1 _) ⟨vp_in_nI (by omega) (by omega), nm_r (e' := nI e) ?_ ?_⟩
      · rw [nI_clamp (by omega)]; exact e1
      · rw [← g3]
        exact ih e g2 (by omega) (rf_pm_ns H e2)
theorem rf_xwp (hn : n ≤ 32) (hon : rf_on (rf_t tx) n on) (K : ∀ p, 1 ≤ p → p ≤ n → rf_per (rf_t tx) 0 n p → (∀ q, 1 ≤ q → q < p → ¬ rf_per (rf_t tx) 0 n q) → post (nI p) (nI n, fr, ff, tx, on, bw, we, fo, fm, to, st)) :
    ∀ (d p fuel : Nat), p + d = n → d < fuel → 1 ≤ p → (∀ q, 1 ≤ q → q < p → ¬ rf_per (rf_t tx) 0 n q) → wX_wholePeriod_15 post (nI n) fr ff tx on bw we fo fm to st fuel (nI p) := by
  intro d
  induction d with
  | zero =>
    intro p fuel hp hf p1 H
    obtain ⟨f, rfl⟩ : ∃ f, fuel = f + 1 := ⟨fuel - 1, by omega⟩
    exact br_t (nI_le (by omega) (by omega)) (K p p1 (by omega) (fun m m1 m2 => by omega) H)
  | succ d ih =>
    intro p fuel hp hf p1 H
    obtain ⟨f, rfl⟩ : ∃ f, fuel = f + 1 := ⟨fuel - 1, by omega⟩
    obtain ⟨k, ek, lk, lx⟩ := hon 0 p (by omega) (by omega)
    rw [Nat.zero_mul, Nat.zero_add] at ek
    have hk : p + k ≤ n := by
      rcases Nat.eq_zero_or_pos k with w | w
      · omega
      · have := (lk (k - 1) (by omega)).2.1
        omega
    refine br_f (nI_ge (by omega) (by omega)) ⟨vp_in_nI (by omega) (by omega), ?_⟩
    rw [nI_clamp (n := p) (by omega), ek]
    refine pk_le (n - p) k (fun h => K p p1 (by omega) (fun m _ m2 => ?_) H) (fun h => nm_r (nI_1 p) (ih (p + 1) f (by omega) (by omega) (by omega) fun q q1 q2 => ?_)) (pk_sub (by omega))
    · have := (lk m (by omega)).2.2
      rwa [Nat.zero_add, Nat.add_comm p m] at this
    · by_cases z : q = p
      · subst z
        intro w
        refine lx ⟨by omega, by omega, ?_⟩
        rw [Nat.zero_add, Nat.add_comm q k]
        exact w k (by omega) (by omega)
      · exact H q q1 (by omega)
end
end
section
theorem rf_c_lt {tx : Nat → Int32} {n x : Nat} (h : x < n) : rf_c (rf_t tx) n x = (tx x).toInt := by
  show (tx (x % n)).toInt = _
  rw [Nat.mod_eq_of_lt h]
theorem rf_c_ge {tx : Nat → Int32} {n x : Nat} (h : n ≤ x) (h2 : x < 2 * n) : rf_c (rf_t tx) n x = (tx (x - n)).toInt := by
  show (tx (x % n)).toInt = _
  rw [Nat.mod_eq_sub_mod h, Nat.mod_eq_of_lt (by omega)]
section
variable {n : Nat} {fr ff : Int32} {tx on bw we fo fm to st : Nat → Int32}
theorem rf_la {post : Int32 → Prop} {i k : Nat} (hn : n ≤ 32) (hx : i + k < 2 * n) (h : ∀ y : Int32, y.toInt = rf_c (rf_t tx) n (i + k) → post y) : wpX_letterAt post (nI n, fr, ff, tx, on, bw, we, fo, fm, to, st) (nI i + nI k) := by
  rw [nI_add]
  refine pk_le n (i + k) (fun w => ?_) fun w => ?_
  · have e : nI (i + k) - nI n = nI (i + k - n) := pk_sub w
    refine ⟨pk_in (i + k - n) 32 (by omega) e, h _ ?_⟩
    rw [pk_cl (i + k - n) e, rf_c_ge w hx]
  · refine ⟨vp_in_nI (by omega) (by omega), h _ ?_⟩
    rw [nI_clamp (by omega), rf_c_lt w]
variable {post : Int32 → Prop}
theorem rf_xst (hn : n ≤ 32) (K : ∀ x, (∀ r, rf_fm (rf_t tx) n r → r = x) → post (nI x)) :
    ∀ (fuel i j k s : Nat), 97 - s < fuel → s ≤ 96 → s + 1 ≤ i + j + k → i ≤ 64 → j ≤ 65 → k ≤ n → (i < n ∨ j < n) → rf_ti (rf_t tx) n i j k →
      wX_smallestTurn_19 post (nI n) fr ff tx on bw we fo fm to st fuel (nI i) (nI j) (nI k) (nI s) := by
  intro fuel
  induction fuel with
  | zero => intro i j k s h; omega
  | succ f ih =>
    intro i j k s hf hs hm hi hj hk hmin H
    have fin : (n ≤ i ∨ n ≤ j ∨ n ≤ k) → wX_smallestTurn_120 post (nI i) (nI j) (nI n) fr ff tx on bw we fo fm to st := by
      intro hx
      have un : ∀ r, rf_fm (rf_t tx) n r → r = min i j := fun r hr => rf_ti_end H hr hx hmin
      refine pk_le j i (fun h => K j fun r hr => ?_) fun h => K i fun r hr => ?_
      · have := un r hr
        omega
      · have := un r hr
        omega
    refine br_f (nI_ge (b := 128) (by omega) (by omega)) (pk_le n i (fun h => fin (Or.inl h)) fun h1 => pk_le n j (fun h => fin (Or.inr (Or.inl h))) fun h2 => pk_le n k (fun h => fin (Or.inr (Or.inr h))) fun h3 => ?_)
    refine rf_la hn (by omega) fun y hy => rf_la hn (by omega) fun y' hy' => ?_
    refine br_c (fun e => ?_) fun ne => br_c (fun le => ?_) fun nle => ?_
    · refine nm_r (nI_1 k) (nm_r (nI_1 s) (ih i j (k + 1) (s + 1) (by omega) (by omega) (by omega) hi hj (by omega) hmin (rf_ti_eq H ?_)))
      rw [← hy, ← hy', e]
    · have ne' : y.toInt ≠ y'.toInt := fun w => ne (Int32.toInt_inj.mp w)
      have l := Int32.le_iff_toInt_le.mp le
      have l2 : rf_c (rf_t tx) n (i + k) < rf_c (rf_t tx) n (j + k) := by omega
      refine nm_r (e' := nI (j + k + 1)) (by rw [nI_1, nI_add]; rfl) (pk_eq i (j + k + 1) (fun e => ?_) fun e => ?_)
      · exact nm_r (nI_1 _) (nm_r (nI_1 s) (ih i (j + k + 1 + 1) 0 (s + 1) (by omega) (by omega) (by omega) (by omega) (by omega) (by omega) (by omega) (rf_ti_lt H l2 (Or.inr ⟨rfl, e⟩))))
      · exact nm_r (nI_1 s) (ih i (j + k + 1) 0 (s + 1) (by omega) (by omega) (by omega) (by omega) (by omega) (by omega) (by omega) (rf_ti_lt H l2 (Or.inl ⟨rfl, e⟩)))
    · have l : ¬ y.toInt ≤ y'.toInt := fun w => nle (Int32.le_iff_toInt_le.mpr w)
      have l2 : rf_c (rf_t tx) n (j + k) < rf_c (rf_t tx) n (i + k) := by omega
      refine nm_r (e' := nI (i + k + 1)) (by rw [nI_1, nI_add]; rfl) (pk_eq (i + k + 1) j (fun e => ?_) fun e => ?_)
      · exact nm_r (nI_1 _) (nm_r (nI_1 s) (ih (i + k + 1) (j + 1) 0 (s + 1) (by omega) (by omega) (by omega) (by omega) (by omega) (by omega) (by omega) (rf_ti_gt H l2 rfl (Or.inr ⟨rfl, e⟩))))
      · exact nm_r (nI_1 s) (ih (i + k + 1) j 0 (s + 1) (by omega) (by omega) (by omega) (by omega) (by omega) (by omega) (by omega) (rf_ti_gt H l2 rfl (Or.inl ⟨rfl, e⟩)))
end
section
variable {post : Int32 → Prop} {n : Nat} {tx : Nat → Int32}
theorem rf_yts {a b : Nat} (hn : n ≤ 32) (ha : a < n) (hb : b < n) (h1 : rf_lt (rf_c (rf_t tx) n) a b → post 1) (h0 : ¬ rf_lt (rf_c (rf_t tx) n) a b → post 0) : wpY_turnSmaller post (nI n, tx) (nI a) (nI b) := by
  have main : ∀ (d k fuel : Nat), k + d = n → d < fuel → (∀ m, m < k → rf_c (rf_t tx) n (a + m) = rf_c (rf_t tx) n (b + m)) → wY_turnSmaller_2 post (nI a) (nI b) (nI n) tx fuel (nI k) := by
    intro d
    induction d with
    | zero =>
      intro k fuel hk hf H
      obtain ⟨f, rfl⟩ : ∃ f, fuel = f + 1 := ⟨fuel - 1, by omega⟩
      refine br_t (nI_le (by omega) (by omega)) (h0 fun w => ?_)
      have e := rf_c_eq (t := rf_t tx) (n := n) (a := a) (b := b) (by omega) fun m hm => H m (by omega)
      exact rf_lt_irr (rf_lt_eq w (rf_eq_symm e))
    | succ d ih =>
      intro k fuel hk hf H
      obtain ⟨f, rfl⟩ : ∃ f, fuel = f + 1 := ⟨fuel - 1, by omega⟩
      have last : ∀ x y : Nat, x < n → y < n → rf_c (rf_t tx) n (a + k) = (tx x).toInt → rf_c (rf_t tx) n (b + k) = (tx y).toInt →
          wY_turnSmaller_60 post (wY_turnSmaller_2 post (nI a) (nI b) (nI n) tx f) (nI a) (nI b) (nI k) (nI x) (nI y) (nI n) tx := by
        intro x y hx hy ex ey
        have ix : vp_in (nI x) 32 := vp_in_nI (by omega) (by omega)
        have iy : vp_in (nI y) 32 := vp_in_nI (by omega) (by omega)
        refine ⟨ix, iy, ?_⟩
        rw [nI_clamp (n := x) (by omega), nI_clamp (n := y) (by omega)]
        refine br_c (fun e => nm_r (nI_1 k) (ih (k + 1) f (by omega) (by omega) fun m hm => ?_)) fun e => ⟨ix, iy, br_c (fun w => h0 fun hl => ?_) fun w => h1 ⟨k, H, ?_⟩⟩
        · by_cases z : m = k
          · subst z
            rw [ex, ey, e]
          · exact H m (by omega)
        · have w := Int32.le_iff_toInt_le.mp w
          have e' : (tx x).toInt ≠ (tx y).toInt := fun q => e (Int32.toInt_inj.mp q)
          have hl2 : rf_lt (rf_c (rf_t tx) n) b a := ⟨k, fun m hm => (H m hm).symm, by omega⟩
          exact rf_lt_asym hl hl2
        · have w : ¬ (tx y).toInt ≤ (tx x).toInt := fun q => w (Int32.le_iff_toInt_le.mpr q)
          omega
      have mid : ∀ x : Nat, x < n → rf_c (rf_t tx) n (a + k) = (tx x).toInt → wY_turnSmaller_34 post (wY_turnSmaller_2 post (nI a) (nI b) (nI n) tx f) (nI a) (nI b) (nI k) (nI x) (nI n) tx := by
        intro x hx ex
        have goal : (nI n ≤ nI b + nI k → wY_turnSmaller_60 post (wY_turnSmaller_2 post (nI a) (nI b) (nI n) tx f) (nI a) (nI b) (nI k) (nI x) (nI b + nI k - nI n) (nI n) tx) ∧
            (¬ nI n ≤ nI b + nI k → wY_turnSmaller_60 post (wY_turnSmaller_2 post (nI a) (nI b) (nI n) tx f) (nI a) (nI b) (nI k) (nI x) (nI b + nI k) (nI n) tx) := by
          rw [nI_add]
          refine pk_le n (b + k) (fun h => ?_) fun h => ?_
          · rw [pk_sub h]
            exact last x (b + k - n) hx (by omega) ex (rf_c_ge h (by omega))
          · exact last x (b + k) hx h ex (rf_c_lt h)
        exact goal
      refine br_f (nI_ge (by omega) (by omega)) ?_
      rw [nI_add]
      refine pk_le n (a + k) (fun h => ?_) fun h => ?_
      · rw [pk_sub h]
        exact mid (a + k - n) (by omega) (rf_c_ge h (by omega))
      · exact mid (a + k) h (rf_c_lt h)
  exact ⟨n + 1, main n 0 (n + 1) (by omega) (by omega) fun m hm => by omega⟩
theorem rf_yst (hn : n ≤ 32) (n1 : 1 ≤ n) (K : ∀ r, rf_fm (rf_t tx) n r → post (nI r)) : wpY_smallestTurn post (nI n, tx) := by
  have main : ∀ (d i r fuel : Nat), i + d = n → d < fuel → r < i → (∀ a, a < r → rf_lt (rf_c (rf_t tx) n) r a) → (∀ a, a < i → ¬ rf_lt (rf_c (rf_t tx) n) a r) → wY_smallestTurn_14 post (nI n) tx fuel (nI r) (nI i) := by
    intro d
    induction d with
    | zero =>
      intro i r fuel hi hf hr h1 h2
      obtain ⟨f, rfl⟩ : ∃ f, fuel = f + 1 := ⟨fuel - 1, by omega⟩
      have : i = n := by omega
      subst this
      exact br_t (nI_le (by omega) (by omega)) (K r ⟨hr, h1, h2⟩)
    | succ d ih =>
      intro i r fuel hi hf hr h1 h2
      obtain ⟨f, rfl⟩ : ∃ f, fuel = f + 1 := ⟨fuel - 1, by omega⟩
      refine br_f (nI_ge (by omega) (by omega)) (rf_yts hn (by omega) (by omega) (fun h => br_f (by decide) (nm_r (nI_1 i) (ih (i + 1) i f (by omega) (by omega) (by omega) (fun a ha => ?_) fun a ha hl => ?_)))
        fun h => br_t rfl (nm_r (nI_1 i) (ih (i + 1) r f (by omega) (by omega) (by omega) h1 fun a ha hl => ?_)))
      · rcases rf_tri (rf_c (rf_t tx) n) r a with z | z | z
        · exact rf_lt_trans h z
        · exact absurd z (h2 a ha)
        · exact rf_lt_eq h z
      · by_cases z : a = i
        · subst z; exact rf_lt_irr hl
        · exact h2 a (by omega) (rf_lt_trans hl h)
      · by_cases z : a = i
        · subst z; exact h hl
        · exact h2 a (by omega) hl
  refine br_f (nI_ne0 (by omega) (by omega)) ⟨n, main (n - 1) 1 0 n (by omega) (by omega) (by omega) (fun a h => by omega) fun a ha hl => ?_⟩
  have : a = 0 := by omega
  subst this
  exact rf_lt_irr hl
end
end
section
theorem rf_let_upd {tx : Nat → Int32} {k : Nat} {v : Int32} (h : rf_let tx) (hv : 0 ≤ v.toInt ∧ v.toInt ≤ 3) : rf_let (upd tx k v) := by
  intro x
  by_cases z : x = k
  · subst z
    rw [pk_us]
    exact hv
  · rw [pk_un z]
    exact h x
theorem rf_let_of {v : Int32} (h0 : ¬ v < 0) (h3 : v ≤ 3) : 0 ≤ v.toInt ∧ v.toInt ≤ 3 := by
  rw [Int32.lt_iff_toInt_lt, show (0 : Int32).toInt = 0 from by decide] at h0
  rw [Int32.le_iff_toInt_le, show (3 : Int32).toInt = 3 from by decide] at h3
  omega
theorem rf_let_0 : rf_let (fun _ => 0) := by
  intro x
  show 0 ≤ (0 : Int32).toInt ∧ (0 : Int32).toInt ≤ 3
  decide
theorem rf_rep32 {post : Int32 → SY → Prop} {m s : Nat} {tx : Nat → Int32} (hm : m ≤ 32) (hp : post (nI 32) (nI 32, tx)) : ∀ (d i fuel : Nat), i + d = m → d < fuel → wY_repeat_25 post (nI m) (nI s) fuel (nI i) (nI 32) tx := by
  intro d
  induction d with
  | zero =>
    intro i fuel hi hf
    obtain ⟨f, rfl⟩ : ∃ f, fuel = f + 1 := ⟨fuel - 1, by omega⟩
    exact br_t (nI_le (by omega) (by omega)) hp
  | succ d ih =>
    intro i fuel hi hf
    obtain ⟨f, rfl⟩ : ∃ f, fuel = f + 1 := ⟨fuel - 1, by omega⟩
    exact br_f (nI_ge (by omega) (by omega)) (br_t (nI_le (a := 32) (Nat.le_refl _) (by omega)) (nm_r (nI_1 i) (ih (i + 1) f (by omega) (by omega))))
section
variable {ff : Int32} {on bw we fo fm to st : Nat → Int32}
/-- both copy the last letters to the same text -/
theorem rf_rep {m s : Nat} (hm : s + m ≤ 32) : ∀ (d i l : Nat) (fr : Int32) (tx : Nat → Int32), i + d = m → l ≤ 32 → rf_let tx →
    ∃ (l' : Nat) (fr' : Int32) (tx' : Nat → Int32), l' ≤ 32 ∧ rf_let tx' ∧ (fr' = 0 ∨ (fr' = fr ∧ l' = l ∧ tx' = tx)) ∧
      (∀ (post : Int32 → SX → Prop) (fuel : Nat), d < fuel → post (nI l') (nI l', fr', ff, tx', on, bw, we, fo, fm, to, st) → wX_repeat_25 post (nI m) (nI s) fuel (nI i) (nI l) fr ff tx on bw we fo fm to st) ∧
      (∀ (post : Int32 → SY → Prop) (fuel : Nat), d < fuel → post (nI l') (nI l', tx') → wY_repeat_25 post (nI m) (nI s) fuel (nI i) (nI l) tx) := by
  intro d
  induction d with
  | zero =>
    intro i l fr tx hi hl ht
    refine ⟨l, fr, tx, hl, ht, Or.inr ⟨rfl, rfl, rfl⟩, fun post fuel hf hp => ?_, fun post fuel hf hp => ?_⟩
    · obtain ⟨f, rfl⟩ : ∃ f, fuel = f + 1 := ⟨fuel - 1, by omega⟩
      exact br_t (nI_le (by omega) (by omega)) hp
    · obtain ⟨f, rfl⟩ : ∃ f, fuel = f + 1 := ⟨fuel - 1, by omega⟩
      exact br_t (nI_le (by omega) (by omega)) hp
  | succ d ih =>
    intro i l fr tx hi hl ht
    by_cases z : l = 32
    · subst z
      refine ⟨32, fr, tx, hl, ht, Or.inr ⟨rfl, rfl, rfl⟩, fun post fuel hf hp => ?_, fun post fuel hf hp => rf_rep32 (by omega) hp (d + 1) i fuel hi hf⟩
      obtain ⟨f, rfl⟩ : ∃ f, fuel = f + 1 := ⟨fuel - 1, by omega⟩
      exact br_f (nI_ge (by omega) (by omega)) (br_t (nI_le (a := 32) (Nat.le_refl _) (by omega)) hp)
    · obtain ⟨l', fr', tx', h1, h2, h3, hX, hY⟩ := ih (i + 1) (l + 1) 0 (upd tx l (tx (s + i))) (by omega) (by omega) (rf_let_upd ht (ht (s + i)))
      have ix : vp_in (nI s + nI i) 32 := pk_in (s + i) 32 (by omega) (nI_add s i)
      have ic : (nI s + nI i).toNatClampNeg = s + i := pk_cl (s + i) (nI_add s i)
      have il : vp_in (nI l) 32 := vp_in_nI (by omega) (by omega)
      have cl : (nI l).toNatClampNeg = l := nI_clamp (by omega)
      refine ⟨l', fr', tx', h1, h2, ?_, fun post fuel hf hp => ?_, fun post fuel hf hp => ?_⟩
      · rcases h3 with h | h
        · exact Or.inl h
        · exact Or.inl h.1
      · obtain ⟨f, rfl⟩ : ∃ f, fuel = f + 1 := ⟨fuel - 1, by omega⟩
        refine br_f (nI_ge (by omega) (by omega)) (br_f (nI_ge (b := 32) (by omega) (by omega)) ⟨ix, ?_⟩)
        rw [ic]
        exact ⟨il, nm_r (e' := upd tx l (tx (s + i))) (by rw [cl]) (nm_r (nI_1 l) (nm_r (nI_1 i) (hX post f (by omega) hp)))⟩
      · obtain ⟨f, rfl⟩ : ∃ f, fuel = f + 1 := ⟨fuel - 1, by omega⟩
        refine br_f (nI_ge (by omega) (by omega)) (br_f (nI_ge (b := 32) (by omega) (by omega)) ⟨ix, il, ?_⟩)
        exact nm_r (e' := upd tx l (tx (s + i))) (by rw [cl, ic]) (nm_r (nI_1 l) (nm_r (nI_1 i) (hY post f (by omega) hp)))
end
section
variable {n : Nat} {fr ff : Int32} {tx on bw we fo fm to st : Nat → Int32}
theorem rf_noRun {post : Int32 → SX → Prop} {v : Int32} (hn : n ≤ 32) (ht : rf_let tx) (hT : fr = 0 ∨ rf_tab tx n ff on fo fm to st)
    (K : ∀ (fr' : Int32) (c : Nat) (on' bw' we' fo' fm' to' st' : Nat → Int32) (B E P : Nat → Nat), rf_tab tx n (nI c) on' fo' fm' to' st' → c ≤ 64 → rf_arr fm' B c → rf_arr to' E c → rf_arr st' P c → rf_rl (rf_t tx) n c B E P → rf_all (rf_t tx) n c B P →
      (∀ m, m < c → v = nI m → post 0 (nI n, fr', nI c, tx, on', bw', we', fo', fm', to', st')) ∧ ((∀ m, m < c → v ≠ nI m) → post 1 (nI n, fr', nI c, tx, on', bw', we', fo', fm', to', st'))) :
    wpX_noRun post (nI n, fr, ff, tx, on, bw, we, fo, fm, to, st) v := by
  unfold wpX_noRun
  refine rf_prepare hn ht hT fun fr' ff' on' bw' we' fo' fm' to' st' hT' => ?_
  have hT2 := hT'
  obtain ⟨_, _, c, hc, rfl, B, E, P, aB, aE, aP, hl, hA⟩ := hT'
  obtain ⟨k0, k1⟩ := K fr' c on' bw' we' fo' fm' to' st' B E P hT2 hc aB aE aP hl hA
  refine br_c (fun h => k1 fun m hm e => ?_) fun h => ?_
  · rw [e] at h
    exact nI_pos (by omega) h
  · obtain ⟨j, hj, rfl⟩ := nI_of h
    refine pk_lt j c (fun h' => k0 j h' rfl) fun h' => k1 fun m hm e => ?_
    have := (nI_eq (by omega) (by omega)).mp e
    omega
end
theorem rf_dec1 {b p e : Nat} (hb : b < 32) (hp : p ≤ 16) (h1 : 1 ≤ e) (he : e ≤ 32) : nI (b * 1024 + p * 32 + (e - 1)) / 1024 = nI b := by
  show nI (b * 1024 + p * 32 + (e - 1)) / nI 1024 = nI b
  rw [pk_div (by omega) (by omega) (by omega)]
  exact congrArg nI (by omega)
theorem rf_dec2 {b p e : Nat} (hb : b < 32) (hp : p ≤ 16) (h1 : 1 ≤ e) (he : e ≤ 32) : nI (b * 1024 + p * 32 + (e - 1)) - nI (b * 1024 + p * 32 + (e - 1)) / 32 * 32 + 1 = nI e := by
  show nI (b * 1024 + p * 32 + (e - 1)) - nI (b * 1024 + p * 32 + (e - 1)) / nI 32 * nI 32 + 1 = nI e
  rw [pk_rem (by omega) (by omega) (by omega), nI_1]
  exact congrArg nI (by omega)
theorem rf_dec3 {b p e : Nat} (hb : b < 32) (hp : p ≤ 16) (h1 : 1 ≤ e) (he : e ≤ 32) : nI (b * 1024 + p * 32 + (e - 1)) / 32 - nI (b * 1024 + p * 32 + (e - 1)) / 32 / 32 * 32 = nI p := by
  show nI (b * 1024 + p * 32 + (e - 1)) / nI 32 - nI (b * 1024 + p * 32 + (e - 1)) / nI 32 / nI 32 * nI 32 = nI p
  rw [pk_div (a := b * 1024 + p * 32 + (e - 1)) (by omega) (by omega) (by omega), pk_rem (by omega) (by omega) (by omega)]
  exact congrArg nI (by omega)
end
section
/-- the text is the same; the tables, if ready, answer -/
def rf_R (u : SX) (v : SY) : Prop := match u, v with
  | (fl, fr, ff, tx, on, _, _, fo, fm, to, st), (fs, ty) => ∃ n, n ≤ 32 ∧ fl = nI n ∧ fs = nI n ∧ ty = tx ∧ rf_let tx ∧ (fr = 0 ∨ rf_tab tx n ff on fo fm to st)
/-- the relation at the head of a turn -/
def i_Rel (k : Nat) (u : SX) (v : SY) : Prop := rf_R u v
theorem i_up {k : Nat} {u : SX} {v : SY} (h : i_Rel k u v) : i_Rel (k + 3) u v := h
theorem i_vc0 : wpX_init (fun u => wpY_init (fun v => i_Rel 0 u v)) := ⟨0, by omega, rfl, rfl, rfl, rf_let_0, Or.inl rfl⟩
theorem i_vc_append {k : Nat} {u : SX} {v : SY} (I : i_Rel k u v) (hk : k + 3 ≤ 1536) (v1 : Int32) : wpX_append (fun r u' => wpY_append (fun r' v' => r' = r ∧ i_Rel (k + 3) u' v') v v1) u v1 := by
  obtain ⟨fl, fr, ff, tx, on, bw, we, fo, fm, to, st⟩ := u
  obtain ⟨fs, ty⟩ := v
  obtain ⟨n, hn, rfl, rfl, rfl, hl, hT⟩ := I
  by_cases h0 : v1 < 0
  · exact br_t h0 (br_f (by decide) (br_t h0 ⟨rfl, n, hn, rfl, rfl, rfl, hl, hT⟩))
  · by_cases h3 : v1 ≤ 3
    · refine br_f h0 (br_t h3 (br_t rfl (pk_lt n 32 (fun h => ?_) fun h => ?_)))
      · have i1 : vp_in (nI n) 32 := vp_in_nI (by omega) (by omega)
        have c1 : (nI n).toNatClampNeg = n := nI_clamp (by omega)
        refine ⟨i1, nm_r (e' := upd ty n v1) (by rw [c1]) (nm_r (nI_1 n) (br_f h0 (br_t h3 (pk_eq n 32 (fun w => by omega) fun _ => ⟨i1, nm_r (e' := upd ty n v1) (by rw [c1]) (nm_r (nI_1 n) ?_)⟩))))⟩
        exact ⟨rfl, n + 1, by omega, rfl, rfl, rfl, rf_let_upd hl (rf_let_of h0 h3), Or.inl rfl⟩
      · exact br_f h0 (br_t h3 (pk_eq n 32 (fun _ => ⟨rfl, n, hn, rfl, rfl, rfl, hl, hT⟩) fun w => by omega))
    · exact br_f h0 (br_f h3 (br_f (by decide) (br_f h0 (br_f h3 ⟨rfl, n, hn, rfl, rfl, rfl, hl, hT⟩))))
theorem i_vc_set {k : Nat} {u : SX} {v : SY} (I : i_Rel k u v) (hk : k + 3 ≤ 1536) (v1 : Int32) (v2 : Int32) : wpX_set (fun r u' => wpY_set (fun r' v' => r' = r ∧ i_Rel (k + 3) u' v') v v1 v2) u v1 v2 := by
  obtain ⟨fl, fr, ff, tx, on, bw, we, fo, fm, to, st⟩ := u
  obtain ⟨fs, ty⟩ := v
  obtain ⟨n, hn, rfl, rfl, rfl, hl, hT⟩ := I
  by_cases h0 : v1 < 0
  · exact br_t h0 (br_f (by decide) (br_t h0 ⟨rfl, n, hn, rfl, rfl, rfl, hl, hT⟩))
  · obtain ⟨j, hj, rfl⟩ := nI_of h0
    by_cases h1 : nI j < nI n
    · have hjn : j < n := (nI_ltI hj (by omega)).mp h1
      have ij : vp_in (nI j) 32 := vp_in_nI (by omega) (by omega)
      by_cases g0 : v2 < 0
      · exact br_f h0 (br_t h1 (br_t rfl (br_t g0 (br_f (by decide) (br_f h0 (br_t h1 (br_t g0 ⟨rfl, n, hn, rfl, rfl, rfl, hl, hT⟩)))))))
      · by_cases g3 : v2 ≤ 3
        · refine br_f h0 (br_t h1 (br_t rfl (br_f g0 (br_t g3 (br_t rfl ⟨ij, nm_e ⟨ij, nm_e ?_⟩⟩)))))
          exact br_f h0 (br_t h1 (br_f g0 (br_t g3 ⟨ij, nm_e ⟨ij, nm_e ⟨rfl, n, hn, rfl, rfl, rfl, rf_let_upd hl (rf_let_of g0 g3), Or.inl rfl⟩⟩⟩)))
        · exact br_f h0 (br_t h1 (br_t rfl (br_f g0 (br_f g3 (br_f (by decide) (br_f h0 (br_t h1 (br_f g0 (br_f g3 ⟨rfl, n, hn, rfl, rfl, rfl, hl, hT⟩)))))))))
    · exact br_f h0 (br_f h1 (br_f (by decide) (br_f h0 (br_f h1 ⟨rfl, n, hn, rfl, rfl, rfl, hl, hT⟩))))
theorem i_vc_repeat {k : Nat} {u : SX} {v : SY} (I : i_Rel k u v) (hk : k + 3 ≤ 1536) (v1 : Int32) : wpX_repeat (fun r u' => wpY_repeat (fun r' v' => r' = r ∧ i_Rel (k + 3) u' v') v v1) u v1 := by
  obtain ⟨fl, fr, ff, tx, on, bw, we, fo, fm, to, st⟩ := u
  obtain ⟨fs, ty⟩ := v
  obtain ⟨n, hn, rfl, rfl, rfl, hl, hT⟩ := I
  by_cases h0 : v1 < 1
  · exact br_t h0 (br_t h0 ⟨rfl, n, hn, rfl, rfl, rfl, hl, hT⟩)
  · have h00 : ¬ v1 < 0 := fun w => h0 (by
      rw [Int32.lt_iff_toInt_lt, show (0 : Int32).toInt = 0 from by decide] at w
      rw [Int32.lt_iff_toInt_lt, show (1 : Int32).toInt = 1 from by decide]
      omega)
    obtain ⟨m, hm, rfl⟩ := nI_of h00
    by_cases h1 : nI m ≤ nI n
    · have hmn : m ≤ n := (nI_leI hm (by omega)).mp h1
      obtain ⟨l', fr', tx', e1, e2, e3, hX, hY⟩ := rf_rep (ff := ff) (on := on) (bw := bw) (we := we) (fo := fo) (fm := fm) (to := to) (st := st) (m := m) (s := n - m) (by omega) m 0 n fr ty (by omega) hn hl
      refine br_f h0 (br_t h1 (nm_r (e' := nI (n - m)) (pk_sub hmn) ⟨m + 1, hX _ (m + 1) (by omega) ?_⟩))
      refine br_f h0 (br_t h1 (nm_r (e' := nI (n - m)) (pk_sub hmn) ⟨m + 1, hY _ (m + 1) (by omega) ⟨rfl, l', e1, rfl, rfl, rfl, e2, ?_⟩⟩))
      rcases e3 with h | ⟨rfl, rfl, rfl⟩
      · exact Or.inl h
      · exact hT
    · exact br_f h0 (br_f h1 (br_f h0 (br_f h1 ⟨rfl, n, hn, rfl, rfl, rfl, hl, hT⟩)))
theorem i_vc_drop {k : Nat} {u : SX} {v : SY} (I : i_Rel k u v) (hk : k + 3 ≤ 1536) : wpX_drop (fun r u' => wpY_drop (fun r' v' => r' = r ∧ i_Rel (k + 3) u' v') v) u := by
  obtain ⟨fl, fr, ff, tx, on, bw, we, fo, fm, to, st⟩ := u
  obtain ⟨fs, ty⟩ := v
  obtain ⟨n, hn, rfl, rfl, rfl, hl, hT⟩ := I
  rcases n with _ | n
  · exact br_t rfl (br_t rfl ⟨rfl, 0, hn, rfl, rfl, rfl, hl, hT⟩)
  · have h : ¬ nI (n + 1) = 0 := nI_ne0 (by omega) (by omega)
    exact br_f h (nm_r (nI_pred n) (br_f h (nm_r (nI_pred n) ⟨rfl, n, by omega, rfl, rfl, rfl, hl, Or.inl rfl⟩)))
theorem i_vc_clear {k : Nat} {u : SX} {v : SY} (I : i_Rel k u v) (hk : k + 3 ≤ 1536) : wpX_clear (fun u' => wpY_clear (fun v' => i_Rel (k + 3) u' v') v) u := by
  obtain ⟨fl, fr, ff, tx, on, bw, we, fo, fm, to, st⟩ := u
  obtain ⟨fs, ty⟩ := v
  obtain ⟨n, hn, rfl, rfl, rfl, hl, hT⟩ := I
  exact ⟨0, by omega, rfl, rfl, rfl, hl, Or.inl rfl⟩
theorem i_vc_runs {k : Nat} {u : SX} {v : SY} (I : i_Rel k u v) (hk : k + 3 ≤ 1536) : wpX_runs (fun r u' => wpY_runs (fun r' => r' = r ∧ i_Rel (k + 3) u' v) v) u := by
  obtain ⟨fl, fr, ff, tx, on, bw, we, fo, fm, to, st⟩ := u
  obtain ⟨fs, ty⟩ := v
  obtain ⟨n, hn, rfl, rfl, rfl, hl, hT⟩ := I
  unfold wpX_runs
  refine rf_prepare hn hl hT fun fr' ff' on' bw' we' fo' fm' to' st' hT' => ?_
  have hT2 := hT'
  obtain ⟨_, _, c, hc, rfl, B, E, P, aB, aE, aP, hr, hA⟩ := hT'
  exact rf_yruns hn hc hr hA ⟨rfl, n, hn, rfl, rfl, rfl, hl, Or.inr hT2⟩
theorem i_vc_begin {k : Nat} {u : SX} {v : SY} (I : i_Rel k u v) (hk : k + 3 ≤ 1536) (v1 : Int32) : wpX_begin (fun r u' => wpY_begin (fun r' => r' = r ∧ i_Rel (k + 3) u' v) v v1) u v1 := by
  obtain ⟨fl, fr, ff, tx, on, bw, we, fo, fm, to, st⟩ := u
  obtain ⟨fs, ty⟩ := v
  obtain ⟨n, hn, rfl, rfl, rfl, hl, hT⟩ := I
  unfold wpX_begin
  refine rf_noRun hn hl hT fun fr' c on' bw' we' fo' fm' to' st' B E P hT2 hc aB aE aP hr hA => ⟨fun m hm e => br_t rfl ?_, fun hno => br_f (by decide) ?_⟩
  · subst e
    refine ⟨vp_in_nI (by omega) (by omega), rf_yrun hn hc hr hA (fun m' hm' e => ?_) fun w => absurd rfl (w m hm)⟩
    have : m = m' := (nI_eq (by omega) (by omega)).mp e
    subst this
    have b := rf_bnd hn (hr.1 m hm)
    refine br_t (nI_pos' (by omega)) ⟨by decide, ?_, n, hn, rfl, rfl, rfl, hl, Or.inr hT2⟩
    rw [nI_clamp (by omega), aB m hm]
    exact rf_dec1 (by omega) (by omega) (by omega) (by omega)
  · exact rf_yrun hn hc hr hA (fun m hm e => absurd e (hno m hm)) fun w => br_f (by decide) ⟨rfl, n, hn, rfl, rfl, rfl, hl, Or.inr hT2⟩
theorem i_vc_end {k : Nat} {u : SX} {v : SY} (I : i_Rel k u v) (hk : k + 3 ≤ 1536) (v1 : Int32) : wpX_end (fun r u' => wpY_end (fun r' => r' = r ∧ i_Rel (k + 3) u' v) v v1) u v1 := by
  obtain ⟨fl, fr, ff, tx, on, bw, we, fo, fm, to, st⟩ := u
  obtain ⟨fs, ty⟩ := v
  obtain ⟨n, hn, rfl, rfl, rfl, hl, hT⟩ := I
  unfold wpX_end
  refine rf_noRun hn hl hT fun fr' c on' bw' we' fo' fm' to' st' B E P hT2 hc aB aE aP hr hA => ⟨fun m hm e => br_t rfl ?_, fun hno => br_f (by decide) ?_⟩
  · subst e
    refine ⟨vp_in_nI (by omega) (by omega), rf_yrun hn hc hr hA (fun m' hm' e => ?_) fun w => absurd rfl (w m hm)⟩
    have : m = m' := (nI_eq (by omega) (by omega)).mp e
    subst this
    have b := rf_bnd hn (hr.1 m hm)
    refine br_t (nI_pos' (by omega)) ⟨by decide, ?_, n, hn, rfl, rfl, rfl, hl, Or.inr hT2⟩
    rw [nI_clamp (by omega), aE m hm]
    exact rf_dec2 (by omega) (by omega) (by omega) (by omega)
  · exact rf_yrun hn hc hr hA (fun m hm e => absurd e (hno m hm)) fun w => br_f (by decide) ⟨rfl, n, hn, rfl, rfl, rfl, hl, Or.inr hT2⟩
theorem i_vc_period {k : Nat} {u : SX} {v : SY} (I : i_Rel k u v) (hk : k + 3 ≤ 1536) (v1 : Int32) : wpX_period (fun r u' => wpY_period (fun r' => r' = r ∧ i_Rel (k + 3) u' v) v v1) u v1 := by
  obtain ⟨fl, fr, ff, tx, on, bw, we, fo, fm, to, st⟩ := u
  obtain ⟨fs, ty⟩ := v
  obtain ⟨n, hn, rfl, rfl, rfl, hl, hT⟩ := I
  unfold wpX_period
  refine rf_noRun hn hl hT fun fr' c on' bw' we' fo' fm' to' st' B E P hT2 hc aB aE aP hr hA => ⟨fun m hm e => br_t rfl ?_, fun hno => br_f (by decide) ?_⟩
  · subst e
    refine ⟨vp_in_nI (by omega) (by omega), rf_yrun hn hc hr hA (fun m' hm' e => ?_) fun w => absurd rfl (w m hm)⟩
    have : m = m' := (nI_eq (by omega) (by omega)).mp e
    subst this
    have b := rf_bnd hn (hr.1 m hm)
    refine br_t (nI_pos' (by omega)) ⟨by decide, by decide, ?_, n, hn, rfl, rfl, rfl, hl, Or.inr hT2⟩
    rw [nI_clamp (by omega), aP m hm]
    exact rf_dec3 (by omega) (by omega) (by omega) (by omega)
  · exact rf_yrun hn hc hr hA (fun m hm e => absurd e (hno m hm)) fun w => br_f (by decide) ⟨rfl, n, hn, rfl, rfl, rfl, hl, Or.inr hT2⟩
theorem i_vc_squares {k : Nat} {u : SX} {v : SY} (I : i_Rel k u v) (hk : k + 3 ≤ 1536) : wpX_squares (fun r u' => wpY_squares (fun r' => r' = r ∧ i_Rel (k + 3) u' v) v) u := by
  obtain ⟨fl, fr, ff, tx, on, bw, we, fo, fm, to, st⟩ := u
  obtain ⟨fs, ty⟩ := v
  obtain ⟨n, hn, rfl, rfl, rfl, hl, hT⟩ := I
  unfold wpX_squares
  refine rf_prepare hn hl hT fun fr' ff' on' bw' we' fo' fm' to' st' hT' => ?_
  have hT2 := hT'
  obtain ⟨_, _, c, hc, rfl, B, E, P, aB, aE, aP, hr, hA⟩ := hT'
  exact ⟨c + 1, rf_xsq8 hn hc aB aE aP hr (rf_ysq hn ⟨congrArg nI (rf_squares hr hA), n, hn, rfl, rfl, rfl, hl, Or.inr hT2⟩) c 0 (c + 1) (by omega) (by omega)⟩
theorem i_vc_wholePeriod {k : Nat} {u : SX} {v : SY} (I : i_Rel k u v) (hk : k + 3 ≤ 1536) : wpX_wholePeriod (fun r u' => wpY_wholePeriod (fun r' => r' = r ∧ i_Rel (k + 3) u' v) v) u := by
  obtain ⟨fl, fr, ff, tx, on, bw, we, fo, fm, to, st⟩ := u
  obtain ⟨fs, ty⟩ := v
  obtain ⟨n, hn, rfl, rfl, rfl, hl, hT⟩ := I
  unfold wpX_wholePeriod
  refine rf_prepare hn hl hT fun fr' ff' on' bw' we' fo' fm' to' st' hT' => ?_
  have hT2 := hT'
  obtain ⟨hon, _, c, hc, rfl, _⟩ := hT'
  by_cases z : n = 0
  · subst z
    exact br_t rfl (br_t rfl ⟨rfl, 0, hn, rfl, rfl, rfl, hl, Or.inr hT2⟩)
  · have h : ¬ nI n = 0 := nI_ne0 (by omega) (by omega)
    refine br_f h ⟨n, rf_xwp hn hon (fun p p1 p2 p3 p4 => br_f h ?_) (n - 1) 1 n (by omega) (by omega) (by omega) fun q q1 q2 => by omega⟩
    refine rf_lpY (i := 0) (by omega) hn fun p' o1 o2 o3 o4 => ⟨congrArg nI ?_, n, hn, rfl, rfl, rfl, hl, Or.inr hT2⟩
    rcases Nat.lt_trichotomy p' p with w | w | w
    · exact absurd o3 (p4 p' o1 w)
    · exact w
    · exact absurd p3 (o4 p p1 w)
theorem i_vc_smallestEnd {k : Nat} {u : SX} {v : SY} (I : i_Rel k u v) (hk : k + 3 ≤ 1536) : wpX_smallestEnd (fun r u' => wpY_smallestEnd (fun r' => r' = r ∧ i_Rel (k + 3) u' v) v) u := by
  obtain ⟨fl, fr, ff, tx, on, bw, we, fo, fm, to, st⟩ := u
  obtain ⟨fs, ty⟩ := v
  obtain ⟨n, hn, rfl, rfl, rfl, hl, hT⟩ := I
  unfold wpX_smallestEnd
  refine rf_prepare hn hl hT fun fr' ff' on' bw' we' fo' fm' to' st' hT' => ?_
  have hT2 := hT'
  obtain ⟨_, hw, c, hc, rfl, _⟩ := hT'
  by_cases z : n = 0
  · subst z
    exact br_t rfl (br_t rfl ⟨rfl, 0, hn, rfl, rfl, rfl, hl, Or.inr hT2⟩)
  · have h : ¬ nI n = 0 := nI_ne0 (by omega) (by omega)
    refine br_f h ⟨n, rf_xse hn hw (fun r hr => br_f h ?_) n 0 (by omega) (by omega) (rf_pm_0 _ _)⟩
    exact rf_ysl hl hn (by omega) fun r' hr' => ⟨congrArg nI (rf_best_u hr' hr), n, hn, rfl, rfl, rfl, hl, Or.inr hT2⟩
theorem i_vc_factors {k : Nat} {u : SX} {v : SY} (I : i_Rel k u v) (hk : k + 3 ≤ 1536) : wpX_factors (fun r u' => wpY_factors (fun r' => r' = r ∧ i_Rel (k + 3) u' v) v) u := by
  obtain ⟨fl, fr, ff, tx, on, bw, we, fo, fm, to, st⟩ := u
  obtain ⟨fs, ty⟩ := v
  obtain ⟨n, hn, rfl, rfl, rfl, hl, hT⟩ := I
  unfold wpX_factors
  refine rf_prepare hn hl hT fun fr' ff' on' bw' we' fo' fm' to' st' hT' => ?_
  have hT2 := hT'
  obtain ⟨_, hw, c, hc, rfl, _⟩ := hT'
  exact ⟨n + 1, rf_xfac hn hw (rf_yfac hl hn ⟨rfl, n, hn, rfl, rfl, rfl, hl, Or.inr hT2⟩) (n + 1) 0 (by omega) (by omega) (rf_pm_0 _ _)⟩
theorem i_vc_smallestTurn {k : Nat} {u : SX} {v : SY} (I : i_Rel k u v) (hk : k + 3 ≤ 1536) : wpX_smallestTurn (fun r => wpY_smallestTurn (fun r' => r' = r ∧ i_Rel (k + 3) u v) v) u := by
  obtain ⟨fl, fr, ff, tx, on, bw, we, fo, fm, to, st⟩ := u
  obtain ⟨fs, ty⟩ := v
  have I0 := I
  obtain ⟨n, hn, rfl, rfl, rfl, hl, hT⟩ := I
  by_cases z : n = 0
  · subst z
    exact br_t rfl (br_t rfl ⟨rfl, I0⟩)
  · have h : ¬ nI n = 0 := nI_ne0 (by omega) (by omega)
    refine br_f h ⟨98, rf_xst hn (fun x hx => ?_) 98 0 1 0 0 (by omega) (by omega) (by omega) (by omega) (by omega) (by omega) (by omega) (rf_ti_0 _ _)⟩
    exact rf_yst hn (by omega) fun r hr => ⟨congrArg nI (hx r hr), I0⟩
end
