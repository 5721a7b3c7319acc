section
/-! ===== sums, matrices over Fin 5, rank ===== -/
abbrev sd_M : Type := Nat → Nat → Fin 5

def sd_s : Nat → (Nat → Fin 5) → Fin 5
  | 0, _ => 0
  | n + 1, f => sd_s n f + f n

theorem sd_s_c {n : Nat} {f g : Nat → Fin 5} (h : ∀ i, i < n → f i = g i) : sd_s n f = sd_s n g := by
  induction n with
  | zero => rfl
  | succ n ih =>
    simp only [sd_s]
    rw [ih (fun i hi => h i (by omega)), h n (by omega)]

theorem sd_s_0 (n : Nat) : sd_s n (fun _ => 0) = 0 := by
  induction n with
  | zero => rfl
  | succ n ih => simp only [sd_s, ih]; rfl

theorem sd_s_add (n : Nat) (f g : Nat → Fin 5) : sd_s n (fun i => f i + g i) = sd_s n f + sd_s n g := by
  induction n with
  | zero => rfl
  | succ n ih => simp only [sd_s, ih]; grind

theorem sd_s_ml (n : Nat) (c : Fin 5) (f : Nat → Fin 5) : sd_s n (fun i => c * f i) = c * sd_s n f := by
  induction n with
  | zero => simp only [sd_s]; grind
  | succ n ih => simp only [sd_s, ih]; grind

theorem sd_s_mr (n : Nat) (c : Fin 5) (f : Nat → Fin 5) : sd_s n (fun i => f i * c) = sd_s n f * c := by
  induction n with
  | zero => simp only [sd_s]; grind
  | succ n ih => simp only [sd_s, ih]; grind

theorem sd_s_swap (n m : Nat) (f : Nat → Nat → Fin 5) : sd_s n (fun i => sd_s m (fun j => f i j)) = sd_s m (fun j => sd_s n (fun i => f i j)) := by
  induction n with
  | zero => simp only [sd_s, sd_s_0]
  | succ n ih =>
    have e : sd_s m (fun j => sd_s (n + 1) (fun i => f i j)) = sd_s m (fun j => sd_s n (fun i => f i j) + f n j) := rfl
    rw [e, sd_s_add, ← ih]
    rfl

theorem sd_s_d (n k : Nat) (c : Nat → Fin 5) : sd_s n (fun i => if i = k then c i else 0) = if k < n then c k else 0 := by
  induction n with
  | zero => rfl
  | succ n ih =>
    simp only [sd_s, ih]
    by_cases h : n = k
    · subst h
      rw [if_neg (by omega), if_pos rfl, if_pos (by omega)]; grind
    · by_cases h2 : k < n
      · rw [if_pos h2, if_neg h, if_pos (by omega)]; grind
      · rw [if_neg h2, if_neg h, if_neg (by omega)]; rfl

theorem sd_s_d' (n k : Nat) (hk : k < n) (c : Nat → Fin 5) : sd_s n (fun i => if i = k then c i else 0) = c k := by
  rw [sd_s_d, if_pos hk]

/-- only one term counts -/
theorem sd_s_1 {n : Nat} (k : Nat) (hk : k < n) (f : Nat → Fin 5) (h : ∀ i, i < n → i ≠ k → f i = 0) : sd_s n f = f k := by
  rw [← sd_s_d' n k hk f]
  apply sd_s_c
  intro i hi
  by_cases e : i = k
  · rw [if_pos e]
  · rw [if_neg e, h i hi e]

/-- the inverse -/
def sd_i (x : Fin 5) : Fin 5 := x * x * x
theorem sd_i_m : ∀ x : Fin 5, x ≠ 0 → x * sd_i x = 1 := by decide
theorem sd_i_m' : ∀ x : Fin 5, x ≠ 0 → sd_i x * x = 1 := by decide
theorem sd_10 : ¬ (1 : Fin 5) = 0 := by decide
theorem sd_ne_mul : ∀ x y : Fin 5, x ≠ 0 → y ≠ 0 → x * y ≠ 0 := by decide
theorem sd_m0 : ∀ x y : Fin 5, x * y = 0 → x = 0 ∨ y = 0 := by decide

def sd_m (k : Nat) (A B : sd_M) : sd_M := fun i j => sd_s k (fun l => A i l * B l j)
def sd_1 : sd_M := fun i j => if i = j then 1 else 0

theorem sd_m_as (a b : Nat) (A B C : sd_M) : sd_m a (sd_m b A B) C = sd_m b A (sd_m a B C) := by
  funext i j
  show sd_s a (fun l => sd_s b (fun t => A i t * B t l) * C l j) = sd_s b (fun t => A i t * sd_s a (fun l => B t l * C l j))
  have e1 : (fun l => sd_s b (fun t => A i t * B t l) * C l j) = fun l => sd_s b (fun t => A i t * B t l * C l j) := by
    funext l; rw [sd_s_mr]
  have e2 : (fun t => A i t * sd_s a (fun l => B t l * C l j)) = fun t => sd_s a (fun l => A i t * B t l * C l j) := by
    funext t; rw [← sd_s_ml]; apply sd_s_c; intro l _; grind
  rw [e1, e2, sd_s_swap]

theorem sd_m_c {k : Nat} {A B A' B' : sd_M} {i j : Nat} (h : ∀ l, l < k → A i l = A' i l) (h' : ∀ l, l < k → B l j = B' l j) : sd_m k A B i j = sd_m k A' B' i j := by
  apply sd_s_c
  intro l hl
  rw [h l hl, h' l hl]

theorem sd_1_m {n : Nat} {A : sd_M} {i j : Nat} (hi : i < n) : sd_m n sd_1 A i j = A i j := by
  refine (sd_s_1 i hi _ ?_).trans ?_
  · intro l _ hl
    have : sd_1 i l = 0 := if_neg (fun e => hl e.symm)
    rw [this]; grind
  · have : sd_1 i i = 1 := if_pos rfl
    rw [this]; grind

theorem sd_m_1 {n : Nat} {A : sd_M} {i j : Nat} (hj : j < n) : sd_m n A sd_1 i j = A i j := by
  refine (sd_s_1 j hj _ ?_).trans ?_
  · intro l _ hl
    have : sd_1 l j = 0 := if_neg hl
    rw [this]; grind
  · have : sd_1 j j = 1 := if_pos rfl
    rw [this]; grind

theorem sd_s_lin (n : Nat) (g a b : Nat → Fin 5) (c : Fin 5) : sd_s n (fun l => g l * (a l - b l * c)) = sd_s n (fun l => g l * a l) - sd_s n (fun l => g l * b l) * c := by
  induction n with
  | zero => simp only [sd_s]; grind
  | succ n ih => simp only [sd_s, ih]; grind

/-- an identity of size r that factors through s: r is at most s -/
theorem sd_gh : ∀ (s r : Nat) (G H : sd_M), (∀ i j, i < r → j < r → sd_m s G H i j = sd_1 i j) → r ≤ s := by
  intro s
  induction s with
  | zero =>
    intro r G H h
    cases r with
    | zero => exact Nat.le_refl 0
    | succ r => exact absurd (h 0 0 (by omega) (by omega)) (by decide : ¬ ((0 : Fin 5) = 1))
  | succ s ih =>
    intro r G H h
    by_cases hz : ∀ j, j < r → H s j = 0
    · have := ih r G H (fun i j hi hj => by
        rw [← h i j hi hj]
        show sd_s s (fun l => G i l * H l j) = sd_s s (fun l => G i l * H l j) + G i s * H s j
        rw [hz j hj]; grind)
      omega
    · have hz' : ∃ j0, j0 < r ∧ H s j0 ≠ 0 := by
        apply Classical.byContradiction
        intro hn
        apply hz
        intro j hj
        apply Classical.byContradiction
        intro hj0
        exact hn ⟨j, hj, hj0⟩
      obtain ⟨j0, hj0, hne⟩ := hz'
      have key := ih (r - 1) (fun i l => G (if i < j0 then i else i + 1) l)
        (fun l j => H l (if j < j0 then j else j + 1) - H l j0 * (sd_i (H s j0) * H s (if j < j0 then j else j + 1))) (by
          intro i j hi hj
          have hi' : (if i < j0 then i else i + 1) < r ∧ (if i < j0 then i else i + 1) ≠ j0 := by split <;> omega
          have hj' : (if j < j0 then j else j + 1) < r ∧ (if j < j0 then j else j + 1) ≠ j0 := by split <;> omega
          have hij : sd_1 (if i < j0 then i else i + 1) (if j < j0 then j else j + 1) = sd_1 i j := by
            have : ((if i < j0 then i else i + 1) = (if j < j0 then j else j + 1)) ↔ i = j := by split <;> split <;> omega
            unfold sd_1
            by_cases e : i = j
            · rw [if_pos (this.mpr e), if_pos e]
            · rw [if_neg (fun z => e (this.mp z)), if_neg e]
          generalize hI : (if i < j0 then i else i + 1) = I at hi' hij
          generalize hJ : (if j < j0 then j else j + 1) = J at hj' hij
          have e1 := h I J hi'.1 hj'.1
          have e2 := h I j0 hi'.1 hj0
          have e3 : sd_1 I j0 = 0 := if_neg hi'.2
          have e4 := sd_i_m (H s j0) hne
          rw [e3] at e2
          rw [hij] at e1
          show sd_s s (fun l => G (if i < j0 then i else i + 1) l * (H l (if j < j0 then j else j + 1) - H l j0 * (sd_i (H s j0) * H s (if j < j0 then j else j + 1)))) = sd_1 i j
          rw [hI, hJ, sd_s_lin]
          have f1 : sd_s s (fun l => G I l * H l J) + G I s * H s J = sd_1 i j := e1
          have f2 : sd_s s (fun l => G I l * H l j0) + G I s * H s j0 = 0 := e2
          generalize sd_s s (fun l => G I l * H l J) = a at f1
          generalize sd_s s (fun l => G I l * H l j0) = b at f2
          generalize sd_i (H s j0) = v at e4
          grind)
      omega

def sd_ge (p q : Nat) (A : sd_M) (r : Nat) : Prop := ∃ L T : sd_M, ∀ i j, i < r → j < r → sd_m p L (sd_m q A T) i j = sd_1 i j
def sd_le (p q : Nat) (A : sd_M) (r : Nat) : Prop := ∃ X Y : sd_M, ∀ i j, i < p → j < q → A i j = sd_m r X Y i j
def sd_rk (p q : Nat) (A : sd_M) (r : Nat) : Prop := sd_ge p q A r ∧ sd_le p q A r

theorem sd_ge_le {p q : Nat} {A : sd_M} {r s : Nat} (hg : sd_ge p q A r) (hl : sd_le p q A s) : r ≤ s := by
  obtain ⟨L, T, h⟩ := hg
  obtain ⟨X, Y, e⟩ := hl
  apply sd_gh s r (sd_m p L X) (sd_m q Y T)
  intro i j hi hj
  rw [sd_m_as, ← sd_m_as q s X Y T, ← h i j hi hj]
  apply sd_m_c
  · intro l _; rfl
  · intro l hl
    apply sd_m_c
    · intro t ht; exact (e l t hl ht).symm
    · intro t _; rfl

theorem sd_rk_u {p q : Nat} {A : sd_M} {r s : Nat} (h : sd_rk p q A r) (h' : sd_rk p q A s) : r = s :=
  Nat.le_antisymm (sd_ge_le h.1 h'.2) (sd_ge_le h'.1 h.2)

theorem sd_ge_t {p q p' q' : Nat} {A B U V : sd_M} {r : Nat} (h : ∀ i j, i < p' → j < q' → B i j = sd_m p U (sd_m q A V) i j) (hg : sd_ge p' q' B r) : sd_ge p q A r := by
  obtain ⟨L, T, e⟩ := hg
  refine ⟨sd_m p' L U, sd_m q' V T, ?_⟩
  intro i j hi hj
  rw [sd_m_as, ← sd_m_as q' q A V T, ← sd_m_as q' p U (sd_m q A V) T, ← e i j hi hj]
  apply sd_m_c
  · intro l _; rfl
  · intro l hl
    apply sd_m_c
    · intro t ht; exact (h l t hl ht).symm
    · intro t _; rfl

theorem sd_le_t {p q p' q' : Nat} {A B U V : sd_M} {r : Nat} (h : ∀ i j, i < p' → j < q' → B i j = sd_m p U (sd_m q A V) i j) (hl : sd_le p q A r) : sd_le p' q' B r := by
  obtain ⟨X, Y, e⟩ := hl
  refine ⟨sd_m p U X, sd_m q Y V, ?_⟩
  intro i j hi hj
  rw [h i j hi hj, sd_m_as, ← sd_m_as q r X Y V]
  apply sd_m_c
  · intro l _; rfl
  · intro l hl
    apply sd_m_c
    · intro t ht; exact e l t hl ht
    · intro t _; rfl

theorem sd_ge_0 (p q : Nat) (A : sd_M) : sd_ge p q A 0 := ⟨A, A, fun i _ hi => absurd hi (by omega)⟩
end
section
/-! ===== polynomials over Fin 5 as series, a commutative ring ===== -/
abbrev sd_P : Type := Nat → Fin 5
def sd_pc (c : Fin 5) : sd_P := fun j => if j = 0 then c else 0
def sd_pa (a b : sd_P) : sd_P := fun j => a j + b j
def sd_pn (a : sd_P) : sd_P := fun j => - a j
def sd_tl (a : sd_P) : sd_P := fun j => a (j + 1)
def sd_mc : Nat → sd_P → sd_P → Fin 5
  | 0, a, b => a 0 * b 0
  | n + 1, a, b => a 0 * b (n + 1) + sd_mc n (sd_tl a) b
def sd_pm (a b : sd_P) : sd_P := fun n => sd_mc n a b
def sd_X : sd_P := fun j => if j = 1 then 1 else 0

theorem sd_mc_al (n : Nat) : ∀ a a' b : sd_P, sd_mc n (sd_pa a a') b = sd_mc n a b + sd_mc n a' b := by
  induction n with
  | zero => intro a a' b; simp only [sd_mc, sd_pa]; grind
  | succ n ih =>
    intro a a' b
    have e : sd_tl (sd_pa a a') = sd_pa (sd_tl a) (sd_tl a') := rfl
    simp only [sd_mc, e, ih]; simp only [sd_pa]; grind

theorem sd_mc_ar (n : Nat) : ∀ a b b' : sd_P, sd_mc n a (sd_pa b b') = sd_mc n a b + sd_mc n a b' := by
  induction n with
  | zero => intro a a' b; simp only [sd_mc, sd_pa]; grind
  | succ n ih => intro a b b'; simp only [sd_mc, ih]; simp only [sd_pa]; grind

theorem sd_mc_s (n : Nat) : ∀ (c : Fin 5) (a b : sd_P), sd_mc n (fun j => c * a j) b = c * sd_mc n a b := by
  induction n with
  | zero => intro c a b; simp only [sd_mc]; grind
  | succ n ih =>
    intro c a b
    have e : sd_tl (fun j => c * a j) = fun j => c * sd_tl a j := rfl
    simp only [sd_mc, e, ih]; grind

theorem sd_mc_0 (n : Nat) : ∀ b : sd_P, sd_mc n (fun _ => 0) b = 0 := by
  induction n with
  | zero => intro b; simp only [sd_mc]; grind
  | succ n ih =>
    intro b
    have e : sd_tl (fun _ => 0) = fun _ => 0 := rfl
    simp only [sd_mc, e, ih]; grind

theorem sd_mc_c (n : Nat) (c : Fin 5) (b : sd_P) : sd_mc n (sd_pc c) b = c * b n := by
  cases n with
  | zero => rfl
  | succ n =>
    have e : sd_tl (sd_pc c) = fun _ => 0 := by
      funext j
      show (if j + 1 = 0 then c else 0) = 0
      exact if_neg (by omega)
    simp only [sd_mc, e, sd_mc_0]
    show c * b (n + 1) + 0 = c * b (n + 1)
    grind

theorem sd_mc_r (n : Nat) : ∀ a b : sd_P, sd_mc (n + 1) a b = sd_mc n a (sd_tl b) + a (n + 1) * b 0 := by
  induction n with
  | zero => intro a b; rfl
  | succ n ih =>
    intro a b
    have e1 : sd_mc (n + 1 + 1) a b = a 0 * b (n + 2) + sd_mc (n + 1) (sd_tl a) b := rfl
    have e2 : sd_mc (n + 1) a (sd_tl b) = a 0 * b (n + 2) + sd_mc n (sd_tl a) (sd_tl b) := rfl
    have e3 : sd_tl a (n + 1) = a (n + 1 + 1) := rfl
    rw [e1, e2, ih, e3]; grind

theorem sd_mc_cm (n : Nat) : ∀ a b : sd_P, sd_mc n a b = sd_mc n b a := by
  induction n with
  | zero => intro a b; simp only [sd_mc]; grind
  | succ n ih =>
    intro a b
    rw [sd_mc_r n b a, ← ih (sd_tl a) b]
    simp only [sd_mc]; grind

theorem sd_mc_as (n : Nat) : ∀ a b c : sd_P, sd_mc n (sd_pm a b) c = sd_mc n a (sd_pm b c) := by
  induction n with
  | zero => intro a b c; show a 0 * b 0 * c 0 = a 0 * (b 0 * c 0); grind
  | succ n ih =>
    intro a b c
    have e : sd_tl (sd_pm a b) = sd_pa (fun j => a 0 * sd_tl b j) (sd_pm (sd_tl a) b) := rfl
    have e1 : sd_mc (n + 1) (sd_pm a b) c = a 0 * b 0 * c (n + 1) + sd_mc n (sd_tl (sd_pm a b)) c := rfl
    have e2 : sd_mc (n + 1) a (sd_pm b c) = a 0 * (b 0 * c (n + 1) + sd_mc n (sd_tl b) c) + sd_mc n (sd_tl a) (sd_pm b c) := rfl
    rw [e1, e2, e, sd_mc_al, sd_mc_s, ih]; grind

theorem sd_pm_cm (a b : sd_P) : sd_pm a b = sd_pm b a := funext fun n => sd_mc_cm n a b
theorem sd_pm_as (a b c : sd_P) : sd_pm (sd_pm a b) c = sd_pm a (sd_pm b c) := funext fun n => sd_mc_as n a b c
theorem sd_pm_al (a b c : sd_P) : sd_pm (sd_pa a b) c = sd_pa (sd_pm a c) (sd_pm b c) := funext fun n => sd_mc_al n a b c
theorem sd_pm_ar (a b c : sd_P) : sd_pm a (sd_pa b c) = sd_pa (sd_pm a b) (sd_pm a c) := funext fun n => sd_mc_ar n a b c
theorem sd_pm_c (c : Fin 5) (a : sd_P) : sd_pm (sd_pc c) a = fun j => c * a j := funext fun n => sd_mc_c n c a
theorem sd_pm_1 (a : sd_P) : sd_pm (sd_pc 1) a = a := by
  rw [sd_pm_c]; funext j; grind
theorem sd_pm_0 (a : sd_P) : sd_pm (sd_pc 0) a = sd_pc 0 := by
  rw [sd_pm_c]; funext j; unfold sd_pc; split <;> grind
theorem sd_pc_a (c d : Fin 5) : sd_pc (c + d) = sd_pa (sd_pc c) (sd_pc d) := by
  funext j; unfold sd_pa sd_pc; split <;> grind
theorem sd_pc_m (c d : Fin 5) : sd_pc (c * d) = sd_pm (sd_pc c) (sd_pc d) := by
  rw [sd_pm_c]; funext j; unfold sd_pc; split <;> grind
theorem sd_pc_n (c : Fin 5) : sd_pc (- c) = sd_pn (sd_pc c) := by
  funext j; unfold sd_pn sd_pc; split <;> grind
theorem sd_pn_m (a b : sd_P) : sd_pm (sd_pn a) b = sd_pn (sd_pm a b) := by
  have e : sd_pn a = sd_pm (sd_pc (-1)) a := by rw [sd_pm_c]; funext j; unfold sd_pn; grind
  have e' : sd_pn (sd_pm a b) = sd_pm (sd_pc (-1)) (sd_pm a b) := by rw [sd_pm_c]; funext j; unfold sd_pn; grind
  rw [e, e', sd_pm_as]

def sd_pp (a : sd_P) : Nat → sd_P
  | 0 => sd_pc 1
  | n + 1 => sd_pm (sd_pp a n) a

def sd_pz : Int → sd_P
  | .ofNat n => sd_pc (Fin.ofNat 5 n)
  | .negSucc n => sd_pn (sd_pc (Fin.ofNat 5 (n + 1)))

theorem sd_pz_n (i : Int) : sd_pz (- i) = sd_pn (sd_pz i) := by
  cases i with
  | ofNat n =>
    cases n with
    | zero => exact sd_pc_n 0
    | succ n => rfl
  | negSucc n =>
    show sd_pc (Fin.ofNat 5 (n + 1)) = sd_pn (sd_pn (sd_pc (Fin.ofNat 5 (n + 1))))
    funext j; unfold sd_pn; grind

theorem sd_ofs (n : Nat) : Fin.ofNat 5 (n + 1) = Fin.ofNat 5 n + 1 := by
  apply Fin.ext
  show (n + 1) % 5 = (n % 5 + 1 % 5) % 5
  omega

def sd_R : Lean.Grind.CommRing sd_P where
  add := sd_pa
  mul := sd_pm
  neg := sd_pn
  sub := fun a b => sd_pa a (sd_pn b)
  natCast := ⟨fun n => sd_pc (Fin.ofNat 5 n)⟩
  intCast := ⟨sd_pz⟩
  ofNat := fun n => ⟨sd_pc (Fin.ofNat 5 n)⟩
  nsmul := ⟨fun n a => sd_pm (sd_pc (Fin.ofNat 5 n)) a⟩
  zsmul := ⟨fun i a => sd_pm (sd_pz i) a⟩
  npow := ⟨sd_pp⟩
  add_zero := fun a => by
    show sd_pa a (sd_pc 0) = a
    funext j; unfold sd_pa sd_pc; split <;> grind
  add_comm := fun a b => by
    show sd_pa a b = sd_pa b a
    funext j; unfold sd_pa; grind
  add_assoc := fun a b c => by
    show sd_pa (sd_pa a b) c = sd_pa a (sd_pa b c)
    funext j; unfold sd_pa; grind
  mul_assoc := sd_pm_as
  mul_one := fun a => by
    show sd_pm a (sd_pc 1) = a
    rw [sd_pm_cm, sd_pm_1]
  one_mul := sd_pm_1
  left_distrib := sd_pm_ar
  right_distrib := sd_pm_al
  zero_mul := sd_pm_0
  mul_zero := fun a => by
    show sd_pm a (sd_pc 0) = sd_pc 0
    rw [sd_pm_cm, sd_pm_0]
  mul_comm := sd_pm_cm
  pow_zero := fun _ => rfl
  pow_succ := fun _ _ => rfl
  ofNat_succ := fun n => by
    show sd_pc (Fin.ofNat 5 (n + 1)) = sd_pa (sd_pc (Fin.ofNat 5 n)) (sd_pc 1)
    rw [sd_ofs, sd_pc_a]
  ofNat_eq_natCast := fun _ => rfl
  nsmul_eq_natCast_mul := fun _ _ => rfl
  neg_add_cancel := fun a => by
    show sd_pa (sd_pn a) a = sd_pc 0
    funext j; unfold sd_pa sd_pn sd_pc; split <;> grind
  sub_eq_add_neg := fun _ _ => rfl
  neg_zsmul := fun i a => by
    show sd_pm (sd_pz (- i)) a = sd_pn (sd_pm (sd_pz i) a)
    rw [sd_pz_n, sd_pn_m]
  zsmul_natCast_eq_nsmul := fun _ _ => rfl
  intCast_ofNat := fun _ => rfl
  intCast_neg := sd_pz_n

/-- degree below d -/
def sd_dl (p : sd_P) (d : Nat) : Prop := ∀ j, d ≤ j → p j = 0
def sd_fs (p : sd_P) : Prop := ∃ d, sd_dl p d
def sd_dv (g p : sd_P) : Prop := ∃ q, sd_fs q ∧ p = sd_pm g q
/-- monic of degree d -/
def sd_mo (p : sd_P) (d : Nat) : Prop := p d = 1 ∧ sd_dl p (d + 1)

theorem sd_dl_le {p : sd_P} {d e : Nat} (h : sd_dl p d) (he : d ≤ e) : sd_dl p e := fun j hj => h j (by omega)
theorem sd_dl_pa {a b : sd_P} {d : Nat} (ha : sd_dl a d) (hb : sd_dl b d) : sd_dl (sd_pa a b) d := by
  intro j hj; unfold sd_pa; rw [ha j hj, hb j hj]; rfl
theorem sd_dl_pn {a : sd_P} {d : Nat} (ha : sd_dl a d) : sd_dl (sd_pn a) d := by
  intro j hj; unfold sd_pn; rw [ha j hj]; rfl
theorem sd_dl_pc (c : Fin 5) : sd_dl (sd_pc c) 1 := fun j hj => if_neg (by omega)
theorem sd_dl_pm : ∀ (d : Nat) {a b : sd_P} {e : Nat}, sd_dl a (d + 1) → sd_dl b e → sd_dl (sd_pm a b) (d + e) := by
  intro d
  induction d with
  | zero =>
    intro a b e ha hb j hj
    have : a = sd_pc (a 0) := by
      funext j
      unfold sd_pc
      split
      · rename_i h; rw [h]
      · exact ha j (by omega)
    rw [this, sd_pm_c]
    show a 0 * b j = 0
    rw [hb j (by omega)]; grind
  | succ d ih =>
    intro a b e ha hb j hj
    cases j with
    | zero => omega
    | succ j =>
      show a 0 * b (j + 1) + sd_pm (sd_tl a) b j = 0
      rw [ih (a := sd_tl a) (fun i hi => ha (i + 1) (by omega)) hb j (by omega), hb (j + 1) (by omega)]
      grind
/-- the highest coefficient of a product -/
theorem sd_top : ∀ (d : Nat) {a b : sd_P} {e : Nat}, sd_dl a (d + 1) → sd_dl b (e + 1) → sd_pm a b (d + e) = a d * b e := by
  intro d
  induction d with
  | zero =>
    intro a b e ha _
    have : a = sd_pc (a 0) := by
      funext j
      unfold sd_pc
      split
      · rename_i h; rw [h]
      · exact ha j (by omega)
    rw [this, sd_pm_c, Nat.zero_add]; rfl
  | succ d ih =>
    intro a b e ha hb
    have e1 : d + 1 + e = (d + e) + 1 := by omega
    rw [e1]
    show a 0 * b (d + e + 1) + sd_pm (sd_tl a) b (d + e) = a (d + 1) * b e
    rw [ih (a := sd_tl a) (fun i hi => ha (i + 1) (by omega)) hb, hb (d + e + 1) (by omega)]
    show a 0 * 0 + a (d + 1) * b e = _
    grind
theorem sd_exd : ∀ (D : Nat) {q : sd_P}, sd_dl q D → (∀ j, q j = 0) ∨ ∃ t, q t ≠ 0 ∧ sd_dl q (t + 1) := by
  intro D
  induction D with
  | zero => intro q h; exact Or.inl fun j => h j (by omega)
  | succ D ih =>
    intro q h
    by_cases z : q D = 0
    · apply ih
      intro j hj
      by_cases e : j = D
      · rw [e, z]
      · exact h j (by omega)
    · exact Or.inr ⟨D, z, h⟩

theorem sd_fs_pa {a b : sd_P} (ha : sd_fs a) (hb : sd_fs b) : sd_fs (sd_pa a b) := by
  obtain ⟨d, ha⟩ := ha
  obtain ⟨e, hb⟩ := hb
  exact ⟨d + e, sd_dl_pa (sd_dl_le ha (by omega)) (sd_dl_le hb (by omega))⟩
theorem sd_fs_pm {a b : sd_P} (ha : sd_fs a) (hb : sd_fs b) : sd_fs (sd_pm a b) := by
  obtain ⟨d, ha⟩ := ha
  obtain ⟨e, hb⟩ := hb
  exact ⟨d + e, sd_dl_pm d (sd_dl_le ha (by omega)) hb⟩
theorem sd_fs_pn {a : sd_P} (ha : sd_fs a) : sd_fs (sd_pn a) := by
  obtain ⟨d, ha⟩ := ha
  exact ⟨d, sd_dl_pn ha⟩
theorem sd_fs_pc (c : Fin 5) : sd_fs (sd_pc c) := ⟨1, sd_dl_pc c⟩
theorem sd_fs_X : sd_fs sd_X := ⟨2, fun j hj => if_neg (by omega)⟩

theorem sd_dv_a {g a b : sd_P} (ha : sd_dv g a) (hb : sd_dv g b) : sd_dv g (sd_pa a b) := by
  obtain ⟨q, hq, rfl⟩ := ha
  obtain ⟨r, hr, rfl⟩ := hb
  exact ⟨sd_pa q r, sd_fs_pa hq hr, (sd_pm_ar g q r).symm⟩
theorem sd_dv_m {g a b : sd_P} (ha : sd_dv g a) (hb : sd_fs b) : sd_dv g (sd_pm a b) := by
  obtain ⟨q, hq, rfl⟩ := ha
  exact ⟨sd_pm q b, sd_fs_pm hq hb, sd_pm_as g q b⟩
theorem sd_dv_m' {g a b : sd_P} (ha : sd_dv g a) (hb : sd_fs b) : sd_dv g (sd_pm b a) := by
  rw [sd_pm_cm]; exact sd_dv_m ha hb
theorem sd_dv_0 (g : sd_P) : sd_dv g (sd_pc 0) := ⟨sd_pc 0, sd_fs_pc 0, by rw [sd_pm_cm, sd_pm_0]⟩
theorem sd_dv_n {g a : sd_P} (ha : sd_dv g a) : sd_dv g (sd_pn a) := by
  have e : sd_pn a = sd_pm a (sd_pc (-1)) := by rw [sd_pm_cm, sd_pm_c]; funext j; unfold sd_pn; grind
  rw [e]; exact sd_dv_m ha (sd_fs_pc _)
theorem sd_dv_r (g : sd_P) : sd_dv g g := ⟨sd_pc 1, sd_fs_pc 1, by rw [sd_pm_cm, sd_pm_1]⟩
theorem sd_dv_t {g h p : sd_P} (a : sd_dv g h) (b : sd_dv h p) : sd_dv g p := by
  obtain ⟨q, hq, rfl⟩ := b
  exact sd_dv_m a hq

theorem sd_dv_deg {g h : sd_P} {d e : Nat} (hg : sd_mo g d) (hh : sd_mo h e) (a : sd_dv g h) : ∃ q t, h = sd_pm g q ∧ d + t = e ∧ q t = 1 ∧ sd_dl q (t + 1) := by
  obtain ⟨q, ⟨D, hq⟩, rfl⟩ := a
  rcases sd_exd D hq with z | ⟨t, ht, hd⟩
  · have : q = sd_pc 0 := by funext j; rw [z j]; unfold sd_pc; split <;> rfl
    have h1 := hh.1
    rw [this, sd_pm_cm, sd_pm_0] at h1
    exact absurd h1 (by unfold sd_pc; split <;> decide)
  · have e1 := sd_top d hg.2 hd
    have g1 := hg.1
    rw [g1] at e1
    have e2 : sd_pm g q (d + t) = q t := by rw [e1]; grind
    have l1 : d + t ≤ e := by
      apply Classical.byContradiction
      intro hn
      exact ht (by rw [← e2]; exact hh.2 _ (by omega))
    have l2 : e ≤ d + t := by
      apply Classical.byContradiction
      intro hn
      have h1 := hh.1
      have := sd_dl_pm d hg.2 hd e (by omega)
      rw [this] at h1
      exact absurd h1 (by decide)
    have : d + t = e := by omega
    refine ⟨q, t, rfl, this, ?_, hd⟩
    rw [← e2, this]; exact hh.1

theorem sd_dv_eq {g h : sd_P} {d e : Nat} (hg : sd_mo g d) (hh : sd_mo h e) (a : sd_dv g h) (b : sd_dv h g) : g = h := by
  obtain ⟨q, t, e1, e2, e3, e4⟩ := sd_dv_deg hg hh a
  obtain ⟨q', t', _, e2', _, _⟩ := sd_dv_deg hh hg b
  have z : t = 0 := by omega
  subst z
  have : q = sd_pc 1 := by
    funext j
    unfold sd_pc
    split
    · rename_i h; rw [h, e3]
    · exact e4 j (by omega)
  rw [e1, this, sd_pm_cm, sd_pm_1]
end
section
/-! ===== determinants of one to four rows over a commutative ring ===== -/
def sd_D2 {R : Type} [Lean.Grind.CommRing R] (u v : Nat → R) (p q : Nat) : R := u p * v q - u q * v p
def sd_D3 {R : Type} [Lean.Grind.CommRing R] (u v w : Nat → R) (p q r : Nat) : R := u p * sd_D2 v w q r - u q * sd_D2 v w p r + u r * sd_D2 v w p q
def sd_D4 {R : Type} [Lean.Grind.CommRing R] (t u v w : Nat → R) (p q r s : Nat) : R := t p * sd_D3 u v w q r s - t q * sd_D3 u v w p r s + t r * sd_D3 u v w p q s - t s * sd_D3 u v w p q r
def sd_det {R : Type} [Lean.Grind.CommRing R] : Nat → (Nat → Nat → R) → (Nat → Nat) → (Nat → Nat) → R
  | 0, _, _, _ => 1
  | 1, m, a, b => m (a 0) (b 0)
  | 2, m, a, b => sd_D2 (m (a 0)) (m (a 1)) (b 0) (b 1)
  | 3, m, a, b => sd_D3 (m (a 0)) (m (a 1)) (m (a 2)) (b 0) (b 1) (b 2)
  | 4, m, a, b => sd_D4 (m (a 0)) (m (a 1)) (m (a 2)) (m (a 3)) (b 0) (b 1) (b 2) (b 3)
  | _, _, _, _ => 0
def sd_gs {R : Type} [Lean.Grind.CommRing R] : Nat → (Nat → R) → R
  | 0, _ => 0
  | n + 1, f => sd_gs n f + f n
theorem sd_D2_l1 {R : Type} [Lean.Grind.CommRing R] (c : R) (u v z : Nat → R) (p q : Nat) : sd_D2 (fun j => u j + c * z j) v p q = sd_D2 u v p q + c * sd_D2 z v p q := by
  simp only [sd_D2]; grind
theorem sd_D2_z1 {R : Type} [Lean.Grind.CommRing R] (v : Nat → R) (p q : Nat) : sd_D2 (fun _ => 0) v p q = 0 := by
  simp only [sd_D2]; grind
theorem sd_D2_l2 {R : Type} [Lean.Grind.CommRing R] (c : R) (u v z : Nat → R) (p q : Nat) : sd_D2 u (fun j => v j + c * z j) p q = sd_D2 u v p q + c * sd_D2 u z p q := by
  simp only [sd_D2]; grind
theorem sd_D2_z2 {R : Type} [Lean.Grind.CommRing R] (u : Nat → R) (p q : Nat) : sd_D2 u (fun _ => 0) p q = 0 := by
  simp only [sd_D2]; grind
theorem sd_D2_t {R : Type} [Lean.Grind.CommRing R] (m : Nat → Nat → R) (a b p q : Nat) : sd_D2 (m a) (m b) p q = sd_D2 (fun j => m j p) (fun j => m j q) a b := by
  simp only [sd_D2]; grind
theorem sd_D3_l1 {R : Type} [Lean.Grind.CommRing R] (c : R) (u v w z : Nat → R) (p q r : Nat) : sd_D3 (fun j => u j + c * z j) v w p q r = sd_D3 u v w p q r + c * sd_D3 z v w p q r := by
  simp only [sd_D3, sd_D2]; grind
theorem sd_D3_z1 {R : Type} [Lean.Grind.CommRing R] (v w : Nat → R) (p q r : Nat) : sd_D3 (fun _ => 0) v w p q r = 0 := by
  simp only [sd_D3, sd_D2]; grind
theorem sd_D3_l2 {R : Type} [Lean.Grind.CommRing R] (c : R) (u v w z : Nat → R) (p q r : Nat) : sd_D3 u (fun j => v j + c * z j) w p q r = sd_D3 u v w p q r + c * sd_D3 u z w p q r := by
  simp only [sd_D3, sd_D2]; grind
theorem sd_D3_z2 {R : Type} [Lean.Grind.CommRing R] (u w : Nat → R) (p q r : Nat) : sd_D3 u (fun _ => 0) w p q r = 0 := by
  simp only [sd_D3, sd_D2]; grind
theorem sd_D3_l3 {R : Type} [Lean.Grind.CommRing R] (c : R) (u v w z : Nat → R) (p q r : Nat) : sd_D3 u v (fun j => w j + c * z j) p q r = sd_D3 u v w p q r + c * sd_D3 u v z p q r := by
  simp only [sd_D3, sd_D2]; grind
theorem sd_D3_z3 {R : Type} [Lean.Grind.CommRing R] (u v : Nat → R) (p q r : Nat) : sd_D3 u v (fun _ => 0) p q r = 0 := by
  simp only [sd_D3, sd_D2]; grind
theorem sd_D3_t {R : Type} [Lean.Grind.CommRing R] (m : Nat → Nat → R) (a b c p q r : Nat) : sd_D3 (m a) (m b) (m c) p q r = sd_D3 (fun j => m j p) (fun j => m j q) (fun j => m j r) a b c := by
  simp only [sd_D3, sd_D2]; grind
theorem sd_D4_l1 {R : Type} [Lean.Grind.CommRing R] (c : R) (t u v w z : Nat → R) (p q r s : Nat) : sd_D4 (fun j => t j + c * z j) u v w p q r s = sd_D4 t u v w p q r s + c * sd_D4 z u v w p q r s := by
  simp only [sd_D4, sd_D3, sd_D2]; grind
theorem sd_D4_z1 {R : Type} [Lean.Grind.CommRing R] (u v w : Nat → R) (p q r s : Nat) : sd_D4 (fun _ => 0) u v w p q r s = 0 := by
  simp only [sd_D4, sd_D3, sd_D2]; grind
theorem sd_D4_l2 {R : Type} [Lean.Grind.CommRing R] (c : R) (t u v w z : Nat → R) (p q r s : Nat) : sd_D4 t (fun j => u j + c * z j) v w p q r s = sd_D4 t u v w p q r s + c * sd_D4 t z v w p q r s := by
  simp only [sd_D4, sd_D3, sd_D2]; grind
theorem sd_D4_z2 {R : Type} [Lean.Grind.CommRing R] (t v w : Nat → R) (p q r s : Nat) : sd_D4 t (fun _ => 0) v w p q r s = 0 := by
  simp only [sd_D4, sd_D3, sd_D2]; grind
theorem sd_D4_l3 {R : Type} [Lean.Grind.CommRing R] (c : R) (t u v w z : Nat → R) (p q r s : Nat) : sd_D4 t u (fun j => v j + c * z j) w p q r s = sd_D4 t u v w p q r s + c * sd_D4 t u z w p q r s := by
  simp only [sd_D4, sd_D3, sd_D2]; grind
theorem sd_D4_z3 {R : Type} [Lean.Grind.CommRing R] (t u w : Nat → R) (p q r s : Nat) : sd_D4 t u (fun _ => 0) w p q r s = 0 := by
  simp only [sd_D4, sd_D3, sd_D2]; grind
theorem sd_D4_l4 {R : Type} [Lean.Grind.CommRing R] (c : R) (t u v w z : Nat → R) (p q r s : Nat) : sd_D4 t u v (fun j => w j + c * z j) p q r s = sd_D4 t u v w p q r s + c * sd_D4 t u v z p q r s := by
  simp only [sd_D4, sd_D3, sd_D2]; grind
theorem sd_D4_z4 {R : Type} [Lean.Grind.CommRing R] (t u v : Nat → R) (p q r s : Nat) : sd_D4 t u v (fun _ => 0) p q r s = 0 := by
  simp only [sd_D4, sd_D3, sd_D2]; grind
theorem sd_D4_t {R : Type} [Lean.Grind.CommRing R] (m : Nat → Nat → R) (a b c d p q r s : Nat) : sd_D4 (m a) (m b) (m c) (m d) p q r s = sd_D4 (fun j => m j p) (fun j => m j q) (fun j => m j r) (fun j => m j s) a b c d := by
  simp only [sd_D4, sd_D3, sd_D2]; grind
theorem sd_det_t {R : Type} [Lean.Grind.CommRing R] (k : Nat) (m : Nat → Nat → R) (a b : Nat → Nat) : sd_det k m a b = sd_det k (fun i j => m j i) b a := by
  match k with
  | 0 => rfl
  | 1 => rfl
  | 2 => exact sd_D2_t m _ _ _ _
  | 3 => exact sd_D3_t m _ _ _ _ _ _
  | 4 => exact sd_D4_t m _ _ _ _ _ _ _ _
  | _ + 5 => rfl
theorem sd_lin1 {R : Type} [Lean.Grind.CommRing R] (I S : R → Prop) (h0 : I 0) (ha : ∀ a b, I a → I b → I (a + b)) (hm : ∀ c a, S c → I a → I (c * a))
    (f : (Nat → R) → R) (f0 : f (fun _ => 0) = 0) (fl : ∀ c u z, f (fun j => u j + c * z j) = f u + c * f z)
    (c : Nat → R) (u : Nat → Nat → R) (n : Nat) (hc : ∀ l, l < n → S (c l)) (hu : ∀ l, l < n → I (f (u l))) :
    I (f (fun j => sd_gs n (fun l => c l * u l j))) := by
  induction n with
  | zero => show I (f (fun _ => 0)); rw [f0]; exact h0
  | succ n ih =>
    show I (f (fun j => (fun j => sd_gs n (fun l => c l * u l j)) j + c n * u n j))
    rw [fl]
    exact ha _ _ (ih (fun l hl => hc l (by omega)) (fun l hl => hu l (by omega))) (hm _ _ (hc n (by omega)) (hu n (by omega)))
def sd_am {R : Type} [Lean.Grind.CommRing R] (k n : Nat) (m : Nat → Nat → R) (I : R → Prop) : Prop := ∀ a b : Nat → Nat, (∀ t, a t < n) → (∀ t, b t < n) → I (sd_det k m a b)
theorem sd_am_r {R : Type} [Lean.Grind.CommRing R] (I S : R → Prop) (h0 : I 0) (ha : ∀ a b, I a → I b → I (a + b)) (hm : ∀ c a, S c → I a → I (c * a))
    (k n : Nat) (hk : 1 ≤ k) (P M M' : Nat → Nat → R) (hP : ∀ i l, i < n → l < n → S (P i l))
    (hM : ∀ i j, i < n → j < n → M' i j = sd_gs n (fun l => P i l * M l j)) (h : sd_am k n M I) : sd_am k n M' I := by
  have hw : sd_am k n (fun i j => sd_gs n (fun l => P i l * M l j)) I := by
    intro a b ea eb
    match k, hk with
    | 1, _ =>
      have := fun l (hl : l < n) => h (fun _ => l) b (fun _ => hl) eb
      exact sd_lin1 I S h0 ha hm (fun u => u (b 0)) rfl (fun c u z => rfl) (P (a 0)) M n (fun l hl => hP _ _ (ea 0) hl) this
    | 2, _ =>
      have s0 : ∀ l0 l1 : Nat, l0 < n → l1 < n → I (sd_D2 (M l0) (M l1) (b 0) (b 1)) := by
        intro l0 l1 h0 h1
        exact h (fun t => if t = 0 then l0 else l1) b (fun t => by (repeat' split) <;> assumption) eb
      have s1 : ∀ l1 : Nat, l1 < n → I (sd_D2 (fun j => sd_gs n (fun l => P (a 0) l * M l j)) (M l1) (b 0) (b 1)) := by
        intro l1 h1
        refine sd_lin1 I S h0 ha hm (fun u => sd_D2 u (M l1) (b 0) (b 1)) ?_ ?_ (P (a 0)) M n (fun l hl => hP _ _ (ea 0) hl) (fun l hl => ?_)
        · exact sd_D2_z1 _ _ _
        · intro c u z; exact sd_D2_l1 c u _ z _ _
        · exact s0 l l1 hl h1
      have s2 : I (sd_D2 (fun j => sd_gs n (fun l => P (a 0) l * M l j)) (fun j => sd_gs n (fun l => P (a 1) l * M l j)) (b 0) (b 1)) := by
        refine sd_lin1 I S h0 ha hm (fun u => sd_D2 (fun j => sd_gs n (fun l => P (a 0) l * M l j)) u (b 0) (b 1)) ?_ ?_ (P (a 1)) M n (fun l hl => hP _ _ (ea 1) hl) (fun l hl => ?_)
        · exact sd_D2_z2 _ _ _
        · intro c u z; exact sd_D2_l2 c _ u z _ _
        · exact s1 l hl
      exact s2
    | 3, _ =>
      have s0 : ∀ l0 l1 l2 : Nat, l0 < n → l1 < n → l2 < n → I (sd_D3 (M l0) (M l1) (M l2) (b 0) (b 1) (b 2)) := by
        intro l0 l1 l2 h0 h1 h2
        exact h (fun t => if t = 0 then l0 else if t = 1 then l1 else l2) b (fun t => by (repeat' split) <;> assumption) eb
      have s1 : ∀ l1 l2 : Nat, l1 < n → l2 < n → I (sd_D3 (fun j => sd_gs n (fun l => P (a 0) l * M l j)) (M l1) (M l2) (b 0) (b 1) (b 2)) := by
        intro l1 l2 h1 h2
        refine sd_lin1 I S h0 ha hm (fun u => sd_D3 u (M l1) (M l2) (b 0) (b 1) (b 2)) ?_ ?_ (P (a 0)) M n (fun l hl => hP _ _ (ea 0) hl) (fun l hl => ?_)
        · exact sd_D3_z1 _ _ _ _ _
        · intro c u z; exact sd_D3_l1 c u _ _ z _ _ _
        · exact s0 l l1 l2 hl h1 h2
      have s2 : ∀ l2 : Nat, l2 < n → I (sd_D3 (fun j => sd_gs n (fun l => P (a 0) l * M l j)) (fun j => sd_gs n (fun l => P (a 1) l * M l j)) (M l2) (b 0) (b 1) (b 2)) := by
        intro l2 h2
        refine sd_lin1 I S h0 ha hm (fun u => sd_D3 (fun j => sd_gs n (fun l => P (a 0) l * M l j)) u (M l2) (b 0) (b 1) (b 2)) ?_ ?_ (P (a 1)) M n (fun l hl => hP _ _ (ea 1) hl) (fun l hl => ?_)
        · exact sd_D3_z2 _ _ _ _ _
        · intro c u z; exact sd_D3_l2 c _ u _ z _ _ _
        · exact s1 l l2 hl h2
      have s3 : I (sd_D3 (fun j => sd_gs n (fun l => P (a 0) l * M l j)) (fun j => sd_gs n (fun l => P (a 1) l * M l j)) (fun j => sd_gs n (fun l => P (a 2) l * M l j)) (b 0) (b 1) (b 2)) := by
        refine sd_lin1 I S h0 ha hm (fun u => sd_D3 (fun j => sd_gs n (fun l => P (a 0) l * M l j)) (fun j => sd_gs n (fun l => P (a 1) l * M l j)) u (b 0) (b 1) (b 2)) ?_ ?_ (P (a 2)) M n (fun l hl => hP _ _ (ea 2) hl) (fun l hl => ?_)
        · exact sd_D3_z3 _ _ _ _ _
        · intro c u z; exact sd_D3_l3 c _ _ u z _ _ _
        · exact s2 l hl
      exact s3
    | 4, _ =>
      have s0 : ∀ l0 l1 l2 l3 : Nat, l0 < n → l1 < n → l2 < n → l3 < n → I (sd_D4 (M l0) (M l1) (M l2) (M l3) (b 0) (b 1) (b 2) (b 3)) := by
        intro l0 l1 l2 l3 h0 h1 h2 h3
        exact h (fun t => if t = 0 then l0 else if t = 1 then l1 else if t = 2 then l2 else l3) b (fun t => by (repeat' split) <;> assumption) eb
      have s1 : ∀ l1 l2 l3 : Nat, l1 < n → l2 < n → l3 < n → I (sd_D4 (fun j => sd_gs n (fun l => P (a 0) l * M l j)) (M l1) (M l2) (M l3) (b 0) (b 1) (b 2) (b 3)) := by
        intro l1 l2 l3 h1 h2 h3
        refine sd_lin1 I S h0 ha hm (fun u => sd_D4 u (M l1) (M l2) (M l3) (b 0) (b 1) (b 2) (b 3)) ?_ ?_ (P (a 0)) M n (fun l hl => hP _ _ (ea 0) hl) (fun l hl => ?_)
        · exact sd_D4_z1 _ _ _ _ _ _ _
        · intro c u z; exact sd_D4_l1 c u _ _ _ z _ _ _ _
        · exact s0 l l1 l2 l3 hl h1 h2 h3
      have s2 : ∀ l2 l3 : Nat, l2 < n → l3 < n → I (sd_D4 (fun j => sd_gs n (fun l => P (a 0) l * M l j)) (fun j => sd_gs n (fun l => P (a 1) l * M l j)) (M l2) (M l3) (b 0) (b 1) (b 2) (b 3)) := by
        intro l2 l3 h2 h3
        refine sd_lin1 I S h0 ha hm (fun u => sd_D4 (fun j => sd_gs n (fun l => P (a 0) l * M l j)) u (M l2) (M l3) (b 0) (b 1) (b 2) (b 3)) ?_ ?_ (P (a 1)) M n (fun l hl => hP _ _ (ea 1) hl) (fun l hl => ?_)
        · exact sd_D4_z2 _ _ _ _ _ _ _
        · intro c u z; exact sd_D4_l2 c _ u _ _ z _ _ _ _
        · exact s1 l l2 l3 hl h2 h3
      have s3 : ∀ l3 : Nat, l3 < n → I (sd_D4 (fun j => sd_gs n (fun l => P (a 0) l * M l j)) (fun j => sd_gs n (fun l => P (a 1) l * M l j)) (fun j => sd_gs n (fun l => P (a 2) l * M l j)) (M l3) (b 0) (b 1) (b 2) (b 3)) := by
        intro l3 h3
        refine sd_lin1 I S h0 ha hm (fun u => sd_D4 (fun j => sd_gs n (fun l => P (a 0) l * M l j)) (fun j => sd_gs n (fun l => P (a 1) l * M l j)) u (M l3) (b 0) (b 1) (b 2) (b 3)) ?_ ?_ (P (a 2)) M n (fun l hl => hP _ _ (ea 2) hl) (fun l hl => ?_)
        · exact sd_D4_z3 _ _ _ _ _ _ _
        · intro c u z; exact sd_D4_l3 c _ _ u _ z _ _ _ _
        · exact s2 l l3 hl h3
      have s4 : I (sd_D4 (fun j => sd_gs n (fun l => P (a 0) l * M l j)) (fun j => sd_gs n (fun l => P (a 1) l * M l j)) (fun j => sd_gs n (fun l => P (a 2) l * M l j)) (fun j => sd_gs n (fun l => P (a 3) l * M l j)) (b 0) (b 1) (b 2) (b 3)) := by
        refine sd_lin1 I S h0 ha hm (fun u => sd_D4 (fun j => sd_gs n (fun l => P (a 0) l * M l j)) (fun j => sd_gs n (fun l => P (a 1) l * M l j)) (fun j => sd_gs n (fun l => P (a 2) l * M l j)) u (b 0) (b 1) (b 2) (b 3)) ?_ ?_ (P (a 3)) M n (fun l hl => hP _ _ (ea 3) hl) (fun l hl => ?_)
        · exact sd_D4_z4 _ _ _ _ _ _ _
        · intro c u z; exact sd_D4_l4 c _ _ _ u z _ _ _ _
        · exact s3 l hl
      exact s4
    | k + 5, _ => exact h a b ea eb
  intro a b ea eb
  have e : sd_det k M' a b = sd_det k (fun i j => sd_gs n (fun l => P i l * M l j)) a b := by
    match k with
    | 0 => rfl
    | 1 => exact hM _ _ (ea _) (eb _)
    | 2 => simp only [sd_det, sd_D2, hM _ _ (ea _) (eb _)]
    | 3 => simp only [sd_det, sd_D3, sd_D2, hM _ _ (ea _) (eb _)]
    | 4 => simp only [sd_det, sd_D4, sd_D3, sd_D2, hM _ _ (ea _) (eb _)]
    | _ + 5 => rfl
  rw [e]
  exact hw a b ea eb
theorem sd_am_c {R : Type} [Lean.Grind.CommRing R] (I S : R → Prop) (h0 : I 0) (ha : ∀ a b, I a → I b → I (a + b)) (hm : ∀ c a, S c → I a → I (c * a))
    (k n : Nat) (hk : 1 ≤ k) (P M M' : Nat → Nat → R) (hP : ∀ i l, i < n → l < n → S (P i l))
    (hM : ∀ i j, i < n → j < n → M' i j = sd_gs n (fun l => P l j * M i l)) (h : sd_am k n M I) : sd_am k n M' I := by
  have ht : sd_am k n (fun i j => M j i) I := by
    intro a b ea eb
    rw [← sd_det_t]
    exact h b a eb ea
  have := sd_am_r I S h0 ha hm k n hk (fun i j => P j i) (fun i j => M j i) (fun i j => M' j i) (fun i l hi hl => hP l i hl hi) (fun i j hi hj => hM j i hj hi) ht
  intro a b ea eb
  rw [sd_det_t]
  exact this b a eb ea
end
section
/-! ===== adjugates, bordered minors, the rank by minors ===== -/
def sd_sk (j t : Nat) : Nat := if t < j then t else t + 1
theorem sd_sk0 (t : Nat) : sd_sk 0 t = t + 1 := if_neg (by omega)
theorem sd_sk_10 : sd_sk 1 0 = 0 := rfl
theorem sd_sk_11 : sd_sk 1 1 = 2 := rfl
theorem sd_sk_12 : sd_sk 1 2 = 3 := rfl
theorem sd_sk_13 : sd_sk 1 3 = 4 := rfl
theorem sd_sk_20 : sd_sk 2 0 = 0 := rfl
theorem sd_sk_21 : sd_sk 2 1 = 1 := rfl
theorem sd_sk_22 : sd_sk 2 2 = 3 := rfl
theorem sd_sk_23 : sd_sk 2 3 = 4 := rfl
theorem sd_sk_30 : sd_sk 3 0 = 0 := rfl
theorem sd_sk_31 : sd_sk 3 1 = 1 := rfl
theorem sd_sk_32 : sd_sk 3 2 = 2 := rfl
theorem sd_sk_33 : sd_sk 3 3 = 4 := rfl
def sd_sg {R : Type} [Lean.Grind.CommRing R] (i j : Nat) : R := if (i + j) % 2 = 0 then 1 else - 1
theorem sd_sg_00 {R : Type} [Lean.Grind.CommRing R] : sd_sg 0 0 = (1 : R) := rfl
theorem sd_sg_01 {R : Type} [Lean.Grind.CommRing R] : sd_sg 0 1 = (- 1 : R) := rfl
theorem sd_sg_02 {R : Type} [Lean.Grind.CommRing R] : sd_sg 0 2 = (1 : R) := rfl
theorem sd_sg_03 {R : Type} [Lean.Grind.CommRing R] : sd_sg 0 3 = (- 1 : R) := rfl
theorem sd_sg_10 {R : Type} [Lean.Grind.CommRing R] : sd_sg 1 0 = (- 1 : R) := rfl
theorem sd_sg_11 {R : Type} [Lean.Grind.CommRing R] : sd_sg 1 1 = (1 : R) := rfl
theorem sd_sg_12 {R : Type} [Lean.Grind.CommRing R] : sd_sg 1 2 = (- 1 : R) := rfl
theorem sd_sg_13 {R : Type} [Lean.Grind.CommRing R] : sd_sg 1 3 = (1 : R) := rfl
theorem sd_sg_20 {R : Type} [Lean.Grind.CommRing R] : sd_sg 2 0 = (1 : R) := rfl
theorem sd_sg_21 {R : Type} [Lean.Grind.CommRing R] : sd_sg 2 1 = (- 1 : R) := rfl
theorem sd_sg_22 {R : Type} [Lean.Grind.CommRing R] : sd_sg 2 2 = (1 : R) := rfl
theorem sd_sg_23 {R : Type} [Lean.Grind.CommRing R] : sd_sg 2 3 = (- 1 : R) := rfl
theorem sd_sg_30 {R : Type} [Lean.Grind.CommRing R] : sd_sg 3 0 = (- 1 : R) := rfl
theorem sd_sg_31 {R : Type} [Lean.Grind.CommRing R] : sd_sg 3 1 = (1 : R) := rfl
theorem sd_sg_32 {R : Type} [Lean.Grind.CommRing R] : sd_sg 3 2 = (- 1 : R) := rfl
theorem sd_sg_33 {R : Type} [Lean.Grind.CommRing R] : sd_sg 3 3 = (1 : R) := rfl
def sd_adj {R : Type} [Lean.Grind.CommRing R] (k : Nat) (m : Nat → Nat → R) (i j : Nat) : R := sd_sg i j * sd_det (k - 1) m (sd_sk j) (sd_sk i)
theorem sd_adj_r1 {R : Type} [Lean.Grind.CommRing R] (m : Nat → Nat → R) (i j : Nat) (hi : i < 1) (hj : j < 1) : sd_gs 1 (fun t => m i t * sd_adj 1 m t j) = if i = j then sd_det 1 m (fun t => t) (fun t => t) else 0 := by
  have ci : i = 0 := by omega
  have cj : j = 0 := by omega
  rcases ci with rfl <;> rcases cj with rfl <;>
    (simp only [sd_gs, sd_adj, sd_det, sd_D4, sd_D3, sd_D2, sd_sk0, sd_sk_10, sd_sk_11, sd_sk_12, sd_sk_13, sd_sk_20, sd_sk_21, sd_sk_22, sd_sk_23, sd_sk_30, sd_sk_31, sd_sk_32, sd_sk_33, sd_sg_00, sd_sg_01, sd_sg_02, sd_sg_03, sd_sg_10, sd_sg_11, sd_sg_12, sd_sg_13, sd_sg_20, sd_sg_21, sd_sg_22, sd_sg_23, sd_sg_30, sd_sg_31, sd_sg_32, sd_sg_33, Nat.reduceSub, Nat.reduceAdd, Nat.reduceEqDiff, reduceIte]; grind)
theorem sd_adj_r2 {R : Type} [Lean.Grind.CommRing R] (m : Nat → Nat → R) (i j : Nat) (hi : i < 2) (hj : j < 2) : sd_gs 2 (fun t => m i t * sd_adj 2 m t j) = if i = j then sd_det 2 m (fun t => t) (fun t => t) else 0 := by
  have ci : i = 0 ∨ i = 1 := by omega
  have cj : j = 0 ∨ j = 1 := by omega
  rcases ci with rfl | rfl <;> rcases cj with rfl | rfl <;>
    (simp only [sd_gs, sd_adj, sd_det, sd_D4, sd_D3, sd_D2, sd_sk0, sd_sk_10, sd_sk_11, sd_sk_12, sd_sk_13, sd_sk_20, sd_sk_21, sd_sk_22, sd_sk_23, sd_sk_30, sd_sk_31, sd_sk_32, sd_sk_33, sd_sg_00, sd_sg_01, sd_sg_02, sd_sg_03, sd_sg_10, sd_sg_11, sd_sg_12, sd_sg_13, sd_sg_20, sd_sg_21, sd_sg_22, sd_sg_23, sd_sg_30, sd_sg_31, sd_sg_32, sd_sg_33, Nat.reduceSub, Nat.reduceAdd, Nat.reduceEqDiff, reduceIte]; grind)
theorem sd_adj_r3 {R : Type} [Lean.Grind.CommRing R] (m : Nat → Nat → R) (i j : Nat) (hi : i < 3) (hj : j < 3) : sd_gs 3 (fun t => m i t * sd_adj 3 m t j) = if i = j then sd_det 3 m (fun t => t) (fun t => t) else 0 := by
  have ci : i = 0 ∨ i = 1 ∨ i = 2 := by omega
  have cj : j = 0 ∨ j = 1 ∨ j = 2 := by omega
  rcases ci with rfl | rfl | rfl <;> rcases cj with rfl | rfl | rfl <;>
    (simp only [sd_gs, sd_adj, sd_det, sd_D4, sd_D3, sd_D2, sd_sk0, sd_sk_10, sd_sk_11, sd_sk_12, sd_sk_13, sd_sk_20, sd_sk_21, sd_sk_22, sd_sk_23, sd_sk_30, sd_sk_31, sd_sk_32, sd_sk_33, sd_sg_00, sd_sg_01, sd_sg_02, sd_sg_03, sd_sg_10, sd_sg_11, sd_sg_12, sd_sg_13, sd_sg_20, sd_sg_21, sd_sg_22, sd_sg_23, sd_sg_30, sd_sg_31, sd_sg_32, sd_sg_33, Nat.reduceSub, Nat.reduceAdd, Nat.reduceEqDiff, reduceIte]; grind)
theorem sd_adj_r4 {R : Type} [Lean.Grind.CommRing R] (m : Nat → Nat → R) (i j : Nat) (hi : i < 4) (hj : j < 4) : sd_gs 4 (fun t => m i t * sd_adj 4 m t j) = if i = j then sd_det 4 m (fun t => t) (fun t => t) else 0 := by
  have ci : i = 0 ∨ i = 1 ∨ i = 2 ∨ i = 3 := by omega
  have cj : j = 0 ∨ j = 1 ∨ j = 2 ∨ j = 3 := by omega
  rcases ci with rfl | rfl | rfl | rfl <;> rcases cj with rfl | rfl | rfl | rfl <;>
    (simp only [sd_gs, sd_adj, sd_det, sd_D4, sd_D3, sd_D2, sd_sk0, sd_sk_10, sd_sk_11, sd_sk_12, sd_sk_13, sd_sk_20, sd_sk_21, sd_sk_22, sd_sk_23, sd_sk_30, sd_sk_31, sd_sk_32, sd_sk_33, sd_sg_00, sd_sg_01, sd_sg_02, sd_sg_03, sd_sg_10, sd_sg_11, sd_sg_12, sd_sg_13, sd_sg_20, sd_sg_21, sd_sg_22, sd_sg_23, sd_sg_30, sd_sg_31, sd_sg_32, sd_sg_33, Nat.reduceSub, Nat.reduceAdd, Nat.reduceEqDiff, reduceIte]; grind)
theorem sd_adj_r {R : Type} [Lean.Grind.CommRing R] (k : Nat) (h1 : 1 ≤ k) (h4 : k ≤ 4) (m : Nat → Nat → R) (i j : Nat) (hi : i < k) (hj : j < k) : sd_gs k (fun t => m i t * sd_adj k m t j) = if i = j then sd_det k m (fun t => t) (fun t => t) else 0 := by
  match k, h1, h4 with
  | 1, _, _ => exact sd_adj_r1 m i j hi hj
  | 2, _, _ => exact sd_adj_r2 m i j hi hj
  | 3, _, _ => exact sd_adj_r3 m i j hi hj
  | 4, _, _ => exact sd_adj_r4 m i j hi hj
theorem sd_adj_l1 {R : Type} [Lean.Grind.CommRing R] (m : Nat → Nat → R) (i j : Nat) (hi : i < 1) (hj : j < 1) : sd_gs 1 (fun t => sd_adj 1 m i t * m t j) = if i = j then sd_det 1 m (fun t => t) (fun t => t) else 0 := by
  have ci : i = 0 := by omega
  have cj : j = 0 := by omega
  rcases ci with rfl <;> rcases cj with rfl <;>
    (simp only [sd_gs, sd_adj, sd_det, sd_D4, sd_D3, sd_D2, sd_sk0, sd_sk_10, sd_sk_11, sd_sk_12, sd_sk_13, sd_sk_20, sd_sk_21, sd_sk_22, sd_sk_23, sd_sk_30, sd_sk_31, sd_sk_32, sd_sk_33, sd_sg_00, sd_sg_01, sd_sg_02, sd_sg_03, sd_sg_10, sd_sg_11, sd_sg_12, sd_sg_13, sd_sg_20, sd_sg_21, sd_sg_22, sd_sg_23, sd_sg_30, sd_sg_31, sd_sg_32, sd_sg_33, Nat.reduceSub, Nat.reduceAdd, Nat.reduceEqDiff, reduceIte]; grind)
theorem sd_adj_l2 {R : Type} [Lean.Grind.CommRing R] (m : Nat → Nat → R) (i j : Nat) (hi : i < 2) (hj : j < 2) : sd_gs 2 (fun t => sd_adj 2 m i t * m t j) = if i = j then sd_det 2 m (fun t => t) (fun t => t) else 0 := by
  have ci : i = 0 ∨ i = 1 := by omega
  have cj : j = 0 ∨ j = 1 := by omega
  rcases ci with rfl | rfl <;> rcases cj with rfl | rfl <;>
    (simp only [sd_gs, sd_adj, sd_det, sd_D4, sd_D3, sd_D2, sd_sk0, sd_sk_10, sd_sk_11, sd_sk_12, sd_sk_13, sd_sk_20, sd_sk_21, sd_sk_22, sd_sk_23, sd_sk_30, sd_sk_31, sd_sk_32, sd_sk_33, sd_sg_00, sd_sg_01, sd_sg_02, sd_sg_03, sd_sg_10, sd_sg_11, sd_sg_12, sd_sg_13, sd_sg_20, sd_sg_21, sd_sg_22, sd_sg_23, sd_sg_30, sd_sg_31, sd_sg_32, sd_sg_33, Nat.reduceSub, Nat.reduceAdd, Nat.reduceEqDiff, reduceIte]; grind)
theorem sd_adj_l3 {R : Type} [Lean.Grind.CommRing R] (m : Nat → Nat → R) (i j : Nat) (hi : i < 3) (hj : j < 3) : sd_gs 3 (fun t => sd_adj 3 m i t * m t j) = if i = j then sd_det 3 m (fun t => t) (fun t => t) else 0 := by
  have ci : i = 0 ∨ i = 1 ∨ i = 2 := by omega
  have cj : j = 0 ∨ j = 1 ∨ j = 2 := by omega
  rcases ci with rfl | rfl | rfl <;> rcases cj with rfl | rfl | rfl <;>
    (simp only [sd_gs, sd_adj, sd_det, sd_D4, sd_D3, sd_D2, sd_sk0, sd_sk_10, sd_sk_11, sd_sk_12, sd_sk_13, sd_sk_20, sd_sk_21, sd_sk_22, sd_sk_23, sd_sk_30, sd_sk_31, sd_sk_32, sd_sk_33, sd_sg_00, sd_sg_01, sd_sg_02, sd_sg_03, sd_sg_10, sd_sg_11, sd_sg_12, sd_sg_13, sd_sg_20, sd_sg_21, sd_sg_22, sd_sg_23, sd_sg_30, sd_sg_31, sd_sg_32, sd_sg_33, Nat.reduceSub, Nat.reduceAdd, Nat.reduceEqDiff, reduceIte]; grind)
theorem sd_adj_l4 {R : Type} [Lean.Grind.CommRing R] (m : Nat → Nat → R) (i j : Nat) (hi : i < 4) (hj : j < 4) : sd_gs 4 (fun t => sd_adj 4 m i t * m t j) = if i = j then sd_det 4 m (fun t => t) (fun t => t) else 0 := by
  have ci : i = 0 ∨ i = 1 ∨ i = 2 ∨ i = 3 := by omega
  have cj : j = 0 ∨ j = 1 ∨ j = 2 ∨ j = 3 := by omega
  rcases ci with rfl | rfl | rfl | rfl <;> rcases cj with rfl | rfl | rfl | rfl <;>
    (simp only [sd_gs, sd_adj, sd_det, sd_D4, sd_D3, sd_D2, sd_sk0, sd_sk_10, sd_sk_11, sd_sk_12, sd_sk_13, sd_sk_20, sd_sk_21, sd_sk_22, sd_sk_23, sd_sk_30, sd_sk_31, sd_sk_32, sd_sk_33, sd_sg_00, sd_sg_01, sd_sg_02, sd_sg_03, sd_sg_10, sd_sg_11, sd_sg_12, sd_sg_13, sd_sg_20, sd_sg_21, sd_sg_22, sd_sg_23, sd_sg_30, sd_sg_31, sd_sg_32, sd_sg_33, Nat.reduceSub, Nat.reduceAdd, Nat.reduceEqDiff, reduceIte]; grind)
theorem sd_adj_l {R : Type} [Lean.Grind.CommRing R] (k : Nat) (h1 : 1 ≤ k) (h4 : k ≤ 4) (m : Nat → Nat → R) (i j : Nat) (hi : i < k) (hj : j < k) : sd_gs k (fun t => sd_adj k m i t * m t j) = if i = j then sd_det k m (fun t => t) (fun t => t) else 0 := by
  match k, h1, h4 with
  | 1, _, _ => exact sd_adj_l1 m i j hi hj
  | 2, _, _ => exact sd_adj_l2 m i j hi hj
  | 3, _, _ => exact sd_adj_l3 m i j hi hj
  | 4, _, _ => exact sd_adj_l4 m i j hi hj
theorem sd_gs_s (n : Nat) (f : Nat → Fin 5) : sd_gs n f = sd_s n f := by
  induction n with
  | zero => rfl
  | succ n ih => simp only [sd_gs, sd_s, ih]
def sd_ext (k : Nat) (a : Nat → Nat) (i t : Nat) : Nat := if t < k then a t else i
theorem sd_ext_10 (a : Nat → Nat) (i : Nat) : sd_ext 1 a i 0 = a 0 := rfl
theorem sd_ext_11 (a : Nat → Nat) (i : Nat) : sd_ext 1 a i 1 = i := rfl
theorem sd_ext_20 (a : Nat → Nat) (i : Nat) : sd_ext 2 a i 0 = a 0 := rfl
theorem sd_ext_21 (a : Nat → Nat) (i : Nat) : sd_ext 2 a i 1 = a 1 := rfl
theorem sd_ext_22 (a : Nat → Nat) (i : Nat) : sd_ext 2 a i 2 = i := rfl
theorem sd_ext_30 (a : Nat → Nat) (i : Nat) : sd_ext 3 a i 0 = a 0 := rfl
theorem sd_ext_31 (a : Nat → Nat) (i : Nat) : sd_ext 3 a i 1 = a 1 := rfl
theorem sd_ext_32 (a : Nat → Nat) (i : Nat) : sd_ext 3 a i 2 = a 2 := rfl
theorem sd_ext_33 (a : Nat → Nat) (i : Nat) : sd_ext 3 a i 3 = i := rfl
theorem sd_bord1 {R : Type} [Lean.Grind.CommRing R] (m : Nat → Nat → R) (a b : Nat → Nat) (i j : Nat) : sd_det 2 m (sd_ext 1 a i) (sd_ext 1 b j) = m i j * sd_det 1 m a b - sd_gs 1 (fun t => m i (b t) * sd_gs 1 (fun s => sd_adj 1 (fun x y => m (a x) (b y)) t s * m (a s) j)) := by
  simp only [sd_gs, sd_adj, sd_det, sd_D4, sd_D3, sd_D2, sd_sk0, sd_sk_10, sd_sk_11, sd_sk_12, sd_sk_13, sd_sk_20, sd_sk_21, sd_sk_22, sd_sk_23, sd_sk_30, sd_sk_31, sd_sk_32, sd_sk_33, sd_sg_00, sd_sg_01, sd_sg_02, sd_sg_03, sd_sg_10, sd_sg_11, sd_sg_12, sd_sg_13, sd_sg_20, sd_sg_21, sd_sg_22, sd_sg_23, sd_sg_30, sd_sg_31, sd_sg_32, sd_sg_33, sd_ext_10, sd_ext_11, Nat.reduceSub, Nat.reduceAdd]; grind
theorem sd_bord2 {R : Type} [Lean.Grind.CommRing R] (m : Nat → Nat → R) (a b : Nat → Nat) (i j : Nat) : sd_det 3 m (sd_ext 2 a i) (sd_ext 2 b j) = m i j * sd_det 2 m a b - sd_gs 2 (fun t => m i (b t) * sd_gs 2 (fun s => sd_adj 2 (fun x y => m (a x) (b y)) t s * m (a s) j)) := by
  simp only [sd_gs, sd_adj, sd_det, sd_D4, sd_D3, sd_D2, sd_sk0, sd_sk_10, sd_sk_11, sd_sk_12, sd_sk_13, sd_sk_20, sd_sk_21, sd_sk_22, sd_sk_23, sd_sk_30, sd_sk_31, sd_sk_32, sd_sk_33, sd_sg_00, sd_sg_01, sd_sg_02, sd_sg_03, sd_sg_10, sd_sg_11, sd_sg_12, sd_sg_13, sd_sg_20, sd_sg_21, sd_sg_22, sd_sg_23, sd_sg_30, sd_sg_31, sd_sg_32, sd_sg_33, sd_ext_20, sd_ext_21, sd_ext_22, Nat.reduceSub, Nat.reduceAdd]; grind
theorem sd_bord3 {R : Type} [Lean.Grind.CommRing R] (m : Nat → Nat → R) (a b : Nat → Nat) (i j : Nat) : sd_det 4 m (sd_ext 3 a i) (sd_ext 3 b j) = m i j * sd_det 3 m a b - sd_gs 3 (fun t => m i (b t) * sd_gs 3 (fun s => sd_adj 3 (fun x y => m (a x) (b y)) t s * m (a s) j)) := by
  simp only [sd_gs, sd_adj, sd_det, sd_D4, sd_D3, sd_D2, sd_sk0, sd_sk_10, sd_sk_11, sd_sk_12, sd_sk_13, sd_sk_20, sd_sk_21, sd_sk_22, sd_sk_23, sd_sk_30, sd_sk_31, sd_sk_32, sd_sk_33, sd_sg_00, sd_sg_01, sd_sg_02, sd_sg_03, sd_sg_10, sd_sg_11, sd_sg_12, sd_sg_13, sd_sg_20, sd_sg_21, sd_sg_22, sd_sg_23, sd_sg_30, sd_sg_31, sd_sg_32, sd_sg_33, sd_ext_30, sd_ext_31, sd_ext_32, sd_ext_33, Nat.reduceSub, Nat.reduceAdd]; grind
theorem sd_bord {R : Type} [Lean.Grind.CommRing R] (k : Nat) (h1 : 1 ≤ k) (h4 : k ≤ 3) (m : Nat → Nat → R) (a b : Nat → Nat) (i j : Nat) : sd_det (k + 1) m (sd_ext k a i) (sd_ext k b j) = m i j * sd_det k m a b - sd_gs k (fun t => m i (b t) * sd_gs k (fun s => sd_adj k (fun x y => m (a x) (b y)) t s * m (a s) j)) := by
  match k, h1, h4 with
  | 1, _, _ => exact sd_bord1 m a b i j
  | 2, _, _ => exact sd_bord2 m a b i j
  | 3, _, _ => exact sd_bord3 m a b i j
theorem sd_det_sub {R : Type} [Lean.Grind.CommRing R] (k : Nat) (h4 : k ≤ 4) (m : Nat → Nat → R) (a b : Nat → Nat) : sd_det k (fun x y => m (a x) (b y)) (fun t => t) (fun t => t) = sd_det k m a b := by
  match k, h4 with
  | 0, _ => rfl
  | 1, _ => rfl
  | 2, _ => rfl
  | 3, _ => rfl
  | 4, _ => rfl
theorem sd_ge_sub {n k : Nat} (A : sd_M) (a b : Nat → Nat) (ha : ∀ t, a t < n) (hb : ∀ t, b t < n) (B : sd_M)
    (h : ∀ i j, i < k → j < k → sd_s k (fun t => B i t * A (a t) (b j)) = sd_1 i j) : sd_ge n n A k := by
  refine ⟨fun i l => sd_s k (fun t => if l = a t then B i t else 0), fun l j => if l = b j then 1 else 0, ?_⟩
  intro i j hi hj
  rw [← h i j hi hj]
  have e1 : ∀ l, sd_m n A (fun l j => if l = b j then 1 else 0) l j = A l (b j) := by
    intro l
    refine (sd_s_1 (b j) (hb j) _ ?_).trans ?_
    · intro u _ hu
      show A l u * (if u = b j then 1 else 0) = 0
      rw [if_neg hu]; grind
    · show A l (b j) * (if b j = b j then 1 else 0) = A l (b j)
      rw [if_pos rfl]; grind
  show sd_s n (fun l => sd_s k (fun t => if l = a t then B i t else 0) * sd_m n A (fun l j => if l = b j then 1 else 0) l j) = _
  have e2 : (fun l => sd_s k (fun t => if l = a t then B i t else 0) * sd_m n A (fun l j => if l = b j then 1 else 0) l j) = fun l => sd_s k (fun t => if l = a t then B i t * A (a t) (b j) else 0) := by
    funext l
    rw [e1, ← sd_s_mr]
    apply sd_s_c
    intro t _
    by_cases e : l = a t
    · rw [if_pos e, if_pos e, e]
    · rw [if_neg e, if_neg e]; grind
  rw [e2, sd_s_swap]
  apply sd_s_c
  intro t _
  exact sd_s_d' n (a t) (ha t) (fun _ => B i t * A (a t) (b j))
theorem sd_ge_det {n k : Nat} (h1 : 1 ≤ k) (h4 : k ≤ 4) (A : sd_M) (a b : Nat → Nat) (ha : ∀ t, a t < n) (hb : ∀ t, b t < n) (h : sd_det k A a b ≠ 0) : sd_ge n n A k := by
  apply sd_ge_sub A a b ha hb (fun i t => sd_i (sd_det k A a b) * sd_adj k (fun x y => A (a x) (b y)) i t)
  intro i j hi hj
  have e := sd_adj_l k h1 h4 (fun x y => A (a x) (b y)) i j hi hj
  rw [sd_gs_s, sd_det_sub k h4] at e
  have e2 : sd_s k (fun t => sd_i (sd_det k A a b) * sd_adj k (fun x y => A (a x) (b y)) i t * A (a t) (b j)) = sd_i (sd_det k A a b) * sd_s k (fun t => sd_adj k (fun x y => A (a x) (b y)) i t * A (a t) (b j)) := by
    rw [← sd_s_ml]; apply sd_s_c; intro t _; grind
  rw [e2, e]
  unfold sd_1
  split
  · exact sd_i_m' _ h
  · grind
theorem sd_le_n (p q : Nat) (A : sd_M) : sd_le p q A p := ⟨sd_1, A, fun _ _ hi _ => (sd_1_m hi).symm⟩
theorem sd_le_det {n k : Nat} (h1 : 1 ≤ k) (h4 : k ≤ 3) (A : sd_M) (a b : Nat → Nat) (h : sd_det k A a b ≠ 0)
    (hz : ∀ i j, i < n → j < n → sd_det (k + 1) A (sd_ext k a i) (sd_ext k b j) = 0) : sd_le n n A k := by
  refine ⟨fun i t => A i (b t), fun t j => sd_s k (fun s => sd_i (sd_det k A a b) * sd_adj k (fun x y => A (a x) (b y)) t s * A (a s) j), ?_⟩
  intro i j hi hj
  have e := sd_bord k h1 h4 A a b i j
  rw [hz i j hi hj, sd_gs_s] at e
  have e2 : sd_m k (fun i t => A i (b t)) (fun t j => sd_s k (fun s => sd_i (sd_det k A a b) * sd_adj k (fun x y => A (a x) (b y)) t s * A (a s) j)) i j = sd_i (sd_det k A a b) * sd_s k (fun t => A i (b t) * sd_gs k (fun s => sd_adj k (fun x y => A (a x) (b y)) t s * A (a s) j)) := by
    rw [← sd_s_ml]
    apply sd_s_c
    intro t _
    show A i (b t) * sd_s k (fun s => sd_i (sd_det k A a b) * sd_adj k (fun x y => A (a x) (b y)) t s * A (a s) j) = _
    have e3 : sd_s k (fun s => sd_i (sd_det k A a b) * sd_adj k (fun x y => A (a x) (b y)) t s * A (a s) j) = sd_i (sd_det k A a b) * sd_s k (fun s => sd_adj k (fun x y => A (a x) (b y)) t s * A (a s) j) := by
      rw [← sd_s_ml]; apply sd_s_c; intro s _; grind
    rw [e3, sd_gs_s]; grind
  rw [e2]
  have e4 := sd_i_m' _ h
  generalize sd_s k (fun t => A i (b t) * sd_gs k (fun s => sd_adj k (fun x y => A (a x) (b y)) t s * A (a s) j)) = Z at e
  generalize sd_det k A a b = d at e e4
  grind
theorem sd_le_0 {n : Nat} (A : sd_M) (h : ∀ i j, i < n → j < n → A i j = 0) : sd_le n n A 0 := ⟨A, A, fun i j hi hj => h i j hi hj⟩
/-- strictly increasing on the first k -/
def sd_so (k : Nat) (a : Nat → Nat) : Prop := ∀ t, t + 1 < k → a t < a (t + 1)
theorem sd_srt2 {R : Type} [Lean.Grind.CommRing R] (I : R → Prop) (i0 : I 0) (ineg : ∀ x, I x → I (- x)) (n : Nat) (m : Nat → Nat → R) (b : Nat → Nat) (hz : ∀ a : Nat → Nat, (∀ t, a t < n) → sd_so 2 a → I (sd_det 2 m a b))
    (a : Nat → Nat) (ha : ∀ t, a t < n) : I (sd_det 2 m a b) := by
  have t1 : ∀ a : Nat → Nat, (∀ t, a t < n) → sd_so 1 a → I (sd_det 2 m a b) := by
    intro a ha hs
    have c : (a 1 < a 0) ∨ (a 1 = a 0) ∨ (a 0 < a 1) := by omega
    rcases c with c | c | c
    · have z := hz (fun t => if t = 0 then (a 1) else (a 0)) (fun t => by (repeat' split) <;> exact ha _) (fun t ht => by
        have ct : t = 0 := by omega
        rcases ct with rfl <;> (simp only [Nat.reduceAdd, Nat.reduceEqDiff, reduceIte]; omega))
      have z2 : I (sd_D2 (m (a 1)) (m (a 0)) (b 0) (b 1)) := z
      have e : sd_D2 (m (a 0)) (m (a 1)) (b 0) (b 1) = - sd_D2 (m (a 1)) (m (a 0)) (b 0) (b 1) := by
        simp only [sd_D4, sd_D3, sd_D2]; grind
      show I (sd_D2 (m (a 0)) (m (a 1)) (b 0) (b 1))
      rw [e]
      exact ineg _ z2
    · have e : sd_D2 (m (a 0)) (m (a 1)) (b 0) (b 1) = 0 := by
        simp only [sd_D4, sd_D3, sd_D2, c]; grind
      show I (sd_D2 (m (a 0)) (m (a 1)) (b 0) (b 1))
      rw [e]; exact i0
    · have z := hz (fun t => if t = 0 then (a 0) else (a 1)) (fun t => by (repeat' split) <;> exact ha _) (fun t ht => by
        have ct : t = 0 := by omega
        rcases ct with rfl <;> (simp only [Nat.reduceAdd, Nat.reduceEqDiff, reduceIte]; omega))
      exact z
  exact t1 a ha (fun t ht => by omega)
theorem sd_srt3 {R : Type} [Lean.Grind.CommRing R] (I : R → Prop) (i0 : I 0) (ineg : ∀ x, I x → I (- x)) (n : Nat) (m : Nat → Nat → R) (b : Nat → Nat) (hz : ∀ a : Nat → Nat, (∀ t, a t < n) → sd_so 3 a → I (sd_det 3 m a b))
    (a : Nat → Nat) (ha : ∀ t, a t < n) : I (sd_det 3 m a b) := by
  have t2 : ∀ a : Nat → Nat, (∀ t, a t < n) → sd_so 2 a → I (sd_det 3 m a b) := by
    intro a ha hs
    have q0 := hs 0 (by omega)
    have c : (a 2 < a 0) ∨ (a 2 = a 0) ∨ (a 0 < a 2 ∧ a 2 < a 1) ∨ (a 2 = a 1) ∨ (a 1 < a 2) := by omega
    rcases c with c | c | c | c | c
    · have z := hz (fun t => if t = 0 then (a 2) else if t = 1 then (a 0) else (a 1)) (fun t => by (repeat' split) <;> exact ha _) (fun t ht => by
        have ct : t = 0 ∨ t = 1 := by omega
        rcases ct with rfl | rfl <;> (simp only [Nat.reduceAdd, Nat.reduceEqDiff, reduceIte]; omega))
      have z2 : I (sd_D3 (m (a 2)) (m (a 0)) (m (a 1)) (b 0) (b 1) (b 2)) := z
      have e : sd_D3 (m (a 0)) (m (a 1)) (m (a 2)) (b 0) (b 1) (b 2) = sd_D3 (m (a 2)) (m (a 0)) (m (a 1)) (b 0) (b 1) (b 2) := by
        simp only [sd_D4, sd_D3, sd_D2]; grind
      show I (sd_D3 (m (a 0)) (m (a 1)) (m (a 2)) (b 0) (b 1) (b 2))
      rw [e]
      exact z2
    · have e : sd_D3 (m (a 0)) (m (a 1)) (m (a 2)) (b 0) (b 1) (b 2) = 0 := by
        simp only [sd_D4, sd_D3, sd_D2, c]; grind
      show I (sd_D3 (m (a 0)) (m (a 1)) (m (a 2)) (b 0) (b 1) (b 2))
      rw [e]; exact i0
    · have z := hz (fun t => if t = 0 then (a 0) else if t = 1 then (a 2) else (a 1)) (fun t => by (repeat' split) <;> exact ha _) (fun t ht => by
        have ct : t = 0 ∨ t = 1 := by omega
        rcases ct with rfl | rfl <;> (simp only [Nat.reduceAdd, Nat.reduceEqDiff, reduceIte]; omega))
      have z2 : I (sd_D3 (m (a 0)) (m (a 2)) (m (a 1)) (b 0) (b 1) (b 2)) := z
      have e : sd_D3 (m (a 0)) (m (a 1)) (m (a 2)) (b 0) (b 1) (b 2) = - sd_D3 (m (a 0)) (m (a 2)) (m (a 1)) (b 0) (b 1) (b 2) := by
        simp only [sd_D4, sd_D3, sd_D2]; grind
      show I (sd_D3 (m (a 0)) (m (a 1)) (m (a 2)) (b 0) (b 1) (b 2))
      rw [e]
      exact ineg _ z2
    · have e : sd_D3 (m (a 0)) (m (a 1)) (m (a 2)) (b 0) (b 1) (b 2) = 0 := by
        simp only [sd_D4, sd_D3, sd_D2, c]; grind
      show I (sd_D3 (m (a 0)) (m (a 1)) (m (a 2)) (b 0) (b 1) (b 2))
      rw [e]; exact i0
    · have z := hz (fun t => if t = 0 then (a 0) else if t = 1 then (a 1) else (a 2)) (fun t => by (repeat' split) <;> exact ha _) (fun t ht => by
        have ct : t = 0 ∨ t = 1 := by omega
        rcases ct with rfl | rfl <;> (simp only [Nat.reduceAdd, Nat.reduceEqDiff, reduceIte]; omega))
      exact z
  have t1 : ∀ a : Nat → Nat, (∀ t, a t < n) → sd_so 1 a → I (sd_det 3 m a b) := by
    intro a ha hs
    have c : (a 1 < a 0) ∨ (a 1 = a 0) ∨ (a 0 < a 1) := by omega
    rcases c with c | c | c
    · have z := t2 (fun t => if t = 0 then (a 1) else if t = 1 then (a 0) else (a 2)) (fun t => by (repeat' split) <;> exact ha _) (fun t ht => by
        have ct : t = 0 := by omega
        rcases ct with rfl <;> (simp only [Nat.reduceAdd, Nat.reduceEqDiff, reduceIte]; omega))
      have z2 : I (sd_D3 (m (a 1)) (m (a 0)) (m (a 2)) (b 0) (b 1) (b 2)) := z
      have e : sd_D3 (m (a 0)) (m (a 1)) (m (a 2)) (b 0) (b 1) (b 2) = - sd_D3 (m (a 1)) (m (a 0)) (m (a 2)) (b 0) (b 1) (b 2) := by
        simp only [sd_D4, sd_D3, sd_D2]; grind
      show I (sd_D3 (m (a 0)) (m (a 1)) (m (a 2)) (b 0) (b 1) (b 2))
      rw [e]
      exact ineg _ z2
    · have e : sd_D3 (m (a 0)) (m (a 1)) (m (a 2)) (b 0) (b 1) (b 2) = 0 := by
        simp only [sd_D4, sd_D3, sd_D2, c]; grind
      show I (sd_D3 (m (a 0)) (m (a 1)) (m (a 2)) (b 0) (b 1) (b 2))
      rw [e]; exact i0
    · have z := t2 (fun t => if t = 0 then (a 0) else if t = 1 then (a 1) else (a 2)) (fun t => by (repeat' split) <;> exact ha _) (fun t ht => by
        have ct : t = 0 := by omega
        rcases ct with rfl <;> (simp only [Nat.reduceAdd, Nat.reduceEqDiff, reduceIte]; omega))
      exact z
  exact t1 a ha (fun t ht => by omega)
theorem sd_srt4 {R : Type} [Lean.Grind.CommRing R] (I : R → Prop) (i0 : I 0) (ineg : ∀ x, I x → I (- x)) (n : Nat) (m : Nat → Nat → R) (b : Nat → Nat) (hz : ∀ a : Nat → Nat, (∀ t, a t < n) → sd_so 4 a → I (sd_det 4 m a b))
    (a : Nat → Nat) (ha : ∀ t, a t < n) : I (sd_det 4 m a b) := by
  have t3 : ∀ a : Nat → Nat, (∀ t, a t < n) → sd_so 3 a → I (sd_det 4 m a b) := by
    intro a ha hs
    have q0 := hs 0 (by omega)
    have q1 := hs 1 (by omega)
    have c : (a 3 < a 0) ∨ (a 3 = a 0) ∨ (a 0 < a 3 ∧ a 3 < a 1) ∨ (a 3 = a 1) ∨ (a 1 < a 3 ∧ a 3 < a 2) ∨ (a 3 = a 2) ∨ (a 2 < a 3) := by omega
    rcases c with c | c | c | c | c | c | c
    · have z := hz (fun t => if t = 0 then (a 3) else if t = 1 then (a 0) else if t = 2 then (a 1) else (a 2)) (fun t => by (repeat' split) <;> exact ha _) (fun t ht => by
        have ct : t = 0 ∨ t = 1 ∨ t = 2 := by omega
        rcases ct with rfl | rfl | rfl <;> (simp only [Nat.reduceAdd, Nat.reduceEqDiff, reduceIte]; omega))
      have z2 : I (sd_D4 (m (a 3)) (m (a 0)) (m (a 1)) (m (a 2)) (b 0) (b 1) (b 2) (b 3)) := z
      have e : sd_D4 (m (a 0)) (m (a 1)) (m (a 2)) (m (a 3)) (b 0) (b 1) (b 2) (b 3) = - sd_D4 (m (a 3)) (m (a 0)) (m (a 1)) (m (a 2)) (b 0) (b 1) (b 2) (b 3) := by
        simp only [sd_D4, sd_D3, sd_D2]; grind
      show I (sd_D4 (m (a 0)) (m (a 1)) (m (a 2)) (m (a 3)) (b 0) (b 1) (b 2) (b 3))
      rw [e]
      exact ineg _ z2
    · have e : sd_D4 (m (a 0)) (m (a 1)) (m (a 2)) (m (a 3)) (b 0) (b 1) (b 2) (b 3) = 0 := by
        simp only [sd_D4, sd_D3, sd_D2, c]; grind
      show I (sd_D4 (m (a 0)) (m (a 1)) (m (a 2)) (m (a 3)) (b 0) (b 1) (b 2) (b 3))
      rw [e]; exact i0
    · have z := hz (fun t => if t = 0 then (a 0) else if t = 1 then (a 3) else if t = 2 then (a 1) else (a 2)) (fun t => by (repeat' split) <;> exact ha _) (fun t ht => by
        have ct : t = 0 ∨ t = 1 ∨ t = 2 := by omega
        rcases ct with rfl | rfl | rfl <;> (simp only [Nat.reduceAdd, Nat.reduceEqDiff, reduceIte]; omega))
      have z2 : I (sd_D4 (m (a 0)) (m (a 3)) (m (a 1)) (m (a 2)) (b 0) (b 1) (b 2) (b 3)) := z
      have e : sd_D4 (m (a 0)) (m (a 1)) (m (a 2)) (m (a 3)) (b 0) (b 1) (b 2) (b 3) = sd_D4 (m (a 0)) (m (a 3)) (m (a 1)) (m (a 2)) (b 0) (b 1) (b 2) (b 3) := by
        simp only [sd_D4, sd_D3, sd_D2]; grind
      show I (sd_D4 (m (a 0)) (m (a 1)) (m (a 2)) (m (a 3)) (b 0) (b 1) (b 2) (b 3))
      rw [e]
      exact z2
    · have e : sd_D4 (m (a 0)) (m (a 1)) (m (a 2)) (m (a 3)) (b 0) (b 1) (b 2) (b 3) = 0 := by
        simp only [sd_D4, sd_D3, sd_D2, c]; grind
      show I (sd_D4 (m (a 0)) (m (a 1)) (m (a 2)) (m (a 3)) (b 0) (b 1) (b 2) (b 3))
      rw [e]; exact i0
    · have z := hz (fun t => if t = 0 then (a 0) else if t = 1 then (a 1) else if t = 2 then (a 3) else (a 2)) (fun t => by (repeat' split) <;> exact ha _) (fun t ht => by
        have ct : t = 0 ∨ t = 1 ∨ t = 2 := by omega
        rcases ct with rfl | rfl | rfl <;> (simp only [Nat.reduceAdd, Nat.reduceEqDiff, reduceIte]; omega))
      have z2 : I (sd_D4 (m (a 0)) (m (a 1)) (m (a 3)) (m (a 2)) (b 0) (b 1) (b 2) (b 3)) := z
      have e : sd_D4 (m (a 0)) (m (a 1)) (m (a 2)) (m (a 3)) (b 0) (b 1) (b 2) (b 3) = - sd_D4 (m (a 0)) (m (a 1)) (m (a 3)) (m (a 2)) (b 0) (b 1) (b 2) (b 3) := by
        simp only [sd_D4, sd_D3, sd_D2]; grind
      show I (sd_D4 (m (a 0)) (m (a 1)) (m (a 2)) (m (a 3)) (b 0) (b 1) (b 2) (b 3))
      rw [e]
      exact ineg _ z2
    · have e : sd_D4 (m (a 0)) (m (a 1)) (m (a 2)) (m (a 3)) (b 0) (b 1) (b 2) (b 3) = 0 := by
        simp only [sd_D4, sd_D3, sd_D2, c]; grind
      show I (sd_D4 (m (a 0)) (m (a 1)) (m (a 2)) (m (a 3)) (b 0) (b 1) (b 2) (b 3))
      rw [e]; exact i0
    · have z := hz (fun t => if t = 0 then (a 0) else if t = 1 then (a 1) else if t = 2 then (a 2) else (a 3)) (fun t => by (repeat' split) <;> exact ha _) (fun t ht => by
        have ct : t = 0 ∨ t = 1 ∨ t = 2 := by omega
        rcases ct with rfl | rfl | rfl <;> (simp only [Nat.reduceAdd, Nat.reduceEqDiff, reduceIte]; omega))
      exact z
  have t2 : ∀ a : Nat → Nat, (∀ t, a t < n) → sd_so 2 a → I (sd_det 4 m a b) := by
    intro a ha hs
    have q0 := hs 0 (by omega)
    have c : (a 2 < a 0) ∨ (a 2 = a 0) ∨ (a 0 < a 2 ∧ a 2 < a 1) ∨ (a 2 = a 1) ∨ (a 1 < a 2) := by omega
    rcases c with c | c | c | c | c
    · have z := t3 (fun t => if t = 0 then (a 2) else if t = 1 then (a 0) else if t = 2 then (a 1) else (a 3)) (fun t => by (repeat' split) <;> exact ha _) (fun t ht => by
        have ct : t = 0 ∨ t = 1 := by omega
        rcases ct with rfl | rfl <;> (simp only [Nat.reduceAdd, Nat.reduceEqDiff, reduceIte]; omega))
      have z2 : I (sd_D4 (m (a 2)) (m (a 0)) (m (a 1)) (m (a 3)) (b 0) (b 1) (b 2) (b 3)) := z
      have e : sd_D4 (m (a 0)) (m (a 1)) (m (a 2)) (m (a 3)) (b 0) (b 1) (b 2) (b 3) = sd_D4 (m (a 2)) (m (a 0)) (m (a 1)) (m (a 3)) (b 0) (b 1) (b 2) (b 3) := by
        simp only [sd_D4, sd_D3, sd_D2]; grind
      show I (sd_D4 (m (a 0)) (m (a 1)) (m (a 2)) (m (a 3)) (b 0) (b 1) (b 2) (b 3))
      rw [e]
      exact z2
    · have e : sd_D4 (m (a 0)) (m (a 1)) (m (a 2)) (m (a 3)) (b 0) (b 1) (b 2) (b 3) = 0 := by
        simp only [sd_D4, sd_D3, sd_D2, c]; grind
      show I (sd_D4 (m (a 0)) (m (a 1)) (m (a 2)) (m (a 3)) (b 0) (b 1) (b 2) (b 3))
      rw [e]; exact i0
    · have z := t3 (fun t => if t = 0 then (a 0) else if t = 1 then (a 2) else if t = 2 then (a 1) else (a 3)) (fun t => by (repeat' split) <;> exact ha _) (fun t ht => by
        have ct : t = 0 ∨ t = 1 := by omega
        rcases ct with rfl | rfl <;> (simp only [Nat.reduceAdd, Nat.reduceEqDiff, reduceIte]; omega))
      have z2 : I (sd_D4 (m (a 0)) (m (a 2)) (m (a 1)) (m (a 3)) (b 0) (b 1) (b 2) (b 3)) := z
      have e : sd_D4 (m (a 0)) (m (a 1)) (m (a 2)) (m (a 3)) (b 0) (b 1) (b 2) (b 3) = - sd_D4 (m (a 0)) (m (a 2)) (m (a 1)) (m (a 3)) (b 0) (b 1) (b 2) (b 3) := by
        simp only [sd_D4, sd_D3, sd_D2]; grind
      show I (sd_D4 (m (a 0)) (m (a 1)) (m (a 2)) (m (a 3)) (b 0) (b 1) (b 2) (b 3))
      rw [e]
      exact ineg _ z2
    · have e : sd_D4 (m (a 0)) (m (a 1)) (m (a 2)) (m (a 3)) (b 0) (b 1) (b 2) (b 3) = 0 := by
        simp only [sd_D4, sd_D3, sd_D2, c]; grind
      show I (sd_D4 (m (a 0)) (m (a 1)) (m (a 2)) (m (a 3)) (b 0) (b 1) (b 2) (b 3))
      rw [e]; exact i0
    · have z := t3 (fun t => if t = 0 then (a 0) else if t = 1 then (a 1) else if t = 2 then (a 2) else (a 3)) (fun t => by (repeat' split) <;> exact ha _) (fun t ht => by
        have ct : t = 0 ∨ t = 1 := by omega
        rcases ct with rfl | rfl <;> (simp only [Nat.reduceAdd, Nat.reduceEqDiff, reduceIte]; omega))
      exact z
  have t1 : ∀ a : Nat → Nat, (∀ t, a t < n) → sd_so 1 a → I (sd_det 4 m a b) := by
    intro a ha hs
    have c : (a 1 < a 0) ∨ (a 1 = a 0) ∨ (a 0 < a 1) := by omega
    rcases c with c | c | c
    · have z := t2 (fun t => if t = 0 then (a 1) else if t = 1 then (a 0) else if t = 2 then (a 2) else (a 3)) (fun t => by (repeat' split) <;> exact ha _) (fun t ht => by
        have ct : t = 0 := by omega
        rcases ct with rfl <;> (simp only [Nat.reduceAdd, Nat.reduceEqDiff, reduceIte]; omega))
      have z2 : I (sd_D4 (m (a 1)) (m (a 0)) (m (a 2)) (m (a 3)) (b 0) (b 1) (b 2) (b 3)) := z
      have e : sd_D4 (m (a 0)) (m (a 1)) (m (a 2)) (m (a 3)) (b 0) (b 1) (b 2) (b 3) = - sd_D4 (m (a 1)) (m (a 0)) (m (a 2)) (m (a 3)) (b 0) (b 1) (b 2) (b 3) := by
        simp only [sd_D4, sd_D3, sd_D2]; grind
      show I (sd_D4 (m (a 0)) (m (a 1)) (m (a 2)) (m (a 3)) (b 0) (b 1) (b 2) (b 3))
      rw [e]
      exact ineg _ z2
    · have e : sd_D4 (m (a 0)) (m (a 1)) (m (a 2)) (m (a 3)) (b 0) (b 1) (b 2) (b 3) = 0 := by
        simp only [sd_D4, sd_D3, sd_D2, c]; grind
      show I (sd_D4 (m (a 0)) (m (a 1)) (m (a 2)) (m (a 3)) (b 0) (b 1) (b 2) (b 3))
      rw [e]; exact i0
    · have z := t2 (fun t => if t = 0 then (a 0) else if t = 1 then (a 1) else if t = 2 then (a 2) else (a 3)) (fun t => by (repeat' split) <;> exact ha _) (fun t ht => by
        have ct : t = 0 := by omega
        rcases ct with rfl <;> (simp only [Nat.reduceAdd, Nat.reduceEqDiff, reduceIte]; omega))
      exact z
  exact t1 a ha (fun t ht => by omega)
theorem sd_srt {R : Type} [Lean.Grind.CommRing R] (I : R → Prop) (i0 : I 0) (ineg : ∀ x, I x → I (- x)) (k : Nat) (h1 : 1 ≤ k) (h4 : k ≤ 4) (n : Nat) (m : Nat → Nat → R) (b : Nat → Nat) (hz : ∀ a : Nat → Nat, (∀ t, a t < n) → sd_so k a → I (sd_det k m a b))
    (a : Nat → Nat) (ha : ∀ t, a t < n) : I (sd_det k m a b) := by
  match k, h1, h4 with
  | 1, _, _ => exact hz a ha (fun t ht => by omega)
  | 2, _, _ => exact sd_srt2 I i0 ineg n m b hz a ha
  | 3, _, _ => exact sd_srt3 I i0 ineg n m b hz a ha
  | 4, _, _ => exact sd_srt4 I i0 ineg n m b hz a ha
theorem sd_srt' {R : Type} [Lean.Grind.CommRing R] (I : R → Prop) (i0 : I 0) (ineg : ∀ x, I x → I (- x)) (k : Nat) (h1 : 1 ≤ k) (h4 : k ≤ 4) (n : Nat) (m : Nat → Nat → R) (hz : ∀ a b : Nat → Nat, (∀ t, a t < n) → (∀ t, b t < n) → sd_so k a → sd_so k b → I (sd_det k m a b)) : sd_am k n m I := by
  intro a b ha hb
  refine sd_srt I i0 ineg k h1 h4 n m b ?_ a ha
  intro a' ha' sa'
  rw [sd_det_t]
  refine sd_srt I i0 ineg k h1 h4 n (fun i j => m j i) a' ?_ b hb
  intro b' hb' sb'
  rw [← sd_det_t]
  exact hz a' b' ha' hb' sa' sb'
/-- the rank is the number of rows of a largest minor that is not 0 -/
theorem sd_rk_min {n r : Nat} (hn : n ≤ 4) (A : sd_M) (hr : r = 0 ∨ (1 ≤ r ∧ r ≤ n ∧ ∃ a b : Nat → Nat, (∀ t, a t < n) ∧ (∀ t, b t < n) ∧ sd_so r a ∧ sd_so r b ∧ sd_det r A a b ≠ 0))
    (hz : r < n → ∀ a b : Nat → Nat, (∀ t, a t < n) → (∀ t, b t < n) → sd_so (r + 1) a → sd_so (r + 1) b → sd_det (r + 1) A a b = 0) : sd_rk n n A r := by
  rcases hr with rfl | ⟨h1, hrn, a, b, ha, hb, sa, sb, hd⟩
  · refine ⟨sd_ge_0 n n A, sd_le_0 A ?_⟩
    intro i j hi hj
    exact hz (by omega) (fun _ => i) (fun _ => j) (fun _ => hi) (fun _ => hj) (fun t ht => by omega) (fun t ht => by omega)
  · refine ⟨sd_ge_det h1 (by omega) A a b ha hb hd, ?_⟩
    by_cases e : r = n
    · rw [e]; exact sd_le_n n n A
    · have am : sd_am (r + 1) n A (fun x : Fin 5 => x = (0 : Fin 5)) := sd_srt' (R := Fin 5) (fun x : Fin 5 => x = (0 : Fin 5)) (by rfl) (fun x hx => by rw [hx]; rfl) (r + 1) (by omega) (by omega) n A (hz (by omega))
      refine sd_le_det h1 (by omega) A a b hd (fun i j hi hj => am (sd_ext r a i) (sd_ext r b j) (fun t => ?_) (fun t => ?_))
      · unfold sd_ext; split
        · exact ha t
        · exact hi
      · unfold sd_ext; split
        · exact hb t
        · exact hj
end
section
/-! ===== square matrices with n rows (0 outside), powers, values of polynomials, likeness ===== -/
def sd_ok (n : Nat) (A : sd_M) : Prop := ∀ i j, ¬ (i < n ∧ j < n) → A i j = 0
def sd_cl (n : Nat) (A : sd_M) : sd_M := fun i j => if i < n ∧ j < n then A i j else 0
def sd_x (n : Nat) (A B : sd_M) : sd_M := sd_cl n (sd_m n A B)
def sd_I (n : Nat) : sd_M := sd_cl n sd_1
def sd_ma (A B : sd_M) : sd_M := fun i j => A i j + B i j
def sd_ms (c : Fin 5) (A : sd_M) : sd_M := fun i j => c * A i j
def sd_mz : sd_M := fun _ _ => 0

theorem sd_cl_v {n i j : Nat} {A : sd_M} (hi : i < n) (hj : j < n) : sd_cl n A i j = A i j := if_pos ⟨hi, hj⟩
theorem sd_cl_ok (n : Nat) (A : sd_M) : sd_ok n (sd_cl n A) := fun _ _ h => if_neg h
theorem sd_x_v {n i j : Nat} {A B : sd_M} (hi : i < n) (hj : j < n) : sd_x n A B i j = sd_m n A B i j := if_pos ⟨hi, hj⟩
theorem sd_I_v {n i j : Nat} (hi : i < n) (hj : j < n) : sd_I n i j = if i = j then 1 else 0 := if_pos ⟨hi, hj⟩
theorem sd_x_ok (n : Nat) (A B : sd_M) : sd_ok n (sd_x n A B) := sd_cl_ok n _
theorem sd_I_ok (n : Nat) : sd_ok n (sd_I n) := sd_cl_ok n _
theorem sd_mz_ok (n : Nat) : sd_ok n sd_mz := fun _ _ _ => rfl
theorem sd_ma_ok {n : Nat} {A B : sd_M} (a : sd_ok n A) (b : sd_ok n B) : sd_ok n (sd_ma A B) := by
  intro i j h
  show A i j + B i j = 0
  rw [a i j h, b i j h]; rfl
theorem sd_ms_ok {n : Nat} {c : Fin 5} {A : sd_M} (a : sd_ok n A) : sd_ok n (sd_ms c A) := by
  intro i j h
  show c * A i j = 0
  rw [a i j h]; grind
theorem sd_ok_e {n : Nat} {A B : sd_M} (a : sd_ok n A) (b : sd_ok n B) (h : ∀ i j, i < n → j < n → A i j = B i j) : A = B := by
  funext i j
  by_cases c : i < n ∧ j < n
  · exact h i j c.1 c.2
  · rw [a i j c, b i j c]
theorem sd_cl_id {n : Nat} {A : sd_M} (a : sd_ok n A) : sd_cl n A = A := sd_ok_e (sd_cl_ok n A) a (fun _ _ hi hj => sd_cl_v hi hj)

theorem sd_x_as (n : Nat) (A B C : sd_M) : sd_x n (sd_x n A B) C = sd_x n A (sd_x n B C) := by
  apply sd_ok_e (sd_x_ok n _ _) (sd_x_ok n _ _)
  intro i j hi hj
  rw [sd_x_v hi hj, sd_x_v hi hj]
  have e1 : sd_m n (sd_x n A B) C i j = sd_m n (sd_m n A B) C i j := sd_m_c (fun l hl => sd_x_v hi hl) (fun _ _ => rfl)
  have e2 : sd_m n A (sd_x n B C) i j = sd_m n A (sd_m n B C) i j := sd_m_c (fun _ _ => rfl) (fun l hl => sd_x_v hl hj)
  rw [e1, e2, sd_m_as]
theorem sd_I_x {n : Nat} {A : sd_M} (a : sd_ok n A) : sd_x n (sd_I n) A = A := by
  apply sd_ok_e (sd_x_ok n _ _) a
  intro i j hi hj
  rw [sd_x_v hi hj]
  have e1 : sd_m n (sd_I n) A i j = sd_m n sd_1 A i j := sd_m_c (fun l hl => sd_cl_v hi hl) (fun _ _ => rfl)
  rw [e1, sd_1_m hi]
theorem sd_x_I {n : Nat} {A : sd_M} (a : sd_ok n A) : sd_x n A (sd_I n) = A := by
  apply sd_ok_e (sd_x_ok n _ _) a
  intro i j hi hj
  rw [sd_x_v hi hj]
  have e1 : sd_m n A (sd_I n) i j = sd_m n A sd_1 i j := sd_m_c (fun _ _ => rfl) (fun l hl => sd_cl_v hl hj)
  rw [e1, sd_m_1 hj]
theorem sd_x_al (n : Nat) (A B C : sd_M) : sd_x n (sd_ma A B) C = sd_ma (sd_x n A C) (sd_x n B C) := by
  apply sd_ok_e (sd_x_ok n _ _) (sd_ma_ok (sd_x_ok n _ _) (sd_x_ok n _ _))
  intro i j hi hj
  show _ = sd_x n A C i j + sd_x n B C i j
  rw [sd_x_v hi hj, sd_x_v hi hj, sd_x_v hi hj]
  show sd_s n (fun l => (A i l + B i l) * C l j) = sd_s n (fun l => A i l * C l j) + sd_s n (fun l => B i l * C l j)
  rw [← sd_s_add]; apply sd_s_c; intro l _; grind
theorem sd_x_ar (n : Nat) (A B C : sd_M) : sd_x n A (sd_ma B C) = sd_ma (sd_x n A B) (sd_x n A C) := by
  apply sd_ok_e (sd_x_ok n _ _) (sd_ma_ok (sd_x_ok n _ _) (sd_x_ok n _ _))
  intro i j hi hj
  show _ = sd_x n A B i j + sd_x n A C i j
  rw [sd_x_v hi hj, sd_x_v hi hj, sd_x_v hi hj]
  show sd_s n (fun l => A i l * (B l j + C l j)) = sd_s n (fun l => A i l * B l j) + sd_s n (fun l => A i l * C l j)
  rw [← sd_s_add]; apply sd_s_c; intro l _; grind
theorem sd_x_sl (n : Nat) (c : Fin 5) (A B : sd_M) : sd_x n (sd_ms c A) B = sd_ms c (sd_x n A B) := by
  apply sd_ok_e (sd_x_ok n _ _) (sd_ms_ok (sd_x_ok n _ _))
  intro i j hi hj
  show _ = c * sd_x n A B i j
  rw [sd_x_v hi hj, sd_x_v hi hj]
  show sd_s n (fun l => c * A i l * B l j) = c * sd_s n (fun l => A i l * B l j)
  rw [← sd_s_ml]; apply sd_s_c; intro l _; grind
theorem sd_x_sr (n : Nat) (c : Fin 5) (A B : sd_M) : sd_x n A (sd_ms c B) = sd_ms c (sd_x n A B) := by
  apply sd_ok_e (sd_x_ok n _ _) (sd_ms_ok (sd_x_ok n _ _))
  intro i j hi hj
  show _ = c * sd_x n A B i j
  rw [sd_x_v hi hj, sd_x_v hi hj]
  show sd_s n (fun l => A i l * (c * B l j)) = c * sd_s n (fun l => A i l * B l j)
  rw [← sd_s_ml]; apply sd_s_c; intro l _; grind
theorem sd_z_x (n : Nat) (A : sd_M) : sd_x n sd_mz A = sd_mz := by
  apply sd_ok_e (sd_x_ok n _ _) (sd_mz_ok n)
  intro i j hi hj
  rw [sd_x_v hi hj]
  show sd_s n (fun l => 0 * A l j) = 0
  refine (sd_s_c (g := fun _ => 0) ?_).trans (sd_s_0 n)
  intro l _; grind
theorem sd_x_z (n : Nat) (A : sd_M) : sd_x n A sd_mz = sd_mz := by
  apply sd_ok_e (sd_x_ok n _ _) (sd_mz_ok n)
  intro i j hi hj
  rw [sd_x_v hi hj]
  show sd_s n (fun l => A i l * 0) = 0
  refine (sd_s_c (g := fun _ => 0) ?_).trans (sd_s_0 n)
  intro l _; grind
theorem sd_ma_cm (A B : sd_M) : sd_ma A B = sd_ma B A := by funext i j; unfold sd_ma; grind
theorem sd_ma_as (A B C : sd_M) : sd_ma (sd_ma A B) C = sd_ma A (sd_ma B C) := by funext i j; unfold sd_ma; grind
theorem sd_ma_z (A : sd_M) : sd_ma A sd_mz = A := by funext i j; unfold sd_ma sd_mz; grind
theorem sd_z_ma (A : sd_M) : sd_ma sd_mz A = A := by funext i j; unfold sd_ma sd_mz; grind
theorem sd_ms_a (c d : Fin 5) (A : sd_M) : sd_ms (c + d) A = sd_ma (sd_ms c A) (sd_ms d A) := by funext i j; unfold sd_ma sd_ms; grind
theorem sd_ms_m (c d : Fin 5) (A : sd_M) : sd_ms (c * d) A = sd_ms c (sd_ms d A) := by funext i j; unfold sd_ms; grind
theorem sd_ms_ma (c : Fin 5) (A B : sd_M) : sd_ms c (sd_ma A B) = sd_ma (sd_ms c A) (sd_ms c B) := by funext i j; unfold sd_ma sd_ms; grind
theorem sd_ms_1 (A : sd_M) : sd_ms 1 A = A := by funext i j; unfold sd_ms; grind
theorem sd_ms_0 (A : sd_M) : sd_ms 0 A = sd_mz := by funext i j; unfold sd_ms sd_mz; grind
theorem sd_ms_z (c : Fin 5) : sd_ms c sd_mz = sd_mz := by funext i j; unfold sd_ms sd_mz; grind

def sd_pw (n : Nat) (A : sd_M) : Nat → sd_M
  | 0 => sd_I n
  | k + 1 => sd_x n (sd_pw n A k) A
theorem sd_pw_ok (n : Nat) (A : sd_M) (k : Nat) : sd_ok n (sd_pw n A k) := by
  cases k with
  | zero => exact sd_I_ok n
  | succ k => exact sd_x_ok n _ _
theorem sd_pw_a (n : Nat) (A : sd_M) (j k : Nat) : sd_pw n A (j + k) = sd_x n (sd_pw n A j) (sd_pw n A k) := by
  induction k with
  | zero => exact (sd_x_I (sd_pw_ok n A j)).symm
  | succ k ih =>
    show sd_x n (sd_pw n A (j + k)) A = sd_x n (sd_pw n A j) (sd_x n (sd_pw n A k) A)
    rw [ih, sd_x_as]
theorem sd_pw_1 {n : Nat} {A : sd_M} (a : sd_ok n A) : sd_pw n A 1 = A := sd_I_x a
theorem sd_pw_cm (n : Nat) {A : sd_M} (a : sd_ok n A) (k : Nat) : sd_x n A (sd_pw n A k) = sd_x n (sd_pw n A k) A := by
  have e := sd_pw_a n A 1 k
  rw [sd_pw_1 a] at e
  rw [← e, Nat.add_comm]; rfl
theorem sd_pw_m (n : Nat) {A : sd_M} (j k : Nat) : sd_pw n (sd_pw n A j) k = sd_pw n A (j * k) := by
  induction k with
  | zero => rfl
  | succ k ih =>
    show sd_x n (sd_pw n (sd_pw n A j) k) (sd_pw n A j) = _
    rw [ih, ← sd_pw_a, Nat.mul_succ]
theorem sd_I_pw (n k : Nat) : sd_pw n (sd_I n) k = sd_I n := by
  induction k with
  | zero => rfl
  | succ k ih =>
    show sd_x n (sd_pw n (sd_I n) k) (sd_I n) = sd_I n
    rw [ih, sd_I_x (sd_I_ok n)]

/-- the value of the polynomial with the first d coefficients of p -/
def sd_ev (n : Nat) (A : sd_M) : Nat → sd_P → sd_M
  | 0, _ => sd_mz
  | d + 1, p => sd_ma (sd_x n (sd_ev n A d (sd_tl p)) A) (sd_ms (p 0) (sd_I n))
theorem sd_ev_ok (n : Nat) (A : sd_M) (d : Nat) (p : sd_P) : sd_ok n (sd_ev n A d p) := by
  cases d with
  | zero => exact sd_mz_ok n
  | succ d => exact sd_ma_ok (sd_x_ok n _ _) (sd_ms_ok (sd_I_ok n))
theorem sd_ev_0 (n : Nat) (A : sd_M) : ∀ (d : Nat) (p : sd_P), (∀ j, p j = 0) → sd_ev n A d p = sd_mz := by
  intro d
  induction d with
  | zero => intro p _; rfl
  | succ d ih =>
    intro p hp
    show sd_ma (sd_x n (sd_ev n A d (sd_tl p)) A) (sd_ms (p 0) (sd_I n)) = sd_mz
    rw [ih (sd_tl p) (fun j => hp (j + 1)), hp 0, sd_z_x, sd_ms_0, sd_ma_z]
theorem sd_ev_e (n : Nat) (A : sd_M) : ∀ (d e : Nat) (p : sd_P), sd_dl p d → d ≤ e → sd_ev n A e p = sd_ev n A d p := by
  intro d
  induction d with
  | zero => intro e p hp _; exact sd_ev_0 n A e p (fun j => hp j (by omega))
  | succ d ih =>
    intro e p hp he
    cases e with
    | zero => omega
    | succ e =>
      show sd_ma (sd_x n (sd_ev n A e (sd_tl p)) A) (sd_ms (p 0) (sd_I n)) = sd_ma (sd_x n (sd_ev n A d (sd_tl p)) A) (sd_ms (p 0) (sd_I n))
      rw [ih e (sd_tl p) (fun j hj => hp (j + 1) (by omega)) (by omega)]
theorem sd_ev_c (n : Nat) (A : sd_M) : ∀ (d : Nat) (p q : sd_P), (∀ j, j < d → p j = q j) → sd_ev n A d p = sd_ev n A d q := by
  intro d
  induction d with
  | zero => intro p q _; rfl
  | succ d ih =>
    intro p q h
    show sd_ma (sd_x n (sd_ev n A d (sd_tl p)) A) (sd_ms (p 0) (sd_I n)) = sd_ma (sd_x n (sd_ev n A d (sd_tl q)) A) (sd_ms (q 0) (sd_I n))
    rw [ih (sd_tl p) (sd_tl q) (fun j hj => h (j + 1) (by omega)), h 0 (by omega)]
theorem sd_ev_a (n : Nat) (A : sd_M) : ∀ (d : Nat) (p q : sd_P), sd_ev n A d (sd_pa p q) = sd_ma (sd_ev n A d p) (sd_ev n A d q) := by
  intro d
  induction d with
  | zero => intro p q; exact (sd_ma_z sd_mz).symm
  | succ d ih =>
    intro p q
    show sd_ma (sd_x n (sd_ev n A d (sd_pa (sd_tl p) (sd_tl q))) A) (sd_ms (p 0 + q 0) (sd_I n)) = sd_ma (sd_ma (sd_x n (sd_ev n A d (sd_tl p)) A) (sd_ms (p 0) (sd_I n))) (sd_ma (sd_x n (sd_ev n A d (sd_tl q)) A) (sd_ms (q 0) (sd_I n)))
    rw [ih, sd_x_al, sd_ms_a]
    funext i j; unfold sd_ma; grind
theorem sd_ev_s (n : Nat) (A : sd_M) : ∀ (d : Nat) (c : Fin 5) (p : sd_P), sd_ev n A d (fun j => c * p j) = sd_ms c (sd_ev n A d p) := by
  intro d
  induction d with
  | zero => intro c p; exact (sd_ms_z c).symm
  | succ d ih =>
    intro c p
    show sd_ma (sd_x n (sd_ev n A d (fun j => c * sd_tl p j)) A) (sd_ms (c * p 0) (sd_I n)) = sd_ms c (sd_ma (sd_x n (sd_ev n A d (sd_tl p)) A) (sd_ms (p 0) (sd_I n)))
    rw [ih, sd_x_sl, sd_ms_m, sd_ms_ma]
theorem sd_ev_cm (n : Nat) {A : sd_M} (a : sd_ok n A) : ∀ (d : Nat) (p : sd_P), sd_x n A (sd_ev n A d p) = sd_x n (sd_ev n A d p) A := by
  intro d
  induction d with
  | zero => intro p; show sd_x n A sd_mz = sd_x n sd_mz A; rw [sd_x_z, sd_z_x]
  | succ d ih =>
    intro p
    show sd_x n A (sd_ma (sd_x n (sd_ev n A d (sd_tl p)) A) (sd_ms (p 0) (sd_I n))) = sd_x n (sd_ma (sd_x n (sd_ev n A d (sd_tl p)) A) (sd_ms (p 0) (sd_I n))) A
    rw [sd_x_ar, sd_x_al, sd_x_sr, sd_x_sl, sd_x_I a, sd_I_x a, ← sd_x_as, ih]
theorem sd_ev_m (n : Nat) {A : sd_M} (a : sd_ok n A) : ∀ (d e : Nat) (p q : sd_P), sd_dl p d → sd_dl q e → sd_ev n A (d + e) (sd_pm p q) = sd_x n (sd_ev n A d p) (sd_ev n A e q) := by
  intro d
  induction d with
  | zero =>
    intro e p q hp _
    have : p = fun _ => 0 := funext fun j => hp j (by omega)
    rw [this]
    show sd_ev n A (0 + e) (sd_pm (fun _ => 0) q) = sd_x n sd_mz _
    rw [sd_z_x]
    exact sd_ev_0 n A _ _ (fun j => sd_mc_0 j q)
  | succ d ih =>
    intro e p q hp hq
    have e1 : d + 1 + e = (d + e) + 1 := by omega
    rw [e1]
    show sd_ma (sd_x n (sd_ev n A (d + e) (sd_pa (fun j => p 0 * sd_tl q j) (sd_pm (sd_tl p) q))) A) (sd_ms (p 0 * q 0) (sd_I n)) = sd_x n (sd_ma (sd_x n (sd_ev n A d (sd_tl p)) A) (sd_ms (p 0) (sd_I n))) (sd_ev n A e q)
    rw [sd_ev_a, sd_ev_s, ih e (sd_tl p) q (fun j hj => hp (j + 1) (by omega)) hq, sd_x_al, sd_x_sl, sd_x_al, sd_x_sl, sd_I_x (sd_ev_ok n A e q), sd_ms_m, sd_x_as, sd_x_as, sd_ev_cm n a]
    have e2 : sd_ev n A e q = sd_ma (sd_x n (sd_ev n A (d + e) (sd_tl q)) A) (sd_ms (q 0) (sd_I n)) := by
      rw [← sd_ev_e n A e (d + e + 1) q hq (by omega)]; rfl
    generalize hz : sd_x n (sd_ev n A d (sd_tl p)) (sd_x n (sd_ev n A e q) A) = Z
    rw [e2, sd_ms_ma]
    funext i j; unfold sd_ma; grind

/-- likeness -/
def sd_sim (n : Nat) (A C : sd_M) : Prop := ∃ P Q : sd_M, sd_ok n P ∧ sd_ok n Q ∧ sd_x n P Q = sd_I n ∧ sd_x n Q P = sd_I n ∧ sd_x n A P = sd_x n P C
theorem sd_sim_r {n : Nat} {A : sd_M} (a : sd_ok n A) : sd_sim n A A := ⟨sd_I n, sd_I n, sd_I_ok n, sd_I_ok n, sd_I_x (sd_I_ok n), sd_I_x (sd_I_ok n), by rw [sd_x_I a, sd_I_x a]⟩
theorem sd_sim_s {n : Nat} {A C : sd_M} (a : sd_ok n A) (c : sd_ok n C) (h : sd_sim n A C) : sd_sim n C A := by
  obtain ⟨P, Q, hP, hQ, e1, e2, e3⟩ := h
  refine ⟨Q, P, hQ, hP, e2, e1, ?_⟩
  have : sd_x n Q (sd_x n (sd_x n A P) Q) = sd_x n Q (sd_x n (sd_x n P C) Q) := by rw [e3]
  rw [sd_x_as, e1, sd_x_I a, sd_x_as n P C Q, ← sd_x_as n Q P, e2, sd_I_x (sd_x_ok n _ _)] at this
  exact this.symm
theorem sd_sim_t {n : Nat} {A B C : sd_M} (h : sd_sim n A B) (h' : sd_sim n B C) : sd_sim n A C := by
  obtain ⟨P, Q, hP, hQ, e1, e2, e3⟩ := h
  obtain ⟨P', Q', hP', hQ', f1, f2, f3⟩ := h'
  refine ⟨sd_x n P P', sd_x n Q' Q, sd_x_ok n _ _, sd_x_ok n _ _, ?_, ?_, ?_⟩
  · rw [sd_x_as, ← sd_x_as n P' Q' Q, f1, sd_I_x hQ, e1]
  · rw [sd_x_as, ← sd_x_as n Q P P', e2, sd_I_x hP', f2]
  · rw [← sd_x_as, e3, sd_x_as, f3, ← sd_x_as]
theorem sd_sim_pw {n : Nat} {A C P : sd_M} (hP : sd_ok n P) (h : sd_x n A P = sd_x n P C) (k : Nat) : sd_x n (sd_pw n A k) P = sd_x n P (sd_pw n C k) := by
  induction k with
  | zero => show sd_x n (sd_I n) P = sd_x n P (sd_I n); rw [sd_I_x hP, sd_x_I hP]
  | succ k ih =>
    show sd_x n (sd_x n (sd_pw n A k) A) P = sd_x n P (sd_x n (sd_pw n C k) C)
    rw [sd_x_as, h, ← sd_x_as, ih, sd_x_as]
theorem sd_sim_ev {n : Nat} {A C P : sd_M} (hP : sd_ok n P) (h : sd_x n A P = sd_x n P C) : ∀ (d : Nat) (p : sd_P), sd_x n (sd_ev n A d p) P = sd_x n P (sd_ev n C d p) := by
  intro d
  induction d with
  | zero => intro p; show sd_x n sd_mz P = sd_x n P sd_mz; rw [sd_x_z, sd_z_x]
  | succ d ih =>
    intro p
    show sd_x n (sd_ma (sd_x n (sd_ev n A d (sd_tl p)) A) (sd_ms (p 0) (sd_I n))) P = sd_x n P (sd_ma (sd_x n (sd_ev n C d (sd_tl p)) C) (sd_ms (p 0) (sd_I n)))
    rw [sd_x_al, sd_x_ar, sd_x_sl, sd_x_sr, sd_I_x hP, sd_x_I hP, sd_x_as, h, ← sd_x_as, ih, sd_x_as]
/-- cancelling -/
theorem sd_sim_q {n : Nat} {P Q U V : sd_M} (hU : sd_ok n U) (e1 : sd_x n P Q = sd_I n) (h : sd_x n U P = sd_x n P V) : U = sd_x n P (sd_x n V Q) := by
  rw [← sd_x_as, ← h, sd_x_as, e1, sd_x_I hU]
theorem sd_sim_q' {n : Nat} {P Q U V : sd_M} (hV : sd_ok n V) (e2 : sd_x n Q P = sd_I n) (h : sd_x n U P = sd_x n P V) : V = sd_x n Q (sd_x n U P) := by
  rw [h, ← sd_x_as, e2, sd_I_x hV]
theorem sd_rk_sim {n r : Nat} {P Q U V : sd_M} (hU : sd_ok n U) (hV : sd_ok n V) (e1 : sd_x n P Q = sd_I n) (e2 : sd_x n Q P = sd_I n) (h : sd_x n U P = sd_x n P V) : sd_rk n n U r ↔ sd_rk n n V r := by
  have a1 : ∀ i j, i < n → j < n → U i j = sd_m n P (sd_m n V Q) i j := by
    intro i j hi hj
    rw [sd_sim_q hU e1 h, sd_x_v hi hj]
    exact sd_m_c (fun _ _ => rfl) (fun l hl => sd_x_v hl hj)
  have a2 : ∀ i j, i < n → j < n → V i j = sd_m n Q (sd_m n U P) i j := by
    intro i j hi hj
    rw [sd_sim_q' hV e2 h, sd_x_v hi hj]
    exact sd_m_c (fun _ _ => rfl) (fun l hl => sd_x_v hl hj)
  exact ⟨fun k => ⟨sd_ge_t a1 k.1, sd_le_t a2 k.2⟩, fun k => ⟨sd_ge_t a2 k.1, sd_le_t a1 k.2⟩⟩
end
section
/-! ===== classification up to likeness ===== -/
def sd_cm (a b c d : Nat → Fin 5) : sd_M := fun i j => match j with
  | 0 => a i
  | 1 => b i
  | 2 => c i
  | _ => d i
theorem sd_cm_0 (a b c d : Nat → Fin 5) (i : Nat) : sd_cm a b c d i 0 = a i := rfl
theorem sd_cm_1 (a b c d : Nat → Fin 5) (i : Nat) : sd_cm a b c d i 1 = b i := rfl
theorem sd_cm_2 (a b c d : Nat → Fin 5) (i : Nat) : sd_cm a b c d i 2 = c i := rfl
theorem sd_cm_3 (a b c d : Nat → Fin 5) (i : Nat) : sd_cm a b c d i 3 = d i := rfl
def sd_e (k : Nat) : Nat → Fin 5 := fun i => if i = k then 1 else 0
def sd_av (n : Nat) (A : sd_M) (v : Nat → Fin 5) : Nat → Fin 5 := fun i => sd_s n (fun l => A i l * v l)
theorem sd_r1 (x : Fin 5) : 0 * x = 0 := by grind
theorem sd_r2 (x : Fin 5) : x * 0 = 0 := by grind
theorem sd_r3 (x : Fin 5) : 0 + x = x := by grind
theorem sd_r4 (x : Fin 5) : x + 0 = x := by grind
theorem sd_r5 (x : Fin 5) : 1 * x = x := by grind
theorem sd_r6 (x : Fin 5) : x * 1 = x := by grind
theorem sd_r7 (x : Fin 5) : x - 0 = x := by grind
theorem sd_r8 (x : Fin 5) : 0 - x = - x := by grind
theorem sd_s_e {n k : Nat} (hk : k < n) (f : Nat → Fin 5) : sd_s n (fun l => f l * sd_e k l) = f k := by
  refine (sd_s_1 k hk _ ?_).trans ?_
  · intro i _ hi
    show f i * (if i = k then 1 else 0) = 0
    rw [if_neg hi]; grind
  · show f k * (if k = k then 1 else 0) = f k
    rw [if_pos rfl]; grind
def sd_dt (n : Nat) (P : sd_M) : Fin 5 := sd_det n P (fun t => t) (fun t => t)
theorem sd_inv {n : Nat} (h1 : 1 ≤ n) (h4 : n ≤ 4) (P : sd_M) (hd : sd_dt n P ≠ 0) :
    sd_x n (sd_cl n P) (sd_cl n (fun i j => sd_i (sd_dt n P) * sd_adj n P i j)) = sd_I n ∧ sd_x n (sd_cl n (fun i j => sd_i (sd_dt n P) * sd_adj n P i j)) (sd_cl n P) = sd_I n := by
  constructor
  · apply sd_ok_e (sd_x_ok n _ _) (sd_I_ok n)
    intro i j hi hj
    rw [sd_x_v hi hj, sd_I_v hi hj]
    have e0 : sd_m n (sd_cl n P) (sd_cl n (fun i j => sd_i (sd_dt n P) * sd_adj n P i j)) i j = sd_m n P (fun i j => sd_i (sd_dt n P) * sd_adj n P i j) i j := sd_m_c (fun l hl => sd_cl_v hi hl) (fun l hl => sd_cl_v hl hj)
    have e := sd_adj_r n h1 h4 P i j hi hj
    rw [sd_gs_s] at e
    have e2 : sd_m n P (fun i j => sd_i (sd_dt n P) * sd_adj n P i j) i j = sd_i (sd_dt n P) * sd_s n (fun t => P i t * sd_adj n P t j) := by
      rw [← sd_s_ml]; apply sd_s_c; intro t _; grind
    rw [e0, e2, e]
    split
    · exact sd_i_m' _ hd
    · grind
  · apply sd_ok_e (sd_x_ok n _ _) (sd_I_ok n)
    intro i j hi hj
    rw [sd_x_v hi hj, sd_I_v hi hj]
    have e0 : sd_m n (sd_cl n (fun i j => sd_i (sd_dt n P) * sd_adj n P i j)) (sd_cl n P) i j = sd_m n (fun i j => sd_i (sd_dt n P) * sd_adj n P i j) P i j := sd_m_c (fun l hl => sd_cl_v hi hl) (fun l hl => sd_cl_v hl hj)
    have e := sd_adj_l n h1 h4 P i j hi hj
    rw [sd_gs_s] at e
    have e2 : sd_m n (fun i j => sd_i (sd_dt n P) * sd_adj n P i j) P i j = sd_i (sd_dt n P) * sd_s n (fun t => sd_adj n P i t * P t j) := by
      rw [← sd_s_ml]; apply sd_s_c; intro t _; grind
    rw [e0, e2, e]
    split
    · exact sd_i_m' _ hd
    · grind
/-- a change of basis -/
theorem sd_bc {n : Nat} (h1 : 1 ≤ n) (h4 : n ≤ 4) {A : sd_M} (a : sd_ok n A) (P : sd_M) (hd : sd_dt n P ≠ 0) :
    ∃ A', sd_ok n A' ∧ sd_sim n A A' ∧ ∀ (j : Nat) (w : Nat → Fin 5), j < n → (∀ i, i < n → sd_s n (fun l => A i l * P l j) = sd_s n (fun l => P i l * w l)) → ∀ i, i < n → A' i j = w i := by
  obtain ⟨e1, e2⟩ := sd_inv h1 h4 P hd
  generalize hQ : sd_cl n (fun i j => sd_i (sd_dt n P) * sd_adj n P i j) = Q at e1 e2
  have qok : sd_ok n Q := by rw [← hQ]; exact sd_cl_ok n _
  refine ⟨sd_x n Q (sd_x n A (sd_cl n P)), sd_x_ok n _ _, ⟨sd_cl n P, Q, sd_cl_ok n P, qok, e1, e2, ?_⟩, ?_⟩
  · rw [← sd_x_as n (sd_cl n P) Q, e1, sd_I_x (sd_x_ok n _ _)]
  · intro j w hj hw i hi
    rw [sd_x_v hi hj]
    have f1 : sd_m n Q (sd_x n A (sd_cl n P)) i j = sd_m n Q (sd_m n (sd_cl n P) (fun l _ => w l)) i j := by
      apply sd_m_c (fun _ _ => rfl)
      intro l hl
      rw [sd_x_v hl hj]
      have g1 : sd_m n A (sd_cl n P) l j = sd_s n (fun t => A l t * P t j) := sd_m_c (fun _ _ => rfl) (fun t ht => sd_cl_v ht hj)
      have g2 : sd_m n (sd_cl n P) (fun l _ => w l) l j = sd_s n (fun t => P l t * w t) := sd_s_c (fun t ht => by rw [sd_cl_v hl ht])
      rw [g1, g2, hw l hl]
    rw [f1, ← sd_m_as]
    have f2 : sd_m n (sd_m n Q (sd_cl n P)) (fun l _ => w l) i j = sd_m n sd_1 (fun l _ => w l) i j := by
      apply sd_m_c
      · intro l hl
        rw [← sd_x_v hi hl, e2, sd_I_v hi hl]; rfl
      · intro _ _; rfl
    rw [f2, sd_1_m hi]
def sd_comp (n : Nat) (c : Nat → Fin 5) : sd_M := sd_cl n (fun i j => if j + 1 = n then c i else if i = j + 1 then 1 else 0)
def sd_Cy (n : Nat) (A : sd_M) : Prop := ∃ c, sd_sim n A (sd_comp n c)
theorem sd_Cy_t {n : Nat} {A B : sd_M} (h : sd_sim n A B) (c : sd_Cy n B) : sd_Cy n A := by
  obtain ⟨c, hc⟩ := c
  exact ⟨c, sd_sim_t h hc⟩
theorem sd_comp_e {n : Nat} {A : sd_M} (a : sd_ok n A) (h : ∀ j, j + 1 < n → ∀ i, i < n → A i j = sd_e (j + 1) i) : A = sd_comp n (fun i => A i (n - 1)) := by
  apply sd_ok_e a (sd_cl_ok n _)
  intro i j hi hj
  rw [sd_cl_v hi hj]
  by_cases e : j + 1 = n
  · rw [if_pos e]
    have : n - 1 = j := by omega
    rw [this]
  · rw [if_neg e]
    exact h j (by omega) i hi

theorem sd_kry2 {A : sd_M} (a : sd_ok 2 A) (v : Nat → Fin 5) (hd : sd_dt 2 (sd_cm v (sd_av 2 A v) v v) ≠ 0) : sd_Cy 2 A := by
  obtain ⟨A', ok', s, h⟩ := sd_bc (by omega) (by omega) a _ hd
  refine ⟨fun i => A' i (2 - 1), ?_⟩
  rw [← sd_comp_e ok' ?_]
  · exact s
  · intro j hj
    apply h j (sd_e (j + 1)) (by omega)
    intro i hi
    rw [sd_s_e (by omega : j + 1 < 2)]
    have cj : j = 0 := by omega
    subst cj; rfl
theorem sd_kry3 {A : sd_M} (a : sd_ok 3 A) (v : Nat → Fin 5) (hd : sd_dt 3 (sd_cm v (sd_av 3 A v) (sd_av 3 A (sd_av 3 A v)) v) ≠ 0) : sd_Cy 3 A := by
  obtain ⟨A', ok', s, h⟩ := sd_bc (by omega) (by omega) a _ hd
  refine ⟨fun i => A' i (3 - 1), ?_⟩
  rw [← sd_comp_e ok' ?_]
  · exact s
  · intro j hj
    apply h j (sd_e (j + 1)) (by omega)
    intro i hi
    rw [sd_s_e (by omega : j + 1 < 3)]
    have cj : j = 0 ∨ j = 1 := by omega
    rcases cj with rfl | rfl <;> rfl
theorem sd_kry4 {A : sd_M} (a : sd_ok 4 A) (v : Nat → Fin 5) (hd : sd_dt 4 (sd_cm v (sd_av 4 A v) (sd_av 4 A (sd_av 4 A v)) (sd_av 4 A (sd_av 4 A (sd_av 4 A v)))) ≠ 0) : sd_Cy 4 A := by
  obtain ⟨A', ok', s, h⟩ := sd_bc (by omega) (by omega) a _ hd
  refine ⟨fun i => A' i (4 - 1), ?_⟩
  rw [← sd_comp_e ok' ?_]
  · exact s
  · intro j hj
    apply h j (sd_e (j + 1)) (by omega)
    intro i hi
    rw [sd_s_e (by omega : j + 1 < 4)]
    have cj : j = 0 ∨ j = 1 ∨ j = 2 := by omega
    rcases cj with rfl | rfl | rfl <;> rfl
def sd_S1 (n : Nat) (A : sd_M) : Prop := ∃ B, sd_ok n B ∧ sd_sim n A B ∧ ∀ i, i < n → B i 0 = sd_e 1 i
def sd_S2 (A : sd_M) : Prop := ∃ B, sd_ok 4 B ∧ sd_sim 4 A B ∧ (∀ i, i < 4 → B i 0 = sd_e 1 i) ∧ ∀ i, i < 4 → B i 1 = sd_e 2 i
theorem sd_S2_t {A B : sd_M} (h : sd_sim 4 A B) (c : sd_S2 B) : sd_S2 A := by
  obtain ⟨C, o, s, r⟩ := c
  exact ⟨C, o, sd_sim_t h s, r⟩
theorem sd_s1_2 {A : sd_M} (a : sd_ok 2 A) (v c d : Nat → Fin 5) (hd : sd_dt 2 (sd_cm v (sd_av 2 A v) c d) ≠ 0) : sd_S1 2 A := by
  obtain ⟨B, o, s, h⟩ := sd_bc (by omega) (by omega) a _ hd
  refine ⟨B, o, s, h 0 (sd_e 1) (by omega) ?_⟩
  intro i hi
  rw [sd_s_e (by omega : 1 < 2)]; rfl
theorem sd_s1_3 {A : sd_M} (a : sd_ok 3 A) (v c d : Nat → Fin 5) (hd : sd_dt 3 (sd_cm v (sd_av 3 A v) c d) ≠ 0) : sd_S1 3 A := by
  obtain ⟨B, o, s, h⟩ := sd_bc (by omega) (by omega) a _ hd
  refine ⟨B, o, s, h 0 (sd_e 1) (by omega) ?_⟩
  intro i hi
  rw [sd_s_e (by omega : 1 < 3)]; rfl
theorem sd_s1_4 {A : sd_M} (a : sd_ok 4 A) (v c d : Nat → Fin 5) (hd : sd_dt 4 (sd_cm v (sd_av 4 A v) c d) ≠ 0) : sd_S1 4 A := by
  obtain ⟨B, o, s, h⟩ := sd_bc (by omega) (by omega) a _ hd
  refine ⟨B, o, s, h 0 (sd_e 1) (by omega) ?_⟩
  intro i hi
  rw [sd_s_e (by omega : 1 < 4)]; rfl
theorem sd_s2_4 {A : sd_M} (a : sd_ok 4 A) (v d : Nat → Fin 5) (hd : sd_dt 4 (sd_cm v (sd_av 4 A v) (sd_av 4 A (sd_av 4 A v)) d) ≠ 0) : sd_S2 A := by
  obtain ⟨B, o, s, h⟩ := sd_bc (by omega) (by omega) a _ hd
  refine ⟨B, o, s, h 0 (sd_e 1) (by omega) ?_, h 1 (sd_e 2) (by omega) ?_⟩
  · intro i hi
    rw [sd_s_e (by omega : 1 < 4)]; rfl
  · intro i hi
    rw [sd_s_e (by omega : 2 < 4)]; rfl
theorem sd_sc2 {A : sd_M} (a : sd_ok 2 A) (h : ¬ sd_S1 2 A) : A = sd_ms (A 0 0) (sd_I 2) := by
  have k : ∀ v c d : Nat → Fin 5, sd_dt 2 (sd_cm v (sd_av 2 A v) c d) = 0 := by
    intro v c d
    apply Classical.byContradiction
    intro hd
    exact h (sd_s1_2 a v c d hd)
  have z01 : A 0 1 = 0 := by
    have q := k (sd_e 1) (sd_e 0) (sd_e 0)
    simp only [sd_dt, sd_det, sd_D4, sd_D3, sd_D2, sd_r1, sd_r2, sd_r3, sd_r4, sd_r5, sd_r6, sd_r7, sd_r8, sd_cm_0, sd_cm_1, sd_cm_2, sd_cm_3, sd_av, sd_s, sd_e, Nat.reduceEqDiff, Nat.reduceAdd, reduceIte] at q
    grind
  have z10 : A 1 0 = 0 := by
    have q := k (sd_e 0) (sd_e 0) (sd_e 0)
    simp only [sd_dt, sd_det, sd_D4, sd_D3, sd_D2, sd_r1, sd_r2, sd_r3, sd_r4, sd_r5, sd_r6, sd_r7, sd_r8, sd_cm_0, sd_cm_1, sd_cm_2, sd_cm_3, sd_av, sd_s, sd_e, Nat.reduceEqDiff, Nat.reduceAdd, reduceIte] at q
    grind
  have y1 : A 1 1 = A 0 0 := by
    have q := k (fun x => if x = 0 then 1 else if x = 1 then 1 else 0) (sd_e 0) (sd_e 0)
    simp only [sd_dt, sd_det, sd_D4, sd_D3, sd_D2, sd_r1, sd_r2, sd_r3, sd_r4, sd_r5, sd_r6, sd_r7, sd_r8, sd_cm_0, sd_cm_1, sd_cm_2, sd_cm_3, sd_av, sd_s, sd_e, Nat.reduceEqDiff, Nat.reduceAdd, reduceIte, z01, z10] at q
    grind
  apply sd_ok_e a (sd_ms_ok (sd_I_ok 2))
  intro i j hi hj
  show A i j = A 0 0 * sd_I 2 i j
  rw [sd_I_v hi hj]
  have ci : i = 0 ∨ i = 1 := by omega
  have cj : j = 0 ∨ j = 1 := by omega
  rcases ci with rfl | rfl <;> rcases cj with rfl | rfl <;>
    (simp only [z01, z10, y1, Nat.reduceEqDiff, reduceIte]; grind)
theorem sd_sc3 {A : sd_M} (a : sd_ok 3 A) (h : ¬ sd_S1 3 A) : A = sd_ms (A 0 0) (sd_I 3) := by
  have k : ∀ v c d : Nat → Fin 5, sd_dt 3 (sd_cm v (sd_av 3 A v) c d) = 0 := by
    intro v c d
    apply Classical.byContradiction
    intro hd
    exact h (sd_s1_3 a v c d hd)
  have z01 : A 0 1 = 0 := by
    have q := k (sd_e 1) (sd_e 2) (sd_e 0)
    simp only [sd_dt, sd_det, sd_D4, sd_D3, sd_D2, sd_r1, sd_r2, sd_r3, sd_r4, sd_r5, sd_r6, sd_r7, sd_r8, sd_cm_0, sd_cm_1, sd_cm_2, sd_cm_3, sd_av, sd_s, sd_e, Nat.reduceEqDiff, Nat.reduceAdd, reduceIte] at q
    grind
  have z02 : A 0 2 = 0 := by
    have q := k (sd_e 2) (sd_e 1) (sd_e 0)
    simp only [sd_dt, sd_det, sd_D4, sd_D3, sd_D2, sd_r1, sd_r2, sd_r3, sd_r4, sd_r5, sd_r6, sd_r7, sd_r8, sd_cm_0, sd_cm_1, sd_cm_2, sd_cm_3, sd_av, sd_s, sd_e, Nat.reduceEqDiff, Nat.reduceAdd, reduceIte] at q
    grind
  have z10 : A 1 0 = 0 := by
    have q := k (sd_e 0) (sd_e 2) (sd_e 0)
    simp only [sd_dt, sd_det, sd_D4, sd_D3, sd_D2, sd_r1, sd_r2, sd_r3, sd_r4, sd_r5, sd_r6, sd_r7, sd_r8, sd_cm_0, sd_cm_1, sd_cm_2, sd_cm_3, sd_av, sd_s, sd_e, Nat.reduceEqDiff, Nat.reduceAdd, reduceIte] at q
    grind
  have z12 : A 1 2 = 0 := by
    have q := k (sd_e 2) (sd_e 0) (sd_e 0)
    simp only [sd_dt, sd_det, sd_D4, sd_D3, sd_D2, sd_r1, sd_r2, sd_r3, sd_r4, sd_r5, sd_r6, sd_r7, sd_r8, sd_cm_0, sd_cm_1, sd_cm_2, sd_cm_3, sd_av, sd_s, sd_e, Nat.reduceEqDiff, Nat.reduceAdd, reduceIte] at q
    grind
  have z20 : A 2 0 = 0 := by
    have q := k (sd_e 0) (sd_e 1) (sd_e 0)
    simp only [sd_dt, sd_det, sd_D4, sd_D3, sd_D2, sd_r1, sd_r2, sd_r3, sd_r4, sd_r5, sd_r6, sd_r7, sd_r8, sd_cm_0, sd_cm_1, sd_cm_2, sd_cm_3, sd_av, sd_s, sd_e, Nat.reduceEqDiff, Nat.reduceAdd, reduceIte] at q
    grind
  have z21 : A 2 1 = 0 := by
    have q := k (sd_e 1) (sd_e 0) (sd_e 0)
    simp only [sd_dt, sd_det, sd_D4, sd_D3, sd_D2, sd_r1, sd_r2, sd_r3, sd_r4, sd_r5, sd_r6, sd_r7, sd_r8, sd_cm_0, sd_cm_1, sd_cm_2, sd_cm_3, sd_av, sd_s, sd_e, Nat.reduceEqDiff, Nat.reduceAdd, reduceIte] at q
    grind
  have y1 : A 1 1 = A 0 0 := by
    have q := k (fun x => if x = 0 then 1 else if x = 1 then 1 else 0) (sd_e 2) (sd_e 0)
    simp only [sd_dt, sd_det, sd_D4, sd_D3, sd_D2, sd_r1, sd_r2, sd_r3, sd_r4, sd_r5, sd_r6, sd_r7, sd_r8, sd_cm_0, sd_cm_1, sd_cm_2, sd_cm_3, sd_av, sd_s, sd_e, Nat.reduceEqDiff, Nat.reduceAdd, reduceIte, z01, z02, z10, z12, z20, z21] at q
    grind
  have y2 : A 2 2 = A 0 0 := by
    have q := k (fun x => if x = 0 then 1 else if x = 2 then 1 else 0) (sd_e 1) (sd_e 0)
    simp only [sd_dt, sd_det, sd_D4, sd_D3, sd_D2, sd_r1, sd_r2, sd_r3, sd_r4, sd_r5, sd_r6, sd_r7, sd_r8, sd_cm_0, sd_cm_1, sd_cm_2, sd_cm_3, sd_av, sd_s, sd_e, Nat.reduceEqDiff, Nat.reduceAdd, reduceIte, z01, z02, z10, z12, z20, z21, y1] at q
    grind
  apply sd_ok_e a (sd_ms_ok (sd_I_ok 3))
  intro i j hi hj
  show A i j = A 0 0 * sd_I 3 i j
  rw [sd_I_v hi hj]
  have ci : i = 0 ∨ i = 1 ∨ i = 2 := by omega
  have cj : j = 0 ∨ j = 1 ∨ j = 2 := by omega
  rcases ci with rfl | rfl | rfl <;> rcases cj with rfl | rfl | rfl <;>
    (simp only [z01, z02, z10, z12, z20, z21, y1, y2, Nat.reduceEqDiff, reduceIte]; grind)
theorem sd_sc4 {A : sd_M} (a : sd_ok 4 A) (h : ¬ sd_S1 4 A) : A = sd_ms (A 0 0) (sd_I 4) := by
  have k : ∀ v c d : Nat → Fin 5, sd_dt 4 (sd_cm v (sd_av 4 A v) c d) = 0 := by
    intro v c d
    apply Classical.byContradiction
    intro hd
    exact h (sd_s1_4 a v c d hd)
  have z01 : A 0 1 = 0 := by
    have q := k (sd_e 1) (sd_e 2) (sd_e 3)
    simp only [sd_dt, sd_det, sd_D4, sd_D3, sd_D2, sd_r1, sd_r2, sd_r3, sd_r4, sd_r5, sd_r6, sd_r7, sd_r8, sd_cm_0, sd_cm_1, sd_cm_2, sd_cm_3, sd_av, sd_s, sd_e, Nat.reduceEqDiff, Nat.reduceAdd, reduceIte] at q
    grind
  have z02 : A 0 2 = 0 := by
    have q := k (sd_e 2) (sd_e 1) (sd_e 3)
    simp only [sd_dt, sd_det, sd_D4, sd_D3, sd_D2, sd_r1, sd_r2, sd_r3, sd_r4, sd_r5, sd_r6, sd_r7, sd_r8, sd_cm_0, sd_cm_1, sd_cm_2, sd_cm_3, sd_av, sd_s, sd_e, Nat.reduceEqDiff, Nat.reduceAdd, reduceIte] at q
    grind
  have z03 : A 0 3 = 0 := by
    have q := k (sd_e 3) (sd_e 1) (sd_e 2)
    simp only [sd_dt, sd_det, sd_D4, sd_D3, sd_D2, sd_r1, sd_r2, sd_r3, sd_r4, sd_r5, sd_r6, sd_r7, sd_r8, sd_cm_0, sd_cm_1, sd_cm_2, sd_cm_3, sd_av, sd_s, sd_e, Nat.reduceEqDiff, Nat.reduceAdd, reduceIte] at q
    grind
  have z10 : A 1 0 = 0 := by
    have q := k (sd_e 0) (sd_e 2) (sd_e 3)
    simp only [sd_dt, sd_det, sd_D4, sd_D3, sd_D2, sd_r1, sd_r2, sd_r3, sd_r4, sd_r5, sd_r6, sd_r7, sd_r8, sd_cm_0, sd_cm_1, sd_cm_2, sd_cm_3, sd_av, sd_s, sd_e, Nat.reduceEqDiff, Nat.reduceAdd, reduceIte] at q
    grind
  have z12 : A 1 2 = 0 := by
    have q := k (sd_e 2) (sd_e 0) (sd_e 3)
    simp only [sd_dt, sd_det, sd_D4, sd_D3, sd_D2, sd_r1, sd_r2, sd_r3, sd_r4, sd_r5, sd_r6, sd_r7, sd_r8, sd_cm_0, sd_cm_1, sd_cm_2, sd_cm_3, sd_av, sd_s, sd_e, Nat.reduceEqDiff, Nat.reduceAdd, reduceIte] at q
    grind
  have z13 : A 1 3 = 0 := by
    have q := k (sd_e 3) (sd_e 0) (sd_e 2)
    simp only [sd_dt, sd_det, sd_D4, sd_D3, sd_D2, sd_r1, sd_r2, sd_r3, sd_r4, sd_r5, sd_r6, sd_r7, sd_r8, sd_cm_0, sd_cm_1, sd_cm_2, sd_cm_3, sd_av, sd_s, sd_e, Nat.reduceEqDiff, Nat.reduceAdd, reduceIte] at q
    grind
  have z20 : A 2 0 = 0 := by
    have q := k (sd_e 0) (sd_e 1) (sd_e 3)
    simp only [sd_dt, sd_det, sd_D4, sd_D3, sd_D2, sd_r1, sd_r2, sd_r3, sd_r4, sd_r5, sd_r6, sd_r7, sd_r8, sd_cm_0, sd_cm_1, sd_cm_2, sd_cm_3, sd_av, sd_s, sd_e, Nat.reduceEqDiff, Nat.reduceAdd, reduceIte] at q
    grind
  have z21 : A 2 1 = 0 := by
    have q := k (sd_e 1) (sd_e 0) (sd_e 3)
    simp only [sd_dt, sd_det, sd_D4, sd_D3, sd_D2, sd_r1, sd_r2, sd_r3, sd_r4, sd_r5, sd_r6, sd_r7, sd_r8, sd_cm_0, sd_cm_1, sd_cm_2, sd_cm_3, sd_av, sd_s, sd_e, Nat.reduceEqDiff, Nat.reduceAdd, reduceIte] at q
    grind
  have z23 : A 2 3 = 0 := by
    have q := k (sd_e 3) (sd_e 0) (sd_e 1)
    simp only [sd_dt, sd_det, sd_D4, sd_D3, sd_D2, sd_r1, sd_r2, sd_r3, sd_r4, sd_r5, sd_r6, sd_r7, sd_r8, sd_cm_0, sd_cm_1, sd_cm_2, sd_cm_3, sd_av, sd_s, sd_e, Nat.reduceEqDiff, Nat.reduceAdd, reduceIte] at q
    grind
  have z30 : A 3 0 = 0 := by
    have q := k (sd_e 0) (sd_e 1) (sd_e 2)
    simp only [sd_dt, sd_det, sd_D4, sd_D3, sd_D2, sd_r1, sd_r2, sd_r3, sd_r4, sd_r5, sd_r6, sd_r7, sd_r8, sd_cm_0, sd_cm_1, sd_cm_2, sd_cm_3, sd_av, sd_s, sd_e, Nat.reduceEqDiff, Nat.reduceAdd, reduceIte] at q
    grind
  have z31 : A 3 1 = 0 := by
    have q := k (sd_e 1) (sd_e 0) (sd_e 2)
    simp only [sd_dt, sd_det, sd_D4, sd_D3, sd_D2, sd_r1, sd_r2, sd_r3, sd_r4, sd_r5, sd_r6, sd_r7, sd_r8, sd_cm_0, sd_cm_1, sd_cm_2, sd_cm_3, sd_av, sd_s, sd_e, Nat.reduceEqDiff, Nat.reduceAdd, reduceIte] at q
    grind
  have z32 : A 3 2 = 0 := by
    have q := k (sd_e 2) (sd_e 0) (sd_e 1)
    simp only [sd_dt, sd_det, sd_D4, sd_D3, sd_D2, sd_r1, sd_r2, sd_r3, sd_r4, sd_r5, sd_r6, sd_r7, sd_r8, sd_cm_0, sd_cm_1, sd_cm_2, sd_cm_3, sd_av, sd_s, sd_e, Nat.reduceEqDiff, Nat.reduceAdd, reduceIte] at q
    grind
  have y1 : A 1 1 = A 0 0 := by
    have q := k (fun x => if x = 0 then 1 else if x = 1 then 1 else 0) (sd_e 2) (sd_e 3)
    simp only [sd_dt, sd_det, sd_D4, sd_D3, sd_D2, sd_r1, sd_r2, sd_r3, sd_r4, sd_r5, sd_r6, sd_r7, sd_r8, sd_cm_0, sd_cm_1, sd_cm_2, sd_cm_3, sd_av, sd_s, sd_e, Nat.reduceEqDiff, Nat.reduceAdd, reduceIte, z01, z02, z03, z10, z12, z13, z20, z21, z23, z30, z31, z32] at q
    grind
  have y2 : A 2 2 = A 0 0 := by
    have q := k (fun x => if x = 0 then 1 else if x = 2 then 1 else 0) (sd_e 1) (sd_e 3)
    simp only [sd_dt, sd_det, sd_D4, sd_D3, sd_D2, sd_r1, sd_r2, sd_r3, sd_r4, sd_r5, sd_r6, sd_r7, sd_r8, sd_cm_0, sd_cm_1, sd_cm_2, sd_cm_3, sd_av, sd_s, sd_e, Nat.reduceEqDiff, Nat.reduceAdd, reduceIte, z01, z02, z03, z10, z12, z13, z20, z21, z23, z30, z31, z32, y1] at q
    grind
  have y3 : A 3 3 = A 0 0 := by
    have q := k (fun x => if x = 0 then 1 else if x = 3 then 1 else 0) (sd_e 1) (sd_e 2)
    simp only [sd_dt, sd_det, sd_D4, sd_D3, sd_D2, sd_r1, sd_r2, sd_r3, sd_r4, sd_r5, sd_r6, sd_r7, sd_r8, sd_cm_0, sd_cm_1, sd_cm_2, sd_cm_3, sd_av, sd_s, sd_e, Nat.reduceEqDiff, Nat.reduceAdd, reduceIte, z01, z02, z03, z10, z12, z13, z20, z21, z23, z30, z31, z32, y1, y2] at q
    grind
  apply sd_ok_e a (sd_ms_ok (sd_I_ok 4))
  intro i j hi hj
  show A i j = A 0 0 * sd_I 4 i j
  rw [sd_I_v hi hj]
  have ci : i = 0 ∨ i = 1 ∨ i = 2 ∨ i = 3 := by omega
  have cj : j = 0 ∨ j = 1 ∨ j = 2 ∨ j = 3 := by omega
  rcases ci with rfl | rfl | rfl | rfl <;> rcases cj with rfl | rfl | rfl | rfl <;>
    (simp only [z01, z02, z03, z10, z12, z13, z20, z21, z23, z30, z31, z32, y1, y2, y3, Nat.reduceEqDiff, reduceIte]; grind)
theorem sd_class2 {A : sd_M} (a : sd_ok 2 A) : (∃ c, A = sd_ms c (sd_I 2)) ∨ sd_Cy 2 A := by
  by_cases h : sd_S1 2 A
  · right
    obtain ⟨B, o, s, h0⟩ := h
    refine ⟨fun i => B i (2 - 1), ?_⟩
    rw [← sd_comp_e o ?_]
    · exact s
    · intro j hj
      have : j = 0 := by omega
      subst this
      exact h0
  · exact Or.inl ⟨_, sd_sc2 a h⟩
/-- companion of two rows and a number -/
def sd_f21 (c0 c1 d : Fin 5) : sd_M := sd_cl 3 (sd_cm (sd_e 1) (fun i => if i = 0 then c0 else if i = 1 then c1 else 0) (fun i => if i = 2 then d else 0) (sd_e 9))
def sd_f31 (c0 c1 c2 d : Fin 5) : sd_M := sd_cl 4 (sd_cm (sd_e 1) (sd_e 2) (fun i => if i = 0 then c0 else if i = 1 then c1 else if i = 2 then c2 else 0) (fun i => if i = 3 then d else 0))
def sd_f22 (c0 c1 : Fin 5) : sd_M := sd_cl 4 (sd_cm (sd_e 1) (fun i => if i = 0 then c0 else if i = 1 then c1 else 0) (sd_e 3) (fun i => if i = 2 then c0 else if i = 3 then c1 else 0))
def sd_f211 (c0 c1 d : Fin 5) : sd_M := sd_cl 4 (sd_cm (sd_e 1) (fun i => if i = 0 then c0 else if i = 1 then c1 else 0) (fun i => if i = 2 then d else 0) (fun i => if i = 3 then d else 0))
theorem sd_class3 {A : sd_M} (a : sd_ok 3 A) : (∃ c, A = sd_ms c (sd_I 3)) ∨ sd_Cy 3 A ∨ ∃ c0 c1 d, d * d = c1 * d + c0 ∧ sd_sim 3 A (sd_f21 c0 c1 d) := by
  by_cases hc : sd_Cy 3 A
  · exact Or.inr (Or.inl hc)
  by_cases h : sd_S1 3 A
  · right; right
    obtain ⟨B, o, s, h0⟩ := h
    have k : ∀ (D : sd_M), sd_ok 3 D → sd_sim 3 A D → ∀ v : Nat → Fin 5, sd_dt 3 (sd_cm v (sd_av 3 D v) (sd_av 3 D (sd_av 3 D v)) v) = 0 := by
      intro D oD sD v
      apply Classical.byContradiction
      intro hd
      exact hc (sd_Cy_t sD (sd_kry3 oD v hd))
    have b00 : B 0 0 = 0 := h0 0 (by omega)
    have b10 : B 1 0 = 1 := h0 1 (by omega)
    have b20 : B 2 0 = 0 := h0 2 (by omega)
    have b21 : B 2 1 = 0 := by
      have q := k B o s (sd_e 0)
      simp only [sd_dt, sd_det, sd_D4, sd_D3, sd_D2, sd_r1, sd_r2, sd_r3, sd_r4, sd_r5, sd_r6, sd_r7, sd_r8, sd_cm_0, sd_cm_1, sd_cm_2, sd_cm_3, sd_av, sd_s, sd_e, Nat.reduceEqDiff, Nat.reduceAdd, reduceIte, b00, b10, b20] at q
      grind
    obtain ⟨C, oC, sC, hC⟩ := sd_bc (by omega) (by omega) o (sd_cm (sd_e 0) (sd_e 1) (fun i => if i = 0 then - B 1 2 else if i = 2 then 1 else 0) (sd_e 0)) (by
      simp only [sd_dt, sd_det, sd_D4, sd_D3, sd_D2, sd_r1, sd_r2, sd_r3, sd_r4, sd_r5, sd_r6, sd_r7, sd_r8, sd_cm_0, sd_cm_1, sd_cm_2, sd_cm_3, sd_av, sd_s, sd_e, Nat.reduceEqDiff, Nat.reduceAdd, reduceIte]; intro z; exact absurd (show (1 : Fin 5) = 0 by grind) (by decide))
    have k0 := hC 0 (sd_e 1) (by omega) (by
      intro i hi
      have ci : i = 0 ∨ i = 1 ∨ i = 2 := by omega
      rcases ci with rfl | rfl | rfl <;> (simp only [sd_r1, sd_r2, sd_r3, sd_r4, sd_r5, sd_r6, sd_r7, sd_r8, sd_cm_0, sd_cm_1, sd_cm_2, sd_cm_3, sd_av, sd_s, sd_e, Nat.reduceEqDiff, Nat.reduceAdd, reduceIte, b00, b10, b20] <;> grind))
    have k1 := hC 1 (fun i => if i = 0 then B 0 1 else if i = 1 then B 1 1 else 0) (by omega) (by
      intro i hi
      have ci : i = 0 ∨ i = 1 ∨ i = 2 := by omega
      rcases ci with rfl | rfl | rfl <;> (simp only [sd_r1, sd_r2, sd_r3, sd_r4, sd_r5, sd_r6, sd_r7, sd_r8, sd_cm_0, sd_cm_1, sd_cm_2, sd_cm_3, sd_av, sd_s, sd_e, Nat.reduceEqDiff, Nat.reduceAdd, reduceIte, b21] <;> grind))
    have k2 := hC 2 (fun i => if i = 0 then B 0 2 + B 2 2 * B 1 2 else if i = 2 then B 2 2 else 0) (by omega) (by
      intro i hi
      have ci : i = 0 ∨ i = 1 ∨ i = 2 := by omega
      rcases ci with rfl | rfl | rfl <;> (simp only [sd_r1, sd_r2, sd_r3, sd_r4, sd_r5, sd_r6, sd_r7, sd_r8, sd_cm_0, sd_cm_1, sd_cm_2, sd_cm_3, sd_av, sd_s, sd_e, Nat.reduceEqDiff, Nat.reduceAdd, reduceIte, b00, b10, b20] <;> grind))
    generalize B 0 1 = c0 at k1
    generalize B 1 1 = c1 at k1
    generalize B 2 2 = d at k2
    generalize B 0 2 + d * B 1 2 = b at k2
    have sAC := sd_sim_t s sC
    have e00 : C 0 0 = 0 := k0 0 (by omega)
    have e10 : C 1 0 = 1 := k0 1 (by omega)
    have e20 : C 2 0 = 0 := k0 2 (by omega)
    have e01 : C 0 1 = c0 := k1 0 (by omega)
    have e11 : C 1 1 = c1 := k1 1 (by omega)
    have e21 : C 2 1 = 0 := k1 2 (by omega)
    have e02 : C 0 2 = b := k2 0 (by omega)
    have e12 : C 1 2 = 0 := k2 1 (by omega)
    have e22 : C 2 2 = d := k2 2 (by omega)
    have hb : b = 0 := by
      have q := k C oC sAC (sd_e 2)
      simp only [sd_dt, sd_det, sd_D4, sd_D3, sd_D2, sd_r1, sd_r2, sd_r3, sd_r4, sd_r5, sd_r6, sd_r7, sd_r8, sd_cm_0, sd_cm_1, sd_cm_2, sd_cm_3, sd_av, sd_s, sd_e, Nat.reduceEqDiff, Nat.reduceAdd, reduceIte, e00, e10, e20, e01, e11, e21, e02, e12, e22] at q
      have q2 : b * b = 0 := by grind
      rcases sd_m0 _ _ q2 with z | z <;> exact z
    have hd : d * d = c1 * d + c0 := by
      have q := k C oC sAC (fun i => if i = 0 then 1 else if i = 2 then 1 else 0)
      simp only [sd_dt, sd_det, sd_D4, sd_D3, sd_D2, sd_r1, sd_r2, sd_r3, sd_r4, sd_r5, sd_r6, sd_r7, sd_r8, sd_cm_0, sd_cm_1, sd_cm_2, sd_cm_3, sd_av, sd_s, sd_e, Nat.reduceEqDiff, Nat.reduceAdd, reduceIte, e00, e10, e20, e01, e11, e21, e02, e12, e22, hb] at q
      grind
    refine ⟨c0, c1, d, hd, ?_⟩
    have e : C = sd_f21 c0 c1 d := by
      apply sd_ok_e oC (sd_cl_ok 3 _)
      intro i j hi hj
      rw [sd_cl_v hi hj]
      have ci : i = 0 ∨ i = 1 ∨ i = 2 := by omega
      have cj : j = 0 ∨ j = 1 ∨ j = 2 := by omega
      rcases cj with rfl | rfl | rfl <;> rcases ci with rfl | rfl | rfl <;>
        simp only [sd_r1, sd_r2, sd_r3, sd_r4, sd_r5, sd_r6, sd_r7, sd_r8, sd_cm_0, sd_cm_1, sd_cm_2, sd_cm_3, sd_av, sd_s, sd_e, Nat.reduceEqDiff, Nat.reduceAdd, reduceIte, e00, e10, e20, e01, e11, e21, e02, e12, e22, hb]
    rw [← e]
    exact sAC
  · exact Or.inl ⟨_, sd_sc3 a h⟩
/-- the case of a vector with three different images, n = 4 -/
theorem sd_class4a {A : sd_M} (hc : ¬ sd_Cy 4 A) (h : sd_S2 A) : ∃ c0 c1 c2 d, d * d * d = c2 * d * d + c1 * d + c0 ∧ sd_sim 4 A (sd_f31 c0 c1 c2 d) := by
  obtain ⟨B, o, s, h0, h1⟩ := h
  have k : ∀ (D : sd_M), sd_ok 4 D → sd_sim 4 A D → ∀ v : Nat → Fin 5, sd_dt 4 (sd_cm v (sd_av 4 D v) (sd_av 4 D (sd_av 4 D v)) (sd_av 4 D (sd_av 4 D (sd_av 4 D v)))) = 0 := by
    intro D oD sD v
    apply Classical.byContradiction
    intro hd
    exact hc (sd_Cy_t sD (sd_kry4 oD v hd))
  have b00 : B 0 0 = 0 := h0 0 (by omega)
  have b10 : B 1 0 = 1 := h0 1 (by omega)
  have b20 : B 2 0 = 0 := h0 2 (by omega)
  have b30 : B 3 0 = 0 := h0 3 (by omega)
  have b01 : B 0 1 = 0 := h1 0 (by omega)
  have b11 : B 1 1 = 0 := h1 1 (by omega)
  have b21 : B 2 1 = 1 := h1 2 (by omega)
  have b31 : B 3 1 = 0 := h1 3 (by omega)
  have b32 : B 3 2 = 0 := by
    have q := k B o s (sd_e 0)
    simp only [sd_dt, sd_det, sd_D4, sd_D3, sd_D2, sd_r1, sd_r2, sd_r3, sd_r4, sd_r5, sd_r6, sd_r7, sd_r8, sd_cm_0, sd_cm_1, sd_cm_2, sd_cm_3, sd_av, sd_s, sd_e, Nat.reduceEqDiff, Nat.reduceAdd, reduceIte, b00, b10, b20, b30, b01, b11, b21, b31] at q
    grind
  obtain ⟨C, oC, sC, hC⟩ := sd_bc (by omega) (by omega) o (sd_cm (sd_e 0) (sd_e 1) (sd_e 2) (fun i => if i = 0 then - (B 1 3 + B 3 3 * B 2 3) else if i = 1 then - B 2 3 else if i = 3 then 1 else 0)) (by
    simp only [sd_dt, sd_det, sd_D4, sd_D3, sd_D2, sd_r1, sd_r2, sd_r3, sd_r4, sd_r5, sd_r6, sd_r7, sd_r8, sd_cm_0, sd_cm_1, sd_cm_2, sd_cm_3, sd_av, sd_s, sd_e, Nat.reduceEqDiff, Nat.reduceAdd, reduceIte]; intro z; exact absurd (show (1 : Fin 5) = 0 by grind) (by decide))
  have k0 := hC 0 (sd_e 1) (by omega) (by
    intro i hi
    have ci : i = 0 ∨ i = 1 ∨ i = 2 ∨ i = 3 := by omega
    rcases ci with rfl | rfl | rfl | rfl <;> (simp only [sd_r1, sd_r2, sd_r3, sd_r4, sd_r5, sd_r6, sd_r7, sd_r8, sd_cm_0, sd_cm_1, sd_cm_2, sd_cm_3, sd_av, sd_s, sd_e, Nat.reduceEqDiff, Nat.reduceAdd, reduceIte, b00, b10, b20, b30] <;> grind))
  have k1 := hC 1 (sd_e 2) (by omega) (by
    intro i hi
    have ci : i = 0 ∨ i = 1 ∨ i = 2 ∨ i = 3 := by omega
    rcases ci with rfl | rfl | rfl | rfl <;> (simp only [sd_r1, sd_r2, sd_r3, sd_r4, sd_r5, sd_r6, sd_r7, sd_r8, sd_cm_0, sd_cm_1, sd_cm_2, sd_cm_3, sd_av, sd_s, sd_e, Nat.reduceEqDiff, Nat.reduceAdd, reduceIte, b01, b11, b21, b31] <;> grind))
  have k2 := hC 2 (fun i => if i = 0 then B 0 2 else if i = 1 then B 1 2 else if i = 2 then B 2 2 else 0) (by omega) (by
    intro i hi
    have ci : i = 0 ∨ i = 1 ∨ i = 2 ∨ i = 3 := by omega
    rcases ci with rfl | rfl | rfl | rfl <;> (simp only [sd_r1, sd_r2, sd_r3, sd_r4, sd_r5, sd_r6, sd_r7, sd_r8, sd_cm_0, sd_cm_1, sd_cm_2, sd_cm_3, sd_av, sd_s, sd_e, Nat.reduceEqDiff, Nat.reduceAdd, reduceIte, b32] <;> grind))
  have k3 := hC 3 (fun i => if i = 0 then B 0 3 + B 3 3 * (B 1 3 + B 3 3 * B 2 3) else if i = 3 then B 3 3 else 0) (by omega) (by
    intro i hi
    have ci : i = 0 ∨ i = 1 ∨ i = 2 ∨ i = 3 := by omega
    rcases ci with rfl | rfl | rfl | rfl <;> (simp only [sd_r1, sd_r2, sd_r3, sd_r4, sd_r5, sd_r6, sd_r7, sd_r8, sd_cm_0, sd_cm_1, sd_cm_2, sd_cm_3, sd_av, sd_s, sd_e, Nat.reduceEqDiff, Nat.reduceAdd, reduceIte, b00, b10, b20, b30, b01, b11, b21, b31] <;> grind))
  generalize B 0 2 = c0 at k2
  generalize B 1 2 = c1 at k2
  generalize B 2 2 = c2 at k2
  generalize B 3 3 = d at k3
  generalize B 0 3 + d * (B 1 3 + d * B 2 3) = b at k3
  have sAC := sd_sim_t s sC
  have e00 : C 0 0 = 0 := k0 0 (by omega)
  have e10 : C 1 0 = 1 := k0 1 (by omega)
  have e20 : C 2 0 = 0 := k0 2 (by omega)
  have e30 : C 3 0 = 0 := k0 3 (by omega)
  have e01 : C 0 1 = 0 := k1 0 (by omega)
  have e11 : C 1 1 = 0 := k1 1 (by omega)
  have e21 : C 2 1 = 1 := k1 2 (by omega)
  have e31 : C 3 1 = 0 := k1 3 (by omega)
  have e02 : C 0 2 = c0 := k2 0 (by omega)
  have e12 : C 1 2 = c1 := k2 1 (by omega)
  have e22 : C 2 2 = c2 := k2 2 (by omega)
  have e32 : C 3 2 = 0 := k2 3 (by omega)
  have e03 : C 0 3 = b := k3 0 (by omega)
  have e13 : C 1 3 = 0 := k3 1 (by omega)
  have e23 : C 2 3 = 0 := k3 2 (by omega)
  have e33 : C 3 3 = d := k3 3 (by omega)
  have hb : b = 0 := by
    have q := k C oC sAC (sd_e 3)
    simp only [sd_dt, sd_det, sd_D4, sd_D3, sd_D2, sd_r1, sd_r2, sd_r3, sd_r4, sd_r5, sd_r6, sd_r7, sd_r8, sd_cm_0, sd_cm_1, sd_cm_2, sd_cm_3, sd_av, sd_s, sd_e, Nat.reduceEqDiff, Nat.reduceAdd, reduceIte, e00, e10, e20, e30, e01, e11, e21, e31, e02, e12, e22, e32, e03, e13, e23, e33] at q
    have q2 : b * (b * b) = 0 := by grind
    rcases sd_m0 _ _ q2 with z | z
    · exact z
    · rcases sd_m0 _ _ z with z | z <;> exact z
  have hd : d * d * d = c2 * d * d + c1 * d + c0 := by
    have q := k C oC sAC (fun i => if i = 0 then 1 else if i = 3 then 1 else 0)
    simp only [sd_dt, sd_det, sd_D4, sd_D3, sd_D2, sd_r1, sd_r2, sd_r3, sd_r4, sd_r5, sd_r6, sd_r7, sd_r8, sd_cm_0, sd_cm_1, sd_cm_2, sd_cm_3, sd_av, sd_s, sd_e, Nat.reduceEqDiff, Nat.reduceAdd, reduceIte, e00, e10, e20, e30, e01, e11, e21, e31, e02, e12, e22, e32, e03, e13, e23, e33, hb] at q
    clear hC k0 k1 k2 k3 k h0 h1 hc e00 e10 e20 e30 e01 e11 e21 e31 e02 e12 e22 e32 e03 e13 e23 e33
    grind
  refine ⟨c0, c1, c2, d, hd, ?_⟩
  have e : C = sd_f31 c0 c1 c2 d := by
    apply sd_ok_e oC (sd_cl_ok 4 _)
    intro i j hi hj
    rw [sd_cl_v hi hj]
    have ci : i = 0 ∨ i = 1 ∨ i = 2 ∨ i = 3 := by omega
    have cj : j = 0 ∨ j = 1 ∨ j = 2 ∨ j = 3 := by omega
    rcases cj with rfl | rfl | rfl | rfl <;> rcases ci with rfl | rfl | rfl | rfl <;>
      simp only [sd_r1, sd_r2, sd_r3, sd_r4, sd_r5, sd_r6, sd_r7, sd_r8, sd_cm_0, sd_cm_1, sd_cm_2, sd_cm_3, sd_av, sd_s, sd_e, Nat.reduceEqDiff, Nat.reduceAdd, reduceIte, e00, e10, e20, e30, e01, e11, e21, e31, e02, e12, e22, e32, e03, e13, e23, e33, hb]
  rw [← e]
  exact sAC
/-- two companions of two rows, n = 4 -/
theorem sd_class4b {A B : sd_M} (o : sd_ok 4 B) (s : sd_sim 4 A B) (k : ∀ (D : sd_M), sd_ok 4 D → sd_sim 4 A D → ∀ v x : Nat → Fin 5, sd_dt 4 (sd_cm v (sd_av 4 D v) (sd_av 4 D (sd_av 4 D v)) x) = 0)
    (h0 : ∀ i, i < 4 → B i 0 = sd_e 1 i) (b21 : B 2 1 = 0) (b31 : B 3 1 = 0) (u : Nat → Fin 5) (hu : sd_dt 4 (sd_cm (sd_e 0) (sd_e 1) u (sd_av 4 B u)) ≠ 0) : ∃ c0 c1, sd_sim 4 A (sd_f22 c0 c1) := by
  have b00 : B 0 0 = 0 := h0 0 (by omega)
  have b10 : B 1 0 = 1 := h0 1 (by omega)
  have b20 : B 2 0 = 0 := h0 2 (by omega)
  have b30 : B 3 0 = 0 := h0 3 (by omega)
  obtain ⟨C, oC, sC, hC⟩ := sd_bc (by omega) (by omega) o _ hu
  have k0 := hC 0 (sd_e 1) (by omega) (by
    intro i hi
    have ci : i = 0 ∨ i = 1 ∨ i = 2 ∨ i = 3 := by omega
    rcases ci with rfl | rfl | rfl | rfl <;> (simp only [sd_r1, sd_r2, sd_r3, sd_r4, sd_r5, sd_r6, sd_r7, sd_r8, sd_cm_0, sd_cm_1, sd_cm_2, sd_cm_3, sd_av, sd_s, sd_e, Nat.reduceEqDiff, Nat.reduceAdd, reduceIte, b00, b10, b20, b30] <;> grind))
  have k1 := hC 1 (fun i => if i = 0 then B 0 1 else if i = 1 then B 1 1 else 0) (by omega) (by
    intro i hi
    have ci : i = 0 ∨ i = 1 ∨ i = 2 ∨ i = 3 := by omega
    rcases ci with rfl | rfl | rfl | rfl <;> (simp only [sd_r1, sd_r2, sd_r3, sd_r4, sd_r5, sd_r6, sd_r7, sd_r8, sd_cm_0, sd_cm_1, sd_cm_2, sd_cm_3, sd_av, sd_s, sd_e, Nat.reduceEqDiff, Nat.reduceAdd, reduceIte, b21, b31] <;> grind))
  have k2 := hC 2 (sd_e 3) (by omega) (by
    intro i hi
    rw [sd_s_e (by omega : 3 < 4)]; rfl)
  generalize B 0 1 = c0 at k1
  generalize B 1 1 = c1 at k1
  have sAC := sd_sim_t s sC
  have e00 : C 0 0 = 0 := k0 0 (by omega)
  have e10 : C 1 0 = 1 := k0 1 (by omega)
  have e20 : C 2 0 = 0 := k0 2 (by omega)
  have e30 : C 3 0 = 0 := k0 3 (by omega)
  have e01 : C 0 1 = c0 := k1 0 (by omega)
  have e11 : C 1 1 = c1 := k1 1 (by omega)
  have e21 : C 2 1 = 0 := k1 2 (by omega)
  have e31 : C 3 1 = 0 := k1 3 (by omega)
  have e02 : C 0 2 = 0 := k2 0 (by omega)
  have e12 : C 1 2 = 0 := k2 1 (by omega)
  have e22 : C 2 2 = 0 := k2 2 (by omega)
  have e32 : C 3 2 = 1 := k2 3 (by omega)
  have e03 : C 0 3 = 0 := by
    have q := k C oC sAC (sd_e 2) (sd_e 1)
    simp only [sd_dt, sd_det, sd_D4, sd_D3, sd_D2, sd_r1, sd_r2, sd_r3, sd_r4, sd_r5, sd_r6, sd_r7, sd_r8, sd_cm_0, sd_cm_1, sd_cm_2, sd_cm_3, sd_av, sd_s, sd_e, Nat.reduceEqDiff, Nat.reduceAdd, reduceIte, e00, e10, e20, e30, e01, e11, e21, e31, e02, e12, e22, e32] at q
    grind
  have e13 : C 1 3 = 0 := by
    have q := k C oC sAC (sd_e 2) (sd_e 0)
    simp only [sd_dt, sd_det, sd_D4, sd_D3, sd_D2, sd_r1, sd_r2, sd_r3, sd_r4, sd_r5, sd_r6, sd_r7, sd_r8, sd_cm_0, sd_cm_1, sd_cm_2, sd_cm_3, sd_av, sd_s, sd_e, Nat.reduceEqDiff, Nat.reduceAdd, reduceIte, e00, e10, e20, e30, e01, e11, e21, e31, e02, e12, e22, e32] at q
    grind
  have e23 : C 2 3 = c0 := by
    have q := k C oC sAC (fun i => if i = 0 then 1 else if i = 2 then 1 else 0) (sd_e 1)
    simp only [sd_dt, sd_det, sd_D4, sd_D3, sd_D2, sd_r1, sd_r2, sd_r3, sd_r4, sd_r5, sd_r6, sd_r7, sd_r8, sd_cm_0, sd_cm_1, sd_cm_2, sd_cm_3, sd_av, sd_s, sd_e, Nat.reduceEqDiff, Nat.reduceAdd, reduceIte, e00, e10, e20, e30, e01, e11, e21, e31, e02, e12, e22, e32, e03, e13] at q
    grind
  have e33 : C 3 3 = c1 := by
    have q := k C oC sAC (fun i => if i = 0 then 1 else if i = 2 then 1 else 0) (sd_e 0)
    simp only [sd_dt, sd_det, sd_D4, sd_D3, sd_D2, sd_r1, sd_r2, sd_r3, sd_r4, sd_r5, sd_r6, sd_r7, sd_r8, sd_cm_0, sd_cm_1, sd_cm_2, sd_cm_3, sd_av, sd_s, sd_e, Nat.reduceEqDiff, Nat.reduceAdd, reduceIte, e00, e10, e20, e30, e01, e11, e21, e31, e02, e12, e22, e32, e03, e13] at q
    grind
  refine ⟨c0, c1, ?_⟩
  have e : C = sd_f22 c0 c1 := by
    apply sd_ok_e oC (sd_cl_ok 4 _)
    intro i j hi hj
    rw [sd_cl_v hi hj]
    have ci : i = 0 ∨ i = 1 ∨ i = 2 ∨ i = 3 := by omega
    have cj : j = 0 ∨ j = 1 ∨ j = 2 ∨ j = 3 := by omega
    rcases cj with rfl | rfl | rfl | rfl <;> rcases ci with rfl | rfl | rfl | rfl <;>
      simp only [sd_r1, sd_r2, sd_r3, sd_r4, sd_r5, sd_r6, sd_r7, sd_r8, sd_cm_0, sd_cm_1, sd_cm_2, sd_cm_3, sd_av, sd_s, sd_e, Nat.reduceEqDiff, Nat.reduceAdd, reduceIte, e00, e10, e20, e30, e01, e11, e21, e31, e02, e12, e22, e32, e03, e13, e23, e33]
  rw [← e]
  exact sAC
theorem sd_class4c {A B : sd_M} (o : sd_ok 4 B) (s : sd_sim 4 A B) (k : ∀ (D : sd_M), sd_ok 4 D → sd_sim 4 A D → ∀ v x : Nat → Fin 5, sd_dt 4 (sd_cm v (sd_av 4 D v) (sd_av 4 D (sd_av 4 D v)) x) = 0)
    (h0 : ∀ i, i < 4 → B i 0 = sd_e 1 i) (b21 : B 2 1 = 0) (b31 : B 3 1 = 0) (b32 : B 3 2 = 0) (b23 : B 2 3 = 0) (b33 : B 3 3 = B 2 2) : ∃ c0 c1 d, d * d = c1 * d + c0 ∧ sd_sim 4 A (sd_f211 c0 c1 d) := by
  have b00 : B 0 0 = 0 := h0 0 (by omega)
  have b10 : B 1 0 = 1 := h0 1 (by omega)
  have b20 : B 2 0 = 0 := h0 2 (by omega)
  have b30 : B 3 0 = 0 := h0 3 (by omega)
  obtain ⟨C, oC, sC, hC⟩ := sd_bc (by omega) (by omega) o (sd_cm (sd_e 0) (sd_e 1) (fun i => if i = 0 then - B 1 2 else if i = 2 then 1 else 0) (fun i => if i = 0 then - B 1 3 else if i = 3 then 1 else 0)) (by
    simp only [sd_dt, sd_det, sd_D4, sd_D3, sd_D2, sd_r1, sd_r2, sd_r3, sd_r4, sd_r5, sd_r6, sd_r7, sd_r8, sd_cm_0, sd_cm_1, sd_cm_2, sd_cm_3, sd_av, sd_s, sd_e, Nat.reduceEqDiff, Nat.reduceAdd, reduceIte]; intro z; exact absurd (show (1 : Fin 5) = 0 by grind) (by decide))
  have k0 := hC 0 (sd_e 1) (by omega) (by
    intro i hi
    have ci : i = 0 ∨ i = 1 ∨ i = 2 ∨ i = 3 := by omega
    rcases ci with rfl | rfl | rfl | rfl <;> (simp only [sd_r1, sd_r2, sd_r3, sd_r4, sd_r5, sd_r6, sd_r7, sd_r8, sd_cm_0, sd_cm_1, sd_cm_2, sd_cm_3, sd_av, sd_s, sd_e, Nat.reduceEqDiff, Nat.reduceAdd, reduceIte, b00, b10, b20, b30] <;> grind))
  have k1 := hC 1 (fun i => if i = 0 then B 0 1 else if i = 1 then B 1 1 else 0) (by omega) (by
    intro i hi
    have ci : i = 0 ∨ i = 1 ∨ i = 2 ∨ i = 3 := by omega
    rcases ci with rfl | rfl | rfl | rfl <;> (simp only [sd_r1, sd_r2, sd_r3, sd_r4, sd_r5, sd_r6, sd_r7, sd_r8, sd_cm_0, sd_cm_1, sd_cm_2, sd_cm_3, sd_av, sd_s, sd_e, Nat.reduceEqDiff, Nat.reduceAdd, reduceIte, b21, b31] <;> grind))
  have k2 := hC 2 (fun i => if i = 0 then B 0 2 + B 2 2 * B 1 2 else if i = 2 then B 2 2 else 0) (by omega) (by
    intro i hi
    have ci : i = 0 ∨ i = 1 ∨ i = 2 ∨ i = 3 := by omega
    rcases ci with rfl | rfl | rfl | rfl <;> (simp only [sd_r1, sd_r2, sd_r3, sd_r4, sd_r5, sd_r6, sd_r7, sd_r8, sd_cm_0, sd_cm_1, sd_cm_2, sd_cm_3, sd_av, sd_s, sd_e, Nat.reduceEqDiff, Nat.reduceAdd, reduceIte, b00, b10, b20, b30, b32] <;> grind))
  have k3 := hC 3 (fun i => if i = 0 then B 0 3 + B 2 2 * B 1 3 else if i = 3 then B 2 2 else 0) (by omega) (by
    intro i hi
    have ci : i = 0 ∨ i = 1 ∨ i = 2 ∨ i = 3 := by omega
    rcases ci with rfl | rfl | rfl | rfl <;> (simp only [sd_r1, sd_r2, sd_r3, sd_r4, sd_r5, sd_r6, sd_r7, sd_r8, sd_cm_0, sd_cm_1, sd_cm_2, sd_cm_3, sd_av, sd_s, sd_e, Nat.reduceEqDiff, Nat.reduceAdd, reduceIte, b00, b10, b20, b30, b23, b33] <;> grind))
  generalize B 0 1 = c0 at k1
  generalize B 1 1 = c1 at k1
  generalize B 2 2 = d at k2 k3
  generalize B 0 2 + d * B 1 2 = b at k2
  generalize B 0 3 + d * B 1 3 = b' at k3
  have sAC := sd_sim_t s sC
  have e00 : C 0 0 = 0 := k0 0 (by omega)
  have e10 : C 1 0 = 1 := k0 1 (by omega)
  have e20 : C 2 0 = 0 := k0 2 (by omega)
  have e30 : C 3 0 = 0 := k0 3 (by omega)
  have e01 : C 0 1 = c0 := k1 0 (by omega)
  have e11 : C 1 1 = c1 := k1 1 (by omega)
  have e21 : C 2 1 = 0 := k1 2 (by omega)
  have e31 : C 3 1 = 0 := k1 3 (by omega)
  have e02 : C 0 2 = b := k2 0 (by omega)
  have e12 : C 1 2 = 0 := k2 1 (by omega)
  have e22 : C 2 2 = d := k2 2 (by omega)
  have e32 : C 3 2 = 0 := k2 3 (by omega)
  have e03 : C 0 3 = b' := k3 0 (by omega)
  have e13 : C 1 3 = 0 := k3 1 (by omega)
  have e23 : C 2 3 = 0 := k3 2 (by omega)
  have e33 : C 3 3 = d := k3 3 (by omega)
  have hb : b = 0 := by
    have q := k C oC sAC (sd_e 2) (sd_e 3)
    simp only [sd_dt, sd_det, sd_D4, sd_D3, sd_D2, sd_r1, sd_r2, sd_r3, sd_r4, sd_r5, sd_r6, sd_r7, sd_r8, sd_cm_0, sd_cm_1, sd_cm_2, sd_cm_3, sd_av, sd_s, sd_e, Nat.reduceEqDiff, Nat.reduceAdd, reduceIte, e00, e10, e20, e30, e01, e11, e21, e31, e02, e12, e22, e32, e03, e13, e23, e33] at q
    have q2 : b * b = 0 := by grind
    rcases sd_m0 _ _ q2 with z | z <;> exact z
  have hb' : b' = 0 := by
    have q := k C oC sAC (sd_e 3) (sd_e 2)
    simp only [sd_dt, sd_det, sd_D4, sd_D3, sd_D2, sd_r1, sd_r2, sd_r3, sd_r4, sd_r5, sd_r6, sd_r7, sd_r8, sd_cm_0, sd_cm_1, sd_cm_2, sd_cm_3, sd_av, sd_s, sd_e, Nat.reduceEqDiff, Nat.reduceAdd, reduceIte, e00, e10, e20, e30, e01, e11, e21, e31, e02, e12, e22, e32, e03, e13, e23, e33] at q
    have q2 : b' * b' = 0 := by grind
    rcases sd_m0 _ _ q2 with z | z <;> exact z
  have hd : d * d = c1 * d + c0 := by
    have q := k C oC sAC (fun i => if i = 0 then 1 else if i = 2 then 1 else 0) (sd_e 3)
    simp only [sd_dt, sd_det, sd_D4, sd_D3, sd_D2, sd_r1, sd_r2, sd_r3, sd_r4, sd_r5, sd_r6, sd_r7, sd_r8, sd_cm_0, sd_cm_1, sd_cm_2, sd_cm_3, sd_av, sd_s, sd_e, Nat.reduceEqDiff, Nat.reduceAdd, reduceIte, e00, e10, e20, e30, e01, e11, e21, e31, e02, e12, e22, e32, e03, e13, e23, e33, hb, hb'] at q
    grind
  refine ⟨c0, c1, d, hd, ?_⟩
  have e : C = sd_f211 c0 c1 d := by
    apply sd_ok_e oC (sd_cl_ok 4 _)
    intro i j hi hj
    rw [sd_cl_v hi hj]
    have ci : i = 0 ∨ i = 1 ∨ i = 2 ∨ i = 3 := by omega
    have cj : j = 0 ∨ j = 1 ∨ j = 2 ∨ j = 3 := by omega
    rcases cj with rfl | rfl | rfl | rfl <;> rcases ci with rfl | rfl | rfl | rfl <;>
      simp only [sd_r1, sd_r2, sd_r3, sd_r4, sd_r5, sd_r6, sd_r7, sd_r8, sd_cm_0, sd_cm_1, sd_cm_2, sd_cm_3, sd_av, sd_s, sd_e, Nat.reduceEqDiff, Nat.reduceAdd, reduceIte, e00, e10, e20, e30, e01, e11, e21, e31, e02, e12, e22, e32, e03, e13, e23, e33, hb, hb']
  rw [← e]
  exact sAC
theorem sd_class4 {A : sd_M} (a : sd_ok 4 A) : (∃ c, A = sd_ms c (sd_I 4)) ∨ sd_Cy 4 A ∨ (∃ c0 c1 c2 d, d * d * d = c2 * d * d + c1 * d + c0 ∧ sd_sim 4 A (sd_f31 c0 c1 c2 d)) ∨ (∃ c0 c1, sd_sim 4 A (sd_f22 c0 c1)) ∨ ∃ c0 c1 d, d * d = c1 * d + c0 ∧ sd_sim 4 A (sd_f211 c0 c1 d) := by
  by_cases hc : sd_Cy 4 A
  · exact Or.inr (Or.inl hc)
  by_cases h2 : sd_S2 A
  · exact Or.inr (Or.inr (Or.inl (sd_class4a hc h2)))
  by_cases h : sd_S1 4 A
  · have k : ∀ (D : sd_M), sd_ok 4 D → sd_sim 4 A D → ∀ v x : Nat → Fin 5, sd_dt 4 (sd_cm v (sd_av 4 D v) (sd_av 4 D (sd_av 4 D v)) x) = 0 := by
      intro D oD sD v x
      apply Classical.byContradiction
      intro hd
      exact h2 (sd_S2_t sD (sd_s2_4 oD v x hd))
    obtain ⟨B, o, s, h0⟩ := h
    have b00 : B 0 0 = 0 := h0 0 (by omega)
    have b10 : B 1 0 = 1 := h0 1 (by omega)
    have b20 : B 2 0 = 0 := h0 2 (by omega)
    have b30 : B 3 0 = 0 := h0 3 (by omega)
    have b21 : B 2 1 = 0 := by
      have q := k B o s (sd_e 0) (sd_e 3)
      simp only [sd_dt, sd_det, sd_D4, sd_D3, sd_D2, sd_r1, sd_r2, sd_r3, sd_r4, sd_r5, sd_r6, sd_r7, sd_r8, sd_cm_0, sd_cm_1, sd_cm_2, sd_cm_3, sd_av, sd_s, sd_e, Nat.reduceEqDiff, Nat.reduceAdd, reduceIte, b00, b10, b20, b30] at q
      grind
    have b31 : B 3 1 = 0 := by
      have q := k B o s (sd_e 0) (sd_e 2)
      simp only [sd_dt, sd_det, sd_D4, sd_D3, sd_D2, sd_r1, sd_r2, sd_r3, sd_r4, sd_r5, sd_r6, sd_r7, sd_r8, sd_cm_0, sd_cm_1, sd_cm_2, sd_cm_3, sd_av, sd_s, sd_e, Nat.reduceEqDiff, Nat.reduceAdd, reduceIte, b00, b10, b20, b30] at q
      grind
    by_cases q1 : B 3 2 = 0
    · by_cases q2 : B 2 3 = 0
      · by_cases q3 : B 3 3 = B 2 2
        · exact Or.inr (Or.inr (Or.inr (Or.inr (sd_class4c o s k h0 b21 b31 q1 q2 q3))))
        · refine Or.inr (Or.inr (Or.inr (Or.inl (sd_class4b o s k h0 b21 b31 (fun i => if i = 2 then 1 else if i = 3 then 1 else 0) ?_))))
          simp only [sd_dt, sd_det, sd_D4, sd_D3, sd_D2, sd_r1, sd_r2, sd_r3, sd_r4, sd_r5, sd_r6, sd_r7, sd_r8, sd_cm_0, sd_cm_1, sd_cm_2, sd_cm_3, sd_av, sd_s, sd_e, Nat.reduceEqDiff, Nat.reduceAdd, reduceIte, q1, q2]
          intro z
          exact q3 (by grind)
      · refine Or.inr (Or.inr (Or.inr (Or.inl (sd_class4b o s k h0 b21 b31 (sd_e 3) ?_))))
        simp only [sd_dt, sd_det, sd_D4, sd_D3, sd_D2, sd_r1, sd_r2, sd_r3, sd_r4, sd_r5, sd_r6, sd_r7, sd_r8, sd_cm_0, sd_cm_1, sd_cm_2, sd_cm_3, sd_av, sd_s, sd_e, Nat.reduceEqDiff, Nat.reduceAdd, reduceIte]
        intro z
        exact q2 (by grind)
    · refine Or.inr (Or.inr (Or.inr (Or.inl (sd_class4b o s k h0 b21 b31 (sd_e 2) ?_))))
      simp only [sd_dt, sd_det, sd_D4, sd_D3, sd_D2, sd_r1, sd_r2, sd_r3, sd_r4, sd_r5, sd_r6, sd_r7, sd_r8, sd_cm_0, sd_cm_1, sd_cm_2, sd_cm_3, sd_av, sd_s, sd_e, Nat.reduceEqDiff, Nat.reduceAdd, reduceIte]
      intro z
      exact q1 (by grind)
  · exact Or.inl ⟨_, sd_sc4 a h⟩
end
section
/-! ===== the minors of x I - A and their common divisors ===== -/
/-- x I - A -/
def sd_xm (A : sd_M) (i j : Nat) : sd_P := fun e => if e = 0 then - A i j else if e = 1 then (if i = j then 1 else 0) else 0
/-- A as constants -/
def sd_km (A : sd_M) (i j : Nat) : sd_P := sd_pc (A i j)

theorem sd_gs_e (n : Nat) (f : Nat → sd_P) (e : Nat) : @sd_gs sd_P sd_R n f e = sd_s n (fun l => f l e) := by
  induction n with
  | zero => show sd_pc 0 e = 0; unfold sd_pc; split <;> rfl
  | succ n ih =>
    show @sd_gs sd_P sd_R n f e + f n e = _
    rw [ih]; rfl

theorem sd_xm_sim {n : Nat} {A C P Q : sd_M} (oA : sd_ok n A) (oC : sd_ok n C) (e2 : sd_x n Q P = sd_I n) (h : sd_x n A P = sd_x n P C) (i j : Nat) (hi : i < n) (hj : j < n) :
    sd_xm C i j = @sd_gs sd_P sd_R n (fun l => sd_pm (sd_pc (Q i l)) (@sd_gs sd_P sd_R n (fun t => sd_pm (sd_pc (P t j)) (sd_xm A l t)))) := by
  funext e
  rw [sd_gs_e]
  have e1 : (fun l => sd_pm (sd_pc (Q i l)) (@sd_gs sd_P sd_R n (fun t => sd_pm (sd_pc (P t j)) (sd_xm A l t))) e) = fun l => Q i l * sd_s n (fun t => P t j * sd_xm A l t e) := by
    funext l
    rw [sd_pm_c]
    show Q i l * @sd_gs sd_P sd_R n (fun t => sd_pm (sd_pc (P t j)) (sd_xm A l t)) e = _
    rw [sd_gs_e]
    congr 1
    apply sd_s_c
    intro t _
    rw [sd_pm_c]
  rw [e1]
  by_cases z0 : e = 0
  · have f1 : (fun l => Q i l * sd_s n (fun t => P t j * sd_xm A l t e)) = fun l => (-1) * (Q i l * sd_m n A P l j) := by
      funext l
      have : sd_s n (fun t => P t j * sd_xm A l t e) = (-1) * sd_m n A P l j := by
        unfold sd_m
        rw [← sd_s_ml]
        apply sd_s_c
        intro t _
        have : sd_xm A l t e = - A l t := if_pos z0
        rw [this]; grind
      rw [this]; grind
    rw [f1, sd_s_ml]
    have f2 : sd_s n (fun l => Q i l * sd_m n A P l j) = sd_x n Q (sd_x n A P) i j := by
      rw [sd_x_v hi hj]
      apply sd_s_c
      intro l hl
      rw [sd_x_v hl hj]
    rw [f2, ← sd_sim_q' oC e2 h]
    have : sd_xm C i j e = - C i j := if_pos z0
    rw [this]; grind
  · by_cases z1 : e = 1
    · have f1 : sd_s n (fun l => Q i l * sd_s n (fun t => P t j * sd_xm A l t e)) = sd_x n Q P i j := by
        rw [sd_x_v hi hj]
        apply sd_s_c
        intro l hl
        congr 1
        refine (sd_s_1 l hl _ ?_).trans ?_
        · intro t _ ht
          have : sd_xm A l t e = 0 := by
            unfold sd_xm
            rw [if_neg z0, if_pos z1, if_neg (fun z => ht z.symm)]
          rw [this]; grind
        · have : sd_xm A l l e = 1 := by
            unfold sd_xm
            rw [if_neg z0, if_pos z1, if_pos rfl]
          rw [this]; grind
      rw [f1, e2, sd_I_v hi hj]
      unfold sd_xm
      rw [if_neg z0, if_pos z1]
    · have f1 : (fun l => Q i l * sd_s n (fun t => P t j * sd_xm A l t e)) = fun _ => 0 := by
        funext l
        have : sd_s n (fun t => P t j * sd_xm A l t e) = 0 := by
          refine (sd_s_c (g := fun _ => 0) ?_).trans (sd_s_0 n)
          intro t _
          have : sd_xm A l t e = 0 := by unfold sd_xm; rw [if_neg z0, if_neg z1]
          rw [this]; grind
        rw [this]; grind
      rw [f1, sd_s_0]
      unfold sd_xm
      rw [if_neg z0, if_neg z1]

/-- common divisors of the minors of x I - A are the same for matrices that are alike -/
theorem sd_am_sim {n k : Nat} (hk : 1 ≤ k) {A C : sd_M} (oA : sd_ok n A) (oC : sd_ok n C) (h : sd_sim n A C) (g : sd_P) (ha : @sd_am sd_P sd_R k n (sd_xm A) (sd_dv g)) : @sd_am sd_P sd_R k n (sd_xm C) (sd_dv g) := by
  obtain ⟨P, Q, _, _, _, e2, e3⟩ := h
  have h1 := @sd_am_c sd_P sd_R (sd_dv g) sd_fs (sd_dv_0 g) (fun a b x y => sd_dv_a x y) (fun c a x y => sd_dv_m' y x) k n hk (fun i j => sd_pc (P i j)) (sd_xm A)
    (fun i j => @sd_gs sd_P sd_R n (fun t => sd_pm (sd_pc (P t j)) (sd_xm A i t))) (fun i l _ _ => sd_fs_pc _) (fun i j _ _ => rfl) ha
  exact @sd_am_r sd_P sd_R (sd_dv g) sd_fs (sd_dv_0 g) (fun a b x y => sd_dv_a x y) (fun c a x y => sd_dv_m' y x) k n hk (fun i j => sd_pc (Q i j)) _ (sd_xm C) (fun i l _ _ => sd_fs_pc _)
    (fun i j hi hj => sd_xm_sim oA oC e2 e3 i j hi hj) h1

/-- D is the monic greatest common divisor of the minors with k rows, of degree d -/
def sd_gcd (n k : Nat) (A : sd_M) (D : sd_P) : Prop := (∃ d, sd_mo D d) ∧ @sd_am sd_P sd_R k n (sd_xm A) (sd_dv D) ∧ ∀ g, @sd_am sd_P sd_R k n (sd_xm A) (sd_dv g) → sd_dv g D
theorem sd_gcd_u {n k : Nat} (hk : 1 ≤ k) {A C : sd_M} (oA : sd_ok n A) (oC : sd_ok n C) (h : sd_sim n A C) {D E : sd_P} (hD : sd_gcd n k A D) (hE : sd_gcd n k C E) : D = E := by
  obtain ⟨⟨d, md⟩, aD, uD⟩ := hD
  obtain ⟨⟨e, me⟩, aE, uE⟩ := hE
  exact sd_dv_eq md me (uE D (sd_am_sim hk oA oC h D aD)) (uD E (sd_am_sim hk oC oA (sd_sim_s oA oC h) E aE))

/-- the characteristic polynomial -/
def sd_cp (n : Nat) (A : sd_M) : sd_P := @sd_det sd_P sd_R n (sd_xm A) (fun t => t) (fun t => t)
end
section
/-! ===== numbers in base five as polynomials ===== -/
def sd_dg (N : Nat) : sd_P := fun j => Fin.ofNat 5 (N / 5 ^ j)
def sd_cs (a : Fin 5) (p : sd_P) : sd_P := fun j => match j with
  | 0 => a
  | j + 1 => p j
theorem sd_dg_tl (N : Nat) : sd_tl (sd_dg N) = sd_dg (N / 5) := by
  funext j
  show Fin.ofNat 5 (N / 5 ^ (j + 1)) = Fin.ofNat 5 (N / 5 / 5 ^ j)
  rw [Nat.div_div_eq_div_mul, Nat.pow_succ, Nat.mul_comm]
theorem sd_dg_h (N : Nat) : sd_dg N 0 = Fin.ofNat 5 N := by
  show Fin.ofNat 5 (N / 5 ^ 0) = _
  rw [Nat.pow_zero, Nat.div_one]
theorem sd_cs_tl (p : sd_P) : p = sd_cs (p 0) (sd_tl p) := by
  funext j
  cases j with
  | zero => rfl
  | succ j => rfl
theorem sd_dg_cs (N : Nat) : sd_dg N = sd_cs (Fin.ofNat 5 N) (sd_dg (N / 5)) := by
  rw [sd_cs_tl (sd_dg N), sd_dg_h, sd_dg_tl]
theorem sd_dg_0 (j : Nat) : sd_dg 0 j = 0 := by
  show Fin.ofNat 5 (0 / 5 ^ j) = 0
  rw [Nat.zero_div]; rfl
theorem sd_dg_z : sd_dg 0 = sd_pc 0 := by
  funext j; rw [sd_dg_0]; unfold sd_pc; split <;> rfl
theorem sd_dg_dl {N d : Nat} (h : N < 5 ^ d) : sd_dl (sd_dg N) d := by
  intro j hj
  show Fin.ofNat 5 (N / 5 ^ j) = 0
  have : N < 5 ^ j := Nat.lt_of_lt_of_le h (Nat.pow_le_pow_right (by omega) hj)
  rw [Nat.div_eq_of_lt this]; rfl
theorem sd_X_m (p : sd_P) : sd_pm sd_X p = sd_cs 0 p := by
  funext j
  cases j with
  | zero => show (0 : Fin 5) * p 0 = 0; grind
  | succ j =>
    show (0 : Fin 5) * p (j + 1) + sd_mc j (sd_tl sd_X) p = p j
    have e : sd_tl sd_X = sd_pc 1 := by
      funext i
      show (if i + 1 = 1 then (1 : Fin 5) else 0) = if i = 0 then 1 else 0
      by_cases h : i = 0
      · rw [if_pos h, if_pos (by omega)]
      · rw [if_neg h, if_neg (by omega)]
    rw [e, sd_mc_c]; grind
theorem sd_cs_x (a : Fin 5) (p : sd_P) : sd_cs a p = sd_pa (sd_pc a) (sd_pm sd_X p) := by
  rw [sd_X_m]
  funext j
  cases j with
  | zero => show a = a + 0; grind
  | succ j => show p j = 0 + p j; grind
theorem sd_of_val (x : Fin 5) : Fin.ofNat 5 x.val = x := by
  apply Fin.ext; show x.val % 5 = x.val; have := x.isLt; omega
theorem sd_of_mod (N : Nat) : Fin.ofNat 5 (N % 5) = Fin.ofNat 5 N := by
  apply Fin.ext; show N % 5 % 5 = N % 5; omega
theorem sd_of_v (N : Nat) : (Fin.ofNat 5 N).val = N % 5 := rfl
theorem sd_of_lin (a c b : Nat) : Fin.ofNat 5 ((a % 5 + c * (b % 5)) % 5) = Fin.ofNat 5 a + Fin.ofNat 5 c * Fin.ofNat 5 b := by
  apply Fin.ext
  show ((a % 5 + c * (b % 5)) % 5) % 5 = (a % 5 + (c % 5) * (b % 5) % 5) % 5
  rw [Nat.mod_mod, Nat.add_mod, Nat.mul_mod, Nat.mod_mod, Nat.mod_mod, Nat.add_mod (a % 5) ((c % 5) * (b % 5) % 5), Nat.mod_mod, Nat.mod_mod]

/-- the number of a polynomial -/
def sd_nm : Nat → sd_P → Nat
  | 0, _ => 0
  | d + 1, p => (p 0).val + 5 * sd_nm d (sd_tl p)
theorem sd_nm_lt : ∀ (d : Nat) (p : sd_P), sd_nm d p < 5 ^ d := by
  intro d
  induction d with
  | zero => intro p; exact (by decide : 0 < 1)
  | succ d ih =>
    intro p
    have h := ih (sd_tl p)
    have h0 := (p 0).isLt
    show (p 0).val + 5 * sd_nm d (sd_tl p) < 5 ^ (d + 1)
    rw [Nat.pow_succ]; omega
theorem sd_nm_dg : ∀ (d N : Nat), N < 5 ^ d → sd_nm d (sd_dg N) = N := by
  intro d
  induction d with
  | zero => intro N h; show 0 = N; rw [Nat.pow_zero] at h; omega
  | succ d ih =>
    intro N h
    rw [Nat.pow_succ] at h
    show (sd_dg N 0).val + 5 * sd_nm d (sd_tl (sd_dg N)) = N
    rw [sd_dg_tl, ih (N / 5) (by omega), sd_dg_h, sd_of_v]; omega
theorem sd_dg_nm : ∀ (d : Nat) (p : sd_P) (j : Nat), j < d → sd_dg (sd_nm d p) j = p j := by
  intro d
  induction d with
  | zero => intro p j h; omega
  | succ d ih =>
    intro p j h
    have h0 := (p 0).isLt
    have e1 : (sd_nm (d + 1) p) / 5 = sd_nm d (sd_tl p) := by
      show ((p 0).val + 5 * sd_nm d (sd_tl p)) / 5 = _
      omega
    cases j with
    | zero =>
      rw [sd_dg_h]
      apply Fin.ext
      show ((p 0).val + 5 * sd_nm d (sd_tl p)) % 5 = (p 0).val
      omega
    | succ j =>
      have : sd_dg (sd_nm (d + 1) p) (j + 1) = sd_tl (sd_dg (sd_nm (d + 1) p)) j := rfl
      rw [this, sd_dg_tl, e1, ih (sd_tl p) j (by omega)]; rfl
theorem sd_nm_c : ∀ (d : Nat) (p q : sd_P), (∀ j, j < d → p j = q j) → sd_nm d p = sd_nm d q := by
  intro d
  induction d with
  | zero => intro p q _; rfl
  | succ d ih =>
    intro p q h
    show (p 0).val + 5 * sd_nm d (sd_tl p) = (q 0).val + 5 * sd_nm d (sd_tl q)
    rw [h 0 (by omega), ih (sd_tl p) (sd_tl q) (fun j hj => h (j + 1) (by omega))]
theorem sd_dg_nm' {d : Nat} {p : sd_P} (h : sd_dl p d) : sd_dg (sd_nm d p) = p := by
  funext j
  by_cases hj : j < d
  · exact sd_dg_nm d p j hj
  · rw [sd_dg_dl (sd_nm_lt d p) j (by omega), h j (by omega)]
theorem sd_dg_inj {N M : Nat} (h : sd_dg N = sd_dg M) : N = M := by
  have hN : N < 5 ^ (N + M + 1) := Nat.lt_of_lt_of_le (Nat.lt_pow_self (by omega : 1 < 5)) (Nat.pow_le_pow_right (by omega) (by omega))
  have hM : M < 5 ^ (N + M + 1) := Nat.lt_of_lt_of_le (Nat.lt_pow_self (by omega : 1 < 5)) (Nat.pow_le_pow_right (by omega) (by omega))
  rw [← sd_nm_dg _ N hN, h, sd_nm_dg _ M hM]
theorem sd_nm_e {d e : Nat} {p : sd_P} (h : sd_dl p d) (he : d ≤ e) : sd_nm e p = sd_nm d p := by
  apply sd_dg_inj
  rw [sd_dg_nm' h, sd_dg_nm' (sd_dl_le h he)]

/-- digit by digit a + c b, d digits -/
def sd_lN : Nat → Nat → Nat → Nat → Nat
  | 0, _, _, _ => 0
  | d + 1, a, c, b => (a % 5 + c * (b % 5)) % 5 + 5 * sd_lN d (a / 5) c (b / 5)
theorem sd_lN_lt : ∀ d a c b : Nat, sd_lN d a c b < 5 ^ d := by
  intro d
  induction d with
  | zero => intro a c b; exact (by decide : 0 < 1)
  | succ d ih =>
    intro a c b
    have h := ih (a / 5) c (b / 5)
    show (a % 5 + c * (b % 5)) % 5 + 5 * sd_lN d (a / 5) c (b / 5) < 5 ^ (d + 1)
    rw [Nat.pow_succ]
    have := Nat.mod_lt (a % 5 + c * (b % 5)) (by omega : 5 > 0)
    omega
theorem sd_lN_dg : ∀ (d a c b j : Nat), j < d → sd_dg (sd_lN d a c b) j = sd_dg a j + Fin.ofNat 5 c * sd_dg b j := by
  intro d
  induction d with
  | zero => intro a c b j h; omega
  | succ d ih =>
    intro a c b j h
    have m := Nat.mod_lt (a % 5 + c * (b % 5)) (by omega : 5 > 0)
    have e1 : sd_lN (d + 1) a c b / 5 = sd_lN d (a / 5) c (b / 5) := by
      show ((a % 5 + c * (b % 5)) % 5 + 5 * sd_lN d (a / 5) c (b / 5)) / 5 = _
      omega
    cases j with
    | zero =>
      rw [sd_dg_h, sd_dg_h, sd_dg_h, ← sd_of_lin, ← sd_of_mod (sd_lN (d + 1) a c b)]
      congr 1
      show ((a % 5 + c * (b % 5)) % 5 + 5 * sd_lN d (a / 5) c (b / 5)) % 5 = _
      omega
    | succ j =>
      have f : ∀ N : Nat, sd_dg N (j + 1) = sd_dg (N / 5) j := fun N => by rw [← sd_dg_tl]; rfl
      rw [f, f, f, e1, ih _ _ _ _ (by omega)]
/-- the product, d digits; e digits of a -/
def sd_mN (d : Nat) : Nat → Nat → Nat → Nat
  | 0, _, _ => 0
  | e + 1, a, b => sd_lN d (5 * sd_mN d e (a / 5) b) (a % 5) b
theorem sd_5_dg (N j : Nat) : sd_dg (5 * N) j = sd_pm sd_X (sd_dg N) j := by
  rw [sd_X_m, sd_dg_cs]
  cases j with
  | zero => apply Fin.ext; show (5 * N) % 5 = 0; omega
  | succ j => show sd_dg (5 * N / 5) j = sd_dg N j; congr 2; omega
theorem sd_pm_cs (a : Fin 5) (p q : sd_P) : sd_pm (sd_cs a p) q = sd_pa (fun j => a * q j) (sd_cs 0 (sd_pm p q)) := by
  funext j
  cases j with
  | zero => show a * q 0 = a * q 0 + 0; grind
  | succ j => rfl
theorem sd_mN_dg (d : Nat) : ∀ (e a b j : Nat), a < 5 ^ e → j < d → sd_dg (sd_mN d e a b) j = sd_pm (sd_dg a) (sd_dg b) j := by
  intro e
  induction e with
  | zero =>
    intro a b j h hj
    have : a = 0 := by rw [Nat.pow_zero] at h; omega
    subst this
    show sd_dg 0 j = _
    rw [sd_dg_z, sd_pm_0]
  | succ e ih =>
    intro a b j h hj
    show sd_dg (sd_lN d (5 * sd_mN d e (a / 5) b) (a % 5) b) j = _
    rw [Nat.pow_succ] at h
    rw [sd_lN_dg _ _ _ _ _ hj, sd_of_mod, sd_dg_cs a, sd_pm_cs, sd_5_dg, sd_X_m]
    show _ = Fin.ofNat 5 a * sd_dg b j + sd_cs 0 (sd_pm (sd_dg (a / 5)) (sd_dg b)) j
    cases j with
    | zero => show (0 : Fin 5) + _ = _ + 0; grind
    | succ j =>
      show sd_dg (sd_mN d e (a / 5) b) j + _ = _ + sd_pm (sd_dg (a / 5)) (sd_dg b) j
      rw [ih (a / 5) b j (by omega) (by omega)]; grind
theorem sd_mN_lt (d e a b : Nat) : sd_mN d e a b < 5 ^ d := by
  cases e with
  | zero => exact Nat.pow_pos (by omega)
  | succ e => exact sd_lN_lt d _ _ _
/-- quotient and remainder by a monic f of degree d; e digits of m -/
def sd_dN (d f : Nat) : Nat → Nat → Nat × Nat
  | 0, _ => (0, 0)
  | e + 1, m =>
    (5 * (sd_dN d f e (m / 5)).1 + (5 * (sd_dN d f e (m / 5)).2 + m % 5) / 5 ^ d,
     sd_lN d (5 * (sd_dN d f e (m / 5)).2 + m % 5) (5 - (5 * (sd_dN d f e (m / 5)).2 + m % 5) / 5 ^ d) f)
theorem sd_ring1 {R : Type} [Lean.Grind.CommRing R] (l x Q F a r : R) : (l + x * Q) * F + (a + x * r - l * F) = a + x * (Q * F + r) := by grind
theorem sd_5sub : ∀ l : Nat, l < 5 → ∀ a b : Fin 5, a + Fin.ofNat 5 (5 - l) * b = a + - (Fin.ofNat 5 l * b) := by decide
theorem sd_dg_mo {f d : Nat} (hf : f / 5 ^ d = 1) : sd_mo (sd_dg f) d := by
  have h5 : 0 < 5 ^ d := Nat.pow_pos (by omega)
  refine ⟨?_, sd_dg_dl ?_⟩
  · show Fin.ofNat 5 (f / 5 ^ d) = 1
    rw [hf]; rfl
  · rw [Nat.pow_succ]
    have := Nat.div_add_mod f (5 ^ d)
    have := Nat.mod_lt f h5
    rw [hf] at *
    omega
theorem sd_dN_s (d f : Nat) (hf : f / 5 ^ d = 1) : ∀ e m : Nat, m < 5 ^ e → (sd_dN d f e m).2 < 5 ^ d ∧ sd_dg m = sd_pa (sd_pm (sd_dg (sd_dN d f e m).1) (sd_dg f)) (sd_dg (sd_dN d f e m).2) := by
  intro e
  have h5 : 0 < 5 ^ d := Nat.pow_pos (by omega)
  induction e with
  | zero =>
    intro m h
    have : m = 0 := by rw [Nat.pow_zero] at h; omega
    subst this
    refine ⟨h5, ?_⟩
    show sd_dg 0 = sd_pa (sd_pm (sd_dg 0) (sd_dg f)) (sd_dg 0)
    rw [sd_dg_z, sd_pm_0]
    funext j; unfold sd_pa sd_pc; split <;> rfl
  | succ e ih =>
    intro m h
    rw [Nat.pow_succ] at h
    obtain ⟨h1, h2⟩ := ih (m / 5) (by omega)
    generalize hq : (sd_dN d f e (m / 5)).1 = q at h2
    generalize hr : (sd_dN d f e (m / 5)).2 = r at h1 h2
    have e1 : (sd_dN d f (e + 1) m).1 = 5 * q + (5 * r + m % 5) / 5 ^ d := by rw [← hq, ← hr]; rfl
    have e2 : (sd_dN d f (e + 1) m).2 = sd_lN d (5 * r + m % 5) (5 - (5 * r + m % 5) / 5 ^ d) f := by rw [← hr]; rfl
    rw [e1, e2]
    refine ⟨sd_lN_lt d _ _ _, ?_⟩
    have hlt : 5 * r + m % 5 < 5 ^ d * 5 := by omega
    have hl : (5 * r + m % 5) / 5 ^ d < 5 := Nat.div_lt_of_lt_mul hlt
    generalize hr' : 5 * r + m % 5 = r' at hl hlt
    generalize hl' : r' / 5 ^ d = l at hl
    have d1 : sd_dg (5 * q + l) = sd_pa (sd_pc (Fin.ofNat 5 l)) (sd_pm sd_X (sd_dg q)) := by
      rw [← sd_cs_x, sd_dg_cs]
      have a1 : (5 * q + l) / 5 = q := by omega
      have a2 : Fin.ofNat 5 (5 * q + l) = Fin.ofNat 5 l := by apply Fin.ext; show (5 * q + l) % 5 = l % 5; omega
      rw [a1, a2]
    have d2 : sd_dg r' = sd_pa (sd_pc (Fin.ofNat 5 m)) (sd_pm sd_X (sd_dg r)) := by
      rw [← sd_cs_x, sd_dg_cs]
      have a1 : r' / 5 = r := by omega
      have a2 : Fin.ofNat 5 r' = Fin.ofNat 5 m := by apply Fin.ext; show r' % 5 = m % 5; omega
      rw [a1, a2]
    have d3 : sd_dg (sd_lN d r' (5 - l) f) = sd_pa (sd_dg r') (sd_pn (sd_pm (sd_pc (Fin.ofNat 5 l)) (sd_dg f))) := by
      funext j
      show _ = sd_dg r' j + - (sd_pm (sd_pc (Fin.ofNat 5 l)) (sd_dg f) j)
      rw [sd_pm_c]
      show _ = sd_dg r' j + - (Fin.ofNat 5 l * sd_dg f j)
      by_cases hj : j < d
      · rw [sd_lN_dg _ _ _ _ _ hj, sd_5sub l hl]
      · rw [sd_dg_dl (sd_lN_lt d _ _ _) j (by omega)]
        by_cases hjd : j = d
        · have : sd_dg r' j = Fin.ofNat 5 l := by rw [hjd, ← hl']; rfl
          rw [this, hjd, (sd_dg_mo hf).1]; grind
        · have z1 : sd_dg r' j = 0 := sd_dg_dl (d := d + 1) (by rw [Nat.pow_succ]; exact hlt) j (by omega)
          rw [z1, (sd_dg_mo hf).2 j (by omega)]; grind
    rw [d1, d3, d2]
    have d4 : sd_dg m = sd_pa (sd_pc (Fin.ofNat 5 m)) (sd_pm sd_X (sd_dg (m / 5))) := by rw [← sd_cs_x, ← sd_dg_cs]
    rw [d4, h2]
    exact (@sd_ring1 sd_P sd_R (sd_pc (Fin.ofNat 5 l)) sd_X (sd_dg q) (sd_dg f) (sd_pc (Fin.ofNat 5 m)) (sd_dg r)).symm
/-- division is unique -/
theorem sd_ring2 {R : Type} [Lean.Grind.CommRing R] (q f r q' r' : R) (h : q * f + r = q' * f + r') : (q + - q') * f = r' + - r := by grind
theorem sd_div_u {f q r q' r' : sd_P} {d : Nat} (hf : sd_mo f d) (hq : sd_fs q) (hq' : sd_fs q') (hr : sd_dl r d) (hr' : sd_dl r' d) (h : sd_pa (sd_pm q f) r = sd_pa (sd_pm q' f) r') : q = q' ∧ r = r' := by
  have e : sd_pm (sd_pa q (sd_pn q')) f = sd_pa r' (sd_pn r) := @sd_ring2 sd_P sd_R q f r q' r' h
  obtain ⟨D, hD⟩ := sd_fs_pa hq (sd_fs_pn hq')
  have z : ∀ j, sd_pa q (sd_pn q') j = 0 := by
    rcases sd_exd D hD with z | ⟨t, ht, hd⟩
    · exact z
    · exfalso
      have e1 := sd_top t hd hf.2
      rw [e, hf.1] at e1
      have e2 : sd_pa r' (sd_pn r) (t + d) = 0 := sd_dl_pa hr' (sd_dl_pn hr) (t + d) (by omega)
      rw [e2] at e1
      apply ht
      grind
  have eq : q = q' := by
    funext j
    have := z j
    unfold sd_pa sd_pn at this
    grind
  refine ⟨eq, ?_⟩
  rw [eq] at h
  funext j
  have := congrFun h j
  unfold sd_pa at this
  grind
end
section
/-! ===== the characteristic polynomial ===== -/
theorem sd_D2_dl {u v : Nat → sd_P} (hu : ∀ j, sd_dl (u j) 2) (hv : ∀ j, sd_dl (v j) 2) (p q : Nat) : sd_dl (@sd_D2 sd_P sd_R u v p q) 3 :=
  sd_dl_pa (sd_dl_pm 1 (hu p) (hv q)) (sd_dl_pn (sd_dl_pm 1 (hu q) (hv p)))
theorem sd_D3_dl {u v w : Nat → sd_P} (hu : ∀ j, sd_dl (u j) 2) (hv : ∀ j, sd_dl (v j) 2) (hw : ∀ j, sd_dl (w j) 2) (p q r : Nat) : sd_dl (@sd_D3 sd_P sd_R u v w p q r) 4 :=
  sd_dl_pa (sd_dl_pa (sd_dl_pm 1 (hu p) (sd_D2_dl hv hw q r)) (sd_dl_pn (sd_dl_pm 1 (hu q) (sd_D2_dl hv hw p r)))) (sd_dl_pm 1 (hu r) (sd_D2_dl hv hw p q))
theorem sd_D4_dl {t u v w : Nat → sd_P} (ht : ∀ j, sd_dl (t j) 2) (hu : ∀ j, sd_dl (u j) 2) (hv : ∀ j, sd_dl (v j) 2) (hw : ∀ j, sd_dl (w j) 2) (p q r s : Nat) : sd_dl (@sd_D4 sd_P sd_R t u v w p q r s) 5 :=
  sd_dl_pa (sd_dl_pa (sd_dl_pa (sd_dl_pm 1 (ht p) (sd_D3_dl hu hv hw q r s)) (sd_dl_pn (sd_dl_pm 1 (ht q) (sd_D3_dl hu hv hw p r s)))) (sd_dl_pm 1 (ht r) (sd_D3_dl hu hv hw p q s))) (sd_dl_pn (sd_dl_pm 1 (ht s) (sd_D3_dl hu hv hw p q r)))
theorem sd_sub_f (a b : Fin 5) : a + - b = a - b := by grind
theorem sd_D2_top {u v : Nat → sd_P} (hu : ∀ j, sd_dl (u j) 2) (hv : ∀ j, sd_dl (v j) 2) (p q : Nat) : @sd_D2 sd_P sd_R u v p q 2 = sd_D2 (fun j => u j 1) (fun j => v j 1) p q := by
  show sd_pm (u p) (v q) (1 + 1) + - (sd_pm (u q) (v p) (1 + 1)) = _
  rw [sd_top 1 (hu p) (hv q), sd_top 1 (hu q) (hv p), sd_sub_f]; rfl
theorem sd_D3_top {u v w : Nat → sd_P} (hu : ∀ j, sd_dl (u j) 2) (hv : ∀ j, sd_dl (v j) 2) (hw : ∀ j, sd_dl (w j) 2) (p q r : Nat) : @sd_D3 sd_P sd_R u v w p q r 3 = sd_D3 (fun j => u j 1) (fun j => v j 1) (fun j => w j 1) p q r := by
  show sd_pm (u p) (@sd_D2 sd_P sd_R v w q r) (1 + 2) + - (sd_pm (u q) (@sd_D2 sd_P sd_R v w p r) (1 + 2)) + sd_pm (u r) (@sd_D2 sd_P sd_R v w p q) (1 + 2) = _
  rw [sd_top 1 (hu p) (sd_D2_dl hv hw q r), sd_top 1 (hu q) (sd_D2_dl hv hw p r), sd_top 1 (hu r) (sd_D2_dl hv hw p q), sd_D2_top hv hw, sd_D2_top hv hw, sd_D2_top hv hw, sd_sub_f]; rfl
theorem sd_D4_top {t u v w : Nat → sd_P} (ht : ∀ j, sd_dl (t j) 2) (hu : ∀ j, sd_dl (u j) 2) (hv : ∀ j, sd_dl (v j) 2) (hw : ∀ j, sd_dl (w j) 2) (p q r s : Nat) : @sd_D4 sd_P sd_R t u v w p q r s 4 = sd_D4 (fun j => t j 1) (fun j => u j 1) (fun j => v j 1) (fun j => w j 1) p q r s := by
  show sd_pm (t p) (@sd_D3 sd_P sd_R u v w q r s) (1 + 3) + - (sd_pm (t q) (@sd_D3 sd_P sd_R u v w p r s) (1 + 3)) + sd_pm (t r) (@sd_D3 sd_P sd_R u v w p q s) (1 + 3) + - (sd_pm (t s) (@sd_D3 sd_P sd_R u v w p q r) (1 + 3)) = _
  rw [sd_top 1 (ht p) (sd_D3_dl hu hv hw q r s), sd_top 1 (ht q) (sd_D3_dl hu hv hw p r s), sd_top 1 (ht r) (sd_D3_dl hu hv hw p q s), sd_top 1 (ht s) (sd_D3_dl hu hv hw p q r), sd_D3_top hu hv hw, sd_D3_top hu hv hw, sd_D3_top hu hv hw, sd_D3_top hu hv hw, sd_sub_f, sd_sub_f]; rfl
theorem sd_xm_dl (A : sd_M) (i j : Nat) : sd_dl (sd_xm A i j) 2 := by
  intro e he
  unfold sd_xm
  rw [if_neg (by omega), if_neg (by omega)]
theorem sd_det_dl (A : sd_M) (k : Nat) (a b : Nat → Nat) : sd_dl (@sd_det sd_P sd_R k (sd_xm A) a b) (k + 1) := by
  match k with
  | 0 => exact sd_dl_pc 1
  | 1 => exact sd_xm_dl A _ _
  | 2 => exact sd_D2_dl (sd_xm_dl A _) (sd_xm_dl A _) _ _
  | 3 => exact sd_D3_dl (sd_xm_dl A _) (sd_xm_dl A _) (sd_xm_dl A _) _ _ _
  | 4 => exact sd_D4_dl (sd_xm_dl A _) (sd_xm_dl A _) (sd_xm_dl A _) (sd_xm_dl A _) _ _ _ _
  | k + 5 => exact sd_dl_le (sd_dl_pc 0) (by omega)
theorem sd_det_fs (A : sd_M) (k : Nat) (a b : Nat → Nat) : sd_fs (@sd_det sd_P sd_R k (sd_xm A) a b) := ⟨_, sd_det_dl A k a b⟩
theorem sd_xm_1 (A : sd_M) (i j : Nat) : sd_xm A i j 1 = if i = j then 1 else 0 := rfl
theorem sd_cp_mo {n : Nat} (h1 : 1 ≤ n) (h4 : n ≤ 4) (A : sd_M) : sd_mo (sd_cp n A) n := by
  refine ⟨?_, sd_det_dl A n _ _⟩
  match n, h1, h4 with
  | 1, _, _ => rfl
  | 2, _, _ =>
    refine (sd_D2_top (sd_xm_dl A _) (sd_xm_dl A _) _ _).trans ?_
    simp only [sd_xm_1]; decide
  | 3, _, _ =>
    refine (sd_D3_top (sd_xm_dl A _) (sd_xm_dl A _) (sd_xm_dl A _) _ _ _).trans ?_
    simp only [sd_xm_1]; decide
  | 4, _, _ =>
    refine (sd_D4_top (sd_xm_dl A _) (sd_xm_dl A _) (sd_xm_dl A _) (sd_xm_dl A _) _ _ _ _).trans ?_
    simp only [sd_xm_1]; decide
/-- the constant coefficient of a minor of x I - A, or of A as constants -/
theorem sd_det_0 (m : Nat → Nat → sd_P) (k : Nat) (a b : Nat → Nat) : @sd_det sd_P sd_R k m a b 0 = sd_det k (fun i j => m i j 0) a b := by
  have d2 : ∀ (u v : Nat → sd_P) (p q : Nat), @sd_D2 sd_P sd_R u v p q 0 = sd_D2 (fun j => u j 0) (fun j => v j 0) p q := by
    intro u v p q
    show u p 0 * v q 0 + - (u q 0 * v p 0) = _
    rw [sd_sub_f]; rfl
  have d3 : ∀ (u v w : Nat → sd_P) (p q r : Nat), @sd_D3 sd_P sd_R u v w p q r 0 = sd_D3 (fun j => u j 0) (fun j => v j 0) (fun j => w j 0) p q r := by
    intro u v w p q r
    show u p 0 * @sd_D2 sd_P sd_R v w q r 0 + - (u q 0 * @sd_D2 sd_P sd_R v w p r 0) + u r 0 * @sd_D2 sd_P sd_R v w p q 0 = _
    rw [d2, d2, d2, sd_sub_f]; rfl
  match k with
  | 0 => rfl
  | 1 => rfl
  | 2 => exact d2 _ _ _ _
  | 3 => exact d3 _ _ _ _ _ _
  | 4 =>
    show m (a 0) (b 0) 0 * @sd_D3 sd_P sd_R _ _ _ _ _ _ 0 + - (m (a 0) (b 1) 0 * @sd_D3 sd_P sd_R _ _ _ _ _ _ 0) + m (a 0) (b 2) 0 * @sd_D3 sd_P sd_R _ _ _ _ _ _ 0 + - (m (a 0) (b 3) 0 * @sd_D3 sd_P sd_R _ _ _ _ _ _ 0) = _
    rw [d3, d3, d3, d3, sd_sub_f, sd_sub_f]; rfl
  | k + 5 => rfl
theorem sd_so_id {n : Nat} (h4 : n ≤ 4) (h1 : 1 ≤ n) {a : Nat → Nat} (ha : ∀ t, a t < n) (sa : sd_so n a) : ∀ t, t < n → a t = t := by
  intro t ht
  have h0 := ha 0
  have h1 := ha 1
  have h2 := ha 2
  have h3 := ha 3
  have s0 := sa 0
  have s1 := sa 1
  have s2 := sa 2
  simp only [Nat.zero_add, Nat.reduceAdd] at s0 s1 s2
  have ct : t = 0 ∨ t = 1 ∨ t = 2 ∨ t = 3 := by omega
  rcases ct with rfl | rfl | rfl | rfl <;> omega
theorem sd_det_id {R : Type} [Lean.Grind.CommRing R] {n : Nat} (h4 : n ≤ 4) (m : Nat → Nat → R) {a b : Nat → Nat} (ha : ∀ t, t < n → a t = t) (hb : ∀ t, t < n → b t = t) : sd_det n m a b = sd_det n m (fun t => t) (fun t => t) := by
  match n, h4 with
  | 0, _ => rfl
  | 1, _ => simp only [sd_det, ha 0 (by omega), hb 0 (by omega)]
  | 2, _ => simp only [sd_det, ha 0 (by omega), hb 0 (by omega), ha 1 (by omega), hb 1 (by omega)]
  | 3, _ => simp only [sd_det, ha 0 (by omega), hb 0 (by omega), ha 1 (by omega), hb 1 (by omega), ha 2 (by omega), hb 2 (by omega)]
  | 4, _ => simp only [sd_det, ha 0 (by omega), hb 0 (by omega), ha 1 (by omega), hb 1 (by omega), ha 2 (by omega), hb 2 (by omega), ha 3 (by omega), hb 3 (by omega)]
theorem sd_cp_gcd {n : Nat} (h1 : 1 ≤ n) (h4 : n ≤ 4) (A : sd_M) : sd_gcd n n A (sd_cp n A) := by
  refine ⟨⟨n, sd_cp_mo h1 h4 A⟩, ?_, ?_⟩
  · apply @sd_srt' sd_P sd_R (sd_dv (sd_cp n A)) (sd_dv_0 _) (fun x hx => sd_dv_n hx) n h1 h4
    intro a b ha hb sa sb
    rw [@sd_det_id sd_P sd_R n h4 (sd_xm A) a b (sd_so_id h4 h1 ha sa) (sd_so_id h4 h1 hb sb)]
    exact sd_dv_r _
  · intro g hg
    have := hg (fun t => if t < n then t else 0) (fun t => if t < n then t else 0) (fun t => by split <;> omega) (fun t => by split <;> omega)
    rw [@sd_det_id sd_P sd_R n h4 (sd_xm A) _ _ (fun t ht => if_pos ht) (fun t ht => if_pos ht)] at this
    exact this
theorem sd_cp_sim {n : Nat} (h1 : 1 ≤ n) (h4 : n ≤ 4) {A C : sd_M} (oA : sd_ok n A) (oC : sd_ok n C) (h : sd_sim n A C) : sd_cp n A = sd_cp n C :=
  sd_gcd_u h1 oA oC h (sd_cp_gcd h1 h4 A) (sd_cp_gcd h1 h4 C)
/-- x I - C over a ring -/
def sd_xg {R : Type} [Lean.Grind.CommRing R] (x : R) (C : Nat → Nat → R) (i j : Nat) : R := (if i = j then x else 0) - C i j
theorem sd_xm_g (A : sd_M) : sd_xm A = @sd_xg sd_P sd_R sd_X (fun i j => sd_pc (A i j)) := by
  funext i j e
  show _ = (if i = j then sd_X else sd_pc 0) e + - (sd_pc (A i j) e)
  unfold sd_xm sd_pc
  by_cases e0 : e = 0
  · subst e0
    by_cases h : i = j
    · rw [if_pos rfl, if_pos h, if_pos rfl]; show _ = (0 : Fin 5) + _; grind
    · rw [if_pos rfl, if_neg h, if_pos rfl, if_pos rfl]; grind
  · rw [if_neg e0, if_neg e0]
    by_cases h : i = j
    · rw [if_pos h, if_pos h]
      show _ = (if e = 1 then (1 : Fin 5) else 0) + - 0
      split <;> grind
    · rw [if_neg h, if_neg h, if_neg e0]
      split <;> grind
/-- the recurrence for a nearly triangular matrix -/
def sd_hin (H : sd_M) (k : Nat) (p : Nat → sd_P) : Nat → Fin 5 → sd_P → sd_P
  | 0, _, z => z
  | i + 1, c, z => sd_hin H k p i (c * H (i + 1) i) (sd_pa z (fun j => - (c * H (i + 1) i * H i k) * p i j))
def sd_hp (H : sd_M) : Nat → Nat → sd_P
  | 0 => fun _ => sd_pc 1
  | k + 1 => fun i => if i ≤ k then sd_hp H k i else sd_hin H k (sd_hp H k) k 1 (sd_pm (sd_xm H k k) (sd_hp H k k))
theorem sd_hess {R : Type} [Lean.Grind.CommRing R] (x : R) (h : Nat → Nat → R) : sd_det 1 (sd_xg x h) (fun t => t) (fun t => t) = (x - h 0 0) * 1 ∧
    sd_det 2 (sd_xg x h) (fun t => t) (fun t => t) = (x - h 1 1) * ((x - h 0 0) * 1) + - (h 1 0 * h 0 1) * 1 ∧
    (h 2 0 = 0 → sd_det 3 (sd_xg x h) (fun t => t) (fun t => t) = (x - h 2 2) * ((x - h 1 1) * ((x - h 0 0) * 1) + - (h 1 0 * h 0 1) * 1) + - (h 2 1 * h 1 2) * ((x - h 0 0) * 1) + - (h 2 1 * h 1 0 * h 0 2) * 1) ∧
    (h 2 0 = 0 → h 3 0 = 0 → h 3 1 = 0 → sd_det 4 (sd_xg x h) (fun t => t) (fun t => t) = (x - h 3 3) * ((x - h 2 2) * ((x - h 1 1) * ((x - h 0 0) * 1) + - (h 1 0 * h 0 1) * 1) + - (h 2 1 * h 1 2) * ((x - h 0 0) * 1) + - (h 2 1 * h 1 0 * h 0 2) * 1)
      + - (h 3 2 * h 2 3) * ((x - h 1 1) * ((x - h 0 0) * 1) + - (h 1 0 * h 0 1) * 1) + - (h 3 2 * h 2 1 * h 1 3) * ((x - h 0 0) * 1) + - (h 3 2 * h 2 1 * h 1 0 * h 0 3) * 1) := by
  refine ⟨?_, ?_, ?_, ?_⟩
  · simp only [sd_det, sd_xg, reduceIte]; grind
  · simp only [sd_det, sd_xg, sd_D2, Nat.reduceEqDiff, reduceIte]; grind
  · intro h1
    simp only [sd_det, sd_xg, sd_D3, sd_D2, Nat.reduceEqDiff, reduceIte, h1]; grind
  · intro h1 h2 h3
    simp only [sd_det, sd_xg, sd_D4, sd_D3, sd_D2, Nat.reduceEqDiff, reduceIte, h1, h2, h3]; grind
theorem sd_pc_neg_m (c : Fin 5) (p : sd_P) : (fun j => - c * p j) = sd_pm (sd_pn (sd_pc c)) p := by
  rw [← sd_pc_n, sd_pm_c]
theorem sd_hp_cp {n : Nat} (h1 : 1 ≤ n) (h4 : n ≤ 4) (H : sd_M) (hz : ∀ i j, i < n → j + 1 < i → H i j = 0) : sd_hp H n n = sd_cp n H := by
  have hh := @sd_hess sd_P sd_R sd_X (fun i j => sd_pc (H i j))
  have x0 : ∀ k, sd_xm H k k = sd_pa sd_X (sd_pn (sd_pc (H k k))) := by
    intro k
    rw [sd_xm_g]
    have e : (if k = k then sd_X else sd_pc 0) = sd_X := if_pos rfl
    show sd_pa (if k = k then sd_X else sd_pc 0) (sd_pn (sd_pc (H k k))) = sd_pa sd_X (sd_pn (sd_pc (H k k)))
    rw [e]
  have r5 : ∀ x : Fin 5, 1 * x = x := by decide
  unfold sd_cp
  rw [sd_xm_g]
  match n, h1, h4 with
  | 1, _, _ =>
    rw [hh.1]
    simp only [sd_hp, sd_hin, Nat.reduceLeDiff, reduceIte, x0]
    rfl
  | 2, _, _ =>
    rw [hh.2.1]
    simp only [sd_hp, sd_hin, Nat.reduceLeDiff, reduceIte, x0, Nat.le_refl, Nat.zero_add, Nat.reduceAdd, r5, sd_pc_neg_m, sd_pc_m]
    rfl
  | 3, _, _ =>
    have z1 : sd_pc (H 2 0) = sd_pc 0 := by rw [hz 2 0 (by omega) (by omega)]
    rw [hh.2.2.1 z1]
    simp only [sd_hp, sd_hin, Nat.reduceLeDiff, reduceIte, x0, Nat.le_refl, Nat.zero_add, Nat.reduceAdd, r5, sd_pc_neg_m, sd_pc_m]
    rfl
  | 4, _, _ =>
    have z1 : sd_pc (H 2 0) = sd_pc 0 := by rw [hz 2 0 (by omega) (by omega)]
    have z2 : sd_pc (H 3 0) = sd_pc 0 := by rw [hz 3 0 (by omega) (by omega)]
    have z3 : sd_pc (H 3 1) = sd_pc 0 := by rw [hz 3 1 (by omega) (by omega)]
    rw [hh.2.2.2 z1 z2 z3]
    simp only [sd_hp, sd_hin, Nat.reduceLeDiff, reduceIte, x0, Nat.le_refl, Nat.zero_add, Nat.reduceAdd, r5, sd_pc_neg_m, sd_pc_m]
    rfl
end
section
/-! ===== the normal forms: x I - C is equivalent to a diagonal matrix ===== -/
def sd_dd {R : Type} [Lean.Grind.CommRing R] (i j : Nat) : R := if i = j then 1 else 0
def sd_dgm {R : Type} [Lean.Grind.CommRing R] (e : Nat → R) (i j : Nat) : R := e i * sd_dd i j
def sd_pr {R : Type} [Lean.Grind.CommRing R] : Nat → (Nat → R) → R
  | 0, _ => 1
  | k + 1, f => sd_pr k f * f k
theorem sd_dgm_det {R : Type} [Lean.Grind.CommRing R] (k : Nat) (h4 : k ≤ 4) (e : Nat → R) (a b : Nat → Nat) : sd_det k (sd_dgm e) a b = sd_pr k (fun t => e (a t)) * sd_det k sd_dd a b := by
  match k, h4 with
  | 0, _ => simp only [sd_det, sd_pr]; grind
  | 1, _ => simp only [sd_det, sd_pr, sd_dgm]; grind
  | 2, _ => simp only [sd_det, sd_pr, sd_dgm, sd_D2]; grind
  | 3, _ => simp only [sd_det, sd_pr, sd_dgm, sd_D3, sd_D2]; grind
  | 4, _ => simp only [sd_det, sd_pr, sd_dgm, sd_D4, sd_D3, sd_D2]; grind
theorem sd_dd_det {R : Type} [Lean.Grind.CommRing R] (k : Nat) (h4 : k ≤ 4) : sd_det k sd_dd (fun t => t) (fun t => t) = (1 : R) := by
  match k, h4 with
  | 0, _ => rfl
  | 1, _ => rfl
  | 2, _ => simp only [sd_det, sd_dd, sd_D2, Nat.reduceEqDiff, reduceIte]; grind
  | 3, _ => simp only [sd_det, sd_dd, sd_D3, sd_D2, Nat.reduceEqDiff, reduceIte]; grind
  | 4, _ => simp only [sd_det, sd_dd, sd_D4, sd_D3, sd_D2, Nat.reduceEqDiff, reduceIte]; grind
theorem sd_ring3 {R : Type} [Lean.Grind.CommRing R] (a q c r : R) : a * q * (c * r) = a * c * (q * r) := by grind
theorem sd_dv_mul {a b c d : sd_P} (h : sd_dv a b) (h' : sd_dv c d) : sd_dv (sd_pm a c) (sd_pm b d) := by
  obtain ⟨q, hq, rfl⟩ := h
  obtain ⟨r, hr, rfl⟩ := h'
  exact ⟨sd_pm q r, sd_fs_pm hq hr, @sd_ring3 sd_P sd_R a q c r⟩
theorem sd_pr_dv {e f : Nat → sd_P} : ∀ k : Nat, (∀ t, t < k → sd_dv (e t) (f t)) → sd_dv (@sd_pr sd_P sd_R k e) (@sd_pr sd_P sd_R k f) := by
  intro k
  induction k with
  | zero => intro _; exact sd_dv_r _
  | succ k ih =>
    intro h
    exact sd_dv_mul (ih (fun t ht => h t (by omega))) (h k (by omega))
theorem sd_mo_pm {a b : sd_P} {d e : Nat} (ha : sd_mo a d) (hb : sd_mo b e) : sd_mo (sd_pm a b) (d + e) := by
  refine ⟨?_, ?_⟩
  · rw [sd_top d ha.2 hb.2, ha.1, hb.1]; rfl
  · exact sd_dl_pm d ha.2 hb.2
theorem sd_mo_1 : sd_mo (sd_pc 1) 0 := ⟨rfl, sd_dl_pc 1⟩
theorem sd_mo_pr {e : Nat → sd_P} : ∀ k : Nat, (∀ t, t < k → ∃ d, sd_mo (e t) d) → ∃ d, sd_mo (@sd_pr sd_P sd_R k e) d := by
  intro k
  induction k with
  | zero => intro _; exact ⟨0, sd_mo_1⟩
  | succ k ih =>
    intro h
    obtain ⟨d, hd⟩ := ih (fun t ht => h t (by omega))
    obtain ⟨d', hd'⟩ := h k (by omega)
    exact ⟨_, sd_mo_pm hd hd'⟩
theorem sd_so_ge {k : Nat} {a : Nat → Nat} (sa : sd_so k a) : ∀ t, t < k → t ≤ a t := by
  intro t
  induction t with
  | zero => intro _; omega
  | succ t ih =>
    intro h
    have := ih (by omega)
    have := sa t h
    omega
theorem sd_fs_dd (i j : Nat) : sd_fs (@sd_dd sd_P sd_R i j) := by
  show sd_fs (if i = j then sd_pc 1 else sd_pc 0)
  split
  · exact sd_fs_pc 1
  · exact sd_fs_pc 0
theorem sd_D_fs {m : Nat → Nat → sd_P} (hm : ∀ i j, sd_fs (m i j)) (k : Nat) (a b : Nat → Nat) : sd_fs (@sd_det sd_P sd_R k m a b) := by
  have d2 : ∀ (x y p q : Nat), sd_fs (@sd_D2 sd_P sd_R (m x) (m y) p q) := fun x y p q => sd_fs_pa (sd_fs_pm (hm _ _) (hm _ _)) (sd_fs_pn (sd_fs_pm (hm _ _) (hm _ _)))
  have d3 : ∀ (x y z p q r : Nat), sd_fs (@sd_D3 sd_P sd_R (m x) (m y) (m z) p q r) := fun x y z p q r => sd_fs_pa (sd_fs_pa (sd_fs_pm (hm _ _) (d2 _ _ _ _)) (sd_fs_pn (sd_fs_pm (hm _ _) (d2 _ _ _ _)))) (sd_fs_pm (hm _ _) (d2 _ _ _ _))
  match k with
  | 0 => exact sd_fs_pc 1
  | 1 => exact hm _ _
  | 2 => exact d2 _ _ _ _
  | 3 => exact d3 _ _ _ _ _ _
  | 4 => exact sd_fs_pa (sd_fs_pa (sd_fs_pa (sd_fs_pm (hm _ _) (d3 _ _ _ _ _ _)) (sd_fs_pn (sd_fs_pm (hm _ _) (d3 _ _ _ _ _ _)))) (sd_fs_pm (hm _ _) (d3 _ _ _ _ _ _))) (sd_fs_pn (sd_fs_pm (hm _ _) (d3 _ _ _ _ _ _)))
  | k + 5 => exact sd_fs_pc 0
/-- equivalence with a diagonal matrix whose entries divide the next -/
theorem sd_smith {n k : Nat} (h1 : 1 ≤ k) (hk : k ≤ n) (h4 : n ≤ 4) {C : sd_M} (e : Nat → sd_P) (me : ∀ t, t < n → ∃ d, sd_mo (e t) d) (ch : ∀ i j, i ≤ j → j < n → sd_dv (e i) (e j))
    (U V U' V' : Nat → Nat → sd_P) (fU : ∀ i j, sd_fs (U i j)) (fV : ∀ i j, sd_fs (V i j)) (fU' : ∀ i j, sd_fs (U' i j)) (fV' : ∀ i j, sd_fs (V' i j))
    (e1 : ∀ i j, i < n → j < n → sd_xm C i j = @sd_gs sd_P sd_R n (fun l => sd_pm (U i l) (@sd_gs sd_P sd_R n (fun t => sd_pm (V t j) (@sd_dgm sd_P sd_R e l t)))))
    (e2 : ∀ i j, i < n → j < n → @sd_dgm sd_P sd_R e i j = @sd_gs sd_P sd_R n (fun l => sd_pm (U' i l) (@sd_gs sd_P sd_R n (fun t => sd_pm (V' t j) (sd_xm C l t))))) :
    sd_gcd n k C (@sd_pr sd_P sd_R k e) := by
  have tr : ∀ (g : sd_P) (M N U V : Nat → Nat → sd_P), (∀ i j, sd_fs (U i j)) → (∀ i j, sd_fs (V i j)) → (∀ i j, i < n → j < n → N i j = @sd_gs sd_P sd_R n (fun l => sd_pm (U i l) (@sd_gs sd_P sd_R n (fun t => sd_pm (V t j) (M l t))))) →
      @sd_am sd_P sd_R k n M (sd_dv g) → @sd_am sd_P sd_R k n N (sd_dv g) := by
    intro g M N U V fU fV hN ha
    have q1 := @sd_am_c sd_P sd_R (sd_dv g) sd_fs (sd_dv_0 g) (fun a b x y => sd_dv_a x y) (fun c a x y => sd_dv_m' y x) k n h1 V M
      (fun i j => @sd_gs sd_P sd_R n (fun t => sd_pm (V t j) (M i t))) (fun i l _ _ => fV _ _) (fun i j _ _ => rfl) ha
    exact @sd_am_r sd_P sd_R (sd_dv g) sd_fs (sd_dv_0 g) (fun a b x y => sd_dv_a x y) (fun c a x y => sd_dv_m' y x) k n h1 U _ N (fun i l _ _ => fU _ _) hN q1
  refine ⟨sd_mo_pr k (fun t ht => me t (by omega)), ?_, ?_⟩
  · apply tr _ (@sd_dgm sd_P sd_R e) _ U V fU fV e1
    apply @sd_srt' sd_P sd_R _ (sd_dv_0 _) (fun x hx => sd_dv_n hx) k h1 (by omega)
    intro a b ha hb sa sb
    rw [@sd_dgm_det sd_P sd_R k (by omega)]
    refine sd_dv_m (sd_pr_dv k (fun t ht => ?_)) (sd_D_fs sd_fs_dd k a b)
    exact ch t (a t) (sd_so_ge sa t ht) (ha t)
  · intro g hg
    have q := tr g (sd_xm C) (@sd_dgm sd_P sd_R e) U' V' fU' fV' e2 hg (fun t => if t < k then t else 0) (fun t => if t < k then t else 0) (fun t => by split <;> omega) (fun t => by split <;> omega)
    rw [@sd_det_id sd_P sd_R k (by omega) _ _ _ (fun t ht => if_pos ht) (fun t ht => if_pos ht), @sd_dgm_det sd_P sd_R k (by omega), @sd_dd_det sd_P sd_R k (by omega)] at q
    have : sd_pm (@sd_pr sd_P sd_R k e) (sd_pc 1) = @sd_pr sd_P sd_R k e := by rw [sd_pm_cm, sd_pm_1]
    rw [← this]
    exact q
/-- monic polynomials by their lower coefficients -/
def sd_ml : List (Fin 5) → sd_P
  | [] => sd_pc 1
  | a :: l => sd_cs a (sd_ml l)
def sd_nl : List (Fin 5) → Nat
  | [] => 1
  | a :: l => a.val + 5 * sd_nl l
theorem sd_ml_mo : ∀ l : List (Fin 5), sd_mo (sd_ml l) l.length := by
  intro l
  induction l with
  | nil => exact sd_mo_1
  | cons a l ih =>
    refine ⟨ih.1, ?_⟩
    intro j hj
    cases j with
    | zero => simp only [List.length_cons] at hj; omega
    | succ j =>
      simp only [List.length_cons] at hj
      exact ih.2 j (by omega)
theorem sd_nl_dg : ∀ l : List (Fin 5), sd_dg (sd_nl l) = sd_ml l := by
  intro l
  induction l with
  | nil =>
    rw [sd_dg_cs]
    show sd_cs (Fin.ofNat 5 1) (sd_dg (1 / 5)) = sd_pc 1
    have : (1 : Nat) / 5 = 0 := by decide
    rw [this]
    funext j
    cases j with
    | zero => rfl
    | succ j => show sd_dg 0 j = sd_pc 1 (j + 1); rw [sd_dg_0]; rfl
  | cons a l ih =>
    rw [sd_dg_cs]
    have h := a.isLt
    have e1 : sd_nl (a :: l) / 5 = sd_nl l := by show (a.val + 5 * sd_nl l) / 5 = _; omega
    have e2 : Fin.ofNat 5 (sd_nl (a :: l)) = a := by apply Fin.ext; show (a.val + 5 * sd_nl l) % 5 = _; omega
    rw [e1, e2, ih]; rfl
theorem sd_ml_fs (l : List (Fin 5)) : sd_fs (sd_ml l) := ⟨_, (sd_ml_mo l).2⟩
theorem sd_ml_c (a : Fin 5) (l : List (Fin 5)) : sd_ml (a :: l) = sd_pa (sd_pc a) (sd_pm sd_X (sd_ml l)) := sd_cs_x a (sd_ml l)

def sd_q4 {R : Type} [Lean.Grind.CommRing R] (a00 a01 a02 a03 a10 a11 a12 a13 a20 a21 a22 a23 a30 a31 a32 a33 : R) (i j : Nat) : R := match i with
  | 0 => match j with
    | 0 => a00
    | 1 => a01
    | 2 => a02
    | _ => a03
  | 1 => match j with
    | 0 => a10
    | 1 => a11
    | 2 => a12
    | _ => a13
  | 2 => match j with
    | 0 => a20
    | 1 => a21
    | 2 => a22
    | _ => a23
  | _ => match j with
    | 0 => a30
    | 1 => a31
    | 2 => a32
    | _ => a33
def sd_e4 {R : Type} [Lean.Grind.CommRing R] (a b c d : R) (i : Nat) : R := match i with
  | 0 => a
  | 1 => b
  | 2 => c
  | _ => d
theorem sd_q4_fs {a00 a01 a02 a03 a10 a11 a12 a13 a20 a21 a22 a23 a30 a31 a32 a33 : sd_P} (h00 : sd_fs a00) (h01 : sd_fs a01) (h02 : sd_fs a02) (h03 : sd_fs a03) (h10 : sd_fs a10) (h11 : sd_fs a11) (h12 : sd_fs a12) (h13 : sd_fs a13) (h20 : sd_fs a20) (h21 : sd_fs a21) (h22 : sd_fs a22) (h23 : sd_fs a23) (h30 : sd_fs a30) (h31 : sd_fs a31) (h32 : sd_fs a32) (h33 : sd_fs a33) (i j : Nat) : sd_fs (@sd_q4 sd_P sd_R a00 a01 a02 a03 a10 a11 a12 a13 a20 a21 a22 a23 a30 a31 a32 a33 i j) := by
  unfold sd_q4
  split <;> split <;> assumption
def sd_sc (n : Nat) (d : Fin 5) : sd_M := sd_cl n (fun i j => if i = j then d else 0)
theorem sd_xg_c {R : Type} [Lean.Grind.CommRing R] {x : R} {C C' : Nat → Nat → R} {i j : Nat} (h : C i j = C' i j) : sd_xg x C i j = sd_xg x C' i j := by
  unfold sd_xg; rw [h]
def sd_n4 (a b c d : Nat) (i : Nat) : Nat := match i with
  | 0 => a
  | 1 => b
  | 2 => c
  | _ => d
theorem sd_gs_c {n : Nat} {f g : Nat → sd_P} (h : ∀ l, l < n → f l = g l) : @sd_gs sd_P sd_R n f = @sd_gs sd_P sd_R n g := by
  induction n with
  | zero => rfl
  | succ n ih =>
    show sd_pa (@sd_gs sd_P sd_R n f) (f n) = sd_pa (@sd_gs sd_P sd_R n g) (g n)
    rw [ih (fun l hl => h l (by omega)), h n (by omega)]
theorem sd_dv_1 {g : sd_P} (h : sd_fs g) : sd_dv (sd_ml []) g := ⟨g, h, (sd_pm_1 g).symm⟩
theorem sd_ch4 (n : Nat) (h4 : n ≤ 4) {a b c d : sd_P} (h1 : 1 < n → sd_dv a b) (h2 : 2 < n → sd_dv b c) (h3 : 3 < n → sd_dv c d) (i j : Nat) (hij : i ≤ j) (hj : j < n) : sd_dv (@sd_e4 sd_P sd_R a b c d i) (@sd_e4 sd_P sd_R a b c d j) := by
  have cj : j = 0 ∨ j = 1 ∨ j = 2 ∨ j = 3 := by omega
  have ci : i = 0 ∨ i = 1 ∨ i = 2 ∨ i = 3 := by omega
  rcases cj with rfl | rfl | rfl | rfl <;> rcases ci with rfl | rfl | rfl | rfl <;> first
    | omega
    | exact sd_dv_r _
    | exact h1 hj
    | exact h2 hj
    | exact h3 hj
    | exact sd_dv_t (h1 (by omega)) (h2 hj)
    | exact sd_dv_t (h2 (by omega)) (h3 hj)
    | exact sd_dv_t (h1 (by omega)) (sd_dv_t (h2 (by omega)) (h3 hj))
theorem sd_ring_q {R : Type} [Lean.Grind.CommRing R] (x c0 c1 d : R) (h : d * d = c1 * d + c0) : - c0 + x * (- c1 + x * 1) = (- d + x * 1) * ((d - c1) + x * 1) := by grind
theorem sd_ring_c {R : Type} [Lean.Grind.CommRing R] (x c0 c1 c2 d : R) (h : d * d * d = c2 * d * d + c1 * d + c0) : - c0 + x * (- c1 + x * (- c2 + x * 1)) = (- d + x * 1) * ((d * d - c2 * d - c1) + x * ((d - c2) + x * 1)) := by grind
theorem sd_dv_q (c0 c1 d : Fin 5) (h : d * d = c1 * d + c0) : sd_dv (sd_ml [- d]) (sd_ml [- c0, - c1]) := by
  have h' : sd_pm (sd_pc d) (sd_pc d) = sd_pa (sd_pm (sd_pc c1) (sd_pc d)) (sd_pc c0) := by
    rw [← sd_pc_m, h, sd_pc_a, sd_pc_m]
  refine ⟨sd_pa (sd_pa (sd_pc d) (sd_pn (sd_pc c1))) (sd_pm sd_X (sd_pc 1)), sd_fs_pa (sd_fs_pa (sd_fs_pc _) (sd_fs_pn (sd_fs_pc _))) (sd_fs_pm sd_fs_X (sd_fs_pc _)), ?_⟩
  simp only [sd_ml_c, sd_pc_n]
  exact @sd_ring_q sd_P sd_R sd_X (sd_pc c0) (sd_pc c1) (sd_pc d) h'
theorem sd_dv_c (c0 c1 c2 d : Fin 5) (h : d * d * d = c2 * d * d + c1 * d + c0) : sd_dv (sd_ml [- d]) (sd_ml [- c0, - c1, - c2]) := by
  have h' : sd_pm (sd_pm (sd_pc d) (sd_pc d)) (sd_pc d) = sd_pa (sd_pa (sd_pm (sd_pm (sd_pc c2) (sd_pc d)) (sd_pc d)) (sd_pm (sd_pc c1) (sd_pc d))) (sd_pc c0) := by
    simp only [← sd_pc_m, ← sd_pc_a, h]
  refine ⟨sd_pa (sd_pa (sd_pa (sd_pm (sd_pc d) (sd_pc d)) (sd_pn (sd_pm (sd_pc c2) (sd_pc d)))) (sd_pn (sd_pc c1))) (sd_pm sd_X (sd_pa (sd_pa (sd_pc d) (sd_pn (sd_pc c2))) (sd_pm sd_X (sd_pc 1)))),
    sd_fs_pa (sd_fs_pa (sd_fs_pa (sd_fs_pm (sd_fs_pc _) (sd_fs_pc _)) (sd_fs_pn (sd_fs_pm (sd_fs_pc _) (sd_fs_pc _)))) (sd_fs_pn (sd_fs_pc _))) (sd_fs_pm sd_fs_X (sd_fs_pa (sd_fs_pa (sd_fs_pc _) (sd_fs_pn (sd_fs_pc _))) (sd_fs_pm sd_fs_X (sd_fs_pc _)))), ?_⟩
  simp only [sd_ml_c, sd_pc_n]
  exact @sd_ring_c sd_P sd_R sd_X (sd_pc c0) (sd_pc c1) (sd_pc c2) (sd_pc d) h'

theorem sd_sm_c1 {R : Type} [Lean.Grind.CommRing R] (x c0 : R) (i j : Nat) (hi : i < 1) (hj : j < 1) : sd_xg x (sd_q4 c0 0 0 0 0 0 0 0 0 0 0 0 0 0 0 0) i j = sd_gs 1 (fun l => (sd_q4 1 0 0 0 0 0 0 0 0 0 0 0 0 0 0 0) i l * sd_gs 1 (fun t => (sd_q4 1 0 0 0 0 0 0 0 0 0 0 0 0 0 0 0) t j * sd_dgm (sd_e4 (- c0 + x * 1) 1 1 1) l t)) ∧
    sd_dgm (sd_e4 (- c0 + x * 1) 1 1 1) i j = sd_gs 1 (fun l => (sd_q4 1 0 0 0 0 0 0 0 0 0 0 0 0 0 0 0) i l * sd_gs 1 (fun t => (sd_q4 1 0 0 0 0 0 0 0 0 0 0 0 0 0 0 0) t j * sd_xg x (sd_q4 c0 0 0 0 0 0 0 0 0 0 0 0 0 0 0 0) l t)) := by
  constructor
  · have ci : i = 0 := by omega
    have cj : j = 0 := by omega
    rcases ci with rfl <;> rcases cj with rfl <;>
      (simp only [sd_xg, sd_q4, sd_e4, sd_gs, sd_dgm, sd_dd, Nat.reduceEqDiff, reduceIte] <;> grind)
  · have ci : i = 0 := by omega
    have cj : j = 0 := by omega
    rcases ci with rfl <;> rcases cj with rfl <;>
      (simp only [sd_xg, sd_q4, sd_e4, sd_gs, sd_dgm, sd_dd, Nat.reduceEqDiff, reduceIte] <;> grind)
theorem sd_gf_c1 (c0 : Fin 5) (k : Nat) (h1 : 1 ≤ k) (hk : k ≤ 1) : sd_gcd 1 k (sd_comp 1 (sd_e4 c0 0 0 0)) (@sd_pr sd_P sd_R k (fun t => sd_dg (sd_n4 (sd_nl [- c0]) (sd_nl []) (sd_nl []) (sd_nl []) t))) := by
  have ee : (fun t => sd_dg (sd_n4 (sd_nl [- c0]) (sd_nl []) (sd_nl []) (sd_nl []) t)) = @sd_e4 sd_P sd_R (sd_ml [- c0]) (sd_ml []) (sd_ml []) (sd_ml []) := by
    funext t
    unfold sd_n4 sd_e4
    split <;> exact sd_nl_dg _
  have pe : @sd_e4 sd_P sd_R (sd_ml [- c0]) (sd_ml []) (sd_ml []) (sd_ml []) = @sd_e4 sd_P sd_R (sd_pa (sd_pn (sd_pc c0)) (sd_pm sd_X (sd_pc 1))) (sd_pc 1) (sd_pc 1) (sd_pc 1) := by
    simp only [sd_ml_c, sd_pc_n]; rfl
  have cc : ∀ i j, i < 1 → j < 1 → sd_pc ((sd_comp 1 (sd_e4 c0 0 0 0)) i j) = @sd_q4 sd_P sd_R (sd_pc c0) (sd_pc 0) (sd_pc 0) (sd_pc 0) (sd_pc 0) (sd_pc 0) (sd_pc 0) (sd_pc 0) (sd_pc 0) (sd_pc 0) (sd_pc 0) (sd_pc 0) (sd_pc 0) (sd_pc 0) (sd_pc 0) (sd_pc 0) i j := by
    intro i j hi hj
    have ci : i = 0 := by omega
    have cj : j = 0 := by omega
    rcases ci with rfl <;> rcases cj with rfl <;> rfl
  have xx : ∀ i j, i < 1 → j < 1 → sd_xm (sd_comp 1 (sd_e4 c0 0 0 0)) i j = @sd_xg sd_P sd_R sd_X (@sd_q4 sd_P sd_R (sd_pc c0) (sd_pc 0) (sd_pc 0) (sd_pc 0) (sd_pc 0) (sd_pc 0) (sd_pc 0) (sd_pc 0) (sd_pc 0) (sd_pc 0) (sd_pc 0) (sd_pc 0) (sd_pc 0) (sd_pc 0) (sd_pc 0) (sd_pc 0)) i j := by
    intro i j hi hj
    rw [sd_xm_g]
    exact @sd_xg_c sd_P sd_R _ _ _ i j (cc i j hi hj)
  have sm := @sd_sm_c1 sd_P sd_R sd_X (sd_pc c0)
  rw [ee]
  refine sd_smith h1 hk (by omega) _ ?_ ?_ (@sd_q4 sd_P sd_R (sd_pc 1) (sd_pc 0) (sd_pc 0) (sd_pc 0) (sd_pc 0) (sd_pc 0) (sd_pc 0) (sd_pc 0) (sd_pc 0) (sd_pc 0) (sd_pc 0) (sd_pc 0) (sd_pc 0) (sd_pc 0) (sd_pc 0) (sd_pc 0)) (@sd_q4 sd_P sd_R (sd_pc 1) (sd_pc 0) (sd_pc 0) (sd_pc 0) (sd_pc 0) (sd_pc 0) (sd_pc 0) (sd_pc 0) (sd_pc 0) (sd_pc 0) (sd_pc 0) (sd_pc 0) (sd_pc 0) (sd_pc 0) (sd_pc 0) (sd_pc 0)) (@sd_q4 sd_P sd_R (sd_pc 1) (sd_pc 0) (sd_pc 0) (sd_pc 0) (sd_pc 0) (sd_pc 0) (sd_pc 0) (sd_pc 0) (sd_pc 0) (sd_pc 0) (sd_pc 0) (sd_pc 0) (sd_pc 0) (sd_pc 0) (sd_pc 0) (sd_pc 0)) (@sd_q4 sd_P sd_R (sd_pc 1) (sd_pc 0) (sd_pc 0) (sd_pc 0) (sd_pc 0) (sd_pc 0) (sd_pc 0) (sd_pc 0) (sd_pc 0) (sd_pc 0) (sd_pc 0) (sd_pc 0) (sd_pc 0) (sd_pc 0) (sd_pc 0) (sd_pc 0)) (sd_q4_fs (sd_fs_pc _) (sd_fs_pc _) (sd_fs_pc _) (sd_fs_pc _) (sd_fs_pc _) (sd_fs_pc _) (sd_fs_pc _) (sd_fs_pc _) (sd_fs_pc _) (sd_fs_pc _) (sd_fs_pc _) (sd_fs_pc _) (sd_fs_pc _) (sd_fs_pc _) (sd_fs_pc _) (sd_fs_pc _)) (sd_q4_fs (sd_fs_pc _) (sd_fs_pc _) (sd_fs_pc _) (sd_fs_pc _) (sd_fs_pc _) (sd_fs_pc _) (sd_fs_pc _) (sd_fs_pc _) (sd_fs_pc _) (sd_fs_pc _) (sd_fs_pc _) (sd_fs_pc _) (sd_fs_pc _) (sd_fs_pc _) (sd_fs_pc _) (sd_fs_pc _)) (sd_q4_fs (sd_fs_pc _) (sd_fs_pc _) (sd_fs_pc _) (sd_fs_pc _) (sd_fs_pc _) (sd_fs_pc _) (sd_fs_pc _) (sd_fs_pc _) (sd_fs_pc _) (sd_fs_pc _) (sd_fs_pc _) (sd_fs_pc _) (sd_fs_pc _) (sd_fs_pc _) (sd_fs_pc _) (sd_fs_pc _)) (sd_q4_fs (sd_fs_pc _) (sd_fs_pc _) (sd_fs_pc _) (sd_fs_pc _) (sd_fs_pc _) (sd_fs_pc _) (sd_fs_pc _) (sd_fs_pc _) (sd_fs_pc _) (sd_fs_pc _) (sd_fs_pc _) (sd_fs_pc _) (sd_fs_pc _) (sd_fs_pc _) (sd_fs_pc _) (sd_fs_pc _)) ?_ ?_
  · intro t _
    unfold sd_e4
    split <;> exact ⟨_, sd_ml_mo _⟩
  · exact sd_ch4 1 (by omega) (fun h => absurd h (by omega)) (fun h => absurd h (by omega)) (fun h => absurd h (by omega))
  · intro i j hi hj
    rw [pe, xx i j hi hj]
    exact (sm i j hi hj).1
  · intro i j hi hj
    rw [pe]
    refine (sm i j hi hj).2.trans ?_
    apply sd_gs_c
    intro l hl
    apply congrArg (sd_pm _)
    apply sd_gs_c
    intro t ht
    exact congrArg (sd_pm _) (xx l t hl ht).symm
theorem sd_sm_c2 {R : Type} [Lean.Grind.CommRing R] (x c0 c1 : R) (i j : Nat) (hi : i < 2) (hj : j < 2) : sd_xg x (sd_q4 0 c0 0 0 1 c1 0 0 0 0 0 0 0 0 0 0) i j = sd_gs 2 (fun l => (sd_q4 (x) 1 0 0 (- 1) 0 0 0 0 0 0 0 0 0 0 0) i l * sd_gs 2 (fun t => (sd_q4 1 (c1 - x) 0 0 0 1 0 0 0 0 0 0 0 0 0 0) t j * sd_dgm (sd_e4 1 (- c0 + x * (- c1 + x * 1)) 1 1) l t)) ∧
    sd_dgm (sd_e4 1 (- c0 + x * (- c1 + x * 1)) 1 1) i j = sd_gs 2 (fun l => (sd_q4 0 (- 1) 0 0 (1) (x) 0 0 0 0 0 0 0 0 0 0) i l * sd_gs 2 (fun t => (sd_q4 1 (x - c1) 0 0 0 1 0 0 0 0 0 0 0 0 0 0) t j * sd_xg x (sd_q4 0 c0 0 0 1 c1 0 0 0 0 0 0 0 0 0 0) l t)) := by
  constructor
  · have ci : i = 0 ∨ i = 1 := by omega
    have cj : j = 0 ∨ j = 1 := by omega
    rcases ci with rfl | rfl <;> rcases cj with rfl | rfl <;>
      (simp only [sd_xg, sd_q4, sd_e4, sd_gs, sd_dgm, sd_dd, Nat.reduceEqDiff, reduceIte] <;> grind)
  · have ci : i = 0 ∨ i = 1 := by omega
    have cj : j = 0 ∨ j = 1 := by omega
    rcases ci with rfl | rfl <;> rcases cj with rfl | rfl <;>
      (simp only [sd_xg, sd_q4, sd_e4, sd_gs, sd_dgm, sd_dd, Nat.reduceEqDiff, reduceIte] <;> grind)
theorem sd_gf_c2 (c0 c1 : Fin 5) (k : Nat) (h1 : 1 ≤ k) (hk : k ≤ 2) : sd_gcd 2 k (sd_comp 2 (sd_e4 c0 c1 0 0)) (@sd_pr sd_P sd_R k (fun t => sd_dg (sd_n4 (sd_nl []) (sd_nl [- c0, - c1]) (sd_nl []) (sd_nl []) t))) := by
  have ee : (fun t => sd_dg (sd_n4 (sd_nl []) (sd_nl [- c0, - c1]) (sd_nl []) (sd_nl []) t)) = @sd_e4 sd_P sd_R (sd_ml []) (sd_ml [- c0, - c1]) (sd_ml []) (sd_ml []) := by
    funext t
    unfold sd_n4 sd_e4
    split <;> exact sd_nl_dg _
  have pe : @sd_e4 sd_P sd_R (sd_ml []) (sd_ml [- c0, - c1]) (sd_ml []) (sd_ml []) = @sd_e4 sd_P sd_R (sd_pc 1) (sd_pa (sd_pn (sd_pc c0)) (sd_pm sd_X (sd_pa (sd_pn (sd_pc c1)) (sd_pm sd_X (sd_pc 1))))) (sd_pc 1) (sd_pc 1) := by
    simp only [sd_ml_c, sd_pc_n]; rfl
  have cc : ∀ i j, i < 2 → j < 2 → sd_pc ((sd_comp 2 (sd_e4 c0 c1 0 0)) i j) = @sd_q4 sd_P sd_R (sd_pc 0) (sd_pc c0) (sd_pc 0) (sd_pc 0) (sd_pc 1) (sd_pc c1) (sd_pc 0) (sd_pc 0) (sd_pc 0) (sd_pc 0) (sd_pc 0) (sd_pc 0) (sd_pc 0) (sd_pc 0) (sd_pc 0) (sd_pc 0) i j := by
    intro i j hi hj
    have ci : i = 0 ∨ i = 1 := by omega
    have cj : j = 0 ∨ j = 1 := by omega
    rcases ci with rfl | rfl <;> rcases cj with rfl | rfl <;> rfl
  have xx : ∀ i j, i < 2 → j < 2 → sd_xm (sd_comp 2 (sd_e4 c0 c1 0 0)) i j = @sd_xg sd_P sd_R sd_X (@sd_q4 sd_P sd_R (sd_pc 0) (sd_pc c0) (sd_pc 0) (sd_pc 0) (sd_pc 1) (sd_pc c1) (sd_pc 0) (sd_pc 0) (sd_pc 0) (sd_pc 0) (sd_pc 0) (sd_pc 0) (sd_pc 0) (sd_pc 0) (sd_pc 0) (sd_pc 0)) i j := by
    intro i j hi hj
    rw [sd_xm_g]
    exact @sd_xg_c sd_P sd_R _ _ _ i j (cc i j hi hj)
  have sm := @sd_sm_c2 sd_P sd_R sd_X (sd_pc c0) (sd_pc c1)
  rw [ee]
  refine sd_smith h1 hk (by omega) _ ?_ ?_ (@sd_q4 sd_P sd_R sd_X (sd_pc 1) (sd_pc 0) (sd_pc 0) (sd_pn (sd_pc 1)) (sd_pc 0) (sd_pc 0) (sd_pc 0) (sd_pc 0) (sd_pc 0) (sd_pc 0) (sd_pc 0) (sd_pc 0) (sd_pc 0) (sd_pc 0) (sd_pc 0)) (@sd_q4 sd_P sd_R (sd_pc 1) (sd_pa (sd_pc c1) (sd_pn sd_X)) (sd_pc 0) (sd_pc 0) (sd_pc 0) (sd_pc 1) (sd_pc 0) (sd_pc 0) (sd_pc 0) (sd_pc 0) (sd_pc 0) (sd_pc 0) (sd_pc 0) (sd_pc 0) (sd_pc 0) (sd_pc 0)) (@sd_q4 sd_P sd_R (sd_pc 0) (sd_pn (sd_pc 1)) (sd_pc 0) (sd_pc 0) (sd_pc 1) sd_X (sd_pc 0) (sd_pc 0) (sd_pc 0) (sd_pc 0) (sd_pc 0) (sd_pc 0) (sd_pc 0) (sd_pc 0) (sd_pc 0) (sd_pc 0)) (@sd_q4 sd_P sd_R (sd_pc 1) (sd_pa sd_X (sd_pn (sd_pc c1))) (sd_pc 0) (sd_pc 0) (sd_pc 0) (sd_pc 1) (sd_pc 0) (sd_pc 0) (sd_pc 0) (sd_pc 0) (sd_pc 0) (sd_pc 0) (sd_pc 0) (sd_pc 0) (sd_pc 0) (sd_pc 0)) (sd_q4_fs sd_fs_X (sd_fs_pc _) (sd_fs_pc _) (sd_fs_pc _) (sd_fs_pn (sd_fs_pc _)) (sd_fs_pc _) (sd_fs_pc _) (sd_fs_pc _) (sd_fs_pc _) (sd_fs_pc _) (sd_fs_pc _) (sd_fs_pc _) (sd_fs_pc _) (sd_fs_pc _) (sd_fs_pc _) (sd_fs_pc _)) (sd_q4_fs (sd_fs_pc _) (sd_fs_pa (sd_fs_pc _) (sd_fs_pn sd_fs_X)) (sd_fs_pc _) (sd_fs_pc _) (sd_fs_pc _) (sd_fs_pc _) (sd_fs_pc _) (sd_fs_pc _) (sd_fs_pc _) (sd_fs_pc _) (sd_fs_pc _) (sd_fs_pc _) (sd_fs_pc _) (sd_fs_pc _) (sd_fs_pc _) (sd_fs_pc _)) (sd_q4_fs (sd_fs_pc _) (sd_fs_pn (sd_fs_pc _)) (sd_fs_pc _) (sd_fs_pc _) (sd_fs_pc _) sd_fs_X (sd_fs_pc _) (sd_fs_pc _) (sd_fs_pc _) (sd_fs_pc _) (sd_fs_pc _) (sd_fs_pc _) (sd_fs_pc _) (sd_fs_pc _) (sd_fs_pc _) (sd_fs_pc _)) (sd_q4_fs (sd_fs_pc _) (sd_fs_pa sd_fs_X (sd_fs_pn (sd_fs_pc _))) (sd_fs_pc _) (sd_fs_pc _) (sd_fs_pc _) (sd_fs_pc _) (sd_fs_pc _) (sd_fs_pc _) (sd_fs_pc _) (sd_fs_pc _) (sd_fs_pc _) (sd_fs_pc _) (sd_fs_pc _) (sd_fs_pc _) (sd_fs_pc _) (sd_fs_pc _)) ?_ ?_
  · intro t _
    unfold sd_e4
    split <;> exact ⟨_, sd_ml_mo _⟩
  · exact sd_ch4 2 (by omega) (fun _ => sd_dv_1 (sd_ml_fs _)) (fun h => absurd h (by omega)) (fun h => absurd h (by omega))
  · intro i j hi hj
    rw [pe, xx i j hi hj]
    exact (sm i j hi hj).1
  · intro i j hi hj
    rw [pe]
    refine (sm i j hi hj).2.trans ?_
    apply sd_gs_c
    intro l hl
    apply congrArg (sd_pm _)
    apply sd_gs_c
    intro t ht
    exact congrArg (sd_pm _) (xx l t hl ht).symm
theorem sd_sm_c3 {R : Type} [Lean.Grind.CommRing R] (x c0 c1 c2 : R) (i j : Nat) (hi : i < 3) (hj : j < 3) : sd_xg x (sd_q4 0 0 c0 0 1 0 c1 0 0 1 c2 0 0 0 0 0) i j = sd_gs 3 (fun l => (sd_q4 (x) (x * x) 1 0 (- 1) 0 0 0 0 (- 1) 0 0 0 0 0 0) i l * sd_gs 3 (fun t => (sd_q4 1 (- x) c1 0 0 1 (c2 - x) 0 0 0 1 0 0 0 0 0) t j * sd_dgm (sd_e4 1 1 (- c0 + x * (- c1 + x * (- c2 + x * 1))) 1) l t)) ∧
    sd_dgm (sd_e4 1 1 (- c0 + x * (- c1 + x * (- c2 + x * 1))) 1) i j = sd_gs 3 (fun l => (sd_q4 0 (- 1) 0 0 0 0 (- 1) 0 (1) (x) (x * x) 0 0 0 0 0) i l * sd_gs 3 (fun t => (sd_q4 1 (x) (x * (x - c2) - c1) 0 0 1 (x - c2) 0 0 0 1 0 0 0 0 0) t j * sd_xg x (sd_q4 0 0 c0 0 1 0 c1 0 0 1 c2 0 0 0 0 0) l t)) := by
  constructor
  · have ci : i = 0 ∨ i = 1 ∨ i = 2 := by omega
    have cj : j = 0 ∨ j = 1 ∨ j = 2 := by omega
    rcases ci with rfl | rfl | rfl <;> rcases cj with rfl | rfl | rfl <;>
      (simp only [sd_xg, sd_q4, sd_e4, sd_gs, sd_dgm, sd_dd, Nat.reduceEqDiff, reduceIte] <;> grind)
  · have ci : i = 0 ∨ i = 1 ∨ i = 2 := by omega
    have cj : j = 0 ∨ j = 1 ∨ j = 2 := by omega
    rcases ci with rfl | rfl | rfl <;> rcases cj with rfl | rfl | rfl <;>
      (simp only [sd_xg, sd_q4, sd_e4, sd_gs, sd_dgm, sd_dd, Nat.reduceEqDiff, reduceIte] <;> grind)
theorem sd_gf_c3 (c0 c1 c2 : Fin 5) (k : Nat) (h1 : 1 ≤ k) (hk : k ≤ 3) : sd_gcd 3 k (sd_comp 3 (sd_e4 c0 c1 c2 0)) (@sd_pr sd_P sd_R k (fun t => sd_dg (sd_n4 (sd_nl []) (sd_nl []) (sd_nl [- c0, - c1, - c2]) (sd_nl []) t))) := by
  have ee : (fun t => sd_dg (sd_n4 (sd_nl []) (sd_nl []) (sd_nl [- c0, - c1, - c2]) (sd_nl []) t)) = @sd_e4 sd_P sd_R (sd_ml []) (sd_ml []) (sd_ml [- c0, - c1, - c2]) (sd_ml []) := by
    funext t
    unfold sd_n4 sd_e4
    split <;> exact sd_nl_dg _
  have pe : @sd_e4 sd_P sd_R (sd_ml []) (sd_ml []) (sd_ml [- c0, - c1, - c2]) (sd_ml []) = @sd_e4 sd_P sd_R (sd_pc 1) (sd_pc 1) (sd_pa (sd_pn (sd_pc c0)) (sd_pm sd_X (sd_pa (sd_pn (sd_pc c1)) (sd_pm sd_X (sd_pa (sd_pn (sd_pc c2)) (sd_pm sd_X (sd_pc 1))))))) (sd_pc 1) := by
    simp only [sd_ml_c, sd_pc_n]; rfl
  have cc : ∀ i j, i < 3 → j < 3 → sd_pc ((sd_comp 3 (sd_e4 c0 c1 c2 0)) i j) = @sd_q4 sd_P sd_R (sd_pc 0) (sd_pc 0) (sd_pc c0) (sd_pc 0) (sd_pc 1) (sd_pc 0) (sd_pc c1) (sd_pc 0) (sd_pc 0) (sd_pc 1) (sd_pc c2) (sd_pc 0) (sd_pc 0) (sd_pc 0) (sd_pc 0) (sd_pc 0) i j := by
    intro i j hi hj
    have ci : i = 0 ∨ i = 1 ∨ i = 2 := by omega
    have cj : j = 0 ∨ j = 1 ∨ j = 2 := by omega
    rcases ci with rfl | rfl | rfl <;> rcases cj with rfl | rfl | rfl <;> rfl
  have xx : ∀ i j, i < 3 → j < 3 → sd_xm (sd_comp 3 (sd_e4 c0 c1 c2 0)) i j = @sd_xg sd_P sd_R sd_X (@sd_q4 sd_P sd_R (sd_pc 0) (sd_pc 0) (sd_pc c0) (sd_pc 0) (sd_pc 1) (sd_pc 0) (sd_pc c1) (sd_pc 0) (sd_pc 0) (sd_pc 1) (sd_pc c2) (sd_pc 0) (sd_pc 0) (sd_pc 0) (sd_pc 0) (sd_pc 0)) i j := by
    intro i j hi hj
    rw [sd_xm_g]
    exact @sd_xg_c sd_P sd_R _ _ _ i j (cc i j hi hj)
  have sm := @sd_sm_c3 sd_P sd_R sd_X (sd_pc c0) (sd_pc c1) (sd_pc c2)
  rw [ee]
  refine sd_smith h1 hk (by omega) _ ?_ ?_ (@sd_q4 sd_P sd_R sd_X (sd_pm sd_X sd_X) (sd_pc 1) (sd_pc 0) (sd_pn (sd_pc 1)) (sd_pc 0) (sd_pc 0) (sd_pc 0) (sd_pc 0) (sd_pn (sd_pc 1)) (sd_pc 0) (sd_pc 0) (sd_pc 0) (sd_pc 0) (sd_pc 0) (sd_pc 0)) (@sd_q4 sd_P sd_R (sd_pc 1) (sd_pn sd_X) (sd_pc c1) (sd_pc 0) (sd_pc 0) (sd_pc 1) (sd_pa (sd_pc c2) (sd_pn sd_X)) (sd_pc 0) (sd_pc 0) (sd_pc 0) (sd_pc 1) (sd_pc 0) (sd_pc 0) (sd_pc 0) (sd_pc 0) (sd_pc 0)) (@sd_q4 sd_P sd_R (sd_pc 0) (sd_pn (sd_pc 1)) (sd_pc 0) (sd_pc 0) (sd_pc 0) (sd_pc 0) (sd_pn (sd_pc 1)) (sd_pc 0) (sd_pc 1) sd_X (sd_pm sd_X sd_X) (sd_pc 0) (sd_pc 0) (sd_pc 0) (sd_pc 0) (sd_pc 0)) (@sd_q4 sd_P sd_R (sd_pc 1) sd_X (sd_pa (sd_pm sd_X (sd_pa sd_X (sd_pn (sd_pc c2)))) (sd_pn (sd_pc c1))) (sd_pc 0) (sd_pc 0) (sd_pc 1) (sd_pa sd_X (sd_pn (sd_pc c2))) (sd_pc 0) (sd_pc 0) (sd_pc 0) (sd_pc 1) (sd_pc 0) (sd_pc 0) (sd_pc 0) (sd_pc 0) (sd_pc 0)) (sd_q4_fs sd_fs_X (sd_fs_pm sd_fs_X sd_fs_X) (sd_fs_pc _) (sd_fs_pc _) (sd_fs_pn (sd_fs_pc _)) (sd_fs_pc _) (sd_fs_pc _) (sd_fs_pc _) (sd_fs_pc _) (sd_fs_pn (sd_fs_pc _)) (sd_fs_pc _) (sd_fs_pc _) (sd_fs_pc _) (sd_fs_pc _) (sd_fs_pc _) (sd_fs_pc _)) (sd_q4_fs (sd_fs_pc _) (sd_fs_pn sd_fs_X) (sd_fs_pc _) (sd_fs_pc _) (sd_fs_pc _) (sd_fs_pc _) (sd_fs_pa (sd_fs_pc _) (sd_fs_pn sd_fs_X)) (sd_fs_pc _) (sd_fs_pc _) (sd_fs_pc _) (sd_fs_pc _) (sd_fs_pc _) (sd_fs_pc _) (sd_fs_pc _) (sd_fs_pc _) (sd_fs_pc _)) (sd_q4_fs (sd_fs_pc _) (sd_fs_pn (sd_fs_pc _)) (sd_fs_pc _) (sd_fs_pc _) (sd_fs_pc _) (sd_fs_pc _) (sd_fs_pn (sd_fs_pc _)) (sd_fs_pc _) (sd_fs_pc _) sd_fs_X (sd_fs_pm sd_fs_X sd_fs_X) (sd_fs_pc _) (sd_fs_pc _) (sd_fs_pc _) (sd_fs_pc _) (sd_fs_pc _)) (sd_q4_fs (sd_fs_pc _) sd_fs_X (sd_fs_pa (sd_fs_pm sd_fs_X (sd_fs_pa sd_fs_X (sd_fs_pn (sd_fs_pc _)))) (sd_fs_pn (sd_fs_pc _))) (sd_fs_pc _) (sd_fs_pc _) (sd_fs_pc _) (sd_fs_pa sd_fs_X (sd_fs_pn (sd_fs_pc _))) (sd_fs_pc _) (sd_fs_pc _) (sd_fs_pc _) (sd_fs_pc _) (sd_fs_pc _) (sd_fs_pc _) (sd_fs_pc _) (sd_fs_pc _) (sd_fs_pc _)) ?_ ?_
  · intro t _
    unfold sd_e4
    split <;> exact ⟨_, sd_ml_mo _⟩
  · exact sd_ch4 3 (by omega) (fun _ => sd_dv_1 (sd_ml_fs _)) (fun _ => sd_dv_1 (sd_ml_fs _)) (fun h => absurd h (by omega))
  · intro i j hi hj
    rw [pe, xx i j hi hj]
    exact (sm i j hi hj).1
  · intro i j hi hj
    rw [pe]
    refine (sm i j hi hj).2.trans ?_
    apply sd_gs_c
    intro l hl
    apply congrArg (sd_pm _)
    apply sd_gs_c
    intro t ht
    exact congrArg (sd_pm _) (xx l t hl ht).symm
theorem sd_sm_c4 {R : Type} [Lean.Grind.CommRing R] (x c0 c1 c2 c3 : R) (i j : Nat) (hi : i < 4) (hj : j < 4) : sd_xg x (sd_q4 0 0 0 c0 1 0 0 c1 0 1 0 c2 0 0 1 c3) i j = sd_gs 4 (fun l => (sd_q4 (x) (x * x) (x * x * x) 1 (- 1) 0 0 0 0 (- 1) 0 0 0 0 (- 1) 0) i l * sd_gs 4 (fun t => (sd_q4 1 (- x) 0 c1 0 1 (- x) c2 0 0 1 (c3 - x) 0 0 0 1) t j * sd_dgm (sd_e4 1 1 1 (- c0 + x * (- c1 + x * (- c2 + x * (- c3 + x * 1))))) l t)) ∧
    sd_dgm (sd_e4 1 1 1 (- c0 + x * (- c1 + x * (- c2 + x * (- c3 + x * 1))))) i j = sd_gs 4 (fun l => (sd_q4 0 (- 1) 0 0 0 0 (- 1) 0 0 0 0 (- 1) (1) (x) (x * x) (x * x * x)) i l * sd_gs 4 (fun t => (sd_q4 1 (x) (x * x) (x * (x * (x - c3) - c2) - c1) 0 1 (x) (x * (x - c3) - c2) 0 0 1 (x - c3) 0 0 0 1) t j * sd_xg x (sd_q4 0 0 0 c0 1 0 0 c1 0 1 0 c2 0 0 1 c3) l t)) := by
  constructor
  · have ci : i = 0 ∨ i = 1 ∨ i = 2 ∨ i = 3 := by omega
    have cj : j = 0 ∨ j = 1 ∨ j = 2 ∨ j = 3 := by omega
    rcases ci with rfl | rfl | rfl | rfl <;> rcases cj with rfl | rfl | rfl | rfl <;>
      (simp only [sd_xg, sd_q4, sd_e4, sd_gs, sd_dgm, sd_dd, Nat.reduceEqDiff, reduceIte] <;> grind)
  · have ci : i = 0 ∨ i = 1 ∨ i = 2 ∨ i = 3 := by omega
    have cj : j = 0 ∨ j = 1 ∨ j = 2 ∨ j = 3 := by omega
    rcases ci with rfl | rfl | rfl | rfl <;> rcases cj with rfl | rfl | rfl | rfl <;>
      (simp only [sd_xg, sd_q4, sd_e4, sd_gs, sd_dgm, sd_dd, Nat.reduceEqDiff, reduceIte] <;> grind)
theorem sd_gf_c4 (c0 c1 c2 c3 : Fin 5) (k : Nat) (h1 : 1 ≤ k) (hk : k ≤ 4) : sd_gcd 4 k (sd_comp 4 (sd_e4 c0 c1 c2 c3)) (@sd_pr sd_P sd_R k (fun t => sd_dg (sd_n4 (sd_nl []) (sd_nl []) (sd_nl []) (sd_nl [- c0, - c1, - c2, - c3]) t))) := by
  have ee : (fun t => sd_dg (sd_n4 (sd_nl []) (sd_nl []) (sd_nl []) (sd_nl [- c0, - c1, - c2, - c3]) t)) = @sd_e4 sd_P sd_R (sd_ml []) (sd_ml []) (sd_ml []) (sd_ml [- c0, - c1, - c2, - c3]) := by
    funext t
    unfold sd_n4 sd_e4
    split <;> exact sd_nl_dg _
  have pe : @sd_e4 sd_P sd_R (sd_ml []) (sd_ml []) (sd_ml []) (sd_ml [- c0, - c1, - c2, - c3]) = @sd_e4 sd_P sd_R (sd_pc 1) (sd_pc 1) (sd_pc 1) (sd_pa (sd_pn (sd_pc c0)) (sd_pm sd_X (sd_pa (sd_pn (sd_pc c1)) (sd_pm sd_X (sd_pa (sd_pn (sd_pc c2)) (sd_pm sd_X (sd_pa (sd_pn (sd_pc c3)) (sd_pm sd_X (sd_pc 1))))))))) := by
    simp only [sd_ml_c, sd_pc_n]; rfl
  have cc : ∀ i j, i < 4 → j < 4 → sd_pc ((sd_comp 4 (sd_e4 c0 c1 c2 c3)) i j) = @sd_q4 sd_P sd_R (sd_pc 0) (sd_pc 0) (sd_pc 0) (sd_pc c0) (sd_pc 1) (sd_pc 0) (sd_pc 0) (sd_pc c1) (sd_pc 0) (sd_pc 1) (sd_pc 0) (sd_pc c2) (sd_pc 0) (sd_pc 0) (sd_pc 1) (sd_pc c3) i j := by
    intro i j hi hj
    have ci : i = 0 ∨ i = 1 ∨ i = 2 ∨ i = 3 := by omega
    have cj : j = 0 ∨ j = 1 ∨ j = 2 ∨ j = 3 := by omega
    rcases ci with rfl | rfl | rfl | rfl <;> rcases cj with rfl | rfl | rfl | rfl <;> rfl
  have xx : ∀ i j, i < 4 → j < 4 → sd_xm (sd_comp 4 (sd_e4 c0 c1 c2 c3)) i j = @sd_xg sd_P sd_R sd_X (@sd_q4 sd_P sd_R (sd_pc 0) (sd_pc 0) (sd_pc 0) (sd_pc c0) (sd_pc 1) (sd_pc 0) (sd_pc 0) (sd_pc c1) (sd_pc 0) (sd_pc 1) (sd_pc 0) (sd_pc c2) (sd_pc 0) (sd_pc 0) (sd_pc 1) (sd_pc c3)) i j := by
    intro i j hi hj
    rw [sd_xm_g]
    exact @sd_xg_c sd_P sd_R _ _ _ i j (cc i j hi hj)
  have sm := @sd_sm_c4 sd_P sd_R sd_X (sd_pc c0) (sd_pc c1) (sd_pc c2) (sd_pc c3)
  rw [ee]
  refine sd_smith h1 hk (by omega) _ ?_ ?_ (@sd_q4 sd_P sd_R sd_X (sd_pm sd_X sd_X) (sd_pm (sd_pm sd_X sd_X) sd_X) (sd_pc 1) (sd_pn (sd_pc 1)) (sd_pc 0) (sd_pc 0) (sd_pc 0) (sd_pc 0) (sd_pn (sd_pc 1)) (sd_pc 0) (sd_pc 0) (sd_pc 0) (sd_pc 0) (sd_pn (sd_pc 1)) (sd_pc 0)) (@sd_q4 sd_P sd_R (sd_pc 1) (sd_pn sd_X) (sd_pc 0) (sd_pc c1) (sd_pc 0) (sd_pc 1) (sd_pn sd_X) (sd_pc c2) (sd_pc 0) (sd_pc 0) (sd_pc 1) (sd_pa (sd_pc c3) (sd_pn sd_X)) (sd_pc 0) (sd_pc 0) (sd_pc 0) (sd_pc 1)) (@sd_q4 sd_P sd_R (sd_pc 0) (sd_pn (sd_pc 1)) (sd_pc 0) (sd_pc 0) (sd_pc 0) (sd_pc 0) (sd_pn (sd_pc 1)) (sd_pc 0) (sd_pc 0) (sd_pc 0) (sd_pc 0) (sd_pn (sd_pc 1)) (sd_pc 1) sd_X (sd_pm sd_X sd_X) (sd_pm (sd_pm sd_X sd_X) sd_X)) (@sd_q4 sd_P sd_R (sd_pc 1) sd_X (sd_pm sd_X sd_X) (sd_pa (sd_pm sd_X (sd_pa (sd_pm sd_X (sd_pa sd_X (sd_pn (sd_pc c3)))) (sd_pn (sd_pc c2)))) (sd_pn (sd_pc c1))) (sd_pc 0) (sd_pc 1) sd_X (sd_pa (sd_pm sd_X (sd_pa sd_X (sd_pn (sd_pc c3)))) (sd_pn (sd_pc c2))) (sd_pc 0) (sd_pc 0) (sd_pc 1) (sd_pa sd_X (sd_pn (sd_pc c3))) (sd_pc 0) (sd_pc 0) (sd_pc 0) (sd_pc 1)) (sd_q4_fs sd_fs_X (sd_fs_pm sd_fs_X sd_fs_X) (sd_fs_pm (sd_fs_pm sd_fs_X sd_fs_X) sd_fs_X) (sd_fs_pc _) (sd_fs_pn (sd_fs_pc _)) (sd_fs_pc _) (sd_fs_pc _) (sd_fs_pc _) (sd_fs_pc _) (sd_fs_pn (sd_fs_pc _)) (sd_fs_pc _) (sd_fs_pc _) (sd_fs_pc _) (sd_fs_pc _) (sd_fs_pn (sd_fs_pc _)) (sd_fs_pc _)) (sd_q4_fs (sd_fs_pc _) (sd_fs_pn sd_fs_X) (sd_fs_pc _) (sd_fs_pc _) (sd_fs_pc _) (sd_fs_pc _) (sd_fs_pn sd_fs_X) (sd_fs_pc _) (sd_fs_pc _) (sd_fs_pc _) (sd_fs_pc _) (sd_fs_pa (sd_fs_pc _) (sd_fs_pn sd_fs_X)) (sd_fs_pc _) (sd_fs_pc _) (sd_fs_pc _) (sd_fs_pc _)) (sd_q4_fs (sd_fs_pc _) (sd_fs_pn (sd_fs_pc _)) (sd_fs_pc _) (sd_fs_pc _) (sd_fs_pc _) (sd_fs_pc _) (sd_fs_pn (sd_fs_pc _)) (sd_fs_pc _) (sd_fs_pc _) (sd_fs_pc _) (sd_fs_pc _) (sd_fs_pn (sd_fs_pc _)) (sd_fs_pc _) sd_fs_X (sd_fs_pm sd_fs_X sd_fs_X) (sd_fs_pm (sd_fs_pm sd_fs_X sd_fs_X) sd_fs_X)) (sd_q4_fs (sd_fs_pc _) sd_fs_X (sd_fs_pm sd_fs_X sd_fs_X) (sd_fs_pa (sd_fs_pm sd_fs_X (sd_fs_pa (sd_fs_pm sd_fs_X (sd_fs_pa sd_fs_X (sd_fs_pn (sd_fs_pc _)))) (sd_fs_pn (sd_fs_pc _)))) (sd_fs_pn (sd_fs_pc _))) (sd_fs_pc _) (sd_fs_pc _) sd_fs_X (sd_fs_pa (sd_fs_pm sd_fs_X (sd_fs_pa sd_fs_X (sd_fs_pn (sd_fs_pc _)))) (sd_fs_pn (sd_fs_pc _))) (sd_fs_pc _) (sd_fs_pc _) (sd_fs_pc _) (sd_fs_pa sd_fs_X (sd_fs_pn (sd_fs_pc _))) (sd_fs_pc _) (sd_fs_pc _) (sd_fs_pc _) (sd_fs_pc _)) ?_ ?_
  · intro t _
    unfold sd_e4
    split <;> exact ⟨_, sd_ml_mo _⟩
  · exact sd_ch4 4 (by omega) (fun _ => sd_dv_1 (sd_ml_fs _)) (fun _ => sd_dv_1 (sd_ml_fs _)) (fun _ => sd_dv_1 (sd_ml_fs _))
  · intro i j hi hj
    rw [pe, xx i j hi hj]
    exact (sm i j hi hj).1
  · intro i j hi hj
    rw [pe]
    refine (sm i j hi hj).2.trans ?_
    apply sd_gs_c
    intro l hl
    apply congrArg (sd_pm _)
    apply sd_gs_c
    intro t ht
    exact congrArg (sd_pm _) (xx l t hl ht).symm
theorem sd_sm_s2 {R : Type} [Lean.Grind.CommRing R] (x d : R) (i j : Nat) (hi : i < 2) (hj : j < 2) : sd_xg x (sd_q4 d 0 0 0 0 d 0 0 0 0 0 0 0 0 0 0) i j = sd_gs 2 (fun l => (sd_q4 1 0 0 0 0 1 0 0 0 0 0 0 0 0 0 0) i l * sd_gs 2 (fun t => (sd_q4 1 0 0 0 0 1 0 0 0 0 0 0 0 0 0 0) t j * sd_dgm (sd_e4 (- d + x * 1) (- d + x * 1) 1 1) l t)) ∧
    sd_dgm (sd_e4 (- d + x * 1) (- d + x * 1) 1 1) i j = sd_gs 2 (fun l => (sd_q4 1 0 0 0 0 1 0 0 0 0 0 0 0 0 0 0) i l * sd_gs 2 (fun t => (sd_q4 1 0 0 0 0 1 0 0 0 0 0 0 0 0 0 0) t j * sd_xg x (sd_q4 d 0 0 0 0 d 0 0 0 0 0 0 0 0 0 0) l t)) := by
  constructor
  · have ci : i = 0 ∨ i = 1 := by omega
    have cj : j = 0 ∨ j = 1 := by omega
    rcases ci with rfl | rfl <;> rcases cj with rfl | rfl <;>
      (simp only [sd_xg, sd_q4, sd_e4, sd_gs, sd_dgm, sd_dd, Nat.reduceEqDiff, reduceIte] <;> grind)
  · have ci : i = 0 ∨ i = 1 := by omega
    have cj : j = 0 ∨ j = 1 := by omega
    rcases ci with rfl | rfl <;> rcases cj with rfl | rfl <;>
      (simp only [sd_xg, sd_q4, sd_e4, sd_gs, sd_dgm, sd_dd, Nat.reduceEqDiff, reduceIte] <;> grind)
theorem sd_gf_s2 (d : Fin 5) (k : Nat) (h1 : 1 ≤ k) (hk : k ≤ 2) : sd_gcd 2 k (sd_sc 2 d) (@sd_pr sd_P sd_R k (fun t => sd_dg (sd_n4 (sd_nl [- d]) (sd_nl [- d]) (sd_nl []) (sd_nl []) t))) := by
  have ee : (fun t => sd_dg (sd_n4 (sd_nl [- d]) (sd_nl [- d]) (sd_nl []) (sd_nl []) t)) = @sd_e4 sd_P sd_R (sd_ml [- d]) (sd_ml [- d]) (sd_ml []) (sd_ml []) := by
    funext t
    unfold sd_n4 sd_e4
    split <;> exact sd_nl_dg _
  have pe : @sd_e4 sd_P sd_R (sd_ml [- d]) (sd_ml [- d]) (sd_ml []) (sd_ml []) = @sd_e4 sd_P sd_R (sd_pa (sd_pn (sd_pc d)) (sd_pm sd_X (sd_pc 1))) (sd_pa (sd_pn (sd_pc d)) (sd_pm sd_X (sd_pc 1))) (sd_pc 1) (sd_pc 1) := by
    simp only [sd_ml_c, sd_pc_n]; rfl
  have cc : ∀ i j, i < 2 → j < 2 → sd_pc ((sd_sc 2 d) i j) = @sd_q4 sd_P sd_R (sd_pc d) (sd_pc 0) (sd_pc 0) (sd_pc 0) (sd_pc 0) (sd_pc d) (sd_pc 0) (sd_pc 0) (sd_pc 0) (sd_pc 0) (sd_pc 0) (sd_pc 0) (sd_pc 0) (sd_pc 0) (sd_pc 0) (sd_pc 0) i j := by
    intro i j hi hj
    have ci : i = 0 ∨ i = 1 := by omega
    have cj : j = 0 ∨ j = 1 := by omega
    rcases ci with rfl | rfl <;> rcases cj with rfl | rfl <;> rfl
  have xx : ∀ i j, i < 2 → j < 2 → sd_xm (sd_sc 2 d) i j = @sd_xg sd_P sd_R sd_X (@sd_q4 sd_P sd_R (sd_pc d) (sd_pc 0) (sd_pc 0) (sd_pc 0) (sd_pc 0) (sd_pc d) (sd_pc 0) (sd_pc 0) (sd_pc 0) (sd_pc 0) (sd_pc 0) (sd_pc 0) (sd_pc 0) (sd_pc 0) (sd_pc 0) (sd_pc 0)) i j := by
    intro i j hi hj
    rw [sd_xm_g]
    exact @sd_xg_c sd_P sd_R _ _ _ i j (cc i j hi hj)
  have sm := @sd_sm_s2 sd_P sd_R sd_X (sd_pc d)
  rw [ee]
  refine sd_smith h1 hk (by omega) _ ?_ ?_ (@sd_q4 sd_P sd_R (sd_pc 1) (sd_pc 0) (sd_pc 0) (sd_pc 0) (sd_pc 0) (sd_pc 1) (sd_pc 0) (sd_pc 0) (sd_pc 0) (sd_pc 0) (sd_pc 0) (sd_pc 0) (sd_pc 0) (sd_pc 0) (sd_pc 0) (sd_pc 0)) (@sd_q4 sd_P sd_R (sd_pc 1) (sd_pc 0) (sd_pc 0) (sd_pc 0) (sd_pc 0) (sd_pc 1) (sd_pc 0) (sd_pc 0) (sd_pc 0) (sd_pc 0) (sd_pc 0) (sd_pc 0) (sd_pc 0) (sd_pc 0) (sd_pc 0) (sd_pc 0)) (@sd_q4 sd_P sd_R (sd_pc 1) (sd_pc 0) (sd_pc 0) (sd_pc 0) (sd_pc 0) (sd_pc 1) (sd_pc 0) (sd_pc 0) (sd_pc 0) (sd_pc 0) (sd_pc 0) (sd_pc 0) (sd_pc 0) (sd_pc 0) (sd_pc 0) (sd_pc 0)) (@sd_q4 sd_P sd_R (sd_pc 1) (sd_pc 0) (sd_pc 0) (sd_pc 0) (sd_pc 0) (sd_pc 1) (sd_pc 0) (sd_pc 0) (sd_pc 0) (sd_pc 0) (sd_pc 0) (sd_pc 0) (sd_pc 0) (sd_pc 0) (sd_pc 0) (sd_pc 0)) (sd_q4_fs (sd_fs_pc _) (sd_fs_pc _) (sd_fs_pc _) (sd_fs_pc _) (sd_fs_pc _) (sd_fs_pc _) (sd_fs_pc _) (sd_fs_pc _) (sd_fs_pc _) (sd_fs_pc _) (sd_fs_pc _) (sd_fs_pc _) (sd_fs_pc _) (sd_fs_pc _) (sd_fs_pc _) (sd_fs_pc _)) (sd_q4_fs (sd_fs_pc _) (sd_fs_pc _) (sd_fs_pc _) (sd_fs_pc _) (sd_fs_pc _) (sd_fs_pc _) (sd_fs_pc _) (sd_fs_pc _) (sd_fs_pc _) (sd_fs_pc _) (sd_fs_pc _) (sd_fs_pc _) (sd_fs_pc _) (sd_fs_pc _) (sd_fs_pc _) (sd_fs_pc _)) (sd_q4_fs (sd_fs_pc _) (sd_fs_pc _) (sd_fs_pc _) (sd_fs_pc _) (sd_fs_pc _) (sd_fs_pc _) (sd_fs_pc _) (sd_fs_pc _) (sd_fs_pc _) (sd_fs_pc _) (sd_fs_pc _) (sd_fs_pc _) (sd_fs_pc _) (sd_fs_pc _) (sd_fs_pc _) (sd_fs_pc _)) (sd_q4_fs (sd_fs_pc _) (sd_fs_pc _) (sd_fs_pc _) (sd_fs_pc _) (sd_fs_pc _) (sd_fs_pc _) (sd_fs_pc _) (sd_fs_pc _) (sd_fs_pc _) (sd_fs_pc _) (sd_fs_pc _) (sd_fs_pc _) (sd_fs_pc _) (sd_fs_pc _) (sd_fs_pc _) (sd_fs_pc _)) ?_ ?_
  · intro t _
    unfold sd_e4
    split <;> exact ⟨_, sd_ml_mo _⟩
  · exact sd_ch4 2 (by omega) (fun _ => sd_dv_r _) (fun h => absurd h (by omega)) (fun h => absurd h (by omega))
  · intro i j hi hj
    rw [pe, xx i j hi hj]
    exact (sm i j hi hj).1
  · intro i j hi hj
    rw [pe]
    refine (sm i j hi hj).2.trans ?_
    apply sd_gs_c
    intro l hl
    apply congrArg (sd_pm _)
    apply sd_gs_c
    intro t ht
    exact congrArg (sd_pm _) (xx l t hl ht).symm
theorem sd_sm_s3 {R : Type} [Lean.Grind.CommRing R] (x d : R) (i j : Nat) (hi : i < 3) (hj : j < 3) : sd_xg x (sd_q4 d 0 0 0 0 d 0 0 0 0 d 0 0 0 0 0) i j = sd_gs 3 (fun l => (sd_q4 1 0 0 0 0 1 0 0 0 0 1 0 0 0 0 0) i l * sd_gs 3 (fun t => (sd_q4 1 0 0 0 0 1 0 0 0 0 1 0 0 0 0 0) t j * sd_dgm (sd_e4 (- d + x * 1) (- d + x * 1) (- d + x * 1) 1) l t)) ∧
    sd_dgm (sd_e4 (- d + x * 1) (- d + x * 1) (- d + x * 1) 1) i j = sd_gs 3 (fun l => (sd_q4 1 0 0 0 0 1 0 0 0 0 1 0 0 0 0 0) i l * sd_gs 3 (fun t => (sd_q4 1 0 0 0 0 1 0 0 0 0 1 0 0 0 0 0) t j * sd_xg x (sd_q4 d 0 0 0 0 d 0 0 0 0 d 0 0 0 0 0) l t)) := by
  constructor
  · have ci : i = 0 ∨ i = 1 ∨ i = 2 := by omega
    have cj : j = 0 ∨ j = 1 ∨ j = 2 := by omega
    rcases ci with rfl | rfl | rfl <;> rcases cj with rfl | rfl | rfl <;>
      (simp only [sd_xg, sd_q4, sd_e4, sd_gs, sd_dgm, sd_dd, Nat.reduceEqDiff, reduceIte] <;> grind)
  · have ci : i = 0 ∨ i = 1 ∨ i = 2 := by omega
    have cj : j = 0 ∨ j = 1 ∨ j = 2 := by omega
    rcases ci with rfl | rfl | rfl <;> rcases cj with rfl | rfl | rfl <;>
      (simp only [sd_xg, sd_q4, sd_e4, sd_gs, sd_dgm, sd_dd, Nat.reduceEqDiff, reduceIte] <;> grind)
theorem sd_gf_s3 (d : Fin 5) (k : Nat) (h1 : 1 ≤ k) (hk : k ≤ 3) : sd_gcd 3 k (sd_sc 3 d) (@sd_pr sd_P sd_R k (fun t => sd_dg (sd_n4 (sd_nl [- d]) (sd_nl [- d]) (sd_nl [- d]) (sd_nl []) t))) := by
  have ee : (fun t => sd_dg (sd_n4 (sd_nl [- d]) (sd_nl [- d]) (sd_nl [- d]) (sd_nl []) t)) = @sd_e4 sd_P sd_R (sd_ml [- d]) (sd_ml [- d]) (sd_ml [- d]) (sd_ml []) := by
    funext t
    unfold sd_n4 sd_e4
    split <;> exact sd_nl_dg _
  have pe : @sd_e4 sd_P sd_R (sd_ml [- d]) (sd_ml [- d]) (sd_ml [- d]) (sd_ml []) = @sd_e4 sd_P sd_R (sd_pa (sd_pn (sd_pc d)) (sd_pm sd_X (sd_pc 1))) (sd_pa (sd_pn (sd_pc d)) (sd_pm sd_X (sd_pc 1))) (sd_pa (sd_pn (sd_pc d)) (sd_pm sd_X (sd_pc 1))) (sd_pc 1) := by
    simp only [sd_ml_c, sd_pc_n]; rfl
  have cc : ∀ i j, i < 3 → j < 3 → sd_pc ((sd_sc 3 d) i j) = @sd_q4 sd_P sd_R (sd_pc d) (sd_pc 0) (sd_pc 0) (sd_pc 0) (sd_pc 0) (sd_pc d) (sd_pc 0) (sd_pc 0) (sd_pc 0) (sd_pc 0) (sd_pc d) (sd_pc 0) (sd_pc 0) (sd_pc 0) (sd_pc 0) (sd_pc 0) i j := by
    intro i j hi hj
    have ci : i = 0 ∨ i = 1 ∨ i = 2 := by omega
    have cj : j = 0 ∨ j = 1 ∨ j = 2 := by omega
    rcases ci with rfl | rfl | rfl <;> rcases cj with rfl | rfl | rfl <;> rfl
  have xx : ∀ i j, i < 3 → j < 3 → sd_xm (sd_sc 3 d) i j = @sd_xg sd_P sd_R sd_X (@sd_q4 sd_P sd_R (sd_pc d) (sd_pc 0) (sd_pc 0) (sd_pc 0) (sd_pc 0) (sd_pc d) (sd_pc 0) (sd_pc 0) (sd_pc 0) (sd_pc 0) (sd_pc d) (sd_pc 0) (sd_pc 0) (sd_pc 0) (sd_pc 0) (sd_pc 0)) i j := by
    intro i j hi hj
    rw [sd_xm_g]
    exact @sd_xg_c sd_P sd_R _ _ _ i j (cc i j hi hj)
  have sm := @sd_sm_s3 sd_P sd_R sd_X (sd_pc d)
  rw [ee]
  refine sd_smith h1 hk (by omega) _ ?_ ?_ (@sd_q4 sd_P sd_R (sd_pc 1) (sd_pc 0) (sd_pc 0) (sd_pc 0) (sd_pc 0) (sd_pc 1) (sd_pc 0) (sd_pc 0) (sd_pc 0) (sd_pc 0) (sd_pc 1) (sd_pc 0) (sd_pc 0) (sd_pc 0) (sd_pc 0) (sd_pc 0)) (@sd_q4 sd_P sd_R (sd_pc 1) (sd_pc 0) (sd_pc 0) (sd_pc 0) (sd_pc 0) (sd_pc 1) (sd_pc 0) (sd_pc 0) (sd_pc 0) (sd_pc 0) (sd_pc 1) (sd_pc 0) (sd_pc 0) (sd_pc 0) (sd_pc 0) (sd_pc 0)) (@sd_q4 sd_P sd_R (sd_pc 1) (sd_pc 0) (sd_pc 0) (sd_pc 0) (sd_pc 0) (sd_pc 1) (sd_pc 0) (sd_pc 0) (sd_pc 0) (sd_pc 0) (sd_pc 1) (sd_pc 0) (sd_pc 0) (sd_pc 0) (sd_pc 0) (sd_pc 0)) (@sd_q4 sd_P sd_R (sd_pc 1) (sd_pc 0) (sd_pc 0) (sd_pc 0) (sd_pc 0) (sd_pc 1) (sd_pc 0) (sd_pc 0) (sd_pc 0) (sd_pc 0) (sd_pc 1) (sd_pc 0) (sd_pc 0) (sd_pc 0) (sd_pc 0) (sd_pc 0)) (sd_q4_fs (sd_fs_pc _) (sd_fs_pc _) (sd_fs_pc _) (sd_fs_pc _) (sd_fs_pc _) (sd_fs_pc _) (sd_fs_pc _) (sd_fs_pc _) (sd_fs_pc _) (sd_fs_pc _) (sd_fs_pc _) (sd_fs_pc _) (sd_fs_pc _) (sd_fs_pc _) (sd_fs_pc _) (sd_fs_pc _)) (sd_q4_fs (sd_fs_pc _) (sd_fs_pc _) (sd_fs_pc _) (sd_fs_pc _) (sd_fs_pc _) (sd_fs_pc _) (sd_fs_pc _) (sd_fs_pc _) (sd_fs_pc _) (sd_fs_pc _) (sd_fs_pc _) (sd_fs_pc _) (sd_fs_pc _) (sd_fs_pc _) (sd_fs_pc _) (sd_fs_pc _)) (sd_q4_fs (sd_fs_pc _) (sd_fs_pc _) (sd_fs_pc _) (sd_fs_pc _) (sd_fs_pc _) (sd_fs_pc _) (sd_fs_pc _) (sd_fs_pc _) (sd_fs_pc _) (sd_fs_pc _) (sd_fs_pc _) (sd_fs_pc _) (sd_fs_pc _) (sd_fs_pc _) (sd_fs_pc _) (sd_fs_pc _)) (sd_q4_fs (sd_fs_pc _) (sd_fs_pc _) (sd_fs_pc _) (sd_fs_pc _) (sd_fs_pc _) (sd_fs_pc _) (sd_fs_pc _) (sd_fs_pc _) (sd_fs_pc _) (sd_fs_pc _) (sd_fs_pc _) (sd_fs_pc _) (sd_fs_pc _) (sd_fs_pc _) (sd_fs_pc _) (sd_fs_pc _)) ?_ ?_
  · intro t _
    unfold sd_e4
    split <;> exact ⟨_, sd_ml_mo _⟩
  · exact sd_ch4 3 (by omega) (fun _ => sd_dv_r _) (fun _ => sd_dv_r _) (fun h => absurd h (by omega))
  · intro i j hi hj
    rw [pe, xx i j hi hj]
    exact (sm i j hi hj).1
  · intro i j hi hj
    rw [pe]
    refine (sm i j hi hj).2.trans ?_
    apply sd_gs_c
    intro l hl
    apply congrArg (sd_pm _)
    apply sd_gs_c
    intro t ht
    exact congrArg (sd_pm _) (xx l t hl ht).symm
theorem sd_sm_s4 {R : Type} [Lean.Grind.CommRing R] (x d : R) (i j : Nat) (hi : i < 4) (hj : j < 4) : sd_xg x (sd_q4 d 0 0 0 0 d 0 0 0 0 d 0 0 0 0 d) i j = sd_gs 4 (fun l => (sd_q4 1 0 0 0 0 1 0 0 0 0 1 0 0 0 0 1) i l * sd_gs 4 (fun t => (sd_q4 1 0 0 0 0 1 0 0 0 0 1 0 0 0 0 1) t j * sd_dgm (sd_e4 (- d + x * 1) (- d + x * 1) (- d + x * 1) (- d + x * 1)) l t)) ∧
    sd_dgm (sd_e4 (- d + x * 1) (- d + x * 1) (- d + x * 1) (- d + x * 1)) i j = sd_gs 4 (fun l => (sd_q4 1 0 0 0 0 1 0 0 0 0 1 0 0 0 0 1) i l * sd_gs 4 (fun t => (sd_q4 1 0 0 0 0 1 0 0 0 0 1 0 0 0 0 1) t j * sd_xg x (sd_q4 d 0 0 0 0 d 0 0 0 0 d 0 0 0 0 d) l t)) := by
  constructor
  · have ci : i = 0 ∨ i = 1 ∨ i = 2 ∨ i = 3 := by omega
    have cj : j = 0 ∨ j = 1 ∨ j = 2 ∨ j = 3 := by omega
    rcases ci with rfl | rfl | rfl | rfl <;> rcases cj with rfl | rfl | rfl | rfl <;>
      (simp only [sd_xg, sd_q4, sd_e4, sd_gs, sd_dgm, sd_dd, Nat.reduceEqDiff, reduceIte] <;> grind)
  · have ci : i = 0 ∨ i = 1 ∨ i = 2 ∨ i = 3 := by omega
    have cj : j = 0 ∨ j = 1 ∨ j = 2 ∨ j = 3 := by omega
    rcases ci with rfl | rfl | rfl | rfl <;> rcases cj with rfl | rfl | rfl | rfl <;>
      (simp only [sd_xg, sd_q4, sd_e4, sd_gs, sd_dgm, sd_dd, Nat.reduceEqDiff, reduceIte] <;> grind)
theorem sd_gf_s4 (d : Fin 5) (k : Nat) (h1 : 1 ≤ k) (hk : k ≤ 4) : sd_gcd 4 k (sd_sc 4 d) (@sd_pr sd_P sd_R k (fun t => sd_dg (sd_n4 (sd_nl [- d]) (sd_nl [- d]) (sd_nl [- d]) (sd_nl [- d]) t))) := by
  have ee : (fun t => sd_dg (sd_n4 (sd_nl [- d]) (sd_nl [- d]) (sd_nl [- d]) (sd_nl [- d]) t)) = @sd_e4 sd_P sd_R (sd_ml [- d]) (sd_ml [- d]) (sd_ml [- d]) (sd_ml [- d]) := by
    funext t
    unfold sd_n4 sd_e4
    split <;> exact sd_nl_dg _
  have pe : @sd_e4 sd_P sd_R (sd_ml [- d]) (sd_ml [- d]) (sd_ml [- d]) (sd_ml [- d]) = @sd_e4 sd_P sd_R (sd_pa (sd_pn (sd_pc d)) (sd_pm sd_X (sd_pc 1))) (sd_pa (sd_pn (sd_pc d)) (sd_pm sd_X (sd_pc 1))) (sd_pa (sd_pn (sd_pc d)) (sd_pm sd_X (sd_pc 1))) (sd_pa (sd_pn (sd_pc d)) (sd_pm sd_X (sd_pc 1))) := by
    simp only [sd_ml_c, sd_pc_n]; rfl
  have cc : ∀ i j, i < 4 → j < 4 → sd_pc ((sd_sc 4 d) i j) = @sd_q4 sd_P sd_R (sd_pc d) (sd_pc 0) (sd_pc 0) (sd_pc 0) (sd_pc 0) (sd_pc d) (sd_pc 0) (sd_pc 0) (sd_pc 0) (sd_pc 0) (sd_pc d) (sd_pc 0) (sd_pc 0) (sd_pc 0) (sd_pc 0) (sd_pc d) i j := by
    intro i j hi hj
    have ci : i = 0 ∨ i = 1 ∨ i = 2 ∨ i = 3 := by omega
    have cj : j = 0 ∨ j = 1 ∨ j = 2 ∨ j = 3 := by omega
    rcases ci with rfl | rfl | rfl | rfl <;> rcases cj with rfl | rfl | rfl | rfl <;> rfl
  have xx : ∀ i j, i < 4 → j < 4 → sd_xm (sd_sc 4 d) i j = @sd_xg sd_P sd_R sd_X (@sd_q4 sd_P sd_R (sd_pc d) (sd_pc 0) (sd_pc 0) (sd_pc 0) (sd_pc 0) (sd_pc d) (sd_pc 0) (sd_pc 0) (sd_pc 0) (sd_pc 0) (sd_pc d) (sd_pc 0) (sd_pc 0) (sd_pc 0) (sd_pc 0) (sd_pc d)) i j := by
    intro i j hi hj
    rw [sd_xm_g]
    exact @sd_xg_c sd_P sd_R _ _ _ i j (cc i j hi hj)
  have sm := @sd_sm_s4 sd_P sd_R sd_X (sd_pc d)
  rw [ee]
  refine sd_smith h1 hk (by omega) _ ?_ ?_ (@sd_q4 sd_P sd_R (sd_pc 1) (sd_pc 0) (sd_pc 0) (sd_pc 0) (sd_pc 0) (sd_pc 1) (sd_pc 0) (sd_pc 0) (sd_pc 0) (sd_pc 0) (sd_pc 1) (sd_pc 0) (sd_pc 0) (sd_pc 0) (sd_pc 0) (sd_pc 1)) (@sd_q4 sd_P sd_R (sd_pc 1) (sd_pc 0) (sd_pc 0) (sd_pc 0) (sd_pc 0) (sd_pc 1) (sd_pc 0) (sd_pc 0) (sd_pc 0) (sd_pc 0) (sd_pc 1) (sd_pc 0) (sd_pc 0) (sd_pc 0) (sd_pc 0) (sd_pc 1)) (@sd_q4 sd_P sd_R (sd_pc 1) (sd_pc 0) (sd_pc 0) (sd_pc 0) (sd_pc 0) (sd_pc 1) (sd_pc 0) (sd_pc 0) (sd_pc 0) (sd_pc 0) (sd_pc 1) (sd_pc 0) (sd_pc 0) (sd_pc 0) (sd_pc 0) (sd_pc 1)) (@sd_q4 sd_P sd_R (sd_pc 1) (sd_pc 0) (sd_pc 0) (sd_pc 0) (sd_pc 0) (sd_pc 1) (sd_pc 0) (sd_pc 0) (sd_pc 0) (sd_pc 0) (sd_pc 1) (sd_pc 0) (sd_pc 0) (sd_pc 0) (sd_pc 0) (sd_pc 1)) (sd_q4_fs (sd_fs_pc _) (sd_fs_pc _) (sd_fs_pc _) (sd_fs_pc _) (sd_fs_pc _) (sd_fs_pc _) (sd_fs_pc _) (sd_fs_pc _) (sd_fs_pc _) (sd_fs_pc _) (sd_fs_pc _) (sd_fs_pc _) (sd_fs_pc _) (sd_fs_pc _) (sd_fs_pc _) (sd_fs_pc _)) (sd_q4_fs (sd_fs_pc _) (sd_fs_pc _) (sd_fs_pc _) (sd_fs_pc _) (sd_fs_pc _) (sd_fs_pc _) (sd_fs_pc _) (sd_fs_pc _) (sd_fs_pc _) (sd_fs_pc _) (sd_fs_pc _) (sd_fs_pc _) (sd_fs_pc _) (sd_fs_pc _) (sd_fs_pc _) (sd_fs_pc _)) (sd_q4_fs (sd_fs_pc _) (sd_fs_pc _) (sd_fs_pc _) (sd_fs_pc _) (sd_fs_pc _) (sd_fs_pc _) (sd_fs_pc _) (sd_fs_pc _) (sd_fs_pc _) (sd_fs_pc _) (sd_fs_pc _) (sd_fs_pc _) (sd_fs_pc _) (sd_fs_pc _) (sd_fs_pc _) (sd_fs_pc _)) (sd_q4_fs (sd_fs_pc _) (sd_fs_pc _) (sd_fs_pc _) (sd_fs_pc _) (sd_fs_pc _) (sd_fs_pc _) (sd_fs_pc _) (sd_fs_pc _) (sd_fs_pc _) (sd_fs_pc _) (sd_fs_pc _) (sd_fs_pc _) (sd_fs_pc _) (sd_fs_pc _) (sd_fs_pc _) (sd_fs_pc _)) ?_ ?_
  · intro t _
    unfold sd_e4
    split <;> exact ⟨_, sd_ml_mo _⟩
  · exact sd_ch4 4 (by omega) (fun _ => sd_dv_r _) (fun _ => sd_dv_r _) (fun _ => sd_dv_r _)
  · intro i j hi hj
    rw [pe, xx i j hi hj]
    exact (sm i j hi hj).1
  · intro i j hi hj
    rw [pe]
    refine (sm i j hi hj).2.trans ?_
    apply sd_gs_c
    intro l hl
    apply congrArg (sd_pm _)
    apply sd_gs_c
    intro t ht
    exact congrArg (sd_pm _) (xx l t hl ht).symm
theorem sd_sm_f21 {R : Type} [Lean.Grind.CommRing R] (x c0 c1 d : R) (i j : Nat) (hi : i < 3) (hj : j < 3) : sd_xg x (sd_q4 0 c0 0 0 1 c1 0 0 0 0 d 0 0 0 0 0) i j = sd_gs 3 (fun l => (sd_q4 (x) 0 1 0 (- 1) 0 0 0 0 1 0 0 0 0 0 0) i l * sd_gs 3 (fun t => (sd_q4 1 (c1 - x) 0 0 0 0 1 0 0 1 0 0 0 0 0 0) t j * sd_dgm (sd_e4 1 (- d + x * 1) (- c0 + x * (- c1 + x * 1)) 1) l t)) ∧
    sd_dgm (sd_e4 1 (- d + x * 1) (- c0 + x * (- c1 + x * 1)) 1) i j = sd_gs 3 (fun l => (sd_q4 0 (- 1) 0 0 0 0 1 0 (1) (x) 0 0 0 0 0 0) i l * sd_gs 3 (fun t => (sd_q4 1 0 (x - c1) 0 0 0 1 0 0 1 0 0 0 0 0 0) t j * sd_xg x (sd_q4 0 c0 0 0 1 c1 0 0 0 0 d 0 0 0 0 0) l t)) := by
  constructor
  · have ci : i = 0 ∨ i = 1 ∨ i = 2 := by omega
    have cj : j = 0 ∨ j = 1 ∨ j = 2 := by omega
    rcases ci with rfl | rfl | rfl <;> rcases cj with rfl | rfl | rfl <;>
      (simp only [sd_xg, sd_q4, sd_e4, sd_gs, sd_dgm, sd_dd, Nat.reduceEqDiff, reduceIte] <;> grind)
  · have ci : i = 0 ∨ i = 1 ∨ i = 2 := by omega
    have cj : j = 0 ∨ j = 1 ∨ j = 2 := by omega
    rcases ci with rfl | rfl | rfl <;> rcases cj with rfl | rfl | rfl <;>
      (simp only [sd_xg, sd_q4, sd_e4, sd_gs, sd_dgm, sd_dd, Nat.reduceEqDiff, reduceIte] <;> grind)
theorem sd_gf_f21 (c0 c1 d : Fin 5) (hd : d * d = c1 * d + c0) (k : Nat) (h1 : 1 ≤ k) (hk : k ≤ 3) : sd_gcd 3 k (sd_f21 c0 c1 d) (@sd_pr sd_P sd_R k (fun t => sd_dg (sd_n4 (sd_nl []) (sd_nl [- d]) (sd_nl [- c0, - c1]) (sd_nl []) t))) := by
  have ee : (fun t => sd_dg (sd_n4 (sd_nl []) (sd_nl [- d]) (sd_nl [- c0, - c1]) (sd_nl []) t)) = @sd_e4 sd_P sd_R (sd_ml []) (sd_ml [- d]) (sd_ml [- c0, - c1]) (sd_ml []) := by
    funext t
    unfold sd_n4 sd_e4
    split <;> exact sd_nl_dg _
  have pe : @sd_e4 sd_P sd_R (sd_ml []) (sd_ml [- d]) (sd_ml [- c0, - c1]) (sd_ml []) = @sd_e4 sd_P sd_R (sd_pc 1) (sd_pa (sd_pn (sd_pc d)) (sd_pm sd_X (sd_pc 1))) (sd_pa (sd_pn (sd_pc c0)) (sd_pm sd_X (sd_pa (sd_pn (sd_pc c1)) (sd_pm sd_X (sd_pc 1))))) (sd_pc 1) := by
    simp only [sd_ml_c, sd_pc_n]; rfl
  have cc : ∀ i j, i < 3 → j < 3 → sd_pc ((sd_f21 c0 c1 d) i j) = @sd_q4 sd_P sd_R (sd_pc 0) (sd_pc c0) (sd_pc 0) (sd_pc 0) (sd_pc 1) (sd_pc c1) (sd_pc 0) (sd_pc 0) (sd_pc 0) (sd_pc 0) (sd_pc d) (sd_pc 0) (sd_pc 0) (sd_pc 0) (sd_pc 0) (sd_pc 0) i j := by
    intro i j hi hj
    have ci : i = 0 ∨ i = 1 ∨ i = 2 := by omega
    have cj : j = 0 ∨ j = 1 ∨ j = 2 := by omega
    rcases ci with rfl | rfl | rfl <;> rcases cj with rfl | rfl | rfl <;> rfl
  have xx : ∀ i j, i < 3 → j < 3 → sd_xm (sd_f21 c0 c1 d) i j = @sd_xg sd_P sd_R sd_X (@sd_q4 sd_P sd_R (sd_pc 0) (sd_pc c0) (sd_pc 0) (sd_pc 0) (sd_pc 1) (sd_pc c1) (sd_pc 0) (sd_pc 0) (sd_pc 0) (sd_pc 0) (sd_pc d) (sd_pc 0) (sd_pc 0) (sd_pc 0) (sd_pc 0) (sd_pc 0)) i j := by
    intro i j hi hj
    rw [sd_xm_g]
    exact @sd_xg_c sd_P sd_R _ _ _ i j (cc i j hi hj)
  have sm := @sd_sm_f21 sd_P sd_R sd_X (sd_pc c0) (sd_pc c1) (sd_pc d)
  rw [ee]
  refine sd_smith h1 hk (by omega) _ ?_ ?_ (@sd_q4 sd_P sd_R sd_X (sd_pc 0) (sd_pc 1) (sd_pc 0) (sd_pn (sd_pc 1)) (sd_pc 0) (sd_pc 0) (sd_pc 0) (sd_pc 0) (sd_pc 1) (sd_pc 0) (sd_pc 0) (sd_pc 0) (sd_pc 0) (sd_pc 0) (sd_pc 0)) (@sd_q4 sd_P sd_R (sd_pc 1) (sd_pa (sd_pc c1) (sd_pn sd_X)) (sd_pc 0) (sd_pc 0) (sd_pc 0) (sd_pc 0) (sd_pc 1) (sd_pc 0) (sd_pc 0) (sd_pc 1) (sd_pc 0) (sd_pc 0) (sd_pc 0) (sd_pc 0) (sd_pc 0) (sd_pc 0)) (@sd_q4 sd_P sd_R (sd_pc 0) (sd_pn (sd_pc 1)) (sd_pc 0) (sd_pc 0) (sd_pc 0) (sd_pc 0) (sd_pc 1) (sd_pc 0) (sd_pc 1) sd_X (sd_pc 0) (sd_pc 0) (sd_pc 0) (sd_pc 0) (sd_pc 0) (sd_pc 0)) (@sd_q4 sd_P sd_R (sd_pc 1) (sd_pc 0) (sd_pa sd_X (sd_pn (sd_pc c1))) (sd_pc 0) (sd_pc 0) (sd_pc 0) (sd_pc 1) (sd_pc 0) (sd_pc 0) (sd_pc 1) (sd_pc 0) (sd_pc 0) (sd_pc 0) (sd_pc 0) (sd_pc 0) (sd_pc 0)) (sd_q4_fs sd_fs_X (sd_fs_pc _) (sd_fs_pc _) (sd_fs_pc _) (sd_fs_pn (sd_fs_pc _)) (sd_fs_pc _) (sd_fs_pc _) (sd_fs_pc _) (sd_fs_pc _) (sd_fs_pc _) (sd_fs_pc _) (sd_fs_pc _) (sd_fs_pc _) (sd_fs_pc _) (sd_fs_pc _) (sd_fs_pc _)) (sd_q4_fs (sd_fs_pc _) (sd_fs_pa (sd_fs_pc _) (sd_fs_pn sd_fs_X)) (sd_fs_pc _) (sd_fs_pc _) (sd_fs_pc _) (sd_fs_pc _) (sd_fs_pc _) (sd_fs_pc _) (sd_fs_pc _) (sd_fs_pc _) (sd_fs_pc _) (sd_fs_pc _) (sd_fs_pc _) (sd_fs_pc _) (sd_fs_pc _) (sd_fs_pc _)) (sd_q4_fs (sd_fs_pc _) (sd_fs_pn (sd_fs_pc _)) (sd_fs_pc _) (sd_fs_pc _) (sd_fs_pc _) (sd_fs_pc _) (sd_fs_pc _) (sd_fs_pc _) (sd_fs_pc _) sd_fs_X (sd_fs_pc _) (sd_fs_pc _) (sd_fs_pc _) (sd_fs_pc _) (sd_fs_pc _) (sd_fs_pc _)) (sd_q4_fs (sd_fs_pc _) (sd_fs_pc _) (sd_fs_pa sd_fs_X (sd_fs_pn (sd_fs_pc _))) (sd_fs_pc _) (sd_fs_pc _) (sd_fs_pc _) (sd_fs_pc _) (sd_fs_pc _) (sd_fs_pc _) (sd_fs_pc _) (sd_fs_pc _) (sd_fs_pc _) (sd_fs_pc _) (sd_fs_pc _) (sd_fs_pc _) (sd_fs_pc _)) ?_ ?_
  · intro t _
    unfold sd_e4
    split <;> exact ⟨_, sd_ml_mo _⟩
  · exact sd_ch4 3 (by omega) (fun _ => sd_dv_1 (sd_ml_fs _)) (fun _ => sd_dv_q c0 c1 d hd) (fun h => absurd h (by omega))
  · intro i j hi hj
    rw [pe, xx i j hi hj]
    exact (sm i j hi hj).1
  · intro i j hi hj
    rw [pe]
    refine (sm i j hi hj).2.trans ?_
    apply sd_gs_c
    intro l hl
    apply congrArg (sd_pm _)
    apply sd_gs_c
    intro t ht
    exact congrArg (sd_pm _) (xx l t hl ht).symm
theorem sd_sm_f31 {R : Type} [Lean.Grind.CommRing R] (x c0 c1 c2 d : R) (i j : Nat) (hi : i < 4) (hj : j < 4) : sd_xg x (sd_q4 0 0 c0 0 1 0 c1 0 0 1 c2 0 0 0 0 d) i j = sd_gs 4 (fun l => (sd_q4 (x) (x * x) 0 1 (- 1) 0 0 0 0 (- 1) 0 0 0 0 1 0) i l * sd_gs 4 (fun t => (sd_q4 1 (- x) c1 0 0 1 (c2 - x) 0 0 0 0 1 0 0 1 0) t j * sd_dgm (sd_e4 1 1 (- d + x * 1) (- c0 + x * (- c1 + x * (- c2 + x * 1)))) l t)) ∧
    sd_dgm (sd_e4 1 1 (- d + x * 1) (- c0 + x * (- c1 + x * (- c2 + x * 1)))) i j = sd_gs 4 (fun l => (sd_q4 0 (- 1) 0 0 0 0 (- 1) 0 0 0 0 1 (1) (x) (x * x) 0) i l * sd_gs 4 (fun t => (sd_q4 1 (x) 0 (x * (x - c2) - c1) 0 1 0 (x - c2) 0 0 0 1 0 0 1 0) t j * sd_xg x (sd_q4 0 0 c0 0 1 0 c1 0 0 1 c2 0 0 0 0 d) l t)) := by
  constructor
  · have ci : i = 0 ∨ i = 1 ∨ i = 2 ∨ i = 3 := by omega
    have cj : j = 0 ∨ j = 1 ∨ j = 2 ∨ j = 3 := by omega
    rcases ci with rfl | rfl | rfl | rfl <;> rcases cj with rfl | rfl | rfl | rfl <;>
      (simp only [sd_xg, sd_q4, sd_e4, sd_gs, sd_dgm, sd_dd, Nat.reduceEqDiff, reduceIte] <;> grind)
  · have ci : i = 0 ∨ i = 1 ∨ i = 2 ∨ i = 3 := by omega
    have cj : j = 0 ∨ j = 1 ∨ j = 2 ∨ j = 3 := by omega
    rcases ci with rfl | rfl | rfl | rfl <;> rcases cj with rfl | rfl | rfl | rfl <;>
      (simp only [sd_xg, sd_q4, sd_e4, sd_gs, sd_dgm, sd_dd, Nat.reduceEqDiff, reduceIte] <;> grind)
theorem sd_gf_f31 (c0 c1 c2 d : Fin 5) (hd : d * d * d = c2 * d * d + c1 * d + c0) (k : Nat) (h1 : 1 ≤ k) (hk : k ≤ 4) : sd_gcd 4 k (sd_f31 c0 c1 c2 d) (@sd_pr sd_P sd_R k (fun t => sd_dg (sd_n4 (sd_nl []) (sd_nl []) (sd_nl [- d]) (sd_nl [- c0, - c1, - c2]) t))) := by
  have ee : (fun t => sd_dg (sd_n4 (sd_nl []) (sd_nl []) (sd_nl [- d]) (sd_nl [- c0, - c1, - c2]) t)) = @sd_e4 sd_P sd_R (sd_ml []) (sd_ml []) (sd_ml [- d]) (sd_ml [- c0, - c1, - c2]) := by
    funext t
    unfold sd_n4 sd_e4
    split <;> exact sd_nl_dg _
  have pe : @sd_e4 sd_P sd_R (sd_ml []) (sd_ml []) (sd_ml [- d]) (sd_ml [- c0, - c1, - c2]) = @sd_e4 sd_P sd_R (sd_pc 1) (sd_pc 1) (sd_pa (sd_pn (sd_pc d)) (sd_pm sd_X (sd_pc 1))) (sd_pa (sd_pn (sd_pc c0)) (sd_pm sd_X (sd_pa (sd_pn (sd_pc c1)) (sd_pm sd_X (sd_pa (sd_pn (sd_pc c2)) (sd_pm sd_X (sd_pc 1))))))) := by
    simp only [sd_ml_c, sd_pc_n]; rfl
  have cc : ∀ i j, i < 4 → j < 4 → sd_pc ((sd_f31 c0 c1 c2 d) i j) = @sd_q4 sd_P sd_R (sd_pc 0) (sd_pc 0) (sd_pc c0) (sd_pc 0) (sd_pc 1) (sd_pc 0) (sd_pc c1) (sd_pc 0) (sd_pc 0) (sd_pc 1) (sd_pc c2) (sd_pc 0) (sd_pc 0) (sd_pc 0) (sd_pc 0) (sd_pc d) i j := by
    intro i j hi hj
    have ci : i = 0 ∨ i = 1 ∨ i = 2 ∨ i = 3 := by omega
    have cj : j = 0 ∨ j = 1 ∨ j = 2 ∨ j = 3 := by omega
    rcases ci with rfl | rfl | rfl | rfl <;> rcases cj with rfl | rfl | rfl | rfl <;> rfl
  have xx : ∀ i j, i < 4 → j < 4 → sd_xm (sd_f31 c0 c1 c2 d) i j = @sd_xg sd_P sd_R sd_X (@sd_q4 sd_P sd_R (sd_pc 0) (sd_pc 0) (sd_pc c0) (sd_pc 0) (sd_pc 1) (sd_pc 0) (sd_pc c1) (sd_pc 0) (sd_pc 0) (sd_pc 1) (sd_pc c2) (sd_pc 0) (sd_pc 0) (sd_pc 0) (sd_pc 0) (sd_pc d)) i j := by
    intro i j hi hj
    rw [sd_xm_g]
    exact @sd_xg_c sd_P sd_R _ _ _ i j (cc i j hi hj)
  have sm := @sd_sm_f31 sd_P sd_R sd_X (sd_pc c0) (sd_pc c1) (sd_pc c2) (sd_pc d)
  rw [ee]
  refine sd_smith h1 hk (by omega) _ ?_ ?_ (@sd_q4 sd_P sd_R sd_X (sd_pm sd_X sd_X) (sd_pc 0) (sd_pc 1) (sd_pn (sd_pc 1)) (sd_pc 0) (sd_pc 0) (sd_pc 0) (sd_pc 0) (sd_pn (sd_pc 1)) (sd_pc 0) (sd_pc 0) (sd_pc 0) (sd_pc 0) (sd_pc 1) (sd_pc 0)) (@sd_q4 sd_P sd_R (sd_pc 1) (sd_pn sd_X) (sd_pc c1) (sd_pc 0) (sd_pc 0) (sd_pc 1) (sd_pa (sd_pc c2) (sd_pn sd_X)) (sd_pc 0) (sd_pc 0) (sd_pc 0) (sd_pc 0) (sd_pc 1) (sd_pc 0) (sd_pc 0) (sd_pc 1) (sd_pc 0)) (@sd_q4 sd_P sd_R (sd_pc 0) (sd_pn (sd_pc 1)) (sd_pc 0) (sd_pc 0) (sd_pc 0) (sd_pc 0) (sd_pn (sd_pc 1)) (sd_pc 0) (sd_pc 0) (sd_pc 0) (sd_pc 0) (sd_pc 1) (sd_pc 1) sd_X (sd_pm sd_X sd_X) (sd_pc 0)) (@sd_q4 sd_P sd_R (sd_pc 1) sd_X (sd_pc 0) (sd_pa (sd_pm sd_X (sd_pa sd_X (sd_pn (sd_pc c2)))) (sd_pn (sd_pc c1))) (sd_pc 0) (sd_pc 1) (sd_pc 0) (sd_pa sd_X (sd_pn (sd_pc c2))) (sd_pc 0) (sd_pc 0) (sd_pc 0) (sd_pc 1) (sd_pc 0) (sd_pc 0) (sd_pc 1) (sd_pc 0)) (sd_q4_fs sd_fs_X (sd_fs_pm sd_fs_X sd_fs_X) (sd_fs_pc _) (sd_fs_pc _) (sd_fs_pn (sd_fs_pc _)) (sd_fs_pc _) (sd_fs_pc _) (sd_fs_pc _) (sd_fs_pc _) (sd_fs_pn (sd_fs_pc _)) (sd_fs_pc _) (sd_fs_pc _) (sd_fs_pc _) (sd_fs_pc _) (sd_fs_pc _) (sd_fs_pc _)) (sd_q4_fs (sd_fs_pc _) (sd_fs_pn sd_fs_X) (sd_fs_pc _) (sd_fs_pc _) (sd_fs_pc _) (sd_fs_pc _) (sd_fs_pa (sd_fs_pc _) (sd_fs_pn sd_fs_X)) (sd_fs_pc _) (sd_fs_pc _) (sd_fs_pc _) (sd_fs_pc _) (sd_fs_pc _) (sd_fs_pc _) (sd_fs_pc _) (sd_fs_pc _) (sd_fs_pc _)) (sd_q4_fs (sd_fs_pc _) (sd_fs_pn (sd_fs_pc _)) (sd_fs_pc _) (sd_fs_pc _) (sd_fs_pc _) (sd_fs_pc _) (sd_fs_pn (sd_fs_pc _)) (sd_fs_pc _) (sd_fs_pc _) (sd_fs_pc _) (sd_fs_pc _) (sd_fs_pc _) (sd_fs_pc _) sd_fs_X (sd_fs_pm sd_fs_X sd_fs_X) (sd_fs_pc _)) (sd_q4_fs (sd_fs_pc _) sd_fs_X (sd_fs_pc _) (sd_fs_pa (sd_fs_pm sd_fs_X (sd_fs_pa sd_fs_X (sd_fs_pn (sd_fs_pc _)))) (sd_fs_pn (sd_fs_pc _))) (sd_fs_pc _) (sd_fs_pc _) (sd_fs_pc _) (sd_fs_pa sd_fs_X (sd_fs_pn (sd_fs_pc _))) (sd_fs_pc _) (sd_fs_pc _) (sd_fs_pc _) (sd_fs_pc _) (sd_fs_pc _) (sd_fs_pc _) (sd_fs_pc _) (sd_fs_pc _)) ?_ ?_
  · intro t _
    unfold sd_e4
    split <;> exact ⟨_, sd_ml_mo _⟩
  · exact sd_ch4 4 (by omega) (fun _ => sd_dv_1 (sd_ml_fs _)) (fun _ => sd_dv_1 (sd_ml_fs _)) (fun _ => sd_dv_c c0 c1 c2 d hd)
  · intro i j hi hj
    rw [pe, xx i j hi hj]
    exact (sm i j hi hj).1
  · intro i j hi hj
    rw [pe]
    refine (sm i j hi hj).2.trans ?_
    apply sd_gs_c
    intro l hl
    apply congrArg (sd_pm _)
    apply sd_gs_c
    intro t ht
    exact congrArg (sd_pm _) (xx l t hl ht).symm
theorem sd_sm_f22 {R : Type} [Lean.Grind.CommRing R] (x c0 c1 : R) (i j : Nat) (hi : i < 4) (hj : j < 4) : sd_xg x (sd_q4 0 c0 0 0 1 c1 0 0 0 0 0 c0 0 0 1 c1) i j = sd_gs 4 (fun l => (sd_q4 (x) 0 1 0 (- 1) 0 0 0 0 (x) 0 1 0 (- 1) 0 0) i l * sd_gs 4 (fun t => (sd_q4 1 (c1 - x) 0 0 0 0 1 (c1 - x) 0 1 0 0 0 0 0 1) t j * sd_dgm (sd_e4 1 1 (- c0 + x * (- c1 + x * 1)) (- c0 + x * (- c1 + x * 1))) l t)) ∧
    sd_dgm (sd_e4 1 1 (- c0 + x * (- c1 + x * 1)) (- c0 + x * (- c1 + x * 1))) i j = sd_gs 4 (fun l => (sd_q4 0 (- 1) 0 0 0 0 0 (- 1) (1) (x) 0 0 0 0 (1) (x)) i l * sd_gs 4 (fun t => (sd_q4 1 0 (x - c1) 0 0 0 1 0 0 1 0 (x - c1) 0 0 0 1) t j * sd_xg x (sd_q4 0 c0 0 0 1 c1 0 0 0 0 0 c0 0 0 1 c1) l t)) := by
  constructor
  · have ci : i = 0 ∨ i = 1 ∨ i = 2 ∨ i = 3 := by omega
    have cj : j = 0 ∨ j = 1 ∨ j = 2 ∨ j = 3 := by omega
    rcases ci with rfl | rfl | rfl | rfl <;> rcases cj with rfl | rfl | rfl | rfl <;>
      (simp only [sd_xg, sd_q4, sd_e4, sd_gs, sd_dgm, sd_dd, Nat.reduceEqDiff, reduceIte] <;> grind)
  · have ci : i = 0 ∨ i = 1 ∨ i = 2 ∨ i = 3 := by omega
    have cj : j = 0 ∨ j = 1 ∨ j = 2 ∨ j = 3 := by omega
    rcases ci with rfl | rfl | rfl | rfl <;> rcases cj with rfl | rfl | rfl | rfl <;>
      (simp only [sd_xg, sd_q4, sd_e4, sd_gs, sd_dgm, sd_dd, Nat.reduceEqDiff, reduceIte] <;> grind)
theorem sd_gf_f22 (c0 c1 : Fin 5) (k : Nat) (h1 : 1 ≤ k) (hk : k ≤ 4) : sd_gcd 4 k (sd_f22 c0 c1) (@sd_pr sd_P sd_R k (fun t => sd_dg (sd_n4 (sd_nl []) (sd_nl []) (sd_nl [- c0, - c1]) (sd_nl [- c0, - c1]) t))) := by
  have ee : (fun t => sd_dg (sd_n4 (sd_nl []) (sd_nl []) (sd_nl [- c0, - c1]) (sd_nl [- c0, - c1]) t)) = @sd_e4 sd_P sd_R (sd_ml []) (sd_ml []) (sd_ml [- c0, - c1]) (sd_ml [- c0, - c1]) := by
    funext t
    unfold sd_n4 sd_e4
    split <;> exact sd_nl_dg _
  have pe : @sd_e4 sd_P sd_R (sd_ml []) (sd_ml []) (sd_ml [- c0, - c1]) (sd_ml [- c0, - c1]) = @sd_e4 sd_P sd_R (sd_pc 1) (sd_pc 1) (sd_pa (sd_pn (sd_pc c0)) (sd_pm sd_X (sd_pa (sd_pn (sd_pc c1)) (sd_pm sd_X (sd_pc 1))))) (sd_pa (sd_pn (sd_pc c0)) (sd_pm sd_X (sd_pa (sd_pn (sd_pc c1)) (sd_pm sd_X (sd_pc 1))))) := by
    simp only [sd_ml_c, sd_pc_n]; rfl
  have cc : ∀ i j, i < 4 → j < 4 → sd_pc ((sd_f22 c0 c1) i j) = @sd_q4 sd_P sd_R (sd_pc 0) (sd_pc c0) (sd_pc 0) (sd_pc 0) (sd_pc 1) (sd_pc c1) (sd_pc 0) (sd_pc 0) (sd_pc 0) (sd_pc 0) (sd_pc 0) (sd_pc c0) (sd_pc 0) (sd_pc 0) (sd_pc 1) (sd_pc c1) i j := by
    intro i j hi hj
    have ci : i = 0 ∨ i = 1 ∨ i = 2 ∨ i = 3 := by omega
    have cj : j = 0 ∨ j = 1 ∨ j = 2 ∨ j = 3 := by omega
    rcases ci with rfl | rfl | rfl | rfl <;> rcases cj with rfl | rfl | rfl | rfl <;> rfl
  have xx : ∀ i j, i < 4 → j < 4 → sd_xm (sd_f22 c0 c1) i j = @sd_xg sd_P sd_R sd_X (@sd_q4 sd_P sd_R (sd_pc 0) (sd_pc c0) (sd_pc 0) (sd_pc 0) (sd_pc 1) (sd_pc c1) (sd_pc 0) (sd_pc 0) (sd_pc 0) (sd_pc 0) (sd_pc 0) (sd_pc c0) (sd_pc 0) (sd_pc 0) (sd_pc 1) (sd_pc c1)) i j := by
    intro i j hi hj
    rw [sd_xm_g]
    exact @sd_xg_c sd_P sd_R _ _ _ i j (cc i j hi hj)
  have sm := @sd_sm_f22 sd_P sd_R sd_X (sd_pc c0) (sd_pc c1)
  rw [ee]
  refine sd_smith h1 hk (by omega) _ ?_ ?_ (@sd_q4 sd_P sd_R sd_X (sd_pc 0) (sd_pc 1) (sd_pc 0) (sd_pn (sd_pc 1)) (sd_pc 0) (sd_pc 0) (sd_pc 0) (sd_pc 0) sd_X (sd_pc 0) (sd_pc 1) (sd_pc 0) (sd_pn (sd_pc 1)) (sd_pc 0) (sd_pc 0)) (@sd_q4 sd_P sd_R (sd_pc 1) (sd_pa (sd_pc c1) (sd_pn sd_X)) (sd_pc 0) (sd_pc 0) (sd_pc 0) (sd_pc 0) (sd_pc 1) (sd_pa (sd_pc c1) (sd_pn sd_X)) (sd_pc 0) (sd_pc 1) (sd_pc 0) (sd_pc 0) (sd_pc 0) (sd_pc 0) (sd_pc 0) (sd_pc 1)) (@sd_q4 sd_P sd_R (sd_pc 0) (sd_pn (sd_pc 1)) (sd_pc 0) (sd_pc 0) (sd_pc 0) (sd_pc 0) (sd_pc 0) (sd_pn (sd_pc 1)) (sd_pc 1) sd_X (sd_pc 0) (sd_pc 0) (sd_pc 0) (sd_pc 0) (sd_pc 1) sd_X) (@sd_q4 sd_P sd_R (sd_pc 1) (sd_pc 0) (sd_pa sd_X (sd_pn (sd_pc c1))) (sd_pc 0) (sd_pc 0) (sd_pc 0) (sd_pc 1) (sd_pc 0) (sd_pc 0) (sd_pc 1) (sd_pc 0) (sd_pa sd_X (sd_pn (sd_pc c1))) (sd_pc 0) (sd_pc 0) (sd_pc 0) (sd_pc 1)) (sd_q4_fs sd_fs_X (sd_fs_pc _) (sd_fs_pc _) (sd_fs_pc _) (sd_fs_pn (sd_fs_pc _)) (sd_fs_pc _) (sd_fs_pc _) (sd_fs_pc _) (sd_fs_pc _) sd_fs_X (sd_fs_pc _) (sd_fs_pc _) (sd_fs_pc _) (sd_fs_pn (sd_fs_pc _)) (sd_fs_pc _) (sd_fs_pc _)) (sd_q4_fs (sd_fs_pc _) (sd_fs_pa (sd_fs_pc _) (sd_fs_pn sd_fs_X)) (sd_fs_pc _) (sd_fs_pc _) (sd_fs_pc _) (sd_fs_pc _) (sd_fs_pc _) (sd_fs_pa (sd_fs_pc _) (sd_fs_pn sd_fs_X)) (sd_fs_pc _) (sd_fs_pc _) (sd_fs_pc _) (sd_fs_pc _) (sd_fs_pc _) (sd_fs_pc _) (sd_fs_pc _) (sd_fs_pc _)) (sd_q4_fs (sd_fs_pc _) (sd_fs_pn (sd_fs_pc _)) (sd_fs_pc _) (sd_fs_pc _) (sd_fs_pc _) (sd_fs_pc _) (sd_fs_pc _) (sd_fs_pn (sd_fs_pc _)) (sd_fs_pc _) sd_fs_X (sd_fs_pc _) (sd_fs_pc _) (sd_fs_pc _) (sd_fs_pc _) (sd_fs_pc _) sd_fs_X) (sd_q4_fs (sd_fs_pc _) (sd_fs_pc _) (sd_fs_pa sd_fs_X (sd_fs_pn (sd_fs_pc _))) (sd_fs_pc _) (sd_fs_pc _) (sd_fs_pc _) (sd_fs_pc _) (sd_fs_pc _) (sd_fs_pc _) (sd_fs_pc _) (sd_fs_pc _) (sd_fs_pa sd_fs_X (sd_fs_pn (sd_fs_pc _))) (sd_fs_pc _) (sd_fs_pc _) (sd_fs_pc _) (sd_fs_pc _)) ?_ ?_
  · intro t _
    unfold sd_e4
    split <;> exact ⟨_, sd_ml_mo _⟩
  · exact sd_ch4 4 (by omega) (fun _ => sd_dv_1 (sd_ml_fs _)) (fun _ => sd_dv_1 (sd_ml_fs _)) (fun _ => sd_dv_r _)
  · intro i j hi hj
    rw [pe, xx i j hi hj]
    exact (sm i j hi hj).1
  · intro i j hi hj
    rw [pe]
    refine (sm i j hi hj).2.trans ?_
    apply sd_gs_c
    intro l hl
    apply congrArg (sd_pm _)
    apply sd_gs_c
    intro t ht
    exact congrArg (sd_pm _) (xx l t hl ht).symm
theorem sd_sm_f211 {R : Type} [Lean.Grind.CommRing R] (x c0 c1 d : R) (i j : Nat) (hi : i < 4) (hj : j < 4) : sd_xg x (sd_q4 0 c0 0 0 1 c1 0 0 0 0 d 0 0 0 0 d) i j = sd_gs 4 (fun l => (sd_q4 (x) 0 0 1 (- 1) 0 0 0 0 1 0 0 0 0 1 0) i l * sd_gs 4 (fun t => (sd_q4 1 (c1 - x) 0 0 0 0 1 0 0 0 0 1 0 1 0 0) t j * sd_dgm (sd_e4 1 (- d + x * 1) (- d + x * 1) (- c0 + x * (- c1 + x * 1))) l t)) ∧
    sd_dgm (sd_e4 1 (- d + x * 1) (- d + x * 1) (- c0 + x * (- c1 + x * 1))) i j = sd_gs 4 (fun l => (sd_q4 0 (- 1) 0 0 0 0 1 0 0 0 0 1 (1) (x) 0 0) i l * sd_gs 4 (fun t => (sd_q4 1 0 0 (x - c1) 0 0 0 1 0 1 0 0 0 0 1 0) t j * sd_xg x (sd_q4 0 c0 0 0 1 c1 0 0 0 0 d 0 0 0 0 d) l t)) := by
  constructor
  · have ci : i = 0 ∨ i = 1 ∨ i = 2 ∨ i = 3 := by omega
    have cj : j = 0 ∨ j = 1 ∨ j = 2 ∨ j = 3 := by omega
    rcases ci with rfl | rfl | rfl | rfl <;> rcases cj with rfl | rfl | rfl | rfl <;>
      (simp only [sd_xg, sd_q4, sd_e4, sd_gs, sd_dgm, sd_dd, Nat.reduceEqDiff, reduceIte] <;> grind)
  · have ci : i = 0 ∨ i = 1 ∨ i = 2 ∨ i = 3 := by omega
    have cj : j = 0 ∨ j = 1 ∨ j = 2 ∨ j = 3 := by omega
    rcases ci with rfl | rfl | rfl | rfl <;> rcases cj with rfl | rfl | rfl | rfl <;>
      (simp only [sd_xg, sd_q4, sd_e4, sd_gs, sd_dgm, sd_dd, Nat.reduceEqDiff, reduceIte] <;> grind)
theorem sd_gf_f211 (c0 c1 d : Fin 5) (hd : d * d = c1 * d + c0) (k : Nat) (h1 : 1 ≤ k) (hk : k ≤ 4) : sd_gcd 4 k (sd_f211 c0 c1 d) (@sd_pr sd_P sd_R k (fun t => sd_dg (sd_n4 (sd_nl []) (sd_nl [- d]) (sd_nl [- d]) (sd_nl [- c0, - c1]) t))) := by
  have ee : (fun t => sd_dg (sd_n4 (sd_nl []) (sd_nl [- d]) (sd_nl [- d]) (sd_nl [- c0, - c1]) t)) = @sd_e4 sd_P sd_R (sd_ml []) (sd_ml [- d]) (sd_ml [- d]) (sd_ml [- c0, - c1]) := by
    funext t
    unfold sd_n4 sd_e4
    split <;> exact sd_nl_dg _
  have pe : @sd_e4 sd_P sd_R (sd_ml []) (sd_ml [- d]) (sd_ml [- d]) (sd_ml [- c0, - c1]) = @sd_e4 sd_P sd_R (sd_pc 1) (sd_pa (sd_pn (sd_pc d)) (sd_pm sd_X (sd_pc 1))) (sd_pa (sd_pn (sd_pc d)) (sd_pm sd_X (sd_pc 1))) (sd_pa (sd_pn (sd_pc c0)) (sd_pm sd_X (sd_pa (sd_pn (sd_pc c1)) (sd_pm sd_X (sd_pc 1))))) := by
    simp only [sd_ml_c, sd_pc_n]; rfl
  have cc : ∀ i j, i < 4 → j < 4 → sd_pc ((sd_f211 c0 c1 d) i j) = @sd_q4 sd_P sd_R (sd_pc 0) (sd_pc c0) (sd_pc 0) (sd_pc 0) (sd_pc 1) (sd_pc c1) (sd_pc 0) (sd_pc 0) (sd_pc 0) (sd_pc 0) (sd_pc d) (sd_pc 0) (sd_pc 0) (sd_pc 0) (sd_pc 0) (sd_pc d) i j := by
    intro i j hi hj
    have ci : i = 0 ∨ i = 1 ∨ i = 2 ∨ i = 3 := by omega
    have cj : j = 0 ∨ j = 1 ∨ j = 2 ∨ j = 3 := by omega
    rcases ci with rfl | rfl | rfl | rfl <;> rcases cj with rfl | rfl | rfl | rfl <;> rfl
  have xx : ∀ i j, i < 4 → j < 4 → sd_xm (sd_f211 c0 c1 d) i j = @sd_xg sd_P sd_R sd_X (@sd_q4 sd_P sd_R (sd_pc 0) (sd_pc c0) (sd_pc 0) (sd_pc 0) (sd_pc 1) (sd_pc c1) (sd_pc 0) (sd_pc 0) (sd_pc 0) (sd_pc 0) (sd_pc d) (sd_pc 0) (sd_pc 0) (sd_pc 0) (sd_pc 0) (sd_pc d)) i j := by
    intro i j hi hj
    rw [sd_xm_g]
    exact @sd_xg_c sd_P sd_R _ _ _ i j (cc i j hi hj)
  have sm := @sd_sm_f211 sd_P sd_R sd_X (sd_pc c0) (sd_pc c1) (sd_pc d)
  rw [ee]
  refine sd_smith h1 hk (by omega) _ ?_ ?_ (@sd_q4 sd_P sd_R sd_X (sd_pc 0) (sd_pc 0) (sd_pc 1) (sd_pn (sd_pc 1)) (sd_pc 0) (sd_pc 0) (sd_pc 0) (sd_pc 0) (sd_pc 1) (sd_pc 0) (sd_pc 0) (sd_pc 0) (sd_pc 0) (sd_pc 1) (sd_pc 0)) (@sd_q4 sd_P sd_R (sd_pc 1) (sd_pa (sd_pc c1) (sd_pn sd_X)) (sd_pc 0) (sd_pc 0) (sd_pc 0) (sd_pc 0) (sd_pc 1) (sd_pc 0) (sd_pc 0) (sd_pc 0) (sd_pc 0) (sd_pc 1) (sd_pc 0) (sd_pc 1) (sd_pc 0) (sd_pc 0)) (@sd_q4 sd_P sd_R (sd_pc 0) (sd_pn (sd_pc 1)) (sd_pc 0) (sd_pc 0) (sd_pc 0) (sd_pc 0) (sd_pc 1) (sd_pc 0) (sd_pc 0) (sd_pc 0) (sd_pc 0) (sd_pc 1) (sd_pc 1) sd_X (sd_pc 0) (sd_pc 0)) (@sd_q4 sd_P sd_R (sd_pc 1) (sd_pc 0) (sd_pc 0) (sd_pa sd_X (sd_pn (sd_pc c1))) (sd_pc 0) (sd_pc 0) (sd_pc 0) (sd_pc 1) (sd_pc 0) (sd_pc 1) (sd_pc 0) (sd_pc 0) (sd_pc 0) (sd_pc 0) (sd_pc 1) (sd_pc 0)) (sd_q4_fs sd_fs_X (sd_fs_pc _) (sd_fs_pc _) (sd_fs_pc _) (sd_fs_pn (sd_fs_pc _)) (sd_fs_pc _) (sd_fs_pc _) (sd_fs_pc _) (sd_fs_pc _) (sd_fs_pc _) (sd_fs_pc _) (sd_fs_pc _) (sd_fs_pc _) (sd_fs_pc _) (sd_fs_pc _) (sd_fs_pc _)) (sd_q4_fs (sd_fs_pc _) (sd_fs_pa (sd_fs_pc _) (sd_fs_pn sd_fs_X)) (sd_fs_pc _) (sd_fs_pc _) (sd_fs_pc _) (sd_fs_pc _) (sd_fs_pc _) (sd_fs_pc _) (sd_fs_pc _) (sd_fs_pc _) (sd_fs_pc _) (sd_fs_pc _) (sd_fs_pc _) (sd_fs_pc _) (sd_fs_pc _) (sd_fs_pc _)) (sd_q4_fs (sd_fs_pc _) (sd_fs_pn (sd_fs_pc _)) (sd_fs_pc _) (sd_fs_pc _) (sd_fs_pc _) (sd_fs_pc _) (sd_fs_pc _) (sd_fs_pc _) (sd_fs_pc _) (sd_fs_pc _) (sd_fs_pc _) (sd_fs_pc _) (sd_fs_pc _) sd_fs_X (sd_fs_pc _) (sd_fs_pc _)) (sd_q4_fs (sd_fs_pc _) (sd_fs_pc _) (sd_fs_pc _) (sd_fs_pa sd_fs_X (sd_fs_pn (sd_fs_pc _))) (sd_fs_pc _) (sd_fs_pc _) (sd_fs_pc _) (sd_fs_pc _) (sd_fs_pc _) (sd_fs_pc _) (sd_fs_pc _) (sd_fs_pc _) (sd_fs_pc _) (sd_fs_pc _) (sd_fs_pc _) (sd_fs_pc _)) ?_ ?_
  · intro t _
    unfold sd_e4
    split <;> exact ⟨_, sd_ml_mo _⟩
  · exact sd_ch4 4 (by omega) (fun _ => sd_dv_1 (sd_ml_fs _)) (fun _ => sd_dv_r _) (fun _ => sd_dv_q c0 c1 d hd)
  · intro i j hi hj
    rw [pe, xx i j hi hj]
    exact (sm i j hi hj).1
  · intro i j hi hj
    rw [pe]
    refine (sm i j hi hj).2.trans ?_
    apply sd_gs_c
    intro l hl
    apply congrArg (sd_pm _)
    apply sd_gs_c
    intro t ht
    exact congrArg (sd_pm _) (xx l t hl ht).symm
end
section
/-! ===== spans, elimination, the rank of a list of rows ===== -/
/-- rows that are combinations of others -/
theorem sd_sub {p p' c r : Nat} {M M' : sd_M} (h : ∀ i, i < p' → ∃ a : Nat → Fin 5, ∀ j, j < c → M' i j = sd_s p (fun l => a l * M l j)) : (sd_le p c M r → sd_le p' c M' r) ∧ (sd_ge p' c M' r → sd_ge p c M r) := by
  have h' : ∃ U : sd_M, ∀ i, i < p' → ∀ j, j < c → M' i j = sd_s p (fun l => U i l * M l j) := by
    have z : ∀ i, ∃ a : Nat → Fin 5, i < p' → ∀ j, j < c → M' i j = sd_s p (fun l => a l * M l j) := by
      intro i
      by_cases hi : i < p'
      · obtain ⟨a, ha⟩ := h i hi
        exact ⟨a, fun _ => ha⟩
      · exact ⟨fun _ => 0, fun k => absurd k hi⟩
    exact ⟨fun i => (z i).choose, fun i hi => (z i).choose_spec hi⟩
  obtain ⟨U, hU⟩ := h'
  have e : ∀ i j, i < p' → j < c → M' i j = sd_m p U (sd_m c M sd_1) i j := by
    intro i j hi hj
    rw [hU i hi j hj]
    apply sd_s_c
    intro l _
    rw [sd_m_1 hj]
  exact ⟨fun k => sd_le_t e k, fun k => sd_ge_t e k⟩
theorem sd_eqv {p p' c r : Nat} {M M' : sd_M} (h : ∀ i, i < p' → ∃ a : Nat → Fin 5, ∀ j, j < c → M' i j = sd_s p (fun l => a l * M l j)) (h' : ∀ i, i < p → ∃ a : Nat → Fin 5, ∀ j, j < c → M i j = sd_s p' (fun l => a l * M' l j)) : sd_rk p c M r ↔ sd_rk p' c M' r :=
  ⟨fun k => ⟨(sd_sub h').2 k.1, (sd_sub h).1 k.2⟩, fun k => ⟨(sd_sub h).2 k.1, (sd_sub h').1 k.2⟩⟩

def sd_lm (L : List (Nat → Fin 5)) : sd_M := fun i j => L.getD i (fun _ => 0) j
def sd_lr (c : Nat) (L : List (Nat → Fin 5)) (r : Nat) : Prop := sd_rk L.length c (sd_lm L) r
theorem sd_gd_map (f : (Nat → Fin 5) → (Nat → Fin 5)) : ∀ (L : List (Nat → Fin 5)) (i : Nat), i < L.length → (L.map f).getD i (fun _ => 0) = f (L.getD i (fun _ => 0)) := by
  intro L
  induction L with
  | nil => intro i h; exact absurd h (by simp)
  | cons v L ih =>
    intro i h
    cases i with
    | zero => rfl
    | succ i => exact ih i (by simpa using h)
theorem sd_gd_mem : ∀ (L : List (Nat → Fin 5)) (i : Nat), i < L.length → L.getD i (fun _ => 0) ∈ L := by
  intro L
  induction L with
  | nil => intro i h; exact absurd h (by simp)
  | cons v L ih =>
    intro i h
    cases i with
    | zero => exact List.mem_cons_self
    | succ i => exact List.mem_cons_of_mem _ (ih i (by simpa using h))
theorem sd_mem_gd : ∀ (L : List (Nat → Fin 5)) (v : Nat → Fin 5), v ∈ L → ∃ i, i < L.length ∧ L.getD i (fun _ => 0) = v := by
  intro L
  induction L with
  | nil => intro v h; exact absurd h (by simp)
  | cons w L ih =>
    intro v h
    rcases List.mem_cons.mp h with rfl | h
    · exact ⟨0, by simp, rfl⟩
    · obtain ⟨i, hi, e⟩ := ih v h
      exact ⟨i + 1, by simpa using hi, e⟩
theorem sd_lr_set {c r : Nat} {L L' : List (Nat → Fin 5)} (h : ∀ v, v ∈ L' ↔ v ∈ L) : sd_lr c L r ↔ sd_lr c L' r := by
  have aux : ∀ L L' : List (Nat → Fin 5), (∀ v, v ∈ L' → v ∈ L) → ∀ i, i < L'.length → ∃ a : Nat → Fin 5, ∀ j, j < c → sd_lm L' i j = sd_s L.length (fun l => a l * sd_lm L l j) := by
    intro L L' h i hi
    obtain ⟨l, hl, e⟩ := sd_mem_gd L _ (h _ (sd_gd_mem L' i hi))
    refine ⟨sd_e l, fun j _ => ?_⟩
    have e2 : (fun t => sd_e l t * sd_lm L t j) = fun t => sd_lm L t j * sd_e l t := by funext t; grind
    rw [e2, sd_s_e hl]
    unfold sd_lm
    rw [e]
  exact sd_eqv (aux L L' (fun v k => (h v).mp k)) (aux L' L (fun v k => (h v).mpr k))
theorem sd_s_sc {n : Nat} (f : Nat → Fin 5) : sd_s (n + 1) f = f 0 + sd_s n (fun i => f (i + 1)) := by
  induction n with
  | zero => show (0 : Fin 5) + f 0 = f 0 + 0; grind
  | succ n ih =>
    show sd_s (n + 1) f + f (n + 1) = f 0 + (sd_s n (fun i => f (i + 1)) + f (n + 1))
    rw [ih]; grind
/-- a first column of zeros -/
theorem sd_rk_z {p c r : Nat} {M : sd_M} (hz : ∀ i, i < p → M i 0 = 0) (h : sd_rk p c (fun i j => M i (j + 1)) r) : sd_rk p (c + 1) M r := by
  obtain ⟨⟨L, T, e⟩, ⟨X, Y, e'⟩⟩ := h
  refine ⟨⟨L, fun l j => match l with | 0 => 0 | l + 1 => T l j, ?_⟩, ⟨X, fun l j => match j with | 0 => 0 | j + 1 => Y l j, ?_⟩⟩
  · intro i j hi hj
    rw [← e i j hi hj]
    apply sd_m_c
    · intro l _; rfl
    · intro l _
      show sd_s (c + 1) _ = _
      rw [sd_s_sc]
      show M l 0 * 0 + _ = _
      have : M l 0 * 0 = 0 := by grind
      rw [this]
      show (0 : Fin 5) + sd_s c (fun i => M l (i + 1) * T i j) = sd_s c (fun i => M l (i + 1) * T i j)
      grind
  · intro i j hi hj
    cases j with
    | zero =>
      rw [hz i hi]
      show 0 = sd_s r (fun l => X i l * 0)
      refine ((sd_s_c (g := fun _ => 0) ?_).trans (sd_s_0 r)).symm
      intro l _; grind
    | succ j => exact e' i j hi (by omega)
/-- a row u with u 0 not 0, and other rows that are cleared by it -/
theorem sd_rk_p {p c r : Nat} {M : sd_M} (hu : M 0 0 ≠ 0) (h : sd_rk p c (fun i j => M (i + 1) (j + 1) - M (i + 1) 0 * (sd_i (M 0 0) * M 0 (j + 1))) r) : sd_rk (p + 1) (c + 1) M (r + 1) := by
  obtain ⟨⟨L, T, e⟩, ⟨X, Y, e'⟩⟩ := h
  have iv := sd_i_m (M 0 0) hu
  generalize hv : sd_i (M 0 0) = v at iv e e'
  constructor
  · -- L' row 0: v at 0; row i+1: at 0: - sum L i l * M (l+1) 0 * v, at l+1: L i l
    refine ⟨fun i l => match i, l with
      | 0, 0 => v
      | 0, _ + 1 => 0
      | i + 1, 0 => - (sd_s p (fun l => L i l * M (l + 1) 0) * v)
      | i + 1, l + 1 => L i l, fun l j => match l, j with
      | 0, 0 => 1
      | _ + 1, 0 => 0
      | 0, j + 1 => - (v * sd_s c (fun t => M 0 (t + 1) * T t j))
      | l + 1, j + 1 => T l j, ?_⟩
    intro i j hi hj
    -- the product M T'
    have m0 : ∀ l, sd_m (c + 1) M (fun l j => match l, j with
      | 0, 0 => 1
      | _ + 1, 0 => 0
      | 0, j + 1 => - (v * sd_s c (fun t => M 0 (t + 1) * T t j))
      | l + 1, j + 1 => T l j) l 0 = M l 0 := by
      intro l
      show sd_s (c + 1) _ = _
      rw [sd_s_sc]
      show M l 0 * 1 + sd_s c (fun i => M l (i + 1) * 0) = M l 0
      have : sd_s c (fun i => M l (i + 1) * 0) = 0 := (sd_s_c (g := fun _ => 0) (fun i _ => by grind)).trans (sd_s_0 c)
      rw [this]; grind
    have m1 : ∀ l j, sd_m (c + 1) M (fun l j => match l, j with
      | 0, 0 => 1
      | _ + 1, 0 => 0
      | 0, j + 1 => - (v * sd_s c (fun t => M 0 (t + 1) * T t j))
      | l + 1, j + 1 => T l j) l (j + 1) = sd_s c (fun t => M l (t + 1) * T t j) - M l 0 * (v * sd_s c (fun t => M 0 (t + 1) * T t j)) := by
      intro l j
      show sd_s (c + 1) _ = _
      rw [sd_s_sc]
      show M l 0 * - (v * sd_s c (fun t => M 0 (t + 1) * T t j)) + sd_s c (fun t => M l (t + 1) * T t j) = _
      grind
    show sd_s (p + 1) _ = _
    rw [sd_s_sc]
    cases i with
    | zero =>
      have z : ∀ g : Nat → Fin 5, sd_s p (fun i => 0 * g i) = 0 := fun g => (sd_s_c (g := fun _ => 0) (fun i _ => by grind)).trans (sd_s_0 p)
      cases j with
      | zero =>
        dsimp only
        rw [m0, z]
        show v * M 0 0 + 0 = 1
        grind
      | succ j =>
        dsimp only
        rw [m1, z]
        show _ = (0 : Fin 5)
        grind
    | succ i =>
      cases j with
      | zero =>
        dsimp only
        rw [m0]
        have : (fun l => L i l * sd_m (c + 1) M (fun l j => match l, j with
          | 0, 0 => 1
          | _ + 1, 0 => 0
          | 0, j + 1 => - (v * sd_s c (fun t => M 0 (t + 1) * T t j))
          | l + 1, j + 1 => T l j) (l + 1) 0) = fun l => L i l * M (l + 1) 0 := by funext l; rw [m0]
        rw [this]
        show _ = (0 : Fin 5)
        grind
      | succ j =>
        dsimp only
        rw [m1]
        have e0 := e i j (by omega) (by omega)
        have s1 : sd_1 (i + 1) (j + 1) = sd_1 i j := by
          unfold sd_1
          by_cases q : i = j
          · rw [if_pos q, if_pos (by omega)]
          · rw [if_neg q, if_neg (by omega)]
        rw [s1, ← e0]
        have f1 : (fun l => L i l * sd_m (c + 1) M (fun l j => match l, j with
          | 0, 0 => 1
          | _ + 1, 0 => 0
          | 0, j + 1 => - (v * sd_s c (fun t => M 0 (t + 1) * T t j))
          | l + 1, j + 1 => T l j) (l + 1) (j + 1)) = fun l => L i l * (sd_s c (fun t => M (l + 1) (t + 1) * T t j) - M (l + 1) 0 * (v * sd_s c (fun t => M 0 (t + 1) * T t j))) := by
          funext l; rw [m1]
        rw [f1, sd_s_lin p (L i) (fun l => sd_s c (fun t => M (l + 1) (t + 1) * T t j)) (fun l => M (l + 1) 0)]
        have f2 : sd_m p L (sd_m c (fun i j => M (i + 1) (j + 1) - M (i + 1) 0 * (v * M 0 (j + 1))) T) i j = sd_s p (fun l => L i l * (sd_s c (fun t => M (l + 1) (t + 1) * T t j) - M (l + 1) 0 * (v * sd_s c (fun t => M 0 (t + 1) * T t j)))) := by
          apply sd_s_c
          intro l _
          congr 1
          show sd_s c (fun t => (M (l + 1) (t + 1) - M (l + 1) 0 * (v * M 0 (t + 1))) * T t j) = _
          have g1 : (fun t => (M (l + 1) (t + 1) - M (l + 1) 0 * (v * M 0 (t + 1))) * T t j) = fun t => M (l + 1) (t + 1) * T t j + (- (M (l + 1) 0 * v)) * (M 0 (t + 1) * T t j) := by funext t; grind
          rw [g1, sd_s_add, sd_s_ml]; grind
        rw [f2, sd_s_lin p (L i) (fun l => sd_s c (fun t => M (l + 1) (t + 1) * T t j)) (fun l => M (l + 1) 0)]
        generalize sd_s p (fun l => L i l * M (l + 1) 0) = a1
        generalize sd_s p (fun l => L i l * sd_s c (fun t => M (l + 1) (t + 1) * T t j)) = a2
        generalize sd_s c (fun t => M 0 (t + 1) * T t j) = a3
        grind
  · refine ⟨fun i l => match i, l with
      | 0, 0 => 1
      | 0, _ + 1 => 0
      | i + 1, 0 => M (i + 1) 0 * v
      | i + 1, l + 1 => X i l, fun l j => match l, j with
      | 0, j => M 0 j
      | _ + 1, 0 => 0
      | l + 1, j + 1 => Y l j, ?_⟩
    intro i j hi hj
    show _ = sd_s (r + 1) _
    rw [sd_s_sc]
    cases i with
    | zero =>
      show M 0 j = 1 * M 0 j + sd_s r _
      have : ∀ g : Nat → Fin 5, sd_s r (fun i => 0 * g i) = 0 := fun g => (sd_s_c (g := fun _ => 0) (fun i _ => by grind)).trans (sd_s_0 r)
      rw [this]; grind
    | succ i =>
      cases j with
      | zero =>
        show M (i + 1) 0 = M (i + 1) 0 * v * M 0 0 + sd_s r (fun l => X i l * 0)
        have : sd_s r (fun l => X i l * 0) = 0 := (sd_s_c (g := fun _ => 0) (fun l _ => by grind)).trans (sd_s_0 r)
        rw [this]; grind
      | succ j =>
        have e0 := e' i j (by omega) (by omega)
        show M (i + 1) (j + 1) = M (i + 1) 0 * v * M 0 (j + 1) + sd_s r (fun l => X i l * Y l j)
        have e1 : sd_s r (fun l => X i l * Y l j) = M (i + 1) (j + 1) - M (i + 1) 0 * (v * M 0 (j + 1)) := e0.symm
        rw [e1]; grind
theorem sd_lr_z {c r : Nat} {L : List (Nat → Fin 5)} (hz : ∀ v, v ∈ L → v 0 = 0) (h : sd_lr c (L.map sd_tl) r) : sd_lr (c + 1) L r := by
  unfold sd_lr at h ⊢
  rw [List.length_map] at h
  apply sd_rk_z
  · intro i hi; exact hz _ (sd_gd_mem L i hi)
  · refine (sd_eqv ?_ ?_).mp h
    · intro i hi
      refine ⟨sd_e i, fun j _ => ?_⟩
      have e2 : (fun t => sd_e i t * sd_lm (L.map sd_tl) t j) = fun t => sd_lm (L.map sd_tl) t j * sd_e i t := by funext t; grind
      rw [e2, sd_s_e hi]
      show _ = (L.map sd_tl).getD i (fun _ => 0) j
      rw [sd_gd_map sd_tl L i hi]; rfl
    · intro i hi
      refine ⟨sd_e i, fun j _ => ?_⟩
      have e2 : (fun t => sd_e i t * sd_lm L t (j + 1)) = fun t => sd_lm L t (j + 1) * sd_e i t := by funext t; grind
      rw [e2, sd_s_e hi]
      show (L.map sd_tl).getD i (fun _ => 0) j = _
      rw [sd_gd_map sd_tl L i hi]; rfl
theorem sd_lr_p {c r : Nat} {L : List (Nat → Fin 5)} {u : Nat → Fin 5} (hu : u 0 ≠ 0) (h : sd_lr c (L.map (fun v j => v (j + 1) - v 0 * (sd_i (u 0) * u (j + 1)))) r) : sd_lr (c + 1) (u :: L) (r + 1) := by
  unfold sd_lr at h ⊢
  rw [List.length_map] at h
  rw [List.length_cons]
  apply sd_rk_p
  · exact hu
  · have key : ∀ i j, i < L.length → sd_lm (L.map (fun v j => v (j + 1) - v 0 * (sd_i (u 0) * u (j + 1)))) i j = sd_lm (u :: L) (i + 1) (j + 1) - sd_lm (u :: L) (i + 1) 0 * (sd_i (sd_lm (u :: L) 0 0) * sd_lm (u :: L) 0 (j + 1)) := by
      intro i j hi
      show (L.map (fun v j => v (j + 1) - v 0 * (sd_i (u 0) * u (j + 1)))).getD i (fun _ => 0) j = _
      rw [sd_gd_map _ L i hi]; rfl
    refine (sd_eqv ?_ ?_).mp h
    · intro i hi
      refine ⟨sd_e i, fun j _ => ?_⟩
      have e2 : (fun t => sd_e i t * sd_lm (L.map (fun v j => v (j + 1) - v 0 * (sd_i (u 0) * u (j + 1)))) t j) = fun t => sd_lm (L.map (fun v j => v (j + 1) - v 0 * (sd_i (u 0) * u (j + 1)))) t j * sd_e i t := by funext t; grind
      rw [e2, sd_s_e hi, key i j hi]
    · intro i hi
      refine ⟨sd_e i, fun j _ => ?_⟩
      rw [key i j hi]
      have e2 : (fun t => sd_e i t * (sd_lm (u :: L) (t + 1) (j + 1) - sd_lm (u :: L) (t + 1) 0 * (sd_i (sd_lm (u :: L) 0 0) * sd_lm (u :: L) 0 (j + 1)))) = fun t => (sd_lm (u :: L) (t + 1) (j + 1) - sd_lm (u :: L) (t + 1) 0 * (sd_i (sd_lm (u :: L) 0 0) * sd_lm (u :: L) 0 (j + 1))) * sd_e i t := by funext t; grind
      rw [e2, sd_s_e hi]
theorem sd_rk_c0 (p : Nat) (M : sd_M) : sd_rk p 0 M 0 := ⟨sd_ge_0 p 0 M, ⟨M, M, fun i j _ hj => absurd hj (by omega)⟩⟩
end
section
/-! ===== what the kernel reckons with: numbers for matrices and rows ===== -/
noncomputable def sd_sN (n : Nat) (f : Nat → Nat) : Nat := Nat.rec (motive := fun _ => Nat) 0 (fun n ih => Nat.add ih (f n)) n
noncomputable def sd_bl (f : Nat → Nat) (k t : Nat) : Nat := Nat.rec (motive := fun _ => Nat → Nat) (fun _ => 0) (fun _ ih t => Nat.add (Nat.mod (f t) 5) (Nat.mul 5 (ih (Nat.add t 1)))) k t
noncomputable def sd_hN (n A B c : Nat) : Nat := sd_bl (fun t => Nat.add (sd_sN n (fun l => Nat.mul (Nat.mod (Nat.div A (Nat.pow 5 (Nat.add (Nat.mul 4 (Nat.div t 4)) l))) 5) (Nat.mod (Nat.div B (Nat.pow 5 (Nat.add (Nat.mul 4 l) (Nat.mod t 4)))) 5))) (cond (Nat.beq (Nat.div t 4) (Nat.mod t 4)) c 0)) 16 0
noncomputable def sd_eN (n A d f : Nat) : Nat := Nat.rec (motive := fun _ => Nat → Nat) (fun _ => 0) (fun _ ih f => sd_hN n (ih (Nat.div f 5)) A (Nat.mod f 5)) d f
theorem sd_sN_s (n : Nat) (f : Nat → Nat) : sd_sN (n + 1) f = sd_sN n f + f n := rfl
theorem sd_bl_s (f : Nat → Nat) (k t : Nat) : sd_bl f (k + 1) t = f t % 5 + 5 * sd_bl f k (t + 1) := rfl
theorem sd_eN_s (n A d f : Nat) : sd_eN n A (d + 1) f = sd_hN n (sd_eN n A d (f / 5)) A (f % 5) := rfl
theorem sd_of_add (a b : Nat) : Fin.ofNat 5 (a + b) = Fin.ofNat 5 a + Fin.ofNat 5 b := by
  apply Fin.ext
  show (a + b) % 5 = (a % 5 + b % 5) % 5
  omega
theorem sd_of_mul (a b : Nat) : Fin.ofNat 5 (a * b) = Fin.ofNat 5 a * Fin.ofNat 5 b := by
  apply Fin.ext
  show (a * b) % 5 = ((a % 5) * (b % 5)) % 5
  rw [Nat.mul_mod]
theorem sd_sN_of (n : Nat) (f : Nat → Nat) : Fin.ofNat 5 (sd_sN n f) = sd_s n (fun l => Fin.ofNat 5 (f l)) := by
  induction n with
  | zero => rfl
  | succ n ih => rw [sd_sN_s, sd_of_add, ih]; rfl
theorem sd_bl_dg (f : Nat → Nat) : ∀ (k t j : Nat), j < k → sd_dg (sd_bl f k t) j = Fin.ofNat 5 (f (t + j)) := by
  intro k
  induction k with
  | zero => intro t j h; omega
  | succ k ih =>
    intro t j h
    have m := Nat.mod_lt (f t) (by omega : 5 > 0)
    rw [sd_bl_s]
    cases j with
    | zero =>
      rw [sd_dg_h]
      apply Fin.ext
      show (f t % 5 + 5 * sd_bl f k (t + 1)) % 5 = f t % 5
      omega
    | succ j =>
      have e : sd_dg (f t % 5 + 5 * sd_bl f k (t + 1)) (j + 1) = sd_tl (sd_dg (f t % 5 + 5 * sd_bl f k (t + 1))) j := rfl
      have e1 : (f t % 5 + 5 * sd_bl f k (t + 1)) / 5 = sd_bl f k (t + 1) := by omega
      rw [e, sd_dg_tl, e1, ih (t + 1) j (by omega)]
      congr 2; omega
def sd_tm (n N : Nat) : sd_M := sd_cl n (fun i j => sd_dg N (4 * i + j))
theorem sd_tm_ok (n N : Nat) : sd_ok n (sd_tm n N) := sd_cl_ok n _
theorem sd_hN_tm {n : Nat} (h4 : n ≤ 4) (A B c : Nat) : sd_tm n (sd_hN n A B c) = sd_ma (sd_x n (sd_tm n A) (sd_tm n B)) (sd_ms (Fin.ofNat 5 c) (sd_I n)) := by
  apply sd_ok_e (sd_tm_ok n _) (sd_ma_ok (sd_x_ok n _ _) (sd_ms_ok (sd_I_ok n)))
  intro i j hi hj
  show _ = sd_x n (sd_tm n A) (sd_tm n B) i j + Fin.ofNat 5 c * sd_I n i j
  unfold sd_tm
  rw [sd_cl_v hi hj, sd_x_v hi hj, sd_I_v hi hj]
  unfold sd_hN
  rw [sd_bl_dg _ _ _ _ (by omega), Nat.zero_add]
  have e1 : (4 * i + j) / 4 = i := by omega
  have e2 : (4 * i + j) % 4 = j := by omega
  show Fin.ofNat 5 (sd_sN n (fun l => (A / 5 ^ (4 * ((4 * i + j) / 4) + l) % 5) * (B / 5 ^ (4 * l + (4 * i + j) % 4) % 5)) + cond (Nat.beq ((4 * i + j) / 4) ((4 * i + j) % 4)) c 0) = _
  rw [e1, e2, sd_of_add, sd_sN_of]
  congr 1
  · apply sd_s_c
    intro l hl
    rw [sd_of_mul, sd_of_mod, sd_of_mod, sd_cl_v hi hl, sd_cl_v hl hj]
    rfl
  · by_cases h : i = j
    · rw [if_pos h]
      have : Nat.beq i j = true := by rw [h]; exact Nat.beq_refl j
      rw [this]
      show Fin.ofNat 5 c = _
      grind
    · rw [if_neg h]
      have : Nat.beq i j = false := by
        cases hb : Nat.beq i j
        · rfl
        · exact absurd (Nat.eq_of_beq_eq_true hb) h
      rw [this]
      show Fin.ofNat 5 0 = _
      have : Fin.ofNat 5 0 = 0 := rfl
      rw [this]; grind
theorem sd_hN_x {n : Nat} (h4 : n ≤ 4) (A B : Nat) : sd_tm n (sd_hN n A B 0) = sd_x n (sd_tm n A) (sd_tm n B) := by
  rw [sd_hN_tm h4]
  have : Fin.ofNat 5 0 = 0 := rfl
  rw [this, sd_ms_0, sd_ma_z]
theorem sd_eN_tm {n : Nat} (h4 : n ≤ 4) (A : Nat) : ∀ d f : Nat, sd_tm n (sd_eN n A d f) = sd_ev n (sd_tm n A) d (sd_dg f) := by
  intro d
  induction d with
  | zero =>
    intro f
    apply sd_ok_e (sd_tm_ok n _) (sd_mz_ok n)
    intro i j hi hj
    show sd_cl n (fun i j => sd_dg 0 (4 * i + j)) i j = 0
    rw [sd_cl_v hi hj, sd_dg_0]
  | succ d ih =>
    intro f
    rw [sd_eN_s, sd_hN_tm h4, ih]
    show _ = sd_ma (sd_x n (sd_ev n (sd_tm n A) d (sd_tl (sd_dg f))) (sd_tm n A)) (sd_ms (sd_dg f 0) (sd_I n))
    rw [sd_dg_tl, sd_dg_h, sd_of_mod]
/-- rows of digits in a great base -/
def sd_vec (r : Nat) : Nat → Fin 5 := fun j => Fin.ofNat 5 (r / 1099511627776 ^ j % 1099511627776)
def sd_bd (b c r : Nat) : Prop := ∀ j, j < c → r / 1099511627776 ^ j % 1099511627776 ≤ b
theorem sd_B_succ (r j : Nat) : r / 1099511627776 ^ (j + 1) = r / 1099511627776 / 1099511627776 ^ j := by
  rw [Nat.div_div_eq_div_mul, Nat.pow_succ, Nat.mul_comm]
theorem sd_vec_tl (r : Nat) : sd_vec (r / 1099511627776) = sd_tl (sd_vec r) := by
  funext j
  show Fin.ofNat 5 (r / 1099511627776 / 1099511627776 ^ j % 1099511627776) = Fin.ofNat 5 (r / 1099511627776 ^ (j + 1) % 1099511627776)
  rw [sd_B_succ]
theorem sd_bd_tl {b c r : Nat} (h : sd_bd b (c + 1) r) : sd_bd b c (r / 1099511627776) := by
  intro j hj
  rw [← sd_B_succ]
  exact h (j + 1) (by omega)
theorem sd_cmb1 {a b r p : Nat} (ha : a ≤ 4) (hb : 5 * b < 1099511627776) (h1 : r % 1099511627776 ≤ b) (h2 : p % 1099511627776 ≤ b) : (r + a * p) % 1099511627776 = r % 1099511627776 + a * (p % 1099511627776) ∧ (r + a * p) / 1099511627776 = r / 1099511627776 + a * (p / 1099511627776) := by
  have c : a = 0 ∨ a = 1 ∨ a = 2 ∨ a = 3 ∨ a = 4 := by omega
  rcases c with rfl | rfl | rfl | rfl | rfl <;> omega
theorem sd_cmb {a b : Nat} (ha : a ≤ 4) (hb : 5 * b < 1099511627776) : ∀ (j c r p : Nat), j < c → sd_bd b c r → sd_bd b c p → (r + a * p) / 1099511627776 ^ j % 1099511627776 = r / 1099511627776 ^ j % 1099511627776 + a * (p / 1099511627776 ^ j % 1099511627776) := by
  intro j
  induction j with
  | zero =>
    intro c r p h h1 h2
    have k1 := h1 0 h
    have k2 := h2 0 h
    rw [Nat.pow_zero, Nat.div_one] at k1 k2
    rw [Nat.pow_zero, Nat.div_one, Nat.div_one, Nat.div_one]
    exact (sd_cmb1 ha hb k1 k2).1
  | succ j ih =>
    intro c r p h h1 h2
    cases c with
    | zero => omega
    | succ c =>
      have k1 := h1 0 (by omega)
      have k2 := h2 0 (by omega)
      rw [Nat.pow_zero, Nat.div_one] at k1 k2
      rw [sd_B_succ, sd_B_succ, sd_B_succ, (sd_cmb1 ha hb k1 k2).2]
      exact ih c _ _ (by omega) (sd_bd_tl h1) (sd_bd_tl h2)
noncomputable def sd_pk (f : Nat → Nat) (c j : Nat) : Nat := Nat.rec (motive := fun _ => Nat → Nat) (fun _ => 0) (fun _ ih j => Nat.add (f j) (Nat.mul 1099511627776 (ih (Nat.add j 1)))) c j
theorem sd_pk_s (f : Nat → Nat) (c j : Nat) : sd_pk f (c + 1) j = f j + 1099511627776 * sd_pk f c (j + 1) := rfl
theorem sd_pk_d (f : Nat → Nat) (hf : ∀ j, f j ≤ 4) : ∀ (c t j : Nat), j < c → sd_pk f c t / 1099511627776 ^ j % 1099511627776 = f (t + j) := by
  intro c
  induction c with
  | zero => intro t j h; omega
  | succ c ih =>
    intro t j h
    have h4 := hf t
    rw [sd_pk_s]
    cases j with
    | zero =>
      rw [Nat.pow_zero, Nat.div_one]
      show _ = f t
      omega
    | succ j =>
      have e : (f t + 1099511627776 * sd_pk f c (t + 1)) / 1099511627776 = sd_pk f c (t + 1) := by omega
      rw [sd_B_succ, e, ih (t + 1) j (by omega)]
      congr 1; omega
noncomputable def sd_pv (L : List Nat) : Option (Nat × List Nat) := List.rec (motive := fun _ => Option (Nat × List Nat)) none (fun r rs ih => cond (Nat.beq (Nat.mod (Nat.mod r 1099511627776) 5) 0) (Option.rec (motive := fun _ => Option (Nat × List Nat)) none (fun z => some (z.1, r :: z.2)) ih) (some (r, rs))) L
noncomputable def sd_mp (f : Nat → Nat) (L : List Nat) : List Nat := List.rec (motive := fun _ => List Nat) [] (fun r _ ih => f r :: ih) L
noncomputable def sd_rkN (c : Nat) (L : List Nat) : Nat := Nat.rec (motive := fun _ => List Nat → Nat) (fun _ => 0)
  (fun _ ih L => Option.rec (motive := fun _ => Nat) (ih (sd_mp (fun r => Nat.div r 1099511627776) L))
    (fun z => Nat.add 1 (ih (sd_mp (fun r => Nat.div (Nat.add r (Nat.mul (Nat.mod (Nat.mul (Nat.mul 4 (Nat.mod r 1099511627776)) (Nat.pow (Nat.mod z.1 1099511627776) 3)) 5) z.1)) 1099511627776) z.2))) (sd_pv L)) c L
theorem sd_mp_map (f : Nat → Nat) (L : List Nat) : sd_mp f L = L.map f := by
  induction L with
  | nil => rfl
  | cons r L ih => show f r :: sd_mp f L = f r :: L.map f; rw [ih]
theorem sd_beq0 (x : Nat) : Nat.beq x 0 = true ↔ x = 0 := by
  cases x with
  | zero => exact ⟨fun _ => rfl, fun _ => rfl⟩
  | succ x => exact ⟨(fun h => nomatch h), (fun h => nomatch h)⟩
theorem sd_pv_s : ∀ L : List Nat, (sd_pv L = none ∧ ∀ r, r ∈ L → r % 1099511627776 % 5 = 0) ∨ ∃ p R, sd_pv L = some (p, R) ∧ p % 1099511627776 % 5 ≠ 0 ∧ ∀ r, r ∈ L ↔ r ∈ p :: R := by
  intro L
  induction L with
  | nil => exact Or.inl ⟨rfl, fun r h => absurd h (by simp)⟩
  | cons a L ih =>
    have e : sd_pv (a :: L) = cond (Nat.beq (a % 1099511627776 % 5) 0) (Option.rec (motive := fun _ => Option (Nat × List Nat)) none (fun z => some (z.1, a :: z.2)) (sd_pv L)) (some (a, L)) := rfl
    cases hb : Nat.beq (a % 1099511627776 % 5) 0 with
    | false =>
      right
      refine ⟨a, L, by rw [e, hb]; rfl, ?_, fun r => Iff.rfl⟩
      intro z
      rw [(sd_beq0 _).mpr z] at hb
      exact nomatch hb
    | true =>
      have az := (sd_beq0 _).mp hb
      rcases ih with ⟨h1, h2⟩ | ⟨p, R, h1, h2, h3⟩
      · left
        refine ⟨by rw [e, hb, h1]; rfl, ?_⟩
        intro r hr
        rcases List.mem_cons.mp hr with rfl | hr
        · exact az
        · exact h2 r hr
      · right
        refine ⟨p, a :: R, by rw [e, hb, h1]; rfl, h2, ?_⟩
        intro r
        have := h3 r
        simp only [List.mem_cons] at this ⊢
        grind
theorem sd_elim : ∀ x y : Fin 5, y ≠ 0 → - (x * sd_i y) = 4 * x * (y * y * y) := by decide
theorem sd_rkN_s : ∀ (c b : Nat) (L : List Nat), (∀ r, r ∈ L → sd_bd b c r) → b * 5 ^ c < 1099511627776 → sd_lr c (L.map sd_vec) (sd_rkN c L) := by
  intro c
  induction c with
  | zero => intro b L _ _; exact sd_rk_c0 _ _
  | succ c ih =>
    intro b L hL hb
    have h5 : 0 < 5 ^ c := Nat.pow_pos (by omega)
    have hb5 : 5 * b < 1099511627776 := by
      rw [Nat.pow_succ] at hb
      have : b * 5 ≤ b * (5 ^ c * 5) := Nat.mul_le_mul_left b (by omega)
      omega
    have e : sd_rkN (c + 1) L = Option.rec (motive := fun _ => Nat) (sd_rkN c (sd_mp (fun r => r / 1099511627776) L))
      (fun z => 1 + (sd_rkN c (sd_mp (fun r => (r + ((4 * (r % 1099511627776)) * (z.1 % 1099511627776) ^ 3 % 5) * z.1) / 1099511627776) z.2))) (sd_pv L) := rfl
    rcases sd_pv_s L with ⟨h1, h2⟩ | ⟨p, R, h1, h2, h3⟩
    · rw [e, h1]
      show sd_lr (c + 1) (L.map sd_vec) (sd_rkN c (sd_mp (fun r => r / 1099511627776) L))
      apply sd_lr_z
      · intro v hv
        obtain ⟨r, hr, rfl⟩ := List.mem_map.mp hv
        show Fin.ofNat 5 (r / 1099511627776 ^ 0 % 1099511627776) = 0
        rw [Nat.pow_zero, Nat.div_one]
        apply Fin.ext
        exact h2 r hr
      · have := ih b (L.map (fun r => r / 1099511627776)) (by
          intro r hr
          obtain ⟨r', hr', rfl⟩ := List.mem_map.mp hr
          exact sd_bd_tl (hL r' hr')) (by
          refine Nat.lt_of_le_of_lt ?_ hb
          exact Nat.mul_le_mul_left b (Nat.pow_le_pow_right (by omega) (by omega)))
        rw [List.map_map] at this
        rw [sd_mp_map, List.map_map]
        have e2 : (sd_tl ∘ sd_vec) = (sd_vec ∘ fun r => r / 1099511627776) := by
          funext r
          exact (sd_vec_tl r).symm
        rw [e2]; exact this
    · rw [e, h1]
      show sd_lr (c + 1) (L.map sd_vec) (1 + (sd_rkN c (sd_mp (fun r => (r + ((4 * (r % 1099511627776)) * (p % 1099511627776) ^ 3 % 5) * p) / 1099511627776) R)))
      have hp := hL p ((h3 p).mpr List.mem_cons_self)
      rw [Nat.add_comm 1]
      refine (sd_lr_set (L := sd_vec p :: R.map sd_vec) ?_).mp ?_
      · intro v
        constructor
        · intro hv
          obtain ⟨r, hr, rfl⟩ := List.mem_map.mp hv
          exact List.mem_map.mpr ⟨r, (h3 r).mp hr, rfl⟩
        · intro hv
          obtain ⟨r, hr, rfl⟩ := List.mem_map.mp (show v ∈ (p :: R).map sd_vec from hv)
          exact List.mem_map.mpr ⟨r, (h3 r).mpr hr, rfl⟩
      · apply sd_lr_p
        · show Fin.ofNat 5 (p / 1099511627776 ^ 0 % 1099511627776) ≠ 0
          rw [Nat.pow_zero, Nat.div_one]
          intro z
          exact h2 (congrArg Fin.val z)
        · have := ih (5 * b) (R.map (fun r => (r + ((4 * (r % 1099511627776)) * (p % 1099511627776) ^ 3 % 5) * p) / 1099511627776)) (by
            intro r hr
            obtain ⟨r', hr', rfl⟩ := List.mem_map.mp hr
            have hr2 := hL r' ((h3 r').mpr (List.mem_cons_of_mem _ hr'))
            apply sd_bd_tl
            intro j hj
            have hm := Nat.mod_lt ((4 * (r' % 1099511627776)) * (p % 1099511627776) ^ 3) (by omega : 5 > 0)
            rw [sd_cmb (by omega) hb5 j (c + 1) r' p hj hr2 hp]
            have q1 := hr2 j hj
            have q2 := hp j hj
            generalize (4 * (r' % 1099511627776)) * (p % 1099511627776) ^ 3 % 5 = a at hm
            have : a * (p / 1099511627776 ^ j % 1099511627776) ≤ 4 * b := Nat.mul_le_mul (by omega) q2
            omega) (by
            rw [Nat.pow_succ] at hb
            have : 5 * b * 5 ^ c = b * (5 ^ c * 5) := by rw [Nat.mul_comm (5 ^ c) 5, ← Nat.mul_assoc, Nat.mul_comm b 5]
            rw [this]; exact hb)
          rw [List.map_map] at this
          rw [sd_mp_map, List.map_map]
          have e2 : ∀ r, r ∈ R → ((fun (v : Nat → Fin 5) j => v (j + 1) - v 0 * (sd_i (sd_vec p 0) * sd_vec p (j + 1))) ∘ sd_vec) r = fun j => if j < c then (sd_vec ∘ fun r => (r + ((4 * (r % 1099511627776)) * (p % 1099511627776) ^ 3 % 5) * p) / 1099511627776) r j else sd_vec r (j + 1) - sd_vec r 0 * (sd_i (sd_vec p 0) * sd_vec p (j + 1)) := by
            intro r hr
            funext j
            by_cases hj : j < c
            · rw [if_pos hj]
              show sd_vec r (j + 1) - sd_vec r 0 * (sd_i (sd_vec p 0) * sd_vec p (j + 1)) = sd_vec ((r + ((4 * (r % 1099511627776)) * (p % 1099511627776) ^ 3 % 5) * p) / 1099511627776) j
              rw [sd_vec_tl]
              show _ = Fin.ofNat 5 ((r + ((4 * (r % 1099511627776)) * (p % 1099511627776) ^ 3 % 5) * p) / 1099511627776 ^ (j + 1) % 1099511627776)
              have hm := Nat.mod_lt ((4 * (r % 1099511627776)) * (p % 1099511627776) ^ 3) (by omega : 5 > 0)
              rw [sd_cmb (by omega) hb5 (j + 1) (c + 1) r p (by omega) (hL r ((h3 r).mpr (List.mem_cons_of_mem _ hr))) hp, sd_of_add, sd_of_mul, sd_of_mod, sd_of_mul, sd_of_mul]
              have f1 : sd_vec r 0 = Fin.ofNat 5 (r % 1099511627776) := by
                show Fin.ofNat 5 (r / 1099511627776 ^ 0 % 1099511627776) = _
                rw [Nat.pow_zero, Nat.div_one]
              have f2 : sd_vec p 0 = Fin.ofNat 5 (p % 1099511627776) := by
                show Fin.ofNat 5 (p / 1099511627776 ^ 0 % 1099511627776) = _
                rw [Nat.pow_zero, Nat.div_one]
              have f3 : Fin.ofNat 5 ((p % 1099511627776) ^ 3) = sd_vec p 0 * sd_vec p 0 * sd_vec p 0 := by
                rw [f2, ← sd_of_mul, ← sd_of_mul]
                congr 1
                generalize p % 1099511627776 = x
                rw [Nat.pow_succ, Nat.pow_succ, Nat.pow_succ, Nat.pow_zero, Nat.one_mul]
              have hne : sd_vec p 0 ≠ 0 := by
                rw [f2]
                intro z
                exact h2 (congrArg Fin.val z)
              have el := sd_elim (sd_vec r 0) (sd_vec p 0) hne
              rw [f3, ← f1]
              show sd_vec r (j + 1) - sd_vec r 0 * (sd_i (sd_vec p 0) * sd_vec p (j + 1)) = sd_vec r (j + 1) + Fin.ofNat 5 4 * sd_vec r 0 * (sd_vec p 0 * sd_vec p 0 * sd_vec p 0) * sd_vec p (j + 1)
              have f4 : Fin.ofNat 5 4 = 4 := rfl
              rw [f4]
              generalize sd_vec r (j + 1) = a1
              generalize sd_vec p (j + 1) = a2
              rw [← el]
              generalize sd_vec r 0 = a3
              generalize sd_i (sd_vec p 0) = a4
              grind
            · rw [if_neg hj]; rfl
          have key : ∀ i, i < R.length → ∀ j, j < c → sd_lm (R.map ((fun (v : Nat → Fin 5) j => v (j + 1) - v 0 * (sd_i (sd_vec p 0) * sd_vec p (j + 1))) ∘ sd_vec)) i j = sd_lm (R.map (sd_vec ∘ fun r => (r + ((4 * (r % 1099511627776)) * (p % 1099511627776) ^ 3 % 5) * p) / 1099511627776)) i j := by
            intro i hi j hj
            have g : ∀ (f : Nat → Nat → Fin 5), (R.map f).getD i (fun _ => 0) = f (R[i]) := by
              intro f
              rw [List.getD_eq_getElem?_getD, List.getElem?_map, List.getElem?_eq_getElem hi]; rfl
            unfold sd_lm
            rw [g, g, e2 _ (List.getElem_mem hi)]
            exact if_pos hj
          unfold sd_lr at this ⊢
          rw [List.length_map] at this ⊢
          refine (sd_eqv ?_ ?_).mp this
          · intro i hi
            refine ⟨sd_e i, fun j hj => ?_⟩
            have e3 : ∀ (M : sd_M), (fun t => sd_e i t * M t j) = fun t => M t j * sd_e i t := by intro M; funext t; grind
            rw [e3, sd_s_e hi, key i hi j hj]
          · intro i hi
            refine ⟨sd_e i, fun j hj => ?_⟩
            have e3 : ∀ (M : sd_M), (fun t => sd_e i t * M t j) = fun t => M t j * sd_e i t := by intro M; funext t; grind
            rw [e3, sd_s_e hi, key i hi j hj]
end
section
/-! ===== division, products and powers of polynomials as the kernel reckons them; orders ===== -/
noncomputable def sd_lR (d a c b : Nat) : Nat := Nat.rec (motive := fun _ => Nat → Nat → Nat) (fun _ _ => 0) (fun _ ih a b => Nat.add (Nat.mod (Nat.add (Nat.mod a 5) (Nat.mul c (Nat.mod b 5))) 5) (Nat.mul 5 (ih (Nat.div a 5) (Nat.div b 5)))) d a b
theorem sd_lR_e : ∀ d a c b : Nat, sd_lR d a c b = sd_lN d a c b := by
  intro d
  induction d with
  | zero => intro a c b; rfl
  | succ d ih =>
    intro a c b
    show (a % 5 + c * (b % 5)) % 5 + 5 * sd_lR d (a / 5) c (b / 5) = (a % 5 + c * (b % 5)) % 5 + 5 * sd_lN d (a / 5) c (b / 5)
    rw [ih]
noncomputable def sd_mR (d e a b : Nat) : Nat := Nat.rec (motive := fun _ => Nat → Nat) (fun _ => 0) (fun _ ih a => sd_lR d (Nat.mul 5 (ih (Nat.div a 5))) (Nat.mod a 5) b) e a
theorem sd_mR_e (d b : Nat) : ∀ e a : Nat, sd_mR d e a b = sd_mN d e a b := by
  intro e
  induction e with
  | zero => intro a; rfl
  | succ e ih =>
    intro a
    show sd_lR d (5 * sd_mR d e (a / 5) b) (a % 5) b = sd_lN d (5 * sd_mN d e (a / 5) b) (a % 5) b
    rw [ih, sd_lR_e]
/-- quotient times 5^d, and remainder -/
noncomputable def sd_zN (d f e m : Nat) : Nat := Nat.rec (motive := fun _ => Nat → Nat) (fun _ => 0) (fun _ ih m => (fun y => Nat.add (Nat.mul (Nat.div y (Nat.pow 5 d)) (Nat.pow 5 d)) (sd_lR d y (Nat.sub 5 (Nat.mod (Nat.div y (Nat.pow 5 d)) 5)) f)) (Nat.add (Nat.mul 5 (ih (Nat.div m 5))) (Nat.mod m 5))) e m
theorem sd_lN_low : ∀ (d a k c b : Nat), sd_lN d (a + k * 5 ^ d) c b = sd_lN d a c b := by
  intro d
  induction d with
  | zero => intro a k c b; rfl
  | succ d ih =>
    intro a k c b
    show ((a + k * 5 ^ (d + 1)) % 5 + c * (b % 5)) % 5 + 5 * sd_lN d ((a + k * 5 ^ (d + 1)) / 5) c (b / 5) = (a % 5 + c * (b % 5)) % 5 + 5 * sd_lN d (a / 5) c (b / 5)
    have e1 : k * 5 ^ (d + 1) = 5 * (k * 5 ^ d) := by rw [Nat.pow_succ, Nat.mul_comm (5 ^ d) 5, Nat.mul_left_comm]
    have e2 : (a + k * 5 ^ (d + 1)) % 5 = a % 5 := by rw [e1]; omega
    have e3 : (a + k * 5 ^ (d + 1)) / 5 = a / 5 + k * 5 ^ d := by rw [e1]; omega
    rw [e2, e3, ih]
theorem sd_dN_l (d f e m : Nat) (hf : f / 5 ^ d = 1) (hm : m < 5 ^ e) : (5 * (sd_dN d f e m).2 + 4) / 5 ^ d < 5 := by
  have h := (sd_dN_s d f hf e m hm).1
  apply Nat.div_lt_of_lt_mul
  omega
theorem sd_zN_e (d f : Nat) (hf : f / 5 ^ d = 1) : ∀ e m : Nat, m < 5 ^ e → sd_zN d f e m = (sd_dN d f e m).1 * 5 ^ d + (sd_dN d f e m).2 := by
  intro e
  have h5 : 0 < 5 ^ d := Nat.pow_pos (by omega)
  induction e with
  | zero => intro m _; show 0 = 0 * 5 ^ d + 0; omega
  | succ e ih =>
    intro m hm
    rw [Nat.pow_succ] at hm
    have hm' : m / 5 < 5 ^ e := by omega
    have i1 := ih (m / 5) hm'
    have i2 := (sd_dN_s d f hf e (m / 5) hm').1
    have e0 : sd_zN d f (e + 1) m = (5 * sd_zN d f e (m / 5) + m % 5) / 5 ^ d * 5 ^ d + sd_lR d (5 * sd_zN d f e (m / 5) + m % 5) (5 - (5 * sd_zN d f e (m / 5) + m % 5) / 5 ^ d % 5) f := rfl
    have e1 : (sd_dN d f (e + 1) m).1 = 5 * (sd_dN d f e (m / 5)).1 + (5 * (sd_dN d f e (m / 5)).2 + m % 5) / 5 ^ d := rfl
    have e2 : (sd_dN d f (e + 1) m).2 = sd_lN d (5 * (sd_dN d f e (m / 5)).2 + m % 5) (5 - (5 * (sd_dN d f e (m / 5)).2 + m % 5) / 5 ^ d) f := rfl
    rw [e0, e1, e2, i1, sd_lR_e]
    generalize (sd_dN d f e (m / 5)).1 = q
    generalize (sd_dN d f e (m / 5)).2 = r at i2
    have hl : (5 * r + m % 5) / 5 ^ d < 5 := Nat.div_lt_of_lt_mul (by omega)
    have y : 5 * (q * 5 ^ d + r) + m % 5 = (5 * r + m % 5) + (5 * q) * 5 ^ d := by
      rw [Nat.mul_add, Nat.mul_assoc]; omega
    rw [y, Nat.add_mul_div_right _ _ h5, sd_lN_low]
    generalize (5 * r + m % 5) / 5 ^ d = l at hl
    have e4 : (l + 5 * q) % 5 = l := by omega
    rw [e4, Nat.add_comm l]
theorem sd_zN_q {d f e m : Nat} (hf : f / 5 ^ d = 1) (hm : m < 5 ^ e) : sd_zN d f e m / 5 ^ d = (sd_dN d f e m).1 ∧ sd_zN d f e m % 5 ^ d = (sd_dN d f e m).2 := by
  have h5 : 0 < 5 ^ d := Nat.pow_pos (by omega)
  have h := (sd_dN_s d f hf e m hm).1
  rw [sd_zN_e d f hf e m hm]
  constructor
  · rw [Nat.add_comm, Nat.add_mul_div_right _ _ h5, Nat.div_eq_of_lt h, Nat.zero_add]
  · rw [Nat.add_comm, Nat.add_mul_mod_self_right, Nat.mod_eq_of_lt h]
/-- congruence -/
def sd_cg (m P R : sd_P) : Prop := ∃ q, sd_fs q ∧ P = sd_pa (sd_pm q m) R
theorem sd_rg1 {R : Type} [Lean.Grind.CommRing R] (q m r q' r' : R) : (q * m + r) * (q' * m + r') = (q * q' * m + q * r' + q' * r) * m + r * r' := by grind
theorem sd_rg2 {R : Type} [Lean.Grind.CommRing R] (q m q' r : R) : q * m + (q' * m + r) = (q + q') * m + r := by grind
theorem sd_cg_r (m P : sd_P) : sd_cg m P P := ⟨sd_pc 0, sd_fs_pc 0, by rw [sd_pm_0]; funext j; unfold sd_pa sd_pc; split <;> grind⟩
theorem sd_cg_m {m P R P' R' : sd_P} (hm : sd_fs m) (hR : sd_fs R) (hR' : sd_fs R') (h : sd_cg m P R) (h' : sd_cg m P' R') : sd_cg m (sd_pm P P') (sd_pm R R') := by
  obtain ⟨q, hq, rfl⟩ := h
  obtain ⟨q', hq', rfl⟩ := h'
  exact ⟨_, sd_fs_pa (sd_fs_pa (sd_fs_pm (sd_fs_pm hq hq') hm) (sd_fs_pm hq hR')) (sd_fs_pm hq' hR), @sd_rg1 sd_P sd_R q m R q' R'⟩
theorem sd_cg_t {m P Q R : sd_P} (h : sd_cg m P Q) (h' : sd_cg m Q R) : sd_cg m P R := by
  obtain ⟨q, hq, rfl⟩ := h
  obtain ⟨q', hq', rfl⟩ := h'
  exact ⟨_, sd_fs_pa hq hq', @sd_rg2 sd_P sd_R q m q' R⟩
theorem sd_rg3 {R : Type} [Lean.Grind.CommRing R] (q m r : R) : r = - q * m + (q * m + r) := by grind
theorem sd_cg_s {m P Q : sd_P} (h : sd_cg m P Q) : sd_cg m Q P := by
  obtain ⟨q, hq, rfl⟩ := h
  exact ⟨sd_pn q, sd_fs_pn hq, @sd_rg3 sd_P sd_R q m Q⟩
theorem sd_cg_u {m P R R' : sd_P} {d : Nat} (hm : sd_mo m d) (h : sd_cg m P R) (h' : sd_cg m P R') (hR : sd_dl R d) (hR' : sd_dl R' d) : R = R' := by
  obtain ⟨q, hq, e⟩ := h
  obtain ⟨q', hq', e'⟩ := h'
  exact (sd_div_u hm hq hq' hR hR' (e ▸ e')).2
/-- the remainder -/
theorem sd_rem_cg {d f e z : Nat} (hf : f / 5 ^ d = 1) (hz : z < 5 ^ e) : sd_cg (sd_dg f) (sd_dg z) (sd_dg (sd_zN d f e z % 5 ^ d)) := by
  rw [(sd_zN_q hf hz).2]
  have := (sd_dN_s d f hf e z hz).2
  refine ⟨sd_dg (sd_dN d f e z).1, ⟨_, sd_dg_dl (Nat.lt_pow_self (by omega : 1 < 5))⟩, this⟩
theorem sd_mR_dg {d a b e e' : Nat} (ha : a < 5 ^ e) (hb : b < 5 ^ e') (he : 1 ≤ e) (hd : e + e' ≤ d + 1) : sd_dg (sd_mR d e a b) = sd_pm (sd_dg a) (sd_dg b) := by
  rw [sd_mR_e]
  funext j
  by_cases hj : j < d
  · exact sd_mN_dg d e a b j ha hj
  · rw [sd_dg_dl (sd_mN_lt d e a b) j (by omega)]
    have : e = (e - 1) + 1 := by omega
    rw [this] at ha
    exact (sd_dl_pm (e - 1) (sd_dg_dl ha) (sd_dg_dl hb) j (by omega)).symm
/-- x to the power of k modulo m of degree d <= 4 -/
noncomputable def sd_px (d m u k : Nat) : Nat := Nat.rec (motive := fun _ => Nat → Nat) (fun _ => 1)
  (fun _ ih k => cond (Nat.beq k 0) 1 ((fun s => cond (Nat.beq (Nat.mod k 2) 0) s (Nat.mod (sd_zN d m 5 (Nat.mul 5 s)) (Nat.pow 5 d))) (Nat.mod (sd_zN d m 7 (sd_mR 7 4 (ih (Nat.div k 2)) (ih (Nat.div k 2)))) (Nat.pow 5 d)))) u k
theorem sd_pp_a (a : sd_P) (j k : Nat) : sd_pp a (j + k) = sd_pm (sd_pp a j) (sd_pp a k) := by
  induction k with
  | zero => show sd_pp a j = sd_pm (sd_pp a j) (sd_pc 1); rw [sd_pm_cm, sd_pm_1]
  | succ k ih =>
    show sd_pm (sd_pp a (j + k)) a = sd_pm (sd_pp a j) (sd_pm (sd_pp a k) a)
    rw [ih, sd_pm_as]
theorem sd_pp_fs (k : Nat) : sd_fs (sd_pp sd_X k) := by
  induction k with
  | zero => exact sd_fs_pc 1
  | succ k ih => exact sd_fs_pm ih sd_fs_X
theorem sd_dg_1 : sd_dg 1 = sd_pc 1 := sd_nl_dg []
theorem sd_dg_fs (N : Nat) : sd_fs (sd_dg N) := ⟨_, sd_dg_dl (Nat.lt_pow_self (by omega : 1 < 5))⟩
theorem sd_beq_f {a b : Nat} (h : a ≠ b) : Nat.beq a b = false := by
  cases hb : Nat.beq a b
  · rfl
  · exact absurd (Nat.eq_of_beq_eq_true hb) h
theorem sd_px_s {d m : Nat} (h1 : 1 ≤ d) (h4 : d ≤ 4) (hm : m / 5 ^ d = 1) : ∀ u k : Nat, k < 2 ^ u → sd_px d m u k < 5 ^ d ∧ sd_cg (sd_dg m) (sd_pp sd_X k) (sd_dg (sd_px d m u k)) := by
  intro u
  have h5 : 0 < 5 ^ d := Nat.pow_pos (by omega)
  have h15 : 1 < 5 ^ d := by
    have : 5 ^ 1 ≤ 5 ^ d := Nat.pow_le_pow_right (by omega) h1
    omega
  have h54 : 5 ^ d ≤ 5 ^ 4 := Nat.pow_le_pow_right (by omega) h4
  induction u with
  | zero =>
    intro k hk
    have : k = 0 := by rw [Nat.pow_zero] at hk; omega
    subst this
    refine ⟨h15, ?_⟩
    show sd_cg (sd_dg m) (sd_pc 1) (sd_dg 1)
    rw [sd_dg_1]; exact sd_cg_r _ _
  | succ u ih =>
    intro k hk
    have e0 : sd_px d m (u + 1) k = cond (Nat.beq k 0) 1 ((fun s => cond (Nat.beq (k % 2) 0) s (sd_zN d m 5 (5 * s) % 5 ^ d)) (sd_zN d m 7 (sd_mR 7 4 (sd_px d m u (k / 2)) (sd_px d m u (k / 2))) % 5 ^ d)) := rfl
    rw [e0]
    by_cases k0 : k = 0
    · subst k0
      refine ⟨h15, ?_⟩
      show sd_cg (sd_dg m) (sd_pc 1) (sd_dg 1)
      rw [sd_dg_1]; exact sd_cg_r _ _
    · rw [sd_beq_f k0]
      rw [Nat.pow_succ] at hk
      obtain ⟨b1, c1⟩ := ih (k / 2) (by omega)
      generalize sd_px d m u (k / 2) = y at b1 c1
      have y4 : y < 5 ^ 4 := by omega
      have c2 := sd_cg_m (sd_dg_fs m) (sd_dg_fs y) (sd_dg_fs y) c1 c1
      rw [← sd_mR_dg (d := 7) y4 y4 (by omega) (by omega), ← sd_pp_a] at c2
      have z7 : sd_mR 7 4 y y < 5 ^ 7 := by rw [sd_mR_e]; exact sd_mN_lt 7 4 y y
      have c3 := sd_cg_t c2 (sd_rem_cg hm z7)
      have s5 : sd_zN d m 7 (sd_mR 7 4 y y) % 5 ^ d < 5 ^ d := Nat.mod_lt _ h5
      generalize sd_zN d m 7 (sd_mR 7 4 y y) % 5 ^ d = s at c3 s5
      show (cond (Nat.beq (k % 2) 0) s (sd_zN d m 5 (5 * s) % 5 ^ d)) < 5 ^ d ∧ sd_cg (sd_dg m) (sd_pp sd_X k) (sd_dg (cond (Nat.beq (k % 2) 0) s (sd_zN d m 5 (5 * s) % 5 ^ d)))
      by_cases kp : k % 2 = 0
      · have : Nat.beq (k % 2) 0 = true := (sd_beq0 _).mpr kp
        rw [this]
        have : k / 2 + k / 2 = k := by omega
        rw [this] at c3
        exact ⟨s5, c3⟩
      · rw [sd_beq_f kp]
        refine ⟨Nat.mod_lt _ h5, ?_⟩
        have z5 : 5 * s < 5 ^ 5 := by
          have : (5 : Nat) ^ 5 = 5 * 5 ^ 4 := by decide
          omega
        have c4 := sd_cg_m (sd_dg_fs m) (sd_dg_fs s) sd_fs_X c3 (sd_cg_r (sd_dg m) sd_X)
        have e1 : sd_pm (sd_dg s) sd_X = sd_dg (5 * s) := by
          rw [sd_pm_cm]; funext j; exact (sd_5_dg s j).symm
        rw [e1] at c4
        have c5 := sd_cg_t c4 (sd_rem_cg hm z5)
        have : k / 2 + k / 2 + 1 = k := by omega
        have e2 : sd_pp sd_X k = sd_pm (sd_pp sd_X (k / 2 + k / 2)) sd_X := by
          have e3 : sd_pp sd_X (k / 2 + k / 2 + 1) = sd_pm (sd_pp sd_X (k / 2 + k / 2)) sd_X := rfl
          rw [← e3, this]
        rw [e2]; exact c5
/-- sets of exponents -/
theorem sd_ord_gcd (S : Nat → Prop) (s0 : S 0) (ss : ∀ a b, S a → S (a + b) → S b) : ∀ n a b : Nat, b < n → S a → S b → S (Nat.gcd a b) := by
  have sm : ∀ a k b, S a → S (a * k + b) → S b := by
    intro a k
    induction k with
    | zero => intro b _ h; rw [Nat.mul_zero, Nat.zero_add] at h; exact h
    | succ k ih =>
      intro b ha h
      apply ih b ha
      apply ss a _ ha
      rw [Nat.mul_succ] at h
      have : a + (a * k + b) = a * k + a + b := by omega
      rw [this]; exact h
  intro n
  induction n with
  | zero => intro a b h; omega
  | succ n ih =>
    intro a b hb ha hbS
    by_cases z : b = 0
    · subst z; rw [Nat.gcd_zero_right]; exact ha
    · rw [Nat.gcd_comm, Nat.gcd_rec, Nat.gcd_comm]
      have hlt := Nat.mod_lt a (by omega : b > 0)
      apply ih b (a % b) (by omega) hbS
      apply sm b (a / b) _ hbS
      rw [Nat.div_add_mod]; exact ha
theorem sd_cop {s p : Nat} (hp : ∀ g, g ≤ p → g ∣ p → g = 1 ∨ g = p) (h0 : 0 < p) (h : ¬ p ∣ s) : Nat.gcd s p = 1 := by
  rcases hp (Nat.gcd s p) (Nat.gcd_le_right s h0) (Nat.gcd_dvd_right s p) with z | z
  · exact z
  · exfalso; apply h; have := Nat.gcd_dvd_left s p; rw [z] at this; exact this
theorem sd_primes (s : Nat) (h : s ∣ 96720) (h2 : ¬ 2 ∣ s) (h3 : ¬ 3 ∣ s) (h5 : ¬ 5 ∣ s) (h13 : ¬ 13 ∣ s) (h31 : ¬ 31 ∣ s) : s = 1 := by
  have c2 : Nat.Coprime s 2 := sd_cop (by decide) (by omega) h2
  have c3 : Nat.Coprime s 3 := sd_cop (by decide) (by omega) h3
  have c5 : Nat.Coprime s 5 := sd_cop (by decide) (by omega) h5
  have c13 : Nat.Coprime s 13 := sd_cop (by decide) (by omega) h13
  have c31 : Nat.Coprime s 31 := sd_cop (by decide) (by omega) h31
  have e : (96720 : Nat) = 2 * (2 * (2 * (2 * (3 * (5 * (13 * 31)))))) := by decide
  have c : Nat.Coprime s 96720 := by
    rw [e]
    exact Nat.Coprime.mul_right c2 (Nat.Coprime.mul_right c2 (Nat.Coprime.mul_right c2 (Nat.Coprime.mul_right c2 (Nat.Coprime.mul_right c3 (Nat.Coprime.mul_right c5 (Nat.Coprime.mul_right c13 c31))))))
  have : Nat.gcd s 96720 = s := Nat.gcd_eq_left h
  rw [← this]; exact c
/-- the order: S o, and not S (o / p) for the primes p that divide o -/
theorem sd_order (S : Nat → Prop) (s0 : S 0) (sa : ∀ a b, S a → S b → S (a + b)) (ss : ∀ a b, S a → S (a + b) → S b) (o : Nat) (h0 : 0 < o) (ho : o ∣ 96720) (hS : S o)
    (hp : ∀ p, p = 2 ∨ p = 3 ∨ p = 5 ∨ p = 13 ∨ p = 31 → p ∣ o → ¬ S (o / p)) (k : Nat) : S k ↔ o ∣ k := by
  have mul : ∀ a k, S a → S (a * k) := by
    intro a k ha
    induction k with
    | zero => exact s0
    | succ k ih => rw [Nat.mul_succ]; exact sa _ _ ih ha
  constructor
  · intro hk
    have hg := sd_ord_gcd S s0 ss (o + 1) k o (by omega) hk hS
    have hd := Nat.gcd_dvd_right k o
    have hd' := Nat.gcd_dvd_left k o
    generalize Nat.gcd k o = t at hg hd hd'
    obtain ⟨s, rfl⟩ := hd
    by_cases z : s = 1
    · rw [z, Nat.mul_one]; exact hd'
    · exfalso
      have hs : s ∣ 96720 := Nat.dvd_trans (Nat.dvd_mul_left s t) ho
      have ex : ∃ p, (p = 2 ∨ p = 3 ∨ p = 5 ∨ p = 13 ∨ p = 31) ∧ p ∣ s := by
        apply Classical.byContradiction
        intro hn
        exact z (sd_primes s hs (fun q => hn ⟨2, by simp, q⟩) (fun q => hn ⟨3, by simp, q⟩) (fun q => hn ⟨5, by simp, q⟩) (fun q => hn ⟨13, by simp, q⟩) (fun q => hn ⟨31, by simp, q⟩))
      obtain ⟨p, hp5, v, rfl⟩ := ex
      apply hp p hp5 (Nat.dvd_trans (Nat.dvd_mul_right p v) (Nat.dvd_mul_left _ t))
      have p0 : 0 < p := by omega
      have e : t * (p * v) / p = t * v := by
        rw [Nat.mul_left_comm, Nat.mul_div_cancel_left _ p0]
      rw [e]
      exact mul t v hg
  · rintro ⟨q, rfl⟩
    exact mul o q hS
theorem sd_cgX_a {m : sd_P} (hm : sd_fs m) (a b : Nat) (ha : sd_cg m (sd_pp sd_X a) (sd_pc 1)) (hb : sd_cg m (sd_pp sd_X b) (sd_pc 1)) : sd_cg m (sd_pp sd_X (a + b)) (sd_pc 1) := by
  rw [sd_pp_a]
  have := sd_cg_m hm (sd_fs_pc 1) (sd_fs_pc 1) ha hb
  rw [sd_pm_1] at this
  exact this
theorem sd_cgX_s {m : sd_P} (hm : sd_fs m) (a b : Nat) (ha : sd_cg m (sd_pp sd_X a) (sd_pc 1)) (hb : sd_cg m (sd_pp sd_X (a + b)) (sd_pc 1)) : sd_cg m (sd_pp sd_X b) (sd_pc 1) := by
  rw [sd_pp_a] at hb
  have := sd_cg_m hm (sd_fs_pc 1) (sd_pp_fs b) ha (sd_cg_r m (sd_pp sd_X b))
  rw [sd_pm_1] at this
  exact sd_cg_t (sd_cg_s this) hb
theorem sd_px_1 {d m u k : Nat} (h1 : 1 ≤ d) (h4 : d ≤ 4) (hm : m / 5 ^ d = 1) (hk : k < 2 ^ u) : sd_px d m u k = 1 ↔ sd_cg (sd_dg m) (sd_pp sd_X k) (sd_pc 1) := by
  obtain ⟨b, c⟩ := sd_px_s h1 h4 hm u k hk
  constructor
  · intro e; rw [e, sd_dg_1] at c; exact c
  · intro e
    have h15 : 1 < 5 ^ d := by
      have : 5 ^ 1 ≤ 5 ^ d := Nat.pow_le_pow_right (by omega) h1
      omega
    have := sd_cg_u (sd_dg_mo hm) c e (sd_dg_dl b) (sd_dl_le (sd_dl_pc 1) h1)
    rw [← sd_dg_1] at this
    exact sd_dg_inj this
end
section
/-! ===== factors, blocks, invariants as X reckons them; what is known of a matrix ===== -/
/-- the degree of a factor -/
noncomputable def sd_df (f : Nat) : Nat := cond (Nat.ble 625 f) 4 (cond (Nat.ble 125 f) 3 (cond (Nat.ble 25 f) 2 1))
/-- all powers of f are divided out -/
noncomputable def sd_tq (f d e m : Nat) : Nat := Nat.rec (motive := fun _ => Nat → Nat) (fun m => m) (fun _ ih m => cond (Nat.ble (Nat.pow 5 d) m) ((fun z => cond (Nat.beq (Nat.mod z (Nat.pow 5 d)) 0) (ih (Nat.div z (Nat.pow 5 d))) m) (sd_zN d f 5 m)) m) e m
theorem sd_tq_s (f d e m : Nat) : sd_tq f d (e + 1) m = cond (Nat.ble (5 ^ d) m) (cond (Nat.beq (sd_zN d f 5 m % 5 ^ d) 0) (sd_tq f d e (sd_zN d f 5 m / 5 ^ d)) m) m := rfl
noncomputable def sd_fl (d k u m : Nat) (K : Nat → List Nat) : List Nat := Nat.rec (motive := fun _ => Nat → Nat → List Nat) (fun _ m => K m) (fun _ ih u m => (fun z => cond (Nat.beq z m) (ih (Nat.add u 1) m) (u :: ih (Nat.add u 1) z)) (sd_tq u d 5 m)) k u m
theorem sd_fl_s (d k u m : Nat) (K : Nat → List Nat) : sd_fl d (k + 1) u m K = cond (Nat.beq (sd_tq u d 5 m) m) (sd_fl d k (u + 1) m K) (u :: sd_fl d k (u + 1) (sd_tq u d 5 m) K) := rfl
/-- the factors of the polynomial c -/
noncomputable def sd_fc (c : Nat) : List Nat := sd_fl 1 5 5 c (fun m => sd_fl 2 25 25 m (fun m => cond (Nat.ble 5 m) [m] []))
/-- four numbers of blocks in a word -/
def sd_bw (n d r1 r2 r3 r4 : Nat) : Nat := (n - r1) / d + 8 * ((r1 - r2) / d) + 64 * ((r2 - r3) / d) + 512 * ((r3 - r4) / d)
noncomputable def sd_ic (D : List (Nat × Nat)) : Nat := List.rec (motive := fun _ => Nat → Nat) (fun m => m) (fun z _ ih m => ih (cond (Nat.ble (Nat.mod z.2 8) m) m (Nat.mod z.2 8))) D 0
noncomputable def sd_ct (w j k : Nat) : Nat := cond (Nat.ble (Nat.mod (Nat.div w (Nat.pow 8 k)) 8) j) 0 1
noncomputable def sd_mu (f w j k m : Nat) : Nat := cond (Nat.ble (Nat.mod (Nat.div w (Nat.pow 8 k)) 8) j) m (sd_mR 10 10 m f)
noncomputable def sd_m4 (f w j m : Nat) : Nat := sd_mu f w j 3 (sd_mu f w j 2 (sd_mu f w j 1 (sd_mu f w j 0 m)))
noncomputable def sd_iv (D : List (Nat × Nat)) (j m : Nat) : Nat := List.rec (motive := fun _ => Nat → Nat) (fun m => m) (fun z _ ih m => ih (sd_m4 z.1 z.2 j m)) D m
/-- the order of x modulo f -/
noncomputable def sd_os (d f p c : Nat) : Nat := cond (Nat.beq (Nat.mod c p) 0) (cond (Nat.beq (sd_px d f 10 (Nat.div c p)) 1) (Nat.div c p) c) c
noncomputable def sd_oo (f : Nat) : Nat := (fun d => sd_os d f 31 (sd_os d f 13 (sd_os d f 3 (sd_os d f 2 (sd_os d f 2 (sd_os d f 2 (sd_os d f 2 (Nat.sub (Nat.pow 5 d) 1)))))))) (sd_df f)
noncomputable def sd_or (D : List (Nat × Nat)) (r : Nat) (g : Bool) : Nat := List.rec (motive := fun _ => Nat → Bool → Nat) (fun r g => cond g (Nat.mul 5 r) r) (fun z _ ih r g => cond (Nat.beq z.1 5) 0 (ih (Nat.mul (Nat.div r (Nat.gcd r (sd_oo z.1))) (sd_oo z.1)) (cond (Nat.ble (Nat.mod (Nat.div z.2 8) 8) 0) g true))) D r g
noncomputable def sd_di (D : List (Nat × Nat)) : Bool := List.rec (motive := fun _ => Bool) true (fun z _ ih => cond (Nat.ble 25 z.1) false (cond (Nat.ble (Nat.mod (Nat.div z.2 8) 8) 0) ih false)) D
noncomputable def sd_co (D : List (Nat × Nat)) : Nat := List.rec (motive := fun _ => Nat) 0 (fun z _ ih => Nat.add ih (Nat.mul (sd_df z.1) (Nat.add (Nat.add (Nat.mul (Nat.mod z.2 8) (Nat.mod z.2 8)) (Nat.mul (Nat.mod (Nat.div z.2 8) 8) (Nat.mod (Nat.div z.2 8) 8))) (Nat.add (Nat.mul (Nat.mod (Nat.div z.2 64) 8) (Nat.mod (Nat.div z.2 64) 8)) (Nat.mul (Nat.mod (Nat.div z.2 512) 8) (Nat.mod (Nat.div z.2 512) 8)))))) D
/-- the matrix of X ↦ A X - X A -/
def sd_cmM (n : Nat) (A : sd_M) : sd_M := fun u v => (if u % n = v % n then A (u / n) (v / n) else 0) - (if u / n = v / n then A (v % n) (u % n) else 0)
/-- that o is the order of x modulo f -/
noncomputable def sd_vO (d f o : Nat) : Bool := and (Nat.ble 1 o) (and (Nat.beq (Nat.mod 96720 o) 0) (and (Nat.beq (sd_px d f 10 o) 1)
  (and (cond (Nat.beq (Nat.mod o 2) 0) (not (Nat.beq (sd_px d f 10 (Nat.div o 2)) 1)) true) (and (cond (Nat.beq (Nat.mod o 3) 0) (not (Nat.beq (sd_px d f 10 (Nat.div o 3)) 1)) true)
  (and (cond (Nat.beq (Nat.mod o 5) 0) (not (Nat.beq (sd_px d f 10 (Nat.div o 5)) 1)) true) (and (cond (Nat.beq (Nat.mod o 13) 0) (not (Nat.beq (sd_px d f 10 (Nat.div o 13)) 1)) true) (cond (Nat.beq (Nat.mod o 31) 0) (not (Nat.beq (sd_px d f 10 (Nat.div o 31)) 1)) true)))))))
theorem sd_and {a b : Bool} (h : and a b = true) : a = true ∧ b = true := by
  cases a <;> cases b <;> first | exact ⟨rfl, rfl⟩ | exact nomatch h
theorem sd_not {a : Bool} (h : not a = true) : a = false := by
  cases a
  · rfl
  · exact nomatch h
theorem sd_vO_s {d f o : Nat} (h1 : 1 ≤ d) (h4 : d ≤ 4) (hf : f / 5 ^ d = 1) (ho : o < 1024) (h : sd_vO d f o = true) : 0 < o ∧ ∀ k, sd_cg (sd_dg f) (sd_pp sd_X k) (sd_pc 1) ↔ o ∣ k := by
  obtain ⟨a1, h⟩ := sd_and h
  obtain ⟨a2, h⟩ := sd_and h
  obtain ⟨a3, h⟩ := sd_and h
  obtain ⟨b2, h⟩ := sd_and h
  obtain ⟨b3, h⟩ := sd_and h
  obtain ⟨b5, h⟩ := sd_and h
  obtain ⟨b13, b31⟩ := sd_and h
  have o1 : 1 ≤ o := Nat.le_of_ble_eq_true a1
  refine ⟨o1, ?_⟩
  have hk : ∀ k, k ≤ o → k < 2 ^ 10 := fun k hk => by
    have : (2 : Nat) ^ 10 = 1024 := by decide
    omega
  refine sd_order (fun k => sd_cg (sd_dg f) (sd_pp sd_X k) (sd_pc 1)) (sd_cg_r _ _) (sd_cgX_a (sd_dg_fs f)) (sd_cgX_s (sd_dg_fs f)) o o1 ?_ ?_ ?_
  · exact Nat.dvd_of_mod_eq_zero (Nat.eq_of_beq_eq_true a2)
  · exact (sd_px_1 h1 h4 hf (hk o (Nat.le_refl o))).mp (Nat.eq_of_beq_eq_true a3)
  · intro p hp hd hc
    have hm := Nat.mod_eq_zero_of_dvd hd
    have e := (sd_px_1 h1 h4 hf (hk (o / p) (Nat.div_le_self o p))).mpr hc
    have aux : ∀ b : Bool, cond (Nat.beq (o % p) 0) (not (Nat.beq (sd_px d f 10 (o / p)) 1)) true = b → b = true → False := by
      intro b hb ht
      rw [hm] at hb
      rw [e] at hb
      rw [← hb] at ht
      exact nomatch ht
    rcases hp with rfl | rfl | rfl | rfl | rfl
    · exact aux _ rfl b2
    · exact aux _ rfl b3
    · exact aux _ rfl b5
    · exact aux _ rfl b13
    · exact aux _ rfl b31
/-- x - w -/
def sd_lw (w : Nat) : Nat := 5 + (5 - w) % 5
def sd_F1 (n : Nat) (A : sd_M) (D : List (Nat × Nat)) : Prop := D.map Prod.fst = sd_fc (sd_nm 5 (sd_cp n A))
def sd_F2 (n : Nat) (A : sd_M) (D : List (Nat × Nat)) : Prop := ∀ z, z ∈ D → z.1 / 5 ^ sd_df z.1 = 1 ∧ ∃ r1 r2 r3 r4, sd_rk n n (sd_ev n A 5 (sd_dg z.1)) r1 ∧ sd_rk n n (sd_x n (sd_ev n A 5 (sd_dg z.1)) (sd_ev n A 5 (sd_dg z.1))) r2 ∧
  sd_rk n n (sd_x n (sd_x n (sd_ev n A 5 (sd_dg z.1)) (sd_ev n A 5 (sd_dg z.1))) (sd_ev n A 5 (sd_dg z.1))) r3 ∧ sd_rk n n (sd_x n (sd_x n (sd_x n (sd_ev n A 5 (sd_dg z.1)) (sd_ev n A 5 (sd_dg z.1))) (sd_ev n A 5 (sd_dg z.1))) (sd_ev n A 5 (sd_dg z.1))) r4 ∧ z.2 = sd_bw n (sd_df z.1) r1 r2 r3 r4
def sd_F4 (n : Nat) (N : Nat → Nat) (D : List (Nat × Nat)) : Prop := 1 ≤ sd_ic D ∧ sd_ic D ≤ n ∧ D.length ≤ 4 ∧ ∀ t, t < n → (t + sd_ic D < n → N t = 1) ∧ (n ≤ t + sd_ic D → N t = sd_iv D (n - 1 - t) 1 ∧ 5 ≤ N t)
def sd_F5 (n : Nat) (A : sd_M) (N : Nat → Nat) : Prop := sd_ev n A 5 (sd_dg (N (n - 1))) = sd_mz
def sd_F6 (n : Nat) (A : sd_M) (D : List (Nat × Nat)) : Prop := (sd_cp n A 0 = 0 ↔ 5 ∈ D.map Prod.fst) ∧ (sd_cp n A 0 ≠ 0 → (∀ z, z ∈ D → sd_vO (sd_df z.1) z.1 (sd_oo z.1) = true ∧ sd_oo z.1 < 1024) ∧ 0 < sd_or D 1 false ∧ sd_or D 1 false ≤ 624 ∧ ∀ k, sd_pw n A k = sd_I n ↔ sd_or D 1 false ∣ k)
def sd_F7 (n : Nat) (A : sd_M) (D : List (Nat × Nat)) : Prop := ∃ r0 r1 r2 r3 r4, sd_rk n n (sd_ev n A 2 (sd_dg (sd_lw 0))) r0 ∧ sd_rk n n (sd_ev n A 2 (sd_dg (sd_lw 1))) r1 ∧ sd_rk n n (sd_ev n A 2 (sd_dg (sd_lw 2))) r2 ∧ sd_rk n n (sd_ev n A 2 (sd_dg (sd_lw 3))) r3 ∧ sd_rk n n (sd_ev n A 2 (sd_dg (sd_lw 4))) r4 ∧ (sd_di D = true ↔ (n - r0) + (n - r1) + (n - r2) + (n - r3) + (n - r4) = n)
def sd_F8 (n : Nat) (A : sd_M) (D : List (Nat × Nat)) : Prop := sd_co D ≤ n * n ∧ sd_rk (n * n) (n * n) (sd_cmM n A) (n * n - sd_co D)
def sd_F9 (n : Nat) (A : sd_M) (N : Nat → Nat) : Prop := (∀ t, t < n → ∃ d, d ≤ 4 ∧ N t / 5 ^ d = 1) ∧ ∀ k, 1 ≤ k → k ≤ n → sd_gcd n k A (@sd_pr sd_P sd_R k (fun t => sd_dg (N t)))
def sd_fact (n : Nat) (A : sd_M) (N : Nat → Nat) (D : List (Nat × Nat)) : Prop := sd_F1 n A D ∧ sd_F2 n A D ∧ sd_F4 n N D ∧ sd_F5 n A N ∧ sd_F6 n A D ∧ sd_F7 n A D ∧ sd_F8 n A D ∧ sd_F9 n A N
theorem sd_s_split (f : Nat → Fin 5) (a : Nat) : ∀ b : Nat, sd_s (a + b) f = sd_s a f + sd_s b (fun i => f (a + i)) := by
  intro b
  induction b with
  | zero => show sd_s a f = sd_s a f + 0; grind
  | succ b ih =>
    show sd_s (a + b) f + f (a + b) = sd_s a f + (sd_s b (fun i => f (a + i)) + f (a + b))
    rw [ih]; grind
theorem sd_s_pair (n : Nat) (h0 : 0 < n) (F : Nat → Nat → Fin 5) : ∀ m : Nat, sd_s (m * n) (fun v => F (v / n) (v % n)) = sd_s m (fun a => sd_s n (fun b => F a b)) := by
  intro m
  induction m with
  | zero => rw [Nat.zero_mul]; rfl
  | succ m ih =>
    rw [Nat.succ_mul, sd_s_split, ih]
    show _ = sd_s m (fun a => sd_s n (fun b => F a b)) + sd_s n (fun b => F m b)
    congr 1
    apply sd_s_c
    intro b hb
    have e1 : (m * n + b) / n = m := by rw [Nat.mul_comm, Nat.mul_add_div h0, Nat.div_eq_of_lt hb, Nat.add_zero]
    have e2 : (m * n + b) % n = b := by rw [Nat.mul_comm, Nat.mul_add_mod, Nat.mod_eq_of_lt hb]
    rw [e1, e2]
def sd_Ph (n : Nat) (P Q : sd_M) : sd_M := fun u v => Q (u / n) (v / n) * P (v % n) (u % n)
theorem sd_Ph_c {n : Nat} (h0 : 0 < n) {A C P Q : sd_M} (q1 : sd_x n C Q = sd_x n Q A) (q2 : sd_x n A P = sd_x n P C) (u w : Nat) (hu : u < n * n) (hw : w < n * n) : sd_m (n * n) (sd_cmM n C) (sd_Ph n P Q) u w = sd_m (n * n) (sd_Ph n P Q) (sd_cmM n A) u w := by
  have u1 : u / n < n := Nat.div_lt_of_lt_mul hu
  have u2 : u % n < n := Nat.mod_lt u h0
  have w1 : w / n < n := Nat.div_lt_of_lt_mul hw
  have w2 : w % n < n := Nat.mod_lt w h0
  have l1 : sd_m (n * n) (sd_cmM n C) (sd_Ph n P Q) u w = sd_s n (fun a => sd_s n (fun b => ((if u % n = b then C (u / n) a else 0) - (if u / n = a then C b (u % n) else 0)) * (Q a (w / n) * P (w % n) b))) :=
    sd_s_pair n h0 (fun a b => ((if u % n = b then C (u / n) a else 0) - (if u / n = a then C b (u % n) else 0)) * (Q a (w / n) * P (w % n) b)) n
  have l2 : sd_m (n * n) (sd_Ph n P Q) (sd_cmM n A) u w = sd_s n (fun a => sd_s n (fun b => (Q (u / n) a * P b (u % n)) * ((if b = w % n then A a (w / n) else 0) - (if a = w / n then A (w % n) b else 0)))) :=
    sd_s_pair n h0 (fun a b => (Q (u / n) a * P b (u % n)) * ((if b = w % n then A a (w / n) else 0) - (if a = w / n then A (w % n) b else 0))) n
  generalize u / n = i at u1 l1 l2
  generalize u % n = j at u2 l1 l2
  generalize w / n = p at w1 l1 l2
  generalize w % n = q at w2 l1 l2
  have k1 : sd_s n (fun a => sd_s n (fun b => ((if j = b then C i a else 0) - (if i = a then C b j else 0)) * (Q a p * P q b))) = sd_m n C Q i p * P q j - Q i p * sd_m n P C q j := by
    have e1 : (fun a => sd_s n (fun b => ((if j = b then C i a else 0) - (if i = a then C b j else 0)) * (Q a p * P q b))) = fun a => C i a * Q a p * P q j + (if a = i then - (Q i p * sd_m n P C q j) else 0) := by
      funext a
      have e2 : (fun b => ((if j = b then C i a else 0) - (if i = a then C b j else 0)) * (Q a p * P q b)) = fun b => (if b = j then C i a * Q a p * P q j else 0) + (if a = i then - Q i p else 0) * (P q b * C b j) := by
        funext b
        by_cases h1 : j = b
        · subst h1
          by_cases h2 : i = a
          · subst h2; rw [if_pos rfl, if_pos rfl, if_pos rfl, if_pos rfl]; grind
          · rw [if_pos rfl, if_neg h2, if_pos rfl, if_neg (fun z => h2 z.symm)]; grind
        · by_cases h2 : i = a
          · subst h2; rw [if_neg h1, if_pos rfl, if_neg (fun z => h1 z.symm), if_pos rfl]; grind
          · rw [if_neg h1, if_neg h2, if_neg (fun z => h1 z.symm), if_neg (fun z => h2 z.symm)]; grind
      rw [e2, sd_s_add, sd_s_d' n j u2 (fun _ => C i a * Q a p * P q j), sd_s_ml]
      congr 1
      by_cases h2 : a = i
      · rw [if_pos h2, if_pos h2]; show - Q i p * sd_m n P C q j = _; grind
      · rw [if_neg h2, if_neg h2]; grind
    rw [e1, sd_s_add, sd_s_d' n i u1 (fun _ => - (Q i p * sd_m n P C q j)), sd_s_mr]
    show sd_m n C Q i p * P q j + _ = _
    grind
  have k2 : sd_s n (fun a => sd_s n (fun b => (Q i a * P b j) * ((if b = q then A a p else 0) - (if a = p then A q b else 0)))) = sd_m n Q A i p * P q j - Q i p * sd_m n A P q j := by
    have e1 : (fun a => sd_s n (fun b => (Q i a * P b j) * ((if b = q then A a p else 0) - (if a = p then A q b else 0)))) = fun a => Q i a * A a p * P q j + (if a = p then - (Q i p * sd_m n A P q j) else 0) := by
      funext a
      have e2 : (fun b => (Q i a * P b j) * ((if b = q then A a p else 0) - (if a = p then A q b else 0))) = fun b => (if b = q then Q i a * A a p * P q j else 0) + (if a = p then - Q i p else 0) * (A q b * P b j) := by
        funext b
        by_cases h1 : b = q
        · subst h1
          by_cases h2 : a = p
          · subst h2; rw [if_pos rfl, if_pos rfl, if_pos rfl, if_pos rfl]; grind
          · rw [if_pos rfl, if_neg h2, if_pos rfl, if_neg h2]; grind
        · by_cases h2 : a = p
          · subst h2; rw [if_neg h1, if_pos rfl, if_neg h1, if_pos rfl]; grind
          · rw [if_neg h1, if_neg h2, if_neg h1, if_neg h2]; grind
      rw [e2, sd_s_add, sd_s_d' n q w2 (fun _ => Q i a * A a p * P q j), sd_s_ml]
      congr 1
      by_cases h2 : a = p
      · rw [if_pos h2, if_pos h2]; show - Q i p * sd_m n A P q j = _; grind
      · rw [if_neg h2, if_neg h2]; grind
    rw [e1, sd_s_add, sd_s_d' n p w1 (fun _ => - (Q i p * sd_m n A P q j)), sd_s_mr]
    show sd_m n Q A i p * P q j + _ = _
    grind
  rw [l1, l2, k1, k2, ← sd_x_v (A := C) (B := Q) u1 w1, q1, sd_x_v u1 w1, ← sd_x_v (A := A) (B := P) w2 u2, q2, sd_x_v w2 u2]
theorem sd_Ph_i {n : Nat} (h0 : 0 < n) {P Q : sd_M} (e1 : sd_x n P Q = sd_I n) (u w : Nat) (hu : u < n * n) (hw : w < n * n) : sd_m (n * n) (sd_Ph n Q P) (sd_Ph n P Q) u w = sd_1 u w := by
  have u1 : u / n < n := Nat.div_lt_of_lt_mul hu
  have u2 : u % n < n := Nat.mod_lt u h0
  have w1 : w / n < n := Nat.div_lt_of_lt_mul hw
  have w2 : w % n < n := Nat.mod_lt w h0
  have l1 : sd_m (n * n) (sd_Ph n Q P) (sd_Ph n P Q) u w = sd_s n (fun a => sd_s n (fun b => (P (u / n) a * Q b (u % n)) * (Q a (w / n) * P (w % n) b))) :=
    sd_s_pair n h0 (fun a b => (P (u / n) a * Q b (u % n)) * (Q a (w / n) * P (w % n) b)) n
  have e2 : (fun a => sd_s n (fun b => (P (u / n) a * Q b (u % n)) * (Q a (w / n) * P (w % n) b))) = fun a => P (u / n) a * Q a (w / n) * sd_m n P Q (w % n) (u % n) := by
    funext a
    unfold sd_m
    rw [← sd_s_ml]
    apply sd_s_c
    intro b _; grind
  rw [l1, e2, sd_s_mr]
  show sd_m n P Q (u / n) (w / n) * sd_m n P Q (w % n) (u % n) = _
  rw [← sd_x_v u1 w1, ← sd_x_v w2 u2, e1, sd_I_v u1 w1, sd_I_v w2 u2]
  unfold sd_1
  by_cases h : u = w
  · subst h; rw [if_pos rfl, if_pos rfl, if_pos rfl]; rfl
  · rw [if_neg h]
    by_cases h1 : u / n = w / n
    · have h2 : ¬ w % n = u % n := by
        intro z
        apply h
        rw [← Nat.div_add_mod u n, ← Nat.div_add_mod w n, h1, z]
      rw [if_neg h2]; grind
    · rw [if_neg h1]; grind
theorem sd_cm_sim {n r : Nat} (h0 : 0 < n) {A C : sd_M} (oA : sd_ok n A) (oC : sd_ok n C) (h : sd_sim n A C) (k : sd_rk (n * n) (n * n) (sd_cmM n C) r) : sd_rk (n * n) (n * n) (sd_cmM n A) r := by
  obtain ⟨P, Q, oP, oQ, e1, e2, e3⟩ := h
  have q1 : sd_x n C Q = sd_x n Q A := by
    rw [sd_sim_q' oC e2 e3, sd_x_as, sd_x_as n A P Q, e1, sd_x_I oA]
  have c1 := fun u w hu hw => sd_Ph_c h0 q1 e3 u w hu hw
  have i1 := fun u w hu hw => sd_Ph_i h0 (P := P) (Q := Q) e1 u w hu hw
  have i2 := fun u w hu hw => sd_Ph_i h0 (P := Q) (Q := P) e2 u w hu hw
  -- cm A = Ph' (cm C Ph), cm C = Ph (cm A Ph')
  have f1 : ∀ u w, u < n * n → w < n * n → sd_cmM n A u w = sd_m (n * n) (sd_Ph n Q P) (sd_m (n * n) (sd_cmM n C) (sd_Ph n P Q)) u w := by
    intro u w hu hw
    have g1 : sd_m (n * n) (sd_Ph n Q P) (sd_m (n * n) (sd_cmM n C) (sd_Ph n P Q)) u w = sd_m (n * n) (sd_Ph n Q P) (sd_m (n * n) (sd_Ph n P Q) (sd_cmM n A)) u w := sd_m_c (fun _ _ => rfl) (fun l hl => c1 l w hl hw)
    rw [g1, ← sd_m_as]
    have g2 : sd_m (n * n) (sd_m (n * n) (sd_Ph n Q P) (sd_Ph n P Q)) (sd_cmM n A) u w = sd_m (n * n) sd_1 (sd_cmM n A) u w := sd_m_c (fun l hl => i1 u l hu hl) (fun _ _ => rfl)
    rw [g2, sd_1_m hu]
  have f2 : ∀ u w, u < n * n → w < n * n → sd_cmM n C u w = sd_m (n * n) (sd_Ph n P Q) (sd_m (n * n) (sd_cmM n A) (sd_Ph n Q P)) u w := by
    intro u w hu hw
    rw [← sd_m_as]
    have g1 : sd_m (n * n) (sd_m (n * n) (sd_Ph n P Q) (sd_cmM n A)) (sd_Ph n Q P) u w = sd_m (n * n) (sd_m (n * n) (sd_cmM n C) (sd_Ph n P Q)) (sd_Ph n Q P) u w := sd_m_c (fun l hl => (c1 u l hu hl).symm) (fun _ _ => rfl)
    rw [g1, sd_m_as]
    have g2 : sd_m (n * n) (sd_cmM n C) (sd_m (n * n) (sd_Ph n P Q) (sd_Ph n Q P)) u w = sd_m (n * n) (sd_cmM n C) sd_1 u w := sd_m_c (fun _ _ => rfl) (fun l hl => i2 l w hl hw)
    rw [g2, sd_m_1 hw]
  exact ⟨sd_ge_t f2 k.1, sd_le_t f1 k.2⟩
theorem sd_gcd_sim {n k : Nat} (hk : 1 ≤ k) {A C : sd_M} (oA : sd_ok n A) (oC : sd_ok n C) (h : sd_sim n A C) {D : sd_P} (hD : sd_gcd n k C D) : sd_gcd n k A D :=
  ⟨hD.1, sd_am_sim hk oC oA (sd_sim_s oA oC h) D hD.2.1, fun g hg => hD.2.2 g (sd_am_sim hk oA oC h g hg)⟩
theorem sd_fact_sim {n : Nat} (h1 : 1 ≤ n) (h4 : n ≤ 4) {A C : sd_M} (oA : sd_ok n A) (oC : sd_ok n C) (h : sd_sim n A C) {N : Nat → Nat} {D : List (Nat × Nat)} (hf : sd_fact n C N D) : sd_fact n A N D := by
  have hcp := sd_cp_sim h1 h4 oA oC h
  obtain ⟨f1, f2, f4, f5, f6, f7, f8, f9⟩ := hf
  have h' := h
  obtain ⟨P, Q, oP, oQ, e1, e2, e3⟩ := h'
  have ev := fun d p => sd_sim_ev oP e3 d p
  have mulP : ∀ U V U' V' : sd_M, sd_x n U P = sd_x n P V → sd_x n U' P = sd_x n P V' → sd_x n (sd_x n U U') P = sd_x n P (sd_x n V V') := by
    intro U V U' V' a b
    rw [sd_x_as, b, ← sd_x_as, a, sd_x_as]
  have rk : ∀ (U V : sd_M) (r : Nat), sd_ok n U → sd_ok n V → sd_x n U P = sd_x n P V → sd_rk n n V r → sd_rk n n U r := fun U V r oU oV e k => (sd_rk_sim oU oV e1 e2 e).mpr k
  refine ⟨?_, ?_, f4, ?_, ?_, ?_, ?_, ?_⟩
  · unfold sd_F1 at f1 ⊢
    rw [hcp]; exact f1
  · intro z hz
    obtain ⟨m, r1, r2, r3, r4, k1, k2, k3, k4, k5⟩ := f2 z hz
    have w1 := ev 5 (sd_dg z.1)
    have w2 := mulP _ _ _ _ w1 w1
    have w3 := mulP _ _ _ _ w2 w1
    have w4 := mulP _ _ _ _ w3 w1
    exact ⟨m, r1, r2, r3, r4, rk _ _ _ (sd_ev_ok n A _ _) (sd_ev_ok n C _ _) w1 k1, rk _ _ _ (sd_x_ok n _ _) (sd_x_ok n _ _) w2 k2, rk _ _ _ (sd_x_ok n _ _) (sd_x_ok n _ _) w3 k3, rk _ _ _ (sd_x_ok n _ _) (sd_x_ok n _ _) w4 k4, k5⟩
  · unfold sd_F5 at f5 ⊢
    have := sd_sim_q (sd_ev_ok n A _ _) e1 (ev 5 (sd_dg (N (n - 1))))
    rw [f5, sd_z_x, sd_x_z] at this
    exact this
  · unfold sd_F6 at f6 ⊢
    rw [hcp]
    refine ⟨f6.1, fun hc => ?_⟩
    obtain ⟨a, b, c, d⟩ := f6.2 hc
    refine ⟨a, b, c, fun k => ?_⟩
    rw [← d k]
    have pw := sd_sim_pw oP e3 k
    constructor
    · intro z
      rw [z, sd_I_x oP] at pw
      have := sd_sim_q' (U := sd_I n) (sd_pw_ok n C k) e2 (by rw [sd_I_x oP]; exact pw)
      rw [sd_I_x oP, e2] at this
      exact this
    · intro z
      have := sd_sim_q (sd_pw_ok n A k) e1 pw
      rw [z, sd_I_x oQ, e1] at this
      exact this
  · obtain ⟨r0, r1, r2, r3, r4, k0, k1, k2, k3, k4, k5⟩ := f7
    exact ⟨r0, r1, r2, r3, r4, rk _ _ _ (sd_ev_ok n A _ _) (sd_ev_ok n C _ _) (ev _ _) k0, rk _ _ _ (sd_ev_ok n A _ _) (sd_ev_ok n C _ _) (ev _ _) k1, rk _ _ _ (sd_ev_ok n A _ _) (sd_ev_ok n C _ _) (ev _ _) k2,
      rk _ _ _ (sd_ev_ok n A _ _) (sd_ev_ok n C _ _) (ev _ _) k3, rk _ _ _ (sd_ev_ok n A _ _) (sd_ev_ok n C _ _) (ev _ _) k4, k5⟩
  · exact ⟨f8.1, sd_cm_sim (by omega) oA oC h f8.2⟩
  · exact ⟨f9.1, fun k hk hn => sd_gcd_sim hk oA oC h (f9.2 k hk hn)⟩
end
section
/-! ===== the check of one normal form, and that it is sound ===== -/
noncomputable def sd_all (k : Nat) (f : Nat → Bool) : Bool := Nat.rec (motive := fun _ => Bool) true (fun i ih => and (f i) ih) k
theorem sd_all_s : ∀ (k : Nat) (f : Nat → Bool), sd_all k f = true → ∀ i, i < k → f i = true := by
  intro k
  induction k with
  | zero => intro f _ i h; omega
  | succ k ih =>
    intro f h i hi
    have h' : and (f k) (sd_all k f) = true := h
    obtain ⟨a, b⟩ := sd_and h'
    by_cases e : i = k
    · rw [e]; exact a
    · exact ih f b i (by omega)
noncomputable def sd_rl (g : Nat → Nat → Nat) (q k : Nat) : List Nat := Nat.rec (motive := fun _ => List Nat) [] (fun i ih => sd_pk (g i) q 0 :: ih) k
theorem sd_rl_mem (g : Nat → Nat → Nat) (q : Nat) : ∀ (k r : Nat), r ∈ sd_rl g q k ↔ ∃ i, i < k ∧ r = sd_pk (g i) q 0 := by
  intro k
  induction k with
  | zero => intro r; exact ⟨fun h => absurd h (by show ¬ r ∈ ([] : List Nat); simp), fun ⟨i, h, _⟩ => absurd h (by omega)⟩
  | succ k ih =>
    intro r
    show r ∈ sd_pk (g k) q 0 :: sd_rl g q k ↔ _
    rw [List.mem_cons, ih]
    constructor
    · rintro (h | ⟨i, hi, e⟩)
      · exact ⟨k, by omega, h⟩
      · exact ⟨i, by omega, e⟩
    · rintro ⟨i, hi, e⟩
      by_cases z : i = k
      · subst z; exact Or.inl e
      · exact Or.inr ⟨i, by omega, e⟩
theorem sd_rl_rk (g : Nat → Nat → Nat) (hg : ∀ i j, g i j ≤ 4) (q k : Nat) (hq : q ≤ 16) : sd_rk k q (fun i j => Fin.ofNat 5 (g i j)) (sd_rkN q (sd_rl g q k)) := by
  have hb : 4 * 5 ^ q < 1099511627776 := by
    have : 5 ^ q ≤ 5 ^ 16 := Nat.pow_le_pow_right (by omega) hq
    have e : (5 : Nat) ^ 16 = 152587890625 := by decide
    omega
  have h := sd_rkN_s q 4 (sd_rl g q k) (by
    intro r hr j hj
    obtain ⟨i, _, rfl⟩ := (sd_rl_mem g q k r).mp hr
    rw [sd_pk_d (g i) (hg i) q 0 j hj]
    exact hg _ _) hb
  have vv : ∀ i j, j < q → sd_vec (sd_pk (g i) q 0) j = Fin.ofNat 5 (g i j) := by
    intro i j hj
    show Fin.ofNat 5 (sd_pk (g i) q 0 / 1099511627776 ^ j % 1099511627776) = _
    rw [sd_pk_d (g i) (hg i) q 0 j hj, Nat.zero_add]
  unfold sd_lr at h
  rw [List.length_map] at h
  refine (sd_eqv ?_ ?_).mp h
  · intro i hi
    obtain ⟨l, hl, e⟩ := sd_mem_gd ((sd_rl g q k).map sd_vec) (sd_vec (sd_pk (g i) q 0)) (List.mem_map.mpr ⟨_, (sd_rl_mem g q k _).mpr ⟨i, hi, rfl⟩, rfl⟩)
    rw [List.length_map] at hl
    refine ⟨sd_e l, fun j hj => ?_⟩
    have e3 : ∀ (M : sd_M), (fun t => sd_e l t * M t j) = fun t => M t j * sd_e l t := by intro M; funext t; grind
    rw [e3, sd_s_e hl]
    unfold sd_lm
    rw [e, vv i j hj]
  · intro i hi
    have hm := sd_gd_mem ((sd_rl g q k).map sd_vec) i (by rw [List.length_map]; exact hi)
    obtain ⟨r, hr, e⟩ := List.mem_map.mp hm
    obtain ⟨l, hl, rfl⟩ := (sd_rl_mem g q k r).mp hr
    refine ⟨sd_e l, fun j hj => ?_⟩
    have e3 : ∀ (M : sd_M), (fun t => sd_e l t * M t j) = fun t => M t j * sd_e l t := by intro M; funext t; grind
    refine Eq.trans ?_ (congrArg (sd_s k) (e3 (fun i j => Fin.ofNat 5 (g i j)))).symm
    rw [sd_s_e hl]
    unfold sd_lm
    rw [← e, vv l j hj]
noncomputable def sd_rkM (n N : Nat) : Nat := sd_rkN n (sd_rl (fun i j => Nat.mod (Nat.div N (Nat.pow 5 (Nat.add (Nat.mul 4 i) j))) 5) n n)
theorem sd_rk_c {p q r : Nat} {M M' : sd_M} (h : ∀ i j, i < p → j < q → M i j = M' i j) (k : sd_rk p q M r) : sd_rk p q M' r := by
  refine (sd_eqv ?_ ?_).mp k
  · intro i hi
    refine ⟨sd_e i, fun j hj => ?_⟩
    have e3 : ∀ (M : sd_M), (fun t => sd_e i t * M t j) = fun t => M t j * sd_e i t := by intro M; funext t; grind
    rw [e3, sd_s_e hi, h i j hi hj]
  · intro i hi
    refine ⟨sd_e i, fun j hj => ?_⟩
    have e3 : ∀ (M : sd_M), (fun t => sd_e i t * M t j) = fun t => M t j * sd_e i t := by intro M; funext t; grind
    rw [e3, sd_s_e hi, h i j hi hj]
theorem sd_m4le (x : Nat) : x % 5 ≤ 4 := by omega
theorem sd_rkM_s {n : Nat} (h4 : n ≤ 4) (N : Nat) : sd_rk n n (sd_tm n N) (sd_rkM n N) := by
  refine sd_rk_c ?_ (sd_rl_rk (fun i j => N / 5 ^ (4 * i + j) % 5) (fun i j => sd_m4le _) n n (by omega))
  intro i j hi hj
  unfold sd_tm
  rw [sd_cl_v hi hj, sd_of_mod]
  rfl
noncomputable def sd_wd (n C f : Nat) : Nat := (fun d P1 => (fun P2 => (fun P3 => (fun P4 => (fun r1 r2 r3 r4 => Nat.add (Nat.add (Nat.add (Nat.div (Nat.sub n r1) d) (Nat.mul 8 (Nat.div (Nat.sub r1 r2) d))) (Nat.mul 64 (Nat.div (Nat.sub r2 r3) d))) (Nat.mul 512 (Nat.div (Nat.sub r3 r4) d))) (sd_rkM n P1) (sd_rkM n P2) (sd_rkM n P3) (sd_rkM n P4)) (sd_hN n P3 P1 0)) (sd_hN n P2 P1 0)) (sd_hN n P1 P1 0)) (sd_df f) (sd_eN n C 5 f)
noncomputable def sd_da (n C : Nat) (L : List Nat) : List (Nat × Nat) := List.rec (motive := fun _ => List (Nat × Nat)) [] (fun f _ ih => (f, sd_wd n C f) :: ih) L
theorem sd_da_f (n C : Nat) (L : List Nat) : (sd_da n C L).map Prod.fst = L := by
  induction L with
  | nil => rfl
  | cons f L ih => show f :: (sd_da n C L).map Prod.fst = f :: L; rw [ih]
theorem sd_da_m (n C : Nat) (L : List Nat) (z : Nat × Nat) (h : z ∈ sd_da n C L) : z.1 ∈ L ∧ z.2 = sd_wd n C z.1 := by
  induction L with
  | nil => exact absurd h (by show ¬ z ∈ ([] : List (Nat × Nat)); simp)
  | cons f L ih =>
    rcases List.mem_cons.mp (show z ∈ (f, sd_wd n C f) :: sd_da n C L from h) with rfl | h
    · exact ⟨List.mem_cons_self, rfl⟩
    · exact ⟨List.mem_cons_of_mem _ (ih h).1, (ih h).2⟩
noncomputable def sd_la (L : List Nat) (f : Nat → Bool) : Bool := List.rec (motive := fun _ => Bool) true (fun x _ ih => and (f x) ih) L
theorem sd_la_s (f : Nat → Bool) : ∀ L : List Nat, sd_la L f = true → ∀ x, x ∈ L → f x = true := by
  intro L
  induction L with
  | nil => intro _ x h; exact absurd h (by simp)
  | cons y L ih =>
    intro h x hx
    obtain ⟨a, b⟩ := sd_and (show and (f y) (sd_la L f) = true from h)
    rcases List.mem_cons.mp hx with rfl | hx
    · exact a
    · exact ih b x hx
noncomputable def sd_h5 (L : List Nat) : Bool := List.rec (motive := fun _ => Bool) false (fun x _ ih => cond (Nat.beq x 5) true ih) L
theorem sd_h5_s : ∀ L : List Nat, sd_h5 L = true ↔ 5 ∈ L := by
  intro L
  induction L with
  | nil => exact ⟨(fun h => nomatch h), (fun h => nomatch h)⟩
  | cons y L ih =>
    show cond (Nat.beq y 5) true (sd_h5 L) = true ↔ _
    rw [List.mem_cons]
    by_cases e : y = 5
    · subst e; exact ⟨fun _ => Or.inl rfl, fun _ => rfl⟩
    · rw [sd_beq_f e]
      show sd_h5 L = true ↔ _
      rw [ih]
      exact ⟨Or.inr, fun h => h.resolve_left (fun z => e z.symm)⟩
noncomputable def sd_len (L : List Nat) : Nat := List.rec (motive := fun _ => Nat) 0 (fun _ _ ih => Nat.add ih 1) L
theorem sd_len_e (L : List Nat) : sd_len L = L.length := by
  induction L with
  | nil => rfl
  | cons x L ih => show sd_len L + 1 = _; rw [ih]; rfl
noncomputable def sd_be (a b : Bool) : Bool := cond a b (not b)
theorem sd_be_s {a b : Bool} (h : sd_be a b = true) : a = b := by cases a <;> cases b <;> first | rfl | exact nomatch h
noncomputable def sd_cmN (n C : Nat) : Nat := sd_rkN (Nat.mul n n) (sd_rl (fun u v => Nat.mod (Nat.add (cond (Nat.beq (Nat.mod u n) (Nat.mod v n)) (Nat.mod (Nat.div C (Nat.pow 5 (Nat.add (Nat.mul 4 (Nat.div u n)) (Nat.div v n)))) 5) 0) (cond (Nat.beq (Nat.div u n) (Nat.div v n)) (Nat.sub 5 (Nat.mod (Nat.div C (Nat.pow 5 (Nat.add (Nat.mul 4 (Nat.mod v n)) (Nat.mod u n)))) 5)) 0)) 5) (Nat.mul n n) (Nat.mul n n))
noncomputable def sd_chkA (n C c m : Nat) (N : Nat → Nat) (L : List Nat) (D : List (Nat × Nat)) : Bool :=
  and (sd_la L (fun f => Nat.beq (Nat.div f (Nat.pow 5 (sd_df f))) 1)) (and (Nat.ble (sd_len L) 4)
  (and (and (Nat.ble 1 (sd_ic D)) (Nat.ble (sd_ic D) n)) (and (sd_all n (fun t => cond (Nat.ble n (Nat.add t (sd_ic D))) (and (Nat.beq (N t) (sd_iv D (Nat.sub (Nat.sub n 1) t) 1)) (Nat.ble 5 (N t))) (Nat.beq (N t) 1)))
  (and (Nat.beq (sd_rkM n (sd_eN n C 5 m)) 0) (and (sd_be (Nat.beq (Nat.mod c 5) 0) (sd_h5 L))
  (and (sd_be (sd_di D) (Nat.beq (Nat.add (Nat.add (Nat.add (Nat.add (Nat.sub n (sd_rkM n (sd_eN n C 2 5))) (Nat.sub n (sd_rkM n (sd_eN n C 2 9)))) (Nat.sub n (sd_rkM n (sd_eN n C 2 8)))) (Nat.sub n (sd_rkM n (sd_eN n C 2 7)))) (Nat.sub n (sd_rkM n (sd_eN n C 2 6)))) n))
  (and (Nat.ble (sd_co D) (Nat.mul n n)) (Nat.beq (sd_cmN n C) (Nat.sub (Nat.mul n n) (sd_co D))))))))))
noncomputable def sd_chkO (n C c m : Nat) (L : List Nat) (D : List (Nat × Nat)) : Bool :=
  and (Nat.beq (Nat.div m (Nat.pow 5 (sd_df m))) 1) (and (sd_all (Nat.sub (sd_df m) 1) (fun j => sd_all n (fun i => Nat.beq (Nat.mod (Nat.div C (Nat.pow 5 (Nat.add (Nat.mul 4 i) j))) 5) (cond (Nat.beq i (Nat.add j 1)) 1 0))))
  (and (Nat.ble (sd_df m) n) (cond (Nat.beq (Nat.mod c 5) 0) true (and (sd_la L (fun f => and (sd_vO (sd_df f) f (sd_oo f)) (Nat.ble (sd_oo f) 1023))) (and (Nat.ble (sd_or D 1 false) 624) (sd_vO (sd_df m) m (sd_or D 1 false)))))))
noncomputable def sd_pd (N : Nat → Nat) : Nat := sd_mR 5 5 (sd_mR 5 5 (sd_mR 5 5 (N 0) (N 1)) (N 2)) (N 3)
noncomputable def sd_chk (n C : Nat) (N : Nat → Nat) : Bool := and (sd_chkA n C (sd_pd N) (N (Nat.sub n 1)) N (sd_fc (sd_pd N)) (sd_da n C (sd_fc (sd_pd N)))) (and (sd_chkO n C (sd_pd N) (N (Nat.sub n 1)) (sd_fc (sd_pd N)) (sd_da n C (sd_fc (sd_pd N)))) (sd_all 4 (fun t => cond (Nat.ble n t) (Nat.beq (N t) 1) true)))
theorem sd_df_b (f : Nat) : 1 ≤ sd_df f ∧ sd_df f ≤ 4 := by
  unfold sd_df
  cases Nat.ble 625 f <;> cases Nat.ble 125 f <;> cases Nat.ble 25 f <;> exact ⟨by decide, by decide⟩
theorem sd_pm_low : ∀ (j : Nat) (a a' b b' : sd_P), (∀ i, i ≤ j → a i = a' i) → (∀ i, i ≤ j → b i = b' i) → sd_pm a b j = sd_pm a' b' j := by
  intro j
  induction j with
  | zero =>
    intro a a' b b' h h'
    show a 0 * b 0 = a' 0 * b' 0
    rw [h 0 (by omega), h' 0 (by omega)]
  | succ j ih =>
    intro a a' b b' h h'
    show a 0 * b (j + 1) + sd_pm (sd_tl a) b j = a' 0 * b' (j + 1) + sd_pm (sd_tl a') b' j
    rw [h 0 (by omega), h' (j + 1) (by omega), ih (sd_tl a) (sd_tl a') b b' (fun i hi => h (i + 1) (by omega)) (fun i hi => h' i (by omega))]
theorem sd_pd_dg (N : Nat → Nat) (hN : ∀ t, t < 4 → N t < 5 ^ 5) (j : Nat) (hj : j < 5) : sd_dg (sd_pd N) j = @sd_pr sd_P sd_R 4 (fun t => sd_dg (N t)) j := by
  have m : ∀ a b j : Nat, a < 5 ^ 5 → j < 5 → sd_dg (sd_mR 5 5 a b) j = sd_pm (sd_dg a) (sd_dg b) j := by
    intro a b j ha hj
    rw [sd_mR_e]; exact sd_mN_dg 5 5 a b j ha hj
  have l : ∀ a b : Nat, sd_mR 5 5 a b < 5 ^ 5 := by intro a b; rw [sd_mR_e]; exact sd_mN_lt 5 5 a b
  show sd_dg (sd_mR 5 5 (sd_mR 5 5 (sd_mR 5 5 (N 0) (N 1)) (N 2)) (N 3)) j = sd_pm (sd_pm (sd_pm (sd_pm (sd_pc 1) (sd_dg (N 0))) (sd_dg (N 1))) (sd_dg (N 2))) (sd_dg (N 3)) j
  rw [sd_pm_1, m _ _ j (l _ _) hj]
  apply sd_pm_low _ _ _ _ _ _ (fun _ _ => rfl)
  intro i hi
  rw [m _ _ i (l _ _) (by omega)]
  apply sd_pm_low _ _ _ _ _ _ (fun _ _ => rfl)
  intro i' hi'
  exact m _ _ i' (hN 0 (by omega)) (by omega)
theorem sd_pr_1 {n : Nat} (e : Nat → sd_P) : ∀ k : Nat, (∀ t, n ≤ t → t < n + k → e t = sd_pc 1) → @sd_pr sd_P sd_R (n + k) e = @sd_pr sd_P sd_R n e := by
  intro k
  induction k with
  | zero => intro _; rfl
  | succ k ih =>
    intro h
    show sd_pm (@sd_pr sd_P sd_R (n + k) e) (e (n + k)) = _
    rw [h (n + k) (by omega) (by omega), sd_pm_cm, sd_pm_1, ih (fun t h1 h2 => h t h1 (by omega))]
theorem sd_le_zero {n : Nat} {A : sd_M} (oA : sd_ok n A) (h : sd_rk n n A 0) : A = sd_mz := by
  obtain ⟨X, Y, e⟩ := h.2
  exact sd_ok_e oA (sd_mz_ok n) (fun i j hi hj => e i j hi hj)
theorem sd_ev_X {n : Nat} {A : sd_M} (oA : sd_ok n A) : ∀ k : Nat, sd_ev n A (k + 1) (sd_pp sd_X k) = sd_pw n A k ∧ sd_dl (sd_pp sd_X k) (k + 1) := by
  intro k
  have x2 : sd_ev n A 2 sd_X = A := by
    show sd_ma (sd_x n (sd_ma (sd_x n sd_mz A) (sd_ms (sd_tl sd_X 0) (sd_I n))) A) (sd_ms (sd_X 0) (sd_I n)) = A
    have e1 : sd_tl sd_X 0 = 1 := rfl
    have e2 : sd_X 0 = 0 := rfl
    rw [e1, e2, sd_z_x, sd_z_ma, sd_ms_1, sd_ms_0, sd_ma_z, sd_I_x oA]
  have dx : sd_dl sd_X 2 := fun j hj => if_neg (by omega)
  induction k with
  | zero =>
    refine ⟨?_, sd_dl_pc 1⟩
    show sd_ma (sd_x n sd_mz A) (sd_ms (sd_pc 1 0) (sd_I n)) = sd_I n
    have e1 : sd_pc 1 0 = 1 := rfl
    rw [e1, sd_z_x, sd_z_ma, sd_ms_1]
  | succ k ih =>
    have dl : sd_dl (sd_pp sd_X (k + 1)) (k + 1 + 1) := sd_dl_pm k ih.2 dx
    refine ⟨?_, dl⟩
    have e := sd_ev_m n oA (k + 1) 2 (sd_pp sd_X k) sd_X ih.2 dx
    rw [ih.1, x2] at e
    rw [← sd_ev_e n A (k + 1 + 1) (k + 1 + 2) (sd_pp sd_X (k + 1)) dl (by omega)]
    exact e
theorem sd_ev_cg {n : Nat} {A : sd_M} (oA : sd_ok n A) {m P R : sd_P} {d e f : Nat} (dP : sd_dl P d) (dR : sd_dl R e) (dm : sd_dl m f) (hm : sd_ev n A f m = sd_mz) (h : sd_cg m P R) : sd_ev n A d P = sd_ev n A e R := by
  obtain ⟨q, ⟨g, dq⟩, rfl⟩ := h
  have b1 : d ≤ d + e + g + f := by omega
  have b2 : e ≤ d + e + g + f := by omega
  rw [← sd_ev_e n A d (d + e + g + f) _ dP b1, ← sd_ev_e n A e (d + e + g + f) _ dR b2, sd_ev_a]
  have z : sd_ev n A (d + e + g + f) (sd_pm q m) = sd_mz := by
    have dqm : sd_dl (sd_pm q m) (g + f) := by
      cases g with
      | zero =>
        have : q = fun _ => 0 := funext fun j => dq j (by omega)
        intro j _
        rw [this]; exact sd_mc_0 j m
      | succ g =>
        intro j hj
        exact sd_dl_pm g dq dm j (by omega)
    rw [sd_ev_e n A (g + f) (d + e + g + f) _ dqm (by omega), sd_ev_m n oA g f q m dq dm, hm, sd_x_z]
  rw [z, sd_z_ma]
theorem sd_shift {n s : Nat} {A : sd_M} (hs : s ≤ n) (hA : ∀ j, j + 1 < s → ∀ i, i < n → A i j = if i = j + 1 then 1 else 0) : ∀ (d c : Nat) (p : sd_P), c + d ≤ s → ∀ i, i < n → c < n → sd_ev n A d p i c = if c ≤ i ∧ i < c + d then p (i - c) else 0 := by
  intro d
  induction d with
  | zero =>
    intro c p _ i hi hc
    rw [if_neg (by omega)]; rfl
  | succ d ih =>
    intro c p h i hi hc
    show sd_x n (sd_ev n A d (sd_tl p)) A i c + p 0 * sd_I n i c = _
    rw [sd_x_v hi hc, sd_I_v hi hc]
    by_cases hd : d = 0
    · subst hd
      have z : sd_m n (sd_ev n A 0 (sd_tl p)) A i c = 0 := by
        refine (sd_s_c (g := fun _ => 0) ?_).trans (sd_s_0 n)
        intro l _
        show (0 : Fin 5) * A l c = 0
        grind
      rw [z]
      by_cases e : i = c
      · subst e
        rw [if_pos rfl, if_pos (by omega), Nat.sub_self]; grind
      · rw [if_neg e, if_neg (by omega)]; grind
    · have q : sd_m n (sd_ev n A d (sd_tl p)) A i c = sd_ev n A d (sd_tl p) i (c + 1) := by
        refine (sd_s_1 (c + 1) (by omega) _ ?_).trans ?_
        · intro l hl hne
          rw [hA c (by omega) l hl, if_neg hne]; grind
        · rw [hA c (by omega) (c + 1) (by omega), if_pos rfl]; grind
      rw [q, ih (c + 1) (sd_tl p) (by omega) i hi (by omega)]
      by_cases e : i = c
      · subst e
        rw [if_neg (by omega), if_pos rfl, if_pos (by omega), Nat.sub_self]; grind
      · rw [if_neg e]
        by_cases e2 : c ≤ i ∧ i < c + (d + 1)
        · rw [if_pos (by omega), if_pos e2]
          have : i - c = i - (c + 1) + 1 := by omega
          rw [this]
          show p (i - (c + 1) + 1) + _ = _
          grind
        · rw [if_neg (by omega), if_neg e2]; grind
theorem sd_chk_s {n C : Nat} (h1 : 1 ≤ n) (h4 : n ≤ 4) {N : Nat → Nat} (h : sd_chk n C N = true) (f9 : sd_F9 n (sd_tm n C) N) : ∃ D, sd_fact n (sd_tm n C) N D := by
  obtain ⟨hA, h⟩ := sd_and h
  obtain ⟨hO, h1s⟩ := sd_and h
  have oT := sd_tm_ok n C
  have N1 : ∀ t, n ≤ t → t < 4 → N t = 1 := by
    intro t ht h4
    have := sd_all_s 4 _ h1s t h4
    have e : Nat.ble n t = true := Nat.ble_eq_true_of_le ht
    rw [e] at this
    exact Nat.eq_of_beq_eq_true this
  have Nlt : ∀ t, t < 4 → N t < 5 ^ 5 := by
    intro t ht
    by_cases hn : n ≤ t
    · rw [N1 t hn ht]; decide
    · obtain ⟨d, hd, e⟩ := f9.1 t (by omega)
      have h5 : 0 < 5 ^ d := Nat.pow_pos (by omega)
      have h54 : 5 ^ d ≤ 5 ^ 4 := Nat.pow_le_pow_right (by omega) hd
      have m1 := Nat.div_add_mod (N t) (5 ^ d)
      have m2 := Nat.mod_lt (N t) h5
      rw [e] at m1
      have : (5 : Nat) ^ 5 = 5 * 5 ^ 4 := by decide
      omega
  -- the characteristic polynomial
  have hcp : sd_cp n (sd_tm n C) = @sd_pr sd_P sd_R n (fun t => sd_dg (N t)) := sd_gcd_u h1 oT oT (sd_sim_r oT) (sd_cp_gcd h1 h4 _) (f9.2 n h1 (Nat.le_refl n))
  have hpr : @sd_pr sd_P sd_R 4 (fun t => sd_dg (N t)) = @sd_pr sd_P sd_R n (fun t => sd_dg (N t)) := by
    have := sd_pr_1 (n := n) (fun t => sd_dg (N t)) (4 - n) (by
      intro t ht ht2
      show sd_dg (N t) = sd_pc 1
      rw [N1 t ht (by omega), sd_dg_1])
    have e : n + (4 - n) = 4 := by omega
    rw [e] at this
    exact this
  have pdlt : sd_pd N < 5 ^ 5 := by unfold sd_pd; rw [sd_mR_e]; exact sd_mN_lt 5 5 _ _
  have hc : sd_nm 5 (sd_cp n (sd_tm n C)) = sd_pd N := by
    rw [← sd_nm_dg 5 (sd_pd N) pdlt]
    apply sd_nm_c
    intro j hj
    rw [hcp, ← hpr, sd_pd_dg N Nlt j hj]
  have hc0 : sd_cp n (sd_tm n C) 0 = Fin.ofNat 5 (sd_pd N) := by
    rw [hcp, ← hpr, ← sd_pd_dg N Nlt 0 (by omega), sd_dg_h]
  generalize hD : sd_da n C (sd_fc (sd_pd N)) = D at hA hO
  have Df : D.map Prod.fst = sd_fc (sd_pd N) := by rw [← hD]; exact sd_da_f n C _
  have Dm : ∀ z, z ∈ D → z.1 ∈ sd_fc (sd_pd N) ∧ z.2 = sd_wd n C z.1 := by rw [← hD]; exact sd_da_m n C _
  obtain ⟨a1, hA⟩ := sd_and hA
  obtain ⟨a2, hA⟩ := sd_and hA
  obtain ⟨a3, hA⟩ := sd_and hA
  obtain ⟨a4, hA⟩ := sd_and hA
  obtain ⟨a5, hA⟩ := sd_and hA
  obtain ⟨a6, hA⟩ := sd_and hA
  obtain ⟨a7, hA⟩ := sd_and hA
  obtain ⟨a8, a9⟩ := sd_and hA
  obtain ⟨a31, a32⟩ := sd_and a3
  obtain ⟨o1, hO⟩ := sd_and hO
  obtain ⟨o2, hO⟩ := sd_and hO
  obtain ⟨o3, o4⟩ := sd_and hO
  have fm : ∀ f, f ∈ sd_fc (sd_pd N) → f / 5 ^ sd_df f = 1 := fun f hf => Nat.eq_of_beq_eq_true (sd_la_s _ _ a1 f hf)
  have F5 : sd_F5 n (sd_tm n C) N := by
    unfold sd_F5
    rw [← sd_eN_tm h4]
    apply sd_le_zero (sd_tm_ok n _)
    have := sd_rkM_s h4 (sd_eN n C 5 (N (n - 1)))
    rw [show sd_rkM n (sd_eN n C 5 (N (n - 1))) = 0 from Nat.eq_of_beq_eq_true a5] at this
    exact this
  refine ⟨D, ?_, ?_, ?_, F5, ?_, ?_, ?_, f9⟩
  · unfold sd_F1; rw [hc, Df]
  · intro z hz
    obtain ⟨hz1, hz2⟩ := Dm z hz
    refine ⟨fm z.1 hz1, sd_rkM n (sd_eN n C 5 z.1), sd_rkM n (sd_hN n (sd_eN n C 5 z.1) (sd_eN n C 5 z.1) 0), sd_rkM n (sd_hN n (sd_hN n (sd_eN n C 5 z.1) (sd_eN n C 5 z.1) 0) (sd_eN n C 5 z.1) 0), sd_rkM n (sd_hN n (sd_hN n (sd_hN n (sd_eN n C 5 z.1) (sd_eN n C 5 z.1) 0) (sd_eN n C 5 z.1) 0) (sd_eN n C 5 z.1) 0), ?_, ?_, ?_, ?_, ?_⟩
    · rw [← sd_eN_tm h4]; exact sd_rkM_s h4 _
    · rw [← sd_eN_tm h4, ← sd_hN_x h4]; exact sd_rkM_s h4 _
    · rw [← sd_eN_tm h4, ← sd_hN_x h4, ← sd_hN_x h4]; exact sd_rkM_s h4 _
    · rw [← sd_eN_tm h4, ← sd_hN_x h4, ← sd_hN_x h4, ← sd_hN_x h4]; exact sd_rkM_s h4 _
    · rw [hz2]; rfl
  · refine ⟨Nat.le_of_ble_eq_true a31, Nat.le_of_ble_eq_true a32, ?_, ?_⟩
    · have e : D.length = (D.map Prod.fst).length := by rw [List.length_map]
      rw [e, Df, ← sd_len_e]
      exact Nat.le_of_ble_eq_true a2
    · intro t ht
      have := sd_all_s n _ a4 t ht
      constructor
      · intro hlt
        have e : Nat.ble n (t + sd_ic D) = false := by
          cases hb : Nat.ble n (t + sd_ic D)
          · rfl
          · exact absurd (Nat.le_of_ble_eq_true hb) (by omega)
        have this' : cond (Nat.ble n (t + sd_ic D)) (and (Nat.beq (N t) (sd_iv D (n - 1 - t) 1)) (Nat.ble 5 (N t))) (Nat.beq (N t) 1) = true := this
        rw [e] at this'
        exact Nat.eq_of_beq_eq_true this'
      · intro hle
        have e : Nat.ble n (t + sd_ic D) = true := Nat.ble_eq_true_of_le hle
        have this' : cond (Nat.ble n (t + sd_ic D)) (and (Nat.beq (N t) (sd_iv D (n - 1 - t) 1)) (Nat.ble 5 (N t))) (Nat.beq (N t) 1) = true := this
        rw [e] at this'
        obtain ⟨y1, y2⟩ := sd_and this'
        exact ⟨Nat.eq_of_beq_eq_true y1, Nat.le_of_ble_eq_true y2⟩
  · -- the order
    have c5 : sd_cp n (sd_tm n C) 0 = 0 ↔ sd_pd N % 5 = 0 := by
      rw [hc0]
      constructor
      · intro z; exact congrArg Fin.val z
      · intro z; apply Fin.ext; exact z
    have b6 := sd_be_s a6
    refine ⟨?_, ?_⟩
    · rw [c5, Df, ← sd_h5_s, ← b6]
      constructor
      · intro z; exact (sd_beq0 _).mpr z
      · intro z; exact (sd_beq0 _).mp z
    · intro hne
      have z : ¬ sd_pd N % 5 = 0 := fun k => hne (c5.mpr k)
      rw [show Nat.beq (Nat.mod (sd_pd N) 5) 0 = false from sd_beq_f z] at o4
      obtain ⟨p1, p2⟩ := sd_and (show and (sd_la (sd_fc (sd_pd N)) (fun f => and (sd_vO (sd_df f) f (sd_oo f)) (Nat.ble (sd_oo f) 1023))) (and (Nat.ble (sd_or D 1 false) 624) (sd_vO (sd_df (N (n - 1))) (N (n - 1)) (sd_or D 1 false))) = true from o4)
      obtain ⟨p2, p3⟩ := sd_and p2
      have r624 : sd_or D 1 false ≤ 624 := Nat.le_of_ble_eq_true p2
      have m1 : N (n - 1) / 5 ^ sd_df (N (n - 1)) = 1 := Nat.eq_of_beq_eq_true o1
      obtain ⟨d1, d4⟩ := sd_df_b (N (n - 1))
      obtain ⟨rpos, rord⟩ := sd_vO_s d1 d4 m1 (by omega) p3
      refine ⟨?_, rpos, r624, ?_⟩
      · intro y hy
        obtain ⟨q1, q2⟩ := sd_and (sd_la_s _ _ p1 y.1 (Dm y hy).1)
        have := Nat.le_of_ble_eq_true q2
        exact ⟨q1, by omega⟩
      · intro k
        rw [← rord k]
        have dn : sd_df (N (n - 1)) ≤ n := Nat.le_of_ble_eq_true o3
        have sh : ∀ j, j + 1 < sd_df (N (n - 1)) → ∀ i, i < n → sd_tm n C i j = if i = j + 1 then 1 else 0 := by
          intro j hj i hi
          have q := sd_all_s n _ (sd_all_s _ _ o2 j (show j < sd_df (N (n - 1)) - 1 by omega)) i hi
          have q' : C / 5 ^ (4 * i + j) % 5 = cond (Nat.beq i (j + 1)) 1 0 := Nat.eq_of_beq_eq_true q
          unfold sd_tm
          rw [sd_cl_v hi (by omega)]
          apply Fin.ext
          show C / 5 ^ (4 * i + j) % 5 = _
          rw [q']
          by_cases e : i = j + 1
          · rw [if_pos e, e, Nat.beq_refl]; rfl
          · rw [if_neg e, sd_beq_f e]; rfl
        have mdl : sd_dl (sd_dg (N (n - 1))) 5 := sd_dg_dl (Nlt (n - 1) (by omega))
        constructor
        · intro hk
          obtain ⟨b, c⟩ := sd_px_s d1 d4 m1 k k Nat.lt_two_pow_self
          have ex := sd_ev_X oT k
          have e1 := sd_ev_cg oT ex.2 (sd_dg_dl b) mdl F5 c
          rw [ex.1, hk] at e1
          have dd : sd_dg (sd_px (sd_df (N (n - 1))) (N (n - 1)) k k) = sd_pc 1 := by
            funext i
            by_cases hi : i < sd_df (N (n - 1))
            · have s := sd_shift dn sh (sd_df (N (n - 1))) 0 (sd_dg (sd_px (sd_df (N (n - 1))) (N (n - 1)) k k)) (by omega) i (by omega) (by omega)
              rw [if_pos (by omega), ← e1, sd_I_v (by omega) (by omega)] at s
              rw [show i - 0 = i from rfl] at s
              rw [← s]
              unfold sd_pc
              rfl
            · rw [sd_dg_dl b i (by omega)]
              exact (if_neg (by omega)).symm
          rw [dd] at c
          exact c
        · intro hk
          have ex := sd_ev_X oT k
          have e1 := sd_ev_cg oT ex.2 (sd_dl_pc 1) mdl F5 hk
          rw [ex.1] at e1
          rw [e1]
          show sd_ma (sd_x n sd_mz (sd_tm n C)) (sd_ms (sd_pc 1 0) (sd_I n)) = sd_I n
          have e2 : sd_pc 1 0 = 1 := rfl
          rw [e2, sd_z_x, sd_z_ma, sd_ms_1]
  · refine ⟨sd_rkM n (sd_eN n C 2 5), sd_rkM n (sd_eN n C 2 9), sd_rkM n (sd_eN n C 2 8), sd_rkM n (sd_eN n C 2 7), sd_rkM n (sd_eN n C 2 6), ?_, ?_, ?_, ?_, ?_, ?_⟩
    · show sd_rk n n (sd_ev n (sd_tm n C) 2 (sd_dg 5)) _
      rw [← sd_eN_tm h4]; exact sd_rkM_s h4 _
    · show sd_rk n n (sd_ev n (sd_tm n C) 2 (sd_dg 9)) _
      rw [← sd_eN_tm h4]; exact sd_rkM_s h4 _
    · show sd_rk n n (sd_ev n (sd_tm n C) 2 (sd_dg 8)) _
      rw [← sd_eN_tm h4]; exact sd_rkM_s h4 _
    · show sd_rk n n (sd_ev n (sd_tm n C) 2 (sd_dg 7)) _
      rw [← sd_eN_tm h4]; exact sd_rkM_s h4 _
    · show sd_rk n n (sd_ev n (sd_tm n C) 2 (sd_dg 6)) _
      rw [← sd_eN_tm h4]; exact sd_rkM_s h4 _
    · have b7 := sd_be_s a7
      rw [b7]
      exact ⟨fun z => Nat.eq_of_beq_eq_true z, fun z => by
        have z' : Nat.add (Nat.add (Nat.add (Nat.add (Nat.sub n (sd_rkM n (sd_eN n C 2 5))) (Nat.sub n (sd_rkM n (sd_eN n C 2 9)))) (Nat.sub n (sd_rkM n (sd_eN n C 2 8)))) (Nat.sub n (sd_rkM n (sd_eN n C 2 7)))) (Nat.sub n (sd_rkM n (sd_eN n C 2 6))) = n := z
        rw [z']; exact Nat.beq_refl n⟩
  · refine ⟨Nat.le_of_ble_eq_true a8, ?_⟩
    have e : sd_cmN n C = n * n - sd_co D := Nat.eq_of_beq_eq_true a9
    rw [← e]
    have nn : n * n ≤ 16 := Nat.mul_le_mul h4 h4
    refine sd_rk_c ?_ (sd_rl_rk (fun u v => (cond (Nat.beq (u % n) (v % n)) (C / 5 ^ (4 * (u / n) + v / n) % 5) 0 + cond (Nat.beq (u / n) (v / n)) (5 - C / 5 ^ (4 * (v % n) + u % n) % 5) 0) % 5) (fun i j => sd_m4le _) (n * n) (n * n) nn)
    intro u v hu hv
    have u1 : u / n < n := Nat.div_lt_of_lt_mul hu
    have u2 : u % n < n := Nat.mod_lt u (by omega)
    have v1 : v / n < n := Nat.div_lt_of_lt_mul hv
    have v2 : v % n < n := Nat.mod_lt v (by omega)
    unfold sd_cmM
    generalize u / n = i at u1
    generalize u % n = j at u2
    generalize v / n = p at v1
    generalize v % n = q at v2
    rw [sd_of_mod, sd_of_add]
    have s5 : ∀ x : Nat, Fin.ofNat 5 (5 - x % 5) = - Fin.ofNat 5 x := by
      intro x
      have k : ∀ y : Nat, y < 5 → Fin.ofNat 5 (5 - y) = - Fin.ofNat 5 y := by decide
      rw [k (x % 5) (by omega), sd_of_mod]
    have t1 : sd_tm n C i p = Fin.ofNat 5 (C / 5 ^ (4 * i + p)) := by unfold sd_tm; rw [sd_cl_v u1 v1]; rfl
    have t2 : sd_tm n C q j = Fin.ofNat 5 (C / 5 ^ (4 * q + j)) := by unfold sd_tm; rw [sd_cl_v v2 u2]; rfl
    rw [t1, t2]
    have z0 : Fin.ofNat 5 0 = 0 := rfl
    by_cases c1 : j = q
    · rw [if_pos c1, c1, Nat.beq_refl]
      by_cases c2 : i = p
      · rw [if_pos c2, c2, Nat.beq_refl]
        show Fin.ofNat 5 (C / 5 ^ (4 * p + p) % 5) + Fin.ofNat 5 (5 - C / 5 ^ (4 * q + q) % 5) = _
        rw [s5, sd_of_mod]; grind
      · rw [if_neg c2, sd_beq_f c2]
        show Fin.ofNat 5 (C / 5 ^ (4 * i + p) % 5) + Fin.ofNat 5 0 = _
        rw [sd_of_mod, z0]; grind
    · rw [if_neg c1, sd_beq_f c1]
      by_cases c2 : i = p
      · rw [if_pos c2, c2, Nat.beq_refl]
        show Fin.ofNat 5 0 + Fin.ofNat 5 (5 - C / 5 ^ (4 * q + j) % 5) = _
        rw [s5, z0]; grind
      · rw [if_neg c2, sd_beq_f c2]
        show Fin.ofNat 5 0 + Fin.ofNat 5 0 = _
        rw [z0]; grind
end
section
/-! ===== the check of all normal forms, by the kernel ===== -/
noncomputable def sd_k1 (M : Nat) : Nat := sd_bl (fun t => (cond (Nat.beq t 0) (Nat.sub 5 (Nat.mod (Nat.div M 1) 5)) 0)) 16 0
noncomputable def sd_k2 (M : Nat) : Nat := sd_bl (fun t => (cond (Nat.beq t 4) 1 (cond (Nat.beq t 1) (Nat.sub 5 (Nat.mod (Nat.div M 1) 5)) (cond (Nat.beq t 5) (Nat.sub 5 (Nat.mod (Nat.div M 5) 5)) 0)))) 16 0
noncomputable def sd_k3 (M : Nat) : Nat := sd_bl (fun t => (cond (Nat.beq t 4) 1 (cond (Nat.beq t 9) 1 (cond (Nat.beq t 2) (Nat.sub 5 (Nat.mod (Nat.div M 1) 5)) (cond (Nat.beq t 6) (Nat.sub 5 (Nat.mod (Nat.div M 5) 5)) (cond (Nat.beq t 10) (Nat.sub 5 (Nat.mod (Nat.div M 25) 5)) 0)))))) 16 0
noncomputable def sd_k4 (M : Nat) : Nat := sd_bl (fun t => (cond (Nat.beq t 4) 1 (cond (Nat.beq t 9) 1 (cond (Nat.beq t 14) 1 (cond (Nat.beq t 3) (Nat.sub 5 (Nat.mod (Nat.div M 1) 5)) (cond (Nat.beq t 7) (Nat.sub 5 (Nat.mod (Nat.div M 5) 5)) (cond (Nat.beq t 11) (Nat.sub 5 (Nat.mod (Nat.div M 25) 5)) (cond (Nat.beq t 15) (Nat.sub 5 (Nat.mod (Nat.div M 125) 5)) 0)))))))) 16 0
noncomputable def sd_ks2 (M : Nat) : Nat := sd_bl (fun t => (cond (Nat.beq t 0) (Nat.sub 5 (Nat.mod (Nat.div M 1) 5)) (cond (Nat.beq t 5) (Nat.sub 5 (Nat.mod (Nat.div M 1) 5)) 0))) 16 0
noncomputable def sd_ks3 (M : Nat) : Nat := sd_bl (fun t => (cond (Nat.beq t 0) (Nat.sub 5 (Nat.mod (Nat.div M 1) 5)) (cond (Nat.beq t 5) (Nat.sub 5 (Nat.mod (Nat.div M 1) 5)) (cond (Nat.beq t 10) (Nat.sub 5 (Nat.mod (Nat.div M 1) 5)) 0)))) 16 0
noncomputable def sd_ks4 (M : Nat) : Nat := sd_bl (fun t => (cond (Nat.beq t 0) (Nat.sub 5 (Nat.mod (Nat.div M 1) 5)) (cond (Nat.beq t 5) (Nat.sub 5 (Nat.mod (Nat.div M 1) 5)) (cond (Nat.beq t 10) (Nat.sub 5 (Nat.mod (Nat.div M 1) 5)) (cond (Nat.beq t 15) (Nat.sub 5 (Nat.mod (Nat.div M 1) 5)) 0))))) 16 0
noncomputable def sd_k21 (M U : Nat) : Nat := sd_bl (fun t => (cond (Nat.beq t 4) 1 (cond (Nat.beq t 1) (Nat.sub 5 (Nat.mod (Nat.div M 1) 5)) (cond (Nat.beq t 5) (Nat.sub 5 (Nat.mod (Nat.div M 5) 5)) (cond (Nat.beq t 10) (Nat.sub 5 (Nat.mod (Nat.div U 1) 5)) 0))))) 16 0
noncomputable def sd_k211 (M U : Nat) : Nat := sd_bl (fun t => (cond (Nat.beq t 4) 1 (cond (Nat.beq t 1) (Nat.sub 5 (Nat.mod (Nat.div M 1) 5)) (cond (Nat.beq t 5) (Nat.sub 5 (Nat.mod (Nat.div M 5) 5)) (cond (Nat.beq t 10) (Nat.sub 5 (Nat.mod (Nat.div U 1) 5)) (cond (Nat.beq t 15) (Nat.sub 5 (Nat.mod (Nat.div U 1) 5)) 0)))))) 16 0
noncomputable def sd_k31 (M U : Nat) : Nat := sd_bl (fun t => (cond (Nat.beq t 4) 1 (cond (Nat.beq t 9) 1 (cond (Nat.beq t 2) (Nat.sub 5 (Nat.mod (Nat.div M 1) 5)) (cond (Nat.beq t 6) (Nat.sub 5 (Nat.mod (Nat.div M 5) 5)) (cond (Nat.beq t 10) (Nat.sub 5 (Nat.mod (Nat.div M 25) 5)) (cond (Nat.beq t 15) (Nat.sub 5 (Nat.mod (Nat.div U 1) 5)) 0))))))) 16 0
noncomputable def sd_k22 (M : Nat) : Nat := sd_bl (fun t => (cond (Nat.beq t 4) 1 (cond (Nat.beq t 1) (Nat.sub 5 (Nat.mod (Nat.div M 1) 5)) (cond (Nat.beq t 5) (Nat.sub 5 (Nat.mod (Nat.div M 5) 5)) (cond (Nat.beq t 14) 1 (cond (Nat.beq t 11) (Nat.sub 5 (Nat.mod (Nat.div M 1) 5)) (cond (Nat.beq t 15) (Nat.sub 5 (Nat.mod (Nat.div M 5) 5)) 0))))))) 16 0
theorem sd_run4_0 : sd_all 125 (fun p => sd_chk 4 (sd_k4 (Nat.add 625 p)) (sd_n4 1 1 1 (Nat.add 625 p))) = true := by decide +kernel
theorem sd_run4_1 : sd_all 125 (fun p => sd_chk 4 (sd_k4 (Nat.add 750 p)) (sd_n4 1 1 1 (Nat.add 750 p))) = true := by decide +kernel
theorem sd_run4_2 : sd_all 125 (fun p => sd_chk 4 (sd_k4 (Nat.add 875 p)) (sd_n4 1 1 1 (Nat.add 875 p))) = true := by decide +kernel
theorem sd_run4_3 : sd_all 125 (fun p => sd_chk 4 (sd_k4 (Nat.add 1000 p)) (sd_n4 1 1 1 (Nat.add 1000 p))) = true := by decide +kernel
theorem sd_run4_4 : sd_all 125 (fun p => sd_chk 4 (sd_k4 (Nat.add 1125 p)) (sd_n4 1 1 1 (Nat.add 1125 p))) = true := by decide +kernel
theorem sd_run3 : sd_all 125 (fun p => sd_chk 3 (sd_k3 (Nat.add 125 p)) (sd_n4 1 1 (Nat.add 125 p) 1)) = true := by decide +kernel
theorem sd_run2 : sd_all 25 (fun p => sd_chk 2 (sd_k2 (Nat.add 25 p)) (sd_n4 1 (Nat.add 25 p) 1 1)) = true := by decide +kernel
theorem sd_run1 : sd_all 5 (fun p => sd_chk 1 (sd_k1 (Nat.add 5 p)) (sd_n4 (Nat.add 5 p) 1 1 1)) = true := by decide +kernel
theorem sd_runs2 : sd_all 5 (fun p => sd_chk 2 (sd_ks2 (Nat.add 5 p)) (sd_n4 (Nat.add 5 p) (Nat.add 5 p) 1 1)) = true := by decide +kernel
theorem sd_runs3 : sd_all 5 (fun p => sd_chk 3 (sd_ks3 (Nat.add 5 p)) (sd_n4 (Nat.add 5 p) (Nat.add 5 p) (Nat.add 5 p) 1)) = true := by decide +kernel
theorem sd_runs4 : sd_all 5 (fun p => sd_chk 4 (sd_ks4 (Nat.add 5 p)) (sd_n4 (Nat.add 5 p) (Nat.add 5 p) (Nat.add 5 p) (Nat.add 5 p))) = true := by decide +kernel
noncomputable def sd_q2 (g u : Nat) : Nat := (Nat.add 25 (Nat.add (Nat.mul 5 g) (Nat.mod (Nat.add (Nat.mul g u) (Nat.mul 4 (Nat.mul u u))) 5)))
noncomputable def sd_q3 (h g u : Nat) : Nat := (Nat.add 125 (Nat.add (Nat.mul 25 h) (Nat.add (Nat.mul 5 g) (Nat.mod (Nat.add (Nat.add (Nat.mul g u) (Nat.mul 4 (Nat.mul h (Nat.mul u u)))) (Nat.mul u (Nat.mul u u))) 5))))
theorem sd_run21 : sd_all 5 (fun u => sd_all 5 (fun g => sd_chk 3 (sd_k21 (sd_q2 g u) (Nat.add 5 u)) (sd_n4 1 (Nat.add 5 u) (sd_q2 g u) 1))) = true := by decide +kernel
theorem sd_run211 : sd_all 5 (fun u => sd_all 5 (fun g => sd_chk 4 (sd_k211 (sd_q2 g u) (Nat.add 5 u)) (sd_n4 1 (Nat.add 5 u) (Nat.add 5 u) (sd_q2 g u)))) = true := by decide +kernel
theorem sd_run22 : sd_all 25 (fun p => sd_chk 4 (sd_k22 (Nat.add 25 p)) (sd_n4 1 1 (Nat.add 25 p) (Nat.add 25 p))) = true := by decide +kernel
theorem sd_run31 : sd_all 5 (fun u => sd_all 5 (fun g => sd_all 5 (fun h => sd_chk 4 (sd_k31 (sd_q3 h g u) (Nat.add 5 u)) (sd_n4 1 1 (Nat.add 5 u) (sd_q3 h g u))))) = true := by decide +kernel
end
section
/-! ===== every matrix has the facts ===== -/
theorem sd_tm_bl {n : Nat} (h4 : n ≤ 4) (g : Nat → Nat) (i j : Nat) (hi : i < n) (hj : j < n) : sd_tm n (sd_bl g 16 0) i j = Fin.ofNat 5 (g (4 * i + j)) := by
  unfold sd_tm
  rw [sd_cl_v hi hj, sd_bl_dg g 16 0 (4 * i + j) (by omega), Nat.zero_add]
theorem sd_nl_b : ∀ l : List (Fin 5), 5 ^ l.length ≤ sd_nl l ∧ sd_nl l < 2 * 5 ^ l.length := by
  intro l
  induction l with
  | nil => exact ⟨by decide, by decide⟩
  | cons a l ih =>
    have h := a.isLt
    have e : (5 : Nat) ^ (a :: l).length = 5 ^ l.length * 5 := by rw [List.length_cons, Nat.pow_succ]
    rw [e]
    show _ ≤ a.val + 5 * sd_nl l ∧ a.val + 5 * sd_nl l < _
    omega
theorem sd_nl_m (l : List (Fin 5)) : sd_nl l / 5 ^ l.length = 1 := by
  have h := sd_nl_b l
  have h5 : 0 < 5 ^ l.length := Nat.pow_pos (by omega)
  apply Nat.div_eq_of_lt_le
  · omega
  · omega
theorem sd_n4_m {l0 l1 l2 l3 : List (Fin 5)} (h0 : l0.length ≤ 4) (h1 : l1.length ≤ 4) (h2 : l2.length ≤ 4) (h3 : l3.length ≤ 4) (t : Nat) : ∃ d, d ≤ 4 ∧ sd_n4 (sd_nl l0) (sd_nl l1) (sd_nl l2) (sd_nl l3) t / 5 ^ d = 1 := by
  unfold sd_n4
  split
  · exact ⟨_, h0, sd_nl_m l0⟩
  · exact ⟨_, h1, sd_nl_m l1⟩
  · exact ⟨_, h2, sd_nl_m l2⟩
  · exact ⟨_, h3, sd_nl_m l3⟩
theorem sd_s5 (x : Nat) : Fin.ofNat 5 (5 - x % 5) = - Fin.ofNat 5 x := by
  have k : ∀ y : Nat, y < 5 → Fin.ofNat 5 (5 - y) = - Fin.ofNat 5 y := by decide
  rw [k (x % 5) (by omega), sd_of_mod]
theorem sd_hd (l : List (Fin 5)) (i : Nat) (c : Fin 5) (h : sd_ml l i = - c) : Fin.ofNat 5 (5 - sd_nl l / 5 ^ i % 5) = c := by
  rw [sd_s5]
  have : Fin.ofNat 5 (sd_nl l / 5 ^ i) = sd_dg (sd_nl l) i := rfl
  rw [this, sd_nl_dg, h]; grind
theorem sd_q2_e : ∀ c1 d : Fin 5, sd_q2 (- c1).val (- d).val = sd_nl [- (d * d - c1 * d), - c1] := by
  have k : ∀ c1 d : Fin 5, 25 + (5 * (- c1).val + ((- c1).val * (- d).val + 4 * ((- d).val * (- d).val)) % 5) = sd_nl [- (d * d - c1 * d), - c1] := by decide
  exact k
theorem sd_q3_e : ∀ c2 c1 d : Fin 5, sd_q3 (- c2).val (- c1).val (- d).val = sd_nl [- (d * d * d - c2 * d * d - c1 * d), - c1, - c2] := by
  have k : ∀ c2 c1 d : Fin 5, 125 + (25 * (- c2).val + (5 * (- c1).val + ((- c1).val * (- d).val + 4 * ((- c2).val * ((- d).val * (- d).val)) + (- d).val * ((- d).val * (- d).val)) % 5)) = sd_nl [- (d * d * d - c2 * d * d - c1 * d), - c1, - c2] := by decide
  exact k
theorem sd_u_e (d : Fin 5) : Nat.add 5 (- d).val = sd_nl [- d] := by
  show 5 + (- d).val = (- d).val + 5 * 1
  omega
theorem sd_ff_c1 (c0 : Fin 5) : ∃ N D, sd_fact 1 (sd_comp 1 (sd_e4 c0 0 0 0)) N D := by
  have e : sd_tm 1 (sd_k1 (sd_nl [- c0])) = sd_comp 1 (sd_e4 c0 0 0 0) := by
    apply sd_ok_e (sd_tm_ok 1 _) (sd_cl_ok 1 _)
    intro i j hi hj
    refine (sd_tm_bl (by omega) _ i j hi hj).trans ?_
    rw [sd_cl_v hi hj]
    have ci : i = 0 := by omega
    have cj : j = 0 := by omega
    subst ci; subst cj
    · exact sd_hd [- c0] 0 c0 rfl
  have ck : sd_chk 1 (sd_k1 (sd_nl [- c0])) (sd_n4 (sd_nl [- c0]) (sd_nl []) (sd_nl []) (sd_nl [])) = true := by
    have b := sd_nl_b [- c0]
    have b1 : 5 ≤ sd_nl [- c0] := b.1
    have b2 : sd_nl [- c0] < 10 := b.2
    have r := sd_all_s _ _ sd_run1 (sd_nl [- c0] - 5) (by omega)
    have q : Nat.add 5 (sd_nl [- c0] - 5) = sd_nl [- c0] := by show 5 + (sd_nl [- c0] - 5) = _; omega
    rw [q] at r
    exact r
  have f9 : sd_F9 1 (sd_tm 1 (sd_k1 (sd_nl [- c0]))) (sd_n4 (sd_nl [- c0]) (sd_nl []) (sd_nl []) (sd_nl [])) := by
    rw [e]
    exact ⟨fun t _ => sd_n4_m (by simp) (by simp) (by simp) (by simp) t, fun k h1 hk => sd_gf_c1 c0  k h1 hk⟩
  obtain ⟨D, hD⟩ := sd_chk_s (by omega) (by omega) ck f9
  rw [e] at hD
  exact ⟨_, D, hD⟩
theorem sd_ff_c2 (c0 c1 : Fin 5) : ∃ N D, sd_fact 2 (sd_comp 2 (sd_e4 c0 c1 0 0)) N D := by
  have e : sd_tm 2 (sd_k2 (sd_nl [- c0, - c1])) = sd_comp 2 (sd_e4 c0 c1 0 0) := by
    apply sd_ok_e (sd_tm_ok 2 _) (sd_cl_ok 2 _)
    intro i j hi hj
    refine (sd_tm_bl (by omega) _ i j hi hj).trans ?_
    rw [sd_cl_v hi hj]
    have ci : i = 0 ∨ i = 1 := by omega
    have cj : j = 0 ∨ j = 1 := by omega
    rcases ci with rfl | rfl <;> rcases cj with rfl | rfl
    · rfl
    · exact sd_hd [- c0, - c1] 0 c0 rfl
    · rfl
    · exact sd_hd [- c0, - c1] 1 c1 rfl
  have ck : sd_chk 2 (sd_k2 (sd_nl [- c0, - c1])) (sd_n4 (sd_nl []) (sd_nl [- c0, - c1]) (sd_nl []) (sd_nl [])) = true := by
    have b := sd_nl_b [- c0, - c1]
    have b1 : 25 ≤ sd_nl [- c0, - c1] := b.1
    have b2 : sd_nl [- c0, - c1] < 50 := b.2
    have r := sd_all_s _ _ sd_run2 (sd_nl [- c0, - c1] - 25) (by omega)
    have q : Nat.add 25 (sd_nl [- c0, - c1] - 25) = sd_nl [- c0, - c1] := by show 25 + (sd_nl [- c0, - c1] - 25) = _; omega
    rw [q] at r
    exact r
  have f9 : sd_F9 2 (sd_tm 2 (sd_k2 (sd_nl [- c0, - c1]))) (sd_n4 (sd_nl []) (sd_nl [- c0, - c1]) (sd_nl []) (sd_nl [])) := by
    rw [e]
    exact ⟨fun t _ => sd_n4_m (by simp) (by simp) (by simp) (by simp) t, fun k h1 hk => sd_gf_c2 c0 c1  k h1 hk⟩
  obtain ⟨D, hD⟩ := sd_chk_s (by omega) (by omega) ck f9
  rw [e] at hD
  exact ⟨_, D, hD⟩
theorem sd_ff_c3 (c0 c1 c2 : Fin 5) : ∃ N D, sd_fact 3 (sd_comp 3 (sd_e4 c0 c1 c2 0)) N D := by
  have e : sd_tm 3 (sd_k3 (sd_nl [- c0, - c1, - c2])) = sd_comp 3 (sd_e4 c0 c1 c2 0) := by
    apply sd_ok_e (sd_tm_ok 3 _) (sd_cl_ok 3 _)
    intro i j hi hj
    refine (sd_tm_bl (by omega) _ i j hi hj).trans ?_
    rw [sd_cl_v hi hj]
    have ci : i = 0 ∨ i = 1 ∨ i = 2 := by omega
    have cj : j = 0 ∨ j = 1 ∨ j = 2 := by omega
    rcases ci with rfl | rfl | rfl <;> rcases cj with rfl | rfl | rfl
    · rfl
    · rfl
    · exact sd_hd [- c0, - c1, - c2] 0 c0 rfl
    · rfl
    · rfl
    · exact sd_hd [- c0, - c1, - c2] 1 c1 rfl
    · rfl
    · rfl
    · exact sd_hd [- c0, - c1, - c2] 2 c2 rfl
  have ck : sd_chk 3 (sd_k3 (sd_nl [- c0, - c1, - c2])) (sd_n4 (sd_nl []) (sd_nl []) (sd_nl [- c0, - c1, - c2]) (sd_nl [])) = true := by
    have b := sd_nl_b [- c0, - c1, - c2]
    have b1 : 125 ≤ sd_nl [- c0, - c1, - c2] := b.1
    have b2 : sd_nl [- c0, - c1, - c2] < 250 := b.2
    have r := sd_all_s _ _ sd_run3 (sd_nl [- c0, - c1, - c2] - 125) (by omega)
    have q : Nat.add 125 (sd_nl [- c0, - c1, - c2] - 125) = sd_nl [- c0, - c1, - c2] := by show 125 + (sd_nl [- c0, - c1, - c2] - 125) = _; omega
    rw [q] at r
    exact r
  have f9 : sd_F9 3 (sd_tm 3 (sd_k3 (sd_nl [- c0, - c1, - c2]))) (sd_n4 (sd_nl []) (sd_nl []) (sd_nl [- c0, - c1, - c2]) (sd_nl [])) := by
    rw [e]
    exact ⟨fun t _ => sd_n4_m (by simp) (by simp) (by simp) (by simp) t, fun k h1 hk => sd_gf_c3 c0 c1 c2  k h1 hk⟩
  obtain ⟨D, hD⟩ := sd_chk_s (by omega) (by omega) ck f9
  rw [e] at hD
  exact ⟨_, D, hD⟩
theorem sd_ff_c4 (c0 c1 c2 c3 : Fin 5) : ∃ N D, sd_fact 4 (sd_comp 4 (sd_e4 c0 c1 c2 c3)) N D := by
  have e : sd_tm 4 (sd_k4 (sd_nl [- c0, - c1, - c2, - c3])) = sd_comp 4 (sd_e4 c0 c1 c2 c3) := by
    apply sd_ok_e (sd_tm_ok 4 _) (sd_cl_ok 4 _)
    intro i j hi hj
    refine (sd_tm_bl (by omega) _ i j hi hj).trans ?_
    rw [sd_cl_v hi hj]
    have ci : i = 0 ∨ i = 1 ∨ i = 2 ∨ i = 3 := by omega
    have cj : j = 0 ∨ j = 1 ∨ j = 2 ∨ j = 3 := by omega
    rcases ci with rfl | rfl | rfl | rfl <;> rcases cj with rfl | rfl | rfl | rfl
    · rfl
    · rfl
    · rfl
    · exact sd_hd [- c0, - c1, - c2, - c3] 0 c0 rfl
    · rfl
    · rfl
    · rfl
    · exact sd_hd [- c0, - c1, - c2, - c3] 1 c1 rfl
    · rfl
    · rfl
    · rfl
    · exact sd_hd [- c0, - c1, - c2, - c3] 2 c2 rfl
    · rfl
    · rfl
    · rfl
    · exact sd_hd [- c0, - c1, - c2, - c3] 3 c3 rfl
  have ck : sd_chk 4 (sd_k4 (sd_nl [- c0, - c1, - c2, - c3])) (sd_n4 (sd_nl []) (sd_nl []) (sd_nl []) (sd_nl [- c0, - c1, - c2, - c3])) = true := by
    have b := sd_nl_b [- c0, - c1, - c2, - c3]
    have b1 : 625 ≤ sd_nl [- c0, - c1, - c2, - c3] := b.1
    have b2 : sd_nl [- c0, - c1, - c2, - c3] < 1250 := b.2
    have cc : sd_nl [- c0, - c1, - c2, - c3] < 750 ∨ (750 ≤ sd_nl [- c0, - c1, - c2, - c3] ∧ sd_nl [- c0, - c1, - c2, - c3] < 875) ∨ (875 ≤ sd_nl [- c0, - c1, - c2, - c3] ∧ sd_nl [- c0, - c1, - c2, - c3] < 1000) ∨ (1000 ≤ sd_nl [- c0, - c1, - c2, - c3] ∧ sd_nl [- c0, - c1, - c2, - c3] < 1125) ∨ 1125 ≤ sd_nl [- c0, - c1, - c2, - c3] := by omega
    rcases cc with z | z | z | z | z
    · have r := sd_all_s _ _ sd_run4_0 (sd_nl [- c0, - c1, - c2, - c3] - 625) (by omega)
      have q : Nat.add 625 (sd_nl [- c0, - c1, - c2, - c3] - 625) = sd_nl [- c0, - c1, - c2, - c3] := by show 625 + (sd_nl [- c0, - c1, - c2, - c3] - 625) = _; omega
      rw [q] at r
      exact r
    · have r := sd_all_s _ _ sd_run4_1 (sd_nl [- c0, - c1, - c2, - c3] - 750) (by omega)
      have q : Nat.add 750 (sd_nl [- c0, - c1, - c2, - c3] - 750) = sd_nl [- c0, - c1, - c2, - c3] := by show 750 + (sd_nl [- c0, - c1, - c2, - c3] - 750) = _; omega
      rw [q] at r
      exact r
    · have r := sd_all_s _ _ sd_run4_2 (sd_nl [- c0, - c1, - c2, - c3] - 875) (by omega)
      have q : Nat.add 875 (sd_nl [- c0, - c1, - c2, - c3] - 875) = sd_nl [- c0, - c1, - c2, - c3] := by show 875 + (sd_nl [- c0, - c1, - c2, - c3] - 875) = _; omega
      rw [q] at r
      exact r
    · have r := sd_all_s _ _ sd_run4_3 (sd_nl [- c0, - c1, - c2, - c3] - 1000) (by omega)
      have q : Nat.add 1000 (sd_nl [- c0, - c1, - c2, - c3] - 1000) = sd_nl [- c0, - c1, - c2, - c3] := by show 1000 + (sd_nl [- c0, - c1, - c2, - c3] - 1000) = _; omega
      rw [q] at r
      exact r
    · have r := sd_all_s _ _ sd_run4_4 (sd_nl [- c0, - c1, - c2, - c3] - 1125) (by omega)
      have q : Nat.add 1125 (sd_nl [- c0, - c1, - c2, - c3] - 1125) = sd_nl [- c0, - c1, - c2, - c3] := by show 1125 + (sd_nl [- c0, - c1, - c2, - c3] - 1125) = _; omega
      rw [q] at r
      exact r
  have f9 : sd_F9 4 (sd_tm 4 (sd_k4 (sd_nl [- c0, - c1, - c2, - c3]))) (sd_n4 (sd_nl []) (sd_nl []) (sd_nl []) (sd_nl [- c0, - c1, - c2, - c3])) := by
    rw [e]
    exact ⟨fun t _ => sd_n4_m (by simp) (by simp) (by simp) (by simp) t, fun k h1 hk => sd_gf_c4 c0 c1 c2 c3  k h1 hk⟩
  obtain ⟨D, hD⟩ := sd_chk_s (by omega) (by omega) ck f9
  rw [e] at hD
  exact ⟨_, D, hD⟩
theorem sd_ff_s2 (d : Fin 5) : ∃ N D, sd_fact 2 (sd_sc 2 d) N D := by
  have e : sd_tm 2 (sd_ks2 (sd_nl [- d])) = sd_sc 2 d := by
    apply sd_ok_e (sd_tm_ok 2 _) (sd_cl_ok 2 _)
    intro i j hi hj
    refine (sd_tm_bl (by omega) _ i j hi hj).trans ?_
    rw [sd_cl_v hi hj]
    have ci : i = 0 ∨ i = 1 := by omega
    have cj : j = 0 ∨ j = 1 := by omega
    rcases ci with rfl | rfl <;> rcases cj with rfl | rfl
    · exact sd_hd [- d] 0 d rfl
    · rfl
    · rfl
    · exact sd_hd [- d] 0 d rfl
  have ck : sd_chk 2 (sd_ks2 (sd_nl [- d])) (sd_n4 (sd_nl [- d]) (sd_nl [- d]) (sd_nl []) (sd_nl [])) = true := by
    have r := sd_all_s _ _ sd_runs2 (- d).val (- d).isLt
    rw [sd_u_e] at r
    exact r
  have f9 : sd_F9 2 (sd_tm 2 (sd_ks2 (sd_nl [- d]))) (sd_n4 (sd_nl [- d]) (sd_nl [- d]) (sd_nl []) (sd_nl [])) := by
    rw [e]
    exact ⟨fun t _ => sd_n4_m (by simp) (by simp) (by simp) (by simp) t, fun k h1 hk => sd_gf_s2 d  k h1 hk⟩
  obtain ⟨D, hD⟩ := sd_chk_s (by omega) (by omega) ck f9
  rw [e] at hD
  exact ⟨_, D, hD⟩
theorem sd_ff_s3 (d : Fin 5) : ∃ N D, sd_fact 3 (sd_sc 3 d) N D := by
  have e : sd_tm 3 (sd_ks3 (sd_nl [- d])) = sd_sc 3 d := by
    apply sd_ok_e (sd_tm_ok 3 _) (sd_cl_ok 3 _)
    intro i j hi hj
    refine (sd_tm_bl (by omega) _ i j hi hj).trans ?_
    rw [sd_cl_v hi hj]
    have ci : i = 0 ∨ i = 1 ∨ i = 2 := by omega
    have cj : j = 0 ∨ j = 1 ∨ j = 2 := by omega
    rcases ci with rfl | rfl | rfl <;> rcases cj with rfl | rfl | rfl
    · exact sd_hd [- d] 0 d rfl
    · rfl
    · rfl
    · rfl
    · exact sd_hd [- d] 0 d rfl
    · rfl
    · rfl
    · rfl
    · exact sd_hd [- d] 0 d rfl
  have ck : sd_chk 3 (sd_ks3 (sd_nl [- d])) (sd_n4 (sd_nl [- d]) (sd_nl [- d]) (sd_nl [- d]) (sd_nl [])) = true := by
    have r := sd_all_s _ _ sd_runs3 (- d).val (- d).isLt
    rw [sd_u_e] at r
    exact r
  have f9 : sd_F9 3 (sd_tm 3 (sd_ks3 (sd_nl [- d]))) (sd_n4 (sd_nl [- d]) (sd_nl [- d]) (sd_nl [- d]) (sd_nl [])) := by
    rw [e]
    exact ⟨fun t _ => sd_n4_m (by simp) (by simp) (by simp) (by simp) t, fun k h1 hk => sd_gf_s3 d  k h1 hk⟩
  obtain ⟨D, hD⟩ := sd_chk_s (by omega) (by omega) ck f9
  rw [e] at hD
  exact ⟨_, D, hD⟩
theorem sd_ff_s4 (d : Fin 5) : ∃ N D, sd_fact 4 (sd_sc 4 d) N D := by
  have e : sd_tm 4 (sd_ks4 (sd_nl [- d])) = sd_sc 4 d := by
    apply sd_ok_e (sd_tm_ok 4 _) (sd_cl_ok 4 _)
    intro i j hi hj
    refine (sd_tm_bl (by omega) _ i j hi hj).trans ?_
    rw [sd_cl_v hi hj]
    have ci : i = 0 ∨ i = 1 ∨ i = 2 ∨ i = 3 := by omega
    have cj : j = 0 ∨ j = 1 ∨ j = 2 ∨ j = 3 := by omega
    rcases ci with rfl | rfl | rfl | rfl <;> rcases cj with rfl | rfl | rfl | rfl
    · exact sd_hd [- d] 0 d rfl
    · rfl
    · rfl
    · rfl
    · rfl
    · exact sd_hd [- d] 0 d rfl
    · rfl
    · rfl
    · rfl
    · rfl
    · exact sd_hd [- d] 0 d rfl
    · rfl
    · rfl
    · rfl
    · rfl
    · exact sd_hd [- d] 0 d rfl
  have ck : sd_chk 4 (sd_ks4 (sd_nl [- d])) (sd_n4 (sd_nl [- d]) (sd_nl [- d]) (sd_nl [- d]) (sd_nl [- d])) = true := by
    have r := sd_all_s _ _ sd_runs4 (- d).val (- d).isLt
    rw [sd_u_e] at r
    exact r
  have f9 : sd_F9 4 (sd_tm 4 (sd_ks4 (sd_nl [- d]))) (sd_n4 (sd_nl [- d]) (sd_nl [- d]) (sd_nl [- d]) (sd_nl [- d])) := by
    rw [e]
    exact ⟨fun t _ => sd_n4_m (by simp) (by simp) (by simp) (by simp) t, fun k h1 hk => sd_gf_s4 d  k h1 hk⟩
  obtain ⟨D, hD⟩ := sd_chk_s (by omega) (by omega) ck f9
  rw [e] at hD
  exact ⟨_, D, hD⟩
theorem sd_ff_f21 (c0 c1 d : Fin 5) (hd : d * d = c1 * d + c0) : ∃ N D, sd_fact 3 (sd_f21 c0 c1 d) N D := by
  have e : sd_tm 3 (sd_k21 (sd_nl [- c0, - c1]) (sd_nl [- d])) = sd_f21 c0 c1 d := by
    apply sd_ok_e (sd_tm_ok 3 _) (sd_cl_ok 3 _)
    intro i j hi hj
    refine (sd_tm_bl (by omega) _ i j hi hj).trans ?_
    rw [sd_cl_v hi hj]
    have ci : i = 0 ∨ i = 1 ∨ i = 2 := by omega
    have cj : j = 0 ∨ j = 1 ∨ j = 2 := by omega
    rcases ci with rfl | rfl | rfl <;> rcases cj with rfl | rfl | rfl
    · rfl
    · exact sd_hd [- c0, - c1] 0 c0 rfl
    · rfl
    · rfl
    · exact sd_hd [- c0, - c1] 1 c1 rfl
    · rfl
    · rfl
    · rfl
    · exact sd_hd [- d] 0 d rfl
  have ck : sd_chk 3 (sd_k21 (sd_nl [- c0, - c1]) (sd_nl [- d])) (sd_n4 (sd_nl []) (sd_nl [- d]) (sd_nl [- c0, - c1]) (sd_nl [])) = true := by
    have r := sd_all_s _ _ (sd_all_s _ _ sd_run21 (- d).val (- d).isLt) (- c1).val (- c1).isLt
    have z : c0 = d * d - c1 * d := by grind
    rw [sd_q2_e, sd_u_e, ← z] at r
    exact r
  have f9 : sd_F9 3 (sd_tm 3 (sd_k21 (sd_nl [- c0, - c1]) (sd_nl [- d]))) (sd_n4 (sd_nl []) (sd_nl [- d]) (sd_nl [- c0, - c1]) (sd_nl [])) := by
    rw [e]
    exact ⟨fun t _ => sd_n4_m (by simp) (by simp) (by simp) (by simp) t, fun k h1 hk => sd_gf_f21 c0 c1 d hd k h1 hk⟩
  obtain ⟨D, hD⟩ := sd_chk_s (by omega) (by omega) ck f9
  rw [e] at hD
  exact ⟨_, D, hD⟩
theorem sd_ff_f211 (c0 c1 d : Fin 5) (hd : d * d = c1 * d + c0) : ∃ N D, sd_fact 4 (sd_f211 c0 c1 d) N D := by
  have e : sd_tm 4 (sd_k211 (sd_nl [- c0, - c1]) (sd_nl [- d])) = sd_f211 c0 c1 d := by
    apply sd_ok_e (sd_tm_ok 4 _) (sd_cl_ok 4 _)
    intro i j hi hj
    refine (sd_tm_bl (by omega) _ i j hi hj).trans ?_
    rw [sd_cl_v hi hj]
    have ci : i = 0 ∨ i = 1 ∨ i = 2 ∨ i = 3 := by omega
    have cj : j = 0 ∨ j = 1 ∨ j = 2 ∨ j = 3 := by omega
    rcases ci with rfl | rfl | rfl | rfl <;> rcases cj with rfl | rfl | rfl | rfl
    · rfl
    · exact sd_hd [- c0, - c1] 0 c0 rfl
    · rfl
    · rfl
    · rfl
    · exact sd_hd [- c0, - c1] 1 c1 rfl
    · rfl
    · rfl
    · rfl
    · rfl
    · exact sd_hd [- d] 0 d rfl
    · rfl
    · rfl
    · rfl
    · rfl
    · exact sd_hd [- d] 0 d rfl
  have ck : sd_chk 4 (sd_k211 (sd_nl [- c0, - c1]) (sd_nl [- d])) (sd_n4 (sd_nl []) (sd_nl [- d]) (sd_nl [- d]) (sd_nl [- c0, - c1])) = true := by
    have r := sd_all_s _ _ (sd_all_s _ _ sd_run211 (- d).val (- d).isLt) (- c1).val (- c1).isLt
    have z : c0 = d * d - c1 * d := by grind
    rw [sd_q2_e, sd_u_e, ← z] at r
    exact r
  have f9 : sd_F9 4 (sd_tm 4 (sd_k211 (sd_nl [- c0, - c1]) (sd_nl [- d]))) (sd_n4 (sd_nl []) (sd_nl [- d]) (sd_nl [- d]) (sd_nl [- c0, - c1])) := by
    rw [e]
    exact ⟨fun t _ => sd_n4_m (by simp) (by simp) (by simp) (by simp) t, fun k h1 hk => sd_gf_f211 c0 c1 d hd k h1 hk⟩
  obtain ⟨D, hD⟩ := sd_chk_s (by omega) (by omega) ck f9
  rw [e] at hD
  exact ⟨_, D, hD⟩
theorem sd_ff_f31 (c0 c1 c2 d : Fin 5) (hd : d * d * d = c2 * d * d + c1 * d + c0) : ∃ N D, sd_fact 4 (sd_f31 c0 c1 c2 d) N D := by
  have e : sd_tm 4 (sd_k31 (sd_nl [- c0, - c1, - c2]) (sd_nl [- d])) = sd_f31 c0 c1 c2 d := by
    apply sd_ok_e (sd_tm_ok 4 _) (sd_cl_ok 4 _)
    intro i j hi hj
    refine (sd_tm_bl (by omega) _ i j hi hj).trans ?_
    rw [sd_cl_v hi hj]
    have ci : i = 0 ∨ i = 1 ∨ i = 2 ∨ i = 3 := by omega
    have cj : j = 0 ∨ j = 1 ∨ j = 2 ∨ j = 3 := by omega
    rcases ci with rfl | rfl | rfl | rfl <;> rcases cj with rfl | rfl | rfl | rfl
    · rfl
    · rfl
    · exact sd_hd [- c0, - c1, - c2] 0 c0 rfl
    · rfl
    · rfl
    · rfl
    · exact sd_hd [- c0, - c1, - c2] 1 c1 rfl
    · rfl
    · rfl
    · rfl
    · exact sd_hd [- c0, - c1, - c2] 2 c2 rfl
    · rfl
    · rfl
    · rfl
    · rfl
    · exact sd_hd [- d] 0 d rfl
  have ck : sd_chk 4 (sd_k31 (sd_nl [- c0, - c1, - c2]) (sd_nl [- d])) (sd_n4 (sd_nl []) (sd_nl []) (sd_nl [- d]) (sd_nl [- c0, - c1, - c2])) = true := by
    have r := sd_all_s _ _ (sd_all_s _ _ (sd_all_s _ _ sd_run31 (- d).val (- d).isLt) (- c1).val (- c1).isLt) (- c2).val (- c2).isLt
    have z : c0 = d * d * d - c2 * d * d - c1 * d := by grind
    rw [sd_q3_e, sd_u_e, ← z] at r
    exact r
  have f9 : sd_F9 4 (sd_tm 4 (sd_k31 (sd_nl [- c0, - c1, - c2]) (sd_nl [- d]))) (sd_n4 (sd_nl []) (sd_nl []) (sd_nl [- d]) (sd_nl [- c0, - c1, - c2])) := by
    rw [e]
    exact ⟨fun t _ => sd_n4_m (by simp) (by simp) (by simp) (by simp) t, fun k h1 hk => sd_gf_f31 c0 c1 c2 d hd k h1 hk⟩
  obtain ⟨D, hD⟩ := sd_chk_s (by omega) (by omega) ck f9
  rw [e] at hD
  exact ⟨_, D, hD⟩
theorem sd_ff_f22 (c0 c1 : Fin 5) : ∃ N D, sd_fact 4 (sd_f22 c0 c1) N D := by
  have e : sd_tm 4 (sd_k22 (sd_nl [- c0, - c1])) = sd_f22 c0 c1 := by
    apply sd_ok_e (sd_tm_ok 4 _) (sd_cl_ok 4 _)
    intro i j hi hj
    refine (sd_tm_bl (by omega) _ i j hi hj).trans ?_
    rw [sd_cl_v hi hj]
    have ci : i = 0 ∨ i = 1 ∨ i = 2 ∨ i = 3 := by omega
    have cj : j = 0 ∨ j = 1 ∨ j = 2 ∨ j = 3 := by omega
    rcases ci with rfl | rfl | rfl | rfl <;> rcases cj with rfl | rfl | rfl | rfl
    · rfl
    · exact sd_hd [- c0, - c1] 0 c0 rfl
    · rfl
    · rfl
    · rfl
    · exact sd_hd [- c0, - c1] 1 c1 rfl
    · rfl
    · rfl
    · rfl
    · rfl
    · rfl
    · exact sd_hd [- c0, - c1] 0 c0 rfl
    · rfl
    · rfl
    · rfl
    · exact sd_hd [- c0, - c1] 1 c1 rfl
  have ck : sd_chk 4 (sd_k22 (sd_nl [- c0, - c1])) (sd_n4 (sd_nl []) (sd_nl []) (sd_nl [- c0, - c1]) (sd_nl [- c0, - c1])) = true := by
    have b := sd_nl_b [- c0, - c1]
    have b1 : 25 ≤ sd_nl [- c0, - c1] := b.1
    have b2 : sd_nl [- c0, - c1] < 50 := b.2
    have r := sd_all_s _ _ sd_run22 (sd_nl [- c0, - c1] - 25) (by omega)
    have q : Nat.add 25 (sd_nl [- c0, - c1] - 25) = sd_nl [- c0, - c1] := by show 25 + (sd_nl [- c0, - c1] - 25) = _; omega
    rw [q] at r
    exact r
  have f9 : sd_F9 4 (sd_tm 4 (sd_k22 (sd_nl [- c0, - c1]))) (sd_n4 (sd_nl []) (sd_nl []) (sd_nl [- c0, - c1]) (sd_nl [- c0, - c1])) := by
    rw [e]
    exact ⟨fun t _ => sd_n4_m (by simp) (by simp) (by simp) (by simp) t, fun k h1 hk => sd_gf_f22 c0 c1  k h1 hk⟩
  obtain ⟨D, hD⟩ := sd_chk_s (by omega) (by omega) ck f9
  rw [e] at hD
  exact ⟨_, D, hD⟩
theorem sd_ff_t {n : Nat} (h1 : 1 ≤ n) (h4 : n ≤ 4) {A C : sd_M} (oA : sd_ok n A) (oC : sd_ok n C) (s : sd_sim n A C) (h : ∃ N D, sd_fact n C N D) : ∃ N D, sd_fact n A N D := by
  obtain ⟨N, D, hf⟩ := h
  exact ⟨N, D, sd_fact_sim h1 h4 oA oC s hf⟩
theorem sd_comp_c {n : Nat} {c c' : Nat → Fin 5} (h : ∀ i, i < n → c i = c' i) : sd_comp n c = sd_comp n c' := by
  apply sd_ok_e (sd_cl_ok n _) (sd_cl_ok n _)
  intro i j hi hj
  rw [sd_cl_v hi hj, sd_cl_v hi hj, h i hi]
theorem sd_msI (n : Nat) (c : Fin 5) : sd_ms c (sd_I n) = sd_sc n c := by
  apply sd_ok_e (sd_ms_ok (sd_I_ok n)) (sd_cl_ok n _)
  intro i j hi hj
  show c * sd_I n i j = _
  rw [sd_I_v hi hj, sd_cl_v hi hj]
  split <;> grind
theorem sd_every {n : Nat} (h1 : 1 ≤ n) (h4 : n ≤ 4) {A : sd_M} (oA : sd_ok n A) : ∃ N D, sd_fact n A N D := by
  have cn : n = 1 ∨ n = 2 ∨ n = 3 ∨ n = 4 := by omega
  rcases cn with rfl | rfl | rfl | rfl
  · have e : A = sd_comp 1 (sd_e4 (A 0 0) 0 0 0) := by
      apply sd_ok_e oA (sd_cl_ok 1 _)
      intro i j hi hj
      have ci : i = 0 := by omega
      have cj : j = 0 := by omega
      subst ci; subst cj; rfl
    rw [e]
    exact sd_ff_c1 _
  · rcases sd_class2 oA with ⟨c, e⟩ | ⟨c, s⟩
    · rw [e, sd_msI]; exact sd_ff_s2 c
    · have e : sd_comp 2 c = sd_comp 2 (sd_e4 (c 0) (c 1) 0 0) := sd_comp_c (fun i hi => by
        have ci : i = 0 ∨ i = 1 := by omega
        rcases ci with rfl | rfl <;> rfl)
      rw [e] at s
      exact sd_ff_t h1 h4 oA (sd_cl_ok 2 _) s (sd_ff_c2 _ _)
  · rcases sd_class3 oA with ⟨c, e⟩ | ⟨c, s⟩ | ⟨c0, c1, d, hd, s⟩
    · rw [e, sd_msI]; exact sd_ff_s3 c
    · have e : sd_comp 3 c = sd_comp 3 (sd_e4 (c 0) (c 1) (c 2) 0) := sd_comp_c (fun i hi => by
        have ci : i = 0 ∨ i = 1 ∨ i = 2 := by omega
        rcases ci with rfl | rfl | rfl <;> rfl)
      rw [e] at s
      exact sd_ff_t h1 h4 oA (sd_cl_ok 3 _) s (sd_ff_c3 _ _ _)
    · exact sd_ff_t h1 h4 oA (sd_cl_ok 3 _) s (sd_ff_f21 c0 c1 d hd)
  · rcases sd_class4 oA with ⟨c, e⟩ | ⟨c, s⟩ | ⟨c0, c1, c2, d, hd, s⟩ | ⟨c0, c1, s⟩ | ⟨c0, c1, d, hd, s⟩
    · rw [e, sd_msI]; exact sd_ff_s4 c
    · have e : sd_comp 4 c = sd_comp 4 (sd_e4 (c 0) (c 1) (c 2) (c 3)) := sd_comp_c (fun i hi => by
        have ci : i = 0 ∨ i = 1 ∨ i = 2 ∨ i = 3 := by omega
        rcases ci with rfl | rfl | rfl | rfl <;> rfl)
      rw [e] at s
      exact sd_ff_t h1 h4 oA (sd_cl_ok 4 _) s (sd_ff_c4 _ _ _ _)
    · exact sd_ff_t h1 h4 oA (sd_cl_ok 4 _) s (sd_ff_f31 c0 c1 c2 d hd)
    · exact sd_ff_t h1 h4 oA (sd_cl_ok 4 _) s (sd_ff_f22 c0 c1)
    · exact sd_ff_t h1 h4 oA (sd_cl_ok 4 _) s (sd_ff_f211 c0 c1 d hd)
end
section
/-! pure rows to paste: stores, nI and lN arithmetic, masks, shifts, narrowing, branches by naturals (pk_le, pk_lt, pk_eq), loops (lp1 .. lp16: the measure of the state; rp1 ..: recursion), negatives. Take what you need -/
theorem pk_us {f : Nat → Int32} {k : Nat} {x : Int32} : upd f k x k = x := if_pos rfl
theorem pk_un {f : Nat → Int32} {k j : Nat} {x : Int32} (h : j ≠ k) : upd f k x j = f j := if_neg h
theorem pk_uLs {f : Nat → Int64} {k : Nat} {x : Int64} : vp_updL f k x k = x := if_pos rfl
theorem pk_uLn {f : Nat → Int64} {k j : Nat} {x : Int64} (h : j ≠ k) : vp_updL f k x j = f j := if_neg h
theorem pk_sub {a b : Nat} (h : b ≤ a) : nI a - nI b = nI (a - b) := by
  obtain ⟨c, rfl⟩ : ∃ c, a = c + b := ⟨a - b, by omega⟩
  rw [← nI_add, Int32.add_sub_cancel, Nat.add_sub_cancel]
theorem pk_m1 (n : Nat) : nI (n + 1) + (-1) = nI n := by
  rw [← nI_1, Int32.add_assoc, show (1 : Int32) + (-1) = 0 from rfl, Int32.add_zero]
theorem pk_mul (a b : Nat) : nI a * nI b = nI (a * b) := (Int32.ofNat_mul a b).symm
theorem pk_div {a d : Nat} (ha : a < 2 ^ 31) (h0 : 0 < d) (hd : d < 2 ^ 31) : nI a / nI d = nI (a / d) := by
  apply Int32.toInt_inj.mp
  rw [lg_idiv_nonneg (by rw [nI_toInt ha]; omega) (by rw [nI_toInt hd]; omega), nI_toInt ha, nI_toInt hd, nI_toInt (Nat.lt_of_le_of_lt (Nat.div_le_self a d) ha)]
  first | rfl | exact (Int.natCast_ediv _ _).symm
theorem pk_rem {a d : Nat} (ha : a < 2 ^ 31) (h0 : 0 < d) (hd : d < 2 ^ 31) : nI a - nI a / nI d * nI d = nI (a % d) := by
  rw [pk_div ha h0 hd, pk_mul, pk_sub (Nat.div_mul_le_self a d)]
  exact congrArg nI (by have := Nat.div_add_mod' a d; omega)
theorem pk_sub_toInt {a b : Nat} (ha : a < 2 ^ 30) (hb : b < 2 ^ 30) : (nI a - nI b).toInt = (a : Int) - b := by
  rw [Int32.toInt_sub, nI_toInt (by omega), nI_toInt (by omega)]
  exact Int.bmod_eq_of_le (by omega) (by omega)
theorem pk_sneg {a b : Nat} (hb : b < 2 ^ 30) (h : a < b) : nI a - nI b < 0 := by
  rw [Int32.lt_iff_toInt_lt, pk_sub_toInt (by omega) hb, show (0 : Int32).toInt = 0 from by decide]
  omega
theorem pk_ix (x : Int32) {n : Nat} (hn : n < 2 ^ 31) : x < 0 ∨ nI n ≤ x ∨ ∃ j : Nat, j < n ∧ x = nI j := by
  by_cases h : x < 0
  · exact Or.inl h
  · obtain ⟨j, hj, rfl⟩ := nI_of h
    by_cases h2 : j < n
    · exact Or.inr (Or.inr ⟨j, h2, rfl⟩)
    · exact Or.inr (Or.inl (nI_le (by omega) hj))
theorem pk_le {x y : Int32} {A B : Prop} (a b : Nat) (f : a ≤ b → A) (g : b < a → B) (hx : x = nI a := by rfl) (hy : y = nI b := by rfl) (ha : a < 2 ^ 31 := by omega) (hb : b < 2 ^ 31 := by omega) : (x ≤ y → A) ∧ (¬ x ≤ y → B) := by
  subst hx hy
  rw [nI_leI ha hb]
  exact ⟨f, fun z => g (by omega)⟩
theorem pk_lt {x y : Int32} {A B : Prop} (a b : Nat) (f : a < b → A) (g : b ≤ a → B) (hx : x = nI a := by rfl) (hy : y = nI b := by rfl) (ha : a < 2 ^ 31 := by omega) (hb : b < 2 ^ 31 := by omega) : (x < y → A) ∧ (¬ x < y → B) := by
  subst hx hy
  rw [nI_ltI ha hb]
  exact ⟨f, fun z => g (by omega)⟩
theorem pk_eq {x y : Int32} {A B : Prop} (a b : Nat) (f : a = b → A) (g : a ≠ b → B) (hx : x = nI a := by rfl) (hy : y = nI b := by rfl) (ha : a < 2 ^ 31 := by omega) (hb : b < 2 ^ 31 := by omega) : (x = y → A) ∧ (¬ x = y → B) := by
  subst hx hy
  rw [nI_eq ha hb]
  exact ⟨f, g⟩
theorem pk_in {x : Int32} (n N : Nat) (h : n < N) (hx : x = nI n := by rfl) (hN : N < 2 ^ 31 := by omega) : vp_in x N := by
  subst hx
  exact vp_in_nI h hN
theorem pk_cl {x : Int32} (n : Nat) (hx : x = nI n := by rfl) (h : n < 2 ^ 31 := by omega) : x.toNatClampNeg = n := by
  subst hx
  exact nI_clamp h
theorem pk_tn {n : Nat} (h : n < 2 ^ 32) : (nI n).toBitVec.toNat = n := Nat.mod_eq_of_lt h
theorem pk_and (x : Int32) {m : Int32} (k : Nat) (hm : m.toBitVec.toNat = 2 ^ k - 1) : x &&& m = nI (x.toBitVec.toNat % 2 ^ k) := by
  apply Int32.toBitVec_inj.mp
  apply BitVec.eq_of_toNat_eq
  rw [Int32.toBitVec_and, BitVec.toNat_and, hm, Nat.and_two_pow_sub_one_eq_mod]
  show _ = (BitVec.ofNat 32 _).toNat
  rw [BitVec.toNat_ofNat]
  exact (Nat.mod_eq_of_lt (Nat.lt_of_le_of_lt (Nat.mod_le _ _) x.toBitVec.isLt)).symm
theorem pk_andN {n : Nat} (h : n < 2 ^ 32) {m : Int32} (k : Nat) (hm : m.toBitVec.toNat = 2 ^ k - 1) : nI n &&& m = nI (n % 2 ^ k) := by
  rw [pk_and _ k hm, pk_tn h]
theorem pk_andE (x : Int32) {m : Int32} (k : Nat) (hm : m.toBitVec.toNat = 2 ^ k - 1) : ∃ j : Nat, j < 2 ^ k ∧ x &&& m = nI j := ⟨_, Nat.mod_lt _ (Nat.two_pow_pos k), pk_and x k hm⟩
theorem pk_andIn (x : Int32) {m : Int32} (k : Nat) (hm : m.toBitVec.toNat = 2 ^ k - 1) (hk : k ≤ 30) : vp_in (x &&& m) (2 ^ k) := by
  obtain ⟨j, hj, e⟩ := pk_andE x k hm
  rw [e]
  exact vp_in_nI hj (Nat.lt_of_le_of_lt (Nat.pow_le_pow_right (by decide) hk) (by decide))
theorem pk_shl (a s : Int32) (k : Nat) (hs : (s.toBitVec.smod 32).toNat = k) : (a <<< s).toBitVec.toNat = a.toBitVec.toNat * 2 ^ k % 2 ^ 32 := by
  show (a.toBitVec <<< (s.toBitVec.smod 32).toNat).toNat = _
  rw [hs, BitVec.toNat_shiftLeft, Nat.shiftLeft_eq]
theorem pk_shlN {n : Nat} (s : Int32) (k : Nat) (hs : (s.toBitVec.smod 32).toNat = k) (h : n * 2 ^ k < 2 ^ 32) : nI n <<< s = nI (n * 2 ^ k) := by
  apply Int32.toBitVec_inj.mp
  apply BitVec.eq_of_toNat_eq
  have hn : n < 2 ^ 32 := Nat.lt_of_le_of_lt (Nat.le_mul_of_pos_right n (Nat.two_pow_pos k)) h
  rw [pk_shl _ _ k hs, pk_tn hn, pk_tn h, Nat.mod_eq_of_lt h]
theorem pk_shr (a s : Int32) (k : Nat) (hs : (s.toBitVec.smod 32).toNat = k) : (a >>> s).toInt = a.toInt >>> k := by
  show (a.toBitVec.sshiftRight (s.toBitVec.smod 32).toNat).toInt = _
  rw [hs, BitVec.toInt_sshiftRight]
  rfl
theorem pk_shrN {n : Nat} (h : n < 2 ^ 31) (s : Int32) (k : Nat) (hs : (s.toBitVec.smod 32).toNat = k) : nI n >>> s = nI (n / 2 ^ k) := by
  apply Int32.toInt_inj.mp
  have h2 : n / 2 ^ k ≤ n := Nat.div_le_self _ _
  rw [pk_shr _ _ k hs, nI_toInt h, nI_toInt (by omega), Int.shiftRight_eq_div_pow]
  rfl
theorem pk_ushr (x s : Int32) (k : Nat) (hs : ((s.toUInt32 &&& Int32.toUInt32 31).toBitVec % 32).toNat = k) : (x.toUInt32 >>> (s.toUInt32 &&& Int32.toUInt32 31)).toInt32.toBitVec.toNat = x.toBitVec.toNat / 2 ^ k := by
  have e : (x.toUInt32 >>> (s.toUInt32 &&& Int32.toUInt32 31)).toInt32.toBitVec = x.toBitVec >>> k := by
    rw [← hs]
    exact UInt32.toBitVec_shiftRight _ _
  rw [e, BitVec.toNat_ushiftRight, Nat.shiftRight_eq_div_pow]
theorem pk_ushrN {n : Nat} (hn : n < 2 ^ 32) (s : Int32) (k : Nat) (hs : ((s.toUInt32 &&& Int32.toUInt32 31).toBitVec % 32).toNat = k) : ((nI n).toUInt32 >>> (s.toUInt32 &&& Int32.toUInt32 31)).toInt32 = nI (n / 2 ^ k) := by
  apply Int32.toBitVec_inj.mp
  apply BitVec.eq_of_toNat_eq
  rw [pk_ushr _ s k hs, pk_tn hn, pk_tn (Nat.lt_of_le_of_lt (Nat.div_le_self _ _) hn)]
theorem pk_nb (z : Int32) : narrow .byte (.int z.toInt8.toInt32) = .int z.toInt8.toInt32 := congrArg Value.int (by simp)
theorem pk_ns (z : Int32) : narrow .short (.int z.toInt16.toInt32) = .int z.toInt16.toInt32 := congrArg Value.int (by simp)
theorem pk_fb (r : Int32) : fits .byte (.int r.toInt8.toInt32) = true := by
  have ⟨a, b⟩ := lg_i2b_range r
  have h1 : (-128 : Int32).toInt = -128 := by decide
  have h2 : (127 : Int32).toInt = 127 := by decide
  simp only [fits, Bool.and_eq_true, decide_eq_true_eq, Int32.le_iff_toInt_le, h1, h2]
  omega
theorem pk_fs (r : Int32) : fits .short (.int r.toInt16.toInt32) = true := by
  have ⟨a, b⟩ := lg_i2s_range r
  have h1 : (-32768 : Int32).toInt = -32768 := by decide
  have h2 : (32767 : Int32).toInt = 32767 := by decide
  simp only [fits, Bool.and_eq_true, decide_eq_true_eq, Int32.le_iff_toInt_le, h1, h2]
  omega
theorem pk_charN {q : Nat} (hq : q < 65536) : narrow .char (.int (nI q)) = .int (nI q) ∧ fits .char (.int (nI q)) = true := by
  constructor
  · have e : (nI q).toUInt32.toUInt16.toUInt32.toInt32 = nI q := by
      apply Int32.toBitVec_inj.mp
      apply BitVec.eq_of_toNat_eq
      show (nI q).toUInt32.toUInt16.toUInt32.toNat = q % 2 ^ 32
      rw [UInt16.toNat_toUInt32, UInt32.toNat_toUInt16, show (nI q).toUInt32.toNat = q % 2 ^ 32 from rfl]
      omega
    exact congrArg Value.int e
  · have a : (0 : Int32) ≤ nI q := nI_pos' (by omega)
    have b : nI q ≤ 65535 := nI_le (b := 65535) (by omega) (by decide)
    show (decide ((0 : Int32) ≤ nI q) && decide (nI q ≤ 65535)) = true
    rw [decide_eq_true a, decide_eq_true b]
    rfl
theorem pk_char (x : Int32) : (x.toUInt32 % 65536).toInt32 = nI (x.toBitVec.toNat % 65536) := by
  apply Int32.toBitVec_inj.mp
  apply BitVec.eq_of_toNat_eq
  rw [pk_tn (by omega)]
  show (x.toUInt32 % 65536).toNat = _
  rw [UInt32.toNat_mod]
  rfl
theorem pk_nc (x : Int32) : narrow .char (.int (x.toUInt32 % 65536).toInt32) = .int (x.toUInt32 % 65536).toInt32 := by
  rw [pk_char]
  exact (pk_charN (Nat.mod_lt _ (by decide))).1
theorem pk_fc (x : Int32) : fits .char (.int (x.toUInt32 % 65536).toInt32) = true := by
  rw [pk_char]
  exact (pk_charN (Nat.mod_lt _ (by decide))).2
theorem pk_vb (z : Int32) : vp_nar .byte z.toInt8.toInt32 = z.toInt8.toInt32 := by rw [vp_nar_byte]; simp
theorem pk_vs (z : Int32) : vp_nar .short z.toInt16.toInt32 = z.toInt16.toInt32 := by rw [vp_nar_short]; simp
theorem pk_vc (z : Int32) : vp_nar .char (z.toUInt32 % 65536).toInt32 = (z.toUInt32 % 65536).toInt32 := Value.int.inj (pk_nc z)
theorem pk_lT {n : Nat} (h : n < 2 ^ 63) : (lN n).toInt = (n : Int) := lg_ofNat_toInt h
theorem pk_lLT {a b : Nat} (ha : a < 2 ^ 63) (hb : b < 2 ^ 63) : lN a < lN b ↔ a < b := by
  rw [Int64.lt_iff_toInt_lt, pk_lT ha, pk_lT hb]; omega
theorem pk_lLE {a b : Nat} (ha : a < 2 ^ 63) (hb : b < 2 ^ 63) : lN a ≤ lN b ↔ a ≤ b := by
  rw [Int64.le_iff_toInt_le, pk_lT ha, pk_lT hb]; omega
theorem pk_lEQ {a b : Nat} (ha : a < 2 ^ 63) (hb : b < 2 ^ 63) : lN a = lN b ↔ a = b := by
  rw [← Int64.toInt_inj, pk_lT ha, pk_lT hb]; omega
theorem pk_lOf {x : Int64} (h : ¬ x < 0) : ∃ k : Nat, k < 2 ^ 63 ∧ x = lN k := by
  rw [Int64.lt_iff_toInt_lt] at h
  have h0 : (0 : Int64).toInt = 0 := by decide
  have hx := Int64.toInt_lt x
  refine ⟨x.toInt.toNat, by omega, Int64.toInt_inj.mp ?_⟩
  rw [pk_lT (by omega)]
  omega
theorem pk_lDiv {a b : Nat} (ha : a < 2 ^ 63) (h0 : 0 < b) (hb : b < 2 ^ 63) : lN a / lN b = lN (a / b) := by
  apply Int64.toInt_inj.mp
  rw [lg_ldiv_nonneg (by rw [pk_lT ha]; omega) (by rw [pk_lT hb]; omega), pk_lT ha, pk_lT hb, pk_lT (Nat.lt_of_le_of_lt (Nat.div_le_self a b) ha)]
  rfl
theorem pk_lRem {a b : Nat} (ha : a < 2 ^ 63) (h0 : 0 < b) (hb : b < 2 ^ 63) : lN a - lN a / lN b * lN b = lN (a % b) := by
  rw [pk_lDiv ha h0 hb, lN_mul, lN_sub (Nat.div_mul_le_self a b)]
  exact congrArg lN (by have := Nat.div_add_mod' a b; omega)
theorem pk_loop {σ : Type} (W : Nat → Nat → σ → Prop) (I : Nat → σ → Prop) (e i0 : Nat) (s : σ) (hi : i0 ≤ e) (h0 : I i0 s) (hx : ∀ n s, I e s → W (n + 1) e s)
    (hs : ∀ n i s, i < e → I i s → (∀ s', I (i + 1) s' → W n (i + 1) s') → W (n + 1) i s) : ∃ n, W n i0 s :=
  ⟨e + 1, loop_i W I e hx hs (e + 1) i0 s hi (by omega) h0⟩
theorem pk_loopD {σ : Type} (W : Nat → Nat → σ → Prop) (I : Nat → σ → Prop) (hx : ∀ n s, I 0 s → W (n + 1) 0 s)
    (hs : ∀ n i s, I (i + 1) s → (∀ s', I i s' → W n i s') → W (n + 1) (i + 1) s) : ∀ (e : Nat) (s : σ), I e s → W (e + 1) e s := by
  intro e
  induction e with
  | zero => exact fun s h => hx 0 s h
  | succ e ih => exact fun s h => hs (e + 1) e s h (fun s' h' => ih s' h')
theorem lp1 {A1 : Type} (W : Nat → A1 → Prop) (I : A1 → Prop) (μ : A1 → Nat) (hs : ∀ (n : Nat) (a1 : A1), I a1 → (∀ (b1 : A1), I b1 → μ b1 < μ a1 → W n b1) → W (n + 1) a1) (a1 : A1) (h : I a1) : ∃ n, W n a1 :=
  loop_m (σ := A1) (fun n s => W n s) (fun s => I s) (fun s => μ s) (fun n s hI hk => hs n s hI (fun b1 h9 hm => hk b1 h9 hm)) a1 h
theorem lp2 {A1 A2 : Type} (W : Nat → A1 → A2 → Prop) (I : A1 → A2 → Prop) (μ : A1 → A2 → Nat) (hs : ∀ (n : Nat) (a1 : A1) (a2 : A2), I a1 a2 → (∀ (b1 : A1) (b2 : A2), I b1 b2 → μ b1 b2 < μ a1 a2 → W n b1 b2) → W (n + 1) a1 a2) (a1 : A1) (a2 : A2) (h : I a1 a2) : ∃ n, W n a1 a2 :=
  loop_m (σ := A1 × A2) (fun n s => W n s.1 s.2) (fun s => I s.1 s.2) (fun s => μ s.1 s.2) (fun n s hI hk => hs n s.1 s.2 hI (fun b1 b2 h9 hm => hk (b1, b2) h9 hm)) (a1, a2) h
theorem lp3 {A1 A2 A3 : Type} (W : Nat → A1 → A2 → A3 → Prop) (I : A1 → A2 → A3 → Prop) (μ : A1 → A2 → A3 → Nat) (hs : ∀ (n : Nat) (a1 : A1) (a2 : A2) (a3 : A3), I a1 a2 a3 → (∀ (b1 : A1) (b2 : A2) (b3 : A3), I b1 b2 b3 → μ b1 b2 b3 < μ a1 a2 a3 → W n b1 b2 b3) → W (n + 1) a1 a2 a3) (a1 : A1) (a2 : A2) (a3 : A3) (h : I a1 a2 a3) : ∃ n, W n a1 a2 a3 :=
  loop_m (σ := A1 × A2 × A3) (fun n s => W n s.1 s.2.1 s.2.2) (fun s => I s.1 s.2.1 s.2.2) (fun s => μ s.1 s.2.1 s.2.2) (fun n s hI hk => hs n s.1 s.2.1 s.2.2 hI (fun b1 b2 b3 h9 hm => hk (b1, b2, b3) h9 hm)) (a1, a2, a3) h
theorem lp4 {A1 A2 A3 A4 : Type} (W : Nat → A1 → A2 → A3 → A4 → Prop) (I : A1 → A2 → A3 → A4 → Prop) (μ : A1 → A2 → A3 → A4 → Nat) (hs : ∀ (n : Nat) (a1 : A1) (a2 : A2) (a3 : A3) (a4 : A4), I a1 a2 a3 a4 → (∀ (b1 : A1) (b2 : A2) (b3 : A3) (b4 : A4), I b1 b2 b3 b4 → μ b1 b2 b3 b4 < μ a1 a2 a3 a4 → W n b1 b2 b3 b4) → W (n + 1) a1 a2 a3 a4) (a1 : A1) (a2 : A2) (a3 : A3) (a4 : A4) (h : I a1 a2 a3 a4) : ∃ n, W n a1 a2 a3 a4 :=
  loop_m (σ := A1 × A2 × A3 × A4) (fun n s => W n s.1 s.2.1 s.2.2.1 s.2.2.2) (fun s => I s.1 s.2.1 s.2.2.1 s.2.2.2) (fun s => μ s.1 s.2.1 s.2.2.1 s.2.2.2) (fun n s hI hk => hs n s.1 s.2.1 s.2.2.1 s.2.2.2 hI (fun b1 b2 b3 b4 h9 hm => hk (b1, b2, b3, b4) h9 hm)) (a1, a2, a3, a4) h
theorem lp5 {A1 A2 A3 A4 A5 : Type} (W : Nat → A1 → A2 → A3 → A4 → A5 → Prop) (I : A1 → A2 → A3 → A4 → A5 → Prop) (μ : A1 → A2 → A3 → A4 → A5 → Nat) (hs : ∀ (n : Nat) (a1 : A1) (a2 : A2) (a3 : A3) (a4 : A4) (a5 : A5), I a1 a2 a3 a4 a5 → (∀ (b1 : A1) (b2 : A2) (b3 : A3) (b4 : A4) (b5 : A5), I b1 b2 b3 b4 b5 → μ b1 b2 b3 b4 b5 < μ a1 a2 a3 a4 a5 → W n b1 b2 b3 b4 b5) → W (n + 1) a1 a2 a3 a4 a5) (a1 : A1) (a2 : A2) (a3 : A3) (a4 : A4) (a5 : A5) (h : I a1 a2 a3 a4 a5) : ∃ n, W n a1 a2 a3 a4 a5 :=
  loop_m (σ := A1 × A2 × A3 × A4 × A5) (fun n s => W n s.1 s.2.1 s.2.2.1 s.2.2.2.1 s.2.2.2.2) (fun s => I s.1 s.2.1 s.2.2.1 s.2.2.2.1 s.2.2.2.2) (fun s => μ s.1 s.2.1 s.2.2.1 s.2.2.2.1 s.2.2.2.2) (fun n s hI hk => hs n s.1 s.2.1 s.2.2.1 s.2.2.2.1 s.2.2.2.2 hI (fun b1 b2 b3 b4 b5 h9 hm => hk (b1, b2, b3, b4, b5) h9 hm)) (a1, a2, a3, a4, a5) h
theorem lp6 {A1 A2 A3 A4 A5 A6 : Type} (W : Nat → A1 → A2 → A3 → A4 → A5 → A6 → Prop) (I : A1 → A2 → A3 → A4 → A5 → A6 → Prop) (μ : A1 → A2 → A3 → A4 → A5 → A6 → Nat) (hs : ∀ (n : Nat) (a1 : A1) (a2 : A2) (a3 : A3) (a4 : A4) (a5 : A5) (a6 : A6), I a1 a2 a3 a4 a5 a6 → (∀ (b1 : A1) (b2 : A2) (b3 : A3) (b4 : A4) (b5 : A5) (b6 : A6), I b1 b2 b3 b4 b5 b6 → μ b1 b2 b3 b4 b5 b6 < μ a1 a2 a3 a4 a5 a6 → W n b1 b2 b3 b4 b5 b6) → W (n + 1) a1 a2 a3 a4 a5 a6) (a1 : A1) (a2 : A2) (a3 : A3) (a4 : A4) (a5 : A5) (a6 : A6) (h : I a1 a2 a3 a4 a5 a6) : ∃ n, W n a1 a2 a3 a4 a5 a6 :=
  loop_m (σ := A1 × A2 × A3 × A4 × A5 × A6) (fun n s => W n s.1 s.2.1 s.2.2.1 s.2.2.2.1 s.2.2.2.2.1 s.2.2.2.2.2) (fun s => I s.1 s.2.1 s.2.2.1 s.2.2.2.1 s.2.2.2.2.1 s.2.2.2.2.2) (fun s => μ s.1 s.2.1 s.2.2.1 s.2.2.2.1 s.2.2.2.2.1 s.2.2.2.2.2) (fun n s hI hk => hs n s.1 s.2.1 s.2.2.1 s.2.2.2.1 s.2.2.2.2.1 s.2.2.2.2.2 hI (fun b1 b2 b3 b4 b5 b6 h9 hm => hk (b1, b2, b3, b4, b5, b6) h9 hm)) (a1, a2, a3, a4, a5, a6) h
theorem lp7 {A1 A2 A3 A4 A5 A6 A7 : Type} (W : Nat → A1 → A2 → A3 → A4 → A5 → A6 → A7 → Prop) (I : A1 → A2 → A3 → A4 → A5 → A6 → A7 → Prop) (μ : A1 → A2 → A3 → A4 → A5 → A6 → A7 → Nat) (hs : ∀ (n : Nat) (a1 : A1) (a2 : A2) (a3 : A3) (a4 : A4) (a5 : A5) (a6 : A6) (a7 : A7), I a1 a2 a3 a4 a5 a6 a7 → (∀ (b1 : A1) (b2 : A2) (b3 : A3) (b4 : A4) (b5 : A5) (b6 : A6) (b7 : A7), I b1 b2 b3 b4 b5 b6 b7 → μ b1 b2 b3 b4 b5 b6 b7 < μ a1 a2 a3 a4 a5 a6 a7 → W n b1 b2 b3 b4 b5 b6 b7) → W (n + 1) a1 a2 a3 a4 a5 a6 a7) (a1 : A1) (a2 : A2) (a3 : A3) (a4 : A4) (a5 : A5) (a6 : A6) (a7 : A7) (h : I a1 a2 a3 a4 a5 a6 a7) : ∃ n, W n a1 a2 a3 a4 a5 a6 a7 :=
  loop_m (σ := A1 × A2 × A3 × A4 × A5 × A6 × A7) (fun n s => W n s.1 s.2.1 s.2.2.1 s.2.2.2.1 s.2.2.2.2.1 s.2.2.2.2.2.1 s.2.2.2.2.2.2) (fun s => I s.1 s.2.1 s.2.2.1 s.2.2.2.1 s.2.2.2.2.1 s.2.2.2.2.2.1 s.2.2.2.2.2.2) (fun s => μ s.1 s.2.1 s.2.2.1 s.2.2.2.1 s.2.2.2.2.1 s.2.2.2.2.2.1 s.2.2.2.2.2.2) (fun n s hI hk => hs n s.1 s.2.1 s.2.2.1 s.2.2.2.1 s.2.2.2.2.1 s.2.2.2.2.2.1 s.2.2.2.2.2.2 hI (fun b1 b2 b3 b4 b5 b6 b7 h9 hm => hk (b1, b2, b3, b4, b5, b6, b7) h9 hm)) (a1, a2, a3, a4, a5, a6, a7) h
theorem lp8 {A1 A2 A3 A4 A5 A6 A7 A8 : Type} (W : Nat → A1 → A2 → A3 → A4 → A5 → A6 → A7 → A8 → Prop) (I : A1 → A2 → A3 → A4 → A5 → A6 → A7 → A8 → Prop) (μ : A1 → A2 → A3 → A4 → A5 → A6 → A7 → A8 → Nat) (hs : ∀ (n : Nat) (a1 : A1) (a2 : A2) (a3 : A3) (a4 : A4) (a5 : A5) (a6 : A6) (a7 : A7) (a8 : A8), I a1 a2 a3 a4 a5 a6 a7 a8 → (∀ (b1 : A1) (b2 : A2) (b3 : A3) (b4 : A4) (b5 : A5) (b6 : A6) (b7 : A7) (b8 : A8), I b1 b2 b3 b4 b5 b6 b7 b8 → μ b1 b2 b3 b4 b5 b6 b7 b8 < μ a1 a2 a3 a4 a5 a6 a7 a8 → W n b1 b2 b3 b4 b5 b6 b7 b8) → W (n + 1) a1 a2 a3 a4 a5 a6 a7 a8) (a1 : A1) (a2 : A2) (a3 : A3) (a4 : A4) (a5 : A5) (a6 : A6) (a7 : A7) (a8 : A8) (h : I a1 a2 a3 a4 a5 a6 a7 a8) : ∃ n, W n a1 a2 a3 a4 a5 a6 a7 a8 :=
  loop_m (σ := A1 × A2 × A3 × A4 × A5 × A6 × A7 × A8) (fun n s => W n s.1 s.2.1 s.2.2.1 s.2.2.2.1 s.2.2.2.2.1 s.2.2.2.2.2.1 s.2.2.2.2.2.2.1 s.2.2.2.2.2.2.2) (fun s => I s.1 s.2.1 s.2.2.1 s.2.2.2.1 s.2.2.2.2.1 s.2.2.2.2.2.1 s.2.2.2.2.2.2.1 s.2.2.2.2.2.2.2) (fun s => μ s.1 s.2.1 s.2.2.1 s.2.2.2.1 s.2.2.2.2.1 s.2.2.2.2.2.1 s.2.2.2.2.2.2.1 s.2.2.2.2.2.2.2) (fun n s hI hk => hs n s.1 s.2.1 s.2.2.1 s.2.2.2.1 s.2.2.2.2.1 s.2.2.2.2.2.1 s.2.2.2.2.2.2.1 s.2.2.2.2.2.2.2 hI (fun b1 b2 b3 b4 b5 b6 b7 b8 h9 hm => hk (b1, b2, b3, b4, b5, b6, b7, b8) h9 hm)) (a1, a2, a3, a4, a5, a6, a7, a8) h
theorem lp9 {A1 A2 A3 A4 A5 A6 A7 A8 A9 : Type} (W : Nat → A1 → A2 → A3 → A4 → A5 → A6 → A7 → A8 → A9 → Prop) (I : A1 → A2 → A3 → A4 → A5 → A6 → A7 → A8 → A9 → Prop) (μ : A1 → A2 → A3 → A4 → A5 → A6 → A7 → A8 → A9 → Nat) (hs : ∀ (n : Nat) (a1 : A1) (a2 : A2) (a3 : A3) (a4 : A4) (a5 : A5) (a6 : A6) (a7 : A7) (a8 : A8) (a9 : A9), I a1 a2 a3 a4 a5 a6 a7 a8 a9 → (∀ (b1 : A1) (b2 : A2) (b3 : A3) (b4 : A4) (b5 : A5) (b6 : A6) (b7 : A7) (b8 : A8) (b9 : A9), I b1 b2 b3 b4 b5 b6 b7 b8 b9 → μ b1 b2 b3 b4 b5 b6 b7 b8 b9 < μ a1 a2 a3 a4 a5 a6 a7 a8 a9 → W n b1 b2 b3 b4 b5 b6 b7 b8 b9) → W (n + 1) a1 a2 a3 a4 a5 a6 a7 a8 a9) (a1 : A1) (a2 : A2) (a3 : A3) (a4 : A4) (a5 : A5) (a6 : A6) (a7 : A7) (a8 : A8) (a9 : A9) (h : I a1 a2 a3 a4 a5 a6 a7 a8 a9) : ∃ n, W n a1 a2 a3 a4 a5 a6 a7 a8 a9 :=
  loop_m (σ := A1 × A2 × A3 × A4 × A5 × A6 × A7 × A8 × A9) (fun n s => W n s.1 s.2.1 s.2.2.1 s.2.2.2.1 s.2.2.2.2.1 s.2.2.2.2.2.1 s.2.2.2.2.2.2.1 s.2.2.2.2.2.2.2.1 s.2.2.2.2.2.2.2.2) (fun s => I s.1 s.2.1 s.2.2.1 s.2.2.2.1 s.2.2.2.2.1 s.2.2.2.2.2.1 s.2.2.2.2.2.2.1 s.2.2.2.2.2.2.2.1 s.2.2.2.2.2.2.2.2) (fun s => μ s.1 s.2.1 s.2.2.1 s.2.2.2.1 s.2.2.2.2.1 s.2.2.2.2.2.1 s.2.2.2.2.2.2.1 s.2.2.2.2.2.2.2.1 s.2.2.2.2.2.2.2.2) (fun n s hI hk => hs n s.1 s.2.1 s.2.2.1 s.2.2.2.1 s.2.2.2.2.1 s.2.2.2.2.2.1 s.2.2.2.2.2.2.1 s.2.2.2.2.2.2.2.1 s.2.2.2.2.2.2.2.2 hI (fun b1 b2 b3 b4 b5 b6 b7 b8 b9 h9 hm => hk (b1, b2, b3, b4, b5, b6, b7, b8, b9) h9 hm)) (a1, a2, a3, a4, a5, a6, a7, a8, a9) h
theorem lp10 {A1 A2 A3 A4 A5 A6 A7 A8 A9 A10 : Type} (W : Nat → A1 → A2 → A3 → A4 → A5 → A6 → A7 → A8 → A9 → A10 → Prop) (I : A1 → A2 → A3 → A4 → A5 → A6 → A7 → A8 → A9 → A10 → Prop) (μ : A1 → A2 → A3 → A4 → A5 → A6 → A7 → A8 → A9 → A10 → Nat) (hs : ∀ (n : Nat) (a1 : A1) (a2 : A2) (a3 : A3) (a4 : A4) (a5 : A5) (a6 : A6) (a7 : A7) (a8 : A8) (a9 : A9) (a10 : A10), I a1 a2 a3 a4 a5 a6 a7 a8 a9 a10 → (∀ (b1 : A1) (b2 : A2) (b3 : A3) (b4 : A4) (b5 : A5) (b6 : A6) (b7 : A7) (b8 : A8) (b9 : A9) (b10 : A10), I b1 b2 b3 b4 b5 b6 b7 b8 b9 b10 → μ b1 b2 b3 b4 b5 b6 b7 b8 b9 b10 < μ a1 a2 a3 a4 a5 a6 a7 a8 a9 a10 → W n b1 b2 b3 b4 b5 b6 b7 b8 b9 b10) → W (n + 1) a1 a2 a3 a4 a5 a6 a7 a8 a9 a10) (a1 : A1) (a2 : A2) (a3 : A3) (a4 : A4) (a5 : A5) (a6 : A6) (a7 : A7) (a8 : A8) (a9 : A9) (a10 : A10) (h : I a1 a2 a3 a4 a5 a6 a7 a8 a9 a10) : ∃ n, W n a1 a2 a3 a4 a5 a6 a7 a8 a9 a10 :=
  loop_m (σ := A1 × A2 × A3 × A4 × A5 × A6 × A7 × A8 × A9 × A10) (fun n s => W n s.1 s.2.1 s.2.2.1 s.2.2.2.1 s.2.2.2.2.1 s.2.2.2.2.2.1 s.2.2.2.2.2.2.1 s.2.2.2.2.2.2.2.1 s.2.2.2.2.2.2.2.2.1 s.2.2.2.2.2.2.2.2.2) (fun s => I s.1 s.2.1 s.2.2.1 s.2.2.2.1 s.2.2.2.2.1 s.2.2.2.2.2.1 s.2.2.2.2.2.2.1 s.2.2.2.2.2.2.2.1 s.2.2.2.2.2.2.2.2.1 s.2.2.2.2.2.2.2.2.2) (fun s => μ s.1 s.2.1 s.2.2.1 s.2.2.2.1 s.2.2.2.2.1 s.2.2.2.2.2.1 s.2.2.2.2.2.2.1 s.2.2.2.2.2.2.2.1 s.2.2.2.2.2.2.2.2.1 s.2.2.2.2.2.2.2.2.2) (fun n s hI hk => hs n s.1 s.2.1 s.2.2.1 s.2.2.2.1 s.2.2.2.2.1 s.2.2.2.2.2.1 s.2.2.2.2.2.2.1 s.2.2.2.2.2.2.2.1 s.2.2.2.2.2.2.2.2.1 s.2.2.2.2.2.2.2.2.2 hI (fun b1 b2 b3 b4 b5 b6 b7 b8 b9 b10 h9 hm => hk (b1, b2, b3, b4, b5, b6, b7, b8, b9, b10) h9 hm)) (a1, a2, a3, a4, a5, a6, a7, a8, a9, a10) h
theorem lp11 {A1 A2 A3 A4 A5 A6 A7 A8 A9 A10 A11 : Type} (W : Nat → A1 → A2 → A3 → A4 → A5 → A6 → A7 → A8 → A9 → A10 → A11 → Prop) (I : A1 → A2 → A3 → A4 → A5 → A6 → A7 → A8 → A9 → A10 → A11 → Prop) (μ : A1 → A2 → A3 → A4 → A5 → A6 → A7 → A8 → A9 → A10 → A11 → Nat) (hs : ∀ (n : Nat) (a1 : A1) (a2 : A2) (a3 : A3) (a4 : A4) (a5 : A5) (a6 : A6) (a7 : A7) (a8 : A8) (a9 : A9) (a10 : A10) (a11 : A11), I a1 a2 a3 a4 a5 a6 a7 a8 a9 a10 a11 → (∀ (b1 : A1) (b2 : A2) (b3 : A3) (b4 : A4) (b5 : A5) (b6 : A6) (b7 : A7) (b8 : A8) (b9 : A9) (b10 : A10) (b11 : A11), I b1 b2 b3 b4 b5 b6 b7 b8 b9 b10 b11 → μ b1 b2 b3 b4 b5 b6 b7 b8 b9 b10 b11 < μ a1 a2 a3 a4 a5 a6 a7 a8 a9 a10 a11 → W n b1 b2 b3 b4 b5 b6 b7 b8 b9 b10 b11) → W (n + 1) a1 a2 a3 a4 a5 a6 a7 a8 a9 a10 a11) (a1 : A1) (a2 : A2) (a3 : A3) (a4 : A4) (a5 : A5) (a6 : A6) (a7 : A7) (a8 : A8) (a9 : A9) (a10 : A10) (a11 : A11) (h : I a1 a2 a3 a4 a5 a6 a7 a8 a9 a10 a11) : ∃ n, W n a1 a2 a3 a4 a5 a6 a7 a8 a9 a10 a11 :=
  loop_m (σ := A1 × A2 × A3 × A4 × A5 × A6 × A7 × A8 × A9 × A10 × A11) (fun n s => W n s.1 s.2.1 s.2.2.1 s.2.2.2.1 s.2.2.2.2.1 s.2.2.2.2.2.1 s.2.2.2.2.2.2.1 s.2.2.2.2.2.2.2.1 s.2.2.2.2.2.2.2.2.1 s.2.2.2.2.2.2.2.2.2.1 s.2.2.2.2.2.2.2.2.2.2) (fun s => I s.1 s.2.1 s.2.2.1 s.2.2.2.1 s.2.2.2.2.1 s.2.2.2.2.2.1 s.2.2.2.2.2.2.1 s.2.2.2.2.2.2.2.1 s.2.2.2.2.2.2.2.2.1 s.2.2.2.2.2.2.2.2.2.1 s.2.2.2.2.2.2.2.2.2.2) (fun s => μ s.1 s.2.1 s.2.2.1 s.2.2.2.1 s.2.2.2.2.1 s.2.2.2.2.2.1 s.2.2.2.2.2.2.1 s.2.2.2.2.2.2.2.1 s.2.2.2.2.2.2.2.2.1 s.2.2.2.2.2.2.2.2.2.1 s.2.2.2.2.2.2.2.2.2.2) (fun n s hI hk => hs n s.1 s.2.1 s.2.2.1 s.2.2.2.1 s.2.2.2.2.1 s.2.2.2.2.2.1 s.2.2.2.2.2.2.1 s.2.2.2.2.2.2.2.1 s.2.2.2.2.2.2.2.2.1 s.2.2.2.2.2.2.2.2.2.1 s.2.2.2.2.2.2.2.2.2.2 hI (fun b1 b2 b3 b4 b5 b6 b7 b8 b9 b10 b11 h9 hm => hk (b1, b2, b3, b4, b5, b6, b7, b8, b9, b10, b11) h9 hm)) (a1, a2, a3, a4, a5, a6, a7, a8, a9, a10, a11) h
theorem lp12 {A1 A2 A3 A4 A5 A6 A7 A8 A9 A10 A11 A12 : Type} (W : Nat → A1 → A2 → A3 → A4 → A5 → A6 → A7 → A8 → A9 → A10 → A11 → A12 → Prop) (I : A1 → A2 → A3 → A4 → A5 → A6 → A7 → A8 → A9 → A10 → A11 → A12 → Prop) (μ : A1 → A2 → A3 → A4 → A5 → A6 → A7 → A8 → A9 → A10 → A11 → A12 → Nat) (hs : ∀ (n : Nat) (a1 : A1) (a2 : A2) (a3 : A3) (a4 : A4) (a5 : A5) (a6 : A6) (a7 : A7) (a8 : A8) (a9 : A9) (a10 : A10) (a11 : A11) (a12 : A12), I a1 a2 a3 a4 a5 a6 a7 a8 a9 a10 a11 a12 → (∀ (b1 : A1) (b2 : A2) (b3 : A3) (b4 : A4) (b5 : A5) (b6 : A6) (b7 : A7) (b8 : A8) (b9 : A9) (b10 : A10) (b11 : A11) (b12 : A12), I b1 b2 b3 b4 b5 b6 b7 b8 b9 b10 b11 b12 → μ b1 b2 b3 b4 b5 b6 b7 b8 b9 b10 b11 b12 < μ a1 a2 a3 a4 a5 a6 a7 a8 a9 a10 a11 a12 → W n b1 b2 b3 b4 b5 b6 b7 b8 b9 b10 b11 b12) → W (n + 1) a1 a2 a3 a4 a5 a6 a7 a8 a9 a10 a11 a12) (a1 : A1) (a2 : A2) (a3 : A3) (a4 : A4) (a5 : A5) (a6 : A6) (a7 : A7) (a8 : A8) (a9 : A9) (a10 : A10) (a11 : A11) (a12 : A12) (h : I a1 a2 a3 a4 a5 a6 a7 a8 a9 a10 a11 a12) : ∃ n, W n a1 a2 a3 a4 a5 a6 a7 a8 a9 a10 a11 a12 :=
  loop_m (σ := A1 × A2 × A3 × A4 × A5 × A6 × A7 × A8 × A9 × A10 × A11 × A12) (fun n s => W n s.1 s.2.1 s.2.2.1 s.2.2.2.1 s.2.2.2.2.1 s.2.2.2.2.2.1 s.2.2.2.2.2.2.1 s.2.2.2.2.2.2.2.1 s.2.2.2.2.2.2.2.2.1 s.2.2.2.2.2.2.2.2.2.1 s.2.2.2.2.2.2.2.2.2.2.1 s.2.2.2.2.2.2.2.2.2.2.2) (fun s => I s.1 s.2.1 s.2.2.1 s.2.2.2.1 s.2.2.2.2.1 s.2.2.2.2.2.1 s.2.2.2.2.2.2.1 s.2.2.2.2.2.2.2.1 s.2.2.2.2.2.2.2.2.1 s.2.2.2.2.2.2.2.2.2.1 s.2.2.2.2.2.2.2.2.2.2.1 s.2.2.2.2.2.2.2.2.2.2.2) (fun s => μ s.1 s.2.1 s.2.2.1 s.2.2.2.1 s.2.2.2.2.1 s.2.2.2.2.2.1 s.2.2.2.2.2.2.1 s.2.2.2.2.2.2.2.1 s.2.2.2.2.2.2.2.2.1 s.2.2.2.2.2.2.2.2.2.1 s.2.2.2.2.2.2.2.2.2.2.1 s.2.2.2.2.2.2.2.2.2.2.2) (fun n s hI hk => hs n s.1 s.2.1 s.2.2.1 s.2.2.2.1 s.2.2.2.2.1 s.2.2.2.2.2.1 s.2.2.2.2.2.2.1 s.2.2.2.2.2.2.2.1 s.2.2.2.2.2.2.2.2.1 s.2.2.2.2.2.2.2.2.2.1 s.2.2.2.2.2.2.2.2.2.2.1 s.2.2.2.2.2.2.2.2.2.2.2 hI (fun b1 b2 b3 b4 b5 b6 b7 b8 b9 b10 b11 b12 h9 hm => hk (b1, b2, b3, b4, b5, b6, b7, b8, b9, b10, b11, b12) h9 hm)) (a1, a2, a3, a4, a5, a6, a7, a8, a9, a10, a11, a12) h
theorem lp13 {A1 A2 A3 A4 A5 A6 A7 A8 A9 A10 A11 A12 A13 : Type} (W : Nat → A1 → A2 → A3 → A4 → A5 → A6 → A7 → A8 → A9 → A10 → A11 → A12 → A13 → Prop) (I : A1 → A2 → A3 → A4 → A5 → A6 → A7 → A8 → A9 → A10 → A11 → A12 → A13 → Prop) (μ : A1 → A2 → A3 → A4 → A5 → A6 → A7 → A8 → A9 → A10 → A11 → A12 → A13 → Nat) (hs : ∀ (n : Nat) (a1 : A1) (a2 : A2) (a3 : A3) (a4 : A4) (a5 : A5) (a6 : A6) (a7 : A7) (a8 : A8) (a9 : A9) (a10 : A10) (a11 : A11) (a12 : A12) (a13 : A13), I a1 a2 a3 a4 a5 a6 a7 a8 a9 a10 a11 a12 a13 → (∀ (b1 : A1) (b2 : A2) (b3 : A3) (b4 : A4) (b5 : A5) (b6 : A6) (b7 : A7) (b8 : A8) (b9 : A9) (b10 : A10) (b11 : A11) (b12 : A12) (b13 : A13), I b1 b2 b3 b4 b5 b6 b7 b8 b9 b10 b11 b12 b13 → μ b1 b2 b3 b4 b5 b6 b7 b8 b9 b10 b11 b12 b13 < μ a1 a2 a3 a4 a5 a6 a7 a8 a9 a10 a11 a12 a13 → W n b1 b2 b3 b4 b5 b6 b7 b8 b9 b10 b11 b12 b13) → W (n + 1) a1 a2 a3 a4 a5 a6 a7 a8 a9 a10 a11 a12 a13) (a1 : A1) (a2 : A2) (a3 : A3) (a4 : A4) (a5 : A5) (a6 : A6) (a7 : A7) (a8 : A8) (a9 : A9) (a10 : A10) (a11 : A11) (a12 : A12) (a13 : A13) (h : I a1 a2 a3 a4 a5 a6 a7 a8 a9 a10 a11 a12 a13) : ∃ n, W n a1 a2 a3 a4 a5 a6 a7 a8 a9 a10 a11 a12 a13 :=
  loop_m (σ := A1 × A2 × A3 × A4 × A5 × A6 × A7 × A8 × A9 × A10 × A11 × A12 × A13) (fun n s => W n s.1 s.2.1 s.2.2.1 s.2.2.2.1 s.2.2.2.2.1 s.2.2.2.2.2.1 s.2.2.2.2.2.2.1 s.2.2.2.2.2.2.2.1 s.2.2.2.2.2.2.2.2.1 s.2.2.2.2.2.2.2.2.2.1 s.2.2.2.2.2.2.2.2.2.2.1 s.2.2.2.2.2.2.2.2.2.2.2.1 s.2.2.2.2.2.2.2.2.2.2.2.2) (fun s => I s.1 s.2.1 s.2.2.1 s.2.2.2.1 s.2.2.2.2.1 s.2.2.2.2.2.1 s.2.2.2.2.2.2.1 s.2.2.2.2.2.2.2.1 s.2.2.2.2.2.2.2.2.1 s.2.2.2.2.2.2.2.2.2.1 s.2.2.2.2.2.2.2.2.2.2.1 s.2.2.2.2.2.2.2.2.2.2.2.1 s.2.2.2.2.2.2.2.2.2.2.2.2) (fun s => μ s.1 s.2.1 s.2.2.1 s.2.2.2.1 s.2.2.2.2.1 s.2.2.2.2.2.1 s.2.2.2.2.2.2.1 s.2.2.2.2.2.2.2.1 s.2.2.2.2.2.2.2.2.1 s.2.2.2.2.2.2.2.2.2.1 s.2.2.2.2.2.2.2.2.2.2.1 s.2.2.2.2.2.2.2.2.2.2.2.1 s.2.2.2.2.2.2.2.2.2.2.2.2) (fun n s hI hk => hs n s.1 s.2.1 s.2.2.1 s.2.2.2.1 s.2.2.2.2.1 s.2.2.2.2.2.1 s.2.2.2.2.2.2.1 s.2.2.2.2.2.2.2.1 s.2.2.2.2.2.2.2.2.1 s.2.2.2.2.2.2.2.2.2.1 s.2.2.2.2.2.2.2.2.2.2.1 s.2.2.2.2.2.2.2.2.2.2.2.1 s.2.2.2.2.2.2.2.2.2.2.2.2 hI (fun b1 b2 b3 b4 b5 b6 b7 b8 b9 b10 b11 b12 b13 h9 hm => hk (b1, b2, b3, b4, b5, b6, b7, b8, b9, b10, b11, b12, b13) h9 hm)) (a1, a2, a3, a4, a5, a6, a7, a8, a9, a10, a11, a12, a13) h
theorem lp14 {A1 A2 A3 A4 A5 A6 A7 A8 A9 A10 A11 A12 A13 A14 : Type} (W : Nat → A1 → A2 → A3 → A4 → A5 → A6 → A7 → A8 → A9 → A10 → A11 → A12 → A13 → A14 → Prop) (I : A1 → A2 → A3 → A4 → A5 → A6 → A7 → A8 → A9 → A10 → A11 → A12 → A13 → A14 → Prop) (μ : A1 → A2 → A3 → A4 → A5 → A6 → A7 → A8 → A9 → A10 → A11 → A12 → A13 → A14 → Nat) (hs : ∀ (n : Nat) (a1 : A1) (a2 : A2) (a3 : A3) (a4 : A4) (a5 : A5) (a6 : A6) (a7 : A7) (a8 : A8) (a9 : A9) (a10 : A10) (a11 : A11) (a12 : A12) (a13 : A13) (a14 : A14), I a1 a2 a3 a4 a5 a6 a7 a8 a9 a10 a11 a12 a13 a14 → (∀ (b1 : A1) (b2 : A2) (b3 : A3) (b4 : A4) (b5 : A5) (b6 : A6) (b7 : A7) (b8 : A8) (b9 : A9) (b10 : A10) (b11 : A11) (b12 : A12) (b13 : A13) (b14 : A14), I b1 b2 b3 b4 b5 b6 b7 b8 b9 b10 b11 b12 b13 b14 → μ b1 b2 b3 b4 b5 b6 b7 b8 b9 b10 b11 b12 b13 b14 < μ a1 a2 a3 a4 a5 a6 a7 a8 a9 a10 a11 a12 a13 a14 → W n b1 b2 b3 b4 b5 b6 b7 b8 b9 b10 b11 b12 b13 b14) → W (n + 1) a1 a2 a3 a4 a5 a6 a7 a8 a9 a10 a11 a12 a13 a14) (a1 : A1) (a2 : A2) (a3 : A3) (a4 : A4) (a5 : A5) (a6 : A6) (a7 : A7) (a8 : A8) (a9 : A9) (a10 : A10) (a11 : A11) (a12 : A12) (a13 : A13) (a14 : A14) (h : I a1 a2 a3 a4 a5 a6 a7 a8 a9 a10 a11 a12 a13 a14) : ∃ n, W n a1 a2 a3 a4 a5 a6 a7 a8 a9 a10 a11 a12 a13 a14 :=
  loop_m (σ := A1 × A2 × A3 × A4 × A5 × A6 × A7 × A8 × A9 × A10 × A11 × A12 × A13 × A14) (fun n s => W n s.1 s.2.1 s.2.2.1 s.2.2.2.1 s.2.2.2.2.1 s.2.2.2.2.2.1 s.2.2.2.2.2.2.1 s.2.2.2.2.2.2.2.1 s.2.2.2.2.2.2.2.2.1 s.2.2.2.2.2.2.2.2.2.1 s.2.2.2.2.2.2.2.2.2.2.1 s.2.2.2.2.2.2.2.2.2.2.2.1 s.2.2.2.2.2.2.2.2.2.2.2.2.1 s.2.2.2.2.2.2.2.2.2.2.2.2.2) (fun s => I s.1 s.2.1 s.2.2.1 s.2.2.2.1 s.2.2.2.2.1 s.2.2.2.2.2.1 s.2.2.2.2.2.2.1 s.2.2.2.2.2.2.2.1 s.2.2.2.2.2.2.2.2.1 s.2.2.2.2.2.2.2.2.2.1 s.2.2.2.2.2.2.2.2.2.2.1 s.2.2.2.2.2.2.2.2.2.2.2.1 s.2.2.2.2.2.2.2.2.2.2.2.2.1 s.2.2.2.2.2.2.2.2.2.2.2.2.2) (fun s => μ s.1 s.2.1 s.2.2.1 s.2.2.2.1 s.2.2.2.2.1 s.2.2.2.2.2.1 s.2.2.2.2.2.2.1 s.2.2.2.2.2.2.2.1 s.2.2.2.2.2.2.2.2.1 s.2.2.2.2.2.2.2.2.2.1 s.2.2.2.2.2.2.2.2.2.2.1 s.2.2.2.2.2.2.2.2.2.2.2.1 s.2.2.2.2.2.2.2.2.2.2.2.2.1 s.2.2.2.2.2.2.2.2.2.2.2.2.2) (fun n s hI hk => hs n s.1 s.2.1 s.2.2.1 s.2.2.2.1 s.2.2.2.2.1 s.2.2.2.2.2.1 s.2.2.2.2.2.2.1 s.2.2.2.2.2.2.2.1 s.2.2.2.2.2.2.2.2.1 s.2.2.2.2.2.2.2.2.2.1 s.2.2.2.2.2.2.2.2.2.2.1 s.2.2.2.2.2.2.2.2.2.2.2.1 s.2.2.2.2.2.2.2.2.2.2.2.2.1 s.2.2.2.2.2.2.2.2.2.2.2.2.2 hI (fun b1 b2 b3 b4 b5 b6 b7 b8 b9 b10 b11 b12 b13 b14 h9 hm => hk (b1, b2, b3, b4, b5, b6, b7, b8, b9, b10, b11, b12, b13, b14) h9 hm)) (a1, a2, a3, a4, a5, a6, a7, a8, a9, a10, a11, a12, a13, a14) h
theorem lp15 {A1 A2 A3 A4 A5 A6 A7 A8 A9 A10 A11 A12 A13 A14 A15 : Type} (W : Nat → A1 → A2 → A3 → A4 → A5 → A6 → A7 → A8 → A9 → A10 → A11 → A12 → A13 → A14 → A15 → Prop) (I : A1 → A2 → A3 → A4 → A5 → A6 → A7 → A8 → A9 → A10 → A11 → A12 → A13 → A14 → A15 → Prop) (μ : A1 → A2 → A3 → A4 → A5 → A6 → A7 → A8 → A9 → A10 → A11 → A12 → A13 → A14 → A15 → Nat) (hs : ∀ (n : Nat) (a1 : A1) (a2 : A2) (a3 : A3) (a4 : A4) (a5 : A5) (a6 : A6) (a7 : A7) (a8 : A8) (a9 : A9) (a10 : A10) (a11 : A11) (a12 : A12) (a13 : A13) (a14 : A14) (a15 : A15), I a1 a2 a3 a4 a5 a6 a7 a8 a9 a10 a11 a12 a13 a14 a15 → (∀ (b1 : A1) (b2 : A2) (b3 : A3) (b4 : A4) (b5 : A5) (b6 : A6) (b7 : A7) (b8 : A8) (b9 : A9) (b10 : A10) (b11 : A11) (b12 : A12) (b13 : A13) (b14 : A14) (b15 : A15), I b1 b2 b3 b4 b5 b6 b7 b8 b9 b10 b11 b12 b13 b14 b15 → μ b1 b2 b3 b4 b5 b6 b7 b8 b9 b10 b11 b12 b13 b14 b15 < μ a1 a2 a3 a4 a5 a6 a7 a8 a9 a10 a11 a12 a13 a14 a15 → W n b1 b2 b3 b4 b5 b6 b7 b8 b9 b10 b11 b12 b13 b14 b15) → W (n + 1) a1 a2 a3 a4 a5 a6 a7 a8 a9 a10 a11 a12 a13 a14 a15) (a1 : A1) (a2 : A2) (a3 : A3) (a4 : A4) (a5 : A5) (a6 : A6) (a7 : A7) (a8 : A8) (a9 : A9) (a10 : A10) (a11 : A11) (a12 : A12) (a13 : A13) (a14 : A14) (a15 : A15) (h : I a1 a2 a3 a4 a5 a6 a7 a8 a9 a10 a11 a12 a13 a14 a15) : ∃ n, W n a1 a2 a3 a4 a5 a6 a7 a8 a9 a10 a11 a12 a13 a14 a15 :=
  loop_m (σ := A1 × A2 × A3 × A4 × A5 × A6 × A7 × A8 × A9 × A10 × A11 × A12 × A13 × A14 × A15) (fun n s => W n s.1 s.2.1 s.2.2.1 s.2.2.2.1 s.2.2.2.2.1 s.2.2.2.2.2.1 s.2.2.2.2.2.2.1 s.2.2.2.2.2.2.2.1 s.2.2.2.2.2.2.2.2.1 s.2.2.2.2.2.2.2.2.2.1 s.2.2.2.2.2.2.2.2.2.2.1 s.2.2.2.2.2.2.2.2.2.2.2.1 s.2.2.2.2.2.2.2.2.2.2.2.2.1 s.2.2.2.2.2.2.2.2.2.2.2.2.2.1 s.2.2.2.2.2.2.2.2.2.2.2.2.2.2) (fun s => I s.1 s.2.1 s.2.2.1 s.2.2.2.1 s.2.2.2.2.1 s.2.2.2.2.2.1 s.2.2.2.2.2.2.1 s.2.2.2.2.2.2.2.1 s.2.2.2.2.2.2.2.2.1 s.2.2.2.2.2.2.2.2.2.1 s.2.2.2.2.2.2.2.2.2.2.1 s.2.2.2.2.2.2.2.2.2.2.2.1 s.2.2.2.2.2.2.2.2.2.2.2.2.1 s.2.2.2.2.2.2.2.2.2.2.2.2.2.1 s.2.2.2.2.2.2.2.2.2.2.2.2.2.2) (fun s => μ s.1 s.2.1 s.2.2.1 s.2.2.2.1 s.2.2.2.2.1 s.2.2.2.2.2.1 s.2.2.2.2.2.2.1 s.2.2.2.2.2.2.2.1 s.2.2.2.2.2.2.2.2.1 s.2.2.2.2.2.2.2.2.2.1 s.2.2.2.2.2.2.2.2.2.2.1 s.2.2.2.2.2.2.2.2.2.2.2.1 s.2.2.2.2.2.2.2.2.2.2.2.2.1 s.2.2.2.2.2.2.2.2.2.2.2.2.2.1 s.2.2.2.2.2.2.2.2.2.2.2.2.2.2) (fun n s hI hk => hs n s.1 s.2.1 s.2.2.1 s.2.2.2.1 s.2.2.2.2.1 s.2.2.2.2.2.1 s.2.2.2.2.2.2.1 s.2.2.2.2.2.2.2.1 s.2.2.2.2.2.2.2.2.1 s.2.2.2.2.2.2.2.2.2.1 s.2.2.2.2.2.2.2.2.2.2.1 s.2.2.2.2.2.2.2.2.2.2.2.1 s.2.2.2.2.2.2.2.2.2.2.2.2.1 s.2.2.2.2.2.2.2.2.2.2.2.2.2.1 s.2.2.2.2.2.2.2.2.2.2.2.2.2.2 hI (fun b1 b2 b3 b4 b5 b6 b7 b8 b9 b10 b11 b12 b13 b14 b15 h9 hm => hk (b1, b2, b3, b4, b5, b6, b7, b8, b9, b10, b11, b12, b13, b14, b15) h9 hm)) (a1, a2, a3, a4, a5, a6, a7, a8, a9, a10, a11, a12, a13, a14, a15) h
theorem lp16 {A1 A2 A3 A4 A5 A6 A7 A8 A9 A10 A11 A12 A13 A14 A15 A16 : Type} (W : Nat → A1 → A2 → A3 → A4 → A5 → A6 → A7 → A8 → A9 → A10 → A11 → A12 → A13 → A14 → A15 → A16 → Prop) (I : A1 → A2 → A3 → A4 → A5 → A6 → A7 → A8 → A9 → A10 → A11 → A12 → A13 → A14 → A15 → A16 → Prop) (μ : A1 → A2 → A3 → A4 → A5 → A6 → A7 → A8 → A9 → A10 → A11 → A12 → A13 → A14 → A15 → A16 → Nat) (hs : ∀ (n : Nat) (a1 : A1) (a2 : A2) (a3 : A3) (a4 : A4) (a5 : A5) (a6 : A6) (a7 : A7) (a8 : A8) (a9 : A9) (a10 : A10) (a11 : A11) (a12 : A12) (a13 : A13) (a14 : A14) (a15 : A15) (a16 : A16), I a1 a2 a3 a4 a5 a6 a7 a8 a9 a10 a11 a12 a13 a14 a15 a16 → (∀ (b1 : A1) (b2 : A2) (b3 : A3) (b4 : A4) (b5 : A5) (b6 : A6) (b7 : A7) (b8 : A8) (b9 : A9) (b10 : A10) (b11 : A11) (b12 : A12) (b13 : A13) (b14 : A14) (b15 : A15) (b16 : A16), I b1 b2 b3 b4 b5 b6 b7 b8 b9 b10 b11 b12 b13 b14 b15 b16 → μ b1 b2 b3 b4 b5 b6 b7 b8 b9 b10 b11 b12 b13 b14 b15 b16 < μ a1 a2 a3 a4 a5 a6 a7 a8 a9 a10 a11 a12 a13 a14 a15 a16 → W n b1 b2 b3 b4 b5 b6 b7 b8 b9 b10 b11 b12 b13 b14 b15 b16) → W (n + 1) a1 a2 a3 a4 a5 a6 a7 a8 a9 a10 a11 a12 a13 a14 a15 a16) (a1 : A1) (a2 : A2) (a3 : A3) (a4 : A4) (a5 : A5) (a6 : A6) (a7 : A7) (a8 : A8) (a9 : A9) (a10 : A10) (a11 : A11) (a12 : A12) (a13 : A13) (a14 : A14) (a15 : A15) (a16 : A16) (h : I a1 a2 a3 a4 a5 a6 a7 a8 a9 a10 a11 a12 a13 a14 a15 a16) : ∃ n, W n a1 a2 a3 a4 a5 a6 a7 a8 a9 a10 a11 a12 a13 a14 a15 a16 :=
  loop_m (σ := A1 × A2 × A3 × A4 × A5 × A6 × A7 × A8 × A9 × A10 × A11 × A12 × A13 × A14 × A15 × A16) (fun n s => W n s.1 s.2.1 s.2.2.1 s.2.2.2.1 s.2.2.2.2.1 s.2.2.2.2.2.1 s.2.2.2.2.2.2.1 s.2.2.2.2.2.2.2.1 s.2.2.2.2.2.2.2.2.1 s.2.2.2.2.2.2.2.2.2.1 s.2.2.2.2.2.2.2.2.2.2.1 s.2.2.2.2.2.2.2.2.2.2.2.1 s.2.2.2.2.2.2.2.2.2.2.2.2.1 s.2.2.2.2.2.2.2.2.2.2.2.2.2.1 s.2.2.2.2.2.2.2.2.2.2.2.2.2.2.1 s.2.2.2.2.2.2.2.2.2.2.2.2.2.2.2) (fun s => I s.1 s.2.1 s.2.2.1 s.2.2.2.1 s.2.2.2.2.1 s.2.2.2.2.2.1 s.2.2.2.2.2.2.1 s.2.2.2.2.2.2.2.1 s.2.2.2.2.2.2.2.2.1 s.2.2.2.2.2.2.2.2.2.1 s.2.2.2.2.2.2.2.2.2.2.1 s.2.2.2.2.2.2.2.2.2.2.2.1 s.2.2.2.2.2.2.2.2.2.2.2.2.1 s.2.2.2.2.2.2.2.2.2.2.2.2.2.1 s.2.2.2.2.2.2.2.2.2.2.2.2.2.2.1 s.2.2.2.2.2.2.2.2.2.2.2.2.2.2.2) (fun s => μ s.1 s.2.1 s.2.2.1 s.2.2.2.1 s.2.2.2.2.1 s.2.2.2.2.2.1 s.2.2.2.2.2.2.1 s.2.2.2.2.2.2.2.1 s.2.2.2.2.2.2.2.2.1 s.2.2.2.2.2.2.2.2.2.1 s.2.2.2.2.2.2.2.2.2.2.1 s.2.2.2.2.2.2.2.2.2.2.2.1 s.2.2.2.2.2.2.2.2.2.2.2.2.1 s.2.2.2.2.2.2.2.2.2.2.2.2.2.1 s.2.2.2.2.2.2.2.2.2.2.2.2.2.2.1 s.2.2.2.2.2.2.2.2.2.2.2.2.2.2.2) (fun n s hI hk => hs n s.1 s.2.1 s.2.2.1 s.2.2.2.1 s.2.2.2.2.1 s.2.2.2.2.2.1 s.2.2.2.2.2.2.1 s.2.2.2.2.2.2.2.1 s.2.2.2.2.2.2.2.2.1 s.2.2.2.2.2.2.2.2.2.1 s.2.2.2.2.2.2.2.2.2.2.1 s.2.2.2.2.2.2.2.2.2.2.2.1 s.2.2.2.2.2.2.2.2.2.2.2.2.1 s.2.2.2.2.2.2.2.2.2.2.2.2.2.1 s.2.2.2.2.2.2.2.2.2.2.2.2.2.2.1 s.2.2.2.2.2.2.2.2.2.2.2.2.2.2.2 hI (fun b1 b2 b3 b4 b5 b6 b7 b8 b9 b10 b11 b12 b13 b14 b15 b16 h9 hm => hk (b1, b2, b3, b4, b5, b6, b7, b8, b9, b10, b11, b12, b13, b14, b15, b16) h9 hm)) (a1, a2, a3, a4, a5, a6, a7, a8, a9, a10, a11, a12, a13, a14, a15, a16) h
theorem pk_least (P : Nat → Prop) (h : ∃ k, P k) : ∃ k, P k ∧ ∀ j, j < k → ¬ P j := by
  obtain ⟨k, hk⟩ := h
  induction k using Nat.strongRecOn with
  | ind k ih =>
    by_cases e : ∃ j, j < k ∧ P j
    · obtain ⟨j, hj, pj⟩ := e
      exact ih j hj pj
    · exact ⟨k, hk, fun j hj pj => e ⟨j, hj, pj⟩⟩
theorem rp1 {ρ A1 : Type} (W : Nat → (ρ → Prop) → A1 → Prop) (ok : A1 → Prop) (μ : A1 → Nat) (val : A1 → ρ)
    (hs : ∀ (d : Nat) (post : ρ → Prop) (a1 : A1), ok a1 → post (val a1) → (∀ (post' : ρ → Prop) (b1 : A1), ok b1 → μ b1 < μ a1 → post' (val b1) → W d post' b1) → W (d + 1) post a1) :
    ∀ (d : Nat) (post : ρ → Prop) (a1 : A1), ok a1 → μ a1 < d → post (val a1) → W d post a1 := by
  intro d
  induction d with
  | zero => intro post a1 _ h; omega
  | succ d ih =>
    intro post a1 ho hm hp
    exact hs d post a1 ho hp (fun post' b1 ho' hm' hp' => ih post' b1 ho' (by omega) hp')
theorem rp2 {ρ A1 A2 : Type} (W : Nat → (ρ → Prop) → A1 → A2 → Prop) (ok : A1 → A2 → Prop) (μ : A1 → A2 → Nat) (val : A1 → A2 → ρ)
    (hs : ∀ (d : Nat) (post : ρ → Prop) (a1 : A1) (a2 : A2), ok a1 a2 → post (val a1 a2) → (∀ (post' : ρ → Prop) (b1 : A1) (b2 : A2), ok b1 b2 → μ b1 b2 < μ a1 a2 → post' (val b1 b2) → W d post' b1 b2) → W (d + 1) post a1 a2) :
    ∀ (d : Nat) (post : ρ → Prop) (a1 : A1) (a2 : A2), ok a1 a2 → μ a1 a2 < d → post (val a1 a2) → W d post a1 a2 := by
  intro d
  induction d with
  | zero => intro post a1 a2 _ h; omega
  | succ d ih =>
    intro post a1 a2 ho hm hp
    exact hs d post a1 a2 ho hp (fun post' b1 b2 ho' hm' hp' => ih post' b1 b2 ho' (by omega) hp')
theorem rp3 {ρ A1 A2 A3 : Type} (W : Nat → (ρ → Prop) → A1 → A2 → A3 → Prop) (ok : A1 → A2 → A3 → Prop) (μ : A1 → A2 → A3 → Nat) (val : A1 → A2 → A3 → ρ)
    (hs : ∀ (d : Nat) (post : ρ → Prop) (a1 : A1) (a2 : A2) (a3 : A3), ok a1 a2 a3 → post (val a1 a2 a3) → (∀ (post' : ρ → Prop) (b1 : A1) (b2 : A2) (b3 : A3), ok b1 b2 b3 → μ b1 b2 b3 < μ a1 a2 a3 → post' (val b1 b2 b3) → W d post' b1 b2 b3) → W (d + 1) post a1 a2 a3) :
    ∀ (d : Nat) (post : ρ → Prop) (a1 : A1) (a2 : A2) (a3 : A3), ok a1 a2 a3 → μ a1 a2 a3 < d → post (val a1 a2 a3) → W d post a1 a2 a3 := by
  intro d
  induction d with
  | zero => intro post a1 a2 a3 _ h; omega
  | succ d ih =>
    intro post a1 a2 a3 ho hm hp
    exact hs d post a1 a2 a3 ho hp (fun post' b1 b2 b3 ho' hm' hp' => ih post' b1 b2 b3 ho' (by omega) hp')
theorem rp4 {ρ A1 A2 A3 A4 : Type} (W : Nat → (ρ → Prop) → A1 → A2 → A3 → A4 → Prop) (ok : A1 → A2 → A3 → A4 → Prop) (μ : A1 → A2 → A3 → A4 → Nat) (val : A1 → A2 → A3 → A4 → ρ)
    (hs : ∀ (d : Nat) (post : ρ → Prop) (a1 : A1) (a2 : A2) (a3 : A3) (a4 : A4), ok a1 a2 a3 a4 → post (val a1 a2 a3 a4) → (∀ (post' : ρ → Prop) (b1 : A1) (b2 : A2) (b3 : A3) (b4 : A4), ok b1 b2 b3 b4 → μ b1 b2 b3 b4 < μ a1 a2 a3 a4 → post' (val b1 b2 b3 b4) → W d post' b1 b2 b3 b4) → W (d + 1) post a1 a2 a3 a4) :
    ∀ (d : Nat) (post : ρ → Prop) (a1 : A1) (a2 : A2) (a3 : A3) (a4 : A4), ok a1 a2 a3 a4 → μ a1 a2 a3 a4 < d → post (val a1 a2 a3 a4) → W d post a1 a2 a3 a4 := by
  intro d
  induction d with
  | zero => intro post a1 a2 a3 a4 _ h; omega
  | succ d ih =>
    intro post a1 a2 a3 a4 ho hm hp
    exact hs d post a1 a2 a3 a4 ho hp (fun post' b1 b2 b3 b4 ho' hm' hp' => ih post' b1 b2 b3 b4 ho' (by omega) hp')
theorem rp5 {ρ A1 A2 A3 A4 A5 : Type} (W : Nat → (ρ → Prop) → A1 → A2 → A3 → A4 → A5 → Prop) (ok : A1 → A2 → A3 → A4 → A5 → Prop) (μ : A1 → A2 → A3 → A4 → A5 → Nat) (val : A1 → A2 → A3 → A4 → A5 → ρ)
    (hs : ∀ (d : Nat) (post : ρ → Prop) (a1 : A1) (a2 : A2) (a3 : A3) (a4 : A4) (a5 : A5), ok a1 a2 a3 a4 a5 → post (val a1 a2 a3 a4 a5) → (∀ (post' : ρ → Prop) (b1 : A1) (b2 : A2) (b3 : A3) (b4 : A4) (b5 : A5), ok b1 b2 b3 b4 b5 → μ b1 b2 b3 b4 b5 < μ a1 a2 a3 a4 a5 → post' (val b1 b2 b3 b4 b5) → W d post' b1 b2 b3 b4 b5) → W (d + 1) post a1 a2 a3 a4 a5) :
    ∀ (d : Nat) (post : ρ → Prop) (a1 : A1) (a2 : A2) (a3 : A3) (a4 : A4) (a5 : A5), ok a1 a2 a3 a4 a5 → μ a1 a2 a3 a4 a5 < d → post (val a1 a2 a3 a4 a5) → W d post a1 a2 a3 a4 a5 := by
  intro d
  induction d with
  | zero => intro post a1 a2 a3 a4 a5 _ h; omega
  | succ d ih =>
    intro post a1 a2 a3 a4 a5 ho hm hp
    exact hs d post a1 a2 a3 a4 a5 ho hp (fun post' b1 b2 b3 b4 b5 ho' hm' hp' => ih post' b1 b2 b3 b4 b5 ho' (by omega) hp')
theorem rp6 {ρ A1 A2 A3 A4 A5 A6 : Type} (W : Nat → (ρ → Prop) → A1 → A2 → A3 → A4 → A5 → A6 → Prop) (ok : A1 → A2 → A3 → A4 → A5 → A6 → Prop) (μ : A1 → A2 → A3 → A4 → A5 → A6 → Nat) (val : A1 → A2 → A3 → A4 → A5 → A6 → ρ)
    (hs : ∀ (d : Nat) (post : ρ → Prop) (a1 : A1) (a2 : A2) (a3 : A3) (a4 : A4) (a5 : A5) (a6 : A6), ok a1 a2 a3 a4 a5 a6 → post (val a1 a2 a3 a4 a5 a6) → (∀ (post' : ρ → Prop) (b1 : A1) (b2 : A2) (b3 : A3) (b4 : A4) (b5 : A5) (b6 : A6), ok b1 b2 b3 b4 b5 b6 → μ b1 b2 b3 b4 b5 b6 < μ a1 a2 a3 a4 a5 a6 → post' (val b1 b2 b3 b4 b5 b6) → W d post' b1 b2 b3 b4 b5 b6) → W (d + 1) post a1 a2 a3 a4 a5 a6) :
    ∀ (d : Nat) (post : ρ → Prop) (a1 : A1) (a2 : A2) (a3 : A3) (a4 : A4) (a5 : A5) (a6 : A6), ok a1 a2 a3 a4 a5 a6 → μ a1 a2 a3 a4 a5 a6 < d → post (val a1 a2 a3 a4 a5 a6) → W d post a1 a2 a3 a4 a5 a6 := by
  intro d
  induction d with
  | zero => intro post a1 a2 a3 a4 a5 a6 _ h; omega
  | succ d ih =>
    intro post a1 a2 a3 a4 a5 a6 ho hm hp
    exact hs d post a1 a2 a3 a4 a5 a6 ho hp (fun post' b1 b2 b3 b4 b5 b6 ho' hm' hp' => ih post' b1 b2 b3 b4 b5 b6 ho' (by omega) hp')
theorem rec_p {σ ρ : Type} (W : Nat → (ρ → Prop) → σ → Prop) (ok : σ → Prop) (μ : σ → Nat) (val : σ → ρ)
    (hs : ∀ d s post, ok s → post (val s) → (∀ s' post', ok s' → μ s' < μ s → post' (val s') → W d post' s') → W (d + 1) post s) :
    ∀ d s post, ok s → μ s < d → post (val s) → W d post s := by
  intro d
  induction d with
  | zero => intro s post _ h; omega
  | succ d ih =>
    intro s post ho hm hp
    exact hs d s post ho hp (fun s' post' ho' hm' hp' => ih s' post' ho' (by omega) hp')
theorem rec_q {σ ρ : Type} (W : Nat → (ρ → Prop) → σ → Prop) (ok : σ → Prop) (μ : σ → Nat) (Q : σ → ρ → Prop)
    (hs : ∀ d s post, ok s → (∀ r, Q s r → post r) → (∀ s' post', ok s' → μ s' < μ s → (∀ r, Q s' r → post' r) → W d post' s') → W (d + 1) post s) :
    ∀ d s post, ok s → μ s < d → (∀ r, Q s r → post r) → W d post s := by
  intro d
  induction d with
  | zero => intro s post _ h; omega
  | succ d ih =>
    intro s post ho hm hp
    exact hs d s post ho hp (fun s' post' ho' hm' hp' => ih s' post' ho' (by omega) hp')
def bx_sum (f : Nat → Int32) : Nat → Int32
  | 0 => 0
  | n + 1 => bx_sum f n + f n
theorem ek_u {A : Prop} {B : Nat → Prop} {k N : Nat} (hk : k < N) (h : B k) : (some k = none → A) ∧ (∀ y : Nat, some k = some y → (y < N ∧ B y)) :=
  ⟨fun z => absurd z (Option.some_ne_none k), fun _ e => (by cases e; exact ⟨hk, h⟩)⟩
theorem ek_nu {A : Prop} {B : Nat → Prop} (h : A) : ((none : Option Nat) = none → A) ∧ (∀ y : Nat, (none : Option Nat) = some y → B y) :=
  ⟨fun _ => h, fun _ e => (by cases e)⟩
theorem ek_if {c d A B : Prop} (e : c ↔ d) (f : d → A) (g : ¬ d → B) : (c → A) ∧ (¬ c → B) :=
  ⟨fun z => f (e.mp z), fun z => g (fun y => z (e.mpr y))⟩
theorem ek_v {α : Sort _} {P : α → Prop} {a b : α} (e : a = b) (h : P b) : P a := e ▸ h
theorem co_some {x : Option Nat} {A : Prop} {B : Nat → Prop} (i : Nat) (h : B i) (hx : x = some i := by rfl) : (x = none → A) ∧ (∀ y : Nat, x = some y → B y) := by
  subst hx
  exact ⟨fun e => (nomatch e), fun y e => Option.some.inj e ▸ h⟩
theorem co_none {x : Option Nat} {A : Prop} {B : Nat → Prop} (h : A) (hx : x = none := by rfl) : (x = none → A) ∧ (∀ y : Nat, x = some y → B y) := by
  subst hx
  exact ⟨fun _ => h, fun y e => (nomatch e)⟩
theorem co_any {x : Option Nat} {A : Prop} {B : Nat → Prop} (hn : x = none → A) (hs : ∀ i : Nat, x = some i → B i) : (x = none → A) ∧ (∀ y : Nat, x = some y → B y) := ⟨hn, hs⟩
theorem co_2 {P : Nat → Prop} (h0 : P 0) (h1 : P 1) {i : Nat} (hi : i < 2) : P i :=
  match i, hi with
  | 0, _ => h0
  | 1, _ => h1
theorem co_3 {P : Nat → Prop} (h0 : P 0) (h1 : P 1) (h2 : P 2) {i : Nat} (hi : i < 3) : P i :=
  match i, hi with
  | 0, _ => h0
  | 1, _ => h1
  | 2, _ => h2
theorem co_4 {P : Nat → Prop} (h0 : P 0) (h1 : P 1) (h2 : P 2) (h3 : P 3) {i : Nat} (hi : i < 4) : P i :=
  match i, hi with
  | 0, _ => h0
  | 1, _ => h1
  | 2, _ => h2
  | 3, _ => h3
theorem co_dec {N : Nat} {P : Nat → Prop} [DecidablePred P] (h : (List.range N).all (fun i => decide (P i)) = true) {i : Nat} (hi : i < N) : P i := by
  have := List.all_eq_true.mp h i (List.mem_range.mpr hi)
  exact of_decide_eq_true this
theorem co_tab {α : Type} {l : List α} {d : α} {P : α → Prop} (h : ∀ a, a ∈ l → P a) {i : Nat} (hi : i < l.length) : P (l.getD i d) := by
  rw [List.getD_eq_getElem?_getD, List.getElem?_eq_getElem hi]
  exact h _ (List.getElem_mem hi)
theorem pk_mu {x : Int32} {L : Nat} (h0 : ¬ x < 0) (h : ¬ nI L ≤ x) (hL : L < 2 ^ 31) : ∃ j : Nat, j < L ∧ x = nI j ∧ x + 1 = nI (j + 1) ∧ x.toNatClampNeg = j ∧ L - (x + 1).toNatClampNeg < L - x.toNatClampNeg := by
  obtain ⟨j, hj, rfl⟩ := nI_of h0
  have hl : j < L := Nat.not_le.mp fun q => h (nI_le q hj)
  refine ⟨j, hl, rfl, nI_1 j, nI_clamp hj, ?_⟩
  rw [nI_1, nI_clamp (by omega), nI_clamp hj]
  omega
theorem op_s {α : Type} {r : Option α} {A : Prop} {B : α → Prop} {y : α} (h : r = some y) (b : B y) : (r = none → A) ∧ ∀ z, r = some z → B z :=
  ⟨fun e => (by rw [h] at e; cases e), fun z e => (by rw [h] at e; cases e; exact b)⟩
def l_holds {α : Type} (a : Nat → Option Nat) (LP : List Nat) (p : Nat → α) (c : Nat) (b : Nat → α) : Prop :=
  ∀ j, j < c → ∃ y, a j = some y ∧ y ∈ LP ∧ p y = b j
theorem l_holds_0 {α : Type} {a : Nat → Option Nat} {LP : List Nat} {p b : Nat → α} : l_holds a LP p 0 b := fun j h => absurd h (Nat.not_lt_zero j)
theorem l_in_new (LP : List Nat) (q : Nat) : q ∈ LP ++ [q] := List.mem_append.mpr (Or.inr (List.mem_singleton.mpr rfl))
def l_sum (b : Nat → Int32) : Nat → Int32
  | 0 => 0
  | k + 1 => l_sum b k + b k
theorem sb_shr0 (x : Int32) : x >>> ((0 : Int32) &&& 31) = x := by
  rw [show ((0 : Int32) &&& 31) = 0 by decide]
  simp
theorem sb_shl0 (x : Int32) : x <<< ((0 : Int32) &&& 31) = x := by
  rw [show ((0 : Int32) &&& 31) = 0 by decide]
  simp
theorem sb_cl0 : (0 : Int32).toNatClampNeg = 0 := by decide
theorem sb_m1 {p : Nat} (h : 0 < p) : nI p + (-1) = nI (p - 1) := by
  obtain ⟨q, rfl⟩ : ∃ q, p = q + 1 := ⟨p - 1, by omega⟩
  exact pk_m1 q
def sb_b (c : Nat) : Int32 := (nI c).toInt8.toInt32
theorem sb_byte : ∀ c, c < 256 → sb_b c &&& 255 = nI c ∧ ((nI c).toUInt32 % 65536).toInt32 = nI c ∧ nI c ≤ 255 := by decide +kernel
def sb_Fit (a : Nat → Int32) : Prop := ∀ j, fits .byte (.int (a j)) = true
def sb_Lat (t : Nat → Nat) (n : Nat) (a : Nat → Int32) : Prop := ∀ j, j < n → t j < 256 ∧ a j = sb_b (t j)
theorem sb_fitB (c : Nat) : fits .byte (.int (sb_b c)) = true := pk_fb _
theorem sb_fit0 : sb_Fit (fun _ => 0) := fun _ => by
  show fits .byte (.int 0) = true
  decide
theorem sb_fitU {a : Nat → Int32} {k : Nat} {x : Int32} (h : sb_Fit a) (hx : fits .byte (.int x) = true) : sb_Fit (upd a k x) := by
  intro j
  by_cases e : j = k
  · subst e
    rw [pk_us]
    exact hx
  · rw [pk_un e]
    exact h j
def sb_cat (t : Nat → Nat) (n : Nat) (s : Nat → Nat) : Nat → Nat := fun j => if j < n then t j else s (j - n)
theorem sb_cat_lo {t s : Nat → Nat} {n j : Nat} (h : j < n) : sb_cat t n s j = t j := if_pos h
theorem sb_cat_hi {t s : Nat → Nat} {n j : Nat} : sb_cat t n s (n + j) = s j := by
  show (if n + j < n then t (n + j) else s (n + j - n)) = s j
  rw [if_neg (by omega), Nat.add_sub_cancel_left]
theorem sb_latPut {t s : Nat → Nat} {n w : Nat} {a a' : Nat → Int32} (h : sb_Lat t n a) (hk : ∀ j, j < n → a' j = a j) (hs : ∀ i, i < w → s i < 256 ∧ a' (n + i) = sb_b (s i)) : sb_Lat (sb_cat t n s) (n + w) a' := by
  intro j hj
  by_cases e : j < n
  · rw [sb_cat_lo e, hk j e]
    exact h j e
  · obtain ⟨i, rfl⟩ : ∃ i, j = n + i := ⟨j - n, by omega⟩
    rw [sb_cat_hi]
    exact hs i (by omega)
theorem sb_latKeep {t : Nat → Nat} {n : Nat} {a a' : Nat → Int32} (h : sb_Lat t n a) (hk : ∀ j, j < n → a' j = a j) : sb_Lat t n a' := fun j hj => by
  rw [hk j hj]
  exact h j hj
def sb_cap (q m : Nat) : Nat := if q ≤ m then m else if 2 * m + 2 < q then q else 2 * m + 2
def sb_Room (q m mc ms : Nat) : Prop := q ≤ m ∨ (1 ≤ mc ∧ sb_cap q m ≤ ms ∧ sb_cap q m ≤ 65536)
theorem sb_cap_ge (q m : Nat) : q ≤ sb_cap q m := by
  unfold sb_cap
  split
  · omega
  · split <;> omega
theorem sb_cap_gem (q m : Nat) : m ≤ sb_cap q m := by
  unfold sb_cap
  split
  · omega
  · split <;> omega
theorem sb_cap_le {q m mc ms : Nat} (hm : m ≤ 65536) (hr : sb_Room q m mc ms) : sb_cap q m ≤ 65536 := by
  rcases hr with h | h
  · rw [sb_cap, if_pos h]
    exact hm
  · exact h.2.2
theorem sb_at {P : Int32 → Prop} {x y : Int32} (e : x = y) (h : P y) : P x := e ▸ h
def sb_dg (w : Nat) : Nat := if w < 10 then 1 else if w < 100 then 2 else if w < 1000 then 3 else if w < 10000 then 4 else if w < 100000 then 5 else if w < 1000000 then 6 else if w < 10000000 then 7 else if w < 100000000 then 8 else if w < 1000000000 then 9 else 10
def sb_dec (v : Nat) : Nat → Nat := fun i => 48 + v / 10 ^ (sb_dg v - 1 - i) % 10
theorem sb_dg_in (w : Nat) : 1 ≤ sb_dg w ∧ sb_dg w ≤ 10 := by
  unfold sb_dg
  constructor <;> (repeat' split) <;> omega
theorem sb_dg100 {w : Nat} (h : 100 ≤ w) (hw : w < 2 ^ 31) : sb_dg w = sb_dg (w / 100) + 2 := by
  rw [sb_dg, sb_dg, if_neg (show ¬ w < 10 by omega), if_neg (show ¬ w < 100 by omega)]
  by_cases h3 : w < 1000
  · rw [if_pos h3, if_pos (show w / 100 < 10 by omega)]
  rw [if_neg h3, if_neg (show ¬ w / 100 < 10 by omega)]
  by_cases h4 : w < 10000
  · rw [if_pos h4, if_pos (show w / 100 < 100 by omega)]
  rw [if_neg h4, if_neg (show ¬ w / 100 < 100 by omega)]
  by_cases h5 : w < 100000
  · rw [if_pos h5, if_pos (show w / 100 < 1000 by omega)]
  rw [if_neg h5, if_neg (show ¬ w / 100 < 1000 by omega)]
  by_cases h6 : w < 1000000
  · rw [if_pos h6, if_pos (show w / 100 < 10000 by omega)]
  rw [if_neg h6, if_neg (show ¬ w / 100 < 10000 by omega)]
  by_cases h7 : w < 10000000
  · rw [if_pos h7, if_pos (show w / 100 < 100000 by omega)]
  rw [if_neg h7, if_neg (show ¬ w / 100 < 100000 by omega)]
  by_cases h8 : w < 100000000
  · rw [if_pos h8, if_pos (show w / 100 < 1000000 by omega)]
  rw [if_neg h8, if_neg (show ¬ w / 100 < 1000000 by omega)]
  by_cases h9 : w < 1000000000
  · rw [if_pos h9, if_pos (show w / 100 < 10000000 by omega)]
  rw [if_neg h9, if_neg (show ¬ w / 100 < 10000000 by omega)]
  rw [if_pos (show w / 100 < 100000000 by omega)]
theorem sb_negT {w : Nat} (h : w < 2 ^ 31) : (-nI w).toInt = -(w : Int) := by
  rw [Int32.toInt_neg, nI_toInt h]
  exact Int.bmod_eq_of_le (by omega) (by omega)
theorem sb_nle {a b : Nat} (ha : a < 2 ^ 31) (hb : b < 2 ^ 31) : -nI a ≤ -nI b ↔ b ≤ a := by
  rw [Int32.le_iff_toInt_le, sb_negT ha, sb_negT hb]
  omega
theorem sb_nlt {a b : Nat} (ha : a < 2 ^ 31) (hb : b < 2 ^ 31) : -nI a < -nI b ↔ b < a := by
  rw [Int32.lt_iff_toInt_lt, sb_negT ha, sb_negT hb]
  omega
theorem sb_cmp {A B : Prop} {x : Int32} (v c : Nat) (f : c ≤ v → A) (g : v < c → B) (hv : v < 2 ^ 31) (hx : x = -nI c := by rfl) (hc : c < 2 ^ 31 := by omega) : (-nI v ≤ x → A) ∧ (¬ -nI v ≤ x → B) := by
  subst hx
  rw [sb_nle hv hc]
  exact ⟨f, fun z => g (by omega)⟩
theorem sb_ndiv {w : Nat} (hw : w < 2 ^ 31) : (-nI w) / 100 = -nI (w / 100) := by
  apply Int32.toInt_inj.mp
  have h100 : (100 : Int32).toInt = 100 := by decide
  rw [Int32.toInt_div, sb_negT hw, h100, sb_negT (by omega), Int.neg_tdiv, Int.tdiv_eq_ediv_of_nonneg (by omega), Int.bmod_eq_of_le (by omega) (by omega)]
  omega
theorem sb_nrem {w : Nat} (hw : w < 2 ^ 31) : (-nI (w / 100)) * 100 - (-nI w) = nI (w % 100) := by
  have h := pk_rem (a := w) (d := 100) hw (by decide) (by decide)
  rw [pk_div hw (by decide) (by decide)] at h
  rw [← h]
  show (-nI (w / 100)) * nI 100 - (-nI w) = nI w - nI (w / 100) * nI 100
  rw [Int32.neg_mul, Int32.sub_neg, Int32.add_comm, ← Int32.sub_eq_add_neg]
end
section
/-! rows on bits, shifts and unsigned numbers, to paste: each family out of a closed proof of our own, whole with what it rests on; each by itself clean at Lean in its own claim (generation 39, form 5). Take a family whole -/
/-! ===== Int32 by its bits: bt x i ===== -/
def bt (x : Int32) (i : Nat) : Bool := x.toBitVec.getLsbD i
theorem b_ext {x y : Int32} (h : ∀ i, i < 32 → bt x i = bt y i) : x = y := Int32.toBitVec_inj.mp (BitVec.eq_of_getLsbD_eq (fun i hi => h i hi))
theorem b_or (x y : Int32) (i : Nat) : bt (x ||| y) i = (bt x i || bt y i) := by unfold bt; rw [Int32.toBitVec_or, BitVec.getLsbD_or]
theorem b_and (x y : Int32) (i : Nat) : bt (x &&& y) i = (bt x i && bt y i) := by unfold bt; rw [Int32.toBitVec_and, BitVec.getLsbD_and]
theorem b_xor (x y : Int32) (i : Nat) : bt (x ^^^ y) i = (bt x i ^^ bt y i) := by unfold bt; rw [Int32.toBitVec_xor, BitVec.getLsbD_xor]
theorem b_big {x : Int32} {i : Nat} (h : 32 ≤ i) : bt x i = false := BitVec.getLsbD_of_ge _ _ h
theorem b_255 (i : Nat) : bt 255 i = decide (i < 8) := by
  rcases Nat.lt_or_ge i 32 with h | h
  · exact (by decide +kernel : ∀ i, i < 32 → bt 255 i = decide (i < 8)) i h
  · rw [b_big h, decide_eq_false (by omega)]
theorem b_65535 (i : Nat) : bt 65535 i = decide (i < 16) := by
  rcases Nat.lt_or_ge i 32 with h | h
  · exact (by decide +kernel : ∀ i, i < 32 → bt 65535 i = decide (i < 16)) i h
  · rw [b_big h, decide_eq_false (by omega)]
theorem b_m1 : ∀ i, i < 32 → bt (-1) i = true := by decide +kernel
theorem b_0 (i : Nat) : bt 0 i = false := BitVec.getLsbD_zero
theorem s_l : ∀ n, n < 32 → ((nI n &&& 31).toBitVec.smod 32).toNat = n := by decide +kernel
theorem s_u : ∀ n, n < 32 → (((nI n).toUInt32 &&& Int32.toUInt32 31).toBitVec % 32).toNat = n := by decide +kernel
theorem b_shl (n : Nat) (hn : n < 32) (x : Int32) {i : Nat} (hi : i < 32) : bt (x <<< (nI n &&& 31)) i = (decide (n ≤ i) && bt x (i - n)) := by
  unfold bt
  rw [Int32.toBitVec_shiftLeft]
  show (x.toBitVec <<< ((nI n &&& 31).toBitVec.smod 32).toNat).getLsbD i = _
  rw [s_l n hn, BitVec.getLsbD_shiftLeft]
  rcases Nat.lt_or_ge i n with h | h
  · simp [h, Nat.not_le.mpr h]
  · simp [hi, h, Nat.not_lt.mpr h]
theorem b_ushr (n : Nat) (hn : n < 32) (x : Int32) (i : Nat) : bt ((x.toUInt32 >>> ((nI n).toUInt32 &&& Int32.toUInt32 31)).toInt32) i = bt x (n + i) := by
  show (x.toUInt32 >>> ((nI n).toUInt32 &&& Int32.toUInt32 31)).toBitVec.getLsbD i = x.toUInt32.toBitVec.getLsbD (n + i)
  rw [UInt32.toBitVec_shiftRight]
  show (x.toUInt32.toBitVec >>> (((nI n).toUInt32 &&& Int32.toUInt32 31).toBitVec % 32).toNat).getLsbD i = _
  rw [s_u n hn, BitVec.getLsbD_ushiftRight]
theorem b_sshr (n : Nat) (hn : n < 32) (x : Int32) {i : Nat} (hi : i < 32) : bt (x >>> (nI n &&& 31)) i = if n + i < 32 then bt x (n + i) else bt x 31 := by
  unfold bt
  rw [Int32.toBitVec_shiftRight]
  show (x.toBitVec.sshiftRight ((nI n &&& 31).toBitVec.smod 32).toNat).getLsbD i = _
  rw [s_l n hn, BitVec.getLsbD_sshiftRight, BitVec.msb_eq_getLsbD_last]
  simp [hi]
theorem b_shl8 (x : Int32) {i : Nat} (hi : i < 32) : bt (x <<< ((8 : Int32) &&& 31)) i = (decide (8 ≤ i) && bt x (i - 8)) := b_shl 8 (by omega) x hi
theorem b_shl16 (x : Int32) {i : Nat} (hi : i < 32) : bt (x <<< ((16 : Int32) &&& 31)) i = (decide (16 ≤ i) && bt x (i - 16)) := b_shl 16 (by omega) x hi
theorem b_shl24 (x : Int32) {i : Nat} (hi : i < 32) : bt (x <<< ((24 : Int32) &&& 31)) i = (decide (24 ≤ i) && bt x (i - 24)) := b_shl 24 (by omega) x hi
theorem b_sshr8 (x : Int32) {i : Nat} (hi : i < 32) : bt (x >>> ((8 : Int32) &&& 31)) i = if 8 + i < 32 then bt x (8 + i) else bt x 31 := b_sshr 8 (by omega) x hi
/-! ===== nI under and, xor, >>>, one bit, 65535 ===== -/
theorem nx_and (a b : Nat) : nI a &&& nI b = nI (a &&& b) := by
  apply Int32.toBitVec_inj.1
  show BitVec.ofNat 32 a &&& BitVec.ofNat 32 b = BitVec.ofNat 32 (a &&& b)
  apply BitVec.eq_of_getLsbD_eq
  intro i hi
  simp [hi]
theorem nx_xor (a b : Nat) : nI a ^^^ nI b = nI (a ^^^ b) := by
  apply Int32.toBitVec_inj.1
  show BitVec.ofNat 32 a ^^^ BitVec.ofNat 32 b = BitVec.ofNat 32 (a ^^^ b)
  apply BitVec.eq_of_getLsbD_eq
  intro i hi
  simp [hi]
theorem nx_cnt : ∀ j : Fin 32, (UInt32.ofNat j.val &&& Int32.toUInt32 31).toNat % 32 = j.val := by decide +kernel
theorem nx_ush {k j : Nat} (hk : k < 65536) (hj : j < 32) : ((nI k).toUInt32 >>> ((nI j).toUInt32 &&& Int32.toUInt32 31)).toInt32 = nI (k >>> j) := by
  have hs : k >>> j ≤ k := by
    rw [Nat.shiftRight_eq_div_pow]
    exact Nat.div_le_self _ _
  have e2 : UInt32.ofNat k >>> (UInt32.ofNat j &&& Int32.toUInt32 31) = UInt32.ofNat (k >>> j) := by
    apply UInt32.toNat_inj.1
    have h1 : (UInt32.ofNat k).toNat = k := Nat.mod_eq_of_lt (by omega)
    have h2 : (UInt32.ofNat (k >>> j)).toNat = k >>> j := Nat.mod_eq_of_lt (by omega)
    rw [UInt32.toNat_shiftRight, nx_cnt ⟨j, hj⟩, h1, h2]
  show (UInt32.ofNat k >>> (UInt32.ofNat j &&& Int32.toUInt32 31)).toInt32 = _
  rw [e2]
  rfl
theorem nx_bit {k j : Nat} (hk : k < 65536) (hj : j < 16) : (((nI k).toUInt32 >>> ((nI j).toUInt32 &&& Int32.toUInt32 31)).toInt32 &&& 1) = 0 ↔ k.testBit j = false := by
  rw [nx_ush hk (by omega)]
  show nI (k >>> j) &&& nI 1 = 0 ↔ _
  rw [nx_and, Nat.and_one_is_mod, ← nI_0, nI_eq (by omega) (by omega), Nat.testBit_eq_decide_div_mod_eq, Nat.shiftRight_eq_div_pow, decide_eq_false_iff_not]
  generalize k / 2 ^ j = z
  omega
theorem nx_mod (k : Nat) : nI k &&& 65535 = nI (k % 65536) := by
  show nI k &&& nI 65535 = _
  rw [nx_and, show (65535 : Nat) = 2 ^ 16 - 1 from rfl, Nat.and_two_pow_sub_one_eq_mod]
theorem nx_m16 {k : Nat} (h : k < 65536) : nI k &&& 65535 = nI k := by rw [nx_mod, Nat.mod_eq_of_lt h]
theorem nx_mask (x : Int32) : ∃ k, k < 65536 ∧ x &&& 65535 = nI k := by
  have e : x = nI x.toBitVec.toNat := by
    apply Int32.toBitVec_inj.1
    show x.toBitVec = BitVec.ofNat 32 x.toBitVec.toNat
    simp
  refine ⟨x.toBitVec.toNat % 65536, Nat.mod_lt _ (by omega), ?_⟩
  rw [← nx_mod, ← e]
/-! ===== Int32 as a set of bits: test, set ===== -/
def nf_M (m : Int32) : Nat := 4294967296 - m.toBitVec.toNat
theorem nf_sh : ∀ l, l < 32 → ((1 : Int32) <<< (nI l &&& 31)).toBitVec = BitVec.twoPow 32 l := by decide +kernel
theorem nf_sl : ∀ l, l < 32 → (((nI l).toUInt32 &&& Int32.toUInt32 31).toBitVec % 32).toNat = l := by decide +kernel
theorem nf_tp : ∀ l, l < 32 → BitVec.twoPow 32 l ≠ 0#32 := by decide +kernel
theorem nf_bit (m : Int32) (l : Nat) (hl : l < 32) : ((m.toUInt32 >>> ((nI l).toUInt32 &&& Int32.toUInt32 31)).toInt32 &&& 1) = 0 ↔ (m &&& ((1 : Int32) <<< (nI l &&& 31))) = 0 := by
  have e : ((m.toUInt32 >>> ((nI l).toUInt32 &&& Int32.toUInt32 31)).toInt32).toBitVec = m.toBitVec >>> l := by
    show m.toBitVec >>> (((nI l).toUInt32 &&& Int32.toUInt32 31).toBitVec % 32) = m.toBitVec >>> l
    rw [BitVec.ushiftRight_eq', nf_sl l hl]
  rw [← Int32.toBitVec_inj, ← Int32.toBitVec_inj, Int32.toBitVec_and, Int32.toBitVec_and, nf_sh l hl, e, BitVec.and_twoPow]
  show (m.toBitVec >>> l &&& 1#32) = 0#32 ↔ _ = 0#32
  rw [BitVec.and_one_eq_setWidth_ofBool_getLsbD, BitVec.getLsbD_ushiftRight, Nat.add_zero]
  cases hb : m.toBitVec.getLsbD l
  · exact ⟨fun _ => by simp, fun _ => by decide⟩
  · exact ⟨fun z => absurd z (by decide), fun z => absurd ((if_pos rfl).symm.trans z) (nf_tp l hl)⟩
theorem nf_gr (m k : Int32) (h : m &&& k = 0) (hk : k ≠ 0) : nf_M (m ||| k) < nf_M m := by
  have hm := m.toBitVec.isLt
  have hm' := (m ||| k).toBitVec.isLt
  have h1 : m.toBitVec.toNat ≤ (m ||| k).toBitVec.toNat := by
    rw [Int32.toBitVec_or, BitVec.toNat_or]
    exact Nat.left_le_or
  have h2 : m.toBitVec.toNat ≠ (m ||| k).toBitVec.toNat := by
    intro e
    have e2 : m = m ||| k := Int32.toBitVec_inj.mp (BitVec.eq_of_toNat_eq e)
    apply hk
    apply Int32.toBitVec_inj.mp
    show k.toBitVec = 0#32
    apply BitVec.eq_of_getLsbD_eq
    intro i hi
    have a : m.toBitVec.getLsbD i = (m.toBitVec.getLsbD i || k.toBitVec.getLsbD i) := by rw [← BitVec.getLsbD_or, ← Int32.toBitVec_or, ← e2]
    have b : (m.toBitVec.getLsbD i && k.toBitVec.getLsbD i) = false := by
      rw [← BitVec.getLsbD_and, ← Int32.toBitVec_and, h]
      exact BitVec.getLsbD_zero
    rw [BitVec.getLsbD_zero]
    revert a b
    cases m.toBitVec.getLsbD i <;> cases k.toBitVec.getLsbD i <;> simp
  unfold nf_M
  omega
/-! ===== a byte read unsigned ===== -/
theorem bp_b (x : Int32) : x.toInt8.toInt32 &&& 255 = x &&& 255 := by
  apply Int32.toBitVec_inj.mp
  rw [Int32.toBitVec_and, Int32.toBitVec_and, Int8.toBitVec_toInt32, Int32.toBitVec_toInt8]
  apply BitVec.eq_of_getLsbD_eq
  intro i hi
  rw [BitVec.getLsbD_and, BitVec.getLsbD_and]
  have hm : ∀ i < 32, 8 ≤ i → (255 : Int32).toBitVec.getLsbD i = false := by decide
  rcases Nat.lt_or_ge i 8 with z | z
  · rw [BitVec.getLsbD_signExtend, BitVec.getLsbD_signExtend, if_pos z, if_pos hi]
    simp only [z, hi, decide_true, Bool.true_and]
  · rw [hm i hi z]; simp
/-! ===== the char cast and 65535 ===== -/
theorem em_w (v : Int32) : ∃ w : Nat, w < 65536 ∧ (v.toUInt32 % 65536).toInt32 = nI w ∧ v &&& 65535 = nI w := by
  have hr := lw_u16_r v
  have h0 : (0 : Int32).toInt = 0 := by decide
  obtain ⟨w, h1, h2⟩ := nI_of (x := lw_u16 v) (by rw [Int32.lt_iff_toInt_lt]; omega)
  have h3 : (v.toUInt32 % 65536).toInt32 = nI w := h2
  rw [h2, nI_toInt h1] at hr
  exact ⟨w, by omega, h3, by rw [← lg_i2c_mask, ← lg_i2c_nf, h3]⟩
/-! ===== Int64 as a set of bits: test, set, clear ===== -/
theorem ts_nf {x : Bool} (h : ¬ x = false) : x = true := by cases x <;> first | rfl | exact absurd rfl h
theorem ts_nt {x : Bool} (h : ¬ x = true) : x = false := by cases x <;> first | rfl | exact absurd rfl h
theorem ts_bit {w : Int64} {s : UInt64} {j : Nat} (hj : j < 64) (hs : s.toNat = j) : ((w.toUInt64 >>> s).toInt64 &&& 1) = 0 ↔ w.toBitVec.getLsbD j = false := by
  have e : (w.toUInt64 >>> s).toInt64.toBitVec = w.toBitVec >>> j := by
    apply BitVec.eq_of_toNat_eq
    show (w.toUInt64 >>> s).toNat = _
    rw [UInt64.toNat_shiftRight, hs, Nat.mod_eq_of_lt hj, BitVec.toNat_ushiftRight]
    rfl
  rw [← Int64.toBitVec_inj, Int64.toBitVec_and, e]
  show w.toBitVec >>> j &&& 1#64 = 0#64 ↔ _
  constructor
  · intro h
    have t := congrArg (fun x => x.getLsbD 0) h
    simpa using t
  · intro h
    apply BitVec.eq_of_getLsbD_eq
    intro i hi
    cases i with
    | zero => simp [h]
    | succ i => simp
theorem ts_or {w m : Int64} {j : Nat} (hj : j < 64) (hm : m.toBitVec = BitVec.twoPow 64 j) : (w ||| m) = w ↔ w.toBitVec.getLsbD j = true := by
  rw [← Int64.toBitVec_inj, Int64.toBitVec_or, hm]
  constructor
  · intro h
    have t := congrArg (fun x => x.getLsbD j) h
    simp only [BitVec.getLsbD_or, BitVec.getLsbD_twoPow] at t
    simpa [hj] using t.symm
  · intro h
    apply BitVec.eq_of_getLsbD_eq
    intro i hi
    rw [BitVec.getLsbD_or, BitVec.getLsbD_twoPow]
    by_cases e : j = i
    · subst e; rw [h, Bool.true_or]
    · simp [e]
theorem ts_and {w m : Int64} {j : Nat} (hj : j < 64) (hm : m.toBitVec = BitVec.twoPow 64 j) : (w &&& (m ^^^ (-1))) = w ↔ w.toBitVec.getLsbD j = false := by
  have ha : (-1 : Int64).toBitVec = BitVec.allOnes 64 := by decide
  rw [← Int64.toBitVec_inj, Int64.toBitVec_and, Int64.toBitVec_xor, hm, ha]
  constructor
  · intro h
    have t := congrArg (fun x => x.getLsbD j) h
    simp only [BitVec.getLsbD_and, BitVec.getLsbD_xor, BitVec.getLsbD_twoPow, BitVec.getLsbD_allOnes] at t
    simpa [hj] using t.symm
  · intro h
    apply BitVec.eq_of_getLsbD_eq
    intro i hi
    rw [BitVec.getLsbD_and, BitVec.getLsbD_xor, BitVec.getLsbD_twoPow, BitVec.getLsbD_allOnes]
    by_cases e : j = i
    · subst e; rw [h, Bool.false_and]
    · simp [e, hi]
/-! ===== lN n to 2^64: shifts, and, or, masks, one bit ===== -/
theorem wb_tb (n : Nat) : (lN n).toBitVec = BitVec.ofNat 64 n := rfl
theorem wb_inj {a b : Int64} (h : a.toBitVec = b.toBitVec) : a = b := Int64.toBitVec_inj.mp h
theorem wb_tn {n : Nat} (h : n < 2 ^ 64) : (lN n).toBitVec.toNat = n := by rw [wb_tb, BitVec.toNat_ofNat, Nat.mod_eq_of_lt h]
theorem wb_of (x : Int64) : ∃ n, n < 2 ^ 64 ∧ x = lN n := ⟨x.toBitVec.toNat, x.toBitVec.isLt, wb_inj (by rw [wb_tb]; simp)⟩
theorem wb_of32 (x : Int32) : ∃ n, n < 2 ^ 32 ∧ x = nI n := ⟨x.toBitVec.toNat, x.toBitVec.isLt, Int32.toBitVec_inj.mp (by show _ = BitVec.ofNat 32 _; simp)⟩
theorem wb_c : ∀ k, k < 64 → ((nI k).toInt64 &&& 63) = lN k := by decide +kernel
theorem wb_cu : ∀ k, k < 64 → ((nI k).toInt64.toUInt64 &&& Int64.toUInt64 63) = UInt64.ofNat k := by decide +kernel
theorem wb_sm : ∀ k, k < 64 → (BitVec.ofNat 64 k).smod 64 = BitVec.ofNat 64 k := by decide +kernel
theorem wb_pw {a b : Nat} (h : a ≤ b) : 2 ^ b = 2 ^ a * 2 ^ (b - a) := by rw [← Nat.pow_add]; congr 1; omega
theorem wb_lt2 {a b : Nat} (h : a < b) : 2 ^ a < 2 ^ b := Nat.pow_lt_pow_right (by decide) h
theorem wb_mod (n : Nat) : lN n = lN (n % 2 ^ 64) := wb_inj (by rw [wb_tb, wb_tb]; apply BitVec.eq_of_toNat_eq; rw [BitVec.toNat_ofNat, BitVec.toNat_ofNat, Nat.mod_mod])
theorem wb_shr {n k : Nat} (hn : n < 2 ^ 64) (hk : k < 64) : ((lN n).toUInt64 >>> ((nI k).toInt64.toUInt64 &&& Int64.toUInt64 63)).toInt64 = lN (n / 2 ^ k) := by
  rw [wb_cu k hk]
  apply wb_inj
  apply BitVec.eq_of_toNat_eq
  show ((lN n).toUInt64 >>> UInt64.ofNat k).toNat = (BitVec.ofNat 64 _).toNat
  have h1 : (UInt64.ofNat k).toNat = k := by
    show (BitVec.ofNat 64 k).toNat = k
    rw [BitVec.toNat_ofNat, Nat.mod_eq_of_lt (by omega)]
  have h2 : (lN n).toUInt64.toNat = n := wb_tn hn
  rw [UInt64.toNat_shiftRight, h1, h2, Nat.mod_eq_of_lt hk, Nat.shiftRight_eq_div_pow, BitVec.toNat_ofNat, Nat.mod_eq_of_lt (Nat.lt_of_le_of_lt (Nat.div_le_self _ _) hn)]
theorem wb_shl (n : Nat) {k : Nat} (hk : k < 64) : lN n <<< ((nI k).toInt64 &&& 63) = lN (n * 2 ^ k) := by
  rw [wb_c k hk]
  apply wb_inj
  rw [Int64.toBitVec_shiftLeft, wb_tb, wb_tb, wb_tb, wb_sm k hk]
  apply BitVec.eq_of_toNat_eq
  rw [BitVec.shiftLeft_eq', BitVec.toNat_shiftLeft, BitVec.toNat_ofNat, BitVec.toNat_ofNat, BitVec.toNat_ofNat, Nat.mod_eq_of_lt (show k < 2 ^ 64 by omega), Nat.shiftLeft_eq, Nat.mul_mod, Nat.mod_mod, ← Nat.mul_mod]
theorem wb_and {a b : Nat} (ha : a < 2 ^ 64) (hb : b < 2 ^ 64) : lN a &&& lN b = lN (a &&& b) := by
  apply wb_inj
  rw [Int64.toBitVec_and, wb_tb, wb_tb, wb_tb]
  apply BitVec.eq_of_toNat_eq
  rw [BitVec.toNat_and, BitVec.toNat_ofNat, BitVec.toNat_ofNat, BitVec.toNat_ofNat, Nat.mod_eq_of_lt ha, Nat.mod_eq_of_lt hb, Nat.mod_eq_of_lt (Nat.and_lt_two_pow _ hb)]
theorem wb_or {a b : Nat} (ha : a < 2 ^ 64) (hb : b < 2 ^ 64) : lN a ||| lN b = lN (a ||| b) := by
  apply wb_inj
  rw [Int64.toBitVec_or, wb_tb, wb_tb, wb_tb]
  apply BitVec.eq_of_toNat_eq
  rw [BitVec.toNat_or, BitVec.toNat_ofNat, BitVec.toNat_ofNat, BitVec.toNat_ofNat, Nat.mod_eq_of_lt ha, Nat.mod_eq_of_lt hb, Nat.mod_eq_of_lt (Nat.or_lt_two_pow ha hb)]
theorem wb_mask {n k : Nat} (hn : n < 2 ^ 64) (hk : k < 64) : lN n &&& lN (2 ^ k - 1) = lN (n % 2 ^ k) := by
  rw [wb_and hn (by have := wb_lt2 hk; omega), Nat.and_two_pow_sub_one_eq_mod]
theorem wb_a1 {n : Nat} (hn : n < 2 ^ 64) : lN n &&& 1 = lN (n % 2) := wb_mask (k := 1) hn (by decide)
theorem wb_bit {n k : Nat} (hn : n < 2 ^ 64) (hk : k < 64) : ((lN n).toUInt64 >>> ((nI k).toInt64.toUInt64 &&& Int64.toUInt64 63)).toInt64 &&& 1 = lN (n / 2 ^ k % 2) := by
  rw [wb_shr hn hk, wb_a1 (Nat.lt_of_le_of_lt (Nat.div_le_self _ _) hn)]
theorem wb_xor {q k : Nat} (hk : k < 63) (h : 2 ^ k ≤ q) (h2 : q < 2 ^ (k + 1)) : lN q ^^^ lN (2 ^ k) = lN (q - 2 ^ k) := by
  obtain ⟨r, rfl⟩ : ∃ r, q = 2 ^ k + r := ⟨q - 2 ^ k, by omega⟩
  have hr : r < 2 ^ k := by rw [Nat.pow_succ] at h2; omega
  have hx : (2 ^ k + r) ^^^ 2 ^ k = r := by
    apply Nat.eq_of_testBit_eq
    intro i
    rw [Nat.testBit_xor, Nat.testBit_two_pow]
    rcases Nat.lt_trichotomy i k with h | h | h
    · rw [Nat.testBit_two_pow_add_gt h]
      simp [show ¬ k = i by omega]
    · subst h
      rw [Nat.testBit_two_pow_add_eq]
      simp
    · have a1 : 2 ^ (k + 1) ≤ 2 ^ i := Nat.pow_le_pow_right (by decide) h
      rw [Nat.testBit_lt_two_pow (show 2 ^ k + r < 2 ^ i by omega), Nat.testBit_lt_two_pow (show r < 2 ^ i by omega)]
      simp [show ¬ k = i by omega]
  have b1 := wb_lt2 (show k + 1 < 64 by omega)
  have b2 := wb_lt2 (show k < 64 by omega)
  apply wb_inj
  rw [Int64.toBitVec_xor, wb_tb, wb_tb, wb_tb]
  apply BitVec.eq_of_toNat_eq
  rw [BitVec.toNat_xor, BitVec.toNat_ofNat, BitVec.toNat_ofNat, BitVec.toNat_ofNat, Nat.mod_eq_of_lt (by omega : 2 ^ k + r < 2 ^ 64), Nat.mod_eq_of_lt b2, hx, Nat.add_sub_cancel_left, Nat.mod_eq_of_lt (by omega)]
/-! ===== lN: masks, 'or' of parts that don't overlap is a sum ===== -/
theorem u_tn {n : Nat} (h : n < 2 ^ 64) : (UInt64.ofNat n).toNat = n := Nat.mod_eq_of_lt h
theorem g_and {a b c : Nat} (ha : a < 2 ^ 64) (hb : b < 2 ^ 64) (hc : a &&& b = c) : lN a &&& lN b = lN c := by
  subst hc
  have h : UInt64.ofNat a &&& UInt64.ofNat b = UInt64.ofNat (a &&& b) := UInt64.toNat_inj.mp (by rw [UInt64.toNat_and, u_tn ha, u_tn hb, u_tn (Nat.and_lt_two_pow a hb)])
  have h2 := congrArg UInt64.toInt64 h
  exact h2
theorem g_and1 {a : Nat} (ha : a < 2 ^ 64) : lN a &&& 1 = lN (a % 2) := g_and (b := 1) ha (by decide) (Nat.and_two_pow_sub_one_eq_mod a 1)
theorem g_mask {a s p : Nat} (hp : 2 ^ s = p) (hs : s < 64) (ha : a < 2 ^ 64) : lN a &&& lN (p - 1) = lN (a % p) := by
  subst hp
  have := Nat.pow_lt_pow_right (show 1 < 2 by decide) hs
  exact g_and ha (by omega) (Nat.and_two_pow_sub_one_eq_mod a s)
theorem g_or {k p a b : Nat} (hp : 2 ^ k = p) (ha : a < p) (h : b * p + a < 2 ^ 64) : lN (b * p) ||| lN a = lN (b * p + a) := by
  subst hp
  have h1 : b * 2 ^ k ||| a = b * 2 ^ k + a := by rw [← Nat.shiftLeft_eq, Nat.shiftLeft_add_eq_or_of_lt ha]
  have h3 : UInt64.ofNat (b * 2 ^ k) ||| UInt64.ofNat a = UInt64.ofNat (b * 2 ^ k + a) := UInt64.toNat_inj.mp (by rw [UInt64.toNat_or, u_tn (by omega), u_tn (by omega), u_tn h, h1])
  have h2 := congrArg UInt64.toInt64 h3
  exact h2
theorem g_or' {k p a b : Nat} (hp : 2 ^ k = p) (ha : a < p) (h : a + b * p < 2 ^ 64) : lN a ||| lN (b * p) = lN (a + b * p) := by
  rw [Int64.or_comm, g_or hp ha (by omega), Nat.add_comm]
theorem g_ushr {a k p : Nat} {y : UInt64} (hy : y = UInt64.ofNat k) (hk : k < 64) (hp : 2 ^ k = p) (ha : a < 2 ^ 64) : ((lN a).toUInt64 >>> y).toInt64 = lN (a / p) := by
  subst hy hp
  have h : UInt64.ofNat a >>> UInt64.ofNat k = UInt64.ofNat (a / 2 ^ k) := UInt64.toNat_inj.mp (by rw [UInt64.toNat_shiftRight, u_tn ha, u_tn (by omega), u_tn (Nat.lt_of_le_of_lt (Nat.div_le_self _ _) ha), Nat.mod_eq_of_lt hk, Nat.shiftRight_eq_div_pow])
  have h2 := congrArg UInt64.toInt64 h
  exact h2
theorem g_shl {a k p : Nat} {y : Int64} (hy : y.toBitVec.smod 64 = BitVec.ofNat 64 k) (hk : k < 64) (hp : 2 ^ k = p) (ha : a < 2 ^ 64) : lN a <<< y = lN (a * p) := by
  subst hp
  apply Int64.toBitVec_inj.mp
  rw [Int64.toBitVec_shiftLeft, hy]
  apply BitVec.eq_of_toNat_eq
  have hb : (lN a).toBitVec.toNat = a := Nat.mod_eq_of_lt ha
  have hk' : (BitVec.ofNat 64 k).toNat = k := Nat.mod_eq_of_lt (by omega)
  have h : ((lN a).toBitVec <<< BitVec.ofNat 64 k).toNat = (a * 2 ^ k) % 2 ^ 64 := by simp only [BitVec.shiftLeft_eq', BitVec.toNat_shiftLeft, hb, hk', Nat.shiftLeft_eq]
  exact h
/-! ===== lN to 2^62 under >> and >>> ===== -/
theorem pf_lI {a : Nat} (h : a < 2 ^ 63) : (lN a).toInt = (a : Int) := lg_ofNat_toInt h
theorem pf_shr {a d : Nat} {D : Int64} (hD : (D.toBitVec.smod 64).toNat = d) (h : a < 2 ^ 62) : lN a >>> D = lN (a / 2 ^ d) := by
  have hd : a / 2 ^ d ≤ a := Nat.div_le_self _ _
  apply Int64.toInt_inj.mp
  have e : (lN a >>> D).toInt = (lN a).toInt >>> d := by
    rw [← hD]
    exact BitVec.toInt_sshiftRight ..
  rw [e, Int.shiftRight_eq_div_pow, pf_lI (by omega), pf_lI (by omega)]
  rfl
theorem pf_ushr {a d : Nat} {D : UInt64} (hD : D.toNat % 64 = d) (h : a < 2 ^ 62) : ((lN a).toUInt64 >>> D).toInt64 = lN (a / 2 ^ d) := by
  have hd : a / 2 ^ d ≤ a := Nat.div_le_self _ _
  have e : (lN a).toUInt64 >>> D = UInt64.ofNat (a / 2 ^ d) := UInt64.toNat_inj.mp (by
    rw [UInt64.toNat_shiftRight, hD, Nat.shiftRight_eq_div_pow, UInt64.toNat_ofNat']
    show (UInt64.ofNat a).toNat / 2 ^ d = _
    rw [UInt64.toNat_ofNat', Nat.mod_eq_of_lt (by omega), Nat.mod_eq_of_lt (by omega)])
  rw [e]
  rfl
theorem pf_andw (x : Int64) : ∃ m, m < 2 ^ 32 ∧ x &&& 4294967295 = lN m := ⟨x.toBitVec.toNat % 2 ^ 32, Nat.mod_lt _ (by decide), Int64.toBitVec_inj.mp (BitVec.eq_of_toNat_eq (by
  show (x.toBitVec &&& 4294967295#64).toNat = (BitVec.ofNat 64 (x.toBitVec.toNat % 2 ^ 32)).toNat
  rw [BitVec.toNat_and, show (4294967295#64).toNat = 2 ^ 32 - 1 from by decide, Nat.and_two_pow_sub_one_eq_mod, BitVec.toNat_ofNat]
  omega))⟩
/-! ===== Int64 as an unsigned number: uN x ===== -/
def uN (x : Int64) : Nat := x.toUInt64.toNat
theorem uN_lt (x : Int64) : uN x < 18446744073709551616 := x.toUInt64.toNat_lt
theorem uN_inj {x y : Int64} (h : uN x = uN y) : x = y := congrArg UInt64.toInt64 (UInt64.toNat_inj.mp h)
theorem uN_add (x y : Int64) : uN (x + y) = (uN x + uN y) % 18446744073709551616 := by
  show (x.toUInt64 + y.toUInt64).toNat = _
  exact UInt64.toNat_add _ _
theorem uN_mul (x y : Int64) : uN (x * y) = (uN x * uN y) % 18446744073709551616 := by
  show (x.toUInt64 * y.toUInt64).toNat = _
  exact UInt64.toNat_mul _ _
theorem uN_shl (x : Int64) : uN (x <<< ((1 : Int32).toInt64 &&& 63)) = (2 * uN x) % 18446744073709551616 := by
  have h : (((1 : Int32).toInt64 &&& 63).toBitVec.smod 64).toNat = 1 := by decide
  show (x.toBitVec <<< (((1 : Int32).toInt64 &&& 63).toBitVec.smod 64).toNat).toNat = _
  rw [h, BitVec.toNat_shiftLeft, Nat.shiftLeft_eq, Nat.mul_comm]
  rfl
theorem uN_shr (x : Int64) (s : UInt64) : uN (x.toUInt64 >>> s).toInt64 = uN x / 2 ^ (s.toNat % 64) := by
  show (x.toUInt64 >>> s).toNat = _
  rw [UInt64.toNat_shiftRight, Nat.shiftRight_eq_div_pow]
  rfl
theorem uN_s32 (x : Int64) : uN (x.toUInt64 >>> ((32 : Int32).toInt64.toUInt64 &&& Int64.toUInt64 63)).toInt64 = uN x / 4294967296 := by
  have h : ((32 : Int32).toInt64.toUInt64 &&& Int64.toUInt64 63).toNat % 64 = 32 := by decide
  rw [uN_shr, h]
theorem uN_s63 (x : Int64) : uN (x.toUInt64 >>> ((63 : Int32).toInt64.toUInt64 &&& Int64.toUInt64 63)).toInt64 = uN x / 9223372036854775808 := by
  have h : ((63 : Int32).toInt64.toUInt64 &&& Int64.toUInt64 63).toNat % 64 = 63 := by decide
  rw [uN_shr, h]
theorem uN_lo (x : Int64) : uN (x &&& 4294967295) = uN x % 4294967296 := by
  show (x.toUInt64 &&& Int64.toUInt64 4294967295).toNat = _
  rw [UInt64.toNat_and]
  exact Nat.and_two_pow_sub_one_eq_mod _ 32
theorem uN_bit (x : Int64) : (x &&& 1) = 0 ↔ uN x % 2 = 0 := by
  have h : uN (x &&& 1) = uN x % 2 := by
    show (x.toUInt64 &&& Int64.toUInt64 1).toNat = _
    rw [UInt64.toNat_and]
    exact Nat.and_two_pow_sub_one_eq_mod _ 1
  rw [← h]
  exact ⟨fun z => by rw [z]; rfl, fun z => uN_inj (z.trans rfl)⟩
theorem uN_or {x y : Int64} (hy : uN y < 2) : uN ((x <<< ((1 : Int32).toInt64 &&& 63)) ||| y) = (2 * uN x) % 18446744073709551616 + uN y := by
  have h1 : uN ((x <<< ((1 : Int32).toInt64 &&& 63)) ||| y) = uN (x <<< ((1 : Int32).toInt64 &&& 63)) ||| uN y := UInt64.toNat_or _ _
  have h2 : (2 * uN x) % 18446744073709551616 = 2 ^ 1 * (uN x % 9223372036854775808) := by omega
  rw [h1, uN_shl, h2]
  exact (Nat.two_pow_add_eq_or_of_lt (i := 1) hy _).symm
theorem nat_xor {a : Nat} (h : a < 18446744073709551616) : a ^^^ 2 ^ 63 = (a + 9223372036854775808) % 18446744073709551616 := by
  have h1 : (a ^^^ 2 ^ 63) % 2 ^ 63 = a % 2 ^ 63 := by rw [Nat.xor_mod_two_pow, Nat.mod_self, Nat.xor_zero]
  have h2 : (a ^^^ 2 ^ 63) / 2 ^ 63 = (a / 2 ^ 63) ^^^ 1 := by rw [Nat.xor_div_two_pow, Nat.div_self (Nat.two_pow_pos 63)]
  have h3 : a / 2 ^ 63 = 0 ∨ a / 2 ^ 63 = 1 := by omega
  generalize a ^^^ 2 ^ 63 = t at h1 h2
  rcases h3 with h3 | h3
  · rw [h3] at h2
    have h2 : t / 2 ^ 63 = 1 := h2
    omega
  · rw [h3] at h2
    have h2 : t / 2 ^ 63 = 0 := h2
    omega
theorem uN_xor (x : Int64) : uN (x ^^^ (-9223372036854775808)) = (uN x + 9223372036854775808) % 18446744073709551616 := by
  rw [← nat_xor (uN_lt x)]
  exact UInt64.toNat_xor _ _
theorem uN_int (x : Int64) : x.toInt = if 2 * uN x < 18446744073709551616 then (uN x : Int) else (uN x : Int) - 18446744073709551616 := BitVec.toInt_eq_toNat_cond _
theorem uN_le (x y : Int64) : (x ^^^ (-9223372036854775808)) ≤ (y ^^^ (-9223372036854775808)) ↔ uN x ≤ uN y := by
  have hx := uN_lt x
  have hy := uN_lt y
  rw [Int64.le_iff_toInt_le, uN_int, uN_int, uN_xor, uN_xor]
  omega
theorem uN_sk (x : Int64) {k : Nat} (hk : k < 64) : uN (x.toUInt64 >>> ((nI k).toInt64.toUInt64 &&& Int64.toUInt64 63)).toInt64 = uN x / 2 ^ k := by
  have h : ((nI k).toInt64.toUInt64 &&& Int64.toUInt64 63).toNat % 64 = k := by
    rw [nI_l (by omega), UInt64.toNat_and]
    have e : (lN k).toUInt64.toNat = k % 2 ^ 64 := rfl
    have e2 : (Int64.toUInt64 63).toNat = 2 ^ 6 - 1 := by decide
    rw [e, e2, Nat.and_two_pow_sub_one_eq_mod]
    omega
  rw [uN_shr, h]
/-! ===== unsigned comparison by xor with the least ===== -/
theorem lN_bv (n : Nat) : (lN n).toBitVec = BitVec.ofNat 64 n := rfl
theorem lN_nat {n : Nat} (h : n < 2 ^ 64) : (lN n).toBitVec.toNat = n := by rw [lN_bv, BitVec.toNat_ofNat]; exact Nat.mod_eq_of_lt h
theorem lN_xor (a b : Nat) : lN a ^^^ lN b = lN (a ^^^ b) := by
  apply Int64.toBitVec_inj.mp; rw [Int64.toBitVec_xor, lN_bv, lN_bv, lN_bv]; apply BitVec.eq_of_getLsbD_eq; intro i hi; simp [BitVec.getLsbD_ofNat, Nat.testBit_xor, hi]
theorem lN_ti {m : Nat} (h : m < 2 ^ 64) : (lN m).toInt = if m < 2 ^ 63 then (m : Int) else (m : Int) - 2 ^ 64 := by
  have c := BitVec.toInt_eq_toNat_cond (lN m).toBitVec
  rw [lN_nat h] at c
  show (lN m).toBitVec.toInt = _
  rw [c]
  split <;> split <;> omega
theorem xor63 {x : Nat} (h : x < 2 ^ 63) : x ^^^ 2 ^ 63 = 2 ^ 63 + x := by
  apply Nat.eq_of_testBit_eq
  intro i
  rw [Nat.testBit_xor, Nat.testBit_two_pow]
  rcases Nat.lt_trichotomy i 63 with z | z | z
  · rw [Nat.testBit_two_pow_add_gt z, decide_eq_false (by omega)]; simp
  · subst z; rw [Nat.testBit_two_pow_add_eq]; simp
  · have hp : 2 ^ 64 ≤ 2 ^ i := Nat.pow_le_pow_right (by decide) z
    rw [Nat.testBit_lt_two_pow (show x < 2 ^ i by omega), Nat.testBit_lt_two_pow (show 2 ^ 63 + x < 2 ^ i by omega), decide_eq_false (by omega)]; rfl
theorem xorS {a : Nat} (h : a < 2 ^ 64) : (lN a ^^^ (-9223372036854775808)).toInt = (a : Int) - 2 ^ 63 := by
  rw [show (-9223372036854775808 : Int64) = lN (2 ^ 63) from by decide +kernel, lN_xor]
  rcases Nat.lt_or_ge a (2 ^ 63) with z | z
  · rw [xor63 z, lN_ti (by omega), if_neg (by omega)]; omega
  · obtain ⟨x, rfl⟩ : ∃ x, a = 2 ^ 63 + x := ⟨a - 2 ^ 63, by omega⟩
    rw [← xor63 (by omega), Nat.xor_assoc, Nat.xor_self, Nat.xor_zero, lN_ti (by omega), if_pos (by omega), xor63 (by omega)]; omega
theorem ultL {a b : Nat} (ha : a < 2 ^ 64) (hb : b < 2 ^ 64) : ((lN b ^^^ (-9223372036854775808)) ≤ (lN a ^^^ (-9223372036854775808))) ↔ b ≤ a := by
  rw [Int64.le_iff_toInt_le, xorS ha, xorS hb]; omega
/-! ===== Int64 masks of n low bits ===== -/
theorem cr_bits (W U M : BitVec 64) : ((W &&& U) &&& (U &&& (M ^^^ BitVec.allOnes 64))) = 0#64 ↔ (W &&& U) &&& M = W &&& U := by
  constructor
  · intro h
    apply BitVec.eq_of_getLsbD_eq
    intro i hi
    have e := congrArg (fun x => BitVec.getLsbD x i) h
    simp only [BitVec.getLsbD_and, BitVec.getLsbD_xor, BitVec.getLsbD_allOnes, BitVec.getLsbD_zero, hi, decide_true] at e ⊢
    revert e
    cases W.getLsbD i <;> cases U.getLsbD i <;> cases M.getLsbD i <;> decide
  · intro h
    apply BitVec.eq_of_getLsbD_eq
    intro i hi
    have e := congrArg (fun x => BitVec.getLsbD x i) h
    simp only [BitVec.getLsbD_and, BitVec.getLsbD_xor, BitVec.getLsbD_allOnes, BitVec.getLsbD_zero, hi, decide_true] at e ⊢
    revert e
    cases W.getLsbD i <;> cases U.getLsbD i <;> cases M.getLsbD i <;> decide
theorem cr_mask (w U m : Int64) (n : Nat) (hm : m.toBitVec.toNat = 2 ^ n - 1) : ((w &&& U) &&& (U &&& (m ^^^ (-1)))) = 0 ↔ (w &&& U).toBitVec.toNat < 2 ^ n := by
  have e0 : (-1 : Int64).toBitVec = BitVec.allOnes 64 := by decide
  have z0 : (0 : Int64).toBitVec = 0#64 := by decide
  rw [← Int64.toBitVec_inj, z0, Int64.toBitVec_and, Int64.toBitVec_and, Int64.toBitVec_and, Int64.toBitVec_xor, e0, cr_bits]
  generalize w.toBitVec &&& U.toBitVec = T
  rw [← BitVec.toNat_inj, BitVec.toNat_and, hm, Nat.and_two_pow_sub_one_eq_mod]
  constructor
  · intro h
    have t := Nat.mod_lt T.toNat (Nat.two_pow_pos n)
    rw [h] at t
    exact t
  · exact Nat.mod_eq_of_lt
theorem cr_shr (t : Int64) (x : UInt64) (n : Nat) (hx : x.toNat % 64 = n) : (t.toUInt64 >>> x).toInt64 = 0 ↔ t.toBitVec.toNat < 2 ^ n := by
  rw [← Int64.toBitVec_inj, ← BitVec.toNat_inj]
  show (t.toUInt64 >>> x).toNat = 0 ↔ t.toUInt64.toNat < 2 ^ n
  rw [UInt64.toNat_shiftRight, hx, Nat.shiftRight_eq_div_pow]
  constructor
  · intro h
    have d : t.toUInt64.toNat / 2 ^ n < 1 := by
      rw [h]
      decide
    have e := (Nat.div_lt_iff_lt_mul (Nat.two_pow_pos n)).mp d
    rw [Nat.one_mul] at e
    exact e
  · exact Nat.div_eq_of_lt
theorem cr_amt (s : Int64) : ∃ n, n < 64 ∧ s &&& 63 = lN n ∧ (s.toUInt64 &&& Int64.toUInt64 63).toNat % 64 = n := by
  have e : (s.toUInt64 &&& Int64.toUInt64 63).toNat = s.toUInt64.toNat % 2 ^ 6 := by
    rw [UInt64.toNat_and, show (Int64.toUInt64 63).toNat = 2 ^ 6 - 1 from by decide, Nat.and_two_pow_sub_one_eq_mod]
  refine ⟨s.toUInt64.toNat % 2 ^ 6, by omega, ?_, by omega⟩
  rw [← Int64.toBitVec_inj, ← BitVec.toNat_inj]
  show (s.toUInt64 &&& Int64.toUInt64 63).toNat = (BitVec.ofNat 64 (s.toUInt64.toNat % 2 ^ 6)).toNat
  rw [e, BitVec.toNat_ofNat]
  omega
end
section
/-! ===== the states over Fin 5, reads and writes ===== -/
def sd_eI (x : Fin 5) : Int32 := nI x.val
def sd_ea (w : Nat) (M : Nat → Nat → Fin 5) : Nat → Int32 := fun j => sd_eI (M (j / w) (j % w))
def sd_v1 (f : Nat → Fin 5) : Nat → Int32 := fun j => sd_eI (f j)
def sd_nv (g : Nat → Nat) : Nat → Int32 := fun j => nI (g j)
def sd_u (M : Nat → Nat → Fin 5) (a b : Nat) (v : Fin 5) : Nat → Nat → Fin 5 := fun a' b' => if a' = a ∧ b' = b then v else M a' b'
def sd_u1 (f : Nat → Fin 5) (a : Nat) (v : Fin 5) : Nat → Fin 5 := fun a' => if a' = a then v else f a'
def sd_un (f : Nat → Nat) (a v : Nat) : Nat → Nat := fun a' => if a' = a then v else f a'
theorem sd_ea_r {w a b : Nat} (hb : b < w) (M : Nat → Nat → Fin 5) : sd_ea w M (w * a + b) = sd_eI (M a b) := by
  unfold sd_ea
  rw [Nat.mul_add_div (by omega), Nat.mul_add_mod, Nat.div_eq_of_lt hb, Nat.mod_eq_of_lt hb, Nat.add_zero]
theorem sd_ea_w {w a b : Nat} (hb : b < w) (M : Nat → Nat → Fin 5) (v : Fin 5) : upd (sd_ea w M) (w * a + b) (sd_eI v) = sd_ea w (sd_u M a b v) := by
  funext j
  show (if j = w * a + b then sd_eI v else sd_eI (M (j / w) (j % w))) = sd_eI (if j / w = a ∧ j % w = b then v else M (j / w) (j % w))
  by_cases h : j = w * a + b
  · have e1 : j / w = a := by rw [h, Nat.mul_add_div (by omega), Nat.div_eq_of_lt hb, Nat.add_zero]
    have e2 : j % w = b := by rw [h, Nat.mul_add_mod, Nat.mod_eq_of_lt hb]
    rw [if_pos h, if_pos ⟨e1, e2⟩]
  · rw [if_neg h, if_neg]
    rintro ⟨e1, e2⟩
    apply h
    rw [← e1, ← e2, Nat.div_add_mod]
theorem sd_v1_w (f : Nat → Fin 5) (a : Nat) (v : Fin 5) : upd (sd_v1 f) a (sd_eI v) = sd_v1 (sd_u1 f a v) := by
  funext j
  show (if j = a then sd_eI v else sd_eI (f j)) = sd_eI (if j = a then v else f j)
  split <;> rfl
theorem sd_nv_w (f : Nat → Nat) (a v : Nat) : upd (sd_nv f) a (nI v) = sd_nv (sd_un f a v) := by
  funext j
  show (if j = a then nI v else nI (f j)) = nI (if j = a then v else f j)
  split <;> rfl
theorem sd_u_s {M : Nat → Nat → Fin 5} {a b : Nat} {v : Fin 5} : sd_u M a b v a b = v := if_pos ⟨rfl, rfl⟩
theorem sd_u_n {M : Nat → Nat → Fin 5} {a b a' b' : Nat} {v : Fin 5} (h : ¬ (a' = a ∧ b' = b)) : sd_u M a b v a' b' = M a' b' := if_neg h
theorem sd_50 : ¬ (5 : Int32) = 0 := by decide
theorem sd_eI0 : sd_eI 0 = 0 := by decide
theorem sd_eI_0 : ∀ x : Fin 5, sd_eI x = 0 ↔ x = 0 := by decide
theorem sd_eI_i : ∀ x y : Fin 5, sd_eI x = sd_eI y ↔ x = y := by decide
theorem sd_eI_l (x : Fin 5) : sd_eI x = nI x.val := rfl
theorem sd_nb : ∀ x : Fin 5, vp_nar .byte (sd_eI x) = sd_eI x := by
  intro x; rw [vp_nar_byte]; revert x; decide
theorem sd_nb' : ∀ x : Fin 5, vp_nar .byte (sd_eI x).toInt8.toInt32 = sd_eI x := by
  intro x; rw [vp_nar_byte]; revert x; decide
theorem sd_nb0 : vp_nar .byte 0 = sd_eI 0 := by rw [vp_nar_byte]; decide
theorem sd_nb1 : vp_nar .byte 1 = sd_eI 1 := by rw [vp_nar_byte]; decide
/-- values -/
theorem sd_w1 : ∀ a b : Fin 5, (sd_eI a * sd_eI b) - (sd_eI a * sd_eI b) / 5 * 5 = sd_eI (a * b) := by decide +kernel
theorem sd_w2 : ∀ a f b : Fin 5, (sd_eI a + ((5 - sd_eI f) * sd_eI b)) - (sd_eI a + ((5 - sd_eI f) * sd_eI b)) / 5 * 5 = sd_eI (a - f * b) := by decide +kernel
theorem sd_w3 : ∀ a f b : Fin 5, (sd_eI a + (sd_eI f * sd_eI b)) - (sd_eI a + (sd_eI f * sd_eI b)) / 5 * 5 = sd_eI (a + f * b) := by decide +kernel
theorem sd_w4 : ∀ p : Fin 5, (((sd_eI p * sd_eI p) - (sd_eI p * sd_eI p) / 5 * 5) * sd_eI p) - (((sd_eI p * sd_eI p) - (sd_eI p * sd_eI p) / 5 * 5) * sd_eI p) / 5 * 5 = sd_eI (sd_i p) := by decide +kernel
theorem sd_w5 : ∀ a w : Fin 5, ((sd_eI a + 5) - sd_eI w) - ((sd_eI a + 5) - sd_eI w) / 5 * 5 = sd_eI (a - w) := by decide +kernel
theorem sd_w6 : ∀ a b : Fin 5, (sd_eI a + sd_eI b) - (sd_eI a + sd_eI b) / 5 * 5 = sd_eI (a + b) := by decide +kernel
theorem sd_w7 : ∀ p : Fin 5, ((sd_eI p * sd_eI p) * sd_eI p) - ((sd_eI p * sd_eI p) * sd_eI p) / 5 * 5 = sd_eI (sd_i p) := by decide +kernel
theorem sd_m5 {p : Nat} (h : p < 2 ^ 31) : nI p - nI p / 5 * 5 = sd_eI (Fin.ofNat 5 p) := pk_rem (d := 5) h (by omega) (by omega)
theorem sd_clN {N : Nat} (h : N < 2 ^ 31) : (nI N).toNatClampNeg = N := nI_clamp h
/-- the index of an entry -/
theorem sd_ixE (m i k : Nat) : ((16 * nI m) + (4 * nI i)) + nI k = nI (16 * m + (4 * i + k)) := by
  have e1 : (16 : Int32) * nI m = nI (16 * m) := pk_mul 16 m
  have e2 : (4 : Int32) * nI i = nI (4 * i) := pk_mul 4 i
  rw [e1, e2, nI_add, nI_add, Nat.add_assoc]
theorem sd_ix16 (m k : Nat) : (16 * nI m) + nI k = nI (16 * m + k) := by
  have e1 : (16 : Int32) * nI m = nI (16 * m) := pk_mul 16 m
  rw [e1, nI_add]
theorem sd_ix10 (m k : Nat) : (10 * nI m) + nI k = nI (10 * m + k) := by
  have e1 : (10 : Int32) * nI m = nI (10 * m) := pk_mul 10 m
  rw [e1, nI_add]
section
variable {n fc ic : Nat} {G Q : Nat → Nat → Fin 5} {fN fD bl iv kv : Nat → Nat}
theorem xd_entry {post : Int32 → Prop} {m i k : Nat} (hm : m ≤ 8) (hi : i < 4) (hk : k < 4) (K : post (sd_eI (G m (4 * i + k)))) : wpX_entry post (nI n, nI fc, nI ic, sd_ea 16 G, sd_ea 10 Q, sd_nv fN, sd_nv fD, sd_nv bl, sd_nv iv, sd_nv kv) (nI m) (nI i) (nI k) := by
  show vp_in (((16 * nI m) + (4 * nI i)) + nI k) 144 ∧ (post (sd_ea 16 G (((16 * nI m) + (4 * nI i)) + nI k).toNatClampNeg))
  rw [sd_ixE, sd_clN (by omega), sd_ea_r (by omega)]
  exact ⟨vp_in_nI (by omega) (by omega), K⟩
theorem xd_setEntry {post : SX → Prop} {m i k : Nat} {v : Fin 5} {p : Int32} (hm : m ≤ 8) (hi : i < 4) (hk : k < 4) (hv : p = sd_eI v) (K : post (nI n, nI fc, nI ic, sd_ea 16 (sd_u G m (4 * i + k) v), sd_ea 10 Q, sd_nv fN, sd_nv fD, sd_nv bl, sd_nv iv, sd_nv kv)) : wpX_setEntry post (nI n, nI fc, nI ic, sd_ea 16 G, sd_ea 10 Q, sd_nv fN, sd_nv fD, sd_nv bl, sd_nv iv, sd_nv kv) (nI m) (nI i) (nI k) p := by
  show vp_in (((16 * nI m) + (4 * nI i)) + nI k) 144 ∧ ∀ a, a = upd (sd_ea 16 G) (((16 * nI m) + (4 * nI i)) + nI k).toNatClampNeg (vp_nar .byte p.toInt8.toInt32) → post (nI n, nI fc, nI ic, a, sd_ea 10 Q, sd_nv fN, sd_nv fD, sd_nv bl, sd_nv iv, sd_nv kv)
  rw [sd_ixE, sd_clN (by omega), hv, sd_nb', sd_ea_w (by omega)]
  refine ⟨vp_in_nI (by omega) (by omega), ?_⟩
  rintro a rfl
  exact K
theorem xd_isRegister {post : Int32 → Prop} {p : Int32} (K0 : (p < 0 ∨ 3 < p) → post 0) (K1 : ∀ r, r < 4 → p = nI r → post 1) : wpX_isRegister post (nI n, nI fc, nI ic, sd_ea 16 G, sd_ea 10 Q, sd_nv fN, sd_nv fD, sd_nv bl, sd_nv iv, sd_nv kv) p := by
  refine br_c (fun h => K0 (Or.inl h)) (fun h => br_c (fun h' => K0 (Or.inr h')) (fun h' => ?_))
  obtain ⟨r, hr, rfl⟩ := nI_of2 (M := 3) (n := 3) (by decide) h (Int32.not_lt.mp h')
  exact K1 r (by omega) rfl
theorem xd_inverseOf {post : Int32 → Prop} {p : Fin 5} (K : post (sd_eI (sd_i p))) : wpX_inverseOf post (nI n, nI fc, nI ic, sd_ea 16 G, sd_ea 10 Q, sd_nv fN, sd_nv fD, sd_nv bl, sd_nv iv, sd_nv kv) (sd_eI p) := by
  show ¬ (5 : Int32) = 0 ∧ (¬ (5 : Int32) = 0 ∧ post _)
  rw [sd_w4]
  exact ⟨sd_50, sd_50, K⟩
/-- copying a place -/
theorem xd_copy_l {post : SX → Prop} {t f : Nat} (ht : t ≤ 8) (hf : f ≤ 8) {G0 : Nat → Nat → Fin 5} (K : ∀ G, (∀ a b, b < 16 → G a b = if a = t then G0 f b else G0 a b) → post (nI n, nI fc, nI ic, sd_ea 16 G, sd_ea 10 Q, sd_nv fN, sd_nv fD, sd_nv bl, sd_nv iv, sd_nv kv)) :
    ∀ (d c : Nat) (G : Nat → Nat → Fin 5), c + d = 16 → (∀ a b, b < 16 → G a b = if a = t ∧ b < c then G0 f b else G0 a b) → wX_copy_2 post (nI t) (nI f) (nI n) (nI fc) (nI ic) (d + 1) (nI c) (sd_ea 16 G) (sd_ea 10 Q) (sd_nv fN) (sd_nv fD) (sd_nv bl) (sd_nv iv) (sd_nv kv) := by
  intro d
  induction d with
  | zero =>
    intro c G hc h
    have e : c = 16 := by omega
    subst e
    refine br_t (by decide) (K G ?_)
    intro a b hb
    rw [h a b hb]
    by_cases z : a = t
    · rw [if_pos ⟨z, hb⟩, if_pos z]
    · rw [if_neg (fun k => z k.1), if_neg z]
  | succ d ih =>
    intro c G hc h
    refine br_f (nI_ge (b := 16) (by omega) (by decide)) ?_
    rw [sd_ix16, sd_ix16, sd_clN (by omega), sd_clN (by omega), sd_ea_r (by omega), sd_nb, sd_ea_w (by omega)]
    refine ⟨vp_in_nI (by omega) (by omega), vp_in_nI (by omega) (by omega), nm_e (nm_r (nI_1 c) (ih (c + 1) _ (by omega) ?_))⟩
    intro a b hb
    by_cases z : a = t ∧ b = c
    · obtain ⟨z1, z2⟩ := z
      subst z1; subst z2
      rw [sd_u_s, if_pos ⟨rfl, by omega⟩, h f b hb]
      by_cases e : f = a ∧ b < b
      · omega
      · rw [if_neg e]
    · rw [sd_u_n z, h a b hb]
      by_cases e : a = t ∧ b < c
      · rw [if_pos e, if_pos ⟨e.1, by omega⟩]
      · rw [if_neg e, if_neg (fun k => z ⟨k.1, by omega⟩)]
theorem xd_copy {post : SX → Prop} {t f : Nat} (ht : t ≤ 8) (hf : f ≤ 8) (K : ∀ G', (∀ a b, b < 16 → G' a b = if a = t then G f b else G a b) → post (nI n, nI fc, nI ic, sd_ea 16 G', sd_ea 10 Q, sd_nv fN, sd_nv fD, sd_nv bl, sd_nv iv, sd_nv kv)) : wpX_copy post (nI n, nI fc, nI ic, sd_ea 16 G, sd_ea 10 Q, sd_nv fN, sd_nv fD, sd_nv bl, sd_nv iv, sd_nv kv) (nI t) (nI f) :=
  Exists.intro 17 (xd_copy_l ht hf K 16 0 G (by omega) (fun a b _ => (if_neg (by omega)).symm))
end
end
section
/-! ===== X: rows, columns, products ===== -/
def sd_cI (F : Nat → Nat → Nat → Fin 5) (G0 G : Nat → Nat → Fin 5) (c : Nat) : Prop := ∀ a r x, r < 4 → x < 4 → G a (4 * r + x) = if x < c then F a r x else G0 a (4 * r + x)
def sd_rI (F : Nat → Nat → Nat → Fin 5) (G0 G : Nat → Nat → Fin 5) (c : Nat) : Prop := ∀ a r x, r < 4 → x < 4 → G a (4 * r + x) = if r < c then F a r x else G0 a (4 * r + x)
theorem sd_cI_0 (F : Nat → Nat → Nat → Fin 5) (G0 : Nat → Nat → Fin 5) : sd_cI F G0 G0 0 := fun _ _ _ _ _ => (if_neg (by omega)).symm
theorem sd_rI_0 (F : Nat → Nat → Nat → Fin 5) (G0 : Nat → Nat → Fin 5) : sd_rI F G0 G0 0 := fun _ _ _ _ _ => (if_neg (by omega)).symm
theorem sd_cI_1 {F : Nat → Nat → Nat → Fin 5} {G0 G : Nat → Nat → Fin 5} {m i c : Nat} {v : Fin 5} (h : sd_cI F G0 G c) (hi : i < 4) (hc : c < 4) (hv : F m i c = v) (ho : ∀ a r, r < 4 → ¬ (a = m ∧ r = i) → F a r c = G0 a (4 * r + c)) : sd_cI F G0 (sd_u G m (4 * i + c) v) (c + 1) := by
  intro a r x hr hx
  by_cases z : a = m ∧ 4 * r + x = 4 * i + c
  · obtain ⟨z1, z2⟩ := z
    have e1 : r = i := by omega
    have e2 : x = c := by omega
    subst z1; subst e1; subst e2
    rw [sd_u_s, if_pos (by omega), hv]
  · rw [sd_u_n z, h a r x hr hx]
    by_cases e : x < c
    · rw [if_pos e, if_pos (by omega)]
    · rw [if_neg e]
      by_cases e2 : x = c
      · subst e2
        rw [if_pos (by omega), ho a r hr (fun k => z ⟨k.1, by omega⟩)]
      · rw [if_neg (by omega)]
theorem sd_cI_2 {F : Nat → Nat → Nat → Fin 5} {G0 G : Nat → Nat → Fin 5} {m i k c : Nat} {v w : Fin 5} (h : sd_cI F G0 G c) (hi : i < 4) (hk : k < 4) (hc : c < 4) (hw : F m k c = w) (hv : ¬ i = k → F m i c = v) (ho : ∀ a r, r < 4 → ¬ (a = m ∧ (r = i ∨ r = k)) → F a r c = G0 a (4 * r + c)) : sd_cI F G0 (sd_u (sd_u G m (4 * i + c) v) m (4 * k + c) w) (c + 1) := by
  intro a r x hr hx
  by_cases z : a = m ∧ 4 * r + x = 4 * k + c
  · obtain ⟨z1, z2⟩ := z
    have e1 : r = k := by omega
    have e2 : x = c := by omega
    subst z1; subst e1; subst e2
    rw [sd_u_s, if_pos (by omega), hw]
  · rw [sd_u_n z]
    by_cases z' : a = m ∧ 4 * r + x = 4 * i + c
    · obtain ⟨z1, z2⟩ := z'
      have e1 : r = i := by omega
      have e2 : x = c := by omega
      subst z1; subst e1; subst e2
      rw [sd_u_s, if_pos (by omega), hv (fun q => z ⟨rfl, by omega⟩)]
    · rw [sd_u_n z', h a r x hr hx]
      by_cases e : x < c
      · rw [if_pos e, if_pos (by omega)]
      · rw [if_neg e]
        by_cases e2 : x = c
        · subst e2
          rw [if_pos (by omega), ho a r hr (fun q => q.2.elim (fun y => z' ⟨q.1, by omega⟩) (fun y => z ⟨q.1, by omega⟩))]
        · rw [if_neg (by omega)]
theorem sd_rI_1 {F : Nat → Nat → Nat → Fin 5} {G0 G : Nat → Nat → Fin 5} {m i c : Nat} {v : Fin 5} (h : sd_rI F G0 G c) (hi : i < 4) (hc : c < 4) (hv : F m c i = v) (ho : ∀ a x, x < 4 → ¬ (a = m ∧ x = i) → F a c x = G0 a (4 * c + x)) : sd_rI F G0 (sd_u G m (4 * c + i) v) (c + 1) := by
  intro a r x hr hx
  by_cases z : a = m ∧ 4 * r + x = 4 * c + i
  · obtain ⟨z1, z2⟩ := z
    have e1 : r = c := by omega
    have e2 : x = i := by omega
    subst z1; subst e1; subst e2
    rw [sd_u_s, if_pos (by omega), hv]
  · rw [sd_u_n z, h a r x hr hx]
    by_cases e : r < c
    · rw [if_pos e, if_pos (by omega)]
    · rw [if_neg e]
      by_cases e2 : r = c
      · subst e2
        rw [if_pos (by omega), ho a x hx (fun k => z ⟨k.1, by omega⟩)]
      · rw [if_neg (by omega)]
theorem sd_rI_2 {F : Nat → Nat → Nat → Fin 5} {G0 G : Nat → Nat → Fin 5} {m i k c : Nat} {v w : Fin 5} (h : sd_rI F G0 G c) (hi : i < 4) (hk : k < 4) (hc : c < 4) (hw : F m c k = w) (hv : ¬ i = k → F m c i = v) (ho : ∀ a x, x < 4 → ¬ (a = m ∧ (x = i ∨ x = k)) → F a c x = G0 a (4 * c + x)) : sd_rI F G0 (sd_u (sd_u G m (4 * c + i) v) m (4 * c + k) w) (c + 1) := by
  intro a r x hr hx
  by_cases z : a = m ∧ 4 * r + x = 4 * c + k
  · obtain ⟨z1, z2⟩ := z
    have e1 : r = c := by omega
    have e2 : x = k := by omega
    subst z1; subst e1; subst e2
    rw [sd_u_s, if_pos (by omega), hw]
  · rw [sd_u_n z]
    by_cases z' : a = m ∧ 4 * r + x = 4 * c + i
    · obtain ⟨z1, z2⟩ := z'
      have e1 : r = c := by omega
      have e2 : x = i := by omega
      subst z1; subst e1; subst e2
      rw [sd_u_s, if_pos (by omega), hv (fun q => z ⟨rfl, by omega⟩)]
    · rw [sd_u_n z', h a r x hr hx]
      by_cases e : r < c
      · rw [if_pos e, if_pos (by omega)]
      · rw [if_neg e]
        by_cases e2 : r = c
        · subst e2
          rw [if_pos (by omega), ho a x hx (fun q => q.2.elim (fun y => z' ⟨q.1, by omega⟩) (fun y => z ⟨q.1, by omega⟩))]
        · rw [if_neg (by omega)]
theorem sd_cI_g {F : Nat → Nat → Nat → Fin 5} {G0 G : Nat → Nat → Fin 5} {c a r x : Nat} (h : sd_cI F G0 G c) (hr : r < 4) (hx : x < 4) (hc : c ≤ x) : G a (4 * r + x) = G0 a (4 * r + x) := (h a r x hr hx).trans (if_neg (by omega))
theorem sd_rI_g {F : Nat → Nat → Nat → Fin 5} {G0 G : Nat → Nat → Fin 5} {c a r x : Nat} (h : sd_rI F G0 G c) (hr : r < 4) (hx : x < 4) (hc : c ≤ r) : G a (4 * r + x) = G0 a (4 * r + x) := (h a r x hr hx).trans (if_neg (by omega))
theorem sd_cI_f {F : Nat → Nat → Nat → Fin 5} {G H : Nat → Nat → Fin 5} {n a : Nat} (h : sd_cI F G H n) (hF : ∀ r x, F a r x = G a (4 * r + x)) (x : Nat) (hx : x < 16) : H a x = G a x := by
  have ex : x = 4 * (x / 4) + x % 4 := by omega
  rw [ex, h a (x / 4) (x % 4) (by omega) (by omega), hF]
  split <;> rfl
theorem sd_rI_f {F : Nat → Nat → Nat → Fin 5} {G H : Nat → Nat → Fin 5} {n a : Nat} (h : sd_rI F G H n) (hF : ∀ r x, F a r x = G a (4 * r + x)) (x : Nat) (hx : x < 16) : H a x = G a x := by
  have ex : x = 4 * (x / 4) + x % 4 := by omega
  rw [ex, h a (x / 4) (x % 4) (by omega) (by omega), hF]
  split <;> rfl
theorem sd_ifm {m r i : Nat} {x y : Fin 5} : (if m = m ∧ r = i then x else y) = if r = i then x else y := by
  by_cases e : r = i
  · rw [if_pos ⟨rfl, e⟩, if_pos e]
  · rw [if_neg (fun q => e q.2), if_neg e]
theorem sd_ifn {a m r i : Nat} {x y : Fin 5} (h : a ≠ m) : (if a = m ∧ r = i then x else y) = y := if_neg (fun q => h q.1)
section
variable {n fc ic : Nat} {G Q : Nat → Nat → Fin 5} {fN fD bl iv kv : Nat → Nat}
/-- a row is scaled -/
theorem xd_scaleRow {post : SX → Prop} {m i : Nat} {b : Fin 5} (hm : m ≤ 8) (hi : i < 4) (hn : n ≤ 4) (K : ∀ G', (∀ r x, r < 4 → x < n → G' m (4 * r + x) = if r = i then G m (4 * i + x) * b else G m (4 * r + x)) → (∀ a x, a ≠ m → x < 16 → G' a x = G a x) → post (nI n, nI fc, nI ic, sd_ea 16 G', sd_ea 10 Q, sd_nv fN, sd_nv fD, sd_nv bl, sd_nv iv, sd_nv kv)) : wpX_scaleRow post (nI n, nI fc, nI ic, sd_ea 16 G, sd_ea 10 Q, sd_nv fN, sd_nv fD, sd_nv bl, sd_nv iv, sd_nv kv) (nI m) (nI i) (sd_eI b) := by
  refine Exists.intro (n + 1) ?_
  have lp : ∀ (d c : Nat) (H : Nat → Nat → Fin 5), c + d = n → sd_cI (fun a r x => if a = m ∧ r = i then G m (4 * i + x) * b else G a (4 * r + x)) G H c → wX_scaleRow_3 post (nI m) (nI i) (sd_eI b) (d + 1) (nI c) (nI n) (nI fc) (nI ic) (sd_ea 16 H) (sd_ea 10 Q) (sd_nv fN) (sd_nv fD) (sd_nv bl) (sd_nv iv) (sd_nv kv) := by
    intro d
    induction d with
    | zero =>
      intro c H hc h
      have e : c = n := by omega
      subst e
      refine br_t (nI_le (by omega) (by omega)) (K H (fun r x hr hx => ((h m r x hr (by omega)).trans (if_pos hx)).trans ?_) (fun a x ha hx => sd_cI_f h (fun r y => ?_) x hx))
      · exact sd_ifm
      · exact sd_ifn ha
    | succ d ih =>
      intro c H hc h
      refine br_f (nI_ge (by omega) (by omega)) (xd_entry hm hi (by omega) (nm_e ⟨sd_50, xd_setEntry hm hi (by omega) (sd_w1 _ _) (nm_r (nI_1 c) (ih (c + 1) _ (by omega) (sd_cI_1 h hi (by omega) ?_ ?_)))⟩))
      · rw [if_pos ⟨rfl, rfl⟩, sd_cI_g h hi (by omega) (Nat.le_refl c)]
      · intro a r _ z; exact if_neg z
  exact lp n 0 G (by omega) (sd_cI_0 _ _)
/-- a multiple of a row is taken from another -/
theorem xd_subtractRow {post : SX → Prop} {m i k : Nat} {f : Fin 5} (hm : m ≤ 8) (hi : i < 4) (hk : k < 4) (hik : i ≠ k) (hn : n ≤ 4) (K : ∀ G', (∀ r x, r < 4 → x < n → G' m (4 * r + x) = if r = i then G m (4 * i + x) - f * G m (4 * k + x) else G m (4 * r + x)) → (∀ a x, a ≠ m → x < 16 → G' a x = G a x) → post (nI n, nI fc, nI ic, sd_ea 16 G', sd_ea 10 Q, sd_nv fN, sd_nv fD, sd_nv bl, sd_nv iv, sd_nv kv)) : wpX_subtractRow post (nI n, nI fc, nI ic, sd_ea 16 G, sd_ea 10 Q, sd_nv fN, sd_nv fD, sd_nv bl, sd_nv iv, sd_nv kv) (nI m) (nI i) (nI k) (sd_eI f) := by
  refine Exists.intro (n + 1) ?_
  have lp : ∀ (d c : Nat) (H : Nat → Nat → Fin 5), c + d = n → sd_cI (fun a r x => if a = m ∧ r = i then G m (4 * i + x) - f * G m (4 * k + x) else G a (4 * r + x)) G H c → wX_subtractRow_3 post (nI m) (nI i) (nI k) (sd_eI f) (d + 1) (nI c) (nI n) (nI fc) (nI ic) (sd_ea 16 H) (sd_ea 10 Q) (sd_nv fN) (sd_nv fD) (sd_nv bl) (sd_nv iv) (sd_nv kv) := by
    intro d
    induction d with
    | zero =>
      intro c H hc h
      have e : c = n := by omega
      subst e
      refine br_t (nI_le (by omega) (by omega)) (K H (fun r x hr hx => ((h m r x hr (by omega)).trans (if_pos hx)).trans ?_) (fun a x ha hx => sd_cI_f h (fun r y => ?_) x hx))
      · exact sd_ifm
      · exact sd_ifn ha
    | succ d ih =>
      intro c H hc h
      refine br_f (nI_ge (by omega) (by omega)) (xd_entry hm hi (by omega) (xd_entry hm hk (by omega) (nm_e ⟨sd_50, xd_setEntry hm hi (by omega) (sd_w2 _ _ _) (nm_r (nI_1 c) (ih (c + 1) _ (by omega) (sd_cI_1 h hi (by omega) ?_ ?_)))⟩)))
      · rw [if_pos ⟨rfl, rfl⟩, sd_cI_g h hi (by omega) (Nat.le_refl c), sd_cI_g h hk (by omega) (Nat.le_refl c)]
      · intro a r _ z; exact if_neg z
  exact lp n 0 G (by omega) (sd_cI_0 _ _)
/-- two rows are exchanged -/
theorem xd_exchangeRows {post : SX → Prop} {m i k : Nat} (hm : m ≤ 8) (hi : i < 4) (hk : k < 4) (hn : n ≤ 4) (K : ∀ G', (∀ r x, r < 4 → x < n → G' m (4 * r + x) = if r = i then G m (4 * k + x) else if r = k then G m (4 * i + x) else G m (4 * r + x)) → (∀ a x, a ≠ m → x < 16 → G' a x = G a x) → post (nI n, nI fc, nI ic, sd_ea 16 G', sd_ea 10 Q, sd_nv fN, sd_nv fD, sd_nv bl, sd_nv iv, sd_nv kv)) : wpX_exchangeRows post (nI n, nI fc, nI ic, sd_ea 16 G, sd_ea 10 Q, sd_nv fN, sd_nv fD, sd_nv bl, sd_nv iv, sd_nv kv) (nI m) (nI i) (nI k) := by
  refine Exists.intro (n + 1) ?_
  have lp : ∀ (d c : Nat) (H : Nat → Nat → Fin 5), c + d = n → sd_cI (fun a r x => if a = m ∧ r = i then G m (4 * k + x) else if a = m ∧ r = k then G m (4 * i + x) else G a (4 * r + x)) G H c → wX_exchangeRows_3 post (nI m) (nI i) (nI k) (d + 1) (nI c) (nI n) (nI fc) (nI ic) (sd_ea 16 H) (sd_ea 10 Q) (sd_nv fN) (sd_nv fD) (sd_nv bl) (sd_nv iv) (sd_nv kv) := by
    intro d
    induction d with
    | zero =>
      intro c H hc h
      have e : c = n := by omega
      subst e
      refine br_t (nI_le (by omega) (by omega)) (K H (fun r x hr hx => ((h m r x hr (by omega)).trans (if_pos hx)).trans ?_) (fun a x ha hx => sd_cI_f h (fun r y => ?_) x hx))
      · exact sd_ifm.trans (congrArg _ sd_ifm)
      · exact (sd_ifn ha).trans (sd_ifn ha)
    | succ d ih =>
      intro c H hc h
      refine br_f (nI_ge (by omega) (by omega)) (xd_entry hm hi (by omega) (xd_entry hm hk (by omega) (xd_setEntry hm hi (by omega) rfl (xd_setEntry hm hk (by omega) rfl (nm_r (nI_1 c) (ih (c + 1) _ (by omega) (sd_cI_2 h hi hk (by omega) ?_ ?_ ?_)))))))
      · rw [sd_cI_g h hi (by omega) (Nat.le_refl c)]
        by_cases e : k = i
        · rw [if_pos ⟨rfl, e⟩, e]
        · rw [if_neg (fun z => e z.2), if_pos ⟨rfl, rfl⟩]
      · intro _
        rw [sd_cI_g h hk (by omega) (Nat.le_refl c), if_pos ⟨rfl, rfl⟩]
      · intro a r _ z
        rw [if_neg (fun q => z ⟨q.1, Or.inl q.2⟩), if_neg (fun q => z ⟨q.1, Or.inr q.2⟩)]
  exact lp n 0 G (by omega) (sd_cI_0 _ _)
theorem xd_exchangeColumns {post : SX → Prop} {m i k : Nat} (hm : m ≤ 8) (hi : i < 4) (hk : k < 4) (hn : n ≤ 4) (K : ∀ G', (∀ r x, r < n → x < 4 → G' m (4 * r + x) = if x = i then G m (4 * r + k) else if x = k then G m (4 * r + i) else G m (4 * r + x)) → (∀ a x, a ≠ m → x < 16 → G' a x = G a x) → post (nI n, nI fc, nI ic, sd_ea 16 G', sd_ea 10 Q, sd_nv fN, sd_nv fD, sd_nv bl, sd_nv iv, sd_nv kv)) : wpX_exchangeColumns post (nI n, nI fc, nI ic, sd_ea 16 G, sd_ea 10 Q, sd_nv fN, sd_nv fD, sd_nv bl, sd_nv iv, sd_nv kv) (nI m) (nI i) (nI k) := by
  refine Exists.intro (n + 1) ?_
  have lp : ∀ (d c : Nat) (H : Nat → Nat → Fin 5), c + d = n → sd_rI (fun a r x => if a = m ∧ x = i then G m (4 * r + k) else if a = m ∧ x = k then G m (4 * r + i) else G a (4 * r + x)) G H c → wX_exchangeColumns_3 post (nI m) (nI i) (nI k) (d + 1) (nI c) (nI n) (nI fc) (nI ic) (sd_ea 16 H) (sd_ea 10 Q) (sd_nv fN) (sd_nv fD) (sd_nv bl) (sd_nv iv) (sd_nv kv) := by
    intro d
    induction d with
    | zero =>
      intro c H hc h
      have e : c = n := by omega
      subst e
      refine br_t (nI_le (by omega) (by omega)) (K H (fun r x hr hx => ((h m r x (by omega) hx).trans (if_pos hr)).trans ?_) (fun a x ha hx => sd_rI_f h (fun r y => ?_) x hx))
      · exact sd_ifm.trans (congrArg _ sd_ifm)
      · exact (sd_ifn ha).trans (sd_ifn ha)
    | succ d ih =>
      intro c H hc h
      refine br_f (nI_ge (by omega) (by omega)) (xd_entry hm (by omega) hi (xd_entry hm (by omega) hk (xd_setEntry hm (by omega) hi rfl (xd_setEntry hm (by omega) hk rfl (nm_r (nI_1 c) (ih (c + 1) _ (by omega) (sd_rI_2 h hi hk (by omega) ?_ ?_ ?_)))))))
      · rw [sd_rI_g h (by omega) hi (Nat.le_refl c)]
        by_cases e : k = i
        · rw [if_pos ⟨rfl, e⟩, e]
        · rw [if_neg (fun z => e z.2), if_pos ⟨rfl, rfl⟩]
      · intro _
        rw [sd_rI_g h (by omega) hk (Nat.le_refl c), if_pos ⟨rfl, rfl⟩]
      · intro a r _ z
        rw [if_neg (fun q => z ⟨q.1, Or.inl q.2⟩), if_neg (fun q => z ⟨q.1, Or.inr q.2⟩)]
  exact lp n 0 G (by omega) (sd_rI_0 _ _)
theorem xd_addColumn {post : SX → Prop} {m i k : Nat} {f : Fin 5} (hm : m ≤ 8) (hi : i < 4) (hk : k < 4) (hik : i ≠ k) (hn : n ≤ 4) (K : ∀ G', (∀ r x, r < n → x < 4 → G' m (4 * r + x) = if x = i then G m (4 * r + i) + f * G m (4 * r + k) else G m (4 * r + x)) → (∀ a x, a ≠ m → x < 16 → G' a x = G a x) → post (nI n, nI fc, nI ic, sd_ea 16 G', sd_ea 10 Q, sd_nv fN, sd_nv fD, sd_nv bl, sd_nv iv, sd_nv kv)) : wpX_addColumn post (nI n, nI fc, nI ic, sd_ea 16 G, sd_ea 10 Q, sd_nv fN, sd_nv fD, sd_nv bl, sd_nv iv, sd_nv kv) (nI m) (nI i) (nI k) (sd_eI f) := by
  refine Exists.intro (n + 1) ?_
  have lp : ∀ (d c : Nat) (H : Nat → Nat → Fin 5), c + d = n → sd_rI (fun a r x => if a = m ∧ x = i then G m (4 * r + i) + f * G m (4 * r + k) else G a (4 * r + x)) G H c → wX_addColumn_3 post (nI m) (nI i) (nI k) (sd_eI f) (d + 1) (nI c) (nI n) (nI fc) (nI ic) (sd_ea 16 H) (sd_ea 10 Q) (sd_nv fN) (sd_nv fD) (sd_nv bl) (sd_nv iv) (sd_nv kv) := by
    intro d
    induction d with
    | zero =>
      intro c H hc h
      have e : c = n := by omega
      subst e
      refine br_t (nI_le (by omega) (by omega)) (K H (fun r x hr hx => ((h m r x (by omega) hx).trans (if_pos hr)).trans ?_) (fun a x ha hx => sd_rI_f h (fun r y => ?_) x hx))
      · exact sd_ifm
      · exact sd_ifn ha
    | succ d ih =>
      intro c H hc h
      refine br_f (nI_ge (by omega) (by omega)) (xd_entry hm (by omega) hi (xd_entry hm (by omega) hk (nm_e ⟨sd_50, xd_setEntry hm (by omega) hi (sd_w3 _ _ _) (nm_r (nI_1 c) (ih (c + 1) _ (by omega) (sd_rI_1 h hi (by omega) ?_ ?_)))⟩)))
      · rw [if_pos ⟨rfl, rfl⟩, sd_rI_g h (by omega) hi (Nat.le_refl c), sd_rI_g h (by omega) hk (Nat.le_refl c)]
      · intro a r _ z; exact if_neg z
  exact lp n 0 G (by omega) (sd_rI_0 _ _)
/-- the sum of products -/
theorem xd_productSum {post : Int32 → Prop} {a b i k : Nat} (ha : a ≤ 8) (hb : b ≤ 8) (hi : i < 4) (hk : k < 4) (hn : n ≤ 4) (K : post (nI (sd_sN n (fun l => (G a (4 * i + l)).val * (G b (4 * l + k)).val)))) : wpX_productSum post (nI n, nI fc, nI ic, sd_ea 16 G, sd_ea 10 Q, sd_nv fN, sd_nv fD, sd_nv bl, sd_nv iv, sd_nv kv) (nI a) (nI b) (nI i) (nI k) := by
  refine Exists.intro (n + 1) ?_
  have lp : ∀ (d c : Nat), c + d = n → wX_productSum_6 post (nI a) (nI b) (nI i) (nI k) (nI n) (nI fc) (nI ic) (sd_ea 16 G) (sd_ea 10 Q) (sd_nv fN) (sd_nv fD) (sd_nv bl) (sd_nv iv) (sd_nv kv) (d + 1) (nI (sd_sN c (fun l => (G a (4 * i + l)).val * (G b (4 * l + k)).val))) (nI c) := by
    intro d
    induction d with
    | zero =>
      intro c hc
      have e : c = n := by omega
      subst e
      exact br_t (nI_le (by omega) (by omega)) K
    | succ d ih =>
      intro c hc
      refine br_f (nI_ge (by omega) (by omega)) (xd_entry ha hi (by omega) (xd_entry hb (by omega) hk (nm_r ?_ (nm_r (nI_1 c) (ih (c + 1) (by omega))))))
      rw [sd_eI_l, sd_eI_l, pk_mul, nI_add]; rfl
  exact lp n 0 (by omega)
theorem sd_sN_le (n B : Nat) (f : Nat → Nat) (h : ∀ l, f l ≤ B) : sd_sN n f ≤ n * B := by
  induction n with
  | zero => exact Nat.zero_le _
  | succ n ih =>
    rw [sd_sN_s, Nat.succ_mul]
    have := h n
    omega
theorem sd_val_m (a b : Fin 5) : a.val * b.val ≤ 16 := Nat.mul_le_mul (by omega : a.val ≤ 4) (by omega : b.val ≤ 4)
/-- a product of two places -/
theorem xd_multiply {post : SX → Prop} {t a b : Nat} (ht : t ≤ 8) (ha : a ≤ 7) (hb : b ≤ 7) (hn : n ≤ 4) (K : ∀ G', (∀ i k, i < n → k < n → G' t (4 * i + k) = sd_m n (fun i k => G a (4 * i + k)) (fun i k => G b (4 * i + k)) i k) → (∀ m x, m ≠ t → m ≠ 8 → x < 16 → G' m x = G m x) → post (nI n, nI fc, nI ic, sd_ea 16 G', sd_ea 10 Q, sd_nv fN, sd_nv fD, sd_nv bl, sd_nv iv, sd_nv kv)) : wpX_multiply post (nI n, nI fc, nI ic, sd_ea 16 G, sd_ea 10 Q, sd_nv fN, sd_nv fD, sd_nv bl, sd_nv iv, sd_nv kv) (nI t) (nI a) (nI b) := by
  refine Exists.intro (n + 1) ?_
  have inv : ∀ (J : Int32 → Int32 → Int32 → Int32 → (Nat → Int32) → (Nat → Int32) → (Nat → Int32) → (Nat → Int32) → (Nat → Int32) → (Nat → Int32) → (Nat → Int32) → Prop) (i : Nat), i < n →
      (∀ H, (∀ r c, r < n → c < n → r < i + 1 → H 8 (4 * r + c) = sd_m n (fun i k => G a (4 * i + k)) (fun i k => G b (4 * i + k)) r c) → (∀ m x, m ≠ 8 → x < 16 → H m x = G m x) → J (nI (i + 1)) (nI n) (nI fc) (nI ic) (sd_ea 16 H) (sd_ea 10 Q) (sd_nv fN) (sd_nv fD) (sd_nv bl) (sd_nv iv) (sd_nv kv)) →
      ∀ (d k : Nat) (H : Nat → Nat → Fin 5), k + d = n → (∀ r c, r < n → c < n → (r < i ∨ (r = i ∧ c < k)) → H 8 (4 * r + c) = sd_m n (fun i k => G a (4 * i + k)) (fun i k => G b (4 * i + k)) r c) → (∀ m x, m ≠ 8 → x < 16 → H m x = G m x) →
      wX_multiply_15 post J (nI t) (nI a) (nI b) (nI i) (d + 1) (nI k) (nI n) (nI fc) (nI ic) (sd_ea 16 H) (sd_ea 10 Q) (sd_nv fN) (sd_nv fD) (sd_nv bl) (sd_nv iv) (sd_nv kv) := by
    intro J i hi KJ d
    induction d with
    | zero =>
      intro k H hk h1 h2
      exact br_t (nI_le (by omega) (by omega)) (nm_r (nI_1 i) (KJ H (fun r c hr hc hri => h1 r c hr hc (by omega)) h2))
    | succ d ih =>
      intro k H hk h1 h2
      refine br_f (nI_ge (by omega) (by omega)) (xd_productSum (by omega) (by omega) (by omega) (by omega) hn ⟨sd_50, xd_setEntry (m := 8) (by omega) (by omega) (by omega) (sd_m5 ?_) (nm_r (nI_1 k) (ih (k + 1) _ (by omega) ?_ ?_))⟩)
      · have := sd_sN_le n 16 (fun l => (H a (4 * i + l)).val * (H b (4 * l + k)).val) (fun l => sd_val_m _ _)
        omega
      · intro r c hr hc hrc
        by_cases z : 4 * r + c = 4 * i + k
        · have e1 : r = i := by omega
          have e2 : c = k := by omega
          subst e1; subst e2
          rw [sd_u_s, sd_sN_of]
          apply sd_s_c
          intro l hl
          show Fin.ofNat 5 ((H a (4 * r + l)).val * (H b (4 * l + c)).val) = _
          rw [sd_of_mul, sd_of_val, sd_of_val, h2 a _ (by omega) (by omega), h2 b _ (by omega) (by omega)]
        · rw [sd_u_n (fun q => z q.2)]
          exact h1 r c hr hc (by omega)
      · intro m x hm hx
        rw [sd_u_n (fun q => hm q.1)]
        exact h2 m x hm hx
  have lp : ∀ (d i : Nat) (H : Nat → Nat → Fin 5), i + d = n → (∀ r c, r < n → c < n → r < i → H 8 (4 * r + c) = sd_m n (fun i k => G a (4 * i + k)) (fun i k => G b (4 * i + k)) r c) → (∀ m x, m ≠ 8 → x < 16 → H m x = G m x) → wX_multiply_3 post (nI t) (nI a) (nI b) (d + 1) (nI i) (nI n) (nI fc) (nI ic) (sd_ea 16 H) (sd_ea 10 Q) (sd_nv fN) (sd_nv fD) (sd_nv bl) (sd_nv iv) (sd_nv kv) := by
    intro d
    induction d with
    | zero =>
      intro i H hi h1 h2
      refine br_t (nI_le (by omega) (by omega)) (xd_copy (f := 8) ht (by omega) (fun G' hG' => K G' ?_ ?_))
      · intro r c hr hc
        rw [hG' t (4 * r + c) (by omega), if_pos rfl]
        exact h1 r c hr hc (by omega)
      · intro m x hm h8 hx
        rw [hG' m x hx, if_neg hm]
        exact h2 m x h8 hx
    | succ d ih =>
      intro i H hi h1 h2
      refine br_f (nI_ge (by omega) (by omega)) (Exists.intro (n + 1) (inv _ i (by omega) (fun H' g1 g2 => ih (i + 1) H' (by omega) (fun r c hr hc hri => g1 r c hr hc hri) g2) n 0 H (by omega) (fun r c hr hc q => h1 r c hr hc (by omega)) h2))
  exact lp n 0 G (by omega) (fun r c _ _ h => absurd h (by omega)) (fun m x _ _ => rfl)
/-- a sum or a difference -/
theorem xd_combine {post : SX → Prop} {a b : Nat} {f : Fin 5} (ha : a < 4) (hb : b < 4) (hn : n ≤ 4) (K : ∀ G', (∀ i k, i < n → k < n → G' 4 (4 * i + k) = G a (4 * i + k) + f * G b (4 * i + k)) → (∀ m x, m ≠ 4 → x < 16 → G' m x = G m x) → post (nI n, nI fc, nI ic, sd_ea 16 G', sd_ea 10 Q, sd_nv fN, sd_nv fD, sd_nv bl, sd_nv iv, sd_nv kv)) : wpX_combine post (nI n, nI fc, nI ic, sd_ea 16 G, sd_ea 10 Q, sd_nv fN, sd_nv fD, sd_nv bl, sd_nv iv, sd_nv kv) (nI a) (nI b) (sd_eI f) := by
  refine Exists.intro (n + 1) ?_
  have inv : ∀ (J : Int32 → Int32 → Int32 → Int32 → (Nat → Int32) → (Nat → Int32) → (Nat → Int32) → (Nat → Int32) → (Nat → Int32) → (Nat → Int32) → (Nat → Int32) → Prop) (i : Nat), i < n →
      (∀ H, (∀ r c, r < n → c < n → r < i + 1 → H 4 (4 * r + c) = G a (4 * r + c) + f * G b (4 * r + c)) → (∀ m x, m ≠ 4 → x < 16 → H m x = G m x) → J (nI (i + 1)) (nI n) (nI fc) (nI ic) (sd_ea 16 H) (sd_ea 10 Q) (sd_nv fN) (sd_nv fD) (sd_nv bl) (sd_nv iv) (sd_nv kv)) →
      ∀ (d k : Nat) (H : Nat → Nat → Fin 5), k + d = n → (∀ r c, r < n → c < n → (r < i ∨ (r = i ∧ c < k)) → H 4 (4 * r + c) = G a (4 * r + c) + f * G b (4 * r + c)) → (∀ m x, m ≠ 4 → x < 16 → H m x = G m x) →
      wX_combine_15 post J (nI a) (nI b) (sd_eI f) (nI i) (d + 1) (nI k) (nI n) (nI fc) (nI ic) (sd_ea 16 H) (sd_ea 10 Q) (sd_nv fN) (sd_nv fD) (sd_nv bl) (sd_nv iv) (sd_nv kv) := by
    intro J i hi KJ d
    induction d with
    | zero =>
      intro k H hk h1 h2
      exact br_t (nI_le (by omega) (by omega)) (nm_r (nI_1 i) (KJ H (fun r c hr hc hri => h1 r c hr hc (by omega)) h2))
    | succ d ih =>
      intro k H hk h1 h2
      refine br_f (nI_ge (by omega) (by omega)) (xd_entry (by omega) (by omega) (by omega) (xd_entry (by omega) (by omega) (by omega) (nm_e ⟨sd_50, xd_setEntry (m := 4) (by omega) (by omega) (by omega) (sd_w3 _ _ _) (nm_r (nI_1 k) (ih (k + 1) _ (by omega) ?_ ?_))⟩)))
      · intro r c hr hc hrc
        by_cases z : 4 * r + c = 4 * i + k
        · have e1 : r = i := by omega
          have e2 : c = k := by omega
          subst e1; subst e2
          rw [sd_u_s, h2 a _ (by omega) (by omega), h2 b _ (by omega) (by omega)]
        · rw [sd_u_n (fun q => z q.2)]
          exact h1 r c hr hc (by omega)
      · intro m x hm hx
        rw [sd_u_n (fun q => hm q.1)]
        exact h2 m x hm hx
  have lp : ∀ (d i : Nat) (H : Nat → Nat → Fin 5), i + d = n → (∀ r c, r < n → c < n → r < i → H 4 (4 * r + c) = G a (4 * r + c) + f * G b (4 * r + c)) → (∀ m x, m ≠ 4 → x < 16 → H m x = G m x) → wX_combine_3 post (nI a) (nI b) (sd_eI f) (d + 1) (nI i) (nI n) (nI fc) (nI ic) (sd_ea 16 H) (sd_ea 10 Q) (sd_nv fN) (sd_nv fD) (sd_nv bl) (sd_nv iv) (sd_nv kv) := by
    intro d
    induction d with
    | zero =>
      intro i H hi h1 h2
      exact br_t (nI_le (by omega) (by omega)) (K H (fun r c hr hc => h1 r c hr hc (by omega)) h2)
    | succ d ih =>
      intro i H hi h1 h2
      refine br_f (nI_ge (by omega) (by omega)) (Exists.intro (n + 1) (inv _ i (by omega) (fun H' g1 g2 => ih (i + 1) H' (by omega) (fun r c hr hc hri => g1 r c hr hc hri) g2) n 0 H (by omega) (fun r c hr hc q => h1 r c hr hc (by omega)) h2))
  exact lp n 0 G (by omega) (fun r c _ _ h => absurd h (by omega)) (fun m x _ _ => rfl)
end
end
section
/-! ===== elimination: the mathematics ===== -/
/-- M = O A, and the rows of A are combinations of those of M -/
def sd_ER (n : Nat) (A M O : sd_M) : Prop := (∀ i j, i < n → j < n → M i j = sd_m n O A i j) ∧ ∀ i, i < n → ∃ a : Nat → Fin 5, ∀ j, j < n → A i j = sd_s n (fun l => a l * M l j)
theorem sd_sp_t {n c : Nat} {A M M' : sd_M} (h : ∀ i, i < n → ∃ a : Nat → Fin 5, ∀ j, j < c → A i j = sd_s n (fun l => a l * M l j)) (h' : ∀ i, i < n → ∃ a : Nat → Fin 5, ∀ j, j < c → M i j = sd_s n (fun l => a l * M' l j)) : ∀ i, i < n → ∃ a : Nat → Fin 5, ∀ j, j < c → A i j = sd_s n (fun l => a l * M' l j) := by
  have z : ∀ i, ∃ a : Nat → Fin 5, i < n → ∀ j, j < c → M i j = sd_s n (fun l => a l * M' l j) := by
    intro i
    by_cases hi : i < n
    · obtain ⟨a, ha⟩ := h' i hi
      exact ⟨a, fun _ => ha⟩
    · exact ⟨fun _ => 0, fun k => absurd k hi⟩
  intro i hi
  obtain ⟨a, ha⟩ := h i hi
  refine ⟨fun t => sd_s n (fun l => a l * (z l).choose t), fun j hj => ?_⟩
  rw [ha j hj]
  have e1 : sd_s n (fun l => a l * M l j) = sd_s n (fun l => sd_s n (fun t => a l * (z l).choose t * M' t j)) := by
    apply sd_s_c
    intro l hl
    rw [(z l).choose_spec hl j hj, ← sd_s_ml]
    apply sd_s_c
    intro t _; grind
  rw [e1, sd_s_swap]
  apply sd_s_c
  intro t _
  rw [← sd_s_mr]
theorem sd_s_e' {n k : Nat} (hk : k < n) (f : Nat → Fin 5) : sd_s n (fun l => sd_e k l * f l) = f k := by
  have e : (fun l => sd_e k l * f l) = fun l => f l * sd_e k l := by funext l; grind
  rw [e, sd_s_e hk]
def sd_sw (i k r : Nat) : Nat := if r = i then k else if r = k then i else r
theorem sd_sw_lt {i k r n : Nat} (hi : i < n) (hk : k < n) (hr : r < n) : sd_sw i k r < n := by
  unfold sd_sw; split
  · exact hk
  · split <;> omega
theorem sd_sw_sw (i k r : Nat) : sd_sw i k (sd_sw i k r) = r := by
  unfold sd_sw
  by_cases h1 : r = i
  · subst h1
    rw [if_pos rfl]
    by_cases h2 : k = r
    · rw [if_pos h2, h2]
    · rw [if_neg h2, if_pos rfl]
  · rw [if_neg h1]
    by_cases h2 : r = k
    · subst h2; rw [if_pos rfl, if_pos rfl]
    · rw [if_neg h2, if_neg h1, if_neg h2]
theorem sd_ER_swap {n i k : Nat} {A M O M' O' : sd_M} (hi : i < n) (hk : k < n) (hM : ∀ r x, r < n → x < n → M' r x = M (sd_sw i k r) x) (hO : ∀ r x, r < n → x < n → O' r x = O (sd_sw i k r) x) (h : sd_ER n A M O) : sd_ER n A M' O' := by
  refine ⟨?_, sd_sp_t h.2 ?_⟩
  · intro r j hr hj
    rw [hM r j hr hj, h.1 _ j (sd_sw_lt hi hk hr) hj]
    apply sd_s_c
    intro l hl
    rw [hO r l hr hl]
  · intro r hr
    refine ⟨sd_e (sd_sw i k r), fun j hj => ?_⟩
    rw [sd_s_e' (sd_sw_lt hi hk hr) (fun l => M' l j), hM _ j (sd_sw_lt hi hk hr) hj, sd_sw_sw]
theorem sd_ER_scale {n i : Nat} {A M O M' O' : sd_M} {b : Fin 5} (hb : b ≠ 0) (hi : i < n) (hM : ∀ r x, r < n → x < n → M' r x = if r = i then M i x * b else M r x) (hO : ∀ r x, r < n → x < n → O' r x = if r = i then O i x * b else O r x) (h : sd_ER n A M O) : sd_ER n A M' O' := by
  refine ⟨?_, sd_sp_t h.2 ?_⟩
  · intro r j hr hj
    rw [hM r j hr hj]
    by_cases e : r = i
    · subst e
      rw [if_pos rfl, h.1 r j hr hj]
      show sd_s n (fun l => O r l * A l j) * b = sd_s n (fun l => O' r l * A l j)
      rw [← sd_s_mr]
      apply sd_s_c
      intro l hl
      rw [hO r l hr hl, if_pos rfl]; grind
    · rw [if_neg e, h.1 r j hr hj]
      apply sd_s_c
      intro l hl
      rw [hO r l hr hl, if_neg e]
  · intro r hr
    by_cases e : r = i
    · subst e
      refine ⟨fun l => sd_i b * sd_e r l, fun j hj => ?_⟩
      have e1 : (fun l => sd_i b * sd_e r l * M' l j) = fun l => sd_i b * (sd_e r l * M' l j) := by funext l; grind
      rw [e1, sd_s_ml, sd_s_e' hr (fun l => M' l j), hM r j hr hj, if_pos rfl]
      have := sd_i_m b hb
      grind
    · refine ⟨sd_e r, fun j hj => ?_⟩
      rw [sd_s_e' hr (fun l => M' l j), hM r j hr hj, if_neg e]
theorem sd_ER_sub {n i k : Nat} {A M O M' O' : sd_M} {f : Fin 5} (hi : i < n) (hk : k < n) (hik : i ≠ k) (hM : ∀ r x, r < n → x < n → M' r x = if r = i then M i x - f * M k x else M r x) (hO : ∀ r x, r < n → x < n → O' r x = if r = i then O i x - f * O k x else O r x) (h : sd_ER n A M O) : sd_ER n A M' O' := by
  refine ⟨?_, sd_sp_t h.2 ?_⟩
  · intro r j hr hj
    rw [hM r j hr hj]
    by_cases e : r = i
    · subst e
      rw [if_pos rfl, h.1 r j hr hj, h.1 k j hk hj]
      show sd_s n (fun l => O r l * A l j) - f * sd_s n (fun l => O k l * A l j) = sd_s n (fun l => O' r l * A l j)
      have e1 : sd_s n (fun l => O' r l * A l j) = sd_s n (fun l => O r l * A l j + (- f) * (O k l * A l j)) := by
        apply sd_s_c
        intro l hl
        rw [hO r l hr hl, if_pos rfl]; grind
      rw [e1, sd_s_add, sd_s_ml]; grind
    · rw [if_neg e, h.1 r j hr hj]
      apply sd_s_c
      intro l hl
      rw [hO r l hr hl, if_neg e]
  · intro r hr
    by_cases e : r = i
    · subst e
      refine ⟨fun l => sd_e r l + f * sd_e k l, fun j hj => ?_⟩
      have e1 : (fun l => (sd_e r l + f * sd_e k l) * M' l j) = fun l => sd_e r l * M' l j + f * (sd_e k l * M' l j) := by funext l; grind
      rw [e1, sd_s_add, sd_s_ml, sd_s_e' hr (fun l => M' l j), sd_s_e' hk (fun l => M' l j), hM r j hr hj, hM k j hk hj, if_pos rfl, if_neg (fun z => hik z.symm)]
      grind
    · refine ⟨sd_e r, fun j hj => ?_⟩
      rw [sd_s_e' hr (fun l => M' l j), hM r j hr hj, if_neg e]
theorem sd_ER_c {n : Nat} {A M O M' O' : sd_M} (hM : ∀ r x, r < n → x < n → M' r x = M r x) (hO : ∀ r x, r < n → x < n → O' r x = O r x) (h : sd_ER n A M O) : sd_ER n A M' O' := by
  refine ⟨?_, ?_⟩
  · intro i j hi hj
    rw [hM i j hi hj, h.1 i j hi hj]
    apply sd_s_c
    intro l hl
    rw [hO i l hi hl]
  · intro i hi
    obtain ⟨a, ha⟩ := h.2 i hi
    refine ⟨a, fun j hj => ?_⟩
    rw [ha j hj]
    apply sd_s_c
    intro l hl
    rw [hM l j hl hj]
/-- the shape after columns below c with r pivots -/
def sd_XS (n : Nat) (M : sd_M) (r c : Nat) : Prop := r ≤ c ∧ r ≤ n ∧ (∀ i j, r ≤ i → i < n → j < c → M i j = 0) ∧ ∃ pc : Nat → Nat, (∀ s, s < r → pc s < c) ∧ (∀ s, s + 1 < r → pc s < pc (s + 1)) ∧ ∀ s, s < r → ∀ i, i < n → M i (pc s) = if i = s then 1 else 0
theorem sd_XS_0 (n : Nat) (M : sd_M) : sd_XS n M 0 0 := ⟨Nat.le_refl 0, Nat.zero_le n, fun _ _ _ _ h => absurd h (by omega), fun _ => 0, fun _ h => absurd h (by omega), fun _ h => absurd h (by omega), fun _ h => absurd h (by omega)⟩
theorem sd_XS_skip {n r c : Nat} {M : sd_M} (h : sd_XS n M r c) (hz : ∀ i, r ≤ i → i < n → M i c = 0) : sd_XS n M r (c + 1) := by
  obtain ⟨h1, h2, h3, pc, h4, h5, h6⟩ := h
  refine ⟨by omega, h2, ?_, pc, fun s hs => by have := h4 s hs; omega, h5, h6⟩
  intro i j hi hn hj
  by_cases e : j = c
  · subst e; exact hz i hi hn
  · exact h3 i j hi hn (by omega)
theorem sd_XS_pivot {n r c : Nat} {M S M' : sd_M} (hr : r < n) (hc : c < n) (h : sd_XS n M r c) (h1 : ∀ i j, i < r → j < n → S i j = M i j) (h2 : ∀ i j, r ≤ i → i < n → j < c → S i j = 0) (h3 : S r c = 1) (hM : ∀ i j, i < n → j < n → M' i j = if i = r then S r j else S i j - S i c * S r j) : sd_XS n M' (r + 1) (c + 1) := by
  obtain ⟨g1, g2, g3, pc, g4, g5, g6⟩ := h
  refine ⟨by omega, by omega, ?_, fun s => if s < r then pc s else c, ?_, ?_, ?_⟩
  · intro i j hi hn hj
    rw [hM i j hn (by omega), if_neg (by omega)]
    by_cases e : j = c
    · subst e; rw [h3]; grind
    · rw [h2 i j (by omega) hn (by omega), h2 r j (by omega) hr (by omega)]; grind
  · intro s hs
    show (if s < r then pc s else c) < c + 1
    split
    · rename_i q; have := g4 s q; omega
    · omega
  · intro s hs
    show (if s < r then pc s else c) < (if s + 1 < r then pc (s + 1) else c)
    rw [if_pos (by omega)]
    split
    · rename_i q; exact g5 s q
    · exact g4 s (by omega)
  · intro s hs i hi
    show M' i (if s < r then pc s else c) = _
    by_cases e : s < r
    · rw [if_pos e]
      have hp := g4 s e
      have sr : S r (pc s) = 0 := h2 r (pc s) (by omega) hr hp
      rw [hM i (pc s) hi (by omega)]
      by_cases e2 : i = r
      · rw [if_pos e2, sr, if_neg (by omega)]
      · rw [if_neg e2, sr]
        by_cases e3 : i < r
        · rw [h1 i _ e3 (by omega), g6 s e i hi]; grind
        · rw [h2 i (pc s) (by omega) hi hp, if_neg (by omega)]; grind
    · rw [if_neg e]
      have es : s = r := by omega
      subst es
      rw [hM i c hi hc]
      by_cases e2 : i = s
      · rw [if_pos e2, if_pos e2, h3]
      · rw [if_neg e2, if_neg e2, h3]; grind
theorem sd_XS_rk {n r : Nat} {A M O : sd_M} (he : sd_ER n A M O) (h : sd_XS n M r n) : sd_rk n n A r := by
  obtain ⟨_, h2, h3, pc, h4, _, h6⟩ := h
  have rkM : sd_rk n n M r := by
    refine ⟨⟨sd_1, fun l s => sd_e (pc s) l, ?_⟩, ⟨sd_1, M, ?_⟩⟩
    · intro i j hi hj
      rw [sd_1_m (by omega)]
      show sd_s n (fun l => M i l * sd_e (pc j) l) = _
      rw [sd_s_e (h4 j hj), h6 j hj i (by omega)]; rfl
    · intro i j hi hj
      by_cases e : i < r
      · rw [sd_1_m e]
      · rw [h3 i j (by omega) hi hj]
        refine ((sd_s_c (g := fun _ => 0) ?_).trans (sd_s_0 r)).symm
        intro l hl
        have : sd_1 i l = 0 := if_neg (by omega)
        rw [this]; grind
  refine (sd_eqv ?_ ?_).mp rkM
  · exact he.2
  · intro i hi
    exact ⟨fun l => O i l, fun j hj => he.1 i j hi hj⟩
theorem sd_XS_id {n : Nat} (h4 : n ≤ 4) {M : sd_M} (h : sd_XS n M n n) : ∀ i j, i < n → j < n → M i j = if i = j then 1 else 0 := by
  obtain ⟨_, _, _, pc, p1, p2, p3⟩ := h
  have pe : ∀ s, s < n → pc s = s := by
    intro s hs
    have q0 := p1 0
    have q1 := p1 1
    have q2 := p1 2
    have q3 := p1 3
    have s0 := p2 0
    have s1 := p2 1
    have s2 := p2 2
    simp only [Nat.zero_add, Nat.reduceAdd] at s0 s1 s2
    have ct : s = 0 ∨ s = 1 ∨ s = 2 ∨ s = 3 := by omega
    rcases ct with rfl | rfl | rfl | rfl <;> omega
  intro i j hi hj
  have := p3 j hj i hi
  rw [pe j hj] at this
  exact this
/-! ===== elimination: X's walk ===== -/
section
variable {n fc ic : Nat} {G Q : Nat → Nat → Fin 5} {fN fD bl iv kv : Nat → Nat}
/-- 1 on the diagonal, all four rows -/
theorem xd_setIdentity {post : SX → Prop} {m : Nat} (hm : m ≤ 8) (K : ∀ G', (∀ i k, i < 4 → k < 4 → G' m (4 * i + k) = if i = k then 1 else 0) → (∀ a x, a ≠ m → x < 16 → G' a x = G a x) → post (nI n, nI fc, nI ic, sd_ea 16 G', sd_ea 10 Q, sd_nv fN, sd_nv fD, sd_nv bl, sd_nv iv, sd_nv kv)) : wpX_setIdentity post (nI n, nI fc, nI ic, sd_ea 16 G, sd_ea 10 Q, sd_nv fN, sd_nv fD, sd_nv bl, sd_nv iv, sd_nv kv) (nI m) := by
  refine Exists.intro 5 ?_
  have inv : ∀ (J : Int32 → Int32 → Int32 → Int32 → (Nat → Int32) → (Nat → Int32) → (Nat → Int32) → (Nat → Int32) → (Nat → Int32) → (Nat → Int32) → (Nat → Int32) → Prop) (i : Nat), i < 4 →
      (∀ H, (∀ r c, r < 4 → c < 4 → r < i + 1 → H m (4 * r + c) = if r = c then 1 else 0) → (∀ a x, a ≠ m → x < 16 → H a x = G a x) → J (nI (i + 1)) (nI n) (nI fc) (nI ic) (sd_ea 16 H) (sd_ea 10 Q) (sd_nv fN) (sd_nv fD) (sd_nv bl) (sd_nv iv) (sd_nv kv)) →
      ∀ (d k : Nat) (H : Nat → Nat → Fin 5), k + d = 4 → (∀ r c, r < 4 → c < 4 → (r < i ∨ (r = i ∧ c < k)) → H m (4 * r + c) = if r = c then 1 else 0) → (∀ a x, a ≠ m → x < 16 → H a x = G a x) →
      wX_setIdentity_9 post J (nI m) (nI i) (d + 1) (nI k) (nI n) (nI fc) (nI ic) (sd_ea 16 H) (sd_ea 10 Q) (sd_nv fN) (sd_nv fD) (sd_nv bl) (sd_nv iv) (sd_nv kv) := by
    intro J i hi KJ d
    induction d with
    | zero =>
      intro k H hk h1 h2
      exact br_t (nI_le (a := 4) (by omega) (by omega)) (nm_r (nI_1 i) (KJ H (fun r c hr hc hri => h1 r c hr hc (by omega)) h2))
    | succ d ih =>
      intro k H hk h1 h2
      refine br_f (nI_ge (b := 4) (by omega) (by omega)) ?_
      have step : ∀ v : Fin 5, (v = if i = k then 1 else 0) → ∀ r c, r < 4 → c < 4 → (r < i ∨ (r = i ∧ c < k + 1)) → sd_u H m (4 * i + k) v m (4 * r + c) = if r = c then 1 else 0 := by
        intro v hv r c hr hc hrc
        by_cases z : 4 * r + c = 4 * i + k
        · have e1 : r = i := by omega
          have e2 : c = k := by omega
          subst e1; subst e2
          rw [sd_u_s, hv]
        · rw [sd_u_n (fun q => z q.2)]
          exact h1 r c hr hc (by omega)
      have fr : ∀ v : Fin 5, ∀ a x, a ≠ m → x < 16 → sd_u H m (4 * i + k) v a x = G a x := by
        intro v a x ha hx
        rw [sd_u_n (fun q => ha q.1)]
        exact h2 a x ha hx
      by_cases e : i = k
      · subst e
        exact br_t rfl (xd_setEntry (v := 1) hm hi (by omega) rfl (nm_r (nI_1 i) (ih (i + 1) _ (by omega) (step 1 (if_pos rfl).symm) (fr 1))))
      · exact br_f (fun z => e ((nI_eq (by omega) (by omega)).mp z)) (xd_setEntry (v := 0) hm hi (by omega) rfl (nm_r (nI_1 k) (ih (k + 1) _ (by omega) (step 0 (if_neg e).symm) (fr 0))))
  have lp : ∀ (d i : Nat) (H : Nat → Nat → Fin 5), i + d = 4 → (∀ r c, r < 4 → c < 4 → r < i → H m (4 * r + c) = if r = c then 1 else 0) → (∀ a x, a ≠ m → x < 16 → H a x = G a x) → wX_setIdentity_2 post (nI m) (d + 1) (nI i) (nI n) (nI fc) (nI ic) (sd_ea 16 H) (sd_ea 10 Q) (sd_nv fN) (sd_nv fD) (sd_nv bl) (sd_nv iv) (sd_nv kv) := by
    intro d
    induction d with
    | zero =>
      intro i H hi h1 h2
      exact br_t (nI_le (a := 4) (by omega) (by omega)) (K H (fun r c hr hc => h1 r c hr hc (by omega)) h2)
    | succ d ih =>
      intro i H hi h1 h2
      refine br_f (nI_ge (b := 4) (by omega) (by omega)) (Exists.intro 5 (inv _ i (by omega) (fun H' g1 g2 => ih (i + 1) H' (by omega) (fun r c hr hc hri => g1 r c hr hc hri) g2) 4 0 H (by omega) (fun r c hr hc q => h1 r c hr hc (by omega)) h2))
  exact lp 4 0 G (by omega) (fun r c _ _ h => absurd h (by omega)) (fun m x _ _ => rfl)
/-- the inner loop: all other rows are cleared in column c -/
theorem xd_elim_in {post : Int32 → SX → Prop} {J : Int32 → Int32 → Int32 → Int32 → Int32 → (Nat → Int32) → (Nat → Int32) → (Nat → Int32) → (Nat → Int32) → (Nat → Int32) → (Nat → Int32) → (Nat → Int32) → Prop} {A S : sd_M} {r c : Nat} (hn : n ≤ 4) (hr : r < n) (hc : c < n)
    (K : ∀ H, sd_ER n A (fun i k => H 5 (4 * i + k)) (fun i k => H 6 (4 * i + k)) → (∀ i j, i < n → j < n → H 5 (4 * i + j) = if i = r then S r j else S i j - S i c * S r j) → (∀ a x, a ≠ 5 → a ≠ 6 → x < 16 → H a x = G a x) → J (nI (r + 1)) (nI (c + 1)) (nI n) (nI fc) (nI ic) (sd_ea 16 H) (sd_ea 10 Q) (sd_nv fN) (sd_nv fD) (sd_nv bl) (sd_nv iv) (sd_nv kv)) :
    ∀ (d i : Nat) (H : Nat → Nat → Fin 5), i + d = n → sd_ER n A (fun i k => H 5 (4 * i + k)) (fun i k => H 6 (4 * i + k)) → (∀ x j, x < n → j < n → H 5 (4 * x + j) = if x < i ∧ ¬ x = r then S x j - S x c * S r j else S x j) → (∀ a x, a ≠ 5 → a ≠ 6 → x < 16 → H a x = G a x) →
    wX_eliminate_109 post J 5 6 (nI r) (nI c) (d + 1) (nI i) (nI n) (nI fc) (nI ic) (sd_ea 16 H) (sd_ea 10 Q) (sd_nv fN) (sd_nv fD) (sd_nv bl) (sd_nv iv) (sd_nv kv) := by
  intro d
  induction d with
  | zero =>
    intro i H hi he h1 h2
    refine br_t (nI_le (by omega) (by omega)) (nm_r (nI_1 r) (nm_r (nI_1 c) (K H he ?_ h2)))
    intro x j hx hj
    rw [h1 x j hx hj]
    by_cases e : x = r
    · rw [if_neg (fun z => z.2 e), if_pos e, e]
    · rw [if_pos ⟨by omega, e⟩, if_neg e]
  | succ d ih =>
    intro i H hi he h1 h2
    refine br_f (nI_ge (by omega) (by omega)) (xd_entry (m := 5) (by omega) (by omega) (by omega) ?_)
    have next : ∀ H', sd_ER n A (fun i k => H' 5 (4 * i + k)) (fun i k => H' 6 (4 * i + k)) → (∀ x j, x < n → j < n → H' 5 (4 * x + j) = if x < i + 1 ∧ ¬ x = r then S x j - S x c * S r j else S x j) → (∀ a x, a ≠ 5 → a ≠ 6 → x < 16 → H' a x = G a x) → wX_eliminate_109 post J 5 6 (nI r) (nI c) (d + 1) (nI (i + 1)) (nI n) (nI fc) (nI ic) (sd_ea 16 H') (sd_ea 10 Q) (sd_nv fN) (sd_nv fD) (sd_nv bl) (sd_nv iv) (sd_nv kv) := fun H' a b c => ih (i + 1) H' (by omega) a b c
    by_cases e : i = r
    · subst e
      refine br_t rfl (nm_r (nI_1 i) (next H he ?_ h2))
      intro x j hx hj
      rw [h1 x j hx hj]
      by_cases z : x = i
      · rw [if_neg (fun q => q.2 z), if_neg (fun q => q.2 z)]
      · by_cases z2 : x < i
        · rw [if_pos ⟨z2, z⟩, if_pos ⟨by omega, z⟩]
        · rw [if_neg (fun q => z2 q.1), if_neg (fun q => z2 (by omega))]
    · refine br_f (fun z => e ((nI_eq (by omega) (by omega)).mp z)) ?_
      have hic : H 5 (4 * i + c) = S i c := by rw [h1 i c (by omega) hc, if_neg (fun q => by omega)]
      have hrj : ∀ j, j < n → H 5 (4 * r + j) = S r j := fun j hj => by rw [h1 r j hr hj, if_neg (fun q => q.2 rfl)]
      by_cases z : H 5 (4 * i + c) = 0
      · refine br_t ((sd_eI_0 _).mpr z) (nm_r (nI_1 i) (next H he ?_ h2))
        intro x j hx hj
        rw [h1 x j hx hj]
        by_cases z1 : x < i ∧ ¬ x = r
        · rw [if_pos z1, if_pos ⟨by omega, z1.2⟩]
        · rw [if_neg z1]
          by_cases z2 : x = i
          · subst z2
            rw [if_pos ⟨by omega, e⟩, ← hic, z]; grind
          · rw [if_neg (fun q => z1 ⟨by omega, q.2⟩)]
      · refine br_f (fun q => z ((sd_eI_0 _).mp q)) (xd_subtractRow (m := 5) (by omega) (by omega) (by omega) e hn (fun H1 f1 f1' => xd_subtractRow (m := 6) (by omega) (by omega) (by omega) e hn (fun H2 f2 f2' => nm_r (nI_1 i) (next H2 ?_ ?_ ?_))))
        · refine sd_ER_sub (i := i) (k := r) (f := H 5 (4 * i + c)) (by omega) hr e ?_ ?_ he
          · intro x j hx hj
            show H2 5 (4 * x + j) = _
            rw [f2' 5 _ (by omega) (by omega), f1 x j (by omega) hj]
          · intro x j hx hj
            show H2 6 (4 * x + j) = _
            rw [f2 x j (by omega) hj, f1' 6 _ (by omega) (by omega), f1' 6 _ (by omega) (by omega), f1' 6 _ (by omega) (by omega)]
        · intro x j hx hj
          rw [f2' 5 _ (by omega) (by omega), f1 x j (by omega) hj]
          by_cases z2 : x = i
          · subst z2
            rw [if_pos rfl, if_pos ⟨by omega, e⟩, hrj j hj, hic, h1 x j hx hj, if_neg (fun q => by omega)]
          · rw [if_neg z2, h1 x j hx hj]
            by_cases z1 : x < i ∧ ¬ x = r
            · rw [if_pos z1, if_pos ⟨by omega, z1.2⟩]
            · rw [if_neg z1, if_neg (fun q => z1 ⟨by omega, q.2⟩)]
        · intro a x h5 h6 hx
          rw [f2' a x h6 hx, f1' a x h5 hx, h2 a x h5 h6 hx]
/-- a column with a pivot in row p -/
theorem xd_elim_44 {post : Int32 → SX → Prop} {J : Int32 → Int32 → Int32 → Int32 → Int32 → (Nat → Int32) → (Nat → Int32) → (Nat → Int32) → (Nat → Int32) → (Nat → Int32) → (Nat → Int32) → (Nat → Int32) → Prop} {A : sd_M} {r c p : Nat} (hn : n ≤ 4) (hc : c < n) (hrp : r ≤ p) (hp : p ≤ n)
    (he : sd_ER n A (fun i k => G 5 (4 * i + k)) (fun i k => G 6 (4 * i + k))) (hs : sd_XS n (fun i k => G 5 (4 * i + k)) r c) (hz : ∀ i, r ≤ i → i < p → G 5 (4 * i + c) = 0) (hpv : p < n → G 5 (4 * p + c) ≠ 0)
    (K : ∀ H r', sd_ER n A (fun i k => H 5 (4 * i + k)) (fun i k => H 6 (4 * i + k)) → sd_XS n (fun i k => H 5 (4 * i + k)) r' (c + 1) → (∀ a x, a ≠ 5 → a ≠ 6 → x < 16 → H a x = G a x) → J (nI r') (nI (c + 1)) (nI n) (nI fc) (nI ic) (sd_ea 16 H) (sd_ea 10 Q) (sd_nv fN) (sd_nv fD) (sd_nv bl) (sd_nv iv) (sd_nv kv)) :
    wX_eliminate_44 post J 5 6 (nI r) (nI c) (nI p) (nI n) (nI fc) (nI ic) (sd_ea 16 G) (sd_ea 10 Q) (sd_nv fN) (sd_nv fD) (sd_nv bl) (sd_nv iv) (sd_nv kv) := by
  by_cases e : p = n
  · subst e
    exact br_t rfl (nm_r (nI_1 c) (K G r he (sd_XS_skip hs (fun i hi hn => hz i hi hn)) (fun _ _ _ _ _ => rfl)))
  · have hpn : p < n := by omega
    have hr : r < n := by omega
    refine br_f (fun z => e ((nI_eq (by omega) (by omega)).mp z)) (xd_exchangeRows (m := 5) (by omega) (by omega) (by omega) hn (fun H1 f1 f1' => xd_exchangeRows (m := 6) (by omega) (by omega) (by omega) hn (fun H2 f2 f2' => xd_entry (m := 5) (by omega) (by omega) (by omega) (xd_inverseOf (xd_scaleRow (m := 5) (by omega) (by omega) hn (fun H3 f3 f3' => xd_scaleRow (m := 6) (by omega) (by omega) hn (fun H4 f4 f4' => Exists.intro (n + 1) ?_)))))))
    have a5 : ∀ x j, x < n → j < n → H2 5 (4 * x + j) = G 5 (4 * (sd_sw p r x) + j) := by
      intro x j hx hj
      rw [f2' 5 _ (by omega) (by omega), f1 x j (by omega) hj]
      unfold sd_sw
      by_cases z1 : x = p
      · rw [if_pos z1, if_pos z1]
      · rw [if_neg z1, if_neg z1]
        by_cases z2 : x = r
        · rw [if_pos z2, if_pos z2]
        · rw [if_neg z2, if_neg z2]
    have a6 : ∀ x j, x < n → j < n → H2 6 (4 * x + j) = G 6 (4 * (sd_sw p r x) + j) := by
      intro x j hx hj
      have g6 : ∀ y, y < n → H1 6 (4 * y + j) = G 6 (4 * y + j) := fun y hy => f1' 6 _ (by omega) (by omega)
      rw [f2 x j (by omega) hj]
      unfold sd_sw
      by_cases z1 : x = p
      · rw [if_pos z1, if_pos z1, g6 r hr]
      · rw [if_neg z1, if_neg z1]
        by_cases z2 : x = r
        · rw [if_pos z2, if_pos z2, g6 p hpn]
        · rw [if_neg z2, if_neg z2, g6 x hx]
    have swr : sd_sw p r r = p := by
      unfold sd_sw
      by_cases z : r = p
      · rw [if_pos z, z]
      · rw [if_neg z, if_pos rfl]
    have pv : H2 5 (4 * r + c) ≠ 0 := by rw [a5 r c hr hc, swr]; exact hpv hpn
    have b5 : ∀ x j, x < n → j < n → H4 5 (4 * x + j) = if x = r then H2 5 (4 * r + j) * sd_i (H2 5 (4 * r + c)) else H2 5 (4 * x + j) := by
      intro x j hx hj
      rw [f4' 5 _ (by omega) (by omega), f3 x j (by omega) hj]
    have b6 : ∀ x j, x < n → j < n → H4 6 (4 * x + j) = if x = r then H2 6 (4 * r + j) * sd_i (H2 5 (4 * r + c)) else H2 6 (4 * x + j) := by
      intro x j hx hj
      rw [f4 x j (by omega) hj, f3' 6 _ (by omega) (by omega), f3' 6 _ (by omega) (by omega)]
    have e2 : sd_ER n A (fun i k => H2 5 (4 * i + k)) (fun i k => H2 6 (4 * i + k)) := sd_ER_swap hpn hr a5 a6 he
    have ine : sd_i (H2 5 (4 * r + c)) ≠ 0 := by
      intro z
      have := sd_i_m _ pv
      rw [z] at this
      exact absurd this (by grind)
    have e4 : sd_ER n A (fun i k => H4 5 (4 * i + k)) (fun i k => H4 6 (4 * i + k)) := sd_ER_scale ine hr b5 b6 e2
    have fr4 : ∀ a x, a ≠ 5 → a ≠ 6 → x < 16 → H4 a x = G a x := by
      intro a x h5 h6 hx
      rw [f4' a x h6 hx, f3' a x h5 hx, f2' a x h6 hx, f1' a x h5 hx]
    refine xd_elim_in (A := A) (S := fun i j => H4 5 (4 * i + j)) hn hr hc (fun H he' h1 h2 => K H (r + 1) he' (sd_XS_pivot hr hc hs ?_ ?_ ?_ h1) (fun a x h5 h6 hx => (h2 a x h5 h6 hx).trans (fr4 a x h5 h6 hx))) n 0 H4 (by omega) e4 (fun x j hx hj => (if_neg (fun q => absurd q.1 (by omega))).symm) (fun a x _ _ _ => rfl)
    · intro i j hi hj
      show H4 5 (4 * i + j) = G 5 (4 * i + j)
      rw [b5 i j (by omega) hj, if_neg (by omega), a5 i j (by omega) hj]
      unfold sd_sw
      rw [if_neg (by omega), if_neg (by omega)]
    · intro i j hi hin hj
      show H4 5 (4 * i + j) = 0
      have zz : ∀ y, r ≤ y → y < n → G 5 (4 * y + j) = 0 := fun y h1 h2 => hs.2.2.1 y j h1 h2 hj
      have hsw : ∀ y, r ≤ y → y < n → r ≤ sd_sw p r y := by
        intro y h1 h2
        unfold sd_sw
        split
        · omega
        · split <;> omega
      rw [b5 i j hin (by omega), a5 r j hr (by omega), a5 i j hin (by omega), zz _ (hsw r (by omega) hr) (sd_sw_lt hpn hr hr), zz _ (hsw i hi hin) (sd_sw_lt hpn hr hin)]
      split <;> grind
    · show H4 5 (4 * r + c) = 1
      rw [b5 r c hr hc, if_pos rfl]
      exact sd_i_m _ pv
/-- elimination: the rank, and the other matrix times the first is the reduced one -/
theorem xd_eliminate {post : Int32 → SX → Prop} {A : sd_M} (hn : n ≤ 4) (he : sd_ER n A (fun i k => G 5 (4 * i + k)) (fun i k => G 6 (4 * i + k)))
    (K : ∀ G' r, sd_ER n A (fun i k => G' 5 (4 * i + k)) (fun i k => G' 6 (4 * i + k)) → sd_XS n (fun i k => G' 5 (4 * i + k)) r n → (∀ a x, a ≠ 5 → a ≠ 6 → x < 16 → G' a x = G a x) → post (nI r) (nI n, nI fc, nI ic, sd_ea 16 G', sd_ea 10 Q, sd_nv fN, sd_nv fD, sd_nv bl, sd_nv iv, sd_nv kv)) : wpX_eliminate post (nI n, nI fc, nI ic, sd_ea 16 G, sd_ea 10 Q, sd_nv fN, sd_nv fD, sd_nv bl, sd_nv iv, sd_nv kv) 5 6 := by
  refine Exists.intro (n + 1) ?_
  have srch : ∀ (J : Int32 → Int32 → Int32 → Int32 → Int32 → (Nat → Int32) → (Nat → Int32) → (Nat → Int32) → (Nat → Int32) → (Nat → Int32) → (Nat → Int32) → (Nat → Int32) → Prop) (H : Nat → Nat → Fin 5) (r c : Nat), c < n →
      sd_ER n A (fun i k => H 5 (4 * i + k)) (fun i k => H 6 (4 * i + k)) → sd_XS n (fun i k => H 5 (4 * i + k)) r c →
      (∀ H' r', sd_ER n A (fun i k => H' 5 (4 * i + k)) (fun i k => H' 6 (4 * i + k)) → sd_XS n (fun i k => H' 5 (4 * i + k)) r' (c + 1) → (∀ a x, a ≠ 5 → a ≠ 6 → x < 16 → H' a x = H a x) → J (nI r') (nI (c + 1)) (nI n) (nI fc) (nI ic) (sd_ea 16 H') (sd_ea 10 Q) (sd_nv fN) (sd_nv fD) (sd_nv bl) (sd_nv iv) (sd_nv kv)) →
      ∀ (d p : Nat), p + d = n → r ≤ p → (∀ i, r ≤ i → i < p → H 5 (4 * i + c) = 0) → wX_eliminate_17 post J 5 6 (nI r) (nI c) (nI n) (nI fc) (nI ic) (sd_ea 16 H) (sd_ea 10 Q) (sd_nv fN) (sd_nv fD) (sd_nv bl) (sd_nv iv) (sd_nv kv) (d + 1) (nI p) := by
    intro J H r c hc he' hs KJ d
    induction d with
    | zero =>
      intro p hp hrp hz
      exact br_t (nI_le (by omega) (by omega)) (xd_elim_44 hn hc hrp (by omega) he' hs hz (fun h => absurd h (by omega)) KJ)
    | succ d ih =>
      intro p hp hrp hz
      refine br_f (nI_ge (by omega) (by omega)) (xd_entry (m := 5) (by omega) (by omega) (by omega) ?_)
      by_cases z : H 5 (4 * p + c) = 0
      · refine br_t ((sd_eI_0 _).mpr z) (nm_r (nI_1 p) (ih (p + 1) (by omega) (by omega) ?_))
        intro i hi hip
        by_cases e : i = p
        · rw [e]; exact z
        · exact hz i hi (by omega)
      · exact br_f (fun q => z ((sd_eI_0 _).mp q)) (xd_elim_44 hn hc hrp (by omega) he' hs hz (fun _ => z) KJ)
  have lp : ∀ (d c r : Nat) (H : Nat → Nat → Fin 5), c + d = n → sd_ER n A (fun i k => H 5 (4 * i + k)) (fun i k => H 6 (4 * i + k)) → sd_XS n (fun i k => H 5 (4 * i + k)) r c → (∀ a x, a ≠ 5 → a ≠ 6 → x < 16 → H a x = G a x) → wX_eliminate_5 post 5 6 (d + 1) (nI r) (nI c) (nI n) (nI fc) (nI ic) (sd_ea 16 H) (sd_ea 10 Q) (sd_nv fN) (sd_nv fD) (sd_nv bl) (sd_nv iv) (sd_nv kv) := by
    intro d
    induction d with
    | zero =>
      intro c r H hc he' hs h2
      have e : c = n := by omega
      subst e
      exact br_t (nI_le (by omega) (by omega)) (K H r he' hs h2)
    | succ d ih =>
      intro c r H hc he' hs h2
      have hrn := hs.2.1
      refine br_f (nI_ge (by omega) (by omega)) (Exists.intro (n - r + 1) (srch _ H r c (by omega) he' hs (fun H' r' a b f => ih (c + 1) r' H' (by omega) a b (fun m x h5 h6 hx => (f m x h5 h6 hx).trans (h2 m x h5 h6 hx))) (n - r) r (by omega) (Nat.le_refl r) (fun i h1 h3 => absurd h1 (by omega))))
  exact lp n 0 0 G (by omega) he (sd_XS_0 n _) (fun _ _ _ _ _ => rfl)
/-- the rank of a place -/
theorem xd_rankOf {post : Int32 → SX → Prop} {m : Nat} (hm : m ≤ 8) (hn : n ≤ 4) (K : ∀ G' r, sd_rk n n (fun i k => G m (4 * i + k)) r → (∀ a x, a ≠ 5 → a ≠ 6 → x < 16 → G' a x = G a x) → post (nI r) (nI n, nI fc, nI ic, sd_ea 16 G', sd_ea 10 Q, sd_nv fN, sd_nv fD, sd_nv bl, sd_nv iv, sd_nv kv)) : wpX_rankOf post (nI n, nI fc, nI ic, sd_ea 16 G, sd_ea 10 Q, sd_nv fN, sd_nv fD, sd_nv bl, sd_nv iv, sd_nv kv) (nI m) := by
  refine xd_copy (t := 5) (by omega) hm (fun H1 f1 => xd_setIdentity (m := 6) (by omega) (fun H2 f2 f2' => xd_eliminate (A := fun i k => G m (4 * i + k)) hn ?_ (fun H3 r e s fr => K H3 r (sd_XS_rk e s) ?_)))
  · have g5 : ∀ i k, i < n → k < n → H2 5 (4 * i + k) = G m (4 * i + k) := by
      intro i k hi hk
      rw [f2' 5 _ (by omega) (by omega), f1 5 _ (by omega), if_pos rfl]
    refine ⟨?_, ?_⟩
    · intro i j hi hj
      have e1 : sd_m n (fun i k => H2 6 (4 * i + k)) (fun i k => G m (4 * i + k)) i j = sd_m n sd_1 (fun i k => G m (4 * i + k)) i j := sd_m_c (fun l hl => f2 i l (by omega) (by omega)) (fun _ _ => rfl)
      rw [e1, sd_1_m hi]
      exact g5 i j hi hj
    · intro i hi
      refine ⟨sd_e i, fun j hj => ?_⟩
      rw [sd_s_e' hi (fun l => H2 5 (4 * l + j))]
      exact (g5 i j hi hj).symm
  · intro a x h5 h6 hx
    rw [fr a x h5 h6 hx, f2' a x h6 hx, f1 a x hx, if_neg h5]
end
end
section
/-! ===== X: polynomials ===== -/
theorem sd_mc_sum : ∀ (x : Nat) (a b : sd_P), sd_mc x a b = sd_s (x + 1) (fun i => a i * b (x - i)) := by
  intro x
  induction x with
  | zero => intro a b; show a 0 * b 0 = 0 + a 0 * b 0; grind
  | succ x ih =>
    intro a b
    rw [sd_s_sc]
    show a 0 * b (x + 1) + sd_mc x (sd_tl a) b = a 0 * b (x + 1) + _
    rw [ih]
    congr 1
    apply sd_s_c
    intro i hi
    show a (i + 1) * b (x - i) = a (i + 1) * b (x + 1 - (i + 1))
    rw [Nat.add_sub_add_right]
theorem sd_pm_sum {x : Nat} (hx : x < 10) (a b : sd_P) : sd_pm a b x = sd_s 10 (fun t => if t ≤ x then a t * b (x - t) else 0) := by
  show sd_mc x a b = _
  rw [sd_mc_sum]
  have e : 10 = (x + 1) + (9 - x) := by omega
  have s := sd_s_split (fun t => if t ≤ x then a t * b (x - t) else 0) (x + 1) (9 - x)
  rw [← e] at s
  have z : sd_s (9 - x) (fun i => if x + 1 + i ≤ x then a (x + 1 + i) * b (x - (x + 1 + i)) else 0) = 0 := by
    refine (sd_s_c (g := fun _ => 0) ?_).trans (sd_s_0 _)
    intro i _
    exact if_neg (by omega)
  have y : sd_s (x + 1) (fun t => if t ≤ x then a t * b (x - t) else 0) = sd_s (x + 1) (fun i => a i * b (x - i)) := by
    apply sd_s_c
    intro i hi
    exact if_pos (by omega)
  rw [s, z, y]; grind
section
variable {n fc ic : Nat} {G Q : Nat → Nat → Fin 5} {fN fD bl iv kv : Nat → Nat}
theorem xd_clearPoly {post : SX → Prop} {p : Nat} (hp : p ≤ 12) (K : ∀ Q', (∀ j, j < 10 → Q' p j = 0) → (∀ q j, q ≠ p → j < 10 → Q' q j = Q q j) → post (nI n, nI fc, nI ic, sd_ea 16 G, sd_ea 10 Q', sd_nv fN, sd_nv fD, sd_nv bl, sd_nv iv, sd_nv kv)) : wpX_clearPoly post (nI n, nI fc, nI ic, sd_ea 16 G, sd_ea 10 Q, sd_nv fN, sd_nv fD, sd_nv bl, sd_nv iv, sd_nv kv) (nI p) := by
  refine Exists.intro 11 ?_
  have lp : ∀ (d c : Nat) (H : Nat → Nat → Fin 5), c + d = 10 → (∀ j, j < c → H p j = 0) → (∀ q j, q ≠ p → j < 10 → H q j = Q q j) → wX_clearPoly_2 post (nI p) (nI n) (nI fc) (nI ic) (d + 1) (nI c) (sd_ea 16 G) (sd_ea 10 H) (sd_nv fN) (sd_nv fD) (sd_nv bl) (sd_nv iv) (sd_nv kv) := by
    intro d
    induction d with
    | zero =>
      intro c H hc h1 h2
      have e : c = 10 := by omega
      subst e
      exact br_t (by decide) (K H h1 h2)
    | succ d ih =>
      intro c H hc h1 h2
      refine br_f (nI_ge (b := 10) (by omega) (by decide)) ?_
      rw [sd_ix10, sd_clN (by omega), sd_nb0, sd_ea_w (by omega)]
      refine ⟨vp_in_nI (by omega) (by omega), nm_e (nm_r (nI_1 c) (ih (c + 1) _ (by omega) ?_ ?_))⟩
      · intro j hj
        by_cases e : j = c
        · subst e; exact sd_u_s
        · rw [sd_u_n (fun z => e z.2)]; exact h1 j (by omega)
      · intro q j hq hj
        rw [sd_u_n (fun z => hq z.1)]; exact h2 q j hq hj
  exact lp 10 0 Q (by omega) (fun _ h => absurd h (by omega)) (fun _ _ _ _ => rfl)
theorem xd_copyPoly {post : SX → Prop} {t f : Nat} (ht : t ≤ 12) (hf : f ≤ 12) (K : ∀ Q', (∀ j, j < 10 → Q' t j = Q f j) → (∀ q j, q ≠ t → j < 10 → Q' q j = Q q j) → post (nI n, nI fc, nI ic, sd_ea 16 G, sd_ea 10 Q', sd_nv fN, sd_nv fD, sd_nv bl, sd_nv iv, sd_nv kv)) : wpX_copyPoly post (nI n, nI fc, nI ic, sd_ea 16 G, sd_ea 10 Q, sd_nv fN, sd_nv fD, sd_nv bl, sd_nv iv, sd_nv kv) (nI t) (nI f) := by
  refine Exists.intro 11 ?_
  have lp : ∀ (d c : Nat) (H : Nat → Nat → Fin 5), c + d = 10 → (∀ j, j < 10 → H t j = if j < c then Q f j else Q t j) → (∀ q j, q ≠ t → j < 10 → H q j = Q q j) → wX_copyPoly_2 post (nI t) (nI f) (nI n) (nI fc) (nI ic) (d + 1) (nI c) (sd_ea 16 G) (sd_ea 10 H) (sd_nv fN) (sd_nv fD) (sd_nv bl) (sd_nv iv) (sd_nv kv) := by
    intro d
    induction d with
    | zero =>
      intro c H hc h1 h2
      have e : c = 10 := by omega
      subst e
      exact br_t (by decide) (K H (fun j hj => (h1 j hj).trans (if_pos hj)) h2)
    | succ d ih =>
      intro c H hc h1 h2
      refine br_f (nI_ge (b := 10) (by omega) (by decide)) ?_
      rw [sd_ix10, sd_ix10, sd_clN (by omega), sd_clN (by omega), sd_ea_r (by omega), sd_nb, sd_ea_w (by omega)]
      refine ⟨vp_in_nI (by omega) (by omega), vp_in_nI (by omega) (by omega), nm_e (nm_r (nI_1 c) (ih (c + 1) _ (by omega) ?_ ?_))⟩
      · intro j hj
        by_cases e : j = c
        · subst e
          rw [sd_u_s, if_pos (by omega)]
          by_cases z : f = t
          · subst z; rw [h1 j hj, if_neg (by omega)]
          · exact h2 f j z hj
        · rw [sd_u_n (fun z => e z.2), h1 j hj]
          by_cases z : j < c
          · rw [if_pos z, if_pos (by omega)]
          · rw [if_neg z, if_neg (by omega)]
      · intro q j hq hj
        rw [sd_u_n (fun z => hq z.1)]; exact h2 q j hq hj
  exact lp 10 0 Q (by omega) (fun _ _ => (if_neg (by omega)).symm) (fun _ _ _ _ => rfl)
theorem xd_addCoefficient {post : SX → Prop} {p j w : Nat} {q1 q2 : Int32} (hp : p ≤ 12) (hj : j < 10) (h1 : q1 = nI j) (h2 : q2 = nI w) (hw : w < 1000) (K : post (nI n, nI fc, nI ic, sd_ea 16 G, sd_ea 10 (sd_u Q p j (Q p j + Fin.ofNat 5 w)), sd_nv fN, sd_nv fD, sd_nv bl, sd_nv iv, sd_nv kv)) : wpX_addCoefficient post (nI n, nI fc, nI ic, sd_ea 16 G, sd_ea 10 Q, sd_nv fN, sd_nv fD, sd_nv bl, sd_nv iv, sd_nv kv) (nI p) q1 q2 := by
  subst h1; subst h2
  show vp_in ((10 * nI p) + nI j) 130 ∧ (∀ x, x = (sd_ea 10 Q ((10 * nI p) + nI j).toNatClampNeg) + nI w → (¬ (5 : Int32) = 0 ∧ (vp_in ((10 * nI p) + nI j) 130 ∧ ∀ a, a = upd (sd_ea 10 Q) ((10 * nI p) + nI j).toNatClampNeg (vp_nar .byte ((x - x / 5 * 5).toInt8.toInt32)) → post (nI n, nI fc, nI ic, sd_ea 16 G, a, sd_nv fN, sd_nv fD, sd_nv bl, sd_nv iv, sd_nv kv))))
  have hv := (Q p j).isLt
  rw [sd_ix10, sd_clN (by omega), sd_ea_r (by omega)]
  refine ⟨vp_in_nI (by omega) (by omega), ?_⟩
  rintro x rfl
  refine ⟨sd_50, vp_in_nI (by omega) (by omega), ?_⟩
  rintro a rfl
  rw [sd_eI_l, nI_add, sd_m5 (by omega), sd_nb', sd_ea_w (by omega), sd_of_add, sd_of_val]
  exact K
theorem xd_addMultiple {post : SX → Prop} {t f g : Nat} {q : Int32} (ht : t ≤ 12) (hf : f ≤ 12) (htf : f ≠ t) (hq : q = nI g) (hg : g ≤ 5) (K : ∀ Q', (∀ j, j < 10 → Q' t j = Q t j + Fin.ofNat 5 g * Q f j) → (∀ q j, q ≠ t → j < 10 → Q' q j = Q q j) → post (nI n, nI fc, nI ic, sd_ea 16 G, sd_ea 10 Q', sd_nv fN, sd_nv fD, sd_nv bl, sd_nv iv, sd_nv kv)) : wpX_addMultiple post (nI n, nI fc, nI ic, sd_ea 16 G, sd_ea 10 Q, sd_nv fN, sd_nv fD, sd_nv bl, sd_nv iv, sd_nv kv) (nI t) (nI f) q := by
  subst hq
  refine Exists.intro 11 ?_
  have lp : ∀ (d c : Nat) (H : Nat → Nat → Fin 5), c + d = 10 → (∀ j, j < 10 → H t j = if j < c then Q t j + Fin.ofNat 5 g * Q f j else Q t j) → (∀ q j, q ≠ t → j < 10 → H q j = Q q j) → wX_addMultiple_3 post (nI t) (nI f) (nI g) (d + 1) (nI c) (nI n) (nI fc) (nI ic) (sd_ea 16 G) (sd_ea 10 H) (sd_nv fN) (sd_nv fD) (sd_nv bl) (sd_nv iv) (sd_nv kv) := by
    intro d
    induction d with
    | zero =>
      intro c H hc h1 h2
      have e : c = 10 := by omega
      subst e
      exact br_t (by decide) (K H (fun j hj => (h1 j hj).trans (if_pos hj)) h2)
    | succ d ih =>
      intro c H hc h1 h2
      have hv := (H f c).isLt
      refine br_f (nI_ge (b := 10) (by omega) (by decide)) ?_
      rw [sd_ix10, sd_clN (by omega), sd_ea_r (by omega)]
      refine ⟨vp_in_nI (by omega) (by omega), xd_addCoefficient (w := g * (H f c).val) ht (by omega) rfl (by rw [sd_eI_l, pk_mul]) ?_ (nm_r (nI_1 c) (ih (c + 1) _ (by omega) ?_ ?_))⟩
      · have : g * (H f c).val ≤ 5 * 4 := Nat.mul_le_mul hg (by omega)
        omega
      · intro j hj
        by_cases e : j = c
        · subst e
          rw [sd_u_s, if_pos (by omega), h1 j hj, if_neg (by omega), sd_of_mul, sd_of_val, h2 f j htf hj]
        · rw [sd_u_n (fun z => e z.2), h1 j hj]
          by_cases z : j < c
          · rw [if_pos z, if_pos (by omega)]
          · rw [if_neg z, if_neg (by omega)]
      · intro q j hq hj
        rw [sd_u_n (fun z => hq z.1)]; exact h2 q j hq hj
  exact lp 10 0 Q (by omega) (fun _ _ => (if_neg (by omega)).symm) (fun _ _ _ _ => rfl)
theorem xd_numberOf {post : Int32 → Prop} {p : Nat} (hp : p ≤ 12) (K : post (nI (sd_nm 10 (Q p)))) : wpX_numberOf post (nI n, nI fc, nI ic, sd_ea 16 G, sd_ea 10 Q, sd_nv fN, sd_nv fD, sd_nv bl, sd_nv iv, sd_nv kv) (nI p) := by
  refine Exists.intro 11 ?_
  have lp : ∀ (t : Nat), t ≤ 10 → wX_numberOf_5 post (nI p) (nI n) (nI fc) (nI ic) (sd_ea 16 G) (sd_ea 10 Q) (sd_nv fN) (sd_nv fD) (sd_nv bl) (sd_nv iv) (sd_nv kv) (t + 1) (nI (sd_nm (10 - t) (fun i => Q p (t + i)))) (nI t + (-1)) := by
    intro t
    induction t with
    | zero =>
      intro _
      refine br_t (by decide) ?_
      have e : (fun i => Q p (0 + i)) = Q p := by funext i; rw [Nat.zero_add]
      rw [e]; exact K
    | succ t ih =>
      intro ht
      rw [pk_m1]
      refine br_f (nI_pos (by omega)) ?_
      rw [sd_ix10, sd_clN (by omega), sd_ea_r (by omega)]
      refine ⟨vp_in_nI (by omega) (by omega), nm_r ?_ (nm_e (ih (by omega)))⟩
      have e5 : (5 : Int32) * nI (sd_nm (10 - (t + 1)) (fun i => Q p (t + 1 + i))) = nI (5 * sd_nm (10 - (t + 1)) (fun i => Q p (t + 1 + i))) := pk_mul 5 _
      rw [e5, sd_eI_l, nI_add]
      congr 1
      have e1 : 10 - t = (10 - (t + 1)) + 1 := by omega
      rw [e1]
      show _ = (Q p (t + 0)).val + 5 * sd_nm (10 - (t + 1)) (sd_tl (fun i => Q p (t + i)))
      have e2 : sd_tl (fun i => Q p (t + i)) = fun i => Q p (t + 1 + i) := by funext i; show Q p (t + (i + 1)) = _; congr 1; omega
      rw [e2]
      exact Nat.add_comm _ _
  have h := lp 10 (by omega)
  rw [show nI 10 + (-1) = 9 from by decide] at h
  exact h
theorem xd_load {post : SX → Prop} {p N : Nat} (hp : p ≤ 12) (hN : N < 5 ^ 10) (K : ∀ Q', (∀ j, j < 10 → Q' p j = sd_dg N j) → (∀ q j, q ≠ p → j < 10 → Q' q j = Q q j) → post (nI n, nI fc, nI ic, sd_ea 16 G, sd_ea 10 Q', sd_nv fN, sd_nv fD, sd_nv bl, sd_nv iv, sd_nv kv)) : wpX_load post (nI n, nI fc, nI ic, sd_ea 16 G, sd_ea 10 Q, sd_nv fN, sd_nv fD, sd_nv bl, sd_nv iv, sd_nv kv) (nI p) (nI N) := by
  have h10 : (5 : Nat) ^ 10 = 9765625 := by decide
  refine xd_clearPoly hp (fun Q1 f1 f1' => Exists.intro 11 ?_)
  have lp : ∀ (d c : Nat) (H : Nat → Nat → Fin 5), c + d = 10 → (∀ j, j < 10 → H p j = if j < c then sd_dg N j else 0) → (∀ q j, q ≠ p → j < 10 → H q j = Q q j) → wX_load_10 post (nI p) (nI n) (nI fc) (nI ic) (d + 1) (nI (N / 5 ^ c)) (nI c) (sd_ea 16 G) (sd_ea 10 H) (sd_nv fN) (sd_nv fD) (sd_nv bl) (sd_nv iv) (sd_nv kv) := by
    intro d
    induction d with
    | zero =>
      intro c H hc h1 h2
      have e : c = 10 := by omega
      subst e
      rw [Nat.div_eq_of_lt hN]
      exact br_t (by decide) (K H (fun j hj => (h1 j hj).trans (if_pos hj)) h2)
    | succ d ih =>
      intro c H hc h1 h2
      have hle : N / 5 ^ c ≤ N := Nat.div_le_self _ _
      by_cases z : N / 5 ^ c = 0
      · rw [z]
        refine br_t (by decide) (K H (fun j hj => ?_) h2)
        rw [h1 j hj]
        by_cases e : j < c
        · rw [if_pos e]
        · rw [if_neg e]
          have hlt : N < 5 ^ c := by
            rcases Nat.div_eq_zero_iff.mp z with h | h
            · exact absurd h (by have := Nat.pow_pos (n := c) (by omega : 0 < 5); omega)
            · exact h
          exact (sd_dg_dl hlt j (by omega)).symm
      · refine br_f (nI_nle (Nat.pos_of_ne_zero z) (by omega)) ?_
        rw [sd_ix10, sd_clN (by omega), sd_m5 (by omega), sd_nb', sd_ea_w (by omega)]
        refine ⟨sd_50, vp_in_nI (by omega) (by omega), nm_e ⟨sd_50, nm_r (e' := nI (N / 5 ^ (c + 1))) ?_ (nm_r (nI_1 c) (ih (c + 1) _ (by omega) ?_ ?_))⟩⟩
        · have := pk_div (a := N / 5 ^ c) (d := 5) (by omega) (by omega) (by omega)
          rw [show (5 : Int32) = nI 5 from rfl, this, Nat.div_div_eq_div_mul, ← Nat.pow_succ]
        · intro j hj
          by_cases e : j = c
          · subst e
            rw [sd_u_s, if_pos (by omega)]
            rfl
          · rw [sd_u_n (fun z => e z.2), h1 j hj]
            by_cases z : j < c
            · rw [if_pos z, if_pos (by omega)]
            · rw [if_neg z, if_neg (by omega)]
        · intro q j hq hj
          rw [sd_u_n (fun z => hq z.1)]; exact h2 q j hq hj
  have h := lp 10 0 Q1 (by omega) (fun j hj => (f1 j hj).trans (if_neg (by omega)).symm) f1'
  rw [Nat.pow_zero, Nat.div_one] at h
  exact h
/-- the number of coefficients up to the highest that is not 0 -/
theorem xd_degreeOf {post : Int32 → Prop} {p : Nat} (hp : p ≤ 12) (K : ∀ t, t ≤ 10 → (∀ x, t ≤ x → x < 10 → Q p x = 0) → (t = 0 ∨ Q p (t - 1) ≠ 0) → post (nI t + (-1))) : wpX_degreeOf post (nI n, nI fc, nI ic, sd_ea 16 G, sd_ea 10 Q, sd_nv fN, sd_nv fD, sd_nv bl, sd_nv iv, sd_nv kv) (nI p) := by
  refine Exists.intro 11 ?_
  have lp : ∀ (t : Nat), t ≤ 10 → (∀ x, t ≤ x → x < 10 → Q p x = 0) → wX_degreeOf_3 post (nI p) (nI n) (nI fc) (nI ic) (sd_ea 16 G) (sd_ea 10 Q) (sd_nv fN) (sd_nv fD) (sd_nv bl) (sd_nv iv) (sd_nv kv) (t + 1) (nI t + (-1)) := by
    intro t
    induction t with
    | zero => intro _ h; exact br_t (by decide) (K 0 (by omega) h (Or.inl rfl))
    | succ t ih =>
      intro ht h
      have e1 : nI (t + 1) + (-1) = nI t := pk_m1 t
      rw [e1]
      refine br_f (nI_pos (by omega)) ?_
      rw [sd_ix10, sd_clN (by omega), sd_ea_r (by omega)]
      refine ⟨vp_in_nI (by omega) (by omega), ?_⟩
      by_cases z : Q p t = 0
      · refine br_t ((sd_eI_0 _).mpr z) (nm_e (ih (by omega) ?_))
        intro x hx hx2
        by_cases e : x = t
        · rw [e]; exact z
        · exact h x (by omega) hx2
      · have k := K (t + 1) ht h (Or.inr z)
        rw [e1] at k
        exact br_f (fun q => z ((sd_eI_0 _).mp q)) k
  have h := lp 10 (by omega) (fun x h1 h2 => absurd h1 (by omega))
  rw [show nI 10 + (-1) = 9 from by decide] at h
  exact h
theorem xd_multiplyPoly {post : SX → Prop} {t a b : Nat} (ht : t ≤ 12) (ha : a ≤ 12) (hb : b ≤ 12) (ha7 : a ≠ 7) (hb7 : b ≠ 7) (K : ∀ Q', (∀ j, j < 10 → Q' t j = sd_pm (Q a) (Q b) j) → (∀ q j, q ≠ t → q ≠ 7 → j < 10 → Q' q j = Q q j) → post (nI n, nI fc, nI ic, sd_ea 16 G, sd_ea 10 Q', sd_nv fN, sd_nv fD, sd_nv bl, sd_nv iv, sd_nv kv)) : wpX_multiplyPoly post (nI n, nI fc, nI ic, sd_ea 16 G, sd_ea 10 Q, sd_nv fN, sd_nv fD, sd_nv bl, sd_nv iv, sd_nv kv) (nI t) (nI a) (nI b) := by
  refine xd_clearPoly (p := 7) (by omega) (fun Q1 f1 f1' => Exists.intro 11 ?_)
  have inv : ∀ (J : Int32 → Int32 → Int32 → Int32 → (Nat → Int32) → (Nat → Int32) → (Nat → Int32) → (Nat → Int32) → (Nat → Int32) → (Nat → Int32) → (Nat → Int32) → Prop) (i : Nat), i < 10 →
      (∀ H, (∀ x, x < 10 → H 7 x = sd_s (i + 1) (fun t => if t ≤ x then Q a t * Q b (x - t) else 0)) → (∀ q j, q ≠ 7 → j < 10 → H q j = Q q j) → J (nI (i + 1)) (nI n) (nI fc) (nI ic) (sd_ea 16 G) (sd_ea 10 H) (sd_nv fN) (sd_nv fD) (sd_nv bl) (sd_nv iv) (sd_nv kv)) →
      ∀ (d k : Nat) (H : Nat → Nat → Fin 5), i + k + d = 10 → (∀ x, x < 10 → H 7 x = sd_s i (fun t => if t ≤ x then Q a t * Q b (x - t) else 0) + (if i ≤ x ∧ x < i + k then Q a i * Q b (x - i) else 0)) → (∀ q j, q ≠ 7 → j < 10 → H q j = Q q j) →
      wX_multiplyPoly_19 post J (nI t) (nI a) (nI b) (nI i) (d + 1) (nI k) (nI n) (nI fc) (nI ic) (sd_ea 16 G) (sd_ea 10 H) (sd_nv fN) (sd_nv fD) (sd_nv bl) (sd_nv iv) (sd_nv kv) := by
    intro J i hi KJ d
    induction d with
    | zero =>
      intro k H hk h1 h2
      have e : nI i + nI k = nI 10 := by rw [nI_add]; congr 1
      refine br_t (by rw [e]; decide) (nm_r (nI_1 i) (KJ H (fun x hx => ?_) h2))
      rw [h1 x hx]
      show _ = sd_s i _ + (if i ≤ x then Q a i * Q b (x - i) else 0)
      by_cases z : i ≤ x
      · rw [if_pos z, if_pos ⟨z, by omega⟩]
      · rw [if_neg z, if_neg (fun q => z q.1)]
    | succ d ih =>
      intro k H hk h1 h2
      have hva := (H a i).isLt
      have hvb := (H b k).isLt
      refine br_f (by rw [nI_add]; exact nI_ge (b := 10) (by omega) (by decide)) ?_
      rw [sd_ix10, sd_ix10, sd_clN (by omega), sd_clN (by omega), sd_ea_r (by omega), sd_ea_r (by omega)]
      refine ⟨vp_in_nI (by omega) (by omega), vp_in_nI (by omega) (by omega), xd_addCoefficient (p := 7) (j := i + k) (w := (H a i).val * (H b k).val) (by omega) (by omega) (nI_add i k) (by rw [sd_eI_l, sd_eI_l, pk_mul]) ?_ (nm_r (nI_1 k) (ih (k + 1) _ (by omega) ?_ ?_))⟩
      · have := sd_val_m (H a i) (H b k)
        omega
      · intro x hx
        by_cases e : x = i + k
        · subst e
          rw [sd_u_s, h1 _ hx, if_neg (by omega), if_pos ⟨by omega, by omega⟩, sd_of_mul, sd_of_val, sd_of_val, h2 a i ha7 hi, h2 b k hb7 (by omega)]
          have : i + k - i = k := by omega
          rw [this]; grind
        · rw [sd_u_n (fun z => e z.2), h1 x hx]
          congr 1
          by_cases z : i ≤ x ∧ x < i + k
          · rw [if_pos z, if_pos ⟨z.1, by omega⟩]
          · rw [if_neg z, if_neg (fun q => z ⟨q.1, by omega⟩)]
      · intro q j hq hj
        rw [sd_u_n (fun z => hq z.1)]; exact h2 q j hq hj
  have lp : ∀ (d i : Nat) (H : Nat → Nat → Fin 5), i + d = 10 → (∀ x, x < 10 → H 7 x = sd_s i (fun t => if t ≤ x then Q a t * Q b (x - t) else 0)) → (∀ q j, q ≠ 7 → j < 10 → H q j = Q q j) → wX_multiplyPoly_9 post (nI t) (nI a) (nI b) (d + 1) (nI i) (nI n) (nI fc) (nI ic) (sd_ea 16 G) (sd_ea 10 H) (sd_nv fN) (sd_nv fD) (sd_nv bl) (sd_nv iv) (sd_nv kv) := by
    intro d
    induction d with
    | zero =>
      intro i H hi h1 h2
      have e : i = 10 := by omega
      subst e
      refine br_t (by decide) (xd_copyPoly (f := 7) ht (by omega) (fun Q' g1 g2 => K Q' (fun j hj => ?_) (fun q j hq h7 hj => ?_)))
      · rw [g1 j hj, h1 j hj, sd_pm_sum hj]
      · rw [g2 q j hq hj, h2 q j h7 hj]
    | succ d ih =>
      intro i H hi h1 h2
      refine br_f (nI_ge (b := 10) (by omega) (by decide)) (Exists.intro (10 - i + 1) (inv _ i (by omega) (fun H' g1 g2 => ih (i + 1) H' (by omega) g1 g2) (10 - i) 0 H (by omega) (fun x hx => ?_) h2))
      rw [h1 x hx, if_neg (by omega)]; grind
  exact lp 10 0 Q1 (by omega) (fun x hx => f1 x hx) f1'
end
end
section
/-! ===== X: the nearly triangular form and the characteristic polynomial ===== -/
def sd_tv (i k : Nat) (f : Fin 5) : sd_M := fun r x => (if r = x then 1 else 0) + (if r = i ∧ x = k then f else 0)
theorem sd_tvR {n i k r x : Nat} (f : Fin 5) (M : sd_M) (hx : x < n) (hi : i < n) : sd_m n M (sd_tv i k f) r x = M r x + (if x = k then f * M r i else 0) := by
  have e : (fun l => M r l * sd_tv i k f l x) = fun l => (if l = x then M r l else 0) + (if l = i then (if x = k then f * M r i else 0) else 0) := by
    funext l
    unfold sd_tv
    by_cases h1 : l = x
    · rw [if_pos h1, if_pos h1]
      by_cases h2 : l = i
      · by_cases h3 : x = k
        · rw [if_pos ⟨h2, h3⟩, if_pos h2, if_pos h3, h2]; grind
        · rw [if_neg (fun q => h3 q.2), if_pos h2, if_neg h3]; grind
      · rw [if_neg (fun q => h2 q.1), if_neg h2]; grind
    · rw [if_neg h1, if_neg h1]
      by_cases h2 : l = i
      · by_cases h3 : x = k
        · rw [if_pos ⟨h2, h3⟩, if_pos h2, if_pos h3, h2]; grind
        · rw [if_neg (fun q => h3 q.2), if_pos h2, if_neg h3]; grind
      · rw [if_neg (fun q => h2 q.1), if_neg h2]; grind
  unfold sd_m
  rw [e, sd_s_add, sd_s_d' n x hx (fun l => M r l), sd_s_d' n i hi (fun _ => if x = k then f * M r i else 0)]
theorem sd_tvL {n i k r x : Nat} (f : Fin 5) (M : sd_M) (hr : r < n) (hk : k < n) : sd_m n (sd_tv i k f) M r x = M r x + (if r = i then f * M k x else 0) := by
  have e : (fun l => sd_tv i k f r l * M l x) = fun l => (if l = r then M l x else 0) + (if l = k then (if r = i then f * M k x else 0) else 0) := by
    funext l
    unfold sd_tv
    have a1 : ∀ y : Fin 5, (if r = l then y else 0) = if l = r then y else 0 := by
      intro y
      by_cases h : l = r
      · rw [if_pos h, if_pos h.symm]
      · have h' : ¬ r = l := fun q => h q.symm
        rw [if_neg h, if_neg h']
    have a2 : (if r = i ∧ l = k then f else 0) * M l x = if l = k then (if r = i then f * M k x else 0) else 0 := by
      by_cases h2 : l = k
      · subst h2
        by_cases h3 : r = i
        · simp only [h3, eq_self, and_self, reduceIte]
        · simp only [h3, eq_self, false_and, reduceIte]; grind
      · simp only [h2, and_false, reduceIte]; grind
    have a3 : (if r = l then (1 : Fin 5) else 0) * M l x = if l = r then M l x else 0 := by
      rw [a1]
      split <;> grind
    rw [← a2, ← a3]; grind
  unfold sd_m
  rw [e, sd_s_add, sd_s_d' n r hr (fun l => M l x), sd_s_d' n k hk (fun _ => if r = i then f * M k x else 0)]
theorem sd_x_cl {n : Nat} (A B : sd_M) : sd_x n (sd_cl n A) (sd_cl n B) = sd_x n A B := by
  apply sd_ok_e (sd_x_ok n _ _) (sd_x_ok n _ _)
  intro i j hi hj
  rw [sd_x_v hi hj, sd_x_v hi hj]
  exact sd_m_c (fun l hl => sd_cl_v hi hl) (fun l hl => sd_cl_v hl hj)
theorem sd_sim_tv {n i k : Nat} {f : Fin 5} {M M' : sd_M} (hi : i < n) (hk : k < n) (hik : i ≠ k) (h : ∀ r x, r < n → x < n → M' r x = if x = k then (if r = i then M i k - f * M k k else M r k) + f * (if r = i then M i i - f * M k i else M r i) else (if r = i then M i x - f * M k x else M r x)) : sd_sim n (sd_cl n M) (sd_cl n M') := by
  have inv : ∀ g h : Fin 5, g + h = 0 → sd_x n (sd_cl n (sd_tv i k g)) (sd_cl n (sd_tv i k h)) = sd_I n := by
    intro g h hgh
    rw [sd_x_cl]
    apply sd_ok_e (sd_x_ok n _ _) (sd_I_ok n)
    intro r x hr hx
    rw [sd_x_v hr hx, sd_tvR h _ hx hi, sd_I_v hr hx]
    unfold sd_tv
    have nik : ¬ (r = i ∧ i = k) := fun q => hik q.2
    rw [if_neg nik]
    by_cases h1 : x = k
    · by_cases h2 : r = i
      · have q1 : r = i ∧ x = k := ⟨h2, h1⟩
        rw [if_pos h1, if_pos q1, if_pos h2]; grind
      · have q1 : ¬ (r = i ∧ x = k) := fun q => h2 q.1
        rw [if_pos h1, if_neg q1, if_neg h2]; grind
    · have q1 : ¬ (r = i ∧ x = k) := fun q => h1 q.2
      rw [if_neg h1, if_neg q1]; grind
  refine ⟨sd_cl n (sd_tv i k f), sd_cl n (sd_tv i k (- f)), sd_cl_ok n _, sd_cl_ok n _, inv f (- f) (by grind), inv (- f) f (by grind), ?_⟩
  rw [sd_x_cl, sd_x_cl]
  apply sd_ok_e (sd_x_ok n _ _) (sd_x_ok n _ _)
  intro r x hr hx
  rw [sd_x_v hr hx, sd_x_v hr hx, sd_tvR f M hx hi, sd_tvL f M' hr hk, h r x hr hx, h k x hk hx]
  have nki : ¬ k = i := fun q => hik q.symm
  by_cases h1 : x = k
  · subst h1
    by_cases h2 : r = i
    · subst h2; simp only [nki, eq_self, reduceIte]; grind
    · simp only [nki, h2, eq_self, reduceIte]; grind
  · by_cases h2 : r = i
    · subst h2; simp only [nki, h1, eq_self, reduceIte]; grind
    · simp only [nki, h1, h2, reduceIte]
theorem sd_sim_sw {n p q : Nat} {M M' : sd_M} (hp : p < n) (hq : q < n) (h : ∀ r x, r < n → x < n → M' r x = M (sd_sw p q r) (sd_sw p q x)) : sd_sim n (sd_cl n M) (sd_cl n M') := by
  have mR : ∀ (N : sd_M) (r x : Nat), x < n → sd_m n N (fun r x => if r = sd_sw p q x then 1 else 0) r x = N r (sd_sw p q x) := by
    intro N r x hx
    refine (sd_s_1 (sd_sw p q x) (sd_sw_lt hp hq hx) _ ?_).trans ?_
    · intro l _ hl
      show N r l * (if l = sd_sw p q x then 1 else 0) = 0
      rw [if_neg hl]; grind
    · show N r (sd_sw p q x) * (if sd_sw p q x = sd_sw p q x then 1 else 0) = _
      rw [if_pos rfl]; grind
  have mL : ∀ (N : sd_M) (r x : Nat), r < n → sd_m n (fun r x => if r = sd_sw p q x then 1 else 0) N r x = N (sd_sw p q r) x := by
    intro N r x hr
    refine (sd_s_1 (sd_sw p q r) (sd_sw_lt hp hq hr) _ ?_).trans ?_
    · intro l _ hl
      show (if r = sd_sw p q l then 1 else 0) * N l x = 0
      rw [if_neg]; · grind
      intro e
      apply hl
      rw [e, sd_sw_sw]
    · show (if r = sd_sw p q (sd_sw p q r) then 1 else 0) * N (sd_sw p q r) x = _
      rw [sd_sw_sw, if_pos rfl]; grind
  have pp : sd_x n (sd_cl n (fun r x => if r = sd_sw p q x then 1 else 0)) (sd_cl n (fun r x => if r = sd_sw p q x then 1 else 0)) = sd_I n := by
    rw [sd_x_cl]
    apply sd_ok_e (sd_x_ok n _ _) (sd_I_ok n)
    intro r x hr hx
    rw [sd_x_v hr hx, mR _ r x hx, sd_I_v hr hx, sd_sw_sw]
  refine ⟨_, _, sd_cl_ok n _, sd_cl_ok n _, pp, pp, ?_⟩
  rw [sd_x_cl, sd_x_cl]
  apply sd_ok_e (sd_x_ok n _ _) (sd_x_ok n _ _)
  intro r x hr hx
  rw [sd_x_v hr hx, sd_x_v hr hx, mR M r x hx, mL M' r x hr, h _ x (sd_sw_lt hp hq hr) hx, sd_sw_sw]
theorem sd_le2 : ∀ n, n < 5 → ∀ c, c < 5 → (nI n - 2 ≤ nI c ↔ n ≤ c + 2) := by decide +kernel
/-- zeros below the places next to the diagonal, columns below c -/
def sd_Hs (n : Nat) (M : sd_M) (c : Nat) : Prop := ∀ j, j < c → ∀ i, j + 1 < i → i < n → M i j = 0
section
variable {n fc ic : Nat} {G Q : Nat → Nat → Fin 5} {fN fD bl iv kv : Nat → Nat}
theorem xd_hess_in {post : SX → Prop} {J : Int32 → Int32 → Int32 → Int32 → (Nat → Int32) → (Nat → Int32) → (Nat → Int32) → (Nat → Int32) → (Nat → Int32) → (Nat → Int32) → (Nat → Int32) → Prop} {A : sd_M} {c : Nat} {v : Fin 5} (hn : n ≤ 4) (hc : c + 2 < n) (hv : v ≠ 0)
    (K : ∀ H, sd_sim n A (sd_cl n (fun i k => H 5 (4 * i + k))) → sd_Hs n (fun i k => H 5 (4 * i + k)) (c + 1) → (∀ a x, a ≠ 5 → x < 16 → H a x = G a x) → J (nI (c + 1)) (nI n) (nI fc) (nI ic) (sd_ea 16 H) (sd_ea 10 Q) (sd_nv fN) (sd_nv fD) (sd_nv bl) (sd_nv iv) (sd_nv kv)) :
    ∀ (d i : Nat) (H : Nat → Nat → Fin 5), i + d = n → c + 2 ≤ i → sd_sim n A (sd_cl n (fun i k => H 5 (4 * i + k))) → sd_Hs n (fun i k => H 5 (4 * i + k)) c → H 5 (4 * (c + 1) + c) = v → (∀ x, c + 1 < x → x < i → H 5 (4 * x + c) = 0) → (∀ a x, a ≠ 5 → x < 16 → H a x = G a x) →
    wX_makeNearlyTriangular_93 post J 5 (nI c) (sd_eI (sd_i v)) (d + 1) (nI i) (nI n) (nI fc) (nI ic) (sd_ea 16 H) (sd_ea 10 Q) (sd_nv fN) (sd_nv fD) (sd_nv bl) (sd_nv iv) (sd_nv kv) := by
  intro d
  induction d with
  | zero =>
    intro i H hi hci sm hs hpv hz fr
    refine br_t (nI_le (by omega) (by omega)) (nm_r (nI_1 c) (K H sm ?_ fr))
    intro j hj x hx hxn
    by_cases e : j = c
    · subst e; exact hz x hx (by omega)
    · exact hs j (by omega) x hx hxn
  | succ d ih =>
    intro i H hi hci sm hs hpv hz fr
    refine br_f (nI_ge (by omega) (by omega)) (xd_entry (m := 5) (by omega) (by omega) (by omega) ⟨sd_50, nm_r (e' := sd_eI (H 5 (4 * i + c) * sd_i v)) (sd_w1 _ _) ?_⟩)
    rw [nI_1 c]
    refine xd_subtractRow (m := 5) (by omega) (by omega) (by omega) (by omega) hn (fun H1 f1 f1' => xd_addColumn (m := 5) (by omega) (by omega) (by omega) (by omega) hn (fun H2 f2 f2' => nm_r (nI_1 i) (ih (i + 1) H2 (by omega) (by omega) ?_ ?_ ?_ ?_ ?_)))
    · refine sd_sim_t sm (sd_sim_tv (i := i) (k := c + 1) (f := H 5 (4 * i + c) * sd_i v) (by omega) (by omega) (by omega) ?_)
      intro r x hr hx
      show H2 5 (4 * r + x) = _
      rw [f2 r x hr (by omega), f1 r x (by omega) hx, f1 r (c + 1) (by omega) (by omega), f1 r i (by omega) (by omega)]
    · intro j hj x hx hxn
      show H2 5 (4 * x + j) = 0
      rw [f2 x j hxn (by omega), if_neg (by omega), f1 x j (by omega) (by omega)]
      have z1 : H 5 (4 * (c + 1) + j) = 0 := hs j hj (c + 1) (by omega) (by omega)
      by_cases e : x = i
      · subst e
        have z2 : H 5 (4 * x + j) = 0 := hs j hj x hx hxn
        rw [if_pos rfl, z1, z2]; grind
      · rw [if_neg e]; exact hs j hj x hx hxn
    · rw [f2 (c + 1) c (by omega) (by omega), if_neg (by omega), f1 (c + 1) c (by omega) (by omega), if_neg (by omega)]
      exact hpv
    · intro x hx hxi
      rw [f2 x c (by omega) (by omega), if_neg (by omega), f1 x c (by omega) (by omega)]
      by_cases e : x = i
      · subst e
        rw [if_pos rfl, hpv]
        have := sd_i_m' v hv
        grind
      · rw [if_neg e]; exact hz x hx (by omega)
    · intro a x ha hx
      rw [f2' a x ha hx, f1' a x ha hx, fr a x ha hx]
theorem xd_nearly {post : SX → Prop} {A : sd_M} (hn : n ≤ 4) (sm0 : sd_sim n A (sd_cl n (fun i k => G 5 (4 * i + k))))
    (K : ∀ G', sd_sim n A (sd_cl n (fun i k => G' 5 (4 * i + k))) → (∀ i j, i < n → j + 1 < i → G' 5 (4 * i + j) = 0) → (∀ a x, a ≠ 5 → x < 16 → G' a x = G a x) → post (nI n, nI fc, nI ic, sd_ea 16 G', sd_ea 10 Q, sd_nv fN, sd_nv fD, sd_nv bl, sd_nv iv, sd_nv kv)) : wpX_makeNearlyTriangular post (nI n, nI fc, nI ic, sd_ea 16 G, sd_ea 10 Q, sd_nv fN, sd_nv fD, sd_nv bl, sd_nv iv, sd_nv kv) 5 := by
  refine Exists.intro (n + 1) ?_
  have j40 : ∀ (J : Int32 → Int32 → Int32 → Int32 → (Nat → Int32) → (Nat → Int32) → (Nat → Int32) → (Nat → Int32) → (Nat → Int32) → (Nat → Int32) → (Nat → Int32) → Prop) (H : Nat → Nat → Fin 5) (c p : Nat), c + 2 < n → c + 1 ≤ p → p ≤ n →
      sd_sim n A (sd_cl n (fun i k => H 5 (4 * i + k))) → sd_Hs n (fun i k => H 5 (4 * i + k)) c → (∀ x, c + 1 ≤ x → x < p → H 5 (4 * x + c) = 0) → (p < n → H 5 (4 * p + c) ≠ 0) → (∀ a x, a ≠ 5 → x < 16 → H a x = G a x) →
      (∀ H', sd_sim n A (sd_cl n (fun i k => H' 5 (4 * i + k))) → sd_Hs n (fun i k => H' 5 (4 * i + k)) (c + 1) → (∀ a x, a ≠ 5 → x < 16 → H' a x = G a x) → J (nI (c + 1)) (nI n) (nI fc) (nI ic) (sd_ea 16 H') (sd_ea 10 Q) (sd_nv fN) (sd_nv fD) (sd_nv bl) (sd_nv iv) (sd_nv kv)) → wX_makeNearlyTriangular_40 post J 5 (nI c) (nI p) (nI n) (nI fc) (nI ic) (sd_ea 16 H) (sd_ea 10 Q) (sd_nv fN) (sd_nv fD) (sd_nv bl) (sd_nv iv) (sd_nv kv) := by
    intro J H c p hc hcp hp sm hs hz hpv fr KJ
    by_cases e : p = n
    · subst e
      refine br_t rfl (nm_r (nI_1 c) (KJ H sm ?_ fr))
      intro j hj x hx hxn
      by_cases e : j = c
      · subst e; exact hz x (by omega) hxn
      · exact hs j (by omega) x hx hxn
    · have hpn : p < n := by omega
      refine br_f (fun z => e ((nI_eq (by omega) (by omega)).mp z)) ?_
      rw [nI_1 c]
      refine xd_exchangeRows (m := 5) (by omega) (by omega) (by omega) hn (fun H1 f1 f1' => xd_exchangeColumns (m := 5) (by omega) (by omega) (by omega) hn (fun H2 f2 f2' => xd_entry (m := 5) (by omega) (by omega) (by omega) (xd_inverseOf (nm_r (e' := nI (c + 2)) (nI_add c 2) (Exists.intro (n - (c + 2) + 1) ?_)))))
      have g : ∀ r x, r < n → x < n → H2 5 (4 * r + x) = H 5 (4 * (sd_sw p (c + 1) r) + sd_sw p (c + 1) x) := by
        intro r x hr hx
        have k1 : ∀ y, y < n → H1 5 (4 * r + y) = H 5 (4 * (sd_sw p (c + 1) r) + y) := by
          intro y hy
          rw [f1 r y (by omega) hy]
          unfold sd_sw
          by_cases z1 : r = p
          · rw [if_pos z1, if_pos z1]
          · rw [if_neg z1, if_neg z1]
            by_cases z2 : r = c + 1
            · rw [if_pos z2, if_pos z2]
            · rw [if_neg z2, if_neg z2]
        rw [f2 r x hr (by omega)]
        by_cases z1 : x = p
        · rw [if_pos z1, k1 _ (by omega)]
          have : sd_sw p (c + 1) x = c + 1 := by unfold sd_sw; rw [if_pos z1]
          rw [this]
        · rw [if_neg z1]
          by_cases z2 : x = c + 1
          · rw [if_pos z2, k1 _ hpn]
            have : sd_sw p (c + 1) x = p := by unfold sd_sw; rw [if_neg z1, if_pos z2]
            rw [this]
          · rw [if_neg z2, k1 _ hx]
            have : sd_sw p (c + 1) x = x := by unfold sd_sw; rw [if_neg z1, if_neg z2]
            rw [this]
      have swc : ∀ j, j ≤ c → sd_sw p (c + 1) j = j := by
        intro j hj
        unfold sd_sw; rw [if_neg (by omega), if_neg (by omega)]
      have sw1 : sd_sw p (c + 1) (c + 1) = p := by
        unfold sd_sw
        by_cases z : c + 1 = p
        · rw [if_pos z, z]
        · rw [if_neg z, if_pos rfl]
      refine xd_hess_in (A := A) (v := H2 5 (4 * (c + 1) + c)) hn hc ?_ KJ (n - (c + 2)) (c + 2) H2 (by omega) (by omega) (sd_sim_t sm (sd_sim_sw hpn (by omega) g)) ?_ rfl (fun x h1 h2 => absurd h1 (by omega)) (fun a x ha hx => by rw [f2' a x ha hx, f1' a x ha hx, fr a x ha hx])
      · rw [g _ _ (by omega) (by omega), sw1, swc c (by omega)]
        exact hpv hpn
      · intro j hj x hx hxn
        show H2 5 (4 * x + j) = 0
        rw [g x j hxn (by omega), swc j (by omega)]
        refine hs j hj _ ?_ (sd_sw_lt hpn (by omega) hxn)
        unfold sd_sw
        split
        · omega
        · split <;> omega
  have srch : ∀ (J : Int32 → Int32 → Int32 → Int32 → (Nat → Int32) → (Nat → Int32) → (Nat → Int32) → (Nat → Int32) → (Nat → Int32) → (Nat → Int32) → (Nat → Int32) → Prop) (H : Nat → Nat → Fin 5) (c : Nat), c + 2 < n →
      sd_sim n A (sd_cl n (fun i k => H 5 (4 * i + k))) → sd_Hs n (fun i k => H 5 (4 * i + k)) c → (∀ a x, a ≠ 5 → x < 16 → H a x = G a x) →
      (∀ H', sd_sim n A (sd_cl n (fun i k => H' 5 (4 * i + k))) → sd_Hs n (fun i k => H' 5 (4 * i + k)) (c + 1) → (∀ a x, a ≠ 5 → x < 16 → H' a x = G a x) → J (nI (c + 1)) (nI n) (nI fc) (nI ic) (sd_ea 16 H') (sd_ea 10 Q) (sd_nv fN) (sd_nv fD) (sd_nv bl) (sd_nv iv) (sd_nv kv)) →
      ∀ (d p : Nat), p + d = n → c + 1 ≤ p → (∀ x, c + 1 ≤ x → x < p → H 5 (4 * x + c) = 0) → wX_makeNearlyTriangular_16 post J 5 (nI c) (nI n) (nI fc) (nI ic) (sd_ea 16 H) (sd_ea 10 Q) (sd_nv fN) (sd_nv fD) (sd_nv bl) (sd_nv iv) (sd_nv kv) (d + 1) (nI p) := by
    intro J H c hc sm hs fr KJ d
    induction d with
    | zero =>
      intro p hp hcp hz
      exact br_t (nI_le (by omega) (by omega)) (j40 J H c p hc hcp (by omega) sm hs hz (fun h => absurd h (by omega)) fr KJ)
    | succ d ih =>
      intro p hp hcp hz
      refine br_f (nI_ge (by omega) (by omega)) (xd_entry (m := 5) (by omega) (by omega) (by omega) ?_)
      by_cases z : H 5 (4 * p + c) = 0
      · refine br_t ((sd_eI_0 _).mpr z) (nm_r (nI_1 p) (ih (p + 1) (by omega) (by omega) ?_))
        intro x hx hxp
        by_cases e : x = p
        · rw [e]; exact z
        · exact hz x hx (by omega)
      · exact br_f (fun q => z ((sd_eI_0 _).mp q)) (j40 J H c p hc hcp (by omega) sm hs hz (fun _ => z) fr KJ)
  have lp : ∀ (d c : Nat) (H : Nat → Nat → Fin 5), c + d = n → sd_sim n A (sd_cl n (fun i k => H 5 (4 * i + k))) → sd_Hs n (fun i k => H 5 (4 * i + k)) c → (∀ a x, a ≠ 5 → x < 16 → H a x = G a x) → wX_makeNearlyTriangular_2 post 5 (d + 1) (nI c) (nI n) (nI fc) (nI ic) (sd_ea 16 H) (sd_ea 10 Q) (sd_nv fN) (sd_nv fD) (sd_nv bl) (sd_nv iv) (sd_nv kv) := by
    intro d
    induction d with
    | zero =>
      intro c H hc sm hs fr
      exact br_t ((sd_le2 n (by omega) c (by omega)).mpr (by omega)) (K H sm (fun i j hi hj => hs j (by omega) i hj hi) fr)
    | succ d ih =>
      intro c H hc sm hs fr
      by_cases e : n ≤ c + 2
      · exact br_t ((sd_le2 n (by omega) c (by omega)).mpr e) (K H sm (fun i j hi hj => hs j (by omega) i hj hi) fr)
      · refine br_f (fun z => e ((sd_le2 n (by omega) c (by omega)).mp z)) (nm_r (nI_1 c) (Exists.intro (n - (c + 1) + 1) (srch _ H c (by omega) sm hs fr (fun H' a b f => ih (c + 1) H' (by omega) a b f) (n - (c + 1)) (c + 1) (by omega) (Nat.le_refl _) (fun x h1 h2 => absurd h1 (by omega)))))
  exact lp n 0 G (by omega) sm0 (fun j hj => absurd hj (by omega)) (fun _ _ _ _ => rfl)
end
end
section
/-! ===== X: the characteristic polynomial, division ===== -/
theorem sd_hin_dl {H : sd_M} {k e : Nat} {p : Nat → sd_P} : ∀ (i : Nat) (c : Fin 5) (z : sd_P), (∀ t, t < i → sd_dl (p t) e) → sd_dl z e → sd_dl (sd_hin H k p i c z) e := by
  intro i
  induction i with
  | zero => intro c z _ h; exact h
  | succ i ih =>
    intro c z hp h
    apply ih _ _ (fun t ht => hp t (by omega))
    intro j hj
    show z j + - (c * H (i + 1) i * H i k) * p i j = 0
    rw [h j hj, hp i (by omega) j hj]; grind
theorem sd_hp_dl (H : sd_M) : ∀ k i : Nat, i ≤ k → sd_dl (sd_hp H k i) (i + 1) := by
  intro k
  induction k with
  | zero => intro i hi; exact sd_dl_le (sd_dl_pc 1) (by omega)
  | succ k ih =>
    intro i hi
    show sd_dl (if i ≤ k then sd_hp H k i else sd_hin H k (sd_hp H k) k 1 (sd_pm (sd_xm H k k) (sd_hp H k k))) (i + 1)
    by_cases e : i ≤ k
    · rw [if_pos e]; exact ih i e
    · rw [if_neg e]
      have ei : i = k + 1 := by omega
      subst ei
      apply sd_hin_dl
      · intro t ht
        exact sd_dl_le (ih t (by omega)) (by omega)
      · exact sd_dl_le (sd_dl_pm 1 (sd_xm_dl H k k) (ih k (Nat.le_refl k))) (by omega)
theorem sd_xm_m (H : sd_M) (k : Nat) (P : sd_P) (x : Nat) : sd_pm (sd_xm H k k) P x = (if 1 ≤ x then P (x - 1) else 0) - H k k * P x := by
  have e : sd_xm H k k = sd_cs (- H k k) (sd_pc 1) := by
    funext j
    cases j with
    | zero => rfl
    | succ j =>
      show (if j + 1 = 0 then _ else if j + 1 = 1 then (if k = k then 1 else 0) else 0) = (if j = 0 then 1 else 0)
      rw [if_neg (by omega), if_pos rfl]
      by_cases z : j = 0
      · rw [if_pos z, if_pos (by omega)]
      · rw [if_neg z, if_neg (by omega)]
  rw [e, sd_pm_cs, sd_pm_1]
  show - H k k * P x + sd_cs 0 P x = _
  cases x with
  | zero => show - H k k * P 0 + 0 = _; rw [if_neg (by omega)]; grind
  | succ x => show - H k k * P (x + 1) + P x = _; rw [if_pos (by omega), Nat.add_sub_cancel]; grind
theorem sd_of5s : ∀ h : Fin 5, Fin.ofNat 5 (5 - h.val) = - h := by decide
theorem sd_5mE : ∀ h : Fin 5, 5 - sd_eI h = nI (5 - h.val) := by decide +kernel
theorem sd_sub1 : ∀ k, k < 5 → nI k - 1 = nI k + (-1) := by decide +kernel
section
variable {n fc ic : Nat} {G Q : Nat → Nat → Fin 5} {fN fD bl iv kv : Nat → Nat}
theorem xd_cp_in {post : Int32 → SX → Prop} {J : Int32 → Int32 → Int32 → Int32 → (Nat → Int32) → (Nat → Int32) → (Nat → Int32) → (Nat → Int32) → (Nat → Int32) → (Nat → Int32) → (Nat → Int32) → Prop} {M : sd_M} {k : Nat} {p : Nat → sd_P} {Z : sd_P} (hn : n ≤ 4) (hk : k < n) (hM : ∀ i j, i < n → j < n → G 5 (4 * i + j) = M i j)
    (K : ∀ H, (∀ j, j < 10 → H (k + 9) j = Z j) → (∀ q j, q ≠ k + 9 → j < 10 → H q j = Q q j) → J (nI (k + 1)) (nI n) (nI fc) (nI ic) (sd_ea 16 G) (sd_ea 10 H) (sd_nv fN) (sd_nv fD) (sd_nv bl) (sd_nv iv) (sd_nv kv)) :
    ∀ (t : Nat) (c : Fin 5) (z : sd_P) (H : Nat → Nat → Fin 5), t ≤ k → sd_hin M k p t c z = Z → (∀ i j, i ≤ k → j < 10 → H (8 + i) j = p i j) → (∀ j, j < 10 → H (k + 9) j = z j) → (∀ q j, q ≠ k + 9 → j < 10 → H q j = Q q j) →
    wX_characteristicOf_128 post J (nI k) (nI (k + 9)) (t + 1) (sd_eI c) (nI t + (-1)) (nI n) (nI fc) (nI ic) (sd_ea 16 G) (sd_ea 10 H) (sd_nv fN) (sd_nv fD) (sd_nv bl) (sd_nv iv) (sd_nv kv) := by
  intro t
  induction t with
  | zero =>
    intro c z H _ hZ hp hz fr
    refine br_t (by decide) (nm_r (nI_1 k) (K H (fun j hj => ?_) fr))
    rw [hz j hj, ← hZ]; rfl
  | succ t ih =>
    intro c z H ht hZ hp hz fr
    rw [pk_m1]
    refine br_f (nI_pos (by omega)) ?_
    rw [nI_1 t]
    refine xd_entry (m := 5) (by omega) (by omega) (by omega) ⟨sd_50, nm_r (e' := sd_eI (c * M (t + 1) t)) (by rw [hM _ _ (by omega) (by omega)]; exact sd_w1 _ _) (xd_entry (m := 5) (by omega) (by omega) (by omega) ⟨sd_50, nm_r (e' := sd_eI (c * M (t + 1) t * M t k)) (by rw [hM _ _ (by omega) (by omega)]; exact sd_w1 _ _) ?_⟩)⟩
    rw [show (8 : Int32) + nI t = nI (8 + t) from nI_add 8 t]
    refine xd_addMultiple (g := 5 - (c * M (t + 1) t * M t k).val) (by omega) (by omega) (by omega) (sd_5mE _) (by omega) (fun H' f1 f2 => nm_e (ih _ _ H' (by omega) hZ ?_ ?_ ?_))
    · intro i j hi hj
      rw [f2 _ j (by omega) hj, hp i j hi hj]
    · intro j hj
      rw [f1 j hj, hz j hj, hp t j (by omega) hj, sd_of5s]; rfl
    · intro q j hq hj
      rw [f2 q j hq hj, fr q j hq hj]
theorem xd_cp_j {post : Int32 → SX → Prop} {J : Int32 → Int32 → Int32 → Int32 → (Nat → Int32) → (Nat → Int32) → (Nat → Int32) → (Nat → Int32) → (Nat → Int32) → (Nat → Int32) → (Nat → Int32) → Prop} {M : sd_M} {k : Nat} {p : Nat → sd_P} (hn : n ≤ 4) (hk : k < n) (hM : ∀ i j, i < n → j < n → G 5 (4 * i + j) = M i j) (hdl : sd_dl (p k) (k + 1))
    (K : ∀ H, (∀ j, j < 10 → H (k + 9) j = sd_hin M k p k 1 (sd_pm (sd_xm M k k) (p k)) j) → (∀ q j, q ≠ k + 9 → j < 10 → H q j = Q q j) → J (nI (k + 1)) (nI n) (nI fc) (nI ic) (sd_ea 16 G) (sd_ea 10 H) (sd_nv fN) (sd_nv fD) (sd_nv bl) (sd_nv iv) (sd_nv kv)) :
    ∀ (d j : Nat) (H : Nat → Nat → Fin 5), j + d = k + 1 → (∀ i j, i ≤ k → j < 10 → H (8 + i) j = p i j) → (∀ x, x < 10 → H (k + 9) x = (if 1 ≤ x ∧ x ≤ j then p k (x - 1) else 0) - (if x < j then M k k * p k x else 0)) → (∀ q j, q ≠ k + 9 → j < 10 → H q j = Q q j) →
    wX_characteristicOf_59 post J (nI k) (nI (k + 9)) (sd_eI (M k k)) (d + 1) (nI j) (nI n) (nI fc) (nI ic) (sd_ea 16 G) (sd_ea 10 H) (sd_nv fN) (sd_nv fD) (sd_nv bl) (sd_nv iv) (sd_nv kv) := by
  intro d
  induction d with
  | zero =>
    intro j H hj hp h1 fr
    refine br_t (nI_lt (by omega) (by omega)) (nm_r (sd_sub1 k (by omega)) (Exists.intro (k + 1) (xd_cp_in (M := M) (p := p) (Z := sd_hin M k p k 1 (sd_pm (sd_xm M k k) (p k))) hn hk hM K k 1 _ H (Nat.le_refl k) rfl hp ?_ fr)))
    intro x hx
    rw [h1 x hx, sd_xm_m]
    have ej : j = k + 1 := by omega
    subst ej
    by_cases e1 : 1 ≤ x
    · rw [if_pos e1]
      by_cases e2 : x ≤ k + 1
      · rw [if_pos ⟨e1, e2⟩]
        by_cases e3 : x < k + 1
        · rw [if_pos e3]
        · rw [if_neg e3, hdl x (by omega)]; grind
      · have q1 : ¬ (1 ≤ x ∧ x ≤ k + 1) := fun q => e2 q.2
        rw [if_neg q1, if_neg (by omega), hdl x (by omega), hdl (x - 1) (by omega)]; grind
    · have q1 : ¬ (1 ≤ x ∧ x ≤ k + 1) := fun q => e1 q.1
      rw [if_neg e1, if_neg q1, if_pos (by omega)]
  | succ d ih =>
    intro j H hj hp h1 fr
    refine br_f (nI_nlt (by omega) (by omega)) ?_
    have e9 : nI (k + 9) - 1 = nI (k + 8) := nI_pred (k + 8)
    rw [e9, sd_ix10, sd_clN (by omega), sd_ea_r (by omega)]
    have hpk : ∀ x, x < 10 → H (k + 8) x = p k x := fun x hx => by
      have := hp k x (Nat.le_refl k) hx
      rw [Nat.add_comm] at this; exact this
    have v1 := (H (k + 8) j).isLt
    refine ⟨vp_in_nI (by omega) (by omega), xd_addCoefficient (j := j + 1) (w := (H (k + 8) j).val) (by omega) (by omega) (nI_1 j) rfl (by omega) ⟨vp_in_nI (by omega) (by omega), xd_addCoefficient (j := j) (w := (5 - (M k k).val) * (H (k + 8) j).val) (by omega) (by omega) rfl ?_ ?_ (nm_r (nI_1 j) (ih (j + 1) _ (by omega) ?_ ?_ ?_))⟩⟩
    · rw [sd_ea_r (by omega), sd_u_n (fun q => absurd q.1 (by omega)), sd_5mE, sd_eI_l, pk_mul]
    · have : (5 - (M k k).val) * (H (k + 8) j).val ≤ 5 * 4 := Nat.mul_le_mul (by omega) (by omega)
      omega
    · intro i x hi hx
      rw [sd_u_n (fun q => absurd q.1 (by omega)), sd_u_n (fun q => absurd q.1 (by omega)), hp i x hi hx]
    · intro x hx
      by_cases e : x = j
      · subst e
        rw [sd_u_s, sd_u_n (fun q => absurd q.2 (by omega)), h1 x hx, sd_of_mul, sd_of_val, sd_of5s, hpk x hx, if_neg (Nat.lt_irrefl x), if_pos (Nat.lt_succ_self x)]
        by_cases e1 : 1 ≤ x
        · rw [if_pos ⟨e1, Nat.le_refl x⟩, if_pos ⟨e1, by omega⟩]; grind
        · have q1 : ¬ (1 ≤ x ∧ x ≤ x) := fun q => e1 q.1
          have q2 : ¬ (1 ≤ x ∧ x ≤ x + 1) := fun q => e1 q.1
          rw [if_neg q1, if_neg q2]; grind
      · rw [sd_u_n (fun q => e q.2)]
        by_cases e2 : x = j + 1
        · subst e2
          rw [sd_u_s, h1 _ hx, sd_of_val, hpk j (by omega)]
          have q1 : ¬ (1 ≤ j + 1 ∧ j + 1 ≤ j) := fun q => by omega
          rw [if_neg q1, if_neg (by omega), if_pos ⟨by omega, Nat.le_refl _⟩, if_neg (Nat.lt_irrefl _), Nat.add_sub_cancel]; grind
        · rw [sd_u_n (fun q => e2 q.2), h1 x hx]
          by_cases e3 : 1 ≤ x ∧ x ≤ j
          · have q2 : 1 ≤ x ∧ x ≤ j + 1 := ⟨e3.1, by omega⟩
            have q3 : x < j := by omega
            have q4 : x < j + 1 := by omega
            rw [if_pos e3, if_pos q2, if_pos q3, if_pos q4]
          · have q2 : ¬ (1 ≤ x ∧ x ≤ j + 1) := fun q => e3 ⟨q.1, by omega⟩
            rw [if_neg e3, if_neg q2]
            by_cases e4 : x < j
            · rw [if_pos e4, if_pos (by omega)]
            · rw [if_neg e4, if_neg (by omega)]
    · intro q x hq hx
      rw [sd_u_n (fun z => hq z.1), sd_u_n (fun z => hq z.1), fr q x hq hx]
theorem xd_characteristicOf {post : Int32 → SX → Prop} {r : Nat} (hr : r < 4) (h1n : 1 ≤ n) (hn : n ≤ 4)
    (K : ∀ G' Q', (∀ a x, a ≠ 5 → x < 16 → G' a x = G a x) → post (nI (sd_nm 5 (sd_cp n (sd_cl n (fun i k => G r (4 * i + k)))))) (nI n, nI fc, nI ic, sd_ea 16 G', sd_ea 10 Q', sd_nv fN, sd_nv fD, sd_nv bl, sd_nv iv, sd_nv kv)) : wpX_characteristicOf post (nI n, nI fc, nI ic, sd_ea 16 G, sd_ea 10 Q, sd_nv fN, sd_nv fD, sd_nv bl, sd_nv iv, sd_nv kv) (nI r) := by
  refine xd_copy (t := 5) (by omega) (by omega) (fun G1 f1 => xd_nearly (A := sd_cl n (fun i k => G r (4 * i + k))) hn ?_ (fun G2 sm hs f2 => xd_clearPoly (p := 8) (by omega) (fun Q1 g1 g1' => nm_r (e' := sd_ea 10 (sd_u Q1 8 0 1)) ?_ (Exists.intro (n + 1) ?_))))
  · have e : sd_cl n (fun i k => G1 5 (4 * i + k)) = sd_cl n (fun i k => G r (4 * i + k)) := by
      apply sd_ok_e (sd_cl_ok n _) (sd_cl_ok n _)
      intro i j hi hj
      rw [sd_cl_v hi hj, sd_cl_v hi hj, f1 5 _ (by omega), if_pos rfl]
    rw [e]
    exact sd_sim_r (sd_cl_ok n _)
  · rw [sd_nb1]; exact sd_ea_w (w := 10) (a := 8) (b := 0) (by omega) Q1 1
  · have frG : ∀ a x, a ≠ 5 → x < 16 → G2 a x = G a x := fun a x ha hx => by rw [f2 a x ha hx, f1 a x hx, if_neg ha]
    generalize hMd : sd_cl n (fun i k => G2 5 (4 * i + k)) = M at sm
    have hM : ∀ i j, i < n → j < n → G2 5 (4 * i + j) = M i j := fun i j hi hj => by rw [← hMd, sd_cl_v hi hj]
    have oM : sd_ok n M := by rw [← hMd]; exact sd_cl_ok n _
    have hz : ∀ i j, i < n → j + 1 < i → M i j = 0 := fun i j hi hj => by rw [← hM i j hi (by omega)]; exact hs i j hi hj
    have lp : ∀ (d k : Nat) (H : Nat → Nat → Fin 5), k + d = n → (∀ i j, i ≤ k → j < 10 → H (8 + i) j = sd_hp M k i j) → wX_characteristicOf_27 post (d + 1) (nI k) (nI n) (nI fc) (nI ic) (sd_ea 16 G2) (sd_ea 10 H) (sd_nv fN) (sd_nv fD) (sd_nv bl) (sd_nv iv) (sd_nv kv) := by
      intro d
      induction d with
      | zero =>
        intro k H hk hp
        have e : k = n := by omega
        subst e
        refine br_t (nI_le (by omega) (by omega)) ?_
        rw [show (8 : Int32) + nI k = nI (8 + k) from nI_add 8 k]
        refine xd_numberOf (by omega) ?_
        have e1 : sd_nm 10 (H (8 + k)) = sd_nm 5 (sd_cp k (sd_cl k (fun i c => G r (4 * i + c)))) := by
          rw [sd_nm_c 10 _ (sd_hp M k k) (fun j hj => hp k j (Nat.le_refl k) hj), sd_hp_cp h1n hn M hz, sd_cp_sim h1n hn (sd_cl_ok k _) oM sm]
          exact sd_nm_e (sd_dl_le (sd_cp_mo h1n hn M).2 (by omega)) (by omega)
        rw [e1]
        exact K G2 H frG
      | succ d ih =>
        intro k H hk hp
        refine br_f (nI_ge (by omega) (by omega)) (nm_r (e' := nI (k + 9)) ?_ (xd_clearPoly (by omega) (fun H1 c1 c1' => xd_entry (m := 5) (by omega) (by omega) (by omega) (Exists.intro (k + 1 + 1) ?_))))
        · rw [show (8 : Int32) + nI k = nI (8 + k) from nI_add 8 k, nI_1]; congr 1; omega
        · rw [hM k k (by omega) (by omega)]
          refine xd_cp_j (M := M) (p := sd_hp M k) hn (by omega) hM (sd_hp_dl M k k (Nat.le_refl k)) (fun H2 h1 h2 => ih (k + 1) H2 (by omega) ?_) (k + 1) 0 H1 (by omega) ?_ ?_ (fun q j _ _ => rfl)
          · intro i j hi hj
            show _ = (if i ≤ k then sd_hp M k i else sd_hin M k (sd_hp M k) k 1 (sd_pm (sd_xm M k k) (sd_hp M k k))) j
            by_cases e : i ≤ k
            · rw [if_pos e, h2 _ j (by omega) hj, c1' _ j (by omega) hj, hp i j e hj]
            · rw [if_neg e]
              have ei : 8 + i = k + 9 := by omega
              rw [ei, h1 j hj]
          · intro i j hi hj
            rw [c1' _ j (by omega) hj, hp i j hi hj]
          · intro x hx
            have q1 : ¬ (1 ≤ x ∧ x ≤ 0) := fun q => by omega
            rw [c1 x hx, if_neg q1, if_neg (by omega)]; rfl
    refine lp n 0 _ (by omega) ?_
    intro i j hi hj
    have ei : i = 0 := by omega
    subst ei
    show sd_u Q1 8 0 1 8 j = (if j = 0 then 1 else 0)
    by_cases e : j = 0
    · subst e; exact sd_u_s
    · rw [sd_u_n (fun q => e q.2), if_neg e]; exact g1 j hj
end
end
section
/-! ===== X: division, factors ===== -/
def sd_sh (t : Nat) (p : sd_P) : sd_P := fun x => if t ≤ x then p (x - t) else 0
theorem sd_sh_pm (f : sd_P) : ∀ (t : Nat) (p : sd_P), sd_pm (sd_sh t p) f = sd_sh t (sd_pm p f) := by
  intro t
  induction t with
  | zero =>
    intro p
    have e : ∀ p : sd_P, sd_sh 0 p = p := fun p => by funext x; show (if 0 ≤ x then p (x - 0) else 0) = p x; rw [if_pos (Nat.zero_le x)]; rfl
    rw [e, e]
  | succ t ih =>
    intro p
    have e : ∀ p : sd_P, sd_sh (t + 1) p = sd_cs 0 (sd_sh t p) := by
      intro p
      funext x
      cases x with
      | zero => exact if_neg (by omega)
      | succ x =>
        show (if t + 1 ≤ x + 1 then p (x + 1 - (t + 1)) else 0) = if t ≤ x then p (x - t) else 0
        rw [Nat.add_sub_add_right]
        by_cases h : t ≤ x
        · rw [if_pos h, if_pos (by omega)]
        · rw [if_neg h, if_neg (by omega)]
    rw [e, e, sd_pm_cs, ih]
    funext x
    show 0 * f x + sd_cs 0 (sd_sh t (sd_pm p f)) x = _
    grind
theorem sd_rg4 {R : Type} [Lean.Grind.CommRing R] (q s f r : R) : (q + s) * f + (r + - (s * f)) = q * f + r := by grind
theorem sd_dN_f {d f e e' m : Nat} (hf : f / 5 ^ d = 1) (h : m < 5 ^ e) (h' : m < 5 ^ e') : sd_dN d f e m = sd_dN d f e' m := by
  obtain ⟨a1, a2⟩ := sd_dN_s d f hf e m h
  obtain ⟨b1, b2⟩ := sd_dN_s d f hf e' m h'
  obtain ⟨c1, c2⟩ := sd_div_u (sd_dg_mo hf) (sd_dg_fs _) (sd_dg_fs _) (sd_dg_dl a1) (sd_dg_dl b1) (a2.symm.trans b2)
  exact Prod.ext (sd_dg_inj c1) (sd_dg_inj c2)
theorem sd_dl_lt {q k : Nat} (h : sd_dl (sd_dg q) k) : q < 5 ^ k := by
  have e : sd_nm k (sd_dg q) = q := by
    apply sd_dg_inj
    exact sd_dg_nm' h
  rw [← e]; exact sd_nm_lt k _
theorem sd_quo_lt {d f e m : Nat} (hf : f / 5 ^ d = 1) (h : m < 5 ^ e) (hd : d ≤ e) : (sd_dN d f e m).1 < 5 ^ (e - d) := by
  obtain ⟨a1, a2⟩ := sd_dN_s d f hf e m h
  apply sd_dl_lt
  obtain ⟨D, hD⟩ := sd_dg_fs (sd_dN d f e m).1
  rcases sd_exd D hD with z | ⟨t, ht, hdl⟩
  · intro j _; exact z j
  · have e1 := sd_top t hdl (sd_dg_mo hf).2
    have e2 := congrFun a2 (t + d)
    have e3 : sd_pa (sd_pm (sd_dg (sd_dN d f e m).1) (sd_dg f)) (sd_dg (sd_dN d f e m).2) (t + d) = sd_pm (sd_dg (sd_dN d f e m).1) (sd_dg f) (t + d) + sd_dg (sd_dN d f e m).2 (t + d) := rfl
    rw [e3, e1, (sd_dg_mo hf).1, sd_dg_dl a1 (t + d) (by omega)] at e2
    have lt : t + d < e := by
      apply Classical.byContradiction
      intro hn
      rw [sd_dg_dl h (t + d) (by omega)] at e2
      apply ht
      grind
    exact sd_dl_le hdl (by omega)
theorem sd_dvx : ∀ t, t < 11 → ∀ d, d < 5 → (d ≤ t → (nI t + (-1)) - nI d = nI (t - d) + (-1)) ∧ (t < d → (nI t + (-1)) - nI d < 0) := by decide +kernel
theorem sd_top_t {f d t : Nat} (hf : f / 5 ^ d = 1) (hd : d < 10) (ht : t ≤ 10) (h1 : ∀ x, t ≤ x → x < 10 → sd_dg f x = 0) (h2 : t = 0 ∨ sd_dg f (t - 1) ≠ 0) : t = d + 1 := by
  have m := sd_dg_mo hf
  have a : d + 1 ≤ t := by
    apply Classical.byContradiction
    intro hn
    have := h1 d (by omega) hd
    rw [m.1] at this
    exact absurd this (by decide)
  rcases h2 with z | z
  · omega
  · apply Classical.byContradiction
    intro hn
    exact z (m.2 (t - 1) (by omega))
/-- numbers of digits and size -/
theorem sd_dig_lt {m t e : Nat} (hm : m < 5 ^ e) (h1 : ∀ x, t ≤ x → x < e → sd_dg m x = 0) : m < 5 ^ t := by
  apply sd_dl_lt
  intro j hj
  by_cases h : j < e
  · exact h1 j hj h
  · exact sd_dg_dl hm j (by omega)
theorem sd_dig_ge {m t : Nat} (h : sd_dg m t ≠ 0) : 5 ^ t ≤ m := by
  apply Classical.byContradiction
  intro hn
  exact h (sd_dg_dl (by omega : m < 5 ^ t) t (Nat.le_refl t))
section
variable {n fc ic : Nat} {G Q : Nat → Nat → Fin 5} {fN fD bl iv kv : Nat → Nat}
theorem xd_div_in {post : SX → Prop} {J : Int32 → Int32 → Int32 → Int32 → (Nat → Int32) → (Nat → Int32) → (Nat → Int32) → (Nat → Int32) → (Nat → Int32) → (Nat → Int32) → (Nat → Int32) → Prop} {b d t f : Nat} {q : Fin 5} {P : sd_P} (hb : b ≤ 12) (hb3 : b ≠ 3) (hd : d ≤ 4) (htd : t + d < 10) (hQ : ∀ j, j < 10 → Q b j = sd_dg f j)
    (K : ∀ H, (∀ x, x < 10 → H 3 x = if t ≤ x ∧ x < t + (d + 1) then P x - q * sd_dg f (x - t) else P x) → (∀ p j, p ≠ 3 → j < 10 → H p j = Q p j) → J (nI t + (-1)) (nI n) (nI fc) (nI ic) (sd_ea 16 G) (sd_ea 10 H) (sd_nv fN) (sd_nv fD) (sd_nv bl) (sd_nv iv) (sd_nv kv)) :
    ∀ (e j : Nat) (H : Nat → Nat → Fin 5), j + e = d + 1 → (∀ x, x < 10 → H 3 x = if t ≤ x ∧ x < t + j then P x - q * sd_dg f (x - t) else P x) → (∀ p j, p ≠ 3 → j < 10 → H p j = Q p j) →
    wX_dividePoly_61 post J (nI b) (nI d) (nI t) (sd_eI q) (e + 1) (nI j) (nI n) (nI fc) (nI ic) (sd_ea 16 G) (sd_ea 10 H) (sd_nv fN) (sd_nv fD) (sd_nv bl) (sd_nv iv) (sd_nv kv) := by
  intro e
  induction e with
  | zero =>
    intro j H hj h1 h2
    have ej : j = d + 1 := by omega
    subst ej
    exact br_t (nI_lt (by omega) (by omega)) (nm_e (K H h1 h2))
  | succ e ih =>
    intro j H hj h1 h2
    refine br_f (nI_nlt (by omega) (by omega)) ?_
    rw [sd_ix10, sd_clN (by omega), sd_ea_r (by omega)]
    have hv := (H b j).isLt
    refine ⟨vp_in_nI (by omega) (by omega), xd_addCoefficient (p := 3) (j := t + j) (w := (5 - q.val) * (H b j).val) (by omega) (by omega) (nI_add t j) (by rw [sd_5mE, sd_eI_l, pk_mul]) ?_ (nm_r (nI_1 j) (ih (j + 1) _ (by omega) ?_ ?_))⟩
    · have : (5 - q.val) * (H b j).val ≤ 5 * 4 := Nat.mul_le_mul (by omega) (by omega)
      omega
    · intro x hx
      by_cases z : x = t + j
      · subst z
        have q1 : ¬ (t ≤ t + j ∧ t + j < t + j) := fun k => by omega
        have q2 : t ≤ t + j ∧ t + j < t + (j + 1) := ⟨by omega, by omega⟩
        rw [sd_u_s, h1 _ hx, if_neg q1, if_pos q2, sd_of_mul, sd_of_val, sd_of5s, h2 b j hb3 (by omega), hQ j (by omega), Nat.add_sub_cancel_left]
        grind
      · rw [sd_u_n (fun k => z k.2), h1 x hx]
        by_cases y : t ≤ x ∧ x < t + j
        · have q2 : t ≤ x ∧ x < t + (j + 1) := ⟨y.1, by omega⟩
          rw [if_pos y, if_pos q2]
        · have q2 : ¬ (t ≤ x ∧ x < t + (j + 1)) := fun k => y ⟨k.1, by omega⟩
          rw [if_neg y, if_neg q2]
    · intro p x hp hx
      rw [sd_u_n (fun k => hp k.1), h2 p x hp hx]
theorem xd_dividePoly {post : SX → Prop} {a b m f d : Nat} (ha : a ≤ 12) (hb : b ≤ 12) (ha2 : a ≠ 2) (ha3 : a ≠ 3) (hb2 : b ≠ 2) (hb3 : b ≠ 3) (hd : d ≤ 4) (hf : f / 5 ^ d = 1) (hm : m < 5 ^ 10) (hQa : ∀ j, j < 10 → Q a j = sd_dg m j) (hQb : ∀ j, j < 10 → Q b j = sd_dg f j)
    (K : ∀ Q', (∀ j, j < 10 → Q' 2 j = sd_dg (sd_dN d f 10 m).1 j) → (∀ j, j < 10 → Q' 3 j = sd_dg (sd_dN d f 10 m).2 j) → (∀ p j, p ≠ 2 → p ≠ 3 → j < 10 → Q' p j = Q p j) → post (nI n, nI fc, nI ic, sd_ea 16 G, sd_ea 10 Q', sd_nv fN, sd_nv fD, sd_nv bl, sd_nv iv, sd_nv kv)) : wpX_dividePoly post (nI n, nI fc, nI ic, sd_ea 16 G, sd_ea 10 Q, sd_nv fN, sd_nv fD, sd_nv bl, sd_nv iv, sd_nv kv) (nI a) (nI b) := by
  refine xd_copyPoly (t := 3) (by omega) ha (fun Q1 f1 f1' => xd_clearPoly (p := 2) (by omega) (fun Q2 f2 f2' => xd_degreeOf hb (fun t ht t1 t2 => xd_degreeOf (p := 3) (by omega) (fun s hs s1 s2 => ?_))))
  have q2b : ∀ j, j < 10 → Q2 b j = sd_dg f j := fun j hj => by rw [f2' b j hb2 hj, f1' b j hb3 hj, hQb j hj]
  have q23 : ∀ j, j < 10 → Q2 3 j = sd_dg m j := fun j hj => by rw [f2' 3 j (by omega) hj, f1 j hj, hQa j hj]
  have td : t = d + 1 := sd_top_t hf (by omega) ht (fun x h1 h2 => by rw [← q2b x h2]; exact t1 x h1 h2) (t2.imp id (fun z => by
    by_cases e : t = 0
    · subst e; rw [← q2b 0 (by omega)]; exact z
    · rw [← q2b (t - 1) (by omega)]; exact z))
  subst td
  rw [pk_m1 d]
  obtain ⟨sd1, sd2⟩ := sd_dvx s (by omega) d (by omega)
  have lp : ∀ (t : Nat) (P2 P3 : sd_P) (H : Nat → Nat → Fin 5), t + d ≤ 10 → (∀ j, j < 10 → H 2 j = P2 j) → (∀ j, j < 10 → H 3 j = P3 j) → sd_fs P2 → sd_dl P3 (t + d) → (∀ j, j < t → P2 j = 0) → sd_pa (sd_pm P2 (sd_dg f)) P3 = sd_dg m → (∀ p j, p ≠ 2 → p ≠ 3 → j < 10 → H p j = Q p j) →
      wX_dividePoly_26 post (nI b) (nI d) (t + 1) (nI t + (-1)) (nI n) (nI fc) (nI ic) (sd_ea 16 G) (sd_ea 10 H) (sd_nv fN) (sd_nv fD) (sd_nv bl) (sd_nv iv) (sd_nv kv) := by
    intro t
    induction t with
    | zero =>
      intro P2 P3 H _ h2 h3 fs dl _ eq fr
      obtain ⟨r1, r2⟩ := sd_dN_s d f hf 10 m hm
      obtain ⟨c1, c2⟩ := sd_div_u (sd_dg_mo hf) fs (sd_dg_fs _) (sd_dl_le dl (by omega)) (sd_dg_dl r1) (eq.trans r2)
      refine br_t (by decide) (K H (fun j hj => ?_) (fun j hj => ?_) fr)
      · rw [h2 j hj, c1]
      · rw [h3 j hj, c2]
    | succ t ih =>
      intro P2 P3 H htd h2 h3 fs dl z2 eq fr
      rw [pk_m1]
      refine br_f (nI_pos (by omega)) ?_
      have ix : ((30 : Int32) + nI t) + nI d = nI (10 * 3 + (t + d)) := by
        rw [show (30 : Int32) + nI t = nI (30 + t) from nI_add 30 t, nI_add]; congr 1; omega
      have ix2 : (20 : Int32) + nI t = nI (10 * 2 + t) := nI_add 20 t
      rw [ix, ix2, sd_clN (by omega), sd_clN (by omega), sd_ea_r (by omega), h3 _ (by omega)]
      refine ⟨vp_in_nI (by omega) (by omega), nm_e ⟨vp_in_nI (by omega) (by omega), ?_⟩⟩
      rw [sd_nb', sd_ea_w (by omega)]
      refine nm_e (Exists.intro (d + 1 + 1) ?_)
      refine xd_div_in (Q := sd_u H 2 t (P3 (t + d))) (P := P3) (f := f) hb hb3 hd (by omega) (fun j hj => ?_) (fun H' g1 g2 => ih (sd_pa P2 (sd_sh t (sd_pc (P3 (t + d))))) (sd_pa P3 (sd_pn (sd_sh t (fun j => P3 (t + d) * sd_dg f j)))) H' (by omega) ?_ ?_ ?_ ?_ ?_ ?_ ?_) (d + 1) 0 _ (by omega) ?_ (fun _ _ _ _ => rfl)
      · rw [sd_u_n (fun k => hb2 k.1), fr b j hb2 hb3 hj, hQb j hj]
      · intro j hj
        rw [g2 2 j (by omega) hj]
        show _ = P2 j + (if t ≤ j then sd_pc (P3 (t + d)) (j - t) else 0)
        by_cases e : j = t
        · subst e
          rw [sd_u_s, z2 j (by omega), if_pos (Nat.le_refl j), Nat.sub_self]
          show P3 (j + d) = 0 + P3 (j + d)
          grind
        · rw [sd_u_n (fun k => e k.2), h2 j hj]
          by_cases y : t ≤ j
          · rw [if_pos y]
            have : sd_pc (P3 (t + d)) (j - t) = 0 := if_neg (by omega)
            rw [this]; grind
          · rw [if_neg y]; grind
      · intro x hx
        rw [g1 x hx]
        show _ = P3 x + - (if t ≤ x then P3 (t + d) * sd_dg f (x - t) else 0)
        by_cases y : t ≤ x ∧ x < t + (d + 1)
        · rw [if_pos y, if_pos y.1]; grind
        · rw [if_neg y]
          by_cases y2 : t ≤ x
          · rw [if_pos y2, (sd_dg_mo hf).2 (x - t) (by omega)]; grind
          · rw [if_neg y2]; grind
      · refine sd_fs_pa fs ⟨t + 1, fun x hx => ?_⟩
        show (if t ≤ x then sd_pc (P3 (t + d)) (x - t) else 0) = 0
        rw [if_pos (by omega)]
        exact if_neg (by omega)
      · intro x hx
        show P3 x + - (if t ≤ x then P3 (t + d) * sd_dg f (x - t) else 0) = 0
        rw [if_pos (by omega)]
        by_cases e : x = t + d
        · subst e
          rw [Nat.add_sub_cancel_left, (sd_dg_mo hf).1]; grind
        · rw [dl x (by omega), (sd_dg_mo hf).2 (x - t) (by omega)]; grind
      · intro j hj
        show P2 j + (if t ≤ j then sd_pc (P3 (t + d)) (j - t) else 0) = 0
        rw [z2 j (by omega), if_neg (by omega)]; rfl
      · rw [← eq]
        have e1 : sd_sh t (fun j => P3 (t + d) * sd_dg f j) = sd_pm (sd_sh t (sd_pc (P3 (t + d)))) (sd_dg f) := by rw [sd_sh_pm, sd_pm_c]
        rw [e1]
        exact @sd_rg4 sd_P sd_R P2 (sd_sh t (sd_pc (P3 (t + d)))) (sd_dg f) P3
      · intro p j hp2 hp3 hj
        rw [g2 p j hp3 hj, sd_u_n (fun k => hp2 k.1), fr p j hp2 hp3 hj]
      · intro x hx
        have q1 : ¬ (t ≤ x ∧ x < t + 0) := fun k => by omega
        rw [if_neg q1, sd_u_n (fun k => absurd k.1 (by omega)), h3 x hx]
  have fr2 : ∀ p j, p ≠ 2 → p ≠ 3 → j < 10 → Q2 p j = Q p j := fun p j h2 h3 hj => by rw [f2' p j h2 hj, f1' p j h3 hj]
  have mlt : m < 5 ^ s := sd_dig_lt hm (fun x h1 h2 => by rw [← q23 x h2]; exact s1 x h1 h2)
  have eq0 : sd_pa (sd_pm (sd_pc 0) (sd_dg f)) (sd_dg m) = sd_dg m := by
    rw [sd_pm_0]; funext j; show sd_pc 0 j + sd_dg m j = sd_dg m j
    have : sd_pc 0 j = 0 := by unfold sd_pc; split <;> rfl
    rw [this]; grind
  have z0 : ∀ j, sd_pc 0 j = 0 := fun j => by unfold sd_pc; split <;> rfl
  by_cases hsd : d ≤ s
  · rw [sd1 hsd]
    exact nm_e (Exists.intro _ (lp (s - d) (sd_pc 0) (sd_dg m) Q2 (by omega) (fun j hj => by rw [f2 j hj, z0]) q23 (sd_fs_pc 0) (sd_dl_le (sd_dg_dl mlt) (by omega)) (fun j _ => z0 j) eq0 fr2))
  · refine nm_e (Exists.intro 1 (br_t (sd2 (by omega)) ?_))
    obtain ⟨r1, r2⟩ := sd_dN_s d f hf 10 m hm
    obtain ⟨c1, c2⟩ := sd_div_u (sd_dg_mo hf) (sd_fs_pc 0) (sd_dg_fs _) (sd_dl_le (sd_dg_dl mlt) (by omega)) (sd_dg_dl r1) (eq0.trans r2)
    refine K Q2 (fun j hj => ?_) (fun j hj => ?_) fr2
    · rw [f2 j hj, ← c1, z0]
    · rw [q23 j hj, c2]
end
end
section
/-! ===== X: the factors ===== -/
theorem sd_toInt16 {v : Nat} (h : v < 32768) : (nI v).toInt16.toInt32 = nI v := by
  apply Int32.toInt_inj.mp
  rw [Int16.toInt_toInt32, Int32.toInt_toInt16, nI_toInt (by omega)]
  rw [Int.bmod_eq_of_le (by omega) (by omega)]
theorem sd_ns {v : Nat} (h : v < 32768) : vp_nar .short (nI v).toInt16.toInt32 = nI v := by
  rw [vp_nar_short, sd_toInt16 h, sd_toInt16 h]
theorem sd_ns' {v : Nat} (h : v < 32768) : vp_nar .short (nI v) = nI v := by
  rw [vp_nar_short, sd_toInt16 h]
theorem sd_nbs : ∀ v, v < 8 → vp_nar .byte (nI v).toInt8.toInt32 = nI v := by
  have k : ∀ v, v < 8 → (nI v).toInt8.toInt32 = nI v := by decide +kernel
  intro v h
  rw [vp_nar_byte, k v h, k v h]
theorem sd_ble_t {a b : Nat} (h : a ≤ b) : Nat.ble a b = true := Nat.ble_eq_true_of_le h
theorem sd_ble_f {a b : Nat} (h : ¬ a ≤ b) : Nat.ble a b = false := by
  cases hb : Nat.ble a b
  · rfl
  · exact absurd (Nat.le_of_ble_eq_true hb) h
theorem sd_df_1 {f : Nat} (h : f < 25) : sd_df f = 1 := by
  unfold sd_df
  rw [sd_ble_f (by omega), sd_ble_f (by omega), sd_ble_f (by omega)]; rfl
theorem sd_df_2 {f : Nat} (h : 25 ≤ f) (h' : f < 125) : sd_df f = 2 := by
  unfold sd_df
  rw [sd_ble_f (by omega), sd_ble_f (by omega), sd_ble_t h]; rfl
theorem sd_df_3 {f : Nat} (h : 125 ≤ f) (h' : f < 625) : sd_df f = 3 := by
  unfold sd_df
  rw [sd_ble_f (by omega), sd_ble_t h]; rfl
theorem sd_df_4 {f : Nat} (h : 625 ≤ f) : sd_df f = 4 := by
  unfold sd_df
  rw [sd_ble_t h]; rfl
section
variable {n fc ic : Nat} {G Q : Nat → Nat → Fin 5} {fN fD bl iv kv : Nat → Nat}
theorem xd_addFactor {post : SX → Prop} {f d : Nat} (hf : f < 32768) (hd : d < 8) (hc : fc < 4) (K : post (nI n, nI (fc + 1), nI ic, sd_ea 16 G, sd_ea 10 Q, sd_nv (sd_un fN fc f), sd_nv (sd_un fD fc d), sd_nv bl, sd_nv iv, sd_nv kv)) : wpX_addFactor post (nI n, nI fc, nI ic, sd_ea 16 G, sd_ea 10 Q, sd_nv fN, sd_nv fD, sd_nv bl, sd_nv iv, sd_nv kv) (nI f) (nI d) := by
  show vp_in (nI fc) 4 ∧ ∀ a, a = upd (sd_nv fN) (nI fc).toNatClampNeg (vp_nar .short (nI f).toInt16.toInt32) → (vp_in (nI fc) 4 ∧ ∀ b, b = upd (sd_nv fD) (nI fc).toNatClampNeg (vp_nar .byte (nI d).toInt8.toInt32) → (∀ c, c = nI fc + 1 → (post (nI n, c, nI ic, sd_ea 16 G, sd_ea 10 Q, a, b, sd_nv bl, sd_nv iv, sd_nv kv))))
  rw [sd_clN (by omega), sd_ns hf, sd_nbs d hd, sd_nv_w, sd_nv_w, nI_1]
  refine ⟨vp_in_nI hc (by omega), nm_e ⟨vp_in_nI hc (by omega), nm_e (nm_e K)⟩⟩
/-- the loop of trial division by f of degree d -/
theorem xd_try_l {post : SX → Prop} {f d : Nat} (h1 : 1 ≤ d) (hd : d ≤ 4) (hf : f / 5 ^ d = 1) (hf2 : f < 32768) {m0 : Nat}
    (K0 : ∀ Q', (∀ j, j < 10 → Q' 0 j = sd_dg m0 j) → sd_tq f d 5 m0 = m0 → post (nI n, nI fc, nI ic, sd_ea 16 G, sd_ea 10 Q', sd_nv fN, sd_nv fD, sd_nv bl, sd_nv iv, sd_nv kv))
    (K1 : ∀ Q', (∀ j, j < 10 → Q' 0 j = sd_dg (sd_tq f d 5 m0) j) → sd_tq f d 5 m0 ≠ m0 → wpX_addFactor (fun u => post u) (nI n, nI fc, nI ic, sd_ea 16 G, sd_ea 10 Q', sd_nv fN, sd_nv fD, sd_nv bl, sd_nv iv, sd_nv kv) (nI f) (nI d)) :
    ∀ (e m : Nat) (b : Bool) (H : Nat → Nat → Fin 5), e ≤ 5 → m < 5 ^ e → (∀ j, j < 10 → H 0 j = sd_dg m j) → (∀ j, j < 10 → H 1 j = sd_dg f j) → sd_tq f d e m = sd_tq f d 5 m0 → (b = false → m = m0) → (b = true → m < m0) →
    wX_tryFactor_24 post (nI f) (nI d) (e + 1) (cond b 1 0) (cond (Nat.ble (5 ^ d) m) 1 0) (nI n) (nI fc) (nI ic) (sd_ea 16 G) (sd_ea 10 H) (sd_nv fN) (sd_nv fD) (sd_nv bl) (sd_nv iv) (sd_nv kv) := by
  intro e
  have fin : ∀ (m : Nat) (b : Bool) (H : Nat → Nat → Fin 5), (∀ j, j < 10 → H 0 j = sd_dg m j) → m = sd_tq f d 5 m0 → (b = false → m = m0) → (b = true → m < m0) → ((cond b (1 : Int32) 0 = 0 → post (nI n, nI fc, nI ic, sd_ea 16 G, sd_ea 10 H, sd_nv fN, sd_nv fD, sd_nv bl, sd_nv iv, sd_nv kv)) ∧ (¬ cond b (1 : Int32) 0 = 0 → wpX_addFactor (fun u => post u) (nI n, nI fc, nI ic, sd_ea 16 G, sd_ea 10 H, sd_nv fN, sd_nv fD, sd_nv bl, sd_nv iv, sd_nv kv) (nI f) (nI d))) := by
    intro m b H h0 hm hb1 hb2
    cases b with
    | false =>
      have e := hb1 rfl
      exact br_t rfl (K0 H (fun j hj => by rw [h0 j hj, e]) (by rw [← hm, e]))
    | true =>
      have lt := hb2 rfl
      exact br_f (by decide) (K1 H (fun j hj => by rw [h0 j hj, hm]) (by omega))
  induction e with
  | zero =>
    intro m b H _ hm h0 _ ht hb1 hb2
    have z : m = 0 := by rw [Nat.pow_zero] at hm; omega
    subst z
    have h5 : 0 < 5 ^ d := Nat.pow_pos (by omega)
    rw [sd_ble_f (by omega)]
    refine br_t rfl (fin 0 b H h0 ?_ hb1 hb2)
    rw [← ht]; rfl
  | succ e ih =>
    intro m b H he hm h0 hH1 ht hb1 hb2
    have h5 : 0 < 5 ^ d := Nat.pow_pos (by omega)
    have m10 : m < 5 ^ 10 := Nat.lt_of_lt_of_le hm (Nat.pow_le_pow_right (by omega) (by omega))
    have m5 : m < 5 ^ 5 := Nat.lt_of_lt_of_le hm (Nat.pow_le_pow_right (by omega) (by omega))
    rw [sd_tq_s] at ht
    by_cases hle : 5 ^ d ≤ m
    · rw [sd_ble_t hle] at ht ⊢
      refine br_f (by decide) (xd_dividePoly (a := 0) (b := 1) (m := m) (f := f) (d := d) (by omega) (by omega) (by omega) (by omega) (by omega) (by omega) hd hf m10 h0 hH1 (fun Q1 q2 q3 fr => xd_degreeOf (p := 3) (by omega) (fun t htt t1 t2 => ?_)))
      obtain ⟨zq, zr⟩ := sd_zN_q hf m5
      have eN : sd_dN d f 10 m = sd_dN d f 5 m := sd_dN_f hf m10 m5
      rw [eN] at q2 q3
      rw [zr, zq] at ht
      have r1 := (sd_dN_s d f hf 5 m m5).1
      have t10 := Nat.le_of_lt_succ (Nat.lt_of_le_of_lt htt (by omega : 10 < 11))
      by_cases hr : (sd_dN d f 5 m).2 = 0
      · -- the factor divides
        have t0 : t = 0 := by
          rcases t2 with z | z
          · exact z
          · exfalso; apply z
            by_cases e0 : t = 0
            · subst e0; rw [q3 0 (by omega), hr, sd_dg_0]
            · rw [q3 (t - 1) (by omega), hr, sd_dg_0]
        subst t0
        rw [hr] at ht
        have ht' : sd_tq f d e (sd_dN d f 5 m).1 = sd_tq f d 5 m0 := ht
        refine br_f (by decide) (br_f (by decide) (xd_copyPoly (t := 0) (f := 2) (by omega) (by omega) (fun Q2 g1 g1' => xd_degreeOf (p := 0) (by omega) (fun s hs s1 s2 => ?_))))
        have eM : sd_dN d f 5 m = sd_dN d f (e + 1) m := sd_dN_f hf m5 hm
        have de : d ≤ e + 1 := by
          apply Classical.byContradiction
          intro hn
          have : 5 ^ (e + 1) ≤ 5 ^ d := Nat.pow_le_pow_right (by omega) (by omega)
          omega
        have qlt : (sd_dN d f 5 m).1 < 5 ^ e := by
          have k := sd_quo_lt hf hm de
          rw [← eM] at k
          exact Nat.lt_of_lt_of_le k (Nat.pow_le_pow_right (by omega) (by omega))
        have qrow : ∀ j, j < 10 → Q2 0 j = sd_dg (sd_dN d f 5 m).1 j := fun j hj => by rw [g1 j hj, q2 j hj]
        have f1row : ∀ j, j < 10 → Q2 1 j = sd_dg f j := fun j hj => by rw [g1' 1 j (by omega) hj, fr 1 j (by omega) (by omega) hj, hH1 j hj]
        -- the quotient is smaller
        have qm : (sd_dN d f 5 m).1 < m := by
          have k := sd_quo_lt hf hm de
          rw [← eM] at k
          by_cases hq : (sd_dN d f 5 m).1 < 5 ^ d
          · omega
          · -- by degrees
            obtain ⟨r2, eq⟩ := sd_dN_s d f hf 5 m m5
            have top : 5 * (sd_dN d f 5 m).1 ≤ m ∨ (sd_dN d f 5 m).1 < m := by
              right
              apply Classical.byContradiction
              intro hn
              -- m has a digit at t + d where t is the top of the quotient
              obtain ⟨D, hD⟩ := sd_dg_fs (sd_dN d f 5 m).1
              rcases sd_exd D hD with z | ⟨t, ht2, hdl⟩
              · have : (sd_dN d f 5 m).1 = 0 := sd_dg_inj (by funext j; rw [z j, sd_dg_0])
                omega
              · have e1 := sd_top t hdl (sd_dg_mo hf).2
                have e2 := congrFun eq (t + d)
                have e3 : sd_pa (sd_pm (sd_dg (sd_dN d f 5 m).1) (sd_dg f)) (sd_dg (sd_dN d f 5 m).2) (t + d) = sd_pm (sd_dg (sd_dN d f 5 m).1) (sd_dg f) (t + d) + sd_dg (sd_dN d f 5 m).2 (t + d) := rfl
                rw [e3, e1, (sd_dg_mo hf).1, sd_dg_dl r2 (t + d) (by omega)] at e2
                have ne : sd_dg m (t + d) ≠ 0 := by
                  rw [e2]
                  intro z; apply ht2; grind
                have g := sd_dig_ge ne
                have l := sd_dl_lt hdl
                have : 5 ^ (t + 1) ≤ 5 ^ (t + d) := Nat.pow_le_pow_right (by omega) (by omega)
                omega
            omega
        have mm0 : m ≤ m0 := by
          cases b with
          | false => exact Nat.le_of_eq (hb1 rfl)
          | true => exact Nat.le_of_lt (hb2 rfl)
        have q5 : (sd_dN d f 5 m).1 < 5 ^ 10 := Nat.lt_of_lt_of_le qlt (Nat.pow_le_pow_right (by omega) (by omega))
        have bnd : 5 ^ d ≤ (sd_dN d f 5 m).1 ↔ d < s := by
          constructor
          · intro h
            have l := sd_dig_lt q5 (fun x h1 h2 => by rw [← qrow x h2]; exact s1 x h1 h2)
            apply Classical.byContradiction
            intro hn
            have : 5 ^ s ≤ 5 ^ d := Nat.pow_le_pow_right (by omega) (by omega)
            omega
          · intro h
            rcases s2 with z | z
            · omega
            · rw [qrow (s - 1) (by omega)] at z
              have g := sd_dig_ge z
              have : 5 ^ d ≤ 5 ^ (s - 1) := Nat.pow_le_pow_right (by omega) (by omega)
              omega
        have nx := ih (sd_dN d f 5 m).1 true Q2 (by omega) qlt qrow f1row ht' (fun h => nomatch h) (fun _ => by omega)
        have sgn : (nI s + (-1) < nI d) ↔ ¬ d < s := by
          have tab : ∀ s, s < 11 → ∀ d, d < 5 → ((nI s + (-1) < nI d) ↔ ¬ d < s) := by decide +kernel
          exact tab s (by omega) d (by omega)
        by_cases hs2 : d < s
        · rw [sd_ble_t (bnd.mpr hs2)] at nx
          exact br_f (fun z => sgn.mp z hs2) nx
        · rw [sd_ble_f (fun z => hs2 (bnd.mp z))] at nx
          exact br_t (sgn.mpr hs2) nx
      · -- it doesn't
        have tp : 0 < t := by
          apply Classical.byContradiction
          intro hn
          have t0 : t = 0 := by omega
          subst t0
          apply hr
          apply sd_dg_inj
          funext j
          rw [sd_dg_0]
          by_cases hj : j < 10
          · rw [← q3 j hj]; exact t1 j (by omega) hj
          · exact sd_dg_dl r1 j (by omega)
        rw [sd_beq_f hr] at ht
        have ht' : m = sd_tq f d 5 m0 := ht
        have sgn : (0 : Int32) ≤ nI t + (-1) := by
          have tab : ∀ s, s < 11 → 0 < s → (0 : Int32) ≤ nI s + (-1) := by decide +kernel
          exact tab t (by omega) tp
        refine br_t sgn (br_t rfl ?_)
        have row : ∀ j, j < 10 → Q1 0 j = sd_dg m j := fun j hj => by rw [fr 0 j (by omega) (by omega) hj, h0 j hj]
        exact br_t rfl (fin m b Q1 row ht' hb1 hb2)
    · rw [sd_ble_f hle] at ht ⊢
      exact br_t rfl (fin m b H h0 ht hb1 hb2)
theorem xd_tryFactor {post : SX → Prop} {f d m : Nat} (h1 : 1 ≤ d) (hd : d ≤ 4) (hf : f / 5 ^ d = 1) (hf2 : f < 32768) (hm : m < 5 ^ 5) (hQ : ∀ j, j < 10 → Q 0 j = sd_dg m j)
    (K0 : ∀ Q', (∀ j, j < 10 → Q' 0 j = sd_dg m j) → sd_tq f d 5 m = m → post (nI n, nI fc, nI ic, sd_ea 16 G, sd_ea 10 Q', sd_nv fN, sd_nv fD, sd_nv bl, sd_nv iv, sd_nv kv))
    (K1 : ∀ Q', (∀ j, j < 10 → Q' 0 j = sd_dg (sd_tq f d 5 m) j) → sd_tq f d 5 m ≠ m → wpX_addFactor (fun u => post u) (nI n, nI fc, nI ic, sd_ea 16 G, sd_ea 10 Q', sd_nv fN, sd_nv fD, sd_nv bl, sd_nv iv, sd_nv kv) (nI f) (nI d)) : wpX_tryFactor post (nI n, nI fc, nI ic, sd_ea 16 G, sd_ea 10 Q, sd_nv fN, sd_nv fD, sd_nv bl, sd_nv iv, sd_nv kv) (nI f) (nI d) := by
  have h5 : f < 5 ^ 10 := by
    have : (5 : Nat) ^ 10 = 9765625 := by decide
    omega
  refine xd_load (p := 1) (by omega) h5 (fun Q1 f1 f1' => xd_degreeOf (p := 0) (by omega) (fun s hs s1 s2 => ?_))
  have row : ∀ j, j < 10 → Q1 0 j = sd_dg m j := fun j hj => by rw [f1' 0 j (by omega) hj, hQ j hj]
  have m10 : m < 5 ^ 10 := Nat.lt_of_lt_of_le hm (Nat.pow_le_pow_right (by omega) (by omega))
  have bnd : 5 ^ d ≤ m ↔ d < s := by
    constructor
    · intro h
      have l := sd_dig_lt m10 (fun x h1 h2 => by rw [← row x h2]; exact s1 x h1 h2)
      apply Classical.byContradiction
      intro hn
      have : 5 ^ s ≤ 5 ^ d := Nat.pow_le_pow_right (by omega) (by omega)
      omega
    · intro h
      rcases s2 with z | z
      · omega
      · rw [row (s - 1) (by omega)] at z
        have g := sd_dig_ge z
        have : 5 ^ d ≤ 5 ^ (s - 1) := Nat.pow_le_pow_right (by omega) (by omega)
        omega
  have sgn : (nI s + (-1) < nI d) ↔ ¬ d < s := by
    have tab : ∀ s, s < 11 → ∀ d, d < 5 → ((nI s + (-1) < nI d) ↔ ¬ d < s) := by decide +kernel
    exact tab s (by omega) d (by omega)
  have nx := xd_try_l h1 hd hf hf2 K0 K1 5 m false Q1 (Nat.le_refl 5) hm row f1 rfl (fun _ => rfl) (fun h => nomatch h)
  by_cases hs2 : d < s
  · rw [sd_ble_t (bnd.mpr hs2)] at nx
    exact br_f (fun z => sgn.mp z hs2) (Exists.intro _ nx)
  · rw [sd_ble_f (fun z => hs2 (bnd.mp z))] at nx
    exact br_t (sgn.mpr hs2) (Exists.intro _ nx)
end
theorem sd_tq_lt {f d : Nat} (hf : f / 5 ^ d = 1) : ∀ e m, m < 5 ^ 5 → sd_tq f d e m < 5 ^ 5 := by
  intro e
  induction e with
  | zero => intro m h; exact h
  | succ e ih =>
    intro m h
    rw [sd_tq_s]
    cases Nat.ble (5 ^ d) m with
    | false => exact h
    | true =>
      show cond (Nat.beq (sd_zN d f 5 m % 5 ^ d) 0) (sd_tq f d e (sd_zN d f 5 m / 5 ^ d)) m < 5 ^ 5
      cases Nat.beq (sd_zN d f 5 m % 5 ^ d) 0 with
      | false => exact h
      | true =>
        apply ih
        rw [(sd_zN_q hf h).1]
        by_cases hd : d ≤ 5
        · exact Nat.lt_of_lt_of_le (sd_quo_lt hf h hd) (Nat.pow_le_pow_right (by omega) (by omega))
        · have b : (sd_dN d f 5 m).1 < 5 ^ 5 := by
            apply Classical.byContradiction
            intro hn
            obtain ⟨r1, eq⟩ := sd_dN_s d f hf 5 m h
            obtain ⟨c1, c2⟩ := sd_div_u (q := sd_pc 0) (r := sd_dg m) (sd_dg_mo hf) (sd_fs_pc 0) (sd_dg_fs _) (sd_dl_le (sd_dg_dl h) (by omega)) (sd_dg_dl r1) (by
              rw [← eq, sd_pm_0]; funext j; show sd_pc 0 j + sd_dg m j = sd_dg m j
              have : sd_pc 0 j = 0 := by unfold sd_pc; split <;> rfl
              rw [this]; grind)
            have : (sd_dN d f 5 m).1 = 0 := by
              apply sd_dg_inj; rw [← c1, sd_dg_z]
            omega
          exact b
def sd_LN (L : List Nat) (fN fD : Nat → Nat) : Prop := ∀ i, i < L.length → fN i = L.getD i 0 ∧ fD i = sd_df (L.getD i 0)
theorem sd_LN_s {L : List Nat} {fN fD : Nat → Nat} {f : Nat} (h : sd_LN L fN fD) : sd_LN (L ++ [f]) (sd_un fN L.length f) (sd_un fD L.length (sd_df f)) := by
  intro i hi
  rw [List.length_append] at hi
  unfold sd_un
  by_cases e : i = L.length
  · subst e
    have g : (L ++ [f]).getD L.length 0 = f := by
      rw [List.getD_eq_getElem?_getD, List.getElem?_append_right (Nat.le_refl _), Nat.sub_self]; rfl
    rw [if_pos rfl, if_pos rfl, g]
    exact ⟨rfl, rfl⟩
  · have lt : i < L.length := by
      have : [f].length = 1 := rfl
      omega
    have g : (L ++ [f]).getD i 0 = L.getD i 0 := by
      rw [List.getD_eq_getElem?_getD, List.getElem?_append_left lt, List.getD_eq_getElem?_getD]
    rw [if_neg e, if_neg e, g]
    exact h i lt
section
variable {n fc ic : Nat} {G Q : Nat → Nat → Fin 5} {fN fD bl iv kv : Nat → Nat}
theorem xd_ff_28 {post : SX → Prop} {L : List Nat} (hL : L.length ≤ 4) (K : ∀ Q' fN' fD', sd_LN L fN' fD' → post (nI n, nI (L.length), nI ic, sd_ea 16 G, sd_ea 10 Q', sd_nv fN', sd_nv fD', sd_nv bl, sd_nv iv, sd_nv kv)) :
    ∀ (k u m : Nat) (P : List Nat) (H : Nat → Nat → Fin 5) (fN fD : Nat → Nat), u + k = 50 → 25 ≤ u → m < 5 ^ 5 → (∀ j, j < 10 → H 0 j = sd_dg m j) → sd_LN P fN fD → P ++ sd_fl 2 k u m (fun m => cond (Nat.ble 5 m) [m] []) = L → wX_findFactors_28 post (k + 1) (nI u) (nI n) (nI (P.length)) (nI ic) (sd_ea 16 G) (sd_ea 10 H) (sd_nv fN) (sd_nv fD) (sd_nv bl) (sd_nv iv) (sd_nv kv) := by
  intro k
  induction k with
  | zero =>
    intro u m P H fN fD hu _ hm h0 hP hl
    have e : u = 50 := by omega
    subst e
    have m10 : m < 5 ^ 10 := Nat.lt_of_lt_of_le hm (Nat.pow_le_pow_right (by omega) (by omega))
    have m3 : m < 3125 := hm
    refine br_t (by decide) (xd_degreeOf (p := 0) (by omega) (fun s hs s1 s2 => ?_))
    have l := sd_dig_lt m10 (fun x h1 h2 => by rw [← h0 x h2]; exact s1 x h1 h2)
    have g : 2 ≤ s → 5 ^ (s - 1) ≤ m := by
      intro h
      rcases s2 with z | z
      · omega
      · rw [h0 (s - 1) (by omega)] at z
        exact sd_dig_ge z
    have hl' : P ++ cond (Nat.ble 5 m) [m] [] = L := hl
    by_cases h2 : 2 ≤ s
    · have g1 := g h2
      have m5 : 5 ≤ m := by
        have : 5 ^ 1 ≤ 5 ^ (s - 1) := Nat.pow_le_pow_right (by omega) (by omega)
        omega
      rw [sd_ble_t m5] at hl'
      have hl2 : P ++ [m] = L := hl'
      have len : P.length + 1 = L.length := by rw [← hl2, List.length_append]; rfl
      have e1 : nI s + (-1) = nI (s - 1) := by
        have := pk_m1 (s - 1)
        rw [show s - 1 + 1 = s from by omega] at this
        exact this
      rw [e1]
      have sdf : s - 1 = sd_df m := by
        have c : s = 2 ∨ s = 3 ∨ s = 4 ∨ s = 5 ∨ 6 ≤ s := by omega
        rcases c with rfl | rfl | rfl | rfl | c
        · have l' : m < 25 := l
          rw [sd_df_1 l']
        · have l' : m < 125 := l
          have g' : 25 ≤ m := g1
          rw [sd_df_2 g' l']
        · have l' : m < 625 := l
          have g' : 125 ≤ m := g1
          rw [sd_df_3 g' l']
        · have g' : 625 ≤ m := g1
          rw [sd_df_4 g']
        · exfalso
          have : 5 ^ 5 ≤ 5 ^ (s - 1) := Nat.pow_le_pow_right (by omega) (by omega)
          omega
      refine br_f (nI_nle (by omega) (by omega)) (xd_numberOf (p := 0) (by omega) ?_)
      rw [sd_nm_c 10 _ (sd_dg m) h0, sd_nm_dg 10 m m10]
      have db := sd_df_b m
      refine xd_addFactor (by omega) (by omega) (by omega) ?_
      rw [sdf, len, ← hl2]
      have k := K H _ _ (hl2 ▸ sd_LN_s (f := m) hP)
      rw [← hl2] at k
      exact k
    · have m5 : ¬ 5 ≤ m := by
        intro h
        have : 5 ^ s ≤ 5 ^ 1 := Nat.pow_le_pow_right (by omega) (by omega)
        omega
      rw [sd_ble_f m5] at hl'
      have hl2 : P = L := by
        have : P ++ [] = L := hl'
        rw [List.append_nil] at this; exact this
      subst hl2
      have sgn : nI s + (-1) ≤ 0 := by
        have c : s = 0 ∨ s = 1 := by omega
        rcases c with rfl | rfl <;> decide
      exact br_t sgn (K H fN fD hP)
  | succ k ih =>
    intro u m P H fN fD hu hu2 hm h0 hP hl
    rw [sd_fl_s] at hl
    have hf : u / 5 ^ 2 = 1 := by
      show u / 25 = 1
      omega
    refine br_f (nI_ge (b := 50) (by omega) (by decide)) (xd_tryFactor (d := 2) (by omega) (by omega) hf (by omega) hm h0 (fun Q' q0 hz => nm_r (nI_1 u) (ih (u + 1) m P Q' fN fD (by omega) (by omega) hm q0 hP ?_)) (fun Q' q0 hz => xd_addFactor (by omega) (by omega) ?_ (nm_r (nI_1 u) ?_)))
    · rw [hz, Nat.beq_refl] at hl; exact hl
    · rw [sd_beq_f hz] at hl
      have := congrArg List.length hl
      rw [List.length_append] at this
      have : (u :: sd_fl 2 k (u + 1) (sd_tq u 2 5 m) (fun m => cond (Nat.ble 5 m) [m] [])).length = (sd_fl 2 k (u + 1) (sd_tq u 2 5 m) (fun m => cond (Nat.ble 5 m) [m] [])).length + 1 := rfl
      simp only [cond] at *
      omega
    · rw [sd_beq_f hz] at hl
      have hl2 : P ++ u :: sd_fl 2 k (u + 1) (sd_tq u 2 5 m) (fun m => cond (Nat.ble 5 m) [m] []) = L := hl
      have nx := ih (u + 1) (sd_tq u 2 5 m) (P ++ [u]) Q' _ _ (by omega) (by omega) (sd_tq_lt hf 5 m hm) q0 (sd_LN_s (f := u) hP) (by rw [List.append_assoc]; exact hl2)
      rw [sd_df_2 hu2 (by omega), List.length_append] at nx
      exact nx
theorem xd_findFactors {post : SX → Prop} {c : Nat} (hc : c < 5 ^ 5) (hL : (sd_fc c).length ≤ 4) (h0 : ∀ j, j < 10 → Q 0 j = sd_dg c j) (K : ∀ Q' fN' fD', sd_LN (sd_fc c) fN' fD' → post (nI n, nI ((sd_fc c).length), nI ic, sd_ea 16 G, sd_ea 10 Q', sd_nv fN', sd_nv fD', sd_nv bl, sd_nv iv, sd_nv kv)) : wpX_findFactors post (nI n, nI fc, nI ic, sd_ea 16 G, sd_ea 10 Q, sd_nv fN, sd_nv fD, sd_nv bl, sd_nv iv, sd_nv kv) := by
  refine Exists.intro 6 ?_
  have lp : ∀ (k u m : Nat) (P : List Nat) (H : Nat → Nat → Fin 5) (fN fD : Nat → Nat), u + k = 10 → 5 ≤ u → m < 5 ^ 5 → (∀ j, j < 10 → H 0 j = sd_dg m j) → sd_LN P fN fD → P ++ sd_fl 1 k u m (fun m => sd_fl 2 25 25 m (fun m => cond (Nat.ble 5 m) [m] [])) = sd_fc c → wX_findFactors_7 post (k + 1) (nI u) (nI n) (nI (P.length)) (nI ic) (sd_ea 16 G) (sd_ea 10 H) (sd_nv fN) (sd_nv fD) (sd_nv bl) (sd_nv iv) (sd_nv kv) := by
    intro k
    induction k with
    | zero =>
      intro u m P H fN fD hu _ hm h0 hP hl
      have e : u = 10 := by omega
      subst e
      exact br_t (by decide) (Exists.intro 26 (xd_ff_28 hL K 25 25 m P H fN fD (by omega) (by omega) hm h0 hP hl))
    | succ k ih =>
      intro u m P H fN fD hu hu2 hm h0 hP hl
      rw [sd_fl_s] at hl
      have hf : u / 5 ^ 1 = 1 := by
        show u / 5 = 1
        omega
      refine br_f (nI_ge (b := 10) (by omega) (by decide)) (xd_tryFactor (d := 1) (by omega) (by omega) hf (by omega) hm h0 (fun Q' q0 hz => nm_r (nI_1 u) (ih (u + 1) m P Q' fN fD (by omega) (by omega) hm q0 hP ?_)) (fun Q' q0 hz => xd_addFactor (by omega) (by omega) ?_ (nm_r (nI_1 u) ?_)))
      · rw [hz, Nat.beq_refl] at hl; exact hl
      · rw [sd_beq_f hz] at hl
        have hl2 : P ++ u :: sd_fl 1 k (u + 1) (sd_tq u 1 5 m) (fun m => sd_fl 2 25 25 m (fun m => cond (Nat.ble 5 m) [m] [])) = sd_fc c := hl
        have := congrArg List.length hl2
        rw [List.length_append, List.length_cons] at this
        omega
      · rw [sd_beq_f hz] at hl
        have hl2 : P ++ u :: sd_fl 1 k (u + 1) (sd_tq u 1 5 m) (fun m => sd_fl 2 25 25 m (fun m => cond (Nat.ble 5 m) [m] [])) = sd_fc c := hl
        have nx := ih (u + 1) (sd_tq u 1 5 m) (P ++ [u]) Q' _ _ (by omega) (by omega) (sd_tq_lt hf 5 m hm) q0 (sd_LN_s (f := u) hP) (by rw [List.append_assoc]; exact hl2)
        rw [sd_df_1 (by omega), List.length_append] at nx
        exact nx
  exact lp 5 5 c [] Q fN fD (by omega) (by omega) hc h0 (fun i hi => absurd hi (by simp)) rfl
end
end
section
/-! ===== X: values of polynomials at a matrix, blocks, invariants ===== -/
section
variable {n fc ic : Nat} {G Q : Nat → Nat → Fin 5} {fN fD bl iv kv : Nat → Nat}
/-- a constant is added on the diagonal of RESULT -/
theorem xd_ev_49 {post : SX → Prop} {J : Int32 → Int32 → Int32 → Int32 → (Nat → Int32) → (Nat → Int32) → (Nat → Int32) → (Nat → Int32) → (Nat → Int32) → (Nat → Int32) → (Nat → Int32) → Prop} {p t : Nat} (hn : n ≤ 4) (hp : p ≤ 12) (ht : t < 10)
    (K : ∀ H, (∀ i k, i < n → k < n → H 4 (4 * i + k) = G 4 (4 * i + k) + (if i = k then Q p t else 0)) → (∀ m x, m ≠ 4 → x < 16 → H m x = G m x) → J (nI t + (-1)) (nI n) (nI fc) (nI ic) (sd_ea 16 H) (sd_ea 10 Q) (sd_nv fN) (sd_nv fD) (sd_nv bl) (sd_nv iv) (sd_nv kv)) :
    ∀ (d i : Nat) (H : Nat → Nat → Fin 5), i + d = n → (∀ r k, r < n → k < n → H 4 (4 * r + k) = G 4 (4 * r + k) + (if r = k ∧ r < i then Q p t else 0)) → (∀ m x, m ≠ 4 → x < 16 → H m x = G m x) →
    wX_evaluate_49 post J (nI p) (nI t) (d + 1) (nI i) (nI n) (nI fc) (nI ic) (sd_ea 16 H) (sd_ea 10 Q) (sd_nv fN) (sd_nv fD) (sd_nv bl) (sd_nv iv) (sd_nv kv) := by
  intro d
  induction d with
  | zero =>
    intro i H hi h1 h2
    refine br_t (nI_le (by omega) (by omega)) (nm_e (K H (fun r k hr hk => ?_) h2))
    rw [h1 r k hr hk]
    by_cases e : r = k
    · have q : r = k ∧ r < i := ⟨e, by omega⟩
      rw [if_pos q, if_pos e]
    · have q : ¬ (r = k ∧ r < i) := fun z => e z.1
      rw [if_neg q, if_neg e]
  | succ d ih =>
    intro i H hi h1 h2
    refine br_f (nI_ge (by omega) (by omega)) (xd_entry (m := 4) (by omega) (by omega) (by omega) ?_)
    rw [sd_ix10, sd_clN (by omega), sd_ea_r (by omega)]
    refine ⟨vp_in_nI (by omega) (by omega), nm_e ⟨sd_50, xd_setEntry (m := 4) (by omega) (by omega) (by omega) (sd_w6 _ _) (nm_r (nI_1 i) (ih (i + 1) _ (by omega) ?_ ?_))⟩⟩
    · intro r k hr hk
      by_cases z : 4 * r + k = 4 * i + i
      · have e1 : r = i := by omega
        have e2 : k = i := by omega
        subst e1; subst e2
        have q1 : ¬ (k = k ∧ k < k) := fun q => by omega
        have q2 : k = k ∧ k < k + 1 := ⟨rfl, by omega⟩
        rw [sd_u_s, h1 k k hr hk, if_neg q1, if_pos q2]; grind
      · rw [sd_u_n (fun q => z q.2), h1 r k hr hk]
        by_cases e : r = k ∧ r < i
        · have q2 : r = k ∧ r < i + 1 := ⟨e.1, by omega⟩
          rw [if_pos e, if_pos q2]
        · have q2 : ¬ (r = k ∧ r < i + 1) := fun q => e ⟨q.1, by omega⟩
          rw [if_neg e, if_neg q2]
    · intro m x hm hx
      rw [sd_u_n (fun q => hm q.1), h2 m x hm hx]
theorem xd_evaluate {post : SX → Prop} {a p : Nat} (ha : a < 4) (hp : p ≤ 12) (hn : n ≤ 4) (K : ∀ G', (∀ i k, i < n → k < n → G' 4 (4 * i + k) = sd_ev n (sd_cl n (fun i k => G a (4 * i + k))) 10 (Q p) i k) → (∀ m x, m ≠ 4 → m ≠ 7 → m ≠ 8 → x < 16 → G' m x = G m x) → post (nI n, nI fc, nI ic, sd_ea 16 G', sd_ea 10 Q, sd_nv fN, sd_nv fD, sd_nv bl, sd_nv iv, sd_nv kv)) : wpX_evaluate post (nI n, nI fc, nI ic, sd_ea 16 G, sd_ea 10 Q, sd_nv fN, sd_nv fD, sd_nv bl, sd_nv iv, sd_nv kv) (nI a) (nI p) := by
  refine xd_copy (t := 7) (by omega) (by omega) (fun G1 f1 => Exists.intro 17 ?_)
  have horner : ∀ (t : Nat) (H : Nat → Nat → Fin 5), t ≤ 10 → (∀ i k, i < n → k < n → H 4 (4 * i + k) = sd_ev n (sd_cl n (fun i k => G a (4 * i + k))) (10 - t) (fun x => Q p (t + x)) i k) → (∀ x, x < 16 → H 7 x = G a x) → (∀ m x, m ≠ 4 → m ≠ 7 → m ≠ 8 → x < 16 → H m x = G m x) → wX_evaluate_34 post (nI p) (t + 1) (nI t + (-1)) (nI n) (nI fc) (nI ic) (sd_ea 16 H) (sd_ea 10 Q) (sd_nv fN) (sd_nv fD) (sd_nv bl) (sd_nv iv) (sd_nv kv) := by
    intro t
    induction t with
    | zero =>
      intro H _ h4 _ fr
      refine br_t (by decide) (K H (fun i k hi hk => ?_) fr)
      rw [h4 i k hi hk]
      have e : (fun x => Q p (0 + x)) = Q p := by funext x; rw [Nat.zero_add]
      rw [e]
    | succ t ih =>
      intro H ht h4 h7 fr
      rw [pk_m1]
      refine br_f (nI_pos (by omega)) (xd_multiply (t := 4) (a := 4) (b := 7) (by omega) (by omega) (by omega) hn (fun H1 g1 g2 => Exists.intro (n + 1) (xd_ev_49 (G := H1) hn hp (by omega) (fun H2 k1 k2 => ih H2 (by omega) ?_ ?_ ?_) n 0 H1 (by omega) ?_ (fun _ _ _ _ => rfl))))
      · intro i k hi hk
        have e1 : 10 - t = (10 - (t + 1)) + 1 := by omega
        rw [k1 i k hi hk, g1 i k hi hk, e1]
        show _ = sd_x n (sd_ev n (sd_cl n (fun i k => G a (4 * i + k))) (10 - (t + 1)) (sd_tl (fun x => Q p (t + x)))) (sd_cl n (fun i k => G a (4 * i + k))) i k + Q p (t + 0) * sd_I n i k
        have e2 : sd_tl (fun x => Q p (t + x)) = fun x => Q p (t + 1 + x) := by funext x; show Q p (t + (x + 1)) = _; congr 1; omega
        rw [e2, sd_x_v hi hk, sd_I_v hi hk]
        congr 1
        · apply sd_m_c
          · intro l hl; exact h4 i l hi hl
          · intro l hl
            rw [sd_cl_v hl hk]
            exact h7 _ (by omega)
        · show (if i = k then Q p t else 0) = Q p t * (if i = k then 1 else 0)
          split <;> grind
      · intro x hx
        rw [k2 7 x (by omega) hx, g2 7 x (by omega) (by omega) hx, h7 x hx]
      · intro m x h4' h7' h8' hx
        rw [k2 m x h4' hx, g2 m x h4' h8' hx, fr m x h4' h7' h8' hx]
      · intro r k hr hk
        have q1 : ¬ (r = k ∧ r < 0) := fun q => by omega
        rw [if_neg q1]; grind
  have lp : ∀ (d c : Nat) (H : Nat → Nat → Fin 5), c + d = 16 → (∀ x, x < c → H 4 x = 0) → (∀ m x, m ≠ 4 → x < 16 → H m x = G1 m x) → wX_evaluate_9 post (nI p) (nI n) (nI fc) (nI ic) (d + 1) (nI c) (sd_ea 16 H) (sd_ea 10 Q) (sd_nv fN) (sd_nv fD) (sd_nv bl) (sd_nv iv) (sd_nv kv) := by
    intro d
    induction d with
    | zero =>
      intro c H hc h1 h2
      have e : c = 16 := by omega
      subst e
      have h := horner 10 H (by omega) (fun i k hi hk => by
        rw [h1 _ (by omega)]
        have : 10 - 10 = 0 := rfl
        rw [this]; rfl) (fun x hx => by rw [h2 7 x (by omega) hx, f1 7 x hx, if_pos rfl]) (fun m x h4 h7 h8 hx => by rw [h2 m x h4 hx, f1 m x hx, if_neg h7])
      rw [show nI 10 + (-1) = 9 from by decide] at h
      exact br_t (by decide) (Exists.intro 11 h)
    | succ d ih =>
      intro c H hc h1 h2
      refine br_f (nI_ge (b := 16) (by omega) (by decide)) ?_
      have ix : (64 : Int32) + nI c = nI (16 * 4 + c) := nI_add 64 c
      rw [ix, sd_clN (by omega), sd_nb0, sd_ea_w (by omega)]
      refine ⟨vp_in_nI (by omega) (by omega), nm_e (nm_r (nI_1 c) (ih (c + 1) _ (by omega) ?_ ?_))⟩
      · intro x hx
        by_cases e : x = c
        · subst e; exact sd_u_s
        · rw [sd_u_n (fun z => e z.2)]; exact h1 x (by omega)
      · intro m x hm hx
        rw [sd_u_n (fun z => hm z.1)]; exact h2 m x hm hx
  exact lp 16 0 G1 (by omega) (fun x hx => absurd hx (by omega)) (fun _ _ _ _ => rfl)
end
theorem sd_rk_mono {n r r' : Nat} {U B V : sd_M} (h : ∀ i j, i < n → j < n → V i j = sd_m n U B i j) (k : sd_rk n n U r) (k' : sd_rk n n V r') : r' ≤ r := by
  have e : ∀ i j, i < n → j < n → V i j = sd_m n sd_1 (sd_m n U B) i j := fun i j hi hj => by rw [sd_1_m hi, h i j hi hj]
  exact sd_ge_le (sd_ge_t e k'.1) k.2
theorem sd_rk_n {n r : Nat} {U : sd_M} (k : sd_rk n n U r) : r ≤ n := sd_ge_le k.1 (sd_le_n n n U)
theorem sd_bw_k {n d r1 r2 r3 r4 : Nat} (hn : n ≤ 4) (h1 : r1 ≤ n) (h2 : r2 ≤ r1) (h3 : r3 ≤ r2) (h4 : r4 ≤ r3) :
    (n - r1) / d = sd_bw n d r1 r2 r3 r4 / 8 ^ 0 % 8 ∧ (r1 - r2) / d = sd_bw n d r1 r2 r3 r4 / 8 ^ 1 % 8 ∧ (r2 - r3) / d = sd_bw n d r1 r2 r3 r4 / 8 ^ 2 % 8 ∧ (r3 - r4) / d = sd_bw n d r1 r2 r3 r4 / 8 ^ 3 % 8 := by
  have b : ∀ x, x ≤ 4 → x / d ≤ 4 := fun x hx => Nat.le_trans (Nat.div_le_self x d) hx
  have b1 := b (n - r1) (by omega)
  have b2 := b (r1 - r2) (by omega)
  have b3 := b (r2 - r3) (by omega)
  have b4 := b (r3 - r4) (by omega)
  unfold sd_bw
  generalize (n - r1) / d = a1 at b1
  generalize (r1 - r2) / d = a2 at b2
  generalize (r2 - r3) / d = a3 at b3
  generalize (r3 - r4) / d = a4 at b4
  have p0 : (8 : Nat) ^ 0 = 1 := by decide
  have p1 : (8 : Nat) ^ 1 = 8 := by decide
  have p2 : (8 : Nat) ^ 2 = 64 := by decide
  have p3 : (8 : Nat) ^ 3 = 512 := by decide
  rw [p0, p1, p2, p3]
  omega
section
variable {n fc ic : Nat} {G Q : Nat → Nat → Fin 5} {fN fD bl iv kv : Nat → Nat}
/-- the blocks of one factor -/
theorem xd_countBlocks {post : SX → Prop} {r f d w N : Nat} {A : sd_M} (hr : r < 4) (hf : f < 4) (hn : n ≤ 4) (hA : ∀ i k, i < n → k < n → G r (4 * i + k) = A i k) (oA : sd_ok n A) (hN : fN f = N) (hD : fD f = d) (hd1 : 1 ≤ d) (hd4 : d ≤ 4) (hN5 : N < 5 ^ 5)
    (hF : ∃ r1 r2 r3 r4, sd_rk n n (sd_ev n A 5 (sd_dg N)) r1 ∧ sd_rk n n (sd_x n (sd_ev n A 5 (sd_dg N)) (sd_ev n A 5 (sd_dg N))) r2 ∧ sd_rk n n (sd_x n (sd_x n (sd_ev n A 5 (sd_dg N)) (sd_ev n A 5 (sd_dg N))) (sd_ev n A 5 (sd_dg N))) r3 ∧ sd_rk n n (sd_x n (sd_x n (sd_x n (sd_ev n A 5 (sd_dg N)) (sd_ev n A 5 (sd_dg N))) (sd_ev n A 5 (sd_dg N))) (sd_ev n A 5 (sd_dg N))) r4 ∧ w = sd_bw n d r1 r2 r3 r4)
    (K : ∀ G' Q' bl', (∀ k, k < 4 → bl' (4 * f + k) = w / 8 ^ k % 8) → (∀ i, i < 4 * f → bl' i = bl i) → (∀ a x, a < 4 → x < 16 → G' a x = G a x) → post (nI n, nI fc, nI ic, sd_ea 16 G', sd_ea 10 Q', sd_nv fN, sd_nv fD, sd_nv bl', sd_nv iv, sd_nv kv)) : wpX_countBlocks post (nI n, nI fc, nI ic, sd_ea 16 G, sd_ea 10 Q, sd_nv fN, sd_nv fD, sd_nv bl, sd_nv iv, sd_nv kv) (nI r) (nI f) := by
  obtain ⟨r1, r2, r3, r4, k1, k2, k3, k4, hw⟩ := hF
  generalize hB : sd_ev n A 5 (sd_dg N) = B at k1 k2 k3 k4
  have oB : sd_ok n B := by rw [← hB]; exact sd_ev_ok n A _ _
  have m1 : r1 ≤ n := sd_rk_n k1
  have m2 : r2 ≤ r1 := sd_rk_mono (fun i j hi hj => sd_x_v hi hj) k1 k2
  have m3 : r3 ≤ r2 := sd_rk_mono (fun i j hi hj => sd_x_v hi hj) k2 k3
  have m4 : r4 ≤ r3 := sd_rk_mono (fun i j hi hj => sd_x_v hi hj) k3 k4
  obtain ⟨w0, w1, w2, w3⟩ := sd_bw_k (d := d) hn m1 m2 m3 m4
  rw [← hw] at w0 w1 w2 w3
  have N10 : N < 5 ^ 10 := Nat.lt_of_lt_of_le hN5 (Nat.pow_le_pow_right (by omega) (by omega))
  show vp_in (nI f) 4 ∧ wpX_load _ _ 1 (sd_nv fN (nI f).toNatClampNeg)
  rw [sd_clN (by omega)]
  show vp_in (nI f) 4 ∧ wpX_load _ _ 1 (nI (fN f))
  rw [hN]
  refine ⟨vp_in_nI hf (by omega), xd_load (p := 1) (by omega) N10 (fun Q1 q1 _ => xd_evaluate (p := 1) hr (by omega) hn (fun G1 g1 g1' => xd_copy (t := 7) (f := 4) (by omega) (by omega) (fun G2 g2 => Exists.intro 5 ?_)))⟩
  have clA : sd_cl n (fun i k => G r (4 * i + k)) = A := by
    apply sd_ok_e (sd_cl_ok n _) oA
    intro i j hi hj
    rw [sd_cl_v hi hj, hA i j hi hj]
  have evB : sd_ev n (sd_cl n (fun i k => G r (4 * i + k))) 10 (Q1 1) = B := by
    rw [clA, sd_ev_c n A 10 (Q1 1) (sd_dg N) q1, ← hB]
    exact sd_ev_e n A 5 10 _ (sd_dg_dl hN5) (by omega)
  have p4 : ∀ i k, i < n → k < n → G2 4 (4 * i + k) = B i k := fun i k hi hk => by
    rw [g2 4 _ (by omega), if_neg (by omega), g1 i k hi hk, evB]
  have p7 : ∀ i k, i < n → k < n → G2 7 (4 * i + k) = B i k := fun i k hi hk => by
    rw [g2 7 _ (by omega), if_pos rfl, g1 i k hi hk, evB]
  have frr : ∀ a x, a < 4 → x < 16 → G2 a x = G a x := fun a x ha hx => by
    rw [g2 a x hx, if_neg (by omega), g1' a x (by omega) (by omega) (by omega) hx]
  -- one turn
  have turn : ∀ (e k : Nat) (V : sd_M) (b h : Nat) (H : Nat → Nat → Fin 5) (bl1 : Nat → Nat), k < 4 → (∀ i j, i < n → j < n → H 4 (4 * i + j) = V i j) → (∀ i j, i < n → j < n → H 7 (4 * i + j) = B i j) → sd_rk n n V h → h ≤ b → b ≤ 4 →
      (∀ (H' : Nat → Nat → Fin 5), (∀ i j, i < n → j < n → H' 4 (4 * i + j) = sd_x n V B i j) → (∀ i j, i < n → j < n → H' 7 (4 * i + j) = B i j) → (∀ a x, a < 4 → x < 16 → H' a x = H a x) → wX_countBlocks_32 post (nI f) (e + 1) (nI h) (nI (k + 1)) (nI n) (nI fc) (nI ic) (sd_ea 16 H') (sd_ea 10 Q1) (sd_nv fN) (sd_nv fD) (sd_nv (sd_un bl1 (4 * f + k) ((b - h) / d))) (sd_nv iv) (sd_nv kv)) →
      wX_countBlocks_32 post (nI f) (e + 1 + 1) (nI b) (nI k) (nI n) (nI fc) (nI ic) (sd_ea 16 H) (sd_ea 10 Q1) (sd_nv fN) (sd_nv fD) (sd_nv bl1) (sd_nv iv) (sd_nv kv) := by
    intro e k V b h H bl1 hk h4 h7 hV hhb hb4 KK
    refine br_f (nI_ge (b := 4) (by omega) (by decide)) (xd_rankOf (m := 4) (by omega) hn (fun H1 rk rkV fr => ?_))
    have er : rk = h := sd_rk_u (sd_rk_c (fun i j hi hj => h4 i j hi hj) rkV) hV
    subst er
    have ix : (4 : Int32) * nI f + nI k = nI (4 * f + k) := by
      rw [show (4 : Int32) * nI f = nI (4 * f) from pk_mul 4 f, nI_add]
    rw [ix, sd_clN (by omega), sd_clN (by omega)]
    show vp_in (nI f) 4 ∧ (¬ nI (fD f) = 0 ∧ (vp_in (nI (4 * f + k)) 16 ∧ _))
    rw [hD]
    refine ⟨vp_in_nI hf (by omega), nI_ne0 (by omega) (by omega), vp_in_nI (by omega) (by omega), ?_⟩
    have e1 : (nI b - nI rk) / nI d = nI ((b - rk) / d) := by
      rw [pk_sub hhb, pk_div (by omega) (by omega) (by omega)]
    have b8 : (b - rk) / d < 8 := Nat.lt_of_le_of_lt (Nat.div_le_self _ _) (by omega)
    show ∀ a, a = upd (sd_nv bl1) (4 * f + k) (vp_nar .byte (((nI b - nI rk) / nI (fD f)).toInt8.toInt32)) → _
    rw [hD, e1, sd_nbs _ b8, sd_nv_w]
    refine nm_e (xd_multiply (t := 4) (a := 4) (b := 7) (by omega) (by omega) (by omega) hn (fun H2 u1 u2 => nm_r (nI_1 k) (KK H2 ?_ ?_ ?_)))
    · intro i j hi hj
      rw [u1 i j hi hj, sd_x_v hi hj]
      exact sd_m_c (fun l hl => by rw [fr 4 _ (by omega) (by omega) (by omega), h4 i l hi hl]) (fun l hl => by rw [fr 7 _ (by omega) (by omega) (by omega), h7 l j hl hj])
    · intro i j hi hj
      rw [u2 7 _ (by omega) (by omega) (by omega), fr 7 _ (by omega) (by omega) (by omega), h7 i j hi hj]
    · intro a x ha hx
      rw [u2 a x (by omega) (by omega) hx, fr a x (by omega) (by omega) hx]
  refine turn 3 0 B n r1 G2 bl (by omega) p4 p7 k1 m1 hn (fun H1 a1 a2 a3 => turn 2 1 _ r1 r2 H1 _ (by omega) a1 a2 k2 m2 (by omega) (fun H2 b1 b2 b3 => turn 1 2 _ r2 r3 H2 _ (by omega) b1 b2 k3 m3 (by omega) (fun H3 c1 c2 c3 => turn 0 3 _ r3 r4 H3 _ (by omega) c1 c2 k4 m4 (by omega) (fun H4 _ _ d3 => br_t (by decide) (K H4 Q1 _ ?_ ?_ ?_)))))
  · intro k hk
    have c : k = 0 ∨ k = 1 ∨ k = 2 ∨ k = 3 := by omega
    unfold sd_un
    rcases c with rfl | rfl | rfl | rfl
    · rw [if_neg (by omega), if_neg (by omega), if_neg (by omega), if_pos rfl, w0]
    · rw [if_neg (by omega), if_neg (by omega), if_pos rfl, w1]
    · rw [if_neg (by omega), if_pos rfl, w2]
    · rw [if_pos rfl, w3]
  · intro i hi
    unfold sd_un
    rw [if_neg (by omega), if_neg (by omega), if_neg (by omega), if_neg (by omega)]
  · intro a x ha hx
    rw [d3 a x ha hx, c3 a x ha hx, b3 a x ha hx, a3 a x ha hx, frr a x ha hx]
end
def sd_DL (D : List (Nat × Nat)) (fN fD bl : Nat → Nat) : Prop := ∀ i, i < D.length → fN i = (D.getD i (0, 0)).1 ∧ fD i = sd_df (D.getD i (0, 0)).1 ∧ ∀ k, k < 4 → bl (4 * i + k) = (D.getD i (0, 0)).2 / 8 ^ k % 8
theorem sd_drop {D : List (Nat × Nat)} {i : Nat} (h : i < D.length) : D.drop i = D.getD i (0, 0) :: D.drop (i + 1) := by
  rw [List.drop_eq_getElem_cons h, List.getD_eq_getElem?_getD, List.getElem?_eq_getElem h]; rfl
theorem sd_gd_in {D : List (Nat × Nat)} {i : Nat} (h : i < D.length) : D.getD i (0, 0) ∈ D := by
  rw [List.getD_eq_getElem?_getD, List.getElem?_eq_getElem h]; exact List.getElem_mem h
noncomputable def sd_icF (D : List (Nat × Nat)) (m : Nat) : Nat := List.rec (motive := fun _ => Nat → Nat) (fun m => m) (fun z _ ih m => ih (cond (Nat.ble (Nat.mod z.2 8) m) m (Nat.mod z.2 8))) D m
theorem sd_icF_c (z : Nat × Nat) (D : List (Nat × Nat)) (m : Nat) : sd_icF (z :: D) m = sd_icF D (cond (Nat.ble (z.2 % 8) m) m (z.2 % 8)) := rfl
theorem sd_icF_8 : ∀ (D : List (Nat × Nat)) (m : Nat), m < 8 → sd_icF D m < 8 := by
  intro D
  induction D with
  | nil => intro m h; exact h
  | cons z D ih =>
    intro m h
    rw [sd_icF_c]
    apply ih
    cases Nat.ble (z.2 % 8) m with
    | true => exact h
    | false => show z.2 % 8 < 8; omega
theorem sd_iv_c (z : Nat × Nat) (D : List (Nat × Nat)) (j m : Nat) : sd_iv (z :: D) j m = sd_iv D j (sd_m4 z.1 z.2 j m) := rfl
theorem sd_cond_lt {c : Bool} {a b B : Nat} (h1 : a < B) (h2 : b < B) : cond c a b < B := by
  cases c with
  | true => exact h1
  | false => exact h2
theorem sd_mu_lt {f w j k m : Nat} (h : m < 5 ^ 10) : sd_mu f w j k m < 5 ^ 10 := by
  have h2 : sd_mR 10 10 m f < 5 ^ 10 := by rw [sd_mR_e]; exact sd_mN_lt 10 10 m f
  unfold sd_mu
  exact sd_cond_lt h h2
theorem sd_m4_lt {f w j m : Nat} (h : m < 5 ^ 10) : sd_m4 f w j m < 5 ^ 10 := sd_mu_lt (sd_mu_lt (sd_mu_lt (sd_mu_lt h)))
section
variable {n fc ic : Nat} {G Q : Nat → Nat → Fin 5} {fN fD bl iv kv : Nat → Nat}
theorem xd_multiplyPowers {post : SX → Prop} {f j N w m : Nat} (hf : f < 4) (hj : j < 100) (hN : fN f = N) (hN5 : N < 5 ^ 10) (hb : ∀ k, k < 4 → bl (4 * f + k) = w / 8 ^ k % 8) (hm : m < 5 ^ 10) (h0 : ∀ x, x < 10 → Q 0 x = sd_dg m x)
    (K : ∀ Q', (∀ x, x < 10 → Q' 0 x = sd_dg (sd_m4 N w j m) x) → post (nI n, nI fc, nI ic, sd_ea 16 G, sd_ea 10 Q', sd_nv fN, sd_nv fD, sd_nv bl, sd_nv iv, sd_nv kv)) : wpX_multiplyPowers post (nI n, nI fc, nI ic, sd_ea 16 G, sd_ea 10 Q, sd_nv fN, sd_nv fD, sd_nv bl, sd_nv iv, sd_nv kv) (nI f) (nI j) := by
  show vp_in (nI f) 4 ∧ wpX_load _ _ 1 (sd_nv fN (nI f).toNatClampNeg)
  rw [sd_clN (by omega)]
  show vp_in (nI f) 4 ∧ wpX_load _ _ 1 (nI (fN f))
  rw [hN]
  refine ⟨vp_in_nI hf (by omega), xd_load (p := 1) (by omega) hN5 (fun Q1 q1 q1' => Exists.intro 5 ?_)⟩
  have turn : ∀ (e k m : Nat) (H : Nat → Nat → Fin 5), k < 4 → m < 5 ^ 10 → (∀ x, x < 10 → H 0 x = sd_dg m x) → (∀ x, x < 10 → H 1 x = sd_dg N x) →
      (∀ H', (∀ x, x < 10 → H' 0 x = sd_dg (sd_mu N w j k m) x) → (∀ x, x < 10 → H' 1 x = sd_dg N x) → wX_multiplyPowers_13 post (nI f) (nI j) e (nI (k + 1)) (nI n) (nI fc) (nI ic) (sd_ea 16 G) (sd_ea 10 H') (sd_nv fN) (sd_nv fD) (sd_nv bl) (sd_nv iv) (sd_nv kv)) → wX_multiplyPowers_13 post (nI f) (nI j) (e + 1) (nI k) (nI n) (nI fc) (nI ic) (sd_ea 16 G) (sd_ea 10 H) (sd_nv fN) (sd_nv fD) (sd_nv bl) (sd_nv iv) (sd_nv kv) := by
    intro e k m H hk hm h0 h1 KK
    refine br_f (nI_ge (b := 4) (by omega) (by decide)) ?_
    have ix : (4 : Int32) * nI f + nI k = nI (4 * f + k) := by
      rw [show (4 : Int32) * nI f = nI (4 * f) from pk_mul 4 f, nI_add]
    rw [ix, sd_clN (by omega)]
    have eb : sd_nv bl (4 * f + k) = nI (w / 8 ^ k % 8) := by
      show nI (bl (4 * f + k)) = _
      rw [hb k hk]
    rw [eb]
    refine ⟨vp_in_nI (by omega) (by omega), ?_⟩
    have w8 : w / 8 ^ k % 8 < 8 := Nat.mod_lt _ (by omega)
    by_cases c : w / 8 ^ k % 8 ≤ j
    · refine br_t (nI_le c (by omega)) (nm_r (nI_1 k) (KK H (fun x hx => ?_) h1))
      rw [h0 x hx]
      have : sd_mu N w j k m = m := by
        unfold sd_mu
        rw [show Nat.ble (Nat.mod (Nat.div w (Nat.pow 8 k)) 8) j = true from sd_ble_t c]; rfl
      rw [this]
    · refine br_f (nI_ge (by omega) (by omega)) (xd_multiplyPoly (t := 0) (a := 0) (b := 1) (by omega) (by omega) (by omega) (by omega) (by omega) (fun Q' u1 u2 => nm_r (nI_1 k) (KK Q' (fun x hx => ?_) (fun x hx => ?_))))
      · have : sd_mu N w j k m = sd_mR 10 10 m N := by
          unfold sd_mu
          rw [show Nat.ble (Nat.mod (Nat.div w (Nat.pow 8 k)) 8) j = false from sd_ble_f c]; rfl
        rw [this, sd_mR_e, sd_mN_dg 10 10 m N x hm hx, u1 x hx]
        exact sd_pm_low x _ _ _ _ (fun i hi => h0 i (by omega)) (fun i hi => h1 i (by omega))
      · rw [u2 1 x (by omega) (by omega) hx, h1 x hx]
  refine turn 4 0 m Q1 (by omega) hm (fun x hx => by rw [q1' 0 x (by omega) hx, h0 x hx]) q1 (fun H1 a0 a1 => turn 3 1 _ H1 (by omega) (sd_mu_lt hm) a0 a1 (fun H2 b0 b1 => turn 2 2 _ H2 (by omega) (sd_mu_lt (sd_mu_lt hm)) b0 b1 (fun H3 c0 c1 => turn 1 3 _ H3 (by omega) (sd_mu_lt (sd_mu_lt (sd_mu_lt hm))) c0 c1 (fun H4 d0 _ => br_t (by decide) (K H4 d0)))))
theorem xd_buildInvariants {post : SX → Prop} {D : List (Nat × Nat)} (hD : sd_DL D fN fD bl) (hL : D.length ≤ 4) (hfc : fc = D.length) (hic : sd_ic D ≤ 4) (hN : ∀ z, z ∈ D → z.1 < 5 ^ 10) (hiv : ∀ j, j < sd_ic D → sd_iv D j 1 < 32768)
    (K : ∀ Q' iv', (∀ j, j < sd_ic D → iv' (sd_ic D - 1 - j) = sd_iv D j 1) → post (nI n, nI fc, nI (sd_ic D), sd_ea 16 G, sd_ea 10 Q', sd_nv fN, sd_nv fD, sd_nv bl, sd_nv iv', sd_nv kv)) : wpX_buildInvariants post (nI n, nI fc, nI ic, sd_ea 16 G, sd_ea 10 Q, sd_nv fN, sd_nv fD, sd_nv bl, sd_nv iv, sd_nv kv) := by
  subst hfc
  refine Exists.intro (D.length + 1) ?_
  -- the invariants one by one
  have inner : ∀ (J : Int32 → Int32 → Int32 → Int32 → (Nat → Int32) → (Nat → Int32) → (Nat → Int32) → (Nat → Int32) → (Nat → Int32) → (Nat → Int32) → (Nat → Int32) → Prop) (j : Nat) (iv1 : Nat → Nat), j < sd_ic D →
      (∀ H, J (nI (j + 1)) (nI n) (nI (D.length)) (nI (sd_ic D)) (sd_ea 16 G) (sd_ea 10 H) (sd_nv fN) (sd_nv fD) (sd_nv bl) (sd_nv (sd_un iv1 (sd_ic D - 1 - j) (sd_iv D j 1))) (sd_nv kv)) →
      ∀ (d f m : Nat) (H : Nat → Nat → Fin 5), f + d = D.length → m < 5 ^ 10 → (∀ x, x < 10 → H 0 x = sd_dg m x) → sd_iv (D.drop f) j m = sd_iv D j 1 → wX_buildInvariants_66 post J (nI j) (d + 1) (nI f) (nI n) (nI (D.length)) (nI (sd_ic D)) (sd_ea 16 G) (sd_ea 10 H) (sd_nv fN) (sd_nv fD) (sd_nv bl) (sd_nv iv1) (sd_nv kv) := by
    intro J j iv1 hj KJ d
    induction d with
    | zero =>
      intro f m H hf hm h0 hi
      have e : D.drop f = [] := List.drop_eq_nil_of_le (by omega)
      rw [e] at hi
      have hi' : m = sd_iv D j 1 := hi
      refine br_t (nI_le (by omega) (by omega)) (xd_numberOf (p := 0) (by omega) ?_)
      rw [sd_nm_c 10 _ (sd_dg m) h0, sd_nm_dg 10 m hm, hi']
      have ix : nI (sd_ic D) - 1 - nI j = nI (sd_ic D - 1 - j) := by
        rw [show nI (sd_ic D) - 1 = nI (sd_ic D - 1) from pk_sub (b := 1) (by omega), pk_sub (by omega)]
      rw [ix, sd_clN (by omega), sd_ns (hiv j hj), sd_nv_w]
      exact ⟨vp_in_nI (by omega) (by omega), nm_e (nm_r (nI_1 j) (KJ H))⟩
    | succ d ih =>
      intro f m H hf hm h0 hi
      have lt : f < D.length := by omega
      obtain ⟨d1, d2, d3⟩ := hD f lt
      rw [sd_drop lt, sd_iv_c] at hi
      exact br_f (nI_ge (by omega) (by omega)) (xd_multiplyPowers (by omega) (by omega) d1 (hN _ (sd_gd_in lt)) d3 hm h0 (fun Q' q0 => nm_r (nI_1 f) (ih (f + 1) _ Q' (by omega) (sd_m4_lt hm) q0 hi)))
  have outer : ∀ (d j : Nat) (H : Nat → Nat → Fin 5) (iv1 : Nat → Nat), j + d = sd_ic D → (∀ t, t < j → iv1 (sd_ic D - 1 - t) = sd_iv D t 1) → wX_buildInvariants_50 post (d + 1) (nI j) (nI n) (nI (D.length)) (nI (sd_ic D)) (sd_ea 16 G) (sd_ea 10 H) (sd_nv fN) (sd_nv fD) (sd_nv bl) (sd_nv iv1) (sd_nv kv) := by
    intro d
    induction d with
    | zero =>
      intro j H iv1 hj h
      have e : j = sd_ic D := by omega
      subst e
      exact br_t (nI_le (Nat.le_refl _) (by omega)) (K H iv1 h)
    | succ d ih =>
      intro j H iv1 hj h
      refine br_f (nI_ge (by omega) (by omega)) (xd_load (p := 0) (N := 1) (by omega) (by decide) (fun Q1 q1 _ => Exists.intro (D.length + 1) (inner _ j iv1 (by omega) (fun H' => ih (j + 1) H' _ (by omega) ?_) D.length 0 1 Q1 (by omega) (by decide) q1 rfl)))
      intro t ht
      unfold sd_un
      by_cases e : t = j
      · subst e; rw [if_pos rfl]
      · rw [if_neg (by omega)]; exact h t (by omega)
  have cnt : ∀ (d f m : Nat), f + d = D.length → m < 8 → sd_icF (D.drop f) m = sd_ic D → wX_buildInvariants_7 post (nI n) (nI D.length) (sd_ea 16 G) (sd_ea 10 Q) (sd_nv fN) (sd_nv fD) (sd_nv bl) (sd_nv iv) (sd_nv kv) (d + 1) (nI f) (nI m) := by
    intro d
    induction d with
    | zero =>
      intro f m hf hm hi
      have e : D.drop f = [] := List.drop_eq_nil_of_le (by omega)
      rw [e] at hi
      have hi' : m = sd_ic D := hi
      subst hi'
      have o := outer (sd_ic D) 0 Q iv (by omega) (fun t ht => absurd ht (by omega))
      exact br_t (nI_le (by omega) (by omega)) (Exists.intro _ o)
    | succ d ih =>
      intro f m hf hm hi
      have lt : f < D.length := by omega
      obtain ⟨_, _, d3⟩ := hD f lt
      rw [sd_drop lt, sd_icF_c] at hi
      refine br_f (nI_ge (by omega) (by omega)) ?_
      have ix : (4 : Int32) * nI f = nI (4 * f) := pk_mul 4 f
      rw [ix, sd_clN (by omega)]
      have eb : sd_nv bl (4 * f) = nI ((D.getD f (0, 0)).2 % 8) := by
        show nI (bl (4 * f)) = _
        have := d3 0 (by omega)
        rw [Nat.add_zero, Nat.pow_zero, Nat.div_one] at this
        rw [this]
      rw [eb]
      refine ⟨vp_in_nI (by omega) (by omega), ?_⟩
      have w8 : (D.getD f (0, 0)).2 % 8 < 8 := Nat.mod_lt _ (by omega)
      by_cases c : (D.getD f (0, 0)).2 % 8 ≤ m
      · rw [sd_ble_t c] at hi
        exact br_t (nI_le c (by omega)) (nm_r (nI_1 f) (ih (f + 1) m (by omega) hm hi))
      · rw [sd_ble_f c] at hi
        exact br_f (nI_ge (by omega) (by omega)) ⟨vp_in_nI (by omega) (by omega), nm_e (nm_r (nI_1 f) (ih (f + 1) _ (by omega) w8 hi))⟩
  exact cnt D.length 0 0 (by omega) (by omega) rfl
end
end
section
/-! ===== X: analyse ===== -/
theorem sd_mon_lt {m d : Nat} (hd : d ≤ 4) (h : m / 5 ^ d = 1) : m < 5 ^ 5 := by
  have h5 : 0 < 5 ^ d := Nat.pow_pos (by omega)
  have h54 : 5 ^ d ≤ 5 ^ 4 := Nat.pow_le_pow_right (by omega) hd
  have m1 := Nat.div_add_mod m (5 ^ d)
  have m2 := Nat.mod_lt m h5
  rw [h] at m1
  have : (5 : Nat) ^ 5 = 5 * 5 ^ 4 := by decide
  omega
theorem sd_fact_iv {n : Nat} {A : sd_M} {N : Nat → Nat} {D : List (Nat × Nat)} (h : sd_fact n A N D) (j : Nat) (hj : j < sd_ic D) : sd_iv D j 1 = N (n - 1 - j) ∧ N (n - 1 - j) < 5 ^ 5 := by
  obtain ⟨_, _, f4, _, _, _, _, f9⟩ := h
  obtain ⟨i1, i2, _, i4⟩ := f4
  have k := ((i4 (n - 1 - j) (by omega)).2 (by omega)).1
  have e : n - 1 - (n - 1 - j) = j := by omega
  rw [e] at k
  refine ⟨k.symm, ?_⟩
  obtain ⟨d, hd, hm⟩ := f9.1 (n - 1 - j) (by omega)
  exact sd_mon_lt hd hm
theorem sd_map_gd {D : List (Nat × Nat)} : ∀ i, i < D.length → (D.map Prod.fst).getD i 0 = (D.getD i (0, 0)).1 := by
  intro i hi
  rw [List.getD_eq_getElem?_getD, List.getElem?_map, List.getElem?_eq_getElem hi, List.getD_eq_getElem?_getD, List.getElem?_eq_getElem hi]; rfl
section
variable {n fc ic : Nat} {G Q : Nat → Nat → Fin 5} {fN fD bl iv kv : Nat → Nat}
theorem xd_analyse {post : SX → Prop} {r : Nat} {A : sd_M} {N : Nat → Nat} {D : List (Nat × Nat)} (hr : r < 4) (h1n : 1 ≤ n) (hn : n ≤ 4) (hA : A = sd_cl n (fun i k => G r (4 * i + k))) (hF : sd_fact n A N D)
    (K : ∀ G' Q' fN' fD' bl' iv', (∀ a x, a < 4 → x < 16 → G' a x = G a x) → sd_DL D fN' fD' bl' → (∀ j, j < sd_ic D → iv' (sd_ic D - 1 - j) = sd_iv D j 1) → post (nI n, nI (D.length), nI (sd_ic D), sd_ea 16 G', sd_ea 10 Q', sd_nv fN', sd_nv fD', sd_nv bl', sd_nv iv', sd_nv kv)) : wpX_analyse post (nI n, nI fc, nI ic, sd_ea 16 G, sd_ea 10 Q, sd_nv fN, sd_nv fD, sd_nv bl, sd_nv iv, sd_nv kv) (nI r) := by
  have hF' := hF
  obtain ⟨f1, f2, f4, _, _, _, _, f9⟩ := hF
  have oA : sd_ok n A := by rw [hA]; exact sd_cl_ok n _
  have Lf : sd_fc (sd_nm 5 (sd_cp n A)) = D.map Prod.fst := f1.symm
  have len : (sd_fc (sd_nm 5 (sd_cp n A))).length = D.length := by rw [Lf, List.length_map]
  have D4 := f4.2.2.1
  have c5 : sd_nm 5 (sd_cp n A) < 5 ^ 5 := sd_nm_lt 5 _
  have c10 : sd_nm 5 (sd_cp n A) < 5 ^ 10 := Nat.lt_of_lt_of_le c5 (Nat.pow_le_pow_right (by omega) (by omega))
  refine xd_characteristicOf hr h1n hn (fun G1 Q1 g1 => ?_)
  rw [← hA]
  refine xd_load (p := 0) (by omega) c10 (fun Q2 q2 _ => xd_findFactors c5 (by rw [len]; exact D4) q2 (fun Q3 fN3 fD3 l3 => ?_))
  rw [len]
  refine Exists.intro (D.length + 1) ?_
  have dl0 : ∀ i, i < D.length → fN3 i = (D.getD i (0, 0)).1 ∧ fD3 i = sd_df (D.getD i (0, 0)).1 := by
    intro i hi
    have := l3 i (by rw [len]; exact hi)
    rw [Lf, sd_map_gd i hi] at this
    exact this
  have lp : ∀ (d f : Nat) (H U : Nat → Nat → Fin 5) (bl1 : Nat → Nat), f + d = D.length → (∀ a x, a < 4 → x < 16 → H a x = G a x) → (∀ i, i < f → ∀ k, k < 4 → bl1 (4 * i + k) = (D.getD i (0, 0)).2 / 8 ^ k % 8) → wX_analyse_18 post (nI r) (d + 1) (nI f) (nI n) (nI (D.length)) (nI ic) (sd_ea 16 H) (sd_ea 10 U) (sd_nv fN3) (sd_nv fD3) (sd_nv bl1) (sd_nv iv) (sd_nv kv) := by
    intro d
    induction d with
    | zero =>
      intro f H U bl1 hf fr hb
      have e : f = D.length := by omega
      subst e
      refine br_t (nI_le (Nat.le_refl _) (by omega)) (xd_buildInvariants (D := D) (fun i hi => ⟨(dl0 i hi).1, (dl0 i hi).2, hb i hi⟩) D4 rfl (by have := f4.2.1; omega) ?_ ?_ (fun Q' iv' hiv => K H Q' fN3 fD3 bl1 iv' fr (fun i hi => ⟨(dl0 i hi).1, (dl0 i hi).2, hb i hi⟩) hiv))
      · intro z hz
        have := (f2 z hz).1
        have b := sd_mon_lt (sd_df_b z.1).2 this
        exact Nat.lt_of_lt_of_le b (Nat.pow_le_pow_right (by omega) (by omega))
      · intro j hj
        obtain ⟨e1, e2⟩ := sd_fact_iv hF' j hj
        rw [e1]
        have : (5 : Nat) ^ 5 = 3125 := by decide
        omega
    | succ d ih =>
      intro f H U bl1 hf fr hb
      have lt : f < D.length := by omega
      obtain ⟨m1, ranks⟩ := f2 _ (sd_gd_in lt)
      obtain ⟨b1, b4⟩ := sd_df_b (D.getD f (0, 0)).1
      refine br_f (nI_ge (by omega) (by omega)) (xd_countBlocks (A := A) hr (by omega) hn ?_ oA (dl0 f lt).1 (dl0 f lt).2 b1 b4 (sd_mon_lt b4 m1) ranks (fun G' Q' bl' h1 h2 h3 => nm_r (nI_1 f) (ih (f + 1) G' Q' bl' (by omega) ?_ ?_)))
      · intro i k hi hk
        rw [fr r _ hr (by omega), hA, sd_cl_v hi hk]
      · intro a x ha hx
        rw [h3 a x ha hx, fr a x ha hx]
      · intro i hi k hk
        by_cases e : i = f
        · subst e; exact h1 k hk
        · rw [h2 _ (by omega)]; exact hb i (by omega) k hk
  exact lp D.length 0 G1 Q3 bl (by omega) (fun a x ha hx => g1 a x (by omega) hx) (fun i hi => absurd hi (by omega))
end
end
section
/-! ===== X: powers of the unknown, orders ===== -/
section
variable {n fc ic : Nat} {G Q : Nat → Nat → Fin 5} {fN fD bl iv kv : Nat → Nat}
theorem xd_multiplyModulo {post : SX → Prop} {t a m d p b : Nat} (ht : t = 5 ∨ t = 6) (ha : a = 5 ∨ a = 6) (h1 : 1 ≤ d) (hd : d ≤ 4) (hm : m / 5 ^ d = 1) (hp : p < 5 ^ d) (hb : b < 5 ^ d) (h0 : ∀ x, x < 10 → Q 0 x = sd_dg m x) (hqa : ∀ x, x < 10 → Q a x = sd_dg p x) (hqb : ∀ x, x < 10 → Q 5 x = sd_dg b x)
    (K : ∀ Q' r, r < 5 ^ d → sd_cg (sd_dg m) (sd_pm (sd_dg p) (sd_dg b)) (sd_dg r) → (∀ x, x < 10 → Q' t x = sd_dg r x) → (∀ q x, q ≠ t → q ≠ 2 → q ≠ 3 → q ≠ 4 → q ≠ 7 → x < 10 → Q' q x = Q q x) → post (nI n, nI fc, nI ic, sd_ea 16 G, sd_ea 10 Q', sd_nv fN, sd_nv fD, sd_nv bl, sd_nv iv, sd_nv kv)) : wpX_multiplyModulo post (nI n, nI fc, nI ic, sd_ea 16 G, sd_ea 10 Q, sd_nv fN, sd_nv fD, sd_nv bl, sd_nv iv, sd_nv kv) (nI t) (nI a) := by
  have h54 : 5 ^ d ≤ 5 ^ 4 := Nat.pow_le_pow_right (by omega) hd
  have p4 : p < 5 ^ 4 := by omega
  have b4 : b < 5 ^ 4 := by omega
  have z10 : sd_mR 10 4 p b < 5 ^ 10 := by rw [sd_mR_e]; exact sd_mN_lt 10 4 p b
  have zdg := sd_mR_dg (d := 10) p4 b4 (by omega) (by omega)
  generalize sd_mR 10 4 p b = z at z10 zdg
  refine xd_multiplyPoly (t := 4) (a := a) (b := 5) (by omega) (by omega) (by omega) (by omega) (by omega) (fun Q1 u1 u2 => xd_dividePoly (a := 4) (b := 0) (m := z) (f := m) (d := d) (by omega) (by omega) (by omega) (by omega) (by omega) (by omega) hd hm z10 (fun x hx => ?_) (fun x hx => ?_) (fun Q2 _ v2 v3 => xd_copyPoly (t := t) (f := 3) (by omega) (by omega) (fun Q3 w1 w2 => K Q3 (sd_dN d m 10 z).2 (sd_dN_s d m hm 10 z z10).1 ?_ (fun x hx => ?_) (fun q x h1 h2 h3 h4 h7 hx => ?_))))
  · rw [u1 x hx, zdg]
    exact sd_pm_low x _ _ _ _ (fun i hi => hqa i (by omega)) (fun i hi => hqb i (by omega))
  · rw [u2 0 x (by omega) (by omega) hx, h0 x hx]
  · rw [← zdg]
    have := sd_rem_cg hm z10
    rw [(sd_zN_q hm z10).2] at this
    exact this
  · rw [w1 x hx, v2 x hx]
  · rw [w2 q x h1 hx, v3 q x h2 h3 hx, u2 q x h4 h7 hx]
theorem xd_powerOfUnknown {post : SX → Prop} {m d k : Nat} (h1 : 1 ≤ d) (hd : d ≤ 4) (hm : m / 5 ^ d = 1) (hk : k < 2 ^ 31) (h0 : ∀ x, x < 10 → Q 0 x = sd_dg m x)
    (K : ∀ Q' p, p < 5 ^ d → sd_cg (sd_dg m) (sd_pp sd_X k) (sd_dg p) → (∀ x, x < 10 → Q' 6 x = sd_dg p x) → (∀ x, x < 10 → Q' 0 x = sd_dg m x) → post (nI n, nI fc, nI ic, sd_ea 16 G, sd_ea 10 Q', sd_nv fN, sd_nv fD, sd_nv bl, sd_nv iv, sd_nv kv)) : wpX_powerOfUnknown post (nI n, nI fc, nI ic, sd_ea 16 G, sd_ea 10 Q, sd_nv fN, sd_nv fD, sd_nv bl, sd_nv iv, sd_nv kv) (nI k) := by
  have lt10 : ∀ z, z < 6 → z < 5 ^ 10 := fun z hz => by
    have : (5 : Nat) ^ 10 = 9765625 := by decide
    omega
  have lp : ∀ (u l e s p b : Nat) (H : Nat → Nat → Fin 5), u ≤ 31 → l < 2 ^ u → e + s * l = k → p < 5 ^ d → b < 5 ^ d → sd_cg (sd_dg m) (sd_pp sd_X e) (sd_dg p) → sd_cg (sd_dg m) (sd_pp sd_X s) (sd_dg b) → (∀ x, x < 10 → H 0 x = sd_dg m x) → (∀ x, x < 10 → H 6 x = sd_dg p x) → (∀ x, x < 10 → H 5 x = sd_dg b x) →
      wX_powerOfUnknown_39 post (u + 1) (nI l) (nI n) (nI fc) (nI ic) (sd_ea 16 G) (sd_ea 10 H) (sd_nv fN) (sd_nv fD) (sd_nv bl) (sd_nv iv) (sd_nv kv) := by
    intro u
    induction u with
    | zero =>
      intro l e s p b H _ hl hek hp hb cp cb r0 r6 r5
      have z : l = 0 := by rw [Nat.pow_zero] at hl; omega
      subst z
      rw [Nat.mul_zero, Nat.add_zero] at hek
      subst hek
      exact br_t (by decide) (K H p hp cp r6 r0)
    | succ u ih =>
      intro l e s p b H hu hl hek hp hb cp cb r0 r6 r5
      have l31 : l < 2 ^ 31 := Nat.lt_of_lt_of_le hl (Nat.pow_le_pow_right (by omega) hu)
      by_cases z : l = 0
      · subst z
        rw [Nat.mul_zero, Nat.add_zero] at hek
        subst hek
        exact br_t (by decide) (K H p hp cp r6 r0)
      · refine br_f (nI_nle (by omega) (by omega)) ?_
        have ea : nI l &&& 1 = nI (l % 2) := pk_andN (by omega) 1 (by decide)
        have esh : nI l >>> ((1 : Int32) &&& 31) = nI (l / 2) := pk_shrN (by omega) _ 1 (by decide)
        rw [Nat.pow_succ] at hl
        have sq : ∀ (e' p' : Nat) (H' : Nat → Nat → Fin 5), e' + s * (l - l % 2) = k → p' < 5 ^ d → sd_cg (sd_dg m) (sd_pp sd_X e') (sd_dg p') → (∀ x, x < 10 → H' 0 x = sd_dg m x) → (∀ x, x < 10 → H' 6 x = sd_dg p' x) → (∀ x, x < 10 → H' 5 x = sd_dg b x) →
            wX_powerOfUnknown_57 post (wX_powerOfUnknown_39 post (u + 1)) (nI l) (nI n) (nI fc) (nI ic) (sd_ea 16 G) (sd_ea 10 H') (sd_nv fN) (sd_nv fD) (sd_nv bl) (sd_nv iv) (sd_nv kv) := by
          intro e' p' H' he' hp' cp' q0 q6 q5
          refine xd_multiplyModulo (t := 5) (a := 5) (Or.inl rfl) (Or.inl rfl) h1 hd hm hb hb q0 q5 q5 (fun Q1 r hr cr v1 v2 => nm_r esh (ih (l / 2) e' (s + s) p' r Q1 (by omega) (by omega) ?_ hp' hr cp' ?_ (fun x hx => ?_) (fun x hx => ?_) v1))
          · have e2 : l - l % 2 = 2 * (l / 2) := by omega
            rw [← he', e2, ← Nat.mul_assoc, Nat.mul_comm s 2, Nat.two_mul]
          · rw [sd_pp_a]
            exact sd_cg_t (sd_cg_m (sd_dg_fs m) (sd_dg_fs b) (sd_dg_fs b) cb cb) cr
          · rw [v2 0 x (by omega) (by omega) (by omega) (by omega) (by omega) hx, q0 x hx]
          · rw [v2 6 x (by omega) (by omega) (by omega) (by omega) (by omega) hx, q6 x hx]
        rw [ea]
        by_cases par : l % 2 = 0
        · refine br_t (by rw [par]; decide) (sq e p H ?_ hp cp r0 r6 r5)
          rw [par, Nat.sub_zero]; exact hek
        · have p1 : l % 2 = 1 := by omega
          refine br_f (by rw [p1]; decide) (xd_multiplyModulo (t := 6) (a := 6) (Or.inr rfl) (Or.inr rfl) h1 hd hm hp hb r0 r6 r5 (fun Q1 r hr cr v1 v2 => sq (e + s) r Q1 ?_ hr ?_ (fun x hx => ?_) v1 (fun x hx => ?_)))
          · rw [p1, ← hek]
            have e3 : s * l = s * (l - 1) + s := by
              have : l = (l - 1) + 1 := by omega
              rw [this, Nat.mul_succ, Nat.add_sub_cancel]
            omega
          · rw [sd_pp_a]
            exact sd_cg_t (sd_cg_m (sd_dg_fs m) (sd_dg_fs p) (sd_dg_fs b) cp cb) cr
          · rw [v2 0 x (by omega) (by omega) (by omega) (by omega) (by omega) hx, r0 x hx]
          · rw [v2 5 x (by omega) (by omega) (by omega) (by omega) (by omega) hx, r5 x hx]
  refine xd_load (p := 4) (N := 1) (by omega) (lt10 1 (by omega)) (fun Q1 a1 a2 => xd_dividePoly (a := 4) (b := 0) (m := 1) (f := m) (d := d) (by omega) (by omega) (by omega) (by omega) (by omega) (by omega) hd hm (lt10 1 (by omega)) a1 (fun x hx => by rw [a2 0 x (by omega) hx, h0 x hx]) (fun Q2 _ b2 b3 => xd_copyPoly (t := 6) (f := 3) (by omega) (by omega) (fun Q3 c1 c2 => xd_load (p := 4) (N := 5) (by omega) (lt10 5 (by omega)) (fun Q4 d1 d2 => xd_dividePoly (a := 4) (b := 0) (m := 5) (f := m) (d := d) (by omega) (by omega) (by omega) (by omega) (by omega) (by omega) hd hm (lt10 5 (by omega)) d1 (fun x hx => ?_) (fun Q5 _ e2 e3 => xd_copyPoly (t := 5) (f := 3) (by omega) (by omega) (fun Q6 f1 f2 => Exists.intro 32 (lp 31 k 0 1 (sd_dN d m 10 1).2 (sd_dN d m 10 5).2 Q6 (Nat.le_refl _) hk (by omega) (sd_dN_s d m hm 10 1 (lt10 1 (by omega))).1 (sd_dN_s d m hm 10 5 (lt10 5 (by omega))).1 ?_ ?_ (fun x hx => ?_) (fun x hx => ?_) (fun x hx => ?_))))))))
  · rw [d2 0 x (by omega) hx, c2 0 x (by omega) hx, b3 0 x (by omega) (by omega) hx, a2 0 x (by omega) hx, h0 x hx]
  · have := sd_rem_cg hm (lt10 1 (by omega))
    rw [(sd_zN_q hm (lt10 1 (by omega))).2, sd_dg_1] at this
    exact this
  · have := sd_rem_cg hm (lt10 5 (by omega))
    rw [(sd_zN_q hm (lt10 5 (by omega))).2] at this
    have e : sd_pp sd_X 1 = sd_dg 5 := by
      show sd_pm (sd_pc 1) sd_X = _
      rw [sd_pm_1]
      have : sd_dg 5 = sd_pm sd_X (sd_dg 1) := by funext j; exact sd_5_dg 1 j
      rw [this, sd_dg_1, sd_pm_cm, sd_pm_1]
    rw [e]; exact this
  · rw [f2 0 x (by omega) hx, e3 0 x (by omega) (by omega) hx, d2 0 x (by omega) hx, c2 0 x (by omega) hx, b3 0 x (by omega) (by omega) hx, a2 0 x (by omega) hx, h0 x hx]
  · rw [f2 6 x (by omega) hx, e3 6 x (by omega) (by omega) hx, d2 6 x (by omega) hx, c1 x hx, b2 x hx]
  · rw [f1 x hx, e2 x hx]
end
theorem sd_os_d {d f p c o : Nat} (h : c ∣ o) : sd_os d f p c ∣ o := by
  unfold sd_os
  by_cases hc : c % p = 0
  · rw [show Nat.beq (Nat.mod c p) 0 = true from (sd_beq0 _).mpr hc]
    show cond (Nat.beq (sd_px d f 10 (Nat.div c p)) 1) (Nat.div c p) c ∣ o
    cases Nat.beq (sd_px d f 10 (Nat.div c p)) 1 with
    | true => exact Nat.dvd_trans (Nat.div_dvd_of_dvd (Nat.dvd_of_mod_eq_zero hc)) h
    | false => exact h
  · rw [show Nat.beq (Nat.mod c p) 0 = false from sd_beq_f hc]
    exact h
theorem sd_oo_d (f : Nat) : sd_oo f ∣ 5 ^ sd_df f - 1 := by
  unfold sd_oo
  exact sd_os_d (sd_os_d (sd_os_d (sd_os_d (sd_os_d (sd_os_d (sd_os_d (Nat.dvd_refl _)))))))
section
variable {n fc ic : Nat} {G Q : Nat → Nat → Fin 5} {fN fD bl iv kv : Nat → Nat}
theorem xd_orderModulo {post : Int32 → SX → Prop} {f m : Nat} (hf : f < 4) (hN : fN f = m) (hD : fD f = sd_df m) (hm : m / 5 ^ sd_df m = 1) (hv : sd_vO (sd_df m) m (sd_oo m) = true) (ho : sd_oo m < 1024) (K : ∀ Q', post (nI (sd_oo m)) (nI n, nI fc, nI ic, sd_ea 16 G, sd_ea 10 Q', sd_nv fN, sd_nv fD, sd_nv bl, sd_nv iv, sd_nv kv)) : wpX_orderModulo post (nI n, nI fc, nI ic, sd_ea 16 G, sd_ea 10 Q, sd_nv fN, sd_nv fD, sd_nv bl, sd_nv iv, sd_nv kv) (nI f) := by
  obtain ⟨d1, d4⟩ := sd_df_b m
  obtain ⟨opos, oord⟩ := sd_vO_s d1 d4 hm ho hv
  have odv := sd_oo_d m
  generalize sd_oo m = o at *
  generalize sd_df m = d at *
  have m5 := sd_mon_lt d4 hm
  have m10 : m < 5 ^ 10 := Nat.lt_of_lt_of_le m5 (Nat.pow_le_pow_right (by omega) (by omega))
  have all624 : 5 ^ d - 1 ≤ 624 := by
    have : 5 ^ d ≤ 5 ^ 4 := Nat.pow_le_pow_right (by omega) d4
    have : (5 : Nat) ^ 4 = 625 := by decide
    omega
  have all1 : 1 ≤ 5 ^ d - 1 := by
    have : 5 ^ 1 ≤ 5 ^ d := Nat.pow_le_pow_right (by omega) d1
    omega
  have ole : o ≤ 5 ^ d - 1 := Nat.le_of_dvd (by omega) odv
  refine Exists.intro (d + 1) ?_
  have down : ∀ (k res : Nat) (H : Nat → Nat → Fin 5), k ≤ 5 ^ d - 1 → (k < o → res = o) → (∀ x, x < 10 → H 0 x = sd_dg m x) → wX_orderModulo_43 post (nI (5 ^ d - 1)) (k + 1) (nI res) (nI k) (nI n) (nI fc) (nI ic) (sd_ea 16 G) (sd_ea 10 H) (sd_nv fN) (sd_nv fD) (sd_nv bl) (sd_nv iv) (sd_nv kv) := by
    intro k
    induction k with
    | zero =>
      intro res H _ hres _
      have e := hres opos
      subst e
      exact br_t (by decide) (K H)
    | succ k ih =>
      intro res H hk hres h0
      have rem : nI (5 ^ d - 1) - nI (5 ^ d - 1) / nI (k + 1) * nI (k + 1) = nI ((5 ^ d - 1) % (k + 1)) := pk_rem (by omega) (by omega) (by omega)
      refine br_f (nI_nle (by omega) (by omega)) ⟨nI_ne0 (by omega) (by omega), ?_⟩
      rw [rem]
      by_cases dv : (5 ^ d - 1) % (k + 1) = 0
      · refine br_t (by rw [dv]; decide) (xd_powerOfUnknown (d := d) d1 d4 hm (by omega) h0 (fun Q' p hp cp r6 r0 => xd_numberOf (p := 6) (by omega) ?_))
        have p10 : p < 5 ^ 10 := Nat.lt_of_lt_of_le hp (Nat.pow_le_pow_right (by omega) (by omega))
        rw [sd_nm_c 10 _ (sd_dg p) r6, sd_nm_dg 10 p p10]
        have iff : p = 1 ↔ o ∣ k + 1 := by
          rw [← oord (k + 1)]
          constructor
          · intro e; rw [e, sd_dg_1] at cp; exact cp
          · intro c
            have := sd_cg_u (sd_dg_mo hm) cp c (sd_dg_dl hp) (sd_dl_le (sd_dl_pc 1) d1)
            rw [← sd_dg_1] at this
            exact sd_dg_inj this
        have p31 : p < 2 ^ 31 := by
          have : (5 : Nat) ^ 10 = 9765625 := by decide
          omega
        by_cases e : p = 1
        · subst e
          have od := iff.mp rfl
          have ok := Nat.le_of_dvd (by omega) od
          refine br_t (by decide) (nm_r (pk_m1 k) (ih (k + 1) Q' (by omega) (fun h => by omega) r0))
        · refine br_f (fun z => e ((nI_eq (b := 1) p31 (by omega)).mp z)) (nm_r (pk_m1 k) (ih res Q' (by omega) (fun h => ?_) r0))
          apply hres
          apply Classical.byContradiction
          intro hn
          have ek : k + 1 = o := by omega
          exact e (iff.mpr (by rw [ek]; exact Nat.dvd_refl o))
      · refine br_f (fun z => dv ((nI_eq (b := 0) (by have := Nat.mod_le (5 ^ d - 1) (k + 1); omega) (by omega)).mp z)) (nm_r (pk_m1 k) (ih res H (by omega) (fun h => ?_) h0))
        apply hres
        apply Classical.byContradiction
        intro hn
        have ek : k + 1 = o := by omega
        rw [ek] at dv
        exact dv (Nat.mod_eq_zero_of_dvd odv)
  have up : ∀ (e c : Nat), c + e = d → wX_orderModulo_4 post (nI f) (nI n) (nI fc) (nI ic) (sd_ea 16 G) (sd_ea 10 Q) (sd_nv fN) (sd_nv fD) (sd_nv bl) (sd_nv iv) (sd_nv kv) (e + 1) (nI (5 ^ c)) (nI c) := by
    intro e
    induction e with
    | zero =>
      intro c hc
      have ec : c = d := by omega
      subst ec
      show vp_in (nI f) 4 ∧ _
      refine ⟨vp_in_nI hf (by omega), ?_⟩
      have e1 : sd_nv fD (nI f).toNatClampNeg = nI c := by rw [sd_clN (by omega)]; show nI (fD f) = _; rw [hD]
      rw [e1]
      refine br_t (nI_le (Nat.le_refl _) (by omega)) (nm_r (e' := nI (5 ^ c - 1)) ?_ ⟨vp_in_nI hf (by omega), ?_⟩)
      · have := pk_m1 (5 ^ c - 1)
        rw [show 5 ^ c - 1 + 1 = 5 ^ c from by omega] at this
        exact this
      · have e2 : sd_nv fN (nI f).toNatClampNeg = nI m := by rw [sd_clN (by omega)]; show nI (fN f) = _; rw [hN]
        rw [e2]
        exact xd_load (p := 0) (by omega) m10 (fun Q' q0 _ => Exists.intro _ (down (5 ^ c - 1) (5 ^ c - 1) Q' (Nat.le_refl _) (fun h => by omega) q0))
    | succ e ih =>
      intro c hc
      show vp_in (nI f) 4 ∧ _
      refine ⟨vp_in_nI hf (by omega), ?_⟩
      have e1 : sd_nv fD (nI f).toNatClampNeg = nI d := by rw [sd_clN (by omega)]; show nI (fD f) = _; rw [hD]
      rw [e1]
      refine br_f (nI_ge (by omega) (by omega)) (nm_r (e' := nI (5 ^ (c + 1))) ?_ (nm_r (nI_1 c) (ih (c + 1) (by omega))))
      rw [show (5 : Int32) = nI 5 from rfl, pk_mul, Nat.pow_succ]
  exact up d 0 (by omega)
theorem xd_commonMultiple {post : Int32 → Prop} {a b : Nat} (ha : a < 2 ^ 31) (hb : b < 2 ^ 31) (ha0 : 0 < a) (K : post (nI (a / Nat.gcd a b * b))) : wpX_commonMultiple post (nI n, nI fc, nI ic, sd_ea 16 G, sd_ea 10 Q, sd_nv fN, sd_nv fD, sd_nv bl, sd_nv iv, sd_nv kv) (nI a) (nI b) := by
  have lp : ∀ (u x y : Nat), y < u → x < 2 ^ 31 → y < 2 ^ 31 → 0 < x + y → Nat.gcd x y = Nat.gcd a b → wX_commonMultiple_5 post (nI a) (nI b) (nI n) (nI fc) (nI ic) (sd_ea 16 G) (sd_ea 10 Q) (sd_nv fN) (sd_nv fD) (sd_nv bl) (sd_nv iv) (sd_nv kv) u (nI x) (nI y) := by
    intro u
    induction u with
    | zero => intro x y h; omega
    | succ u ih =>
      intro x y hy hx hy2 hxy hg
      by_cases z : y = 0
      · subst z
        rw [Nat.gcd_zero_right] at hg
        refine br_t (by decide) ⟨nI_ne0 (by omega) hx, ?_⟩
        rw [pk_div ha (by omega) hx, pk_mul, hg]
        exact K
      · refine br_f (nI_ne0 (by omega) hy2) ⟨nI_ne0 (by omega) hy2, nm_r (pk_rem hx (by omega) hy2) (ih y (x % y) ?_ hy2 ?_ (by omega) ?_)⟩
        · have := Nat.mod_lt x (by omega : y > 0)
          omega
        · have := Nat.mod_lt x (by omega : y > 0)
          omega
        · rw [← hg, Nat.gcd_comm x y, Nat.gcd_rec y x, Nat.gcd_comm]
  exact Exists.intro (b + 1) (lp (b + 1) a b (by omega) ha hb (by omega) rfl)
end
end
section
/-! ===== Y: registers, products ===== -/
theorem sd_ixb {n i j : Nat} (hn : n ≤ 4) (hi : i < n) (hj : j < n) : n * i + j < n * n ∧ n * i + j < 16 := by
  have h1 : n * i + n ≤ n * n := by
    have : n * (i + 1) ≤ n * n := Nat.mul_le_mul_left n hi
    rw [Nat.mul_succ] at this; exact this
  have h2 : n * n ≤ 4 * 4 := Nat.mul_le_mul hn hn
  omega
theorem sd_ixn {n i j i' j' : Nat} (hj : j < n) (hj' : j' < n) (h : n * i + j = n * i' + j') : i = i' ∧ j = j' := by
  have e1 : (n * i + j) / n = i := by rw [Nat.mul_add_div (by omega), Nat.div_eq_of_lt hj, Nat.add_zero]
  have e2 : (n * i' + j') / n = i' := by rw [Nat.mul_add_div (by omega), Nat.div_eq_of_lt hj', Nat.add_zero]
  have e3 : (n * i + j) % n = j := by rw [Nat.mul_add_mod, Nat.mod_eq_of_lt hj]
  have e4 : (n * i' + j') % n = j' := by rw [Nat.mul_add_mod, Nat.mod_eq_of_lt hj']
  exact ⟨by rw [← e1, ← e2, h], by rw [← e3, ← e4, h]⟩
theorem sd_ixY (m n i k : Nat) : ((16 * nI m) + (nI n * nI i)) + nI k = nI (16 * m + (n * i + k)) := by
  have e1 : (16 : Int32) * nI m = nI (16 * m) := pk_mul 16 m
  rw [e1, pk_mul, nI_add, nI_add, Nat.add_assoc]
section
variable {n : Nat} {R Fa Ke Ro : Nat → Nat → Fin 5} {Mi Te Di Ot : Nat → Fin 5}
theorem yd_in {post : Int32 → Prop} {p a b : Int32} (K0 : (p < a ∨ b < p) → post 0) (K1 : ¬ p < a → ¬ b < p → post 1) : wpY_in post (nI n, sd_ea 16 R, sd_v1 Mi, sd_v1 Te, sd_v1 Di, sd_v1 Ot, sd_ea 5 Fa, sd_ea 5 Ke, sd_ea 16 Ro) p a b :=
  br_c (fun h => K0 (Or.inl h)) (fun h => br_c (fun h' => K0 (Or.inr h')) (fun h' => K1 h h'))
theorem yd_isRegister {post : Int32 → Prop} {p : Int32} (K0 : (p < 0 ∨ 3 < p) → post 0) (K1 : ∀ r, r < 4 → p = nI r → post 1) : wpY_isRegister post (nI n, sd_ea 16 R, sd_v1 Mi, sd_v1 Te, sd_v1 Di, sd_v1 Ot, sd_ea 5 Fa, sd_ea 5 Ke, sd_ea 16 Ro) p := by
  unfold wpY_isRegister
  refine yd_in (post := fun r_1 => (narrow .boolean (.int r_1) = .int r_1 ∧ (post r_1))) (fun h => And.intro narrow_b0 (K0 h)) (fun h h' => And.intro narrow_b1 ?_)
  obtain ⟨r, hr, rfl⟩ := nI_of2 (M := 3) (n := 3) (by decide) h (Int32.not_lt.mp h')
  exact K1 r (by omega) rfl
theorem yd_entry {post : Int32 → Prop} {r i k : Nat} (hr : r ≤ 5) (hn : n ≤ 4) (hi : i < n) (hk : k < n) (K : post (sd_eI (R r (n * i + k)))) : wpY_entry post (nI n, sd_ea 16 R, sd_v1 Mi, sd_v1 Te, sd_v1 Di, sd_v1 Ot, sd_ea 5 Fa, sd_ea 5 Ke, sd_ea 16 Ro) (nI r) (nI i) (nI k) := by
  have b := sd_ixb hn hi hk
  show vp_in (((16 * nI r) + (nI n * nI i)) + nI k) 96 ∧ (post (sd_ea 16 R (((16 * nI r) + (nI n * nI i)) + nI k).toNatClampNeg))
  rw [sd_ixY, sd_clN (by omega), sd_ea_r b.2]
  exact ⟨vp_in_nI (by omega) (by omega), K⟩
theorem yd_copy {post : SY → Prop} {t f : Nat} (ht : t ≤ 5) (hf : f ≤ 5) (K : ∀ R', (∀ a b, b < 16 → R' a b = if a = t then R f b else R a b) → post (nI n, sd_ea 16 R', sd_v1 Mi, sd_v1 Te, sd_v1 Di, sd_v1 Ot, sd_ea 5 Fa, sd_ea 5 Ke, sd_ea 16 Ro)) : wpY_copy post (nI n, sd_ea 16 R, sd_v1 Mi, sd_v1 Te, sd_v1 Di, sd_v1 Ot, sd_ea 5 Fa, sd_ea 5 Ke, sd_ea 16 Ro) (nI t) (nI f) := by
  refine Exists.intro 17 ?_
  have lp : ∀ (d c : Nat) (H : Nat → Nat → Fin 5), c + d = 16 → (∀ a b, b < 16 → H a b = if a = t ∧ b < c then R f b else R a b) → wY_copy_2 post (nI t) (nI f) (nI n) (d + 1) (nI c) (sd_ea 16 H) (sd_v1 Mi) (sd_v1 Te) (sd_v1 Di) (sd_v1 Ot) (sd_ea 5 Fa) (sd_ea 5 Ke) (sd_ea 16 Ro) := by
    intro d
    induction d with
    | zero =>
      intro c H hc h
      have e : c = 16 := by omega
      subst e
      refine br_t (by decide) (K H ?_)
      intro a b hb
      rw [h a b hb]
      by_cases z : a = t
      · rw [if_pos ⟨z, hb⟩, if_pos z]
      · rw [if_neg (fun k => z k.1), if_neg z]
    | succ d ih =>
      intro c H hc h
      refine br_f (nI_ge (b := 16) (by omega) (by decide)) ?_
      rw [sd_ix16, sd_ix16, sd_clN (by omega), sd_clN (by omega), sd_ea_r (by omega), sd_ea_w (by omega)]
      refine ⟨vp_in_nI (by omega) (by omega), vp_in_nI (by omega) (by omega), nm_e (nm_r (nI_1 c) (ih (c + 1) _ (by omega) ?_))⟩
      intro a b hb
      by_cases z : a = t ∧ b = c
      · obtain ⟨z1, z2⟩ := z
        subst z1; subst z2
        rw [sd_u_s, if_pos ⟨rfl, by omega⟩, h f b hb]
        by_cases e : f = a ∧ b < b
        · omega
        · rw [if_neg e]
      · rw [sd_u_n z, h a b hb]
        by_cases e : a = t ∧ b < c
        · rw [if_pos e, if_pos ⟨e.1, by omega⟩]
        · rw [if_neg e, if_neg (fun k => z ⟨k.1, by omega⟩)]
  exact lp 16 0 R (by omega) (fun a b _ => (if_neg (by omega)).symm)
theorem yd_dot {post : Int32 → Prop} {a b i k : Nat} (ha : a ≤ 5) (hb : b ≤ 5) (hn : n ≤ 4) (hi : i < n) (hk : k < n) (K : post (sd_eI (sd_m n (fun i k => R a (n * i + k)) (fun i k => R b (n * i + k)) i k))) : wpY_dot post (nI n, sd_ea 16 R, sd_v1 Mi, sd_v1 Te, sd_v1 Di, sd_v1 Ot, sd_ea 5 Fa, sd_ea 5 Ke, sd_ea 16 Ro) (nI a) (nI b) (nI i) (nI k) := by
  refine Exists.intro (n + 1) ?_
  have lp : ∀ (d c : Nat), c + d = n → wY_dot_6 post (nI a) (nI b) (nI i) (nI k) (nI n) (sd_ea 16 R) (sd_v1 Mi) (sd_v1 Te) (sd_v1 Di) (sd_v1 Ot) (sd_ea 5 Fa) (sd_ea 5 Ke) (sd_ea 16 Ro) (d + 1) (nI (sd_sN c (fun l => (R a (n * i + l)).val * (R b (n * l + k)).val))) (nI c) := by
    intro d
    induction d with
    | zero =>
      intro c hc
      have e : c = n := by omega
      subst e
      refine br_t (nI_le (by omega) (by omega)) ⟨sd_50, ?_⟩
      have bd := sd_sN_le c 16 (fun l => (R a (c * i + l)).val * (R b (c * l + k)).val) (fun l => sd_val_m _ _)
      rw [sd_m5 (by omega), sd_sN_of]
      have e : sd_s c (fun l => Fin.ofNat 5 ((R a (c * i + l)).val * (R b (c * l + k)).val)) = sd_m c (fun i k => R a (c * i + k)) (fun i k => R b (c * i + k)) i k := by
        apply sd_s_c
        intro l _
        rw [sd_of_mul, sd_of_val, sd_of_val]
      rw [e]; exact K
    | succ d ih =>
      intro c hc
      refine br_f (nI_ge (by omega) (by omega)) (yd_entry ha hn hi (by omega) (yd_entry hb hn (by omega) hk (nm_r ?_ (nm_r (nI_1 c) (ih (c + 1) (by omega))))))
      rw [sd_eI_l, sd_eI_l, pk_mul, nI_add]; rfl
  exact lp n 0 (by omega)
theorem yd_multiply {post : SY → Prop} {a b : Nat} (ha : a ≤ 4) (hb : b ≤ 4) (hn : n ≤ 4) (K : ∀ R', (∀ i j, i < n → j < n → R' 5 (n * i + j) = sd_m n (fun i k => R a (n * i + k)) (fun i k => R b (n * i + k)) i j) → (∀ m x, m ≠ 5 → x < 16 → R' m x = R m x) → post (nI n, sd_ea 16 R', sd_v1 Mi, sd_v1 Te, sd_v1 Di, sd_v1 Ot, sd_ea 5 Fa, sd_ea 5 Ke, sd_ea 16 Ro)) : wpY_multiply post (nI n, sd_ea 16 R, sd_v1 Mi, sd_v1 Te, sd_v1 Di, sd_v1 Ot, sd_ea 5 Fa, sd_ea 5 Ke, sd_ea 16 Ro) (nI a) (nI b) := by
  refine Exists.intro (n + 1) ?_
  have inv : ∀ (J : Int32 → (Nat → Int32) → (Nat → Int32) → (Nat → Int32) → (Nat → Int32) → (Nat → Int32) → (Nat → Int32) → (Nat → Int32) → (Nat → Int32) → Prop) (i : Nat), i < n →
      (∀ H, (∀ r c, r < n → c < n → r < i + 1 → H 5 (n * r + c) = sd_m n (fun i k => R a (n * i + k)) (fun i k => R b (n * i + k)) r c) → (∀ m x, m ≠ 5 → x < 16 → H m x = R m x) → J (nI (i + 1)) (sd_ea 16 H) (sd_v1 Mi) (sd_v1 Te) (sd_v1 Di) (sd_v1 Ot) (sd_ea 5 Fa) (sd_ea 5 Ke) (sd_ea 16 Ro)) →
      ∀ (d k : Nat) (H : Nat → Nat → Fin 5), k + d = n → (∀ r c, r < n → c < n → (r < i ∨ (r = i ∧ c < k)) → H 5 (n * r + c) = sd_m n (fun i k => R a (n * i + k)) (fun i k => R b (n * i + k)) r c) → (∀ m x, m ≠ 5 → x < 16 → H m x = R m x) →
      wY_multiply_13 post J (nI a) (nI b) (nI i) (nI n) (d + 1) (nI k) (sd_ea 16 H) (sd_v1 Mi) (sd_v1 Te) (sd_v1 Di) (sd_v1 Ot) (sd_ea 5 Fa) (sd_ea 5 Ke) (sd_ea 16 Ro) := by
    intro J i hi KJ d
    induction d with
    | zero =>
      intro k H hk h1 h2
      exact br_t (nI_le (by omega) (by omega)) (nm_r (nI_1 i) (KJ H (fun r c hr hc hri => h1 r c hr hc (by omega)) h2))
    | succ d ih =>
      intro k H hk h1 h2
      have bb := sd_ixb hn hi (by omega : k < n)
      refine br_f (nI_ge (by omega) (by omega)) (yd_dot (by omega) (by omega) hn hi (by omega) ?_)
      have ix : ((80 : Int32) + (nI n * nI i)) + nI k = nI (16 * 5 + (n * i + k)) := by
        rw [pk_mul, show (80 : Int32) + nI (n * i) = nI (80 + n * i) from nI_add 80 _, nI_add, Nat.add_assoc]
      rw [ix, sd_clN (by omega), sd_ea_w bb.2]
      refine ⟨vp_in_nI (by omega) (by omega), nm_e (nm_r (nI_1 k) (ih (k + 1) _ (by omega) ?_ ?_))⟩
      · intro r c hr hc hrc
        by_cases z : n * r + c = n * i + k
        · obtain ⟨e1, e2⟩ := sd_ixn hc (by omega) z
          subst e1; subst e2
          rw [sd_u_s]
          exact sd_m_c (fun l hl => h2 a _ (by omega) (sd_ixb hn hr hl).2) (fun l hl => h2 b _ (by omega) (sd_ixb hn hl hc).2)
        · rw [sd_u_n (fun q => z q.2)]
          refine h1 r c hr hc ?_
          rcases hrc with q | ⟨q1, q2⟩
          · exact Or.inl q
          · refine Or.inr ⟨q1, ?_⟩
            have : c ≠ k := fun q3 => z (by rw [q1, q3])
            omega
      · intro m x hm hx
        rw [sd_u_n (fun q => hm q.1)]
        exact h2 m x hm hx
  have lp : ∀ (d i : Nat) (H : Nat → Nat → Fin 5), i + d = n → (∀ r c, r < n → c < n → r < i → H 5 (n * r + c) = sd_m n (fun i k => R a (n * i + k)) (fun i k => R b (n * i + k)) r c) → (∀ m x, m ≠ 5 → x < 16 → H m x = R m x) → wY_multiply_2 post (nI a) (nI b) (nI n) (d + 1) (nI i) (sd_ea 16 H) (sd_v1 Mi) (sd_v1 Te) (sd_v1 Di) (sd_v1 Ot) (sd_ea 5 Fa) (sd_ea 5 Ke) (sd_ea 16 Ro) := by
    intro d
    induction d with
    | zero =>
      intro i H hi h1 h2
      exact br_t (nI_le (by omega) (by omega)) (K H (fun r c hr hc => h1 r c hr hc (by omega)) h2)
    | succ d ih =>
      intro i H hi h1 h2
      refine br_f (nI_ge (by omega) (by omega)) (Exists.intro (n + 1) (inv _ i (by omega) (fun H' g1 g2 => ih (i + 1) H' (by omega) (fun r c hr hc hri => g1 r c hr hc hri) g2) n 0 H (by omega) (fun r c hr hc q => h1 r c hr hc (by omega)) h2))
  exact lp n 0 R (by omega) (fun r c _ _ h => absurd h (by omega)) (fun m x _ _ => rfl)
theorem yd_inverse {post : Int32 → Prop} {p : Fin 5} (K : post (sd_eI (sd_i p))) : wpY_inverse post (nI n, sd_ea 16 R, sd_v1 Mi, sd_v1 Te, sd_v1 Di, sd_v1 Ot, sd_ea 5 Fa, sd_ea 5 Ke, sd_ea 16 Ro) (sd_eI p) := by
  show ¬ (5 : Int32) = 0 ∧ post _
  rw [sd_w7]
  exact ⟨sd_50, K⟩
end
end
section
/-! ===== ways: minors as sums over codes ===== -/
def sd_bt (S i : Nat) : Nat := S / 2 ^ i % 2
def sd_c4 (c i : Nat) : Nat := c / 2 ^ (2 * i) % 4
def sd_iw (c S T : Nat) : Nat → Nat → Nat → Bool
  | 0, _, _ => true
  | d + 1, u, i => if sd_bt S i = 0 then (if sd_c4 c i = 0 then sd_iw c S T d u (i + 1) else false) else if sd_bt T (sd_c4 c i) = 0 then false else if sd_bt u (sd_c4 c i) = 1 then false else sd_iw c S T d (u + 2 ^ sd_c4 c i) (i + 1)
def sd_way (c S T : Nat) : Bool := sd_iw c S T 4 0 0
def sd_s1 (c S i : Nat) : Nat → Nat
  | 0 => 0
  | j + 1 => sd_s1 c S i j + (if (sd_bt S i = 1 ∧ sd_bt S j = 1) ∧ sd_c4 c i < sd_c4 c j then 1 else 0)
def sd_s2 (c S : Nat) : Nat → Nat
  | 0 => 0
  | i + 1 => sd_s2 c S i + sd_s1 c S i i
def sd_sz (S : Nat) : Nat := sd_bt S 0 + sd_bt S 1 + sd_bt S 2 + sd_bt S 3
def sd_el (S t : Nat) : Nat := ((List.range 4).filter (fun i => sd_bt S i == 1)).getD t 0
def sd_tp {R : Type} [Lean.Grind.CommRing R] (m : Nat → Nat → R) (c S : Nat) : Nat → R
  | 0 => if sd_s2 c S 4 % 2 = 1 then - 1 else 1
  | i + 1 => if sd_bt S i = 1 then sd_tp m c S i * m i (sd_c4 c i) else sd_tp m c S i
def sd_ls {R : Type} [Lean.Grind.CommRing R] (m : Nat → Nat → R) (S : Nat) : List Nat → R
  | [] => 0
  | c :: l => sd_tp m c S 4 + sd_ls m S l
def sd_wl (S T d : Nat) : List Nat := (List.range' (256 - d) d).filter (fun c => sd_way c S T)
theorem sd_wl_1_1 : sd_wl 1 1 256 = [0] := by decide +kernel
theorem sd_tp_1_1_0 {R : Type} [Lean.Grind.CommRing R] (m : Nat → Nat → R) : sd_tp m 0 1 4 = (1) * m 0 0 := rfl
theorem sd_dt_1_1 {R : Type} [Lean.Grind.CommRing R] (m : Nat → Nat → R) : sd_ls m 1 (sd_wl 1 1 256) = sd_det 1 m (sd_el 1) (sd_el 1) := by
  rw [sd_wl_1_1]
  have e : sd_det 1 m (sd_el 1) (sd_el 1) = m 0 0 := rfl
  rw [e]
  simp only [sd_ls, sd_tp_1_1_0]
  grind
theorem sd_wl_1_2 : sd_wl 1 2 256 = [1] := by decide +kernel
theorem sd_tp_1_2_1 {R : Type} [Lean.Grind.CommRing R] (m : Nat → Nat → R) : sd_tp m 1 1 4 = (1) * m 0 1 := rfl
theorem sd_dt_1_2 {R : Type} [Lean.Grind.CommRing R] (m : Nat → Nat → R) : sd_ls m 1 (sd_wl 1 2 256) = sd_det 1 m (sd_el 1) (sd_el 2) := by
  rw [sd_wl_1_2]
  have e : sd_det 1 m (sd_el 1) (sd_el 2) = m 0 1 := rfl
  rw [e]
  simp only [sd_ls, sd_tp_1_2_1]
  grind
theorem sd_wl_1_4 : sd_wl 1 4 256 = [2] := by decide +kernel
theorem sd_tp_1_4_2 {R : Type} [Lean.Grind.CommRing R] (m : Nat → Nat → R) : sd_tp m 2 1 4 = (1) * m 0 2 := rfl
theorem sd_dt_1_4 {R : Type} [Lean.Grind.CommRing R] (m : Nat → Nat → R) : sd_ls m 1 (sd_wl 1 4 256) = sd_det 1 m (sd_el 1) (sd_el 4) := by
  rw [sd_wl_1_4]
  have e : sd_det 1 m (sd_el 1) (sd_el 4) = m 0 2 := rfl
  rw [e]
  simp only [sd_ls, sd_tp_1_4_2]
  grind
theorem sd_wl_1_8 : sd_wl 1 8 256 = [3] := by decide +kernel
theorem sd_tp_1_8_3 {R : Type} [Lean.Grind.CommRing R] (m : Nat → Nat → R) : sd_tp m 3 1 4 = (1) * m 0 3 := rfl
theorem sd_dt_1_8 {R : Type} [Lean.Grind.CommRing R] (m : Nat → Nat → R) : sd_ls m 1 (sd_wl 1 8 256) = sd_det 1 m (sd_el 1) (sd_el 8) := by
  rw [sd_wl_1_8]
  have e : sd_det 1 m (sd_el 1) (sd_el 8) = m 0 3 := rfl
  rw [e]
  simp only [sd_ls, sd_tp_1_8_3]
  grind
theorem sd_wl_2_1 : sd_wl 2 1 256 = [0] := by decide +kernel
theorem sd_tp_2_1_0 {R : Type} [Lean.Grind.CommRing R] (m : Nat → Nat → R) : sd_tp m 0 2 4 = (1) * m 1 0 := rfl
theorem sd_dt_2_1 {R : Type} [Lean.Grind.CommRing R] (m : Nat → Nat → R) : sd_ls m 2 (sd_wl 2 1 256) = sd_det 1 m (sd_el 2) (sd_el 1) := by
  rw [sd_wl_2_1]
  have e : sd_det 1 m (sd_el 2) (sd_el 1) = m 1 0 := rfl
  rw [e]
  simp only [sd_ls, sd_tp_2_1_0]
  grind
theorem sd_wl_2_2 : sd_wl 2 2 256 = [4] := by decide +kernel
theorem sd_tp_2_2_4 {R : Type} [Lean.Grind.CommRing R] (m : Nat → Nat → R) : sd_tp m 4 2 4 = (1) * m 1 1 := rfl
theorem sd_dt_2_2 {R : Type} [Lean.Grind.CommRing R] (m : Nat → Nat → R) : sd_ls m 2 (sd_wl 2 2 256) = sd_det 1 m (sd_el 2) (sd_el 2) := by
  rw [sd_wl_2_2]
  have e : sd_det 1 m (sd_el 2) (sd_el 2) = m 1 1 := rfl
  rw [e]
  simp only [sd_ls, sd_tp_2_2_4]
  grind
theorem sd_wl_2_4 : sd_wl 2 4 256 = [8] := by decide +kernel
theorem sd_tp_2_4_8 {R : Type} [Lean.Grind.CommRing R] (m : Nat → Nat → R) : sd_tp m 8 2 4 = (1) * m 1 2 := rfl
theorem sd_dt_2_4 {R : Type} [Lean.Grind.CommRing R] (m : Nat → Nat → R) : sd_ls m 2 (sd_wl 2 4 256) = sd_det 1 m (sd_el 2) (sd_el 4) := by
  rw [sd_wl_2_4]
  have e : sd_det 1 m (sd_el 2) (sd_el 4) = m 1 2 := rfl
  rw [e]
  simp only [sd_ls, sd_tp_2_4_8]
  grind
theorem sd_wl_2_8 : sd_wl 2 8 256 = [12] := by decide +kernel
theorem sd_tp_2_8_12 {R : Type} [Lean.Grind.CommRing R] (m : Nat → Nat → R) : sd_tp m 12 2 4 = (1) * m 1 3 := rfl
theorem sd_dt_2_8 {R : Type} [Lean.Grind.CommRing R] (m : Nat → Nat → R) : sd_ls m 2 (sd_wl 2 8 256) = sd_det 1 m (sd_el 2) (sd_el 8) := by
  rw [sd_wl_2_8]
  have e : sd_det 1 m (sd_el 2) (sd_el 8) = m 1 3 := rfl
  rw [e]
  simp only [sd_ls, sd_tp_2_8_12]
  grind
theorem sd_wl_3_3 : sd_wl 3 3 256 = [1, 4] := by decide +kernel
theorem sd_tp_3_3_1 {R : Type} [Lean.Grind.CommRing R] (m : Nat → Nat → R) : sd_tp m 1 3 4 = (- 1) * m 0 1 * m 1 0 := rfl
theorem sd_tp_3_3_4 {R : Type} [Lean.Grind.CommRing R] (m : Nat → Nat → R) : sd_tp m 4 3 4 = (1) * m 0 0 * m 1 1 := rfl
theorem sd_dt_3_3 {R : Type} [Lean.Grind.CommRing R] (m : Nat → Nat → R) : sd_ls m 3 (sd_wl 3 3 256) = sd_det 2 m (sd_el 3) (sd_el 3) := by
  rw [sd_wl_3_3]
  have e : sd_det 2 m (sd_el 3) (sd_el 3) = sd_D2 (m 0) (m 1) 0 1 := rfl
  rw [e]
  simp only [sd_ls, sd_tp_3_3_1, sd_tp_3_3_4, sd_D4, sd_D3, sd_D2]
  grind
theorem sd_wl_3_5 : sd_wl 3 5 256 = [2, 8] := by decide +kernel
theorem sd_tp_3_5_2 {R : Type} [Lean.Grind.CommRing R] (m : Nat → Nat → R) : sd_tp m 2 3 4 = (- 1) * m 0 2 * m 1 0 := rfl
theorem sd_tp_3_5_8 {R : Type} [Lean.Grind.CommRing R] (m : Nat → Nat → R) : sd_tp m 8 3 4 = (1) * m 0 0 * m 1 2 := rfl
theorem sd_dt_3_5 {R : Type} [Lean.Grind.CommRing R] (m : Nat → Nat → R) : sd_ls m 3 (sd_wl 3 5 256) = sd_det 2 m (sd_el 3) (sd_el 5) := by
  rw [sd_wl_3_5]
  have e : sd_det 2 m (sd_el 3) (sd_el 5) = sd_D2 (m 0) (m 1) 0 2 := rfl
  rw [e]
  simp only [sd_ls, sd_tp_3_5_2, sd_tp_3_5_8, sd_D4, sd_D3, sd_D2]
  grind
theorem sd_wl_3_6 : sd_wl 3 6 256 = [6, 9] := by decide +kernel
theorem sd_tp_3_6_6 {R : Type} [Lean.Grind.CommRing R] (m : Nat → Nat → R) : sd_tp m 6 3 4 = (- 1) * m 0 2 * m 1 1 := rfl
theorem sd_tp_3_6_9 {R : Type} [Lean.Grind.CommRing R] (m : Nat → Nat → R) : sd_tp m 9 3 4 = (1) * m 0 1 * m 1 2 := rfl
theorem sd_dt_3_6 {R : Type} [Lean.Grind.CommRing R] (m : Nat → Nat → R) : sd_ls m 3 (sd_wl 3 6 256) = sd_det 2 m (sd_el 3) (sd_el 6) := by
  rw [sd_wl_3_6]
  have e : sd_det 2 m (sd_el 3) (sd_el 6) = sd_D2 (m 0) (m 1) 1 2 := rfl
  rw [e]
  simp only [sd_ls, sd_tp_3_6_6, sd_tp_3_6_9, sd_D4, sd_D3, sd_D2]
  grind
theorem sd_wl_3_9 : sd_wl 3 9 256 = [3, 12] := by decide +kernel
theorem sd_tp_3_9_3 {R : Type} [Lean.Grind.CommRing R] (m : Nat → Nat → R) : sd_tp m 3 3 4 = (- 1) * m 0 3 * m 1 0 := rfl
theorem sd_tp_3_9_12 {R : Type} [Lean.Grind.CommRing R] (m : Nat → Nat → R) : sd_tp m 12 3 4 = (1) * m 0 0 * m 1 3 := rfl
theorem sd_dt_3_9 {R : Type} [Lean.Grind.CommRing R] (m : Nat → Nat → R) : sd_ls m 3 (sd_wl 3 9 256) = sd_det 2 m (sd_el 3) (sd_el 9) := by
  rw [sd_wl_3_9]
  have e : sd_det 2 m (sd_el 3) (sd_el 9) = sd_D2 (m 0) (m 1) 0 3 := rfl
  rw [e]
  simp only [sd_ls, sd_tp_3_9_3, sd_tp_3_9_12, sd_D4, sd_D3, sd_D2]
  grind
theorem sd_wl_3_10 : sd_wl 3 10 256 = [7, 13] := by decide +kernel
theorem sd_tp_3_10_7 {R : Type} [Lean.Grind.CommRing R] (m : Nat → Nat → R) : sd_tp m 7 3 4 = (- 1) * m 0 3 * m 1 1 := rfl
theorem sd_tp_3_10_13 {R : Type} [Lean.Grind.CommRing R] (m : Nat → Nat → R) : sd_tp m 13 3 4 = (1) * m 0 1 * m 1 3 := rfl
theorem sd_dt_3_10 {R : Type} [Lean.Grind.CommRing R] (m : Nat → Nat → R) : sd_ls m 3 (sd_wl 3 10 256) = sd_det 2 m (sd_el 3) (sd_el 10) := by
  rw [sd_wl_3_10]
  have e : sd_det 2 m (sd_el 3) (sd_el 10) = sd_D2 (m 0) (m 1) 1 3 := rfl
  rw [e]
  simp only [sd_ls, sd_tp_3_10_7, sd_tp_3_10_13, sd_D4, sd_D3, sd_D2]
  grind
theorem sd_wl_3_12 : sd_wl 3 12 256 = [11, 14] := by decide +kernel
theorem sd_tp_3_12_11 {R : Type} [Lean.Grind.CommRing R] (m : Nat → Nat → R) : sd_tp m 11 3 4 = (- 1) * m 0 3 * m 1 2 := rfl
theorem sd_tp_3_12_14 {R : Type} [Lean.Grind.CommRing R] (m : Nat → Nat → R) : sd_tp m 14 3 4 = (1) * m 0 2 * m 1 3 := rfl
theorem sd_dt_3_12 {R : Type} [Lean.Grind.CommRing R] (m : Nat → Nat → R) : sd_ls m 3 (sd_wl 3 12 256) = sd_det 2 m (sd_el 3) (sd_el 12) := by
  rw [sd_wl_3_12]
  have e : sd_det 2 m (sd_el 3) (sd_el 12) = sd_D2 (m 0) (m 1) 2 3 := rfl
  rw [e]
  simp only [sd_ls, sd_tp_3_12_11, sd_tp_3_12_14, sd_D4, sd_D3, sd_D2]
  grind
theorem sd_wl_4_1 : sd_wl 4 1 256 = [0] := by decide +kernel
theorem sd_tp_4_1_0 {R : Type} [Lean.Grind.CommRing R] (m : Nat → Nat → R) : sd_tp m 0 4 4 = (1) * m 2 0 := rfl
theorem sd_dt_4_1 {R : Type} [Lean.Grind.CommRing R] (m : Nat → Nat → R) : sd_ls m 4 (sd_wl 4 1 256) = sd_det 1 m (sd_el 4) (sd_el 1) := by
  rw [sd_wl_4_1]
  have e : sd_det 1 m (sd_el 4) (sd_el 1) = m 2 0 := rfl
  rw [e]
  simp only [sd_ls, sd_tp_4_1_0]
  grind
theorem sd_wl_4_2 : sd_wl 4 2 256 = [16] := by decide +kernel
theorem sd_tp_4_2_16 {R : Type} [Lean.Grind.CommRing R] (m : Nat → Nat → R) : sd_tp m 16 4 4 = (1) * m 2 1 := rfl
theorem sd_dt_4_2 {R : Type} [Lean.Grind.CommRing R] (m : Nat → Nat → R) : sd_ls m 4 (sd_wl 4 2 256) = sd_det 1 m (sd_el 4) (sd_el 2) := by
  rw [sd_wl_4_2]
  have e : sd_det 1 m (sd_el 4) (sd_el 2) = m 2 1 := rfl
  rw [e]
  simp only [sd_ls, sd_tp_4_2_16]
  grind
theorem sd_wl_4_4 : sd_wl 4 4 256 = [32] := by decide +kernel
theorem sd_tp_4_4_32 {R : Type} [Lean.Grind.CommRing R] (m : Nat → Nat → R) : sd_tp m 32 4 4 = (1) * m 2 2 := rfl
theorem sd_dt_4_4 {R : Type} [Lean.Grind.CommRing R] (m : Nat → Nat → R) : sd_ls m 4 (sd_wl 4 4 256) = sd_det 1 m (sd_el 4) (sd_el 4) := by
  rw [sd_wl_4_4]
  have e : sd_det 1 m (sd_el 4) (sd_el 4) = m 2 2 := rfl
  rw [e]
  simp only [sd_ls, sd_tp_4_4_32]
  grind
theorem sd_wl_4_8 : sd_wl 4 8 256 = [48] := by decide +kernel
theorem sd_tp_4_8_48 {R : Type} [Lean.Grind.CommRing R] (m : Nat → Nat → R) : sd_tp m 48 4 4 = (1) * m 2 3 := rfl
theorem sd_dt_4_8 {R : Type} [Lean.Grind.CommRing R] (m : Nat → Nat → R) : sd_ls m 4 (sd_wl 4 8 256) = sd_det 1 m (sd_el 4) (sd_el 8) := by
  rw [sd_wl_4_8]
  have e : sd_det 1 m (sd_el 4) (sd_el 8) = m 2 3 := rfl
  rw [e]
  simp only [sd_ls, sd_tp_4_8_48]
  grind
theorem sd_wl_5_3 : sd_wl 5 3 256 = [1, 16] := by decide +kernel
theorem sd_tp_5_3_1 {R : Type} [Lean.Grind.CommRing R] (m : Nat → Nat → R) : sd_tp m 1 5 4 = (- 1) * m 0 1 * m 2 0 := rfl
theorem sd_tp_5_3_16 {R : Type} [Lean.Grind.CommRing R] (m : Nat → Nat → R) : sd_tp m 16 5 4 = (1) * m 0 0 * m 2 1 := rfl
theorem sd_dt_5_3 {R : Type} [Lean.Grind.CommRing R] (m : Nat → Nat → R) : sd_ls m 5 (sd_wl 5 3 256) = sd_det 2 m (sd_el 5) (sd_el 3) := by
  rw [sd_wl_5_3]
  have e : sd_det 2 m (sd_el 5) (sd_el 3) = sd_D2 (m 0) (m 2) 0 1 := rfl
  rw [e]
  simp only [sd_ls, sd_tp_5_3_1, sd_tp_5_3_16, sd_D4, sd_D3, sd_D2]
  grind
theorem sd_wl_5_5 : sd_wl 5 5 256 = [2, 32] := by decide +kernel
theorem sd_tp_5_5_2 {R : Type} [Lean.Grind.CommRing R] (m : Nat → Nat → R) : sd_tp m 2 5 4 = (- 1) * m 0 2 * m 2 0 := rfl
theorem sd_tp_5_5_32 {R : Type} [Lean.Grind.CommRing R] (m : Nat → Nat → R) : sd_tp m 32 5 4 = (1) * m 0 0 * m 2 2 := rfl
theorem sd_dt_5_5 {R : Type} [Lean.Grind.CommRing R] (m : Nat → Nat → R) : sd_ls m 5 (sd_wl 5 5 256) = sd_det 2 m (sd_el 5) (sd_el 5) := by
  rw [sd_wl_5_5]
  have e : sd_det 2 m (sd_el 5) (sd_el 5) = sd_D2 (m 0) (m 2) 0 2 := rfl
  rw [e]
  simp only [sd_ls, sd_tp_5_5_2, sd_tp_5_5_32, sd_D4, sd_D3, sd_D2]
  grind
theorem sd_wl_5_6 : sd_wl 5 6 256 = [18, 33] := by decide +kernel
theorem sd_tp_5_6_18 {R : Type} [Lean.Grind.CommRing R] (m : Nat → Nat → R) : sd_tp m 18 5 4 = (- 1) * m 0 2 * m 2 1 := rfl
theorem sd_tp_5_6_33 {R : Type} [Lean.Grind.CommRing R] (m : Nat → Nat → R) : sd_tp m 33 5 4 = (1) * m 0 1 * m 2 2 := rfl
theorem sd_dt_5_6 {R : Type} [Lean.Grind.CommRing R] (m : Nat → Nat → R) : sd_ls m 5 (sd_wl 5 6 256) = sd_det 2 m (sd_el 5) (sd_el 6) := by
  rw [sd_wl_5_6]
  have e : sd_det 2 m (sd_el 5) (sd_el 6) = sd_D2 (m 0) (m 2) 1 2 := rfl
  rw [e]
  simp only [sd_ls, sd_tp_5_6_18, sd_tp_5_6_33, sd_D4, sd_D3, sd_D2]
  grind
theorem sd_wl_5_9 : sd_wl 5 9 256 = [3, 48] := by decide +kernel
theorem sd_tp_5_9_3 {R : Type} [Lean.Grind.CommRing R] (m : Nat → Nat → R) : sd_tp m 3 5 4 = (- 1) * m 0 3 * m 2 0 := rfl
theorem sd_tp_5_9_48 {R : Type} [Lean.Grind.CommRing R] (m : Nat → Nat → R) : sd_tp m 48 5 4 = (1) * m 0 0 * m 2 3 := rfl
theorem sd_dt_5_9 {R : Type} [Lean.Grind.CommRing R] (m : Nat → Nat → R) : sd_ls m 5 (sd_wl 5 9 256) = sd_det 2 m (sd_el 5) (sd_el 9) := by
  rw [sd_wl_5_9]
  have e : sd_det 2 m (sd_el 5) (sd_el 9) = sd_D2 (m 0) (m 2) 0 3 := rfl
  rw [e]
  simp only [sd_ls, sd_tp_5_9_3, sd_tp_5_9_48, sd_D4, sd_D3, sd_D2]
  grind
theorem sd_wl_5_10 : sd_wl 5 10 256 = [19, 49] := by decide +kernel
theorem sd_tp_5_10_19 {R : Type} [Lean.Grind.CommRing R] (m : Nat → Nat → R) : sd_tp m 19 5 4 = (- 1) * m 0 3 * m 2 1 := rfl
theorem sd_tp_5_10_49 {R : Type} [Lean.Grind.CommRing R] (m : Nat → Nat → R) : sd_tp m 49 5 4 = (1) * m 0 1 * m 2 3 := rfl
theorem sd_dt_5_10 {R : Type} [Lean.Grind.CommRing R] (m : Nat → Nat → R) : sd_ls m 5 (sd_wl 5 10 256) = sd_det 2 m (sd_el 5) (sd_el 10) := by
  rw [sd_wl_5_10]
  have e : sd_det 2 m (sd_el 5) (sd_el 10) = sd_D2 (m 0) (m 2) 1 3 := rfl
  rw [e]
  simp only [sd_ls, sd_tp_5_10_19, sd_tp_5_10_49, sd_D4, sd_D3, sd_D2]
  grind
theorem sd_wl_5_12 : sd_wl 5 12 256 = [35, 50] := by decide +kernel
theorem sd_tp_5_12_35 {R : Type} [Lean.Grind.CommRing R] (m : Nat → Nat → R) : sd_tp m 35 5 4 = (- 1) * m 0 3 * m 2 2 := rfl
theorem sd_tp_5_12_50 {R : Type} [Lean.Grind.CommRing R] (m : Nat → Nat → R) : sd_tp m 50 5 4 = (1) * m 0 2 * m 2 3 := rfl
theorem sd_dt_5_12 {R : Type} [Lean.Grind.CommRing R] (m : Nat → Nat → R) : sd_ls m 5 (sd_wl 5 12 256) = sd_det 2 m (sd_el 5) (sd_el 12) := by
  rw [sd_wl_5_12]
  have e : sd_det 2 m (sd_el 5) (sd_el 12) = sd_D2 (m 0) (m 2) 2 3 := rfl
  rw [e]
  simp only [sd_ls, sd_tp_5_12_35, sd_tp_5_12_50, sd_D4, sd_D3, sd_D2]
  grind
theorem sd_wl_6_3 : sd_wl 6 3 256 = [4, 16] := by decide +kernel
theorem sd_tp_6_3_4 {R : Type} [Lean.Grind.CommRing R] (m : Nat → Nat → R) : sd_tp m 4 6 4 = (- 1) * m 1 1 * m 2 0 := rfl
theorem sd_tp_6_3_16 {R : Type} [Lean.Grind.CommRing R] (m : Nat → Nat → R) : sd_tp m 16 6 4 = (1) * m 1 0 * m 2 1 := rfl
theorem sd_dt_6_3 {R : Type} [Lean.Grind.CommRing R] (m : Nat → Nat → R) : sd_ls m 6 (sd_wl 6 3 256) = sd_det 2 m (sd_el 6) (sd_el 3) := by
  rw [sd_wl_6_3]
  have e : sd_det 2 m (sd_el 6) (sd_el 3) = sd_D2 (m 1) (m 2) 0 1 := rfl
  rw [e]
  simp only [sd_ls, sd_tp_6_3_4, sd_tp_6_3_16, sd_D4, sd_D3, sd_D2]
  grind
theorem sd_wl_6_5 : sd_wl 6 5 256 = [8, 32] := by decide +kernel
theorem sd_tp_6_5_8 {R : Type} [Lean.Grind.CommRing R] (m : Nat → Nat → R) : sd_tp m 8 6 4 = (- 1) * m 1 2 * m 2 0 := rfl
theorem sd_tp_6_5_32 {R : Type} [Lean.Grind.CommRing R] (m : Nat → Nat → R) : sd_tp m 32 6 4 = (1) * m 1 0 * m 2 2 := rfl
theorem sd_dt_6_5 {R : Type} [Lean.Grind.CommRing R] (m : Nat → Nat → R) : sd_ls m 6 (sd_wl 6 5 256) = sd_det 2 m (sd_el 6) (sd_el 5) := by
  rw [sd_wl_6_5]
  have e : sd_det 2 m (sd_el 6) (sd_el 5) = sd_D2 (m 1) (m 2) 0 2 := rfl
  rw [e]
  simp only [sd_ls, sd_tp_6_5_8, sd_tp_6_5_32, sd_D4, sd_D3, sd_D2]
  grind
theorem sd_wl_6_6 : sd_wl 6 6 256 = [24, 36] := by decide +kernel
theorem sd_tp_6_6_24 {R : Type} [Lean.Grind.CommRing R] (m : Nat → Nat → R) : sd_tp m 24 6 4 = (- 1) * m 1 2 * m 2 1 := rfl
theorem sd_tp_6_6_36 {R : Type} [Lean.Grind.CommRing R] (m : Nat → Nat → R) : sd_tp m 36 6 4 = (1) * m 1 1 * m 2 2 := rfl
theorem sd_dt_6_6 {R : Type} [Lean.Grind.CommRing R] (m : Nat → Nat → R) : sd_ls m 6 (sd_wl 6 6 256) = sd_det 2 m (sd_el 6) (sd_el 6) := by
  rw [sd_wl_6_6]
  have e : sd_det 2 m (sd_el 6) (sd_el 6) = sd_D2 (m 1) (m 2) 1 2 := rfl
  rw [e]
  simp only [sd_ls, sd_tp_6_6_24, sd_tp_6_6_36, sd_D4, sd_D3, sd_D2]
  grind
theorem sd_wl_6_9 : sd_wl 6 9 256 = [12, 48] := by decide +kernel
theorem sd_tp_6_9_12 {R : Type} [Lean.Grind.CommRing R] (m : Nat → Nat → R) : sd_tp m 12 6 4 = (- 1) * m 1 3 * m 2 0 := rfl
theorem sd_tp_6_9_48 {R : Type} [Lean.Grind.CommRing R] (m : Nat → Nat → R) : sd_tp m 48 6 4 = (1) * m 1 0 * m 2 3 := rfl
theorem sd_dt_6_9 {R : Type} [Lean.Grind.CommRing R] (m : Nat → Nat → R) : sd_ls m 6 (sd_wl 6 9 256) = sd_det 2 m (sd_el 6) (sd_el 9) := by
  rw [sd_wl_6_9]
  have e : sd_det 2 m (sd_el 6) (sd_el 9) = sd_D2 (m 1) (m 2) 0 3 := rfl
  rw [e]
  simp only [sd_ls, sd_tp_6_9_12, sd_tp_6_9_48, sd_D4, sd_D3, sd_D2]
  grind
theorem sd_wl_6_10 : sd_wl 6 10 256 = [28, 52] := by decide +kernel
theorem sd_tp_6_10_28 {R : Type} [Lean.Grind.CommRing R] (m : Nat → Nat → R) : sd_tp m 28 6 4 = (- 1) * m 1 3 * m 2 1 := rfl
theorem sd_tp_6_10_52 {R : Type} [Lean.Grind.CommRing R] (m : Nat → Nat → R) : sd_tp m 52 6 4 = (1) * m 1 1 * m 2 3 := rfl
theorem sd_dt_6_10 {R : Type} [Lean.Grind.CommRing R] (m : Nat → Nat → R) : sd_ls m 6 (sd_wl 6 10 256) = sd_det 2 m (sd_el 6) (sd_el 10) := by
  rw [sd_wl_6_10]
  have e : sd_det 2 m (sd_el 6) (sd_el 10) = sd_D2 (m 1) (m 2) 1 3 := rfl
  rw [e]
  simp only [sd_ls, sd_tp_6_10_28, sd_tp_6_10_52, sd_D4, sd_D3, sd_D2]
  grind
theorem sd_wl_6_12 : sd_wl 6 12 256 = [44, 56] := by decide +kernel
theorem sd_tp_6_12_44 {R : Type} [Lean.Grind.CommRing R] (m : Nat → Nat → R) : sd_tp m 44 6 4 = (- 1) * m 1 3 * m 2 2 := rfl
theorem sd_tp_6_12_56 {R : Type} [Lean.Grind.CommRing R] (m : Nat → Nat → R) : sd_tp m 56 6 4 = (1) * m 1 2 * m 2 3 := rfl
theorem sd_dt_6_12 {R : Type} [Lean.Grind.CommRing R] (m : Nat → Nat → R) : sd_ls m 6 (sd_wl 6 12 256) = sd_det 2 m (sd_el 6) (sd_el 12) := by
  rw [sd_wl_6_12]
  have e : sd_det 2 m (sd_el 6) (sd_el 12) = sd_D2 (m 1) (m 2) 2 3 := rfl
  rw [e]
  simp only [sd_ls, sd_tp_6_12_44, sd_tp_6_12_56, sd_D4, sd_D3, sd_D2]
  grind
theorem sd_wl_7_7 : sd_wl 7 7 256 = [6, 9, 18, 24, 33, 36] := by decide +kernel
theorem sd_tp_7_7_6 {R : Type} [Lean.Grind.CommRing R] (m : Nat → Nat → R) : sd_tp m 6 7 4 = (- 1) * m 0 2 * m 1 1 * m 2 0 := rfl
theorem sd_tp_7_7_9 {R : Type} [Lean.Grind.CommRing R] (m : Nat → Nat → R) : sd_tp m 9 7 4 = (1) * m 0 1 * m 1 2 * m 2 0 := rfl
theorem sd_tp_7_7_18 {R : Type} [Lean.Grind.CommRing R] (m : Nat → Nat → R) : sd_tp m 18 7 4 = (1) * m 0 2 * m 1 0 * m 2 1 := rfl
theorem sd_tp_7_7_24 {R : Type} [Lean.Grind.CommRing R] (m : Nat → Nat → R) : sd_tp m 24 7 4 = (- 1) * m 0 0 * m 1 2 * m 2 1 := rfl
theorem sd_tp_7_7_33 {R : Type} [Lean.Grind.CommRing R] (m : Nat → Nat → R) : sd_tp m 33 7 4 = (- 1) * m 0 1 * m 1 0 * m 2 2 := rfl
theorem sd_tp_7_7_36 {R : Type} [Lean.Grind.CommRing R] (m : Nat → Nat → R) : sd_tp m 36 7 4 = (1) * m 0 0 * m 1 1 * m 2 2 := rfl
theorem sd_dt_7_7 {R : Type} [Lean.Grind.CommRing R] (m : Nat → Nat → R) : sd_ls m 7 (sd_wl 7 7 256) = sd_det 3 m (sd_el 7) (sd_el 7) := by
  rw [sd_wl_7_7]
  have e : sd_det 3 m (sd_el 7) (sd_el 7) = sd_D3 (m 0) (m 1) (m 2) 0 1 2 := rfl
  rw [e]
  simp only [sd_ls, sd_tp_7_7_6, sd_tp_7_7_9, sd_tp_7_7_18, sd_tp_7_7_24, sd_tp_7_7_33, sd_tp_7_7_36, sd_D4, sd_D3, sd_D2]
  grind
theorem sd_wl_7_11 : sd_wl 7 11 256 = [7, 13, 19, 28, 49, 52] := by decide +kernel
theorem sd_tp_7_11_7 {R : Type} [Lean.Grind.CommRing R] (m : Nat → Nat → R) : sd_tp m 7 7 4 = (- 1) * m 0 3 * m 1 1 * m 2 0 := rfl
theorem sd_tp_7_11_13 {R : Type} [Lean.Grind.CommRing R] (m : Nat → Nat → R) : sd_tp m 13 7 4 = (1) * m 0 1 * m 1 3 * m 2 0 := rfl
theorem sd_tp_7_11_19 {R : Type} [Lean.Grind.CommRing R] (m : Nat → Nat → R) : sd_tp m 19 7 4 = (1) * m 0 3 * m 1 0 * m 2 1 := rfl
theorem sd_tp_7_11_28 {R : Type} [Lean.Grind.CommRing R] (m : Nat → Nat → R) : sd_tp m 28 7 4 = (- 1) * m 0 0 * m 1 3 * m 2 1 := rfl
theorem sd_tp_7_11_49 {R : Type} [Lean.Grind.CommRing R] (m : Nat → Nat → R) : sd_tp m 49 7 4 = (- 1) * m 0 1 * m 1 0 * m 2 3 := rfl
theorem sd_tp_7_11_52 {R : Type} [Lean.Grind.CommRing R] (m : Nat → Nat → R) : sd_tp m 52 7 4 = (1) * m 0 0 * m 1 1 * m 2 3 := rfl
theorem sd_dt_7_11 {R : Type} [Lean.Grind.CommRing R] (m : Nat → Nat → R) : sd_ls m 7 (sd_wl 7 11 256) = sd_det 3 m (sd_el 7) (sd_el 11) := by
  rw [sd_wl_7_11]
  have e : sd_det 3 m (sd_el 7) (sd_el 11) = sd_D3 (m 0) (m 1) (m 2) 0 1 3 := rfl
  rw [e]
  simp only [sd_ls, sd_tp_7_11_7, sd_tp_7_11_13, sd_tp_7_11_19, sd_tp_7_11_28, sd_tp_7_11_49, sd_tp_7_11_52, sd_D4, sd_D3, sd_D2]
  grind
theorem sd_wl_7_13 : sd_wl 7 13 256 = [11, 14, 35, 44, 50, 56] := by decide +kernel
theorem sd_tp_7_13_11 {R : Type} [Lean.Grind.CommRing R] (m : Nat → Nat → R) : sd_tp m 11 7 4 = (- 1) * m 0 3 * m 1 2 * m 2 0 := rfl
theorem sd_tp_7_13_14 {R : Type} [Lean.Grind.CommRing R] (m : Nat → Nat → R) : sd_tp m 14 7 4 = (1) * m 0 2 * m 1 3 * m 2 0 := rfl
theorem sd_tp_7_13_35 {R : Type} [Lean.Grind.CommRing R] (m : Nat → Nat → R) : sd_tp m 35 7 4 = (1) * m 0 3 * m 1 0 * m 2 2 := rfl
theorem sd_tp_7_13_44 {R : Type} [Lean.Grind.CommRing R] (m : Nat → Nat → R) : sd_tp m 44 7 4 = (- 1) * m 0 0 * m 1 3 * m 2 2 := rfl
theorem sd_tp_7_13_50 {R : Type} [Lean.Grind.CommRing R] (m : Nat → Nat → R) : sd_tp m 50 7 4 = (- 1) * m 0 2 * m 1 0 * m 2 3 := rfl
theorem sd_tp_7_13_56 {R : Type} [Lean.Grind.CommRing R] (m : Nat → Nat → R) : sd_tp m 56 7 4 = (1) * m 0 0 * m 1 2 * m 2 3 := rfl
theorem sd_dt_7_13 {R : Type} [Lean.Grind.CommRing R] (m : Nat → Nat → R) : sd_ls m 7 (sd_wl 7 13 256) = sd_det 3 m (sd_el 7) (sd_el 13) := by
  rw [sd_wl_7_13]
  have e : sd_det 3 m (sd_el 7) (sd_el 13) = sd_D3 (m 0) (m 1) (m 2) 0 2 3 := rfl
  rw [e]
  simp only [sd_ls, sd_tp_7_13_11, sd_tp_7_13_14, sd_tp_7_13_35, sd_tp_7_13_44, sd_tp_7_13_50, sd_tp_7_13_56, sd_D4, sd_D3, sd_D2]
  grind
theorem sd_wl_7_14 : sd_wl 7 14 256 = [27, 30, 39, 45, 54, 57] := by decide +kernel
theorem sd_tp_7_14_27 {R : Type} [Lean.Grind.CommRing R] (m : Nat → Nat → R) : sd_tp m 27 7 4 = (- 1) * m 0 3 * m 1 2 * m 2 1 := rfl
theorem sd_tp_7_14_30 {R : Type} [Lean.Grind.CommRing R] (m : Nat → Nat → R) : sd_tp m 30 7 4 = (1) * m 0 2 * m 1 3 * m 2 1 := rfl
theorem sd_tp_7_14_39 {R : Type} [Lean.Grind.CommRing R] (m : Nat → Nat → R) : sd_tp m 39 7 4 = (1) * m 0 3 * m 1 1 * m 2 2 := rfl
theorem sd_tp_7_14_45 {R : Type} [Lean.Grind.CommRing R] (m : Nat → Nat → R) : sd_tp m 45 7 4 = (- 1) * m 0 1 * m 1 3 * m 2 2 := rfl
theorem sd_tp_7_14_54 {R : Type} [Lean.Grind.CommRing R] (m : Nat → Nat → R) : sd_tp m 54 7 4 = (- 1) * m 0 2 * m 1 1 * m 2 3 := rfl
theorem sd_tp_7_14_57 {R : Type} [Lean.Grind.CommRing R] (m : Nat → Nat → R) : sd_tp m 57 7 4 = (1) * m 0 1 * m 1 2 * m 2 3 := rfl
theorem sd_dt_7_14 {R : Type} [Lean.Grind.CommRing R] (m : Nat → Nat → R) : sd_ls m 7 (sd_wl 7 14 256) = sd_det 3 m (sd_el 7) (sd_el 14) := by
  rw [sd_wl_7_14]
  have e : sd_det 3 m (sd_el 7) (sd_el 14) = sd_D3 (m 0) (m 1) (m 2) 1 2 3 := rfl
  rw [e]
  simp only [sd_ls, sd_tp_7_14_27, sd_tp_7_14_30, sd_tp_7_14_39, sd_tp_7_14_45, sd_tp_7_14_54, sd_tp_7_14_57, sd_D4, sd_D3, sd_D2]
  grind
theorem sd_wl_8_1 : sd_wl 8 1 256 = [0] := by decide +kernel
theorem sd_tp_8_1_0 {R : Type} [Lean.Grind.CommRing R] (m : Nat → Nat → R) : sd_tp m 0 8 4 = (1) * m 3 0 := rfl
theorem sd_dt_8_1 {R : Type} [Lean.Grind.CommRing R] (m : Nat → Nat → R) : sd_ls m 8 (sd_wl 8 1 256) = sd_det 1 m (sd_el 8) (sd_el 1) := by
  rw [sd_wl_8_1]
  have e : sd_det 1 m (sd_el 8) (sd_el 1) = m 3 0 := rfl
  rw [e]
  simp only [sd_ls, sd_tp_8_1_0]
  grind
theorem sd_wl_8_2 : sd_wl 8 2 256 = [64] := by decide +kernel
theorem sd_tp_8_2_64 {R : Type} [Lean.Grind.CommRing R] (m : Nat → Nat → R) : sd_tp m 64 8 4 = (1) * m 3 1 := rfl
theorem sd_dt_8_2 {R : Type} [Lean.Grind.CommRing R] (m : Nat → Nat → R) : sd_ls m 8 (sd_wl 8 2 256) = sd_det 1 m (sd_el 8) (sd_el 2) := by
  rw [sd_wl_8_2]
  have e : sd_det 1 m (sd_el 8) (sd_el 2) = m 3 1 := rfl
  rw [e]
  simp only [sd_ls, sd_tp_8_2_64]
  grind
theorem sd_wl_8_4 : sd_wl 8 4 256 = [128] := by decide +kernel
theorem sd_tp_8_4_128 {R : Type} [Lean.Grind.CommRing R] (m : Nat → Nat → R) : sd_tp m 128 8 4 = (1) * m 3 2 := rfl
theorem sd_dt_8_4 {R : Type} [Lean.Grind.CommRing R] (m : Nat → Nat → R) : sd_ls m 8 (sd_wl 8 4 256) = sd_det 1 m (sd_el 8) (sd_el 4) := by
  rw [sd_wl_8_4]
  have e : sd_det 1 m (sd_el 8) (sd_el 4) = m 3 2 := rfl
  rw [e]
  simp only [sd_ls, sd_tp_8_4_128]
  grind
theorem sd_wl_8_8 : sd_wl 8 8 256 = [192] := by decide +kernel
theorem sd_tp_8_8_192 {R : Type} [Lean.Grind.CommRing R] (m : Nat → Nat → R) : sd_tp m 192 8 4 = (1) * m 3 3 := rfl
theorem sd_dt_8_8 {R : Type} [Lean.Grind.CommRing R] (m : Nat → Nat → R) : sd_ls m 8 (sd_wl 8 8 256) = sd_det 1 m (sd_el 8) (sd_el 8) := by
  rw [sd_wl_8_8]
  have e : sd_det 1 m (sd_el 8) (sd_el 8) = m 3 3 := rfl
  rw [e]
  simp only [sd_ls, sd_tp_8_8_192]
  grind
theorem sd_wl_9_3 : sd_wl 9 3 256 = [1, 64] := by decide +kernel
theorem sd_tp_9_3_1 {R : Type} [Lean.Grind.CommRing R] (m : Nat → Nat → R) : sd_tp m 1 9 4 = (- 1) * m 0 1 * m 3 0 := rfl
theorem sd_tp_9_3_64 {R : Type} [Lean.Grind.CommRing R] (m : Nat → Nat → R) : sd_tp m 64 9 4 = (1) * m 0 0 * m 3 1 := rfl
theorem sd_dt_9_3 {R : Type} [Lean.Grind.CommRing R] (m : Nat → Nat → R) : sd_ls m 9 (sd_wl 9 3 256) = sd_det 2 m (sd_el 9) (sd_el 3) := by
  rw [sd_wl_9_3]
  have e : sd_det 2 m (sd_el 9) (sd_el 3) = sd_D2 (m 0) (m 3) 0 1 := rfl
  rw [e]
  simp only [sd_ls, sd_tp_9_3_1, sd_tp_9_3_64, sd_D4, sd_D3, sd_D2]
  grind
theorem sd_wl_9_5 : sd_wl 9 5 256 = [2, 128] := by decide +kernel
theorem sd_tp_9_5_2 {R : Type} [Lean.Grind.CommRing R] (m : Nat → Nat → R) : sd_tp m 2 9 4 = (- 1) * m 0 2 * m 3 0 := rfl
theorem sd_tp_9_5_128 {R : Type} [Lean.Grind.CommRing R] (m : Nat → Nat → R) : sd_tp m 128 9 4 = (1) * m 0 0 * m 3 2 := rfl
theorem sd_dt_9_5 {R : Type} [Lean.Grind.CommRing R] (m : Nat → Nat → R) : sd_ls m 9 (sd_wl 9 5 256) = sd_det 2 m (sd_el 9) (sd_el 5) := by
  rw [sd_wl_9_5]
  have e : sd_det 2 m (sd_el 9) (sd_el 5) = sd_D2 (m 0) (m 3) 0 2 := rfl
  rw [e]
  simp only [sd_ls, sd_tp_9_5_2, sd_tp_9_5_128, sd_D4, sd_D3, sd_D2]
  grind
theorem sd_wl_9_6 : sd_wl 9 6 256 = [66, 129] := by decide +kernel
theorem sd_tp_9_6_66 {R : Type} [Lean.Grind.CommRing R] (m : Nat → Nat → R) : sd_tp m 66 9 4 = (- 1) * m 0 2 * m 3 1 := rfl
theorem sd_tp_9_6_129 {R : Type} [Lean.Grind.CommRing R] (m : Nat → Nat → R) : sd_tp m 129 9 4 = (1) * m 0 1 * m 3 2 := rfl
theorem sd_dt_9_6 {R : Type} [Lean.Grind.CommRing R] (m : Nat → Nat → R) : sd_ls m 9 (sd_wl 9 6 256) = sd_det 2 m (sd_el 9) (sd_el 6) := by
  rw [sd_wl_9_6]
  have e : sd_det 2 m (sd_el 9) (sd_el 6) = sd_D2 (m 0) (m 3) 1 2 := rfl
  rw [e]
  simp only [sd_ls, sd_tp_9_6_66, sd_tp_9_6_129, sd_D4, sd_D3, sd_D2]
  grind
theorem sd_wl_9_9 : sd_wl 9 9 256 = [3, 192] := by decide +kernel
theorem sd_tp_9_9_3 {R : Type} [Lean.Grind.CommRing R] (m : Nat → Nat → R) : sd_tp m 3 9 4 = (- 1) * m 0 3 * m 3 0 := rfl
theorem sd_tp_9_9_192 {R : Type} [Lean.Grind.CommRing R] (m : Nat → Nat → R) : sd_tp m 192 9 4 = (1) * m 0 0 * m 3 3 := rfl
theorem sd_dt_9_9 {R : Type} [Lean.Grind.CommRing R] (m : Nat → Nat → R) : sd_ls m 9 (sd_wl 9 9 256) = sd_det 2 m (sd_el 9) (sd_el 9) := by
  rw [sd_wl_9_9]
  have e : sd_det 2 m (sd_el 9) (sd_el 9) = sd_D2 (m 0) (m 3) 0 3 := rfl
  rw [e]
  simp only [sd_ls, sd_tp_9_9_3, sd_tp_9_9_192, sd_D4, sd_D3, sd_D2]
  grind
theorem sd_wl_9_10 : sd_wl 9 10 256 = [67, 193] := by decide +kernel
theorem sd_tp_9_10_67 {R : Type} [Lean.Grind.CommRing R] (m : Nat → Nat → R) : sd_tp m 67 9 4 = (- 1) * m 0 3 * m 3 1 := rfl
theorem sd_tp_9_10_193 {R : Type} [Lean.Grind.CommRing R] (m : Nat → Nat → R) : sd_tp m 193 9 4 = (1) * m 0 1 * m 3 3 := rfl
theorem sd_dt_9_10 {R : Type} [Lean.Grind.CommRing R] (m : Nat → Nat → R) : sd_ls m 9 (sd_wl 9 10 256) = sd_det 2 m (sd_el 9) (sd_el 10) := by
  rw [sd_wl_9_10]
  have e : sd_det 2 m (sd_el 9) (sd_el 10) = sd_D2 (m 0) (m 3) 1 3 := rfl
  rw [e]
  simp only [sd_ls, sd_tp_9_10_67, sd_tp_9_10_193, sd_D4, sd_D3, sd_D2]
  grind
theorem sd_wl_9_12 : sd_wl 9 12 256 = [131, 194] := by decide +kernel
theorem sd_tp_9_12_131 {R : Type} [Lean.Grind.CommRing R] (m : Nat → Nat → R) : sd_tp m 131 9 4 = (- 1) * m 0 3 * m 3 2 := rfl
theorem sd_tp_9_12_194 {R : Type} [Lean.Grind.CommRing R] (m : Nat → Nat → R) : sd_tp m 194 9 4 = (1) * m 0 2 * m 3 3 := rfl
theorem sd_dt_9_12 {R : Type} [Lean.Grind.CommRing R] (m : Nat → Nat → R) : sd_ls m 9 (sd_wl 9 12 256) = sd_det 2 m (sd_el 9) (sd_el 12) := by
  rw [sd_wl_9_12]
  have e : sd_det 2 m (sd_el 9) (sd_el 12) = sd_D2 (m 0) (m 3) 2 3 := rfl
  rw [e]
  simp only [sd_ls, sd_tp_9_12_131, sd_tp_9_12_194, sd_D4, sd_D3, sd_D2]
  grind
theorem sd_wl_10_3 : sd_wl 10 3 256 = [4, 64] := by decide +kernel
theorem sd_tp_10_3_4 {R : Type} [Lean.Grind.CommRing R] (m : Nat → Nat → R) : sd_tp m 4 10 4 = (- 1) * m 1 1 * m 3 0 := rfl
theorem sd_tp_10_3_64 {R : Type} [Lean.Grind.CommRing R] (m : Nat → Nat → R) : sd_tp m 64 10 4 = (1) * m 1 0 * m 3 1 := rfl
theorem sd_dt_10_3 {R : Type} [Lean.Grind.CommRing R] (m : Nat → Nat → R) : sd_ls m 10 (sd_wl 10 3 256) = sd_det 2 m (sd_el 10) (sd_el 3) := by
  rw [sd_wl_10_3]
  have e : sd_det 2 m (sd_el 10) (sd_el 3) = sd_D2 (m 1) (m 3) 0 1 := rfl
  rw [e]
  simp only [sd_ls, sd_tp_10_3_4, sd_tp_10_3_64, sd_D4, sd_D3, sd_D2]
  grind
theorem sd_wl_10_5 : sd_wl 10 5 256 = [8, 128] := by decide +kernel
theorem sd_tp_10_5_8 {R : Type} [Lean.Grind.CommRing R] (m : Nat → Nat → R) : sd_tp m 8 10 4 = (- 1) * m 1 2 * m 3 0 := rfl
theorem sd_tp_10_5_128 {R : Type} [Lean.Grind.CommRing R] (m : Nat → Nat → R) : sd_tp m 128 10 4 = (1) * m 1 0 * m 3 2 := rfl
theorem sd_dt_10_5 {R : Type} [Lean.Grind.CommRing R] (m : Nat → Nat → R) : sd_ls m 10 (sd_wl 10 5 256) = sd_det 2 m (sd_el 10) (sd_el 5) := by
  rw [sd_wl_10_5]
  have e : sd_det 2 m (sd_el 10) (sd_el 5) = sd_D2 (m 1) (m 3) 0 2 := rfl
  rw [e]
  simp only [sd_ls, sd_tp_10_5_8, sd_tp_10_5_128, sd_D4, sd_D3, sd_D2]
  grind
theorem sd_wl_10_6 : sd_wl 10 6 256 = [72, 132] := by decide +kernel
theorem sd_tp_10_6_72 {R : Type} [Lean.Grind.CommRing R] (m : Nat → Nat → R) : sd_tp m 72 10 4 = (- 1) * m 1 2 * m 3 1 := rfl
theorem sd_tp_10_6_132 {R : Type} [Lean.Grind.CommRing R] (m : Nat → Nat → R) : sd_tp m 132 10 4 = (1) * m 1 1 * m 3 2 := rfl
theorem sd_dt_10_6 {R : Type} [Lean.Grind.CommRing R] (m : Nat → Nat → R) : sd_ls m 10 (sd_wl 10 6 256) = sd_det 2 m (sd_el 10) (sd_el 6) := by
  rw [sd_wl_10_6]
  have e : sd_det 2 m (sd_el 10) (sd_el 6) = sd_D2 (m 1) (m 3) 1 2 := rfl
  rw [e]
  simp only [sd_ls, sd_tp_10_6_72, sd_tp_10_6_132, sd_D4, sd_D3, sd_D2]
  grind
theorem sd_wl_10_9 : sd_wl 10 9 256 = [12, 192] := by decide +kernel
theorem sd_tp_10_9_12 {R : Type} [Lean.Grind.CommRing R] (m : Nat → Nat → R) : sd_tp m 12 10 4 = (- 1) * m 1 3 * m 3 0 := rfl
theorem sd_tp_10_9_192 {R : Type} [Lean.Grind.CommRing R] (m : Nat → Nat → R) : sd_tp m 192 10 4 = (1) * m 1 0 * m 3 3 := rfl
theorem sd_dt_10_9 {R : Type} [Lean.Grind.CommRing R] (m : Nat → Nat → R) : sd_ls m 10 (sd_wl 10 9 256) = sd_det 2 m (sd_el 10) (sd_el 9) := by
  rw [sd_wl_10_9]
  have e : sd_det 2 m (sd_el 10) (sd_el 9) = sd_D2 (m 1) (m 3) 0 3 := rfl
  rw [e]
  simp only [sd_ls, sd_tp_10_9_12, sd_tp_10_9_192, sd_D4, sd_D3, sd_D2]
  grind
theorem sd_wl_10_10 : sd_wl 10 10 256 = [76, 196] := by decide +kernel
theorem sd_tp_10_10_76 {R : Type} [Lean.Grind.CommRing R] (m : Nat → Nat → R) : sd_tp m 76 10 4 = (- 1) * m 1 3 * m 3 1 := rfl
theorem sd_tp_10_10_196 {R : Type} [Lean.Grind.CommRing R] (m : Nat → Nat → R) : sd_tp m 196 10 4 = (1) * m 1 1 * m 3 3 := rfl
theorem sd_dt_10_10 {R : Type} [Lean.Grind.CommRing R] (m : Nat → Nat → R) : sd_ls m 10 (sd_wl 10 10 256) = sd_det 2 m (sd_el 10) (sd_el 10) := by
  rw [sd_wl_10_10]
  have e : sd_det 2 m (sd_el 10) (sd_el 10) = sd_D2 (m 1) (m 3) 1 3 := rfl
  rw [e]
  simp only [sd_ls, sd_tp_10_10_76, sd_tp_10_10_196, sd_D4, sd_D3, sd_D2]
  grind
theorem sd_wl_10_12 : sd_wl 10 12 256 = [140, 200] := by decide +kernel
theorem sd_tp_10_12_140 {R : Type} [Lean.Grind.CommRing R] (m : Nat → Nat → R) : sd_tp m 140 10 4 = (- 1) * m 1 3 * m 3 2 := rfl
theorem sd_tp_10_12_200 {R : Type} [Lean.Grind.CommRing R] (m : Nat → Nat → R) : sd_tp m 200 10 4 = (1) * m 1 2 * m 3 3 := rfl
theorem sd_dt_10_12 {R : Type} [Lean.Grind.CommRing R] (m : Nat → Nat → R) : sd_ls m 10 (sd_wl 10 12 256) = sd_det 2 m (sd_el 10) (sd_el 12) := by
  rw [sd_wl_10_12]
  have e : sd_det 2 m (sd_el 10) (sd_el 12) = sd_D2 (m 1) (m 3) 2 3 := rfl
  rw [e]
  simp only [sd_ls, sd_tp_10_12_140, sd_tp_10_12_200, sd_D4, sd_D3, sd_D2]
  grind
theorem sd_wl_11_7 : sd_wl 11 7 256 = [6, 9, 66, 72, 129, 132] := by decide +kernel
theorem sd_tp_11_7_6 {R : Type} [Lean.Grind.CommRing R] (m : Nat → Nat → R) : sd_tp m 6 11 4 = (- 1) * m 0 2 * m 1 1 * m 3 0 := rfl
theorem sd_tp_11_7_9 {R : Type} [Lean.Grind.CommRing R] (m : Nat → Nat → R) : sd_tp m 9 11 4 = (1) * m 0 1 * m 1 2 * m 3 0 := rfl
theorem sd_tp_11_7_66 {R : Type} [Lean.Grind.CommRing R] (m : Nat → Nat → R) : sd_tp m 66 11 4 = (1) * m 0 2 * m 1 0 * m 3 1 := rfl
theorem sd_tp_11_7_72 {R : Type} [Lean.Grind.CommRing R] (m : Nat → Nat → R) : sd_tp m 72 11 4 = (- 1) * m 0 0 * m 1 2 * m 3 1 := rfl
theorem sd_tp_11_7_129 {R : Type} [Lean.Grind.CommRing R] (m : Nat → Nat → R) : sd_tp m 129 11 4 = (- 1) * m 0 1 * m 1 0 * m 3 2 := rfl
theorem sd_tp_11_7_132 {R : Type} [Lean.Grind.CommRing R] (m : Nat → Nat → R) : sd_tp m 132 11 4 = (1) * m 0 0 * m 1 1 * m 3 2 := rfl
theorem sd_dt_11_7 {R : Type} [Lean.Grind.CommRing R] (m : Nat → Nat → R) : sd_ls m 11 (sd_wl 11 7 256) = sd_det 3 m (sd_el 11) (sd_el 7) := by
  rw [sd_wl_11_7]
  have e : sd_det 3 m (sd_el 11) (sd_el 7) = sd_D3 (m 0) (m 1) (m 3) 0 1 2 := rfl
  rw [e]
  simp only [sd_ls, sd_tp_11_7_6, sd_tp_11_7_9, sd_tp_11_7_66, sd_tp_11_7_72, sd_tp_11_7_129, sd_tp_11_7_132, sd_D4, sd_D3, sd_D2]
  grind
theorem sd_wl_11_11 : sd_wl 11 11 256 = [7, 13, 67, 76, 193, 196] := by decide +kernel
theorem sd_tp_11_11_7 {R : Type} [Lean.Grind.CommRing R] (m : Nat → Nat → R) : sd_tp m 7 11 4 = (- 1) * m 0 3 * m 1 1 * m 3 0 := rfl
theorem sd_tp_11_11_13 {R : Type} [Lean.Grind.CommRing R] (m : Nat → Nat → R) : sd_tp m 13 11 4 = (1) * m 0 1 * m 1 3 * m 3 0 := rfl
theorem sd_tp_11_11_67 {R : Type} [Lean.Grind.CommRing R] (m : Nat → Nat → R) : sd_tp m 67 11 4 = (1) * m 0 3 * m 1 0 * m 3 1 := rfl
theorem sd_tp_11_11_76 {R : Type} [Lean.Grind.CommRing R] (m : Nat → Nat → R) : sd_tp m 76 11 4 = (- 1) * m 0 0 * m 1 3 * m 3 1 := rfl
theorem sd_tp_11_11_193 {R : Type} [Lean.Grind.CommRing R] (m : Nat → Nat → R) : sd_tp m 193 11 4 = (- 1) * m 0 1 * m 1 0 * m 3 3 := rfl
theorem sd_tp_11_11_196 {R : Type} [Lean.Grind.CommRing R] (m : Nat → Nat → R) : sd_tp m 196 11 4 = (1) * m 0 0 * m 1 1 * m 3 3 := rfl
theorem sd_dt_11_11 {R : Type} [Lean.Grind.CommRing R] (m : Nat → Nat → R) : sd_ls m 11 (sd_wl 11 11 256) = sd_det 3 m (sd_el 11) (sd_el 11) := by
  rw [sd_wl_11_11]
  have e : sd_det 3 m (sd_el 11) (sd_el 11) = sd_D3 (m 0) (m 1) (m 3) 0 1 3 := rfl
  rw [e]
  simp only [sd_ls, sd_tp_11_11_7, sd_tp_11_11_13, sd_tp_11_11_67, sd_tp_11_11_76, sd_tp_11_11_193, sd_tp_11_11_196, sd_D4, sd_D3, sd_D2]
  grind
theorem sd_wl_11_13 : sd_wl 11 13 256 = [11, 14, 131, 140, 194, 200] := by decide +kernel
theorem sd_tp_11_13_11 {R : Type} [Lean.Grind.CommRing R] (m : Nat → Nat → R) : sd_tp m 11 11 4 = (- 1) * m 0 3 * m 1 2 * m 3 0 := rfl
theorem sd_tp_11_13_14 {R : Type} [Lean.Grind.CommRing R] (m : Nat → Nat → R) : sd_tp m 14 11 4 = (1) * m 0 2 * m 1 3 * m 3 0 := rfl
theorem sd_tp_11_13_131 {R : Type} [Lean.Grind.CommRing R] (m : Nat → Nat → R) : sd_tp m 131 11 4 = (1) * m 0 3 * m 1 0 * m 3 2 := rfl
theorem sd_tp_11_13_140 {R : Type} [Lean.Grind.CommRing R] (m : Nat → Nat → R) : sd_tp m 140 11 4 = (- 1) * m 0 0 * m 1 3 * m 3 2 := rfl
theorem sd_tp_11_13_194 {R : Type} [Lean.Grind.CommRing R] (m : Nat → Nat → R) : sd_tp m 194 11 4 = (- 1) * m 0 2 * m 1 0 * m 3 3 := rfl
theorem sd_tp_11_13_200 {R : Type} [Lean.Grind.CommRing R] (m : Nat → Nat → R) : sd_tp m 200 11 4 = (1) * m 0 0 * m 1 2 * m 3 3 := rfl
theorem sd_dt_11_13 {R : Type} [Lean.Grind.CommRing R] (m : Nat → Nat → R) : sd_ls m 11 (sd_wl 11 13 256) = sd_det 3 m (sd_el 11) (sd_el 13) := by
  rw [sd_wl_11_13]
  have e : sd_det 3 m (sd_el 11) (sd_el 13) = sd_D3 (m 0) (m 1) (m 3) 0 2 3 := rfl
  rw [e]
  simp only [sd_ls, sd_tp_11_13_11, sd_tp_11_13_14, sd_tp_11_13_131, sd_tp_11_13_140, sd_tp_11_13_194, sd_tp_11_13_200, sd_D4, sd_D3, sd_D2]
  grind
theorem sd_wl_11_14 : sd_wl 11 14 256 = [75, 78, 135, 141, 198, 201] := by decide +kernel
theorem sd_tp_11_14_75 {R : Type} [Lean.Grind.CommRing R] (m : Nat → Nat → R) : sd_tp m 75 11 4 = (- 1) * m 0 3 * m 1 2 * m 3 1 := rfl
theorem sd_tp_11_14_78 {R : Type} [Lean.Grind.CommRing R] (m : Nat → Nat → R) : sd_tp m 78 11 4 = (1) * m 0 2 * m 1 3 * m 3 1 := rfl
theorem sd_tp_11_14_135 {R : Type} [Lean.Grind.CommRing R] (m : Nat → Nat → R) : sd_tp m 135 11 4 = (1) * m 0 3 * m 1 1 * m 3 2 := rfl
theorem sd_tp_11_14_141 {R : Type} [Lean.Grind.CommRing R] (m : Nat → Nat → R) : sd_tp m 141 11 4 = (- 1) * m 0 1 * m 1 3 * m 3 2 := rfl
theorem sd_tp_11_14_198 {R : Type} [Lean.Grind.CommRing R] (m : Nat → Nat → R) : sd_tp m 198 11 4 = (- 1) * m 0 2 * m 1 1 * m 3 3 := rfl
theorem sd_tp_11_14_201 {R : Type} [Lean.Grind.CommRing R] (m : Nat → Nat → R) : sd_tp m 201 11 4 = (1) * m 0 1 * m 1 2 * m 3 3 := rfl
theorem sd_dt_11_14 {R : Type} [Lean.Grind.CommRing R] (m : Nat → Nat → R) : sd_ls m 11 (sd_wl 11 14 256) = sd_det 3 m (sd_el 11) (sd_el 14) := by
  rw [sd_wl_11_14]
  have e : sd_det 3 m (sd_el 11) (sd_el 14) = sd_D3 (m 0) (m 1) (m 3) 1 2 3 := rfl
  rw [e]
  simp only [sd_ls, sd_tp_11_14_75, sd_tp_11_14_78, sd_tp_11_14_135, sd_tp_11_14_141, sd_tp_11_14_198, sd_tp_11_14_201, sd_D4, sd_D3, sd_D2]
  grind
theorem sd_wl_12_3 : sd_wl 12 3 256 = [16, 64] := by decide +kernel
theorem sd_tp_12_3_16 {R : Type} [Lean.Grind.CommRing R] (m : Nat → Nat → R) : sd_tp m 16 12 4 = (- 1) * m 2 1 * m 3 0 := rfl
theorem sd_tp_12_3_64 {R : Type} [Lean.Grind.CommRing R] (m : Nat → Nat → R) : sd_tp m 64 12 4 = (1) * m 2 0 * m 3 1 := rfl
theorem sd_dt_12_3 {R : Type} [Lean.Grind.CommRing R] (m : Nat → Nat → R) : sd_ls m 12 (sd_wl 12 3 256) = sd_det 2 m (sd_el 12) (sd_el 3) := by
  rw [sd_wl_12_3]
  have e : sd_det 2 m (sd_el 12) (sd_el 3) = sd_D2 (m 2) (m 3) 0 1 := rfl
  rw [e]
  simp only [sd_ls, sd_tp_12_3_16, sd_tp_12_3_64, sd_D4, sd_D3, sd_D2]
  grind
theorem sd_wl_12_5 : sd_wl 12 5 256 = [32, 128] := by decide +kernel
theorem sd_tp_12_5_32 {R : Type} [Lean.Grind.CommRing R] (m : Nat → Nat → R) : sd_tp m 32 12 4 = (- 1) * m 2 2 * m 3 0 := rfl
theorem sd_tp_12_5_128 {R : Type} [Lean.Grind.CommRing R] (m : Nat → Nat → R) : sd_tp m 128 12 4 = (1) * m 2 0 * m 3 2 := rfl
theorem sd_dt_12_5 {R : Type} [Lean.Grind.CommRing R] (m : Nat → Nat → R) : sd_ls m 12 (sd_wl 12 5 256) = sd_det 2 m (sd_el 12) (sd_el 5) := by
  rw [sd_wl_12_5]
  have e : sd_det 2 m (sd_el 12) (sd_el 5) = sd_D2 (m 2) (m 3) 0 2 := rfl
  rw [e]
  simp only [sd_ls, sd_tp_12_5_32, sd_tp_12_5_128, sd_D4, sd_D3, sd_D2]
  grind
theorem sd_wl_12_6 : sd_wl 12 6 256 = [96, 144] := by decide +kernel
theorem sd_tp_12_6_96 {R : Type} [Lean.Grind.CommRing R] (m : Nat → Nat → R) : sd_tp m 96 12 4 = (- 1) * m 2 2 * m 3 1 := rfl
theorem sd_tp_12_6_144 {R : Type} [Lean.Grind.CommRing R] (m : Nat → Nat → R) : sd_tp m 144 12 4 = (1) * m 2 1 * m 3 2 := rfl
theorem sd_dt_12_6 {R : Type} [Lean.Grind.CommRing R] (m : Nat → Nat → R) : sd_ls m 12 (sd_wl 12 6 256) = sd_det 2 m (sd_el 12) (sd_el 6) := by
  rw [sd_wl_12_6]
  have e : sd_det 2 m (sd_el 12) (sd_el 6) = sd_D2 (m 2) (m 3) 1 2 := rfl
  rw [e]
  simp only [sd_ls, sd_tp_12_6_96, sd_tp_12_6_144, sd_D4, sd_D3, sd_D2]
  grind
theorem sd_wl_12_9 : sd_wl 12 9 256 = [48, 192] := by decide +kernel
theorem sd_tp_12_9_48 {R : Type} [Lean.Grind.CommRing R] (m : Nat → Nat → R) : sd_tp m 48 12 4 = (- 1) * m 2 3 * m 3 0 := rfl
theorem sd_tp_12_9_192 {R : Type} [Lean.Grind.CommRing R] (m : Nat → Nat → R) : sd_tp m 192 12 4 = (1) * m 2 0 * m 3 3 := rfl
theorem sd_dt_12_9 {R : Type} [Lean.Grind.CommRing R] (m : Nat → Nat → R) : sd_ls m 12 (sd_wl 12 9 256) = sd_det 2 m (sd_el 12) (sd_el 9) := by
  rw [sd_wl_12_9]
  have e : sd_det 2 m (sd_el 12) (sd_el 9) = sd_D2 (m 2) (m 3) 0 3 := rfl
  rw [e]
  simp only [sd_ls, sd_tp_12_9_48, sd_tp_12_9_192, sd_D4, sd_D3, sd_D2]
  grind
theorem sd_wl_12_10 : sd_wl 12 10 256 = [112, 208] := by decide +kernel
theorem sd_tp_12_10_112 {R : Type} [Lean.Grind.CommRing R] (m : Nat → Nat → R) : sd_tp m 112 12 4 = (- 1) * m 2 3 * m 3 1 := rfl
theorem sd_tp_12_10_208 {R : Type} [Lean.Grind.CommRing R] (m : Nat → Nat → R) : sd_tp m 208 12 4 = (1) * m 2 1 * m 3 3 := rfl
theorem sd_dt_12_10 {R : Type} [Lean.Grind.CommRing R] (m : Nat → Nat → R) : sd_ls m 12 (sd_wl 12 10 256) = sd_det 2 m (sd_el 12) (sd_el 10) := by
  rw [sd_wl_12_10]
  have e : sd_det 2 m (sd_el 12) (sd_el 10) = sd_D2 (m 2) (m 3) 1 3 := rfl
  rw [e]
  simp only [sd_ls, sd_tp_12_10_112, sd_tp_12_10_208, sd_D4, sd_D3, sd_D2]
  grind
theorem sd_wl_12_12 : sd_wl 12 12 256 = [176, 224] := by decide +kernel
theorem sd_tp_12_12_176 {R : Type} [Lean.Grind.CommRing R] (m : Nat → Nat → R) : sd_tp m 176 12 4 = (- 1) * m 2 3 * m 3 2 := rfl
theorem sd_tp_12_12_224 {R : Type} [Lean.Grind.CommRing R] (m : Nat → Nat → R) : sd_tp m 224 12 4 = (1) * m 2 2 * m 3 3 := rfl
theorem sd_dt_12_12 {R : Type} [Lean.Grind.CommRing R] (m : Nat → Nat → R) : sd_ls m 12 (sd_wl 12 12 256) = sd_det 2 m (sd_el 12) (sd_el 12) := by
  rw [sd_wl_12_12]
  have e : sd_det 2 m (sd_el 12) (sd_el 12) = sd_D2 (m 2) (m 3) 2 3 := rfl
  rw [e]
  simp only [sd_ls, sd_tp_12_12_176, sd_tp_12_12_224, sd_D4, sd_D3, sd_D2]
  grind
theorem sd_wl_13_7 : sd_wl 13 7 256 = [18, 33, 66, 96, 129, 144] := by decide +kernel
theorem sd_tp_13_7_18 {R : Type} [Lean.Grind.CommRing R] (m : Nat → Nat → R) : sd_tp m 18 13 4 = (- 1) * m 0 2 * m 2 1 * m 3 0 := rfl
theorem sd_tp_13_7_33 {R : Type} [Lean.Grind.CommRing R] (m : Nat → Nat → R) : sd_tp m 33 13 4 = (1) * m 0 1 * m 2 2 * m 3 0 := rfl
theorem sd_tp_13_7_66 {R : Type} [Lean.Grind.CommRing R] (m : Nat → Nat → R) : sd_tp m 66 13 4 = (1) * m 0 2 * m 2 0 * m 3 1 := rfl
theorem sd_tp_13_7_96 {R : Type} [Lean.Grind.CommRing R] (m : Nat → Nat → R) : sd_tp m 96 13 4 = (- 1) * m 0 0 * m 2 2 * m 3 1 := rfl
theorem sd_tp_13_7_129 {R : Type} [Lean.Grind.CommRing R] (m : Nat → Nat → R) : sd_tp m 129 13 4 = (- 1) * m 0 1 * m 2 0 * m 3 2 := rfl
theorem sd_tp_13_7_144 {R : Type} [Lean.Grind.CommRing R] (m : Nat → Nat → R) : sd_tp m 144 13 4 = (1) * m 0 0 * m 2 1 * m 3 2 := rfl
theorem sd_dt_13_7 {R : Type} [Lean.Grind.CommRing R] (m : Nat → Nat → R) : sd_ls m 13 (sd_wl 13 7 256) = sd_det 3 m (sd_el 13) (sd_el 7) := by
  rw [sd_wl_13_7]
  have e : sd_det 3 m (sd_el 13) (sd_el 7) = sd_D3 (m 0) (m 2) (m 3) 0 1 2 := rfl
  rw [e]
  simp only [sd_ls, sd_tp_13_7_18, sd_tp_13_7_33, sd_tp_13_7_66, sd_tp_13_7_96, sd_tp_13_7_129, sd_tp_13_7_144, sd_D4, sd_D3, sd_D2]
  grind
theorem sd_wl_13_11 : sd_wl 13 11 256 = [19, 49, 67, 112, 193, 208] := by decide +kernel
theorem sd_tp_13_11_19 {R : Type} [Lean.Grind.CommRing R] (m : Nat → Nat → R) : sd_tp m 19 13 4 = (- 1) * m 0 3 * m 2 1 * m 3 0 := rfl
theorem sd_tp_13_11_49 {R : Type} [Lean.Grind.CommRing R] (m : Nat → Nat → R) : sd_tp m 49 13 4 = (1) * m 0 1 * m 2 3 * m 3 0 := rfl
theorem sd_tp_13_11_67 {R : Type} [Lean.Grind.CommRing R] (m : Nat → Nat → R) : sd_tp m 67 13 4 = (1) * m 0 3 * m 2 0 * m 3 1 := rfl
theorem sd_tp_13_11_112 {R : Type} [Lean.Grind.CommRing R] (m : Nat → Nat → R) : sd_tp m 112 13 4 = (- 1) * m 0 0 * m 2 3 * m 3 1 := rfl
theorem sd_tp_13_11_193 {R : Type} [Lean.Grind.CommRing R] (m : Nat → Nat → R) : sd_tp m 193 13 4 = (- 1) * m 0 1 * m 2 0 * m 3 3 := rfl
theorem sd_tp_13_11_208 {R : Type} [Lean.Grind.CommRing R] (m : Nat → Nat → R) : sd_tp m 208 13 4 = (1) * m 0 0 * m 2 1 * m 3 3 := rfl
theorem sd_dt_13_11 {R : Type} [Lean.Grind.CommRing R] (m : Nat → Nat → R) : sd_ls m 13 (sd_wl 13 11 256) = sd_det 3 m (sd_el 13) (sd_el 11) := by
  rw [sd_wl_13_11]
  have e : sd_det 3 m (sd_el 13) (sd_el 11) = sd_D3 (m 0) (m 2) (m 3) 0 1 3 := rfl
  rw [e]
  simp only [sd_ls, sd_tp_13_11_19, sd_tp_13_11_49, sd_tp_13_11_67, sd_tp_13_11_112, sd_tp_13_11_193, sd_tp_13_11_208, sd_D4, sd_D3, sd_D2]
  grind
theorem sd_wl_13_13 : sd_wl 13 13 256 = [35, 50, 131, 176, 194, 224] := by decide +kernel
theorem sd_tp_13_13_35 {R : Type} [Lean.Grind.CommRing R] (m : Nat → Nat → R) : sd_tp m 35 13 4 = (- 1) * m 0 3 * m 2 2 * m 3 0 := rfl
theorem sd_tp_13_13_50 {R : Type} [Lean.Grind.CommRing R] (m : Nat → Nat → R) : sd_tp m 50 13 4 = (1) * m 0 2 * m 2 3 * m 3 0 := rfl
theorem sd_tp_13_13_131 {R : Type} [Lean.Grind.CommRing R] (m : Nat → Nat → R) : sd_tp m 131 13 4 = (1) * m 0 3 * m 2 0 * m 3 2 := rfl
theorem sd_tp_13_13_176 {R : Type} [Lean.Grind.CommRing R] (m : Nat → Nat → R) : sd_tp m 176 13 4 = (- 1) * m 0 0 * m 2 3 * m 3 2 := rfl
theorem sd_tp_13_13_194 {R : Type} [Lean.Grind.CommRing R] (m : Nat → Nat → R) : sd_tp m 194 13 4 = (- 1) * m 0 2 * m 2 0 * m 3 3 := rfl
theorem sd_tp_13_13_224 {R : Type} [Lean.Grind.CommRing R] (m : Nat → Nat → R) : sd_tp m 224 13 4 = (1) * m 0 0 * m 2 2 * m 3 3 := rfl
theorem sd_dt_13_13 {R : Type} [Lean.Grind.CommRing R] (m : Nat → Nat → R) : sd_ls m 13 (sd_wl 13 13 256) = sd_det 3 m (sd_el 13) (sd_el 13) := by
  rw [sd_wl_13_13]
  have e : sd_det 3 m (sd_el 13) (sd_el 13) = sd_D3 (m 0) (m 2) (m 3) 0 2 3 := rfl
  rw [e]
  simp only [sd_ls, sd_tp_13_13_35, sd_tp_13_13_50, sd_tp_13_13_131, sd_tp_13_13_176, sd_tp_13_13_194, sd_tp_13_13_224, sd_D4, sd_D3, sd_D2]
  grind
theorem sd_wl_13_14 : sd_wl 13 14 256 = [99, 114, 147, 177, 210, 225] := by decide +kernel
theorem sd_tp_13_14_99 {R : Type} [Lean.Grind.CommRing R] (m : Nat → Nat → R) : sd_tp m 99 13 4 = (- 1) * m 0 3 * m 2 2 * m 3 1 := rfl
theorem sd_tp_13_14_114 {R : Type} [Lean.Grind.CommRing R] (m : Nat → Nat → R) : sd_tp m 114 13 4 = (1) * m 0 2 * m 2 3 * m 3 1 := rfl
theorem sd_tp_13_14_147 {R : Type} [Lean.Grind.CommRing R] (m : Nat → Nat → R) : sd_tp m 147 13 4 = (1) * m 0 3 * m 2 1 * m 3 2 := rfl
theorem sd_tp_13_14_177 {R : Type} [Lean.Grind.CommRing R] (m : Nat → Nat → R) : sd_tp m 177 13 4 = (- 1) * m 0 1 * m 2 3 * m 3 2 := rfl
theorem sd_tp_13_14_210 {R : Type} [Lean.Grind.CommRing R] (m : Nat → Nat → R) : sd_tp m 210 13 4 = (- 1) * m 0 2 * m 2 1 * m 3 3 := rfl
theorem sd_tp_13_14_225 {R : Type} [Lean.Grind.CommRing R] (m : Nat → Nat → R) : sd_tp m 225 13 4 = (1) * m 0 1 * m 2 2 * m 3 3 := rfl
theorem sd_dt_13_14 {R : Type} [Lean.Grind.CommRing R] (m : Nat → Nat → R) : sd_ls m 13 (sd_wl 13 14 256) = sd_det 3 m (sd_el 13) (sd_el 14) := by
  rw [sd_wl_13_14]
  have e : sd_det 3 m (sd_el 13) (sd_el 14) = sd_D3 (m 0) (m 2) (m 3) 1 2 3 := rfl
  rw [e]
  simp only [sd_ls, sd_tp_13_14_99, sd_tp_13_14_114, sd_tp_13_14_147, sd_tp_13_14_177, sd_tp_13_14_210, sd_tp_13_14_225, sd_D4, sd_D3, sd_D2]
  grind
theorem sd_wl_14_7 : sd_wl 14 7 256 = [24, 36, 72, 96, 132, 144] := by decide +kernel
theorem sd_tp_14_7_24 {R : Type} [Lean.Grind.CommRing R] (m : Nat → Nat → R) : sd_tp m 24 14 4 = (- 1) * m 1 2 * m 2 1 * m 3 0 := rfl
theorem sd_tp_14_7_36 {R : Type} [Lean.Grind.CommRing R] (m : Nat → Nat → R) : sd_tp m 36 14 4 = (1) * m 1 1 * m 2 2 * m 3 0 := rfl
theorem sd_tp_14_7_72 {R : Type} [Lean.Grind.CommRing R] (m : Nat → Nat → R) : sd_tp m 72 14 4 = (1) * m 1 2 * m 2 0 * m 3 1 := rfl
theorem sd_tp_14_7_96 {R : Type} [Lean.Grind.CommRing R] (m : Nat → Nat → R) : sd_tp m 96 14 4 = (- 1) * m 1 0 * m 2 2 * m 3 1 := rfl
theorem sd_tp_14_7_132 {R : Type} [Lean.Grind.CommRing R] (m : Nat → Nat → R) : sd_tp m 132 14 4 = (- 1) * m 1 1 * m 2 0 * m 3 2 := rfl
theorem sd_tp_14_7_144 {R : Type} [Lean.Grind.CommRing R] (m : Nat → Nat → R) : sd_tp m 144 14 4 = (1) * m 1 0 * m 2 1 * m 3 2 := rfl
theorem sd_dt_14_7 {R : Type} [Lean.Grind.CommRing R] (m : Nat → Nat → R) : sd_ls m 14 (sd_wl 14 7 256) = sd_det 3 m (sd_el 14) (sd_el 7) := by
  rw [sd_wl_14_7]
  have e : sd_det 3 m (sd_el 14) (sd_el 7) = sd_D3 (m 1) (m 2) (m 3) 0 1 2 := rfl
  rw [e]
  simp only [sd_ls, sd_tp_14_7_24, sd_tp_14_7_36, sd_tp_14_7_72, sd_tp_14_7_96, sd_tp_14_7_132, sd_tp_14_7_144, sd_D4, sd_D3, sd_D2]
  grind
theorem sd_wl_14_11 : sd_wl 14 11 256 = [28, 52, 76, 112, 196, 208] := by decide +kernel
theorem sd_tp_14_11_28 {R : Type} [Lean.Grind.CommRing R] (m : Nat → Nat → R) : sd_tp m 28 14 4 = (- 1) * m 1 3 * m 2 1 * m 3 0 := rfl
theorem sd_tp_14_11_52 {R : Type} [Lean.Grind.CommRing R] (m : Nat → Nat → R) : sd_tp m 52 14 4 = (1) * m 1 1 * m 2 3 * m 3 0 := rfl
theorem sd_tp_14_11_76 {R : Type} [Lean.Grind.CommRing R] (m : Nat → Nat → R) : sd_tp m 76 14 4 = (1) * m 1 3 * m 2 0 * m 3 1 := rfl
theorem sd_tp_14_11_112 {R : Type} [Lean.Grind.CommRing R] (m : Nat → Nat → R) : sd_tp m 112 14 4 = (- 1) * m 1 0 * m 2 3 * m 3 1 := rfl
theorem sd_tp_14_11_196 {R : Type} [Lean.Grind.CommRing R] (m : Nat → Nat → R) : sd_tp m 196 14 4 = (- 1) * m 1 1 * m 2 0 * m 3 3 := rfl
theorem sd_tp_14_11_208 {R : Type} [Lean.Grind.CommRing R] (m : Nat → Nat → R) : sd_tp m 208 14 4 = (1) * m 1 0 * m 2 1 * m 3 3 := rfl
theorem sd_dt_14_11 {R : Type} [Lean.Grind.CommRing R] (m : Nat → Nat → R) : sd_ls m 14 (sd_wl 14 11 256) = sd_det 3 m (sd_el 14) (sd_el 11) := by
  rw [sd_wl_14_11]
  have e : sd_det 3 m (sd_el 14) (sd_el 11) = sd_D3 (m 1) (m 2) (m 3) 0 1 3 := rfl
  rw [e]
  simp only [sd_ls, sd_tp_14_11_28, sd_tp_14_11_52, sd_tp_14_11_76, sd_tp_14_11_112, sd_tp_14_11_196, sd_tp_14_11_208, sd_D4, sd_D3, sd_D2]
  grind
theorem sd_wl_14_13 : sd_wl 14 13 256 = [44, 56, 140, 176, 200, 224] := by decide +kernel
theorem sd_tp_14_13_44 {R : Type} [Lean.Grind.CommRing R] (m : Nat → Nat → R) : sd_tp m 44 14 4 = (- 1) * m 1 3 * m 2 2 * m 3 0 := rfl
theorem sd_tp_14_13_56 {R : Type} [Lean.Grind.CommRing R] (m : Nat → Nat → R) : sd_tp m 56 14 4 = (1) * m 1 2 * m 2 3 * m 3 0 := rfl
theorem sd_tp_14_13_140 {R : Type} [Lean.Grind.CommRing R] (m : Nat → Nat → R) : sd_tp m 140 14 4 = (1) * m 1 3 * m 2 0 * m 3 2 := rfl
theorem sd_tp_14_13_176 {R : Type} [Lean.Grind.CommRing R] (m : Nat → Nat → R) : sd_tp m 176 14 4 = (- 1) * m 1 0 * m 2 3 * m 3 2 := rfl
theorem sd_tp_14_13_200 {R : Type} [Lean.Grind.CommRing R] (m : Nat → Nat → R) : sd_tp m 200 14 4 = (- 1) * m 1 2 * m 2 0 * m 3 3 := rfl
theorem sd_tp_14_13_224 {R : Type} [Lean.Grind.CommRing R] (m : Nat → Nat → R) : sd_tp m 224 14 4 = (1) * m 1 0 * m 2 2 * m 3 3 := rfl
theorem sd_dt_14_13 {R : Type} [Lean.Grind.CommRing R] (m : Nat → Nat → R) : sd_ls m 14 (sd_wl 14 13 256) = sd_det 3 m (sd_el 14) (sd_el 13) := by
  rw [sd_wl_14_13]
  have e : sd_det 3 m (sd_el 14) (sd_el 13) = sd_D3 (m 1) (m 2) (m 3) 0 2 3 := rfl
  rw [e]
  simp only [sd_ls, sd_tp_14_13_44, sd_tp_14_13_56, sd_tp_14_13_140, sd_tp_14_13_176, sd_tp_14_13_200, sd_tp_14_13_224, sd_D4, sd_D3, sd_D2]
  grind
theorem sd_wl_14_14 : sd_wl 14 14 256 = [108, 120, 156, 180, 216, 228] := by decide +kernel
theorem sd_tp_14_14_108 {R : Type} [Lean.Grind.CommRing R] (m : Nat → Nat → R) : sd_tp m 108 14 4 = (- 1) * m 1 3 * m 2 2 * m 3 1 := rfl
theorem sd_tp_14_14_120 {R : Type} [Lean.Grind.CommRing R] (m : Nat → Nat → R) : sd_tp m 120 14 4 = (1) * m 1 2 * m 2 3 * m 3 1 := rfl
theorem sd_tp_14_14_156 {R : Type} [Lean.Grind.CommRing R] (m : Nat → Nat → R) : sd_tp m 156 14 4 = (1) * m 1 3 * m 2 1 * m 3 2 := rfl
theorem sd_tp_14_14_180 {R : Type} [Lean.Grind.CommRing R] (m : Nat → Nat → R) : sd_tp m 180 14 4 = (- 1) * m 1 1 * m 2 3 * m 3 2 := rfl
theorem sd_tp_14_14_216 {R : Type} [Lean.Grind.CommRing R] (m : Nat → Nat → R) : sd_tp m 216 14 4 = (- 1) * m 1 2 * m 2 1 * m 3 3 := rfl
theorem sd_tp_14_14_228 {R : Type} [Lean.Grind.CommRing R] (m : Nat → Nat → R) : sd_tp m 228 14 4 = (1) * m 1 1 * m 2 2 * m 3 3 := rfl
theorem sd_dt_14_14 {R : Type} [Lean.Grind.CommRing R] (m : Nat → Nat → R) : sd_ls m 14 (sd_wl 14 14 256) = sd_det 3 m (sd_el 14) (sd_el 14) := by
  rw [sd_wl_14_14]
  have e : sd_det 3 m (sd_el 14) (sd_el 14) = sd_D3 (m 1) (m 2) (m 3) 1 2 3 := rfl
  rw [e]
  simp only [sd_ls, sd_tp_14_14_108, sd_tp_14_14_120, sd_tp_14_14_156, sd_tp_14_14_180, sd_tp_14_14_216, sd_tp_14_14_228, sd_D4, sd_D3, sd_D2]
  grind
theorem sd_wl_15_15 : sd_wl 15 15 256 = [27, 30, 39, 45, 54, 57, 75, 78, 99, 108, 114, 120, 135, 141, 147, 156, 177, 180, 198, 201, 210, 216, 225, 228] := by decide +kernel
theorem sd_tp_15_15_27 {R : Type} [Lean.Grind.CommRing R] (m : Nat → Nat → R) : sd_tp m 27 15 4 = (1) * m 0 3 * m 1 2 * m 2 1 * m 3 0 := rfl
theorem sd_tp_15_15_30 {R : Type} [Lean.Grind.CommRing R] (m : Nat → Nat → R) : sd_tp m 30 15 4 = (- 1) * m 0 2 * m 1 3 * m 2 1 * m 3 0 := rfl
theorem sd_tp_15_15_39 {R : Type} [Lean.Grind.CommRing R] (m : Nat → Nat → R) : sd_tp m 39 15 4 = (- 1) * m 0 3 * m 1 1 * m 2 2 * m 3 0 := rfl
theorem sd_tp_15_15_45 {R : Type} [Lean.Grind.CommRing R] (m : Nat → Nat → R) : sd_tp m 45 15 4 = (1) * m 0 1 * m 1 3 * m 2 2 * m 3 0 := rfl
theorem sd_tp_15_15_54 {R : Type} [Lean.Grind.CommRing R] (m : Nat → Nat → R) : sd_tp m 54 15 4 = (1) * m 0 2 * m 1 1 * m 2 3 * m 3 0 := rfl
theorem sd_tp_15_15_57 {R : Type} [Lean.Grind.CommRing R] (m : Nat → Nat → R) : sd_tp m 57 15 4 = (- 1) * m 0 1 * m 1 2 * m 2 3 * m 3 0 := rfl
theorem sd_tp_15_15_75 {R : Type} [Lean.Grind.CommRing R] (m : Nat → Nat → R) : sd_tp m 75 15 4 = (- 1) * m 0 3 * m 1 2 * m 2 0 * m 3 1 := rfl
theorem sd_tp_15_15_78 {R : Type} [Lean.Grind.CommRing R] (m : Nat → Nat → R) : sd_tp m 78 15 4 = (1) * m 0 2 * m 1 3 * m 2 0 * m 3 1 := rfl
theorem sd_tp_15_15_99 {R : Type} [Lean.Grind.CommRing R] (m : Nat → Nat → R) : sd_tp m 99 15 4 = (1) * m 0 3 * m 1 0 * m 2 2 * m 3 1 := rfl
theorem sd_tp_15_15_108 {R : Type} [Lean.Grind.CommRing R] (m : Nat → Nat → R) : sd_tp m 108 15 4 = (- 1) * m 0 0 * m 1 3 * m 2 2 * m 3 1 := rfl
theorem sd_tp_15_15_114 {R : Type} [Lean.Grind.CommRing R] (m : Nat → Nat → R) : sd_tp m 114 15 4 = (- 1) * m 0 2 * m 1 0 * m 2 3 * m 3 1 := rfl
theorem sd_tp_15_15_120 {R : Type} [Lean.Grind.CommRing R] (m : Nat → Nat → R) : sd_tp m 120 15 4 = (1) * m 0 0 * m 1 2 * m 2 3 * m 3 1 := rfl
theorem sd_tp_15_15_135 {R : Type} [Lean.Grind.CommRing R] (m : Nat → Nat → R) : sd_tp m 135 15 4 = (1) * m 0 3 * m 1 1 * m 2 0 * m 3 2 := rfl
theorem sd_tp_15_15_141 {R : Type} [Lean.Grind.CommRing R] (m : Nat → Nat → R) : sd_tp m 141 15 4 = (- 1) * m 0 1 * m 1 3 * m 2 0 * m 3 2 := rfl
theorem sd_tp_15_15_147 {R : Type} [Lean.Grind.CommRing R] (m : Nat → Nat → R) : sd_tp m 147 15 4 = (- 1) * m 0 3 * m 1 0 * m 2 1 * m 3 2 := rfl
theorem sd_tp_15_15_156 {R : Type} [Lean.Grind.CommRing R] (m : Nat → Nat → R) : sd_tp m 156 15 4 = (1) * m 0 0 * m 1 3 * m 2 1 * m 3 2 := rfl
theorem sd_tp_15_15_177 {R : Type} [Lean.Grind.CommRing R] (m : Nat → Nat → R) : sd_tp m 177 15 4 = (1) * m 0 1 * m 1 0 * m 2 3 * m 3 2 := rfl
theorem sd_tp_15_15_180 {R : Type} [Lean.Grind.CommRing R] (m : Nat → Nat → R) : sd_tp m 180 15 4 = (- 1) * m 0 0 * m 1 1 * m 2 3 * m 3 2 := rfl
theorem sd_tp_15_15_198 {R : Type} [Lean.Grind.CommRing R] (m : Nat → Nat → R) : sd_tp m 198 15 4 = (- 1) * m 0 2 * m 1 1 * m 2 0 * m 3 3 := rfl
theorem sd_tp_15_15_201 {R : Type} [Lean.Grind.CommRing R] (m : Nat → Nat → R) : sd_tp m 201 15 4 = (1) * m 0 1 * m 1 2 * m 2 0 * m 3 3 := rfl
theorem sd_tp_15_15_210 {R : Type} [Lean.Grind.CommRing R] (m : Nat → Nat → R) : sd_tp m 210 15 4 = (1) * m 0 2 * m 1 0 * m 2 1 * m 3 3 := rfl
theorem sd_tp_15_15_216 {R : Type} [Lean.Grind.CommRing R] (m : Nat → Nat → R) : sd_tp m 216 15 4 = (- 1) * m 0 0 * m 1 2 * m 2 1 * m 3 3 := rfl
theorem sd_tp_15_15_225 {R : Type} [Lean.Grind.CommRing R] (m : Nat → Nat → R) : sd_tp m 225 15 4 = (- 1) * m 0 1 * m 1 0 * m 2 2 * m 3 3 := rfl
theorem sd_tp_15_15_228 {R : Type} [Lean.Grind.CommRing R] (m : Nat → Nat → R) : sd_tp m 228 15 4 = (1) * m 0 0 * m 1 1 * m 2 2 * m 3 3 := rfl
theorem sd_dt_15_15 {R : Type} [Lean.Grind.CommRing R] (m : Nat → Nat → R) : sd_ls m 15 (sd_wl 15 15 256) = sd_det 4 m (sd_el 15) (sd_el 15) := by
  rw [sd_wl_15_15]
  have e : sd_det 4 m (sd_el 15) (sd_el 15) = sd_D4 (m 0) (m 1) (m 2) (m 3) 0 1 2 3 := rfl
  rw [e]
  simp only [sd_ls, sd_tp_15_15_27, sd_tp_15_15_30, sd_tp_15_15_39, sd_tp_15_15_45, sd_tp_15_15_54, sd_tp_15_15_57, sd_tp_15_15_75, sd_tp_15_15_78, sd_tp_15_15_99, sd_tp_15_15_108, sd_tp_15_15_114, sd_tp_15_15_120, sd_tp_15_15_135, sd_tp_15_15_141, sd_tp_15_15_147, sd_tp_15_15_156, sd_tp_15_15_177, sd_tp_15_15_180, sd_tp_15_15_198, sd_tp_15_15_201, sd_tp_15_15_210, sd_tp_15_15_216, sd_tp_15_15_225, sd_tp_15_15_228, sd_D4, sd_D3, sd_D2]
  grind
theorem sd_dS_1 {R : Type} [Lean.Grind.CommRing R] (m : Nat → Nat → R) (T : Nat) (hT : T < 16) (h : sd_sz T = 1) : sd_ls m 1 (sd_wl 1 T 256) = sd_det 1 m (sd_el 1) (sd_el T) := by
  have c : T = 0 ∨ T = 1 ∨ T = 2 ∨ T = 3 ∨ T = 4 ∨ T = 5 ∨ T = 6 ∨ T = 7 ∨ T = 8 ∨ T = 9 ∨ T = 10 ∨ T = 11 ∨ T = 12 ∨ T = 13 ∨ T = 14 ∨ T = 15 := by omega
  rcases c with rfl | rfl | rfl | rfl | rfl | rfl | rfl | rfl | rfl | rfl | rfl | rfl | rfl | rfl | rfl | rfl
  · exact absurd h (by decide)
  · exact sd_dt_1_1 m
  · exact sd_dt_1_2 m
  · exact absurd h (by decide)
  · exact sd_dt_1_4 m
  · exact absurd h (by decide)
  · exact absurd h (by decide)
  · exact absurd h (by decide)
  · exact sd_dt_1_8 m
  · exact absurd h (by decide)
  · exact absurd h (by decide)
  · exact absurd h (by decide)
  · exact absurd h (by decide)
  · exact absurd h (by decide)
  · exact absurd h (by decide)
  · exact absurd h (by decide)
theorem sd_dS_2 {R : Type} [Lean.Grind.CommRing R] (m : Nat → Nat → R) (T : Nat) (hT : T < 16) (h : sd_sz T = 1) : sd_ls m 2 (sd_wl 2 T 256) = sd_det 1 m (sd_el 2) (sd_el T) := by
  have c : T = 0 ∨ T = 1 ∨ T = 2 ∨ T = 3 ∨ T = 4 ∨ T = 5 ∨ T = 6 ∨ T = 7 ∨ T = 8 ∨ T = 9 ∨ T = 10 ∨ T = 11 ∨ T = 12 ∨ T = 13 ∨ T = 14 ∨ T = 15 := by omega
  rcases c with rfl | rfl | rfl | rfl | rfl | rfl | rfl | rfl | rfl | rfl | rfl | rfl | rfl | rfl | rfl | rfl
  · exact absurd h (by decide)
  · exact sd_dt_2_1 m
  · exact sd_dt_2_2 m
  · exact absurd h (by decide)
  · exact sd_dt_2_4 m
  · exact absurd h (by decide)
  · exact absurd h (by decide)
  · exact absurd h (by decide)
  · exact sd_dt_2_8 m
  · exact absurd h (by decide)
  · exact absurd h (by decide)
  · exact absurd h (by decide)
  · exact absurd h (by decide)
  · exact absurd h (by decide)
  · exact absurd h (by decide)
  · exact absurd h (by decide)
theorem sd_dS_3 {R : Type} [Lean.Grind.CommRing R] (m : Nat → Nat → R) (T : Nat) (hT : T < 16) (h : sd_sz T = 2) : sd_ls m 3 (sd_wl 3 T 256) = sd_det 2 m (sd_el 3) (sd_el T) := by
  have c : T = 0 ∨ T = 1 ∨ T = 2 ∨ T = 3 ∨ T = 4 ∨ T = 5 ∨ T = 6 ∨ T = 7 ∨ T = 8 ∨ T = 9 ∨ T = 10 ∨ T = 11 ∨ T = 12 ∨ T = 13 ∨ T = 14 ∨ T = 15 := by omega
  rcases c with rfl | rfl | rfl | rfl | rfl | rfl | rfl | rfl | rfl | rfl | rfl | rfl | rfl | rfl | rfl | rfl
  · exact absurd h (by decide)
  · exact absurd h (by decide)
  · exact absurd h (by decide)
  · exact sd_dt_3_3 m
  · exact absurd h (by decide)
  · exact sd_dt_3_5 m
  · exact sd_dt_3_6 m
  · exact absurd h (by decide)
  · exact absurd h (by decide)
  · exact sd_dt_3_9 m
  · exact sd_dt_3_10 m
  · exact absurd h (by decide)
  · exact sd_dt_3_12 m
  · exact absurd h (by decide)
  · exact absurd h (by decide)
  · exact absurd h (by decide)
theorem sd_dS_4 {R : Type} [Lean.Grind.CommRing R] (m : Nat → Nat → R) (T : Nat) (hT : T < 16) (h : sd_sz T = 1) : sd_ls m 4 (sd_wl 4 T 256) = sd_det 1 m (sd_el 4) (sd_el T) := by
  have c : T = 0 ∨ T = 1 ∨ T = 2 ∨ T = 3 ∨ T = 4 ∨ T = 5 ∨ T = 6 ∨ T = 7 ∨ T = 8 ∨ T = 9 ∨ T = 10 ∨ T = 11 ∨ T = 12 ∨ T = 13 ∨ T = 14 ∨ T = 15 := by omega
  rcases c with rfl | rfl | rfl | rfl | rfl | rfl | rfl | rfl | rfl | rfl | rfl | rfl | rfl | rfl | rfl | rfl
  · exact absurd h (by decide)
  · exact sd_dt_4_1 m
  · exact sd_dt_4_2 m
  · exact absurd h (by decide)
  · exact sd_dt_4_4 m
  · exact absurd h (by decide)
  · exact absurd h (by decide)
  · exact absurd h (by decide)
  · exact sd_dt_4_8 m
  · exact absurd h (by decide)
  · exact absurd h (by decide)
  · exact absurd h (by decide)
  · exact absurd h (by decide)
  · exact absurd h (by decide)
  · exact absurd h (by decide)
  · exact absurd h (by decide)
theorem sd_dS_5 {R : Type} [Lean.Grind.CommRing R] (m : Nat → Nat → R) (T : Nat) (hT : T < 16) (h : sd_sz T = 2) : sd_ls m 5 (sd_wl 5 T 256) = sd_det 2 m (sd_el 5) (sd_el T) := by
  have c : T = 0 ∨ T = 1 ∨ T = 2 ∨ T = 3 ∨ T = 4 ∨ T = 5 ∨ T = 6 ∨ T = 7 ∨ T = 8 ∨ T = 9 ∨ T = 10 ∨ T = 11 ∨ T = 12 ∨ T = 13 ∨ T = 14 ∨ T = 15 := by omega
  rcases c with rfl | rfl | rfl | rfl | rfl | rfl | rfl | rfl | rfl | rfl | rfl | rfl | rfl | rfl | rfl | rfl
  · exact absurd h (by decide)
  · exact absurd h (by decide)
  · exact absurd h (by decide)
  · exact sd_dt_5_3 m
  · exact absurd h (by decide)
  · exact sd_dt_5_5 m
  · exact sd_dt_5_6 m
  · exact absurd h (by decide)
  · exact absurd h (by decide)
  · exact sd_dt_5_9 m
  · exact sd_dt_5_10 m
  · exact absurd h (by decide)
  · exact sd_dt_5_12 m
  · exact absurd h (by decide)
  · exact absurd h (by decide)
  · exact absurd h (by decide)
theorem sd_dS_6 {R : Type} [Lean.Grind.CommRing R] (m : Nat → Nat → R) (T : Nat) (hT : T < 16) (h : sd_sz T = 2) : sd_ls m 6 (sd_wl 6 T 256) = sd_det 2 m (sd_el 6) (sd_el T) := by
  have c : T = 0 ∨ T = 1 ∨ T = 2 ∨ T = 3 ∨ T = 4 ∨ T = 5 ∨ T = 6 ∨ T = 7 ∨ T = 8 ∨ T = 9 ∨ T = 10 ∨ T = 11 ∨ T = 12 ∨ T = 13 ∨ T = 14 ∨ T = 15 := by omega
  rcases c with rfl | rfl | rfl | rfl | rfl | rfl | rfl | rfl | rfl | rfl | rfl | rfl | rfl | rfl | rfl | rfl
  · exact absurd h (by decide)
  · exact absurd h (by decide)
  · exact absurd h (by decide)
  · exact sd_dt_6_3 m
  · exact absurd h (by decide)
  · exact sd_dt_6_5 m
  · exact sd_dt_6_6 m
  · exact absurd h (by decide)
  · exact absurd h (by decide)
  · exact sd_dt_6_9 m
  · exact sd_dt_6_10 m
  · exact absurd h (by decide)
  · exact sd_dt_6_12 m
  · exact absurd h (by decide)
  · exact absurd h (by decide)
  · exact absurd h (by decide)
theorem sd_dS_7 {R : Type} [Lean.Grind.CommRing R] (m : Nat → Nat → R) (T : Nat) (hT : T < 16) (h : sd_sz T = 3) : sd_ls m 7 (sd_wl 7 T 256) = sd_det 3 m (sd_el 7) (sd_el T) := by
  have c : T = 0 ∨ T = 1 ∨ T = 2 ∨ T = 3 ∨ T = 4 ∨ T = 5 ∨ T = 6 ∨ T = 7 ∨ T = 8 ∨ T = 9 ∨ T = 10 ∨ T = 11 ∨ T = 12 ∨ T = 13 ∨ T = 14 ∨ T = 15 := by omega
  rcases c with rfl | rfl | rfl | rfl | rfl | rfl | rfl | rfl | rfl | rfl | rfl | rfl | rfl | rfl | rfl | rfl
  · exact absurd h (by decide)
  · exact absurd h (by decide)
  · exact absurd h (by decide)
  · exact absurd h (by decide)
  · exact absurd h (by decide)
  · exact absurd h (by decide)
  · exact absurd h (by decide)
  · exact sd_dt_7_7 m
  · exact absurd h (by decide)
  · exact absurd h (by decide)
  · exact absurd h (by decide)
  · exact sd_dt_7_11 m
  · exact absurd h (by decide)
  · exact sd_dt_7_13 m
  · exact sd_dt_7_14 m
  · exact absurd h (by decide)
theorem sd_dS_8 {R : Type} [Lean.Grind.CommRing R] (m : Nat → Nat → R) (T : Nat) (hT : T < 16) (h : sd_sz T = 1) : sd_ls m 8 (sd_wl 8 T 256) = sd_det 1 m (sd_el 8) (sd_el T) := by
  have c : T = 0 ∨ T = 1 ∨ T = 2 ∨ T = 3 ∨ T = 4 ∨ T = 5 ∨ T = 6 ∨ T = 7 ∨ T = 8 ∨ T = 9 ∨ T = 10 ∨ T = 11 ∨ T = 12 ∨ T = 13 ∨ T = 14 ∨ T = 15 := by omega
  rcases c with rfl | rfl | rfl | rfl | rfl | rfl | rfl | rfl | rfl | rfl | rfl | rfl | rfl | rfl | rfl | rfl
  · exact absurd h (by decide)
  · exact sd_dt_8_1 m
  · exact sd_dt_8_2 m
  · exact absurd h (by decide)
  · exact sd_dt_8_4 m
  · exact absurd h (by decide)
  · exact absurd h (by decide)
  · exact absurd h (by decide)
  · exact sd_dt_8_8 m
  · exact absurd h (by decide)
  · exact absurd h (by decide)
  · exact absurd h (by decide)
  · exact absurd h (by decide)
  · exact absurd h (by decide)
  · exact absurd h (by decide)
  · exact absurd h (by decide)
theorem sd_dS_9 {R : Type} [Lean.Grind.CommRing R] (m : Nat → Nat → R) (T : Nat) (hT : T < 16) (h : sd_sz T = 2) : sd_ls m 9 (sd_wl 9 T 256) = sd_det 2 m (sd_el 9) (sd_el T) := by
  have c : T = 0 ∨ T = 1 ∨ T = 2 ∨ T = 3 ∨ T = 4 ∨ T = 5 ∨ T = 6 ∨ T = 7 ∨ T = 8 ∨ T = 9 ∨ T = 10 ∨ T = 11 ∨ T = 12 ∨ T = 13 ∨ T = 14 ∨ T = 15 := by omega
  rcases c with rfl | rfl | rfl | rfl | rfl | rfl | rfl | rfl | rfl | rfl | rfl | rfl | rfl | rfl | rfl | rfl
  · exact absurd h (by decide)
  · exact absurd h (by decide)
  · exact absurd h (by decide)
  · exact sd_dt_9_3 m
  · exact absurd h (by decide)
  · exact sd_dt_9_5 m
  · exact sd_dt_9_6 m
  · exact absurd h (by decide)
  · exact absurd h (by decide)
  · exact sd_dt_9_9 m
  · exact sd_dt_9_10 m
  · exact absurd h (by decide)
  · exact sd_dt_9_12 m
  · exact absurd h (by decide)
  · exact absurd h (by decide)
  · exact absurd h (by decide)
theorem sd_dS_10 {R : Type} [Lean.Grind.CommRing R] (m : Nat → Nat → R) (T : Nat) (hT : T < 16) (h : sd_sz T = 2) : sd_ls m 10 (sd_wl 10 T 256) = sd_det 2 m (sd_el 10) (sd_el T) := by
  have c : T = 0 ∨ T = 1 ∨ T = 2 ∨ T = 3 ∨ T = 4 ∨ T = 5 ∨ T = 6 ∨ T = 7 ∨ T = 8 ∨ T = 9 ∨ T = 10 ∨ T = 11 ∨ T = 12 ∨ T = 13 ∨ T = 14 ∨ T = 15 := by omega
  rcases c with rfl | rfl | rfl | rfl | rfl | rfl | rfl | rfl | rfl | rfl | rfl | rfl | rfl | rfl | rfl | rfl
  · exact absurd h (by decide)
  · exact absurd h (by decide)
  · exact absurd h (by decide)
  · exact sd_dt_10_3 m
  · exact absurd h (by decide)
  · exact sd_dt_10_5 m
  · exact sd_dt_10_6 m
  · exact absurd h (by decide)
  · exact absurd h (by decide)
  · exact sd_dt_10_9 m
  · exact sd_dt_10_10 m
  · exact absurd h (by decide)
  · exact sd_dt_10_12 m
  · exact absurd h (by decide)
  · exact absurd h (by decide)
  · exact absurd h (by decide)
theorem sd_dS_11 {R : Type} [Lean.Grind.CommRing R] (m : Nat → Nat → R) (T : Nat) (hT : T < 16) (h : sd_sz T = 3) : sd_ls m 11 (sd_wl 11 T 256) = sd_det 3 m (sd_el 11) (sd_el T) := by
  have c : T = 0 ∨ T = 1 ∨ T = 2 ∨ T = 3 ∨ T = 4 ∨ T = 5 ∨ T = 6 ∨ T = 7 ∨ T = 8 ∨ T = 9 ∨ T = 10 ∨ T = 11 ∨ T = 12 ∨ T = 13 ∨ T = 14 ∨ T = 15 := by omega
  rcases c with rfl | rfl | rfl | rfl | rfl | rfl | rfl | rfl | rfl | rfl | rfl | rfl | rfl | rfl | rfl | rfl
  · exact absurd h (by decide)
  · exact absurd h (by decide)
  · exact absurd h (by decide)
  · exact absurd h (by decide)
  · exact absurd h (by decide)
  · exact absurd h (by decide)
  · exact absurd h (by decide)
  · exact sd_dt_11_7 m
  · exact absurd h (by decide)
  · exact absurd h (by decide)
  · exact absurd h (by decide)
  · exact sd_dt_11_11 m
  · exact absurd h (by decide)
  · exact sd_dt_11_13 m
  · exact sd_dt_11_14 m
  · exact absurd h (by decide)
theorem sd_dS_12 {R : Type} [Lean.Grind.CommRing R] (m : Nat → Nat → R) (T : Nat) (hT : T < 16) (h : sd_sz T = 2) : sd_ls m 12 (sd_wl 12 T 256) = sd_det 2 m (sd_el 12) (sd_el T) := by
  have c : T = 0 ∨ T = 1 ∨ T = 2 ∨ T = 3 ∨ T = 4 ∨ T = 5 ∨ T = 6 ∨ T = 7 ∨ T = 8 ∨ T = 9 ∨ T = 10 ∨ T = 11 ∨ T = 12 ∨ T = 13 ∨ T = 14 ∨ T = 15 := by omega
  rcases c with rfl | rfl | rfl | rfl | rfl | rfl | rfl | rfl | rfl | rfl | rfl | rfl | rfl | rfl | rfl | rfl
  · exact absurd h (by decide)
  · exact absurd h (by decide)
  · exact absurd h (by decide)
  · exact sd_dt_12_3 m
  · exact absurd h (by decide)
  · exact sd_dt_12_5 m
  · exact sd_dt_12_6 m
  · exact absurd h (by decide)
  · exact absurd h (by decide)
  · exact sd_dt_12_9 m
  · exact sd_dt_12_10 m
  · exact absurd h (by decide)
  · exact sd_dt_12_12 m
  · exact absurd h (by decide)
  · exact absurd h (by decide)
  · exact absurd h (by decide)
theorem sd_dS_13 {R : Type} [Lean.Grind.CommRing R] (m : Nat → Nat → R) (T : Nat) (hT : T < 16) (h : sd_sz T = 3) : sd_ls m 13 (sd_wl 13 T 256) = sd_det 3 m (sd_el 13) (sd_el T) := by
  have c : T = 0 ∨ T = 1 ∨ T = 2 ∨ T = 3 ∨ T = 4 ∨ T = 5 ∨ T = 6 ∨ T = 7 ∨ T = 8 ∨ T = 9 ∨ T = 10 ∨ T = 11 ∨ T = 12 ∨ T = 13 ∨ T = 14 ∨ T = 15 := by omega
  rcases c with rfl | rfl | rfl | rfl | rfl | rfl | rfl | rfl | rfl | rfl | rfl | rfl | rfl | rfl | rfl | rfl
  · exact absurd h (by decide)
  · exact absurd h (by decide)
  · exact absurd h (by decide)
  · exact absurd h (by decide)
  · exact absurd h (by decide)
  · exact absurd h (by decide)
  · exact absurd h (by decide)
  · exact sd_dt_13_7 m
  · exact absurd h (by decide)
  · exact absurd h (by decide)
  · exact absurd h (by decide)
  · exact sd_dt_13_11 m
  · exact absurd h (by decide)
  · exact sd_dt_13_13 m
  · exact sd_dt_13_14 m
  · exact absurd h (by decide)
theorem sd_dS_14 {R : Type} [Lean.Grind.CommRing R] (m : Nat → Nat → R) (T : Nat) (hT : T < 16) (h : sd_sz T = 3) : sd_ls m 14 (sd_wl 14 T 256) = sd_det 3 m (sd_el 14) (sd_el T) := by
  have c : T = 0 ∨ T = 1 ∨ T = 2 ∨ T = 3 ∨ T = 4 ∨ T = 5 ∨ T = 6 ∨ T = 7 ∨ T = 8 ∨ T = 9 ∨ T = 10 ∨ T = 11 ∨ T = 12 ∨ T = 13 ∨ T = 14 ∨ T = 15 := by omega
  rcases c with rfl | rfl | rfl | rfl | rfl | rfl | rfl | rfl | rfl | rfl | rfl | rfl | rfl | rfl | rfl | rfl
  · exact absurd h (by decide)
  · exact absurd h (by decide)
  · exact absurd h (by decide)
  · exact absurd h (by decide)
  · exact absurd h (by decide)
  · exact absurd h (by decide)
  · exact absurd h (by decide)
  · exact sd_dt_14_7 m
  · exact absurd h (by decide)
  · exact absurd h (by decide)
  · exact absurd h (by decide)
  · exact sd_dt_14_11 m
  · exact absurd h (by decide)
  · exact sd_dt_14_13 m
  · exact sd_dt_14_14 m
  · exact absurd h (by decide)
theorem sd_dS_15 {R : Type} [Lean.Grind.CommRing R] (m : Nat → Nat → R) (T : Nat) (hT : T < 16) (h : sd_sz T = 4) : sd_ls m 15 (sd_wl 15 T 256) = sd_det 4 m (sd_el 15) (sd_el T) := by
  have c : T = 0 ∨ T = 1 ∨ T = 2 ∨ T = 3 ∨ T = 4 ∨ T = 5 ∨ T = 6 ∨ T = 7 ∨ T = 8 ∨ T = 9 ∨ T = 10 ∨ T = 11 ∨ T = 12 ∨ T = 13 ∨ T = 14 ∨ T = 15 := by omega
  rcases c with rfl | rfl | rfl | rfl | rfl | rfl | rfl | rfl | rfl | rfl | rfl | rfl | rfl | rfl | rfl | rfl
  · exact absurd h (by decide)
  · exact absurd h (by decide)
  · exact absurd h (by decide)
  · exact absurd h (by decide)
  · exact absurd h (by decide)
  · exact absurd h (by decide)
  · exact absurd h (by decide)
  · exact absurd h (by decide)
  · exact absurd h (by decide)
  · exact absurd h (by decide)
  · exact absurd h (by decide)
  · exact absurd h (by decide)
  · exact absurd h (by decide)
  · exact absurd h (by decide)
  · exact absurd h (by decide)
  · exact sd_dt_15_15 m
theorem sd_ways {R : Type} [Lean.Grind.CommRing R] (m : Nat → Nat → R) (S T k : Nat) (hS : S < 16) (hT : T < 16) (hk : 1 ≤ k) (h1 : sd_sz S = k) (h2 : sd_sz T = k) : sd_ls m S (sd_wl S T 256) = sd_det k m (sd_el S) (sd_el T) := by
  subst h1
  have c : S = 0 ∨ S = 1 ∨ S = 2 ∨ S = 3 ∨ S = 4 ∨ S = 5 ∨ S = 6 ∨ S = 7 ∨ S = 8 ∨ S = 9 ∨ S = 10 ∨ S = 11 ∨ S = 12 ∨ S = 13 ∨ S = 14 ∨ S = 15 := by omega
  rcases c with rfl | rfl | rfl | rfl | rfl | rfl | rfl | rfl | rfl | rfl | rfl | rfl | rfl | rfl | rfl | rfl
  · exact absurd hk (by decide)
  · exact sd_dS_1 m T hT h2
  · exact sd_dS_2 m T hT h2
  · exact sd_dS_3 m T hT h2
  · exact sd_dS_4 m T hT h2
  · exact sd_dS_5 m T hT h2
  · exact sd_dS_6 m T hT h2
  · exact sd_dS_7 m T hT h2
  · exact sd_dS_8 m T hT h2
  · exact sd_dS_9 m T hT h2
  · exact sd_dS_10 m T hT h2
  · exact sd_dS_11 m T hT h2
  · exact sd_dS_12 m T hT h2
  · exact sd_dS_13 m T hT h2
  · exact sd_dS_14 m T hT h2
  · exact sd_dS_15 m T hT h2
theorem sd_el_a : ∀ n, n < 5 → ∀ S, S < 16 → S < 2 ^ n → 1 ≤ n → ∀ t, t < 4 → sd_el S t < n := by decide +kernel
theorem sd_el_b : ∀ S, S < 16 → ∀ t, t < 4 → t + 1 < sd_sz S → sd_el S t < sd_el S (t + 1) := by decide +kernel
theorem sd_el_c : ∀ n, n < 5 → ∀ S, S < 16 → S < 2 ^ n → sd_sz S ≤ n := by decide +kernel
theorem sd_p16 {n S : Nat} (h4 : n ≤ 4) (hS : S < 2 ^ n) : S < 16 := by
  have : 2 ^ n ≤ 2 ^ 4 := Nat.pow_le_pow_right (by omega) h4
  omega
theorem sd_el_d (S t : Nat) (h : 4 ≤ t) : sd_el S t = 0 := by
  unfold sd_el
  rw [List.getD_eq_getElem?_getD, List.getElem?_eq_none]
  · rfl
  · refine Nat.le_trans (List.length_filter_le _ _) ?_
    rw [List.length_range]; exact h
theorem sd_el_lt {n S : Nat} (h1 : 1 ≤ n) (h4 : n ≤ 4) (hS : S < 2 ^ n) (t : Nat) : sd_el S t < n := by
  by_cases h : t < 4
  · exact sd_el_a n (by omega) S (sd_p16 h4 hS) hS h1 t h
  · rw [sd_el_d S t (by omega)]; omega
theorem sd_el_so {n S : Nat} (h1 : 1 ≤ n) (h4 : n ≤ 4) (hS : S < 2 ^ n) : sd_so (sd_sz S) (sd_el S) := by
  have h' := sd_el_c n (by omega) S (sd_p16 h4 hS) hS
  intro t ht
  exact sd_el_b S (sd_p16 h4 hS) t (by omega) ht
theorem sd_el_ex {n k : Nat} (h4 : n ≤ 4) (h1 : 1 ≤ k) (hk : k ≤ n) {a : Nat → Nat} (ha : ∀ t, a t < n) (sa : sd_so k a) : ∃ S, S < 2 ^ n ∧ sd_sz S = k ∧ ∀ t, t < k → sd_el S t = a t := by
  have a0 := ha 0
  have a1 := ha 1
  have a2 := ha 2
  have a3 := ha 3
  have s0 := sa 0
  have s1 := sa 1
  have s2 := sa 2
  simp only [Nat.zero_add, Nat.reduceAdd] at s0 s1 s2
  have cn : n = 1 ∨ n = 2 ∨ n = 3 ∨ n = 4 := by omega
  rcases cn with rfl | rfl | rfl | rfl
  · have ck : k = 1 := by omega
    subst ck
    have ca : (a 0 = 0) := by omega
    have e0 := ca
    refine ⟨1, by decide, by decide, ?_⟩
    intro t ht
    have ct : t = 0 := by omega
    subst ct
    exact e0.symm
  · have ck : k = 1 ∨ k = 2 := by omega
    rcases ck with rfl | rfl
    · have ca : (a 0 = 0) ∨ (a 0 = 1) := by omega
      rcases ca with e0 | e0
      · refine ⟨1, by decide, by decide, ?_⟩
        intro t ht
        have ct : t = 0 := by omega
        subst ct
        exact e0.symm
      · refine ⟨2, by decide, by decide, ?_⟩
        intro t ht
        have ct : t = 0 := by omega
        subst ct
        exact e0.symm
    · have ca : (a 0 = 0 ∧ a 1 = 1) := by omega
      obtain ⟨e0, e1⟩ := ca
      refine ⟨3, by decide, by decide, ?_⟩
      intro t ht
      have ct : t = 0 ∨ t = 1 := by omega
      rcases ct with rfl | rfl
      · exact e0.symm
      · exact e1.symm
  · have ck : k = 1 ∨ k = 2 ∨ k = 3 := by omega
    rcases ck with rfl | rfl | rfl
    · have ca : (a 0 = 0) ∨ (a 0 = 1) ∨ (a 0 = 2) := by omega
      rcases ca with e0 | e0 | e0
      · refine ⟨1, by decide, by decide, ?_⟩
        intro t ht
        have ct : t = 0 := by omega
        subst ct
        exact e0.symm
      · refine ⟨2, by decide, by decide, ?_⟩
        intro t ht
        have ct : t = 0 := by omega
        subst ct
        exact e0.symm
      · refine ⟨4, by decide, by decide, ?_⟩
        intro t ht
        have ct : t = 0 := by omega
        subst ct
        exact e0.symm
    · have ca : (a 0 = 0 ∧ a 1 = 1) ∨ (a 0 = 0 ∧ a 1 = 2) ∨ (a 0 = 1 ∧ a 1 = 2) := by omega
      rcases ca with ⟨e0, e1⟩ | ⟨e0, e1⟩ | ⟨e0, e1⟩
      · refine ⟨3, by decide, by decide, ?_⟩
        intro t ht
        have ct : t = 0 ∨ t = 1 := by omega
        rcases ct with rfl | rfl
        · exact e0.symm
        · exact e1.symm
      · refine ⟨5, by decide, by decide, ?_⟩
        intro t ht
        have ct : t = 0 ∨ t = 1 := by omega
        rcases ct with rfl | rfl
        · exact e0.symm
        · exact e1.symm
      · refine ⟨6, by decide, by decide, ?_⟩
        intro t ht
        have ct : t = 0 ∨ t = 1 := by omega
        rcases ct with rfl | rfl
        · exact e0.symm
        · exact e1.symm
    · have ca : (a 0 = 0 ∧ a 1 = 1 ∧ a 2 = 2) := by omega
      obtain ⟨e0, e1, e2⟩ := ca
      refine ⟨7, by decide, by decide, ?_⟩
      intro t ht
      have ct : t = 0 ∨ t = 1 ∨ t = 2 := by omega
      rcases ct with rfl | rfl | rfl
      · exact e0.symm
      · exact e1.symm
      · exact e2.symm
  · have ck : k = 1 ∨ k = 2 ∨ k = 3 ∨ k = 4 := by omega
    rcases ck with rfl | rfl | rfl | rfl
    · have ca : (a 0 = 0) ∨ (a 0 = 1) ∨ (a 0 = 2) ∨ (a 0 = 3) := by omega
      rcases ca with e0 | e0 | e0 | e0
      · refine ⟨1, by decide, by decide, ?_⟩
        intro t ht
        have ct : t = 0 := by omega
        subst ct
        exact e0.symm
      · refine ⟨2, by decide, by decide, ?_⟩
        intro t ht
        have ct : t = 0 := by omega
        subst ct
        exact e0.symm
      · refine ⟨4, by decide, by decide, ?_⟩
        intro t ht
        have ct : t = 0 := by omega
        subst ct
        exact e0.symm
      · refine ⟨8, by decide, by decide, ?_⟩
        intro t ht
        have ct : t = 0 := by omega
        subst ct
        exact e0.symm
    · have ca : (a 0 = 0 ∧ a 1 = 1) ∨ (a 0 = 0 ∧ a 1 = 2) ∨ (a 0 = 0 ∧ a 1 = 3) ∨ (a 0 = 1 ∧ a 1 = 2) ∨ (a 0 = 1 ∧ a 1 = 3) ∨ (a 0 = 2 ∧ a 1 = 3) := by omega
      rcases ca with ⟨e0, e1⟩ | ⟨e0, e1⟩ | ⟨e0, e1⟩ | ⟨e0, e1⟩ | ⟨e0, e1⟩ | ⟨e0, e1⟩
      · refine ⟨3, by decide, by decide, ?_⟩
        intro t ht
        have ct : t = 0 ∨ t = 1 := by omega
        rcases ct with rfl | rfl
        · exact e0.symm
        · exact e1.symm
      · refine ⟨5, by decide, by decide, ?_⟩
        intro t ht
        have ct : t = 0 ∨ t = 1 := by omega
        rcases ct with rfl | rfl
        · exact e0.symm
        · exact e1.symm
      · refine ⟨9, by decide, by decide, ?_⟩
        intro t ht
        have ct : t = 0 ∨ t = 1 := by omega
        rcases ct with rfl | rfl
        · exact e0.symm
        · exact e1.symm
      · refine ⟨6, by decide, by decide, ?_⟩
        intro t ht
        have ct : t = 0 ∨ t = 1 := by omega
        rcases ct with rfl | rfl
        · exact e0.symm
        · exact e1.symm
      · refine ⟨10, by decide, by decide, ?_⟩
        intro t ht
        have ct : t = 0 ∨ t = 1 := by omega
        rcases ct with rfl | rfl
        · exact e0.symm
        · exact e1.symm
      · refine ⟨12, by decide, by decide, ?_⟩
        intro t ht
        have ct : t = 0 ∨ t = 1 := by omega
        rcases ct with rfl | rfl
        · exact e0.symm
        · exact e1.symm
    · have ca : (a 0 = 0 ∧ a 1 = 1 ∧ a 2 = 2) ∨ (a 0 = 0 ∧ a 1 = 1 ∧ a 2 = 3) ∨ (a 0 = 0 ∧ a 1 = 2 ∧ a 2 = 3) ∨ (a 0 = 1 ∧ a 1 = 2 ∧ a 2 = 3) := by omega
      rcases ca with ⟨e0, e1, e2⟩ | ⟨e0, e1, e2⟩ | ⟨e0, e1, e2⟩ | ⟨e0, e1, e2⟩
      · refine ⟨7, by decide, by decide, ?_⟩
        intro t ht
        have ct : t = 0 ∨ t = 1 ∨ t = 2 := by omega
        rcases ct with rfl | rfl | rfl
        · exact e0.symm
        · exact e1.symm
        · exact e2.symm
      · refine ⟨11, by decide, by decide, ?_⟩
        intro t ht
        have ct : t = 0 ∨ t = 1 ∨ t = 2 := by omega
        rcases ct with rfl | rfl | rfl
        · exact e0.symm
        · exact e1.symm
        · exact e2.symm
      · refine ⟨13, by decide, by decide, ?_⟩
        intro t ht
        have ct : t = 0 ∨ t = 1 ∨ t = 2 := by omega
        rcases ct with rfl | rfl | rfl
        · exact e0.symm
        · exact e1.symm
        · exact e2.symm
      · refine ⟨14, by decide, by decide, ?_⟩
        intro t ht
        have ct : t = 0 ∨ t = 1 ∨ t = 2 := by omega
        rcases ct with rfl | rfl | rfl
        · exact e0.symm
        · exact e1.symm
        · exact e2.symm
    · have ca : (a 0 = 0 ∧ a 1 = 1 ∧ a 2 = 2 ∧ a 3 = 3) := by omega
      obtain ⟨e0, e1, e2, e3⟩ := ca
      refine ⟨15, by decide, by decide, ?_⟩
      intro t ht
      have ct : t = 0 ∨ t = 1 ∨ t = 2 ∨ t = 3 := by omega
      rcases ct with rfl | rfl | rfl | rfl
      · exact e0.symm
      · exact e1.symm
      · exact e2.symm
      · exact e3.symm
end
section
/-! ===== Y: minors ===== -/
theorem sd_sh1 {S i : Nat} (hS : S < 2 ^ 31) (hi : i < 32) : (nI S >>> (nI i &&& 31)) &&& 1 = nI (sd_bt S i) := by
  rw [pk_shrN hS _ i (s_l i hi)]
  have : S / 2 ^ i ≤ S := Nat.div_le_self _ _
  exact pk_andN (by omega) 1 (by decide)
theorem sd_sh3 {c i : Nat} (hc : c < 2 ^ 31) (hi : i < 16) : (nI c >>> ((2 * nI i) &&& 31)) &&& 3 = nI (sd_c4 c i) := by
  rw [show (2 : Int32) * nI i = nI (2 * i) from pk_mul 2 i, pk_shrN hc _ (2 * i) (s_l (2 * i) (by omega))]
  have : c / 2 ^ (2 * i) ≤ c := Nat.div_le_self _ _
  exact pk_andN (by omega) 2 (by decide)
theorem sd_bt2 (S i : Nat) : sd_bt S i = 0 ∨ sd_bt S i = 1 := by unfold sd_bt; omega
theorem sd_c4_lt (c i : Nat) : sd_c4 c i < 4 := by unfold sd_c4; omega
theorem sd_usd : ∀ u, u < 16 → ∀ c, c < 4 → sd_bt u c = 0 → (nI u ||| ((1 : Int32) <<< (nI c &&& 31))) = nI (u + 2 ^ c) ∧ u + 2 ^ c < 16 := by decide +kernel
theorem sd_bt_n {n S i : Nat} (hS : S < 2 ^ n) (h : sd_bt S i = 1) : i < n := by
  apply Classical.byContradiction
  intro hn
  have h1 : 2 ^ n ≤ 2 ^ i := Nat.pow_le_pow_right (by omega) (by omega)
  have : S / 2 ^ i = 0 := Nat.div_eq_of_lt (by omega)
  unfold sd_bt at h
  rw [this] at h
  exact absurd h (by decide)
theorem sd_iw_c {c S T : Nat} : ∀ (d u i : Nat), sd_iw c S T d u i = true → ∀ j, i ≤ j → j < i + d → sd_bt S j = 1 → sd_bt T (sd_c4 c j) = 1 := by
  intro d
  induction d with
  | zero => intro u i _ j h1 h2; omega
  | succ d ih =>
    intro u i h j h1 h2 hb
    unfold sd_iw at h
    by_cases b0 : sd_bt S i = 0
    · rw [if_pos b0] at h
      by_cases c0 : sd_c4 c i = 0
      · rw [if_pos c0] at h
        by_cases e : j = i
        · subst e; rw [b0] at hb; exact absurd hb (by decide)
        · exact ih u (i + 1) h j (by omega) (by omega) hb
      · rw [if_neg c0] at h; exact nomatch h
    · rw [if_neg b0] at h
      by_cases t0 : sd_bt T (sd_c4 c i) = 0
      · rw [if_pos t0] at h; exact nomatch h
      · rw [if_neg t0] at h
        by_cases u1 : sd_bt u (sd_c4 c i) = 1
        · rw [if_pos u1] at h; exact nomatch h
        · rw [if_neg u1] at h
          by_cases e : j = i
          · subst e; exact (sd_bt2 _ _).resolve_left t0
          · exact ih _ (i + 1) h j (by omega) (by omega) hb
theorem sd_szv : ∀ S, S < 16 → (((nI S &&& 1) + ((nI S >>> ((1 : Int32) &&& 31)) &&& 1)) + ((nI S >>> ((2 : Int32) &&& 31)) &&& 1)) + ((nI S >>> ((3 : Int32) &&& 31)) &&& 1) = nI (sd_sz S) := by decide +kernel
theorem sd_btb : ∀ S, S < 16 → ∀ i, i < 4 → ∀ j, j < 4 → ((((nI S >>> (nI i &&& 31)) &&& (nI S >>> (nI j &&& 31))) &&& 1) = 1 ↔ (sd_bt S i = 1 ∧ sd_bt S j = 1)) := by decide +kernel
theorem sd_t1 : ∀ p a : Fin 5, ((sd_eI p * sd_eI a) + 0) - ((sd_eI p * sd_eI a) + 0) / 5 * 5 = sd_eI (p * a) := by decide +kernel
theorem sd_t2 : ∀ p a : Fin 5, ((sd_eI p * (5 - sd_eI a)) + 0) - ((sd_eI p * (5 - sd_eI a)) + 0) / 5 * 5 = sd_eI (p * - a) := by decide +kernel
theorem sd_t3 : ∀ p a q : Fin 5, ((sd_eI p * (5 - sd_eI a)) + sd_eI q) - ((sd_eI p * (5 - sd_eI a)) + sd_eI q) / 5 * 5 = sd_eI (p * - a + q) := by decide +kernel
theorem sd_clv {N : Nat} (h : N < 2 ^ 31) (f : Nat → Fin 5) : sd_v1 f (nI N).toNatClampNeg = sd_eI (f N) := by rw [sd_clN h]; rfl
/-- the matrix of which minors are taken -/
def sd_mm (x : Bool) (A : sd_M) : Nat → Nat → sd_P := cond x (sd_xm A) (sd_km A)
theorem sd_mm_m (x : Bool) (A : sd_M) (P : sd_P) (i c k : Nat) : sd_pm P (sd_mm x A i c) k = cond x (P k * - A i c + (if i = c ∧ 0 < k then P (k - 1) else 0)) (P k * A i c) := by
  cases x with
  | false =>
    show sd_pm P (sd_pc (A i c)) k = P k * A i c
    rw [sd_pm_cm, sd_pm_c]; grind
  | true =>
    show sd_pm P (sd_xm A i c) k = P k * - A i c + (if i = c ∧ 0 < k then P (k - 1) else 0)
    have e : sd_xm A i c = sd_cs (- A i c) (sd_pc (if i = c then 1 else 0)) := by
      funext j
      cases j with
      | zero => rfl
      | succ j =>
        show (if j + 1 = 0 then _ else if j + 1 = 1 then (if i = c then 1 else 0) else 0) = (if j = 0 then (if i = c then 1 else 0) else 0)
        rw [if_neg (by omega)]
        by_cases z : j = 0
        · rw [if_pos z, if_pos (by omega)]
        · rw [if_neg z, if_neg (by omega)]
    rw [sd_pm_cm, e, sd_pm_cs]
    show - A i c * P k + sd_cs 0 (sd_pm (sd_pc (if i = c then 1 else 0)) P) k = _
    rw [sd_pm_c]
    cases k with
    | zero =>
      have q : ¬ (i = c ∧ 0 < 0) := fun q => by omega
      rw [if_neg q]
      show - A i c * P 0 + 0 = _
      grind
    | succ k =>
      show - A i c * P (k + 1) + (if i = c then 1 else 0) * P k = _
      by_cases e : i = c
      · have q : i = c ∧ 0 < k + 1 := ⟨e, by omega⟩
        rw [if_pos e, if_pos q, Nat.add_sub_cancel]; grind
      · have q : ¬ (i = c ∧ 0 < k + 1) := fun q => e q.1
        rw [if_neg e, if_neg q]; grind
section
variable {n : Nat} {R Fa Ke Ro : Nat → Nat → Fin 5} {Mi Te Di Ot : Nat → Fin 5}
theorem yd_sizeOf {post : Int32 → Prop} {S : Nat} (hS : S < 16) (K : post (nI (sd_sz S))) : wpY_sizeOf post (nI n, sd_ea 16 R, sd_v1 Mi, sd_v1 Te, sd_v1 Di, sd_v1 Ot, sd_ea 5 Fa, sd_ea 5 Ke, sd_ea 16 Ro) (nI S) := by
  show post _
  rw [sd_szv S hS]
  exact K
theorem yd_isWay {post : Int32 → Prop} {c S T : Nat} (hc : c < 256) (hS : S < 16) (hT : T < 16) (K : post (cond (sd_way c S T) 1 0)) : wpY_isWay post (nI n, sd_ea 16 R, sd_v1 Mi, sd_v1 Te, sd_v1 Di, sd_v1 Ot, sd_ea 5 Fa, sd_ea 5 Ke, sd_ea 16 Ro) (nI c) (nI S) (nI T) := by
  refine Exists.intro 5 ?_
  have lp : ∀ (d u i : Nat), i + d = 4 → u < 16 → post (cond (sd_iw c S T d u i) 1 0) → wY_isWay_6 post (nI c) (nI S) (nI T) (nI n) (sd_ea 16 R) (sd_v1 Mi) (sd_v1 Te) (sd_v1 Di) (sd_v1 Ot) (sd_ea 5 Fa) (sd_ea 5 Ke) (sd_ea 16 Ro) (d + 1) (nI u) (nI i) := by
    intro d
    induction d with
    | zero =>
      intro u i hi _ k
      have e : i = 4 := by omega
      subst e
      exact br_t (by decide) k
    | succ d ih =>
      intro u i hi hu k
      refine br_f (nI_ge (b := 4) (by omega) (by decide)) (nm_r (sd_sh3 (by omega) (by omega)) ?_)
      have c4 := sd_c4_lt c i
      rw [sd_sh1 (by omega) (by omega), sd_sh1 (by omega) (by omega), sd_sh1 (by omega) (by omega)]
      unfold sd_iw at k
      by_cases b0 : sd_bt S i = 0
      · rw [if_pos b0] at k
        refine br_t (by rw [b0]; decide) ?_
        by_cases c0 : sd_c4 c i = 0
        · rw [if_pos c0] at k
          exact br_t (by rw [c0]; decide) (nm_r (nI_1 i) (ih u (i + 1) (by omega) hu k))
        · rw [if_neg c0] at k
          exact br_f (nI_ne0 (by omega) (by omega)) k
      · rw [if_neg b0] at k
        have b1 := (sd_bt2 S i).resolve_left b0
        refine br_f (by rw [b1]; decide) ?_
        by_cases t0 : sd_bt T (sd_c4 c i) = 0
        · rw [if_pos t0] at k
          exact br_t (by rw [t0]; decide) k
        · rw [if_neg t0] at k
          have t1 := (sd_bt2 T (sd_c4 c i)).resolve_left t0
          refine br_f (by rw [t1]; decide) ?_
          by_cases u1 : sd_bt u (sd_c4 c i) = 1
          · rw [if_pos u1] at k
            exact br_t (by rw [u1]; decide) k
          · rw [if_neg u1] at k
            have u0 := (sd_bt2 u (sd_c4 c i)).resolve_right u1
            obtain ⟨o1, o2⟩ := sd_usd u hu (sd_c4 c i) c4 u0
            exact br_f (by rw [u0]; decide) (nm_r o1 (nm_r (nI_1 i) (ih _ (i + 1) (by omega) o2 k)))
  exact lp 4 0 0 (by omega) (by omega) K
theorem sd_s1_le (c S i : Nat) : ∀ j, sd_s1 c S i j ≤ j := by
  intro j
  induction j with
  | zero => exact Nat.le_refl 0
  | succ j ih =>
    unfold sd_s1
    split <;> omega
theorem yd_isOdd {post : Int32 → Prop} {c S : Nat} (hc : c < 256) (hS : S < 16) (K : post (if sd_s2 c S 4 % 2 = 1 then 1 else 0)) : wpY_isOdd post (nI n, sd_ea 16 R, sd_v1 Mi, sd_v1 Te, sd_v1 Di, sd_v1 Ot, sd_ea 5 Fa, sd_ea 5 Ke, sd_ea 16 Ro) (nI c) (nI S) := by
  refine Exists.intro 5 ?_
  have inn : ∀ (J : Int32 → Int32 → Prop) (i s : Nat), i < 4 → s < 100 → J (nI (s + sd_s1 c S i i)) (nI (i + 1)) → ∀ (d j : Nat), j + d = i → wY_isOdd_14 post J (nI c) (nI S) (nI i) (nI n) (sd_ea 16 R) (sd_v1 Mi) (sd_v1 Te) (sd_v1 Di) (sd_v1 Ot) (sd_ea 5 Fa) (sd_ea 5 Ke) (sd_ea 16 Ro) (d + 1) (nI (s + sd_s1 c S i j)) (nI j) := by
    intro J i s hi hs KJ d
    induction d with
    | zero =>
      intro j hj
      have e : j = i := by omega
      subst e
      exact br_t (nI_le (Nat.le_refl _) (by omega)) (nm_r (nI_1 j) KJ)
    | succ d ih =>
      intro j hj
      have c4i := sd_c4_lt c i
      have c4j := sd_c4_lt c j
      have nx := ih (j + 1) (by omega)
      have e1 : sd_s1 c S i (j + 1) = sd_s1 c S i j + (if (sd_bt S i = 1 ∧ sd_bt S j = 1) ∧ sd_c4 c i < sd_c4 c j then 1 else 0) := rfl
      rw [e1] at nx
      refine br_f (nI_ge (by omega) (by omega)) ?_
      rw [sd_sh3 (by omega) (by omega), sd_sh3 (by omega) (by omega)]
      by_cases b : sd_bt S i = 1 ∧ sd_bt S j = 1
      · refine br_t ((sd_btb S hS i hi j (by omega)).mpr b) ?_
        by_cases l : sd_c4 c j ≤ sd_c4 c i
        · have q : ¬ ((sd_bt S i = 1 ∧ sd_bt S j = 1) ∧ sd_c4 c i < sd_c4 c j) := fun q => by omega
          rw [if_neg q, Nat.add_zero] at nx
          exact br_t (nI_le l (by omega)) (nm_r (nI_1 j) nx)
        · have q : (sd_bt S i = 1 ∧ sd_bt S j = 1) ∧ sd_c4 c i < sd_c4 c j := ⟨b, by omega⟩
          rw [if_pos q, ← Nat.add_assoc] at nx
          exact br_f (nI_ge (by omega) (by omega)) (nm_r (nI_1 _) (nm_r (nI_1 j) nx))
      · have q : ¬ ((sd_bt S i = 1 ∧ sd_bt S j = 1) ∧ sd_c4 c i < sd_c4 c j) := fun q => b q.1
        rw [if_neg q, Nat.add_zero] at nx
        exact br_f (fun z => b ((sd_btb S hS i hi j (by omega)).mp z)) (nm_r (nI_1 j) nx)
  have s2le : ∀ i, i ≤ 4 → sd_s2 c S i ≤ 4 * i := by
    intro i
    induction i with
    | zero => intro _; exact Nat.le_refl 0
    | succ i ih =>
      intro h
      have := ih (by omega)
      have := sd_s1_le c S i i
      show sd_s2 c S i + sd_s1 c S i i ≤ _
      omega
  have lp : ∀ (d i : Nat), i + d = 4 → wY_isOdd_5 post (nI c) (nI S) (nI n) (sd_ea 16 R) (sd_v1 Mi) (sd_v1 Te) (sd_v1 Di) (sd_v1 Ot) (sd_ea 5 Fa) (sd_ea 5 Ke) (sd_ea 16 Ro) (d + 1) (nI (sd_s2 c S i)) (nI i) := by
    intro d
    induction d with
    | zero =>
      intro i hi
      have e : i = 4 := by omega
      subst e
      have b := s2le 4 (by omega)
      refine br_t (by decide) ⟨by decide, ?_⟩
      have rem : nI (sd_s2 c S 4) - nI (sd_s2 c S 4) / 2 * 2 = nI (sd_s2 c S 4 % 2) := pk_rem (d := 2) (by omega) (by omega) (by omega)
      rw [rem]
      by_cases z : sd_s2 c S 4 % 2 = 1
      · rw [if_pos z] at K
        exact br_t (by rw [z]; decide) K
      · rw [if_neg z] at K
        have z0 : sd_s2 c S 4 % 2 = 0 := by omega
        exact br_f (by rw [z0]; decide) K
    | succ d ih =>
      intro i hi
      have b := s2le i (by omega)
      have nx := ih (i + 1) (by omega)
      exact br_f (nI_ge (b := 4) (by omega) (by decide)) (Exists.intro (i + 1) (inn _ i (sd_s2 c S i) (by omega) (by omega) nx i 0 (by omega)))
  exact lp 4 0 (by omega)
/-- the term times an entry -/
theorem yd_term_in {post : SY → Prop} {J : Int32 → (Nat → Int32) → (Nat → Int32) → (Nat → Int32) → (Nat → Int32) → (Nat → Int32) → (Nat → Int32) → (Nat → Int32) → (Nat → Int32) → Prop} {x1 x2 x3 : Int32} {x : Bool} {A : sd_M} {i c : Nat} {P : sd_P} {x4 x7 : Int32} (hi : i < 4) (hc : c < 4) (h4 : x4 = cond x 1 0) (h7 : x7 = cond x (5 - sd_eI (A i c)) (sd_eI (A i c)))
    (K : ∀ H, (∀ k, k < 5 → H k = sd_pm P (sd_mm x A i c) k) → J (nI (i + 1)) (sd_ea 16 R) (sd_v1 Mi) (sd_v1 H) (sd_v1 Di) (sd_v1 Ot) (sd_ea 5 Fa) (sd_ea 5 Ke) (sd_ea 16 Ro)) :
    ∀ (t : Nat) (H : Nat → Fin 5), t ≤ 5 → (∀ k, k < 5 → H k = if k < t then P k else sd_pm P (sd_mm x A i c) k) → wY_makeTerm_107 post J x1 x2 x3 x4 (nI i) (nI c) x7 (nI n) (t + 1) (nI t + (-1)) (sd_ea 16 R) (sd_v1 Mi) (sd_v1 H) (sd_v1 Di) (sd_v1 Ot) (sd_ea 5 Fa) (sd_ea 5 Ke) (sd_ea 16 Ro) := by
  subst h4; subst h7
  intro t
  induction t with
  | zero =>
    intro H _ h
    exact br_t (by decide) (nm_r (nI_1 i) (K H (fun k hk => (h k hk).trans (if_neg (by omega)))))
  | succ t ih =>
    intro H ht h
    rw [pk_m1]
    refine br_f (nI_pos (by omega)) ⟨vp_in_nI (by omega) (by omega), ?_⟩
    have Ht : H t = P t := (h t (by omega)).trans (if_pos (by omega))
    have step : ∀ v : Fin 5, v = sd_pm P (sd_mm x A i c) t → ∀ k, k < 5 → sd_u1 H t v k = if k < t then P k else sd_pm P (sd_mm x A i c) k := by
      intro v hv k hk
      unfold sd_u1
      by_cases e : k = t
      · subst e; rw [if_pos rfl, if_neg (by omega), hv]
      · rw [if_neg e, h k hk]
        by_cases l : k < t
        · rw [if_pos l, if_pos (by omega)]
        · rw [if_neg l, if_neg (by omega)]
    have mm := sd_mm_m x A P i c t
    have cl : (nI t).toNatClampNeg = t := sd_clN (by omega)
    cases x with
    | false =>
      refine br_t rfl ⟨sd_50, vp_in_nI (by omega) (by omega), ?_⟩
      rw [sd_clv (by omega), cl, show (cond false (5 - sd_eI (A i c)) (sd_eI (A i c)) : Int32) = sd_eI (A i c) from rfl, sd_t1, sd_v1_w]
      refine nm_e (nm_e (ih _ (by omega) (step _ ?_)))
      rw [mm, Ht]; rfl
    | true =>
      refine br_f (by decide) ?_
      by_cases e : i = c
      · refine br_t (by rw [e]) ?_
        by_cases t0 : t = 0
        · subst t0
          refine br_t (by decide) ⟨sd_50, vp_in_nI (by omega) (by omega), ?_⟩
          rw [sd_clv (by omega), cl, show (cond true (5 - sd_eI (A i c)) (sd_eI (A i c)) : Int32) = 5 - sd_eI (A i c) from rfl, sd_t2, sd_v1_w]
          refine nm_e (nm_e (ih _ (by omega) (step _ ?_)))
          have q : ¬ (i = c ∧ 0 < 0) := fun q => by omega
          rw [mm, Ht]
          show P 0 * - A i c = P 0 * - A i c + (if i = c ∧ 0 < 0 then P (0 - 1) else 0)
          rw [if_neg q]; grind
        · have e1 : nI t - 1 = nI (t - 1) := pk_sub (b := 1) (by omega)
          refine br_f (nI_nle (by omega) (by omega)) ?_
          rw [e1]
          refine ⟨vp_in_nI (by omega) (by omega), sd_50, vp_in_nI (by omega) (by omega), ?_⟩
          rw [sd_clv (by omega), sd_clv (by omega), cl, show (cond true (5 - sd_eI (A i c)) (sd_eI (A i c)) : Int32) = 5 - sd_eI (A i c) from rfl, sd_t3, sd_v1_w]
          refine nm_e (nm_e (ih _ (by omega) (step _ ?_)))
          have Ht1 : H (t - 1) = P (t - 1) := (h (t - 1) (by omega)).trans (if_pos (by omega))
          have q : i = c ∧ 0 < t := ⟨e, by omega⟩
          rw [mm, Ht, Ht1]
          show P t * - A i c + P (t - 1) = P t * - A i c + (if i = c ∧ 0 < t then P (t - 1) else 0)
          rw [if_pos q]
      · refine br_f (fun z => e ((nI_eq (by omega) (by omega)).mp z)) ⟨sd_50, vp_in_nI (by omega) (by omega), ?_⟩
        rw [sd_clv (by omega), cl, show (cond true (5 - sd_eI (A i c)) (sd_eI (A i c)) : Int32) = 5 - sd_eI (A i c) from rfl, sd_t2, sd_v1_w]
        refine nm_e (nm_e (ih _ (by omega) (step _ ?_)))
        have q : ¬ (i = c ∧ 0 < t) := fun q => e q.1
        rw [mm, Ht]
        show P t * - A i c = P t * - A i c + (if i = c ∧ 0 < t then P (t - 1) else 0)
        rw [if_neg q]; grind
theorem yd_makeTerm {post : SY → Prop} {r c S T : Nat} {x : Bool} {A : sd_M} {q : Int32} (hr : r ≤ 5) (hn : n ≤ 4) (hA : ∀ i j, i < n → j < n → R r (n * i + j) = A i j) (hc : c < 256) (hS : S < 2 ^ n) (hT : T < 2 ^ n) (hw : sd_way c S T = true) (hq : q = cond x 1 0)
    (K : ∀ Te', (∀ k, k < 5 → Te' k = @sd_tp sd_P sd_R (sd_mm x A) c S 4 k) → post (nI n, sd_ea 16 R, sd_v1 Mi, sd_v1 Te', sd_v1 Di, sd_v1 Ot, sd_ea 5 Fa, sd_ea 5 Ke, sd_ea 16 Ro)) : wpY_makeTerm post (nI n, sd_ea 16 R, sd_v1 Mi, sd_v1 Te, sd_v1 Di, sd_v1 Ot, sd_ea 5 Fa, sd_ea 5 Ke, sd_ea 16 Ro) (nI r) (nI c) (nI S) q := by
  subst hq
  have hS16 : S < 16 := sd_p16 hn hS
  have rows : ∀ (d i : Nat) (H : Nat → Fin 5), i + d = 4 → (∀ k, k < 5 → H k = @sd_tp sd_P sd_R (sd_mm x A) c S i k) → wY_makeTerm_48 post (nI r) (nI c) (nI S) (cond x 1 0) (nI n) (d + 1) (nI i) (sd_ea 16 R) (sd_v1 Mi) (sd_v1 H) (sd_v1 Di) (sd_v1 Ot) (sd_ea 5 Fa) (sd_ea 5 Ke) (sd_ea 16 Ro) := by
    intro d
    induction d with
    | zero =>
      intro i H hi h
      have e : i = 4 := by omega
      subst e
      exact br_t (by decide) (K H h)
    | succ d ih =>
      intro i H hi h
      refine br_f (nI_ge (b := 4) (by omega) (by decide)) ?_
      rw [sd_sh1 (by omega) (by omega)]
      have tps : ∀ k, @sd_tp sd_P sd_R (sd_mm x A) c S (i + 1) k = (if sd_bt S i = 1 then sd_pm (@sd_tp sd_P sd_R (sd_mm x A) c S i) (sd_mm x A i (sd_c4 c i)) else @sd_tp sd_P sd_R (sd_mm x A) c S i) k := fun k => rfl
      by_cases b : sd_bt S i = 1
      · have hin : i < n := sd_bt_n hS b
        have hcn : sd_c4 c i < n := sd_bt_n hT (sd_iw_c 4 0 0 hw i (by omega) (by omega) b)
        have c4 := sd_c4_lt c i
        refine br_t (by rw [b]; decide) (nm_r (sd_sh3 (by omega) (by omega)) ?_)
        have fin : ∀ (x7 : Int32), x7 = cond x (5 - sd_eI (A i (sd_c4 c i))) (sd_eI (A i (sd_c4 c i))) → ∃ n107, wY_makeTerm_107 post (wY_makeTerm_48 post (nI r) (nI c) (nI S) (cond x 1 0) (nI n) (d + 1)) (nI r) (nI c) (nI S) (cond x 1 0) (nI i) (nI (sd_c4 c i)) x7 (nI n) n107 4 (sd_ea 16 R) (sd_v1 Mi) (sd_v1 H) (sd_v1 Di) (sd_v1 Ot) (sd_ea 5 Fa) (sd_ea 5 Ke) (sd_ea 16 Ro) := by
          intro x7 h7
          have z := yd_term_in (n := n) (R := R) (Fa := Fa) (Ke := Ke) (Ro := Ro) (Mi := Mi) (Di := Di) (Ot := Ot) (post := post) (J := wY_makeTerm_48 post (nI r) (nI c) (nI S) (cond x 1 0) (nI n) (d + 1)) (x1 := nI r) (x2 := nI c) (x3 := nI S) (x := x) (A := A) (i := i) (c := sd_c4 c i) (P := @sd_tp sd_P sd_R (sd_mm x A) c S i) (by omega) c4 rfl h7 (fun H' h' => ih (i + 1) H' (by omega) (fun k hk => by rw [h' k hk, tps, if_pos b])) 5 H (by omega) (fun k hk => (h k hk).trans (if_pos hk).symm)
          rw [show nI 5 + (-1) = 4 from by decide] at z
          exact Exists.intro _ z
        cases x with
        | false =>
          refine br_t rfl (yd_entry hr hn hin hcn ?_)
          rw [hA _ _ hin hcn]
          exact fin _ rfl
        | true =>
          refine br_f (by decide) (yd_entry hr hn hin hcn ?_)
          rw [hA _ _ hin hcn]
          exact nm_e (fin _ rfl)
      · have b0 := (sd_bt2 S i).resolve_right b
        refine br_f (by rw [b0]; decide) (nm_r (nI_1 i) (ih (i + 1) H (by omega) (fun k hk => ?_)))
        rw [h k hk, tps, if_neg b]
  refine Exists.intro 6 ?_
  have ini : ∀ (d k : Nat) (H : Nat → Fin 5), k + d = 5 → (∀ y, y < k → H y = @sd_tp sd_P sd_R (sd_mm x A) c S 0 y) → wY_makeTerm_3 post (nI r) (nI c) (nI S) (cond x 1 0) (nI n) (d + 1) (nI k) (sd_ea 16 R) (sd_v1 Mi) (sd_v1 H) (sd_v1 Di) (sd_v1 Ot) (sd_ea 5 Fa) (sd_ea 5 Ke) (sd_ea 16 Ro) := by
    intro d
    induction d with
    | zero =>
      intro k H hk h
      have e : k = 5 := by omega
      subst e
      exact br_t (by decide) (Exists.intro 5 (rows 4 0 H (by omega) h))
    | succ d ih =>
      intro k H hk h
      refine br_f (nI_ge (b := 5) (by omega) (by decide)) ?_
      have cl : (nI k).toNatClampNeg = k := sd_clN (by omega)
      have st : ∀ v : Fin 5, v = @sd_tp sd_P sd_R (sd_mm x A) c S 0 k → ∀ y, y < k + 1 → sd_u1 H k v y = @sd_tp sd_P sd_R (sd_mm x A) c S 0 y := by
        intro v hv y hy
        unfold sd_u1
        by_cases e : y = k
        · rw [if_pos e, hv, e]
        · rw [if_neg e]; exact h y (by omega)
      by_cases k0 : k = 0
      · subst k0
        refine br_t rfl (yd_isOdd hc hS16 ?_)
        rw [cl]
        by_cases od : sd_s2 c S 4 % 2 = 1
        · rw [if_pos od]
          refine br_f (by decide) ⟨vp_in_nI (by omega) (by omega), nm_r (sd_v1_w H 0 4) (nm_r (nI_1 0) (ih 1 _ (by omega) (st 4 ?_)))⟩
          have e0 : @sd_tp sd_P sd_R (sd_mm x A) c S 0 = if sd_s2 c S 4 % 2 = 1 then sd_pn (sd_pc 1) else sd_pc 1 := rfl
          rw [e0, if_pos od]; rfl
        · rw [if_neg od]
          refine br_t rfl ⟨vp_in_nI (by omega) (by omega), nm_r (sd_v1_w H 0 1) (nm_r (nI_1 0) (ih 1 _ (by omega) (st 1 ?_)))⟩
          have e0 : @sd_tp sd_P sd_R (sd_mm x A) c S 0 = if sd_s2 c S 4 % 2 = 1 then sd_pn (sd_pc 1) else sd_pc 1 := rfl
          rw [e0, if_neg od]; rfl
      · refine br_f (nI_ne0 (by omega) (by omega)) ?_
        rw [cl]
        refine ⟨vp_in_nI (by omega) (by omega), nm_r (sd_v1_w H k 0) (nm_r (nI_1 k) (ih (k + 1) _ (by omega) (st 0 ?_)))⟩
        have e0 : @sd_tp sd_P sd_R (sd_mm x A) c S 0 = if sd_s2 c S 4 % 2 = 1 then sd_pn (sd_pc 1) else sd_pc 1 := rfl
        have pk : sd_pc 1 k = 0 := if_neg k0
        rw [e0]
        by_cases od : sd_s2 c S 4 % 2 = 1
        · rw [if_pos od]; show 0 = - sd_pc 1 k; rw [pk]; rfl
        · rw [if_neg od, pk]
  exact ini 5 0 Te (by omega) (fun y hy => absurd hy (by omega))
theorem sd_wl_s (S T d : Nat) (hd : d < 256) : sd_wl S T (d + 1) = if sd_way (255 - d) S T = true then (255 - d) :: sd_wl S T d else sd_wl S T d := by
  unfold sd_wl
  have e1 : 256 - (d + 1) = 255 - d := by omega
  have e2 : 255 - d + 1 = 256 - d := by omega
  rw [e1, List.range'_succ, e2, List.filter_cons]
theorem yd_findMinor {post : SY → Prop} {r S T : Nat} {x : Bool} {A : sd_M} {q : Int32} (hr : r ≤ 5) (hn : n ≤ 4) (hA : ∀ i j, i < n → j < n → R r (n * i + j) = A i j) (hS : S < 2 ^ n) (hT : T < 2 ^ n) (hq : q = cond x 1 0)
    (K : ∀ Mi' Te', (∀ k, k < 5 → Mi' k = @sd_ls sd_P sd_R (sd_mm x A) S (sd_wl S T 256) k) → post (nI n, sd_ea 16 R, sd_v1 Mi', sd_v1 Te', sd_v1 Di, sd_v1 Ot, sd_ea 5 Fa, sd_ea 5 Ke, sd_ea 16 Ro)) : wpY_findMinor post (nI n, sd_ea 16 R, sd_v1 Mi, sd_v1 Te, sd_v1 Di, sd_v1 Ot, sd_ea 5 Fa, sd_ea 5 Ke, sd_ea 16 Ro) (nI r) (nI S) (nI T) q := by
  have hS16 : S < 16 := sd_p16 hn hS
  have hT16 : T < 16 := sd_p16 hn hT
  have add : ∀ (J : Int32 → Int32 → (Nat → Int32) → (Nat → Int32) → (Nat → Int32) → (Nat → Int32) → (Nat → Int32) → (Nat → Int32) → (Nat → Int32) → (Nat → Int32) → Prop) (c : Nat) (M0 V : Nat → Fin 5), c < 256 →
      (∀ H, (∀ k, k < 5 → H k = M0 k + V k) → J (nI (c + 1)) (nI n) (sd_ea 16 R) (sd_v1 H) (sd_v1 V) (sd_v1 Di) (sd_v1 Ot) (sd_ea 5 Fa) (sd_ea 5 Ke) (sd_ea 16 Ro)) → ∀ (d k : Nat) (H : Nat → Fin 5), k + d = 5 → (∀ y, y < 5 → H y = if y < k then M0 y + V y else M0 y) → wY_findMinor_58 post J (nI r) (nI S) (nI T) q (nI c) (nI n) (d + 1) (nI k) (sd_ea 16 R) (sd_v1 H) (sd_v1 V) (sd_v1 Di) (sd_v1 Ot) (sd_ea 5 Fa) (sd_ea 5 Ke) (sd_ea 16 Ro) := by
    intro J c M0 V hc KJ d
    induction d with
    | zero =>
      intro k H hk h
      have e : k = 5 := by omega
      subst e
      exact br_t (by decide) (nm_r (nI_1 c) (KJ H (fun y hy => (h y hy).trans (if_pos hy))))
    | succ d ih =>
      intro k H hk h
      refine br_f (nI_ge (b := 5) (by omega) (by decide)) ⟨vp_in_nI (by omega) (by omega), vp_in_nI (by omega) (by omega), sd_50, vp_in_nI (by omega) (by omega), ?_⟩
      rw [sd_clv (by omega), sd_clv (by omega), sd_clN (by omega), sd_w6, sd_v1_w]
      refine nm_e (nm_r (nI_1 k) (ih (k + 1) _ (by omega) (fun y hy => ?_)))
      unfold sd_u1
      by_cases e : y = k
      · subst e; rw [if_pos rfl, if_pos (by omega), h y hy, if_neg (by omega)]
      · rw [if_neg e, h y hy]
        by_cases l : y < k
        · rw [if_pos l, if_pos (by omega)]
        · rw [if_neg l, if_neg (by omega)]
  have codes : ∀ (d c : Nat) (H V : Nat → Fin 5), c + d = 256 → (∀ k, k < 5 → H k + @sd_ls sd_P sd_R (sd_mm x A) S (sd_wl S T d) k = @sd_ls sd_P sd_R (sd_mm x A) S (sd_wl S T 256) k) → wY_findMinor_26 post (nI r) (nI S) (nI T) q (d + 1) (nI c) (nI n) (sd_ea 16 R) (sd_v1 H) (sd_v1 V) (sd_v1 Di) (sd_v1 Ot) (sd_ea 5 Fa) (sd_ea 5 Ke) (sd_ea 16 Ro) := by
    intro d
    induction d with
    | zero =>
      intro c H V hc h
      have e : c = 256 := by omega
      subst e
      refine br_t (by decide) (K H V (fun k hk => ?_))
      have := h k hk
      have z : @sd_ls sd_P sd_R (sd_mm x A) S (sd_wl S T 0) k = 0 := by show sd_pc 0 k = 0; unfold sd_pc; split <;> rfl
      rw [z] at this
      rw [← this]; grind
    | succ d ih =>
      intro c H V hc h
      have ec : 255 - d = c := by omega
      rw [sd_wl_s S T d (by omega), ec] at h
      refine br_f (nI_ge (b := 256) (by omega) (by decide)) (yd_isWay (by omega) hS16 hT16 ?_)
      by_cases wy : sd_way c S T = true
      · rw [wy] at h ⊢
        refine br_f (by decide) (yd_makeTerm hr hn hA (by omega) hS hT wy hq (fun V' hV => Exists.intro 6 (add _ c H V' (by omega) (fun H' hH' => ih (c + 1) H' V' (by omega) (fun k hk => ?_)) 5 0 H (by omega) (fun y hy => (if_neg (by omega)).symm))))
        have := h k hk
        rw [if_pos rfl] at this
        have e2 : @sd_ls sd_P sd_R (sd_mm x A) S (c :: sd_wl S T d) k = @sd_tp sd_P sd_R (sd_mm x A) c S 4 k + @sd_ls sd_P sd_R (sd_mm x A) S (sd_wl S T d) k := rfl
        rw [e2] at this
        rw [hH' k hk, hV k hk, ← this]; grind
      · have wf : sd_way c S T = false := by
          cases hh : sd_way c S T
          · rfl
          · exact absurd hh wy
        rw [wf] at h ⊢
        exact br_t rfl (nm_r (nI_1 c) (ih (c + 1) H V (by omega) (fun k hk => h k hk)))
  refine Exists.intro 6 ?_
  have ini : ∀ (d k : Nat) (H : Nat → Fin 5), k + d = 5 → (∀ y, y < k → H y = 0) → wY_findMinor_3 post (nI r) (nI S) (nI T) q (nI n) (d + 1) (nI k) (sd_ea 16 R) (sd_v1 H) (sd_v1 Te) (sd_v1 Di) (sd_v1 Ot) (sd_ea 5 Fa) (sd_ea 5 Ke) (sd_ea 16 Ro) := by
    intro d
    induction d with
    | zero =>
      intro k H hk h
      have e : k = 5 := by omega
      subst e
      refine br_t (by decide) (Exists.intro 257 (codes 256 0 H Te (by omega) (fun k hk => ?_)))
      rw [h k hk]; grind
    | succ d ih =>
      intro k H hk h
      refine br_f (nI_ge (b := 5) (by omega) (by decide)) ?_
      rw [sd_clN (by omega)]
      refine ⟨vp_in_nI (by omega) (by omega), nm_r (sd_v1_w H k 0) (nm_r (nI_1 k) (ih (k + 1) _ (by omega) (fun y hy => ?_)))⟩
      unfold sd_u1
      by_cases e : y = k
      · rw [if_pos e]
      · rw [if_neg e]; exact h y (by omega)
  exact ini 5 0 Mi (by omega) (fun y hy => absurd hy (by omega))
end
end
section
/-! ===== Y: greatest common divisors ===== -/
/-- t is the number of coefficients up to the highest that is not 0 -/
def sd_tg (f : Nat → Fin 5) (t : Nat) : Prop := t ≤ 5 ∧ (∀ x, t ≤ x → x < 5 → f x = 0) ∧ (t = 0 ∨ f (t - 1) ≠ 0)
theorem sd_tg_u {f g : Nat → Fin 5} {s t : Nat} (hf : sd_tg f s) (hg : sd_tg g t) (h : ∀ x, x < 5 → f x = g x) : s = t := by
  obtain ⟨a1, a2, a3⟩ := hf
  obtain ⟨b1, b2, b3⟩ := hg
  apply Classical.byContradiction
  intro hn
  by_cases l : s < t
  · rcases b3 with z | z
    · omega
    · apply z; rw [← h _ (by omega)]; exact a2 _ (by omega) (by omega)
  · rcases a3 with z | z
    · omega
    · apply z; rw [h _ (by omega)]; exact b2 _ (by omega) (by omega)
theorem sd_tg_ex (f : Nat → Fin 5) : ∃ t, sd_tg f t := by
  have k : ∀ d, d ≤ 5 → (∀ x, d ≤ x → x < 5 → f x = 0) → ∃ t, sd_tg f t := by
    intro d
    induction d with
    | zero => intro _ h; exact ⟨0, by omega, h, Or.inl rfl⟩
    | succ d ih =>
      intro hd h
      by_cases z : f d = 0
      · apply ih (by omega)
        intro x h1 h2
        by_cases e : x = d
        · rw [e]; exact z
        · exact h x (by omega) h2
      · exact ⟨d + 1, hd, h, Or.inr z⟩
  exact k 5 (by omega) (fun x h1 h2 => absurd h1 (by omega))
section
variable {n : Nat} {R Fa Ke Ro : Nat → Nat → Fin 5} {Mi Te Di Ot : Nat → Fin 5}
theorem yd_degreeOfDivisor {post : Int32 → Prop} (K : ∀ t, sd_tg Di t → post (nI t + (-1))) : wpY_degreeOfDivisor post (nI n, sd_ea 16 R, sd_v1 Mi, sd_v1 Te, sd_v1 Di, sd_v1 Ot, sd_ea 5 Fa, sd_ea 5 Ke, sd_ea 16 Ro) := by
  refine Exists.intro 6 ?_
  have lp : ∀ (d k s : Nat), k + d = 5 → s ≤ k → (∀ x, s ≤ x → x < k → Di x = 0) → (s = 0 ∨ Di (s - 1) ≠ 0) → wY_degreeOfDivisor_4 post (nI n) (sd_ea 16 R) (sd_v1 Mi) (sd_v1 Te) (sd_v1 Di) (sd_v1 Ot) (sd_ea 5 Fa) (sd_ea 5 Ke) (sd_ea 16 Ro) (d + 1) (nI s + (-1)) (nI k) := by
    intro d
    induction d with
    | zero =>
      intro k s hk hs h1 h2
      have e : k = 5 := by omega
      subst e
      exact br_t (by decide) (K s ⟨hs, h1, h2⟩)
    | succ d ih =>
      intro k s hk hs h1 h2
      refine br_f (nI_ge (b := 5) (by omega) (by decide)) ⟨vp_in_nI (by omega) (by omega), ?_⟩
      rw [sd_clv (by omega)]
      by_cases z : Di k = 0
      · refine br_t ((sd_eI_0 _).mpr z) (nm_r (nI_1 k) (ih (k + 1) s (by omega) (by omega) (fun x hx hx2 => ?_) h2))
        by_cases e : x = k
        · rw [e]; exact z
        · exact h1 x hx (by omega)
      · have nx := ih (k + 1) (k + 1) (by omega) (Nat.le_refl _) (fun x h3 h4 => absurd h3 (by omega)) (Or.inr z)
        rw [pk_m1] at nx
        exact br_f (fun q => z ((sd_eI_0 _).mp q)) (nm_r (nI_1 k) nx)
  exact lp 5 0 0 (by omega) (by omega) (fun x _ h => absurd h (by omega)) (Or.inl rfl)
theorem yd_degreeOfMinor {post : Int32 → Prop} (K : ∀ t, sd_tg Mi t → post (nI t + (-1))) : wpY_degreeOfMinor post (nI n, sd_ea 16 R, sd_v1 Mi, sd_v1 Te, sd_v1 Di, sd_v1 Ot, sd_ea 5 Fa, sd_ea 5 Ke, sd_ea 16 Ro) := by
  refine Exists.intro 6 ?_
  have lp : ∀ (d k s : Nat), k + d = 5 → s ≤ k → (∀ x, s ≤ x → x < k → Mi x = 0) → (s = 0 ∨ Mi (s - 1) ≠ 0) → wY_degreeOfMinor_4 post (nI n) (sd_ea 16 R) (sd_v1 Mi) (sd_v1 Te) (sd_v1 Di) (sd_v1 Ot) (sd_ea 5 Fa) (sd_ea 5 Ke) (sd_ea 16 Ro) (d + 1) (nI s + (-1)) (nI k) := by
    intro d
    induction d with
    | zero =>
      intro k s hk hs h1 h2
      have e : k = 5 := by omega
      subst e
      exact br_t (by decide) (K s ⟨hs, h1, h2⟩)
    | succ d ih =>
      intro k s hk hs h1 h2
      refine br_f (nI_ge (b := 5) (by omega) (by decide)) ⟨vp_in_nI (by omega) (by omega), ?_⟩
      rw [sd_clv (by omega)]
      by_cases z : Mi k = 0
      · refine br_t ((sd_eI_0 _).mpr z) (nm_r (nI_1 k) (ih (k + 1) s (by omega) (by omega) (fun x hx hx2 => ?_) h2))
        by_cases e : x = k
        · rw [e]; exact z
        · exact h1 x hx (by omega)
      · have nx := ih (k + 1) (k + 1) (by omega) (Nat.le_refl _) (fun x h3 h4 => absurd h3 (by omega)) (Or.inr z)
        rw [pk_m1] at nx
        exact br_f (fun q => z ((sd_eI_0 _).mp q)) (nm_r (nI_1 k) nx)
  exact lp 5 0 0 (by omega) (by omega) (fun x _ h => absurd h (by omega)) (Or.inl rfl)
theorem yd_reduceMinor {post : SY → Prop} {p l : Nat} (hp : p < 5) (hl : l ≤ p) (K : ∀ Mi', (∀ y, y < 5 → Mi' y = if p - l ≤ y ∧ y ≤ p then Mi y - (Mi p * sd_i (Di l)) * Di (y - (p - l)) else Mi y) → post (nI n, sd_ea 16 R, sd_v1 Mi', sd_v1 Te, sd_v1 Di, sd_v1 Ot, sd_ea 5 Fa, sd_ea 5 Ke, sd_ea 16 Ro)) : wpY_reduceMinor post (nI n, sd_ea 16 R, sd_v1 Mi, sd_v1 Te, sd_v1 Di, sd_v1 Ot, sd_ea 5 Fa, sd_ea 5 Ke, sd_ea 16 Ro) (nI p) (nI l) := by
  show vp_in (nI p) 5 ∧ (vp_in (nI l) 5 ∧ wpY_inverse _ _ (sd_v1 Di (nI l).toNatClampNeg))
  rw [sd_clv (N := l) (by omega) Di]
  refine ⟨vp_in_nI (by omega) (by omega), vp_in_nI (by omega) (by omega), yd_inverse ⟨sd_50, ?_⟩⟩
  rw [sd_clv (N := p) (by omega) Mi, sd_w1]
  generalize hc : Mi p * sd_i (Di l) = c at K
  refine nm_e (Exists.intro (l + 1 + 1) ?_)
  have e1 : nI p - nI l = nI (p - l) := pk_sub hl
  have lp : ∀ (d k : Nat) (H : Nat → Fin 5), k + d = l + 1 → (∀ y, y < 5 → H y = if p - l ≤ y ∧ y < p - l + k then Mi y - c * Di (y - (p - l)) else Mi y) → wY_reduceMinor_23 post (nI p) (nI l) (sd_eI c) (nI n) (d + 1) (nI k) (sd_ea 16 R) (sd_v1 H) (sd_v1 Te) (sd_v1 Di) (sd_v1 Ot) (sd_ea 5 Fa) (sd_ea 5 Ke) (sd_ea 16 Ro) := by
    intro d
    induction d with
    | zero =>
      intro k H hk h
      refine br_t (nI_lt (by omega) (by omega)) (K H (fun y hy => ?_))
      rw [h y hy]
      by_cases z : p - l ≤ y ∧ y ≤ p
      · have q : p - l ≤ y ∧ y < p - l + k := ⟨z.1, by omega⟩
        rw [if_pos z, if_pos q]
      · have q : ¬ (p - l ≤ y ∧ y < p - l + k) := fun q => z ⟨q.1, by omega⟩
        rw [if_neg z, if_neg q]
    | succ d ih =>
      intro k H hk h
      refine br_f (nI_nlt (by omega) (by omega)) ?_
      rw [e1, nI_add, sd_clv (by omega), sd_clv (by omega), sd_clN (by omega)]
      refine ⟨vp_in_nI (by omega) (by omega), vp_in_nI (by omega) (by omega), sd_50, vp_in_nI (by omega) (by omega), ?_⟩
      rw [sd_w2, sd_v1_w]
      refine nm_e (nm_r (nI_1 k) (ih (k + 1) _ (by omega) (fun y hy => ?_)))
      unfold sd_u1
      by_cases e : y = p - l + k
      · subst e
        have q : p - l ≤ p - l + k ∧ p - l + k < p - l + (k + 1) := ⟨by omega, by omega⟩
        have q' : ¬ (p - l ≤ p - l + k ∧ p - l + k < p - l + k) := fun q => by omega
        rw [if_pos rfl, if_pos q, h _ hy, if_neg q', Nat.add_sub_cancel_left]
      · rw [if_neg e, h y hy]
        by_cases z : p - l ≤ y ∧ y < p - l + k
        · have q : p - l ≤ y ∧ y < p - l + (k + 1) := ⟨z.1, by omega⟩
          rw [if_pos z, if_pos q]
        · have q : ¬ (p - l ≤ y ∧ y < p - l + (k + 1)) := fun q => z ⟨q.1, by omega⟩
          rw [if_neg z, if_neg q]
  exact lp (l + 1) 0 Mi (by omega) (fun y hy => (if_neg (fun q => by omega)).symm)
/-- exchange of minor and divisor -/
theorem yd_swap {post : SY → Prop} {J : Int32 → Int32 → (Nat → Int32) → (Nat → Int32) → (Nat → Int32) → (Nat → Int32) → (Nat → Int32) → (Nat → Int32) → (Nat → Int32) → (Nat → Int32) → Prop} {s : Nat} (K : ∀ Mi' Di', (∀ y, y < 5 → Mi' y = Di y) → (∀ y, y < 5 → Di' y = Mi y) → J (nI (s + 1)) (nI n) (sd_ea 16 R) (sd_v1 Mi') (sd_v1 Te) (sd_v1 Di') (sd_v1 Ot) (sd_ea 5 Fa) (sd_ea 5 Ke) (sd_ea 16 Ro)) :
    ∀ (d k : Nat) (H V : Nat → Fin 5), k + d = 5 → (∀ y, y < 5 → H y = if y < k then Di y else Mi y) → (∀ y, y < 5 → V y = if y < k then Mi y else Di y) → wY_share_47 post J (nI s) (nI n) (d + 1) (nI k) (sd_ea 16 R) (sd_v1 H) (sd_v1 Te) (sd_v1 V) (sd_v1 Ot) (sd_ea 5 Fa) (sd_ea 5 Ke) (sd_ea 16 Ro) := by
  intro d
  induction d with
  | zero =>
    intro k H V hk h1 h2
    have e : k = 5 := by omega
    subst e
    exact br_t (by decide) (nm_r (nI_1 s) (K H V (fun y hy => (h1 y hy).trans (if_pos hy)) (fun y hy => (h2 y hy).trans (if_pos hy))))
  | succ d ih =>
    intro k H V hk h1 h2
    refine br_f (nI_ge (b := 5) (by omega) (by decide)) ⟨vp_in_nI (by omega) (by omega), ?_⟩
    rw [sd_clv (by omega), sd_clv (by omega), sd_clN (by omega), sd_v1_w]
    refine nm_e ⟨vp_in_nI (by omega) (by omega), vp_in_nI (by omega) (by omega), nm_e ⟨vp_in_nI (by omega) (by omega), nm_r (sd_v1_w H k _) (nm_r (nI_1 k) (ih (k + 1) _ _ (by omega) (fun y hy => ?_) (fun y hy => ?_)))⟩⟩
    · unfold sd_u1
      by_cases e : y = k
      · subst e; rw [if_pos rfl, if_pos (by omega), h2 y hy, if_neg (by omega)]
      · rw [if_neg e, h1 y hy]
        by_cases l : y < k
        · rw [if_pos l, if_pos (by omega)]
        · rw [if_neg l, if_neg (by omega)]
    · unfold sd_u1
      by_cases e : y = k
      · subst e; rw [if_pos rfl, if_pos (by omega), h1 y hy, if_neg (by omega)]
      · rw [if_neg e, h2 y hy]
        by_cases l : y < k
        · rw [if_pos l, if_pos (by omega)]
        · rw [if_neg l, if_neg (by omega)]
end
/-- a row of five coefficients as a polynomial -/
def sd_p5 (f : Nat → Fin 5) : sd_P := fun j => if j < 5 then f j else 0
theorem sd_p5_dl (f : Nat → Fin 5) : sd_dl (sd_p5 f) 5 := fun j hj => if_neg (by omega)
theorem sd_p5_fs (f : Nat → Fin 5) : sd_fs (sd_p5 f) := ⟨5, sd_p5_dl f⟩
theorem sd_p5_e {f : Nat → Fin 5} {p : sd_P} (hp : sd_dl p 5) (h : ∀ k, k < 5 → f k = p k) : sd_p5 f = p := by
  funext j
  unfold sd_p5
  by_cases e : j < 5
  · rw [if_pos e, h j e]
  · rw [if_neg e, hp j (by omega)]
theorem sd_p5_c {f g : Nat → Fin 5} (h : ∀ k, k < 5 → f k = g k) : sd_p5 f = sd_p5 g := by
  funext j
  unfold sd_p5
  by_cases e : j < 5
  · rw [if_pos e, if_pos e, h j e]
  · rw [if_neg e, if_neg e]
theorem sd_sh_fs (t : Nat) {p : sd_P} (h : sd_fs p) : sd_fs (sd_sh t p) := by
  obtain ⟨d, h⟩ := h
  refine ⟨t + d, fun x hx => ?_⟩
  show (if t ≤ x then p (x - t) else 0) = 0
  rw [if_pos (by omega)]
  exact h _ (by omega)
theorem sd_rg5 {R : Type} [Lean.Grind.CommRing R] (m s d : R) : m = m + - (s * d) + d * s := by grind
/-- what share keeps -/
def sd_Sh (M0 D0 M D : sd_P) : Prop := ∀ g, (sd_dv g M ∧ sd_dv g D) ↔ (sd_dv g M0 ∧ sd_dv g D0)
theorem sd_Sh_red {M0 D0 M D M' S : sd_P} (hS : sd_fs S) (h : sd_Sh M0 D0 M D) (e : M' = sd_pa M (sd_pn (sd_pm S D))) : sd_Sh M0 D0 M' D := by
  intro g
  rw [← h g]
  constructor
  · rintro ⟨a, b⟩
    refine ⟨?_, b⟩
    have e1 : M = sd_pa M' (sd_pm D S) := by rw [e]; exact @sd_rg5 sd_P sd_R M S D
    rw [e1]
    exact sd_dv_a a (sd_dv_m b hS)
  · rintro ⟨a, b⟩
    refine ⟨?_, b⟩
    rw [e]
    exact sd_dv_a a (sd_dv_n (sd_dv_m' b hS))
theorem sd_Sh_swap {M0 D0 M D : sd_P} (h : sd_Sh M0 D0 M D) : sd_Sh M0 D0 D M := by
  intro g
  rw [← h g]
  exact ⟨fun x => ⟨x.2, x.1⟩, fun x => ⟨x.2, x.1⟩⟩
/-- the measure -/
def sd_mu2 (tm td : Nat) : Nat := if tm = 0 then 0 else 2 * (tm + td) + (if tm < td ∨ td = 0 then 1 else 0)
section
variable {n : Nat} {R Fa Ke Ro : Nat → Nat → Fin 5} {Mi Te Di Ot : Nat → Fin 5}
theorem yd_share {post : SY → Prop} (K : ∀ Mi' Di', sd_Sh (sd_p5 Mi) (sd_p5 Di) (sd_pc 0) (sd_p5 Di') → post (nI n, sd_ea 16 R, sd_v1 Mi', sd_v1 Te, sd_v1 Di', sd_v1 Ot, sd_ea 5 Fa, sd_ea 5 Ke, sd_ea 16 Ro)) : wpY_share post (nI n, sd_ea 16 R, sd_v1 Mi, sd_v1 Te, sd_v1 Di, sd_v1 Ot, sd_ea 5 Fa, sd_ea 5 Ke, sd_ea 16 Ro) := by
  refine Exists.intro 41 ?_
  have lp : ∀ (d s : Nat) (H V : Nat → Fin 5), s + d = 40 → sd_Sh (sd_p5 Mi) (sd_p5 Di) (sd_p5 H) (sd_p5 V) → (∀ tm td, sd_tg H tm → sd_tg V td → sd_mu2 tm td ≤ d) → wY_share_2 post (d + 1) (nI s) (nI n) (sd_ea 16 R) (sd_v1 H) (sd_v1 Te) (sd_v1 V) (sd_v1 Ot) (sd_ea 5 Fa) (sd_ea 5 Ke) (sd_ea 16 Ro) := by
    intro d
    induction d with
    | zero =>
      intro s H V hs h hm
      have e : s = 40 := by omega
      subst e
      refine br_t (by decide) (K H V ?_)
      obtain ⟨tm, gm⟩ := sd_tg_ex H
      obtain ⟨td, gd⟩ := sd_tg_ex V
      have := hm tm td gm gd
      unfold sd_mu2 at this
      have z : tm = 0 := by
        by_cases z : tm = 0
        · exact z
        · rw [if_neg z] at this; omega
      subst z
      have e : sd_p5 H = sd_pc 0 := by
        funext j
        have q : sd_pc 0 j = 0 := by unfold sd_pc; split <;> rfl
        rw [q]
        unfold sd_p5
        split
        · rename_i hj; exact gm.2.1 j (by omega) hj
        · rfl
      rw [e] at h
      exact h
    | succ d ih =>
      intro s H V hs h hm
      refine br_f (nI_ge (b := 40) (by omega) (by decide)) (yd_degreeOfMinor (fun tm gm => yd_degreeOfDivisor (fun td gd => ?_)))
      have mu := hm tm td gm gd
      have m5 := gm.1
      have d5 := gd.1
      have neg : ∀ t, t < 6 → ((nI t + (-1) < 0) ↔ t = 0) := by decide +kernel
      have cmp : ∀ s, s < 6 → ∀ t, t < 6 → ((nI s + (-1) < nI t + (-1)) ↔ s < t) := by decide +kernel
      -- the branch without reduction
      have br40 : ∀ _ : tm = 0 ∨ tm < td ∨ td = 0, wY_share_40 post (wY_share_2 post (d + 1)) (nI s) (nI tm + (-1)) (nI n) (sd_ea 16 R) (sd_v1 H) (sd_v1 Te) (sd_v1 V) (sd_v1 Ot) (sd_ea 5 Fa) (sd_ea 5 Ke) (sd_ea 16 Ro) := by
        intro hc
        by_cases z : tm = 0
        · refine br_t ((neg tm (by omega)).mpr z) (nm_r (nI_1 s) (ih (s + 1) H V (by omega) h (fun a b ga gb => ?_)))
          have e1 := sd_tg_u ga gm (fun _ _ => rfl)
          unfold sd_mu2
          rw [if_pos (by omega)]; omega
        · refine br_f (fun q => z ((neg tm (by omega)).mp q)) (Exists.intro 6 (yd_swap (fun H' V' h1 h2 => ih (s + 1) H' V' (by omega) ?_ (fun a b ga gb => ?_)) 5 0 H V (by omega) (fun y hy => (if_neg (by omega)).symm) (fun y hy => (if_neg (by omega)).symm)))
          · rw [sd_p5_c h1, sd_p5_c h2]; exact sd_Sh_swap h
          · have e1 := sd_tg_u ga gd h1
            have e2 := sd_tg_u gb gm h2
            subst e1; subst e2
            unfold sd_mu2 at mu ⊢
            rw [if_neg z] at mu
            by_cases a0 : a = 0
            · rw [if_pos a0]; omega
            · rw [if_neg a0]
              have q1 : b < a ∨ a = 0 := by omega
              have q2 : ¬ (a < b ∨ b = 0) := by omega
              rw [if_pos q1] at mu
              rw [if_neg q2]; omega
      by_cases z : tm = 0
      · exact br_t ((neg tm (by omega)).mpr z) (br40 (Or.inl z))
      · refine br_f (fun q => z ((neg tm (by omega)).mp q)) ?_
        by_cases l : tm < td
        · exact br_t ((cmp tm (by omega) td (by omega)).mpr l) (br40 (Or.inr (Or.inl l)))
        · refine br_f (fun q => l ((cmp tm (by omega) td (by omega)).mp q)) ?_
          by_cases z2 : td = 0
          · exact br_t ((neg td (by omega)).mpr z2) (br40 (Or.inr (Or.inr z2)))
          · refine br_f (fun q => z2 ((neg td (by omega)).mp q)) ?_
            have em : nI tm + (-1) = nI (tm - 1) := by
              have := pk_m1 (tm - 1)
              rw [show tm - 1 + 1 = tm from by omega] at this; exact this
            have ed : nI td + (-1) = nI (td - 1) := by
              have := pk_m1 (td - 1)
              rw [show td - 1 + 1 = td from by omega] at this; exact this
            rw [em, ed]
            refine yd_reduceMinor (by omega) (by omega) (fun H' h1 => nm_r (nI_1 s) (ih (s + 1) H' V (by omega) ?_ (fun a b ga gb => ?_)))
            · refine sd_Sh_red (S := sd_sh (tm - 1 - (td - 1)) (sd_pc (H (tm - 1) * sd_i (V (td - 1))))) (sd_sh_fs _ (sd_fs_pc _)) h ?_
              rw [sd_sh_pm, sd_pm_c]
              funext y
              show sd_p5 H' y = sd_p5 H y + - (if tm - 1 - (td - 1) ≤ y then (H (tm - 1) * sd_i (V (td - 1))) * sd_p5 V (y - (tm - 1 - (td - 1))) else 0)
              unfold sd_p5
              by_cases y5 : y < 5
              · rw [if_pos y5, if_pos y5, h1 y y5]
                by_cases q : tm - 1 - (td - 1) ≤ y ∧ y ≤ tm - 1
                · rw [if_pos q, if_pos q.1, if_pos (by omega)]; grind
                · rw [if_neg q]
                  by_cases q2 : tm - 1 - (td - 1) ≤ y
                  · rw [if_pos q2]
                    have zz : (if y - (tm - 1 - (td - 1)) < 5 then V (y - (tm - 1 - (td - 1))) else 0) = 0 := by
                      split
                      · rename_i q3; exact gd.2.1 _ (by omega) q3
                      · rfl
                    rw [zz]; grind
                  · rw [if_neg q2]; grind
              · rw [if_neg y5, if_neg y5]
                by_cases q2 : tm - 1 - (td - 1) ≤ y
                · rw [if_pos q2]
                  have zz : (if y - (tm - 1 - (td - 1)) < 5 then V (y - (tm - 1 - (td - 1))) else 0) = 0 := by
                    split
                    · rename_i q3; exact gd.2.1 _ (by omega) q3
                    · rfl
                  rw [zz]; grind
                · rw [if_neg q2]; grind
            · -- the degree falls
              have e2 := sd_tg_u gb gd (fun _ _ => rfl)
              subst e2
              have vne : V (b - 1) ≠ 0 := gd.2.2.resolve_left z2
              have at0 : H' (tm - 1) = 0 := by
                have q : tm - 1 - (b - 1) ≤ tm - 1 ∧ tm - 1 ≤ tm - 1 := ⟨by omega, by omega⟩
                rw [h1 _ (by omega), if_pos q]
                have e3 : tm - 1 - (tm - 1 - (b - 1)) = b - 1 := by omega
                rw [e3]
                have := sd_i_m' _ vne
                grind
              have alt : a < tm := by
                apply Classical.byContradiction
                intro hn
                rcases ga.2.2 with q | q
                · omega
                · apply q
                  by_cases e4 : a = tm
                  · rw [e4]; exact at0
                  · have a5 := ga.1
                    have q5 : ¬ (tm - 1 - (b - 1) ≤ a - 1 ∧ a - 1 ≤ tm - 1) := fun q => by omega
                    rw [h1 _ (by omega), if_neg q5]
                    exact gm.2.1 _ (by omega) (by omega)
              unfold sd_mu2 at mu ⊢
              rw [if_neg z] at mu
              have q2 : ¬ (tm < b ∨ b = 0) := by omega
              rw [if_neg q2] at mu
              by_cases a0 : a = 0
              · rw [if_pos a0]; omega
              · rw [if_neg a0]
                split <;> omega
  refine lp 40 0 Mi Di (by omega) (fun g => Iff.rfl) (fun tm td ga gb => ?_)
  have := ga.1
  have := gb.1
  unfold sd_mu2
  split
  · omega
  · split <;> omega
end
end
section
/-! ===== Y: common divisors of all minors, invariant factors ===== -/
theorem sd_pow2 : ∀ n, n < 5 → (1 : Int32) <<< (nI n &&& 31) = nI (2 ^ n) := by decide +kernel
theorem sd_and7 : ∀ t, t < 5 → nI t &&& 7 = nI t := by decide +kernel
theorem sd_full : ∀ k, k < 5 → sd_sz (2 ^ k - 1) = k ∧ ∀ t, t < k → sd_el (2 ^ k - 1) t = t := by decide +kernel
/-- the minor of a pair of sets -/
noncomputable def sd_mn (A : sd_M) (s : Nat) : sd_P := @sd_ls sd_P sd_R (sd_xm A) (s / 16) (sd_wl (s / 16) (s % 16) 256)
def sd_vs (n k s : Nat) : Prop := sd_sz (s / 16) = k ∧ sd_sz (s % 16) = k ∧ s / 16 < 2 ^ n ∧ s % 16 < 2 ^ n
theorem sd_mn_det {A : sd_M} {n k s : Nat} (hn : n ≤ 4) (hk : 1 ≤ k) (h : sd_vs n k s) : sd_mn A s = @sd_det sd_P sd_R k (sd_xm A) (sd_el (s / 16)) (sd_el (s % 16)) :=
  @sd_ways sd_P sd_R (sd_xm A) (s / 16) (s % 16) k (sd_p16 hn h.2.2.1) (sd_p16 hn h.2.2.2) hk h.1 h.2.1
theorem sd_mn_dl {A : sd_M} {n k s : Nat} (hn : n ≤ 4) (hk : 1 ≤ k) (hkn : k ≤ n) (h : sd_vs n k s) : sd_dl (sd_mn A s) 5 := by
  rw [sd_mn_det hn hk h]
  exact sd_dl_le (sd_det_dl A k _ _) (by omega)
theorem sd_det_cc {R : Type} [Lean.Grind.CommRing R] (k : Nat) (k4 : k ≤ 4) (m : Nat → Nat → R) (f f' g g' : Nat → Nat) (h1 : ∀ t, t < k → f t = f' t) (h2 : ∀ t, t < k → g t = g' t) : sd_det k m f g = sd_det k m f' g' := by
  match k, k4 with
  | 0, _ => rfl
  | 1, _ => simp only [sd_det, h1 0 (by omega), h2 0 (by omega)]
  | 2, _ => simp only [sd_det, h1 0 (by omega), h2 0 (by omega), h1 1 (by omega), h2 1 (by omega)]
  | 3, _ => simp only [sd_det, h1 0 (by omega), h2 0 (by omega), h1 1 (by omega), h2 1 (by omega), h1 2 (by omega), h2 2 (by omega)]
  | 4, _ => simp only [sd_det, h1 0 (by omega), h2 0 (by omega), h1 1 (by omega), h2 1 (by omega), h1 2 (by omega), h2 2 (by omega), h1 3 (by omega), h2 3 (by omega)]
/-- from the divisors of all minors to the greatest common divisor -/
theorem sd_gcd_of {n k : Nat} (hn : n ≤ 4) (h1n : 1 ≤ n) (hk : 1 ≤ k) (hkn : k ≤ n) {A : sd_M} {V : Nat → Fin 5} (h : ∀ g, sd_dv g (sd_p5 V) ↔ ∀ s, s < 256 → sd_vs n k s → sd_dv g (sd_mn A s)) :
    ∃ t, sd_tg V t ∧ 1 ≤ t ∧ sd_gcd n k A (fun j => sd_i (V (t - 1)) * sd_p5 V j) := by
  obtain ⟨t, gt⟩ := sd_tg_ex V
  have hfull := sd_full k (by omega)
  have s0 : 2 ^ k - 1 < 2 ^ n := by
    have : 2 ^ k ≤ 2 ^ n := Nat.pow_le_pow_right (by omega) hkn
    have := Nat.pow_pos (n := k) (by omega : 0 < 2)
    omega
  have s16 : 2 ^ k - 1 < 16 := sd_p16 hn s0
  have vs0 : sd_vs n k (16 * (2 ^ k - 1) + (2 ^ k - 1)) := by
    have e1 : (16 * (2 ^ k - 1) + (2 ^ k - 1)) / 16 = 2 ^ k - 1 := by omega
    have e2 : (16 * (2 ^ k - 1) + (2 ^ k - 1)) % 16 = 2 ^ k - 1 := by omega
    unfold sd_vs
    rw [e1, e2]
    exact ⟨hfull.1, hfull.1, s0, s0⟩
  have mcp : sd_mn A (16 * (2 ^ k - 1) + (2 ^ k - 1)) = sd_cp k A := by
    rw [sd_mn_det hn hk vs0]
    have e1 : (16 * (2 ^ k - 1) + (2 ^ k - 1)) / 16 = 2 ^ k - 1 := by omega
    have e2 : (16 * (2 ^ k - 1) + (2 ^ k - 1)) % 16 = 2 ^ k - 1 := by omega
    rw [e1, e2]
    exact @sd_det_id sd_P sd_R k (by omega) (sd_xm A) _ _ hfull.2 hfull.2
  have tpos : 1 ≤ t := by
    apply Classical.byContradiction
    intro hn0
    have t0 : t = 0 := by omega
    subst t0
    have z : sd_p5 V = sd_pc 0 := by
      funext j
      have q : sd_pc 0 j = 0 := by unfold sd_pc; split <;> rfl
      rw [q]
      unfold sd_p5
      split
      · rename_i hj; exact gt.2.1 j (by omega) hj
      · rfl
    have d := (h (sd_p5 V)).mp (sd_dv_r _) _ (by omega) vs0
    rw [mcp, z] at d
    obtain ⟨q, _, e⟩ := d
    rw [sd_pm_0] at e
    have m := (sd_cp_mo hk (by omega) A).1
    rw [e] at m
    have : sd_pc 0 k = 0 := by unfold sd_pc; split <;> rfl
    rw [this] at m
    exact absurd m (by decide)
  have vne : V (t - 1) ≠ 0 := gt.2.2.resolve_left (by omega)
  have t5 := gt.1
  have eD : (fun j => sd_i (V (t - 1)) * sd_p5 V j) = sd_pm (sd_pc (sd_i (V (t - 1)))) (sd_p5 V) := (sd_pm_c _ _).symm
  have eV : sd_p5 V = sd_pm (sd_pc (V (t - 1))) (sd_pm (sd_pc (sd_i (V (t - 1)))) (sd_p5 V)) := by
    rw [← sd_pm_as, ← sd_pc_m, sd_i_m _ vne, sd_pm_1]
  have dvD : ∀ g, sd_dv g (fun j => sd_i (V (t - 1)) * sd_p5 V j) ↔ sd_dv g (sd_p5 V) := by
    intro g
    rw [eD]
    constructor
    · intro d; rw [eV]; exact sd_dv_m' d (sd_fs_pc _)
    · intro d; exact sd_dv_m' d (sd_fs_pc _)
  refine ⟨t, gt, tpos, ⟨t - 1, ?_, ?_⟩, ?_, ?_⟩
  · show sd_i (V (t - 1)) * (if t - 1 < 5 then V (t - 1) else 0) = 1
    rw [if_pos (by omega)]
    exact sd_i_m' _ vne
  · intro j hj
    show sd_i (V (t - 1)) * (if j < 5 then V j else 0) = 0
    split
    · rename_i q; rw [gt.2.1 j (by omega) q]; grind
    · grind
  · apply @sd_srt' sd_P sd_R _ (sd_dv_0 _) (fun x hx => sd_dv_n hx) k hk (by omega)
    intro a b ha hb sa sb
    obtain ⟨S, hS, zS, eS⟩ := sd_el_ex hn hk hkn ha sa
    obtain ⟨T, hT, zT, eT⟩ := sd_el_ex hn hk hkn hb sb
    have S16 := sd_p16 hn hS
    have T16 := sd_p16 hn hT
    have e1 : (16 * S + T) / 16 = S := by omega
    have e2 : (16 * S + T) % 16 = T := by omega
    have vs : sd_vs n k (16 * S + T) := by unfold sd_vs; rw [e1, e2]; exact ⟨zS, zT, hS, hT⟩
    have d := (h _).mp ((dvD _).mp (sd_dv_r _)) (16 * S + T) (by omega) vs
    rw [sd_mn_det hn hk vs, e1, e2] at d
    have e3 : @sd_det sd_P sd_R k (sd_xm A) (sd_el S) (sd_el T) = @sd_det sd_P sd_R k (sd_xm A) a b := by
      exact @sd_det_cc sd_P sd_R k (by omega) (sd_xm A) _ _ _ _ eS eT
    rw [e3] at d
    exact d
  · intro g hg
    rw [dvD, h g]
    intro s _ vs
    rw [sd_mn_det hn hk vs]
    exact hg _ _ (sd_el_lt h1n hn vs.2.2.1) (sd_el_lt h1n hn vs.2.2.2)
section
variable {n : Nat} {R Fa Ke Ro : Nat → Nat → Fin 5} {Mi Te Di Ot : Nat → Fin 5}
theorem yd_shareAll {post : SY → Prop} {r k : Nat} {A : sd_M} (hr : r ≤ 5) (hn : n ≤ 4) (h1n : 1 ≤ n) (hk : 1 ≤ k) (hkn : k ≤ n) (hA : ∀ i j, i < n → j < n → R r (n * i + j) = A i j)
    (K : ∀ Mi' Te' Di' D, sd_gcd n k A D → sd_dl D 5 → (∀ j, j < 5 → Di' j = D j) → post (nI n, sd_ea 16 R, sd_v1 Mi', sd_v1 Te', sd_v1 Di', sd_v1 Ot, sd_ea 5 Fa, sd_ea 5 Ke, sd_ea 16 Ro)) : wpY_shareAll post (nI n, sd_ea 16 R, sd_v1 Mi, sd_v1 Te, sd_v1 Di, sd_v1 Ot, sd_ea 5 Fa, sd_ea 5 Ke, sd_ea 16 Ro) (nI r) (nI k) := by
  refine Exists.intro 6 ?_
  have nrm : ∀ (c : Fin 5) (V0 M0 T0 : Nat → Fin 5) (K' : ∀ V, (∀ j, j < 5 → V j = c * V0 j) → post (nI n, sd_ea 16 R, sd_v1 M0, sd_v1 T0, sd_v1 V, sd_v1 Ot, sd_ea 5 Fa, sd_ea 5 Ke, sd_ea 16 Ro)), ∀ (d j : Nat) (V : Nat → Fin 5), j + d = 5 → (∀ y, y < 5 → V y = if y < j then c * V0 y else V0 y) → wY_shareAll_126 post (sd_eI c) (nI n) (d + 1) (nI j) (sd_ea 16 R) (sd_v1 M0) (sd_v1 T0) (sd_v1 V) (sd_v1 Ot) (sd_ea 5 Fa) (sd_ea 5 Ke) (sd_ea 16 Ro) := by
    intro c V0 M0 T0 K' d
    induction d with
    | zero =>
      intro j V hj h
      have e : j = 5 := by omega
      subst e
      exact br_t (by decide) (K' V (fun y hy => (h y hy).trans (if_pos hy)))
    | succ d ih =>
      intro j V hj h
      refine br_f (nI_ge (b := 5) (by omega) (by decide)) ⟨vp_in_nI (by omega) (by omega), sd_50, vp_in_nI (by omega) (by omega), ?_⟩
      rw [sd_clv (by omega), sd_clN (by omega), sd_w1, sd_v1_w]
      refine nm_e (nm_r (nI_1 j) (ih (j + 1) _ (by omega) (fun y hy => ?_)))
      unfold sd_u1
      by_cases e : y = j
      · subst e; rw [if_pos rfl, if_pos (by omega), h y hy, if_neg (by omega)]; grind
      · rw [if_neg e, h y hy]
        by_cases l : y < j
        · rw [if_pos l, if_pos (by omega)]
        · rw [if_neg l, if_neg (by omega)]
  have sets : ∀ (d s : Nat) (M T V : Nat → Fin 5), s + d = 256 → (∀ g, sd_dv g (sd_p5 V) ↔ ∀ s', s' < s → sd_vs n k s' → sd_dv g (sd_mn A s')) → wY_shareAll_22 post (nI r) (nI k) (d + 1) (nI s) (nI n) (sd_ea 16 R) (sd_v1 M) (sd_v1 T) (sd_v1 V) (sd_v1 Ot) (sd_ea 5 Fa) (sd_ea 5 Ke) (sd_ea 16 Ro) := by
    intro d
    induction d with
    | zero =>
      intro s M T V hs h
      have e : s = 256 := by omega
      subst e
      obtain ⟨t, gt, tp, gc⟩ := sd_gcd_of hn h1n hk hkn h
      have t5 := gt.1
      refine br_t (by decide) (yd_degreeOfDivisor (fun t' gt' => ?_))
      have et := sd_tg_u gt' gt (fun _ _ => rfl)
      subst et
      have em : nI t' + (-1) = nI (t' - 1) := by
        have := pk_m1 (t' - 1)
        rw [show t' - 1 + 1 = t' from by omega] at this; exact this
      rw [em, sd_and7 (t' - 1) (by omega), sd_clv (by omega)]
      refine ⟨vp_in_nI (by omega) (by omega), yd_inverse (Exists.intro 6 (nrm _ V M T (fun V' hV' => K M T V' _ gc ?_ (fun j hj => ?_)) 5 0 V (by omega) (fun y hy => (if_neg (by omega)).symm)))⟩
      · intro j hj
        show sd_i (V (t' - 1)) * (if j < 5 then V j else 0) = 0
        rw [if_neg (by omega)]; grind
      · rw [hV' j hj]
        show _ = sd_i (V (t' - 1)) * (if j < 5 then V j else 0)
        rw [if_pos hj]
    | succ d ih =>
      intro s M T V hs h
      have d16 : nI s / 16 = nI (s / 16) := pk_div (d := 16) (by omega) (by omega) (by omega)
      have r16 : nI s - nI s / 16 * 16 = nI (s % 16) := pk_rem (d := 16) (by omega) (by omega) (by omega)
      have skip : ¬ sd_vs n k s → wY_shareAll_22 post (nI r) (nI k) (d + 1) (nI (s + 1)) (nI n) (sd_ea 16 R) (sd_v1 M) (sd_v1 T) (sd_v1 V) (sd_v1 Ot) (sd_ea 5 Fa) (sd_ea 5 Ke) (sd_ea 16 Ro) := by
        intro nv
        refine ih (s + 1) M T V (by omega) (fun g => ?_)
        rw [h g]
        constructor
        · intro q s' hs' vs
          by_cases e : s' = s
          · rw [e] at vs; exact absurd vs nv
          · exact q s' (by omega) vs
        · intro q s' hs' vs; exact q s' (by omega) vs
      refine br_f (nI_ge (b := 256) (by omega) (by decide)) ⟨by decide, nm_r d16 ⟨by decide, nm_r r16 (yd_sizeOf (by omega) ?_)⟩⟩
      have z1 : sd_sz (s / 16) ≤ 4 := by
        have : ∀ S, S < 16 → sd_sz S ≤ 4 := by decide
        exact this _ (by omega)
      have z2 : sd_sz (s % 16) ≤ 4 := by
        have : ∀ S, S < 16 → sd_sz S ≤ 4 := by decide
        exact this _ (by omega)
      by_cases c1 : sd_sz (s / 16) = k
      · refine br_t (by rw [c1]) (yd_sizeOf (by omega) ?_)
        by_cases c2 : sd_sz (s % 16) = k
        · refine br_t (by rw [c2]) ?_
          have p16 : 2 ^ n ≤ 16 := by
            have : 2 ^ n ≤ 2 ^ 4 := Nat.pow_le_pow_right (by omega) hn
            exact this
          rw [sd_pow2 n (by omega)]
          by_cases c3 : 2 ^ n ≤ s / 16
          · exact br_t (nI_le c3 (by omega)) (nm_r (nI_1 s) (skip (fun v => absurd v.2.2.1 (by omega))))
          · refine br_f (nI_ge (by omega) (by omega)) ?_
            by_cases c4 : 2 ^ n ≤ s % 16
            · exact br_t (nI_le c4 (by omega)) (nm_r (nI_1 s) (skip (fun v => absurd v.2.2.2 (by omega))))
            · have vs : sd_vs n k s := ⟨c1, c2, by omega, by omega⟩
              refine br_f (nI_ge (by omega) (by omega)) (yd_findMinor (x := true) (A := A) hr hn hA (by omega) (by omega) rfl (fun M' T' hM => yd_share (fun M'' V' sh => nm_r (nI_1 s) (ih (s + 1) M'' T' V' (by omega) (fun g => ?_)))))
              have em : sd_p5 M' = sd_mn A s := sd_p5_e (sd_mn_dl hn hk hkn vs) hM
              have q := sh g
              rw [em, h g] at q
              constructor
              · intro dv s' hs' vs'
                obtain ⟨a, b⟩ := q.mp ⟨sd_dv_0 g, dv⟩
                by_cases e : s' = s
                · rw [e]; exact a
                · exact b s' (by omega) vs'
              · intro all
                exact (q.mpr ⟨all s (by omega) vs, fun s' hs' vs' => all s' (by omega) vs'⟩).2
        · exact br_f (fun z => c2 ((nI_eq (by omega) (by omega)).mp z)) (nm_r (nI_1 s) (skip (fun v => c2 v.2.1)))
      · exact br_f (fun z => c1 ((nI_eq (by omega) (by omega)).mp z)) (nm_r (nI_1 s) (skip (fun v => c1 v.1)))
  have ini : ∀ (d j : Nat) (V : Nat → Fin 5), j + d = 5 → (∀ y, y < j → V y = 0) → wY_shareAll_2 post (nI r) (nI k) (nI n) (d + 1) (nI j) (sd_ea 16 R) (sd_v1 Mi) (sd_v1 Te) (sd_v1 V) (sd_v1 Ot) (sd_ea 5 Fa) (sd_ea 5 Ke) (sd_ea 16 Ro) := by
    intro d
    induction d with
    | zero =>
      intro j V hj h
      have e : j = 5 := by omega
      subst e
      refine br_t (by decide) (Exists.intro 257 (sets 256 0 Mi Te V (by omega) (fun g => ⟨fun _ s' hs' => absurd hs' (by omega), fun _ => ?_⟩)))
      have z : sd_p5 V = sd_pc 0 := by
        funext j
        have q : sd_pc 0 j = 0 := by unfold sd_pc; split <;> rfl
        rw [q]
        unfold sd_p5
        split
        · rename_i hj; exact h j hj
        · rfl
      rw [z]; exact sd_dv_0 g
    | succ d ih =>
      intro j V hj h
      refine br_f (nI_ge (b := 5) (by omega) (by decide)) ?_
      rw [sd_clN (by omega)]
      refine ⟨vp_in_nI (by omega) (by omega), nm_r (sd_v1_w V j 0) (nm_r (nI_1 j) (ih (j + 1) _ (by omega) (fun y hy => ?_)))⟩
      unfold sd_u1
      by_cases e : y = j
      · rw [if_pos e]
      · rw [if_neg e]; exact h y (by omega)
  exact ini 5 0 Di (by omega) (fun y hy => absurd hy (by omega))
/-- division of the divisor by the one before it -/
theorem yd_divide {post : SY → Prop} {k l : Nat} {P E : sd_P} (hk : k < 4) (hl : l ≤ 4) (hP : sd_mo P l) (hO : ∀ j, j < 5 → Ot j = P j) (hE : sd_fs E) (hD : ∀ j, j < 5 → Di j = sd_pm P E j) (hdl : sd_dl (sd_pm P E) 5)
    (K : ∀ Mi' Fa', (∀ j, j < 5 → Fa' k j = E j) → (∀ t j, t ≠ k → j < 5 → Fa' t j = Fa t j) → post (nI n, sd_ea 16 R, sd_v1 Mi', sd_v1 Te, sd_v1 Di, sd_v1 Ot, sd_ea 5 Fa', sd_ea 5 Ke, sd_ea 16 Ro)) : wpY_divide post (nI n, sd_ea 16 R, sd_v1 Mi, sd_v1 Te, sd_v1 Di, sd_v1 Ot, sd_ea 5 Fa, sd_ea 5 Ke, sd_ea 16 Ro) (nI k) := by
  refine Exists.intro 6 ?_
  have inner : ∀ (J : Int32 → (Nat → Int32) → (Nat → Int32) → (Nat → Int32) → (Nat → Int32) → (Nat → Int32) → (Nat → Int32) → (Nat → Int32) → (Nat → Int32) → Prop) (t : Nat) (c : Fin 5) (M0 : Nat → Fin 5) (U : Nat → Nat → Fin 5), l ≤ t → t < 5 →
      (∀ H, (∀ y, y < 5 → H y = if t - l ≤ y ∧ y ≤ t then M0 y - c * P (y - (t - l)) else M0 y) → J (nI t + (-1)) (sd_ea 16 R) (sd_v1 H) (sd_v1 Te) (sd_v1 Di) (sd_v1 Ot) (sd_ea 5 U) (sd_ea 5 Ke) (sd_ea 16 Ro)) →
      ∀ (d j : Nat) (H : Nat → Fin 5), j + d = l + 1 → (∀ y, y < 5 → H y = if t - l ≤ y ∧ y < t - l + j then M0 y - c * P (y - (t - l)) else M0 y) → wY_divide_81 post J (nI k) (nI l) (nI t) (sd_eI c) (nI n) (d + 1) (nI j) (sd_ea 16 R) (sd_v1 H) (sd_v1 Te) (sd_v1 Di) (sd_v1 Ot) (sd_ea 5 U) (sd_ea 5 Ke) (sd_ea 16 Ro) := by
    intro J t c M0 U hlt ht KJ d
    have e1 : nI t - nI l = nI (t - l) := pk_sub hlt
    induction d with
    | zero =>
      intro j H hj h
      refine br_t (nI_lt (by omega) (by omega)) (nm_e (KJ H (fun y hy => ?_)))
      rw [h y hy]
      by_cases z : t - l ≤ y ∧ y ≤ t
      · have q : t - l ≤ y ∧ y < t - l + j := ⟨z.1, by omega⟩
        rw [if_pos z, if_pos q]
      · have q : ¬ (t - l ≤ y ∧ y < t - l + j) := fun q => z ⟨q.1, by omega⟩
        rw [if_neg z, if_neg q]
    | succ d ih =>
      intro j H hj h
      refine br_f (nI_nlt (by omega) (by omega)) ?_
      rw [e1, nI_add, sd_clv (N := t - l + j) (by omega) H, sd_clv (N := j) (by omega) Ot, sd_clN (by omega)]
      refine ⟨vp_in_nI (by omega) (by omega), vp_in_nI (by omega) (by omega), sd_50, vp_in_nI (by omega) (by omega), ?_⟩
      rw [sd_w2, sd_v1_w]
      refine nm_e (nm_r (nI_1 j) (ih (j + 1) _ (by omega) (fun y hy => ?_)))
      unfold sd_u1
      by_cases e : y = t - l + j
      · subst e
        have q : t - l ≤ t - l + j ∧ t - l + j < t - l + (j + 1) := ⟨by omega, by omega⟩
        have q' : ¬ (t - l ≤ t - l + j ∧ t - l + j < t - l + j) := fun q => by omega
        rw [if_pos rfl, if_pos q, h _ hy, if_neg q', Nat.add_sub_cancel_left, hO j (by omega)]
      · rw [if_neg e, h y hy]
        by_cases z : t - l ≤ y ∧ y < t - l + j
        · have q : t - l ≤ y ∧ y < t - l + (j + 1) := ⟨z.1, by omega⟩
          rw [if_pos z, if_pos q]
        · have q : ¬ (t - l ≤ y ∧ y < t - l + (j + 1)) := fun q => z ⟨q.1, by omega⟩
          rw [if_neg z, if_neg q]
  have tops : ∀ (d t : Nat) (H : Nat → Fin 5) (U : Nat → Nat → Fin 5) (F : sd_P), l + d = t → t ≤ 5 → sd_dl (sd_p5 H) t → sd_fs F → (∀ j, j < 5 → U k j = F j) → (∀ j, j < t - l → F j = 0) → sd_pa (sd_pm F P) (sd_p5 H) = sd_pm P E → (∀ q j, q ≠ k → j < 5 → U q j = Fa q j) → wY_divide_51 post (nI k) (nI l) (nI n) (d + 1) (nI t + (-1)) (sd_ea 16 R) (sd_v1 H) (sd_v1 Te) (sd_v1 Di) (sd_v1 Ot) (sd_ea 5 U) (sd_ea 5 Ke) (sd_ea 16 Ro) := by
    intro d
    induction d with
    | zero =>
      intro t H U F ht _ dl fs hU _ eq fr
      have et : t = l := by omega
      subst et
      have sg : nI t + (-1) < nI t := by
        have : ∀ t, t < 6 → nI t + (-1) < nI t := by decide +kernel
        exact this t (by omega)
      obtain ⟨c1, _⟩ := sd_div_u (q' := E) (r' := sd_pc 0) hP fs hE dl (fun j _ => by unfold sd_pc; split <;> rfl) (by
        rw [eq]
        funext j
        show sd_pm P E j = sd_pm E P j + sd_pc 0 j
        have q : sd_pc 0 j = 0 := by unfold sd_pc; split <;> rfl
        rw [q, sd_pm_cm]; grind)
      exact br_t sg (K H U (fun j hj => by rw [hU j hj, c1]) fr)
    | succ d ih =>
      intro t H U F ht ht5 dl fs hU z eq fr
      have em : nI t + (-1) = nI (t - 1) := by
        have := pk_m1 (t - 1)
        rw [show t - 1 + 1 = t from by omega] at this; exact this
      rw [em]
      have ix : ((5 : Int32) * nI k + nI (t - 1)) - nI l = nI (5 * k + (t - 1 - l)) := by
        rw [show (5 : Int32) * nI k = nI (5 * k) from pk_mul 5 k, nI_add, pk_sub (by omega)]
        congr 1; omega
      refine br_f (nI_nlt (by omega) (by omega)) ⟨vp_in_nI (by omega) (by omega), ?_⟩
      rw [sd_clv (by omega), ix, sd_clN (by omega)]
      refine nm_e ⟨vp_in_nI (by omega) (by omega), nm_r (sd_ea_w (w := 5) (a := k) (b := t - 1 - l) (by omega) U _) (Exists.intro (l + 1 + 1) (inner _ (t - 1) (H (t - 1)) H _ (by omega) (by omega) (fun H' h' => ?_) (l + 1) 0 H (by omega) (fun y hy => (if_neg (fun q => by omega)).symm)))⟩
      have fF : sd_fs (sd_sh (t - 1 - l) (sd_pc (H (t - 1)))) := sd_sh_fs _ (sd_fs_pc _)
      have e5 : sd_p5 H' = sd_pa (sd_p5 H) (sd_pn (sd_pm (sd_sh (t - 1 - l) (sd_pc (H (t - 1)))) P)) := by
        rw [sd_sh_pm, sd_pm_c]
        funext y
        show sd_p5 H' y = sd_p5 H y + - (if t - 1 - l ≤ y then H (t - 1) * P (y - (t - 1 - l)) else 0)
        unfold sd_p5
        by_cases y5 : y < 5
        · rw [if_pos y5, if_pos y5, h' y y5]
          by_cases q : t - 1 - l ≤ y ∧ y ≤ t - 1
          · rw [if_pos q, if_pos q.1]; grind
          · rw [if_neg q]
            by_cases q2 : t - 1 - l ≤ y
            · rw [if_pos q2, hP.2 _ (by omega)]; grind
            · rw [if_neg q2]; grind
        · rw [if_neg y5, if_neg y5]
          by_cases q2 : t - 1 - l ≤ y
          · rw [if_pos q2, hP.2 _ (by omega)]; grind
          · rw [if_neg q2]; grind
      refine ih (t - 1) H' _ (sd_pa F (sd_sh (t - 1 - l) (sd_pc (H (t - 1))))) (by omega) (by omega) ?_ (sd_fs_pa fs fF) ?_ ?_ ?_ ?_
      · intro y hy
        by_cases y5 : y < 5
        · show (if y < 5 then H' y else 0) = 0
          rw [if_pos y5, h' y y5]
          by_cases e : y = t - 1
          · subst e
            have q : t - 1 - l ≤ t - 1 ∧ t - 1 ≤ t - 1 := ⟨by omega, by omega⟩
            have e3 : t - 1 - (t - 1 - l) = l := by omega
            rw [if_pos q, e3, hP.1]; grind
          · have q : ¬ (t - 1 - l ≤ y ∧ y ≤ t - 1) := fun q => by omega
            rw [if_neg q]
            have := dl y (by omega)
            unfold sd_p5 at this
            rw [if_pos y5] at this
            exact this
        · exact if_neg y5
      · intro j hj
        show sd_u U k (t - 1 - l) (H (t - 1)) k j = F j + (if t - 1 - l ≤ j then sd_pc (H (t - 1)) (j - (t - 1 - l)) else 0)
        by_cases e : j = t - 1 - l
        · subst e
          rw [sd_u_s, z _ (by omega), if_pos (Nat.le_refl _), Nat.sub_self]
          show H (t - 1) = 0 + H (t - 1)
          grind
        · rw [sd_u_n (fun q => e q.2), hU j hj]
          by_cases q2 : t - 1 - l ≤ j
          · rw [if_pos q2]
            have : sd_pc (H (t - 1)) (j - (t - 1 - l)) = 0 := if_neg (by omega)
            rw [this]; grind
          · rw [if_neg q2]; grind
      · intro j hj
        show F j + (if t - 1 - l ≤ j then sd_pc (H (t - 1)) (j - (t - 1 - l)) else 0) = 0
        rw [z j (by omega), if_neg (by omega)]; rfl
      · rw [e5, ← eq]
        exact @sd_rg4 sd_P sd_R F (sd_sh (t - 1 - l) (sd_pc (H (t - 1)))) P (sd_p5 H)
      · intro q j hq hj
        rw [sd_u_n (fun z => hq z.1), fr q j hq hj]
  have ini : ∀ (d j w : Nat) (H : Nat → Fin 5) (U : Nat → Nat → Fin 5), j + d = 5 → w < 5 → (l < j → w = l) → (∀ y, y < j → H y = Di y) → (∀ y, y < j → U k y = 0) → (∀ q y, q ≠ k → y < 5 → U q y = Fa q y) → wY_divide_4 post (nI k) (nI n) (d + 1) (nI w) (nI j) (sd_ea 16 R) (sd_v1 H) (sd_v1 Te) (sd_v1 Di) (sd_v1 Ot) (sd_ea 5 U) (sd_ea 5 Ke) (sd_ea 16 Ro) := by
    intro d
    induction d with
    | zero =>
      intro j w H U hj hw hlw hH hU fr
      have e : j = 5 := by omega
      subst e
      have ew := hlw (by omega)
      subst ew
      have eq : sd_p5 H = sd_pm P E := sd_p5_e hdl (fun y hy => by rw [hH y hy, hD y hy])
      have z := tops (5 - w) 5 H U (sd_pc 0) (by omega) (by omega) (sd_p5_dl H) (sd_fs_pc 0) (fun j hj => by rw [hU j hj]; unfold sd_pc; split <;> rfl) (fun j _ => by unfold sd_pc; split <;> rfl) (by
        rw [sd_pm_0, eq]; funext j
        show sd_pc 0 j + sd_pm P E j = sd_pm P E j
        have q : sd_pc 0 j = 0 := by unfold sd_pc; split <;> rfl
        rw [q]; grind) fr
      rw [show nI 5 + (-1) = 4 from by decide] at z
      exact br_t (by decide) (Exists.intro _ z)
    | succ d ih =>
      intro j w H U hj hw hlw hH hU fr
      refine br_f (nI_ge (b := 5) (by omega) (by decide)) ⟨vp_in_nI (by omega) (by omega), vp_in_nI (by omega) (by omega), ?_⟩
      rw [sd_clv (N := j) (by omega) Di, sd_clv (N := j) (by omega) Ot, sd_clN (by omega), sd_v1_w]
      refine nm_e ⟨vp_in_nI (by omega) (by omega), ?_⟩
      have nx : ∀ w', w' < 5 → (l < j + 1 → w' = l) → wY_divide_32 post (wY_divide_4 post (nI k) (nI n) (d + 1)) (nI k) (nI w') (nI j) (nI n) (sd_ea 16 R) (sd_v1 (sd_u1 H j (Di j))) (sd_v1 Te) (sd_v1 Di) (sd_v1 Ot) (sd_ea 5 U) (sd_ea 5 Ke) (sd_ea 16 Ro) := by
        intro w' hw' hlw'
        have ix : (5 : Int32) * nI k + nI j = nI (5 * k + j) := by
          rw [show (5 : Int32) * nI k = nI (5 * k) from pk_mul 5 k, nI_add]
        show vp_in ((5 * nI k) + nI j) 20 ∧ ∀ a, a = upd (sd_ea 5 U) ((5 * nI k) + nI j).toNatClampNeg 0 → (∀ b, b = nI j + 1 → _)
        rw [ix, sd_clN (by omega)]
        refine ⟨vp_in_nI (by omega) (by omega), nm_r (sd_ea_w (w := 5) (a := k) (b := j) (by omega) U 0) (nm_r (nI_1 j) (ih (j + 1) w' _ _ (by omega) hw' hlw' (fun y hy => ?_) (fun y hy => ?_) (fun q y hq hy => ?_)))⟩
        · unfold sd_u1
          by_cases e : y = j
          · rw [if_pos e, e]
          · rw [if_neg e]; exact hH y (by omega)
        · by_cases e : y = j
          · subst e; exact sd_u_s
          · rw [sd_u_n (fun z => e z.2)]; exact hU y (by omega)
        · rw [sd_u_n (fun z => hq z.1), fr q y hq hy]
      by_cases z : Ot j = 0
      · refine br_t ((sd_eI_0 _).mpr z) (nx w hw (fun h => ?_))
        by_cases e : l = j
        · subst e
          rw [hO l (by omega), hP.1] at z
          exact absurd z (by decide)
        · exact hlw (by omega)
      · refine br_f (fun q => z ((sd_eI_0 _).mp q)) (nx j (by omega) (fun h => ?_))
        apply Classical.byContradiction
        intro hn
        apply z
        rw [hO j (by omega)]
        exact hP.2 j (by omega)
  exact ini 5 0 0 Mi Fa (by omega) (by omega) (fun h => absurd h (by omega)) (fun y hy => absurd hy (by omega)) (fun y hy => absurd hy (by omega)) (fun _ _ _ _ => rfl)
end
end
section
/-! ===== Y: invariant factors, values, ranks ===== -/
theorem sd_km_det (A : sd_M) (k : Nat) (h4 : k ≤ 4) (a b : Nat → Nat) : @sd_det sd_P sd_R k (sd_km A) a b = sd_pc (sd_det k A a b) := by
  have d2 : ∀ (i j p q : Nat), @sd_D2 sd_P sd_R (sd_km A i) (sd_km A j) p q = sd_pc (sd_D2 (A i) (A j) p q) := by
    intro i j p q
    show sd_pa (sd_pm (sd_pc (A i p)) (sd_pc (A j q))) (sd_pn (sd_pm (sd_pc (A i q)) (sd_pc (A j p)))) = sd_pc (A i p * A j q - A i q * A j p)
    rw [← sd_pc_m, ← sd_pc_m, ← sd_pc_n, ← sd_pc_a, sd_sub_f]
  have d3 : ∀ (i j l p q r : Nat), @sd_D3 sd_P sd_R (sd_km A i) (sd_km A j) (sd_km A l) p q r = sd_pc (sd_D3 (A i) (A j) (A l) p q r) := by
    intro i j l p q r
    show sd_pa (sd_pa (sd_pm (sd_pc (A i p)) (@sd_D2 sd_P sd_R (sd_km A j) (sd_km A l) q r)) (sd_pn (sd_pm (sd_pc (A i q)) (@sd_D2 sd_P sd_R (sd_km A j) (sd_km A l) p r)))) (sd_pm (sd_pc (A i r)) (@sd_D2 sd_P sd_R (sd_km A j) (sd_km A l) p q)) = sd_pc (A i p * sd_D2 (A j) (A l) q r - A i q * sd_D2 (A j) (A l) p r + A i r * sd_D2 (A j) (A l) p q)
    rw [d2, d2, d2, ← sd_pc_m, ← sd_pc_m, ← sd_pc_m, ← sd_pc_n, ← sd_pc_a, ← sd_pc_a, sd_sub_f]
  match k, h4 with
  | 0, _ => rfl
  | 1, _ => rfl
  | 2, _ => exact d2 _ _ _ _
  | 3, _ => exact d3 _ _ _ _ _ _
  | 4, _ =>
    show sd_pa (sd_pa (sd_pa (sd_pm (sd_pc (A (a 0) (b 0))) (@sd_D3 sd_P sd_R (sd_km A (a 1)) (sd_km A (a 2)) (sd_km A (a 3)) (b 1) (b 2) (b 3))) (sd_pn (sd_pm (sd_pc (A (a 0) (b 1))) (@sd_D3 sd_P sd_R (sd_km A (a 1)) (sd_km A (a 2)) (sd_km A (a 3)) (b 0) (b 2) (b 3))))) (sd_pm (sd_pc (A (a 0) (b 2))) (@sd_D3 sd_P sd_R (sd_km A (a 1)) (sd_km A (a 2)) (sd_km A (a 3)) (b 0) (b 1) (b 3)))) (sd_pn (sd_pm (sd_pc (A (a 0) (b 3))) (@sd_D3 sd_P sd_R (sd_km A (a 1)) (sd_km A (a 2)) (sd_km A (a 3)) (b 0) (b 1) (b 2)))) = sd_pc (A (a 0) (b 0) * sd_D3 (A (a 1)) (A (a 2)) (A (a 3)) (b 1) (b 2) (b 3) - A (a 0) (b 1) * sd_D3 (A (a 1)) (A (a 2)) (A (a 3)) (b 0) (b 2) (b 3) + A (a 0) (b 2) * sd_D3 (A (a 1)) (A (a 2)) (A (a 3)) (b 0) (b 1) (b 3) - A (a 0) (b 3) * sd_D3 (A (a 1)) (A (a 2)) (A (a 3)) (b 0) (b 1) (b 2))
    rw [d3, d3, d3, d3, ← sd_pc_m, ← sd_pc_m, ← sd_pc_m, ← sd_pc_m, ← sd_pc_n, ← sd_pc_n, ← sd_pc_a, ← sd_pc_a, ← sd_pc_a, sd_sub_f, sd_sub_f]
theorem sd_nm_pc (c : Fin 5) : sd_nm 5 (sd_pc c) = c.val := by
  have e : sd_pc c = sd_dg c.val := by
    funext j
    unfold sd_pc
    by_cases h : j = 0
    · rw [if_pos h, h, sd_dg_h, sd_of_val]
    · rw [if_neg h, sd_dg_dl (d := 1) (by have := c.isLt; omega) j (by omega)]
  rw [e]
  exact sd_nm_dg 5 _ (by have := c.isLt; have : (5 : Nat) ^ 5 = 3125 := by decide
                         omega)
section
variable {n : Nat} {R Fa Ke Ro : Nat → Nat → Fin 5} {Mi Te Di Ot : Nat → Fin 5}
theorem yd_findFactors {post : SY → Prop} {r : Nat} {A : sd_M} {N : Nat → Nat} (hr : r ≤ 5) (hn : n ≤ 4) (h1n : 1 ≤ n) (oA : sd_ok n A) (hA : ∀ i j, i < n → j < n → R r (n * i + j) = A i j) (h9 : sd_F9 n A N)
    (K : ∀ Mi' Te' Di' Ot' Fa', (∀ t j, t < n → j < 5 → Fa' t j = sd_dg (N t) j) → post (nI n, sd_ea 16 R, sd_v1 Mi', sd_v1 Te', sd_v1 Di', sd_v1 Ot', sd_ea 5 Fa', sd_ea 5 Ke, sd_ea 16 Ro)) : wpY_findFactors post (nI n, sd_ea 16 R, sd_v1 Mi, sd_v1 Te, sd_v1 Di, sd_v1 Ot, sd_ea 5 Fa, sd_ea 5 Ke, sd_ea 16 Ro) (nI r) := by
  have cpy : ∀ (J : Int32 → Int32 → (Nat → Int32) → (Nat → Int32) → (Nat → Int32) → (Nat → Int32) → (Nat → Int32) → (Nat → Int32) → (Nat → Int32) → (Nat → Int32) → Prop) (k : Nat) (M T V O0 : Nat → Fin 5) (U : Nat → Nat → Fin 5), k < 4 → (∀ O, (∀ j, j < 5 → O j = V j) → J (nI (k + 1)) (nI n) (sd_ea 16 R) (sd_v1 M) (sd_v1 T) (sd_v1 V) (sd_v1 O) (sd_ea 5 U) (sd_ea 5 Ke) (sd_ea 16 Ro)) → ∀ (d j : Nat) (O : Nat → Fin 5), j + d = 5 → (∀ y, y < j → O y = V y) → wY_findFactors_53 post J (nI r) (nI k) (nI n) (d + 1) (nI j) (sd_ea 16 R) (sd_v1 M) (sd_v1 T) (sd_v1 V) (sd_v1 O) (sd_ea 5 U) (sd_ea 5 Ke) (sd_ea 16 Ro) := by
    intro J k M T V O0 U hk KJ d
    induction d with
    | zero =>
      intro j O hj h
      have e : j = 5 := by omega
      subst e
      exact br_t (by decide) (nm_r (nI_1 k) (KJ O h))
    | succ d ih =>
      intro j O hj h
      refine br_f (nI_ge (b := 5) (by omega) (by decide)) ⟨vp_in_nI (by omega) (by omega), vp_in_nI (by omega) (by omega), ?_⟩
      rw [sd_clv (by omega), sd_clN (by omega), sd_v1_w]
      refine nm_e (nm_r (nI_1 j) (ih (j + 1) _ (by omega) (fun y hy => ?_)))
      unfold sd_u1
      by_cases e : y = j
      · rw [if_pos e, e]
      · rw [if_neg e]; exact h y (by omega)
  have lp : ∀ (d k l : Nat) (M T V O : Nat → Fin 5) (U : Nat → Nat → Fin 5), k + d = n → l ≤ 4 → sd_mo (@sd_pr sd_P sd_R k (fun t => sd_dg (N t))) l → (∀ j, j < 5 → O j = @sd_pr sd_P sd_R k (fun t => sd_dg (N t)) j) → (∀ t j, t < k → j < 5 → U t j = sd_dg (N t) j) → wY_findFactors_30 post (nI r) (d + 1) (nI k) (nI n) (sd_ea 16 R) (sd_v1 M) (sd_v1 T) (sd_v1 V) (sd_v1 O) (sd_ea 5 U) (sd_ea 5 Ke) (sd_ea 16 Ro) := by
    intro d
    induction d with
    | zero =>
      intro k l M T V O U hk _ _ _ hU
      have e : k = n := by omega
      subst e
      exact br_t (nI_le (Nat.le_refl _) (by omega)) (K M T V O U hU)
    | succ d ih =>
      intro k l M T V O U hk hl hm hO hU
      refine br_f (nI_ge (by omega) (by omega)) ?_
      rw [nI_1 k]
      refine yd_shareAll (A := A) hr hn h1n (by omega) (by omega) hA (fun M1 T1 V1 D gD dD hV1 => ?_)
      have eD : D = @sd_pr sd_P sd_R (k + 1) (fun t => sd_dg (N t)) := sd_gcd_u (by omega) oA oA (sd_sim_r oA) gD (h9.2 (k + 1) (by omega) (by omega))
      have ePr : @sd_pr sd_P sd_R (k + 1) (fun t => sd_dg (N t)) = sd_pm (@sd_pr sd_P sd_R k (fun t => sd_dg (N t))) (sd_dg (N k)) := rfl
      rw [eD] at gD dD hV1
      obtain ⟨l', hl'⟩ := gD.1
      have l5 : l' ≤ 4 := by
        apply Classical.byContradiction
        intro hn'
        have z := dD l' (by omega)
        rw [hl'.1] at z
        exact absurd z (by decide)
      refine yd_divide (P := @sd_pr sd_P sd_R k (fun t => sd_dg (N t))) (E := sd_dg (N k)) (by omega) hl hm hO (sd_dg_fs _) (fun j hj => by rw [hV1 j hj, ePr]) (by rw [← ePr]; exact dD) (fun M2 U2 u1 u2 => Exists.intro 6 (cpy _ k M2 T1 V1 O U2 (by omega) (fun O2 hO2 => ih (k + 1) l' M2 T1 V1 O2 U2 (by omega) l5 hl' (fun j hj => by rw [hO2 j hj, hV1 j hj]) (fun t j ht hj => ?_)) 5 0 O (by omega) (fun y hy => absurd hy (by omega))))
      by_cases e : t = k
      · subst e; exact u1 j hj
      · rw [u2 t j e hj]; exact hU t j (by omega) hj
  refine Exists.intro 6 ?_
  have ini : ∀ (d j : Nat) (O : Nat → Fin 5), j + d = 5 → (∀ y, y < j → O y = sd_pc 1 y) → wY_findFactors_2 post (nI r) (nI n) (d + 1) (nI j) (sd_ea 16 R) (sd_v1 Mi) (sd_v1 Te) (sd_v1 Di) (sd_v1 O) (sd_ea 5 Fa) (sd_ea 5 Ke) (sd_ea 16 Ro) := by
    intro d
    induction d with
    | zero =>
      intro j O hj h
      have e : j = 5 := by omega
      subst e
      exact br_t (by decide) (Exists.intro (n + 1) (lp n 0 0 Mi Te Di O Fa (by omega) (by omega) sd_mo_1 h (fun t j ht => absurd ht (by omega))))
    | succ d ih =>
      intro j O hj h
      refine br_f (nI_ge (b := 5) (by omega) (by decide)) ?_
      have st : ∀ v : Fin 5, v = sd_pc 1 j → ∀ y, y < j + 1 → sd_u1 O j v y = sd_pc 1 y := by
        intro v hv y hy
        unfold sd_u1
        by_cases e : y = j
        · rw [if_pos e, hv, e]
        · rw [if_neg e]; exact h y (by omega)
      rw [sd_clN (by omega)]
      by_cases j0 : j = 0
      · subst j0
        exact br_t rfl ⟨vp_in_nI (by omega) (by omega), nm_r (sd_v1_w O 0 1) (nm_r (nI_1 0) (ih 1 _ (by omega) (st 1 rfl)))⟩
      · exact br_f (nI_ne0 (by omega) (by omega)) ⟨vp_in_nI (by omega) (by omega), nm_r (sd_v1_w O j 0) (nm_r (nI_1 j) (ih (j + 1) _ (by omega) (st 0 (if_neg j0).symm)))⟩
  exact ini 5 0 Ot (by omega) (fun y hy => absurd hy (by omega))
theorem yd_degreeOfFactor {post : Int32 → Prop} {k m d : Nat} (hk : k < 4) (hd : d ≤ 4) (hm : m / 5 ^ d = 1) (hF : ∀ j, j < 5 → Fa k j = sd_dg m j) (K : post (nI d)) : wpY_degreeOfFactor post (nI n, sd_ea 16 R, sd_v1 Mi, sd_v1 Te, sd_v1 Di, sd_v1 Ot, sd_ea 5 Fa, sd_ea 5 Ke, sd_ea 16 Ro) (nI k) := by
  have mo := sd_dg_mo hm
  refine Exists.intro 6 ?_
  have lp : ∀ (e j w : Nat), j + e = 5 → w < 5 → (d < j → w = d) → wY_degreeOfFactor_4 post (nI k) (nI n) (sd_ea 16 R) (sd_v1 Mi) (sd_v1 Te) (sd_v1 Di) (sd_v1 Ot) (sd_ea 5 Fa) (sd_ea 5 Ke) (sd_ea 16 Ro) (e + 1) (nI w) (nI j) := by
    intro e
    induction e with
    | zero =>
      intro j w hj hw h
      have e : j = 5 := by omega
      subst e
      have := h (by omega)
      subst this
      exact br_t (by decide) K
    | succ e ih =>
      intro j w hj hw h
      have ix : (5 : Int32) * nI k + nI j = nI (5 * k + j) := by
        rw [show (5 : Int32) * nI k = nI (5 * k) from pk_mul 5 k, nI_add]
      refine br_f (nI_ge (b := 5) (by omega) (by decide)) ?_
      rw [ix, sd_clN (by omega), sd_ea_r (by omega), hF j (by omega)]
      refine ⟨vp_in_nI (by omega) (by omega), ?_⟩
      by_cases z : sd_dg m j = 0
      · refine br_t ((sd_eI_0 _).mpr z) (nm_r (nI_1 j) (ih (j + 1) w (by omega) hw (fun h2 => ?_)))
        by_cases e2 : d = j
        · subst e2; rw [mo.1] at z; exact absurd z (by decide)
        · exact h (by omega)
      · refine br_f (fun q => z ((sd_eI_0 _).mp q)) (nm_r (nI_1 j) (ih (j + 1) j (by omega) (by omega) (fun h2 => ?_)))
        apply Classical.byContradiction
        intro hn
        exact z (mo.2 j (by omega))
  exact lp 5 0 0 (by omega) (by omega) (fun h => absurd h (by omega))
theorem yd_written {post : Int32 → Prop} {k m : Nat} (hk : k < 4) (hm : m < 5 ^ 5) (hF : ∀ j, j < 5 → Fa k j = sd_dg m j) (K : post (nI m)) : wpY_written post (nI n, sd_ea 16 R, sd_v1 Mi, sd_v1 Te, sd_v1 Di, sd_v1 Ot, sd_ea 5 Fa, sd_ea 5 Ke, sd_ea 16 Ro) (nI k) := by
  refine Exists.intro 6 ?_
  have lp : ∀ (t : Nat), t ≤ 5 → wY_written_4 post (nI k) (nI n) (sd_ea 16 R) (sd_v1 Mi) (sd_v1 Te) (sd_v1 Di) (sd_v1 Ot) (sd_ea 5 Fa) (sd_ea 5 Ke) (sd_ea 16 Ro) (t + 1) (nI (sd_nm (5 - t) (fun i => Fa k (t + i)))) (nI t + (-1)) := by
    intro t
    induction t with
    | zero =>
      intro _
      refine br_t (by decide) ?_
      have e : (fun i => Fa k (0 + i)) = Fa k := by funext i; rw [Nat.zero_add]
      rw [e, sd_nm_c 5 _ (sd_dg m) hF, sd_nm_dg 5 m hm]
      exact K
    | succ t ih =>
      intro ht
      rw [pk_m1]
      have ix : (5 : Int32) * nI k + nI t = nI (5 * k + t) := by
        rw [show (5 : Int32) * nI k = nI (5 * k) from pk_mul 5 k, nI_add]
      refine br_f (nI_pos (by omega)) ?_
      rw [ix, sd_clN (by omega), sd_ea_r (by omega)]
      refine ⟨vp_in_nI (by omega) (by omega), nm_r ?_ (nm_e (ih (by omega)))⟩
      have e5 : (5 : Int32) * nI (sd_nm (5 - (t + 1)) (fun i => Fa k (t + 1 + i))) = nI (5 * sd_nm (5 - (t + 1)) (fun i => Fa k (t + 1 + i))) := pk_mul 5 _
      rw [e5, sd_eI_l, nI_add]
      congr 1
      have e1 : 5 - t = (5 - (t + 1)) + 1 := by omega
      rw [e1]
      show _ = (Fa k (t + 0)).val + 5 * sd_nm (5 - (t + 1)) (sd_tl (fun i => Fa k (t + i)))
      have e2 : sd_tl (fun i => Fa k (t + i)) = fun i => Fa k (t + 1 + i) := by funext i; show Fa k (t + (i + 1)) = _; congr 1; omega
      rw [e2]
      exact Nat.add_comm _ _
  have h := lp 5 (by omega)
  rw [show nI 5 + (-1) = 4 from by decide] at h
  exact h
/-- the number of the full minor: of x I - A, or of A -/
theorem yd_value {post : Int32 → SY → Prop} {r : Nat} {A : sd_M} {x : Bool} {q : Int32} (hr : r ≤ 5) (hn : n ≤ 4) (h1n : 1 ≤ n) (hA : ∀ i j, i < n → j < n → R r (n * i + j) = A i j) (hq : q = cond x 1 0)
    (K : ∀ Mi' Te', post (nI (cond x (sd_nm 5 (sd_cp n A)) (sd_dt n A).val)) (nI n, sd_ea 16 R, sd_v1 Mi', sd_v1 Te', sd_v1 Di, sd_v1 Ot, sd_ea 5 Fa, sd_ea 5 Ke, sd_ea 16 Ro)) : wpY_value post (nI n, sd_ea 16 R, sd_v1 Mi, sd_v1 Te, sd_v1 Di, sd_v1 Ot, sd_ea 5 Fa, sd_ea 5 Ke, sd_ea 16 Ro) (nI r) q := by
  have p1 : 1 ≤ 2 ^ n := Nat.pow_pos (by omega)
  have eall : ((1 : Int32) <<< (nI n &&& 31)) - 1 = nI (2 ^ n - 1) := by
    rw [sd_pow2 n (by omega)]; exact pk_sub (b := 1) p1
  obtain ⟨fz, fe⟩ := sd_full n (by omega)
  have f16 : 2 ^ n - 1 < 16 := sd_p16 hn (by omega)
  have ways : ∀ m : Nat → Nat → sd_P, @sd_ls sd_P sd_R m (2 ^ n - 1) (sd_wl (2 ^ n - 1) (2 ^ n - 1) 256) = @sd_det sd_P sd_R n m (fun t => t) (fun t => t) := by
    intro m
    rw [@sd_ways sd_P sd_R m (2 ^ n - 1) (2 ^ n - 1) n f16 f16 h1n fz fz]
    exact @sd_det_id sd_P sd_R n hn m _ _ fe fe
  unfold wpY_value
  dsimp only
  rw [eall]
  refine yd_findMinor (x := x) (A := A) hr hn hA (by omega) (by omega) hq (fun M T hM => Exists.intro 6 ?_)
  have num : sd_nm 5 M = cond x (sd_nm 5 (sd_cp n A)) (sd_dt n A).val := by
    rw [sd_nm_c 5 M _ hM, ways]
    cases x with
    | true => rfl
    | false =>
      show sd_nm 5 (@sd_det sd_P sd_R n (sd_km A) (fun t => t) (fun t => t)) = (sd_dt n A).val
      rw [sd_km_det A n hn, sd_nm_pc]; rfl
  have lp : ∀ (t : Nat), t ≤ 5 → wY_value_27 post (nI n) (sd_ea 16 R) (sd_v1 M) (sd_v1 T) (sd_v1 Di) (sd_v1 Ot) (sd_ea 5 Fa) (sd_ea 5 Ke) (sd_ea 16 Ro) (t + 1) (nI (sd_nm (5 - t) (fun i => M (t + i)))) (nI t + (-1)) := by
    intro t
    induction t with
    | zero =>
      intro _
      refine br_t (by decide) ?_
      have e : (fun i => M (0 + i)) = M := by funext i; rw [Nat.zero_add]
      rw [e, num]
      exact K M T
    | succ t ih =>
      intro ht
      rw [pk_m1]
      refine br_f (nI_pos (by omega)) ⟨vp_in_nI (by omega) (by omega), ?_⟩
      rw [sd_clv (by omega)]
      refine nm_r ?_ (nm_e (ih (by omega)))
      have e5 : (5 : Int32) * nI (sd_nm (5 - (t + 1)) (fun i => M (t + 1 + i))) = nI (5 * sd_nm (5 - (t + 1)) (fun i => M (t + 1 + i))) := pk_mul 5 _
      rw [e5, sd_eI_l, nI_add]
      congr 1
      have e1 : 5 - t = (5 - (t + 1)) + 1 := by omega
      rw [e1]
      show _ = (M (t + 0)).val + 5 * sd_nm (5 - (t + 1)) (sd_tl (fun i => M (t + i)))
      have e2 : sd_tl (fun i => M (t + i)) = fun i => M (t + 1 + i) := by funext i; show M (t + (i + 1)) = _; congr 1; omega
      rw [e2]
      exact Nat.add_comm _ _
  have h := lp 5 (by omega)
  rw [show nI 5 + (-1) = 4 from by decide] at h
  exact h
/-- the rank by minors -/
theorem yd_rankOf {post : Int32 → SY → Prop} {r : Nat} {A : sd_M} (hr : r ≤ 5) (hn : n ≤ 4) (h1n : 1 ≤ n) (hA : ∀ i j, i < n → j < n → R r (n * i + j) = A i j)
    (K : ∀ Mi' Te' k, sd_rk n n A k → post (nI k) (nI n, sd_ea 16 R, sd_v1 Mi', sd_v1 Te', sd_v1 Di, sd_v1 Ot, sd_ea 5 Fa, sd_ea 5 Ke, sd_ea 16 Ro)) : wpY_rankOf post (nI n, sd_ea 16 R, sd_v1 Mi, sd_v1 Te, sd_v1 Di, sd_v1 Ot, sd_ea 5 Fa, sd_ea 5 Ke, sd_ea 16 Ro) (nI r) := by
  refine Exists.intro 257 ?_
  have mn : ∀ S T k : Nat, S < 2 ^ n → T < 2 ^ n → 1 ≤ k → sd_sz S = k → sd_sz T = k → @sd_ls sd_P sd_R (sd_km A) S (sd_wl S T 256) 0 = sd_det k A (sd_el S) (sd_el T) := by
    intro S T k hS hT hk zS zT
    have k4 : k ≤ 4 := by
      have := sd_el_c n (by omega) S (sd_p16 hn hS) hS
      omega
    rw [@sd_ways sd_P sd_R (sd_km A) S T k (sd_p16 hn hS) (sd_p16 hn hT) hk zS zT, sd_km_det A k k4]; rfl
  have lp : ∀ (d s w : Nat) (M T : Nat → Fin 5), s + d = 256 → w ≤ n → (w = 0 ∨ (1 ≤ w ∧ ∃ S T : Nat, S < 2 ^ n ∧ T < 2 ^ n ∧ sd_sz S = w ∧ sd_sz T = w ∧ sd_det w A (sd_el S) (sd_el T) ≠ 0)) → (∀ s', s' < s → s' / 16 < 2 ^ n → s' % 16 < 2 ^ n → sd_sz (s' % 16) = sd_sz (s' / 16) → w < sd_sz (s' / 16) → sd_det (sd_sz (s' / 16)) A (sd_el (s' / 16)) (sd_el (s' % 16)) = 0) →
      wY_rankOf_4 post (nI r) (d + 1) (nI w) (nI s) (nI n) (sd_ea 16 R) (sd_v1 M) (sd_v1 T) (sd_v1 Di) (sd_v1 Ot) (sd_ea 5 Fa) (sd_ea 5 Ke) (sd_ea 16 Ro) := by
    intro d
    induction d with
    | zero =>
      intro s w M T hs hwn h1 h2
      have e : s = 256 := by omega
      subst e
      refine br_t (by decide) (K M T w (sd_rk_min hn A ?_ ?_))
      · rcases h1 with z | ⟨z, S, T, hS, hT, zS, zT, hd⟩
        · exact Or.inl z
        · refine Or.inr ⟨z, hwn, sd_el S, sd_el T, sd_el_lt h1n hn hS, sd_el_lt h1n hn hT, ?_, ?_, hd⟩
          · rw [← zS]; exact sd_el_so h1n hn hS
          · rw [← zT]; exact sd_el_so h1n hn hT
      · intro hlt a b ha hb sa sb
        obtain ⟨S, hS, zS, eS⟩ := sd_el_ex hn (by omega) (by omega) ha sa
        obtain ⟨T, hT, zT, eT⟩ := sd_el_ex hn (by omega) (by omega) hb sb
        have S16 := sd_p16 hn hS
        have T16 := sd_p16 hn hT
        have e1 : (16 * S + T) / 16 = S := by omega
        have e2 : (16 * S + T) % 16 = T := by omega
        have q := h2 (16 * S + T) (by omega)
        rw [e1, e2] at q
        have q' := q hS hT (by omega) (by omega)
        rw [zS] at q'
        rw [← q']
        exact (sd_det_cc (w + 1) (by omega) A _ _ _ _ eS eT).symm
    | succ d ih =>
      intro s w M T hs hwn h1 h2
      have d16 : nI s / 16 = nI (s / 16) := pk_div (d := 16) (by omega) (by omega) (by omega)
      have r16 : nI s - nI s / 16 * 16 = nI (s % 16) := pk_rem (d := 16) (by omega) (by omega) (by omega)
      have skip : ∀ (M T : Nat → Fin 5), (s / 16 < 2 ^ n → s % 16 < 2 ^ n → sd_sz (s % 16) = sd_sz (s / 16) → w < sd_sz (s / 16) → sd_det (sd_sz (s / 16)) A (sd_el (s / 16)) (sd_el (s % 16)) = 0) → wY_rankOf_4 post (nI r) (d + 1) (nI w) (nI (s + 1)) (nI n) (sd_ea 16 R) (sd_v1 M) (sd_v1 T) (sd_v1 Di) (sd_v1 Ot) (sd_ea 5 Fa) (sd_ea 5 Ke) (sd_ea 16 Ro) := by
        intro M T nv
        refine ih (s + 1) w M T (by omega) hwn h1 (fun s' hs' a b c e => ?_)
        by_cases q : s' = s
        · subst q; exact nv a b c e
        · exact h2 s' (by omega) a b c e
      have z1 : sd_sz (s / 16) ≤ 4 := by
        have : ∀ S, S < 16 → sd_sz S ≤ 4 := by decide
        exact this _ (by omega)
      have z2 : sd_sz (s % 16) ≤ 4 := by
        have : ∀ S, S < 16 → sd_sz S ≤ 4 := by decide
        exact this _ (by omega)
      refine br_f (nI_ge (b := 256) (by omega) (by decide)) ⟨by decide, nm_r d16 ⟨by decide, nm_r r16 (yd_sizeOf (by omega) ?_)⟩⟩
      by_cases c1 : sd_sz (s / 16) ≤ w
      · exact br_t (nI_le c1 (by omega)) (nm_r (nI_1 s) (skip M T (fun _ _ _ q => by omega)))
      · refine br_f (nI_ge (by omega) (by omega)) (yd_sizeOf (by omega) ?_)
        by_cases c2 : sd_sz (s % 16) = sd_sz (s / 16)
        · refine br_t (by rw [c2]) ?_
          have p16 : 2 ^ n ≤ 16 := by
            have : 2 ^ n ≤ 2 ^ 4 := Nat.pow_le_pow_right (by omega) hn
            exact this
          rw [sd_pow2 n (by omega)]
          by_cases c3 : 2 ^ n ≤ s / 16
          · exact br_t (nI_le c3 (by omega)) (nm_r (nI_1 s) (skip M T (fun q _ _ _ => by omega)))
          · refine br_f (nI_ge (by omega) (by omega)) ?_
            by_cases c4 : 2 ^ n ≤ s % 16
            · exact br_t (nI_le c4 (by omega)) (nm_r (nI_1 s) (skip M T (fun _ q _ _ => by omega)))
            · refine br_f (nI_ge (by omega) (by omega)) (yd_findMinor (x := false) (A := A) hr hn hA (by omega) (by omega) rfl (fun M' T' hM => ?_))
              have m0 : M' 0 = sd_det (sd_sz (s / 16)) A (sd_el (s / 16)) (sd_el (s % 16)) := by
                rw [hM 0 (by omega)]
                exact mn _ _ _ (by omega) (by omega) (by omega) rfl c2
              have e0 : sd_v1 M' 0 = sd_eI (M' 0) := rfl
              dsimp only
              rw [e0]
              by_cases z : M' 0 = 0
              · exact br_t ((sd_eI_0 _).mpr z) (nm_r (nI_1 s) (skip M' T' (fun _ _ _ _ => by rw [← m0]; exact z)))
              · refine br_f (fun q => z ((sd_eI_0 _).mp q)) (nm_r (nI_1 s) (ih (s + 1) (sd_sz (s / 16)) M' T' (by omega) ?_ (Or.inr ⟨by omega, s / 16, s % 16, by omega, by omega, rfl, c2, ?_⟩) (fun s' hs' a b c e => ?_)))
                · exact sd_el_c n (by omega) _ (by omega) (by omega)
                · rw [← m0]; exact z
                · by_cases q : s' = s
                  · subst q; omega
                  · exact h2 s' (by omega) a b c (by omega)
        · exact br_f (fun q => c2 ((nI_eq (by omega) (by omega)).mp q)) (nm_r (nI_1 s) (skip M T (fun _ _ q _ => absurd q c2)))
  exact lp 256 0 0 Mi Te (by omega) (by omega) (Or.inl rfl) (fun s' hs' => absurd hs' (by omega))
end
end
section
/-! ===== Y: the commutant ===== -/
def sd_sq (q : Nat) (M M' : sd_M) : Prop := ∀ i, i < q → ∃ a : Nat → Fin 5, ∀ j, j < q → M' i j = sd_s q (fun l => a l * M l j)
/-- columns below c are done, with r pivots -/
def sd_YS (q : Nat) (M : sd_M) (r c : Nat) : Prop := r ≤ q ∧ r ≤ c ∧ (∀ i j, r ≤ i → i < q → j < c → M i j = 0) ∧ ∃ T : sd_M, ∀ i, i < q → ∀ s, s < r → sd_s c (fun j => M i j * T j s) = if i = s then 1 else 0
theorem sd_YS_0 (q : Nat) (M : sd_M) : sd_YS q M 0 0 := ⟨Nat.zero_le q, Nat.le_refl 0, fun _ _ _ _ h => absurd h (by omega), M, fun _ _ _ h => absurd h (by omega)⟩
theorem sd_YS_skip {q r c : Nat} {M : sd_M} (h : sd_YS q M r c) (hz : ∀ i, r ≤ i → i < q → M i c = 0) : sd_YS q M r (c + 1) := by
  obtain ⟨h1, h2, h3, T, h4⟩ := h
  refine ⟨h1, by omega, ?_, fun j s => if j = c then 0 else T j s, ?_⟩
  · intro i j hi hn hj
    by_cases e : j = c
    · subst e; exact hz i hi hn
    · exact h3 i j hi hn (by omega)
  · intro i hi s hs
    show sd_s c (fun j => M i j * (if j = c then 0 else T j s)) + M i c * (if c = c then 0 else T c s) = _
    rw [if_pos rfl, ← h4 i hi s hs]
    have e : sd_s c (fun j => M i j * (if j = c then 0 else T j s)) = sd_s c (fun j => M i j * T j s) := by
      apply sd_s_c
      intro j hj
      rw [if_neg (by omega)]
    rw [e]; grind
theorem sd_YS_pivot {q r c : Nat} {M M' : sd_M} (hr : r < q) (h : sd_YS q M r c) (h1 : ∀ i j, i < r → j < c → M' i j = M i j) (h2 : ∀ i j, r ≤ i → i < q → j < c → M' i j = 0) (h3 : M' r c = 1) (h4 : ∀ i, r < i → i < q → M' i c = 0) : sd_YS q M' (r + 1) (c + 1) := by
  obtain ⟨g1, g2, g3, T, g4⟩ := h
  have old : ∀ i, i < q → ∀ s, s < r → sd_s c (fun j => M' i j * T j s) = if i = s then 1 else 0 := by
    intro i hi s hs
    by_cases e : i < r
    · rw [← g4 i hi s hs]
      apply sd_s_c
      intro j hj
      rw [h1 i j e hj]
    · rw [if_neg (by omega)]
      refine (sd_s_c (g := fun _ => 0) ?_).trans (sd_s_0 c)
      intro j hj
      rw [h2 i j (by omega) hi hj]; grind
  refine ⟨by omega, by omega, ?_, fun j s => if s < r then (if j = c then 0 else T j s) else if j = c then 1 else - sd_s r (fun t => M' t c * T j t), ?_⟩
  · intro i j hi hn hj
    by_cases e : j = c
    · subst e; exact h4 i (by omega) hn
    · exact h2 i j (by omega) hn (by omega)
  · intro i hi s hs
    by_cases e : s < r
    · show sd_s c (fun j => M' i j * (if s < r then (if j = c then 0 else T j s) else if j = c then 1 else - sd_s r (fun t => M' t c * T j t))) + M' i c * (if s < r then (if c = c then 0 else T c s) else if c = c then 1 else - sd_s r (fun t => M' t c * T c t)) = _
      rw [if_pos e, if_pos rfl, ← old i hi s e]
      have e2 : sd_s c (fun j => M' i j * (if s < r then (if j = c then 0 else T j s) else if j = c then 1 else - sd_s r (fun t => M' t c * T j t))) = sd_s c (fun j => M' i j * T j s) := by
        apply sd_s_c
        intro j hj
        rw [if_pos e, if_neg (by omega)]
      rw [e2]; grind
    · have es : s = r := by omega
      subst es
      show sd_s c (fun j => M' i j * (if s < s then (if j = c then 0 else T j s) else if j = c then 1 else - sd_s s (fun t => M' t c * T j t))) + M' i c * (if s < s then (if c = c then 0 else T c s) else if c = c then 1 else - sd_s s (fun t => M' t c * T c t)) = _
      rw [if_neg (Nat.lt_irrefl s), if_pos rfl]
      have e2 : sd_s c (fun j => M' i j * (if s < s then (if j = c then 0 else T j s) else if j = c then 1 else - sd_s s (fun t => M' t c * T j t))) = sd_s c (fun j => (-1) * sd_s s (fun t => M' t c * (M' i j * T j t))) := by
        apply sd_s_c
        intro j hj
        have ne : ¬ j = c := by omega
        rw [if_neg (Nat.lt_irrefl s), if_neg ne]
        have e3 : sd_s s (fun t => M' t c * (M' i j * T j t)) = M' i j * sd_s s (fun t => M' t c * T j t) := by
          rw [← sd_s_ml]; apply sd_s_c; intro t _; grind
        rw [e3]; grind
      rw [e2, sd_s_ml, sd_s_swap]
      have e4 : sd_s s (fun t => sd_s c (fun j => M' t c * (M' i j * T j t))) = sd_s s (fun t => M' t c * (if i = t then 1 else 0)) := by
        apply sd_s_c
        intro t ht
        rw [sd_s_ml, old i hi t ht]
      rw [e4]
      by_cases e5 : i < s
      · have e6 : sd_s s (fun t => M' t c * (if i = t then 1 else 0)) = M' i c := by
          refine (sd_s_1 i e5 _ ?_).trans ?_
          · intro t _ ht
            have ne : ¬ i = t := fun q => ht q.symm
            rw [if_neg ne]; grind
          · rw [if_pos rfl]; grind
        rw [e6, if_neg (by omega)]; grind
      · have e6 : sd_s s (fun t => M' t c * (if i = t then 1 else 0)) = 0 := by
          refine (sd_s_c (g := fun _ => 0) ?_).trans (sd_s_0 s)
          intro t ht
          rw [if_neg (by omega)]; grind
        rw [e6]
        by_cases e7 : i = s
        · rw [if_pos e7, e7, h3]; grind
        · rw [if_neg e7, h4 i (by omega) hi]; grind
theorem sd_YS_rk {q r : Nat} {A M : sd_M} (s1 : sd_sq q A M) (s2 : sd_sq q M A) (h : sd_YS q M r q) : sd_rk q q A r := by
  obtain ⟨h1, _, h3, T, h4⟩ := h
  have rkM : sd_rk q q M r := by
    refine ⟨⟨sd_1, T, ?_⟩, ⟨sd_1, M, ?_⟩⟩
    · intro i j hi hj
      rw [sd_1_m (by omega)]
      exact h4 i (by omega) j hj
    · intro i j hi hj
      by_cases e : i < r
      · rw [sd_1_m e]
      · rw [h3 i j (by omega) hi hj]
        refine ((sd_s_c (g := fun _ => 0) ?_).trans (sd_s_0 r)).symm
        intro l hl
        have : sd_1 i l = 0 := if_neg (by omega)
        rw [this]; grind
  exact (sd_eqv s2 s1).mp rkM
theorem sd_sq_c {q : Nat} {M M' N : sd_M} (h : ∀ i j, i < q → j < q → M' i j = N i j) (s : sd_sq q M N) : sd_sq q M M' := by
  intro i hi
  obtain ⟨a, ha⟩ := s i hi
  exact ⟨a, fun j hj => by rw [h i j hi hj, ha j hj]⟩
/-- a row is brought to its place and scaled -/
theorem sd_sq_bring {q r p : Nat} {b : Fin 5} {M M' : sd_M} (hr : r < q) (hp : p < q) (hb : b ≠ 0) (h : ∀ i j, i < q → j < q → M' i j = if i = r then M p j * b else if i = p then M r j else M i j) : sd_sq q M M' ∧ sd_sq q M' M := by
  constructor
  · intro i hi
    by_cases e : i = r
    · refine ⟨fun l => b * sd_e p l, fun j hj => ?_⟩
      have e1 : (fun l => b * sd_e p l * M l j) = fun l => b * (sd_e p l * M l j) := by funext l; grind
      rw [e1, sd_s_ml, sd_s_e' hp (fun l => M l j), h i j hi hj, if_pos e]; grind
    · by_cases e2 : i = p
      · exact ⟨sd_e r, fun j hj => by rw [sd_s_e' hr (fun l => M l j), h i j hi hj, if_neg e, if_pos e2]⟩
      · exact ⟨sd_e i, fun j hj => by rw [sd_s_e' hi (fun l => M l j), h i j hi hj, if_neg e, if_neg e2]⟩
  · intro i hi
    by_cases e : i = p
    · refine ⟨fun l => sd_i b * sd_e r l, fun j hj => ?_⟩
      have e1 : (fun l => sd_i b * sd_e r l * M' l j) = fun l => sd_i b * (sd_e r l * M' l j) := by funext l; grind
      rw [e1, sd_s_ml, sd_s_e' hr (fun l => M' l j), h r j hr hj, if_pos rfl, e]
      have := sd_i_m b hb
      grind
    · by_cases e2 : i = r
      · have ne : ¬ p = r := fun q => e (by rw [e2, q])
        exact ⟨sd_e p, fun j hj => by rw [sd_s_e' hp (fun l => M' l j), h p j hp hj, if_neg ne, if_pos rfl, e2]⟩
      · exact ⟨sd_e i, fun j hj => by rw [sd_s_e' hi (fun l => M' l j), h i j hi hj, if_neg e2, if_neg e]⟩
theorem sd_sq_clear {q r : Nat} {f : Nat → Fin 5} {M M' : sd_M} (hr : r < q) (h : ∀ i j, i < q → j < q → M' i j = if r < i then M i j - f i * M r j else M i j) : sd_sq q M M' ∧ sd_sq q M' M := by
  constructor
  · intro i hi
    by_cases e : r < i
    · refine ⟨fun l => sd_e i l + (- f i) * sd_e r l, fun j hj => ?_⟩
      have e1 : (fun l => (sd_e i l + (- f i) * sd_e r l) * M l j) = fun l => sd_e i l * M l j + (- f i) * (sd_e r l * M l j) := by funext l; grind
      rw [e1, sd_s_add, sd_s_ml, sd_s_e' hi (fun l => M l j), sd_s_e' hr (fun l => M l j), h i j hi hj, if_pos e]; grind
    · exact ⟨sd_e i, fun j hj => by rw [sd_s_e' hi (fun l => M l j), h i j hi hj, if_neg e]⟩
  · intro i hi
    by_cases e : r < i
    · refine ⟨fun l => sd_e i l + f i * sd_e r l, fun j hj => ?_⟩
      have e1 : (fun l => (sd_e i l + f i * sd_e r l) * M' l j) = fun l => sd_e i l * M' l j + f i * (sd_e r l * M' l j) := by funext l; grind
      rw [e1, sd_s_add, sd_s_ml, sd_s_e' hi (fun l => M' l j), sd_s_e' hr (fun l => M' l j), h i j hi hj, h r j hr hj, if_pos e, if_neg (Nat.lt_irrefl r)]; grind
    · exact ⟨sd_e i, fun j hj => by rw [sd_s_e' hi (fun l => M' l j), h i j hi hj, if_neg e]⟩
theorem sd_y1 : ∀ a b : Fin 5, (sd_eI a + (5 - sd_eI b)) - (sd_eI a + (5 - sd_eI b)) / 5 * 5 = sd_eI (a - b) := by decide +kernel
theorem sd_y2 : ∀ a : Fin 5, (sd_eI a + 0) - (sd_eI a + 0) / 5 * 5 = sd_eI (a - 0) := by decide +kernel
theorem sd_y3 : ∀ b : Fin 5, (0 + (5 - sd_eI b)) - (0 + (5 - sd_eI b)) / 5 * 5 = sd_eI (0 - b) := by decide +kernel
theorem sd_y4 : (0 + 0 : Int32) - (0 + 0) / 5 * 5 = sd_eI (0 - 0) := by decide +kernel
section
variable {n : Nat} {R Fa Ke Ro : Nat → Nat → Fin 5} {Mi Te Di Ot : Nat → Fin 5}
theorem yd_makeRows {post : SY → Prop} {r : Nat} {A : sd_M} (hr : r ≤ 5) (hn : n ≤ 4) (h1n : 1 ≤ n) (hA : ∀ i j, i < n → j < n → R r (n * i + j) = A i j)
    (K : ∀ Ro', (∀ u v, u < n * n → v < n * n → Ro' u v = sd_cmM n A u v) → post (nI n, sd_ea 16 R, sd_v1 Mi, sd_v1 Te, sd_v1 Di, sd_v1 Ot, sd_ea 5 Fa, sd_ea 5 Ke, sd_ea 16 Ro')) : wpY_makeRows post (nI n, sd_ea 16 R, sd_v1 Mi, sd_v1 Te, sd_v1 Di, sd_v1 Ot, sd_ea 5 Fa, sd_ea 5 Ke, sd_ea 16 Ro) (nI r) := by
  have q16 : n * n ≤ 16 := Nat.mul_le_mul hn hn
  have fnn : nI n * nI n = nI (n * n) := pk_mul n n
  have inn : ∀ (J : Int32 → (Nat → Int32) → (Nat → Int32) → (Nat → Int32) → (Nat → Int32) → (Nat → Int32) → (Nat → Int32) → (Nat → Int32) → (Nat → Int32) → Prop) (u : Nat), u < n * n →
      (∀ H, (∀ a b, a < n * n → b < n * n → a < u + 1 → H a b = sd_cmM n A a b) → J (nI (u + 1)) (sd_ea 16 R) (sd_v1 Mi) (sd_v1 Te) (sd_v1 Di) (sd_v1 Ot) (sd_ea 5 Fa) (sd_ea 5 Ke) (sd_ea 16 H)) →
      ∀ (d v : Nat) (H : Nat → Nat → Fin 5), v + d = n * n → (∀ a b, a < n * n → b < n * n → (a < u ∨ (a = u ∧ b < v)) → H a b = sd_cmM n A a b) → wY_makeRows_17 post J (nI r) (nI u) (nI n) (d + 1) (nI v) (sd_ea 16 R) (sd_v1 Mi) (sd_v1 Te) (sd_v1 Di) (sd_v1 Ot) (sd_ea 5 Fa) (sd_ea 5 Ke) (sd_ea 16 H) := by
    intro J u hu KJ d
    have u1 : u / n < n := Nat.div_lt_of_lt_mul hu
    have u2 : u % n < n := Nat.mod_lt u (by omega)
    induction d with
    | zero =>
      intro v H hv h
      refine br_t (by rw [fnn]; exact nI_le (by omega) (by omega)) (nm_r (nI_1 u) (KJ H (fun a b ha hb hab => h a b ha hb (by omega))))
    | succ d ih =>
      intro v H hv h
      have hvq : v < n * n := by omega
      have v1 : v / n < n := Nat.div_lt_of_lt_mul hvq
      have v2 : v % n < n := Nat.mod_lt v (by omega)
      have fin : ∀ (w : Fin 5) (z0 z1 : Int32), w = sd_cmM n A u v → (z1 + z0) - (z1 + z0) / 5 * 5 = sd_eI w → wY_makeRows_104 post J (wY_makeRows_17 post J (nI r) (nI u) (nI n) (d + 1)) (nI r) (nI u) (nI v) z0 z1 (nI n) (sd_ea 16 R) (sd_v1 Mi) (sd_v1 Te) (sd_v1 Di) (sd_v1 Ot) (sd_ea 5 Fa) (sd_ea 5 Ke) (sd_ea 16 H) := by
        intro w z0 z1 hw hz
        refine nm_e ⟨sd_50, ?_⟩
        rw [hz, sd_ix16, sd_clN (by omega), sd_ea_w (by omega)]
        refine ⟨vp_in_nI (by omega) (by omega), nm_e (nm_r (nI_1 v) (ih (v + 1) _ (by omega) (fun a b ha hb hab => ?_)))⟩
        by_cases e : a = u ∧ b = v
        · obtain ⟨e1, e2⟩ := e
          subst e1; subst e2
          rw [sd_u_s, hw]
        · rw [sd_u_n e]
          exact h a b ha hb (by omega)
      have second : ∀ (z : Int32) (w : Fin 5), (z = sd_eI w ∨ (z = 0 ∧ w = 0)) → (w = if u % n = v % n then A (u / n) (v / n) else 0) → wY_makeRows_82 post J (wY_makeRows_17 post J (nI r) (nI u) (nI n) (d + 1)) (nI r) (nI u) (nI v) (nI (u / n)) (nI (u % n)) (nI (v / n)) (nI (v % n)) z (nI n) (sd_ea 16 R) (sd_v1 Mi) (sd_v1 Te) (sd_v1 Di) (sd_v1 Ot) (sd_ea 5 Fa) (sd_ea 5 Ke) (sd_ea 16 H) := by
        intro z w hz hw
        have hz' : z = sd_eI w := by
          rcases hz with q | ⟨q1, q2⟩
          · exact q
          · rw [q1, q2]; rfl
        by_cases e : u / n = v / n
        · refine br_t (by rw [e]) (yd_entry hr hn v2 u2 (fin (w - A (v % n) (u % n)) _ _ ?_ ?_))
          · unfold sd_cmM
            rw [if_pos e, hw]
          · rw [hz', hA _ _ v2 u2]; exact sd_y1 _ _
        · refine br_f (fun q => e ((nI_eq (by omega) (by omega)).mp q)) (fin (w - 0) _ _ ?_ ?_)
          · unfold sd_cmM
            rw [if_neg e, hw]
          · rw [hz']; exact sd_y2 _
      have dn : ∀ x, x < n * n → nI x / nI n = nI (x / n) ∧ nI x - nI x / nI n * nI n = nI (x % n) := fun x hx => ⟨pk_div (by omega) (by omega) (by omega), pk_rem (by omega) (by omega) (by omega)⟩
      have nz : ¬ nI n = 0 := nI_ne0 (by omega) (by omega)
      refine br_f (by rw [fnn]; exact nI_ge (by omega) (by omega)) ⟨nz, nm_r (dn u hu).1 ⟨nz, nm_r (dn u hu).2 ⟨nz, nm_r (dn v hvq).1 ⟨nz, nm_r (dn v hvq).2 ?_⟩⟩⟩⟩
      by_cases e : u % n = v % n
      · refine br_t (by rw [e]) (yd_entry hr hn u1 v1 (second _ (A (u / n) (v / n)) (Or.inl ?_) ?_))
        · rw [hA _ _ u1 v1]
        · rw [if_pos e]
      · exact br_f (fun q => e ((nI_eq (by omega) (by omega)).mp q)) (second 0 0 (Or.inr ⟨rfl, rfl⟩) (if_neg e).symm)
  refine Exists.intro (n * n + 1) ?_
  have lp : ∀ (d u : Nat) (H : Nat → Nat → Fin 5), u + d = n * n → (∀ a b, a < n * n → b < n * n → a < u → H a b = sd_cmM n A a b) → wY_makeRows_2 post (nI r) (nI n) (d + 1) (nI u) (sd_ea 16 R) (sd_v1 Mi) (sd_v1 Te) (sd_v1 Di) (sd_v1 Ot) (sd_ea 5 Fa) (sd_ea 5 Ke) (sd_ea 16 H) := by
    intro d
    induction d with
    | zero =>
      intro u H hu h
      exact br_t (by rw [fnn]; exact nI_le (by omega) (by omega)) (K H (fun a b ha hb => h a b ha hb (by omega)))
    | succ d ih =>
      intro u H hu h
      refine br_f (by rw [fnn]; exact nI_ge (by omega) (by omega)) (Exists.intro (n * n + 1) (inn _ u (by omega) (fun H' g => ih (u + 1) H' (by omega) g) (n * n) 0 H (by omega) (fun a b ha hb hab => h a b ha hb (by omega))))
  exact lp (n * n) 0 Ro (by omega) (fun a b _ _ h => absurd h (by omega))
theorem yd_bring {post : Int32 → SY → Prop} {c p : Nat} (hn : n ≤ 4) (h1n : 1 ≤ n) (hc : c < n * n) (hp : p ≤ n * n)
    (K0 : (∀ i, p ≤ i → i < n * n → Ro i c = 0) → post 0 (nI n, sd_ea 16 R, sd_v1 Mi, sd_v1 Te, sd_v1 Di, sd_v1 Ot, sd_ea 5 Fa, sd_ea 5 Ke, sd_ea 16 Ro))
    (K1 : ∀ f Ro', p ≤ f → f < n * n → Ro f c ≠ 0 → (∀ i j, i < 16 → j < n * n → Ro' i j = if i = p then Ro f j * sd_i (Ro f c) else if i = f then Ro p j else Ro i j) → post 1 (nI n, sd_ea 16 R, sd_v1 Mi, sd_v1 Te, sd_v1 Di, sd_v1 Ot, sd_ea 5 Fa, sd_ea 5 Ke, sd_ea 16 Ro')) : wpY_bring post (nI n, sd_ea 16 R, sd_v1 Mi, sd_v1 Te, sd_v1 Di, sd_v1 Ot, sd_ea 5 Fa, sd_ea 5 Ke, sd_ea 16 Ro) (nI c) (nI p) := by
  have q16 : n * n ≤ 16 := Nat.mul_le_mul hn hn
  have q1 : 1 ≤ n * n := Nat.mul_le_mul h1n h1n
  have fnn : nI n * nI n = nI (n * n) := pk_mul n n
  have mv : ∀ (f : Nat) (b : Fin 5) (Kf : ∀ Ro', (∀ i j, i < 16 → j < n * n → Ro' i j = if i = p then Ro f j * b else if i = f then Ro p j else Ro i j) → post 1 (nI n, sd_ea 16 R, sd_v1 Mi, sd_v1 Te, sd_v1 Di, sd_v1 Ot, sd_ea 5 Fa, sd_ea 5 Ke, sd_ea 16 Ro')), p < 16 → f < 16 → ∀ (d k : Nat) (H : Nat → Nat → Fin 5), k + d = n * n → (∀ i j, i < 16 → j < n * n → H i j = if j < k then (if i = p then Ro f j * b else if i = f then Ro p j else Ro i j) else Ro i j) → wY_bring_71 post (nI p) (nI f) (sd_eI b) (nI n) (d + 1) (nI k) (sd_ea 16 R) (sd_v1 Mi) (sd_v1 Te) (sd_v1 Di) (sd_v1 Ot) (sd_ea 5 Fa) (sd_ea 5 Ke) (sd_ea 16 H) := by
    intro f b Kf hp16 hf16 d
    induction d with
    | zero =>
      intro k H hk h
      exact br_t (by rw [fnn]; exact nI_le (by omega) (by omega)) (Kf H (fun i j hi hj => (h i j hi hj).trans (if_pos (by omega))))
    | succ d ih =>
      intro k H hk h
      refine br_f (by rw [fnn]; exact nI_ge (by omega) (by omega)) ?_
      rw [sd_ix16, sd_ix16, sd_clN (by omega), sd_clN (by omega), sd_ea_r (by omega), sd_ea_r (by omega), sd_w1, sd_ea_w (by omega)]
      refine ⟨vp_in_nI (by omega) (by omega), sd_50, nm_e ⟨vp_in_nI (by omega) (by omega), vp_in_nI (by omega) (by omega), nm_e ⟨vp_in_nI (by omega) (by omega), nm_r (sd_ea_w (w := 16) (a := p) (b := k) (by omega) _ _) (nm_r (nI_1 k) (ih (k + 1) _ (by omega) (fun i j hi hj => ?_)))⟩⟩⟩
      have hf : H f k = Ro f k := by rw [h f k hf16 (by omega), if_neg (by omega)]
      have hpk : H p k = Ro p k := by rw [h p k hp16 (by omega), if_neg (by omega)]
      by_cases ej : j = k
      · subst ej
        rw [if_pos (by omega)]
        by_cases e : i = p
        · subst e
          rw [sd_u_s, if_pos rfl, hf]
        · rw [sd_u_n (fun z => e z.1), if_neg e]
          by_cases e2 : i = f
          · subst e2
            rw [sd_u_s, if_pos rfl, hpk]
          · rw [sd_u_n (fun z => e2 z.1), if_neg e2, h i j hi hj, if_neg (by omega)]
      · rw [sd_u_n (fun z => ej z.2), sd_u_n (fun z => ej z.2), h i j hi hj]
        by_cases l : j < k
        · have l' : j < k + 1 := by omega
          rw [if_pos l, if_pos l']
        · have l' : ¬ j < k + 1 := by omega
          rw [if_neg l, if_neg l']
  have e1 : nI n * nI n - 1 = nI (n * n) + (-1) := by
    rw [fnn]
    have : ∀ q, q < 17 → nI q - 1 = nI q + (-1) := by decide +kernel
    exact this _ (by omega)
  have cmpt : ∀ t, t < 17 → ∀ p, p < 17 → ((nI t + (-1) < nI p) ↔ t ≤ p) := by decide +kernel
  have srch : ∀ (d t : Nat) (fd : Option Nat), p + d = t → t ≤ n * n → (∀ i, t ≤ i → i < n * n → (match fd with | none => True | some f => i < f) → Ro i c = 0) → (match fd with | none => True | some f => t ≤ f ∧ f < n * n ∧ Ro f c ≠ 0) → wY_bring_15 post (nI c) (nI p) (nI n) (sd_ea 16 R) (sd_v1 Mi) (sd_v1 Te) (sd_v1 Di) (sd_v1 Ot) (sd_ea 5 Fa) (sd_ea 5 Ke) (sd_ea 16 Ro) (d + 1) (match fd with | none => -1 | some f => nI f) (nI t + (-1)) := by
    intro d
    induction d with
    | zero =>
      intro t fd ht htq h1 h2
      have et : t = p := by omega
      subst et
      refine br_t ((cmpt t (by omega) t (by omega)).mpr (Nat.le_refl t)) ?_
      cases fd with
      | none => exact br_f (by decide) (K0 (fun i hi hn => h1 i hi hn trivial))
      | some f =>
        obtain ⟨a, b, c'⟩ := h2
        refine br_t (nI_pos' (by omega)) ?_
        show vp_in ((16 * nI f) + nI c) 256 ∧ wpY_inverse _ _ (sd_ea 16 Ro ((16 * nI f) + nI c).toNatClampNeg)
        rw [sd_ix16, sd_clN (by omega), sd_ea_r (by omega)]
        exact ⟨vp_in_nI (by omega) (by omega), yd_inverse (Exists.intro (n * n + 1) (mv f _ (fun Ro' h => K1 f Ro' a b c' h) (by omega) (by omega) (n * n) 0 Ro (by omega) (fun i j _ _ => (if_neg (by omega)).symm)))⟩
    | succ d ih =>
      intro t fd ht htq h1 h2
      refine br_f (fun z => absurd ((cmpt t (by omega) p (by omega)).mp z) (by omega)) ?_
      have em : nI t + (-1) = nI (t - 1) := by
        have := pk_m1 (t - 1)
        rw [show t - 1 + 1 = t from by omega] at this; exact this
      rw [em, sd_ix16, sd_clN (by omega), sd_ea_r (by omega)]
      refine ⟨vp_in_nI (by omega) (by omega), ?_⟩
      by_cases z : Ro (t - 1) c = 0
      · refine br_t ((sd_eI_0 _).mpr z) (nm_e (ih (t - 1) fd (by omega) (by omega) (fun i hi hn hm => ?_) ?_))
        · by_cases e : i = t - 1
          · rw [e]; exact z
          · exact h1 i (by omega) hn hm
        · cases fd with
          | none => trivial
          | some f =>
            have h2' : t ≤ f ∧ f < n * n ∧ Ro f c ≠ 0 := h2
            exact ⟨by omega, h2'.2.1, h2'.2.2⟩
      · refine br_f (fun q => z ((sd_eI_0 _).mp q)) (nm_e (ih (t - 1) (some (t - 1)) (by omega) (by omega) (fun i hi hn hm => ?_) ⟨Nat.le_refl _, by omega, z⟩))
        have hm' : i < t - 1 := hm
        omega
  refine nm_r e1 (Exists.intro (n * n - p + 1) (srch (n * n - p) (n * n) none (by omega) (Nat.le_refl _) (fun i hi hn => absurd hi (by omega)) trivial))
theorem yd_clear {post : SY → Prop} {c p : Nat} (hn : n ≤ 4) (hc : c < n * n) (hp : p < n * n) (K : ∀ Ro', (∀ i j, i < n * n → j < n * n → Ro' i j = if p < i then Ro i j - Ro i c * Ro p j else Ro i j) → post (nI n, sd_ea 16 R, sd_v1 Mi, sd_v1 Te, sd_v1 Di, sd_v1 Ot, sd_ea 5 Fa, sd_ea 5 Ke, sd_ea 16 Ro')) : wpY_clear post (nI n, sd_ea 16 R, sd_v1 Mi, sd_v1 Te, sd_v1 Di, sd_v1 Ot, sd_ea 5 Fa, sd_ea 5 Ke, sd_ea 16 Ro) (nI c) (nI p) := by
  have q16 : n * n ≤ 16 := Nat.mul_le_mul hn hn
  have fnn : nI n * nI n = nI (n * n) := pk_mul n n
  have inn : ∀ (J : Int32 → (Nat → Int32) → (Nat → Int32) → (Nat → Int32) → (Nat → Int32) → (Nat → Int32) → (Nat → Int32) → (Nat → Int32) → (Nat → Int32) → Prop) (i : Nat) (f : Fin 5) (H0 : Nat → Nat → Fin 5), p < i → i < n * n →
      (∀ H, (∀ a b, a < n * n → b < n * n → H a b = if a = i then H0 i b - f * H0 p b else H0 a b) → J (nI (i + 1)) (sd_ea 16 R) (sd_v1 Mi) (sd_v1 Te) (sd_v1 Di) (sd_v1 Ot) (sd_ea 5 Fa) (sd_ea 5 Ke) (sd_ea 16 H)) →
      ∀ (d k : Nat) (H : Nat → Nat → Fin 5), k + d = n * n → (∀ a b, a < n * n → b < n * n → H a b = if a = i ∧ b < k then H0 i b - f * H0 p b else H0 a b) → wY_clear_35 post J (nI c) (nI p) (nI i) (5 - sd_eI f) (nI n) (d + 1) (nI k) (sd_ea 16 R) (sd_v1 Mi) (sd_v1 Te) (sd_v1 Di) (sd_v1 Ot) (sd_ea 5 Fa) (sd_ea 5 Ke) (sd_ea 16 H) := by
    intro J i f H0 hpi hi KJ d
    induction d with
    | zero =>
      intro k H hk h
      refine br_t (by rw [fnn]; exact nI_le (by omega) (by omega)) (nm_r (nI_1 i) (KJ H (fun a b ha hb => ?_)))
      rw [h a b ha hb]
      by_cases e : a = i
      · rw [if_pos ⟨e, by omega⟩, if_pos e]
      · rw [if_neg (fun z => e z.1), if_neg e]
    | succ d ih =>
      intro k H hk h
      refine br_f (by rw [fnn]; exact nI_ge (by omega) (by omega)) ?_
      rw [sd_ix16, sd_ix16, sd_clN (by omega), sd_clN (by omega), sd_ea_r (by omega), sd_ea_r (by omega), sd_w2, sd_ea_w (by omega)]
      refine ⟨vp_in_nI (by omega) (by omega), vp_in_nI (by omega) (by omega), sd_50, vp_in_nI (by omega) (by omega), nm_e (nm_r (nI_1 k) (ih (k + 1) _ (by omega) (fun a b ha hb => ?_)))⟩
      by_cases e : a = i ∧ b = k
      · obtain ⟨e1, e2⟩ := e
        subst e1; subst e2
        have q2 : ¬ (a = a ∧ b < b) := fun q => by omega
        have q3 : ¬ (p = a ∧ b < b) := fun q => by omega
        rw [sd_u_s, if_pos ⟨rfl, by omega⟩, h a b ha hb, h p b hp hb, if_neg q2, if_neg q3]
      · rw [sd_u_n e, h a b ha hb]
        by_cases e2 : a = i ∧ b < k
        · rw [if_pos e2, if_pos ⟨e2.1, by omega⟩]
        · have q2 : ¬ (a = i ∧ b < k + 1) := fun q => by
            by_cases e3 : b = k
            · exact e ⟨q.1, e3⟩
            · exact e2 ⟨q.1, by omega⟩
          rw [if_neg e2, if_neg q2]
  refine nm_r (nI_1 p) (Exists.intro (n * n - (p + 1) + 1) ?_)
  have lp : ∀ (d i : Nat) (H : Nat → Nat → Fin 5), i + d = n * n → p < i → (∀ a b, a < n * n → b < n * n → H a b = if p < a ∧ a < i then Ro a b - Ro a c * Ro p b else Ro a b) → wY_clear_4 post (nI c) (nI p) (nI n) (d + 1) (nI i) (sd_ea 16 R) (sd_v1 Mi) (sd_v1 Te) (sd_v1 Di) (sd_v1 Ot) (sd_ea 5 Fa) (sd_ea 5 Ke) (sd_ea 16 H) := by
    intro d
    induction d with
    | zero =>
      intro i H hi hpi h
      refine br_t (by rw [fnn]; exact nI_le (by omega) (by omega)) (K H (fun a b ha hb => ?_))
      rw [h a b ha hb]
      by_cases e : p < a
      · rw [if_pos ⟨e, by omega⟩, if_pos e]
      · rw [if_neg (fun z => e z.1), if_neg e]
    | succ d ih =>
      intro i H hi hpi h
      refine br_f (by rw [fnn]; exact nI_ge (by omega) (by omega)) ?_
      rw [sd_ix16, sd_clN (by omega), sd_ea_r (by omega)]
      have hic : H i c = Ro i c := by rw [h i c (by omega) hc, if_neg (fun z => by omega)]
      refine ⟨vp_in_nI (by omega) (by omega), nm_e (Exists.intro (n * n + 1) (inn _ i (H i c) H hpi (by omega) (fun H' g => ih (i + 1) H' (by omega) (by omega) (fun a b ha hb => ?_)) (n * n) 0 H (by omega) (fun a b _ _ => (if_neg (fun z => by omega)).symm)))⟩
      rw [g a b ha hb]
      by_cases e : a = i
      · subst e
        have q2 : ¬ (p < a ∧ a < a) := fun q => by omega
        have q3 : ¬ (p < p ∧ p < a) := fun q => by omega
        rw [if_pos rfl, if_pos ⟨hpi, by omega⟩, hic, h a b ha hb, h p b hp hb, if_neg q2, if_neg q3]
      · rw [if_neg e, h a b ha hb]
        by_cases e2 : p < a ∧ a < i
        · rw [if_pos e2, if_pos ⟨e2.1, by omega⟩]
        · rw [if_neg e2, if_neg (fun z => e2 ⟨z.1, by omega⟩)]
  exact lp (n * n - (p + 1)) (p + 1) Ro (by omega) (by omega) (fun a b _ _ => (if_neg (fun z => by omega)).symm)
/-- the rank of the equations A X = X A -/
theorem yd_commute {post : Int32 → SY → Prop} {A : sd_M} (hn : n ≤ 4) (h1n : 1 ≤ n) (hR : ∀ u v, u < n * n → v < n * n → Ro u v = A u v) (K : ∀ Ro' k, k ≤ n * n → sd_rk (n * n) (n * n) A k → post (nI (n * n - k)) (nI n, sd_ea 16 R, sd_v1 Mi, sd_v1 Te, sd_v1 Di, sd_v1 Ot, sd_ea 5 Fa, sd_ea 5 Ke, sd_ea 16 Ro')) : ∃ n19, wY_commutant_19 post n19 0 0 (nI n) (sd_ea 16 R) (sd_v1 Mi) (sd_v1 Te) (sd_v1 Di) (sd_v1 Ot) (sd_ea 5 Fa) (sd_ea 5 Ke) (sd_ea 16 Ro) := by
  have q16 : n * n ≤ 16 := Nat.mul_le_mul hn hn
  have fnn : nI n * nI n = nI (n * n) := pk_mul n n
  refine Exists.intro (n * n + 1) ?_
  have lp : ∀ (d c p : Nat) (H : Nat → Nat → Fin 5), c + d = n * n → sd_sq (n * n) A H → sd_sq (n * n) H A → sd_YS (n * n) H p c → wY_commutant_19 post (d + 1) (nI p) (nI c) (nI n) (sd_ea 16 R) (sd_v1 Mi) (sd_v1 Te) (sd_v1 Di) (sd_v1 Ot) (sd_ea 5 Fa) (sd_ea 5 Ke) (sd_ea 16 H) := by
    intro d
    induction d with
    | zero =>
      intro c p H hc s1 s2 ys
      have e : c = n * n := by omega
      subst e
      have pl := ys.1
      refine br_t (by rw [fnn]; exact nI_le (Nat.le_refl _) (by omega)) ?_
      rw [fnn, pk_sub pl]
      exact K H p pl (sd_YS_rk s1 s2 ys)
    | succ d ih =>
      intro c p H hc s1 s2 ys
      have pl := ys.1
      refine br_f (by rw [fnn]; exact nI_ge (by omega) (by omega)) (yd_bring hn h1n (by omega) pl (fun hz => br_t rfl (nm_r (nI_1 c) (ih (c + 1) p H (by omega) s1 s2 (sd_YS_skip ys hz)))) (fun f H1 hpf hf hne h1 => br_f (by decide) (yd_clear hn (by omega) (by omega) (fun H2 h2 => nm_r (nI_1 p) (nm_r (nI_1 c) (ih (c + 1) (p + 1) H2 (by omega) ?_ ?_ ?_))))))
      · have b1 := sd_sq_bring (q := n * n) (r := p) (p := f) (b := sd_i (H f c)) (M := H) (M' := H1) (by omega) hf (by
          intro z
          have := sd_i_m _ hne
          rw [z] at this
          exact absurd this (by grind)) (fun i j hi hj => h1 i j (by omega) hj)
        have b2 := sd_sq_clear (q := n * n) (r := p) (f := fun i => H1 i c) (M := H1) (M' := H2) (by omega) h2
        exact sd_sp_t (sd_sp_t b2.1 b1.1) s1
      · have b1 := sd_sq_bring (q := n * n) (r := p) (p := f) (b := sd_i (H f c)) (M := H) (M' := H1) (by omega) hf (by
          intro z
          have := sd_i_m _ hne
          rw [z] at this
          exact absurd this (by grind)) (fun i j hi hj => h1 i j (by omega) hj)
        have b2 := sd_sq_clear (q := n * n) (r := p) (f := fun i => H1 i c) (M := H1) (M' := H2) (by omega) h2
        exact sd_sp_t s2 (sd_sp_t b1.2 b2.2)
      · have z3 := ys.2.2.1
        have zH1 : ∀ i j, p ≤ i → i < n * n → j < c → H1 i j = 0 := by
          intro i j hi hin hj
          rw [h1 i j (by omega) (by omega), z3 f j hpf hf hj, z3 p j (Nat.le_refl p) (by omega) hj, z3 i j hi hin hj]
          split
          · grind
          · split <;> rfl
        have pc1 : H1 p c = 1 := by
          rw [h1 p c (by omega) (by omega), if_pos rfl]
          exact sd_i_m _ hne
        refine sd_YS_pivot (by omega) ys ?_ ?_ ?_ ?_
        · intro i j hi hj
          rw [h2 i j (by omega) (by omega), if_neg (by omega), h1 i j (by omega) (by omega), if_neg (by omega), if_neg (by omega)]
        · intro i j hi hin hj
          rw [h2 i j hin (by omega), zH1 i j hi hin hj, zH1 p j (Nat.le_refl p) (by omega) hj]
          split <;> grind
        · rw [h2 p c (by omega) (by omega), if_neg (by omega), pc1]
        · intro i hi hin
          rw [h2 i c hin (by omega), if_pos hi, pc1]; grind
  refine lp (n * n) 0 0 Ro (by omega) ?_ ?_ (sd_YS_0 _ _)
  · intro i hi
    exact ⟨sd_e i, fun j hj => by rw [sd_s_e' hi (fun l => A l j)]; exact hR i j hi hj⟩
  · intro i hi
    exact ⟨sd_e i, fun j hj => by rw [sd_s_e' hi (fun l => Ro l j)]; exact (hR i j hi hj).symm⟩
end
end
section
/-! ===== the relation ===== -/
def sd_rl2 (n : Nat) (G R : Nat → Nat → Fin 5) : Prop := 1 ≤ n ∧ n ≤ 4 ∧ ∀ r i j, r < 4 → i < n → j < n → G r (4 * i + j) = R r (n * i + j)
/-- the registers hold the same matrices; all cells are numbers of the field -/
def i_Rel (_ : Nat) (u : SX) (v : SY) : Prop := ∃ (n fc ic : Nat) (G Q : Nat → Nat → Fin 5) (fN fD bl iv kv : Nat → Nat) (R Fa Ke Ro : Nat → Nat → Fin 5) (Mi Te Di Ot : Nat → Fin 5), sd_rl2 n G R ∧ u = (nI n, nI fc, nI ic, sd_ea 16 G, sd_ea 10 Q, sd_nv fN, sd_nv fD, sd_nv bl, sd_nv iv, sd_nv kv) ∧ v = (nI n, sd_ea 16 R, sd_v1 Mi, sd_v1 Te, sd_v1 Di, sd_v1 Ot, sd_ea 5 Fa, sd_ea 5 Ke, sd_ea 16 Ro)
theorem i_up {k : Nat} {u : SX} {v : SY} (h : i_Rel k u v) : i_Rel (k + 5) u v := h
theorem ir_mk {k n fc ic : Nat} {G Q : Nat → Nat → Fin 5} {fN fD bl iv kv : Nat → Nat} {R Fa Ke Ro : Nat → Nat → Fin 5} {Mi Te Di Ot : Nat → Fin 5} (h : sd_rl2 n G R) : i_Rel k (nI n, nI fc, nI ic, sd_ea 16 G, sd_ea 10 Q, sd_nv fN, sd_nv fD, sd_nv bl, sd_nv iv, sd_nv kv) (nI n, sd_ea 16 R, sd_v1 Mi, sd_v1 Te, sd_v1 Di, sd_v1 Ot, sd_ea 5 Fa, sd_ea 5 Ke, sd_ea 16 Ro) :=
  ⟨n, fc, ic, G, Q, fN, fD, bl, iv, kv, R, Fa, Ke, Ro, Mi, Te, Di, Ot, h, rfl, rfl⟩
theorem ir_el {P : SX → SY → Prop} (h : ∀ (n fc ic : Nat) (G Q : Nat → Nat → Fin 5) (fN fD bl iv kv : Nat → Nat) (R Fa Ke Ro : Nat → Nat → Fin 5) (Mi Te Di Ot : Nat → Fin 5), sd_rl2 n G R → P (nI n, nI fc, nI ic, sd_ea 16 G, sd_ea 10 Q, sd_nv fN, sd_nv fD, sd_nv bl, sd_nv iv, sd_nv kv) (nI n, sd_ea 16 R, sd_v1 Mi, sd_v1 Te, sd_v1 Di, sd_v1 Ot, sd_ea 5 Fa, sd_ea 5 Ke, sd_ea 16 Ro)) {k : Nat} {u : SX} {v : SY} (I : i_Rel k u v) : P u v := by
  obtain ⟨n, fc, ic, G, Q, fN, fD, bl, iv, kv, R, Fa, Ke, Ro, Mi, Te, Di, Ot, hr, rfl, rfl⟩ := I
  exact h n fc ic G Q fN fD bl iv kv R Fa Ke Ro Mi Te Di Ot hr
theorem i_vc0 (k0 : Int32) : wpX_init (fun u => wpY_init (fun v => i_Rel 1 u v) k0) k0 := by
  have mk : ∀ n : Nat, 1 ≤ n → n ≤ 4 → i_Rel 1 (nI n, 0, 0, (fun _ => 0), (fun _ => 0), (fun _ => 0), (fun _ => 0), (fun _ => 0), (fun _ => 0), (fun _ => 0)) (nI n, (fun _ => 0), (fun _ => 0), (fun _ => 0), (fun _ => 0), (fun _ => 0), (fun _ => 0), (fun _ => 0), (fun _ => 0)) := by
    intro n h1 h4
    exact ir_mk (k := 1) (n := n) (fc := 0) (ic := 0) (G := fun _ _ => 0) (Q := fun _ _ => 0) (fN := fun _ => 0) (fD := fun _ => 0) (bl := fun _ => 0) (iv := fun _ => 0) (kv := fun _ => 0) (R := fun _ _ => 0) (Fa := fun _ _ => 0) (Ke := fun _ _ => 0) (Ro := fun _ _ => 0) (Mi := fun _ => 0) (Te := fun _ => 0) (Di := fun _ => 0) (Ot := fun _ => 0) ⟨h1, h4, fun _ _ _ _ _ _ => rfl⟩
  by_cases h1 : (1 : Int32) ≤ k0
  · by_cases h4 : k0 ≤ 4
    · have h0 : ¬ k0 < 0 := fun z => absurd (Int32.le_trans h1 (Int32.le_of_lt z)) (by decide)
      obtain ⟨n, hn, rfl⟩ := nI_of2 (M := 4) (n := 4) (by decide) h0 h4
      have n1 : 1 ≤ n := (nI_leI (a := 1) (by omega) (by omega)).mp h1
      exact br_t h1 (br_t h4 (br_t h1 (br_t h4 (mk n n1 hn))))
    · exact br_t h1 (br_f h4 (br_t h1 (br_f h4 (mk 4 (by omega) (by omega)))))
  · exact br_f h1 (br_f h1 (mk 1 (by omega) (by omega)))
theorem ir_reg (p : Int32) : (p < 0 ∨ 3 < p) ∨ ∃ r : Nat, r < 4 ∧ p = nI r := by
  by_cases h : p < 0
  · exact Or.inl (Or.inl h)
  · by_cases h' : 3 < p
    · exact Or.inl (Or.inr h')
    · obtain ⟨r, hr, rfl⟩ := nI_of2 (M := 3) (n := 3) (by decide) h (Int32.not_lt.mp h')
      exact Or.inr ⟨r, by omega, rfl⟩
theorem ir_nreg {r : Nat} (hr : r < 4) : ¬ (nI r < 0 ∨ 3 < nI r) := by
  rintro (h | h)
  · exact nI_pos (by omega) h
  · exact nI_nlt (a := 3) (b := r) (by omega) (by omega) h
/-- the matrix of a register -/
def sd_A (n : Nat) (R : Nat → Nat → Fin 5) (r : Nat) : sd_M := sd_cl n (fun i j => R r (n * i + j))
theorem sd_A_v {n r i j : Nat} {R : Nat → Nat → Fin 5} (hi : i < n) (hj : j < n) : R r (n * i + j) = sd_A n R r i j := (sd_cl_v (A := fun i j => R r (n * i + j)) hi hj).symm
theorem sd_A_ok (n r : Nat) (R : Nat → Nat → Fin 5) : sd_ok n (sd_A n R r) := sd_cl_ok n _
theorem sd_A_X {n r : Nat} {G R : Nat → Nat → Fin 5} (h : sd_rl2 n G R) (hr : r < 4) : sd_A n R r = sd_cl n (fun i k => G r (4 * i + k)) := by
  apply sd_ok_e (sd_A_ok n r R) (sd_cl_ok n _)
  intro i j hi hj
  rw [← sd_A_v hi hj, sd_cl_v hi hj, h.2.2 r i j hr hi hj]
section
variable {n fc ic : Nat} {G Q : Nat → Nat → Fin 5} {fN fD bl iv kv : Nat → Nat} {R Fa Ke Ro : Nat → Nat → Fin 5} {Mi Te Di Ot : Nat → Fin 5}
theorem xr_0 {post : Int32 → Prop} {p : Int32} (h : p < 0 ∨ 3 < p) (K : post 0) : wpX_isRegister post (nI n, nI fc, nI ic, sd_ea 16 G, sd_ea 10 Q, sd_nv fN, sd_nv fD, sd_nv bl, sd_nv iv, sd_nv kv) p :=
  xd_isRegister (fun _ => K) (fun r hr e => absurd (e ▸ h) (ir_nreg hr))
theorem xr_1 {post : Int32 → Prop} {r : Nat} (hr : r < 4) (K : post 1) : wpX_isRegister post (nI n, nI fc, nI ic, sd_ea 16 G, sd_ea 10 Q, sd_nv fN, sd_nv fD, sd_nv bl, sd_nv iv, sd_nv kv) (nI r) :=
  xd_isRegister (fun h => absurd h (ir_nreg hr)) (fun _ _ _ => K)
theorem yr_0 {post : Int32 → Prop} {p : Int32} (h : p < 0 ∨ 3 < p) (K : post 0) : wpY_isRegister post (nI n, sd_ea 16 R, sd_v1 Mi, sd_v1 Te, sd_v1 Di, sd_v1 Ot, sd_ea 5 Fa, sd_ea 5 Ke, sd_ea 16 Ro) p :=
  yd_isRegister (fun _ => K) (fun r hr e => absurd (e ▸ h) (ir_nreg hr))
theorem yr_1 {post : Int32 → Prop} {r : Nat} (hr : r < 4) (K : post 1) : wpY_isRegister post (nI n, sd_ea 16 R, sd_v1 Mi, sd_v1 Te, sd_v1 Di, sd_v1 Ot, sd_ea 5 Fa, sd_ea 5 Ke, sd_ea 16 Ro) (nI r) :=
  yd_isRegister (fun h => absurd h (ir_nreg hr)) (fun _ _ _ => K)
/-- the place of a cell -/
theorem sd_cell {j : Nat} (hn : n ≤ 4) (hj : j < n * n) : j / n < n ∧ j % n < n ∧ n * (j / n) + j % n = j := by
  have h0 : 0 < n := by
    apply Classical.byContradiction
    intro h
    have : n = 0 := by omega
    subst this
    omega
  exact ⟨Nat.div_lt_of_lt_mul hj, Nat.mod_lt j h0, Nat.div_add_mod j n⟩
theorem xm_get0 {post : Int32 → Prop} {v1 v2 : Int32} (h : (v1 < 0 ∨ 3 < v1) ∨ (v2 < 0 ∨ nI (n * n) ≤ v2)) (K : post (-1)) : wpX_get post (nI n, nI fc, nI ic, sd_ea 16 G, sd_ea 10 Q, sd_nv fN, sd_nv fD, sd_nv bl, sd_nv iv, sd_nv kv) v1 v2 := by
  unfold wpX_get
  dsimp only
  rw [pk_mul n n]
  refine xd_isRegister (fun _ => br_t rfl K) (fun r hr e => br_f (by decide) (br_c (fun _ => K) (fun h1 => br_c (fun h2 => ?_) (fun _ => K))))
  exfalso
  rcases h with h | h | h
  · exact ir_nreg hr (e ▸ h)
  · exact h1 h
  · exact absurd h2 (Int32.not_lt.mpr h)
theorem xm_get1 {post : Int32 → Prop} {r j : Nat} (hr : r < 4) (hn : n ≤ 4) (hj : j < n * n) (K : post (sd_eI (G r (4 * (j / n) + j % n)))) : wpX_get post (nI n, nI fc, nI ic, sd_ea 16 G, sd_ea 10 Q, sd_nv fN, sd_nv fD, sd_nv bl, sd_nv iv, sd_nv kv) (nI r) (nI j) := by
  obtain ⟨a, b, _⟩ := sd_cell hn hj
  have nn : n * n ≤ 16 := Nat.mul_le_mul hn hn
  have nz : ¬ nI n = 0 := nI_ne0 (by omega) (by omega)
  unfold wpX_get
  dsimp only
  rw [pk_mul n n, pk_div (by omega) (by omega) (by omega), pk_mul, show nI j - nI (j / n * n) = nI (j % n) from by
    have := pk_rem (a := j) (d := n) (by omega) (by omega) (by omega)
    rw [pk_div (by omega) (by omega) (by omega), pk_mul] at this
    exact this]
  exact xr_1 hr (br_f (by decide) (br_f (nI_pos (by omega)) (br_t (nI_lt hj (by omega)) ⟨nz, nz, xd_entry (by omega) (by omega) (by omega) K⟩)))
theorem sd_last {v : Int32} (q : Nat) (h1 : 1 ≤ q) (hq : q ≤ 16) (hv : ¬ v < 0) : (nI (q - 1) < v) ↔ nI q ≤ v := by
  obtain ⟨j, hj, rfl⟩ := nI_of hv
  rw [nI_ltI (by omega) hj, nI_leI (by omega) hj]
  omega
theorem ym_get0 {post : Int32 → Prop} {v1 v2 : Int32} (h1n : 1 ≤ n) (hn : n ≤ 4) (h : (v1 < 0 ∨ 3 < v1) ∨ (v2 < 0 ∨ nI (n * n) ≤ v2)) (K : post (-1)) : wpY_get post (nI n, sd_ea 16 R, sd_v1 Mi, sd_v1 Te, sd_v1 Di, sd_v1 Ot, sd_ea 5 Fa, sd_ea 5 Ke, sd_ea 16 Ro) v1 v2 := by
  have nn : n * n ≤ 16 := Nat.mul_le_mul hn hn
  have n1 : 1 ≤ n * n := Nat.mul_le_mul h1n h1n
  unfold wpY_get
  dsimp only
  rw [pk_mul n n, show nI (n * n) - 1 = nI (n * n - 1) from pk_sub (b := 1) n1]
  refine yd_isRegister (fun _ => br_t rfl K) (fun r hr e => br_f (by decide) (yd_in (fun _ => br_t rfl K) (fun a b => ?_)))
  exfalso
  rcases h with h | h | h
  · exact ir_nreg hr (e ▸ h)
  · exact a h
  · exact b ((sd_last (n * n) n1 nn a).mpr h)
theorem ym_get1 {post : Int32 → Prop} {r j : Nat} (hr : r < 4) (h1n : 1 ≤ n) (hn : n ≤ 4) (hj : j < n * n) (K : post (sd_eI (R r j))) : wpY_get post (nI n, sd_ea 16 R, sd_v1 Mi, sd_v1 Te, sd_v1 Di, sd_v1 Ot, sd_ea 5 Fa, sd_ea 5 Ke, sd_ea 16 Ro) (nI r) (nI j) := by
  have nn : n * n ≤ 16 := Nat.mul_le_mul hn hn
  have n1 : 1 ≤ n * n := Nat.mul_le_mul h1n h1n
  unfold wpY_get
  dsimp only
  rw [pk_mul n n, show nI (n * n) - 1 = nI (n * n - 1) from pk_sub (b := 1) n1, sd_ix16, sd_clN (by omega), sd_ea_r (by omega)]
  refine yr_1 hr (br_f (by decide) (yd_in (fun h => ?_) (fun _ _ => br_f (by decide) ⟨vp_in_nI (by omega) (by omega), K⟩)))
  exfalso
  rcases h with h | h
  · exact nI_pos (by omega) h
  · exact nI_nlt (by omega) (by omega) h
end
theorem i_vc_get {k : Nat} {u : SX} {v : SY} (I : i_Rel k u v) (hk : k + 5 ≤ 2561) (v1 : Int32) (v2 : Int32) : wpX_get (fun r => wpY_get (fun r' => r' = r ∧ i_Rel (k + 5) u v) v v1 v2) u v1 v2 := by
  refine ir_el (P := fun u v => wpX_get (fun r => wpY_get (fun r' => r' = r ∧ i_Rel (k + 5) u v) v v1 v2) u v1 v2) ?_ I
  intro n fc ic G Q fN fD bl iv kv R Fa Ke Ro Mi Te Di Ot hr
  obtain ⟨h1, h4, hg⟩ := hr
  have nn : n * n ≤ 16 := Nat.mul_le_mul h4 h4
  by_cases bad : (v1 < 0 ∨ 3 < v1) ∨ (v2 < 0 ∨ nI (n * n) ≤ v2)
  · exact xm_get0 bad (ym_get0 h1 h4 bad ⟨rfl, ir_mk ⟨h1, h4, hg⟩⟩)
  · rcases ir_reg v1 with h | ⟨r, hr, rfl⟩
    · exact absurd (Or.inl h) bad
    · have a : ¬ v2 < 0 := fun z => bad (Or.inr (Or.inl z))
      obtain ⟨j, hj, rfl⟩ := nI_of a
      have jl : j < n * n := by
        apply Classical.byContradiction
        intro hn
        exact bad (Or.inr (Or.inr (nI_le (by omega) hj)))
      obtain ⟨c1, c2, c3⟩ := sd_cell h4 jl
      refine xm_get1 hr h4 jl (ym_get1 hr h1 h4 jl ⟨?_, ir_mk ⟨h1, h4, hg⟩⟩)
      rw [hg r _ _ hr c1 c2, c3]
section
variable {n fc ic : Nat} {G Q : Nat → Nat → Fin 5} {fN fD bl iv kv : Nat → Nat} {R Fa Ke Ro : Nat → Nat → Fin 5} {Mi Te Di Ot : Nat → Fin 5}
theorem xm_set0 {post : Int32 → SX → Prop} {v1 v2 v3 : Int32} (h : (v1 < 0 ∨ 3 < v1) ∨ (v2 < 0 ∨ nI (n * n) ≤ v2) ∨ (v3 < 0 ∨ 4 < v3)) (K : post 0 (nI n, nI fc, nI ic, sd_ea 16 G, sd_ea 10 Q, sd_nv fN, sd_nv fD, sd_nv bl, sd_nv iv, sd_nv kv)) : wpX_set post (nI n, nI fc, nI ic, sd_ea 16 G, sd_ea 10 Q, sd_nv fN, sd_nv fD, sd_nv bl, sd_nv iv, sd_nv kv) v1 v2 v3 := by
  unfold wpX_set
  dsimp only
  rw [pk_mul n n]
  refine xd_isRegister (fun _ => br_t rfl K) (fun r hr e => br_f (by decide) (br_c (fun _ => K) (fun h1 => br_c (fun _ => K) (fun h2 => br_c (fun _ => K) (fun h3 => br_c (fun h4 => ?_) (fun _ => K))))))
  exfalso
  rcases h with h | h | h
  · exact ir_nreg hr (e ▸ h)
  · rcases h with h | h
    · exact h1 h
    · exact h2 h
  · rcases h with h | h
    · exact h3 h
    · exact absurd h4 (Int32.not_le.mpr h)
theorem xm_set1 {post : Int32 → SX → Prop} {r j w : Nat} (hr : r < 4) (hn : n ≤ 4) (hj : j < n * n) (hw : w < 5) (K : post 1 (nI n, nI fc, nI ic, sd_ea 16 (sd_u G r (4 * (j / n) + j % n) (Fin.ofNat 5 w)), sd_ea 10 Q, sd_nv fN, sd_nv fD, sd_nv bl, sd_nv iv, sd_nv kv)) : wpX_set post (nI n, nI fc, nI ic, sd_ea 16 G, sd_ea 10 Q, sd_nv fN, sd_nv fD, sd_nv bl, sd_nv iv, sd_nv kv) (nI r) (nI j) (nI w) := by
  obtain ⟨a, b, _⟩ := sd_cell hn hj
  have nn : n * n ≤ 16 := Nat.mul_le_mul hn hn
  have nz : ¬ nI n = 0 := nI_ne0 (by omega) (by omega)
  unfold wpX_set
  dsimp only
  rw [pk_mul n n, pk_div (by omega) (by omega) (by omega), pk_mul, show nI j - nI (j / n * n) = nI (j % n) from by
    have := pk_rem (a := j) (d := n) (by omega) (by omega) (by omega)
    rw [pk_div (by omega) (by omega) (by omega), pk_mul] at this
    exact this]
  refine xr_1 hr (br_f (by decide) (br_f (nI_pos (by omega)) (br_f (nI_ge hj (by omega)) (br_f (nI_pos (by omega)) (br_t (nI_le (b := 4) (by omega) (by omega)) ⟨nz, nz, xd_setEntry (v := Fin.ofNat 5 w) (by omega) (by omega) (by omega) ?_ K⟩)))))
  show nI w = nI (w % 5)
  rw [Nat.mod_eq_of_lt hw]
theorem ym_set0 {post : Int32 → SY → Prop} {v1 v2 v3 : Int32} (h1n : 1 ≤ n) (hn : n ≤ 4) (h : (v1 < 0 ∨ 3 < v1) ∨ (v2 < 0 ∨ nI (n * n) ≤ v2) ∨ (v3 < 0 ∨ 4 < v3)) (K : post 0 (nI n, sd_ea 16 R, sd_v1 Mi, sd_v1 Te, sd_v1 Di, sd_v1 Ot, sd_ea 5 Fa, sd_ea 5 Ke, sd_ea 16 Ro)) : wpY_set post (nI n, sd_ea 16 R, sd_v1 Mi, sd_v1 Te, sd_v1 Di, sd_v1 Ot, sd_ea 5 Fa, sd_ea 5 Ke, sd_ea 16 Ro) v1 v2 v3 := by
  have nn : n * n ≤ 16 := Nat.mul_le_mul hn hn
  have n1 : 1 ≤ n * n := Nat.mul_le_mul h1n h1n
  unfold wpY_set
  dsimp only
  rw [pk_mul n n, show nI (n * n) - 1 = nI (n * n - 1) from pk_sub (b := 1) n1]
  refine yd_isRegister (fun _ => br_t rfl K) (fun r hr e => br_f (by decide) (yd_in (fun _ => br_t rfl K) (fun a b => br_f (by decide) (yd_in (fun _ => br_t rfl K) (fun c d => ?_)))))
  exfalso
  rcases h with h | h | h
  · exact ir_nreg hr (e ▸ h)
  · rcases h with h | h
    · exact a h
    · exact b ((sd_last (n * n) n1 nn a).mpr h)
  · rcases h with h | h
    · exact c h
    · exact d h
theorem ym_set1 {post : Int32 → SY → Prop} {r j w : Nat} (hr : r < 4) (h1n : 1 ≤ n) (hn : n ≤ 4) (hj : j < n * n) (hw : w < 5) (K : post 1 (nI n, sd_ea 16 (sd_u R r j (Fin.ofNat 5 w)), sd_v1 Mi, sd_v1 Te, sd_v1 Di, sd_v1 Ot, sd_ea 5 Fa, sd_ea 5 Ke, sd_ea 16 Ro)) : wpY_set post (nI n, sd_ea 16 R, sd_v1 Mi, sd_v1 Te, sd_v1 Di, sd_v1 Ot, sd_ea 5 Fa, sd_ea 5 Ke, sd_ea 16 Ro) (nI r) (nI j) (nI w) := by
  have nn : n * n ≤ 16 := Nat.mul_le_mul hn hn
  have n1 : 1 ≤ n * n := Nat.mul_le_mul h1n h1n
  have ew : nI w = sd_eI (Fin.ofNat 5 w) := by
    show nI w = nI (w % 5)
    rw [Nat.mod_eq_of_lt hw]
  unfold wpY_set
  dsimp only
  rw [pk_mul n n, show nI (n * n) - 1 = nI (n * n - 1) from pk_sub (b := 1) n1, sd_ix16, sd_clN (by omega)]
  refine yr_1 hr (br_f (by decide) (yd_in (fun h => ?_) (fun _ _ => br_f (by decide) (yd_in (fun h => ?_) (fun _ _ => br_f (by decide) ⟨vp_in_nI (by omega) (by omega), nm_r (e' := sd_ea 16 (sd_u R r j (Fin.ofNat 5 w))) ?_ K⟩)))))
  · exfalso
    rcases h with h | h
    · exact nI_pos (by omega) h
    · exact nI_nlt (by omega) (by omega) h
  · exfalso
    rcases h with h | h
    · exact nI_pos (by omega) h
    · exact nI_nlt (a := 4) (by omega) (by omega) h
  · rw [ew, sd_ea_w (by omega)]
end
theorem i_vc_set {k : Nat} {u : SX} {v : SY} (I : i_Rel k u v) (hk : k + 5 ≤ 2561) (v1 : Int32) (v2 : Int32) (v3 : Int32) : wpX_set (fun r u' => wpY_set (fun r' v' => r' = r ∧ i_Rel (k + 5) u' v') v v1 v2 v3) u v1 v2 v3 := by
  refine ir_el (P := fun u v => wpX_set (fun r u' => wpY_set (fun r' v' => r' = r ∧ i_Rel (k + 5) u' v') v v1 v2 v3) u v1 v2 v3) ?_ I
  intro n fc ic G Q fN fD bl iv kv R Fa Ke Ro Mi Te Di Ot hr
  obtain ⟨h1, h4, hg⟩ := hr
  have nn : n * n ≤ 16 := Nat.mul_le_mul h4 h4
  by_cases bad : (v1 < 0 ∨ 3 < v1) ∨ (v2 < 0 ∨ nI (n * n) ≤ v2) ∨ (v3 < 0 ∨ 4 < v3)
  · exact xm_set0 bad (ym_set0 h1 h4 bad ⟨rfl, ir_mk ⟨h1, h4, hg⟩⟩)
  · rcases ir_reg v1 with h | ⟨r, hr, rfl⟩
    · exact absurd (Or.inl h) bad
    · have a : ¬ v2 < 0 := fun z => bad (Or.inr (Or.inl (Or.inl z)))
      obtain ⟨j, hj, rfl⟩ := nI_of a
      have jl : j < n * n := by
        apply Classical.byContradiction
        intro hn
        exact bad (Or.inr (Or.inl (Or.inr (nI_le (by omega) hj))))
      have b : ¬ v3 < 0 := fun z => bad (Or.inr (Or.inr (Or.inl z)))
      have c : v3 ≤ 4 := Int32.not_lt.mp (fun z => bad (Or.inr (Or.inr (Or.inr z))))
      obtain ⟨w, hw, rfl⟩ := nI_of2 (M := 4) (n := 4) (by decide) b c
      obtain ⟨c1, c2, c3⟩ := sd_cell h4 jl
      refine xm_set1 hr h4 jl (by omega) (ym_set1 hr h1 h4 jl (by omega) ⟨rfl, ir_mk ⟨h1, h4, ?_⟩⟩)
      intro r' i l hr' hi hl
      by_cases e : r' = r ∧ n * i + l = j
      · obtain ⟨e1, e2⟩ := e
        have e3 : n * i + l = n * (j / n) + j % n := by rw [c3, e2]
        obtain ⟨e4, e5⟩ := sd_ixn hl c2 e3
        rw [← e4, ← e5, e1, sd_u_s, ← e2, sd_u_s]
      · rw [sd_u_n e, sd_u_n]
        · exact hg r' i l hr' hi hl
        · rintro ⟨e1, e2⟩
          apply e
          have e3 : i = j / n := by omega
          have e4 : l = j % n := by omega
          exact ⟨e1, by rw [e3, e4, c3]⟩
end
section
/-! ===== characteristic, determinant, minimal, invariant ===== -/
theorem sd_rl2_c {n : Nat} {G G' R R' : Nat → Nat → Fin 5} (h : sd_rl2 n G R) (hG : ∀ a x, a < 4 → x < 16 → G' a x = G a x) (hR : ∀ a x, a < 4 → x < 16 → R' a x = R a x) : sd_rl2 n G' R' := by
  obtain ⟨h1, h4, hg⟩ := h
  refine ⟨h1, h4, fun r i j hr hi hj => ?_⟩
  have b := sd_ixb h4 hi hj
  rw [hG r _ hr (by omega), hR r _ hr b.2, hg r i j hr hi hj]
theorem sd_cp0 {n : Nat} (h1 : 1 ≤ n) (h4 : n ≤ 4) (A : sd_M) : (n % 2 = 0 → sd_cp n A 0 = sd_dt n A) ∧ (n % 2 = 1 → sd_cp n A 0 = - sd_dt n A) := by
  have e : sd_cp n A 0 = sd_det n (fun i j => - A i j) (fun t => t) (fun t => t) := sd_det_0 (sd_xm A) n _ _
  rw [e]
  unfold sd_dt
  match n, h1, h4 with
  | 1, _, _ => exact ⟨fun h => absurd h (by decide), fun _ => rfl⟩
  | 2, _, _ => exact ⟨fun _ => by simp only [sd_det, sd_D2]; grind, fun h => absurd h (by decide)⟩
  | 3, _, _ => exact ⟨fun h => absurd h (by decide), fun _ => by simp only [sd_det, sd_D3, sd_D2]; grind⟩
  | 4, _, _ => exact ⟨fun _ => by simp only [sd_det, sd_D4, sd_D3, sd_D2]; grind, fun h => absurd h (by decide)⟩
theorem sd_rst : ∀ x : Fin 5, ((0 : Int32) ≤ (- sd_eI x) - (- sd_eI x) / 5 * 5 → (- sd_eI x) - (- sd_eI x) / 5 * 5 = sd_eI (- x)) ∧ (¬ (0 : Int32) ≤ (- sd_eI x) - (- sd_eI x) / 5 * 5 → (- sd_eI x) - (- sd_eI x) / 5 * 5 + 5 = sd_eI (- x)) := by decide +kernel
section
variable {n fc ic : Nat} {G Q : Nat → Nat → Fin 5} {fN fD bl iv kv : Nat → Nat} {R Fa Ke Ro : Nat → Nat → Fin 5} {Mi Te Di Ot : Nat → Fin 5}
theorem xd_rest {post : Int32 → Prop} {x : Fin 5} (K : post (sd_eI (- x))) : wpX_rest post (nI n, nI fc, nI ic, sd_ea 16 G, sd_ea 10 Q, sd_nv fN, sd_nv fD, sd_nv bl, sd_nv iv, sd_nv kv) (- sd_eI x) := by
  refine ⟨sd_50, nm_e ?_⟩
  obtain ⟨a, b⟩ := sd_rst x
  exact br_c (fun h => by rw [a h]; exact K) (fun h => by rw [b h]; exact K)
end
theorem i_vc_characteristic {k : Nat} {u : SX} {v : SY} (I : i_Rel k u v) (hk : k + 5 ≤ 2561) (v1 : Int32) : wpX_characteristic (fun r u' => wpY_characteristic (fun r' v' => r' = r ∧ i_Rel (k + 5) u' v') v v1) u v1 := by
  refine ir_el (P := fun u v => wpX_characteristic (fun r u' => wpY_characteristic (fun r' v' => r' = r ∧ i_Rel (k + 5) u' v') v v1) u v1) ?_ I
  intro n fc ic G Q fN fD bl iv kv R Fa Ke Ro Mi Te Di Ot hr
  have hr' := hr
  obtain ⟨h1, h4, hg⟩ := hr'
  unfold wpX_characteristic wpY_characteristic
  dsimp only
  rcases ir_reg v1 with h | ⟨r, hr4, rfl⟩
  · exact xr_0 h (br_t rfl (yr_0 h (br_t rfl ⟨rfl, ir_mk hr⟩)))
  · refine xr_1 hr4 (br_f (by decide) (xd_characteristicOf hr4 h1 h4 (fun G' Q' fr => yr_1 hr4 (br_f (by decide) (yd_value (x := true) (A := sd_A n R r) (by omega) h4 h1 (fun i j hi hj => sd_A_v hi hj) rfl (fun Mi' Te' => ⟨?_, ir_mk (sd_rl2_c hr (fun a x ha hx => fr a x (by omega) hx) (fun _ _ _ _ => rfl))⟩))))))
    rw [sd_A_X hr hr4]; rfl
theorem i_vc_determinant {k : Nat} {u : SX} {v : SY} (I : i_Rel k u v) (hk : k + 5 ≤ 2561) (v1 : Int32) : wpX_determinant (fun r u' => wpY_determinant (fun r' v' => r' = r ∧ i_Rel (k + 5) u' v') v v1) u v1 := by
  refine ir_el (P := fun u v => wpX_determinant (fun r u' => wpY_determinant (fun r' v' => r' = r ∧ i_Rel (k + 5) u' v') v v1) u v1) ?_ I
  intro n fc ic G Q fN fD bl iv kv R Fa Ke Ro Mi Te Di Ot hr
  have hr' := hr
  obtain ⟨h1, h4, hg⟩ := hr'
  unfold wpX_determinant wpY_determinant
  dsimp only
  rcases ir_reg v1 with h | ⟨r, hr4, rfl⟩
  · exact xr_0 h (br_t rfl (yr_0 h (br_t rfl ⟨rfl, ir_mk hr⟩)))
  · refine xr_1 hr4 (br_f (by decide) (xd_characteristicOf hr4 h1 h4 (fun G' Q' fr => ⟨sd_50, ?_⟩)))
    have c5 := sd_nm_lt 5 (sd_cp n (sd_cl n (fun i k => G r (4 * i + k))))
    have e5 : (5 : Nat) ^ 5 = 3125 := by decide
    have eo : Fin.ofNat 5 (sd_nm 5 (sd_cp n (sd_cl n (fun i k => G r (4 * i + k))))) = sd_cp n (sd_cl n (fun i k => G r (4 * i + k))) 0 := by
      rw [← sd_dg_h, sd_dg_nm 5 _ 0 (by omega)]
    rw [sd_m5 (by omega), eo, ← sd_A_X hr hr4]
    have rel : ∀ {Mi' Te' : Nat → Fin 5}, i_Rel (k + 5) (nI n, nI fc, nI ic, sd_ea 16 G', sd_ea 10 Q', sd_nv fN, sd_nv fD, sd_nv bl, sd_nv iv, sd_nv kv) (nI n, sd_ea 16 R, sd_v1 Mi', sd_v1 Te', sd_v1 Di, sd_v1 Ot, sd_ea 5 Fa, sd_ea 5 Ke, sd_ea 16 Ro) := fun {_ _} => ir_mk (sd_rl2_c hr (fun a x ha hx => fr a x (by omega) hx) (fun _ _ _ _ => rfl))
    obtain ⟨ev, od⟩ := sd_cp0 h1 h4 (sd_A n R r)
    have en : nI n &&& 1 = nI (n % 2) := pk_andN (by omega) 1 (by decide)
    rw [en]
    refine nm_e ?_
    by_cases p : n % 2 = 0
    · refine br_t (by rw [p]; decide) (yr_1 hr4 (br_f (by decide) (yd_value (x := false) (A := sd_A n R r) (by omega) h4 h1 (fun i j hi hj => sd_A_v hi hj) rfl (fun Mi' Te' => ⟨?_, rel⟩))))
      rw [ev p]; rfl
    · have p1 : n % 2 = 1 := by omega
      refine br_f (by rw [p1]; decide) (xd_rest (yr_1 hr4 (br_f (by decide) (yd_value (x := false) (A := sd_A n R r) (by omega) h4 h1 (fun i j hi hj => sd_A_v hi hj) rfl (fun Mi' Te' => ⟨?_, rel⟩)))))
      rw [od p1]
      have : - - sd_dt n (sd_A n R r) = sd_dt n (sd_A n R r) := by grind
      rw [this]; rfl
/-- what analyse gives, from the register -/
theorem sd_fact_A {n r : Nat} {G R : Nat → Nat → Fin 5} (h : sd_rl2 n G R) : ∃ N D, sd_fact n (sd_A n R r) N D := sd_every h.1 h.2.1 (sd_A_ok n r R)
theorem i_vc_minimal {k : Nat} {u : SX} {v : SY} (I : i_Rel k u v) (hk : k + 5 ≤ 2561) (v1 : Int32) : wpX_minimal (fun r u' => wpY_minimal (fun r' v' => r' = r ∧ i_Rel (k + 5) u' v') v v1) u v1 := by
  refine ir_el (P := fun u v => wpX_minimal (fun r u' => wpY_minimal (fun r' v' => r' = r ∧ i_Rel (k + 5) u' v') v v1) u v1) ?_ I
  intro n fc ic G Q fN fD bl iv kv R Fa Ke Ro Mi Te Di Ot hr
  have hr' := hr
  obtain ⟨h1, h4, hg⟩ := hr'
  unfold wpX_minimal wpY_minimal
  dsimp only
  rcases ir_reg v1 with h | ⟨r, hr4, rfl⟩
  · exact xr_0 h (br_t rfl (yr_0 h (br_t rfl ⟨rfl, ir_mk hr⟩)))
  · obtain ⟨N, D, hF⟩ := sd_fact_A (r := r) hr
    have hF' := hF
    obtain ⟨_, _, f4, _, _, _, _, f9⟩ := hF'
    obtain ⟨i1, i2, _, _⟩ := f4
    refine xr_1 hr4 (br_f (by decide) (xd_analyse (N := N) (D := D) hr4 h1 h4 (sd_A_X hr hr4) hF (fun G' Q' fN' fD' bl' iv' fr _ hiv => ?_)))
    obtain ⟨e1, e2⟩ := sd_fact_iv hF 0 (by omega)
    have e3 := hiv 0 (by omega)
    rw [Nat.sub_zero] at e1 e2 e3
    have ix : nI (sd_ic D) - 1 = nI (sd_ic D - 1) := pk_sub (b := 1) i1
    dsimp only
    rw [ix, sd_clN (by omega)]
    refine ⟨vp_in_nI (by omega) (by omega), yr_1 hr4 (br_f (by decide) (yd_findFactors (A := sd_A n R r) (by omega) h4 h1 (sd_A_ok n r R) (fun i j hi hj => sd_A_v hi hj) f9 (fun Mi' Te' Di' Ot' Fa' hFa => ?_)))⟩
    dsimp only
    rw [show nI n - 1 = nI (n - 1) from pk_sub (b := 1) h1]
    refine yd_written (by omega) e2 (fun j hj => hFa (n - 1) j (by omega) hj) ⟨?_, ir_mk (sd_rl2_c hr fr (fun _ _ _ _ => rfl))⟩
    show nI (N (n - 1)) = nI (iv' (sd_ic D - 1))
    rw [e3, e1]
theorem i_vc_invariant {k : Nat} {u : SX} {v : SY} (I : i_Rel k u v) (hk : k + 5 ≤ 2561) (v1 : Int32) (v2 : Int32) : wpX_invariant (fun r u' => wpY_invariant (fun r' v' => r' = r ∧ i_Rel (k + 5) u' v') v v1 v2) u v1 v2 := by
  refine ir_el (P := fun u v => wpX_invariant (fun r u' => wpY_invariant (fun r' v' => r' = r ∧ i_Rel (k + 5) u' v') v v1 v2) u v1 v2) ?_ I
  intro n fc ic G Q fN fD bl iv kv R Fa Ke Ro Mi Te Di Ot hr
  have hr' := hr
  obtain ⟨h1, h4, hg⟩ := hr'
  unfold wpX_invariant wpY_invariant
  dsimp only
  rcases ir_reg v1 with h | ⟨r, hr4, rfl⟩
  · exact xr_0 h (br_t rfl (yr_0 h (br_t rfl ⟨rfl, ir_mk hr⟩)))
  · obtain ⟨N, D, hF⟩ := sd_fact_A (r := r) hr
    have hF' := hF
    obtain ⟨_, _, f4, _, _, _, _, f9⟩ := hF'
    obtain ⟨i1, i2, _, i4⟩ := f4
    refine xr_1 hr4 (br_f (by decide) (xd_analyse (N := N) (D := D) hr4 h1 h4 (sd_A_X hr hr4) hF (fun G' Q' fN' fD' bl' iv' fr _ hiv => ?_)))
    dsimp only
    -- Y's search
    have ysrch : ∀ (w : Int32) (post : Int32 → SY → Prop) (Mi' Te' Di' Ot' : Nat → Fin 5) (Fa' : Nat → Nat → Fin 5), (∀ t j, t < n → j < 5 → Fa' t j = sd_dg (N t) j) →
        (∀ q, w = nI q → q < sd_ic D → post (nI (N (n - sd_ic D + q))) (nI n, sd_ea 16 R, sd_v1 Mi', sd_v1 Te', sd_v1 Di', sd_v1 Ot', sd_ea 5 Fa', sd_ea 5 Ke, sd_ea 16 Ro)) → ((∀ q, w = nI q → q < 2 ^ 31 → sd_ic D ≤ q) → post (-2) (nI n, sd_ea 16 R, sd_v1 Mi', sd_v1 Te', sd_v1 Di', sd_v1 Ot', sd_ea 5 Fa', sd_ea 5 Ke, sd_ea 16 Ro)) → ∃ n20, wY_invariant_20 post w (nI n) (sd_ea 16 R) (sd_v1 Mi') (sd_v1 Te') (sd_v1 Di') (sd_v1 Ot') (sd_ea 5 Fa') (sd_ea 5 Ke) (sd_ea 16 Ro) n20 0 0 := by
      intro w post Mi' Te' Di' Ot' Fa' hFa K1 K2
      refine Exists.intro (n + 1) ?_
      have lp : ∀ (d j : Nat), j + d = n → (∀ q, w = nI q → q < 2 ^ 31 → j - (n - sd_ic D) ≤ q) → wY_invariant_20 post w (nI n) (sd_ea 16 R) (sd_v1 Mi') (sd_v1 Te') (sd_v1 Di') (sd_v1 Ot') (sd_ea 5 Fa') (sd_ea 5 Ke) (sd_ea 16 Ro) (d + 1) (nI (j - (n - sd_ic D))) (nI j) := by
        intro d
        induction d with
        | zero =>
          intro j hj hq
          refine br_t (nI_le (by omega) (by omega)) (K2 (fun q e hq2 => ?_))
          have := hq q e hq2
          omega
        | succ d ih =>
          intro j hj hq
          obtain ⟨a1, a2⟩ := i4 j (by omega)
          obtain ⟨dg, hdg, hmon⟩ := f9.1 j (by omega)
          refine br_f (nI_ge (by omega) (by omega)) (yd_degreeOfFactor (by omega) hdg hmon (fun y hy => hFa j y (by omega) hy) ?_)
          by_cases t : j + sd_ic D < n
          · have e1 := a1 t
            have d0 : dg = 0 := by
              rw [e1] at hmon
              apply Classical.byContradiction
              intro hn
              have : 5 ^ 1 ≤ 5 ^ dg := Nat.pow_le_pow_right (by omega) (by omega)
              rw [Nat.div_eq_of_lt (by omega)] at hmon
              exact absurd hmon (by decide)
            subst d0
            have nx := ih (j + 1) (by omega) (fun q e hq2 => by omega)
            have z1 : j - (n - sd_ic D) = 0 := by omega
            have z2 : j + 1 - (n - sd_ic D) = 0 := by omega
            rw [z2] at nx
            rw [z1]
            exact br_t (by decide) (nm_r (nI_1 j) nx)
          · obtain ⟨e1, e2⟩ := a2 (by omega)
            have dpos : 0 < dg := by
              apply Classical.byContradiction
              intro hn
              have d0 : dg = 0 := by omega
              subst d0
              rw [Nat.pow_zero, Nat.div_one] at hmon
              omega
            refine br_f (nI_nle dpos (by omega)) ?_
            by_cases eq : nI (j - (n - sd_ic D)) = w
            · refine br_t eq (yd_written (by omega) (sd_mon_lt hdg hmon) (fun y hy => hFa j y (by omega) hy) ?_)
              have := K1 (j - (n - sd_ic D)) eq.symm (by omega)
              have e3 : n - sd_ic D + (j - (n - sd_ic D)) = j := by omega
              rw [e3] at this
              exact this
            · have nx := ih (j + 1) (by omega) (fun q e hq2 => by
                have := hq q e hq2
                have ne : ¬ j - (n - sd_ic D) = q := fun z => eq (by rw [z, e])
                omega)
              have z2 : j + 1 - (n - sd_ic D) = j - (n - sd_ic D) + 1 := by omega
              rw [z2] at nx
              exact br_f eq (nm_r (nI_1 _) (nm_r (nI_1 j) nx))
      have st := lp n 0 (by omega) (fun q _ _ => by omega)
      have z : 0 - (n - sd_ic D) = 0 := by omega
      rw [z] at st
      exact st
    have yrun : ∀ (a : Int32), (∀ q, v2 = nI q → q < sd_ic D → nI (N (n - sd_ic D + q)) = a) → ((∀ q, v2 = nI q → q < 2 ^ 31 → sd_ic D ≤ q) → (-2) = a) →
        wpY_isRegister (fun r_1 => ((r_1 = 0 → (-1 : Int32) = a ∧ i_Rel (k + 5) (nI n, nI (D.length), nI (sd_ic D), sd_ea 16 G', sd_ea 10 Q', sd_nv fN', sd_nv fD', sd_nv bl', sd_nv iv', sd_nv kv) (nI n, sd_ea 16 R, sd_v1 Mi, sd_v1 Te, sd_v1 Di, sd_v1 Ot, sd_ea 5 Fa, sd_ea 5 Ke, sd_ea 16 Ro)) ∧ (¬ r_1 = 0 → wpY_findFactors (fun u => match u with | (f_n_13, a_regs_14, a_minor_15, a_term_16, a_divisor_17, a_other_18, a_factors_19, a_kept_20, a_rows_21) => ∃ n20 : Nat, wY_invariant_20 (fun r' v' => r' = a ∧ i_Rel (k + 5) (nI n, nI (D.length), nI (sd_ic D), sd_ea 16 G', sd_ea 10 Q', sd_nv fN', sd_nv fD', sd_nv bl', sd_nv iv', sd_nv kv) v') v2 f_n_13 a_regs_14 a_minor_15 a_term_16 a_divisor_17 a_other_18 a_factors_19 a_kept_20 a_rows_21 n20 0 0) (nI n, sd_ea 16 R, sd_v1 Mi, sd_v1 Te, sd_v1 Di, sd_v1 Ot, sd_ea 5 Fa, sd_ea 5 Ke, sd_ea 16 Ro) (nI r)))) (nI n, sd_ea 16 R, sd_v1 Mi, sd_v1 Te, sd_v1 Di, sd_v1 Ot, sd_ea 5 Fa, sd_ea 5 Ke, sd_ea 16 Ro) (nI r) := by
      intro a A1 A2
      refine yr_1 hr4 (br_f (by decide) (yd_findFactors (A := sd_A n R r) (by omega) h4 h1 (sd_A_ok n r R) (fun i j hi hj => sd_A_v hi hj) f9 (fun Mi' Te' Di' Ot' Fa' hFa => ?_)))
      exact ysrch v2 _ Mi' Te' Di' Ot' Fa' hFa (fun q e hq => ⟨A1 q e hq, ir_mk (sd_rl2_c hr fr (fun _ _ _ _ => rfl))⟩) (fun h => ⟨A2 h, ir_mk (sd_rl2_c hr fr (fun _ _ _ _ => rfl))⟩)
    by_cases neg : v2 < 0
    · refine br_t neg (yrun (-2) (fun q e hq => ?_) (fun _ => rfl))
      rw [e] at neg
      exact absurd neg (nI_pos (by omega))
    · obtain ⟨q, hq, rfl⟩ := nI_of neg
      refine br_f neg ?_
      by_cases lt : q < sd_ic D
      · have e1 := hiv (sd_ic D - 1 - q) (by omega)
        obtain ⟨e2, e3⟩ := sd_fact_iv hF (sd_ic D - 1 - q) (by omega)
        have e4 : sd_ic D - 1 - (sd_ic D - 1 - q) = q := by omega
        have e5 : n - 1 - (sd_ic D - 1 - q) = n - sd_ic D + q := by omega
        rw [e4, e2, e5] at e1
        refine br_t (nI_lt lt (by omega)) ⟨vp_in_nI (by omega) (by omega), ?_⟩
        rw [sd_clN (by omega)]
        refine yrun _ (fun q' e hq' => ?_) (fun h => ?_)
        · have : q' = q := (nI_eq (by omega) hq).mp e.symm
          subst this
          show nI (N (n - sd_ic D + q')) = nI (iv' q')
          rw [e1]
        · have := h q rfl hq
          omega
      · refine br_f (fun z => lt ((nI_ltI hq (by omega)).mp z)) (yrun (-2) (fun q' e hq' => ?_) (fun _ => rfl))
        have : q' = q := (nI_eq (by omega) hq).mp e.symm
        omega
end
section
/-! ===== apply, valueAt, power ===== -/
section
variable {n fc ic : Nat} {G Q : Nat → Nat → Fin 5} {fN fD bl iv kv : Nat → Nat} {R Fa Ke Ro : Nat → Nat → Fin 5} {Mi Te Di Ot : Nat → Fin 5}
theorem yd_apply_l {post : Int32 → SY → Prop} {o d a b : Nat} (ho : o < 3) (hd : d < 4) (ha : a < 4) (hb : b < 4) (hn : n ≤ 4) (K : ∀ R', (∀ y, y < n * n → R' d y = if o = 0 then R a y + R b y else if o = 1 then R a y - R b y else R 5 y) → (∀ m x, m ≠ d → x < 16 → R' m x = R m x) → post 1 (nI n, sd_ea 16 R', sd_v1 Mi, sd_v1 Te, sd_v1 Di, sd_v1 Ot, sd_ea 5 Fa, sd_ea 5 Ke, sd_ea 16 Ro)) : ∃ n47, wY_apply_47 post (nI o) (nI d) (nI a) (nI b) (nI n) n47 0 (sd_ea 16 R) (sd_v1 Mi) (sd_v1 Te) (sd_v1 Di) (sd_v1 Ot) (sd_ea 5 Fa) (sd_ea 5 Ke) (sd_ea 16 Ro) := by
  have q16 : n * n ≤ 16 := Nat.mul_le_mul hn hn
  have fnn : nI n * nI n = nI (n * n) := pk_mul n n
  refine Exists.intro (n * n + 1) ?_
  have lp : ∀ (e k : Nat) (H : Nat → Nat → Fin 5), k + e = n * n → (∀ y, y < 16 → H d y = if y < k then (if o = 0 then R a y + R b y else if o = 1 then R a y - R b y else R 5 y) else R d y) → (∀ m x, m ≠ d → x < 16 → H m x = R m x) → wY_apply_47 post (nI o) (nI d) (nI a) (nI b) (nI n) (e + 1) (nI k) (sd_ea 16 H) (sd_v1 Mi) (sd_v1 Te) (sd_v1 Di) (sd_v1 Ot) (sd_ea 5 Fa) (sd_ea 5 Ke) (sd_ea 16 Ro) := by
    intro e
    induction e with
    | zero =>
      intro k H hk h1 h2
      exact br_t (by rw [fnn]; exact nI_le (by omega) (by omega)) (K H (fun y hy => (h1 y (by omega)).trans (if_pos (by omega))) h2)
    | succ e ih =>
      intro k H hk h1 h2
      have rd : ∀ m, H m k = R m k := by
        intro m
        by_cases e : m = d
        · rw [e, h1 k (by omega), if_neg (by omega)]
        · exact h2 m k e (by omega)
      have st : ∀ v : Fin 5, v = (if o = 0 then R a k + R b k else if o = 1 then R a k - R b k else R 5 k) → (∀ y, y < 16 → sd_u H d k v d y = if y < k + 1 then (if o = 0 then R a y + R b y else if o = 1 then R a y - R b y else R 5 y) else R d y) ∧ (∀ m x, m ≠ d → x < 16 → sd_u H d k v m x = R m x) := by
        intro v hv
        refine ⟨fun y hy => ?_, fun m x hm hx => ?_⟩
        · by_cases e : y = k
          · subst e; rw [sd_u_s, if_pos (Nat.lt_succ_self y), hv]
          · rw [sd_u_n (fun z => e z.2), h1 y hy]
            by_cases l : y < k
            · have l' : y < k + 1 := by omega
              rw [if_pos l, if_pos l']
            · have l' : ¬ y < k + 1 := by omega
              rw [if_neg l, if_neg l']
        · rw [sd_u_n (fun z => hm z.1)]; exact h2 m x hm hx
      have ix5 : (80 : Int32) + nI k = nI (16 * 5 + k) := nI_add 80 k
      refine br_f (by rw [fnn]; exact nI_ge (by omega) (by omega)) ?_
      rw [sd_ix16, sd_ix16, sd_ix16, ix5, sd_clN (by omega), sd_clN (by omega), sd_clN (by omega), sd_clN (by omega), sd_ea_r (by omega), sd_ea_r (by omega), sd_ea_r (by omega), rd a, rd b, rd 5]
      refine ⟨vp_in_nI (by omega) (by omega), nm_e ⟨vp_in_nI (by omega) (by omega), nm_e ?_⟩⟩
      have co : o = 0 ∨ o = 1 ∨ o = 2 := by omega
      rcases co with rfl | rfl | rfl
      · obtain ⟨s1, s2⟩ := st (R a k + R b k) rfl
        refine br_t rfl ⟨sd_50, vp_in_nI (by omega) (by omega), ?_⟩
        rw [sd_w6, sd_ea_w (by omega)]
        exact nm_e (nm_r (nI_1 k) (ih (k + 1) _ (by omega) s1 s2))
      · obtain ⟨s1, s2⟩ := st (R a k - R b k) rfl
        refine br_f (by decide) (br_t rfl ⟨sd_50, vp_in_nI (by omega) (by omega), ?_⟩)
        rw [sd_w5, sd_ea_w (by omega)]
        exact nm_e (nm_r (nI_1 k) (ih (k + 1) _ (by omega) s1 s2))
      · obtain ⟨s1, s2⟩ := st (R 5 k) rfl
        refine br_f (by decide) (br_f (by decide) ⟨vp_in_nI (by omega) (by omega), vp_in_nI (by omega) (by omega), ?_⟩)
        rw [sd_ea_w (by omega)]
        exact nm_e (nm_r (nI_1 k) (ih (k + 1) _ (by omega) s1 s2))
  exact lp (n * n) 0 R (by omega) (fun y hy => (if_neg (by omega)).symm) (fun _ _ _ _ => rfl)
theorem xm_apply1 {post : Int32 → SX → Prop} {o d a b : Nat} (ho : o < 3) (hd : d < 4) (ha : a < 4) (hb : b < 4) (hn : n ≤ 4) (K : ∀ G', (∀ i j, i < n → j < n → G' d (4 * i + j) = if o = 0 then G a (4 * i + j) + G b (4 * i + j) else if o = 1 then G a (4 * i + j) - G b (4 * i + j) else sd_m n (fun i k => G a (4 * i + k)) (fun i k => G b (4 * i + k)) i j) → (∀ m x, m < 4 → m ≠ d → x < 16 → G' m x = G m x) → post 1 (nI n, nI fc, nI ic, sd_ea 16 G', sd_ea 10 Q, sd_nv fN, sd_nv fD, sd_nv bl, sd_nv iv, sd_nv kv)) : wpX_apply post (nI n, nI fc, nI ic, sd_ea 16 G, sd_ea 10 Q, sd_nv fN, sd_nv fD, sd_nv bl, sd_nv iv, sd_nv kv) (nI o) (nI d) (nI a) (nI b) := by
  unfold wpX_apply
  dsimp only
  refine br_f (nI_pos (by omega)) (br_f (nI_nlt (a := 2) (by omega) (by omega)) (xr_1 hd (br_f (by decide) (xr_1 ha (br_f (by decide) (xr_1 hb (br_f (by decide) ?_)))))))
  have co : o = 0 ∨ o = 1 ∨ o = 2 := by omega
  rcases co with rfl | rfl | rfl
  · refine br_f (by decide) (br_t rfl (xd_combine (f := 1) ha hb hn (fun G1 g1 g2 => xd_copy (t := d) (f := 4) (by omega) (by omega) (fun G2 h => K G2 (fun i j hi hj => ?_) (fun m x hm hmd hx => ?_)))))
    · rw [h d _ (by omega), if_pos rfl, g1 i j hi hj, if_pos rfl]; grind
    · rw [h m x hx, if_neg hmd, g2 m x (by omega) hx]
  · refine br_f (by decide) (br_f (by decide) (xd_combine (f := 4) ha hb hn (fun G1 g1 g2 => xd_copy (t := d) (f := 4) (by omega) (by omega) (fun G2 h => K G2 (fun i j hi hj => ?_) (fun m x hm hmd hx => ?_)))))
    · rw [h d _ (by omega), if_pos rfl, g1 i j hi hj, if_neg (by decide), if_pos rfl]
      have : ∀ x y : Fin 5, x + 4 * y = x - y := by decide
      exact this _ _
    · rw [h m x hx, if_neg hmd, g2 m x (by omega) hx]
  · refine br_t rfl (xd_multiply (t := 4) (by omega) (by omega) (by omega) hn (fun G1 g1 g2 => xd_copy (t := d) (f := 4) (by omega) (by omega) (fun G2 h => K G2 (fun i j hi hj => ?_) (fun m x hm hmd hx => ?_))))
    · rw [h d _ (by omega), if_pos rfl, g1 i j hi hj, if_neg (by decide), if_neg (by decide)]
    · rw [h m x hx, if_neg hmd, g2 m x (by omega) (by omega) hx]
theorem xm_apply0 {post : Int32 → SX → Prop} {v1 v2 v3 v4 : Int32} (h : (v1 < 0 ∨ 2 < v1) ∨ (v2 < 0 ∨ 3 < v2) ∨ (v3 < 0 ∨ 3 < v3) ∨ (v4 < 0 ∨ 3 < v4)) (K : post 0 (nI n, nI fc, nI ic, sd_ea 16 G, sd_ea 10 Q, sd_nv fN, sd_nv fD, sd_nv bl, sd_nv iv, sd_nv kv)) : wpX_apply post (nI n, nI fc, nI ic, sd_ea 16 G, sd_ea 10 Q, sd_nv fN, sd_nv fD, sd_nv bl, sd_nv iv, sd_nv kv) v1 v2 v3 v4 := by
  unfold wpX_apply
  dsimp only
  refine br_c (fun _ => K) (fun h1 => br_c (fun _ => K) (fun h2 => xd_isRegister (fun _ => br_t rfl K) (fun r hr e => br_f (by decide) (xd_isRegister (fun _ => br_t rfl K) (fun r' hr' e' => br_f (by decide) (xd_isRegister (fun _ => br_t rfl K) (fun r'' hr'' e'' => ?_)))))))
  exfalso
  rcases h with h | h | h | h
  · rcases h with h | h
    · exact h1 h
    · exact h2 h
  · exact ir_nreg hr (e ▸ h)
  · exact ir_nreg hr' (e' ▸ h)
  · exact ir_nreg hr'' (e'' ▸ h)
theorem ym_apply0 {post : Int32 → SY → Prop} {v1 v2 v3 v4 : Int32} (h : (v1 < 0 ∨ 2 < v1) ∨ (v2 < 0 ∨ 3 < v2) ∨ (v3 < 0 ∨ 3 < v3) ∨ (v4 < 0 ∨ 3 < v4)) (K : post 0 (nI n, sd_ea 16 R, sd_v1 Mi, sd_v1 Te, sd_v1 Di, sd_v1 Ot, sd_ea 5 Fa, sd_ea 5 Ke, sd_ea 16 Ro)) : wpY_apply post (nI n, sd_ea 16 R, sd_v1 Mi, sd_v1 Te, sd_v1 Di, sd_v1 Ot, sd_ea 5 Fa, sd_ea 5 Ke, sd_ea 16 Ro) v1 v2 v3 v4 := by
  unfold wpY_apply
  dsimp only
  refine yd_in (fun _ => br_t rfl K) (fun h1 h2 => br_f (by decide) (yd_isRegister (fun _ => br_t rfl K) (fun r hr e => br_f (by decide) (yd_isRegister (fun _ => br_t rfl K) (fun r' hr' e' => br_f (by decide) (yd_isRegister (fun _ => br_t rfl K) (fun r'' hr'' e'' => ?_)))))))
  exfalso
  rcases h with h | h | h | h
  · rcases h with h | h
    · exact h1 h
    · exact h2 h
  · exact ir_nreg hr (e ▸ h)
  · exact ir_nreg hr' (e' ▸ h)
  · exact ir_nreg hr'' (e'' ▸ h)
theorem ym_apply1 {post : Int32 → SY → Prop} {o d a b : Nat} (ho : o < 3) (hd : d < 4) (ha : a < 4) (hb : b < 4) (hn : n ≤ 4) (K : ∀ R', (∀ i j, i < n → j < n → R' d (n * i + j) = if o = 0 then R a (n * i + j) + R b (n * i + j) else if o = 1 then R a (n * i + j) - R b (n * i + j) else sd_m n (fun i k => R a (n * i + k)) (fun i k => R b (n * i + k)) i j) → (∀ m x, m < 4 → m ≠ d → x < 16 → R' m x = R m x) → post 1 (nI n, sd_ea 16 R', sd_v1 Mi, sd_v1 Te, sd_v1 Di, sd_v1 Ot, sd_ea 5 Fa, sd_ea 5 Ke, sd_ea 16 Ro)) : wpY_apply post (nI n, sd_ea 16 R, sd_v1 Mi, sd_v1 Te, sd_v1 Di, sd_v1 Ot, sd_ea 5 Fa, sd_ea 5 Ke, sd_ea 16 Ro) (nI o) (nI d) (nI a) (nI b) := by
  unfold wpY_apply
  dsimp only
  refine yd_in (fun h => ?_) (fun _ _ => br_f (by decide) (yr_1 hd (br_f (by decide) (yr_1 ha (br_f (by decide) (yr_1 hb (br_f (by decide) (yd_multiply (by omega) (by omega) hn (fun R1 g1 g2 => yd_apply_l ho hd ha hb hn (fun R' k1 k2 => K R' (fun i j hi hj => ?_) (fun m x hm hmd hx => ?_)))))))))))
  · exfalso
    rcases h with h | h
    · exact nI_pos (by omega) h
    · exact nI_nlt (a := 2) (by omega) (by omega) h
  · have bb := sd_ixb hn hi hj
    rw [k1 _ bb.1, g2 a _ (by omega) bb.2, g2 b _ (by omega) bb.2, g1 i j hi hj]
  · rw [k2 m x hmd hx, g2 m x (by omega) hx]
end
theorem i_vc_apply {k : Nat} {u : SX} {v : SY} (I : i_Rel k u v) (hk : k + 5 ≤ 2561) (v1 : Int32) (v2 : Int32) (v3 : Int32) (v4 : Int32) : wpX_apply (fun r u' => wpY_apply (fun r' v' => r' = r ∧ i_Rel (k + 5) u' v') v v1 v2 v3 v4) u v1 v2 v3 v4 := by
  refine ir_el (P := fun u v => wpX_apply (fun r u' => wpY_apply (fun r' v' => r' = r ∧ i_Rel (k + 5) u' v') v v1 v2 v3 v4) u v1 v2 v3 v4) ?_ I
  intro n fc ic G Q fN fD bl iv kv R Fa Ke Ro Mi Te Di Ot hr
  have hr' := hr
  obtain ⟨h1, h4, hg⟩ := hr'
  by_cases bad : (v1 < 0 ∨ 2 < v1) ∨ (v2 < 0 ∨ 3 < v2) ∨ (v3 < 0 ∨ 3 < v3) ∨ (v4 < 0 ∨ 3 < v4)
  · exact xm_apply0 bad (ym_apply0 bad ⟨rfl, ir_mk hr⟩)
  · have a0 : ¬ v1 < 0 := fun z => bad (Or.inl (Or.inl z))
    have a2 : v1 ≤ 2 := Int32.not_lt.mp (fun z => bad (Or.inl (Or.inr z)))
    obtain ⟨o, ho, rfl⟩ := nI_of2 (M := 2) (n := 2) (by decide) a0 a2
    obtain ⟨d, hd, rfl⟩ := (ir_reg v2).resolve_left (fun z => bad (Or.inr (Or.inl z)))
    obtain ⟨a, ha, rfl⟩ := (ir_reg v3).resolve_left (fun z => bad (Or.inr (Or.inr (Or.inl z))))
    obtain ⟨b, hb, rfl⟩ := (ir_reg v4).resolve_left (fun z => bad (Or.inr (Or.inr (Or.inr z))))
    refine xm_apply1 (by omega) hd ha hb h4 (fun G' g1 g2 => ym_apply1 (by omega) hd ha hb h4 (fun R' r1 r2 => ⟨rfl, ir_mk ⟨h1, h4, fun r i j hr4 hi hj => ?_⟩⟩))
    by_cases e : r = d
    · subst e
      rw [g1 i j hi hj, r1 i j hi hj, hg a i j ha hi hj, hg b i j hb hi hj]
      have em : sd_m n (fun i k => G a (4 * i + k)) (fun i k => G b (4 * i + k)) i j = sd_m n (fun i k => R a (n * i + k)) (fun i k => R b (n * i + k)) i j := sd_m_c (fun l hl => hg a i l ha hi hl) (fun l hl => hg b l j hb hl hj)
      rw [em]
    · have bb := sd_ixb h4 hi hj
      rw [g2 r _ hr4 e (by omega), r2 r _ hr4 e bb.2, hg r i j hr4 hi hj]
section
variable {n fc ic : Nat} {G Q : Nat → Nat → Fin 5} {fN fD bl iv kv : Nat → Nat} {R Fa Ke Ro : Nat → Nat → Fin 5} {Mi Te Di Ot : Nat → Fin 5}
theorem sd_idc : ∀ n, n < 5 → ∀ i, i < n → ∀ j, j < n → ((n * i + j) % (n + 1) = 0 ↔ i = j) := by decide +kernel
/-- product in register d by register 4, by way of 5 -/
theorem yd_mulcopy {post : SY → Prop} {d a b : Nat} (hd : d < 5) (ha : a ≤ 4) (hb : b ≤ 4) (hn : n ≤ 4) (K : ∀ R', (∀ i j, i < n → j < n → R' d (n * i + j) = sd_m n (fun i k => R a (n * i + k)) (fun i k => R b (n * i + k)) i j) → (∀ m x, m ≠ d → m ≠ 5 → x < 16 → R' m x = R m x) → post (nI n, sd_ea 16 R', sd_v1 Mi, sd_v1 Te, sd_v1 Di, sd_v1 Ot, sd_ea 5 Fa, sd_ea 5 Ke, sd_ea 16 Ro)) : wpY_multiply (fun u => match u with | (f_n_1, a_regs_1, a_minor_1, a_term_1, a_divisor_1, a_other_1, a_factors_1, a_kept_1, a_rows_1) => wpY_copy post (f_n_1, a_regs_1, a_minor_1, a_term_1, a_divisor_1, a_other_1, a_factors_1, a_kept_1, a_rows_1) (nI d) 5) (nI n, sd_ea 16 R, sd_v1 Mi, sd_v1 Te, sd_v1 Di, sd_v1 Ot, sd_ea 5 Fa, sd_ea 5 Ke, sd_ea 16 Ro) (nI a) (nI b) := by
  refine yd_multiply ha hb hn (fun R1 g1 g2 => yd_copy (f := 5) (by omega) (by omega) (fun R2 h => K R2 (fun i j hi hj => ?_) (fun m x hm h5 hx => ?_)))
  · rw [h d _ (sd_ixb hn hi hj).2, if_pos rfl, g1 i j hi hj]
  · rw [h m x hx, if_neg hm, g2 m x h5 hx]
theorem yd_makeIdentity {post : SY → Prop} {d : Nat} (hd : d < 6) (hn : n ≤ 4) (h1n : 1 ≤ n) (K : ∀ R', (∀ i j, i < n → j < n → R' d (n * i + j) = if i = j then 1 else 0) → (∀ m x, m ≠ d → x < 16 → R' m x = R m x) → post (nI n, sd_ea 16 R', sd_v1 Mi, sd_v1 Te, sd_v1 Di, sd_v1 Ot, sd_ea 5 Fa, sd_ea 5 Ke, sd_ea 16 Ro)) : wpY_makeIdentity post (nI n, sd_ea 16 R, sd_v1 Mi, sd_v1 Te, sd_v1 Di, sd_v1 Ot, sd_ea 5 Fa, sd_ea 5 Ke, sd_ea 16 Ro) (nI d) := by
  have q16 : n * n ≤ 16 := Nat.mul_le_mul hn hn
  have fnn : nI n * nI n = nI (n * n) := pk_mul n n
  refine Exists.intro 17 ?_
  have lp : ∀ (e k : Nat) (H : Nat → Nat → Fin 5), k + e = 16 → (∀ y, y < k → H d y = if y < n * n ∧ y % (n + 1) = 0 then 1 else 0) → (∀ m x, m ≠ d → x < 16 → H m x = R m x) → wY_makeIdentity_2 post (nI d) (nI n) (e + 1) (nI k) (sd_ea 16 H) (sd_v1 Mi) (sd_v1 Te) (sd_v1 Di) (sd_v1 Ot) (sd_ea 5 Fa) (sd_ea 5 Ke) (sd_ea 16 Ro) := by
    intro e
    induction e with
    | zero =>
      intro k H hk h1 h2
      have e : k = 16 := by omega
      subst e
      refine br_t (by decide) (K H (fun i j hi hj => ?_) h2)
      have bb := sd_ixb hn hi hj
      rw [h1 _ bb.2]
      have q := sd_idc n (by omega) i hi j hj
      by_cases e : i = j
      · rw [if_pos ⟨bb.1, q.mpr e⟩, if_pos e]
      · rw [if_neg (fun z => e (q.mp z.2)), if_neg e]
    | succ e ih =>
      intro k H hk h1 h2
      have st : ∀ v : Fin 5, v = (if k < n * n ∧ k % (n + 1) = 0 then 1 else 0) → (∀ y, y < k + 1 → sd_u H d k v d y = if y < n * n ∧ y % (n + 1) = 0 then 1 else 0) ∧ (∀ m x, m ≠ d → x < 16 → sd_u H d k v m x = R m x) := by
        intro v hv
        refine ⟨fun y hy => ?_, fun m x hm hx => ?_⟩
        · by_cases e : y = k
          · subst e; rw [sd_u_s, hv]
          · rw [sd_u_n (fun z => e z.2)]; exact h1 y (by omega)
        · rw [sd_u_n (fun z => hm z.1)]; exact h2 m x hm hx
      have rem : nI k - nI k / (nI n + 1) * (nI n + 1) = nI (k % (n + 1)) := by
        rw [nI_1 n]; exact pk_rem (by omega) (by omega) (by omega)
      have nz : ¬ nI n + 1 = 0 := by rw [nI_1 n]; exact nI_ne0 (by omega) (by omega)
      refine br_f (nI_ge (b := 16) (by omega) (by decide)) ?_
      rw [fnn, rem, sd_ix16, sd_clN (by omega)]
      by_cases c : n * n ≤ k
      · obtain ⟨s1, s2⟩ := st 0 (if_neg (fun z => by omega)).symm
        exact br_t (nI_le c (by omega)) ⟨vp_in_nI (by omega) (by omega), nm_r (sd_ea_w (w := 16) (a := d) (b := k) (by omega) H 0) (nm_r (nI_1 k) (ih (k + 1) _ (by omega) s1 s2))⟩
      · refine br_f (nI_ge (by omega) (by omega)) ⟨nz, ?_⟩
        by_cases c2 : k % (n + 1) = 0
        · obtain ⟨s1, s2⟩ := st 1 (if_pos ⟨by omega, c2⟩).symm
          exact br_t (by rw [c2]; decide) ⟨vp_in_nI (by omega) (by omega), nm_r (sd_ea_w (w := 16) (a := d) (b := k) (by omega) H 1) (nm_r (nI_1 k) (ih (k + 1) _ (by omega) s1 s2))⟩
        · obtain ⟨s1, s2⟩ := st 0 (if_neg (fun z => c2 z.2)).symm
          have ml : k % (n + 1) ≤ k := Nat.mod_le _ _
          exact br_f (nI_ne0 (by omega) (by omega)) ⟨vp_in_nI (by omega) (by omega), nm_r (sd_ea_w (w := 16) (a := d) (b := k) (by omega) H 0) (nm_r (nI_1 k) (ih (k + 1) _ (by omega) s1 s2))⟩
  exact lp 16 0 R (by omega) (fun y hy => absurd hy (by omega)) (fun _ _ _ _ => rfl)
/-- powers by squaring, thirty bits -/
theorem yd_pow {post : Int32 → SY → Prop} {d k : Nat} {A : sd_M} (hd : d < 4) (hn : n ≤ 4) (oA : sd_ok n A) (hk : k < 2 ^ 30) (h4 : ∀ i j, i < n → j < n → R 4 (n * i + j) = A i j) (hI : ∀ i j, i < n → j < n → R d (n * i + j) = if i = j then 1 else 0)
    (K : ∀ R', (∀ i j, i < n → j < n → R' d (n * i + j) = sd_pw n A k i j) → (∀ m x, m < 4 → m ≠ d → x < 16 → R' m x = R m x) → post 1 (nI n, sd_ea 16 R', sd_v1 Mi, sd_v1 Te, sd_v1 Di, sd_v1 Ot, sd_ea 5 Fa, sd_ea 5 Ke, sd_ea 16 Ro)) : ∃ n43, wY_power_43 post (nI d) (nI k) n43 0 (nI n) (sd_ea 16 R) (sd_v1 Mi) (sd_v1 Te) (sd_v1 Di) (sd_v1 Ot) (sd_ea 5 Fa) (sd_ea 5 Ke) (sd_ea 16 Ro) := by
  refine Exists.intro 31 ?_
  have mulv : ∀ (U V : sd_M) (H : Nat → Nat → Fin 5) (a b i j : Nat), i < n → j < n → (∀ i j, i < n → j < n → H a (n * i + j) = U i j) → (∀ i j, i < n → j < n → H b (n * i + j) = V i j) → sd_m n (fun i k => H a (n * i + k)) (fun i k => H b (n * i + k)) i j = sd_x n U V i j := by
    intro U V H a b i j hi hj hU hV
    rw [sd_x_v hi hj]
    exact sd_m_c (fun l hl => hU i l hi hl) (fun l hl => hV l j hl hj)
  have lp : ∀ (e s : Nat) (H : Nat → Nat → Fin 5), s + e = 30 → (∀ i j, i < n → j < n → H 4 (n * i + j) = sd_pw n A (2 ^ s) i j) → (∀ i j, i < n → j < n → H d (n * i + j) = sd_pw n A (k % 2 ^ s) i j) → (∀ m x, m < 4 → m ≠ d → x < 16 → H m x = R m x) → wY_power_43 post (nI d) (nI k) (e + 1) (nI s) (nI n) (sd_ea 16 H) (sd_v1 Mi) (sd_v1 Te) (sd_v1 Di) (sd_v1 Ot) (sd_ea 5 Fa) (sd_ea 5 Ke) (sd_ea 16 Ro) := by
    intro e
    induction e with
    | zero =>
      intro s H hs g4 gd fr
      have es : s = 30 := by omega
      subst es
      rw [Nat.mod_eq_of_lt hk] at gd
      exact br_t (by decide) (K H gd fr)
    | succ e ih =>
      intro s H hs g4 gd fr
      have m2 : k % 2 ^ (s + 1) = k % 2 ^ s + 2 ^ s * sd_bt k s := by
        unfold sd_bt
        rw [Nat.pow_succ, Nat.mod_mul]
      have sq : ∀ (H1 : Nat → Nat → Fin 5), (∀ i j, i < n → j < n → H1 4 (n * i + j) = sd_pw n A (2 ^ s) i j) → (∀ i j, i < n → j < n → H1 d (n * i + j) = sd_pw n A (k % 2 ^ (s + 1)) i j) → (∀ m x, m < 4 → m ≠ d → x < 16 → H1 m x = R m x) → wY_power_72 post (wY_power_43 post (nI d) (nI k) (e + 1)) (nI d) (nI k) (nI s) (nI n) (sd_ea 16 H1) (sd_v1 Mi) (sd_v1 Te) (sd_v1 Di) (sd_v1 Ot) (sd_ea 5 Fa) (sd_ea 5 Ke) (sd_ea 16 Ro) := by
        intro H1 u4 ud fr1
        refine yd_mulcopy (d := 4) (a := 4) (b := 4) (by omega) (by omega) (by omega) hn (fun H2 k1 k2 => nm_r (nI_1 s) (ih (s + 1) H2 (by omega) (fun i j hi hj => ?_) (fun i j hi hj => ?_) (fun m x hm hmd hx => ?_)))
        · rw [k1 i j hi hj, mulv _ _ H1 4 4 i j hi hj u4 u4, ← sd_pw_a]
          have e2 : 2 ^ s + 2 ^ s = 2 ^ (s + 1) := by rw [Nat.pow_succ]; omega
          rw [e2]
        · rw [k2 d _ (by omega) (by omega) (sd_ixb hn hi hj).2, ud i j hi hj]
        · rw [k2 m x (by omega) (by omega) hx, fr1 m x hm hmd hx]
      refine br_f (nI_ge (b := 30) (by omega) (by decide)) ?_
      have k31 : k < 2 ^ 31 := by
        have : (2 : Nat) ^ 31 = 2 * 2 ^ 30 := by decide
        omega
      rw [sd_sh1 k31 (by omega)]
      by_cases b : sd_bt k s = 1
      · refine br_t (by rw [b]; decide) (yd_mulcopy (d := d) (a := d) (b := 4) (by omega) (by omega) (by omega) hn (fun H1 k1 k2 => sq H1 (fun i j hi hj => ?_) (fun i j hi hj => ?_) (fun m x hm hmd hx => ?_)))
        · rw [k2 4 _ (by omega) (by omega) (sd_ixb hn hi hj).2, g4 i j hi hj]
        · rw [k1 i j hi hj, mulv _ _ H d 4 i j hi hj gd g4, ← sd_pw_a, m2, b, Nat.mul_one]
        · rw [k2 m x hmd (by omega) hx, fr m x hm hmd hx]
      · have b0 := (sd_bt2 k s).resolve_right b
        refine br_f (by rw [b0]; decide) (sq H g4 (fun i j hi hj => ?_) fr)
        rw [gd i j hi hj, m2, b0, Nat.mul_zero, Nat.add_zero]
  refine lp 30 0 R (by omega) (fun i j hi hj => ?_) (fun i j hi hj => ?_) (fun _ _ _ _ _ => rfl)
  · rw [h4 i j hi hj, Nat.pow_zero, sd_pw_1 oA]
  · rw [hI i j hi hj, Nat.pow_zero, Nat.mod_one]
    show _ = sd_I n i j
    rw [sd_I_v hi hj]
end
theorem i_vc_power {k : Nat} {u : SX} {v : SY} (I : i_Rel k u v) (hk : k + 5 ≤ 2561) (v1 : Int32) (v2 : Int32) (v3 : Int32) : wpX_power (fun r u' => wpY_power (fun r' v' => r' = r ∧ i_Rel (k + 5) u' v') v v1 v2 v3) u v1 v2 v3 := by
  refine ir_el (P := fun u v => wpX_power (fun r u' => wpY_power (fun r' v' => r' = r ∧ i_Rel (k + 5) u' v') v v1 v2 v3) u v1 v2 v3) ?_ I
  intro n fc ic G Q fN fD bl iv kv R Fa Ke Ro Mi Te Di Ot hr
  have hr' := hr
  obtain ⟨h1, h4, hg⟩ := hr'
  unfold wpX_power wpY_power
  dsimp only
  rcases ir_reg v1 with h | ⟨d, hd, rfl⟩
  · exact xr_0 h (br_t rfl (yr_0 h (br_t rfl ⟨rfl, ir_mk hr⟩)))
  rcases ir_reg v2 with h | ⟨a, ha, rfl⟩
  · exact xr_1 hd (br_f (by decide) (xr_0 h (br_t rfl (yr_1 hd (br_f (by decide) (yr_0 h (br_t rfl ⟨rfl, ir_mk hr⟩)))))))
  by_cases b1 : v3 < 0
  · exact xr_1 hd (br_f (by decide) (xr_1 ha (br_f (by decide) (br_t b1 (yr_1 hd (br_f (by decide) (yr_1 ha (br_f (by decide) (yd_in (fun _ => br_t rfl ⟨rfl, ir_mk hr⟩) (fun z _ => absurd b1 z))))))))))
  by_cases b2 : v3 ≤ 1000000000
  · obtain ⟨p, hp, rfl⟩ := nI_of2 (M := 1000000000) (n := 1000000000) (by decide) b1 b2
    obtain ⟨N, D, hF⟩ := sd_fact_A (r := a) hr
    have hF' := hF
    obtain ⟨_, _, f4, f5, _, _, _, f9⟩ := hF'
    obtain ⟨i1, i2, _, i4⟩ := f4
    refine xr_1 hd (br_f (by decide) (xr_1 ha (br_f (by decide) (br_f b1 (br_t b2 (xd_analyse (N := N) (D := D) ha h1 h4 (sd_A_X hr ha) hF (fun G' Q' fN' fD' bl' iv' fr _ hiv => ?_)))))))
    obtain ⟨e1, e2⟩ := sd_fact_iv hF 0 (by omega)
    have e3 := hiv 0 (by omega)
    rw [Nat.sub_zero] at e1 e2 e3
    rw [e1] at e3
    have ix : nI (sd_ic D) - 1 = nI (sd_ic D - 1) := pk_sub (b := 1) i1
    dsimp only
    rw [ix, sd_clN (by omega)]
    have eiv : sd_nv iv' (sd_ic D - 1) = nI (N (n - 1)) := by show nI (iv' (sd_ic D - 1)) = _; rw [e3]
    rw [eiv]
    obtain ⟨dm, hdm, hmon⟩ := f9.1 (n - 1) (by omega)
    have N5 := ((i4 (n - 1) (by omega)).2 (by omega)).2
    have dm1 : 1 ≤ dm := by
      apply Classical.byContradiction
      intro hn
      have d0 : dm = 0 := by omega
      subst d0
      rw [Nat.pow_zero, Nat.div_one] at hmon
      omega
    have m10 : N (n - 1) < 5 ^ 10 := Nat.lt_of_lt_of_le e2 (Nat.pow_le_pow_right (by omega) (by omega))
    refine ⟨vp_in_nI (by omega) (by omega), xd_load (p := 0) (by omega) m10 (fun Q1 q1 _ => xd_powerOfUnknown (d := dm) dm1 hdm hmon (by omega) q1 (fun Q2 w hw cg q6 _ => xd_evaluate (p := 6) ha (by omega) h4 (fun G2 g1 g2 => xd_copy (t := d) (f := 4) (by omega) (by omega) (fun G3 g3 => ?_))))⟩
    have oA := sd_A_ok n a R
    have clA : sd_cl n (fun i k => G' a (4 * i + k)) = sd_A n R a := by
      rw [sd_A_X hr ha]
      apply sd_ok_e (sd_cl_ok n _) (sd_cl_ok n _)
      intro i j hi hj
      rw [sd_cl_v hi hj, sd_cl_v hi hj, fr a _ ha (by omega)]
    have ev : sd_ev n (sd_A n R a) 10 (Q2 6) = sd_pw n (sd_A n R a) p := by
      rw [sd_ev_c n _ 10 (Q2 6) (sd_dg w) q6]
      have ex := sd_ev_X oA p
      have w10 : sd_dl (sd_dg w) 10 := sd_dl_le (sd_dg_dl hw) (by omega)
      rw [← ex.1]
      exact (sd_ev_cg oA ex.2 w10 (sd_dg_dl e2) f5 cg).symm
    refine yr_1 hd (br_f (by decide) (yr_1 ha (br_f (by decide) (yd_in (fun h => ?_) (fun _ _ => br_f (by decide) (yd_copy (t := 4) (by omega) (by omega) (fun R1 r1 => yd_makeIdentity (by omega) h4 h1 (fun R2 r2 r3 => yd_pow (A := sd_A n R a) hd h4 oA (by omega) (fun i j hi hj => ?_) r2 (fun R3 r4 r5 => ⟨rfl, ir_mk ⟨h1, h4, fun r i j hr4 hi hj => ?_⟩⟩)))))))))
    · exfalso
      rcases h with h | h
      · exact b1 h
      · exact absurd b2 (Int32.not_le.mpr h)
    · have bb := sd_ixb h4 hi hj
      rw [r3 4 _ (by omega) bb.2, r1 4 _ bb.2, if_pos rfl]
      exact sd_A_v hi hj
    · have bb := sd_ixb h4 hi hj
      by_cases e : r = d
      · subst e
        rw [g3 r _ (by omega), if_pos rfl, g1 i j hi hj, clA, ev, r4 i j hi hj]
      · rw [g3 r _ (by omega), if_neg e, g2 r _ (by omega) (by omega) (by omega) (by omega), fr r _ hr4 (by omega), r5 r _ hr4 e bb.2, r3 r _ e bb.2, r1 r _ bb.2, if_neg (by omega), hg r i j hr4 hi hj]
  · exact xr_1 hd (br_f (by decide) (xr_1 ha (br_f (by decide) (br_f b1 (br_f b2 (yr_1 hd (br_f (by decide) (yr_1 ha (br_f (by decide) (yd_in (fun _ => br_t rfl ⟨rfl, ir_mk hr⟩) (fun _ z => absurd (Int32.not_lt.mp z) b2)))))))))))
end
section
/-! ===== valueAt, eigen ===== -/
section
variable {n fc ic : Nat} {G Q : Nat → Nat → Fin 5} {fN fD bl iv kv : Nat → Nat} {R Fa Ke Ro : Nat → Nat → Fin 5} {Mi Te Di Ot : Nat → Fin 5}
theorem sd_ixD (d n k : Nat) : (16 * nI d) + (nI k * (nI n + 1)) = nI (16 * d + (n * k + k)) := by
  rw [nI_1 n, pk_mul, sd_ix16]
  congr 2
  rw [Nat.mul_succ, Nat.mul_comm]
theorem sd_diag {d k : Nat} {w : Fin 5} {H : Nat → Nat → Fin 5} (hn : n ≤ 4) (hk : k < n) (h1 : ∀ i j, i < n → j < n → H d (n * i + j) = if i = j ∧ i < k then R d (n * i + j) + w else R d (n * i + j)) (h2 : ∀ m x, m ≠ d → x < 16 → H m x = R m x) :
    H d (n * k + k) = R d (n * k + k) ∧ (∀ i j, i < n → j < n → sd_u H d (n * k + k) (R d (n * k + k) + w) d (n * i + j) = if i = j ∧ i < k + 1 then R d (n * i + j) + w else R d (n * i + j)) ∧ (∀ m x, m ≠ d → x < 16 → sd_u H d (n * k + k) (R d (n * k + k) + w) m x = R m x) := by
  refine ⟨(h1 k k hk hk).trans (if_neg (fun z => by omega)), fun i j hi hj => ?_, fun m x hm hx => ?_⟩
  · by_cases e : i = k ∧ j = k
    · obtain ⟨rfl, rfl⟩ := e
      rw [sd_u_s, if_pos ⟨rfl, by omega⟩]
    · have ne : ¬ (d = d ∧ n * i + j = n * k + k) := fun z => e (sd_ixn hj hk z.2)
      rw [sd_u_n ne, h1 i j hi hj]
      by_cases c : i = j ∧ i < k
      · have c' : i = j ∧ i < k + 1 := ⟨c.1, by omega⟩
        rw [if_pos c, if_pos c']
      · have c' : ¬ (i = j ∧ i < k + 1) := fun z => by omega
        rw [if_neg c, if_neg c']
  · rw [sd_u_n (fun z => hm z.1)]; exact h2 m x hm hx
theorem yd_va_l {post : Int32 → SY → Prop} {J : Int32 → Int32 → Int32 → (Nat → Int32) → (Nat → Int32) → (Nat → Int32) → (Nat → Int32) → (Nat → Int32) → (Nat → Int32) → (Nat → Int32) → (Nat → Int32) → Prop} {d : Nat} {x3 x4 x5 : Int32} {w : Fin 5} (hd : d < 4) (hn : n ≤ 4)
    (K : ∀ R', (∀ i j, i < n → j < n → R' d (n * i + j) = if i = j then R d (n * i + j) + w else R d (n * i + j)) → (∀ m x, m ≠ d → x < 16 → R' m x = R m x) → J (x4 / 5) (x5 + 1) (nI n) (sd_ea 16 R') (sd_v1 Mi) (sd_v1 Te) (sd_v1 Di) (sd_v1 Ot) (sd_ea 5 Fa) (sd_ea 5 Ke) (sd_ea 16 Ro)) : ∃ n112, wY_valueAt_112 post J (nI d) x3 x4 x5 (sd_eI w) (nI n) n112 0 (sd_ea 16 R) (sd_v1 Mi) (sd_v1 Te) (sd_v1 Di) (sd_v1 Ot) (sd_ea 5 Fa) (sd_ea 5 Ke) (sd_ea 16 Ro) := by
  refine Exists.intro (n + 1) ?_
  have lp : ∀ (e k : Nat) (H : Nat → Nat → Fin 5), k + e = n → (∀ i j, i < n → j < n → H d (n * i + j) = if i = j ∧ i < k then R d (n * i + j) + w else R d (n * i + j)) → (∀ m x, m ≠ d → x < 16 → H m x = R m x) → wY_valueAt_112 post J (nI d) x3 x4 x5 (sd_eI w) (nI n) (e + 1) (nI k) (sd_ea 16 H) (sd_v1 Mi) (sd_v1 Te) (sd_v1 Di) (sd_v1 Ot) (sd_ea 5 Fa) (sd_ea 5 Ke) (sd_ea 16 Ro) := by
    intro e
    induction e with
    | zero =>
      intro k H hk h1 h2
      refine br_t (nI_le (by omega) (by omega)) ⟨sd_50, nm_e (nm_e (K H (fun i j hi hj => ?_) h2))⟩
      rw [h1 i j hi hj]
      by_cases c : i = j
      · have c' : i = j ∧ i < k := ⟨c, by omega⟩
        rw [if_pos c, if_pos c']
      · have c' : ¬ (i = j ∧ i < k) := fun z => c z.1
        rw [if_neg c, if_neg c']
    | succ e ih =>
      intro k H hk h1 h2
      obtain ⟨s0, s1, s2⟩ := sd_diag (w := w) hn (by omega : k < n) h1 h2
      have bb := sd_ixb hn (by omega : k < n) (by omega : k < n)
      refine br_f (nI_ge (by omega) (by omega)) ?_
      rw [sd_ixD, sd_clN (by omega), sd_ea_r bb.2, s0, sd_w6, sd_ea_w bb.2]
      exact ⟨vp_in_nI (by omega) (by omega), sd_50, vp_in_nI (by omega) (by omega), nm_e (nm_r (nI_1 k) (ih (k + 1) _ (by omega) s1 s2))⟩
  exact lp n 0 R (by omega) (fun i j hi hj => (if_neg (fun z => by omega)).symm) (fun _ _ _ _ => rfl)
theorem yd_va_z {post : Int32 → SY → Prop} {d : Nat} {x3 x4 : Int32} (hd : d < 4) (hn : n ≤ 4)
    (K : ∀ R', (∀ x, x < 16 → R' d x = 0) → (∀ m x, m ≠ d → x < 16 → R' m x = R m x) → ∃ n73 : Nat, wY_valueAt_73 post (nI d) x3 n73 x4 0 (nI n) (sd_ea 16 R') (sd_v1 Mi) (sd_v1 Te) (sd_v1 Di) (sd_v1 Ot) (sd_ea 5 Fa) (sd_ea 5 Ke) (sd_ea 16 Ro)) : ∃ n44, wY_valueAt_44 post (nI d) x3 x4 (nI n) n44 0 (sd_ea 16 R) (sd_v1 Mi) (sd_v1 Te) (sd_v1 Di) (sd_v1 Ot) (sd_ea 5 Fa) (sd_ea 5 Ke) (sd_ea 16 Ro) := by
  refine Exists.intro 17 ?_
  have lp : ∀ (e k : Nat) (H : Nat → Nat → Fin 5), k + e = 16 → (∀ x, x < k → H d x = 0) → (∀ m x, m ≠ d → x < 16 → H m x = R m x) → wY_valueAt_44 post (nI d) x3 x4 (nI n) (e + 1) (nI k) (sd_ea 16 H) (sd_v1 Mi) (sd_v1 Te) (sd_v1 Di) (sd_v1 Ot) (sd_ea 5 Fa) (sd_ea 5 Ke) (sd_ea 16 Ro) := by
    intro e
    induction e with
    | zero =>
      intro k H hk h1 h2
      have e : k = 16 := by omega
      subst e
      exact br_t (by decide) (K H h1 h2)
    | succ e ih =>
      intro k H hk h1 h2
      refine br_f (nI_ge (b := 16) (by omega) (by decide)) ?_
      rw [sd_ix16, sd_clN (by omega)]
      refine ⟨vp_in_nI (by omega) (by omega), nm_r (sd_ea_w (w := 16) (a := d) (b := k) (by omega) H 0) (nm_r (nI_1 k) (ih (k + 1) _ (by omega) (fun x hx => ?_) (fun m x hm hx => ?_)))⟩
      · by_cases e : x = k
        · subst e; exact sd_u_s
        · rw [sd_u_n (fun z => e z.2)]; exact h1 x (by omega)
      · rw [sd_u_n (fun z => hm z.1)]; exact h2 m x hm hx
  exact lp 16 0 R (by omega) (fun y hy => absurd hy (by omega)) (fun _ _ _ _ => rfl)
theorem yd_va {post : Int32 → SY → Prop} {d p : Nat} {A : sd_M} (hd : d < 4) (hn : n ≤ 4) (oA : sd_ok n A) (hp : p < 3125) (h4 : ∀ i j, i < n → j < n → R 4 (n * i + j) = A i j) (h0 : ∀ x, x < 16 → R d x = 0)
    (K : ∀ R', (∀ i j, i < n → j < n → R' d (n * i + j) = sd_ev n A 5 (sd_dg p) i j) → (∀ m x, m < 4 → m ≠ d → x < 16 → R' m x = R m x) → post 1 (nI n, sd_ea 16 R', sd_v1 Mi, sd_v1 Te, sd_v1 Di, sd_v1 Ot, sd_ea 5 Fa, sd_ea 5 Ke, sd_ea 16 Ro)) : ∃ n73, wY_valueAt_73 post (nI d) (nI p) n73 625 0 (nI n) (sd_ea 16 R) (sd_v1 Mi) (sd_v1 Te) (sd_v1 Di) (sd_v1 Ot) (sd_ea 5 Fa) (sd_ea 5 Ke) (sd_ea 16 Ro) := by
  refine Exists.intro 6 ?_
  have lp : ∀ (e s : Nat) (H : Nat → Nat → Fin 5), s + e = 5 → (∀ i j, i < n → j < n → H 4 (n * i + j) = A i j) → (∀ i j, i < n → j < n → H d (n * i + j) = sd_ev n A s (sd_dg (p / 5 ^ e)) i j) → (∀ m x, m < 4 → m ≠ d → x < 16 → H m x = R m x) → wY_valueAt_73 post (nI d) (nI p) (e + 1) (nI (5 ^ e / 5)) (nI s) (nI n) (sd_ea 16 H) (sd_v1 Mi) (sd_v1 Te) (sd_v1 Di) (sd_v1 Ot) (sd_ea 5 Fa) (sd_ea 5 Ke) (sd_ea 16 Ro) := by
    intro e
    induction e with
    | zero =>
      intro s H hs g4 gd fr
      have es : s = 5 := by omega
      subst es
      rw [Nat.pow_zero, Nat.div_one] at gd
      exact br_t (by decide) (K H gd fr)
    | succ e ih =>
      intro s H hs g4 gd fr
      have e5 : 5 ^ (e + 1) / 5 = 5 ^ e := by rw [Nat.pow_succ]; exact Nat.mul_div_cancel _ (by omega)
      have l1 : 1 ≤ 5 ^ e := Nat.pow_pos (by omega)
      have l2 : 5 ^ e ≤ 5 ^ 5 := Nat.pow_le_pow_right (by omega) (by omega)
      have l3 : (5 : Nat) ^ 5 = 3125 := by decide
      rw [e5]
      refine br_f (nI_ge (b := 5) (by omega) (by decide)) (yd_mulcopy (d := d) (a := d) (b := 4) (by omega) (by omega) (by omega) hn (fun H1 k1 k2 => br_t (nI_le (a := 1) (by omega) (by omega)) ⟨nI_ne0 (by omega) (by omega), sd_50, ?_⟩))
      have ed : nI p / nI (5 ^ e) = nI (p / 5 ^ e) := pk_div (by omega) (by omega) (by omega)
      have dl : p / 5 ^ e ≤ p := Nat.div_le_self _ _
      rw [ed, sd_m5 (by omega)]
      have x5 : nI (5 ^ e) / 5 = nI (5 ^ e / 5) := pk_div (d := 5) (by omega) (by omega) (by omega)
      refine nm_e (yd_va_l hd hn (fun H2 m1 m2 => ?_))
      rw [x5, nI_1 s]
      refine ih (s + 1) H2 (by omega) (fun i j hi hj => ?_) (fun i j hi hj => ?_) (fun m x hm hmd hx => ?_)
      · have bb := sd_ixb hn hi hj
        rw [m2 4 _ (by omega) bb.2, k2 4 _ (by omega) (by omega) bb.2, g4 i j hi hj]
      · rw [m1 i j hi hj, k1 i j hi hj]
        have ex : sd_m n (fun i k => H d (n * i + k)) (fun i k => H 4 (n * i + k)) i j = sd_x n (sd_ev n A s (sd_dg (p / 5 ^ (e + 1)))) A i j := by
          rw [sd_x_v hi hj]
          exact sd_m_c (fun l hl => gd i l hi hl) (fun l hl => g4 l j hl hj)
        have tl : sd_tl (sd_dg (p / 5 ^ e)) = sd_dg (p / 5 ^ (e + 1)) := by
          rw [sd_dg_tl, Nat.div_div_eq_div_mul, ← Nat.pow_succ]
        show _ = sd_x n (sd_ev n A s (sd_tl (sd_dg (p / 5 ^ e)))) A i j + sd_dg (p / 5 ^ e) 0 * sd_I n i j
        rw [ex, tl, sd_dg_h, sd_I_v hi hj]
        by_cases c : i = j
        · rw [if_pos c, if_pos c]; grind
        · rw [if_neg c, if_neg c]; grind
      · rw [m2 m x hmd hx, k2 m x hmd (by omega) hx, fr m x hm hmd hx]
  have e625 : (625 : Int32) = nI (5 ^ 5 / 5) := by decide
  rw [e625]
  refine lp 5 0 R (by omega) h4 (fun i j hi hj => ?_) (fun _ _ _ _ _ => rfl)
  rw [h0 _ (sd_ixb hn hi hj).2]; rfl
end
theorem i_vc_valueAt {k : Nat} {u : SX} {v : SY} (I : i_Rel k u v) (hk : k + 5 ≤ 2561) (v1 : Int32) (v2 : Int32) (v3 : Int32) : wpX_valueAt (fun r u' => wpY_valueAt (fun r' v' => r' = r ∧ i_Rel (k + 5) u' v') v v1 v2 v3) u v1 v2 v3 := by
  refine ir_el (P := fun u v => wpX_valueAt (fun r u' => wpY_valueAt (fun r' v' => r' = r ∧ i_Rel (k + 5) u' v') v v1 v2 v3) u v1 v2 v3) ?_ I
  intro n fc ic G Q fN fD bl iv kv R Fa Ke Ro Mi Te Di Ot hr
  have hr' := hr
  obtain ⟨h1, h4, hg⟩ := hr'
  unfold wpX_valueAt wpY_valueAt
  dsimp only
  rcases ir_reg v1 with h | ⟨d, hd, rfl⟩
  · exact xr_0 h (br_t rfl (yr_0 h (br_t rfl ⟨rfl, ir_mk hr⟩)))
  rcases ir_reg v2 with h | ⟨a, ha, rfl⟩
  · exact xr_1 hd (br_f (by decide) (xr_0 h (br_t rfl (yr_1 hd (br_f (by decide) (yr_0 h (br_t rfl ⟨rfl, ir_mk hr⟩)))))))
  by_cases b1 : v3 < 0
  · exact xr_1 hd (br_f (by decide) (xr_1 ha (br_f (by decide) (br_t b1 (yr_1 hd (br_f (by decide) (yr_1 ha (br_f (by decide) (yd_in (fun _ => br_t rfl ⟨rfl, ir_mk hr⟩) (fun z _ => absurd b1 z))))))))))
  by_cases b2 : v3 ≤ 3124
  · obtain ⟨p, hp, rfl⟩ := nI_of2 (M := 3124) (n := 3124) (by decide) b1 b2
    have p5 : p < 5 ^ 5 := by have : (5 : Nat) ^ 5 = 3125 := by decide
                              omega
    refine xr_1 hd (br_f (by decide) (xr_1 ha (br_f (by decide) (br_f b1 (br_t b2 (xd_load (p := 6) (by omega) (Nat.lt_of_lt_of_le p5 (Nat.pow_le_pow_right (by omega) (by omega))) (fun Q1 q1 _ => xd_evaluate (p := 6) ha (by omega) h4 (fun G2 g1 g2 => xd_copy (t := d) (f := 4) (by omega) (by omega) (fun G3 g3 => ?_)))))))))
    have oA := sd_A_ok n a R
    have ev : sd_ev n (sd_A n R a) 10 (Q1 6) = sd_ev n (sd_A n R a) 5 (sd_dg p) := by
      rw [sd_ev_c n _ 10 (Q1 6) (sd_dg p) q1]
      exact sd_ev_e n _ 5 10 _ (sd_dg_dl p5) (by omega)
    refine yr_1 hd (br_f (by decide) (yr_1 ha (br_f (by decide) (yd_in (fun h => ?_) (fun _ _ => br_f (by decide) (yd_copy (t := 4) (by omega) (by omega) (fun R1 r1 => yd_va_z hd h4 (fun R2 r2 r3 => yd_va (A := sd_A n R a) hd h4 oA (by omega) (fun i j hi hj => ?_) r2 (fun R3 r4 r5 => ⟨rfl, ir_mk ⟨h1, h4, fun r i j hr4 hi hj => ?_⟩⟩)))))))))
    · exfalso
      rcases h with h | h
      · exact b1 h
      · exact absurd b2 (Int32.not_le.mpr h)
    · have bb := sd_ixb h4 hi hj
      rw [r3 4 _ (by omega) bb.2, r1 4 _ bb.2, if_pos rfl]
      exact sd_A_v hi hj
    · have bb := sd_ixb h4 hi hj
      by_cases e : r = d
      · subst e
        rw [g3 r _ (by omega), if_pos rfl, g1 i j hi hj, ← sd_A_X hr ha, ev, r4 i j hi hj]
      · rw [g3 r _ (by omega), if_neg e, g2 r _ (by omega) (by omega) (by omega) (by omega), r5 r _ hr4 e bb.2, r3 r _ e bb.2, r1 r _ bb.2, if_neg (by omega), hg r i j hr4 hi hj]
  · exact xr_1 hd (br_f (by decide) (xr_1 ha (br_f (by decide) (br_f b1 (br_f b2 (yr_1 hd (br_f (by decide) (yr_1 ha (br_f (by decide) (yd_in (fun _ => br_t rfl ⟨rfl, ir_mk hr⟩) (fun _ z => absurd (Int32.not_lt.mp z) b2)))))))))))
end
section
/-! ===== eigen, diagonal, commutant ===== -/
def sd_em (A : sd_M) (w : Fin 5) : sd_M := fun i j => if i = j then A i j + w else A i j
theorem sd_w5n : ∀ a w : Fin 5, ((sd_eI a + 5) - sd_eI w) - ((sd_eI a + 5) - sd_eI w) / 5 * 5 = sd_eI (a + -w) := by decide +kernel
theorem sd_ew {w : Nat} (hw : w < 5) : nI w = sd_eI (Fin.ofNat 5 w) := by
  show nI w = nI (w % 5)
  rw [Nat.mod_eq_of_lt hw]
theorem sd_em_ev {n w : Nat} {A : sd_M} (oA : sd_ok n A) (hw : w < 5) : ∀ i j, i < n → j < n → sd_ev n A 2 (sd_dg (sd_lw w)) i j = sd_em A (-(Fin.ofNat 5 w)) i j := by
  intro i j hi hj
  have cw : ∀ w : Fin 5, sd_lw w.val / 5 = 1 ∧ Fin.ofNat 5 (sd_lw w.val) = -(Fin.ofNat 5 w.val) := by decide
  obtain ⟨c1, c2⟩ := cw ⟨w, hw⟩
  have e1 : sd_ev n A 1 (sd_dg 1) = sd_I n := by
    have q := (sd_ev_X oA 0).1
    rw [sd_dg_1]; exact q
  show sd_x n (sd_ev n A 1 (sd_tl (sd_dg (sd_lw w)))) A i j + sd_dg (sd_lw w) 0 * sd_I n i j = _
  rw [sd_dg_tl, sd_dg_h, c1, c2, e1, sd_I_x oA, sd_I_v hi hj]
  unfold sd_em
  by_cases c : i = j
  · rw [if_pos c, if_pos c]; grind
  · rw [if_neg c, if_neg c]; grind
section
variable {n fc ic : Nat} {G Q : Nat → Nat → Fin 5} {fN fD bl iv kv : Nat → Nat} {R Fa Ke Ro : Nat → Nat → Fin 5} {Mi Te Di Ot : Nat → Fin 5}
theorem xm_eigen1 {post : Int32 → SX → Prop} {a w : Nat} {A : sd_M} (ha : a < 4) (hw : w < 5) (hn : n ≤ 4) (hA : ∀ i j, i < n → j < n → G a (4 * i + j) = A i j) (K : ∀ G' q, sd_rk n n (sd_em A (-(Fin.ofNat 5 w))) q → (∀ m x, m < 4 → x < 16 → G' m x = G m x) → post (nI n - nI q) (nI n, nI fc, nI ic, sd_ea 16 G', sd_ea 10 Q, sd_nv fN, sd_nv fD, sd_nv bl, sd_nv iv, sd_nv kv)) : wpX_eigen post (nI n, nI fc, nI ic, sd_ea 16 G, sd_ea 10 Q, sd_nv fN, sd_nv fD, sd_nv bl, sd_nv iv, sd_nv kv) (nI a) (nI w) := by
  unfold wpX_eigen
  dsimp only
  refine xr_1 ha (br_f (by decide) (br_f (nI_pos (by omega)) (br_t (nI_le (b := 4) (by omega) (by omega)) (xd_copy (t := 7) (by omega) (by omega) (fun G1 f1 => Exists.intro (n + 1) ?_)))))
  have lp : ∀ (e k : Nat) (H : Nat → Nat → Fin 5), k + e = n → (∀ i j, i < n → j < n → H 7 (4 * i + j) = if i = j ∧ i < k then G a (4 * i + j) + -(Fin.ofNat 5 w) else G a (4 * i + j)) → (∀ m x, m ≠ 7 → x < 16 → H m x = G m x) → wX_eigen_28 post (nI a) (nI w) (e + 1) (nI k) (nI n) (nI fc) (nI ic) (sd_ea 16 H) (sd_ea 10 Q) (sd_nv fN) (sd_nv fD) (sd_nv bl) (sd_nv iv) (sd_nv kv) := by
    intro e
    induction e with
    | zero =>
      intro k H hk h1 h2
      refine br_t (nI_le (by omega) (by omega)) (xd_rankOf (m := 7) (by omega) hn (fun G' q rk fr => K G' q (sd_rk_c (fun i j hi hj => ?_) rk) (fun m x hm hx => ?_)))
      · rw [h1 i j hi hj, hA i j hi hj]
        unfold sd_em
        by_cases c : i = j
        · have c' : i = j ∧ i < k := ⟨c, by omega⟩
          rw [if_pos c, if_pos c']
        · have c' : ¬ (i = j ∧ i < k) := fun z => c z.1
          rw [if_neg c, if_neg c']
      · rw [fr m x (by omega) (by omega) hx, h2 m x (by omega) hx]
    | succ e ih =>
      intro k H hk h1 h2
      refine br_f (nI_ge (by omega) (by omega)) (xd_entry (by omega) (by omega) (by omega) (nm_e ⟨sd_50, ?_⟩))
      rw [sd_ew hw]
      refine xd_setEntry (m := 7) (by omega) (by omega) (by omega) (sd_w5n _ _) (nm_r (nI_1 k) ?_)
      rw [← sd_ew hw, h2 a _ (by omega) (by omega)]
      refine ih (k + 1) _ (by omega) (fun i j hi hj => ?_) (fun m x hm hx => ?_)
      · by_cases e : i = k ∧ j = k
        · obtain ⟨rfl, rfl⟩ := e
          rw [sd_u_s, if_pos ⟨rfl, by omega⟩]
        · have ne : ¬ (7 = 7 ∧ 4 * i + j = 4 * k + k) := fun z => e (by omega)
          rw [sd_u_n ne, h1 i j hi hj]
          by_cases c : i = j ∧ i < k
          · have c' : i = j ∧ i < k + 1 := ⟨c.1, by omega⟩
            rw [if_pos c, if_pos c']
          · have c' : ¬ (i = j ∧ i < k + 1) := fun z => by omega
            rw [if_neg c, if_neg c']
      · rw [sd_u_n (fun z => hm z.1)]; exact h2 m x hm hx
  refine lp n 0 G1 (by omega) (fun i j hi hj => ?_) (fun m x hm hx => (f1 m x hx).trans (if_neg hm))
  rw [f1 7 _ (by omega), if_pos rfl]
  exact (if_neg (fun z => by omega)).symm
theorem ym_eigen1 {post : Int32 → SY → Prop} {a w : Nat} {A : sd_M} (ha : a < 4) (hw : w < 5) (h1n : 1 ≤ n) (hn : n ≤ 4) (hA : ∀ i j, i < n → j < n → R a (n * i + j) = A i j) (K : ∀ R' Mi' Te' q, sd_rk n n (sd_em A (-(Fin.ofNat 5 w))) q → (∀ m x, m < 4 → x < 16 → R' m x = R m x) → post (nI n - nI q) (nI n, sd_ea 16 R', sd_v1 Mi', sd_v1 Te', sd_v1 Di, sd_v1 Ot, sd_ea 5 Fa, sd_ea 5 Ke, sd_ea 16 Ro)) : wpY_eigen post (nI n, sd_ea 16 R, sd_v1 Mi, sd_v1 Te, sd_v1 Di, sd_v1 Ot, sd_ea 5 Fa, sd_ea 5 Ke, sd_ea 16 Ro) (nI a) (nI w) := by
  unfold wpY_eigen
  dsimp only
  refine yr_1 ha (br_f (by decide) (yd_in (fun h => ?_) (fun _ _ => br_f (by decide) (yd_copy (t := 4) (by omega) (by omega) (fun R1 r1 => Exists.intro (n + 1) ?_)))))
  · exfalso
    rcases h with h | h
    · exact nI_pos (by omega) h
    · exact nI_nlt (a := 4) (by omega) (by omega) h
  have lp : ∀ (e k : Nat) (H : Nat → Nat → Fin 5), k + e = n → (∀ i j, i < n → j < n → H 4 (n * i + j) = if i = j ∧ i < k then R1 4 (n * i + j) + -(Fin.ofNat 5 w) else R1 4 (n * i + j)) → (∀ m x, m ≠ 4 → x < 16 → H m x = R1 m x) → wY_eigen_28 post (nI w) (nI n) (e + 1) (nI k) (sd_ea 16 H) (sd_v1 Mi) (sd_v1 Te) (sd_v1 Di) (sd_v1 Ot) (sd_ea 5 Fa) (sd_ea 5 Ke) (sd_ea 16 Ro) := by
    intro e
    induction e with
    | zero =>
      intro k H hk h1 h2
      refine br_t (nI_le (by omega) (by omega)) (yd_rankOf (r := 4) (A := sd_em A (-(Fin.ofNat 5 w))) (by omega) hn h1n (fun i j hi hj => ?_) (fun Mi' Te' q rk => K H Mi' Te' q rk (fun m x hm hx => ?_)))
      · have bb := sd_ixb hn hi hj
        rw [h1 i j hi hj, r1 4 _ bb.2, if_pos rfl, hA i j hi hj]
        unfold sd_em
        by_cases c : i = j
        · have c' : i = j ∧ i < k := ⟨c, by omega⟩
          rw [if_pos c, if_pos c']
        · have c' : ¬ (i = j ∧ i < k) := fun z => c z.1
          rw [if_neg c, if_neg c']
      · rw [h2 m x (by omega) hx, r1 m x hx, if_neg (by omega)]
    | succ e ih =>
      intro k H hk h1 h2
      obtain ⟨s0, s1, s2⟩ := sd_diag (w := -(Fin.ofNat 5 w)) hn (by omega : k < n) h1 h2
      have bb := sd_ixb hn (by omega : k < n) (by omega : k < n)
      refine br_f (nI_ge (by omega) (by omega)) ?_
      have e64 : (64 : Int32) + nI k * (nI n + 1) = nI (16 * 4 + (n * k + k)) := sd_ixD 4 n k
      rw [e64, sd_clN (by omega), sd_ea_r bb.2, s0, sd_ew hw, sd_w5n, sd_ea_w bb.2, ← sd_ew hw]
      exact ⟨vp_in_nI (by omega) (by omega), sd_50, vp_in_nI (by omega) (by omega), nm_e (nm_r (nI_1 k) (ih (k + 1) _ (by omega) s1 s2))⟩
  exact lp n 0 R1 (by omega) (fun i j hi hj => (if_neg (fun z => by omega)).symm) (fun _ _ _ _ => rfl)
theorem ym_dg_step {post : Int32 → SY → Prop} {a w s fuel : Nat} {A : sd_M} (ha : a < 4) (hw : w < 5) (h1n : 1 ≤ n) (hn : n ≤ 4) (hA : ∀ i j, i < n → j < n → R a (n * i + j) = A i j) (K : ∀ R' Mi' Te' q, q ≤ n → sd_rk n n (sd_em A (-(Fin.ofNat 5 w))) q → (∀ m x, m < 4 → x < 16 → R' m x = R m x) → wY_diagonal_14 post (nI a) fuel (nI (s + (n - q))) (nI (w + 1)) (nI n) (sd_ea 16 R') (sd_v1 Mi') (sd_v1 Te') (sd_v1 Di) (sd_v1 Ot) (sd_ea 5 Fa) (sd_ea 5 Ke) (sd_ea 16 Ro)) : wY_diagonal_14 post (nI a) (fuel + 1) (nI s) (nI w) (nI n) (sd_ea 16 R) (sd_v1 Mi) (sd_v1 Te) (sd_v1 Di) (sd_v1 Ot) (sd_ea 5 Fa) (sd_ea 5 Ke) (sd_ea 16 Ro) := by
  refine br_f (nI_ge (b := 5) (by omega) (by decide)) (ym_eigen1 ha hw h1n hn hA (fun R' Mi' Te' q rk fr => ?_))
  have hq := sd_rk_n rk
  exact nm_r (by rw [pk_sub hq, nI_add]) (nm_r (nI_1 w) (K R' Mi' Te' q hq rk fr))
theorem sd_di_c (z : Nat × Nat) (L : List (Nat × Nat)) : sd_di (z :: L) = cond (Nat.ble 25 z.1) false (cond (Nat.ble (z.2 / 8 % 8) 0) (sd_di L) false) := rfl
theorem sd_dfw (f : Nat) : (1 < sd_df f ↔ Nat.ble 25 f = true) ∧ sd_df f ≤ 4 := by
  unfold sd_df
  by_cases c1 : 625 ≤ f
  · have b1 : Nat.ble 625 f = true := Nat.ble_eq_true_of_le c1
    have b2 : Nat.ble 25 f = true := Nat.ble_eq_true_of_le (by omega)
    rw [b1, b2]; exact ⟨⟨fun _ => rfl, fun _ => (by decide : 1 < 4)⟩, (by decide : 4 ≤ 4)⟩
  · have b1 : Nat.ble 625 f = false := ts_nt (fun z => c1 (Nat.le_of_ble_eq_true z))
    rw [b1]
    by_cases c2 : 125 ≤ f
    · have b1 : Nat.ble 125 f = true := Nat.ble_eq_true_of_le c2
      have b2 : Nat.ble 25 f = true := Nat.ble_eq_true_of_le (by omega)
      rw [b1, b2]; exact ⟨by decide, by decide⟩
    · have b1 : Nat.ble 125 f = false := ts_nt (fun z => c2 (Nat.le_of_ble_eq_true z))
      rw [b1]
      cases h : Nat.ble 25 f
      · exact ⟨by decide, by decide⟩
      · exact ⟨by decide, by decide⟩
theorem xd_diag_l {post : Int32 → SX → Prop} {D : List (Nat × Nat)} (hD : sd_DL D fN fD bl) (hL : D.length ≤ 4) (K : post (if sd_di D = true then 1 else 0) (nI n, nI (D.length), nI ic, sd_ea 16 G, sd_ea 10 Q, sd_nv fN, sd_nv fD, sd_nv bl, sd_nv iv, sd_nv kv)) : ∃ n17, wX_diagonal_17 post (nI n) (nI (D.length)) (nI ic) (sd_ea 16 G) (sd_ea 10 Q) (sd_nv fN) (sd_nv fD) (sd_nv bl) (sd_nv iv) (sd_nv kv) n17 0 := by
  refine Exists.intro (D.length + 1) ?_
  have lp : ∀ (e k : Nat), k + e = D.length → sd_di D = sd_di (D.drop k) → wX_diagonal_17 post (nI n) (nI (D.length)) (nI ic) (sd_ea 16 G) (sd_ea 10 Q) (sd_nv fN) (sd_nv fD) (sd_nv bl) (sd_nv iv) (sd_nv kv) (e + 1) (nI k) := by
    intro e
    induction e with
    | zero =>
      intro k hk h
      refine br_t (nI_le (by omega) (by omega)) ?_
      rw [List.drop_of_length_le (by omega)] at h
      rw [h] at K
      exact K
    | succ e ih =>
      intro k hk h
      obtain ⟨_, d2, d3⟩ := hD k (by omega)
      have d31 := d3 1 (by omega)
      rw [sd_drop (by omega : k < D.length), sd_di_c] at h
      have ix : (4 * nI k) + 1 = nI (4 * k + 1) := by
        have := pk_mul 4 k
        have e4 : (4 : Int32) * nI k = nI (4 * k) := this
        rw [e4, nI_1]
      refine br_f (nI_ge (by omega) (by omega)) ?_
      rw [ix, sd_clN (by omega), sd_clN (by omega)]
      refine ⟨vp_in_nI (by omega) (by omega), ?_⟩
      show (1 < nI (fD k) → _) ∧ (¬ 1 < nI (fD k) → _ ∧ (nI (bl (4 * k + 1)) ≤ 0 → _) ∧ (¬ nI (bl (4 * k + 1)) ≤ 0 → _))
      rw [d2, d31]
      obtain ⟨q1, q2⟩ := sd_dfw (D.getD k (0, 0)).1
      rw [Nat.pow_one]
      generalize hx : (D.getD k (0, 0)).2 / 8 % 8 = x at h ⊢
      have x8 : x < 8 := by omega
      by_cases c : 1 < sd_df (D.getD k (0, 0)).1
      · rw [q1.mp c] at h
        rw [h] at K
        exact br_t (nI_lt (a := 1) c (by omega)) K
      · have bf : Nat.ble 25 (D.getD k (0, 0)).1 = false := ts_nt (fun z => c (q1.mpr z))
        rw [bf] at h
        refine br_f (nI_nlt (a := 1) (by omega) (by omega)) ⟨vp_in_nI (by omega) (by omega), ?_⟩
        by_cases c2 : x = 0
        · subst c2
          exact br_t (by decide) (nm_r (nI_1 k) (ih (k + 1) (by omega) h))
        · have bf2 : Nat.ble x 0 = false := ts_nt (fun z => c2 (Nat.le_zero.mp (Nat.le_of_ble_eq_true z)))
          rw [bf2] at h
          rw [h] at K
          exact br_f (nI_ge (a := 0) (by omega) (by omega)) K
  exact lp D.length 0 (by omega) rfl
end
end
section
/-! ===== eigen, diagonal, commutant: the owed theorems ===== -/
theorem i_vc_eigen {k : Nat} {u : SX} {v : SY} (I : i_Rel k u v) (hk : k + 5 ≤ 2561) (v1 : Int32) (v2 : Int32) : wpX_eigen (fun r u' => wpY_eigen (fun r' v' => r' = r ∧ i_Rel (k + 5) u' v') v v1 v2) u v1 v2 := by
  refine ir_el (P := fun u v => wpX_eigen (fun r u' => wpY_eigen (fun r' v' => r' = r ∧ i_Rel (k + 5) u' v') v v1 v2) u v1 v2) ?_ I
  intro n fc ic G Q fN fD bl iv kv R Fa Ke Ro Mi Te Di Ot hr
  have hr' := hr
  obtain ⟨h1, h4, hg⟩ := hr'
  rcases ir_reg v1 with h | ⟨a, ha, rfl⟩
  · unfold wpX_eigen wpY_eigen
    dsimp only
    exact xr_0 h (br_t rfl (yr_0 h (br_t rfl ⟨rfl, ir_mk hr⟩)))
  by_cases b1 : v2 < 0
  · unfold wpX_eigen wpY_eigen
    dsimp only
    exact xr_1 ha (br_f (by decide) (br_t b1 (yr_1 ha (br_f (by decide) (yd_in (fun _ => br_t rfl ⟨rfl, ir_mk hr⟩) (fun z _ => absurd b1 z))))))
  by_cases b2 : v2 ≤ 4
  · obtain ⟨w, hw, rfl⟩ := nI_of2 (M := 4) (n := 4) (by decide) b1 b2
    refine xm_eigen1 (A := sd_A n R a) ha (by omega) h4 (fun i j hi hj => (hg a i j ha hi hj).trans (sd_A_v hi hj)) (fun G' q rk fr => ym_eigen1 (A := sd_A n R a) ha (by omega) h1 h4 (fun i j hi hj => sd_A_v hi hj) (fun R' Mi' Te' q' rk' fr' => ⟨?_, ir_mk (sd_rl2_c hr fr fr')⟩))
    rw [sd_rk_u rk rk']
  · unfold wpX_eigen wpY_eigen
    dsimp only
    exact xr_1 ha (br_f (by decide) (br_f b1 (br_f b2 (yr_1 ha (br_f (by decide) (yd_in (fun _ => br_t rfl ⟨rfl, ir_mk hr⟩) (fun _ z => absurd (Int32.not_lt.mp z) b2)))))))
theorem i_vc_diagonal {k : Nat} {u : SX} {v : SY} (I : i_Rel k u v) (hk : k + 5 ≤ 2561) (v1 : Int32) : wpX_diagonal (fun r u' => wpY_diagonal (fun r' v' => r' = r ∧ i_Rel (k + 5) u' v') v v1) u v1 := by
  refine ir_el (P := fun u v => wpX_diagonal (fun r u' => wpY_diagonal (fun r' v' => r' = r ∧ i_Rel (k + 5) u' v') v v1) u v1) ?_ I
  intro n fc ic G Q fN fD bl iv kv R Fa Ke Ro Mi Te Di Ot hr
  have hr' := hr
  obtain ⟨h1, h4, hg⟩ := hr'
  unfold wpX_diagonal wpY_diagonal
  dsimp only
  rcases ir_reg v1 with h | ⟨a, ha, rfl⟩
  · exact xr_0 h (br_t rfl (yr_0 h (br_t rfl ⟨rfl, ir_mk hr⟩)))
  obtain ⟨N, D, hF⟩ := sd_fact_A (r := a) hr
  have hF' := hF
  obtain ⟨_, _, f4, _, _, f7, _, _⟩ := hF'
  obtain ⟨_, _, dl, _⟩ := f4
  have oA := sd_A_ok n a R
  refine xr_1 ha (br_f (by decide) (xd_analyse (N := N) (D := D) ha h1 h4 (sd_A_X hr ha) hF (fun G' Q' fN' fD' bl' iv' fr hDL _ => xd_diag_l hDL dl (yr_1 ha (br_f (by decide) (Exists.intro 6 ?_))))))
  have hA : ∀ R' : Nat → Nat → Fin 5, (∀ m x, m < 4 → x < 16 → R' m x = R m x) → ∀ i j, i < n → j < n → R' a (n * i + j) = sd_A n R a i j := fun R' e i j hi hj => (e a _ ha (sd_ixb h4 hi hj).2).trans (sd_A_v hi hj)
  refine ym_dg_step (w := 0) (s := 0) ha (by omega) h1 h4 (hA R (fun _ _ _ _ => rfl)) (fun R0 Mi0 Te0 q0 l0 k0 e0 => ?_)
  refine ym_dg_step (w := 1) ha (by omega) h1 h4 (hA R0 e0) (fun R1 Mi1 Te1 q1 l1 k1 e1 => ?_)
  have g1 : ∀ m x, m < 4 → x < 16 → R1 m x = R m x := fun m x hm hx => (e1 m x hm hx).trans (e0 m x hm hx)
  refine ym_dg_step (w := 2) ha (by omega) h1 h4 (hA R1 g1) (fun R2 Mi2 Te2 q2 l2 k2 e2 => ?_)
  have g2 : ∀ m x, m < 4 → x < 16 → R2 m x = R m x := fun m x hm hx => (e2 m x hm hx).trans (g1 m x hm hx)
  refine ym_dg_step (w := 3) ha (by omega) h1 h4 (hA R2 g2) (fun R3 Mi3 Te3 q3 l3 k3 e3 => ?_)
  have g3 : ∀ m x, m < 4 → x < 16 → R3 m x = R m x := fun m x hm hx => (e3 m x hm hx).trans (g2 m x hm hx)
  refine ym_dg_step (w := 4) ha (by omega) h1 h4 (hA R3 g3) (fun R4 Mi4 Te4 q4 l4 k4 e4 => ?_)
  have g4 : ∀ m x, m < 4 → x < 16 → R4 m x = R m x := fun m x hm hx => (e4 m x hm hx).trans (g3 m x hm hx)
  obtain ⟨r0, r1, r2, r3, r4, z0, z1, z2, z3, z4, zz⟩ := f7
  have u0 := sd_rk_u (sd_rk_c (sd_em_ev oA (by omega)) z0) k0
  have u1 := sd_rk_u (sd_rk_c (sd_em_ev oA (by omega)) z1) k1
  have u2 := sd_rk_u (sd_rk_c (sd_em_ev oA (by omega)) z2) k2
  have u3 := sd_rk_u (sd_rk_c (sd_em_ev oA (by omega)) z3) k3
  have u4 := sd_rk_u (sd_rk_c (sd_em_ev oA (by omega)) z4) k4
  subst u0 u1 u2 u3 u4
  have rel : i_Rel (k + 5) (nI n, nI (D.length), nI (sd_ic D), sd_ea 16 G', sd_ea 10 Q', sd_nv fN', sd_nv fD', sd_nv bl', sd_nv iv', sd_nv kv) (nI n, sd_ea 16 R4, sd_v1 Mi4, sd_v1 Te4, sd_v1 Di, sd_v1 Ot, sd_ea 5 Fa, sd_ea 5 Ke, sd_ea 16 Ro) := ir_mk (sd_rl2_c hr fr g4)
  refine br_t (by decide) ?_
  by_cases c : sd_di D = true
  · have es := zz.mp c
    refine br_t ?_ ⟨(if_pos c).symm, rel⟩
    congr 1
    omega
  · refine br_f ?_ ⟨(if_neg c).symm, rel⟩
    intro e
    have := congrArg Int32.toNatClampNeg e
    rw [sd_clN (by omega), sd_clN (by omega)] at this
    exact c (zz.mpr (by omega))
section
variable {n fc ic : Nat} {G Q : Nat → Nat → Fin 5} {fN fD bl iv kv : Nat → Nat}
theorem sd_co_c (z : Nat × Nat) (L : List (Nat × Nat)) : sd_co (z :: L) = sd_co L + sd_df z.1 * (((z.2 % 8) * (z.2 % 8) + (z.2 / 8 % 8) * (z.2 / 8 % 8)) + ((z.2 / 64 % 8) * (z.2 / 64 % 8) + (z.2 / 512 % 8) * (z.2 / 512 % 8))) := rfl
theorem xd_co_step {post : Int32 → SX → Prop} {J : Int32 → Int32 → Prop} {D : List (Nat × Nat)} {i k s fuel d b : Nat} (hi : i < 4) (hk : k < 4) (hd : fD i = d) (hb : bl (4 * i + k) = b) (K : wX_commutant_30 post J (nI i) (nI n) (nI fc) (nI ic) (sd_ea 16 G) (sd_ea 10 Q) (sd_nv fN) (sd_nv fD) (sd_nv bl) (sd_nv iv) (sd_nv kv) fuel (nI (s + d * b * b)) (nI (k + 1))) : wX_commutant_30 post J (nI i) (nI n) (nI fc) (nI ic) (sd_ea 16 G) (sd_ea 10 Q) (sd_nv fN) (sd_nv fD) (sd_nv bl) (sd_nv iv) (sd_nv kv) (fuel + 1) (nI s) (nI k) := by
  have ix : (4 * nI i) + nI k = nI (4 * i + k) := by
    have e4 : (4 : Int32) * nI i = nI (4 * i) := pk_mul 4 i
    rw [e4, nI_add]
  refine br_f (nI_ge (b := 4) (by omega) (by decide)) ?_
  rw [ix, sd_clN (by omega), sd_clN (by omega)]
  refine ⟨vp_in_nI (by omega) (by omega), vp_in_nI (by omega) (by omega), vp_in_nI (by omega) (by omega), nm_r ?_ (nm_r (nI_1 k) K)⟩
  show nI s + nI (fD i) * nI (bl (4 * i + k)) * nI (bl (4 * i + k)) = _
  rw [hd, hb, pk_mul, pk_mul, nI_add]
theorem xd_co_l {post : Int32 → SX → Prop} {D : List (Nat × Nat)} (hD : sd_DL D fN fD bl) (hL : D.length ≤ 4) (K : post (nI (sd_co D)) (nI n, nI (D.length), nI ic, sd_ea 16 G, sd_ea 10 Q, sd_nv fN, sd_nv fD, sd_nv bl, sd_nv iv, sd_nv kv)) : ∃ n19, wX_commutant_19 post (nI n) (nI (D.length)) (nI ic) (sd_ea 16 G) (sd_ea 10 Q) (sd_nv fN) (sd_nv fD) (sd_nv bl) (sd_nv iv) (sd_nv kv) n19 0 0 := by
  refine Exists.intro (D.length + 1) ?_
  have lp : ∀ (e k s : Nat), k + e = D.length → sd_co D = s + sd_co (D.drop k) → wX_commutant_19 post (nI n) (nI (D.length)) (nI ic) (sd_ea 16 G) (sd_ea 10 Q) (sd_nv fN) (sd_nv fD) (sd_nv bl) (sd_nv iv) (sd_nv kv) (e + 1) (nI s) (nI k) := by
    intro e
    induction e with
    | zero =>
      intro k s hk h
      refine br_t (nI_le (by omega) (by omega)) ?_
      rw [List.drop_of_length_le (by omega)] at h
      have h' : sd_co D = s := h
      rw [h'] at K
      exact K
    | succ e ih =>
      intro k s hk h
      obtain ⟨_, d2, d3⟩ := hD k (by omega)
      rw [sd_drop (by omega : k < D.length), sd_co_c] at h
      refine br_f (nI_ge (by omega) (by omega)) (Exists.intro 5 ?_)
      refine xd_co_step (D := D) (k := 0) (by omega) (by omega) d2 (d3 0 (by omega)) (xd_co_step (D := D) (k := 1) (by omega) (by omega) d2 (d3 1 (by omega)) (xd_co_step (D := D) (k := 2) (by omega) (by omega) d2 (d3 2 (by omega)) (xd_co_step (D := D) (k := 3) (by omega) (by omega) d2 (d3 3 (by omega)) (br_t (by decide) (nm_r (nI_1 k) (ih (k + 1) _ (by omega) ?_))))))
      rw [h]
      have p0 : (8 : Nat) ^ 0 = 1 := rfl
      have p1 : (8 : Nat) ^ 1 = 8 := rfl
      have p2 : (8 : Nat) ^ 2 = 64 := rfl
      have p3 : (8 : Nat) ^ 3 = 512 := rfl
      rw [p0, p1, p2, p3, Nat.div_one]
      rw [Nat.mul_add, Nat.mul_add, Nat.mul_add, Nat.mul_assoc, Nat.mul_assoc, Nat.mul_assoc, Nat.mul_assoc]
      omega
  exact lp D.length 0 0 (by omega) (Nat.zero_add _).symm
end
theorem i_vc_commutant {k : Nat} {u : SX} {v : SY} (I : i_Rel k u v) (hk : k + 5 ≤ 2561) (v1 : Int32) : wpX_commutant (fun r u' => wpY_commutant (fun r' v' => r' = r ∧ i_Rel (k + 5) u' v') v v1) u v1 := by
  refine ir_el (P := fun u v => wpX_commutant (fun r u' => wpY_commutant (fun r' v' => r' = r ∧ i_Rel (k + 5) u' v') v v1) u v1) ?_ I
  intro n fc ic G Q fN fD bl iv kv R Fa Ke Ro Mi Te Di Ot hr
  have hr' := hr
  obtain ⟨h1, h4, hg⟩ := hr'
  unfold wpX_commutant wpY_commutant
  dsimp only
  rcases ir_reg v1 with h | ⟨a, ha, rfl⟩
  · exact xr_0 h (br_t rfl (yr_0 h (br_t rfl ⟨rfl, ir_mk hr⟩)))
  obtain ⟨N, D, hF⟩ := sd_fact_A (r := a) hr
  have hF' := hF
  obtain ⟨_, _, f4, _, _, _, f8, _⟩ := hF'
  obtain ⟨_, _, dl, _⟩ := f4
  refine xr_1 ha (br_f (by decide) (xd_analyse (N := N) (D := D) ha h1 h4 (sd_A_X hr ha) hF (fun G' Q' fN' fD' bl' iv' fr hDL _ => xd_co_l hDL dl (yr_1 ha (br_f (by decide) (yd_makeRows (A := sd_A n R a) (by omega) h4 h1 (fun i j hi hj => sd_A_v hi hj) (fun Ro1 e1 => yd_commute h4 h1 e1 (fun Ro2 q hq rk => ⟨?_, ir_mk (sd_rl2_c hr fr (fun _ _ _ _ => rfl))⟩))))))))
  have e := sd_rk_u f8.2 rk
  have f81 := f8.1
  congr 1
  omega
end
section
/-! ===== similar ===== -/
theorem nI_eqv {a b : Nat} (ha : a < 2 ^ 31) (hb : b < 2 ^ 31) : nI a = nI b ↔ a = b := by
  constructor
  · intro e
    have := congrArg Int32.toNatClampNeg e
    rw [sd_clN ha, sd_clN hb] at this
    exact this
  · intro e; rw [e]
section
variable {n fc ic : Nat} {G Q : Nat → Nat → Fin 5} {fN fD bl iv kv : Nat → Nat} {R Fa Ke Ro : Nat → Nat → Fin 5} {Mi Te Di Ot : Nat → Fin 5}
theorem xd_sim_l {post : Int32 → SX → Prop} {m : Nat} (hm : m ≤ 4) (hb : ∀ j, j < m → kv j < 2 ^ 31 ∧ iv j < 2 ^ 31) (K1 : (∀ j, j < m → kv j = iv j) → post 1 (nI n, nI fc, nI ic, sd_ea 16 G, sd_ea 10 Q, sd_nv fN, sd_nv fD, sd_nv bl, sd_nv iv, sd_nv kv)) (K0 : ¬ (∀ j, j < m → kv j = iv j) → post 0 (nI n, nI fc, nI ic, sd_ea 16 G, sd_ea 10 Q, sd_nv fN, sd_nv fD, sd_nv bl, sd_nv iv, sd_nv kv)) : ∃ n75, wX_similar_75 post (nI m) (nI n) (nI fc) (nI ic) (sd_ea 16 G) (sd_ea 10 Q) (sd_nv fN) (sd_nv fD) (sd_nv bl) (sd_nv iv) (sd_nv kv) n75 0 := by
  refine Exists.intro (m + 1) ?_
  have lp : ∀ (e k : Nat), k + e = m → (∀ j, j < k → kv j = iv j) → wX_similar_75 post (nI m) (nI n) (nI fc) (nI ic) (sd_ea 16 G) (sd_ea 10 Q) (sd_nv fN) (sd_nv fD) (sd_nv bl) (sd_nv iv) (sd_nv kv) (e + 1) (nI k) := by
    intro e
    induction e with
    | zero =>
      intro k hk h
      exact br_t (nI_le (by omega) (by omega)) (K1 (fun j hj => h j (by omega)))
    | succ e ih =>
      intro k hk h
      obtain ⟨b1, b2⟩ := hb k (by omega)
      refine br_f (nI_ge (by omega) (by omega)) ?_
      rw [sd_clN (by omega)]
      refine ⟨vp_in_nI (by omega) (by omega), vp_in_nI (by omega) (by omega), ?_⟩
      show (nI (kv k) = nI (iv k) → _) ∧ (¬ nI (kv k) = nI (iv k) → _)
      by_cases c : kv k = iv k
      · refine br_t (by rw [c]) (nm_r (nI_1 k) (ih (k + 1) (by omega) (fun j hj => ?_)))
        by_cases e : j = k
        · rw [e]; exact c
        · exact h j (by omega)
      · exact br_f (fun z => c ((nI_eqv b1 b2).mp z)) (K0 (fun z => c (z k (by omega))))
  exact lp m 0 (by omega) (fun j hj => absurd hj (by omega))
theorem xd_sim_k {post : Int32 → SX → Prop} {m : Nat} {x2 : Int32} (hm : m ≤ 4) (hb : ∀ j, j < m → iv j < 32768) (K : ∀ kv', (∀ j, j < m → kv' j = iv j) → ∀ e, wX_similar_31 post x2 (nI m) (nI n) (nI fc) (nI ic) (e + 1) (nI m) (sd_ea 16 G) (sd_ea 10 Q) (sd_nv fN) (sd_nv fD) (sd_nv bl) (sd_nv iv) (sd_nv kv')) : ∃ n31, wX_similar_31 post x2 (nI m) (nI n) (nI fc) (nI ic) n31 0 (sd_ea 16 G) (sd_ea 10 Q) (sd_nv fN) (sd_nv fD) (sd_nv bl) (sd_nv iv) (sd_nv kv) := by
  refine Exists.intro (m + 1) ?_
  have lp : ∀ (e k : Nat) (h : Nat → Nat), k + e = m → (∀ j, j < k → h j = iv j) → wX_similar_31 post x2 (nI m) (nI n) (nI fc) (nI ic) (e + 1) (nI k) (sd_ea 16 G) (sd_ea 10 Q) (sd_nv fN) (sd_nv fD) (sd_nv bl) (sd_nv iv) (sd_nv h) := by
    intro e
    induction e with
    | zero =>
      intro k h hk hh
      have e : k = m := by omega
      subst e
      exact K h hh 0
    | succ e ih =>
      intro k h hk hh
      refine br_f (nI_ge (by omega) (by omega)) ?_
      rw [sd_clN (by omega)]
      have en : vp_nar .short (sd_nv iv k) = nI (iv k) := sd_ns' (hb k (by omega))
      rw [en, sd_nv_w]
      refine ⟨vp_in_nI (by omega) (by omega), vp_in_nI (by omega) (by omega), nm_e (nm_r (nI_1 k) (ih (k + 1) _ (by omega) (fun j hj => ?_)))⟩
      by_cases e : j = k
      · rw [e]; exact if_pos rfl
      · exact (if_neg e).trans (hh j (by omega))
  exact lp m 0 kv (by omega) (fun j hj => absurd hj (by omega))
theorem sd_c5 (k : Nat) : 5 * (k / 5) + k % 5 = k := Nat.div_add_mod k 5
theorem yd_sim_l {post : Int32 → SY → Prop} (hn : n ≤ 4) (K1 : (∀ t j, t < n → j < 5 → Ke t j = Fa t j) → post 1 (nI n, sd_ea 16 R, sd_v1 Mi, sd_v1 Te, sd_v1 Di, sd_v1 Ot, sd_ea 5 Fa, sd_ea 5 Ke, sd_ea 16 Ro)) (K0 : ¬ (∀ t j, t < n → j < 5 → Ke t j = Fa t j) → post 0 (nI n, sd_ea 16 R, sd_v1 Mi, sd_v1 Te, sd_v1 Di, sd_v1 Ot, sd_ea 5 Fa, sd_ea 5 Ke, sd_ea 16 Ro)) : ∃ n56, wY_similar_56 post (nI n) (sd_ea 16 R) (sd_v1 Mi) (sd_v1 Te) (sd_v1 Di) (sd_v1 Ot) (sd_ea 5 Fa) (sd_ea 5 Ke) (sd_ea 16 Ro) n56 0 := by
  refine Exists.intro (5 * n + 1) ?_
  have e5 : (5 : Int32) * nI n = nI (5 * n) := pk_mul 5 n
  have lp : ∀ (e k : Nat), k + e = 5 * n → (∀ j, j < k → Ke (j / 5) (j % 5) = Fa (j / 5) (j % 5)) → wY_similar_56 post (nI n) (sd_ea 16 R) (sd_v1 Mi) (sd_v1 Te) (sd_v1 Di) (sd_v1 Ot) (sd_ea 5 Fa) (sd_ea 5 Ke) (sd_ea 16 Ro) (e + 1) (nI k) := by
    intro e
    induction e with
    | zero =>
      intro k hk h
      refine br_t (by rw [e5]; exact nI_le (by omega) (by omega)) (K1 (fun t j ht hj => ?_))
      have := h (5 * t + j) (by omega)
      rw [show (5 * t + j) / 5 = t by omega, show (5 * t + j) % 5 = j by omega] at this
      exact this
    | succ e ih =>
      intro k hk h
      refine br_f (by rw [e5]; exact nI_ge (by omega) (by omega)) ?_
      rw [sd_clN (by omega)]
      refine ⟨vp_in_nI (by omega) (by omega), vp_in_nI (by omega) (by omega), ?_⟩
      show (sd_eI (Ke (k / 5) (k % 5)) = sd_eI (Fa (k / 5) (k % 5)) → _) ∧ (¬ sd_eI (Ke (k / 5) (k % 5)) = sd_eI (Fa (k / 5) (k % 5)) → _)
      by_cases c : Ke (k / 5) (k % 5) = Fa (k / 5) (k % 5)
      · refine br_t (by rw [c]) (nm_r (nI_1 k) (ih (k + 1) (by omega) (fun j hj => ?_)))
        by_cases e : j = k
        · rw [e]; exact c
        · exact h j (by omega)
      · exact br_f (fun z => c ((sd_eI_i _ _).mp z)) (K0 (fun z => c (z (k / 5) (k % 5) (by omega) (by omega))))
  exact lp (5 * n) 0 (by omega) (fun j hj => absurd hj (by omega))
theorem yd_sim_k {post : Int32 → SY → Prop} {x2 : Int32} (K : ∀ Ke', (∀ t j, t < 4 → j < 5 → Ke' t j = Fa t j) → wpY_findFactors (fun u => match u with | (f_n_1, a_regs_1, a_minor_1, a_term_1, a_divisor_1, a_other_1, a_factors_1, a_kept_1, a_rows_1) => ∃ n56 : Nat, wY_similar_56 post f_n_1 a_regs_1 a_minor_1 a_term_1 a_divisor_1 a_other_1 a_factors_1 a_kept_1 a_rows_1 n56 0) (nI n, sd_ea 16 R, sd_v1 Mi, sd_v1 Te, sd_v1 Di, sd_v1 Ot, sd_ea 5 Fa, sd_ea 5 Ke', sd_ea 16 Ro) x2) : ∃ n25, wY_similar_25 post x2 (nI n) n25 0 (sd_ea 16 R) (sd_v1 Mi) (sd_v1 Te) (sd_v1 Di) (sd_v1 Ot) (sd_ea 5 Fa) (sd_ea 5 Ke) (sd_ea 16 Ro) := by
  refine Exists.intro 21 ?_
  have lp : ∀ (e k : Nat) (h : Nat → Nat → Fin 5), k + e = 20 → (∀ j, j < k → h (j / 5) (j % 5) = Fa (j / 5) (j % 5)) → wY_similar_25 post x2 (nI n) (e + 1) (nI k) (sd_ea 16 R) (sd_v1 Mi) (sd_v1 Te) (sd_v1 Di) (sd_v1 Ot) (sd_ea 5 Fa) (sd_ea 5 h) (sd_ea 16 Ro) := by
    intro e
    induction e with
    | zero =>
      intro k h hk hh
      have e : k = 20 := by omega
      subst e
      refine br_t (by decide) (K h (fun t j ht hj => ?_))
      have := hh (5 * t + j) (by omega)
      rw [show (5 * t + j) / 5 = t by omega, show (5 * t + j) % 5 = j by omega] at this
      exact this
    | succ e ih =>
      intro k h hk hh
      refine br_f (nI_ge (b := 20) (by omega) (by decide)) ?_
      rw [sd_clN (by omega)]
      have ew : upd (sd_ea 5 h) k (sd_ea 5 Fa k) = sd_ea 5 (sd_u h (k / 5) (k % 5) (Fa (k / 5) (k % 5))) := by
        have := sd_ea_w (w := 5) (a := k / 5) (b := k % 5) (by omega) h (Fa (k / 5) (k % 5))
        rw [sd_c5] at this
        exact this
      refine ⟨vp_in_nI (by omega) (by omega), vp_in_nI (by omega) (by omega), nm_r ew (nm_r (nI_1 k) (ih (k + 1) _ (by omega) (fun j hj => ?_)))⟩
      by_cases e : j = k
      · rw [e]; exact sd_u_s
      · rw [sd_u_n (fun z => e (by omega))]; exact hh j (by omega)
  exact lp 20 0 Ke (by omega) (fun j hj => absurd hj (by omega))
end
theorem sd_sim_ic {n : Nat} {N1 N2 : Nat → Nat} {D1 D2 : List (Nat × Nat)} (f1 : sd_F4 n N1 D1) (f2 : sd_F4 n N2 D2) (h : ∀ t, t < n → N1 t = N2 t) : sd_ic D1 = sd_ic D2 := by
  obtain ⟨a1, a2, _, a4⟩ := f1
  obtain ⟨b1, b2, _, b4⟩ := f2
  apply Classical.byContradiction
  intro c
  by_cases l : sd_ic D1 < sd_ic D2
  · have e1 := (a4 (n - sd_ic D2) (by omega)).1 (by omega)
    have e2 := ((b4 (n - sd_ic D2) (by omega)).2 (by omega)).2
    have e3 := h (n - sd_ic D2) (by omega)
    omega
  · have e1 := (b4 (n - sd_ic D1) (by omega)).1 (by omega)
    have e2 := ((a4 (n - sd_ic D1) (by omega)).2 (by omega)).2
    have e3 := h (n - sd_ic D1) (by omega)
    omega
theorem i_vc_similar {k : Nat} {u : SX} {v : SY} (I : i_Rel k u v) (hk : k + 5 ≤ 2561) (v1 : Int32) (v2 : Int32) : wpX_similar (fun r u' => wpY_similar (fun r' v' => r' = r ∧ i_Rel (k + 5) u' v') v v1 v2) u v1 v2 := by
  refine ir_el (P := fun u v => wpX_similar (fun r u' => wpY_similar (fun r' v' => r' = r ∧ i_Rel (k + 5) u' v') v v1 v2) u v1 v2) ?_ I
  intro n fc ic G Q fN fD bl iv kv R Fa Ke Ro Mi Te Di Ot hr
  have hr' := hr
  obtain ⟨h1, h4, hg⟩ := hr'
  unfold wpX_similar wpY_similar
  dsimp only
  rcases ir_reg v1 with h | ⟨a, ha, rfl⟩
  · exact xr_0 h (br_t rfl (yr_0 h (br_t rfl ⟨rfl, ir_mk hr⟩)))
  rcases ir_reg v2 with h | ⟨b, hb, rfl⟩
  · exact xr_1 ha (br_f (by decide) (xr_0 h (br_t rfl (yr_1 ha (br_f (by decide) (yr_0 h (br_t rfl ⟨rfl, ir_mk hr⟩)))))))
  obtain ⟨N1, D1, F1⟩ := sd_fact_A (r := a) hr
  obtain ⟨N2, D2, F2⟩ := sd_fact_A (r := b) hr
  have F1' := F1
  have F2' := F2
  obtain ⟨_, _, f4, _, _, _, _, f9⟩ := F1'
  obtain ⟨_, _, g4, _, _, _, _, g9⟩ := F2'
  have f4' := f4
  have g4' := g4
  obtain ⟨i1, i2, _, i4⟩ := f4'
  obtain ⟨j1, j2, _, j4⟩ := g4'
  have e5 : (5 : Nat) ^ 5 = 3125 := by decide
  -- Y
  have ypart : ∀ (w : Int32) (u' : SX), (w = if (∀ t, t < n → N1 t = N2 t) then 1 else 0) → (∀ R' Fa' Ke' Ro' Mi' Te' Di' Ot', R' = R → i_Rel (k + 5) u' (nI n, sd_ea 16 R', sd_v1 Mi', sd_v1 Te', sd_v1 Di', sd_v1 Ot', sd_ea 5 Fa', sd_ea 5 Ke', sd_ea 16 Ro')) → wpY_isRegister (fun r_1 => (((r_1 = 0 → ((fun r' v' => r' = w ∧ i_Rel (k + 5) u' v') 0 (nI n, sd_ea 16 R, sd_v1 Mi, sd_v1 Te, sd_v1 Di, sd_v1 Ot, sd_ea 5 Fa, sd_ea 5 Ke, sd_ea 16 Ro))) ∧ (¬ r_1 = 0 → (wpY_isRegister (fun r_12 => (((r_12 = 0 → ((fun r' v' => r' = w ∧ i_Rel (k + 5) u' v') 0 (nI n, sd_ea 16 R, sd_v1 Mi, sd_v1 Te, sd_v1 Di, sd_v1 Ot, sd_ea 5 Fa, sd_ea 5 Ke, sd_ea 16 Ro))) ∧ (¬ r_12 = 0 → (wpY_findFactors (fun u => match u with | (f_n_24, a_regs_25, a_minor_26, a_term_27, a_divisor_28, a_other_29, a_factors_30, a_kept_31, a_rows_32) => (∃ n25 : Nat, wY_similar_25 (fun r' v' => r' = w ∧ i_Rel (k + 5) u' v') (nI b) f_n_24 n25 0 a_regs_25 a_minor_26 a_term_27 a_divisor_28 a_other_29 a_factors_30 a_kept_31 a_rows_32)) (nI n, sd_ea 16 R, sd_v1 Mi, sd_v1 Te, sd_v1 Di, sd_v1 Ot, sd_ea 5 Fa, sd_ea 5 Ke, sd_ea 16 Ro) (nI a)))))) (nI n, sd_ea 16 R, sd_v1 Mi, sd_v1 Te, sd_v1 Di, sd_v1 Ot, sd_ea 5 Fa, sd_ea 5 Ke, sd_ea 16 Ro) (nI b)))))) (nI n, sd_ea 16 R, sd_v1 Mi, sd_v1 Te, sd_v1 Di, sd_v1 Ot, sd_ea 5 Fa, sd_ea 5 Ke, sd_ea 16 Ro) (nI a) := by
    intro w u' hw rel
    refine yr_1 ha (br_f (by decide) (yr_1 hb (br_f (by decide) (yd_findFactors (A := sd_A n R a) (by omega) h4 h1 (sd_A_ok n a R) (fun i j hi hj => sd_A_v hi hj) f9 (fun Mi1 Te1 Di1 Ot1 Fa1 hF1 => yd_sim_k (fun Ke1 hK => yd_findFactors (A := sd_A n R b) (by omega) h4 h1 (sd_A_ok n b R) (fun i j hi hj => sd_A_v hi hj) g9 (fun Mi2 Te2 Di2 Ot2 Fa2 hF2 => yd_sim_l h4 (fun hE => ⟨?_, rel _ _ _ _ _ _ _ _ rfl⟩) (fun hE => ⟨?_, rel _ _ _ _ _ _ _ _ rfl⟩))))))))
    · have c : ∀ t, t < n → N1 t = N2 t := by
        intro t ht
        obtain ⟨d1, hd1, hm1⟩ := f9.1 t ht
        obtain ⟨d2, hd2, hm2⟩ := g9.1 t ht
        have l1 := sd_mon_lt hd1 hm1
        have l2 := sd_mon_lt hd2 hm2
        apply sd_dg_inj
        funext j
        by_cases hj : j < 5
        · rw [← hF1 t j ht hj, ← hF2 t j ht hj, ← hE t j ht hj, hK t j (by omega) hj]
        · rw [sd_dg_dl l1 j (by omega), sd_dg_dl l2 j (by omega)]
      rw [hw, if_pos c]
    · have c : ¬ ∀ t, t < n → N1 t = N2 t := by
        intro z
        apply hE
        intro t j ht hj
        rw [hK t j (by omega) hj, hF1 t j ht hj, hF2 t j ht hj, z t ht]
      rw [hw, if_neg c]
  refine xr_1 ha (br_f (by decide) (xr_1 hb (br_f (by decide) (xd_analyse (N := N1) (D := D1) ha h1 h4 (sd_A_X hr ha) F1 (fun G1 Q1 fN1 fD1 bl1 iv1 fr1 _ hiv1 => ?_)))))
  have hr1 : sd_rl2 n G1 R := sd_rl2_c hr fr1 (fun _ _ _ _ => rfl)
  have v1 : ∀ q, q < sd_ic D1 → iv1 q = N1 (n - sd_ic D1 + q) ∧ iv1 q < 5 ^ 5 := by
    intro q hq
    have z := hiv1 (sd_ic D1 - 1 - q) (by omega)
    obtain ⟨y1, y2⟩ := sd_fact_iv F1 (sd_ic D1 - 1 - q) (by omega)
    rw [show sd_ic D1 - 1 - (sd_ic D1 - 1 - q) = q by omega, y1] at z
    rw [show n - 1 - (sd_ic D1 - 1 - q) = n - sd_ic D1 + q by omega] at z y2
    exact ⟨z, by rw [z]; exact y2⟩
  refine xd_sim_k (by omega) (fun j hj => ?_) (fun kv1 hk1 e => br_t (nI_le (Nat.le_refl _) (by omega)) (xd_analyse (N := N2) (D := D2) hb h1 h4 (sd_A_X hr1 hb) F2 (fun G2 Q2 fN2 fD2 bl2 iv2 fr2 _ hiv2 => ?_)))
  · have := (v1 j hj).2
    omega
  have hr2 : sd_rl2 n G2 R := sd_rl2_c hr1 fr2 (fun _ _ _ _ => rfl)
  have v2 : ∀ q, q < sd_ic D2 → iv2 q = N2 (n - sd_ic D2 + q) ∧ iv2 q < 5 ^ 5 := by
    intro q hq
    have z := hiv2 (sd_ic D2 - 1 - q) (by omega)
    obtain ⟨y1, y2⟩ := sd_fact_iv F2 (sd_ic D2 - 1 - q) (by omega)
    rw [show sd_ic D2 - 1 - (sd_ic D2 - 1 - q) = q by omega, y1] at z
    rw [show n - 1 - (sd_ic D2 - 1 - q) = n - sd_ic D2 + q by omega] at z y2
    exact ⟨z, by rw [z]; exact y2⟩
  by_cases c : sd_ic D1 = sd_ic D2
  · refine br_t (by rw [c]) (xd_sim_l (by omega) (fun j hj => ?_) (fun hE => ypart _ _ ?_ (fun R' _ _ _ _ _ _ _ e => ir_mk (by rw [e]; exact hr2))) (fun hE => ypart _ _ ?_ (fun R' _ _ _ _ _ _ _ e => ir_mk (by rw [e]; exact hr2))))
    · have q1 := (v1 j hj).2
      have q2 := (v2 j (by omega)).2
      rw [hk1 j hj]
      exact ⟨by omega, by omega⟩
    · refine (if_pos (fun t ht => ?_)).symm
      by_cases l : t + sd_ic D1 < n
      · rw [(i4 t ht).1 l, (j4 t ht).1 (by omega)]
      · have z := hE (t - (n - sd_ic D1)) (by omega)
        rw [hk1 _ (by omega), (v1 _ (by omega)).1, (v2 _ (by omega)).1, ← c] at z
        rw [show n - sd_ic D1 + (t - (n - sd_ic D1)) = t by omega] at z
        exact z
    · refine (if_neg (fun z => hE (fun j hj => ?_))).symm
      rw [hk1 _ hj, (v1 _ hj).1, (v2 _ (by omega)).1, ← c]
      exact z _ (by omega)
  · refine br_f (fun z => c ((nI_eqv (by omega) (by omega)).mp z)) (ypart _ _ ?_ (fun R' _ _ _ _ _ _ _ e => ir_mk (by rw [e]; exact hr2)))
    exact (if_neg (fun z => c (sd_sim_ic f4 g4 z))).symm
end
section
/-! ===== order ===== -/
section
variable {n fc ic : Nat} {G Q : Nat → Nat → Fin 5} {fN fD bl iv kv : Nat → Nat} {R Fa Ke Ro : Nat → Nat → Fin 5} {Mi Te Di Ot : Nat → Fin 5}
theorem sd_tq5 : ∀ i, i < 625 → Nat.ble 1 i = true → Nat.beq (sd_tq 5 1 5 (5 * i)) (5 * i) = false := by decide +kernel
theorem sd_fc5 {c : Nat} (h : c < 3125) (h5 : 5 ≤ c) (hm : c % 5 = 0) : ∃ L, sd_fc c = 5 :: L := by
  have q := sd_tq5 (c / 5) (by omega) (Nat.ble_eq_true_of_le (by omega))
  rw [show 5 * (c / 5) = c by omega] at q
  unfold sd_fc
  rw [sd_fl_s, q]
  exact ⟨_, rfl⟩
theorem sd_or_c (z : Nat × Nat) (L : List (Nat × Nat)) (s : Nat) (g : Bool) : sd_or (z :: L) s g = cond (Nat.beq z.1 5) 0 (sd_or L (s / Nat.gcd s (sd_oo z.1) * sd_oo z.1) (cond (Nat.ble (z.2 / 8 % 8) 0) g true)) := rfl
theorem xd_or_l {post : Int32 → SX → Prop} {D : List (Nat × Nat)} (hD : sd_DL D fN fD bl) (hL : D.length ≤ 4) (h5 : ∀ z, z ∈ D → z.1 ≠ 5) (hz : ∀ z, z ∈ D → z.1 / 5 ^ sd_df z.1 = 1) (hv : ∀ z, z ∈ D → sd_vO (sd_df z.1) z.1 (sd_oo z.1) = true ∧ sd_oo z.1 < 1024) (K : ∀ Q', post (nI (sd_or D 1 false)) (nI n, nI (D.length), nI ic, sd_ea 16 G, sd_ea 10 Q', sd_nv fN, sd_nv fD, sd_nv bl, sd_nv iv, sd_nv kv)) : ∃ n22, wX_order_22 post n22 1 0 0 (nI n) (nI (D.length)) (nI ic) (sd_ea 16 G) (sd_ea 10 Q) (sd_nv fN) (sd_nv fD) (sd_nv bl) (sd_nv iv) (sd_nv kv) := by
  refine Exists.intro (D.length + 1) ?_
  have lp : ∀ (e k s : Nat) (g : Bool) (W : Nat → Nat → Fin 5), k + e = D.length → 0 < s → s ≤ 1024 ^ k → sd_or D 1 false = sd_or (D.drop k) s g → wX_order_22 post (e + 1) (nI s) (nI (cond g 1 0)) (nI k) (nI n) (nI (D.length)) (nI ic) (sd_ea 16 G) (sd_ea 10 W) (sd_nv fN) (sd_nv fD) (sd_nv bl) (sd_nv iv) (sd_nv kv) := by
    intro e
    induction e with
    | zero =>
      intro k s g W hk hs hs2 h
      refine br_t (nI_le (by omega) (by omega)) ?_
      rw [List.drop_of_length_le (by omega)] at h
      have h' : sd_or D 1 false = cond g (5 * s) s := h
      have K' := K W
      rw [h'] at K'
      cases g
      · exact br_t rfl K'
      · refine br_f (by decide) ?_
        have e5 : (5 : Int32) * nI s = nI (5 * s) := pk_mul 5 s
        rw [e5]; exact K'
    | succ e ih =>
      intro k s g W hk hs hs2 h
      obtain ⟨d1, d2, d3⟩ := hD k (by omega)
      have d31 := d3 1 (by omega)
      have inD := sd_gd_in (by omega : k < D.length)
      rw [sd_drop (by omega : k < D.length), sd_or_c] at h
      have n5 := h5 _ inD
      have m1 := hz _ inD
      obtain ⟨v1, v2⟩ := hv _ inD
      generalize hzz : D.getD k (0, 0) = z at *
      rw [sd_beq_f n5] at h
      have fl : z.1 < 5 ^ 5 := sd_mon_lt (sd_df_b z.1).2 m1
      have e55 : (5 : Nat) ^ 5 = 3125 := by decide
      have s30 : s ≤ 2 ^ 30 := by
        have : 1024 ^ k ≤ 1024 ^ 3 := Nat.pow_le_pow_right (by omega) (by omega)
        have e3 : (1024 : Nat) ^ 3 = 2 ^ 30 := by decide
        omega
      have ix : (4 * nI k) + 1 = nI (4 * k + 1) := by
        have e4 : (4 : Int32) * nI k = nI (4 * k) := pk_mul 4 k
        rw [e4, nI_1]
      refine br_f (nI_ge (by omega) (by omega)) ?_
      rw [sd_clN (by omega)]
      refine ⟨vp_in_nI (by omega) (by omega), ?_⟩
      show (nI (fN k) = 5 → _) ∧ (¬ nI (fN k) = 5 → _)
      have s31 : s < 2 ^ 31 := by
        have : (2 : Nat) ^ 31 = 2 * 2 ^ 30 := by decide
        omega
      refine br_f (fun q => n5 ?_) (xd_orderModulo (m := z.1) (by omega) d1 d2 m1 v1 v2 (fun W' => xd_commonMultiple s31 (by omega) hs ?_))
      · rw [d1] at q
        exact (nI_eqv (b := 5) (by omega) (by omega)).mp q
      have op : 0 < sd_oo z.1 := (sd_vO_s (sd_df_b z.1).1 (sd_df_b z.1).2 m1 v2 v1).1
      have gp : 0 < Nat.gcd s (sd_oo z.1) := Nat.gcd_pos_of_pos_left _ hs
      have gle : Nat.gcd s (sd_oo z.1) ≤ s := Nat.le_of_dvd hs (Nat.gcd_dvd_left _ _)
      have qp : 0 < s / Nat.gcd s (sd_oo z.1) := Nat.div_pos gle gp
      have np : 0 < s / Nat.gcd s (sd_oo z.1) * sd_oo z.1 := Nat.mul_pos qp op
      have nb : s / Nat.gcd s (sd_oo z.1) * sd_oo z.1 ≤ 1024 ^ (k + 1) := by
        rw [Nat.pow_succ]
        exact Nat.mul_le_mul (Nat.le_trans (Nat.div_le_self _ _) hs2) (by omega)
      rw [ix, sd_clN (by omega)]
      refine ⟨vp_in_nI (by omega) (by omega), ?_⟩
      show (nI (bl (4 * k + 1)) ≤ 0 → _) ∧ (¬ nI (bl (4 * k + 1)) ≤ 0 → _)
      rw [d31, Nat.pow_one]
      by_cases c2 : z.2 / 8 % 8 = 0
      · rw [c2] at h ⊢
        exact br_t (by decide) (nm_r (nI_1 k) (ih (k + 1) _ g W' (by omega) np nb h))
      · have bf2 : Nat.ble (z.2 / 8 % 8) 0 = false := ts_nt (fun q => c2 (Nat.le_zero.mp (Nat.le_of_ble_eq_true q)))
        rw [bf2] at h
        exact br_f (nI_ge (a := 0) (by omega) (by omega)) (nm_r (nI_1 k) (ih (k + 1) _ true W' (by omega) np nb h))
  exact lp D.length 0 1 false Q (by omega) (by omega) (by decide) rfl
def sd_isI (n : Nat) (R : Nat → Nat → Fin 5) : Prop := ∀ y, y < n * n → R 4 y = if y % (n + 1) = 0 then 1 else 0
theorem yd_or_chk {post : Int32 → SY → Prop} {J : Int32 → Int32 → (Nat → Int32) → (Nat → Int32) → (Nat → Int32) → (Nat → Int32) → (Nat → Int32) → (Nat → Int32) → (Nat → Int32) → (Nat → Int32) → Prop} {x1 x2 : Int32} (hn : n ≤ 4) (h1n : 1 ≤ n) (K1 : sd_isI n R → post x2 (nI n, sd_ea 16 R, sd_v1 Mi, sd_v1 Te, sd_v1 Di, sd_v1 Ot, sd_ea 5 Fa, sd_ea 5 Ke, sd_ea 16 Ro))
    (K0 : ¬ sd_isI n R → wpY_multiply (fun u => match u with | (f_n_1, a_regs_1, a_minor_1, a_term_1, a_divisor_1, a_other_1, a_factors_1, a_kept_1, a_rows_1) => wpY_copy (fun u => match u with | (f_n_2, a_regs_2, a_minor_2, a_term_2, a_divisor_2, a_other_2, a_factors_2, a_kept_2, a_rows_2) => ∀ x, x = x2 + 1 → J x f_n_2 a_regs_2 a_minor_2 a_term_2 a_divisor_2 a_other_2 a_factors_2 a_kept_2 a_rows_2) (f_n_1, a_regs_1, a_minor_1, a_term_1, a_divisor_1, a_other_1, a_factors_1, a_kept_1, a_rows_1) 4 5) (nI n, sd_ea 16 R, sd_v1 Mi, sd_v1 Te, sd_v1 Di, sd_v1 Ot, sd_ea 5 Fa, sd_ea 5 Ke, sd_ea 16 Ro) 4 x1) : ∃ n41, wY_order_41 post J x1 x2 (nI n) (sd_ea 16 R) (sd_v1 Mi) (sd_v1 Te) (sd_v1 Di) (sd_v1 Ot) (sd_ea 5 Fa) (sd_ea 5 Ke) (sd_ea 16 Ro) n41 1 0 := by
  have q16 : n * n ≤ 16 := Nat.mul_le_mul hn hn
  have fnn : nI n * nI n = nI (n * n) := pk_mul n n
  refine Exists.intro (n * n + 1) ?_
  have lp : ∀ (e k : Nat) (g : Int32), k + e = n * n → ((g = 1 ∧ ∀ y, y < k → R 4 y = if y % (n + 1) = 0 then 1 else 0) ∨ (g = 0 ∧ ¬ sd_isI n R)) → wY_order_41 post J x1 x2 (nI n) (sd_ea 16 R) (sd_v1 Mi) (sd_v1 Te) (sd_v1 Di) (sd_v1 Ot) (sd_ea 5 Fa) (sd_ea 5 Ke) (sd_ea 16 Ro) (e + 1) g (nI k) := by
    intro e
    induction e with
    | zero =>
      intro k g hk h
      refine br_t (by rw [fnn]; exact nI_le (by omega) (by omega)) ?_
      rcases h with ⟨rfl, h⟩ | ⟨rfl, h⟩
      · exact br_f (by decide) (K1 (fun y hy => h y (by omega)))
      · exact br_t rfl (K0 h)
    | succ e ih =>
      intro k g hk h
      have rem : nI k - nI k / (nI n + 1) * (nI n + 1) = nI (k % (n + 1)) := by
        rw [nI_1 n]; exact pk_rem (by omega) (by omega) (by omega)
      have nz : ¬ nI n + 1 = 0 := by rw [nI_1 n]; exact nI_ne0 (by omega) (by omega)
      have e64 : (64 : Int32) + nI k = nI (16 * 4 + k) := nI_add 64 k
      have st : ∀ v : Fin 5, v = (if k % (n + 1) = 0 then 1 else 0) → wY_order_82 post J (wY_order_41 post J x1 x2 (nI n) (sd_ea 16 R) (sd_v1 Mi) (sd_v1 Te) (sd_v1 Di) (sd_v1 Ot) (sd_ea 5 Fa) (sd_ea 5 Ke) (sd_ea 16 Ro) (e + 1)) x1 x2 g (nI k) (sd_eI v) (sd_eI (R 4 k)) (nI n) (sd_ea 16 R) (sd_v1 Mi) (sd_v1 Te) (sd_v1 Di) (sd_v1 Ot) (sd_ea 5 Fa) (sd_ea 5 Ke) (sd_ea 16 Ro) := by
        intro v hv
        by_cases c : R 4 k = v
        · refine br_t (by rw [c]) (nm_r (nI_1 k) (ih (k + 1) g (by omega) ?_))
          rcases h with ⟨h1, h2⟩ | h
          · refine Or.inl ⟨h1, fun y hy => ?_⟩
            by_cases ey : y = k
            · rw [ey, c, hv]
            · exact h2 y (by omega)
          · exact Or.inr h
        · refine br_f (fun z => c ((sd_eI_i _ _).mp z)) (nm_r (nI_1 k) (ih (k + 1) 0 (by omega) (Or.inr ⟨rfl, fun z => c ?_⟩)))
          rw [z k (by omega), hv]
      refine br_f (by rw [fnn]; exact nI_ge (by omega) (by omega)) ?_
      rw [rem, e64, sd_clN (by omega), sd_ea_r (by omega)]
      refine ⟨vp_in_nI (by omega) (by omega), nz, ?_⟩
      by_cases c2 : k % (n + 1) = 0
      · exact br_t (by rw [c2]; decide) (st 1 (if_pos c2).symm)
      · have ml : k % (n + 1) ≤ k := Nat.mod_le _ _
        exact br_f (nI_ne0 (by omega) (by omega)) (st 0 (if_neg c2).symm)
  exact lp (n * n) 0 1 (by omega) (Or.inl ⟨rfl, fun y hy => absurd hy (by omega)⟩)
theorem yd_or_l {post : Int32 → SY → Prop} {a r : Nat} {A : sd_M} (ha : a < 4) (h1n : 1 ≤ n) (hn : n ≤ 4) (oA : sd_ok n A) (h4 : ∀ i j, i < n → j < n → R 4 (n * i + j) = A i j) (hA : ∀ i j, i < n → j < n → R a (n * i + j) = A i j) (r0 : 0 < r) (r624 : r ≤ 624) (hp : ∀ k, sd_pw n A k = sd_I n ↔ r ∣ k)
    (K : ∀ R', (∀ m x, m < 4 → x < 16 → R' m x = R m x) → post (nI r) (nI n, sd_ea 16 R', sd_v1 Mi, sd_v1 Te, sd_v1 Di, sd_v1 Ot, sd_ea 5 Fa, sd_ea 5 Ke, sd_ea 16 Ro)) : ∃ n29, wY_order_29 post (nI a) n29 1 (nI n) (sd_ea 16 R) (sd_v1 Mi) (sd_v1 Te) (sd_v1 Di) (sd_v1 Ot) (sd_ea 5 Fa) (sd_ea 5 Ke) (sd_ea 16 Ro) := by
  refine Exists.intro 625 ?_
  have lp : ∀ (e k : Nat) (H : Nat → Nat → Fin 5), k + e = 625 → 1 ≤ k → k ≤ r → (∀ i j, i < n → j < n → H 4 (n * i + j) = sd_pw n A k i j) → (∀ m x, m < 4 → x < 16 → H m x = R m x) → wY_order_29 post (nI a) (e + 1) (nI k) (nI n) (sd_ea 16 H) (sd_v1 Mi) (sd_v1 Te) (sd_v1 Di) (sd_v1 Ot) (sd_ea 5 Fa) (sd_ea 5 Ke) (sd_ea 16 Ro) := by
    intro e
    induction e with
    | zero => intro k H hk k1 kr; omega
    | succ e ih =>
      intro k H hk k1 kr g4 fr
      have eqI : sd_isI n H ↔ sd_pw n A k = sd_I n := by
        constructor
        · intro z
          apply sd_ok_e (sd_pw_ok n A k) (sd_I_ok n)
          intro i j hi hj
          have bb := sd_ixb hn hi hj
          rw [← g4 i j hi hj, z _ bb.1, sd_I_v hi hj]
          have q := sd_idc n (by omega) i hi j hj
          by_cases c : i = j
          · rw [if_pos (q.mpr c), if_pos c]
          · have nq : ¬ (n * i + j) % (n + 1) = 0 := fun w => c (q.mp w)
            rw [if_neg nq, if_neg c]
        · intro z y hy
          have n0 : 0 < n := by omega
          have hi : y / n < n := Nat.div_lt_of_lt_mul hy
          have hj : y % n < n := Nat.mod_lt _ n0
          have ey : n * (y / n) + y % n = y := Nat.div_add_mod y n
          have q := sd_idc n (by omega) (y / n) hi (y % n) hj
          have g := g4 (y / n) (y % n) hi hj
          rw [ey] at q g
          rw [g, z, sd_I_v hi hj]
          by_cases c : y / n = y % n
          · rw [if_pos (q.mpr c), if_pos c]
          · have nq : ¬ y % (n + 1) = 0 := fun w => c (q.mp w)
            rw [if_neg nq, if_neg c]
      refine br_f (nI_nlt (a := 624) (by omega) (by omega)) (yd_or_chk hn h1n (fun z => ?_) (fun z => ?_))
      · have dv := (hp k).mp (eqI.mp z)
        have ek : k = r := Nat.le_antisymm kr (Nat.le_of_dvd k1 dv)
        rw [ek]; exact K H fr
      · have kn : k ≠ r := fun ek => z (eqI.mpr ((hp k).mpr (by rw [ek]; exact Nat.dvd_refl r)))
        refine yd_mulcopy (d := 4) (a := 4) (b := a) (by omega) (by omega) (by omega) hn (fun H2 k1' k2 => nm_r (nI_1 k) (ih (k + 1) H2 (by omega) (by omega) (by omega) (fun i j hi hj => ?_) (fun m x hm hx => ?_)))
        · rw [k1' i j hi hj]
          show _ = sd_x n (sd_pw n A k) A i j
          rw [sd_x_v hi hj]
          exact sd_m_c (fun l hl => g4 i l hi hl) (fun l hl => (fr a _ ha (sd_ixb hn hl hj).2).trans (hA l j hl hj))
        · rw [k2 m x (by omega) (by omega) hx, fr m x hm hx]
  refine lp 624 1 R (by omega) (by omega) r0 (fun i j hi hj => ?_) (fun _ _ _ _ => rfl)
  rw [h4 i j hi hj, sd_pw_1 oA]
end
theorem i_vc_order {k : Nat} {u : SX} {v : SY} (I : i_Rel k u v) (hk : k + 5 ≤ 2561) (v1 : Int32) : wpX_order (fun r u' => wpY_order (fun r' v' => r' = r ∧ i_Rel (k + 5) u' v') v v1) u v1 := by
  refine ir_el (P := fun u v => wpX_order (fun r u' => wpY_order (fun r' v' => r' = r ∧ i_Rel (k + 5) u' v') v v1) u v1) ?_ I
  intro n fc ic G Q fN fD bl iv kv R Fa Ke Ro Mi Te Di Ot hr
  have hr' := hr
  obtain ⟨h1, h4, hg⟩ := hr'
  unfold wpX_order wpY_order
  dsimp only
  rcases ir_reg v1 with h | ⟨a, ha, rfl⟩
  · exact xr_0 h (br_t rfl (yr_0 h (br_t rfl ⟨rfl, ir_mk hr⟩)))
  obtain ⟨N, D, hF⟩ := sd_fact_A (r := a) hr
  have hF' := hF
  obtain ⟨f1, f2, f4, _, f6, _, _, _⟩ := hF'
  obtain ⟨_, _, dl, _⟩ := f4
  obtain ⟨f60, f61⟩ := f6
  have oA := sd_A_ok n a R
  have dt0 : sd_cp n (sd_A n R a) 0 = 0 ↔ sd_dt n (sd_A n R a) = 0 := by
    obtain ⟨ev, od⟩ := sd_cp0 h1 h4 (sd_A n R a)
    by_cases p : n % 2 = 0
    · rw [ev p]
    · rw [od (by omega)]
      have : ∀ x : Fin 5, -x = 0 ↔ x = 0 := by decide
      exact this _
  by_cases c0 : sd_cp n (sd_A n R a) 0 = 0
  · have c5 := sd_nm_lt 5 (sd_cp n (sd_A n R a))
    have e55 : (5 : Nat) ^ 5 = 3125 := by decide
    have m0 : sd_nm 5 (sd_cp n (sd_A n R a)) % 5 = 0 := by
      have q := sd_dg_nm 5 (sd_cp n (sd_A n R a)) 0 (by omega)
      rw [sd_dg_h, c0] at q
      have := congrArg Fin.val q
      exact this
    have g5 : 5 ≤ sd_nm 5 (sd_cp n (sd_A n R a)) := by
      apply Classical.byContradiction
      intro hc
      have q := sd_dg_nm 5 (sd_cp n (sd_A n R a)) n (by omega)
      have l5 : sd_nm 5 (sd_cp n (sd_A n R a)) < 5 ^ 1 := by omega
      rw [sd_dg_dl l5 n (by omega), (sd_cp_mo h1 h4 (sd_A n R a)).1] at q
      exact absurd q (by decide)
    obtain ⟨L, eL⟩ := sd_fc5 (by omega) g5 m0
    have f1' : D.map Prod.fst = 5 :: L := (show D.map Prod.fst = _ from f1).trans eL
    refine xr_1 ha (br_f (by decide) (xd_analyse (N := N) (D := D) ha h1 h4 (sd_A_X hr ha) hF (fun G' Q' fN' fD' bl' iv' fr hDL _ => Exists.intro 1 ?_)))
    have dp : 0 < D.length := by
      have := congrArg List.length f1'
      rw [List.length_map, List.length_cons] at this
      omega
    have e0 : fN' 0 = 5 := by
      rw [(hDL 0 dp).1, ← sd_map_gd 0 dp, f1']; rfl
    refine br_f (nI_ge (a := 0) (by omega) (by omega)) ⟨vp_in_nI (n := 0) (by omega) (by omega), br_t ?_ (yr_1 ha (br_f (by decide) (yd_value (x := false) (A := sd_A n R a) (by omega) h4 h1 (fun i j hi hj => sd_A_v hi hj) rfl (fun Mi' Te' => br_t ?_ ⟨rfl, ir_mk (sd_rl2_c hr fr (fun _ _ _ _ => rfl))⟩))))⟩
    · show nI (fN' 0) = 5
      rw [e0]; rfl
    · show nI (sd_dt n (sd_A n R a)).val = 0
      rw [dt0.mp c0]; rfl
  · obtain ⟨k1, k2, k3, k4⟩ := f61 c0
    have n5 : ∀ z, z ∈ D → z.1 ≠ 5 := fun z hz e => c0 (f60.mpr (by rw [← e]; exact List.mem_map_of_mem hz))
    refine xr_1 ha (br_f (by decide) (xd_analyse (N := N) (D := D) ha h1 h4 (sd_A_X hr ha) hF (fun G' Q' fN' fD' bl' iv' fr hDL _ => xd_or_l hDL dl n5 (fun z hz => (f2 z hz).1) k1 (fun Q2 => yr_1 ha (br_f (by decide) (yd_value (x := false) (A := sd_A n R a) (by omega) h4 h1 (fun i j hi hj => sd_A_v hi hj) rfl (fun Mi' Te' => br_f ?_ (yd_copy (t := 4) (by omega) (by omega) (fun R1 r1 => yd_or_l (A := sd_A n R a) ha h1 h4 oA (fun i j hi hj => ?_) (fun i j hi hj => ?_) k2 k3 k4 (fun R2 r2 => ⟨rfl, ir_mk (sd_rl2_c hr fr (fun m x hm hx => ?_))⟩))))))))))
    · show ¬ nI (sd_dt n (sd_A n R a)).val = 0
      intro z
      exact c0 (dt0.mpr ((sd_eI_0 _).mp z))
    · rw [r1 4 _ (sd_ixb h4 hi hj).2, if_pos rfl]; exact sd_A_v hi hj
    · rw [r1 a _ (sd_ixb h4 hi hj).2, if_neg (by omega)]; exact sd_A_v hi hj
    · rw [r2 m x hm hx, r1 m x hx, if_neg (by omega)]
end
section
/-! ===== invert ===== -/
/-- a matrix without determinant has a smaller rank -/
theorem sd_dt_rk {n : Nat} (h1 : 1 ≤ n) (hn : n ≤ 4) (A : sd_M) (hd : sd_dt n A = 0) : ∃ r, r < n ∧ sd_rk n n A r := by
  have lp : ∀ m, 1 ≤ m → m ≤ n → (∀ a b : Nat → Nat, (∀ t, a t < n) → (∀ t, b t < n) → sd_so m a → sd_so m b → sd_det m A a b = 0) → ∃ r, r < m ∧ sd_rk n n A r := by
    intro m
    induction m with
    | zero => intro h; omega
    | succ m ih =>
      intro _ hm hz
      by_cases c : m = 0 ∨ (1 ≤ m ∧ m ≤ n ∧ ∃ a b : Nat → Nat, (∀ t, a t < n) ∧ (∀ t, b t < n) ∧ sd_so m a ∧ sd_so m b ∧ sd_det m A a b ≠ 0)
      · exact ⟨m, Nat.lt_succ_self m, sd_rk_min hn A c (fun _ => hz)⟩
      · have m1 : 1 ≤ m := by
          apply Classical.byContradiction
          intro z
          exact c (Or.inl (by omega))
        obtain ⟨r, hr, k⟩ := ih m1 (by omega) (fun a b ha hb sa sb => Classical.byContradiction (fun z => c (Or.inr ⟨m1, by omega, a, b, ha, hb, sa, sb, z⟩)))
        exact ⟨r, by omega, k⟩
  refine lp n h1 (Nat.le_refl n) (fun a b ha hb sa sb => ?_)
  rw [sd_det_id hn A (sd_so_id hn h1 ha sa) (sd_so_id hn h1 hb sb)]
  exact hd
theorem sd_sets : ∀ n, n < 5 → ∀ j, j < n → nI (2 ^ n - 1) &&& (((1 : Int32) <<< (nI j &&& 31)) ^^^ (-1)) = nI (2 ^ n - 1 - 2 ^ j) ∧ sd_sz (2 ^ n - 1 - 2 ^ j) = n - 1 ∧ 2 ^ n - 1 - 2 ^ j < 16 ∧ ∀ t, t < n - 1 → sd_el (2 ^ n - 1 - 2 ^ j) t = sd_sk j t := by decide +kernel
theorem sd_wl00 : sd_wl 0 0 256 = [0] := by decide +kernel
theorem sd_minor {n i j : Nat} (h1 : 1 ≤ n) (hn : n ≤ 4) (hi : i < n) (hj : j < n) (A : sd_M) : @sd_ls sd_P sd_R (sd_mm false A) (2 ^ n - 1 - 2 ^ j) (sd_wl (2 ^ n - 1 - 2 ^ j) (2 ^ n - 1 - 2 ^ i) 256) 0 = sd_det (n - 1) A (sd_sk j) (sd_sk i) := by
  obtain ⟨_, z1, l1, e1⟩ := sd_sets n (by omega) j hj
  obtain ⟨_, z2, l2, e2⟩ := sd_sets n (by omega) i hi
  by_cases c : n = 1
  · subst c
    have ei : i = 0 := by omega
    have ej : j = 0 := by omega
    subst ei ej
    show @sd_ls sd_P sd_R (sd_mm false A) 0 (sd_wl 0 0 256) 0 = 1
    rw [sd_wl00]
    rfl
  · rw [@sd_ways sd_P sd_R (sd_mm false A) _ _ (n - 1) l1 l2 (by omega) z1 z2]
    rw [@sd_det_cc sd_P sd_R (n - 1) (by omega) (sd_mm false A) _ _ _ _ e1 e2]
    show @sd_det sd_P sd_R (n - 1) (sd_km A) (sd_sk j) (sd_sk i) 0 = _
    rw [sd_km_det A (n - 1) (by omega)]
    rfl
theorem sd_wi1 : ∀ m b : Fin 5, ((sd_eI m * 1) * sd_eI b) - ((sd_eI m * 1) * sd_eI b) / 5 * 5 = sd_eI (b * (1 * m)) := by decide +kernel
theorem sd_wi4 : ∀ m b : Fin 5, ((sd_eI m * 4) * sd_eI b) - ((sd_eI m * 4) * sd_eI b) / 5 * 5 = sd_eI (b * (-1 * m)) := by decide +kernel
section
variable {n fc ic : Nat} {G Q : Nat → Nat → Fin 5} {fN fD bl iv kv : Nat → Nat} {R Fa Ke Ro : Nat → Nat → Fin 5} {Mi Te Di Ot : Nat → Fin 5}
theorem yd_inv_row {post : Int32 → SY → Prop} {J : Int32 → Int32 → (Nat → Int32) → (Nat → Int32) → (Nat → Int32) → (Nat → Int32) → (Nat → Int32) → (Nat → Int32) → (Nat → Int32) → (Nat → Int32) → Prop} {a i : Nat} {x1 : Int32} {b : Fin 5} {A : sd_M} (ha : a < 4) (h1n : 1 ≤ n) (hn : n ≤ 4) (hi : i < n) (hA : ∀ i j, i < n → j < n → R a (n * i + j) = A i j)
    (h0 : ∀ i' j, i' < i → j < n → R 4 (n * i' + j) = b * sd_adj n A i' j)
    (K : ∀ R' Mi' Te', (∀ i' j, i' < i + 1 → j < n → R' 4 (n * i' + j) = b * sd_adj n A i' j) → (∀ m x, m ≠ 4 → x < 16 → R' m x = R m x) → J (nI (i + 1)) (nI n) (sd_ea 16 R') (sd_v1 Mi') (sd_v1 Te') (sd_v1 Di) (sd_v1 Ot) (sd_ea 5 Fa) (sd_ea 5 Ke) (sd_ea 16 Ro)) : ∃ n65, wY_invert_65 post J x1 (nI a) (nI (2 ^ n - 1)) (sd_eI b) (nI i) n65 0 (nI n) (sd_ea 16 R) (sd_v1 Mi) (sd_v1 Te) (sd_v1 Di) (sd_v1 Ot) (sd_ea 5 Fa) (sd_ea 5 Ke) (sd_ea 16 Ro) := by
  refine Exists.intro (n + 1) ?_
  have lp : ∀ (e k : Nat) (H : Nat → Nat → Fin 5) (M T : Nat → Fin 5), k + e = n → (∀ i' j, i' < n → j < n → (i' < i ∨ (i' = i ∧ j < k)) → H 4 (n * i' + j) = b * sd_adj n A i' j) → (∀ m x, m ≠ 4 → x < 16 → H m x = R m x) → wY_invert_65 post J x1 (nI a) (nI (2 ^ n - 1)) (sd_eI b) (nI i) (e + 1) (nI k) (nI n) (sd_ea 16 H) (sd_v1 M) (sd_v1 T) (sd_v1 Di) (sd_v1 Ot) (sd_ea 5 Fa) (sd_ea 5 Ke) (sd_ea 16 Ro) := by
    intro e
    induction e with
    | zero =>
      intro k H M T hk hh fr
      refine br_t (nI_le (by omega) (by omega)) (nm_r (nI_1 i) (K H M T (fun i' j hi' hj => hh i' j (by omega) hj (by omega)) fr))
    | succ e ih =>
      intro k H M T hk hh fr
      obtain ⟨s1, _, l1, _⟩ := sd_sets n (by omega) k (by omega)
      obtain ⟨s2, _, l2, _⟩ := sd_sets n (by omega) i hi
      have p1 : 1 ≤ 2 ^ n := Nat.pow_pos (by omega)
      have p2 : 1 ≤ 2 ^ k := Nat.pow_pos (by omega)
      have p3 : 1 ≤ 2 ^ i := Nat.pow_pos (by omega)
      have bb := sd_ixb hn hi (by omega : k < n)
      refine br_f (nI_ge (by omega) (by omega)) ?_
      rw [s1, s2]
      refine yd_findMinor (x := false) (A := A) (by omega) hn (fun i' j hi' hj => (fr a _ (by omega) (sd_ixb hn hi' hj).2).trans (hA i' j hi' hj)) (by omega) (by omega) rfl (fun M' T' hM => ⟨by decide, ?_⟩)
      have m0 : M' 0 = sd_det (n - 1) A (sd_sk k) (sd_sk i) := (hM 0 (by omega)).trans (sd_minor h1n hn hi (by omega) A)
      have ix : ((64 : Int32) + (nI n * nI i)) + nI k = nI (16 * 4 + (n * i + k)) := sd_ixY 4 n i k
      have rem : (nI i + nI k) - (nI i + nI k) / 2 * 2 = nI ((i + k) % 2) := by
        rw [nI_add]; exact pk_rem (d := 2) (by omega) (by omega) (by omega)
      have st : ∀ v : Fin 5, v = b * sd_adj n A i k → (∀ i' j, i' < n → j < n → (i' < i ∨ (i' = i ∧ j < k + 1)) → sd_u H 4 (n * i + k) v 4 (n * i' + j) = b * sd_adj n A i' j) ∧ (∀ m x, m ≠ 4 → x < 16 → sd_u H 4 (n * i + k) v m x = R m x) := by
        intro v hv
        refine ⟨fun i' j hi' hj hc => ?_, fun m x hm hx => ?_⟩
        · by_cases ec : i' = i ∧ j = k
          · obtain ⟨rfl, rfl⟩ := ec
            rw [sd_u_s, hv]
          · have ne : ¬ ((4 : Nat) = 4 ∧ n * i' + j = n * i + k) := fun z => ec (sd_ixn hj (by omega) z.2)
            rw [sd_u_n ne]
            exact hh i' j hi' hj (by omega)
        · rw [sd_u_n (fun z => hm z.1)]; exact fr m x hm hx
      rw [rem]
      have em : sd_v1 M' 0 = sd_eI (sd_det (n - 1) A (sd_sk k) (sd_sk i)) := by show sd_eI (M' 0) = _; rw [m0]
      by_cases c : (i + k) % 2 = 0
      · have hv : b * (1 * sd_det (n - 1) A (sd_sk k) (sd_sk i)) = b * sd_adj n A i k := by
          unfold sd_adj sd_sg; rw [if_pos c]
        obtain ⟨u1, u2⟩ := st _ hv
        refine br_t (by rw [c]; decide) ⟨sd_50, ?_⟩
        rw [ix, sd_clN (by omega), em, sd_wi1, sd_ea_w bb.2]
        exact ⟨vp_in_nI (by omega) (by omega), nm_e (nm_r (nI_1 k) (ih (k + 1) _ M' T' (by omega) u1 u2))⟩
      · have hv : b * (-1 * sd_det (n - 1) A (sd_sk k) (sd_sk i)) = b * sd_adj n A i k := by
          unfold sd_adj sd_sg; rw [if_neg c]
        obtain ⟨u1, u2⟩ := st _ hv
        refine br_f (nI_ne0 (by omega) (by omega)) ⟨sd_50, ?_⟩
        rw [ix, sd_clN (by omega), em, sd_wi4, sd_ea_w bb.2]
        exact ⟨vp_in_nI (by omega) (by omega), nm_e (nm_r (nI_1 k) (ih (k + 1) _ M' T' (by omega) u1 u2))⟩
  exact lp n 0 R Mi Te (by omega) (fun i' j _ hj hc => h0 i' j (by omega) hj) (fun _ _ _ _ => rfl)
theorem yd_inv_l {post : Int32 → SY → Prop} {d a : Nat} {b : Fin 5} {A : sd_M} (hd : d < 4) (ha : a < 4) (h1n : 1 ≤ n) (hn : n ≤ 4) (hA : ∀ i j, i < n → j < n → R a (n * i + j) = A i j)
    (K : ∀ R' Mi' Te', (∀ i j, i < n → j < n → R' d (n * i + j) = b * sd_adj n A i j) → (∀ m x, m < 4 → m ≠ d → x < 16 → R' m x = R m x) → post 1 (nI n, sd_ea 16 R', sd_v1 Mi', sd_v1 Te', sd_v1 Di, sd_v1 Ot, sd_ea 5 Fa, sd_ea 5 Ke, sd_ea 16 Ro)) : ∃ n53, wY_invert_53 post (nI d) (nI a) (nI (2 ^ n - 1)) (sd_eI b) n53 0 (nI n) (sd_ea 16 R) (sd_v1 Mi) (sd_v1 Te) (sd_v1 Di) (sd_v1 Ot) (sd_ea 5 Fa) (sd_ea 5 Ke) (sd_ea 16 Ro) := by
  refine Exists.intro (n + 1) ?_
  have lp : ∀ (e i : Nat) (H : Nat → Nat → Fin 5) (M T : Nat → Fin 5), i + e = n → (∀ i' j, i' < i → j < n → H 4 (n * i' + j) = b * sd_adj n A i' j) → (∀ m x, m ≠ 4 → x < 16 → H m x = R m x) → wY_invert_53 post (nI d) (nI a) (nI (2 ^ n - 1)) (sd_eI b) (e + 1) (nI i) (nI n) (sd_ea 16 H) (sd_v1 M) (sd_v1 T) (sd_v1 Di) (sd_v1 Ot) (sd_ea 5 Fa) (sd_ea 5 Ke) (sd_ea 16 Ro) := by
    intro e
    induction e with
    | zero =>
      intro i H M T hi hh fr
      refine br_t (nI_le (by omega) (by omega)) (yd_copy (f := 4) (by omega) (by omega) (fun R' r' => K R' M T (fun i' j hi' hj => ?_) (fun m x hm hmd hx => ?_)))
      · rw [r' d _ (sd_ixb hn hi' hj).2, if_pos rfl]; exact hh i' j (by omega) hj
      · rw [r' m x hx, if_neg hmd]; exact fr m x (by omega) hx
    | succ e ih =>
      intro i H M T hi hh fr
      exact br_f (nI_ge (by omega) (by omega)) (yd_inv_row ha h1n hn (by omega) (fun i' j hi' hj => (fr a _ (by omega) (sd_ixb hn hi' hj).2).trans (hA i' j hi' hj)) hh (fun R' M' T' k1 k2 => ih (i + 1) R' M' T' (by omega) k1 (fun m x hm hx => (k2 m x hm hx).trans (fr m x hm hx))))
  exact lp n 0 R Mi Te (by omega) (fun i' j hi' _ => absurd hi' (by omega)) (fun _ _ _ _ => rfl)
end
theorem i_vc_invert {k : Nat} {u : SX} {v : SY} (I : i_Rel k u v) (hk : k + 5 ≤ 2561) (v1 : Int32) (v2 : Int32) : wpX_invert (fun r u' => wpY_invert (fun r' v' => r' = r ∧ i_Rel (k + 5) u' v') v v1 v2) u v1 v2 := by
  refine ir_el (P := fun u v => wpX_invert (fun r u' => wpY_invert (fun r' v' => r' = r ∧ i_Rel (k + 5) u' v') v v1 v2) u v1 v2) ?_ I
  intro n fc ic G Q fN fD bl iv kv R Fa Ke Ro Mi Te Di Ot hr
  have hr' := hr
  obtain ⟨h1, h4, hg⟩ := hr'
  unfold wpX_invert wpY_invert
  dsimp only
  rcases ir_reg v1 with h | ⟨d, hd, rfl⟩
  · exact xr_0 h (br_t rfl (yr_0 h (br_t rfl ⟨rfl, ir_mk hr⟩)))
  rcases ir_reg v2 with h | ⟨a, ha, rfl⟩
  · exact xr_1 hd (br_f (by decide) (xr_0 h (br_t rfl (yr_1 hd (br_f (by decide) (yr_0 h (br_t rfl ⟨rfl, ir_mk hr⟩)))))))
  have p1 : 1 ≤ 2 ^ n := Nat.pow_pos (by omega)
  have eall : ((1 : Int32) <<< (nI n &&& 31)) - 1 = nI (2 ^ n - 1) := by
    rw [sd_pow2 n (by omega)]; exact pk_sub (b := 1) p1
  have gA : ∀ i j, i < n → j < n → G a (4 * i + j) = sd_A n R a i j := fun i j hi hj => (hg a i j ha hi hj).trans (sd_A_v hi hj)
  refine xr_1 hd (br_f (by decide) (xr_1 ha (br_f (by decide) (xd_copy (t := 5) (by omega) (by omega) (fun H1 f1 => xd_setIdentity (m := 6) (by omega) (fun H2 f2 f2' => xd_eliminate (A := sd_A n R a) h4 ?_ (fun H3 r e s fr => ?_)))))))
  · have g5 : ∀ i j, i < n → j < n → H2 5 (4 * i + j) = sd_A n R a i j := by
      intro i j hi hj
      rw [f2' 5 _ (by omega) (by omega), f1 5 _ (by omega), if_pos rfl]
      exact gA i j hi hj
    refine ⟨?_, ?_⟩
    · intro i j hi hj
      have e1 : sd_m n (fun i k => H2 6 (4 * i + k)) (sd_A n R a) i j = sd_m n sd_1 (sd_A n R a) i j := sd_m_c (fun l hl => f2 i l (by omega) (by omega)) (fun _ _ => rfl)
      rw [e1, sd_1_m hi]
      exact g5 i j hi hj
    · intro i hi
      refine ⟨sd_e i, fun j hj => ?_⟩
      rw [sd_s_e' hi (fun l => H2 5 (4 * l + j))]
      exact (g5 i j hi hj).symm
  have oA := sd_A_ok n a R
  have rk := sd_XS_rk e s
  have rn := sd_rk_n rk
  have fr4 : ∀ m x, m < 4 → x < 16 → H3 m x = G m x := by
    intro m x hm hx
    rw [fr m x (by omega) (by omega) hx, f2' m x (by omega) hx, f1 m x hx, if_neg (by omega)]
  by_cases c : n ≤ r
  · have er : r = n := by omega
    subst er
    have dn : sd_dt r (sd_A r R a) ≠ 0 := by
      intro z
      obtain ⟨q, hq, kq⟩ := sd_dt_rk h1 h4 _ z
      have := sd_rk_u rk kq
      omega
    have hM := sd_XS_id h4 s
    obtain ⟨v1', _⟩ := sd_inv h1 h4 (sd_A r R a) dn
    have clA : sd_cl r (sd_A r R a) = sd_A r R a := sd_ok_e (sd_cl_ok r _) oA (fun i j hi hj => sd_cl_v hi hj)
    rw [clA] at v1'
    have oO : sd_x r (sd_cl r (fun i k => H3 6 (4 * i + k))) (sd_A r R a) = sd_I r := by
      apply sd_ok_e (sd_x_ok r _ _) (sd_I_ok r)
      intro i j hi hj
      rw [sd_x_v hi hj, sd_I_v hi hj, ← hM i j hi hj]
      refine Eq.trans ?_ (e.1 i j hi hj).symm
      exact sd_m_c (fun l hl => sd_cl_v hi hl) (fun _ _ => rfl)
    have eO : sd_cl r (fun i k => H3 6 (4 * i + k)) = sd_cl r (fun i j => sd_i (sd_dt r (sd_A r R a)) * sd_adj r (sd_A r R a) i j) := by
      have q := sd_x_as r (sd_cl r (fun i k => H3 6 (4 * i + k))) (sd_A r R a) (sd_cl r (fun i j => sd_i (sd_dt r (sd_A r R a)) * sd_adj r (sd_A r R a) i j))
      rw [v1', oO, sd_x_I (sd_cl_ok r _), sd_I_x (sd_cl_ok r _)] at q
      exact q.symm
    refine br_t (nI_le (by omega) (by omega)) (xd_copy (f := 6) (by omega) (by omega) (fun H4 g4 => yr_1 hd (br_f (by decide) (yr_1 ha (br_f (by decide) (nm_e ?_))))))
    rw [eall]
    refine yd_value (x := false) (A := sd_A r R a) (by omega) h4 h1 (fun i j hi hj => sd_A_v hi hj) rfl (fun Mi' Te' => br_f ?_ (yd_inverse (p := sd_dt r (sd_A r R a)) (yd_inv_l (A := sd_A r R a) hd ha h1 h4 (fun i j hi hj => sd_A_v hi hj) (fun R' M' T' k1 k2 => ⟨rfl, ir_mk ⟨h1, h4, fun m i j hm hi hj => ?_⟩⟩))))
    · intro z
      exact dn ((sd_eI_0 _).mp z)
    · by_cases em : m = d
      · subst em
        rw [g4 m _ (by omega), if_pos rfl, k1 i j hi hj]
        have z := congrFun (congrFun eO i) j
        rw [sd_cl_v hi hj, sd_cl_v hi hj] at z
        exact z
      · rw [g4 m _ (by omega), if_neg em, fr4 m _ hm (by omega), k2 m _ hm em (sd_ixb h4 hi hj).2, hg m i j hm hi hj]
  · have d0 : sd_dt n (sd_A n R a) = 0 := by
      apply Classical.byContradiction
      intro z
      have q := sd_ge_le (sd_ge_det h1 h4 (sd_A n R a) (fun t => if t < n then t else 0) (fun t => if t < n then t else 0) (fun t => by split <;> omega) (fun t => by split <;> omega) (by rw [sd_det_id h4 _ (fun t ht => if_pos ht) (fun t ht => if_pos ht)]; exact z)) rk.2
      omega
    refine br_f (nI_ge (by omega) (by omega)) (yr_1 hd (br_f (by decide) (yr_1 ha (br_f (by decide) (nm_e (yd_value (x := false) (A := sd_A n R a) (by omega) h4 h1 (fun i j hi hj => sd_A_v hi hj) rfl (fun Mi' Te' => br_t ?_ ⟨rfl, ir_mk (sd_rl2_c hr fr4 (fun _ _ _ _ => rfl))⟩)))))))
    show nI (sd_dt n (sd_A n R a)).val = 0
    rw [d0]; rfl
end
section
/-! ===== normal ===== -/
def sd_b1 (st x : Nat) (W : sd_M) : sd_M := if x = 0 then W else sd_u W (st + x) (st + x - 1) 1
def sd_b2 (st d x : Nat) (v : Fin 5) (W : sd_M) : sd_M := sd_u W (st + x) (st + d - 1) (W (st + x) (st + d - 1) - v)
def sd_bs (st d : Nat) (p : Nat → Fin 5) : Nat → sd_M → sd_M
  | 0, W => W
  | x + 1, W => sd_b2 st d x (p x) (sd_b1 st x (sd_bs st d p x W))
theorem sd_bs_c (st d : Nat) (p q : Nat → Fin 5) : ∀ (x : Nat) (W : sd_M), (∀ y, y < x → p y = q y) → sd_bs st d p x W = sd_bs st d q x W := by
  intro x
  induction x with
  | zero => intro W _; rfl
  | succ x ih =>
    intro W h
    show sd_b2 st d x (p x) (sd_b1 st x (sd_bs st d p x W)) = sd_b2 st d x (q x) (sd_b1 st x (sd_bs st d q x W))
    rw [ih W (fun y hy => h y (by omega)), h x (by omega)]
noncomputable def sd_nf (N e : Nat → Nat) : Nat → sd_M
  | 0 => fun _ _ => 0
  | t + 1 => sd_bs (sd_sN t e) (e t) (sd_dg (N t)) (e t) (sd_nf N e t)
theorem sd_sN_s2 (t : Nat) (e : Nat → Nat) : sd_sN (t + 1) e = sd_sN t e + e t := rfl
theorem sd_sN_mono (e : Nat → Nat) (a b : Nat) : sd_sN a e ≤ sd_sN (a + b) e := by
  induction b with
  | zero => exact Nat.le_refl _
  | succ b ih =>
    have := sd_sN_s2 (a + b) e
    have h2 : a + (b + 1) = a + b + 1 := rfl
    rw [h2]; omega
theorem sd_nf_0 {N e : Nat → Nat} : ∀ t, (∀ s, s < t → e s = 0) → sd_nf N e t = (fun _ _ => 0) ∧ sd_sN t e = 0 := by
  intro t
  induction t with
  | zero => intro _; exact ⟨rfl, rfl⟩
  | succ t ih =>
    intro h
    obtain ⟨a, b⟩ := ih (fun s hs => h s (by omega))
    have e0 := h t (by omega)
    refine ⟨?_, ?_⟩
    · show sd_bs (sd_sN t e) (e t) (sd_dg (N t)) (e t) (sd_nf N e t) = _
      rw [e0]; exact a
    · rw [sd_sN_s2, b, e0]
theorem sd_mo_u {p : sd_P} {d e : Nat} (h : sd_mo p d) (h' : sd_mo p e) : d = e := by
  apply Classical.byContradiction
  intro c
  by_cases l : d < e
  · have := h.2 e (by omega)
    rw [h'.1] at this
    exact absurd this (by decide)
  · have := h'.2 d (by omega)
    rw [h.1] at this
    exact absurd this (by decide)
theorem sd_pr_mo {N e : Nat → Nat} : ∀ k, (∀ t, t < k → N t / 5 ^ e t = 1) → sd_mo (@sd_pr sd_P sd_R k (fun t => sd_dg (N t))) (sd_sN k e) := by
  intro k
  induction k with
  | zero => intro _; exact sd_mo_1
  | succ k ih =>
    intro h
    exact sd_mo_pm (ih (fun t ht => h t (by omega))) (sd_dg_mo (h k (by omega)))
theorem sd_degs {n : Nat} {A : sd_M} {N e : Nat → Nat} (h1 : 1 ≤ n) (h4 : n ≤ 4) (oA : sd_ok n A) (f9 : sd_F9 n A N) (he : ∀ t, t < n → N t / 5 ^ e t = 1) : sd_sN n e = n := by
  have q := sd_gcd_u h1 oA oA (sd_sim_r oA) (f9.2 n h1 (Nat.le_refl n)) (sd_cp_gcd h1 h4 A)
  have m1 := sd_pr_mo n he
  rw [q] at m1
  exact sd_mo_u m1 (sd_cp_mo h1 h4 A)
theorem sd_w8 : ∀ a b : Fin 5, (sd_eI a + (4 * sd_eI b)) - (sd_eI a + (4 * sd_eI b)) / 5 * 5 = sd_eI (a - b) := by decide +kernel
section
variable {n fc ic : Nat} {G Q : Nat → Nat → Fin 5} {fN fD bl iv kv : Nat → Nat} {R Fa Ke Ro : Nat → Nat → Fin 5} {Mi Te Di Ot : Nat → Fin 5}
theorem sd_uX {m i0 j0 : Nat} {v : Fin 5} {W : sd_M} (hn : n ≤ 4) (hi0 : i0 < n) (hj0 : j0 < n) (h : ∀ i j, i < n → j < n → G m (4 * i + j) = W i j) : ∀ i j, i < n → j < n → sd_u G m (4 * i0 + j0) v m (4 * i + j) = sd_u W i0 j0 v i j := by
  intro i j hi hj
  by_cases c : i = i0 ∧ j = j0
  · obtain ⟨rfl, rfl⟩ := c
    rw [sd_u_s, sd_u_s]
  · have ne : ¬ (m = m ∧ 4 * i + j = 4 * i0 + j0) := fun z => c (by omega)
    rw [sd_u_n ne, sd_u_n c]; exact h i j hi hj
theorem sd_uY {m i0 j0 : Nat} {v : Fin 5} {W : sd_M} (hn : n ≤ 4) (hi0 : i0 < n) (hj0 : j0 < n) (h : ∀ i j, i < n → j < n → R m (n * i + j) = W i j) : ∀ i j, i < n → j < n → sd_u R m (n * i0 + j0) v m (n * i + j) = sd_u W i0 j0 v i j := by
  intro i j hi hj
  by_cases c : i = i0 ∧ j = j0
  · obtain ⟨rfl, rfl⟩ := c
    rw [sd_u_s, sd_u_s]
  · have ne : ¬ (m = m ∧ n * i + j = n * i0 + j0) := fun z => c (sd_ixn hj hj0 z.2)
    rw [sd_u_n ne, sd_u_n c]; exact h i j hi hj
theorem xd_pc30 {post : SX → Prop} {J : Int32 → Int32 → Int32 → Int32 → (Nat → Int32) → (Nat → Int32) → (Nat → Int32) → (Nat → Int32) → (Nat → Int32) → (Nat → Int32) → (Nat → Int32) → Prop} {m st d x : Nat} (hm : m < 4) (hx : x < d) (hs : st + d ≤ 4) (K : J (nI (x + 1)) (nI n) (nI fc) (nI ic) (sd_ea 16 (sd_u G m (4 * (st + x) + (st + d - 1)) (G m (4 * (st + x) + (st + d - 1)) - Q 1 x))) (sd_ea 10 Q) (sd_nv fN) (sd_nv fD) (sd_nv bl) (sd_nv iv) (sd_nv kv)) : wX_putCompanion_30 post J (nI m) (nI st) (nI d) (nI x) (nI n) (nI fc) (nI ic) (sd_ea 16 G) (sd_ea 10 Q) (sd_nv fN) (sd_nv fD) (sd_nv bl) (sd_nv iv) (sd_nv kv) := by
  unfold wX_putCompanion_30
  have e1 : nI (st + d) - 1 = nI (st + d - 1) := pk_sub (b := 1) (by omega)
  have e10 : (10 : Int32) + nI x = nI (10 * 1 + x) := nI_add 10 x
  rw [nI_add st x, nI_add st d, e1, e10]
  refine xd_entry (by omega) (by omega) (by omega) ⟨vp_in_nI (by omega) (by omega), nm_e ⟨sd_50, ?_⟩⟩
  rw [sd_clN (by omega), sd_ea_r (by omega)]
  exact xd_setEntry (by omega) (by omega) (by omega) (sd_w8 _ _) (nm_r (nI_1 x) K)
theorem xd_putCompanion {post : SX → Prop} {m st d : Nat} {W : sd_M} (hm : m < 4) (hn : n ≤ 4) (hs : st + d ≤ n) (hW : ∀ i j, i < n → j < n → G m (4 * i + j) = W i j)
    (K : ∀ G', (∀ i j, i < n → j < n → G' m (4 * i + j) = sd_bs st d (Q 1) d W i j) → (∀ a x, a ≠ m → x < 16 → G' a x = G a x) → post (nI n, nI fc, nI ic, sd_ea 16 G', sd_ea 10 Q, sd_nv fN, sd_nv fD, sd_nv bl, sd_nv iv, sd_nv kv)) : wpX_putCompanion post (nI n, nI fc, nI ic, sd_ea 16 G, sd_ea 10 Q, sd_nv fN, sd_nv fD, sd_nv bl, sd_nv iv, sd_nv kv) (nI m) (nI st) (nI d) := by
  refine Exists.intro (d + 1) ?_
  have lp : ∀ (e x : Nat) (H : Nat → Nat → Fin 5), x + e = d → (∀ i j, i < n → j < n → H m (4 * i + j) = sd_bs st d (Q 1) x W i j) → (∀ a x, a ≠ m → x < 16 → H a x = G a x) → wX_putCompanion_3 post (nI m) (nI st) (nI d) (e + 1) (nI x) (nI n) (nI fc) (nI ic) (sd_ea 16 H) (sd_ea 10 Q) (sd_nv fN) (sd_nv fD) (sd_nv bl) (sd_nv iv) (sd_nv kv) := by
    intro e
    induction e with
    | zero =>
      intro x H hx h1 h2
      have ex : x = d := by omega
      subst ex
      exact br_t (nI_le (Nat.le_refl _) (by omega)) (K H h1 h2)
    | succ e ih =>
      intro x H hx h1 h2
      have go : ∀ H1 : Nat → Nat → Fin 5, (∀ i j, i < n → j < n → H1 m (4 * i + j) = sd_b1 st x (sd_bs st d (Q 1) x W) i j) → (∀ a x, a ≠ m → x < 16 → H1 a x = G a x) → wX_putCompanion_30 post (wX_putCompanion_3 post (nI m) (nI st) (nI d) (e + 1)) (nI m) (nI st) (nI d) (nI x) (nI n) (nI fc) (nI ic) (sd_ea 16 H1) (sd_ea 10 Q) (sd_nv fN) (sd_nv fD) (sd_nv bl) (sd_nv iv) (sd_nv kv) := by
        intro H1 g1 g2
        refine xd_pc30 hm (by omega) (by omega) (ih (x + 1) _ (by omega) ?_ (fun a y ha hy => ?_))
        · rw [g1 (st + x) (st + d - 1) (by omega) (by omega)]
          exact sd_uX hn (by omega) (by omega) g1
        · rw [sd_u_n (fun z => ha z.1)]; exact g2 a y ha hy
      refine br_f (nI_ge (by omega) (by omega)) ?_
      by_cases c : x = 0
      · subst c
        exact br_t (by decide) (go H h1 h2)
      · have e1 : nI (st + x) - 1 = nI (st + x - 1) := pk_sub (b := 1) (by omega)
        refine br_f (nI_ge (a := 0) (by omega) (by omega)) ?_
        rw [nI_add st x, e1]
        refine xd_setEntry (v := 1) (by omega) (by omega) (by omega) rfl (go _ ?_ (fun a y ha hy => ?_))
        · unfold sd_b1; rw [if_neg c]
          exact sd_uX hn (by omega) (by omega) h1
        · rw [sd_u_n (fun z => ha z.1)]; exact h2 a y ha hy
  exact lp d 0 G (by omega) hW (fun _ _ _ _ => rfl)
theorem yd_n117 {post : Int32 → SY → Prop} {J54 : Int32 → Int32 → (Nat → Int32) → (Nat → Int32) → (Nat → Int32) → (Nat → Int32) → (Nat → Int32) → (Nat → Int32) → (Nat → Int32) → (Nat → Int32) → Prop} {J74 : Int32 → (Nat → Int32) → (Nat → Int32) → (Nat → Int32) → (Nat → Int32) → (Nat → Int32) → (Nat → Int32) → (Nat → Int32) → (Nat → Int32) → Prop} {m st d x t : Nat} (hm : m < 4) (ht : t < 4) (hx : x < d) (hn : n ≤ 4) (hs : st + d ≤ n) (K : J74 (nI (x + 1)) (sd_ea 16 (sd_u R m (n * (st + x) + (st + d - 1)) (R m (n * (st + x) + (st + d - 1)) - Fa t x))) (sd_v1 Mi) (sd_v1 Te) (sd_v1 Di) (sd_v1 Ot) (sd_ea 5 Fa) (sd_ea 5 Ke) (sd_ea 16 Ro)) : wY_normal_117 post J54 J74 (nI m) (nI st) (nI t) (nI d) (nI x) (nI (16 * m + n * (st + x))) (nI n) (sd_ea 16 R) (sd_v1 Mi) (sd_v1 Te) (sd_v1 Di) (sd_v1 Ot) (sd_ea 5 Fa) (sd_ea 5 Ke) (sd_ea 16 Ro) := by
  unfold wY_normal_117
  have bb := sd_ixb hn (by omega : st + x < n) (by omega : st + d - 1 < n)
  have e1 : nI (16 * m + n * (st + x)) + nI st + nI d - 1 = nI (16 * m + (n * (st + x) + (st + d - 1))) := by
    rw [nI_add, nI_add]
    have := pk_sub (a := 16 * m + n * (st + x) + st + d) (b := 1) (by omega)
    refine this.trans ?_
    congr 1
    omega
  have e5 : (5 : Int32) * nI t + nI x = nI (5 * t + x) := by
    have e5 : (5 : Int32) * nI t = nI (5 * t) := pk_mul 5 t
    rw [e5, nI_add]
  rw [e1, e5, sd_clN (by omega), sd_clN (by omega), sd_ea_r bb.2, sd_ea_r (by omega), sd_w5, sd_ea_w bb.2]
  exact ⟨vp_in_nI (by omega) (by omega), vp_in_nI (by omega) (by omega), sd_50, vp_in_nI (by omega) (by omega), nm_e (nm_r (nI_1 x) K)⟩
theorem yd_put {post : Int32 → SY → Prop} {J54 : Int32 → Int32 → (Nat → Int32) → (Nat → Int32) → (Nat → Int32) → (Nat → Int32) → (Nat → Int32) → (Nat → Int32) → (Nat → Int32) → (Nat → Int32) → Prop} {m st d t : Nat} {W : sd_M} (hm : m < 4) (ht : t < 4) (hn : n ≤ 4) (hs : st + d ≤ n) (hW : ∀ i j, i < n → j < n → R m (n * i + j) = W i j)
    (K : ∀ R', (∀ i j, i < n → j < n → R' m (n * i + j) = sd_bs st d (Fa t) d W i j) → (∀ a x, a ≠ m → x < 16 → R' a x = R a x) → J54 (nI (st + d)) (nI (t + 1)) (sd_ea 16 R') (sd_v1 Mi) (sd_v1 Te) (sd_v1 Di) (sd_v1 Ot) (sd_ea 5 Fa) (sd_ea 5 Ke) (sd_ea 16 Ro)) : ∃ n74, wY_normal_74 post J54 (nI m) (nI st) (nI t) (nI d) (nI n) n74 0 (sd_ea 16 R) (sd_v1 Mi) (sd_v1 Te) (sd_v1 Di) (sd_v1 Ot) (sd_ea 5 Fa) (sd_ea 5 Ke) (sd_ea 16 Ro) := by
  refine Exists.intro (d + 1) ?_
  have lp : ∀ (e x : Nat) (H : Nat → Nat → Fin 5), x + e = d → (∀ i j, i < n → j < n → H m (n * i + j) = sd_bs st d (Fa t) x W i j) → (∀ a x, a ≠ m → x < 16 → H a x = R a x) → wY_normal_74 post J54 (nI m) (nI st) (nI t) (nI d) (nI n) (e + 1) (nI x) (sd_ea 16 H) (sd_v1 Mi) (sd_v1 Te) (sd_v1 Di) (sd_v1 Ot) (sd_ea 5 Fa) (sd_ea 5 Ke) (sd_ea 16 Ro) := by
    intro e
    induction e with
    | zero =>
      intro x H hx h1 h2
      have ex : x = d := by omega
      subst ex
      exact br_t (nI_le (Nat.le_refl _) (by omega)) (nm_r (nI_add st x) (nm_r (nI_1 t) (K H h1 h2)))
    | succ e ih =>
      intro x H hx h1 h2
      have e7 : (16 * nI m) + (nI n * (nI st + nI x)) = nI (16 * m + n * (st + x)) := by
        rw [nI_add, pk_mul, sd_ix16]
      have go : ∀ H1 : Nat → Nat → Fin 5, (∀ i j, i < n → j < n → H1 m (n * i + j) = sd_b1 st x (sd_bs st d (Fa t) x W) i j) → (∀ a x, a ≠ m → x < 16 → H1 a x = R a x) → wY_normal_117 post J54 (wY_normal_74 post J54 (nI m) (nI st) (nI t) (nI d) (nI n) (e + 1)) (nI m) (nI st) (nI t) (nI d) (nI x) (nI (16 * m + n * (st + x))) (nI n) (sd_ea 16 H1) (sd_v1 Mi) (sd_v1 Te) (sd_v1 Di) (sd_v1 Ot) (sd_ea 5 Fa) (sd_ea 5 Ke) (sd_ea 16 Ro) := by
        intro H1 g1 g2
        refine yd_n117 hm ht (by omega) hn hs (ih (x + 1) _ (by omega) ?_ (fun a y ha hy => ?_))
        · rw [g1 (st + x) (st + d - 1) (by omega) (by omega)]
          exact sd_uY hn (by omega) (by omega) g1
        · rw [sd_u_n (fun z => ha z.1)]; exact g2 a y ha hy
      refine br_f (nI_ge (by omega) (by omega)) (nm_r e7 ?_)
      by_cases c : x = 0
      · subst c
        exact br_t (by decide) (go H h1 h2)
      · have bb := sd_ixb hn (by omega : st + x < n) (by omega : st + x - 1 < n)
        have e1 : nI (16 * m + n * (st + x)) + nI st + nI x - 1 = nI (16 * m + (n * (st + x) + (st + x - 1))) := by
          rw [nI_add, nI_add]
          have := pk_sub (a := 16 * m + n * (st + x) + st + x) (b := 1) (by omega)
          refine this.trans ?_
          congr 1
          omega
        refine br_f (nI_ge (a := 0) (by omega) (by omega)) ?_
        rw [e1, sd_clN (by omega)]
        refine ⟨vp_in_nI (by omega) (by omega), nm_r (sd_ea_w (w := 16) bb.2 H 1) (go _ ?_ (fun a y ha hy => ?_))⟩
        · unfold sd_b1; rw [if_neg c]
          exact sd_uY hn (by omega) (by omega) h1
        · rw [sd_u_n (fun z => ha z.1)]; exact h2 a y ha hy
  exact lp d 0 R (by omega) hW (fun _ _ _ _ => rfl)
theorem xd_nz {post : Int32 → SX → Prop} {m : Nat} (hm : m < 4) (K : ∀ G', (∀ x, x < 16 → G' m x = 0) → (∀ a x, a ≠ m → x < 16 → G' a x = G a x) → ∃ n54 : Nat, wX_normal_54 post (nI m) n54 0 0 (nI n) (nI fc) (nI ic) (sd_ea 16 G') (sd_ea 10 Q) (sd_nv fN) (sd_nv fD) (sd_nv bl) (sd_nv iv) (sd_nv kv)) : ∃ n25, wX_normal_25 post (nI m) (nI n) (nI fc) (nI ic) n25 0 (sd_ea 16 G) (sd_ea 10 Q) (sd_nv fN) (sd_nv fD) (sd_nv bl) (sd_nv iv) (sd_nv kv) := by
  refine Exists.intro 17 ?_
  have lp : ∀ (e k : Nat) (H : Nat → Nat → Fin 5), k + e = 16 → (∀ x, x < k → H m x = 0) → (∀ a x, a ≠ m → x < 16 → H a x = G a x) → wX_normal_25 post (nI m) (nI n) (nI fc) (nI ic) (e + 1) (nI k) (sd_ea 16 H) (sd_ea 10 Q) (sd_nv fN) (sd_nv fD) (sd_nv bl) (sd_nv iv) (sd_nv kv) := by
    intro e
    induction e with
    | zero =>
      intro k H hk h1 h2
      have e : k = 16 := by omega
      subst e
      exact br_t (by decide) (K H h1 h2)
    | succ e ih =>
      intro k H hk h1 h2
      refine br_f (nI_ge (b := 16) (by omega) (by decide)) ?_
      rw [sd_ix16, sd_clN (by omega), sd_nb0]
      refine ⟨vp_in_nI (by omega) (by omega), nm_r (sd_ea_w (w := 16) (a := m) (b := k) (by omega) H 0) (nm_r (nI_1 k) (ih (k + 1) _ (by omega) (fun x hx => ?_) (fun a x ha hx => ?_)))⟩
      · by_cases e : x = k
        · subst e; exact sd_u_s
        · rw [sd_u_n (fun z => e z.2)]; exact h1 x (by omega)
      · rw [sd_u_n (fun z => ha z.1)]; exact h2 a x ha hx
  exact lp 16 0 G (by omega) (fun y hy => absurd hy (by omega)) (fun _ _ _ _ => rfl)
theorem yd_nz {post : Int32 → SY → Prop} {m : Nat} (hm : m < 4) (K : ∀ R', (∀ x, x < 16 → R' m x = 0) → (∀ a x, a ≠ m → x < 16 → R' a x = R a x) → ∃ n54 : Nat, wY_normal_54 post (nI m) (nI n) n54 0 0 (sd_ea 16 R') (sd_v1 Mi) (sd_v1 Te) (sd_v1 Di) (sd_v1 Ot) (sd_ea 5 Fa) (sd_ea 5 Ke) (sd_ea 16 Ro)) : ∃ n25, wY_normal_25 post (nI m) (nI n) n25 0 (sd_ea 16 R) (sd_v1 Mi) (sd_v1 Te) (sd_v1 Di) (sd_v1 Ot) (sd_ea 5 Fa) (sd_ea 5 Ke) (sd_ea 16 Ro) := by
  refine Exists.intro 17 ?_
  have lp : ∀ (e k : Nat) (H : Nat → Nat → Fin 5), k + e = 16 → (∀ x, x < k → H m x = 0) → (∀ a x, a ≠ m → x < 16 → H a x = R a x) → wY_normal_25 post (nI m) (nI n) (e + 1) (nI k) (sd_ea 16 H) (sd_v1 Mi) (sd_v1 Te) (sd_v1 Di) (sd_v1 Ot) (sd_ea 5 Fa) (sd_ea 5 Ke) (sd_ea 16 Ro) := by
    intro e
    induction e with
    | zero =>
      intro k H hk h1 h2
      have e : k = 16 := by omega
      subst e
      exact br_t (by decide) (K H h1 h2)
    | succ e ih =>
      intro k H hk h1 h2
      refine br_f (nI_ge (b := 16) (by omega) (by decide)) ?_
      rw [sd_ix16, sd_clN (by omega)]
      refine ⟨vp_in_nI (by omega) (by omega), nm_r (sd_ea_w (w := 16) (a := m) (b := k) (by omega) H 0) (nm_r (nI_1 k) (ih (k + 1) _ (by omega) (fun x hx => ?_) (fun a x ha hx => ?_)))⟩
      · by_cases e : x = k
        · subst e; exact sd_u_s
        · rw [sd_u_n (fun z => e z.2)]; exact h1 x (by omega)
      · rw [sd_u_n (fun z => ha z.1)]; exact h2 a x ha hx
  exact lp 16 0 R (by omega) (fun y hy => absurd hy (by omega)) (fun _ _ _ _ => rfl)
theorem xd_nl {post : Int32 → SX → Prop} {m : Nat} {N e : Nat → Nat} (hm : m < 4) (hn : n ≤ 4) (hic : ic ≤ n) (he : ∀ t, t < n → e t ≤ 4 ∧ N t / 5 ^ e t = 1) (hs : sd_sN n e = n) (e0 : ∀ t, t + ic < n → e t = 0) (hiv : ∀ q, q < ic → iv q = N (n - ic + q)) (h0 : ∀ x, x < 16 → G m x = 0)
    (K : ∀ G' Q', (∀ i j, i < n → j < n → G' m (4 * i + j) = sd_nf N e n i j) → (∀ a x, a ≠ m → x < 16 → G' a x = G a x) → post 1 (nI n, nI fc, nI ic, sd_ea 16 G', sd_ea 10 Q', sd_nv fN, sd_nv fD, sd_nv bl, sd_nv iv, sd_nv kv)) : ∃ n54, wX_normal_54 post (nI m) n54 0 0 (nI n) (nI fc) (nI ic) (sd_ea 16 G) (sd_ea 10 Q) (sd_nv fN) (sd_nv fD) (sd_nv bl) (sd_nv iv) (sd_nv kv) := by
  refine Exists.intro (ic + 1) ?_
  have lp : ∀ (f k : Nat) (H W : Nat → Nat → Fin 5), k + f = ic → (∀ i j, i < n → j < n → H m (4 * i + j) = sd_nf N e (n - ic + k) i j) → (∀ a x, a ≠ m → x < 16 → H a x = G a x) → wX_normal_54 post (nI m) (f + 1) (nI (sd_sN (n - ic + k) e)) (nI k) (nI n) (nI fc) (nI ic) (sd_ea 16 H) (sd_ea 10 W) (sd_nv fN) (sd_nv fD) (sd_nv bl) (sd_nv iv) (sd_nv kv) := by
    intro f
    induction f with
    | zero =>
      intro k H W hk h1 h2
      have ek : n - ic + k = n := by omega
      rw [ek] at h1
      exact br_t (nI_le (by omega) (by omega)) (K H W h1 h2)
    | succ f ih =>
      intro k H W hk h1 h2
      obtain ⟨d4, hmon⟩ := he (n - ic + k) (by omega)
      have Nl := sd_mon_lt d4 hmon
      have mo := sd_dg_mo hmon
      have mono := sd_sN_mono e (n - ic + k + 1) (ic - k - 1)
      rw [show n - ic + k + 1 + (ic - k - 1) = n by omega, hs, sd_sN_s2] at mono
      have l10 : N (n - ic + k) < 5 ^ 10 := Nat.lt_of_lt_of_le Nl (Nat.pow_le_pow_right (by omega) (by omega))
      refine br_f (nI_ge (by omega) (by omega)) ?_
      rw [sd_clN (by omega)]
      refine ⟨vp_in_nI (by omega) (by omega), ?_⟩
      have ei : sd_nv iv k = nI (N (n - ic + k)) := by show nI (iv k) = _; rw [hiv k (by omega)]
      rw [ei]
      refine xd_load (p := 1) (by omega) l10 (fun W1 q1 _ => xd_degreeOf (p := 1) (by omega) (fun t t10 z1 z2 => ?_))
      have et : t = e (n - ic + k) + 1 := by
        apply Classical.byContradiction
        intro c
        by_cases l : t ≤ e (n - ic + k)
        · have := z1 (e (n - ic + k)) l (by omega)
          rw [q1 _ (by omega), mo.1] at this
          exact absurd this (by decide)
        · rcases z2 with z2 | z2
          · omega
          · apply z2
            rw [q1 _ (by omega)]
            exact mo.2 _ (by omega)
      rw [et, pk_m1]
      refine xd_putCompanion hm hn (by omega) h1 (fun G2 g1 g2 => nm_r (nI_add _ _) (nm_r (nI_1 k) (ih (k + 1) G2 W1 (by omega) (fun i j hi hj => ?_) (fun a x ha hx => (g2 a x ha hx).trans (h2 a x ha hx)))))
      rw [g1 i j hi hj, sd_bs_c _ _ (W1 1) (sd_dg (N (n - ic + k))) _ _ (fun y hy => q1 y (by omega))]
      rfl
  obtain ⟨n0, s0⟩ := sd_nf_0 (N := N) (e := e) (n - ic) (fun s hs => e0 s (by omega))
  have h := lp ic 0 G Q (by omega) (fun i j hi hj => by rw [Nat.add_zero, n0]; exact h0 _ (by omega)) (fun _ _ _ _ => rfl)
  have s0' : sd_sN (n - ic + 0) e = 0 := s0
  rw [s0'] at h
  exact h
theorem yd_nl {post : Int32 → SY → Prop} {m : Nat} {N e : Nat → Nat} (hm : m < 4) (hn : n ≤ 4) (he : ∀ t, t < n → e t ≤ 4 ∧ N t / 5 ^ e t = 1) (hs : sd_sN n e = n) (hF : ∀ t j, t < n → j < 5 → Fa t j = sd_dg (N t) j) (h0 : ∀ x, x < 16 → R m x = 0)
    (K : ∀ R', (∀ i j, i < n → j < n → R' m (n * i + j) = sd_nf N e n i j) → (∀ a x, a ≠ m → x < 16 → R' a x = R a x) → post 1 (nI n, sd_ea 16 R', sd_v1 Mi, sd_v1 Te, sd_v1 Di, sd_v1 Ot, sd_ea 5 Fa, sd_ea 5 Ke, sd_ea 16 Ro)) : ∃ n54, wY_normal_54 post (nI m) (nI n) n54 0 0 (sd_ea 16 R) (sd_v1 Mi) (sd_v1 Te) (sd_v1 Di) (sd_v1 Ot) (sd_ea 5 Fa) (sd_ea 5 Ke) (sd_ea 16 Ro) := by
  refine Exists.intro (n + 1) ?_
  have lp : ∀ (f t : Nat) (H : Nat → Nat → Fin 5), t + f = n → (∀ i j, i < n → j < n → H m (n * i + j) = sd_nf N e t i j) → (∀ a x, a ≠ m → x < 16 → H a x = R a x) → wY_normal_54 post (nI m) (nI n) (f + 1) (nI (sd_sN t e)) (nI t) (sd_ea 16 H) (sd_v1 Mi) (sd_v1 Te) (sd_v1 Di) (sd_v1 Ot) (sd_ea 5 Fa) (sd_ea 5 Ke) (sd_ea 16 Ro) := by
    intro f
    induction f with
    | zero =>
      intro t H ht h1 h2
      have et : t = n := by omega
      subst et
      exact br_t (nI_le (by omega) (by omega)) (K H h1 h2)
    | succ f ih =>
      intro t H ht h1 h2
      obtain ⟨d4, hmon⟩ := he t (by omega)
      have mono := sd_sN_mono e (t + 1) (n - t - 1)
      rw [show t + 1 + (n - t - 1) = n by omega, hs, sd_sN_s2] at mono
      refine br_f (nI_ge (by omega) (by omega)) (yd_degreeOfFactor (by omega) d4 hmon (fun j hj => hF t j (by omega) hj) (yd_put hm (by omega) hn (by omega) h1 (fun R2 r1 r2 => ih (t + 1) R2 (by omega) (fun i j hi hj => ?_) (fun a x ha hx => (r2 a x ha hx).trans (h2 a x ha hx)))))
      rw [r1 i j hi hj, sd_bs_c _ _ (Fa t) (sd_dg (N t)) _ _ (fun y hy => hF t y (by omega) (by omega))]
      rfl
  exact lp n 0 R (by omega) (fun i j hi hj => h0 _ (sd_ixb hn hi hj).2) (fun _ _ _ _ => rfl)
end
theorem i_vc_normal {k : Nat} {u : SX} {v : SY} (I : i_Rel k u v) (hk : k + 5 ≤ 2561) (v1 : Int32) (v2 : Int32) : wpX_normal (fun r u' => wpY_normal (fun r' v' => r' = r ∧ i_Rel (k + 5) u' v') v v1 v2) u v1 v2 := by
  refine ir_el (P := fun u v => wpX_normal (fun r u' => wpY_normal (fun r' v' => r' = r ∧ i_Rel (k + 5) u' v') v v1 v2) u v1 v2) ?_ I
  intro n fc ic G Q fN fD bl iv kv R Fa Ke Ro Mi Te Di Ot hr
  have hr' := hr
  obtain ⟨h1, h4, hg⟩ := hr'
  unfold wpX_normal wpY_normal
  dsimp only
  rcases ir_reg v1 with h | ⟨d, hd, rfl⟩
  · exact xr_0 h (br_t rfl (yr_0 h (br_t rfl ⟨rfl, ir_mk hr⟩)))
  rcases ir_reg v2 with h | ⟨a, ha, rfl⟩
  · exact xr_1 hd (br_f (by decide) (xr_0 h (br_t rfl (yr_1 hd (br_f (by decide) (yr_0 h (br_t rfl ⟨rfl, ir_mk hr⟩)))))))
  obtain ⟨N, D, hF⟩ := sd_fact_A (r := a) hr
  have hF' := hF
  obtain ⟨_, _, f4, _, _, _, _, f9⟩ := hF'
  obtain ⟨i1, i2, _, i4⟩ := f4
  have oA := sd_A_ok n a R
  have ch : ∀ t, ∃ e, t < n → e ≤ 4 ∧ N t / 5 ^ e = 1 := by
    intro t
    by_cases c : t < n
    · obtain ⟨x, hx⟩ := f9.1 t c
      exact ⟨x, fun _ => hx⟩
    · exact ⟨0, fun z => absurd z c⟩
  let e : Nat → Nat := fun t => Classical.choose (ch t)
  have he : ∀ t, t < n → e t ≤ 4 ∧ N t / 5 ^ e t = 1 := fun t ht => Classical.choose_spec (ch t) ht
  have hs := sd_degs h1 h4 oA f9 (fun t ht => (he t ht).2)
  have e0 : ∀ t, t + sd_ic D < n → e t = 0 := by
    intro t ht
    have n1 := (i4 t (by omega)).1 ht
    have q := (he t (by omega)).2
    rw [n1] at q
    apply Classical.byContradiction
    intro c
    have : 5 ^ 1 ≤ 5 ^ e t := Nat.pow_le_pow_right (by omega) (by omega)
    rw [Nat.div_eq_of_lt (by omega)] at q
    omega
  refine xr_1 hd (br_f (by decide) (xr_1 ha (br_f (by decide) (xd_analyse (N := N) (D := D) ha h1 h4 (sd_A_X hr ha) hF (fun G1 Q1 fN1 fD1 bl1 iv1 fr1 _ hiv1 => xd_nz hd (fun G2 z2 fr2 => xd_nl (N := N) (e := e) hd h4 i2 he hs e0 (fun q hq => ?_) z2 (fun G3 Q3 g1 g2 => ?_)))))))
  · have z := hiv1 (sd_ic D - 1 - q) (by omega)
    obtain ⟨y1, y2⟩ := sd_fact_iv hF (sd_ic D - 1 - q) (by omega)
    rw [show sd_ic D - 1 - (sd_ic D - 1 - q) = q by omega, y1] at z
    rw [show n - 1 - (sd_ic D - 1 - q) = n - sd_ic D + q by omega] at z
    exact z
  refine yr_1 hd (br_f (by decide) (yr_1 ha (br_f (by decide) (yd_findFactors (A := sd_A n R a) (by omega) h4 h1 oA (fun i j hi hj => sd_A_v hi hj) f9 (fun Mi1 Te1 Di1 Ot1 Fa1 hF1 => yd_nz hd (fun R2 w2 rr2 => yd_nl (N := N) (e := e) hd h4 he hs hF1 w2 (fun R3 r1 r2 => ⟨rfl, ir_mk ⟨h1, h4, fun m i j hm hi hj => ?_⟩⟩)))))))
  by_cases em : m = d
  · subst em
    rw [g1 i j hi hj, r1 i j hi hj]
  · have bb := sd_ixb h4 hi hj
    rw [g2 m _ em (by omega), fr2 m _ em (by omega), fr1 m _ hm (by omega), r2 m _ em bb.2, rr2 m _ em bb.2, hg m i j hm hi hj]
end
